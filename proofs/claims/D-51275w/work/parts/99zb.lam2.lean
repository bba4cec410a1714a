/-! LAMBDAS, 2: what the library's rule makes of a site -/
set_option maxRecDepth 100000
/-- a site's shape: n ints kept, the static method nm of the class cn -/
def lamS (cn nm : String) (n : Nat) : Lambda.Shape :=
  { iface := "LawnPaths$Change", name := "does", sam := ⟨[.object "LawnPaths$Lawn"], some .int⟩, captured := List.replicate n .int, kind := 6, implClass := cn, implName := nm, implDesc := ⟨List.replicate n .int ++ [.object "LawnPaths$Lawn"], some .int⟩, implItf := false, inst := ⟨[.object "LawnPaths$Lawn"], some .int⟩ }
/-- the class file that the rule writes, held against what is used of it -/
def lamFields (D : ClassFile) (n : Nat) (fs : List Nat) : Bool := match layoutFields D 0 with
  | none => false
  | some lay => decide (lay.2.1 = (List.replicate n FieldType.int).toArray) && (List.range n).all fun j => match fs[j]?, lay.1[j]? with
    | some fi, some fld => decide (fld.slot = j) && !fld.isStatic && (match D.constantPool[fi]? with
      | some (.fieldref _ nt) => (match D.constantPool.nameAndType? nt with
        | some (nm, _) => decide (lay.1.findIdx? (·.name == nm) = some j)
        | none => false)
      | _ => false)
    | _, _ => false
def lamMeth (D : ClassFile) (bytes : ByteArray) : Bool := match layoutMethods D with
  | none => false
  | some ms => match ms[1]? with
    | none => false
    | some f => decide (f.accessFlags = 1) && decide (f.sig.returnType = some .int) && (match f.code with
      | some c => decide (c.code.data = bytes.data) && decide (c.maxLocals = 2)
      | none => false)
def lamPool (D : ClassFile) (mi ci nt cu : Nat) (y : MethodName) : Bool := decide (D.constantPool[mi]? = some (.methodref ci nt)) && decide (D.constantPool.nameAndType? nt = some (y.name, y.desc)) && decide (D.constantPool.className? ci = some y.cls) && decide (D.constantPool[ci]? = some (.class_ cu)) && decide (D.constantPool.string? cu = some y.cls) && decide (ci ≠ D.thisClass)
def lamOk (N : String) (σ : Lambda.Shape) (n : Nat) (fs : List Nat) (mi ci nt cu : Nat) (y : MethodName) (bytes : ByteArray) : Bool := match σ.file N with
  | none => false
  | some D => lamFields D n fs && lamMeth D bytes && lamPool D mi ci nt cu y
theorem lamFields_spec {D : ClassFile} {n : Nat} {fs : List Nat} {lay : Array Field × Array FieldType × Array FieldType} (h : lamFields D n fs = true) (hl : layoutFields D 0 = some lay) : lay.2.1 = (List.replicate n FieldType.int).toArray ∧ ∀ j, j < n → ∃ fi fld ci nt nm ds, fs[j]? = some fi ∧ lay.1[j]? = some fld ∧ fld.slot = j ∧ fld.isStatic = false ∧ D.constantPool[fi]? = some (.fieldref ci nt) ∧ D.constantPool.nameAndType? nt = some (nm, ds) ∧ lay.1.findIdx? (·.name == nm) = some j := by
  unfold lamFields at h
  rw [hl] at h
  simp only [Bool.and_eq_true, decide_eq_true_eq] at h
  refine ⟨h.1, fun j hj => ?_⟩
  have h2 := List.all_eq_true.mp h.2 j (List.mem_range.mpr hj)
  cases h3 : fs[j]? with
  | none => rw [h3] at h2; cases h2
  | some fi =>
    cases h4 : lay.1[j]? with
    | none => rw [h3, h4] at h2; cases h2
    | some fld =>
      rw [h3, h4] at h2
      simp only [Bool.and_eq_true, decide_eq_true_eq, Bool.not_eq_true'] at h2
      obtain ⟨⟨h5, h6⟩, h7⟩ := h2
      split at h7
      · rename_i ci nt h8
        split at h7
        · rename_i nm ds h9
          exact ⟨fi, fld, ci, nt, nm, ds, rfl, rfl, h5, h6, h8, h9, of_decide_eq_true h7⟩
        · cases h7
      · cases h7
theorem lamMeth_spec {D : ClassFile} {bytes : ByteArray} {ms : Array Method} (h : lamMeth D bytes = true) (hl : layoutMethods D = some ms) : ∃ f c, ms[1]? = some f ∧ f.accessFlags = 1 ∧ f.sig.returnType = some .int ∧ f.code = some c ∧ c.code = bytes ∧ c.maxLocals = 2 := by
  unfold lamMeth at h
  rw [hl] at h
  dsimp only at h
  split at h
  · cases h
  · rename_i f h1
    simp only [Bool.and_eq_true, decide_eq_true_eq] at h
    obtain ⟨⟨h2, h3⟩, h4⟩ := h
    split at h4
    · rename_i c h5
      simp only [Bool.and_eq_true, decide_eq_true_eq] at h4
      exact ⟨f, c, h1, h2, h3, h5, ByteArray.ext h4.1, h4.2⟩
    · cases h4
/-- what the start owes: the site is linked by the rule; the class that was made is ours of this number -/
def Lms (g : GZ) (ki : Nat) (x : MethodName) (pc ix : Nat) (σ : Lambda.Shape) : Prop := ∃ one, g.s.lambdaAt? x pc ix σ = some (g.lm ki, one) ∧ (σ.captured = [] → one = some (g.c ki))
theorem Lms.made {g : GZ} {ki pc ix : Nat} {x : MethodName} {σ : Lambda.Shape} (h : Lms g ki x pc ix σ) : ∃ d dk, Lambda.isMade { classPath := fun _ => none } g.s.vm d σ (g.lm ki) = true ∧ g.s.lambdaCallable σ (g.lm ki) = true ∧ g.s.vm.classes[d]? = some dk ∧ dk.name = x.cls := by
  obtain ⟨one, h1, -⟩ := h
  obtain ⟨m, k, cf, i0, p0, l, hm, hk, -, -, -, -, hmade, hcan, -⟩ := State.lambdaAt?_spec h1
  obtain ⟨k2, hk2, hn⟩ := className_of_methodNamed hm
  cases hk.symm.trans hk2
  exact ⟨m.cls, k, hmade, hcan, hk, hn⟩
section
variable {g : GZ} {ki pc ix : Nat} {x y : MethodName} {σ : Lambda.Shape} {n mi ci nt cu nc : Nat} {fs : List Nat} {bytes b : ByteArray}
theorem Lms.fw (hg : fw_ok g) (h : Lms g ki x pc ix σ) (hk : lamOk x.cls σ n fs mi ci nt cu y bytes = true) (hσ : σ.implClass = y.cls ∧ σ.implName = y.name ∧ σ.implDesc.toString = y.desc) (hN : plainName (x.cls ++ "$$Lambda") = true) (hy : y.cls ≠ "java/lang/invoke/MethodHandle" ∧ y.cls ≠ "java/lang/invoke/VarHandle")
    (hcw : Cond.code y b nc (some .int) ∈ lw_all) (hst : Cond.static y ∈ lw_all) (hini : Cond.initialized y.cls ∈ lw_all) (hpm : (parseMethodDescriptor y.desc).map (fun d => d.parameters.length) = some (n + 1)) : ∀ U : State, g.s.WarmedH U.vm → FwAt U (g.lm ki) bytes n (fun j => (fs[j]?).getD 0) mi y := by
  intro U hW
  obtain ⟨d, dk0, hmade0, -, hdk0, hdn0⟩ := h.made
  have hmade := Lambda.isMade_warmer hW hmade0
  obtain ⟨dk, hdk, hde⟩ := hW.alike.2.2 _ _ hdk0
  have hdn : dk.name = x.cls := by rw [hde]; exact hdn0
  obtain ⟨dk', k, ok, tk, file, cf, object, iface, toy, lay, methods, target, found, hd', hkc, hfile, hcf, hob, -, hok, hlay, hms, ht, htk, hgt, -, hrec, -, -, -, -, hpool, hmeth, hflds, -, hres, -⟩ := Lambda.isMade_spec hmade
  cases hdk.symm.trans hd'
  have hO : ok.instanceTypes.size = 0 := by
    obtain ⟨c9, k9, e1, e2, -, -, -, e3⟩ := Cond.instantiable_spec (fw_word (a := #[]) hg hW q3013)
    cases hob.symm.trans e1
    cases hok.symm.trans e2
    exact e3
  rw [hO] at hlay
  rw [hdn] at hcf
  unfold lamOk at hk
  rw [hcf] at hk
  simp only [Bool.and_eq_true] at hk
  obtain ⟨⟨k1, k2⟩, k3⟩ := hk
  obtain ⟨f1, f2⟩ := lamFields_spec k1 hlay
  obtain ⟨f, c0, g1, g2, g3, g4, g5, g6⟩ := lamMeth_spec k2 hms
  obtain ⟨b9, hb9, hsame⟩ := hmeth 1 f g1
  obtain ⟨s1, s2, s3, s4, x9, y9, s5, s6, s7, s8, s9, s10⟩ := Lambda.sameMethod_spec hsame
  cases g4.symm.trans s5
  unfold lamPool at k3
  simp only [Bool.and_eq_true, decide_eq_true_eq] at k3
  obtain ⟨⟨⟨⟨⟨p1, p2⟩, p3⟩, p4⟩, p5⟩, p6⟩ := k3
  rw [hσ.1] at ht
  rw [hσ.2.1, hσ.2.2] at hgt
  have hready : U.vm.methodReady (g.lm ki) mi target := ⟨k, hkc, hres mi _ (Lambda.resolvedOf_method p1 p3 ht htk p2 hgt)⟩
  have hclsR : U.vm.classReady (g.lm ki) ci toy := ⟨k, hkc, hres ci _ (Lambda.resolvedOf_class p4 p6 p5 ht)⟩
  -- the target
  have wcode : (Cond.code y b nc (some .int)).before #[] U = true := fw_word hg hW hcw
  obtain ⟨mB, hnB⟩ := Cond.code_named wcode
  obtain ⟨methB, cB, hmB, -, -, -, -, -, -, hsigB⟩ := Cond.code_spec hnB wcode
  have hstaticB : methB.isStatic = true := Cond.static_spec hnB hmB (fw_word (a := #[]) hg hW hst)
  have hfT : U.vm.findClass y.cls = some mB.cls := findClass_of_methodNamed hnB
  cases ht.symm.trans hfT
  have hinitK : tk.init = .initialized := Cond.initialized_spec hfT htk (fw_word (a := #[]) hg hW hini)
  obtain ⟨kT', hkT', hnameT⟩ := className_of_methodNamed hnB
  cases htk.symm.trans hkT'
  have htB : target = mB := by
    have h1 : U.methodFound? y.cls y.name y.desc = some mB := State.methodFound?_of_named hnB hy
    simp only [State.methodFound?, hfT, htk, Option.bind_eq_bind, Option.bind_some] at h1
    rw [hgt] at h1
    exact Option.some.inj h1
  subst htB
  have hsp : ∀ z : Method, signaturePolymorphic tk z = false := fun z => by simp [signaturePolymorphic, hnameT, hy.1, hy.2]
  refine ⟨b9, y9, target, tk, methB, ⟨by simp [Vm.method?, hkc, hb9], s6, by rw [s9]; exact g5, by rw [s8]; exact g6, s10, ?_, State.plainMethod.of_name (fun k' hk' => ?_), by rw [s3]; exact g3, by rw [s4]; exact g2⟩, fun j hj => ?_, fun e => ?_, hready, htk, hmB, hsp _, hstaticB, hinitK, ?_, hnB⟩
  · simp [Method.locks, Method.isSynchronized, s4, g2, hasFlag, Acc.synchronized]
  · cases hkc.symm.trans hk'
    rw [hrec.1, hdn]
    exact hN
  · obtain ⟨fi, fld, fc, fn, nm, ds, a1, a2, a3, a4, a5, a6, a7⟩ := f2 j hj
    refine ⟨fld, ?_, a4, a3⟩
    show U.vm.fieldReady (g.lm ki) ((fs[j]?).getD 0) (g.lm ki) fld
    rw [a1]
    exact ⟨k, j, k, hkc, hres fi _ (Lambda.resolvedOf_field a5 a6 a7), hkc, hflds j fld a2⟩
  · obtain ⟨b8, hmem⟩ := memberRef_ask' (e := e) (vm := U.vm) (d := g.lm ki) (index := mi) hkc hfile (Or.inl (by rw [hpool.2.1]; exact p1)) (by rw [hpool.2.1]; exact p2)
    exact ⟨ci, _, _, b8, target.cls, tk, hmem, hclsR, htk, by simp [hsp]⟩
  · rw [hsigB] at hpm
    exact Option.some.inj hpm
end
