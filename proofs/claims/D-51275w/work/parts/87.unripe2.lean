/-! CONTRACTS of methods whose class isn't known to be initialised; calls of constants' own methods -/
set_option maxRecDepth 100000
/-- a contract of the method mk -/
def CtU (g : GZ) {ρ : Type} (w : ρ → Option Value) (mk : MethodId) (d mc ms : Nat) (As : List Value) (A : HA) (Po : ρ → HA → Prop) (Px : Nat → HA → Prop) : Prop :=
  fw_ok g → ∀ l : Launch, l.stackTraces = false → MU l mk (fw_room d mc ms) (fw_Pc g As A) (vx_Q (fw_Qc g w Po) (fw_Xc g Px) mc ms (fun q => g.b ≤ q))
theorem named_warm {s U : State} {y : MethodName} {mk : MethodId} (hW : s.WarmedH U.vm) (h : s.methodNamed? y = some mk) : U.methodNamed? y = some mk := by
  have := State.methodNamed?_setVm (s := s) hW.alike y
  rw [h] at this
  exact this
theorem fw_word {g : GZ} (hg : fw_ok g) {s : State} {a : Array Value} (hW : g.s.WarmedH s.vm) {w : Cond} (hw : w ∈ lw_all) : w.before a s = true := by
  refine word_at hW ?_ (hg.1 w (lw_all_tbl hw))
  exact good_of_word (List.mem_filter.mp hw).2
section
variable {g : GZ} {ρ : Type} {w : ρ → Option Value} {y : MethodName} {cb : ByteArray} {nL d mc ms : Nat} {r : Option FieldType} {As : List Value} {A : HA} {Po : ρ → HA → Prop} {Px : Nat → HA → Prop} {mk : MethodId}
theorem CtU.of (lv : List (Option Value)) (hy : plainName y.cls = true) (hn : decide ((fw_as As).length ≤ nL) = true) (hlv : fw_as As ++ List.replicate (nL - (fw_as As).length) none = lv) (hcw : Cond.code y cb nL r ∈ lw_all) (hmk : g.s.methodNamed? y = some mk)
    (body : ∀ z : ZX, CX g z cb y.cls nL d mc ms → z.c.exceptionTable.toList = [] → z.M.name = y.name → fw_end g z w r mc ms Po Px → wa g z 0 0 A 0 lv []) : CtU g w mk d mc ms As A Po Px := by
  intro hg l hl
  refine mu_body (maxLocals := nL) (fun args s hP => ?_) (fun p e s args below meth c s₁ X hex hml hlk hh hP => ?_)
  · obtain ⟨rfl, hR, hW⟩ := hP
    have hnam := named_warm hW hmk
    obtain ⟨meth, c, h1, h2, h3, h4, h5, h6, -, -⟩ := Cond.code_spec hnam (fw_word (a := As.toArray) hg hW hcw)
    exact ⟨meth, c, h1, h2, h4, h6, State.plainMethod.of_named (plainFor_of_name hy) hnam h1⟩
  · obtain ⟨rfl, hR, hW⟩ := hP
    have hnam := named_warm hW hmk
    obtain ⟨meth', c', h1, h2, h3, h4, h5, h6, h7, -⟩ := Cond.code_spec hnam (fw_word (a := As.toArray) hg hW hcw)
    cases Option.some.inj (h1.symm.trans X.method)
    cases Option.some.inj (h2.symm.trans X.code)
    have ht' : c.exceptionTable.toList = [] := by rw [Array.isEmpty_iff.mp h7]
    subst hlv
    have hC : CX g (p, l, e, fw_room d mc ms, s, mk, As.toArray, below, meth, c, vx_MQ below (fw_Qc g w Po) (fw_Xc g Px) As.toArray s mc ms (fun q => g.b ≤ q)) cb y.cls nL d mc ms := ⟨hg, hex, h3, hlk, findClass_of_methodNamed hnam, rfl, hW, hl, hml, hR.2.1, hR.2.2.1⟩
    have hb := body _ hC ht' (name_of_methodNamed hnam X.method).1 ⟨h5, rfl⟩ s.heap [] _ hR (fun q hq => nomatch hq) (fw_entry As (of_decide_eq_true hn)) s₁ hh X
    rw [lg_entry_eq]
    obtain ⟨t, a1, o, b1, b2, b3⟩ := hb
    exact ⟨t, o, a1, b1, b2, b3⟩
end
/-- the step into a named method by its number -/
theorem vx_backU {l : Launch} {R : Room} {p : Program} {e : Env} {below : List Frame} {s : State} {sargs : Array Value} {y : MethodName} {len W9 : Nat} {rm : Room} {Pc : Array Value → State → Prop} {Qc : Array Value → State → Outcome → State → Prop} {XC : String → Addr → State → State → Prop} {mc ms : Nat} {free : Addr → Prop} {bytes : ByteArray} {maxL : Nat} {ret : Option FieldType} {mk : MethodId}
    (hM : MU l mk rm Pc (vx_Q Qc XC mc ms free)) (hblind : FrameBlind Pc) (hrc : rm.cells = mc) (hrs : rm.slots = ms) (hframes : rm.frames + 1 ≤ R.frames) (hlocals : W9 + (maxL + 11) + rm.locals ≤ R.locals) (hnam : s.methodNamed? y = some mk) (hcode : ∀ a' U, s.WarmedH U.vm → (Cond.code y bytes maxL ret).before a' U = true) :
    vx_Back l R p e below s sargs y len W9 (PreOf R mc ms Pc) (PostOf Qc mc ms free) (vx_Post XC mc ms free) := by
  intro m meth c A g ig mk' a X hg hsize hdg hW hn hp
  have e1 : mk' = mk := Option.some.inj (hn.symm.trans (named_warm X.warmed hnam))
  subst e1
  obtain ⟨methY, cY, h1, h2, -, h4, -, -, -, -⟩ := Cond.code_spec hn (hcode a A.U X.warmed)
  exact mu_back hM hblind hrc hrs hframes hlocals h1 h2 h4 X hg hsize hdg hW hp
/-- a link: an abstract method's, over a constant of the class Cn -/
def AL (own : String) (ix : Nat) (Cn : String) (y : MethodName) (b : ByteArray) (nc : Nat) (r : Option FieldType) (na : Nat) : Prop := nc ≤ 41 ∧ ∃ (owner : String) (x : MethodName), (owner ≠ "java/lang/invoke/MethodHandle" ∧ owner ≠ "java/lang/invoke/VarHandle" ∧ (parseMethodDescriptor x.desc).map (fun d => d.parameters.length) = some na) ∧ Cond.methodLink own ix x ∈ lw_all ∧ Cond.sameMethod x.cls owner x.name x.desc ∈ lw_all ∧ Cond.declares ⟨owner, x.name, x.desc⟩ ∈ lw_tbl ∧ Cond.selects Cn x y ∈ lw_all ∧ Cond.instanceMethod y ∈ lw_all ∧ Cond.code y b nc r ∈ lw_all
/-- an old cell of the class Cn -/
def Oc (g : GZ) (a : Nat) (Cn : String) : Prop := a < g.b ∧ ∃ cell : Cell, g.s.heap[a]? = some cell ∧ cell.vm.isStatics = false ∧ g.s.vm.findClass Cn = some cell.cls
section
variable {g : GZ} {z : ZX} {cc : ByteArray} {own : String} {nL d mc ms k n : Nat} {A : HA} {pc : Nat} {lv : List (Option Value)} {st st0 : List Value}
theorem r_callA (C : CX g z cc own nL d mc ms) {Cn : String} {y : MethodName} {b : ByteArray} {nc : Nat} {r : Option FieldType} {d' mc' ms' a ix : Nat} {mk : MethodId} {As : List Value} {ρ : Type} {w : ρ → Option Value} {Po : ρ → HA → Prop} {Px : Nat → HA → Prop} (hM : CtU g w mk d' mc' ms' (.ref a :: As) A Po Px) (hV : AL own ix Cn y b nc r As.length) (hmk : g.s.methodNamed? y = some mk) (h1 : Oc g a Cn) (hdd : d' < d) (hk : k + mc' ≤ mc) (hs : n + ms' ≤ ms) (hst : st0 = As.reverse ++ .ref a :: st) (hsum : (st.map fun v => v.category).sum ≤ 8) (hlen : lv.length = nL) (hd : decode cc pc = .ok (.invokevirtual ix, 3))
    (kk : ∀ u A', Po u A' → wa g z (k + mc') (n + ms') A' (pc + 3) lv ((w u).toList ++ st)) (kx : ∀ q A', Px q A' → (∃ E, fw_ex (A'.G q).1 = some E) → wx g z (k + mc') (n + ms') A' pc lv q) : wa g z k n A pc lv st0 := by
  obtain ⟨hnc, owner, x, hpm, w1, w2, w3, w4, w5, w6⟩ := hV
  obtain ⟨ha, cell, c1, c2, c3⟩ := h1
  refine fw_go (ar := (Value.ref a :: As).toArray) (fun H locs ls hR hl => ?_) kk kx
  obtain ⟨hf, hlo⟩ := fw_rooms (mc' := mc') (ms' := ms') C hdd hnc
  have hK : vx_Back z.l z.R z.p z.e z.b z.s z.a y 3 8 (PreOf z.R mc' ms' (fw_Pc g (.ref a :: As) A)) (PostOf (fw_Qc g w Po) mc' ms' (fun q => g.b ≤ q)) (vx_Post (fw_Xc g Px) mc' ms' (fun q => g.b ≤ q)) :=
    vx_backU (bytes := b) (maxL := nc) (ret := r) (hM C.1 z.l C.nt) (fw_blind g _ A) rfl rfl hf hlo (named_warm C.wm hmk) (fun a' U hW => fw_word C.1 (State.WarmedH.trans C.wm hW) w6)
  have hd0 : va_Decl z.s ⟨owner, x.name, x.desc⟩ := va_Decl.abs (va_Nw.warmD C.wm (va_Nw.of (A := g.ar) rfl (C.1.1 _ w3)))
  intro T hT X
  have hcH : T.heap[a]? = some cell := by rw [hT, hR.2.2.1 a ha]; exact c1
  rcases vx_callVU X C.x (C := Cn) (owner := owner) (bytes := b) (maxL := nc) (ret := r) C.o (C.w _ w1) (C.w _ w2) hd0 ⟨hpm.1, hpm.2.1⟩ (C.w _ w4) (C.w _ w5) (C.w _ w6) hK hcH c2 (by rw [C.wm.alike.findClass]; exact c3) (g := F0 z.m pc ls st0) rfl ((hl.1.trans hlen).trans C.ml.symm) (argsL := As) (rest := st) (fun sig h => by have h2 := hpm.2.2; rw [h] at h2; exact (Option.some.inj h2).symm) hst (lv_room hsum) (by rw [C.b]; exact hd)
    (fun vm₁ hW₁ => ⟨by rw [C.r]; exact hk, by rw [C.r]; exact hs, fw_pre C hR _ (T.setVm vm₁) hT hW₁⟩) with ⟨v, vm₁, ⟨U', l2, c2', s2⟩, hW₁, X', ⟨g', mk', t, L, e1, e2, hq, h1', hL, h2, h3⟩, stp⟩ | ⟨q, vm₁, ⟨U', l2, c2', s2⟩, hW₁, X', ⟨g', mk', t, L, E, ce, e1, e2, hq, hce, hcv, hcl, h1', hL, h2, h3⟩, stp⟩
  · dsimp only [Pt.U, Pt.locs, Pt.cells, Pt.slots] at X' e1 e2 h1' h2 h3 stp
    subst h1'; subst h2; subst h3
    exact Or.inl ⟨v, (T.setVm vm₁).calling g' mk' (Value.ref a :: As).toArray, t, U', L, hT, X', hL, e1, e2, hq, stp⟩
  · dsimp only [Pt.U, Pt.locs, Pt.cells, Pt.slots] at X' e1 e2 h1' h2 h3 stp hcl
    subst h1'; subst h2; subst h3
    exact Or.inr ⟨q, (T.setVm vm₁).calling g' mk' (Value.ref a :: As).toArray, t, U', L, E, ce, hT, X', hL, e1, e2, hq, hce, hcv, vx_cls hW₁ hcl, stp⟩
end
