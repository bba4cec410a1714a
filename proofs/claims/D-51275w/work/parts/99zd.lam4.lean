/-! LAMBDAS, 4: rows: the making of an object -/
set_option maxRecDepth 100000
theorem lam_arr3 {σ : Lambda.Shape} {arr : Array Nat} {f : Nat → Nat → Nat → Option Lambda.Shape} {f9 : Array Nat → Option Lambda.Shape} (h9 : ∀ x, f9 x = none) (h : Lambda.shapeOf?.match_15 (fun _ => Option Lambda.Shape) arr f f9 = some σ) : ∃ a0 a1 a2, f a0 a1 a2 = some σ := by
  rcases arr with ⟨_ | ⟨a0, _ | ⟨a1, _ | ⟨a2, _ | ⟨a3, r⟩⟩⟩⟩⟩
  · exact nomatch (h9 _).symm.trans h
  · exact nomatch (h9 _).symm.trans h
  · exact nomatch (h9 _).symm.trans h
  · exact ⟨a0, a1, a2, h⟩
  · exact nomatch (h9 _).symm.trans h
theorem lam_m19 {σ : Lambda.Shape} {x : Option CpInfo} {f : Nat → Nat → Option Lambda.Shape} {f9 : Option CpInfo → Option Lambda.Shape} (h9 : ∀ x, f9 x = none) (h : Lambda.shapeOf?.match_19 (fun _ => Option Lambda.Shape) x f f9 = some σ) : ∃ b nt, x = some (.invokeDynamic b nt) ∧ f b nt = some σ := by
  split at h
  · exact ⟨_, _, rfl, h⟩
  · exact nomatch (h9 _).symm.trans h
theorem lam_m17 {σ : Lambda.Shape} {x : Option CpInfo} {f : Nat → Option Lambda.Shape} {f9 : Option CpInfo → Option Lambda.Shape} (h9 : ∀ x, f9 x = none) (h : Lambda.shapeOf?.match_17 (fun _ => Option Lambda.Shape) x f f9 = some σ) : ∃ r, f r = some σ := by
  split at h
  · exact ⟨_, h⟩
  · exact nomatch (h9 _).symm.trans h
theorem lshape_site {cf : ClassFile} {index : Nat} {σ : Lambda.Shape} (h : Lambda.shapeOf? cf index = some σ) : ∃ b nt name desc ds, cf.constantPool[index]? = some (.invokeDynamic b nt) ∧ cf.constantPool.nameAndType? nt = some (name, desc) ∧ parseMethodDescriptor desc = some ds ∧ ds.parameters = σ.captured := by
  unfold Lambda.shapeOf? at h
  obtain ⟨b, nt, hidx, h⟩ := lam_m19 (fun _ => rfl) h
  obtain ⟨entries, -, h⟩ := Option.bind_eq_some_iff.mp h
  obtain ⟨bm, -, h⟩ := Option.bind_eq_some_iff.mp h
  obtain ⟨r, h⟩ := lam_m17 (fun _ => rfl) h
  obtain ⟨u1, -, h⟩ := Option.bind_eq_some_iff.mp h
  obtain ⟨a0, a1, a2, h⟩ := lam_arr3 (fun _ => rfl) h
  split at h
  · split at h
    · split at h
      · simp only [Option.bind_eq_bind, Option.pure_def, Option.bind_eq_some_iff] at h
        obtain ⟨nd, hnd, site, hsite, h⟩ := h
        split at h
        · simp only [Option.bind_eq_some_iff] at h
          obtain ⟨mo, -, q1, -, q2, -, q3, -, q4, -, q5, -, h⟩ := h
          refine ⟨b, nt, nd.1, nd.2, site, hidx, hnd, hsite, ?_⟩
          have := Option.some.inj h
          rw [← this]
        · cases h
      · cases h
    · cases h
  · cases h
/-- a heap with a new lambda object -/
def lamH (A : HA) (ki n : Nat) (V : Nat → Int32) : HA := (A.mk ki 0 n).sI A.z V
theorem lamH_G (A : HA) (ki n : Nat) (V : Nat → Int32) (x : Nat) : (lamH A ki n V).G x = if x = A.z then (ki, 0) else A.G x := mk_G A ki 0 n x
theorem lamH_I (A : HA) (ki n : Nat) (V : Nat → Int32) : (lamH A ki n V).I A.z = V := sI_s _ _ _
theorem lamH_n (A : HA) (ki n : Nat) (V : Nat → Int32) : (lamH A ki n V).n A.z = n := if_pos rfl
theorem lamH_z (A : HA) (ki n : Nat) (V : Nat → Int32) : (lamH A ki n V).z = A.z + 1 := rfl
theorem lamH_gw {A : HA} {ki n : Nat} {V : Nat → Int32} : Gw A (lamH A ki n V) Non := (gw_mk (X := Non)).tr2 (gw_sI (A := A.mk ki 0 n) (X := fun y => y = A.z) (fun _ => rfl)) (fun y hy e => absurd e (by omega))
theorem Rp.newL {g : GZ} {A : HA} {H H' : Heap} {ki len : Nat} {V : Nat → Int32} (h : Rp g A H) (e1 : H'.size = H.size + 1) (e2 : ∀ q : Nat, q < H.size → H'[q]? = H[q]?) (hc : fw_cell g (lamH A ki len V) H' A.z) (hk : 80 ≤ ki ∧ ki < 100) : Rp g (lamH A ki len V) H' := by
  obtain ⟨p1, p2, p3, p4, p5, p6, p7⟩ := h
  have eI : ∀ x, x ≠ A.z → (lamH A ki len V).I x = A.I x := fun x hx => by
    show ((A.mk ki 0 len).sI A.z V).I x = _
    rw [sI_o _ _ hx, mk_I, if_neg hx]
  have eR : ∀ x, x ≠ A.z → (lamH A ki len V).R x = A.R x := fun x hx => if_neg hx
  have eL : ∀ x, x ≠ A.z → (lamH A ki len V).L x = A.L x := fun x hx => if_neg hx
  have en : ∀ x, x ≠ A.z → (lamH A ki len V).n x = A.n x := fun x hx => if_neg hx
  refine ⟨by rw [lamH_z, e1, p1], by omega, fun q hq => ?_, fun x hx => ?_, fun x hx => ?_, fun x => ⟨fun hx => ?_, fun hx => ?_⟩, fun x => ?_⟩
  · rw [e2 q (by omega)]; exact p3 q hq
  · have hxa : x ≠ A.z := by omega
    rw [lamH_G, if_neg hxa, eI x hxa, eR x hxa, eL x hxa, en x hxa]
    exact p4 x hx
  · by_cases q : x = A.z
    · omega
    · rw [lamH_G, if_neg q] at hx
      exact p5 x hx
  · rw [lamH_z] at hx
    have hxa : x ≠ A.z := by omega
    rw [lamH_G, if_neg hxa]
    exact (p6 x).1 (by omega)
  · rw [lamH_z] at hx ⊢
    by_cases q : x = A.z
    · rw [lamH_G, if_pos q]
      exact Or.inr (Or.inr rfl)
    · rw [lamH_G, if_neg q]
      have := (p6 x).2 (by omega)
      omega
  · by_cases q : x = A.z
    · rw [q]; exact hc
    · by_cases q2 : x < H.size
      · exact (p7 x).kept (by rw [lamH_G, if_neg q]) (en x q) (eI x q) (eR x q) (eL x q) (e2 x q2)
      · have h9 := (p6 x).1 (by omega)
        unfold fw_cell
        rw [lamH_G, if_neg q]
        exact ⟨fun a b => absurd a (by omega), fun a b => absurd b (by omega), fun a => absurd a (by omega)⟩
theorem zip_ints : ∀ (vs : List Int32), ((List.replicate vs.length FieldType.int).zip (vs.map Value.int)).map (fun (t, v) => narrow t v) = vs.map Value.int
  | [] => rfl
  | v :: vs => by
    show narrow .int (.int v) :: ((List.replicate vs.length FieldType.int).zip (vs.map Value.int)).map (fun (t, v) => narrow t v) = _
    rw [zip_ints vs]; rfl
theorem kept_r (V : Nat → Int32) : ∀ n, (kept V n).reverse = ((List.range n).map V).map Value.int
  | 0 => rfl
  | n + 1 => by
    show (Value.int (V n) :: kept V n).reverse = _
    rw [List.reverse_cons, kept_r V n, List.range_succ, List.map_append, List.map_append]; rfl
theorem kept_sum (V : Nat → Int32) : ∀ n, ((kept V n).map fun v => v.category).sum = n
  | 0 => rfl
  | n + 1 => by show 1 + ((kept V n).map fun v => v.category).sum = n + 1; rw [kept_sum V n]; omega
section
variable {g : GZ} {ρ : Type} {w : ρ → Option Value} {y : MethodName} {cb : ByteArray} {nL d mc ms : Nat} {r : Option FieldType} {As : List Value} {A : HA} {Po : ρ → HA → Prop} {Px : Nat → HA → Prop}
theorem Ct.ofN (lv : List (Option Value)) (hy : plainName y.cls = true) (hn : decide ((fw_as As).length ≤ nL) = true) (hlv : fw_as As ++ List.replicate (nL - (fw_as As).length) none = lv)
    (body : ∀ z : ZX, CX g z cb y.cls nL d mc ms → z.c.exceptionTable.toList = [] → z.s.methodNamed? y = some z.m → fw_end g z w r mc ms Po Px → wa g z 0 0 A 0 lv []) : Ct g w y (.code y cb nL r) d mc ms As A Po Px := by
  intro hg l hl
  refine vx_ofW (cc := cb) (maxL := nL) (ret := r) hy rfl ?_
  intro p e s m args below meth c s₁ B hml ht hv
  obtain ⟨rfl, hR, hW⟩ := hv
  rw [lg_entry_eq]
  have ht' : c.exceptionTable.toList = [] := by
    cases h : c.exceptionTable.toList with
    | nil => rfl
    | cons a t => exact absurd (ht a (by rw [h]; exact List.mem_cons_self)) (fun h => h)
  subst hlv
  exact body (p, l, e, fw_room d mc ms, s, m, As.toArray, below, meth, c, vx_MQ below (fw_Qc g w Po) (fw_Xc g Px) As.toArray s mc ms (fun q => g.b ≤ q)) (fw_cx hg hl B hml hR hW) ht' B.named ⟨B.returns, rfl⟩ s.heap [] _ hR (fun q hq => nomatch hq) (fw_entry As (of_decide_eq_true hn))
end
section
variable {g : GZ} {z : ZX} {cc : ByteArray} {own : String} {nL d mc ms k n : Nat} {A : HA} {pc : Nat} {lv : List (Option Value)} {st : List Value}
theorem r_indy (C : CX g z cc own nL d mc ms) {x y : MethodName} {ki ix n9 mi ci nt cu : Nat} {σ : Lambda.Shape} {fs : List Nat} {bytes : ByteArray} {V : Nat → Int32} (hN : z.s.methodNamed? x = some z.m) (hL : Lms g ki x pc ix σ) (hσ : σ.captured = List.replicate n9 .int) (hn9 : 0 < n9 ∧ n9 ≤ 2) (hk : lamOk x.cls σ n9 fs mi ci nt cu y bytes = true) (hki : 80 ≤ ki ∧ ki < 100)
    (h1 : k + 1 ≤ mc) (h2 : n + n9 ≤ ms) (hd5 : 52 ≤ d) (hsum : (st.map fun v => v.category).sum ≤ 6) (hlen : lv.length = nL) (hd : decode cc pc = .ok (.invokedynamic ix, 5)) (kk : wa g z (k + 1) (n + n9) (lamH A ki n9 V) (pc + 5) lv (.ref A.z :: st)) : wa g z k n A pc lv (kept V n9 ++ st) := by
  intro H locs ls hR hLs hl T hT X
  have hW := C.wm
  obtain ⟨one, hat, -⟩ := hL
  obtain ⟨m, kS, cfS, i0, p0, lk, hm, hkS, hcfS, hshape, -, hfind, hmade, hcan, hlk⟩ := State.lambdaAt?_spec hat
  cases hN.symm.trans (named_warm hW hm)
  obtain ⟨rfl, -, -⟩ : lk = .makes (g.lm ki) ∧ one = none ∧ σ.captured ≠ [] := by
    rcases hlk with ⟨a, cell, -, -, h, -⟩ | h
    · rw [hσ] at h
      exact absurd (congrArg List.length h) (by rw [List.length_replicate]; show ¬ n9 = 0; omega)
    · exact h
  obtain ⟨kS2, hkS2, hnm⟩ := className_of_methodNamed hm
  cases hkS.symm.trans hkS2
  obtain ⟨kS', hkS', heS⟩ := hW.alike.2.2 _ _ hkS
  obtain ⟨bsm, nt9, nm9, ds9, sg, e1, e2, e3, e4⟩ := lshape_site hshape
  -- the made class
  obtain ⟨dk', kM, ok, tk, file, cf, object, iface, toy, lay, methods, target, found, hd', hkc, hfile, hcf, hob, -, hok, hlay, hms, ht, htk, hgt, -, hrec, -, -, -, -, hpool, hmeth, hflds, hty, hres, -⟩ := Lambda.isMade_spec hmade
  cases hkS.symm.trans hd'
  have hO : ok.instanceTypes.size = 0 := by
    obtain ⟨c9, k9, f1, f2, -, -, -, f3⟩ := Cond.instantiable_spec (fw_word (a := #[]) C.1 (State.WarmedH.refl g.s) q3013)
    cases hob.symm.trans f1
    cases hok.symm.trans f2
    exact f3
  rw [hO] at hlay
  rw [hnm] at hcf
  unfold lamOk at hk
  rw [hcf] at hk
  simp only [Bool.and_eq_true] at hk
  have hfl := (lamFields_spec hk.1.1 hlay).1
  obtain ⟨kM', hkM', heM⟩ := hW.alike.2.2 _ _ hkc
  have hit : kM'.instanceTypes = (List.replicate n9 FieldType.int).toArray := by
    rw [heM]
    show kM.instanceTypes = _
    rw [hty.1, hfl, Array.eq_empty_of_size_eq_zero hO]
    simp
  have hkind : kM'.kind = .ordinary := by rw [heM]; exact hrec.2.1
  have hvals : ((kM'.instanceTypes.toList.zip (kept V n9).reverse).map fun (t, v) => narrow t v) = (kept V n9).reverse := by
    rw [hit, kept_r]
    have := zip_ints ((List.range n9).map V)
    rw [List.length_map, List.length_range] at this
    exact this
  have hlenv : (kept V n9).reverse.length = n9 := by rw [List.length_reverse, kept_len]
  have hsz : (F0 z.m pc ls (kept V n9 ++ st)).locals.size = z.c.maxLocals := by show ls.size = _; rw [hl.1, hlen]; exact C.ml.symm
  have hget : ∀ j, j < n9 → (kept V n9).reverse[j]? = some (.int (V j)) := fun j hj => by
    rw [kept_r, List.getElem?_map, List.getElem?_map, List.getElem?_range hj]; rfl
  obtain ⟨X₁, st1⟩ := X.lambdaMakes C.x (g := F0 z.m pc ls (kept V n9 ++ st)) rfl hsz (by rw [C.b]; exact hd) (vals := (kept V n9).reverse) (rest := st) hkS' (by rw [heS]; exact hfind) (by rw [heS]; exact hcfS) e1 e2 (parseLong_of_parse e3) (by rw [hlenv, e4, hσ, List.length_replicate]) (by show kept V n9 ++ st = _; rw [List.reverse_reverse]) hkM'
    (by
      rw [X.admits.platform, C.r]
      show 2 * 0 + ((kept V n9 ++ st).map fun v => v.category).sum + 3072 ≤ 60 * d
      rw [List.map_append, List.sum_append, kept_sum]
      omega) (by rw [C.r]; exact h1) (by rw [hvals, hlenv, C.r]; exact h2)
    (fun i v hv => by
      rw [hvals] at hv
      have hi : i < n9 := by
        rcases Nat.lt_or_ge i n9 with q | q
        · exact q
        · rw [List.getElem?_toArray, List.getElem?_eq_none (by rw [hlenv]; exact q)] at hv
          cases hv
      rw [List.getElem?_toArray, hget i hi] at hv
      cases hv
      have h5 : kM'.instanceTypes[i]? = some .int := by rw [hit]; simp [hi]
      simp [State.fitsSlot, State.slotType?, hkM', hkind, h5, fits])
  rw [hvals] at X₁ st1
  rw [show (kept V n9).reverse.toArray.size = n9 from by rw [List.size_toArray, hlenv]] at X₁
  have hz : A.z = H.size := hR.1
  have hR' : Rp g (lamH A ki n9 V) (H.push { cls := g.lm ki, slots := (kept V n9).reverse.toArray, vm := .none }) := by
    refine hR.newL (by simp) (fun q hq => by rw [Array.getElem?_push, if_neg (by omega)]) ?_ hki
    unfold fw_cell
    rw [lamH_G, if_pos rfl]
    refine ⟨fun b1 b2 => absurd b2 (by omega), fun b1 b2 => ⟨_, by rw [hz]; exact Array.getElem?_push_size, rfl, rfl, by rw [lamH_n, List.size_toArray, hlenv], fun j hj => ?_⟩, fun b1 => absurd b1 (by omega)⟩
    rw [lamH_n] at hj
    rw [lamH_I]
    show (kept V n9).reverse.toArray[j]? = _
    rw [List.getElem?_toArray]
    exact hget j hj
  obtain ⟨t, a1, b1⟩ := kk _ locs ls hR' hLs hl (T.pushCell { cls := g.lm ki, slots := (kept V n9).reverse.toArray, vm := .none }) (by show T.heap.push _ = _; rw [hT]) X₁
  refine ⟨t, st1 t ?_, b1⟩
  have e8 : T.heap.size = A.z := by rw [hT, hz]
  rw [e8]
  exact a1
end
