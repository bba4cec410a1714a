/-! ROWS OF THE HEAP, 2: nest mates' fields, arrays, new cells, casts -/
set_option maxRecDepth 100000
theorem CX.nf {g : GZ} {z : ZX} {cc : ByteArray} {own : String} {nL d mc ms : Nat} (C : CX g z cc own nL d mc ms) {a : String} {i : Nat} {b n t h : String} (hw : Cond.fieldLinkNest a i b n t h ∈ lw_tbl) : (Cond.fieldLinkNest a i b n t h).before z.a z.s = true :=
  va_Nw.use rfl (va_Nw.warmF C.wm (va_Nw.of rfl (C.1.1 _ hw)))
theorem CX.nm {g : GZ} {z : ZX} {cc : ByteArray} {own : String} {nL d mc ms : Nat} (C : CX g z cc own nL d mc ms) {a : String} {i : Nat} {x : MethodName} {h : String} (hw : Cond.methodLinkNest a i x h ∈ lw_tbl) : va_Nw (Cond.methodLinkNest a i x h) z.s :=
  va_Nw.warmM C.wm (va_Nw.of rfl (C.1.1 _ hw))
theorem CX.nc {g : GZ} {z : ZX} {cc : ByteArray} {own : String} {nL d mc ms : Nat} (C : CX g z cc own nL d mc ms) {a b : String} (hw : Cond.castable a b ∈ lw_tbl) : (Cond.castable a b).before z.a z.s = true :=
  va_Nw.use rfl (va_Nw.warmC C.wm (va_Nw.of rfl (C.1.1 _ hw)))
theorem fw_isArr {D : va_G} {cl : List vw_C} {tys : List (ClassId × FieldType)} {s : State} {t : Nat} {cA : ClassId} {ty : FieldType} (hK : va_K D cl tys s) (ht : tys[t]? = some (cA, ty)) {c : Cell} (hc : c.cls = cA) (hv : ∀ q, c.vm ≠ .statics q) : s.isArrayOf c ty := by
  obtain ⟨-, k, hk, comp, hkind⟩ := (hK.2 t _ ht).1 0 (fun _ => .null)
  exact ⟨hv, k, by rw [hc]; exact hk, comp, hkind⟩
theorem nI_nat {j : Nat} (h : j < 2147483648) : (nI j).toNatClampNeg = j := nI_clamp (by simpa using h)
theorem vp_in_of2 {j m : Nat} (h : j < m) (h2 : j < 2147483648) : vp_in (nI j) m := by
  rintro (q | q)
  · exact nI_pos (n := j) (by simpa using h2) q
  · rw [nI_nat h2] at q
    omega
section
variable {g : GZ} {z : ZX} {cc : ByteArray} {own : String} {nL d mc ms k n : Nat} {A : HA} {pc : Nat} {lv : List (Option Value)} {st : List Value}
theorem r_nget (C : CX g z cc own nL d mc ms) {ix ki f a : Nat} {v : Value} (h : FN own ix ki f) (h1 : (A.G a).1 = ki) (hv : fw_val (fw_ty ki f) A a f = v) (hd : decode cc pc = .ok (.getfield ix, 3)) (kk : wa g z k n A (pc + 3) lv (v :: st)) : wa g z k n A pc lv (.ref a :: st) := by
  intro H locs ls hR hL hl
  obtain ⟨⟨a1, a2⟩, Cn, T, N, host, hcl, hin, -, -, hf, hlk⟩ := h
  subst h1
  obtain ⟨r, hr, cell, q1, q2, q3, q4⟩ := (hR.cell a).1 a1 a2
  cases Option.some.inj (hr.symm.trans hcl)
  obtain ⟨hS, hfc, kC, hkC, hkind⟩ := C.K.1 _ _ hcl
  obtain ⟨cf, kf, fi, fd, hi, hsl⟩ := hS f hf
  refine va_Wgetf C.x C.b C.o (C.nf hlk) hi (u_facts hfc hkC (u_lays C.w hin hf) hi).1 q1 q3.1.2 (v := v) ?_ rfl rfl hd (kk H locs ls hR hL hl)
  rw [hsl, q4 f hf]
  exact congrArg some hv
theorem r_ngetI (C : CX g z cc own nL d mc ms) {ix ki f a : Nat} (h : FN own ix ki f) (h1 : (A.G a).1 = ki) (ht : fw_isI (fw_ty ki f) = true) (hd : decode cc pc = .ok (.getfield ix, 3)) (kk : wa g z k n A (pc + 3) lv (.int (A.I a f) :: st)) : wa g z k n A pc lv (.ref a :: st) :=
  r_nget C h h1 (fw_vI ht A a f) hd kk
theorem r_ngetR (C : CX g z cc own nL d mc ms) {ix ki f a x : Nat} (h : FN own ix ki f) (h1 : (A.G a).1 = ki) (ht : fw_isR (fw_ty ki f) = true) (hx : A.R a f = some x) (hd : decode cc pc = .ok (.getfield ix, 3)) (kk : wa g z k n A (pc + 3) lv (.ref x :: st)) : wa g z k n A pc lv (.ref a :: st) :=
  r_nget C h h1 (by rw [fw_vR ht, hx]; rfl) hd kk
theorem r_ngetN (C : CX g z cc own nL d mc ms) {ix ki f a : Nat} (h : FN own ix ki f) (h1 : (A.G a).1 = ki) (ht : fw_isR (fw_ty ki f) = true) (hx : A.R a f = none) (hd : decode cc pc = .ok (.getfield ix, 3)) (kk : wa g z k n A (pc + 3) lv (.null :: st)) : wa g z k n A pc lv (.ref a :: st) :=
  r_nget C h h1 (by rw [fw_vR ht, hx]; rfl) hd kk
theorem r_nput (C : CX g z cc own nL d mc ms) {ix ki f a : Nat} {v : Value} {A' : HA} (h : FN own ix ki f) (h1 : (A.G a).1 = ki) (hm : fw_mut ki = true) (hfin : ∀ Cn T N, fw_cl[ki]? = some (Cn, T, N) → (T f).2.2.2 = false) (hn : narrow (fw_ty ki f) v = v) (hfit : fits (fw_ty ki f) v = true)
    (hG : A'.G = A.G) (hnn : A'.n = A.n) (hz : A'.z = A.z) (hI : ∀ x, x ≠ a → A'.I x = A.I x) (hRR : ∀ x, x ≠ a → A'.R x = A.R x) (hL : ∀ x, x ≠ a → A'.L x = A.L x) (hnew : fw_val (fw_ty ki f) A' a f = v) (hold : ∀ j, j ≠ f → fw_val (fw_ty ki j) A' a j = fw_val (fw_ty ki j) A a j)
    (hd : decode cc pc = .ok (.putfield ix, 3)) (kk : wa g z k n A' (pc + 3) lv st) : wa g z k n A pc lv (v :: .ref a :: st) := by
  intro H locs ls hR hLo hl
  obtain ⟨⟨a1, a2⟩, Cn, T, N, host, hcl, hin, hty, hnm, hf, hlk⟩ := h
  obtain ⟨r, hr, cell, q1, q2, q3, q4⟩ := (hR.cell a).1 (by rw [h1]; exact a1) (by rw [h1]; exact a2)
  rw [h1] at hr q2 q4
  cases Option.some.inj (hr.symm.trans hcl)
  obtain ⟨hS, hfc, kC, hkC, hkind⟩ := C.K.1 _ _ hcl
  obtain ⟨cf, kf, fi, fd, hi, hsl⟩ := hS f hf
  have hlay := C.w _ (hin _ (u_in_lay hf))
  have hst := (u_facts hfc hkC (u_lays C.w hin hf) hi).1
  have hb : g.b ≤ a := hR.mut (by rw [h1]; exact hm)
  have hLo' : ∀ q ∈ locs ++ [(⟨a, fd.slot⟩ : Loc)], g.b ≤ q.base := by
    intro q hq
    rcases List.mem_append.mp hq with hq | hq
    · exact hLo q hq
    · rw [List.mem_singleton.mp hq]; exact hb
  have go : ∀ H' : Heap, H'[a]? = some (cell.setSlot fd.slot v) → H'.size = H.size → (∀ q, q ≠ a → H'[q]? = H[q]?) → W z.p z.l z.e z.R z.s z.m z.a z.b z.M z.c H' (locs ++ [⟨a, fd.slot⟩]) k n z.Q (F0 z.m (pc + 3) ls st) := by
    intro H' e1 e2 e3
    rw [hsl] at e1
    exact kk H' _ ls (fw_put C.K C.w hR h1 a1 a2 hm hcl hin hty hnm hf q2 q3 q4 hG hnn hz hI hRR hL hnew hold e1 e2 e3) hLo' hl
  have hfin := hfin _ _ _ hcl
  unfold u_lay at hlay
  rw [if_neg (by rw [hfin]; decide)] at hlay
  have h6 := u_store hfc hkC hkind hlay hi (hty f hf) hn hfit
  exact va_WputK C.x C.b (f := fd) C.o (C.nf hlk) hi hst (by rw [q2]; exact h6) q1 (q3.2 hb) (by rw [hsl]; exact k2_hasslot (q4 f hf)) rfl rfl hd go
theorem r_nputI (C : CX g z cc own nL d mc ms) {ix ki f a : Nat} {x : Int32} (h : FN own ix ki f) (h1 : (A.G a).1 = ki) (hm : fw_mut ki = true) (hfin : ∀ Cn T N, fw_cl[ki]? = some (Cn, T, N) → (T f).2.2.2 = false) (ht : fw_isI (fw_ty ki f) = true) (hn : narrow (fw_ty ki f) (.int x) = .int x) (hfit : fits (fw_ty ki f) (.int x) = true)
    (hd : decode cc pc = .ok (.putfield ix, 3)) (kk : wa g z k n (A.sI a (upd (A.I a) f x)) (pc + 3) lv st) : wa g z k n A pc lv (.int x :: .ref a :: st) := by
  refine r_nput (A' := A.sI a (upd (A.I a) f x)) C h h1 hm hfin hn hfit rfl rfl rfl (fun y hy => sI_o A _ hy) (fun _ _ => rfl) (fun _ _ => rfl) ?_ ?_ hd kk
  · rw [fw_vI ht, sI_s, pk_us]
  · intro j hj
    cases hc : fw_isI (fw_ty ki j) with
    | true => rw [fw_vI hc, fw_vI hc, sI_s, pk_un hj]
    | false =>
      unfold fw_val
      generalize fw_ty ki j = ty at hc
      cases ty <;> first | rfl | cases hc
theorem r_nputR (C : CX g z cc own nL d mc ms) {ix ki f a x : Nat} (h : FN own ix ki f) (h1 : (A.G a).1 = ki) (hm : fw_mut ki = true) (hfin : ∀ Cn T N, fw_cl[ki]? = some (Cn, T, N) → (T f).2.2.2 = false) (ht : fw_isR (fw_ty ki f) = true)
    (hd : decode cc pc = .ok (.putfield ix, 3)) (kk : wa g z k n (A.sR a (va_up (A.R a) f (some x))) (pc + 3) lv st) : wa g z k n A pc lv (.ref x :: .ref a :: st) := by
  refine r_nput (A' := A.sR a (va_up (A.R a) f (some x))) C h h1 hm hfin ?_ ?_ rfl rfl rfl (fun _ _ => rfl) (fun y hy => sR_o A _ hy) (fun _ _ => rfl) ?_ ?_ hd kk
  · generalize fw_ty ki f = ty at ht
    cases ty <;> first | rfl | cases ht
  · generalize fw_ty ki f = ty at ht
    cases ty <;> first | rfl | cases ht
  · rw [fw_vR ht, sR_s]
    simp [va_up, va_rf]
  · intro j hj
    cases hc : fw_isR (fw_ty ki j) with
    | true => rw [fw_vR hc, fw_vR hc, sR_s]; simp [va_up, hj]
    | false =>
      unfold fw_val
      generalize fw_ty ki j = ty at hc
      cases ty <;> first | rfl | cases hc
theorem r_iald (C : CX g z cc own nL d mc ms) {ki a j : Nat} {i : Int32} (h1 : (A.G a).1 = ki) (hki : (decide (100 ≤ ki) && decide (ki / 100 = 1)) = true) (hi : i = nI j) (hj : j < A.n a) (hj2 : j < 2147483648) (hd : decode cc pc = .ok (.iaload, 1)) (kk : wa g z k n A (pc + 1) lv (.int (A.I a j) :: st)) : wa g z k n A pc lv (.int i :: .ref a :: st) := by
  intro H locs ls hR hL hl
  subst hi
  simp only [Bool.and_eq_true, decide_eq_true_eq] at hki
  obtain ⟨c, q1, q2, q3, q4, q5⟩ := (hR.cell a).2.2 (by rw [h1]; exact hki.1)
  rw [h1, hki.2] at q2 q5
  have h5 := q5 j hj
  refine W.iald (v := .int (A.I a j)) C.x C.b q1 (fw_isArr C.K (t := 1) rfl q2 q3.st) q3.1.2 (by rw [q4]; exact vp_in_of2 hj hj2) ?_ rfl rfl hd (kk H locs ls hR hL hl)
  rw [nI_nat hj2]
  exact h5
theorem r_bald (C : CX g z cc own nL d mc ms) {ki a j : Nat} {i : Int32} (h1 : (A.G a).1 = ki) (hki : (decide (100 ≤ ki) && decide (ki / 100 = 2)) = true) (hi : i = nI j) (hj : j < A.n a) (hj2 : j < 2147483648) (hd : decode cc pc = .ok (.baload, 1)) (kk : wa g z k n A (pc + 1) lv (.int (A.I a j) :: st)) : wa g z k n A pc lv (.int i :: .ref a :: st) := by
  intro H locs ls hR hL hl
  subst hi
  simp only [Bool.and_eq_true, decide_eq_true_eq] at hki
  obtain ⟨c, q1, q2, q3, q4, q5⟩ := (hR.cell a).2.2 (by rw [h1]; exact hki.1)
  rw [h1, hki.2] at q2 q5
  have h5 := q5 j hj
  refine W.bald (v := .int (A.I a j)) C.x C.b q1 (fw_isArr C.K (t := 2) rfl q2 q3.st) q3.1.2 (by rw [q4]; exact vp_in_of2 hj hj2) ?_ rfl rfl hd (kk H locs ls hR hL hl)
  rw [nI_nat hj2]
  exact h5
theorem r_zald (C : CX g z cc own nL d mc ms) {ki a j : Nat} {i : Int32} (h1 : (A.G a).1 = ki) (hki : (decide (100 ≤ ki) && decide (ki / 100 = 3)) = true) (hi : i = nI j) (hj : j < A.n a) (hj2 : j < 2147483648) (hd : decode cc pc = .ok (.baload, 1)) (kk : wa g z k n A (pc + 1) lv (.int (A.I a j) :: st)) : wa g z k n A pc lv (.int i :: .ref a :: st) := by
  intro H locs ls hR hL hl
  subst hi
  simp only [Bool.and_eq_true, decide_eq_true_eq] at hki
  obtain ⟨c, q1, q2, q3, q4, q5⟩ := (hR.cell a).2.2 (by rw [h1]; exact hki.1)
  rw [h1, hki.2] at q2 q5
  have h5 := q5 j hj
  refine W.zald (v := .int (A.I a j)) C.x C.b q1 (fw_isArr C.K (t := 3) rfl q2 q3.st) q3.1.2 (by rw [q4]; exact vp_in_of2 hj hj2) ?_ rfl rfl hd (kk H locs ls hR hL hl)
  rw [nI_nat hj2]
  exact h5
theorem fw_ast {g : GZ} {A A' : HA} {H H' : Heap} {c : Cell} {a ki t j : Nat} {v : Value} (hR : Rp g A H) (h1 : (A.G a).1 = ki) (hki : 100 ≤ ki) (ht : ki / 100 = t) (hb : g.b ≤ a) (q2 : c.cls = g.dA t) (q3 : fw_vm g a c.vm) (q4 : c.slots.size = A.n a) (q5 : ∀ i, i < A.n a → c.slots[i]? = some (fw_val (fw_at t) A a i)) (hj : j < A.n a)
    (hG : A'.G = A.G) (hn : A'.n = A.n) (hz : A'.z = A.z) (hI : ∀ x, x ≠ a → A'.I x = A.I x) (hRR : ∀ x, x ≠ a → A'.R x = A.R x) (hL : ∀ x, x ≠ a → A'.L x = A.L x) (hnew : fw_val (fw_at t) A' a j = v) (hold : ∀ i, i ≠ j → fw_val (fw_at t) A' a i = fw_val (fw_at t) A a i)
    (e1 : H'[a]? = some (c.setSlot j v)) (e2 : H'.size = H.size) (e3 : ∀ q : Nat, q ≠ a → H'[q]? = H[q]?) : Rp g A' H' := by
  subst ht
  refine hR.upd hG hn hz hI hRR hL hb e2 e3 ?_
  unfold fw_cell
  rw [hG, h1]
  refine ⟨fun b1 b2 => absurd hki (by omega), fun b1 b2 => absurd hki (by omega), fun _ => ⟨_, e1, q2, q3, ?_, fun i hi => ?_⟩⟩
  · rw [hn, ← q4]
    simp [Cell.setSlot]
  · rw [hn] at hi
    by_cases hij : i = j
    · subst hij
      rw [Cell.slots_setSlot_self _ (by rw [q4]; exact hj), hnew]
    · rw [slot_ne _ _ (Ne.symm hij), q5 i hi, hold i hij]
theorem r_iast (C : CX g z cc own nL d mc ms) {ki a j : Nat} {i x : Int32} (h1 : (A.G a).1 = ki) (hki : (decide (100 ≤ ki) && decide (ki / 100 = 1) && fw_mut ki) = true) (hi : i = nI j) (hj : j < A.n a) (hj2 : j < 2147483648) (hd : decode cc pc = .ok (.iastore, 1)) (kk : wa g z k n (A.sI a (upd (A.I a) j x)) (pc + 1) lv st) : wa g z k n A pc lv (.int x :: .int i :: .ref a :: st) := by
  intro H locs ls hR hL hl
  subst hi
  simp only [Bool.and_eq_true, decide_eq_true_eq] at hki
  obtain ⟨c, q1, q2, q3, q4, q5⟩ := (hR.cell a).2.2 (by rw [h1]; exact hki.1.1)
  rw [h1, hki.1.2] at q2 q5
  have hb : g.b ≤ a := hR.mut (by rw [h1]; exact hki.2)
  refine W.iast C.x C.b q1 (fw_isArr C.K (t := 1) rfl q2 q3.st) q3.1.2 (by rw [q4]; exact vp_in_of2 hj hj2) rfl rfl hd fun H' e1 e2 e3 => ?_
  rw [nI_nat hj2] at e1 ⊢
  skip
  refine kk H' _ ls (fw_ast (A' := A.sI a (upd (A.I a) j x)) hR h1 hki.1.1 hki.1.2 hb q2 q3 q4 q5 hj rfl rfl rfl (fun y hy => sI_o A _ hy) (fun _ _ => rfl) (fun _ _ => rfl) (v := .int x) ?_ ?_ e1 e2 e3) (fun q hq => ?_) hl
  · show Value.int _ = _
    rw [sI_s, pk_us]
  · intro i hi
    show Value.int _ = Value.int _
    rw [sI_s, pk_un hi]
  · rcases List.mem_append.mp hq with hq | hq
    · exact hL q hq
    · rw [List.mem_singleton.mp hq]; exact hb
theorem r_bast (C : CX g z cc own nL d mc ms) {ki a j : Nat} {i x : Int32} (h1 : (A.G a).1 = ki) (hki : (decide (100 ≤ ki) && decide (ki / 100 = 2) && fw_mut ki) = true) (hi : i = nI j) (hj : j < A.n a) (hj2 : j < 2147483648) (hx : narrow .byte (.int x) = .int x) (hd : decode cc pc = .ok (.bastore, 1)) (kk : wa g z k n (A.sI a (upd (A.I a) j x)) (pc + 1) lv st) : wa g z k n A pc lv (.int x :: .int i :: .ref a :: st) := by
  intro H locs ls hR hL hl
  subst hi
  simp only [Bool.and_eq_true, decide_eq_true_eq] at hki
  obtain ⟨c, q1, q2, q3, q4, q5⟩ := (hR.cell a).2.2 (by rw [h1]; exact hki.1.1)
  rw [h1, hki.1.2] at q2 q5
  have hb : g.b ≤ a := hR.mut (by rw [h1]; exact hki.2)
  refine W.bast C.x C.b q1 (fw_isArr C.K (t := 2) rfl q2 q3.st) q3.1.2 (by rw [q4]; exact vp_in_of2 hj hj2) rfl rfl hd fun H' e1 e2 e3 => ?_
  rw [nI_nat hj2] at e1 ⊢
  rw [hx] at e1
  refine kk H' _ ls (fw_ast (A' := A.sI a (upd (A.I a) j x)) hR h1 hki.1.1 hki.1.2 hb q2 q3 q4 q5 hj rfl rfl rfl (fun y hy => sI_o A _ hy) (fun _ _ => rfl) (fun _ _ => rfl) (v := .int x) ?_ ?_ e1 e2 e3) (fun q hq => ?_) hl
  · show Value.int _ = _
    rw [sI_s, pk_us]
  · intro i hi
    show Value.int _ = Value.int _
    rw [sI_s, pk_un hi]
  · rcases List.mem_append.mp hq with hq | hq
    · exact hL q hq
    · rw [List.mem_singleton.mp hq]; exact hb
theorem r_zast (C : CX g z cc own nL d mc ms) {ki a j : Nat} {i x : Int32} (h1 : (A.G a).1 = ki) (hki : (decide (100 ≤ ki) && decide (ki / 100 = 3) && fw_mut ki) = true) (hi : i = nI j) (hj : j < A.n a) (hj2 : j < 2147483648) (hx : narrow .boolean (.int x) = .int x) (hd : decode cc pc = .ok (.bastore, 1)) (kk : wa g z k n (A.sI a (upd (A.I a) j x)) (pc + 1) lv st) : wa g z k n A pc lv (.int x :: .int i :: .ref a :: st) := by
  intro H locs ls hR hL hl
  subst hi
  simp only [Bool.and_eq_true, decide_eq_true_eq] at hki
  obtain ⟨c, q1, q2, q3, q4, q5⟩ := (hR.cell a).2.2 (by rw [h1]; exact hki.1.1)
  rw [h1, hki.1.2] at q2 q5
  have hb : g.b ≤ a := hR.mut (by rw [h1]; exact hki.2)
  refine W.zast C.x C.b q1 (fw_isArr C.K (t := 3) rfl q2 q3.st) q3.1.2 (by rw [q4]; exact vp_in_of2 hj hj2) rfl rfl hd fun H' e1 e2 e3 => ?_
  rw [nI_nat hj2] at e1 ⊢
  rw [hx] at e1
  refine kk H' _ ls (fw_ast (A' := A.sI a (upd (A.I a) j x)) hR h1 hki.1.1 hki.1.2 hb q2 q3 q4 q5 hj rfl rfl rfl (fun y hy => sI_o A _ hy) (fun _ _ => rfl) (fun _ _ => rfl) (v := .int x) ?_ ?_ e1 e2 e3) (fun q hq => ?_) hl
  · show Value.int _ = _
    rw [sI_s, pk_us]
  · intro i hi
    show Value.int _ = Value.int _
    rw [sI_s, pk_un hi]
  · rcases List.mem_append.mp hq with hq | hq
    · exact hL q hq
    · rw [List.mem_singleton.mp hq]; exact hb
theorem r_alen (C : CX g z cc own nL d mc ms) {ki a t : Nat} {ty : FieldType} (h1 : (A.G a).1 = ki) (hki : (decide (100 ≤ ki) && decide (ki / 100 = t)) = true) (ht : ([(g.dA 0, FieldType.int), (g.dA 1, .int), (g.dA 2, .byte), (g.dA 3, .boolean), (g.dA 4, .long), (g.dA 5, .object "java/lang/Object"), (g.dA 6, .object "LawnPaths$Change")] : List (ClassId × FieldType))[t]? = some (g.dA t, ty)) (hd : decode cc pc = .ok (.arraylength, 1)) (kk : wa g z k n A (pc + 1) lv (.int (nI (A.n a)) :: st)) : wa g z k n A pc lv (.ref a :: st) := by
  intro H locs ls hR hL hl
  simp only [Bool.and_eq_true, decide_eq_true_eq] at hki
  obtain ⟨c, q1, q2, q3, q4, q5⟩ := (hR.cell a).2.2 (by rw [h1]; exact hki.1)
  rw [h1, hki.2] at q2
  exact W.alen (n := nI (A.n a)) C.x C.b q1 (fw_isArr C.K ht q2 q3.st) (by rw [q4]; rfl) rfl rfl hd (kk H locs ls hR hL hl)
theorem Rp.new {g : GZ} {A : HA} {H H' : Heap} {kd o len : Nat} (h : Rp g A H) (e1 : H'.size = H.size + 1) (e2 : ∀ q : Nat, q < H.size → H'[q]? = H[q]?) (hc : fw_cell g (A.mk kd o len) H' A.z) (hk : kd < 40 ∨ 80 ≤ kd) (ho : o ≤ A.z) : Rp g (A.mk kd o len) H' := by
  obtain ⟨p1, p2, p3, p4, p5, p6, p7⟩ := h
  refine ⟨by rw [mk_z, e1, p1], by omega, fun q hq => ?_, fun x hx => ?_, fun x hx => ?_, fun x => ⟨fun hx => ?_, fun hx => ?_⟩, fun x => ?_⟩
  · rw [e2 q (by omega)]; exact p3 q hq
  · have hxa : x ≠ A.z := by omega
    rw [mk_G, mk_I, mk_R, mk_L, mk_n, if_neg hxa, if_neg hxa, if_neg hxa, if_neg hxa, if_neg hxa]
    exact p4 x hx
  · by_cases q : x = A.z
    · omega
    · rw [mk_G, if_neg q] at hx
      exact p5 x hx
  · rw [mk_z] at hx
    have hxa : x ≠ A.z := by omega
    rw [mk_G, if_neg hxa]
    exact (p6 x).1 (by omega)
  · rw [mk_z] at hx ⊢
    by_cases q : x = A.z
    · rw [mk_G, if_pos q]
      show _ ∨ o < A.z + 1 ∨ o = 0
      exact Or.inr (Or.inl (by omega))
    · rw [mk_G, if_neg q]
      have := (p6 x).2 (by omega)
      omega
  · by_cases q : x = A.z
    · rw [q]; exact hc
    · by_cases q2 : x < H.size
      · exact (p7 x).kept (by rw [mk_G, if_neg q]) (by rw [mk_n, if_neg q]) (by rw [mk_I, if_neg q]) (by rw [mk_R, if_neg q]) (by rw [mk_L, if_neg q]) (e2 x q2)
      · have h9 := (p6 x).1 (by omega)
        unfold fw_cell
        rw [mk_G, if_neg q]
        exact ⟨fun a b => absurd a (by omega), fun a b => absurd b (by omega), fun a => absurd a (by omega)⟩
/-- a class that can be made: entry ix of class own -/
def NL (own : String) (ix ki N : Nat) : Prop := (1 ≤ ki ∧ ki < 40) ∧ ∃ (Cn : String) (T : u_T), fw_cl[ki]? = some (Cn, T, N) ∧ (∀ w ∈ u_ws Cn T N, w ∈ lw_all) ∧ (∀ j, j < N → parseFieldDescriptor (T j).2.2.1 = some (fw_ty ki j)) ∧ Cond.classLink own ix Cn ∈ lw_all ∧ Cond.instantiable Cn N ∈ lw_all ∧ Cond.initialized Cn ∈ lw_all
theorem NL.of {own : String} {ix ki N : Nat} (Cn : String) (T : u_T) (hk : (decide (1 ≤ ki) && decide (ki < 40)) = true) (h1 : fw_cl[ki]? = some (Cn, T, N)) (h2 : ∀ w ∈ u_ws Cn T N, w ∈ lw_all) (h3 : ∀ j, j < N → parseFieldDescriptor (T j).2.2.1 = some (fw_ty ki j)) (h4 : Cond.classLink own ix Cn ∈ lw_all) (h5 : Cond.instantiable Cn N ∈ lw_all) (h6 : Cond.initialized Cn ∈ lw_all) : NL own ix ki N := by
  simp only [Bool.and_eq_true, decide_eq_true_eq] at hk
  exact ⟨hk, Cn, T, h1, h2, h3, h4, h5, h6⟩
theorem fw_dflt (ty : FieldType) (A : HA) (kd o len i : Nat) (h : fw_isI ty = true → ty ≠ .float ∧ ty ≠ .double) : defaultValue ty = fw_val ty (A.mk kd o len) A.z i := by
  unfold fw_val
  rw [mk_I, mk_R, mk_L, if_pos rfl, if_pos rfl, if_pos rfl]
  cases ty <;> first | rfl | exact absurd rfl (h rfl).1 | exact absurd rfl (h rfl).2
theorem r_new (C : CX g z cc own nL d mc ms) {ix ki N : Nat} (o : Nat) (ho : o ≤ A.z) (h : NL own ix ki N) (hnf : ∀ j, fw_ty ki j ≠ .float ∧ fw_ty ki j ≠ .double) (h1 : k + 1 ≤ mc) (h2 : n + N ≤ ms) (hd : decode cc pc = .ok (.new ix, 3)) (kk : wa g z (k + 1) (n + N) (A.mk ki o 0) (pc + 3) lv (.ref A.z :: st)) : wa g z k n A pc lv st := by
  intro H locs ls hR hL hl
  obtain ⟨⟨a1, a2⟩, Cn, T, hcl, hin, hty, hlk, hins, hini⟩ := h
  refine W.newc C.x C.b C.o (C.w _ hlk) (C.w _ hins) (C.w _ hini) (g := F0 z.m pc ls st) rfl hd (by rw [C.r]; exact h1) (by rw [C.r]; exact h2) fun cC kC f1 f2 f3 f4 => ?_
  have hz : A.z = H.size := hR.1
  have hcell : (H.push (blank cC kC))[H.size]? = some (blank cC kC) := by simp
  have hKn := C.K.1 ki _ hcl
  have hcC : cC = g.D.1 ki := Option.some.inj (f1.symm.trans hKn.2.1)
  subst hcC
  have hob := u_born (o := H.size) (H := H.push (blank (g.D.1 ki) kC)) (fw_ty ki) C.w hin hKn f2 hcell hty
  have hR' : Rp g (A.mk ki o 0) (H.push (blank (g.D.1 ki) kC)) := by
    refine hR.new (by simp) (fun q hq => by rw [Array.getElem?_push, if_neg (by omega)]) ?_ (Or.inl a2) ho
    unfold fw_cell
    rw [mk_G, if_pos rfl, hz]
    refine ⟨fun _ _ => ⟨_, hcl, ?_⟩, fun b1 b2 => absurd a2 (by omega), fun b1 => absurd a2 (by omega)⟩
    refine fw_o.of (hob.to fun j hj => ?_)
    rw [← hz]
    exact fw_dflt (fw_ty ki j) A ki o 0 j (fun _ => hnf j)
  have kk' := kk _ locs ls hR' hL hl
  rw [hz] at kk'
  exact kk'
theorem fw_rep {N : Nat} {v w : Value} {j : Nat} (hj : j < N) (e : v = w) : (Array.replicate N v)[j]? = some w := by
  rw [← e]
  simp [hj]
theorem r_newI (C : CX g z cc own nL d mc ms) {len : Nat} {i : Int32} (kd o : Nat) (ho : o ≤ A.z) (hkd : (decide (100 ≤ kd) && decide (kd / 100 = 1)) = true) (hw : Cond.arrayClass .int ∈ lw_all) (hi : i = nI len) (hlen : len < 60000000) (h1 : k + 1 ≤ mc) (h2 : n + len ≤ ms) (hd : decode cc pc = .ok (.newarray .int, 2)) (kk : wa g z (k + 1) (n + len) (A.mk kd o len) (pc + 2) lv (.ref A.z :: st)) : wa g z k n A pc lv (.int i :: st) := by
  intro H locs ls hR hL hl
  subst hi
  simp only [Bool.and_eq_true, decide_eq_true_eq] at hkd
  have hcl : (nI len).toNatClampNeg = len := nI_nat (by omega)
  refine W.newa C.x C.b (atype := .int) (C.w _ hw) (g := F0 z.m pc ls (.int (nI len) :: st)) rfl hd rfl (nI_pos (by omega)) (by rw [hcl]; simp only [newarray.typeOf, componentBytes]; omega) (by rw [C.r]; exact h1) (by rw [hcl, C.r]; exact h2) fun cA kA comp f1 f2 f3 => ?_
  have hz : A.z = H.size := hR.1
  have hcA : cA = g.dA 1 := by
    have h9 := (C.K.2 1 (g.dA 1, .int) rfl).2
    exact Option.some.inj (f1.symm.trans h9)
  subst hcA
  rw [hcl]
  have hR' : Rp g (A.mk kd o len) (H.push { cls := g.dA 1, slots := Array.replicate len (defaultValue (newarray.typeOf .int)), vm := .none }) := by
    refine hR.new (by simp) (fun q hq => by rw [Array.getElem?_push, if_neg (by omega)]) ?_ (Or.inr (by omega)) ho
    unfold fw_cell
    rw [mk_G, if_pos rfl]
    refine ⟨fun b1 b2 => absurd b2 (by omega), fun b1 b2 => absurd b2 (by omega), fun _ => ⟨{ cls := g.dA 1, slots := Array.replicate len (defaultValue (newarray.typeOf .int)), vm := .none }, by rw [hz]; simp, by rw [hkd.2], fw_vm.nn, by simp [mk_n], fun j hj => ?_⟩⟩
    rw [mk_n, if_pos rfl] at hj
    rw [hkd.2]
    exact fw_rep hj (fw_dflt .int A kd o len j (fun _ => ⟨(fun h => by cases h), (fun h => by cases h)⟩))
  have kk' := kk _ locs ls hR' hL hl
  rw [hz] at kk'
  exact kk'
theorem r_newB (C : CX g z cc own nL d mc ms) {len : Nat} {i : Int32} (kd o : Nat) (ho : o ≤ A.z) (hkd : (decide (100 ≤ kd) && decide (kd / 100 = 2)) = true) (hw : Cond.arrayClass .byte ∈ lw_all) (hi : i = nI len) (hlen : len < 60000000) (h1 : k + 1 ≤ mc) (h2 : n + len ≤ ms) (hd : decode cc pc = .ok (.newarray .byte, 2)) (kk : wa g z (k + 1) (n + len) (A.mk kd o len) (pc + 2) lv (.ref A.z :: st)) : wa g z k n A pc lv (.int i :: st) := by
  intro H locs ls hR hL hl
  subst hi
  simp only [Bool.and_eq_true, decide_eq_true_eq] at hkd
  have hcl : (nI len).toNatClampNeg = len := nI_nat (by omega)
  refine W.newa C.x C.b (atype := .byte) (C.w _ hw) (g := F0 z.m pc ls (.int (nI len) :: st)) rfl hd rfl (nI_pos (by omega)) (by rw [hcl]; simp only [newarray.typeOf, componentBytes]; omega) (by rw [C.r]; exact h1) (by rw [hcl, C.r]; exact h2) fun cA kA comp f1 f2 f3 => ?_
  have hz : A.z = H.size := hR.1
  have hcA : cA = g.dA 2 := by
    have h9 := (C.K.2 2 (g.dA 2, .byte) rfl).2
    exact Option.some.inj (f1.symm.trans h9)
  subst hcA
  rw [hcl]
  have hR' : Rp g (A.mk kd o len) (H.push { cls := g.dA 2, slots := Array.replicate len (defaultValue (newarray.typeOf .byte)), vm := .none }) := by
    refine hR.new (by simp) (fun q hq => by rw [Array.getElem?_push, if_neg (by omega)]) ?_ (Or.inr (by omega)) ho
    unfold fw_cell
    rw [mk_G, if_pos rfl]
    refine ⟨fun b1 b2 => absurd b2 (by omega), fun b1 b2 => absurd b2 (by omega), fun _ => ⟨{ cls := g.dA 2, slots := Array.replicate len (defaultValue (newarray.typeOf .byte)), vm := .none }, by rw [hz]; simp, by rw [hkd.2], fw_vm.nn, by simp [mk_n], fun j hj => ?_⟩⟩
    rw [mk_n, if_pos rfl] at hj
    rw [hkd.2]
    exact fw_rep hj (fw_dflt .byte A kd o len j (fun _ => ⟨(fun h => by cases h), (fun h => by cases h)⟩))
  have kk' := kk _ locs ls hR' hL hl
  rw [hz] at kk'
  exact kk'
theorem r_newZ (C : CX g z cc own nL d mc ms) {len : Nat} {i : Int32} (kd o : Nat) (ho : o ≤ A.z) (hkd : (decide (100 ≤ kd) && decide (kd / 100 = 3)) = true) (hw : Cond.arrayClass .boolean ∈ lw_all) (hi : i = nI len) (hlen : len < 60000000) (h1 : k + 1 ≤ mc) (h2 : n + len ≤ ms) (hd : decode cc pc = .ok (.newarray .boolean, 2)) (kk : wa g z (k + 1) (n + len) (A.mk kd o len) (pc + 2) lv (.ref A.z :: st)) : wa g z k n A pc lv (.int i :: st) := by
  intro H locs ls hR hL hl
  subst hi
  simp only [Bool.and_eq_true, decide_eq_true_eq] at hkd
  have hcl : (nI len).toNatClampNeg = len := nI_nat (by omega)
  refine W.newa C.x C.b (atype := .boolean) (C.w _ hw) (g := F0 z.m pc ls (.int (nI len) :: st)) rfl hd rfl (nI_pos (by omega)) (by rw [hcl]; simp only [newarray.typeOf, componentBytes]; omega) (by rw [C.r]; exact h1) (by rw [hcl, C.r]; exact h2) fun cA kA comp f1 f2 f3 => ?_
  have hz : A.z = H.size := hR.1
  have hcA : cA = g.dA 3 := by
    have h9 := (C.K.2 3 (g.dA 3, .boolean) rfl).2
    exact Option.some.inj (f1.symm.trans h9)
  subst hcA
  rw [hcl]
  have hR' : Rp g (A.mk kd o len) (H.push { cls := g.dA 3, slots := Array.replicate len (defaultValue (newarray.typeOf .boolean)), vm := .none }) := by
    refine hR.new (by simp) (fun q hq => by rw [Array.getElem?_push, if_neg (by omega)]) ?_ (Or.inr (by omega)) ho
    unfold fw_cell
    rw [mk_G, if_pos rfl]
    refine ⟨fun b1 b2 => absurd b2 (by omega), fun b1 b2 => absurd b2 (by omega), fun _ => ⟨{ cls := g.dA 3, slots := Array.replicate len (defaultValue (newarray.typeOf .boolean)), vm := .none }, by rw [hz]; simp, by rw [hkd.2], fw_vm.nn, by simp [mk_n], fun j hj => ?_⟩⟩
    rw [mk_n, if_pos rfl] at hj
    rw [hkd.2]
    exact fw_rep hj (fw_dflt .boolean A kd o len j (fun _ => ⟨(fun h => by cases h), (fun h => by cases h)⟩))
  have kk' := kk _ locs ls hR' hL hl
  rw [hz] at kk'
  exact kk'
theorem r_newL (C : CX g z cc own nL d mc ms) {len : Nat} {i : Int32} (kd o : Nat) (ho : o ≤ A.z) (hkd : (decide (100 ≤ kd) && decide (kd / 100 = 4)) = true) (hw : Cond.arrayClass .long ∈ lw_all) (hi : i = nI len) (hlen : len < 60000000) (h1 : k + 1 ≤ mc) (h2 : n + len ≤ ms) (hd : decode cc pc = .ok (.newarray .long, 2)) (kk : wa g z (k + 1) (n + len) (A.mk kd o len) (pc + 2) lv (.ref A.z :: st)) : wa g z k n A pc lv (.int i :: st) := by
  intro H locs ls hR hL hl
  subst hi
  simp only [Bool.and_eq_true, decide_eq_true_eq] at hkd
  have hcl : (nI len).toNatClampNeg = len := nI_nat (by omega)
  refine W.newa C.x C.b (atype := .long) (C.w _ hw) (g := F0 z.m pc ls (.int (nI len) :: st)) rfl hd rfl (nI_pos (by omega)) (by rw [hcl]; simp only [newarray.typeOf, componentBytes]; omega) (by rw [C.r]; exact h1) (by rw [hcl, C.r]; exact h2) fun cA kA comp f1 f2 f3 => ?_
  have hz : A.z = H.size := hR.1
  have hcA : cA = g.dA 4 := by
    have h9 := (C.K.2 4 (g.dA 4, .long) rfl).2
    exact Option.some.inj (f1.symm.trans h9)
  subst hcA
  rw [hcl]
  have hR' : Rp g (A.mk kd o len) (H.push { cls := g.dA 4, slots := Array.replicate len (defaultValue (newarray.typeOf .long)), vm := .none }) := by
    refine hR.new (by simp) (fun q hq => by rw [Array.getElem?_push, if_neg (by omega)]) ?_ (Or.inr (by omega)) ho
    unfold fw_cell
    rw [mk_G, if_pos rfl]
    refine ⟨fun b1 b2 => absurd b2 (by omega), fun b1 b2 => absurd b2 (by omega), fun _ => ⟨{ cls := g.dA 4, slots := Array.replicate len (defaultValue (newarray.typeOf .long)), vm := .none }, by rw [hz]; simp, by rw [hkd.2], fw_vm.nn, by simp [mk_n], fun j hj => ?_⟩⟩
    rw [mk_n, if_pos rfl] at hj
    rw [hkd.2]
    exact fw_rep hj (fw_dflt .long A kd o len j (fun _ => ⟨(fun h => by cases h), (fun h => by cases h)⟩))
  have kk' := kk _ locs ls hR' hL hl
  rw [hz] at kk'
  exact kk'
end
