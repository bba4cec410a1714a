/-! ROWS, MORE: an array's clone -/
set_option maxRecDepth 100000
/-- a new cell that holds what the cell a holds -/
def HA.cl (A : HA) (a k o : Nat) : HA := (fun x => if x = A.z then (k, o) else A.G x, fun x => if x = A.z then A.I a else A.I x, fun x => if x = A.z then A.R a else A.R x, fun x => if x = A.z then A.L a else A.L x, fun x => if x = A.z then A.n a else A.n x, A.z + 1)
/-- a heap with one more cell -/
theorem Rp.push {g : GZ} {A B : HA} {H H' : Heap} (h : Rp g A H) (hz : B.z = A.z + 1) (hG : ∀ x, x ≠ A.z → B.G x = A.G x) (hI : ∀ x, x ≠ A.z → B.I x = A.I x) (hR : ∀ x, x ≠ A.z → B.R x = A.R x) (hL : ∀ x, x ≠ A.z → B.L x = A.L x) (hn : ∀ x, x ≠ A.z → B.n x = A.n x) (e1 : H'.size = H.size + 1) (e2 : ∀ q : Nat, q < H.size → H'[q]? = H[q]?) (hc : fw_cell g B H' A.z) (ho : (B.G A.z).2 ≤ A.z) : Rp g B H' := by
  obtain ⟨p1, p2, p3, p4, p5, p6, p7⟩ := h
  refine ⟨by rw [hz, e1, p1], by omega, fun q hq => ?_, fun x hx => ?_, fun x hx => ?_, fun x => ⟨fun hx => ?_, fun hx => ?_⟩, fun x => ?_⟩
  · rw [e2 q (by omega)]; exact p3 q hq
  · have hxa : x ≠ A.z := by omega
    rw [hG x hxa, hI x hxa, hR x hxa, hL x hxa, hn x hxa]
    exact p4 x hx
  · by_cases q : x = A.z
    · omega
    · rw [hG x q] at hx
      exact p5 x hx
  · have hxa : x ≠ A.z := by omega
    rw [hG x hxa]
    exact (p6 x).1 (by omega)
  · rw [hz] at hx ⊢
    by_cases q : x = A.z
    · rw [q]; omega
    · rw [hG x q]
      have := (p6 x).2 (by omega)
      omega
  · by_cases q : x = A.z
    · rw [q]; exact hc
    · by_cases q2 : x < H.size
      · exact (p7 x).kept (hG x q) (hn x q) (hI x q) (hR x q) (hL x q) (e2 x q2)
      · have h9 := (p6 x).1 (by omega)
        unfold fw_cell
        rw [hG x q]
        exact ⟨fun a b => absurd a (by omega), fun a b => absurd b (by omega), fun a => absurd a (by omega)⟩
theorem cl_G (A : HA) (a k o x : Nat) : (A.cl a k o).G x = if x = A.z then (k, o) else A.G x := rfl
theorem cl_I (A : HA) (a k o x : Nat) : (A.cl a k o).I x = if x = A.z then A.I a else A.I x := rfl
theorem cl_R (A : HA) (a k o x : Nat) : (A.cl a k o).R x = if x = A.z then A.R a else A.R x := rfl
theorem cl_L (A : HA) (a k o x : Nat) : (A.cl a k o).L x = if x = A.z then A.L a else A.L x := rfl
theorem cl_n (A : HA) (a k o x : Nat) : (A.cl a k o).n x = if x = A.z then A.n a else A.n x := rfl
theorem cl_z (A : HA) (a k o : Nat) : (A.cl a k o).z = A.z + 1 := rfl
theorem gw_cl {A : HA} {a k o : Nat} {X : Nat → Prop} : Gw A (A.cl a k o) X := by
  refine ⟨by rw [cl_z]; omega, fun x hx => ?_⟩
  have hne : x ≠ A.z := by omega
  rw [cl_G, cl_n, cl_L, cl_I, cl_R]
  simp only [if_neg hne, and_self, implies_true]
section
variable {g : GZ} {z : ZX} {cc : ByteArray} {own : String} {nL d mc ms k n : Nat} {A : HA} {pc : Nat} {lv : List (Option Value)} {st : List Value}
theorem r_clone (C : CX g z cc own nL d mc ms) {a ki t ix : Nat} {ty : FieldType} {ad : String} (kd o : Nat) (ho : o ≤ A.z) (h1 : (A.G a).1 = ki) (hki : (decide (100 ≤ ki) && decide (ki / 100 = t) && decide (100 ≤ kd) && decide (kd / 100 = t)) = true) (hty : fw_at t = ty ∧ fw_isI ty = true) (ht : (fw_tys g)[t]? = some (g.dA t, ty)) (had : va_RA z.s (g.dA t) ty → z.s.vm.findClass ad = some (g.dA t))
    (hlink : Cond.methodLink own ix ⟨ad, "clone", "()Ljava/lang/Object;"⟩ ∈ lw_all) (hsame : Cond.sameMethod ad "java/lang/Object" "clone" "()Ljava/lang/Object;" ∈ lw_all) (hsel : Cond.selects ad ⟨ad, "clone", "()Ljava/lang/Object;"⟩ ⟨"java/lang/Object", "clone", "()Ljava/lang/Object;"⟩ ∈ lw_all) (hca : Cond.castable ad "java/lang/Cloneable" ∈ lw_tbl)
    (hft : ∀ j, j < A.n a → fits ty (.int (A.I a j)) = true) (hlen : lv.length = nL) (hsum : (st.map fun v => v.category).sum ≤ 40) (hf : 1 ≤ d) (h2 : k + 1 ≤ mc) (h3 : n + A.n a ≤ ms) (hd : decode cc pc = .ok (.invokevirtual ix, 3))
    (kk : wa g z (k + 1) (n + A.n a) (A.cl a kd o) (pc + 3) lv (.ref A.z :: st)) : wa g z k n A pc lv (.ref a :: st) := by
  intro H locs ls hR hL hl
  simp only [Bool.and_eq_true, decide_eq_true_eq] at hki
  obtain ⟨c, q1, q2, q3, q4, q5⟩ := (hR.cell a).2.2 (by rw [h1]; exact hki.1.1.1)
  rw [h1, hki.1.1.2] at q2 q5
  rw [hty.1] at q5
  have hnm : z.s.vm.findClass ad = some (g.dA t) := had (C.K.2 t _ ht).2
  obtain ⟨c0, t0', f1, f2, f3⟩ := Cond.castable_spec (va_Nw.use (A := z.a) rfl (C.nw hca))
  cases hnm.symm.trans f1
  intro T hT X
  have hcellT : T.heap[a]? = some c := by rw [hT]; exact q1
  obtain ⟨-, kA, hkA, comp, hkind⟩ := State.isArrayOf_alike X.warmed.alike ((C.K.2 t _ ht).1 0 (fun _ => .null))
  obtain ⟨-, kS, hkS, compS, hkindS⟩ := (C.K.2 t _ ht).1 0 (fun _ => .null)
  obtain ⟨vm', X', stp⟩ := X.cloneArray C.x C.o (C.w _ hlink) (C.w _ hsame) (C.w _ q620) (C.w _ q621) (C.w _ hsel) (a := a) (cell := c) hcellT q3.st q3.1.2 (by rw [q2]; exact hnm) f2 (by rw [q2]; exact f3)
    (fun i v hv => by
      rw [q2]
      have hk' : T.vm.classes[g.dA t]? = some kA := hkA
      have hi : i < A.n a := by
        have := (Array.getElem?_eq_some_iff.mp hv).1
        rw [q4] at this; exact this
      rw [q5 i hi, fw_vI hty.2] at hv
      cases hv
      have := hft i hi
      simpa [State.fitsSlot, State.slotType?, hk', hkind] using this)
    (g := F0 z.m pc ls (.ref a :: st)) rfl ((hl.1.trans hlen).trans C.ml.symm) rfl (by rw [C.b]; exact hd) (by rw [C.r]; exact hf) (by rw [C.r]; show 2 * 0 + _ + 14 ≤ 60 * d; omega) (by rw [C.r]; exact h2) (by rw [C.r, q4]; exact h3) (hloader := by rw [q2]; exact Vm.clonesLoader_of_array hkS hkindS)
  rw [q4] at X'
  have hz : A.z = H.size := hR.1
  have hR' : Rp g (A.cl a kd o) (H.push { cls := c.cls, slots := c.slots }) := by
    refine hR.push rfl (fun x hx => if_neg hx) (fun x hx => if_neg hx) (fun x hx => if_neg hx) (fun x hx => if_neg hx) (fun x hx => if_neg hx) (by simp) (fun q hq => by rw [Array.getElem?_push, if_neg (by omega)]) ?_ (by rw [cl_G, if_pos rfl]; exact ho)
    unfold fw_cell
    rw [cl_G, if_pos rfl]
    refine ⟨fun b1 b2 => absurd b2 (by omega), fun b1 b2 => absurd b2 (by omega), fun _ => ⟨{ cls := c.cls, slots := c.slots }, by rw [hz]; simp, by rw [hki.2]; exact q2, fw_vm.nn, by rw [cl_n, if_pos rfl]; exact q4, fun j hj => ?_⟩⟩
    rw [cl_n, if_pos rfl] at hj
    rw [hki.2, hty.1]
    show c.slots[j]? = _
    rw [q5 j hj, fw_vI hty.2, fw_vI hty.2, cl_I, if_pos rfl]
  have kk' := kk _ locs ls hR' hL hl
  rw [hz] at kk'
  obtain ⟨t2, b1, b2⟩ := kk' ((T.setVm vm').pushCell { cls := c.cls, slots := c.slots }) (by rw [← hT]; rfl) X'
  refine ⟨t2, stp t2 ?_, b2⟩
  rw [hT]
  exact b1
end
