/-! ROWS: arrays of longs -/
set_option maxRecDepth 100000
section
variable {g : GZ} {z : ZX} {cc : ByteArray} {own : String} {nL d mc ms k n : Nat} {A : HA} {pc : Nat} {lv : List (Option Value)} {st : List Value}
theorem sL_o (A : HA) {a x : Nat} (f : Nat → Int64) (h : x ≠ a) : (A.sL a f).L x = A.L x := if_neg h
theorem r_lald (C : CX g z cc own nL d mc ms) {ki a j : Nat} {i : Int32} (h1 : (A.G a).1 = ki) (hki : (decide (100 ≤ ki) && decide (ki / 100 = 4)) = true) (hi : i = nI j) (hj : j < A.n a) (hj2 : j < 2147483648) (hd : decode cc pc = .ok (.laload, 1)) (kk : wa g z k n A (pc + 1) lv (.long (A.L a j) :: st)) : wa g z k n A pc lv (.int i :: .ref a :: st) := by
  intro H locs ls hR hL hl
  subst hi
  simp only [Bool.and_eq_true, decide_eq_true_eq] at hki
  obtain ⟨c, q1, q2, q3, q4, q5⟩ := (hR.cell a).2.2 (by rw [h1]; exact hki.1)
  rw [h1, hki.2] at q2 q5
  have h5 := q5 j hj
  refine W.lald (v := .long (A.L a j)) C.x C.b q1 (fw_isArr C.K (t := 4) rfl q2 q3.st) q3.1.2 (by rw [q4]; exact vp_in_of2 hj hj2) ?_ rfl rfl hd (kk H locs ls hR hL hl)
  rw [nI_nat hj2]
  exact h5
theorem r_last (C : CX g z cc own nL d mc ms) {ki a j : Nat} {i : Int32} {x : Int64} (h1 : (A.G a).1 = ki) (hki : (decide (100 ≤ ki) && decide (ki / 100 = 4) && fw_mut ki) = true) (hi : i = nI j) (hj : j < A.n a) (hj2 : j < 2147483648) (hd : decode cc pc = .ok (.lastore, 1)) (kk : wa g z k n (A.sL a (va_up (A.L a) j x)) (pc + 1) lv st) : wa g z k n A pc lv (.long x :: .int i :: .ref a :: st) := by
  intro H locs ls hR hL hl
  subst hi
  simp only [Bool.and_eq_true, decide_eq_true_eq] at hki
  obtain ⟨c, q1, q2, q3, q4, q5⟩ := (hR.cell a).2.2 (by rw [h1]; exact hki.1.1)
  rw [h1, hki.1.2] at q2 q5
  have hb : g.b ≤ a := hR.mut (by rw [h1]; exact hki.2)
  refine W.last C.x C.b q1 (fw_isArr C.K (t := 4) rfl q2 q3.st) q3.1.2 (by rw [q4]; exact vp_in_of2 hj hj2) rfl rfl hd fun H' e1 e2 e3 => ?_
  rw [nI_nat hj2] at e1 ⊢
  refine kk H' _ ls (fw_ast (A' := A.sL a (va_up (A.L a) j x)) hR h1 hki.1.1 hki.1.2 hb q2 q3 q4 q5 hj rfl rfl rfl (fun _ _ => rfl) (fun _ _ => rfl) (fun y hy => sL_o A _ hy) (v := .long x) ?_ ?_ e1 e2 e3) (fun q hq => ?_) hl
  · show Value.long _ = _
    rw [sL_s, va_up_self]
  · intro i hi
    show Value.long _ = Value.long _
    rw [sL_s, va_up_ne _ _ hi]
  · rcases List.mem_append.mp hq with hq | hq
    · exact hL q hq
    · rw [List.mem_singleton.mp hq]; exact hb
end
