/-! PURE: reading goes on -/
set_option maxRecDepth 100000
theorem mustS_a {p : Prop} [Decidable p] {c : Nat} {s : TS} : (mustS p c s).a = s.a ∧ (mustS p c s).g = s.g ∧ (mustS p c s).w = s.w := by
  unfold mustS
  split <;> exact ⟨rfl, rfl, rfl⟩
theorem numS_a {B : Nat → Nat} {L lo hi : Nat} {s : TS} : s.a ≤ (numS B L lo hi s).a := by
  unfold numS
  split
  · have := @skp_ge B L s.a
    show s.a ≤ skp B L s.a + dln B L (skp B L s.a)
    omega
  · exact Nat.le_refl _
theorem fndS_a {σ : Rw} {B : Nat → Nat} {L : Nat} {q : Prop} [Decidable q] {but : Int32} {s : TS} : s.a ≤ (fndS σ B L q but s).a := by
  unfold fndS
  split
  · have := @skp_ge B L s.a
    show s.a ≤ (if 1 ≤ wln B L (skp B L s.a) ∧ wln B L (skp B L s.a) ≤ 6 then skp B L s.a + wln B L (skp B L s.a) else skp B L s.a)
    split <;> omega
  · exact Nat.le_refl _
theorem newS_a {σ : Rw} {B : Nat → Nat} {L : Nat} {q : Prop} [Decidable q] {s : TS} : s.a ≤ (newS σ B L q s).a := by
  unfold newS
  split
  · have := @skp_ge B L s.a
    show s.a ≤ (if isR (newR σ B L s.a q) then skp B L s.a + wln B L (skp B L s.a) else skp B L s.a)
    split <;> omega
  · exact Nat.le_refl _
theorem goesS_a {s : TS} (h : s.a ≤ s.g) : s.a ≤ (goesS s).a := by
  show s.a ≤ s.g + s.w
  omega
theorem cellS_a {σ : Rw} {B : Nat → Nat} {L : Nat} {s : TS} : s.a ≤ (cellS σ B L s).a := Nat.le_trans numS_a numS_a
theorem freeS_a {σ : Rw} {B : Nat → Nat} {L : Nat} {s : TS} : s.a ≤ (freeS σ B L s).a := by
  unfold freeS
  rw [mustS_a.1]
  exact cellS_a
theorem next_a {B : Nat → Nat} {L : Nat} {s : TS} : s.a ≤ (nextS B L s).a ∧ (nextS B L s).a ≤ (nextS B L s).g := ⟨skp_ge, Nat.le_refl _⟩
theorem must_ag {p : Prop} [Decidable p] {c : Nat} {s : TS} (h : s.a ≤ s.g) : s.a ≤ (mustS p c s).a ∧ (mustS p c s).a ≤ (mustS p c s).g := by
  rw [mustS_a.1, mustS_a.2.1]
  exact ⟨Nat.le_refl _, h⟩
theorem stmS_a {σ : Rw} {B : Nat → Nat} {L : Nat} {mb : Prop} [Decidable mb] {s : TS} : s.a ≤ (stmS σ B L mb s).a := by
  obtain ⟨h1, h2⟩ := next_a (B := B) (L := L) (s := s)
  refine Nat.le_trans h1 ?_
  unfold stmS
  split
  · unfold gateS
    obtain ⟨h3, h4⟩ := must_ag (p := rG σ < 6) (c := 4) h2
    split
    · refine Nat.le_trans h3 (Nat.le_trans (goesS_a h4) ?_)
      unfold gS3
      rw [mustS_a.1]
      exact Nat.le_trans newS_a cellS_a
    · exact h3
  · split
    · unfold walkS
      obtain ⟨h3, h4⟩ := must_ag (p := rK σ < 6) (c := 4) h2
      split
      · refine Nat.le_trans h3 (Nat.le_trans (goesS_a h4) ?_)
        exact Nat.le_trans newS_a (Nat.le_trans fndS_a (Nat.le_trans fndS_a (Nat.le_trans numS_a numS_a)))
      · exact h3
    · split
      · obtain ⟨h5, h6⟩ := next_a (B := B) (L := L) (s := nextS B L s)
        refine Nat.le_trans h5 ?_
        unfold grndS
        split
        · exact Nat.le_trans (goesS_a h6) freeS_a
        · split
          · exact Nat.le_trans (goesS_a h6) (Nat.le_trans freeS_a numS_a)
          · unfold fenS
            obtain ⟨h3, h4⟩ := must_ag (p := rF σ < 10) (c := 4) h6
            split
            · split
              · rw [mustS_a.1]
                exact Nat.le_trans h3 (Nat.le_trans (goesS_a h4) freeS_a)
              · exact Nat.le_trans h3 (Nat.le_trans (goesS_a h4) freeS_a)
            · exact h3
      · rw [mustS_a.1]
        exact Nat.le_refl _
/-- a row all of zeros, as far as it is laid -/
def zeR (σ : Rw) : Nat → Rw
  | 0 => σ
  | k + 1 => upd (zeR σ k) k (nI 0)
theorem zeR_v (σ : Rw) (j : Nat) : ∀ k, zeR σ k j = if j < k then nI 0 else σ j
  | 0 => (if_neg (Nat.not_lt_zero _)).symm
  | k + 1 => by
    show upd (zeR σ k) k (nI 0) j = _
    by_cases q : j = k
    · rw [q, pk_us, if_pos (Nat.lt_succ_self _)]
    · rw [pk_un q, zeR_v σ j k]
      by_cases h : j < k
      · rw [if_pos h, if_pos (by omega)]
      · rw [if_neg h, if_neg (by omega)]
theorem zeR_z (σ : Rw) : Zr (zeR σ 553) := fun j hj => by rw [zeR_v, if_pos hj]
theorem sgn_a {B : Nat → Nat} {L c : Nat} {s : TS} (h : s.e = 0) : s.a < (signS B L c s).a := by
  unfold signS
  rw [if_pos h]
  have := @skp_ge B L s.a
  show s.a < skp B L s.a + 1
  omega
theorem stmT_eq {τ : Rw} {σ : Rw} {B : Nat → Nat} {L : Nat} {mb : Bool} {s : TS} : stmT (upd τ 20 (bI (mb = true))) σ B L (mb = true) s = upd τ 20 (bI ((mb && decide (stmM σ B L (mb = true) s)) = true)) := by
  have e2 : upd (upd τ 20 (bI (mb = true))) 20 (nI 0) = upd τ 20 (nI 0) := bx_upd _ _ _ _
  unfold stmT
  by_cases h1 : rK σ = 0 ∧ seesW B L wGate s
  · rw [if_pos h1]
    have : stmM σ B L (mb = true) s := fun q => q.1 h1
    rw [decide_eq_true this, Bool.and_true]
  · rw [if_neg h1]
    by_cases h2 : 1 < rG σ ∧ mb = true ∧ seesW B L wWalker s
    · rw [if_pos h2]
      have : stmM σ B L (mb = true) s := fun q => q.2.1 h2
      rw [decide_eq_true this, Bool.and_true]
    · rw [if_neg h2]
      by_cases h3 : 0 < rK σ ∧ isGr B L s
      · rw [if_pos h3]
        have : ¬ stmM σ B L (mb = true) s := fun q => q ⟨h1, h2, h3.1, h3.2⟩
        rw [decide_eq_false this, Bool.and_false, e2]
        rw [bI_f (by decide), nI0]
      · rw [if_neg h3]
        have : stmM σ B L (mb = true) s := fun q => h3 ⟨q.2.2.1, q.2.2.2⟩
        rw [decide_eq_true this, Bool.and_true]
