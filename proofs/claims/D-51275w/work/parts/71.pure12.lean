/-! PURE: a description's lines keep the row's form, 2 -/
set_option maxRecDepth 100000
theorem fndN_lt {σ : Rw} {B : Nat → Nat} {L : Nat} {but : Int32} {s : TS} (h : 0 < rG σ) : fndN σ B L True but s < rG σ := by
  unfold fndN
  split
  · unfold fndR
    split
    · exact h
    · split
      · exact h
      · rename_i k hk
        split
        · exact h
        · unfold hereR at hk
          rw [if_pos trivial] at hk
          exact (firstB_lt hk).1
  · exact h
theorem kW6_w {σ : Rw} {B : Nat → Nat} {L : Nat} {s : TS} (h : RowW σ) (hk : rK σ < 6) (hg : 0 < rG σ) : RowW (kW6 σ B L s) := by
  have g6 := h.g6
  have ex : ∀ j, j ≠ 1 → (j < 75 + 13 * rK σ ∨ 75 + 13 * rK σ + 10 < j) → kW6 σ B L s j = σ j := fun j a1 a2 =>
    (pk_un a1).trans ((pk_un (by omega)).trans ((pk_un (by omega)).trans ((pk_un (by omega)).trans ((pk_un (by omega)).trans (newW_x (by omega))))))
  have e1 : kW6 σ B L s 1 = nI (rK σ + 1) := pk_us
  have wk : rK (kW6 σ B L s) = rK σ + 1 := (congrArg Int32.toNatClampNeg e1).trans (nI_nat (by omega))
  have e0 : kW6 σ B L s 0 = σ 0 := ex 0 (by omega) (by omega)
  have e2 : kW6 σ B L s 2 = σ 2 := ex 2 (by omega) (by omega)
  have wg : rG (kW6 σ B L s) = rG σ := congrArg Int32.toNatClampNeg e0
  have wf : rF (kW6 σ B L s) = rF σ := congrArg Int32.toNatClampNeg e2
  have wg1 : rG (kW1 σ B L s) = rG σ := congrArg Int32.toNatClampNeg (kW1_x (by omega))
  have wg2 : rG (kW2 σ B L s) = rG σ := congrArg Int32.toNatClampNeg (kW2_x (by omega))
  refine h.mk (fun j h1 h2 => ex j (by omega) (by omega)) (by rw [wg, e0]; exact h.2.1) (by rw [wk, e1]; exact ⟨rfl, by omega⟩) (by rw [wf, e2]; exact h.2.2.2.2.2.2.1) (fun r hr => ?_) (fun r hr => ?_) (fun j hj => ?_)
  · rw [wg] at hr
    exact rowG_c (h.G hr) (ex _ (by omega) (by omega)) (ex _ (by omega) (by omega)) (ex _ (by omega) (by omega)) (ex _ (by omega) (by omega))
  · rw [wk] at hr
    by_cases q : r = rK σ
    · subst q
      have hf : kFr σ B L s < rG σ := by have := fndN_lt (σ := kW1 σ B L s) (B := B) (L := L) (but := -1) (s := kS2 σ B L s) (by omega); rw [wg1] at this; exact this
      have ht : kTo σ B L s < rG σ := by have := fndN_lt (σ := kW2 σ B L s) (B := B) (L := L) (but := nI (kFr σ B L s)) (s := kS3 σ B L s) (by omega); rw [wg2] at this; exact this
      have hh := numN_in (B := B) (L := L) (lo := 0) (hi := 9) (s := kS4 σ B L s) (by omega)
      have hp := numN_in (B := B) (L := L) (lo := 1) (hi := 9) (s := kS5 σ B L s) (by omega)
      have x7 : kW6 σ B L s (75 + 13 * rK σ + 7) = nI (kFr σ B L s) := (pk_un (by omega)).trans ((pk_un (by omega)).trans ((pk_un (by omega)).trans ((pk_un (by omega)).trans pk_us)))
      have x8 : kW6 σ B L s (75 + 13 * rK σ + 8) = nI (kTo σ B L s) := (pk_un (by omega)).trans ((pk_un (by omega)).trans ((pk_un (by omega)).trans pk_us))
      have x9 : kW6 σ B L s (75 + 13 * rK σ + 9) = nI (numN B L 0 9 (kS4 σ B L s)) := (pk_un (by omega)).trans ((pk_un (by omega)).trans pk_us)
      have x10 : kW6 σ B L s (75 + 13 * rK σ + 10) = nI (numN B L 1 9 (kS5 σ B L s)) := (pk_un (by omega)).trans pk_us
      have y7 : wFr (kW6 σ B L s) (rK σ) = kFr σ B L s := (congrArg Int32.toNatClampNeg x7).trans (nI_nat (by omega))
      have y8 : wTo (kW6 σ B L s) (rK σ) = kTo σ B L s := (congrArg Int32.toNatClampNeg x8).trans (nI_nat (by omega))
      have y9 : wHs (kW6 σ B L s) (rK σ) = numN B L 0 9 (kS4 σ B L s) := (congrArg Int32.toNatClampNeg x9).trans (nI_nat (by omega))
      have y10 : wPd (kW6 σ B L s) (rK σ) = numN B L 1 9 (kS5 σ B L s) := (congrArg Int32.toNatClampNeg x10).trans (nI_nat (by omega))
      unfold RowK
      rw [y7, y8, y9, y10, x7, x8, x9, x10, wg]
      exact ⟨⟨rfl, hf⟩, ⟨rfl, ht⟩, ⟨rfl, hh.2⟩, ⟨rfl, hp⟩⟩
    · exact rowK_c (h.K (show r < rK σ by omega)) (fun j _ _ => ex _ (by omega) (by omega)) (by rw [wg]; exact Nat.le_refl _)
  · exact cel_c ⟨h.c hj, h.c9 hj⟩ (ex _ (by omega) (by omega))
theorem grnd_w {σ : Rw} {B : Nat → Nat} {L : Nat} {s : TS} (h : RowW σ) : RowW (grndW σ B L s) := by
  unfold grndW
  split
  · unfold stonW
    split
    · exact stone_w h
    · exact h
  · split
    · unfold grasW
      split
      · exact h.gr' (numN_in (by omega)).2
      · exact h
    · unfold fenW
      split
      · rename_i q
        split
        · refine fen2_w h ?_
          unfold fen0 mustS at q
          split at q
          · rename_i q2
            exact q2.elim id (fun q2 => absurd q q2)
          · cases q
        · exact h
      · exact h
theorem stm_w {σ : Rw} {B : Nat → Nat} {L : Nat} {mb : Prop} [Decidable mb] {s : TS} (h : RowW σ) : RowW (stmW σ B L mb s) := by
  unfold stmW
  split
  · unfold gateW
    split
    · rename_i q
      exact gW6_w h (g0_lt q)
    · exact h
  · split
    · rename_i hw
      unfold walkW
      split
      · rename_i q
        exact kW6_w h (k0_lt q) (by have := hw.1; omega)
      · exact h
    · split
      · exact grnd_w h
      · exact h
theorem RowW.num {σ : Rw} (h : RowW σ) : NumI σ := ⟨h.2.1, h.2.2.1⟩
