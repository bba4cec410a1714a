/-! PURE: a description's lines keep the row's form -/
set_option maxRecDepth 100000
/-- RowW from the parts that are looked at -/
theorem RowW.mk {σ τ : Rw} (h : RowW σ) (e : ∀ j, 2 < j → j < 8 → τ j = σ j) (g : τ 0 = nI (rG τ) ∧ rG τ ≤ 6) (k : τ 1 = nI (rK τ) ∧ rK τ ≤ 6) (f : τ 2 = nI (rF τ) ∧ rF τ ≤ 10) (hG : ∀ r, r < rG τ → RowG τ r) (hK : ∀ r, r < rK τ → RowK τ r) (hc : ∀ c, c < 80 → τ (153 + 5 * c + 1) = nI (cGr τ c) ∧ cGr τ c ≤ 9) : RowW τ := by
  have w1 : rW τ = rW σ := congrArg Int32.toNatClampNeg (e 4 (by omega) (by omega))
  have w2 : rH τ = rH σ := congrArg Int32.toNatClampNeg (e 5 (by omega) (by omega))
  have w5 : rD τ = rD σ := congrArg Int32.toNatClampNeg (e 3 (by omega) (by omega))
  have w6 : rGr τ = rGr σ := congrArg Int32.toNatClampNeg (e 6 (by omega) (by omega))
  have w7 : rWt τ = rWt σ := congrArg Int32.toNatClampNeg (e 7 (by omega) (by omega))
  exact ⟨⟨by rw [w1, e 4 (by omega) (by omega)]; exact h.1.1, by rw [w2, e 5 (by omega) (by omega)]; exact h.1.2⟩, g, k, by rw [w5, e 3 (by omega) (by omega)]; exact h.2.2.2.1, by rw [w6, e 6 (by omega) (by omega)]; exact h.2.2.2.2.1,
    by rw [w7, e 7 (by omega) (by omega)]; exact h.2.2.2.2.2.1, f, hG, hK, hc⟩
theorem rowG_c {σ τ : Rw} {r : Nat} (h : RowG σ r) (e7 : τ (21 + 9 * r + 7) = σ (21 + 9 * r + 7)) (e8 : τ (21 + 9 * r + 8) = σ (21 + 9 * r + 8)) (e4 : τ 4 = σ 4) (e5 : τ 5 = σ 5) : RowG τ r := by
  have x1 : gX τ r = gX σ r := congrArg Int32.toNatClampNeg e7
  have x2 : gY τ r = gY σ r := congrArg Int32.toNatClampNeg e8
  have x3 : rW τ = rW σ := congrArg Int32.toNatClampNeg e4
  have x4 : rH τ = rH σ := congrArg Int32.toNatClampNeg e5
  unfold RowG
  rw [x1, x2, x3, x4, e7, e8]; exact h
theorem rowK_c {σ τ : Rw} {k : Nat} (h : RowK σ k) (e : ∀ j, 7 ≤ j → j ≤ 10 → τ (75 + 13 * k + j) = σ (75 + 13 * k + j)) (g : rG σ ≤ rG τ) : RowK τ k := by
  have x1 : wFr τ k = wFr σ k := congrArg Int32.toNatClampNeg (e 7 (by omega) (by omega))
  have x2 : wTo τ k = wTo σ k := congrArg Int32.toNatClampNeg (e 8 (by omega) (by omega))
  have x3 : wHs τ k = wHs σ k := congrArg Int32.toNatClampNeg (e 9 (by omega) (by omega))
  have x4 : wPd τ k = wPd σ k := congrArg Int32.toNatClampNeg (e 10 (by omega) (by omega))
  have h1 := h.1
  have h2 := h.2.1
  unfold RowK
  rw [x1, x2, x3, x4, e 7 (by omega) (by omega), e 8 (by omega) (by omega), e 9 (by omega) (by omega), e 10 (by omega) (by omega)]
  exact ⟨⟨h1.1, by omega⟩, ⟨h2.1, by omega⟩, h.2.2⟩
theorem cel_c {σ τ : Rw} {c : Nat} (h : σ (153 + 5 * c + 1) = nI (cGr σ c) ∧ cGr σ c ≤ 9) (e : τ (153 + 5 * c + 1) = σ (153 + 5 * c + 1)) : τ (153 + 5 * c + 1) = nI (cGr τ c) ∧ cGr τ c ≤ 9 := by
  have x : cGr τ c = cGr σ c := congrArg Int32.toNatClampNeg e
  rw [x, e]; exact h
theorem cel_n {τ : Rw} {c v : Nat} (e : τ (153 + 5 * c + 1) = nI v) (hv : v ≤ 9) : τ (153 + 5 * c + 1) = nI (cGr τ c) ∧ cGr τ c ≤ 9 := by
  have x : cGr τ c = v := by unfold cGr; rw [e]; exact nI_nat (by omega)
  rw [x, e]; exact ⟨rfl, hv⟩
/-- GRASS of one cell -/
theorem RowW.gr' {σ : Rw} (h : RowW σ) {c v : Nat} (hv : v ≤ 9) : RowW (upd σ (153 + 5 * c + 1) (nI v)) := by
  have e : ∀ j, j ≠ 153 + 5 * c + 1 → upd σ (153 + 5 * c + 1) (nI v) j = σ j := fun j hj => pk_un hj
  have w3 : rG (upd σ (153 + 5 * c + 1) (nI v)) = rG σ := congrArg Int32.toNatClampNeg (e 0 (by omega))
  have w4 : rK (upd σ (153 + 5 * c + 1) (nI v)) = rK σ := congrArg Int32.toNatClampNeg (e 1 (by omega))
  have w8 : rF (upd σ (153 + 5 * c + 1) (nI v)) = rF σ := congrArg Int32.toNatClampNeg (e 2 (by omega))
  have g6 := h.g6
  have k6 := h.k6
  refine h.mk (fun j _ _ => e j (by omega)) (by rw [w3, e 0 (by omega)]; exact h.2.1) (by rw [w4, e 1 (by omega)]; exact h.2.2.1) (by rw [w8, e 2 (by omega)]; exact h.2.2.2.2.2.2.1) (fun r hr => ?_) (fun r hr => ?_) (fun j hj => ?_)
  · rw [w3] at hr
    exact rowG_c (h.G hr) (e _ (by omega)) (e _ (by omega)) (e _ (by omega)) (e _ (by omega))
  · rw [w4] at hr
    exact rowK_c (h.K hr) (fun j _ _ => e _ (by omega)) (by rw [w3]; exact Nat.le_refl _)
  · by_cases q : j = c
    · subst q; exact cel_n pk_us hv
    · exact cel_c ⟨h.c hj, h.c9 hj⟩ (e _ (by omega))
theorem stone_w {σ : Rw} (h : RowW σ) {c : Nat} : RowW (stoneR σ c) := by
  have h1 : RowW (upd σ (153 + 5 * c + 0) (nI 1)) := h.up (np_c (by omega))
  exact h1.gr' (by omega)
theorem gW6_w {σ : Rw} {B : Nat → Nat} {L : Nat} {s : TS} (h : RowW σ) (hg : rG σ < 6) : RowW (gW6 σ B L s) := by
  have hS := h.s
  have hS1 := gW1_s (B := B) (L := L) (s := s) hS
  have hS2 := gW2_s (B := B) (L := L) (s := s) hS
  have k6 := h.k6
  have hcl : gCe σ B L s < rC (gW1 σ B L s) := cellN_lt hS1
  have hc80 := hS1.c80
  have w3 := hS1.w3
  have w3' := hS2.w3
  -- places
  have ex : ∀ j, j ≠ 0 → j ≠ 153 + 5 * gCe σ B L s + 1 → j ≠ 153 + 5 * gCe σ B L s + 0 → j ≠ 21 + 9 * rG σ + 8 → j ≠ 21 + 9 * rG σ + 7 → (j < 21 + 9 * rG σ ∨ 21 + 9 * rG σ + 6 < j) → gW6 σ B L s j = σ j := fun j a1 a2 a3 a4 a5 a6 =>
    (pk_un a1).trans ((pk_un a2).trans ((pk_un a3).trans ((pk_un a4).trans ((pk_un a5).trans (newW_x a6)))))
  have e0 : gW6 σ B L s 0 = nI (rG σ + 1) := pk_us
  have wg : rG (gW6 σ B L s) = rG σ + 1 := (congrArg Int32.toNatClampNeg e0).trans (nI_nat (by omega))
  have e4 : gW6 σ B L s 4 = σ 4 := ex 4 (by omega) (by omega) (by omega) (by omega) (by omega) (by omega)
  have e5 : gW6 σ B L s 5 = σ 5 := ex 5 (by omega) (by omega) (by omega) (by omega) (by omega) (by omega)
  have wk : rK (gW6 σ B L s) = rK σ := congrArg Int32.toNatClampNeg (ex 1 (by omega) (by omega) (by omega) (by omega) (by omega) (by omega))
  have wf : rF (gW6 σ B L s) = rF σ := congrArg Int32.toNatClampNeg (ex 2 (by omega) (by omega) (by omega) (by omega) (by omega) (by omega))
  have ww : rW (gW6 σ B L s) = rW σ := congrArg Int32.toNatClampNeg e4
  have wh : rH (gW6 σ B L s) = rH σ := congrArg Int32.toNatClampNeg e5
  have ww1 : rW (gW1 σ B L s) = rW σ := congrArg Int32.toNatClampNeg (gW1_x (by omega))
  have wh1 : rH (gW1 σ B L s) = rH σ := congrArg Int32.toNatClampNeg (gW1_x (by omega))
  have ww2 : rW (gW2 σ B L s) = rW σ := congrArg Int32.toNatClampNeg (gW2_x (by omega))
  refine h.mk (fun j h1 h2 => ex j (by omega) (by omega) (by omega) (by omega) (by omega) (by omega)) (by rw [wg, e0]; exact ⟨rfl, by omega⟩) (by rw [wk, ex 1 (by omega) (by omega) (by omega) (by omega) (by omega) (by omega)]; exact h.2.2.1)
    (by rw [wf, ex 2 (by omega) (by omega) (by omega) (by omega) (by omega) (by omega)]; exact h.2.2.2.2.2.2.1) (fun r hr => ?_) (fun r hr => ?_) (fun j hj => ?_)
  · rw [wg] at hr
    by_cases q : r = rG σ
    · subst q
      have x7 : gW6 σ B L s (21 + 9 * rG σ + 7) = nI (gCe σ B L s % rW σ) := by
        refine (pk_un (by omega)).trans ((pk_un (by omega)).trans ((pk_un (by omega)).trans ((pk_un (by omega)).trans (pk_us.trans ?_))))
        rw [ww1]
      have x8 : gW6 σ B L s (21 + 9 * rG σ + 8) = nI (gCe σ B L s / rW σ) := by
        refine (pk_un (by omega)).trans ((pk_un (by omega)).trans ((pk_un (by omega)).trans (pk_us.trans ?_)))
        rw [ww2]
      have hm := Nat.mod_lt (gCe σ B L s) (show 0 < rW σ by omega)
      have hd : gCe σ B L s / rW σ < rH σ := Nat.div_lt_of_lt_mul (by unfold rC at hcl; rw [ww1, wh1] at hcl; exact hcl)
      have w10 := hS.w10
      have h8 := hS.h8
      have y7 : gX (gW6 σ B L s) (rG σ) = gCe σ B L s % rW σ := by unfold gX; rw [x7]; exact nI_nat (by omega)
      have y8 : gY (gW6 σ B L s) (rG σ) = gCe σ B L s / rW σ := by unfold gY; rw [x8]; exact nI_nat (by omega)
      unfold RowG
      rw [y7, y8, x7, x8, ww, wh]
      exact ⟨⟨rfl, hm⟩, ⟨rfl, hd⟩⟩
    · have hr : r < rG σ := by omega
      exact rowG_c (h.G hr) (ex _ (by omega) (by omega) (by omega) (by omega) (by omega) (by omega)) (ex _ (by omega) (by omega) (by omega) (by omega) (by omega) (by omega)) e4 e5
  · rw [wk] at hr
    exact rowK_c (h.K hr) (fun j _ _ => ex _ (by omega) (by omega) (by omega) (by omega) (by omega) (by omega)) (by rw [wg]; omega)
  · by_cases q : j = gCe σ B L s
    · subst q
      exact cel_n (v := 0) ((pk_un (by omega)).trans pk_us) (by omega)
    · exact cel_c ⟨h.c hj, h.c9 hj⟩ (ex _ (by omega) (by omega) (by omega) (by omega) (by omega) (by omega))
