/-! PURE: what would be -/
set_option maxRecDepth 100000
theorem ways_of {σ τ : Rw} (hW : RowW σ) (hV : RowW τ) (h1 : rW τ = rW σ) (h2 : rH τ = rH σ) (h3 : rK τ = rK σ) (hf : ∀ k, k < rK σ → gC τ (wFr τ k) = gC σ (wFr σ k)) (ht : ∀ k, k < rK σ → gC τ (wTo τ k) = gC σ (wTo σ k))
    (he : ∀ k c, (ecost σ k 0 c).isSome = true → (ecost τ k 0 c).isSome = true) (h : ways σ) : ways τ := by
  intro k hk
  rw [h3] at hk
  rw [hf k hk]
  exact way_keep hW hV h1 h2 (ht k hk) (fun c _ h => he k c h) _ _ (Nat.lt_succ_self _) (gC_lt hW.s (hW.G (hW.K hk).1.2)) (h k hk)
theorem ecost_some {σ τ : Rw} {w c : Nat} (h : σ (153 + 5 * c + 0) = 0 → ¬ σ (153 + 5 * c + 2) = nI 1 → τ (153 + 5 * c + 0) = 0 → ¬ τ (153 + 5 * c + 2) = nI 1) (h2 : ¬ σ (153 + 5 * c + 0) = 0 → τ (153 + 5 * c + 0) = 0 → ¬ τ (153 + 5 * c + 2) = nI 1) (hs : (ecost σ w 0 c).isSome = true) : (ecost τ w 0 c).isSome = true := by
  unfold ecost at hs ⊢
  by_cases k2 : τ (153 + 5 * c + 0) = 0
  · rw [if_pos k2]
    have hf : ¬ τ (153 + 5 * c + 2) = nI 1 := by
      by_cases k1 : σ (153 + 5 * c + 0) = 0
      · rw [if_pos k1] at hs
        refine h k1 (fun q => ?_) k2
        rw [if_pos (Or.inr ⟨rfl, q⟩)] at hs
        cases hs
      · exact h2 k1 k2
    rw [if_neg (by rintro (q | q); cases q; exact hf q.2)]
    rfl
  · rw [if_neg k2]; rfl
/-- HASTE of a walker changes -/
def hasteS (σ : Rw) (w n : Nat) : Rw := upd σ (75 + 13 * w + 9) (nI n)
theorem hasteS_w {σ : Rw} (h : RowW σ) {w n : Nat} (hw : w < rK σ) (hn : n ≤ 9) : RowW (hasteS σ w n) := by
  have k6 := h.k6
  have g6 := h.g6
  have e : ∀ j, j ≠ 75 + 13 * w + 9 → hasteS σ w n j = σ j := fun j hj => pk_un hj
  have w1 : rW (hasteS σ w n) = rW σ := congrArg Int32.toNatClampNeg (e 4 (by omega))
  have w2 : rH (hasteS σ w n) = rH σ := congrArg Int32.toNatClampNeg (e 5 (by omega))
  have w3 : rG (hasteS σ w n) = rG σ := congrArg Int32.toNatClampNeg (e 0 (by omega))
  have w4 : rK (hasteS σ w n) = rK σ := congrArg Int32.toNatClampNeg (e 1 (by omega))
  have w5 : rD (hasteS σ w n) = rD σ := congrArg Int32.toNatClampNeg (e 3 (by omega))
  have w6 : rGr (hasteS σ w n) = rGr σ := congrArg Int32.toNatClampNeg (e 6 (by omega))
  have w7 : rWt (hasteS σ w n) = rWt σ := congrArg Int32.toNatClampNeg (e 7 (by omega))
  have w8 : rF (hasteS σ w n) = rF σ := congrArg Int32.toNatClampNeg (e 2 (by omega))
  refine ⟨⟨by rw [w1, e 4 (by omega)]; exact h.1.1, by rw [w2, e 5 (by omega)]; exact h.1.2⟩, by rw [w3, e 0 (by omega)]; exact h.2.1, by rw [w4, e 1 (by omega)]; exact h.2.2.1, by rw [w5, e 3 (by omega)]; exact h.2.2.2.1, by rw [w6, e 6 (by omega)]; exact h.2.2.2.2.1,
    by rw [w7, e 7 (by omega)]; exact h.2.2.2.2.2.1, by rw [w8, e 2 (by omega)]; exact h.2.2.2.2.2.2.1, fun r hr => ?_, fun k hk => ?_, fun c hc => ?_⟩
  · rw [w3] at hr
    have h1 := h.G hr
    have x1 : gX (hasteS σ w n) r = gX σ r := congrArg Int32.toNatClampNeg (e _ (by omega))
    have x2 : gY (hasteS σ w n) r = gY σ r := congrArg Int32.toNatClampNeg (e _ (by omega))
    unfold RowG
    rw [x1, x2, w1, w2, e _ (show 21 + 9 * r + 7 ≠ _ by omega), e _ (show 21 + 9 * r + 8 ≠ _ by omega)]
    exact h1
  · rw [w4] at hk
    have h1 := h.K hk
    have x1 : wFr (hasteS σ w n) k = wFr σ k := congrArg Int32.toNatClampNeg (e _ (by omega))
    have x2 : wTo (hasteS σ w n) k = wTo σ k := congrArg Int32.toNatClampNeg (e _ (by omega))
    have x4 : wPd (hasteS σ w n) k = wPd σ k := congrArg Int32.toNatClampNeg (e _ (by omega))
    unfold RowK
    rw [x1, x2, x4, w3, e _ (show 75 + 13 * k + 7 ≠ _ by omega), e _ (show 75 + 13 * k + 8 ≠ _ by omega), e _ (show 75 + 13 * k + 10 ≠ _ by omega)]
    refine ⟨h1.1, h1.2.1, ?_, h1.2.2.2⟩
    by_cases q : k = w
    · subst q
      have : wHs (hasteS σ k n) k = n := by unfold wHs hasteS; rw [pk_us]; exact nI_nat (by omega)
      rw [this]; unfold hasteS; rw [pk_us]; exact ⟨rfl, hn⟩
    · have x3 : wHs (hasteS σ w n) k = wHs σ k := congrArg Int32.toNatClampNeg (e _ (by omega))
      rw [x3, e _ (by omega)]; exact h1.2.2.1
  · have x1 : cGr (hasteS σ w n) c = cGr σ c := congrArg Int32.toNatClampNeg (e _ (by omega))
    rw [x1, e _ (by omega)]
    exact ⟨h.c hc, h.c9 hc⟩
theorem hasteS_y {σ : Rw} (h : RowW σ) (hy : ways σ) {w n : Nat} (hw : w < rK σ) (hn : n ≤ 9) : ways (hasteS σ w n) := by
  have k6 := h.k6
  have g6 := h.g6
  have e : ∀ j, j ≠ 75 + 13 * w + 9 → hasteS σ w n j = σ j := fun j hj => pk_un hj
  have w1 : rW (hasteS σ w n) = rW σ := congrArg Int32.toNatClampNeg (e 4 (by omega))
  have g : ∀ r, r < 6 → gC (hasteS σ w n) r = gC σ r := fun r hr => by
    have x1 : gX (hasteS σ w n) r = gX σ r := congrArg Int32.toNatClampNeg (e _ (by omega))
    have x2 : gY (hasteS σ w n) r = gY σ r := congrArg Int32.toNatClampNeg (e _ (by omega))
    unfold gC; rw [x1, x2, w1]
  refine ways_of h (hasteS_w h hw hn) w1 (congrArg Int32.toNatClampNeg (e 5 (by omega))) (congrArg Int32.toNatClampNeg (e 1 (by omega))) (fun k hk => ?_) (fun k hk => ?_) (fun k c hs => ?_) hy
  · have x1 : wFr (hasteS σ w n) k = wFr σ k := congrArg Int32.toNatClampNeg (e _ (by omega))
    have := (h.K hk).1.2
    rw [x1]; exact g _ (by omega)
  · have x1 : wTo (hasteS σ w n) k = wTo σ k := congrArg Int32.toNatClampNeg (e _ (by omega))
    have := (h.K hk).2.1.2
    rw [x1]; exact g _ (by omega)
  · refine ecost_some (fun a b _ => ?_) (fun a b => ?_) hs
    · rw [e _ (by omega)]; exact b
    · rw [e _ (by omega)] at b; exact absurd b a
theorem whyF_0 {σ : Rw} {c : Nat} (h : whyF σ c = nI 0) : σ (153 + 5 * c + 0) = 0 ∧ ¬ fenced σ c ∧ ¬ rF σ = 10 ∧ ways (fenceOn σ c) := by
  unfold whyF at h
  split at h
  · split at h
    · exact absurd h (by decide +kernel)
    · split at h
      · exact absurd h (by decide +kernel)
      · split at h
        · exact ⟨by assumption, by assumption, by assumption, by assumption⟩
        · exact absurd h (by decide +kernel)
  · exact absurd h (by decide +kernel)
def oS (σ : Rw) (o : Option Nat) : Int32 := match o with
  | none => -1
  | some c => nI (10 * (c / rW σ) + c % rW σ)
def busyS (σ : Rw) : Nat → Option Nat × Nat
  | 0 => (none, 0)
  | k + 1 => if cTr σ k ≤ (busyS σ k).2 then busyS σ k else (some k, cTr σ k)
noncomputable def bestS (σ : Rw) (n : Nat) : Nat → Option (Nat × Nat)
  | 0 => none
  | k + 1 => if whyF σ k = nI 0 then (match bestS σ n k with
      | none => some (k, allG (daysR (fenceOn σ k) n))
      | some (b, m) => if allG (daysR (fenceOn σ k) n) ≤ m then some (b, m) else some (k, allG (daysR (fenceOn σ k) n))) else bestS σ n k
noncomputable def whenA (σ : Rw) (c : Nat) : Int32 := if σ (153 + 5 * c + 0) = 0 then oI (firstB (fun n => decide (bare (daysR σ n) c)) 101) else -1
