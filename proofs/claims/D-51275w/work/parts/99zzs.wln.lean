/-! THE COMPONENT, 37: a lawn that is kept -/
set_option maxRecDepth 100000
/-- a lawn of the world: its cells, its values, its names; no array of it is a deque's -/
def WLn (A : HA) (a : Nat) (d : Nat → Nat) (σ : Rw) : Prop := (Ly A a d σ ∧ Lv A.I a d σ ∧ NmK A d σ) ∧ (A.G (d 21)).1 ≠ 502 ∧ (A.G (d 23)).1 ≠ 502
/-- kinds that are no lawn's -/
def OutK (k : Nat) : Prop := k = 1 ∨ k = 7 ∨ k = 10 ∨ k = 14 ∨ k = 16 ∨ k = 201 ∨ k = 502
/-- a name's place in a row -/
def NmP (j : Nat) : Prop := (21 ≤ j ∧ j < 75) ∨ (75 ≤ j ∧ j < 153 ∧ (j - 75) % 13 < 7)
section
variable {g : GZ} {A B D : HA} {a w x y : Nat} {d d2 : Nat → Nat} {σ ρ τ : Rw} {X : Nat → Prop}
theorem WLn.no (h : WLn A a d σ) (hy : Fp a d (rK σ) (rG σ) y) : ¬ OutK (A.G y).1 := by
  have hL := h.1.1
  unfold OutK
  rcases hy with q | ⟨f, hf, q⟩ | (q | q | q | q | q | q) | ⟨k, hk, q⟩ | ⟨r, hr, q⟩
  · rw [q, ly_g hL]; omega
  · rw [q, ly_gf hL f hf]
    have : ∀ f, f < 20 → arrF f → ¬ (lyK f = 1 ∨ lyK f = 7 ∨ lyK f = 10 ∨ lyK f = 14 ∨ lyK f = 16 ∨ lyK f = 201 ∨ lyK f = 502) := by decide
    refine this f ?_ hf
    unfold arrF at hf
    omega
  · rw [q, ly_g11 hL]; omega
  · rw [q, ly_g12 hL]; omega
  · rw [q, ly_g20 hL]; omega
  · have h1 := ly_g21 hL
    have h2 := h.2.1
    rw [q]
    simp only [isObA, Bool.and_eq_true, decide_eq_true_eq] at h1
    omega
  · rw [q, ly_g22 hL]; omega
  · have h1 := ly_g23 hL
    have h2 := h.2.2
    rw [q]
    simp only [isObA, Bool.and_eq_true, decide_eq_true_eq] at h1
    omega
  · rw [q, (ly_w hL hk).2]; omega
  · rw [q, (ly_t hL hr).2]; omega
theorem WLn.mv (h : WLn A a d σ) (hz : Zk A) (hw : Gw A D X) (hf : ∀ y, Fp a d (rK σ) (rG σ) y → ¬ X y) (hP : StP A D) : WLn D a d σ := by
  have hL := h.1.1
  refine ⟨⟨ly_gw hz hL hw hf, lv_gw hz hL h.1.2.1 hw hf, h.1.2.2.sp hz hP (fun y hy => (hw.2 y hy).1) (fun y hy => ((hw.2 y (fp_lt hz hL hy)).2.2 (hf y hy)).2.2)⟩, ?_, ?_⟩
  · rw [(hw.2 _ (fp_lt hz hL (y := d 21) (Or.inr (Or.inr (Or.inl (by simp)))))).1]; exact h.2.1
  · rw [(hw.2 _ (fp_lt hz hL (y := d 23) (Or.inr (Or.inr (Or.inl (by simp)))))).1]; exact h.2.2
theorem WLn.gw (h : WLn A a d σ) (hz : Zk A) (hw : Gw A D X) (hX : ∀ y, y < A.z → X y → OutK (A.G y).1) (hP : StP A D) : WLn D a d σ :=
  h.mv hz hw (fun y hy q => h.no hy (hX y (fp_lt hz h.1.1 hy) q)) hP
theorem WLn.non (h : WLn A a d σ) (hz : Zk A) (hw : Gw A D Non) : WLn D a d σ := h.mv hz hw (fun _ _ q => q) (StP.no hz hw)
theorem NmS.cg (h : NmS A x σ y) (e : ∀ j, j < 7 → τ (y + j) = σ (y + j)) : NmS A x τ y := by
  obtain ⟨v, l, n, h1, h2, h3, h4⟩ := h
  refine ⟨v, l, n, h1, ?_, h3, fun j hj => ?_⟩
  · have := e 0 (by omega)
    rw [Nat.add_zero] at this
    rw [this]; exact h2
  · have := e (1 + j) (by omega)
    rw [← Nat.add_assoc] at this
    rw [this]
    exact h4 j hj
theorem NmS.sp (hz : Zk A) (h : NmS A x σ y) (hP : StP A D) (hG : ∀ y, y < A.z → D.G y = A.G y) : NmS D x σ y := by
  obtain ⟨u, l, m, h1, h2, ⟨h3, h4, h5⟩, h6⟩ := h
  exact ⟨u, l, m, hP _ _ _ _ h1, h2, ⟨h3, h4, by rw [hG u (h1.zl hz).2]; exact h5⟩, h6⟩
theorem nm_to (hz : Zk A) (h : NmK A d σ) (hP : StP A D) (hG : ∀ y, y < A.z → D.G y = A.G y) (hR1 : ∀ k, k < rK σ → D.R (d2 (30 + k)) 0 = A.R (d (30 + k)) 0) (hR2 : ∀ r, r < rG σ → D.R (d2 (40 + r)) 0 = A.R (d (40 + r)) 0) (eK : rK τ = rK σ) (eG : rG τ = rG σ) (k6 : rK σ ≤ 6) (g6 : rG σ ≤ 6) (e : ∀ j, NmP j → τ j = σ j) : NmK D d2 τ := by
  refine ⟨fun k hk => ?_, fun r hr => ?_⟩
  · obtain ⟨nm, h1, h2⟩ := h.1 k (by omega)
    exact ⟨nm, by rw [hR1 k (by omega)]; exact h1, (h2.cg fun j hj => e _ (Or.inr (by omega))).sp hz hP hG⟩
  · obtain ⟨nm, h1, h2⟩ := h.2 r (by omega)
    exact ⟨nm, by rw [hR2 r (by omega)]; exact h1, (h2.cg fun j hj => e _ (Or.inl (by omega))).sp hz hP hG⟩
theorem LwB.wl {z0 : Nat} (h : LwB g A z0 a d σ) : WLn A a d (bs σ) := by
  have eK : rK (bs σ) = rK σ := by unfold rK; rw [bs_x (by decide)]
  have eG : rG (bs σ) = rG σ := by unfold rG; rw [bs_x (by decide)]
  have eC : rC (bs σ) = rC σ := by unfold rC rW rH; rw [bs_x (by decide), bs_x (by decide)]
  have h70 := h.1.2.2.2.2.1
  have p1 := h.2.1.1.2.2.2.1
  have p2 := h.2.1.2.1.2.2.2.1
  refine ⟨⟨by show Ly0 A.G A.R A.n a d (rC (bs σ)) (rK (bs σ)) (rG (bs σ)); rw [eK, eG, eC]; exact h.L, h.v, fun k hk => ?_, fun r hr => ?_⟩, ?_, ?_⟩
  · obtain ⟨nm, h1, h2⟩ := h.1.2.2.1.1 k (by omega)
    exact ⟨nm, h1, h2.cg fun j hj => bs_x (by omega)⟩
  · obtain ⟨nm, h1, h2⟩ := h.1.2.2.1.2 r (by omega)
    exact ⟨nm, h1, h2.cg fun j hj => bs_x (by omega)⟩
  · rcases p1 with ⟨-, q⟩ | ⟨q, -⟩
    · rw [q, h70]; decide
    · rw [q]; show (501 : Nat) ≠ 502; decide
  · rcases p2 with ⟨-, q⟩ | ⟨q, -⟩
    · rw [q, h70]; decide
    · rw [q]; show (501 : Nat) ≠ 502; decide
/-- a copy of a lawn, changed -/
theorem WLn.cp (h : WLn A a d σ) (hz : Zk A) (hZo : Zo A) (hCp : Cp A B w d d2 σ) (hN : Nx B D w d2 ρ) (eK : rK ρ = rK σ) (eG : rG ρ = rG σ) (k6 : rK σ ≤ 6) (g6 : rG σ ≤ 6) (e : ∀ j, NmP j → ρ j = σ j) : WLn D w d2 ρ := by
  have hG := cp_gw hZo hCp hN
  have hL := h.1.1
  have eR : D.R = B.R := hN.2.2.2.1
  have eGG : D.G = B.G := hN.2.2.1
  have e23 : d2 23 = d 23 := hCp.2.2.2.2.1 23 (by omega)
  refine ⟨⟨hN.1, hN.2.1, nm_to hz h.1.2.2 (StP.no hz hG) (fun y hy => (hG.2 y hy).1) (fun k hk => ?_) (fun r hr => ?_) eK eG k6 g6 e⟩, ?_, ?_⟩
  · rw [eR]; exact hCp.2.2.2.2.2.1 k hk
  · rw [hCp.2.2.2.2.1 _ (by omega)]
    exact congrFun ((hG.2 _ (fp_lt hz hL (Or.inr (Or.inr (Or.inr (Or.inr ⟨r, hr, rfl⟩)))))).2.2 (fun q => q)).2.2 0
  · rw [eGG]; exact hCp.2.2.2.2.2.2
  · rw [e23, (hG.2 _ (fp_lt hz hL (y := d 23) (Or.inr (Or.inr (Or.inl (by simp)))))).1]; exact h.2.2
end
theorem chg_nm {ρ : Rw} (h : RowN ρ) {x : Chg} {j : Nat} (hj : NmP j) : (x.C ρ).2 j = ρ j := by
  unfold NmP at hj
  unfold Chg.C
  split
  · unfold runC
    split
    · exact (daysR_keep h.1.w h.1.y _ (by omega)).1 j (by unfold Stat; omega)
    · rfl
  · unfold fenceC
    split
    · exact fenceS_o (by omega)
    · rfl
  · unfold openC
    split
    · exact openS_o (by omega)
    · rfl
  · unfold paveC
    split
    · split
      · rfl
      · exact paveS_o (by omega)
    · rfl
  · unfold sowC
    split
    · split
      · rfl
      · show sowS ρ x.2.1 j = ρ j
        unfold sowS sow1
        rw [pk_un (by omega), pk_un (by omega)]
    · rfl
  · unfold hasteC
    split
    · rfl
    · exact pk_un (by omega)
  · exact turnS_o (by omega) (by omega)
  · rfl
theorem doC_nm {χ : Nat → Chg} {σ : Rw} : ∀ (n i : Nat) (ρ : Rw), RowN ρ → (∀ j, (j = 0 ∨ j = 1 ∨ j = 4 ∨ j = 5) → ρ j = σ j) → (∀ j, i ≤ j → j < i + n → (χ j).ok σ) → ∀ j, NmP j → (doC χ n i ρ).2 j = ρ j
  | 0, _, _, _, _, _, _, _ => rfl
  | n + 1, i, ρ, hN, e, hok, j, hj => by
    show (if ((χ i).C ρ).1 < 0 then (i, ρ) else doC χ n (i + 1) ((χ i).C ρ).2).2 j = ρ j
    split
    · rfl
    · have hok1 : (χ i).ok ρ := ok_st e (hok i (Nat.le_refl _) (by omega))
      rw [doC_nm n (i + 1) _ (chg_N hN hok1) (fun k hk => (chg_g hN hk).trans (e k hk)) (fun k h1 h2 => hok k (by omega) (by omega)) j hj]
      exact chg_nm hN hj
