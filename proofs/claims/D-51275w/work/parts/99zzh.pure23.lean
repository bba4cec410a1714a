/-! PURE: a walker's line, step by step -/
set_option maxRecDepth 100000
theorem allD_c {f h : Nat → Bool} : ∀ n, (∀ k, k < n → f k = h k) → allD f n = allD h n
  | 0, _ => rfl
  | n + 1, e => by
    show (allD f n && f n) = (allD h n && h n)
    rw [allD_c n (fun k hk => e k (by omega)), e n (by omega)]
theorem firstB_c {f h : Nat → Bool} : ∀ n, (∀ k, k < n → f k = h k) → firstB f n = firstB h n
  | 0, _ => rfl
  | n + 1, e => by
    show (match firstB f n with | some k => some k | none => if f n then some n else none) = (match firstB h n with | some k => some k | none => if h n then some n else none)
    rw [firstB_c n (fun k hk => e k (by omega)), e n (by omega)]
section
variable {B : Nat → Nat} {L : Nat} {σ τ : Rw} {s : TS}
theorem nmB_c {f p w : Nat} (e : ∀ j, f ≤ j → j ≤ f + w → τ j = σ j) : nmB τ B f p w = nmB σ B f p w := by
  unfold nmB
  rw [e f (Nat.le_refl _) (by omega), allD_c w (fun k hk => by rw [e (f + 1 + k) (by omega) (by omega)])]
/-- gates' names are found alike in rows that agree as far as the gates go -/
theorem fndR_c {a : Nat} {but : Int32} (g6 : rG σ ≤ 6) (e : ∀ j, j < 75 → j ≠ 1 → τ j = σ j) : fndR τ B L a True but = fndR σ B L a True but := by
  have eG : rG τ = rG σ := congrArg Int32.toNatClampNeg (e 0 (by decide) (by decide))
  unfold fndR
  cases hn : namR B L a with
  | inl x => rfl
  | inr p =>
    have h6 := nam_r hn
    dsimp only
    have hh : hereR τ B True p (wln B L p) = hereR σ B True p (wln B L p) := by
      show hereG τ B p (wln B L p) = hereG σ B p (wln B L p)
      unfold hereG
      rw [eG]
      refine firstB_c _ (fun r hr => nmB_c (fun j h1 h2 => e j ?_ (by omega)))
      rw [h6.1] at h2
      omega
    rw [hh]
theorem here_g {p w k : Nat} (h : hereR σ B True p w = some k) : k < rG σ := by
  unfold hereR at h
  rw [if_pos trivial] at h
  unfold hereG at h
  exact (firstB_lt h).1
/-- what a walker's line reads, as far as it goes well -/
theorem walk_1 (h0 : s.e = 0) (k6 : rK σ < 6) (hw : 1 ≤ wln B L (skp B L s.a)) : k0 σ (nextS B L s) = nextS B L s ∧ (kS1 σ (nextS B L s)).e = 0 ∧ (kS1 σ (nextS B L s)).a = nxE B L s.a ∧ walkS σ B L (nextS B L s) = kS6 σ B L (nextS B L s) ∧ walkW σ B L (nextS B L s) = kW6 σ B L (nextS B L s) := by
  have e0 : k0 σ (nextS B L s) = nextS B L s := mustS_1 k6
  refine ⟨e0, by unfold kS1; rw [e0]; exact h0, by unfold kS1; rw [e0]; exact goes_nx hw, if_pos (by rw [e0]; exact h0), if_pos (by rw [e0]; exact h0)⟩
theorem walk_2 {p2 : Nat} (h0 : s.e = 0) (k6 : rK σ < 6) (hw : 1 ≤ wln B L (skp B L s.a)) (h1 : newR σ B L (nxE B L s.a) False = .inr p2) : (kS2 σ B L (nextS B L s)).e = 0 ∧ (kS2 σ B L (nextS B L s)).a = p2 := by
  obtain ⟨a1, a2, a3, a4, a5⟩ := walk_1 (B := B) (L := L) (σ := σ) h0 k6 hw
  exact newS_r (q := False) a2 (by rw [a3]; exact h1)
theorem kW1_c {j : Nat} (h : j < 75) (_ : j ≠ 1) : kW1 σ B L s j = σ j := kW1_x h
theorem kW2_c {j : Nat} (h : j < 75) (_ : j ≠ 1) : kW2 σ B L s j = σ j := kW2_x h
theorem walk_3 {p2 p3 k : Nat} (g6 : rG σ ≤ 6) (h0 : s.e = 0) (k6 : rK σ < 6) (hw : 1 ≤ wln B L (skp B L s.a)) (h1 : newR σ B L (nxE B L s.a) False = .inr p2) (h2 : fndR σ B L p2 True (-1) = .inr (k, p3)) : (kS3 σ B L (nextS B L s)).e = 0 ∧ (kS3 σ B L (nextS B L s)).a = p3 ∧ kFr σ B L (nextS B L s) = k := by
  obtain ⟨b1, b2⟩ := walk_2 h0 k6 hw h1
  exact fndS_r (q := True) (σ := kW1 σ B L (nextS B L s)) b1 (by rw [b2, fndR_c g6 (fun j h h' => kW1_c h h')]; exact h2)
theorem walk_4 {p2 p3 p4 k m : Nat} (g6 : rG σ ≤ 6) (h0 : s.e = 0) (k6 : rK σ < 6) (hw : 1 ≤ wln B L (skp B L s.a)) (h1 : newR σ B L (nxE B L s.a) False = .inr p2) (h2 : fndR σ B L p2 True (-1) = .inr (k, p3)) (h3 : fndR σ B L p3 True (nI k) = .inr (m, p4)) : (kS4 σ B L (nextS B L s)).e = 0 ∧ (kS4 σ B L (nextS B L s)).a = p4 ∧ kTo σ B L (nextS B L s) = m := by
  obtain ⟨c1, c2, c3⟩ := walk_3 g6 h0 k6 hw h1 h2
  exact fndS_r (q := True) (σ := kW2 σ B L (nextS B L s)) c1 (by rw [c2, c3, fndR_c g6 (fun j h h' => kW2_c h h')]; exact h3)
theorem walk_5 {p2 p3 p4 p5 k m v : Nat} (g6 : rG σ ≤ 6) (h0 : s.e = 0) (k6 : rK σ < 6) (hw : 1 ≤ wln B L (skp B L s.a)) (h1 : newR σ B L (nxE B L s.a) False = .inr p2) (h2 : fndR σ B L p2 True (-1) = .inr (k, p3)) (h3 : fndR σ B L p3 True (nI k) = .inr (m, p4)) (h4 : numR B L p4 0 9 = .inr (v, p5)) : (kS5 σ B L (nextS B L s)).e = 0 ∧ (kS5 σ B L (nextS B L s)).a = p5 ∧ numN B L 0 9 (kS4 σ B L (nextS B L s)) = v := by
  obtain ⟨d1, d2, d3⟩ := walk_4 g6 h0 k6 hw h1 h2 h3
  exact numS_r d1 (by rw [d2]; exact h4)
theorem walk_6 {p2 p3 p4 p5 p6 k m v u : Nat} (g6 : rG σ ≤ 6) (h0 : s.e = 0) (k6 : rK σ < 6) (hw : 1 ≤ wln B L (skp B L s.a)) (h1 : newR σ B L (nxE B L s.a) False = .inr p2) (h2 : fndR σ B L p2 True (-1) = .inr (k, p3)) (h3 : fndR σ B L p3 True (nI k) = .inr (m, p4)) (h4 : numR B L p4 0 9 = .inr (v, p5)) (h5 : numR B L p5 1 9 = .inr (u, p6)) : (walkS σ B L (nextS B L s)).e = 0 ∧ (walkS σ B L (nextS B L s)).a = p6 ∧ walkW σ B L (nextS B L s) = kW6 σ B L (nextS B L s) ∧ WalkP σ (kW6 σ B L (nextS B L s)) k m v u := by
  obtain ⟨a1, a2, a3, a4, a5⟩ := walk_1 (B := B) (L := L) (σ := σ) h0 k6 hw
  obtain ⟨c1, c2, c3⟩ := walk_3 g6 h0 k6 hw h1 h2
  obtain ⟨d1, d2, d3⟩ := walk_4 g6 h0 k6 hw h1 h2 h3
  obtain ⟨e1, e2, e3⟩ := walk_5 g6 h0 k6 hw h1 h2 h3 h4
  obtain ⟨f1, f2, f3⟩ := numS_r (B := B) (L := L) (lo := 1) (hi := 9) e1 (by rw [e2]; exact h5)
  have hP := kW6_P (σ := σ) (B := B) (L := L) (s := nextS B L s)
  rw [c3, d3, e3, f3] at hP
  rw [a4]
  exact ⟨f1, f2, a5, hP⟩
/-- an error in a walker's line -/
def WkX (σ : Rw) (B : Nat → Nat) (L : Nat) (s : TS) (e p : Nat) : Prop := (walkS σ B L (nextS B L s)).e = e ∧ (walkS σ B L (nextS B L s)).p = nI p ∧ ¬ e = 0
theorem walk_x0 (h0 : s.e = 0) (k6 : ¬ rK σ < 6) : WkX σ B L s 4 (skp B L s.a) := by
  have e0 : (k0 σ (nextS B L s)).e = 4 ∧ (k0 σ (nextS B L s)).p = nI (nextS B L s).g := must_n k6 (show (nextS B L s).e = 0 from h0)
  have f1 : walkS σ B L (nextS B L s) = k0 σ (nextS B L s) := if_neg (by rw [e0.1]; decide)
  unfold WkX
  rw [f1]
  exact ⟨e0.1, e0.2, by decide⟩
theorem walk_xe (hS : walkS σ B L (nextS B L s) = kS6 σ B L (nextS B L s)) {e p : Nat} (h : ((kS2 σ B L (nextS B L s)).e = e ∧ (kS2 σ B L (nextS B L s)).p = nI p ∧ ¬ e = 0) ∨ ((kS3 σ B L (nextS B L s)).e = e ∧ (kS3 σ B L (nextS B L s)).p = nI p ∧ ¬ e = 0) ∨ ((kS4 σ B L (nextS B L s)).e = e ∧ (kS4 σ B L (nextS B L s)).p = nI p ∧ ¬ e = 0) ∨ ((kS5 σ B L (nextS B L s)).e = e ∧ (kS5 σ B L (nextS B L s)).p = nI p ∧ ¬ e = 0) ∨ ((kS6 σ B L (nextS B L s)).e = e ∧ (kS6 σ B L (nextS B L s)).p = nI p ∧ ¬ e = 0)) : WkX σ B L s e p := by
  have t6 : ((kS6 σ B L (nextS B L s)).e = e ∧ (kS6 σ B L (nextS B L s)).p = nI p ∧ ¬ e = 0) → WkX σ B L s e p := fun q => by
    unfold WkX
    rw [hS]
    exact q
  have t5 : ((kS5 σ B L (nextS B L s)).e = e ∧ (kS5 σ B L (nextS B L s)).p = nI p ∧ ¬ e = 0) → WkX σ B L s e p := fun q => t6 (by
    have e1 : kS6 σ B L (nextS B L s) = kS5 σ B L (nextS B L s) := numS_k (by rw [q.1]; exact q.2.2)
    rw [e1]; exact q)
  have t4 : ((kS4 σ B L (nextS B L s)).e = e ∧ (kS4 σ B L (nextS B L s)).p = nI p ∧ ¬ e = 0) → WkX σ B L s e p := fun q => t5 (by
    have e1 : kS5 σ B L (nextS B L s) = kS4 σ B L (nextS B L s) := numS_k (by rw [q.1]; exact q.2.2)
    rw [e1]; exact q)
  have t3 : ((kS3 σ B L (nextS B L s)).e = e ∧ (kS3 σ B L (nextS B L s)).p = nI p ∧ ¬ e = 0) → WkX σ B L s e p := fun q => t4 (by
    have e1 : kS4 σ B L (nextS B L s) = kS3 σ B L (nextS B L s) := fndS_k (by rw [q.1]; exact q.2.2)
    rw [e1]; exact q)
  have t2 : ((kS2 σ B L (nextS B L s)).e = e ∧ (kS2 σ B L (nextS B L s)).p = nI p ∧ ¬ e = 0) → WkX σ B L s e p := fun q => t3 (by
    have e1 : kS3 σ B L (nextS B L s) = kS2 σ B L (nextS B L s) := fndS_k (by rw [q.1]; exact q.2.2)
    rw [e1]; exact q)
  rcases h with h | h | h | h | h
  · exact t2 h
  · exact t3 h
  · exact t4 h
  · exact t5 h
  · exact t6 h
theorem walk_x1 {e p : Nat} (h0 : s.e = 0) (k6 : rK σ < 6) (hw : 1 ≤ wln B L (skp B L s.a)) (h1 : newR σ B L (nxE B L s.a) False = .inl (e, p)) : WkX σ B L s e p := by
  obtain ⟨a1, a2, a3, a4, a5⟩ := walk_1 (B := B) (L := L) (σ := σ) h0 k6 hw
  exact walk_xe a4 (Or.inl (newS_l (q := False) a2 (by rw [a3]; exact h1)))
theorem walk_x2 {p2 e p : Nat} (g6 : rG σ ≤ 6) (h0 : s.e = 0) (k6 : rK σ < 6) (hw : 1 ≤ wln B L (skp B L s.a)) (h1 : newR σ B L (nxE B L s.a) False = .inr p2) (h2 : fndR σ B L p2 True (-1) = .inl (e, p)) : WkX σ B L s e p := by
  obtain ⟨a1, a2, a3, a4, a5⟩ := walk_1 (B := B) (L := L) (σ := σ) h0 k6 hw
  obtain ⟨b1, b2⟩ := walk_2 h0 k6 hw h1
  exact walk_xe a4 (Or.inr (Or.inl (fndS_l (q := True) (σ := kW1 σ B L (nextS B L s)) b1 (by rw [b2, fndR_c g6 (fun j h h' => kW1_c h h')]; exact h2))))
theorem walk_x3 {p2 p3 k e p : Nat} (g6 : rG σ ≤ 6) (h0 : s.e = 0) (k6 : rK σ < 6) (hw : 1 ≤ wln B L (skp B L s.a)) (h1 : newR σ B L (nxE B L s.a) False = .inr p2) (h2 : fndR σ B L p2 True (-1) = .inr (k, p3)) (h3 : fndR σ B L p3 True (nI k) = .inl (e, p)) : WkX σ B L s e p := by
  obtain ⟨a1, a2, a3, a4, a5⟩ := walk_1 (B := B) (L := L) (σ := σ) h0 k6 hw
  obtain ⟨c1, c2, c3⟩ := walk_3 g6 h0 k6 hw h1 h2
  exact walk_xe a4 (Or.inr (Or.inr (Or.inl (fndS_l (q := True) (σ := kW2 σ B L (nextS B L s)) c1 (by rw [c2, c3, fndR_c g6 (fun j h h' => kW2_c h h')]; exact h3)))))
theorem walk_x4 {p2 p3 p4 k m e p : Nat} (g6 : rG σ ≤ 6) (h0 : s.e = 0) (k6 : rK σ < 6) (hw : 1 ≤ wln B L (skp B L s.a)) (h1 : newR σ B L (nxE B L s.a) False = .inr p2) (h2 : fndR σ B L p2 True (-1) = .inr (k, p3)) (h3 : fndR σ B L p3 True (nI k) = .inr (m, p4)) (h4 : numR B L p4 0 9 = .inl (e, p)) : WkX σ B L s e p := by
  obtain ⟨a1, a2, a3, a4, a5⟩ := walk_1 (B := B) (L := L) (σ := σ) h0 k6 hw
  obtain ⟨d1, d2, d3⟩ := walk_4 g6 h0 k6 hw h1 h2 h3
  exact walk_xe a4 (Or.inr (Or.inr (Or.inr (Or.inl (numS_l d1 (by rw [d2]; exact h4))))))
theorem walk_x5 {p2 p3 p4 p5 k m v e p : Nat} (g6 : rG σ ≤ 6) (h0 : s.e = 0) (k6 : rK σ < 6) (hw : 1 ≤ wln B L (skp B L s.a)) (h1 : newR σ B L (nxE B L s.a) False = .inr p2) (h2 : fndR σ B L p2 True (-1) = .inr (k, p3)) (h3 : fndR σ B L p3 True (nI k) = .inr (m, p4)) (h4 : numR B L p4 0 9 = .inr (v, p5)) (h5 : numR B L p5 1 9 = .inl (e, p)) : WkX σ B L s e p := by
  obtain ⟨a1, a2, a3, a4, a5⟩ := walk_1 (B := B) (L := L) (σ := σ) h0 k6 hw
  obtain ⟨e1, e2, e3⟩ := walk_5 g6 h0 k6 hw h1 h2 h3 h4
  exact walk_xe a4 (Or.inr (Or.inr (Or.inr (Or.inr (numS_l e1 (by rw [e2]; exact h5))))))
/-- a walker's line keeps what holds of a row under description -/
theorem walk_D (hD : Dj σ) (hN : NF σ) (hG : 0 < rG σ) (h : (walkS σ B L (nextS B L s)).e = 0) : Dj (walkW σ B L (nextS B L s)) ∧ NF (walkW σ B L (nextS B L s)) ∧ rG (walkW σ B L (nextS B L s)) = rG σ ∧ rK (walkW σ B L (nextS B L s)) = rK σ + 1 ∧ ∀ c, walkW σ B L (nextS B L s) (153 + 5 * c + 0) = σ (153 + 5 * c + 0) := by
  have e0 : (k0 σ (nextS B L s)).e = 0 := by
    by_cases q : (k0 σ (nextS B L s)).e = 0
    · exact q
    · have f1 : walkS σ B L (nextS B L s) = k0 σ (nextS B L s) := if_neg q
      rw [f1] at h
      exact absurd h q
  have k6 := k0_lt e0
  have e1 : walkW σ B L (nextS B L s) = kW6 σ B L (nextS B L s) := if_pos e0
  have hP := kW6_P (σ := σ) (B := B) (L := L) (s := nextS B L s)
  have hV : RowW (kW6 σ B L (nextS B L s)) := kW6_w hD.1.w k6 hG
  obtain ⟨d1, d2⟩ := walk_J hD hV hN k6 hP
  rw [e1]
  exact ⟨d1, d2, congrArg Int32.toNatClampNeg (hP.2.2 0 (by omega) (by omega)), (congrArg Int32.toNatClampNeg hP.1).trans (nI_nat (by omega)), fun c => hP.2.2 _ (by omega) (by omega)⟩
theorem walk_nm {g : GZ} {A : HA} {nm v p2 : Nat} {s : TS} (h0 : (kS1 σ s).e = 0) (h1 : newR σ B L (kS1 σ s).a False = .inr p2) (hw : WrS g A nm v (fun i => B (skp B L (kS1 σ s).a + i)) (wln B L (skp B L (kS1 σ s).a))) (h6 : 1 ≤ wln B L (skp B L (kS1 σ s).a) ∧ wln B L (skp B L (kS1 σ s).a) ≤ 6) : NmS A nm (kW6 σ B L s) (75 + 13 * rK σ) := by
  obtain ⟨e0, e1⟩ := newW_nm (f := 75 + 13 * rK σ) h0 h1
  refine nms_mk hw h6 ((kW6_n (j := 0) (by omega)).trans e0) (fun j hj => ?_)
  have h9 := kW6_n (σ := σ) (B := B) (L := L) (s := s) (j := 1 + j) (by omega)
  rw [show 75 + 13 * rK σ + (1 + j) = 75 + 13 * rK σ + 1 + j by omega] at h9
  rw [h9]
  exact e1 j hj
end
theorem fnd_nx {σ : Rw} {B : Nat → Nat} {L a k a' : Nat} {q : Prop} [Decidable q] {but : Int32} (h : fndR σ B L a q but = .inr (k, a')) : a + 1 ≤ a' := by
  have h1 := fnd_p h
  have h2 := @skp_ge B L a
  omega
