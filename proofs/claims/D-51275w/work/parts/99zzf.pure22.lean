/-! PURE: lines of a description, step by step -/
set_option maxRecDepth 100000
section
variable {B : Nat → Nat} {L : Nat} {σ : Rw} {s : TS}
/-- kinds of a lawn without stones -/
def K02 (σ : Rw) : Prop := ∀ c, c < 80 → σ (153 + 5 * c + 0) = 0 ∨ σ (153 + 5 * c + 0) = nI 2
theorem nI2_0 : ¬ (nI 2 : Int32) = 0 := by decide
theorem numS_g {lo hi : Nat} (h0 : s.e = 0) : (numS B L lo hi s).g = skp B L s.a := by
  unfold numS
  rw [if_pos h0]
  rfl
theorem gW6_P (g6 : rG σ < 6) : GateP σ (gW6 σ B L s) (gCe σ B L s) := by
  have ww1 : rW (gW1 σ B L s) = rW σ := congrArg Int32.toNatClampNeg (gW1_x (by omega))
  have ww2 : rW (gW2 σ B L s) = rW σ := congrArg Int32.toNatClampNeg (gW2_x (by omega))
  refine ⟨⟨pk_us, (pk_un (by omega)).trans ((pk_un (by omega)).trans pk_us), (pk_un (by omega)).trans pk_us⟩, ⟨?_, ?_⟩, fun j h0 h1 h2 h3 => ?_⟩
  · refine (pk_un (by omega)).trans ((pk_un (by omega)).trans ((pk_un (by omega)).trans ((pk_un (by omega)).trans (pk_us.trans ?_))))
    rw [ww1]
  · refine (pk_un (by omega)).trans ((pk_un (by omega)).trans ((pk_un (by omega)).trans (pk_us.trans ?_)))
    rw [ww2]
  · exact (pk_un h0).trans ((pk_un h2).trans ((pk_un h1).trans ((pk_un (by omega)).trans ((pk_un (by omega)).trans (newW_x (by omega))))))
theorem kW6_P : WalkP σ (kW6 σ B L s) (kFr σ B L s) (kTo σ B L s) (numN B L 0 9 (kS4 σ B L s)) (numN B L 1 9 (kS5 σ B L s)) := by
  refine ⟨pk_us, ⟨?_, ?_, ?_, ?_⟩, fun j h0 h1 => ?_⟩
  · exact (pk_un (by omega)).trans ((pk_un (by omega)).trans ((pk_un (by omega)).trans ((pk_un (by omega)).trans pk_us)))
  · exact (pk_un (by omega)).trans ((pk_un (by omega)).trans ((pk_un (by omega)).trans pk_us))
  · exact (pk_un (by omega)).trans ((pk_un (by omega)).trans pk_us)
  · exact (pk_un (by omega)).trans pk_us
  · exact (pk_un h0).trans ((pk_un (by omega)).trans ((pk_un (by omega)).trans ((pk_un (by omega)).trans ((pk_un (by omega)).trans (newW_x (by omega))))))
/-- a name that was put -/
theorem nmPut_f {f p w : Nat} : ∀ k, nmPut σ B f p w k f = nI w
  | 0 => pk_us
  | k + 1 => (pk_un (by omega)).trans (nmPut_f k)
theorem nmPut_v {f p w j : Nat} : ∀ k, j < k → nmPut σ B f p w k (f + 1 + j) = nI (B (p + j))
  | 0, h => absurd h (Nat.not_lt_zero _)
  | k + 1, h => by
    by_cases q : j = k
    · rw [q]; exact pk_us
    · exact (pk_un (by omega)).trans (nmPut_v k (by omega))
theorem newW_nm {q : Prop} [Decidable q] {f a' : Nat} (h0 : s.e = 0) (h : newR σ B L s.a q = .inr a') : newW σ B L q f s f = nI (wln B L (skp B L s.a)) ∧ ∀ j, j < wln B L (skp B L s.a) → newW σ B L q f s (f + 1 + j) = nI (B (skp B L s.a + j)) := by
  have e : newW σ B L q f s = nmPut σ B f (skp B L s.a) (wln B L (skp B L s.a)) (wln B L (skp B L s.a)) := by
    unfold newW
    rw [if_pos h0, h]
    exact if_pos rfl
  rw [e]
  exact ⟨nmPut_f _, fun j hj => nmPut_v _ hj⟩
theorem nms_mk {g : GZ} {A : HA} {nm v o p : Nat} {τ : Rw} (hw : WrS g A nm v (fun i => B (p + i)) (wln B L p)) (h1 : 1 ≤ wln B L p ∧ wln B L p ≤ 6) (e0 : τ o = nI (wln B L p)) (e1 : ∀ j, j < wln B L p → τ (o + 1 + j) = nI (B (p + j))) : NmS A nm τ o :=
  ⟨v, _, _, hw.1, e0, ⟨h1.1, h1.2, Or.inr hw.2.2.1⟩, fun j hj => ⟨e1 j hj, by
    have h2 : isLe (B (p + j)) = true := runF_in _ _ _ hj
    exact of_decide_eq_true h2⟩⟩
/-- an error that was there stays -/
theorem cellS_k (h : ¬ s.e = 0) : cellS σ B L s = s := by
  unfold cellS
  rw [numS_k h, numS_k h]
/-- what a gate's line reads, where all goes well -/
theorem gate_ok {p2 p3 p4 x y : Nat} (h0 : s.e = 0) (g6 : rG σ < 6) (hw : 1 ≤ wln B L (skp B L s.a)) (h1 : newR σ B L (nxE B L s.a) True = .inr p2) (h2 : numR B L p2 0 (rW σ - 1) = .inr (x, p3)) (h3 : numR B L p3 0 (rH σ - 1) = .inr (y, p4)) :
    (g0 σ (nextS B L s)).e = 0 ∧ (gS1 σ (nextS B L s)).e = 0 ∧ (gS1 σ (nextS B L s)).a = nxE B L s.a ∧ gCe σ B L (nextS B L s) = rW σ * y + x ∧ (cellS (gW1 σ B L (nextS B L s)) B L (gS2 σ B L (nextS B L s))).e = 0 ∧ (cellS (gW1 σ B L (nextS B L s)) B L (gS2 σ B L (nextS B L s))).a = p4 ∧ (cellS (gW1 σ B L (nextS B L s)) B L (gS2 σ B L (nextS B L s))).g = skp B L p3 := by
  have e0 : g0 σ (nextS B L s) = nextS B L s := mustS_1 g6
  have e1 : (gS1 σ (nextS B L s)).e = 0 := by unfold gS1; rw [e0]; exact h0
  have e2 : (gS1 σ (nextS B L s)).a = nxE B L s.a := by unfold gS1; rw [e0]; exact goes_nx hw
  obtain ⟨i1, i2⟩ := newS_r (q := True) e1 (by rw [e2]; exact h1)
  have ww : rW (gW1 σ B L (nextS B L s)) = rW σ := congrArg Int32.toNatClampNeg (gW1_x (by omega))
  have wh : rH (gW1 σ B L (nextS B L s)) = rH σ := congrArg Int32.toNatClampNeg (gW1_x (by omega))
  obtain ⟨j1, j2, j3⟩ := numS_r (s := gS2 σ B L (nextS B L s)) (lo := 0) (hi := rW σ - 1) i1 (by show numR B L (newS σ B L True (gS1 σ (nextS B L s))).a 0 (rW σ - 1) = _; rw [i2]; exact h2)
  obtain ⟨k1, k2, k3⟩ := numS_r (lo := 0) (hi := rH σ - 1) j1 (by rw [j2]; exact h3)
  refine ⟨by rw [e0]; exact h0, e1, e2, ?_, ?_, ?_, ?_⟩
  · unfold gCe cellN
    rw [ww, wh, j3, k3, Nat.mul_comm]
  · unfold cellS
    rw [ww, wh]
    exact k1
  · unfold cellS
    rw [ww, wh]
    exact k2
  · unfold cellS
    rw [ww, wh]
    exact (numS_g j1).trans (by rw [j2])
theorem gate_S {p2 p3 p4 x y : Nat} (h0 : s.e = 0) (g6 : rG σ < 6) (hw : 1 ≤ wln B L (skp B L s.a)) (h1 : newR σ B L (nxE B L s.a) True = .inr p2) (h2 : numR B L p2 0 (rW σ - 1) = .inr (x, p3)) (h3 : numR B L p3 0 (rH σ - 1) = .inr (y, p4)) (hk : ¬ σ (153 + 5 * (rW σ * y + x) + 0) = nI 2) :
    (gateS σ B L (nextS B L s)).e = 0 ∧ (gateS σ B L (nextS B L s)).a = p4 ∧ gateW σ B L (nextS B L s) = gW6 σ B L (nextS B L s) := by
  obtain ⟨a1, a2, a3, a4, a5, a6, a7⟩ := gate_ok h0 g6 hw h1 h2 h3
  have e1 : gateS σ B L (nextS B L s) = gS3 σ B L (nextS B L s) := if_pos a1
  have e2 : gS3 σ B L (nextS B L s) = cellS (gW1 σ B L (nextS B L s)) B L (gS2 σ B L (nextS B L s)) := mustS_1 (by
    rw [a4, show gW1 σ B L (nextS B L s) (153 + 5 * (rW σ * y + x) + 0) = σ (153 + 5 * (rW σ * y + x) + 0) from newW_x (by omega)]
    exact hk)
  rw [e1, e2]
  exact ⟨a5, a6, if_pos a1⟩
/-- what a gate's line reads, where it has an error -/
theorem gate_x3 {p2 p3 p4 x y : Nat} (h0 : s.e = 0) (g6 : rG σ < 6) (hw : 1 ≤ wln B L (skp B L s.a)) (h1 : newR σ B L (nxE B L s.a) True = .inr p2) (h2 : numR B L p2 0 (rW σ - 1) = .inr (x, p3)) (h3 : numR B L p3 0 (rH σ - 1) = .inr (y, p4)) (hk : σ (153 + 5 * (rW σ * y + x) + 0) = nI 2) :
    (gateS σ B L (nextS B L s)).e = 3 ∧ (gateS σ B L (nextS B L s)).p = nI (skp B L p3) := by
  obtain ⟨a1, a2, a3, a4, a5, a6, a7⟩ := gate_ok h0 g6 hw h1 h2 h3
  have e1 : gateS σ B L (nextS B L s) = gS3 σ B L (nextS B L s) := if_pos a1
  rw [e1, ← a7]
  refine must_n (fun q => q ?_) a5
  rw [a4, show gW1 σ B L (nextS B L s) (153 + 5 * (rW σ * y + x) + 0) = σ (153 + 5 * (rW σ * y + x) + 0) from newW_x (by omega)]
  exact hk
theorem gate_x2 {p2 p3 x e p : Nat} (h0 : s.e = 0) (g6 : rG σ < 6) (hw : 1 ≤ wln B L (skp B L s.a)) (h1 : newR σ B L (nxE B L s.a) True = .inr p2) (h : (numR B L p2 0 (rW σ - 1) = .inl (e, p)) ∨ (numR B L p2 0 (rW σ - 1) = .inr (x, p3) ∧ numR B L p3 0 (rH σ - 1) = .inl (e, p))) :
    (gateS σ B L (nextS B L s)).e = e ∧ (gateS σ B L (nextS B L s)).p = nI p ∧ ¬ e = 0 := by
  have e0 : g0 σ (nextS B L s) = nextS B L s := mustS_1 g6
  have e1 : (gS1 σ (nextS B L s)).e = 0 := by unfold gS1; rw [e0]; exact h0
  have e2 : (gS1 σ (nextS B L s)).a = nxE B L s.a := by unfold gS1; rw [e0]; exact goes_nx hw
  obtain ⟨i1, i2⟩ := newS_r (q := True) e1 (by rw [e2]; exact h1)
  have ww : rW (gW1 σ B L (nextS B L s)) = rW σ := congrArg Int32.toNatClampNeg (gW1_x (by omega))
  have wh : rH (gW1 σ B L (nextS B L s)) = rH σ := congrArg Int32.toNatClampNeg (gW1_x (by omega))
  have i3 : (gS2 σ B L (nextS B L s)).a = p2 := i2
  have i4 : (gS2 σ B L (nextS B L s)).e = 0 := i1
  have f1 : gateS σ B L (nextS B L s) = gS3 σ B L (nextS B L s) := if_pos (by rw [e0]; exact h0)
  have f2 : (cellS (gW1 σ B L (nextS B L s)) B L (gS2 σ B L (nextS B L s))).e = e ∧ (cellS (gW1 σ B L (nextS B L s)) B L (gS2 σ B L (nextS B L s))).p = nI p ∧ ¬ e = 0 := by
    unfold cellS
    rw [ww, wh]
    rcases h with h | ⟨h, h'⟩
    · obtain ⟨q1, q2, q3⟩ := numS_l (s := gS2 σ B L (nextS B L s)) (lo := 0) (hi := rW σ - 1) i4 (by rw [i3]; exact h)
      rw [numS_k (s := numS B L 0 (rW σ - 1) (gS2 σ B L (nextS B L s))) (by rw [q1]; exact q3)]
      exact ⟨q1, q2, q3⟩
    · obtain ⟨j1, j2, j3⟩ := numS_r (s := gS2 σ B L (nextS B L s)) (lo := 0) (hi := rW σ - 1) i4 (by rw [i3]; exact h)
      exact numS_l j1 (by rw [j2]; exact h')
  have f3 : gS3 σ B L (nextS B L s) = cellS (gW1 σ B L (nextS B L s)) B L (gS2 σ B L (nextS B L s)) := must_k (by rw [f2.1]; exact f2.2.2)
  rw [f1, f3]
  exact f2
theorem gate_x1 {e p : Nat} (h0 : s.e = 0) (g6 : rG σ < 6) (hw : 1 ≤ wln B L (skp B L s.a)) (h1 : newR σ B L (nxE B L s.a) True = .inl (e, p)) : (gateS σ B L (nextS B L s)).e = e ∧ (gateS σ B L (nextS B L s)).p = nI p ∧ ¬ e = 0 := by
  have e0 : g0 σ (nextS B L s) = nextS B L s := mustS_1 g6
  have e1 : (gS1 σ (nextS B L s)).e = 0 := by unfold gS1; rw [e0]; exact h0
  have e2 : (gS1 σ (nextS B L s)).a = nxE B L s.a := by unfold gS1; rw [e0]; exact goes_nx hw
  obtain ⟨q1, q2, q3⟩ := newS_l (q := True) e1 (by rw [e2]; exact h1)
  have f1 : gateS σ B L (nextS B L s) = gS3 σ B L (nextS B L s) := if_pos (by rw [e0]; exact h0)
  have f0 : (gS2 σ B L (nextS B L s)).e = e := q1
  have f2 : cellS (gW1 σ B L (nextS B L s)) B L (gS2 σ B L (nextS B L s)) = gS2 σ B L (nextS B L s) := cellS_k (by rw [f0]; exact q3)
  have f3 : gS3 σ B L (nextS B L s) = cellS (gW1 σ B L (nextS B L s)) B L (gS2 σ B L (nextS B L s)) := must_k (by rw [f2, f0]; exact q3)
  rw [f1, f3, f2]
  exact ⟨q1, q2, q3⟩
theorem gate_x0 (h0 : s.e = 0) (g6 : ¬ rG σ < 6) : (gateS σ B L (nextS B L s)).e = 4 ∧ (gateS σ B L (nextS B L s)).p = nI (skp B L s.a) := by
  have e0 : (g0 σ (nextS B L s)).e = 4 ∧ (g0 σ (nextS B L s)).p = nI (nextS B L s).g := must_n g6 (show (nextS B L s).e = 0 from h0)
  have f1 : gateS σ B L (nextS B L s) = g0 σ (nextS B L s) := if_neg (by rw [e0.1]; decide)
  rw [f1]
  exact e0
/-- a gate's line keeps what holds of a row under description -/
theorem gate_D (hD : Dj σ) (hN : NF σ) (hK : K02 σ) (h : (gateS σ B L (nextS B L s)).e = 0) : Dj (gateW σ B L (nextS B L s)) ∧ NF (gateW σ B L (nextS B L s)) ∧ K02 (gateW σ B L (nextS B L s)) ∧ rG (gateW σ B L (nextS B L s)) = rG σ + 1 ∧ rK (gateW σ B L (nextS B L s)) = rK σ := by
  have e0 : (g0 σ (nextS B L s)).e = 0 := by
    by_cases q : (g0 σ (nextS B L s)).e = 0
    · exact q
    · have f1 : gateS σ B L (nextS B L s) = g0 σ (nextS B L s) := if_neg q
      rw [f1] at h
      exact absurd h q
  have g6 := g0_lt e0
  have e1 : gateW σ B L (nextS B L s) = gW6 σ B L (nextS B L s) := if_pos e0
  have hP := gW6_P (B := B) (L := L) (s := nextS B L s) g6
  have hV : RowW (gW6 σ B L (nextS B L s)) := gW6_w hD.1.w g6
  have hc : gCe σ B L (nextS B L s) < rC σ := by
    have h1 : gCe σ B L (nextS B L s) < rC (gW1 σ B L (nextS B L s)) := cellN_lt (gW1_s hD.1.w.s)
    have ww : rW (gW1 σ B L (nextS B L s)) = rW σ := congrArg Int32.toNatClampNeg (gW1_x (by omega))
    have wh : rH (gW1 σ B L (nextS B L s)) = rH σ := congrArg Int32.toNatClampNeg (gW1_x (by omega))
    unfold rC at h1 ⊢
    rw [ww, wh] at h1
    exact h1
  obtain ⟨d1, d2⟩ := gate_J hD hV hN g6 hc hP
  rw [e1]
  refine ⟨d1, d2, fun c hc => ?_, hP.G g6, hP.K⟩
  by_cases q : c = gCe σ B L (nextS B L s)
  · rw [q]; exact Or.inr hP.1.2.1
  · rw [hP.cell q (v := 0) (by omega) g6]
    exact hK c hc
end
theorem gW6_n {σ : Rw} {B : Nat → Nat} {L : Nat} {s : TS} {j : Nat} (g6 : rG σ < 6) (h : j ≤ 6) : gW6 σ B L s (21 + 9 * rG σ + j) = gW1 σ B L s (21 + 9 * rG σ + j) := (pk_un (by omega)).trans ((pk_un (by omega)).trans ((pk_un (by omega)).trans ((pk_un (by omega)).trans (pk_un (by omega)))))
theorem kW6_n {σ : Rw} {B : Nat → Nat} {L : Nat} {s : TS} {j : Nat} (h : j ≤ 6) : kW6 σ B L s (75 + 13 * rK σ + j) = kW1 σ B L s (75 + 13 * rK σ + j) := (pk_un (by omega)).trans ((pk_un (by omega)).trans ((pk_un (by omega)).trans ((pk_un (by omega)).trans (pk_un (by omega)))))
theorem num_nx {B : Nat → Nat} {L a lo hi v a' : Nat} (h : numR B L a lo hi = .inr (v, a')) : a + 1 ≤ a' := by
  have h1 := num_p h
  have h2 := @skp_ge B L a
  have h3 : ¬ dln B L (skp B L a) = 0 := fun q => by
    unfold numR at h
    rw [if_pos (Or.inl q)] at h
    cases h
  omega
theorem nam_nx {B : Nat → Nat} {L a : Nat} (h : 1 ≤ wln B L (skp B L a)) : a + 1 ≤ nxE B L a := by
  have h1 := (wln_tk h).2
  have h2 := @skp_ge B L a
  unfold nxE
  omega
/-- the error of a line's part, behind which no sign is read any more -/
theorem sg_x {A F D : HA} {X Y : Nat → Prop} {B : Nat → Nat} {L q e p : Nat} {S : TS} (h : S.e = e ∧ S.p = nI p ∧ ¬ e = 0) (hU : UnX F D Y q (nI e) (nI p)) (hG : Gw A F X) (hY : ∀ y, y < A.z → Y y → X y) : ¬ (signS B L 59 S).e = 0 ∧ UnX A D X q (nI (signS B L 59 S).e) (signS B L 59 S).p := by
  rw [sgnS_k (by rw [h.1]; exact h.2.2), h.1, h.2.1]
  exact ⟨h.2.2, hU.of hG hY⟩
/-- the reader's cell and a lawn's -/
def XG (A : HA) (r l : Nat) (d : Nat → Nat) (σ : Rw) (y : Nat) : Prop := y = r ∨ LX A l d σ y
theorem gate_P {σ : Rw} {B : Nat → Nat} {L c : Nat} {s : TS} (g6 : rG σ < 6) (h : gCe σ B L s = c) : GateP σ (gW6 σ B L s) c := by
  rw [← h]
  exact gW6_P g6
theorem gate_nm {g : GZ} {A : HA} {σ : Rw} {B : Nat → Nat} {L nm v p2 : Nat} {s : TS} (g6 : rG σ < 6) (h0 : (gS1 σ s).e = 0) (h1 : newR σ B L (gS1 σ s).a True = .inr p2) (hw : WrS g A nm v (fun i => B (skp B L (gS1 σ s).a + i)) (wln B L (skp B L (gS1 σ s).a))) (h6 : 1 ≤ wln B L (skp B L (gS1 σ s).a) ∧ wln B L (skp B L (gS1 σ s).a) ≤ 6) : NmS A nm (gW6 σ B L s) (21 + 9 * rG σ) := by
  obtain ⟨e0, e1⟩ := newW_nm (f := 21 + 9 * rG σ) h0 h1
  refine nms_mk hw h6 ((gW6_n (j := 0) g6 (by omega)).trans e0) (fun j hj => ?_)
  have h9 := gW6_n (σ := σ) (B := B) (L := L) (s := s) (j := 1 + j) g6 (by omega)
  rw [show 21 + 9 * rG σ + (1 + j) = 21 + 9 * rG σ + 1 + j by omega] at h9
  rw [h9]
  exact e1 j hj
theorem lx_back {A D : HA} {l : Nat} {d : Nat → Nat} {σ : Rw} {X : Nat → Prop} (hz : Zk A) (hL : Ly A l d σ) (h : Gw A D X) {y : Nat} (q : LX D l d σ y) : LX A l d σ y := ⟨q.1, by rw [← (h.2 y (fp_lt hz hL q.1)).1]; exact q.2⟩
