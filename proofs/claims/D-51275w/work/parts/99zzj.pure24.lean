/-! PURE: a ground line, step by step -/
set_option maxRecDepth 100000
section
variable {B : Nat → Nat} {L : Nat} {σ τ : Rw} {s : TS}
theorem eqw {f : Nat → Nat} {p : Nat} {l : List Nat} (e : ∀ i, i < wln B L p → f i = B (p + i)) : EqT f (wln B L p) (chs l) l.length ↔ isWd B L p (chs l) l.length = true := (eqt_cong e).trans ⟨wd_eqt, eqt_wd⟩
theorem isWd_1 {p : Nat} {l : List Nat} (h : isWd B L p (chs l) l.length = true) (hl : 0 < l.length) : 1 ≤ wln B L p := by
  have h1 := (isWd_iff.mp h).1
  omega
theorem fe_b {x : Int32} (h : x = nI 0 ∨ x = nI 1) : x = bI (x = nI 1) := by
  rcases h with h | h
  · rw [h]; exact bI_00 (by decide)
  · rw [h]; exact bI_1 rfl
/-- a cell, free as it must be -/
theorem free_ok {a2 a3 x y : Nat} (h0 : s.e = 0) (h1 : numR B L s.a 0 (rW σ - 1) = .inr (x, a2)) (h2 : numR B L a2 0 (rH σ - 1) = .inr (y, a3)) : cellN σ B L s = rW σ * y + x ∧ (cellS σ B L s).e = 0 ∧ (cellS σ B L s).a = a3 ∧ (cellS σ B L s).g = skp B L a2 := by
  obtain ⟨j1, j2, j3⟩ := numS_r (s := s) (lo := 0) (hi := rW σ - 1) h0 h1
  obtain ⟨k1, k2, k3⟩ := numS_r (lo := 0) (hi := rH σ - 1) j1 (by rw [j2]; exact h2)
  refine ⟨?_, k1, k2, ?_⟩
  · unfold cellN
    rw [j3, k3, Nat.mul_comm]
  · exact (numS_g j1).trans (by rw [j2])
theorem free_S {a2 a3 x y : Nat} (h0 : s.e = 0) (h1 : numR B L s.a 0 (rW σ - 1) = .inr (x, a2)) (h2 : numR B L a2 0 (rH σ - 1) = .inr (y, a3)) (hp : freeP σ (rW σ * y + x)) : (freeS σ B L s).e = 0 ∧ (freeS σ B L s).a = a3 := by
  obtain ⟨e1, e2, e3, e4⟩ := free_ok h0 h1 h2
  have e5 : freeS σ B L s = cellS σ B L s := mustS_1 (by rw [e1]; exact hp)
  rw [e5]
  exact ⟨e2, e3⟩
theorem free_x3 {a2 a3 x y : Nat} (h0 : s.e = 0) (h1 : numR B L s.a 0 (rW σ - 1) = .inr (x, a2)) (h2 : numR B L a2 0 (rH σ - 1) = .inr (y, a3)) (hp : ¬ freeP σ (rW σ * y + x)) : (freeS σ B L s).e = 3 ∧ (freeS σ B L s).p = nI (skp B L a2) ∧ ¬ 3 = 0 := by
  obtain ⟨e1, e2, e3, e4⟩ := free_ok h0 h1 h2
  have e5 : (freeS σ B L s).e = 3 ∧ (freeS σ B L s).p = nI (cellS σ B L s).g := must_n (by rw [e1]; exact hp) e2
  rw [e4] at e5
  exact ⟨e5.1, e5.2, by decide⟩
theorem free_x {a2 x e p : Nat} (h0 : s.e = 0) (h : (numR B L s.a 0 (rW σ - 1) = .inl (e, p)) ∨ (numR B L s.a 0 (rW σ - 1) = .inr (x, a2) ∧ numR B L a2 0 (rH σ - 1) = .inl (e, p))) : (freeS σ B L s).e = e ∧ (freeS σ B L s).p = nI p ∧ ¬ e = 0 := by
  have f2 : (cellS σ B L s).e = e ∧ (cellS σ B L s).p = nI p ∧ ¬ e = 0 := by
    unfold cellS
    rcases h with h | ⟨h, h'⟩
    · obtain ⟨q1, q2, q3⟩ := numS_l (lo := 0) (hi := rW σ - 1) h0 h
      rw [numS_k (s := numS B L 0 (rW σ - 1) s) (by rw [q1]; exact q3)]
      exact ⟨q1, q2, q3⟩
    · obtain ⟨j1, j2, j3⟩ := numS_r (lo := 0) (hi := rW σ - 1) h0 h
      exact numS_l j1 (by rw [j2]; exact h')
  have f3 : freeS σ B L s = cellS σ B L s := must_k (by rw [f2.1]; exact f2.2.2)
  rw [f3]
  exact f2
/-- which ground line stands here -/
abbrev WdT (B : Nat → Nat) (L : Nat) (s : TS) (l : List Nat) : Prop := isWd B L (skp B L s.a) (chs l) l.length = true
theorem th_4 : WdT B L s wFence ∨ (¬ WdT B L s wFence ∧ WdT B L s wStone) ∨ (¬ WdT B L s wFence ∧ ¬ WdT B L s wStone ∧ WdT B L s wGrass) ∨ (¬ WdT B L s wFence ∧ ¬ WdT B L s wStone ∧ ¬ WdT B L s wGrass) := by
  by_cases h1 : WdT B L s wFence
  · exact Or.inl h1
  · by_cases h2 : WdT B L s wStone
    · exact Or.inr (Or.inl ⟨h1, h2⟩)
    · by_cases h3 : WdT B L s wGrass
      · exact Or.inr (Or.inr (Or.inl ⟨h1, h2, h3⟩))
      · exact Or.inr (Or.inr (Or.inr ⟨h1, h2, h3⟩))
/-- words that differ in length don't stand at one place -/
theorem wd_ne {p : Nat} {l m : List Nat} (h1 : isWd B L p (chs l) l.length = true) (h2 : isWd B L p (chs m) m.length = true) {k : Nat} (hk : k < l.length) (hd : chs l k ≠ chs m k) : False := by
  obtain ⟨a1, a2⟩ := isWd_iff.mp h1
  obtain ⟨b1, b2⟩ := isWd_iff.mp h2
  exact hd ((a2 k hk).symm.trans (b2 k (by omega)))
theorem gr_s (h0 : s.e = 0) (h : WdT B L s wStone) : grndS σ B L (nextS B L s) = stonS σ B L (nextS B L s) ∧ grndW σ B L (nextS B L s) = stonW σ B L (nextS B L s) := by
  have h1 : seesW B L wStone (nextS B L s) := sees_next.mpr ⟨h0, h⟩
  unfold grndS grndW
  rw [if_pos h1, if_pos h1, next_next]
  exact ⟨rfl, rfl⟩
theorem gr_g (h0 : s.e = 0) (h : WdT B L s wGrass) : grndS σ B L (nextS B L s) = grasS σ B L (nextS B L s) ∧ grndW σ B L (nextS B L s) = grasW σ B L (nextS B L s) := by
  have h1 : seesW B L wGrass (nextS B L s) := sees_next.mpr ⟨h0, h⟩
  have h2 : ¬ seesW B L wStone (nextS B L s) := fun q => wd_ne (sees_next.mp q).2 h (k := 0) (by decide) (by decide)
  unfold grndS grndW
  rw [if_neg h2, if_neg h2, if_pos h1, if_pos h1, next_next]
  exact ⟨rfl, rfl⟩
theorem gr_f (h0 : s.e = 0) (h : WdT B L s wFence) : grndS σ B L (nextS B L s) = fenS σ B L (nextS B L s) ∧ grndW σ B L (nextS B L s) = fenW σ B L (nextS B L s) := by
  have h1 : ¬ seesW B L wGrass (nextS B L s) := fun q => wd_ne (sees_next.mp q).2 h (k := 0) (by decide) (by decide)
  have h2 : ¬ seesW B L wStone (nextS B L s) := fun q => wd_ne (sees_next.mp q).2 h (k := 0) (by decide) (by decide)
  unfold grndS grndW
  rw [if_neg h2, if_neg h2, if_neg h1, if_neg h1, next_next]
  exact ⟨rfl, rfl⟩
/-- where a ground line ends -/
noncomputable def thE (B : Nat → Nat) (L : Nat) (s : TS) : Nat := if WdT B L s wGrass then nxE B L (nxE B L (nxE B L (nxE B L s.a))) else nxE B L (nxE B L (nxE B L s.a))
/-- an error in a ground line -/
def GdX (σ : Rw) (B : Nat → Nat) (L : Nat) (s : TS) (e p : Nat) : Prop := (grndS σ B L (nextS B L s)).e = e ∧ (grndS σ B L (nextS B L s)).p = nI p ∧ ¬ e = 0
theorem free_gx {e p : Nat} (h0 : s.e = 0) (hw : (WdT B L s wFence ∧ rF σ < 10) ∨ WdT B L s wStone ∨ WdT B L s wGrass) (h : (freeS σ B L (goesS (nextS B L s))).e = e ∧ (freeS σ B L (goesS (nextS B L s))).p = nI p ∧ ¬ e = 0) : GdX σ B L s e p := by
  unfold GdX
  rcases hw with ⟨q, q10⟩ | q | q
  · rw [(gr_f h0 q).1]
    have e0 : fen0 σ (nextS B L s) = nextS B L s := mustS_1 q10
    have e1 : fenS σ B L (nextS B L s) = freeS σ B L (goesS (nextS B L s)) := by
      unfold fenS fenT
      rw [e0, if_pos (show (nextS B L s).e = 0 from h0), if_neg (by rw [h.1]; exact h.2.2)]
    rw [e1]; exact h
  · rw [(gr_s h0 q).1]; exact h
  · rw [(gr_g h0 q).1]
    have e1 : grasS σ B L (nextS B L s) = freeS σ B L (goesS (nextS B L s)) := numS_k (by rw [h.1]; exact h.2.2)
    rw [e1]; exact h
theorem fen_x0 (h0 : s.e = 0) (h : WdT B L s wFence) (h10 : ¬ rF σ < 10) : GdX σ B L s 4 (skp B L s.a) := by
  unfold GdX
  rw [(gr_f h0 h).1]
  have e0 : (fen0 σ (nextS B L s)).e = 4 ∧ (fen0 σ (nextS B L s)).p = nI (nextS B L s).g := must_n h10 (show (nextS B L s).e = 0 from h0)
  have e1 : fenS σ B L (nextS B L s) = fen0 σ (nextS B L s) := if_neg (by rw [e0.1]; decide)
  rw [e1]
  exact ⟨e0.1, e0.2, by decide⟩
theorem fen_go (h0 : s.e = 0) (h10 : rF σ < 10) (hf : (freeS σ B L (goesS (nextS B L s))).e = 0) : fenS σ B L (nextS B L s) = mustS (ways (fen2 σ (cellN σ B L (goesS (nextS B L s))))) 3 (freeS σ B L (goesS (nextS B L s))) ∧ fenW σ B L (nextS B L s) = fen2 σ (cellN σ B L (goesS (nextS B L s))) := by
  have e0 : fen0 σ (nextS B L s) = nextS B L s := mustS_1 h10
  unfold fenS fenW fenT
  rw [e0, if_pos (show (nextS B L s).e = 0 from h0), if_pos (show (nextS B L s).e = 0 from h0), if_pos hf, if_pos hf]
  exact ⟨rfl, rfl⟩
/-- ground lines keep what holds of a row under description -/
theorem grnd_D (hD : Dj σ) (h : (grndS σ B L (nextS B L s)).e = 0) (h0 : s.e = 0) (hw : WdT B L s wFence ∨ WdT B L s wStone ∨ WdT B L s wGrass) : Dj (grndW σ B L (nextS B L s)) ∧ rG (grndW σ B L (nextS B L s)) = rG σ ∧ rK (grndW σ B L (nextS B L s)) = rK σ := by
  have hs := hD.1.w.s
  have hc : cellN σ B L (goesS (nextS B L s)) < rC σ := cellN_lt hs
  have fr : (freeS σ B L (goesS (nextS B L s))).e = 0 → freeP σ (cellN σ B L (goesS (nextS B L s))) := fun q => (must_e (by decide) q).1
  rcases hw with q | q | q
  · rw [(gr_f h0 q).1] at h
    rw [(gr_f h0 q).2]
    have h10 : rF σ < 10 := by
      refine Classical.byContradiction fun w => ?_
      have h1 := (fen_x0 (σ := σ) h0 q w).1
      rw [(gr_f h0 q).1, h] at h1
      cases h1
    have e0 : fen0 σ (nextS B L s) = nextS B L s := mustS_1 h10
    have hf : (freeS σ B L (goesS (nextS B L s))).e = 0 := by
      refine Classical.byContradiction fun w => ?_
      have e1 : fenS σ B L (nextS B L s) = freeS σ B L (goesS (nextS B L s)) := by
        unfold fenS fenT
        rw [e0, if_pos (show (nextS B L s).e = 0 from h0), if_neg w]
      rw [e1] at h
      exact w h
    obtain ⟨e2, e3⟩ := fen_go h0 h10 hf
    rw [e2] at h
    have hy := (must_e (by decide) h).1
    have hp := fr hf
    rw [e3]
    have ex : ∀ i, i ≠ 153 + 5 * cellN σ B L (goesS (nextS B L s)) + 2 → i ≠ 2 → fen2 σ (cellN σ B L (goesS (nextS B L s))) i = σ i := fun i h1 h2 => (pk_un h2).trans (fenceOn_o h1)
    exact ⟨fence_D hD hc hp.1 hp.2 h10 hy, congrArg Int32.toNatClampNeg (ex 0 (by omega) (by omega)), congrArg Int32.toNatClampNeg (ex 1 (by omega) (by omega))⟩
  · rw [(gr_s h0 q).1] at h
    rw [(gr_s h0 q).2]
    have hp := fr h
    have e3 : stonW σ B L (nextS B L s) = stoneR σ (cellN σ B L (goesS (nextS B L s))) := if_pos h
    rw [e3]
    exact ⟨stone_D hD hc hp.1 hp.2, congrArg Int32.toNatClampNeg ((pk_un (by omega)).trans (pk_un (by omega))), congrArg Int32.toNatClampNeg ((pk_un (by omega)).trans (pk_un (by omega)))⟩
  · rw [(gr_g h0 q).1] at h
    rw [(gr_g h0 q).2]
    have hf : (freeS σ B L (goesS (nextS B L s))).e = 0 := by
      refine Classical.byContradiction fun w => ?_
      have e1 : grasS σ B L (nextS B L s) = freeS σ B L (goesS (nextS B L s)) := numS_k w
      rw [e1] at h
      exact w h
    have hp := fr hf
    have e3 : grasW σ B L (nextS B L s) = upd σ (153 + 5 * cellN σ B L (goesS (nextS B L s)) + 1) (nI (numN B L 0 9 (freeS σ B L (goesS (nextS B L s))))) := if_pos h
    rw [e3]
    obtain ⟨t1, t2, t3⟩ := up_c (κ := σ) (j := 153 + 5 * cellN σ B L (goesS (nextS B L s)) + 1) (w := nI (numN B L 0 9 (freeS σ B L (goesS (nextS B L s))))) (by omega)
    exact ⟨grass_D hD hc hp.1 (numN_in (by omega)).2, t3, t2⟩
/-- ways of a based row -/
theorem ways_bs (h : RowW σ) : ways (bs σ) ↔ ways σ := by
  have hV : RowW (bs σ) := h.plc (fun j hj => bs_x (by unfold Plc at hj; omega))
  have s1 : SameG σ (bs σ) := fun j hj => bs_x (by unfold Geo at hj; omega)
  have s2 : SameG (bs σ) σ := fun j hj => (bs_x (by unfold Geo at hj; omega)).symm
  have ec : ∀ c v, bs σ (153 + 5 * c + v) = σ (153 + 5 * c + v) := fun c v => bs_x (by omega)
  exact ⟨fun q => ways_geo hV h s2 (fun c _ w => ⟨by rw [ec]; exact w.1, by unfold fenced; rw [ec]; exact w.2⟩) q, fun q => ways_geo h hV s1 (fun c _ w => ⟨by rw [← ec]; exact w.1, by have := w.2; unfold fenced at this ⊢; rw [ec] at this; exact this⟩) q⟩
end
section
variable {B : Nat → Nat} {L : Nat} {σ τ : Rw} {s : TS}
theorem free_g {a2 a3 x y : Nat} (h0 : s.e = 0) (h1 : numR B L s.a 0 (rW σ - 1) = .inr (x, a2)) (h2 : numR B L a2 0 (rH σ - 1) = .inr (y, a3)) (hp : freeP σ (rW σ * y + x)) : (freeS σ B L s).g = skp B L a2 ∧ cellN σ B L s = rW σ * y + x := by
  obtain ⟨e1, e2, e3, e4⟩ := free_ok h0 h1 h2
  have e5 : freeS σ B L s = cellS σ B L s := mustS_1 (by rw [e1]; exact hp)
  rw [e5]
  exact ⟨e4, e1⟩
theorem fen_done {c : Nat} (h0 : s.e = 0) (h : WdT B L s wFence) (h10 : rF σ < 10) (hf : (freeS σ B L (goesS (nextS B L s))).e = 0) (hc : cellN σ B L (goesS (nextS B L s)) = c) (hy : ways (fen2 σ c)) : grndS σ B L (nextS B L s) = freeS σ B L (goesS (nextS B L s)) ∧ grndW σ B L (nextS B L s) = fen2 σ c := by
  obtain ⟨e1, e2⟩ := fen_go h0 h10 hf
  rw [(gr_f h0 h).1, (gr_f h0 h).2, e1, e2, hc]
  exact ⟨mustS_1 hy, rfl⟩
theorem ston_done {c : Nat} (h0 : s.e = 0) (h : WdT B L s wStone) (hf : (freeS σ B L (goesS (nextS B L s))).e = 0) (hc : cellN σ B L (goesS (nextS B L s)) = c) : grndS σ B L (nextS B L s) = freeS σ B L (goesS (nextS B L s)) ∧ grndW σ B L (nextS B L s) = hd σ c 1 := by
  rw [(gr_s h0 h).1, (gr_s h0 h).2]
  refine ⟨rfl, ?_⟩
  have e3 : stonW σ B L (nextS B L s) = stoneR σ (cellN σ B L (goesS (nextS B L s))) := if_pos hf
  rw [e3, hc]
  rfl
theorem gras_done {c v a3 a4 : Nat} (h0 : s.e = 0) (h : WdT B L s wGrass) (hf : (freeS σ B L (goesS (nextS B L s))).e = 0) (ha : (freeS σ B L (goesS (nextS B L s))).a = a3) (hc : cellN σ B L (goesS (nextS B L s)) = c) (h1 : numR B L a3 0 9 = .inr (v, a4)) : (grndS σ B L (nextS B L s)).e = 0 ∧ (grndS σ B L (nextS B L s)).a = a4 ∧ grndW σ B L (nextS B L s) = upd σ (153 + 5 * c + 1) (nI v) := by
  obtain ⟨j1, j2, j3⟩ := numS_r (B := B) (L := L) (lo := 0) (hi := 9) hf (by rw [ha]; exact h1)
  have e3 : grasW σ B L (nextS B L s) = upd σ (153 + 5 * cellN σ B L (goesS (nextS B L s)) + 1) (nI (numN B L 0 9 (freeS σ B L (goesS (nextS B L s))))) := if_pos j1
  rw [(gr_g h0 h).1, (gr_g h0 h).2, e3, hc, j3]
  exact ⟨j1, j2, rfl⟩
theorem fen_cf {c : Nat} (hJ : RowJ σ) (hk : σ (153 + 5 * c + 0) = 0) : (∀ j, j < 80 → CelF (bs (fen2 σ c)) j) ∧ GK (bs (fen2 σ c)) := by
  have ex : ∀ i, i ≠ 153 + 5 * c + 2 → i ≠ 2 → i ≠ 8 → bs (fen2 σ c) i = σ i := fun i h1 h2 h3 => (bs_x h3).trans ((pk_un h2).trans (fenceOn_o h1))
  have e2 : bs (fen2 σ c) (153 + 5 * c + 2) = nI 1 := (bs_x (by omega)).trans ((pk_un (by omega)).trans pk_us)
  refine ⟨fun j hj => ?_, fun r hr => ?_⟩
  · have h1 := (hJ.c hj).fe
    by_cases q : j = c
    · rw [q]
      exact ⟨Or.inl ((ex _ (by omega) (by omega) (by omega)).trans hk), Or.inr e2⟩
    · have g : cGr (bs (fen2 σ c)) j = cGr σ j := congrArg Int32.toNatClampNeg (ex _ (by omega) (by omega) (by omega))
      unfold CelF at h1 ⊢
      rw [g, ex _ (by omega) (by omega) (by omega), ex _ (by omega) (by omega) (by omega)]
      exact h1
  · have eG : rG (bs (fen2 σ c)) = rG σ := congrArg Int32.toNatClampNeg (ex 0 (by omega) (by omega) (by omega))
    have g6 := hJ.w.g6
    rw [eG] at hr
    have eC : gC (bs (fen2 σ c)) r = gC σ r := by
      unfold gC gX gY rW
      rw [ex (21 + 9 * r + 7) (by omega) (by omega) (by omega), ex (21 + 9 * r + 8) (by omega) (by omega) (by omega), ex 4 (by omega) (by omega) (by omega)]
    rw [eC, ex _ (by omega) (by omega) (by omega)]
    exact hJ.g r hr
theorem lx_eq {A D : HA} {l : Nat} {d : Nat → Nat} {X : Nat → Prop} (hz : Zk A) (hL : Ly A l d σ) (h : Gw A D X) (eK : rK τ = rK σ) (eG : rG τ = rG σ) {y : Nat} (q : LX D l d τ y) : LX A l d σ y := by
  have q1 : Fp l d (rK σ) (rG σ) y := by
    have q2 := q.1
    rw [eK, eG] at q2
    exact q2
  exact ⟨q1, by rw [← (h.2 y (fp_lt hz hL q1)).1]; exact q.2⟩
end
