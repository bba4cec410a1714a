/-! A LAWN THAT IS BEING DESCRIBED: numbers written -/
set_option maxRecDepth 100000
theorem Lv.w1 {A : HA} {l : Nat} {d : Nat → Nat} {κ : Rw} {j x i : Nat} {v w : Int32} (hL : Ly A l d κ) (h : Lv A.I l d κ) (h6 : rG κ ≤ 6) (hj : Dm (rC κ) (rK κ) j) (hvw : adj j w = v) (hx : x = sA l d j) (hi : i = sI j) : Lv (A.sI x (upd (A.I x) i v)).I l d (upd κ j w) := by
  subst hx; subst hi
  exact Lv.up hL h h6 hj hvw
theorem up_c {κ : Rw} {j : Nat} {w : Int32} (hj : j ≠ 0 ∧ j ≠ 1 ∧ j ≠ 4 ∧ j ≠ 5) : rC (upd κ j w) = rC κ ∧ rK (upd κ j w) = rK κ ∧ rG (upd κ j w) = rG κ := by
  refine ⟨?_, ?_, ?_⟩
  · unfold rC rW rH
    rw [pk_un (fun q => hj.2.2.1 q.symm), pk_un (fun q => hj.2.2.2 q.symm)]
  · unfold rK
    rw [pk_un (fun q => hj.2.1 q.symm)]
  · unfold rG
    rw [pk_un (fun q => hj.1 q.symm)]
theorem ly_up {A : HA} {l : Nat} {d : Nat → Nat} {κ : Rw} {j : Nat} {w : Int32} (hL : Ly A l d κ) (hj : j ≠ 0 ∧ j ≠ 1 ∧ j ≠ 4 ∧ j ≠ 5) : Ly A l d (upd κ j w) := by
  obtain ⟨e1, e2, e3⟩ := up_c (κ := κ) (w := w) hj
  show Ly0 A.G A.R A.n l d (rC (upd κ j w)) (rK (upd κ j w)) (rG (upd κ j w))
  rw [e1, e2, e3]
  exact hL
/-- what hardens writes -/
def hardH (A : HA) (l : Nat) (d : Nat → Nat) (c k : Nat) : HA := (((A.sI (d 5) (upd (A.I (d 5)) c (nI k))).sI l (upd ((A.sI (d 5) (upd (A.I (d 5)) c (nI k))).I l) 14 ((A.sI (d 5) (upd (A.I (d 5)) c (nI k))).I l 14 - (A.sI (d 5) (upd (A.I (d 5)) c (nI k))).I (d 6) c))).sI (d 6) (upd (((A.sI (d 5) (upd (A.I (d 5)) c (nI k))).sI l (upd ((A.sI (d 5) (upd (A.I (d 5)) c (nI k))).I l) 14 ((A.sI (d 5) (upd (A.I (d 5)) c (nI k))).I l 14 - (A.sI (d 5) (upd (A.I (d 5)) c (nI k))).I (d 6) c))).I (d 6)) c (nI 0)))
/-- what a line of grass writes -/
def grasH (A : HA) (l : Nat) (d : Nat → Nat) (c v : Nat) : HA := (A.sI l (upd (A.I l) 14 (A.I l 14 + (nI v - A.I (d 6) c)))).sI (d 6) (upd ((A.sI l (upd (A.I l) 14 (A.I l 14 + (nI v - A.I (d 6) c)))).I (d 6)) c (nI v))
def X5 (l : Nat) (d : Nat → Nat) (y : Nat) : Prop := y = l ∨ y = d 5 ∨ y = d 6
section
variable {g : GZ} {A : HA} {z0 l : Nat} {d : Nat → Nat} {σ : Rw} {c k : Nat}
theorem x5_lx {D : HA} (hL : Ly A l d σ) (h : Gw A D (X5 l d)) : Gw A D (LX A l d σ) := (Gw.rf (A := A)).tr2 h (fun y _ q => by
  rcases q with q | q | q <;> rw [q]
  · exact ⟨Or.inl rfl, by rw [ly_g hL]; decide⟩
  · exact ⟨Or.inr (Or.inl ⟨5, by decide, rfl⟩), by rw [ly_gf hL 5 (by decide)]; decide⟩
  · exact ⟨Or.inr (Or.inl ⟨6, by decide, rfl⟩), by rw [ly_gf hL 6 (by decide)]; decide⟩)
theorem x5_k (hL : Ly A l d σ) {y : Nat} (q : X5 l d y) : (A.G y).1 = 2 ∨ (121 ≤ (A.G y).1 ∧ (A.G y).1 ≤ 399) := by
  rcases q with q | q | q <;> rw [q]
  · exact Or.inl (ly_g hL)
  · rw [ly_gf hL 5 (by decide)]; exact Or.inr (by decide)
  · rw [ly_gf hL 6 (by decide)]; exact Or.inr (by decide)
theorem lw_dm (hc : c < rC σ) {v : Nat} (hv : v < 5) : Dm (rC (bs σ)) (rK (bs σ)) (153 + 5 * c + v) := by
  rw [bs_C, bs_K]
  exact dm_cell hv hc
theorem LwB.hard (h : LwB g A z0 l d σ) (hz : Zk A) (hW : RowW σ) (hc : c < rC σ) (h0 : σ (153 + 5 * c + 0) = 0) (hk : k = 1 ∨ k = 2) : LwB g (hardH A l d c k) z0 l d (hd σ c k) ∧ Gw A (hardH A l d c k) (LX A l d σ) ∧ StP A (hardH A l d c k) := by
  have g6 := hW.g6
  have k6 := hW.k6
  have hL := h.L
  have s5 := sA_cell (a := l) (d := d) (c := c) (v := 0) (by omega)
  have s6 := sA_cell (a := l) (d := d) (c := c) (v := 1) (by omega)
  have g8 : rG (bs σ) ≤ 6 := by rw [bs_G]; exact g6
  have v1 := Lv.w1 (w := nI k) (v := nI k) (x := d 5) (i := c) h.L8 h.v g8 (lw_dm hc (v := 0) (by omega)) (adj_c (by omega) _) s5.1.symm s5.2.symm
  have L1 : Ly A l d (upd (bs σ) (153 + 5 * c + 0) (nI k)) := ly_up h.L8 (by omega)
  obtain ⟨e1, e2, e3⟩ := up_c (κ := bs σ) (j := 153 + 5 * c + 0) (w := nI k) (by omega)
  have c1 : c < rC (upd (bs σ) (153 + 5 * c + 0) (nI k)) := by rw [e1, bs_C]; exact hc
  have f1 := v1.first
  have f2 := v1.grass c1
  unfold hardH
  have hG1 : Gw A (A.sI (d 5) (upd (A.I (d 5)) c (nI k))) (X5 l d) := gw_sI (fun _ => Or.inr (Or.inl rfl))
  have mG1 : (A.sI (d 5) (upd (A.I (d 5)) c (nI k))).G = A.G := rfl
  have mR1 : (A.sI (d 5) (upd (A.I (d 5)) c (nI k))).R = A.R := rfl
  have mn1 : (A.sI (d 5) (upd (A.I (d 5)) c (nI k))).n = A.n := rfl
  have mz1 : (A.sI (d 5) (upd (A.I (d 5)) c (nI k))).z = A.z := rfl
  generalize (A.sI (d 5) (upd (A.I (d 5)) c (nI k))) = H1 at v1 f1 f2 hG1 mG1 mR1 mn1 mz1 ⊢
  have L1' : Ly H1 l d (upd (bs σ) (153 + 5 * c + 0) (nI k)) := by
    show Ly0 H1.G H1.R H1.n l d _ _ _
    rw [mG1, mR1, mn1]
    exact L1
  have d8 : Dm (rC (upd (bs σ) (153 + 5 * c + 0) (nI k))) (rK (upd (bs σ) (153 + 5 * c + 0) (nI k))) 8 := Or.inr (Or.inl rfl)
  have v2 := Lv.w1 (w := upd (bs σ) (153 + 5 * c + 0) (nI k) 8 - upd (bs σ) (153 + 5 * c + 0) (nI k) (153 + 5 * c + 1)) (v := H1.I l 14 - H1.I (d 6) c) (x := l) (i := 14) L1' v1 (by rw [e3]; exact g8) d8 ((adj_8 _).trans (by rw [f1, f2])) rfl rfl
  have L2 : Ly H1 l d (upd (upd (bs σ) (153 + 5 * c + 0) (nI k)) 8 (upd (bs σ) (153 + 5 * c + 0) (nI k) 8 - upd (bs σ) (153 + 5 * c + 0) (nI k) (153 + 5 * c + 1))) := ly_up L1' (by omega)
  obtain ⟨i1, i2, i3⟩ := up_c (κ := upd (bs σ) (153 + 5 * c + 0) (nI k)) (j := 8) (w := upd (bs σ) (153 + 5 * c + 0) (nI k) 8 - upd (bs σ) (153 + 5 * c + 0) (nI k) (153 + 5 * c + 1)) (by omega)
  have hG2 : Gw A (H1.sI l (upd (H1.I l) 14 (H1.I l 14 - H1.I (d 6) c))) (X5 l d) := hG1.tr (gw_sI (fun _ => Or.inl rfl))
  have mG2 : (H1.sI l (upd (H1.I l) 14 (H1.I l 14 - H1.I (d 6) c))).G = A.G := mG1
  have mR2 : (H1.sI l (upd (H1.I l) 14 (H1.I l 14 - H1.I (d 6) c))).R = A.R := mR1
  have mn2 : (H1.sI l (upd (H1.I l) 14 (H1.I l 14 - H1.I (d 6) c))).n = A.n := mn1
  have mz2 : (H1.sI l (upd (H1.I l) 14 (H1.I l 14 - H1.I (d 6) c))).z = A.z := mz1
  generalize (H1.sI l (upd (H1.I l) 14 (H1.I l 14 - H1.I (d 6) c))) = H2 at v2 hG2 mG2 mR2 mn2 mz2 ⊢
  have L2' : Ly H2 l d (upd (upd (bs σ) (153 + 5 * c + 0) (nI k)) 8 (upd (bs σ) (153 + 5 * c + 0) (nI k) 8 - upd (bs σ) (153 + 5 * c + 0) (nI k) (153 + 5 * c + 1))) := by
    show Ly0 H2.G H2.R H2.n l d _ _ _
    have := L2
    unfold Ly at this
    rw [mG2, mR2, mn2]
    rw [mG1, mR1, mn1] at this
    exact this
  have v3 := Lv.w1 (w := nI 0) (v := nI 0) (x := d 6) (i := c) L2' v2 (by rw [i3, e3]; exact g8) (by rw [i1, i2, e1, e2]; exact lw_dm hc (v := 1) (by omega)) (adj_c (by omega) _) s6.1.symm s6.2.symm
  have hG3 : Gw A (H2.sI (d 6) (upd (H2.I (d 6)) c (nI 0))) (X5 l d) := hG2.tr (gw_sI (fun _ => Or.inr (Or.inr rfl)))
  have v9 : Lv (H2.sI (d 6) (upd (H2.I (d 6)) c (nI 0))).I l d (bs (hd σ c k)) := by
    rw [← hard_bs hW hc h0 hk]
    exact v3
  have hG4 := x5_lx hL hG3
  have hP := StP.lw hz hL hG4
  exact ⟨h.ints (X := X5 l d) hz mG2 mR2 mn2 hG3 (fun y q => x5_k hL q) v9 hd_C (congrArg Int32.toNatClampNeg (hd_x (by omega) (by omega))) (congrArg Int32.toNatClampNeg (hd_x (by omega) (by omega))) (fun o h1 h2 => hd_x (by omega) (by omega)) k6 g6 hP, hG4, hP⟩
theorem gras_bs {v : Nat} (hW : RowW σ) (hc : c < rC σ) (h0 : σ (153 + 5 * c + 0) = 0) (hv : v ≤ 9) : upd (upd (bs σ) 8 (bs σ 8 + (nI v - bs σ (153 + 5 * c + 1)))) (153 + 5 * c + 1) (nI v) = bs (upd σ (153 + 5 * c + 1) (nI v)) := by
  have h8 := hW.s.c80
  have hg := hW.c (c := c) (by omega)
  have h9 := hW.c9 (c := c) (by omega)
  have ex : ∀ j, j ≠ 153 + 5 * c + 1 → upd σ (153 + 5 * c + 1) (nI v) j = σ j := fun j hj => pk_un hj
  have eC : rC (upd σ (153 + 5 * c + 1) (nI v)) = rC σ := (up_c (by omega)).1
  have ha := allG_up (σ := σ) (τ := upd σ (153 + 5 * c + 1) (nI v)) eC hc (fun j hj => ⟨ex _ (by omega), ex _ (by omega)⟩)
  have g1 : grassF σ c = cGr σ c := if_pos h0
  have g2 : grassF (upd σ (153 + 5 * c + 1) (nI v)) c = v := by
    have e0 : upd σ (153 + 5 * c + 1) (nI v) (153 + 5 * c + 0) = 0 := (ex _ (by omega)).trans h0
    have e1 : cGr (upd σ (153 + 5 * c + 1) (nI v)) c = v := (congrArg Int32.toNatClampNeg pk_us).trans (nI_nat (by omega))
    exact (if_pos e0).trans e1
  rw [g1, g2] at ha
  funext j
  by_cases q1 : j = 153 + 5 * c + 1
  · subst q1
    rw [pk_us, bs_x (by omega), pk_us]
  · rw [pk_un q1]
    by_cases q2 : j = 8
    · subst q2
      rw [pk_us, bs_8, bs_x (by omega), hg, bs_8]
      have e : allG (upd σ (153 + 5 * c + 1) (nI v)) = allG σ + v - cGr σ c := by omega
      rw [e, ← pk_sub (by omega), ← nI_add]
      rw [Int32.sub_eq_add_neg, Int32.sub_eq_add_neg, Int32.add_assoc]
    · rw [pk_un q2, bs_x q2, bs_x q2, ex _ q1]
theorem LwB.gras {v : Nat} (h : LwB g A z0 l d σ) (hz : Zk A) (hW : RowW σ) (hc : c < rC σ) (h0 : σ (153 + 5 * c + 0) = 0) (hv : v ≤ 9) : LwB g (grasH A l d c v) z0 l d (upd σ (153 + 5 * c + 1) (nI v)) ∧ Gw A (grasH A l d c v) (LX A l d σ) ∧ StP A (grasH A l d c v) := by
  have g6 := hW.g6
  have k6 := hW.k6
  have hL := h.L
  have s6 := sA_cell (a := l) (d := d) (c := c) (v := 1) (by omega)
  have g8 : rG (bs σ) ≤ 6 := by rw [bs_G]; exact g6
  have f1 := h.v.first
  have f2 := h.v.grass (by rw [bs_C]; exact hc)
  have v1 := Lv.w1 (w := bs σ 8 + (nI v - bs σ (153 + 5 * c + 1))) (v := A.I l 14 + (nI v - A.I (d 6) c)) (x := l) (i := 14) h.L8 h.v g8 (Or.inr (Or.inl rfl)) ((adj_8 _).trans (by rw [f1, f2])) rfl rfl
  have L1 : Ly A l d (upd (bs σ) 8 (bs σ 8 + (nI v - bs σ (153 + 5 * c + 1)))) := ly_up h.L8 (by omega)
  obtain ⟨e1, e2, e3⟩ := up_c (κ := bs σ) (j := 8) (w := bs σ 8 + (nI v - bs σ (153 + 5 * c + 1))) (by omega)
  unfold grasH
  have hG1 : Gw A (A.sI l (upd (A.I l) 14 (A.I l 14 + (nI v - A.I (d 6) c)))) (X5 l d) := gw_sI (fun _ => Or.inl rfl)
  have mG1 : (A.sI l (upd (A.I l) 14 (A.I l 14 + (nI v - A.I (d 6) c)))).G = A.G := rfl
  have mR1 : (A.sI l (upd (A.I l) 14 (A.I l 14 + (nI v - A.I (d 6) c)))).R = A.R := rfl
  have mn1 : (A.sI l (upd (A.I l) 14 (A.I l 14 + (nI v - A.I (d 6) c)))).n = A.n := rfl
  generalize (A.sI l (upd (A.I l) 14 (A.I l 14 + (nI v - A.I (d 6) c)))) = H1 at v1 hG1 mG1 mR1 mn1 ⊢
  have L1' : Ly H1 l d (upd (bs σ) 8 (bs σ 8 + (nI v - bs σ (153 + 5 * c + 1)))) := by
    show Ly0 H1.G H1.R H1.n l d _ _ _
    rw [mG1, mR1, mn1]
    exact L1
  have v3 := Lv.w1 (w := nI v) (v := nI v) (x := d 6) (i := c) L1' v1 (by rw [e3]; exact g8) (by rw [e1, e2]; exact lw_dm hc (v := 1) (by omega)) (adj_c (by omega) _) s6.1.symm s6.2.symm
  have hG3 : Gw A (H1.sI (d 6) (upd (H1.I (d 6)) c (nI v))) (X5 l d) := hG1.tr (gw_sI (fun _ => Or.inr (Or.inr rfl)))
  have v9 : Lv (H1.sI (d 6) (upd (H1.I (d 6)) c (nI v))).I l d (bs (upd σ (153 + 5 * c + 1) (nI v))) := by
    rw [← gras_bs hW hc h0 hv]
    exact v3
  have hG4 := x5_lx hL hG3
  have hP := StP.lw hz hL hG4
  obtain ⟨t1, t2, t3⟩ := up_c (κ := σ) (j := 153 + 5 * c + 1) (w := nI v) (by omega)
  exact ⟨h.ints (X := X5 l d) hz mG1 mR1 mn1 hG3 (fun y q => x5_k hL q) v9 t1 t2 t3 (fun o h1 h2 => pk_un (by omega)) k6 g6 hP, hG4, hP⟩
theorem fen_bs (hW : RowW σ) : ∀ j, j ≠ 2 → upd (bs σ) (153 + 5 * c + 2) (nI 1) j = bs (fen2 σ c) j := by
  intro j hj
  have ex : ∀ i, i ≠ 153 + 5 * c + 2 → i ≠ 2 → fen2 σ c i = σ i := fun i h1 h2 => (pk_un h2).trans (fenceOn_o h1)
  have eC : rC (fen2 σ c) = rC σ := by
    unfold rC rW rH
    rw [ex 4 (by omega) (by omega), ex 5 (by omega) (by omega)]
  have ha : allG (fen2 σ c) = allG σ := by
    unfold allG
    rw [eC]
    refine smN_c _ (fun i _ => ?_)
    unfold grassF cGr
    rw [ex _ (by omega) (by omega), ex _ (by omega) (by omega)]
  by_cases q : j = 153 + 5 * c + 2
  · subst q
    rw [pk_us, bs_x (by omega)]
    exact ((pk_un (by omega)).trans pk_us).symm
  · rw [pk_un q]
    by_cases q8 : j = 8
    · rw [q8, bs_8, bs_8, ha]
    · rw [bs_x q8, bs_x q8, ex j q hj]
/-- a fence put up -/
theorem LwB.fen (h : LwB g A z0 l d σ) (hz : Zk A) (hW : RowW σ) (hc : c < rC σ) : LwB g (A.sI (d 10) (upd (A.I (d 10)) c (nI 1))) z0 l d (fen2 σ c) ∧ Gw A (A.sI (d 10) (upd (A.I (d 10)) c (nI 1))) (LX A l d σ) ∧ StP A (A.sI (d 10) (upd (A.I (d 10)) c (nI 1))) := by
  have g6 := hW.g6
  have k6 := hW.k6
  have hL := h.L
  have s10 := sA_cell (a := l) (d := d) (c := c) (v := 2) (by omega)
  have g8 : rG (bs σ) ≤ 6 := by rw [bs_G]; exact g6
  have v1 := Lv.w1 (w := nI 1) (v := nI 1) (x := d 10) (i := c) h.L8 h.v g8 (lw_dm hc (v := 2) (by omega)) (adj_c (by omega) _) s10.1.symm s10.2.symm
  have ex : ∀ i, i ≠ 153 + 5 * c + 2 → i ≠ 2 → fen2 σ c i = σ i := fun i h1 h2 => (pk_un h2).trans (fenceOn_o h1)
  have v9 : Lv (A.sI (d 10) (upd (A.I (d 10)) c (nI 1))).I l d (bs (fen2 σ c)) := v1.cong (fun j hj => (fen_bs hW j (fun q => by unfold Tl Dm at hj; omega)).symm)
  have hG3 : Gw A (A.sI (d 10) (upd (A.I (d 10)) c (nI 1))) (fun y => y = d 10) := gw_sI (fun _ => rfl)
  have hG4 : Gw A (A.sI (d 10) (upd (A.I (d 10)) c (nI 1))) (LX A l d σ) := (Gw.rf (A := A)).tr2 hG3 (fun y _ q => by rw [q]; exact ⟨Or.inr (Or.inl ⟨10, by decide, rfl⟩), by rw [ly_gf hL 10 (by decide)]; decide⟩)
  have hP := StP.lw hz hL hG4
  refine ⟨h.ints (X := fun y => y = d 10) hz rfl rfl rfl hG3 (fun y q => by rw [q, ly_gf hL 10 (by decide)]; exact Or.inr (by decide)) v9 ?_ (congrArg Int32.toNatClampNeg (ex 1 (by omega) (by omega))) (congrArg Int32.toNatClampNeg (ex 0 (by omega) (by omega))) (fun o h1 h2 => ex o (by omega) (by omega)) k6 g6 hP, hG4, hP⟩
  unfold rC rW rH
  rw [ex 4 (by omega) (by omega), ex 5 (by omega) (by omega)]
/-- distances told -/
theorem LwB.far {κ μ : Nat → Int32} (h : LwB g A z0 l d σ) (hz : Zk A) (hW : RowW σ) : LwB g (FH A d κ μ) z0 l d σ ∧ Gw A (FH A d κ μ) (LX A l d σ) ∧ StP A (FH A d κ μ) := by
  have g6 := hW.g6
  have k6 := hW.k6
  have hL := h.L
  have hG3 : Gw A (FH A d κ μ) (fun y => y = d 15 ∨ y = d 17) := (gw_sI (X := fun y => y = d 15 ∨ y = d 17) (fun _ => Or.inl rfl)).tr (gw_sI (fun _ => Or.inr rfl))
  have hG4 : Gw A (FH A d κ μ) (LX A l d σ) := (Gw.rf (A := A)).tr2 hG3 (fun y _ q => by
    rcases q with q | q <;> rw [q]
    · exact ⟨Or.inr (Or.inl ⟨15, by decide, rfl⟩), by rw [ly_gf hL 15 (by decide)]; decide⟩
    · exact ⟨Or.inr (Or.inl ⟨17, by decide, rfl⟩), by rw [ly_gf hL 17 (by decide)]; decide⟩)
  have hP := StP.lw hz hL hG4
  exact ⟨h.ints (X := fun y => y = d 15 ∨ y = d 17) hz rfl rfl rfl hG3 (fun y q => by
    rcases q with q | q <;> rw [q]
    · rw [ly_gf hL 15 (by decide)]; exact Or.inr (by decide)
    · rw [ly_gf hL 17 (by decide)]; exact Or.inr (by decide)) (lv_FH h.L8 h.v) rfl rfl rfl (fun _ _ _ => rfl) k6 g6 hP, hG4, hP⟩
end
