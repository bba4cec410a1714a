/-! THE LAW, 3: changes -/
set_option maxRecDepth 100000
theorem ChP.gw {A D : HA} {c a pq pe m : Nat} {f d : Nat → Nat} {σ : Rw} {C : Int32 × Rw} {u : Int32} (h : ChP A c a pq pe m f d σ C u D) : Gw A D (fun y => y = c ∨ y = pq ∨ y = pe) := by
  obtain ⟨-, ⟨-, w, B, F, d2, -, -, ⟨-, hG⟩, -, -, -, hG2, -⟩ | ⟨-, hG⟩⟩ := h
  · exact (hG.mono (fun _ _ q => q.elim)).tr hG2
  · exact hG.mono (fun _ _ q => q.elim)
theorem chp_o {A D : HA} {c a pq pe m o : Nat} {f d : Nat → Nat} {σ : Rw} {C : Int32 × Rw} {u : Int32} (lo : o < A.z) (h1 : (A.G o).1 = 401) (h2 : A.n o = 1) (h : ∃ F, (Zk F ∧ Zo F) ∧ Gw A F Non ∧ ChP F c a pq pe m f d σ C u D) : (D.G o).1 = 401 ∧ D.n o = 1 := by
  obtain ⟨F, -, hG, hC⟩ := h
  have hG2 := (hG.mono (fun _ _ q => q.elim)).tr hC.gw
  exact ⟨by rw [(hG2.2 o lo).1]; exact h1, by rw [(hG2.2 o lo).2.1]; exact h2⟩
theorem cat_in {σ : Rw} (hS : RowS σ) {x y : Int32} (h : inC2 σ x y) : cat σ x y < rC σ := by
  have hw3 := hS.w3
  have hw10 := hS.w10
  have hh8 := hS.h8
  obtain ⟨i, hi, rfl⟩ := inZ_of h.1 (by omega)
  obtain ⟨j, hj, rfl⟩ := inZ_of h.2 (by omega)
  rw [cat_n (by omega) (by omega)]
  exact at_lt hS hi hj
theorem w_in {σ : Rw} (k6 : rK σ ≤ 6) {x : Int32} (h : inW σ x) : nt x < rK σ := by
  obtain ⟨k, hk, rfl⟩ := inZ_of (n := rK σ) h (by omega)
  rw [nt_n (by omega)]; exact hk
theorem z_in {x : Int32} {n : Nat} (hn : n < 2147483647) (h : inZ x 0 (n : Int)) : nt x ≤ n := by
  obtain ⟨k, hk, rfl⟩ := inZ_of2 (n := n) rfl h hn
  rw [nt_n (by omega)]; exact hk
set_option maxHeartbeats 1000000 in
theorem lw_run {g : GZ} {A : HA} {c t o : Nat} {x0 : Int32} (K : LwG g) (hP : LwP g c t o A) (hz : Zk A) (hzo : Zo A) (hold : fw_old g A) : Ct g wI yX0_run (.codeWith yX0_run cX0_run 4 (Option.some Jvm.ClassFile.FieldType.int) [(0, 9, 12, 19)]) 67 33 990 [.ref c, .int x0, .ref o] A (fun u B => LwQ g c t o Int32.toInt64 yX6_run (.code yX6_run cX6_run 2 (Option.some Jvm.ClassFile.FieldType.int)) 11 [.int x0] u B) fw_no := by
  obtain ⟨σ, m, P, kp, L, Bf, n0, fo, e5, e6, ⟨a, pq, pe, h, bf, ob, v, mo, d, f, w⟩, wt, h1, h2⟩ := hP
  have lo := hz.lt h1 rfl
  refine lc_main (p := inZ x0 1 60) (χ := (0, nt x0, 0)) (thr := bI (¬ inZ x0 1 60)) ((w_run (c_run (w := x0) w.kc w.now w.lawn.1.1 w.lawn.1.2.1 w.row.1 K.gd w.de w.nam w.row.2 w.past w.deq w.m8 w.fk K.lam) w.kc (fun v D z => chp_o lo h1 h2 z.2) (fun q D z => z.2.1)).mono (fun u B z => z.elim Or.inl (fun z => ?_)) (fun _ _ z => z)) (fun hp => ?_) w wt hz h1 h2 (fun B tB holdB => ?_)
  · obtain ⟨q, hq, e⟩ := z
    exact Or.inr ⟨1, e, by decide, by decide, by rw [bI_t hq.1]; exact nI1.symm, hq.1, hq.2.2⟩
  · exact Nat.le_trans (z_in (n := 60) (by decide) ⟨by have := hp.1; omega, hp.2⟩) (by decide)
  · have H := m_run (g := g) (A := B) (t := t) (σ := σ) (κ := B.I (t + 6)) (π := B.I (t + 7)) (τ := B.I t) (x := x0) tB.tw w.row.1.w w.row.1.y w.row.2 tB.mn w.m8
    rw [tB.sF5] at H
    exact H
set_option maxHeartbeats 1000000 in
theorem lw_setFence {g : GZ} {A : HA} {c t o : Nat} {x0 x1 : Int32} (K : LwG g) (hP : LwP g c t o A) (hz : Zk A) (hzo : Zo A) (hold : fw_old g A) : Ct g wI yX0_setFence (.codeWith yX0_setFence cX0_setFence 5 (Option.some Jvm.ClassFile.FieldType.int) [(0, 10, 13, 35)]) 67 33 990 [.ref c, .int x0, .int x1, .ref o] A (fun u B => LwQ g c t o Int32.toInt64 yX6_setFence (.code yX6_setFence cX6_setFence 3 (Option.some Jvm.ClassFile.FieldType.int)) 9 [.int x0, .int x1] u B) fw_no := by
  obtain ⟨σ, m, P, kp, L, Bf, n0, fo, e5, e6, ⟨a, pq, pe, h, bf, ob, v, mo, d, f, w⟩, wt, h1, h2⟩ := hP
  have lo := hz.lt h1 rfl
  refine lc_main (p := inC2 σ x0 x1) (χ := (1, cat σ x0 x1, 0)) (thr := bI (¬ inC2 σ x0 x1)) ((w_setFence (c_setFence (x := x0) (y := x1) w.kc w.now w.lawn.1.1 w.lawn.1.2.1 w.row.1 K.gd w.de w.nam w.row.2 w.past w.deq w.m8 w.fk K.lam) w.kc (fun v D z => chp_o lo h1 h2 z.2) (fun q D z => z.2.1)).mono (fun u B z => z.elim Or.inl (fun z => ?_)) (fun _ _ z => z)) (fun hp => ?_) w wt hz h1 h2 (fun B tB holdB => ?_)
  · obtain ⟨q, hq, e⟩ := z
    exact Or.inr ⟨1, e, by decide, by decide, by rw [bI_t hq.1]; exact nI1.symm, hq.1, hq.2.2⟩
  · exact cat_in w.row.1.w.s hp
  · have H := m_setFence (g := g) (A := B) (t := t) (σ := σ) (κ := B.I (t + 6)) (π := B.I (t + 7)) (τ := B.I t) (x := x0) (y := x1) tB.tw w.row.1.w (fun _ h9 => w.row.1.c h9) tB.mn w.m8
    rw [tB.sF5] at H
    exact H
set_option maxHeartbeats 1000000 in
theorem lw_dropFence {g : GZ} {A : HA} {c t o : Nat} {x0 x1 : Int32} (K : LwG g) (hP : LwP g c t o A) (hz : Zk A) (hzo : Zo A) (hold : fw_old g A) : Ct g wI yX0_dropFence (.codeWith yX0_dropFence cX0_dropFence 5 (Option.some Jvm.ClassFile.FieldType.int) [(0, 10, 13, 35)]) 67 33 990 [.ref c, .int x0, .int x1, .ref o] A (fun u B => LwQ g c t o Int32.toInt64 yX6_dropFence (.code yX6_dropFence cX6_dropFence 3 (Option.some Jvm.ClassFile.FieldType.int)) 4 [.int x0, .int x1] u B) fw_no := by
  obtain ⟨σ, m, P, kp, L, Bf, n0, fo, e5, e6, ⟨a, pq, pe, h, bf, ob, v, mo, d, f, w⟩, wt, h1, h2⟩ := hP
  have lo := hz.lt h1 rfl
  refine lc_main (p := inC2 σ x0 x1) (χ := (2, cat σ x0 x1, 0)) (thr := bI (¬ inC2 σ x0 x1)) ((w_dropFence (c_dropFence (x := x0) (y := x1) w.kc w.now w.lawn.1.1 w.lawn.1.2.1 w.row.1 K.gd w.de w.nam w.row.2 w.past w.deq w.m8 w.fk K.lam) w.kc (fun v D z => chp_o lo h1 h2 z.2) (fun q D z => z.2.1)).mono (fun u B z => z.elim Or.inl (fun z => ?_)) (fun _ _ z => z)) (fun hp => ?_) w wt hz h1 h2 (fun B tB holdB => ?_)
  · obtain ⟨q, hq, e⟩ := z
    exact Or.inr ⟨1, e, by decide, by decide, by rw [bI_t hq.1]; exact nI1.symm, hq.1, hq.2.2⟩
  · exact cat_in w.row.1.w.s hp
  · have H := m_dropFence (g := g) (A := B) (t := t) (σ := σ) (κ := B.I (t + 6)) (π := B.I (t + 7)) (τ := B.I t) (x := x0) (y := x1) tB.tw w.row.1.w tB.mn w.m8
    rw [tB.sF5] at H
    exact H
set_option maxHeartbeats 1000000 in
theorem lw_pave {g : GZ} {A : HA} {c t o : Nat} {x0 x1 : Int32} (K : LwG g) (hP : LwP g c t o A) (hz : Zk A) (hzo : Zo A) (hold : fw_old g A) : Ct g wI yX0_pave (.codeWith yX0_pave cX0_pave 5 (Option.some Jvm.ClassFile.FieldType.int) [(0, 10, 13, 35)]) 67 33 990 [.ref c, .int x0, .int x1, .ref o] A (fun u B => LwQ g c t o Int32.toInt64 yX6_pave (.code yX6_pave cX6_pave 3 (Option.some Jvm.ClassFile.FieldType.int)) 4 [.int x0, .int x1] u B) fw_no := by
  obtain ⟨σ, m, P, kp, L, Bf, n0, fo, e5, e6, ⟨a, pq, pe, h, bf, ob, v, mo, d, f, w⟩, wt, h1, h2⟩ := hP
  have lo := hz.lt h1 rfl
  refine lc_main (p := inC2 σ x0 x1) (χ := (3, cat σ x0 x1, 0)) (thr := bI (¬ inC2 σ x0 x1)) ((w_pave (c_pave (x := x0) (y := x1) w.kc w.now w.lawn.1.1 w.lawn.1.2.1 w.row.1 K.gd w.de w.nam w.row.2 w.past w.deq w.m8 w.fk K.lam) w.kc (fun v D z => chp_o lo h1 h2 z.2) (fun q D z => z.2.1)).mono (fun u B z => z.elim Or.inl (fun z => ?_)) (fun _ _ z => z)) (fun hp => ?_) w wt hz h1 h2 (fun B tB holdB => ?_)
  · obtain ⟨q, hq, e⟩ := z
    exact Or.inr ⟨1, e, by decide, by decide, by rw [bI_t hq.1]; exact nI1.symm, hq.1, hq.2.2⟩
  · exact cat_in w.row.1.w.s hp
  · have H := m_pave (g := g) (A := B) (t := t) (σ := σ) (κ := B.I (t + 6)) (π := B.I (t + 7)) (τ := B.I t) (x := x0) (y := x1) tB.tw w.row.1.w tB.mn w.m8
    rw [tB.sF5] at H
    exact H
set_option maxHeartbeats 1000000 in
theorem lw_sow {g : GZ} {A : HA} {c t o : Nat} {x0 x1 : Int32} (K : LwG g) (hP : LwP g c t o A) (hz : Zk A) (hzo : Zo A) (hold : fw_old g A) : Ct g wI yX0_sow (.codeWith yX0_sow cX0_sow 5 (Option.some Jvm.ClassFile.FieldType.int) [(0, 10, 13, 35)]) 67 33 990 [.ref c, .int x0, .int x1, .ref o] A (fun u B => LwQ g c t o Int32.toInt64 yX6_sow (.code yX6_sow cX6_sow 3 (Option.some Jvm.ClassFile.FieldType.int)) 4 [.int x0, .int x1] u B) fw_no := by
  obtain ⟨σ, m, P, kp, L, Bf, n0, fo, e5, e6, ⟨a, pq, pe, h, bf, ob, v, mo, d, f, w⟩, wt, h1, h2⟩ := hP
  have lo := hz.lt h1 rfl
  refine lc_main (p := inC2 σ x0 x1) (χ := (4, cat σ x0 x1, 0)) (thr := bI (¬ inC2 σ x0 x1)) ((w_sow (c_sow (x := x0) (y := x1) w.kc w.now w.lawn.1.1 w.lawn.1.2.1 w.row.1 K.gd w.de w.nam w.row.2 w.past w.deq w.m8 w.fk K.lam) w.kc (fun v D z => chp_o lo h1 h2 z.2) (fun q D z => z.2.1)).mono (fun u B z => z.elim Or.inl (fun z => ?_)) (fun _ _ z => z)) (fun hp => ?_) w wt hz h1 h2 (fun B tB holdB => ?_)
  · obtain ⟨q, hq, e⟩ := z
    exact Or.inr ⟨1, e, by decide, by decide, by rw [bI_t hq.1]; exact nI1.symm, hq.1, hq.2.2⟩
  · exact cat_in w.row.1.w.s hp
  · have H := m_sow (g := g) (A := B) (t := t) (σ := σ) (κ := B.I (t + 6)) (π := B.I (t + 7)) (τ := B.I t) (x := x0) (y := x1) tB.tw w.row.1.w tB.mn w.m8
    rw [tB.sF5] at H
    exact H
set_option maxHeartbeats 1000000 in
theorem lw_setHaste {g : GZ} {A : HA} {c t o : Nat} {x0 x1 : Int32} (K : LwG g) (hP : LwP g c t o A) (hz : Zk A) (hzo : Zo A) (hold : fw_old g A) : Ct g wI yX0_setHaste (.codeWith yX0_setHaste cX0_setHaste 5 (Option.some Jvm.ClassFile.FieldType.int) [(0, 10, 13, 35), (0, 10, 17, 19)]) 67 33 990 [.ref c, .int x0, .int x1, .ref o] A (fun u B => LwQ g c t o Int32.toInt64 yX6_setHaste (.code yX6_setHaste cX6_setHaste 3 (Option.some Jvm.ClassFile.FieldType.int)) 4 [.int x0, .int x1] u B) fw_no := by
  obtain ⟨σ, m, P, kp, L, Bf, n0, fo, e5, e6, ⟨a, pq, pe, h, bf, ob, v, mo, d, f, w⟩, wt, h1, h2⟩ := hP
  have lo := hz.lt h1 rfl
  refine lc_main (p := inW σ x0 ∧ inZ x1 0 9) (χ := (5, nt x0, nt x1)) (thr := nI (if inW σ x0 then (if inZ x1 0 9 then 0 else 2) else 1)) ((w_setHaste (c_setHaste (x := x0) (y := x1) w.kc w.now w.lawn.1.1 w.lawn.1.2.1 w.row.1 K.gd w.de w.nam w.row.2 w.past w.deq w.m8 w.fk K.lam) w.kc (fun v D z => chp_o lo h1 h2 z.2.2) (fun q D z => t2_k z) K.nc).mono (fun u B z => z.elim (fun z => ?_) (fun z => ?_)) (fun _ _ z => z)) (fun hp => ?_) w wt hz h1 h2 (fun B tB holdB => ?_)
  · obtain ⟨e, v9, D9, hz9, eB⟩ := z
    exact Or.inl ⟨e, v9, D9, ⟨⟨hz9.1, hz9.2.1⟩, hz9.2.2⟩, eB⟩
  · obtain ⟨q, hq, hk⟩ := z
    rcases hq with ⟨n1, hT⟩ | ⟨y1, n2, hT⟩
    · rcases hk with ⟨-, e⟩ | ⟨hk, -⟩
      · exact Or.inr ⟨1, e, by decide, by decide, by rw [if_neg n1], fun z => n1 z.1, hT.2⟩
      · rw [hT.1] at hk; cases hk
    · rcases hk with ⟨hk, -⟩ | ⟨-, e⟩
      · rw [hT.1] at hk; cases hk
      · exact Or.inr ⟨2, e, by decide, by decide, by rw [if_pos y1, if_neg n2], fun z => n2 z.2, hT.2⟩
  · exact ⟨w_in w.row.1.w.k6 hp.1, z_in (n := 9) (by decide) hp.2⟩
  · have H := m_setHaste (g := g) (A := B) (t := t) (σ := σ) (κ := B.I (t + 6)) (π := B.I (t + 7)) (τ := B.I t) (x := x0) (y := x1) tB.tw w.row.1.w tB.mn w.m8
    rw [tB.sF5] at H
    exact H
set_option maxHeartbeats 1000000 in
theorem lw_turnRound {g : GZ} {A : HA} {c t o : Nat} {x0 : Int32} (K : LwG g) (hP : LwP g c t o A) (hz : Zk A) (hzo : Zo A) (hold : fw_old g A) : Ct g wI yX0_turnRound (.codeWith yX0_turnRound cX0_turnRound 4 (Option.some Jvm.ClassFile.FieldType.int) [(0, 9, 12, 35)]) 67 33 990 [.ref c, .int x0, .ref o] A (fun u B => LwQ g c t o Int32.toInt64 yX6_turnRound (.code yX6_turnRound cX6_turnRound 2 (Option.some Jvm.ClassFile.FieldType.int)) 4 [.int x0] u B) fw_no := by
  obtain ⟨σ, m, P, kp, L, Bf, n0, fo, e5, e6, ⟨a, pq, pe, h, bf, ob, v, mo, d, f, w⟩, wt, h1, h2⟩ := hP
  have lo := hz.lt h1 rfl
  refine lc_main (p := inW σ x0) (χ := (6, nt x0, 0)) (thr := bI (¬ inW σ x0)) ((w_turnRound (c_turnRound (x := x0) w.kc w.now w.lawn.1.1 w.lawn.1.2.1 w.row.1 K.gd w.de w.nam w.row.2 w.past w.deq w.m8 w.fk K.lam) w.kc (fun v D z => chp_o lo h1 h2 z.2) (fun q D z => z.2.1)).mono (fun u B z => z.elim Or.inl (fun z => ?_)) (fun _ _ z => z)) (fun hp => ?_) w wt hz h1 h2 (fun B tB holdB => ?_)
  · obtain ⟨q, hq, e⟩ := z
    exact Or.inr ⟨1, e, by decide, by decide, by rw [bI_t hq.1]; exact nI1.symm, hq.1, hq.2.2⟩
  · exact w_in w.row.1.w.k6 hp
  · have H := m_turnRound (g := g) (A := B) (t := t) (σ := σ) (κ := B.I (t + 6)) (π := B.I (t + 7)) (τ := B.I t) (x := x0) tB.tw w.row.1.w tB.mn w.m8
    rw [tB.sF5] at H
    exact H
