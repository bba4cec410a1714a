/-! THE COMPONENT, 32: the reader: a gate -/
set_option maxRecDepth 100000
set_option maxHeartbeats 4000000 in
theorem t_newGate {g : GZ} {A : HA} {r c bf L : Nat} {B : Nat → Nat} {s : TS} (h0 : s.e = 0) (hR : RdT g A r c bf L B s.a) (hT : TkC g) (ha : s.a ≤ L) (hz : zS g) {z0 l : Nat} {d : Nat → Nat} {σ : Rw} (hB : LwB g A z0 l d σ) (hD : Dj σ) (hC : EmK g) (hK2 : K02 σ) (hkG : WkG g "LawnPaths$TextReader" 149 "gate" wGate)  : Ct g wV yX7_newGate (.code yX7_newGate cX7_newGate 4 (Option.none : Option Jvm.ClassFile.FieldType)) 20 (30 * ((nxE B L (nxE B L (nxE B L (nxE B L (nxE B L (nxE B L s.a)))))) - (nxE B L s.a)) + 20) (120 * ((nxE B L (nxE B L (nxE B L (nxE B L (nxE B L (nxE B L s.a)))))) - (nxE B L s.a)) + 130) [.ref r, .ref l] (A) (fun u A' => seesW B L wGate s ∧ (signS B L 59 (gateS σ B L (nextS B L s))).e = 0 ∧ RdT g A' r c bf L B (signS B L 59 (gateS σ B L (nextS B L s))).a ∧ (signS B L 59 (gateS σ B L (nextS B L s))).a = (nxE B L (nxE B L (nxE B L (nxE B L (nxE B L s.a))))) ∧ nxE B L s.a + 3 ≤ (nxE B L (nxE B L (nxE B L (nxE B L (nxE B L s.a))))) ∧ (gateS σ B L (nextS B L s)).e = 0 ∧ (∃ d', LwB g A' z0 l d' (gateW σ B L (nextS B L s))) ∧ Gw A A' (XG A r l d σ)) (fun q A' => (¬ seesW B L wGate s ∧ UnX A A' (XG A r l d σ) q (nI 1) (nI (skp B L s.a))) ∨ (seesW B L wGate s ∧ ¬ (signS B L 59 (gateS σ B L (nextS B L s))).e = 0 ∧ UnX A A' (XG A r l d σ) q (nI (signS B L 59 (gateS σ B L (nextS B L s))).e) (signS B L 59 (gateS σ B L (nextS B L s))).p)) := by
  refine Ct.of [some (.ref r), some (.ref l), none, none] (by decide) rfl rfl fun z C hx hnm E => ?_
  obtain ⟨v0, w0, hsR, hv0, hw0⟩ := id hR
  have h9 := hsR.l9
  refine r_Z fun hZ => ?_
  refine r_old fun hoA => ?_
  have hn0 := nxE_le (B := B) ha
  have hn1 := nxE_le (B := B) (L := L) (a := (nxE B L s.a)) (by omega)
  have hn2 := nxE_le (B := B) (L := L) (a := (nxE B L (nxE B L s.a))) (by omega)
  have hn3 := nxE_le (B := B) (L := L) (a := (nxE B L (nxE B L (nxE B L s.a)))) (by omega)
  have hn4 := nxE_le (B := B) (L := L) (a := (nxE B L (nxE B L (nxE B L (nxE B L s.a))))) (by omega)
  have hn5 := nxE_le (B := B) (L := L) (a := (nxE B L (nxE B L (nxE B L (nxE B L (nxE B L s.a)))))) (by omega)
  have hn6 := nxE_le (B := B) (L := L) (a := (nxE B L (nxE B L (nxE B L (nxE B L (nxE B L (nxE B L s.a))))))) (by omega)
  have hx0_ : (nxE B L (nxE B L s.a)) = tkE B L (skp B L (nxE B L s.a)) := rfl
  have hx1_ : (nxE B L (nxE B L (nxE B L s.a))) = tkE B L (skp B L (nxE B L (nxE B L s.a))) := rfl
  have hx2_ : (nxE B L (nxE B L (nxE B L (nxE B L s.a)))) = tkE B L (skp B L (nxE B L (nxE B L (nxE B L s.a)))) := rfl
  have hx3_ : (nxE B L (nxE B L (nxE B L (nxE B L (nxE B L s.a))))) = tkE B L (skp B L (nxE B L (nxE B L (nxE B L (nxE B L s.a))))) := rfl
  have hx4_ : (nxE B L (nxE B L (nxE B L (nxE B L (nxE B L (nxE B L s.a)))))) = tkE B L (skp B L (nxE B L (nxE B L (nxE B L (nxE B L (nxE B L s.a)))))) := rfl
  have hx5_ : (nxE B L (nxE B L (nxE B L (nxE B L (nxE B L (nxE B L (nxE B L s.a))))))) = tkE B L (skp B L (nxE B L (nxE B L (nxE B L (nxE B L (nxE B L (nxE B L s.a))))))) := rfl
  obtain ⟨qg, vg, zg, tg, lg1, lg2⟩ := hkG
  have hW := hD.1.w
  have g6 := hW.g6
  have hW8 := (bs_J hD.1).w
  have hN8 := hW8.num
  refine r_aload_0 (pc := 0) C dX7_newGate_0 ?_
  refine r_ldcS (pc := 1) C zg dX7_newGate_1 ?_
  refine r_aload_1 (pc := 3) C dX7_newGate_3 ?_
  refine r_ngetR (pc := 4) C fn_X7_165_2 (by exact ly_g hB.L) rfl (by exact ly_r11 hB.L) dX7_newGate_4 ?_
  refine r_V0io (pc := 7) C (j_X3_size (n := rG σ) (ly_g11 hB.L) (ly_r22 hB.L) (ly_g22 hB.L) hB.lg.2.2.1) vl_X7_169 (by exact ly_g11 hB.L) (by decide) (by omega) (by omega) (Nat.le_of_ble_eq_true rfl) rfl dX7_newGate_7 (fun u1 A1 hc1 => ?_)
  refine r_top hc1.1 ?_
  refine r_eqA hc1.2 ?_
  clear hc1 A1 u1
  refine r_bipush (pc := 10) C dX7_newGate_10 cb_6 ?_
  refine r_V3vx (pc := 12) C (t_opens hR hT ha hz (tg.old lg1 lg2 hoA) (hC.rd hoA) (m := rG σ) (n := 6) (by omega) (by omega)) vl_X7_130 hR.r7 (by decide) (by omega) (by omega) (Nat.le_of_ble_eq_true rfl) rfl dX7_newGate_12 (fun q A9 hp hE => r_out C E (by rw [hx]; exact fun x h => nomatch h) hE.choose_spec (by omega) (by omega) (by rcases hp with ⟨q1, q2⟩ | ⟨q1, q2, q3⟩; (exact Or.inl ⟨fun w => q1 w.2, q2.of Gw.rf (fun _ _ q => q.elim)⟩); (exact Or.inr ⟨⟨h0, q1⟩, sg_x ⟨(gate_x0 h0 q2).1, (gate_x0 h0 q2).2, by decide⟩ q3 Gw.rf (fun _ _ q => q.elim)⟩))) (fun u2 A2 hc2 => ?_)
  obtain ⟨hiw, hm6, hR1, hG1⟩ := hc2
  generalize A2 = D at hR1 hG1 ⊢
  have hw1 : 1 ≤ wln B L (skp B L s.a) := by have h8 := (isWd_iff.mp hiw).1; rw [h8]; decide
  have hA1 : Gw A D (XG A r l d σ) := (Gw.rf (A := A)).tr2 hG1 (fun y _ e => Or.inl e)
  refine r_Z (A := D) fun hZD => ?_
  have hB1 := hB.mv hZ hG1 (fun y hy e => by have h3 := fp_k hB.L hy; rw [e, hR.r7] at h3; omega) (StP.rd hZ hR.r7 hG1)
  refine r_aload_0 (pc := 15) C dX7_newGate_15 ?_
  refine r_aload_1 (pc := 16) C dX7_newGate_16 ?_
  refine r_ngetR (pc := 17) C fn_X7_165_2 (by exact ly_g hB1.L) rfl (by exact ly_r11 hB1.L) dX7_newGate_17 ?_
  refine r_V1rx (pc := 20) C (t_newNameG hR1 hT (by omega) hz hB1.L8 hB1.v hN8 hB1.N8) vl_X7_171 hR1.r7 (by decide) (by omega) (by omega) (Nat.le_of_ble_eq_true rfl) rfl dX7_newGate_20 (fun q A9 hp hE => r_out C E (by rw [hx]; exact fun x h => nomatch h) hE.choose_spec (by omega) (by omega) (by obtain ⟨e, p, q1, q2⟩ := hp; rw [newR_bs] at q1; exact Or.inr ⟨⟨h0, hiw⟩, sg_x (gate_x1 h0 hm6 hw1 q1) q2 hA1 (fun _ _ q => q.elim)⟩)) (fun u3 A3 hc3 => ?_)
  obtain ⟨v9, p2, en1, en2, en3, hwr, hR2, hG2⟩ := hc3
  rw [newR_bs] at en1
  subst en2
  generalize u3 = nm at hwr ⊢
  generalize A3 = F at hwr hR2 hG2 ⊢
  have hA2 : Gw A F (XG A r l d σ) := hA1.tr2 hG2 (fun y _ e => Or.inl e)
  refine r_Z (A := F) fun hZF => ?_
  have hB2 := hB1.mv hZD hG2 (fun y hy e => by have h3 := fp_k hB1.L hy; rw [e, hR1.r7] at h3; omega) (StP.rd hZD hR1.r7 hG2)
  refine r_astore_2 (pc := 23) C dX7_newGate_23 rfl ?_
  refine r_aload_0 (pc := 24) C dX7_newGate_24 ?_
  refine r_aload_1 (pc := 25) C dX7_newGate_25 ?_
  refine r_V1ix (pc := 26) C (t_cell hR2 hT (by omega) hz hB2.L8 hB2.v hW8) vl_X7_175 hR2.r7 (by decide) (by omega) (by omega) (Nat.le_of_ble_eq_true rfl) rfl dX7_newGate_26 (fun q A9 hp hE => r_out C E (by rw [hx]; exact fun x h => nomatch h) hE.choose_spec (by omega) (by omega) (by rcases hp with ⟨e, p, q1, q2⟩ | ⟨x, e, p, q1, q2, q3⟩; (rw [bs_W] at q1; exact Or.inr ⟨⟨h0, hiw⟩, sg_x (gate_x2 (x := 0) (p3 := 0) h0 hm6 hw1 en1 (Or.inl q1)) q2 hA2 (fun _ _ q => Or.inl q)⟩); (rw [bs_W] at q1; rw [bs_H] at q2; exact Or.inr ⟨⟨h0, hiw⟩, sg_x (gate_x2 h0 hm6 hw1 en1 (Or.inr ⟨q1, q2⟩)) q3 hA2 (fun _ _ q => Or.inl q)⟩))) (fun u4 A4 hc4 => ?_)
  obtain ⟨x, y, p4, ex1, ex2, ex3, hxw, hyh, eu, hR3, hG3⟩ := hc4
  rw [bs_W] at ex1 hxw eu
  rw [bs_H] at ex2 hyh
  refine r_top eu ?_
  subst ex3
  clear eu u4
  generalize A4 = Q at hR3 hG3 ⊢
  have hA3 : Gw A Q (XG A r l d σ) := hA2.tr2 hG3 (fun y _ e => Or.inl e)
  refine r_Z (A := Q) fun hZQ => ?_
  have hB3 := hB2.mv hZF hG3 (fun y hy e => by have h3 := fp_k hB2.L hy; rw [e, hR2.r7] at h3; omega) (StP.rd hZF hR2.r7 hG3)
  obtain ⟨v3, w3, hsR3, -, -⟩ := id hR3
  have hcc : rW σ * y + x < rC σ := by have h8 := at_lt hW.s hxw hyh; rw [Nat.mul_comm]; exact h8
  refine r_istore_3 (pc := 29) C dX7_newGate_29 rfl ?_
  refine r_aload_0 (pc := 30) C dX7_newGate_30 ?_
  refine r_aload_1 (pc := 31) C dX7_newGate_31 ?_
  refine r_iload_3 (pc := 32) C dX7_newGate_32 ?_
  refine r_V1io (pc := 33) C (l_isGrass hB3.L8 hB3.v hW8 (by rw [bs_C]; exact hcc)) vl_X7_179 (by exact ly_g hB3.L) (by decide) (by omega) (by omega) (Nat.le_of_ble_eq_true rfl) rfl dX7_newGate_33 (fun u5 A5 hc5 => ?_)
  refine r_top (hc5.1.trans (bI_iff (show (bs σ (153 + 5 * (rW σ * y + x) + 0) = 0) ↔ (σ (153 + 5 * (rW σ * y + x) + 0) = 0) by rw [bs_x (by omega)]))) ?_
  refine r_eqA hc5.2 ?_
  clear hc5 A5 u5
  refine r_iconst (pc := 36) C dX7_newGate_36 ci_3 ?_
  refine r_V2vx (pc := 37) C (t_need hsR3 (e := 3)) vl_X7_94 hR3.r7 (by decide) (by omega) (by omega) (Nat.le_of_ble_eq_true rfl) rfl dX7_newGate_37 (fun q A9 hp hE => r_out C E (by rw [hx]; exact fun x h => nomatch h) hE.choose_spec (by omega) (by omega) (by have hk9 := (hK2 _ (by have := hW.s.c80; omega)).resolve_left hp.1; have hx3 := gate_x3 h0 hm6 hw1 en1 ex1 ex2 hk9; exact Or.inr ⟨⟨h0, hiw⟩, sg_x ⟨hx3.1, hx3.2, by decide⟩ hp.2 hA3 (fun _ _ q => q.elim)⟩)) (fun u6 A6 hc6 => ?_)
  obtain ⟨hk0, eA6⟩ := hc6
  refine r_eqA eA6 ?_
  clear eA6 A6 u6
  refine r_aload_0 (pc := 40) C dX7_newGate_40 ?_
  refine r_V0v (pc := 41) C (t_next (a := (nxE B L (nxE B L (nxE B L (nxE B L s.a))))) hsR3 hz hT (by omega)) vl_X7_28 hR3.r7 (by decide) (by omega) (by omega) (Nat.le_of_ble_eq_true rfl) rfl dX7_newGate_41 (fun u7 A7 hc7 => ?_)
  obtain ⟨hR4, hG4, -⟩ := hc7
  generalize A7 = U at hR4 hG4 ⊢
  have hA4 : Gw A U (XG A r l d σ) := hA3.tr2 hG4 (fun y _ e => Or.inl e)
  refine r_Z (A := U) fun hZU => ?_
  have hB4 := hB3.mv hZQ hG4 (fun y hy e => by have h3 := fp_k hB3.L hy; rw [e, hR3.r7] at h3; omega) (StP.rd hZQ hR3.r7 hG4)
  obtain ⟨k1, k2, k3, k4, k5, k6, k7⟩ := gate_ok h0 hm6 hw1 en1 ex1 ex2
  have hP := gate_P hm6 k4
  have hNm : NmS U nm (gW6 σ B L (nextS B L s)) (21 + 9 * rG σ) := nms_sp hZF (gate_nm hm6 k2 (by rw [k3]; exact en1) (by rw [k3]; exact hwr) (by rw [k3]; exact en3)) ((StP.rd hZF hR2.r7 hG3).tr (StP.rd hZQ hR3.r7 hG4)) (fun y hy => ((hG4.2 y (Nat.lt_of_lt_of_le hy hG3.1)).1).trans (hG3.2 y hy).1)
  obtain ⟨gs1, gs2, gs3⟩ := gate_S h0 hm6 hw1 en1 ex1 ex2 (by rw [hk0]; exact fun q => nI2_0 q.symm)
  refine r_aload_1 (pc := 44) C dX7_newGate_44 ?_
  refine r_aload_2 (pc := 45) C dX7_newGate_45 ?_
  refine r_iload_3 (pc := 46) C dX7_newGate_46 ?_
  refine r_V2v (pc := 47) C (l_addsGate hB4 hW hm6 hcc hk0 hP hNm) vl_X7_182 (by exact ly_g hB4.L) (by decide) (by omega) (by omega) (Nat.le_of_ble_eq_true rfl) rfl dX7_newGate_47 (fun u8 A8 hc8 => ?_)
  obtain ⟨d2, hB5, hG5, hS5⟩ := hc8
  generalize A8 = V at hB5 hG5 hS5 ⊢
  refine r_Z (A := V) fun hZV => ?_
  have hR5 := hR4.lw hZU hB4.L hG5
  have hA5 : Gw A V (XG A r l d σ) := hA4.tr2 hG5 (fun y hy q => Or.inr (lx_back hZ hB.L hA4 q))
  refine r_aload_0 (pc := 50) C dX7_newGate_50 ?_
  refine r_V0vx (pc := 51) C (t_sign hR5 hT (by omega) hz) vl_X7_142 hR5.r7 (by decide) (by omega) (by omega) (Nat.le_of_ble_eq_true rfl) rfl dX7_newGate_51 (fun q A9 hp hE => r_out C E (by rw [hx]; exact fun x h => nomatch h) hE.choose_spec (by omega) (by omega) (by obtain ⟨q1, q2⟩ := sgn_x (c := 59) gs1 (fun _ => rfl) (by rw [gs2]; exact hp) hA5; exact Or.inr ⟨⟨h0, hiw⟩, q1, q2⟩)) (fun u9 A9 hc9 => ?_)
  obtain ⟨a6, y1, y2, hR6, hG6, -⟩ := hc9
  generalize A9 = V6 at hR6 hG6 ⊢
  refine r_vret (pc := 54) C E (by omega) (by omega) dX7_newGate_54 ?_
  obtain ⟨z1, z2⟩ := sgnS_r (c := 59) gs1 (by rw [gs2]; exact y1)
  have hB6 := hB5.mv hZV hG6 (fun y hy e => by have h3 := fp_k hB5.L hy; rw [e, hR5.r7] at h3; omega) (StP.rd hZV hR5.r7 hG6)
  have hq1 := nam_nx en3.1
  have hq2 := num_nx ex1
  have hq3 := num_nx ex2
  refine ⟨⟨h0, hiw⟩, z1, by rw [z2]; exact hR6, by rw [z2, y2], by omega, gs1, ⟨d2, by rw [gs3]; exact hB6⟩, hA5.tr2 hG6 (fun y _ e => Or.inl e)⟩
