/-! THE COMPONENT, 33: the reader: a walker -/
set_option maxRecDepth 100000
theorem wk_new {Y : HA} {t nm : Nat} {v2 v3 v4 v1 : Int32} : Gw Y (OB Y t (va_up (Y.R t) 0 (some nm)) (upd (upd (upd (upd (Y.I t) 2 v2) 3 v3) 4 v4) 1 v1)) (fun y => y = t) ∧ (OB Y t (va_up (Y.R t) 0 (some nm)) (upd (upd (upd (upd (Y.I t) 2 v2) 3 v3) 4 v4) 1 v1)).G = Y.G ∧ (OB Y t (va_up (Y.R t) 0 (some nm)) (upd (upd (upd (upd (Y.I t) 2 v2) 3 v3) 4 v4) 1 v1)).R t 0 = some nm ∧ (OB Y t (va_up (Y.R t) 0 (some nm)) (upd (upd (upd (upd (Y.I t) 2 v2) 3 v3) 4 v4) 1 v1)).I t = upd (upd (upd (upd (Y.I t) 2 v2) 3 v3) 4 v4) 1 v1 := by
  refine ⟨gw_OB _ _ _ _ (fun _ => rfl), rfl, ?_, ?_⟩
  · rw [OB_r, va_up_self]
  · rw [OB_i]
theorem wk_x {A F D : HA} {X Y : Nat → Prop} {B : Nat → Nat} {L q e p : Nat} {σ : Rw} {s : TS} (h : WkX σ B L s e p) (hU : UnX F D Y q (nI e) (nI p)) (hG : Gw A F X) (hY : ∀ y, y < A.z → Y y → X y) : ¬ (walkS σ B L (nextS B L s)).e = 0 ∧ UnX A D X q (nI (walkS σ B L (nextS B L s)).e) (walkS σ B L (nextS B L s)).p := by
  obtain ⟨h1, h2, h3⟩ := h
  rw [h1, h2]
  exact ⟨h3, hU.of hG hY⟩
set_option maxHeartbeats 4000000 in
theorem t_newWalker {g : GZ} {A : HA} {r c bf L : Nat} {B : Nat → Nat} {s : TS} (h0 : s.e = 0) (hR : RdT g A r c bf L B s.a) (hT : TkC g) (ha : s.a ≤ L) (hz : zS g) {z0 l : Nat} {d : Nat → Nat} {σ : Rw} (hB : LwB g A z0 l d σ) (hD : Dj σ) (hC : EmK g) (hkW : WkG g "LawnPaths$TextReader" 154 "walker" wWalker)  : Ct g wV yX7_newWalker (.code yX7_newWalker cX7_newWalker 6 (Option.none : Option Jvm.ClassFile.FieldType)) 20 (30 * ((nxE B L (nxE B L (nxE B L (nxE B L (nxE B L (nxE B L (nxE B L s.a))))))) - (nxE B L s.a)) + 20) (120 * ((nxE B L (nxE B L (nxE B L (nxE B L (nxE B L (nxE B L (nxE B L s.a))))))) - (nxE B L s.a)) + 150) [.ref r, .ref l] (A) (fun u A' => seesW B L wWalker s ∧ (walkS σ B L (nextS B L s)).e = 0 ∧ RdT g A' r c bf L B (walkS σ B L (nextS B L s)).a ∧ (walkS σ B L (nextS B L s)).a = (nxE B L (nxE B L (nxE B L (nxE B L (nxE B L (nxE B L s.a)))))) ∧ nxE B L s.a + 5 ≤ (nxE B L (nxE B L (nxE B L (nxE B L (nxE B L (nxE B L s.a)))))) ∧ (∃ d', LwB g A' z0 l d' (walkW σ B L (nextS B L s))) ∧ Gw A A' (XG A r l d σ)) (fun q A' => (¬ seesW B L wWalker s ∧ UnX A A' (XG A r l d σ) q (nI 1) (nI (skp B L s.a))) ∨ (seesW B L wWalker s ∧ ¬ (walkS σ B L (nextS B L s)).e = 0 ∧ UnX A A' (XG A r l d σ) q (nI (walkS σ B L (nextS B L s)).e) (walkS σ B L (nextS B L s)).p)) := by
  refine Ct.of [some (.ref r), some (.ref l), none, none, none, none] (by decide) rfl rfl fun z C hx hnm E => ?_
  obtain ⟨v0, w0, hsR, hv0, hw0⟩ := id hR
  have h9 := hsR.l9
  refine r_Z fun hZ => ?_
  refine r_old fun hoA => ?_
  have hn0 := nxE_le (B := B) ha
  have hn1 := nxE_le (B := B) (L := L) (a := (nxE B L s.a)) (by omega)
  have hn2 := nxE_le (B := B) (L := L) (a := (nxE B L (nxE B L s.a))) (by omega)
  have hn3 := nxE_le (B := B) (L := L) (a := (nxE B L (nxE B L (nxE B L s.a)))) (by omega)
  have hn4 := nxE_le (B := B) (L := L) (a := (nxE B L (nxE B L (nxE B L (nxE B L s.a))))) (by omega)
  have hn5 := nxE_le (B := B) (L := L) (a := (nxE B L (nxE B L (nxE B L (nxE B L (nxE B L s.a)))))) (by omega)
  have hn6 := nxE_le (B := B) (L := L) (a := (nxE B L (nxE B L (nxE B L (nxE B L (nxE B L (nxE B L s.a))))))) (by omega)
  have hx0_ : (nxE B L (nxE B L s.a)) = tkE B L (skp B L (nxE B L s.a)) := rfl
  have hx1_ : (nxE B L (nxE B L (nxE B L s.a))) = tkE B L (skp B L (nxE B L (nxE B L s.a))) := rfl
  have hx2_ : (nxE B L (nxE B L (nxE B L (nxE B L s.a)))) = tkE B L (skp B L (nxE B L (nxE B L (nxE B L s.a)))) := rfl
  have hx3_ : (nxE B L (nxE B L (nxE B L (nxE B L (nxE B L s.a))))) = tkE B L (skp B L (nxE B L (nxE B L (nxE B L (nxE B L s.a))))) := rfl
  have hx4_ : (nxE B L (nxE B L (nxE B L (nxE B L (nxE B L (nxE B L s.a)))))) = tkE B L (skp B L (nxE B L (nxE B L (nxE B L (nxE B L (nxE B L s.a)))))) := rfl
  have hx5_ : (nxE B L (nxE B L (nxE B L (nxE B L (nxE B L (nxE B L (nxE B L s.a))))))) = tkE B L (skp B L (nxE B L (nxE B L (nxE B L (nxE B L (nxE B L (nxE B L s.a))))))) := rfl
  obtain ⟨qg, vg, zg, tg, lg1, lg2⟩ := hkW
  have hW := hD.1.w
  have g6 := hW.g6
  have k6 := hW.k6
  have hW8 := (bs_J hD.1).w
  have hN8 := hW8.num
  have hzl := hB.z0l
  have hlz := hZ.lt (ly_g hB.L) rfl
  refine r_aload_0 (pc := 0) C dX7_newWalker_0 ?_
  refine r_ldcS (pc := 1) C zg dX7_newWalker_1 ?_
  refine r_aload_1 (pc := 3) C dX7_newWalker_3 ?_
  refine r_ngetR (pc := 4) C fn_X7_186_2 (by exact ly_g hB.L) rfl (by exact ly_r12 hB.L) dX7_newWalker_4 ?_
  refine r_V0io (pc := 7) C (j_X3_size (n := rK σ) (ly_g12 hB.L) (ly_r20 hB.L) (ly_g20 hB.L) hB.lw.2.2.1) vl_X7_169 (by exact ly_g12 hB.L) (by decide) (by omega) (by omega) (Nat.le_of_ble_eq_true rfl) rfl dX7_newWalker_7 (fun u1 A1 hc1 => ?_)
  refine r_top hc1.1 ?_
  refine r_eqA hc1.2 ?_
  clear hc1 A1 u1
  refine r_bipush (pc := 10) C dX7_newWalker_10 cb_6 ?_
  refine r_V3vx (pc := 12) C (t_opens hR hT ha hz (tg.old lg1 lg2 hoA) (hC.rd hoA) (m := rK σ) (n := 6) (by omega) (by omega)) vl_X7_130 hR.r7 (by decide) (by omega) (by omega) (Nat.le_of_ble_eq_true rfl) rfl dX7_newWalker_12 (fun q A9 hp hE => r_out C E (by rw [hx]; exact fun x h => nomatch h) hE.choose_spec (by omega) (by omega) (by rcases hp with ⟨q1, q2⟩ | ⟨q1, q2, q3⟩; (exact Or.inl ⟨fun w => q1 w.2, q2.of Gw.rf (fun _ _ q => q.elim)⟩); (exact Or.inr ⟨⟨h0, q1⟩, wk_x (walk_x0 h0 q2) q3 Gw.rf (fun _ _ q => q.elim)⟩))) (fun u2 A2 hc2 => ?_)
  obtain ⟨hiw, hm6, hR1, hG1⟩ := hc2
  generalize A2 = D at hR1 hG1 ⊢
  have hw1 : 1 ≤ wln B L (skp B L s.a) := by have h8 := (isWd_iff.mp hiw).1; rw [h8]; decide
  have hA1 : Gw A D (XG A r l d σ) := (Gw.rf (A := A)).tr2 hG1 (fun y _ e => Or.inl e)
  refine r_Z (A := D) fun hZD => ?_
  have hB1 := hB.mv hZ hG1 (fun y hy e => by have h3 := fp_k hB.L hy; rw [e, hR.r7] at h3; omega) (StP.rd hZ hR.r7 hG1)
  refine r_aload_0 (pc := 15) C dX7_newWalker_15 ?_
  refine r_aload_1 (pc := 16) C dX7_newWalker_16 ?_
  refine r_ngetR (pc := 17) C fn_X7_186_2 (by exact ly_g hB1.L) rfl (by exact ly_r12 hB1.L) dX7_newWalker_17 ?_
  refine r_V1rx (pc := 20) C (t_newNameW hR1 hT (by omega) hz hB1.L8 hB1.v hN8 hB1.N8) vl_X7_171 hR1.r7 (by decide) (by omega) (by omega) (Nat.le_of_ble_eq_true rfl) rfl dX7_newWalker_20 (fun q A9 hp hE => r_out C E (by rw [hx]; exact fun x h => nomatch h) hE.choose_spec (by omega) (by omega) (by obtain ⟨e, p, q1, q2⟩ := hp; rw [newR_bs] at q1; exact Or.inr ⟨⟨h0, hiw⟩, wk_x (walk_x1 h0 hm6 hw1 q1) q2 hA1 (fun _ _ q => q.elim)⟩)) (fun u3 A3 hc3 => ?_)
  obtain ⟨v9, p2, en1, en2, en3, hwr, hR2, hG2⟩ := hc3
  rw [newR_bs] at en1
  subst en2
  generalize u3 = nm at hwr ⊢
  generalize A3 = F at hwr hR2 hG2 ⊢
  have hA2 : Gw A F (XG A r l d σ) := hA1.tr2 hG2 (fun y _ e => Or.inl e)
  refine r_Z (A := F) fun hZF => ?_
  have hB2 := hB1.mv hZD hG2 (fun y hy e => by have h3 := fp_k hB1.L hy; rw [e, hR1.r7] at h3; omega) (StP.rd hZD hR1.r7 hG2)
  refine r_astore_2 (pc := 23) C dX7_newWalker_23 rfl ?_
  refine r_aload_0 (pc := 24) C dX7_newWalker_24 ?_
  refine r_aload_1 (pc := 25) C dX7_newWalker_25 ?_
  refine r_ngetR (pc := 26) C fn_X7_165_2 (by exact ly_g hB2.L) rfl (by exact ly_r11 hB2.L) dX7_newWalker_26 ?_
  refine r_iconst (pc := 29) C dX7_newWalker_29 ci_m1 ?_
  refine r_V2ix (pc := 30) C (t_foundG hR2 hT (by omega) hz hB2.L8 hB2.v hN8 hB2.N8 (but := -1)) vl_X7_189 hR2.r7 (by decide) (by omega) (by omega) (Nat.le_of_ble_eq_true rfl) rfl dX7_newWalker_30 (fun q A9 hp hE => r_out C E (by rw [hx]; exact fun x h => nomatch h) hE.choose_spec (by omega) (by omega) (by obtain ⟨e, p, q1, q2⟩ := hp; rw [fndR_bs] at q1; exact Or.inr ⟨⟨h0, hiw⟩, wk_x (walk_x2 g6 h0 hm6 hw1 en1 q1) q2 hA2 (fun _ _ q => q.elim)⟩)) (fun u4 A4 hc4 => ?_)
  obtain ⟨k, ak, ef1, e2, e3, fh1, hR3, hG3⟩ := hc4
  rw [fndR_bs] at ef1
  refine r_top e3 ?_
  subst e2
  clear e3 u4
  generalize A4 = Q at hR3 hG3 ⊢
  have k9 : k < rG σ := by have h8 := here_g fh1; rw [bs_G] at h8; exact h8
  have hA3 : Gw A Q (XG A r l d σ) := hA2.tr2 hG3 (fun y _ e => Or.inl e)
  refine r_Z (A := Q) fun hZQ => ?_
  have hB3 := hB2.mv hZF hG3 (fun y hy e => by have h3 := fp_k hB2.L hy; rw [e, hR2.r7] at h3; omega) (StP.rd hZF hR2.r7 hG3)
  refine r_istore_3 (pc := 33) C dX7_newWalker_33 rfl ?_
  refine r_aload_0 (pc := 34) C dX7_newWalker_34 ?_
  refine r_aload_1 (pc := 35) C dX7_newWalker_35 ?_
  refine r_ngetR (pc := 36) C fn_X7_165_2 (by exact ly_g hB3.L) rfl (by exact ly_r11 hB3.L) dX7_newWalker_36 ?_
  refine r_iload_3 (pc := 39) C dX7_newWalker_39 ?_
  refine r_V2ix (pc := 40) C (t_foundG hR3 hT (by omega) hz hB3.L8 hB3.v hN8 hB3.N8 (but := nI k)) vl_X7_189 hR3.r7 (by decide) (by omega) (by omega) (Nat.le_of_ble_eq_true rfl) rfl dX7_newWalker_40 (fun q A9 hp hE => r_out C E (by rw [hx]; exact fun x h => nomatch h) hE.choose_spec (by omega) (by omega) (by obtain ⟨e, p, q1, q2⟩ := hp; rw [fndR_bs] at q1; exact Or.inr ⟨⟨h0, hiw⟩, wk_x (walk_x3 g6 h0 hm6 hw1 en1 ef1 q1) q2 hA3 (fun _ _ q => q.elim)⟩)) (fun u5 A5 hc5 => ?_)
  obtain ⟨m, am, ef2, e2, e3, fh2, hR4, hG4⟩ := hc5
  rw [fndR_bs] at ef2
  refine r_top e3 ?_
  subst e2
  clear e3 u5
  generalize A5 = U at hR4 hG4 ⊢
  have m9 : m < rG σ := by have h8 := here_g fh2; rw [bs_G] at h8; exact h8
  have hA4 : Gw A U (XG A r l d σ) := hA3.tr2 hG4 (fun y _ e => Or.inl e)
  refine r_Z (A := U) fun hZU => ?_
  have hB4 := hB3.mv hZQ hG4 (fun y hy e => by have h3 := fp_k hB3.L hy; rw [e, hR3.r7] at h3; omega) (StP.rd hZQ hR3.r7 hG4)
  refine r_istore_4 (pc := 43) C dX7_newWalker_43 rfl ?_
  refine r_aload_0 (pc := 45) C dX7_newWalker_45 ?_
  refine r_iconst (pc := 46) C dX7_newWalker_46 ci_0 ?_
  refine r_bipush (pc := 47) C dX7_newWalker_47 cb_9 ?_
  refine r_V2ix (pc := 49) C (t_number hR4 hT (by omega) hz (lo := 0) (hi := 9) (by decide) (by decide)) vl_X7_134 hR4.r7 (by decide) (by omega) (by omega) (Nat.le_of_ble_eq_true rfl) rfl dX7_newWalker_49 (fun q A9 hp hE => r_out C E (by rw [hx]; exact fun x h => nomatch h) hE.choose_spec (by omega) (by omega) (by obtain ⟨e, p, q1, q2⟩ := hp; exact Or.inr ⟨⟨h0, hiw⟩, wk_x (walk_x4 g6 h0 hm6 hw1 en1 ef1 ef2 q1) q2 hA4 (fun _ _ q => q.elim)⟩)) (fun u6 A6 hc6 => ?_)
  obtain ⟨v, av, ex1, e2, e3, ex14, hR5, hG5⟩ := hc6
  refine r_top e3 ?_
  subst e2
  clear e3 u6
  generalize A6 = V at hR5 hG5 ⊢
  have hA5 : Gw A V (XG A r l d σ) := hA4.tr2 hG5 (fun y _ e => Or.inl e)
  refine r_Z (A := V) fun hZV => ?_
  have hB5 := hB4.mv hZU hG5 (fun y hy e => by have h3 := fp_k hB4.L hy; rw [e, hR4.r7] at h3; omega) (StP.rd hZU hR4.r7 hG5)
  have hA6 : Gw A (V.mk 5 l 0) (XG A r l d σ) := hA5.tr2 (gw_mk (X := Non)) (fun _ _ q => q.elim)
  have hR6 := hR5.gw hZV (gw_mk (A := V) (k := 5) (o := l) (len := 0) (X := Non)) (fun q => q) (fun q => q) (fun q => q) (fun _ _ q => q.elim)
  have hB6 := hB5.mv hZV (gw_mk (A := V) (k := 5) (o := l) (len := 0) (X := Non)) (fun _ _ q => q) (StP.no hZV gw_mk)
  have hlV : l ≤ V.z := by have := hA5.1; omega
  refine r_istore_5 (pc := 52) C dX7_newWalker_52 rfl ?_
  refine r_aload_1 (pc := 54) C dX7_newWalker_54 ?_
  refine r_ngetR (pc := 55) C fn_X7_186_2 (by exact ly_g hB5.L) rfl (by exact ly_r12 hB5.L) dX7_newWalker_55 ?_
  refine r_new (pc := 58) C (l) hlV nl_X7_193 NF5 (by omega) (by omega) dX7_newWalker_58 ?_
  refine r_Z (A := V.mk 5 l 0) fun hZ6 => ?_
  refine r_dup (pc := 61) C dX7_newWalker_61 rfl ?_
  refine r_aload_2 (pc := 62) C dX7_newWalker_62 ?_
  refine r_iload_3 (pc := 63) C dX7_newWalker_63 ?_
  refine r_iload_4 (pc := 64) C dX7_newWalker_64 ?_
  refine r_iload_5 (pc := 66) C dX7_newWalker_66 ?_
  refine r_aload_0 (pc := 68) C dX7_newWalker_68 ?_
  refine r_iconst (pc := 69) C dX7_newWalker_69 ci_1 ?_
  refine r_bipush (pc := 70) C dX7_newWalker_70 cb_9 ?_
  refine r_V2ix (pc := 72) C (t_number hR6 hT (by omega) hz (lo := 1) (hi := 9) (by decide) (by decide)) vl_X7_134 hR6.r7 (by decide) (by omega) (by omega) (Nat.le_of_ble_eq_true rfl) rfl dX7_newWalker_72 (fun q A9 hp hE => r_out C E (by rw [hx]; exact fun x h => nomatch h) hE.choose_spec (by omega) (by omega) (by obtain ⟨e, p, q1, q2⟩ := hp; exact Or.inr ⟨⟨h0, hiw⟩, wk_x (walk_x5 g6 h0 hm6 hw1 en1 ef1 ef2 ex1 q1) q2 hA6 (fun _ _ q => q.elim)⟩)) (fun u7 A7 hc7 => ?_)
  obtain ⟨u9, au9, ex2, e2, e3, ex24, hR7, hG7⟩ := hc7
  refine r_top e3 ?_
  subst e2
  clear e3 u7
  generalize A7 = Y at hR7 hG7 ⊢
  have hA7 : Gw A Y (XG A r l d σ) := hA6.tr2 hG7 (fun y _ e => Or.inl e)
  refine r_Z (A := Y) fun hZY => ?_
  have hB7 := hB6.mv hZ6 hG7 (fun y hy e => by have h3 := fp_k hB6.L hy; rw [e, hR6.r7] at h3; omega) (StP.rd hZ6 hR6.r7 hG7)
  have hrV := hZV.lt hR5.r7 rfl
  have hv9 : V.z < (V.mk 5 l 0).z := by rw [mk_z]; omega
  have hYG : Y.G V.z = (5, l) := by rw [(hG7.2 _ hv9).1, mk_G, if_pos rfl]
  have hYI : Y.I V.z = fun _ => 0 := by rw [((hG7.2 _ hv9).2.2 (fun e => by omega)).2.1, mk_I, if_pos rfl]
  have hY0 : ∀ j, Y.I V.z j = 0 := fun j => by rw [hYI]
  have hFY : Gw F Y (fun y => y = r) := (((hG3.tr hG4).tr hG5).tr2 (gw_mk (k := 5) (o := l) (len := 0) (X := Non)) (fun _ _ q => q.elim)).tr hG7
  obtain ⟨a1, a2, a3, a4, a5⟩ := walk_1 (B := B) (L := L) (σ := σ) h0 hm6 hw1
  have hNY : NmS Y nm (kW6 σ B L (nextS B L s)) (75 + 13 * rK σ) := nms_sp hZF (walk_nm a2 (by rw [a3]; exact en1) (by rw [a3]; exact hwr) (by rw [a3]; exact en3)) (StP.rd hZF hR2.r7 hFY) (fun y hy => (hFY.2 y hy).1)
  refine r_I5vo (pc := 75) C (j_X5_init (t := V.z) (by rw [hYG])) il_X7_195 (by decide) (by omega) (by omega) (Nat.le_of_ble_eq_true rfl) rfl dX7_newWalker_75 (fun u8 A8 hc8 => ?_)
  refine r_eqA hc8 ?_
  clear hc8 A8 u8
  obtain ⟨hGn, hnG, hn2, hn3⟩ := wk_new (Y := Y) (t := V.z) (nm := nm) (v2 := nI k) (v3 := nI m) (v4 := nI v) (v1 := nI u9)
  generalize (OB Y V.z (va_up (Y.R V.z) 0 (some nm)) (upd (upd (upd (upd (Y.I V.z) 2 (nI k)) 3 (nI m)) 4 (nI v)) 1 (nI u9))) = Z8 at hGn hnG hn2 hn3 ⊢
  have hn1 : Z8.G V.z = (5, l) := by rw [hnG]; exact hYG
  refine r_Z (A := Z8) fun hZ8 => ?_
  have hS8 : StP Y Z8 := StP.gw hZY hGn (fun y q => by rw [q, hYG]; exact ⟨(show (5 : Nat) ≠ 16 by decide), (show isBy 5 = false by decide)⟩)
  have hB8 := hB7.mv hZY hGn (fun y hy e => by have h3 := fp_lt hZV hB5.L hy; omega) hS8
  have hR8 := hR7.gw hZY hGn (fun e => by have h8 := hR7.r7; rw [e, hYG] at h8; cases h8) (fun e => by obtain ⟨x1, x2, x3, -, -⟩ := id hR7; have h8 := x3.2.1.1; rw [e, hYG] at h8; cases h8) (fun e => by obtain ⟨x1, x2, x3, -, -⟩ := id hR7; have h8 := x3.2.1.2.2.1; rw [e, hYG] at h8; cases h8) (fun y _ q => by rw [q, hYG]; exact ⟨(show (5 : Nat) ≠ 16 by decide), (show (5 : Nat) ≠ 231 by decide)⟩)
  have hA8 : Gw A Z8 (XG A r l d σ) := hA7.tr2 hGn (fun y hy e => absurd hy (by have := hA5.1; omega))
  have hN9 : NmS Z8 nm (kW6 σ B L (nextS B L s)) (75 + 13 * rK σ) := nms_sp hZY hNY hS8 (fun y hy => by rw [hnG])
  have hLg := hB8.lw
  have hg20 := hLg.1
  have hde := hB8.de
  have hz3 : z0 ≤ V.z := by have := hA5.1; omega
  have hz4 : V.z < Z8.z := hZ8.lt (show (Z8.G V.z).1 = 5 by rw [hn1]) rfl
  have d20 : LX A l d σ (d 20) := ⟨Or.inr (Or.inr (Or.inl (Or.inr (Or.inr (Or.inl rfl))))), by rw [ly_g20 hB.L]; decide⟩
  have hxn : ∀ j, j < rK σ → d (30 + j) ≠ V.z := fun j hj e => by have h3 := fp_lt hZV hB5.L (Or.inr (Or.inr (Or.inr (Or.inl ⟨j, hj, rfl⟩)))); omega
  have hN8 := hN9
  by_cases hk0 : rK σ = 0
  · skip
    have he0 := hB8.k0 hk0
    rw [hk0, he0] at hLg
    refine r_V1v (pc := 78) C (j_X3_add0 (x := V.z) (ly_g12 hB8.L) (ly_r20 hB8.L) hLg hde (by rw [hn1]; exact OkO5)) vl_X7_198 (by exact ly_g12 hB8.L) (by decide) (by omega) (by omega) (Nat.le_of_ble_eq_true rfl) rfl dX7_newWalker_78 (fun u9 A9 hc9 => ?_)
    refine r_eqA hc9 ?_
    clear hc9 A9 u9
    refine r_vret (pc := 81) C E (by omega) (by omega) dX7_newWalker_81 ?_
    obtain ⟨ws1, ws2, ws3, ws4⟩ := walk_6 g6 h0 hm6 hw1 en1 ef1 ef2 ex1 ex2
    have hq1 := nam_nx en3.1
    have hq2 := fnd_nx ef1
    have hq3 := fnd_nx ef2
    have hq4 := num_nx ex1
    have hq5 := num_nx ex2
    obtain ⟨f1, f2, f3⟩ := ll_add0 (x := V.z) hZ8 hLg
    have hT := hA8.tr2 f2 (fun y hy q => by rw [q]; exact Or.inr d20)
    have hB9 := hB8.walk (e := Z8.z) (nm := nm) hZ8 hW hD.2.2.1 hm6 ws4 ⟨hn1, hn2, hz3⟩ ⟨by rw [hn3, pk_un (by decide), pk_un (by decide), pk_un (by decide), pk_us], by rw [hn3, pk_un (by decide), pk_un (by decide), pk_us], by rw [hn3, pk_un (by decide), pk_us], by rw [hn3, pk_us], by rw [hn3, pk_un (by decide), pk_un (by decide), pk_un (by decide), pk_un (by decide), hY0, nI0], by rw [hn3, pk_un (by decide), pk_un (by decide), pk_un (by decide), pk_un (by decide), hY0, nI0]⟩ hxn hN8 (by rw [hk0]; exact f1.cong (fun j hj => by rw [show j = 0 by omega, lower_s])) (by omega) f2 (fun y q => Or.inl q) (StP.gw hZ8 f2 (fun y q => by rw [q, hg20]; exact ⟨by decide, by decide⟩))
    have hRf := hR8.gw hZ8 f2 (fun e => by have h8 := hR8.r7; rw [e, hg20] at h8; cases h8) (fun e => by obtain ⟨x1, x2, x3, -, -⟩ := id hR8; have h8 := x3.2.1.1; rw [e, hg20] at h8; cases h8) (fun e => by obtain ⟨x1, x2, x3, -, -⟩ := id hR8; have h8 := x3.2.1.2.2.1; rw [e, hg20] at h8; cases h8) (fun y _ q => by rw [q, hg20]; exact ⟨by decide, by decide⟩)
    exact ⟨⟨h0, hiw⟩, ws1, by rw [ws2]; exact hRf, ws2, by omega, ⟨_, by rw [ws3]; exact hB9⟩, hT⟩
  · skip
    have hez9 := (hLg.2.2.2.1.resolve_left (fun q => hk0 q.1))
    have he5 : (Z8.G (d 21)).1 = 501 := by rw [hez9.1]
    have m21 : Fp l d (rK σ) (rG σ) (d 21) := Or.inr (Or.inr (Or.inl (Or.inr (Or.inr (Or.inr (Or.inl rfl))))))
    have hez : z0 ≤ d 21 := by rcases hB.2.2 (d 21) m21 with q | q; (exact q); (rw [q, hde.2.1] at he5; exact absurd he5 (by decide))
    have l21 := fp_lt hZ hB.L m21
    have d21 : LX A l d σ (d 21) := ⟨m21, by rw [← (hA8.2 _ l21).1, he5]; decide⟩
    refine r_V1vo (pc := 78) C (j_X3_addS (x := V.z) (ly_g12 hB8.L) (ly_r20 hB8.L) hLg (by omega) (by omega) (by rw [hn1]; exact OkO5)) vl_X7_198 (by exact ly_g12 hB8.L) (by decide) (by omega) (by omega) (Nat.le_of_ble_eq_true rfl) rfl dX7_newWalker_78 (fun u10 A10 hc10 => ?_)
    refine r_eqA hc10 ?_
    clear hc10 A10 u10
    refine r_vret (pc := 81) C E (by omega) (by omega) dX7_newWalker_81 ?_
    obtain ⟨ws1, ws2, ws3, ws4⟩ := walk_6 g6 h0 hm6 hw1 en1 ef1 ef2 ex1 ex2
    have hq1 := nam_nx en3.1
    have hq2 := fnd_nx ef1
    have hq3 := fnd_nx ef2
    have hq4 := num_nx ex1
    have hq5 := num_nx ex2
    obtain ⟨f1, f2⟩ := ll_addS (x := V.z) hLg (by omega) (by omega)
    have hT := hA8.tr2 f2 (fun y hy q => q.elim (fun q => by rw [q]; exact Or.inr d20) (fun q => by rw [q]; exact Or.inr d21))
    have hB9 := hB8.walk (e := d 21) (nm := nm) hZ8 hW hD.2.2.1 hm6 ws4 ⟨hn1, hn2, hz3⟩ ⟨by rw [hn3, pk_un (by decide), pk_un (by decide), pk_un (by decide), pk_us], by rw [hn3, pk_un (by decide), pk_un (by decide), pk_us], by rw [hn3, pk_un (by decide), pk_us], by rw [hn3, pk_us], by rw [hn3, pk_un (by decide), pk_un (by decide), pk_un (by decide), pk_un (by decide), hY0, nI0], by rw [hn3, pk_un (by decide), pk_un (by decide), pk_un (by decide), pk_un (by decide), hY0, nI0]⟩ hxn hN8 f1 hez f2 (fun y q => q.imp id (fun q => by rw [q]; exact hez9.1)) (StP.gw hZ8 f2 (fun y q => by rcases q with q | q; (rw [q, hg20]; exact ⟨by decide, by decide⟩); (rw [q, he5]; exact ⟨by decide, by decide⟩)))
    have kq : ∀ y, (y = d 20 ∨ y = d 21) → (Z8.G y).1 = 13 ∨ (Z8.G y).1 = 501 := fun y q => q.imp (fun q => by rw [q, hg20]) (fun q => by rw [q, he5])
    have hRf := hR8.gw hZ8 f2 (fun e => by have h8 := hR8.r7; have := kq _ e; omega) (fun e => by obtain ⟨x1, x2, x3, -, -⟩ := id hR8; have h8 := x3.2.1.1; have := kq _ e; omega) (fun e => by obtain ⟨x1, x2, x3, -, -⟩ := id hR8; have h8 := x3.2.1.2.2.1; have := kq _ e; omega) (fun y _ q => by have := kq _ q; omega)
    exact ⟨⟨h0, hiw⟩, ws1, by rw [ws2]; exact hRf, ws2, by omega, ⟨_, by rw [ws3]; exact hB9⟩, hT⟩
