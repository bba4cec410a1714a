/-! THE COMPONENT, 34: the reader: a ground line -/
set_option maxRecDepth 100000
theorem gd_x {A F D : HA} {X Y : Nat → Prop} {B : Nat → Nat} {L q e p : Nat} {σ : Rw} {s : TS} (h : GdX σ B L s e p) (hU : UnX F D Y q (nI e) (nI p)) (hG : Gw A F X) (hY : ∀ y, y < A.z → Y y → X y) : ¬ (grndS σ B L (nextS B L s)).e = 0 ∧ UnX A D X q (nI (grndS σ B L (nextS B L s)).e) (grndS σ B L (nextS B L s)).p := by
  obtain ⟨h1, h2, h3⟩ := h
  rw [h1, h2]
  exact ⟨h3, hU.of hG hY⟩
theorem isGr_4 {B : Nat → Nat} {L : Nat} {s : TS} (h0 : s.e = 0) : isGr B L s ↔ (WdT B L s wFence ∨ WdT B L s wStone ∨ WdT B L s wGrass) := ⟨fun h => by rcases h with q | q | q; (exact Or.inr (Or.inl q.2)); (exact Or.inr (Or.inr q.2)); (exact Or.inl q.2), fun h => by rcases h with q | q | q; (exact Or.inr (Or.inr ⟨h0, q⟩)); (exact Or.inl ⟨h0, q⟩); (exact Or.inr (Or.inl ⟨h0, q⟩))⟩
set_option maxHeartbeats 4000000 in
theorem t_newThing {g : GZ} {A : HA} {r c bf L : Nat} {B : Nat → Nat} {s : TS} (h0 : s.e = 0) (hR : RdT g A r c bf L B s.a) (hT : TkC g) (ha : s.a ≤ L) (hz : zS g) {z0 l : Nat} {d : Nat → Nat} {σ : Rw} (hB : LwB g A z0 l d σ) (hD : Dj σ) (hC : EmK g) (hGd : GdK g) (hkF : WkG g "LawnPaths$TextReader" 202 "fence" wFence) (hkS : WkG g "LawnPaths$TextReader" 204 "stone" wStone) (hkG : WkG g "LawnPaths$TextReader" 206 "grass" wGrass)  : Ct g wV yX7_newThing (.code yX7_newThing cX7_newThing 6 (Option.none : Option Jvm.ClassFile.FieldType)) 20 (30 * (nxE B L (thE B L s) - (nxE B L s.a)) + 20) (120 * (nxE B L (thE B L s) - (nxE B L s.a)) + 130) [.ref r, .ref l] (A) (fun u A' => isGr B L s ∧ (grndS σ B L (nextS B L s)).e = 0 ∧ RdT g A' r c bf L B (grndS σ B L (nextS B L s)).a ∧ (grndS σ B L (nextS B L s)).a = thE B L s ∧ nxE B L s.a + 2 ≤ thE B L s ∧ (∃ d', LwB g A' z0 l d' (grndW σ B L (nextS B L s))) ∧ Gw A A' (XG A r l d σ)) (fun q A' => (¬ isGr B L s ∧ UnX A A' (XG A r l d σ) q (nI 1) (nI (skp B L s.a))) ∨ (isGr B L s ∧ ¬ (grndS σ B L (nextS B L s)).e = 0 ∧ UnX A A' (XG A r l d σ) q (nI (grndS σ B L (nextS B L s)).e) (grndS σ B L (nextS B L s)).p)) := by
  refine Ct.of [some (.ref r), some (.ref l), none, none, none, none] (by decide) rfl rfl fun z C hx hnm E => ?_
  obtain ⟨v0, w0, hsR, hv0, hw0⟩ := id hR
  have h9 := hsR.l9
  refine r_Z fun hZ => ?_
  refine r_old fun hoA => ?_
  have hn0 := nxE_le (B := B) ha
  have hn1 := nxE_le (B := B) (L := L) (a := (nxE B L s.a)) (by omega)
  have hn2 := nxE_le (B := B) (L := L) (a := (nxE B L (nxE B L s.a))) (by omega)
  have hn3 := nxE_le (B := B) (L := L) (a := (nxE B L (nxE B L (nxE B L s.a)))) (by omega)
  have hn4 := nxE_le (B := B) (L := L) (a := (nxE B L (nxE B L (nxE B L (nxE B L s.a))))) (by omega)
  have hn5 := nxE_le (B := B) (L := L) (a := (nxE B L (nxE B L (nxE B L (nxE B L (nxE B L s.a)))))) (by omega)
  have hn6 := nxE_le (B := B) (L := L) (a := (nxE B L (nxE B L (nxE B L (nxE B L (nxE B L (nxE B L s.a))))))) (by omega)
  have hx0_ : (nxE B L (nxE B L s.a)) = tkE B L (skp B L (nxE B L s.a)) := rfl
  have hx1_ : (nxE B L (nxE B L (nxE B L s.a))) = tkE B L (skp B L (nxE B L (nxE B L s.a))) := rfl
  have hx2_ : (nxE B L (nxE B L (nxE B L (nxE B L s.a)))) = tkE B L (skp B L (nxE B L (nxE B L (nxE B L s.a)))) := rfl
  have hx3_ : (nxE B L (nxE B L (nxE B L (nxE B L (nxE B L s.a))))) = tkE B L (skp B L (nxE B L (nxE B L (nxE B L (nxE B L s.a))))) := rfl
  have hx4_ : (nxE B L (nxE B L (nxE B L (nxE B L (nxE B L (nxE B L s.a)))))) = tkE B L (skp B L (nxE B L (nxE B L (nxE B L (nxE B L (nxE B L s.a)))))) := rfl
  have hx5_ : (nxE B L (nxE B L (nxE B L (nxE B L (nxE B L (nxE B L (nxE B L s.a))))))) = tkE B L (skp B L (nxE B L (nxE B L (nxE B L (nxE B L (nxE B L (nxE B L s.a))))))) := rfl
  obtain ⟨qf, vf, zf, tf, lf1, lf2⟩ := hkF
  obtain ⟨qs, vs, zs, ts, ls1, ls2⟩ := hkS
  obtain ⟨qg, vg, zg, tg, lg1, lg2⟩ := hkG
  have hW := hD.1.w
  have g6 := hW.g6
  have k6 := hW.k6
  have f10 := hW.f10
  have h80 := hW.s.c80
  have hJ8 := bs_J hD.1
  have hW8 := hJ8.w
  have hC8 : ∀ c, c < 80 → CelF (bs σ) c := fun c hc => (hJ8.c hc).fe
  have hfc : fcnt (bs σ) = rF σ := by rw [← hJ8.1.f, bs_F]
  obtain ⟨w1, x1, f1, hR4w, hsw, hfw1, -, -⟩ := hR.wd hC hoA
  rcases th_4 (B := B) (L := L) (s := s) with hf | ⟨hf, hs9⟩ | ⟨hf, hs9, hg9⟩ | ⟨hf, hs9, hg9⟩
  · skip
    have hs9 : ¬ WdT B L s wStone := fun q => wd_ne hf q (k := 0) (by decide) (by decide)
    have hgr : isGr B L s := (isGr_4 h0).mpr (Or.inl hf)
    have hwl := isWd_1 hf (by decide)
    have hth : thE B L s = (nxE B L (nxE B L (nxE B L s.a))) := if_neg (fun q => wd_ne hf q (k := 0) (by decide) (by decide))
    have hthn : nxE B L (thE B L s) = (nxE B L (nxE B L (nxE B L (nxE B L s.a)))) := by rw [hth]
    refine r_aload_0 (pc := 0) C dX7_newThing_0 ?_
    refine r_getR (pc := 1) C fl_X7_24_7 hsR.1.1 rfl hR4w dX7_newThing_1 ?_
    refine r_ldcS (pc := 4) C zf dX7_newThing_4 ?_
    refine r_V1io (pc := 6) C (j_J10_equals hz hsw (tf.old lf1 lf2 hoA)) vl_X7_124 hsw.g (by decide) (by omega) (by omega) (Nat.le_of_ble_eq_true rfl) rfl dX7_newThing_6 (fun u1 A1 hc1 => ?_)
    refine r_top (hc1.1.trans (bI_1 ((eqw hfw1).mpr hf)).symm) ?_
    refine r_eqA hc1.2 ?_
    clear hc1 A1 u1
    refine r_istore_2 (pc := 9) C dX7_newThing_9 rfl ?_
    refine r_aload_0 (pc := 10) C dX7_newThing_10 ?_
    refine r_getR (pc := 11) C fl_X7_24_7 hsR.1.1 rfl hR4w dX7_newThing_11 ?_
    refine r_ldcS (pc := 14) C zs dX7_newThing_14 ?_
    refine r_V1io (pc := 16) C (j_J10_equals hz hsw (ts.old ls1 ls2 hoA)) vl_X7_124 hsw.g (by decide) (by omega) (by omega) (Nat.le_of_ble_eq_true rfl) rfl dX7_newThing_16 (fun u2 A2 hc2 => ?_)
    refine r_top (hc2.1.trans (bI_00 (fun q => hs9 ((eqw hfw1).mp q))).symm) ?_
    refine r_eqA hc2.2 ?_
    clear hc2 A2 u2
    refine r_istore_3 (pc := 19) C dX7_newThing_19 rfl ?_
    refine r_aload_0 (pc := 20) C dX7_newThing_20 ?_
    refine r_iload_2 (pc := 21) C dX7_newThing_21 ?_
    refine r_if_ne (pc := 22) (tgt := 41) C dX7_newThing_22 (by decide) (fun b22 => ?_) (fun b22 => ?_)
    · skip
      refine r_iconst (pc := 41) C dX7_newThing_41 ci_1 ?_
      refine r_goto (pc := 42) (tgt := 46) C dX7_newThing_42 (by decide) ?_
      refine r_iconst (pc := 46) C dX7_newThing_46 ci_1 ?_
      refine r_V2vo (pc := 47) C (t_needYes (r := r) (e := 1)) vl_X7_94 hsR.1.1 (by decide) (by omega) (by omega) (Nat.le_of_ble_eq_true rfl) rfl dX7_newThing_47 (fun u3 A3 hc3 => ?_)
      refine r_eqA hc3 ?_
      clear hc3 A3 u3
      refine r_aload_0 (pc := 50) C dX7_newThing_50 ?_
      refine r_iload_2 (pc := 51) C dX7_newThing_51 ?_
      refine r_if_eq (pc := 52) (tgt := 64) C dX7_newThing_52 (by decide) (fun b52 => ?_) (fun b52 => ?_)
      · exact absurd b52 (by decide +kernel)
      · skip
        refine r_aload_1 (pc := 55) C dX7_newThing_55 ?_
        refine r_V0io (pc := 56) C (l_fencesAll hB.L8 hB.v hW8 hC8) vl_X7_208 (by exact ly_g hB.L) (by decide) (by omega) (by omega) (Nat.le_of_ble_eq_true rfl) rfl dX7_newThing_56 (fun u4 A4 hc4 => ?_)
        refine r_top (hc4.1.trans (congrArg nI hfc)) ?_
        refine r_eqA hc4.2 ?_
        clear hc4 A4 u4
        refine r_bipush (pc := 59) C dX7_newThing_59 cb_10 ?_
        refine r_icmp_ge (pc := 61) (tgt := 68) C dX7_newThing_61 (by decide) (fun b61 => ?_) (fun b61 => ?_)
        · skip
          have b61 := (nI_le2 (by omega) (by omega)).mp b61
          refine r_iconst (pc := 68) C dX7_newThing_68 ci_0 ?_
          refine r_iconst (pc := 69) C dX7_newThing_69 ci_4 ?_
          refine r_V2vx (pc := 70) C (t_needNo hsR (e := 4)) vl_X7_94 hsR.1.1 (by decide) (by omega) (by omega) (Nat.le_of_ble_eq_true rfl) rfl dX7_newThing_70 (fun q A9 hp hE => r_out C E (by rw [hx]; exact fun x h => nomatch h) hE.choose_spec (by omega) (by omega) (Or.inr ⟨hgr, gd_x (fen_x0 h0 hf (by omega)) hp Gw.rf (fun _ _ q => q.elim)⟩)) (fun u5 A5 hc5 => ?_)
          exact hc5.elim
        · skip
          have b61 := (not_congr (nI_le2 (by omega) (by omega))).mp b61
          refine r_iconst (pc := 64) C dX7_newThing_64 ci_1 ?_
          refine r_goto (pc := 65) (tgt := 69) C dX7_newThing_65 (by decide) ?_
          refine r_iconst (pc := 69) C dX7_newThing_69 ci_4 ?_
          refine r_V2vo (pc := 70) C (t_needYes (r := r) (e := 4)) vl_X7_94 hsR.1.1 (by decide) (by omega) (by omega) (Nat.le_of_ble_eq_true rfl) rfl dX7_newThing_70 (fun u6 A6 hc6 => ?_)
          refine r_eqA hc6 ?_
          clear hc6 A6 u6
          have hm10 : rF σ < 10 := by omega
          have hwc : (WdT B L s wFence ∧ rF σ < 10) ∨ WdT B L s wStone ∨ WdT B L s wGrass := Or.inl ⟨hf, hm10⟩
          refine r_aload_0 (pc := 73) C dX7_newThing_73 ?_
          refine r_V0v (pc := 74) C (t_next (a := (nxE B L s.a)) hsR hz hT (by omega)) vl_X7_28 hsR.1.1 (by decide) (by omega) (by omega) (Nat.le_of_ble_eq_true rfl) rfl dX7_newThing_74 (fun u7 A7 hc7 => ?_)
          obtain ⟨hR1, hG1, -⟩ := hc7
          generalize A7 = D at hR1 hG1 ⊢
          have hA1 : Gw A D (XG A r l d σ) := (Gw.rf (A := A)).tr2 hG1 (fun y _ e => Or.inl e)
          have hga : (goesS (nextS B L s)).a = nxE B L s.a := goes_nx hwl
          refine r_Z (A := D) fun hZD => ?_
          have hB1 := hB.mv hZ hG1 (fun y hy e => by have h3 := fp_k hB.L hy; rw [e, hR.r7] at h3; omega) (StP.rd hZ hR.r7 hG1)
          refine r_aload_0 (pc := 77) C dX7_newThing_77 ?_
          refine r_aload_1 (pc := 78) C dX7_newThing_78 ?_
          refine r_V1ix (pc := 79) C (t_cell hR1 hT (by omega) hz hB1.L8 hB1.v hW8) vl_X7_175 hR1.r7 (by decide) (by omega) (by omega) (Nat.le_of_ble_eq_true rfl) rfl dX7_newThing_79 (fun q A9 hp hE => r_out C E (by rw [hx]; exact fun x h => nomatch h) hE.choose_spec (by omega) (by omega) (by rcases hp with ⟨e, p, q1, q2⟩ | ⟨x, e, p, q1, q2, q3⟩; (rw [bs_W] at q1; exact Or.inr ⟨hgr, gd_x (free_gx h0 hwc (free_x (x := 0) (a2 := 0) (by exact h0) (by rw [hga]; exact Or.inl q1))) q2 hA1 (fun _ _ q => Or.inl q)⟩); (rw [bs_W] at q1; rw [bs_H] at q2; exact Or.inr ⟨hgr, gd_x (free_gx h0 hwc (free_x (by exact h0) (by rw [hga]; exact Or.inr ⟨q1, q2⟩))) q3 hA1 (fun _ _ q => Or.inl q)⟩))) (fun u8 A8 hc8 => ?_)
          obtain ⟨x, y, p4, ex1, ex2, ex3, hxw, hyh, eu, hR2, hG2⟩ := hc8
          rw [bs_W] at ex1 hxw eu
          rw [bs_H] at ex2 hyh
          refine r_top eu ?_
          subst ex3
          clear eu u8
          generalize A8 = F at hR2 hG2 ⊢
          have hA2 : Gw A F (XG A r l d σ) := hA1.tr2 hG2 (fun y _ e => Or.inl e)
          refine r_Z (A := F) fun hZF => ?_
          have hB2 := hB1.mv hZD hG2 (fun y hy e => by have h3 := fp_k hB1.L hy; rw [e, hR1.r7] at h3; omega) (StP.rd hZD hR1.r7 hG2)
          obtain ⟨v2, w2, hsR2, -, -⟩ := id hR2
          have hcc : rW σ * y + x < rC σ := by have h8 := at_lt hW.s hxw hyh; rw [Nat.mul_comm]; exact h8
          have hfi : F.I (d 10) (rW σ * y + x) = bI (fenced σ (rW σ * y + x)) := by rw [hB2.v.fence (by rw [bs_C]; exact hcc), bs_x (by omega)]; exact fen_bI (hD.1.c (by omega)).fe
          have hq1 := num_nx ex1
          have hq2 := num_nx ex2
          refine r_istore_4 (pc := 82) C dX7_newThing_82 rfl ?_
          refine r_aload_0 (pc := 84) C dX7_newThing_84 ?_
          refine r_aload_1 (pc := 85) C dX7_newThing_85 ?_
          refine r_iload_4 (pc := 86) C dX7_newThing_86 ?_
          refine r_V1io (pc := 88) C (l_isGrass hB2.L8 hB2.v hW8 (by rw [bs_C]; exact hcc)) vl_X7_179 (by exact ly_g hB2.L) (by decide) (by omega) (by omega) (Nat.le_of_ble_eq_true rfl) rfl dX7_newThing_88 (fun u9 A9 hc9 => ?_)
          refine r_top (hc9.1.trans (bI_iff (show (bs σ (153 + 5 * (rW σ * y + x) + 0) = 0) ↔ (σ (153 + 5 * (rW σ * y + x) + 0) = 0) by rw [bs_x (by omega)]))) ?_
          refine r_eqA hc9.2 ?_
          clear hc9 A9 u9
          refine r_if_eq (pc := 91) (tgt := 108) C dX7_newThing_91 (by decide) (fun b91 => ?_) (fun b91 => ?_)
          · skip
            have b91 := bI_0.mp b91
            refine r_iconst (pc := 108) C dX7_newThing_108 ci_0 ?_
            refine r_iconst (pc := 109) C dX7_newThing_109 ci_3 ?_
            refine r_V2vx (pc := 110) C (t_needNo hsR2 (e := 3)) vl_X7_94 hR2.r7 (by decide) (by omega) (by omega) (Nat.le_of_ble_eq_true rfl) rfl dX7_newThing_110 (fun q A9 hp hE => r_out C E (by rw [hx]; exact fun x h => nomatch h) hE.choose_spec (by omega) (by omega) (Or.inr ⟨hgr, gd_x (free_gx h0 hwc (free_x3 (by exact h0) (by rw [hga]; exact ex1) ex2 (by first | exact fun q => b91 q.1 | exact fun q => q.2 b101))) hp hA2 (fun _ _ q => q.elim)⟩)) (fun u10 A10 hc10 => ?_)
            exact hc10.elim
          · skip
            have b91 := bI_n.mp b91
            refine r_aload_1 (pc := 94) C dX7_newThing_94 ?_
            refine r_ngetR (pc := 95) C fn_X7_211_2 (by exact ly_g hB2.L) rfl (by exact ly_rf hB2.L 10 (by decide)) dX7_newThing_95 ?_
            refine r_iload_4 (pc := 98) C dX7_newThing_98 ?_
            refine r_zald (pc := 100) C (by exact ly_gf hB2.L 10 (by decide)) rfl rfl (lt_eq (by omega) (by exact ly_nf hB2.L 10 (by decide) (by decide))) (by omega) dX7_newThing_100 ?_
            refine r_top hfi ?_
            refine r_if_ne (pc := 101) (tgt := 108) C dX7_newThing_101 (by decide) (fun b101 => ?_) (fun b101 => ?_)
            · skip
              have b101 := bI_n.mp b101
              refine r_iconst (pc := 108) C dX7_newThing_108 ci_0 ?_
              refine r_iconst (pc := 109) C dX7_newThing_109 ci_3 ?_
              refine r_V2vx (pc := 110) C (t_needNo hsR2 (e := 3)) vl_X7_94 hR2.r7 (by decide) (by omega) (by omega) (Nat.le_of_ble_eq_true rfl) rfl dX7_newThing_110 (fun q A9 hp hE => r_out C E (by rw [hx]; exact fun x h => nomatch h) hE.choose_spec (by omega) (by omega) (Or.inr ⟨hgr, gd_x (free_gx h0 hwc (free_x3 (by exact h0) (by rw [hga]; exact ex1) ex2 (by first | exact fun q => b91 q.1 | exact fun q => q.2 b101))) hp hA2 (fun _ _ q => q.elim)⟩)) (fun u11 A11 hc11 => ?_)
              exact hc11.elim
            · skip
              have b101 := bI_0.mp b101
              refine r_iconst (pc := 104) C dX7_newThing_104 ci_1 ?_
              refine r_goto (pc := 105) (tgt := 109) C dX7_newThing_105 (by decide) ?_
              refine r_iconst (pc := 109) C dX7_newThing_109 ci_3 ?_
              refine r_V2vo (pc := 110) C (t_needYes (r := r) (e := 3)) vl_X7_94 hR2.r7 (by decide) (by omega) (by omega) (Nat.le_of_ble_eq_true rfl) rfl dX7_newThing_110 (fun u12 A12 hc12 => ?_)
              refine r_eqA hc12 ?_
              clear hc12 A12 u12
              have hfp : freeP σ (rW σ * y + x) := ⟨b91, b101⟩
              obtain ⟨fe0, fe1⟩ := free_S (s := goesS (nextS B L s)) (by exact h0) (by rw [hga]; exact ex1) ex2 hfp
              obtain ⟨fg0, hce⟩ := free_g (s := goesS (nextS B L s)) (by exact h0) (by rw [hga]; exact ex1) ex2 hfp
              refine r_iload_2 (pc := 113) C dX7_newThing_113 ?_
              refine r_if_eq (pc := 114) (tgt := 134) C dX7_newThing_114 (by decide) (fun b114 => ?_) (fun b114 => ?_)
              · exact absurd b114 (by decide +kernel)
              · skip
                refine r_aload_1 (pc := 117) C dX7_newThing_117 ?_
                refine r_ngetR (pc := 118) C fn_X7_211_2 (by exact ly_g hB2.L) rfl (by exact ly_rf hB2.L 10 (by decide)) dX7_newThing_118 ?_
                refine r_iload_4 (pc := 121) C dX7_newThing_121 ?_
                refine r_iconst (pc := 123) C dX7_newThing_123 ci_1 ?_
                refine r_zast (pc := 124) C (by exact ly_gf hB2.L 10 (by decide)) rfl rfl (lt_eq (by omega) (by exact ly_nf hB2.L 10 (by decide) (by decide))) (by omega) nar_1 dX7_newThing_124 ?_
                obtain ⟨hBF, hGF, hSF⟩ := hB2.fen hZF hW hcc
                generalize F.sI (d 10) (upd (F.I (d 10)) (rW σ * y + x) (nI 1)) = F9 at hBF hGF hSF ⊢
                refine r_Z (A := F9) fun hZF9 => ?_
                have hWF : RowW (fen2 σ (rW σ * y + x)) := fen2_w hW hm10
                have hWF8 : RowW (bs (fen2 σ (rW σ * y + x))) := hWF.plc (fun j hj => bs_x (by unfold Plc at hj; omega))
                obtain ⟨hCF8, hGF8⟩ := fen_cf hD.1 hfp.1
                have eKF : rK (fen2 σ (rW σ * y + x)) = rK σ := congrArg Int32.toNatClampNeg ((pk_un (by omega)).trans (fenceOn_o (by omega)))
                have eGF : rG (fen2 σ (rW σ * y + x)) = rG σ := congrArg Int32.toNatClampNeg ((pk_un (by omega)).trans (fenceOn_o (by omega)))
                have hRF := hR2.lw hZF hB2.L hGF
                have hA9 : Gw A F9 (XG A r l d σ) := hA2.tr2 hGF (fun y hy q => Or.inr (lx_back hZ hB.L hA2 q))
                refine r_aload_0 (pc := 125) C dX7_newThing_125 ?_
                refine r_aload_1 (pc := 126) C dX7_newThing_126 ?_
                refine r_V0io (pc := 127) C (l_hasWays hBF.L8 hBF.v hWF8 hCF8 hGF8 hGd) vl_X7_215 (by exact ly_g hBF.L) (by decide) (by omega) (by omega) (Nat.le_of_ble_eq_true rfl) rfl dX7_newThing_127 (fun u13 A13 hc13 => ?_)
                obtain ⟨⟨κ9, μ9, eA13⟩, eu13⟩ := hc13
                refine r_top (eu13.trans (bI_iff (ways_bs hWF))) ?_
                refine r_eqA eA13 ?_
                clear eu13 eA13 A13 u13
                obtain ⟨hBH, hGH, hSH⟩ := hBF.far (κ := κ9) (μ := μ9) hZF9 hWF
                generalize FH F9 d κ9 μ9 = F8 at hBH hGH hSH ⊢
                refine r_Z (A := F8) fun hZF8 => ?_
                have hRH := hRF.lw hZF9 hBF.L hGH
                obtain ⟨v8, w8, hsRH, -, -⟩ := id hRH
                have hA8 : Gw A F8 (XG A r l d σ) := hA9.tr2 hGH (fun y hy q => Or.inr (lx_eq hZ hB.L hA9 eKF eGF q))
                refine r_iconst (pc := 130) C dX7_newThing_130 ci_3 ?_
                refine r_V2vx (pc := 131) C (t_need hsRH (e := 3)) vl_X7_94 hRH.r7 (by decide) (by omega) (by omega) (Nat.le_of_ble_eq_true rfl) rfl dX7_newThing_131 (fun q A9 hp hE => r_out C E (by rw [hx]; exact fun x h => nomatch h) hE.choose_spec (by omega) (by omega) (Or.inr ⟨hgr, gd_x (by unfold GdX; rw [(gr_f h0 hf).1, (fen_go h0 hm10 fe0).1, hce]; have m9 := must_n (c := 3) hp.1 fe0; rw [show (freeS σ B L (goesS (nextS B L s))).g = skp B L (nxE B L (nxE B L s.a)) from fg0] at m9; exact ⟨m9.1, m9.2, by decide⟩) hp.2 hA8 (fun _ _ q => q.elim)⟩)) (fun u14 A14 hc14 => ?_)
                obtain ⟨hyw, eA14⟩ := hc14
                refine r_eqA eA14 ?_
                clear eA14 A14 u14
                refine r_aload_0 (pc := 134) C dX7_newThing_134 ?_
                refine r_V0v (pc := 135) C (t_next (a := (nxE B L (nxE B L (nxE B L s.a)))) hsRH hz hT (by omega)) vl_X7_28 hRH.r7 (by decide) (by omega) (by omega) (Nat.le_of_ble_eq_true rfl) rfl dX7_newThing_135 (fun u15 A15 hc15 => ?_)
                obtain ⟨hR3, hG3, -⟩ := hc15
                generalize A15 = Q at hR3 hG3 ⊢
                refine r_Z (A := Q) fun hZQ => ?_
                have hB3 := hBH.mv hZF8 hG3 (fun y hy e => by have h3 := fp_k hBH.L hy; rw [e, hRH.r7] at h3; omega) (StP.rd hZF8 hRH.r7 hG3)
                have hA3 : Gw A Q (XG A r l d σ) := hA8.tr2 hG3 (fun y _ e => Or.inl e)
                refine r_iload_3 (pc := 138) C dX7_newThing_138 ?_
                refine r_if_eq (pc := 139) (tgt := 149) C dX7_newThing_139 (by decide) (fun b139 => ?_) (fun b139 => ?_)
                · skip
                  refine r_iload_2 (pc := 149) C dX7_newThing_149 ?_
                  refine r_if_ne (pc := 150) (tgt := 157) C dX7_newThing_150 (by decide) (fun b150 => ?_) (fun b150 => ?_)
                  · skip
                    refine r_vret (pc := 157) C E (by omega) (by omega) dX7_newThing_157 ?_
                    obtain ⟨g1, g2⟩ := fen_done h0 hf hm10 fe0 hce hyw
                    refine ⟨hgr, by rw [g1]; exact fe0, by rw [g1, fe1]; exact hR3, by rw [g1, fe1, hth], by omega, ⟨d, by rw [g2]; exact hB3⟩, hA3⟩
                  · exact absurd b150 (by decide +kernel)
                · exact absurd b139 (by decide +kernel)
    · exact absurd b22 (by decide +kernel)
  · skip
    have hgr : isGr B L s := (isGr_4 h0).mpr (Or.inr (Or.inl hs9))
    have hwl := isWd_1 hs9 (by decide)
    have hth : thE B L s = (nxE B L (nxE B L (nxE B L s.a))) := if_neg (fun q => wd_ne hs9 q (k := 0) (by decide) (by decide))
    have hthn : nxE B L (thE B L s) = (nxE B L (nxE B L (nxE B L (nxE B L s.a)))) := by rw [hth]
    refine r_aload_0 (pc := 0) C dX7_newThing_0 ?_
    refine r_getR (pc := 1) C fl_X7_24_7 hsR.1.1 rfl hR4w dX7_newThing_1 ?_
    refine r_ldcS (pc := 4) C zf dX7_newThing_4 ?_
    refine r_V1io (pc := 6) C (j_J10_equals hz hsw (tf.old lf1 lf2 hoA)) vl_X7_124 hsw.g (by decide) (by omega) (by omega) (Nat.le_of_ble_eq_true rfl) rfl dX7_newThing_6 (fun u16 A16 hc16 => ?_)
    refine r_top (hc16.1.trans (bI_00 (fun q => hf ((eqw hfw1).mp q))).symm) ?_
    refine r_eqA hc16.2 ?_
    clear hc16 A16 u16
    refine r_istore_2 (pc := 9) C dX7_newThing_9 rfl ?_
    refine r_aload_0 (pc := 10) C dX7_newThing_10 ?_
    refine r_getR (pc := 11) C fl_X7_24_7 hsR.1.1 rfl hR4w dX7_newThing_11 ?_
    refine r_ldcS (pc := 14) C zs dX7_newThing_14 ?_
    refine r_V1io (pc := 16) C (j_J10_equals hz hsw (ts.old ls1 ls2 hoA)) vl_X7_124 hsw.g (by decide) (by omega) (by omega) (Nat.le_of_ble_eq_true rfl) rfl dX7_newThing_16 (fun u17 A17 hc17 => ?_)
    refine r_top (hc17.1.trans (bI_1 ((eqw hfw1).mpr hs9)).symm) ?_
    refine r_eqA hc17.2 ?_
    clear hc17 A17 u17
    refine r_istore_3 (pc := 19) C dX7_newThing_19 rfl ?_
    refine r_aload_0 (pc := 20) C dX7_newThing_20 ?_
    refine r_iload_2 (pc := 21) C dX7_newThing_21 ?_
    refine r_if_ne (pc := 22) (tgt := 41) C dX7_newThing_22 (by decide) (fun b22 => ?_) (fun b22 => ?_)
    · exact absurd b22 (by decide +kernel)
    · skip
      refine r_iload_3 (pc := 25) C dX7_newThing_25 ?_
      refine r_if_ne (pc := 26) (tgt := 41) C dX7_newThing_26 (by decide) (fun b26 => ?_) (fun b26 => ?_)
      · skip
        refine r_iconst (pc := 41) C dX7_newThing_41 ci_1 ?_
        refine r_goto (pc := 42) (tgt := 46) C dX7_newThing_42 (by decide) ?_
        refine r_iconst (pc := 46) C dX7_newThing_46 ci_1 ?_
        refine r_V2vo (pc := 47) C (t_needYes (r := r) (e := 1)) vl_X7_94 hsR.1.1 (by decide) (by omega) (by omega) (Nat.le_of_ble_eq_true rfl) rfl dX7_newThing_47 (fun u18 A18 hc18 => ?_)
        refine r_eqA hc18 ?_
        clear hc18 A18 u18
        refine r_aload_0 (pc := 50) C dX7_newThing_50 ?_
        refine r_iload_2 (pc := 51) C dX7_newThing_51 ?_
        refine r_if_eq (pc := 52) (tgt := 64) C dX7_newThing_52 (by decide) (fun b52 => ?_) (fun b52 => ?_)
        · skip
          refine r_iconst (pc := 64) C dX7_newThing_64 ci_1 ?_
          refine r_goto (pc := 65) (tgt := 69) C dX7_newThing_65 (by decide) ?_
          refine r_iconst (pc := 69) C dX7_newThing_69 ci_4 ?_
          refine r_V2vo (pc := 70) C (t_needYes (r := r) (e := 4)) vl_X7_94 hsR.1.1 (by decide) (by omega) (by omega) (Nat.le_of_ble_eq_true rfl) rfl dX7_newThing_70 (fun u19 A19 hc19 => ?_)
          refine r_eqA hc19 ?_
          clear hc19 A19 u19
          have hwc : (WdT B L s wFence ∧ rF σ < 10) ∨ WdT B L s wStone ∨ WdT B L s wGrass := Or.inr (Or.inl hs9)
          refine r_aload_0 (pc := 73) C dX7_newThing_73 ?_
          refine r_V0v (pc := 74) C (t_next (a := (nxE B L s.a)) hsR hz hT (by omega)) vl_X7_28 hsR.1.1 (by decide) (by omega) (by omega) (Nat.le_of_ble_eq_true rfl) rfl dX7_newThing_74 (fun u20 A20 hc20 => ?_)
          obtain ⟨hR1, hG1, -⟩ := hc20
          generalize A20 = D at hR1 hG1 ⊢
          have hA1 : Gw A D (XG A r l d σ) := (Gw.rf (A := A)).tr2 hG1 (fun y _ e => Or.inl e)
          have hga : (goesS (nextS B L s)).a = nxE B L s.a := goes_nx hwl
          refine r_Z (A := D) fun hZD => ?_
          have hB1 := hB.mv hZ hG1 (fun y hy e => by have h3 := fp_k hB.L hy; rw [e, hR.r7] at h3; omega) (StP.rd hZ hR.r7 hG1)
          refine r_aload_0 (pc := 77) C dX7_newThing_77 ?_
          refine r_aload_1 (pc := 78) C dX7_newThing_78 ?_
          refine r_V1ix (pc := 79) C (t_cell hR1 hT (by omega) hz hB1.L8 hB1.v hW8) vl_X7_175 hR1.r7 (by decide) (by omega) (by omega) (Nat.le_of_ble_eq_true rfl) rfl dX7_newThing_79 (fun q A9 hp hE => r_out C E (by rw [hx]; exact fun x h => nomatch h) hE.choose_spec (by omega) (by omega) (by rcases hp with ⟨e, p, q1, q2⟩ | ⟨x, e, p, q1, q2, q3⟩; (rw [bs_W] at q1; exact Or.inr ⟨hgr, gd_x (free_gx h0 hwc (free_x (x := 0) (a2 := 0) (by exact h0) (by rw [hga]; exact Or.inl q1))) q2 hA1 (fun _ _ q => Or.inl q)⟩); (rw [bs_W] at q1; rw [bs_H] at q2; exact Or.inr ⟨hgr, gd_x (free_gx h0 hwc (free_x (by exact h0) (by rw [hga]; exact Or.inr ⟨q1, q2⟩))) q3 hA1 (fun _ _ q => Or.inl q)⟩))) (fun u21 A21 hc21 => ?_)
          obtain ⟨x, y, p4, ex1, ex2, ex3, hxw, hyh, eu, hR2, hG2⟩ := hc21
          rw [bs_W] at ex1 hxw eu
          rw [bs_H] at ex2 hyh
          refine r_top eu ?_
          subst ex3
          clear eu u21
          generalize A21 = F at hR2 hG2 ⊢
          have hA2 : Gw A F (XG A r l d σ) := hA1.tr2 hG2 (fun y _ e => Or.inl e)
          refine r_Z (A := F) fun hZF => ?_
          have hB2 := hB1.mv hZD hG2 (fun y hy e => by have h3 := fp_k hB1.L hy; rw [e, hR1.r7] at h3; omega) (StP.rd hZD hR1.r7 hG2)
          obtain ⟨v2, w2, hsR2, -, -⟩ := id hR2
          have hcc : rW σ * y + x < rC σ := by have h8 := at_lt hW.s hxw hyh; rw [Nat.mul_comm]; exact h8
          have hfi : F.I (d 10) (rW σ * y + x) = bI (fenced σ (rW σ * y + x)) := by rw [hB2.v.fence (by rw [bs_C]; exact hcc), bs_x (by omega)]; exact fen_bI (hD.1.c (by omega)).fe
          have hq1 := num_nx ex1
          have hq2 := num_nx ex2
          refine r_istore_4 (pc := 82) C dX7_newThing_82 rfl ?_
          refine r_aload_0 (pc := 84) C dX7_newThing_84 ?_
          refine r_aload_1 (pc := 85) C dX7_newThing_85 ?_
          refine r_iload_4 (pc := 86) C dX7_newThing_86 ?_
          refine r_V1io (pc := 88) C (l_isGrass hB2.L8 hB2.v hW8 (by rw [bs_C]; exact hcc)) vl_X7_179 (by exact ly_g hB2.L) (by decide) (by omega) (by omega) (Nat.le_of_ble_eq_true rfl) rfl dX7_newThing_88 (fun u22 A22 hc22 => ?_)
          refine r_top (hc22.1.trans (bI_iff (show (bs σ (153 + 5 * (rW σ * y + x) + 0) = 0) ↔ (σ (153 + 5 * (rW σ * y + x) + 0) = 0) by rw [bs_x (by omega)]))) ?_
          refine r_eqA hc22.2 ?_
          clear hc22 A22 u22
          refine r_if_eq (pc := 91) (tgt := 108) C dX7_newThing_91 (by decide) (fun b91 => ?_) (fun b91 => ?_)
          · skip
            have b91 := bI_0.mp b91
            refine r_iconst (pc := 108) C dX7_newThing_108 ci_0 ?_
            refine r_iconst (pc := 109) C dX7_newThing_109 ci_3 ?_
            refine r_V2vx (pc := 110) C (t_needNo hsR2 (e := 3)) vl_X7_94 hR2.r7 (by decide) (by omega) (by omega) (Nat.le_of_ble_eq_true rfl) rfl dX7_newThing_110 (fun q A9 hp hE => r_out C E (by rw [hx]; exact fun x h => nomatch h) hE.choose_spec (by omega) (by omega) (Or.inr ⟨hgr, gd_x (free_gx h0 hwc (free_x3 (by exact h0) (by rw [hga]; exact ex1) ex2 (by first | exact fun q => b91 q.1 | exact fun q => q.2 b101))) hp hA2 (fun _ _ q => q.elim)⟩)) (fun u23 A23 hc23 => ?_)
            exact hc23.elim
          · skip
            have b91 := bI_n.mp b91
            refine r_aload_1 (pc := 94) C dX7_newThing_94 ?_
            refine r_ngetR (pc := 95) C fn_X7_211_2 (by exact ly_g hB2.L) rfl (by exact ly_rf hB2.L 10 (by decide)) dX7_newThing_95 ?_
            refine r_iload_4 (pc := 98) C dX7_newThing_98 ?_
            refine r_zald (pc := 100) C (by exact ly_gf hB2.L 10 (by decide)) rfl rfl (lt_eq (by omega) (by exact ly_nf hB2.L 10 (by decide) (by decide))) (by omega) dX7_newThing_100 ?_
            refine r_top hfi ?_
            refine r_if_ne (pc := 101) (tgt := 108) C dX7_newThing_101 (by decide) (fun b101 => ?_) (fun b101 => ?_)
            · skip
              have b101 := bI_n.mp b101
              refine r_iconst (pc := 108) C dX7_newThing_108 ci_0 ?_
              refine r_iconst (pc := 109) C dX7_newThing_109 ci_3 ?_
              refine r_V2vx (pc := 110) C (t_needNo hsR2 (e := 3)) vl_X7_94 hR2.r7 (by decide) (by omega) (by omega) (Nat.le_of_ble_eq_true rfl) rfl dX7_newThing_110 (fun q A9 hp hE => r_out C E (by rw [hx]; exact fun x h => nomatch h) hE.choose_spec (by omega) (by omega) (Or.inr ⟨hgr, gd_x (free_gx h0 hwc (free_x3 (by exact h0) (by rw [hga]; exact ex1) ex2 (by first | exact fun q => b91 q.1 | exact fun q => q.2 b101))) hp hA2 (fun _ _ q => q.elim)⟩)) (fun u24 A24 hc24 => ?_)
              exact hc24.elim
            · skip
              have b101 := bI_0.mp b101
              refine r_iconst (pc := 104) C dX7_newThing_104 ci_1 ?_
              refine r_goto (pc := 105) (tgt := 109) C dX7_newThing_105 (by decide) ?_
              refine r_iconst (pc := 109) C dX7_newThing_109 ci_3 ?_
              refine r_V2vo (pc := 110) C (t_needYes (r := r) (e := 3)) vl_X7_94 hR2.r7 (by decide) (by omega) (by omega) (Nat.le_of_ble_eq_true rfl) rfl dX7_newThing_110 (fun u25 A25 hc25 => ?_)
              refine r_eqA hc25 ?_
              clear hc25 A25 u25
              have hfp : freeP σ (rW σ * y + x) := ⟨b91, b101⟩
              obtain ⟨fe0, fe1⟩ := free_S (s := goesS (nextS B L s)) (by exact h0) (by rw [hga]; exact ex1) ex2 hfp
              obtain ⟨fg0, hce⟩ := free_g (s := goesS (nextS B L s)) (by exact h0) (by rw [hga]; exact ex1) ex2 hfp
              refine r_iload_2 (pc := 113) C dX7_newThing_113 ?_
              refine r_if_eq (pc := 114) (tgt := 134) C dX7_newThing_114 (by decide) (fun b114 => ?_) (fun b114 => ?_)
              · skip
                refine r_aload_0 (pc := 134) C dX7_newThing_134 ?_
                refine r_V0v (pc := 135) C (t_next (a := (nxE B L (nxE B L (nxE B L s.a)))) hsR2 hz hT (by omega)) vl_X7_28 hR2.r7 (by decide) (by omega) (by omega) (Nat.le_of_ble_eq_true rfl) rfl dX7_newThing_135 (fun u26 A26 hc26 => ?_)
                obtain ⟨hR3, hG3, -⟩ := hc26
                generalize A26 = Q at hR3 hG3 ⊢
                refine r_Z (A := Q) fun hZQ => ?_
                have hB3 := hB2.mv hZF hG3 (fun y hy e => by have h3 := fp_k hB2.L hy; rw [e, hR2.r7] at h3; omega) (StP.rd hZF hR2.r7 hG3)
                have hA3 : Gw A Q (XG A r l d σ) := hA2.tr2 hG3 (fun y _ e => Or.inl e)
                refine r_iload_3 (pc := 138) C dX7_newThing_138 ?_
                refine r_if_eq (pc := 139) (tgt := 149) C dX7_newThing_139 (by decide) (fun b139 => ?_) (fun b139 => ?_)
                · exact absurd b139 (by decide +kernel)
                · skip
                  refine r_aload_1 (pc := 142) C dX7_newThing_142 ?_
                  refine r_iload_4 (pc := 143) C dX7_newThing_143 ?_
                  refine r_iconst (pc := 145) C dX7_newThing_145 ci_1 ?_
                  refine r_V2vo (pc := 146) C (l_hardE (k := 1) hB3.L h80 hcc) vl_X7_218 (by exact ly_g hB3.L) (by decide) (by omega) (by omega) (Nat.le_of_ble_eq_true rfl) rfl dX7_newThing_146 (fun u27 A27 hc27 => ?_)
                  refine r_eqA hc27 ?_
                  clear hc27 A27 u27
                  obtain ⟨hB4, hG4, hS4⟩ := hB3.hard (k := 1) hZQ hW hcc hfp.1 (Or.inl rfl)
                  generalize hardH Q l d (rW σ * y + x) 1 = U at hB4 hG4 hS4 ⊢
                  have hR4 := hR3.lw hZQ hB3.L hG4
                  have hA4 : Gw A U (XG A r l d σ) := hA3.tr2 hG4 (fun y hy q => Or.inr (lx_back hZ hB.L hA3 q))
                  refine r_iload_2 (pc := 149) C dX7_newThing_149 ?_
                  refine r_if_ne (pc := 150) (tgt := 157) C dX7_newThing_150 (by decide) (fun b150 => ?_) (fun b150 => ?_)
                  · exact absurd b150 (by decide +kernel)
                  · skip
                    refine r_iload_3 (pc := 153) C dX7_newThing_153 ?_
                    refine r_if_eq (pc := 154) (tgt := 158) C dX7_newThing_154 (by decide) (fun b154 => ?_) (fun b154 => ?_)
                    · exact absurd b154 (by decide +kernel)
                    · skip
                      refine r_vret (pc := 157) C E (by omega) (by omega) dX7_newThing_157 ?_
                      obtain ⟨g1, g2⟩ := ston_done h0 hs9 fe0 hce
                      refine ⟨hgr, by rw [g1]; exact fe0, by rw [g1, fe1]; exact hR4, by rw [g1, fe1, hth], by omega, ⟨d, by rw [g2]; exact hB4⟩, hA4⟩
              · exact absurd b114 (by decide +kernel)
        · exact absurd b52 (by decide +kernel)
      · exact absurd b26 (by decide +kernel)
  · skip
    have hgr : isGr B L s := (isGr_4 h0).mpr (Or.inr (Or.inr hg9))
    have hwl := isWd_1 hg9 (by decide)
    have hth : thE B L s = (nxE B L (nxE B L (nxE B L (nxE B L s.a)))) := if_pos hg9
    have hthn : nxE B L (thE B L s) = (nxE B L (nxE B L (nxE B L (nxE B L (nxE B L s.a))))) := by rw [hth]
    refine r_aload_0 (pc := 0) C dX7_newThing_0 ?_
    refine r_getR (pc := 1) C fl_X7_24_7 hsR.1.1 rfl hR4w dX7_newThing_1 ?_
    refine r_ldcS (pc := 4) C zf dX7_newThing_4 ?_
    refine r_V1io (pc := 6) C (j_J10_equals hz hsw (tf.old lf1 lf2 hoA)) vl_X7_124 hsw.g (by decide) (by omega) (by omega) (Nat.le_of_ble_eq_true rfl) rfl dX7_newThing_6 (fun u28 A28 hc28 => ?_)
    refine r_top (hc28.1.trans (bI_00 (fun q => hf ((eqw hfw1).mp q))).symm) ?_
    refine r_eqA hc28.2 ?_
    clear hc28 A28 u28
    refine r_istore_2 (pc := 9) C dX7_newThing_9 rfl ?_
    refine r_aload_0 (pc := 10) C dX7_newThing_10 ?_
    refine r_getR (pc := 11) C fl_X7_24_7 hsR.1.1 rfl hR4w dX7_newThing_11 ?_
    refine r_ldcS (pc := 14) C zs dX7_newThing_14 ?_
    refine r_V1io (pc := 16) C (j_J10_equals hz hsw (ts.old ls1 ls2 hoA)) vl_X7_124 hsw.g (by decide) (by omega) (by omega) (Nat.le_of_ble_eq_true rfl) rfl dX7_newThing_16 (fun u29 A29 hc29 => ?_)
    refine r_top (hc29.1.trans (bI_00 (fun q => hs9 ((eqw hfw1).mp q))).symm) ?_
    refine r_eqA hc29.2 ?_
    clear hc29 A29 u29
    refine r_istore_3 (pc := 19) C dX7_newThing_19 rfl ?_
    refine r_aload_0 (pc := 20) C dX7_newThing_20 ?_
    refine r_iload_2 (pc := 21) C dX7_newThing_21 ?_
    refine r_if_ne (pc := 22) (tgt := 41) C dX7_newThing_22 (by decide) (fun b22 => ?_) (fun b22 => ?_)
    · exact absurd b22 (by decide +kernel)
    · skip
      refine r_iload_3 (pc := 25) C dX7_newThing_25 ?_
      refine r_if_ne (pc := 26) (tgt := 41) C dX7_newThing_26 (by decide) (fun b26 => ?_) (fun b26 => ?_)
      · exact absurd b26 (by decide +kernel)
      · skip
        refine r_aload_0 (pc := 29) C dX7_newThing_29 ?_
        refine r_getR (pc := 30) C fl_X7_24_7 hsR.1.1 rfl hR4w dX7_newThing_30 ?_
        refine r_ldcS (pc := 33) C zg dX7_newThing_33 ?_
        refine r_V1io (pc := 35) C (j_J10_equals hz hsw (tg.old lg1 lg2 hoA)) vl_X7_124 hsw.g (by decide) (by omega) (by omega) (Nat.le_of_ble_eq_true rfl) rfl dX7_newThing_35 (fun u30 A30 hc30 => ?_)
        refine r_top (hc30.1.trans (bI_1 ((eqw hfw1).mpr hg9)).symm) ?_
        refine r_eqA hc30.2 ?_
        clear hc30 A30 u30
        refine r_if_eq (pc := 38) (tgt := 45) C dX7_newThing_38 (by decide) (fun b38 => ?_) (fun b38 => ?_)
        · exact absurd b38 (by decide +kernel)
        · skip
          refine r_iconst (pc := 41) C dX7_newThing_41 ci_1 ?_
          refine r_goto (pc := 42) (tgt := 46) C dX7_newThing_42 (by decide) ?_
          refine r_iconst (pc := 46) C dX7_newThing_46 ci_1 ?_
          refine r_V2vo (pc := 47) C (t_needYes (r := r) (e := 1)) vl_X7_94 hsR.1.1 (by decide) (by omega) (by omega) (Nat.le_of_ble_eq_true rfl) rfl dX7_newThing_47 (fun u31 A31 hc31 => ?_)
          refine r_eqA hc31 ?_
          clear hc31 A31 u31
          refine r_aload_0 (pc := 50) C dX7_newThing_50 ?_
          refine r_iload_2 (pc := 51) C dX7_newThing_51 ?_
          refine r_if_eq (pc := 52) (tgt := 64) C dX7_newThing_52 (by decide) (fun b52 => ?_) (fun b52 => ?_)
          · skip
            refine r_iconst (pc := 64) C dX7_newThing_64 ci_1 ?_
            refine r_goto (pc := 65) (tgt := 69) C dX7_newThing_65 (by decide) ?_
            refine r_iconst (pc := 69) C dX7_newThing_69 ci_4 ?_
            refine r_V2vo (pc := 70) C (t_needYes (r := r) (e := 4)) vl_X7_94 hsR.1.1 (by decide) (by omega) (by omega) (Nat.le_of_ble_eq_true rfl) rfl dX7_newThing_70 (fun u32 A32 hc32 => ?_)
            refine r_eqA hc32 ?_
            clear hc32 A32 u32
            have hwc : (WdT B L s wFence ∧ rF σ < 10) ∨ WdT B L s wStone ∨ WdT B L s wGrass := Or.inr (Or.inr hg9)
            refine r_aload_0 (pc := 73) C dX7_newThing_73 ?_
            refine r_V0v (pc := 74) C (t_next (a := (nxE B L s.a)) hsR hz hT (by omega)) vl_X7_28 hsR.1.1 (by decide) (by omega) (by omega) (Nat.le_of_ble_eq_true rfl) rfl dX7_newThing_74 (fun u33 A33 hc33 => ?_)
            obtain ⟨hR1, hG1, -⟩ := hc33
            generalize A33 = D at hR1 hG1 ⊢
            have hA1 : Gw A D (XG A r l d σ) := (Gw.rf (A := A)).tr2 hG1 (fun y _ e => Or.inl e)
            have hga : (goesS (nextS B L s)).a = nxE B L s.a := goes_nx hwl
            refine r_Z (A := D) fun hZD => ?_
            have hB1 := hB.mv hZ hG1 (fun y hy e => by have h3 := fp_k hB.L hy; rw [e, hR.r7] at h3; omega) (StP.rd hZ hR.r7 hG1)
            refine r_aload_0 (pc := 77) C dX7_newThing_77 ?_
            refine r_aload_1 (pc := 78) C dX7_newThing_78 ?_
            refine r_V1ix (pc := 79) C (t_cell hR1 hT (by omega) hz hB1.L8 hB1.v hW8) vl_X7_175 hR1.r7 (by decide) (by omega) (by omega) (Nat.le_of_ble_eq_true rfl) rfl dX7_newThing_79 (fun q A9 hp hE => r_out C E (by rw [hx]; exact fun x h => nomatch h) hE.choose_spec (by omega) (by omega) (by rcases hp with ⟨e, p, q1, q2⟩ | ⟨x, e, p, q1, q2, q3⟩; (rw [bs_W] at q1; exact Or.inr ⟨hgr, gd_x (free_gx h0 hwc (free_x (x := 0) (a2 := 0) (by exact h0) (by rw [hga]; exact Or.inl q1))) q2 hA1 (fun _ _ q => Or.inl q)⟩); (rw [bs_W] at q1; rw [bs_H] at q2; exact Or.inr ⟨hgr, gd_x (free_gx h0 hwc (free_x (by exact h0) (by rw [hga]; exact Or.inr ⟨q1, q2⟩))) q3 hA1 (fun _ _ q => Or.inl q)⟩))) (fun u34 A34 hc34 => ?_)
            obtain ⟨x, y, p4, ex1, ex2, ex3, hxw, hyh, eu, hR2, hG2⟩ := hc34
            rw [bs_W] at ex1 hxw eu
            rw [bs_H] at ex2 hyh
            refine r_top eu ?_
            subst ex3
            clear eu u34
            generalize A34 = F at hR2 hG2 ⊢
            have hA2 : Gw A F (XG A r l d σ) := hA1.tr2 hG2 (fun y _ e => Or.inl e)
            refine r_Z (A := F) fun hZF => ?_
            have hB2 := hB1.mv hZD hG2 (fun y hy e => by have h3 := fp_k hB1.L hy; rw [e, hR1.r7] at h3; omega) (StP.rd hZD hR1.r7 hG2)
            obtain ⟨v2, w2, hsR2, -, -⟩ := id hR2
            have hcc : rW σ * y + x < rC σ := by have h8 := at_lt hW.s hxw hyh; rw [Nat.mul_comm]; exact h8
            have hfi : F.I (d 10) (rW σ * y + x) = bI (fenced σ (rW σ * y + x)) := by rw [hB2.v.fence (by rw [bs_C]; exact hcc), bs_x (by omega)]; exact fen_bI (hD.1.c (by omega)).fe
            have hq1 := num_nx ex1
            have hq2 := num_nx ex2
            refine r_istore_4 (pc := 82) C dX7_newThing_82 rfl ?_
            refine r_aload_0 (pc := 84) C dX7_newThing_84 ?_
            refine r_aload_1 (pc := 85) C dX7_newThing_85 ?_
            refine r_iload_4 (pc := 86) C dX7_newThing_86 ?_
            refine r_V1io (pc := 88) C (l_isGrass hB2.L8 hB2.v hW8 (by rw [bs_C]; exact hcc)) vl_X7_179 (by exact ly_g hB2.L) (by decide) (by omega) (by omega) (Nat.le_of_ble_eq_true rfl) rfl dX7_newThing_88 (fun u35 A35 hc35 => ?_)
            refine r_top (hc35.1.trans (bI_iff (show (bs σ (153 + 5 * (rW σ * y + x) + 0) = 0) ↔ (σ (153 + 5 * (rW σ * y + x) + 0) = 0) by rw [bs_x (by omega)]))) ?_
            refine r_eqA hc35.2 ?_
            clear hc35 A35 u35
            refine r_if_eq (pc := 91) (tgt := 108) C dX7_newThing_91 (by decide) (fun b91 => ?_) (fun b91 => ?_)
            · skip
              have b91 := bI_0.mp b91
              refine r_iconst (pc := 108) C dX7_newThing_108 ci_0 ?_
              refine r_iconst (pc := 109) C dX7_newThing_109 ci_3 ?_
              refine r_V2vx (pc := 110) C (t_needNo hsR2 (e := 3)) vl_X7_94 hR2.r7 (by decide) (by omega) (by omega) (Nat.le_of_ble_eq_true rfl) rfl dX7_newThing_110 (fun q A9 hp hE => r_out C E (by rw [hx]; exact fun x h => nomatch h) hE.choose_spec (by omega) (by omega) (Or.inr ⟨hgr, gd_x (free_gx h0 hwc (free_x3 (by exact h0) (by rw [hga]; exact ex1) ex2 (by first | exact fun q => b91 q.1 | exact fun q => q.2 b101))) hp hA2 (fun _ _ q => q.elim)⟩)) (fun u36 A36 hc36 => ?_)
              exact hc36.elim
            · skip
              have b91 := bI_n.mp b91
              refine r_aload_1 (pc := 94) C dX7_newThing_94 ?_
              refine r_ngetR (pc := 95) C fn_X7_211_2 (by exact ly_g hB2.L) rfl (by exact ly_rf hB2.L 10 (by decide)) dX7_newThing_95 ?_
              refine r_iload_4 (pc := 98) C dX7_newThing_98 ?_
              refine r_zald (pc := 100) C (by exact ly_gf hB2.L 10 (by decide)) rfl rfl (lt_eq (by omega) (by exact ly_nf hB2.L 10 (by decide) (by decide))) (by omega) dX7_newThing_100 ?_
              refine r_top hfi ?_
              refine r_if_ne (pc := 101) (tgt := 108) C dX7_newThing_101 (by decide) (fun b101 => ?_) (fun b101 => ?_)
              · skip
                have b101 := bI_n.mp b101
                refine r_iconst (pc := 108) C dX7_newThing_108 ci_0 ?_
                refine r_iconst (pc := 109) C dX7_newThing_109 ci_3 ?_
                refine r_V2vx (pc := 110) C (t_needNo hsR2 (e := 3)) vl_X7_94 hR2.r7 (by decide) (by omega) (by omega) (Nat.le_of_ble_eq_true rfl) rfl dX7_newThing_110 (fun q A9 hp hE => r_out C E (by rw [hx]; exact fun x h => nomatch h) hE.choose_spec (by omega) (by omega) (Or.inr ⟨hgr, gd_x (free_gx h0 hwc (free_x3 (by exact h0) (by rw [hga]; exact ex1) ex2 (by first | exact fun q => b91 q.1 | exact fun q => q.2 b101))) hp hA2 (fun _ _ q => q.elim)⟩)) (fun u37 A37 hc37 => ?_)
                exact hc37.elim
              · skip
                have b101 := bI_0.mp b101
                refine r_iconst (pc := 104) C dX7_newThing_104 ci_1 ?_
                refine r_goto (pc := 105) (tgt := 109) C dX7_newThing_105 (by decide) ?_
                refine r_iconst (pc := 109) C dX7_newThing_109 ci_3 ?_
                refine r_V2vo (pc := 110) C (t_needYes (r := r) (e := 3)) vl_X7_94 hR2.r7 (by decide) (by omega) (by omega) (Nat.le_of_ble_eq_true rfl) rfl dX7_newThing_110 (fun u38 A38 hc38 => ?_)
                refine r_eqA hc38 ?_
                clear hc38 A38 u38
                have hfp : freeP σ (rW σ * y + x) := ⟨b91, b101⟩
                obtain ⟨fe0, fe1⟩ := free_S (s := goesS (nextS B L s)) (by exact h0) (by rw [hga]; exact ex1) ex2 hfp
                obtain ⟨fg0, hce⟩ := free_g (s := goesS (nextS B L s)) (by exact h0) (by rw [hga]; exact ex1) ex2 hfp
                refine r_iload_2 (pc := 113) C dX7_newThing_113 ?_
                refine r_if_eq (pc := 114) (tgt := 134) C dX7_newThing_114 (by decide) (fun b114 => ?_) (fun b114 => ?_)
                · skip
                  refine r_aload_0 (pc := 134) C dX7_newThing_134 ?_
                  refine r_V0v (pc := 135) C (t_next (a := (nxE B L (nxE B L (nxE B L s.a)))) hsR2 hz hT (by omega)) vl_X7_28 hR2.r7 (by decide) (by omega) (by omega) (Nat.le_of_ble_eq_true rfl) rfl dX7_newThing_135 (fun u39 A39 hc39 => ?_)
                  obtain ⟨hR3, hG3, -⟩ := hc39
                  generalize A39 = Q at hR3 hG3 ⊢
                  refine r_Z (A := Q) fun hZQ => ?_
                  have hB3 := hB2.mv hZF hG3 (fun y hy e => by have h3 := fp_k hB2.L hy; rw [e, hR2.r7] at h3; omega) (StP.rd hZF hR2.r7 hG3)
                  have hA3 : Gw A Q (XG A r l d σ) := hA2.tr2 hG3 (fun y _ e => Or.inl e)
                  refine r_iload_3 (pc := 138) C dX7_newThing_138 ?_
                  refine r_if_eq (pc := 139) (tgt := 149) C dX7_newThing_139 (by decide) (fun b139 => ?_) (fun b139 => ?_)
                  · skip
                    refine r_iload_2 (pc := 149) C dX7_newThing_149 ?_
                    refine r_if_ne (pc := 150) (tgt := 157) C dX7_newThing_150 (by decide) (fun b150 => ?_) (fun b150 => ?_)
                    · exact absurd b150 (by decide +kernel)
                    · skip
                      refine r_iload_3 (pc := 153) C dX7_newThing_153 ?_
                      refine r_if_eq (pc := 154) (tgt := 158) C dX7_newThing_154 (by decide) (fun b154 => ?_) (fun b154 => ?_)
                      · skip
                        refine r_aload_0 (pc := 158) C dX7_newThing_158 ?_
                        refine r_iconst (pc := 159) C dX7_newThing_159 ci_0 ?_
                        refine r_bipush (pc := 160) C dX7_newThing_160 cb_9 ?_
                        refine r_V2ix (pc := 162) C (t_number hR3 hT (by omega) hz (lo := 0) (hi := 9) (by decide) (by decide)) vl_X7_134 hR3.r7 (by decide) (by omega) (by omega) (Nat.le_of_ble_eq_true rfl) rfl dX7_newThing_162 (fun q A9 hp hE => r_out C E (by rw [hx]; exact fun x h => nomatch h) hE.choose_spec (by omega) (by omega) (by obtain ⟨e, p, q1, q2⟩ := hp; exact Or.inr ⟨hgr, gd_x (by unfold GdX; rw [(gr_g h0 hg9).1]; exact numS_l fe0 (by rw [fe1]; exact q1)) q2 hA3 (fun _ _ q => q.elim)⟩)) (fun u40 A40 hc40 => ?_)
                        obtain ⟨v7, a7, ev7, e2, e3, ev74, hR4, hG4⟩ := hc40
                        refine r_top e3 ?_
                        subst e2
                        clear e3 u40
                        generalize A40 = U at hR4 hG4 ⊢
                        have hA4 : Gw A U (XG A r l d σ) := hA3.tr2 hG4 (fun y _ e => Or.inl e)
                        refine r_Z (A := U) fun hZU => ?_
                        have hB4 := hB3.mv hZQ hG4 (fun y hy e => by have h3 := fp_k hB3.L hy; rw [e, hR3.r7] at h3; omega) (StP.rd hZQ hR3.r7 hG4)
                        refine r_istore_5 (pc := 165) C dX7_newThing_165 rfl ?_
                        refine r_aload_1 (pc := 167) C dX7_newThing_167 ?_
                        refine r_dup (pc := 168) C dX7_newThing_168 rfl ?_
                        refine r_ngetI (pc := 169) C fn_X7_221_2 (by exact ly_g hB4.L) rfl dX7_newThing_169 ?_
                        refine r_iload_5 (pc := 172) C dX7_newThing_172 ?_
                        refine r_aload_1 (pc := 174) C dX7_newThing_174 ?_
                        refine r_ngetR (pc := 175) C fn_X7_224_2 (by exact ly_g hB4.L) rfl (by exact ly_rf hB4.L 6 (by decide)) dX7_newThing_175 ?_
                        refine r_iload_4 (pc := 178) C dX7_newThing_178 ?_
                        refine r_iald (pc := 180) C (by exact ly_gf hB4.L 6 (by decide)) rfl rfl (lt_eq (by omega) (by exact ly_nf hB4.L 6 (by decide) (by decide))) (by omega) dX7_newThing_180 ?_
                        refine r_isub (pc := 181) C dX7_newThing_181 ?_
                        refine r_iadd (pc := 182) C dX7_newThing_182 ?_
                        refine r_nputI (pc := 183) C fn_X7_221_2 (by exact ly_g hB4.L) rfl (fun _ _ _ h => by cases h; rfl) rfl rfl rfl dX7_newThing_183 ?_
                        refine r_aload_1 (pc := 186) C dX7_newThing_186 ?_
                        refine r_ngetR (pc := 187) C fn_X7_224_2 (by exact ly_g hB4.L) rfl (by exact ly_rf hB4.L 6 (by decide)) dX7_newThing_187 ?_
                        refine r_iload_4 (pc := 190) C dX7_newThing_190 ?_
                        refine r_iload_5 (pc := 192) C dX7_newThing_192 ?_
                        refine r_iast (pc := 194) C (by exact ly_gf hB4.L 6 (by decide)) rfl rfl (lt_eq (by omega) (by exact ly_nf hB4.L 6 (by decide) (by decide))) (by omega) dX7_newThing_194 ?_
                        refine r_vret (pc := 195) C E (by omega) (by omega) dX7_newThing_195 ?_
                        obtain ⟨g1, g2, g3⟩ := gras_done h0 hg9 fe0 fe1 hce ev7
                        obtain ⟨hB5, hG5, hS5⟩ := hB4.gras (v := v7) hZU hW hcc hfp.1 ev74
                        have hR5 := hR4.lw hZU hB4.L hG5
                        refine ⟨hgr, g1, by rw [g2]; exact hR5, by rw [g2, hth], by omega, ⟨d, by rw [g3]; exact hB5⟩, hA4.tr2 hG5 (fun y hy q => Or.inr (lx_back hZ hB.L hA4 q))⟩
                      · exact absurd b154 (by decide +kernel)
                  · exact absurd b139 (by decide +kernel)
                · exact absurd b114 (by decide +kernel)
          · exact absurd b52 (by decide +kernel)
  · skip
    refine r_aload_0 (pc := 0) C dX7_newThing_0 ?_
    refine r_getR (pc := 1) C fl_X7_24_7 hsR.1.1 rfl hR4w dX7_newThing_1 ?_
    refine r_ldcS (pc := 4) C zf dX7_newThing_4 ?_
    refine r_V1io (pc := 6) C (j_J10_equals hz hsw (tf.old lf1 lf2 hoA)) vl_X7_124 hsw.g (by decide) (by omega) (by omega) (Nat.le_of_ble_eq_true rfl) rfl dX7_newThing_6 (fun u41 A41 hc41 => ?_)
    refine r_top (hc41.1.trans (bI_00 (fun q => hf ((eqw hfw1).mp q))).symm) ?_
    refine r_eqA hc41.2 ?_
    clear hc41 A41 u41
    refine r_istore_2 (pc := 9) C dX7_newThing_9 rfl ?_
    refine r_aload_0 (pc := 10) C dX7_newThing_10 ?_
    refine r_getR (pc := 11) C fl_X7_24_7 hsR.1.1 rfl hR4w dX7_newThing_11 ?_
    refine r_ldcS (pc := 14) C zs dX7_newThing_14 ?_
    refine r_V1io (pc := 16) C (j_J10_equals hz hsw (ts.old ls1 ls2 hoA)) vl_X7_124 hsw.g (by decide) (by omega) (by omega) (Nat.le_of_ble_eq_true rfl) rfl dX7_newThing_16 (fun u42 A42 hc42 => ?_)
    refine r_top (hc42.1.trans (bI_00 (fun q => hs9 ((eqw hfw1).mp q))).symm) ?_
    refine r_eqA hc42.2 ?_
    clear hc42 A42 u42
    refine r_istore_3 (pc := 19) C dX7_newThing_19 rfl ?_
    refine r_aload_0 (pc := 20) C dX7_newThing_20 ?_
    refine r_iload_2 (pc := 21) C dX7_newThing_21 ?_
    refine r_if_ne (pc := 22) (tgt := 41) C dX7_newThing_22 (by decide) (fun b22 => ?_) (fun b22 => ?_)
    · exact absurd b22 (by decide +kernel)
    · skip
      refine r_iload_3 (pc := 25) C dX7_newThing_25 ?_
      refine r_if_ne (pc := 26) (tgt := 41) C dX7_newThing_26 (by decide) (fun b26 => ?_) (fun b26 => ?_)
      · exact absurd b26 (by decide +kernel)
      · skip
        refine r_aload_0 (pc := 29) C dX7_newThing_29 ?_
        refine r_getR (pc := 30) C fl_X7_24_7 hsR.1.1 rfl hR4w dX7_newThing_30 ?_
        refine r_ldcS (pc := 33) C zg dX7_newThing_33 ?_
        refine r_V1io (pc := 35) C (j_J10_equals hz hsw (tg.old lg1 lg2 hoA)) vl_X7_124 hsw.g (by decide) (by omega) (by omega) (Nat.le_of_ble_eq_true rfl) rfl dX7_newThing_35 (fun u43 A43 hc43 => ?_)
        refine r_top (hc43.1.trans (bI_00 (fun q => hg9 ((eqw hfw1).mp q))).symm) ?_
        refine r_eqA hc43.2 ?_
        clear hc43 A43 u43
        refine r_if_eq (pc := 38) (tgt := 45) C dX7_newThing_38 (by decide) (fun b38 => ?_) (fun b38 => ?_)
        · skip
          refine r_iconst (pc := 45) C dX7_newThing_45 ci_0 ?_
          refine r_iconst (pc := 46) C dX7_newThing_46 ci_1 ?_
          refine r_V2vx (pc := 47) C (t_needNo hsR (e := 1)) vl_X7_94 hsR.1.1 (by decide) (by omega) (by omega) (Nat.le_of_ble_eq_true rfl) rfl dX7_newThing_47 (fun q A9 hp hE => r_out C E (by rw [hx]; exact fun x h => nomatch h) hE.choose_spec (by omega) (by omega) (Or.inl ⟨fun q => by rcases (isGr_4 h0).mp q with w | w | w; (exact hf w); (exact hs9 w); (exact hg9 w), hp.of Gw.rf (fun _ _ q => q.elim)⟩)) (fun u44 A44 hc44 => ?_)
          exact hc44.elim
        · exact absurd b38 (by decide +kernel)
