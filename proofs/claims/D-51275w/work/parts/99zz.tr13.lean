/-! THE COMPONENT, 31: the reader: orders -/
set_option maxRecDepth 100000
set_option maxHeartbeats 4000000 in
theorem t_orders {g : GZ} {A : HA} {r c bf L : Nat} {B : Nat → Nat} {s0 : TS} (h00 : s0.e = 0) (hR : RdT g A r c bf L B s0.a) (hT : TkC g) (ha : s0.a ≤ L) (hz : zS g) {aL : Nat} {d : Nat → Nat} {σ : Rw} (hn : A.R c 0 = some aL) (hL : Ly A aL d σ) (hv2 : Lv A.I aL d σ) (hW : RowW σ) (hNm : NmK A d σ) (hC : RdC g) (hK : LamK g) (h83 : (g.A.G (g.c 83)).1 = 83 ∧ g.A.n (g.c 83) = 0 ∧ g.c 83 < g.b) {f0 : Rw} {fu0 : Nat} (hfu : L - s0.a + 2 ≤ fu0)  : Ct g wR yX7_orders (.code yX7_orders cX7_orders 3 (Option.some (Jvm.ClassFile.FieldType.array (Jvm.ClassFile.FieldType.object "LawnPaths$Change")))) 64 (30 * (L - nxE B L s0.a) + 330) (120 * (L - nxE B L s0.a) + 2250) [.ref r] (A) (fun u A' => ∃ (m : Nat) (χ : Nat → Chg) (oo : Nat → Nat), (rdO σ B L fu0 f0 0 s0).2.2.e = 0 ∧ (rdO σ B L fu0 f0 0 s0).2.1 = m ∧ m ≤ 30 ∧ u = A.z ∧ (A'.G u).1 = 640 ∧ A'.n u = 31 ∧ (∀ j, j < m → A'.R u j = some (oo j) ∧ LamIs A' (oo j) (χ j) ∧ OrdR σ (rdO σ B L fu0 f0 0 s0).1 (χ j) j) ∧ A'.R u m = none ∧ Gw A A' (GoX A r) ∧ StP A A') (fun q A' => ¬ (rdO σ B L fu0 f0 0 s0).2.2.e = 0 ∧ UnX A A' (GoX A r) q (nI (rdO σ B L fu0 f0 0 s0).2.2.e) (rdO σ B L fu0 f0 0 s0).2.2.p) := by
  refine Ct.of [some (.ref r), none, none] (by decide) rfl rfl fun z C hx hnm E => ?_
  refine r_Z fun hZ => ?_
  refine r_old fun hoA => ?_
  have hcz := hC.1
  have hc67 : g.c 67 < g.b := by obtain ⟨x1, x2, x3, x4, x5⟩ := hC.1; exact x3
  have hnA := nxE_le (B := B) ha
  refine r_bipush (pc := 0) C dX7_orders_0 cb_31 ?_
  refine r_newA (pc := 2) (t := 6) C 640 (0) (Nat.zero_le _) rfl rfl q1655 q1656 rfl (by omega) (by omega) (by omega) dX7_orders_2 ?_
  refine r_astore_1 (pc := 5) C dX7_orders_5 rfl ?_
  refine r_iconst (pc := 6) C dX7_orders_6 ci_0 ?_
  refine r_istore_2 (pc := 7) C dX7_orders_7 rfl ?_
  have lp8_1 : ∀ (fu : Nat) (n v : Nat) (f : Rw) (s : TS) (χ : Nat → Chg) (oo : Nat → Nat) (F : HA) (hi : n ≤ 30) (hv9 : L - s.a + 2 ≤ v) (hro : rdO σ B L v f n s = (rdO σ B L fu0 f0 0 s0)) (hI : OrI g A F r c bf L B σ n f s χ oo) (hle : nxE B L s0.a ≤ nxE B L s.a), 31 - n < fu → wa g z (30 * (nxE B L s.a - nxE B L s0.a) + 10 * n + 1) (120 * (nxE B L s.a - nxE B L s0.a) + 70 * n + 31) (F) 8 [some (.ref r), some (.ref (A.z)), some (.int (nI (n)))] [] := by
    intro fu
    induction fu with
    | zero => intro n v  f  s  χ  oo  F  hi hv9 hro hI hle hm8; exact absurd hm8 (Nat.not_lt_zero _)
    | succ fu ih8 =>
      intro n v  f  s  χ  oo  F  hi hv9 hro hI hle hm8
      refine r_Z fun hZF => ?_
      refine r_old fun hoF => ?_
      obtain ⟨w1, x1, f1, hR4w, hsw, hfw1, hhw, hbw1⟩ := hI.1.1.wd hC.1 hoF
      obtain ⟨v1, w9, hsR, -, -⟩ := id hI.1.1
      have h0 := hI.1.2.1
      have hal := hI.1.2.2
      have hp9 := skp_le (B := B) hal
      have hp8 := skp_ge (B := B) (L := L) (a := s.a)
      have he9 := tkE_le (B := B) hp9
      have hnx : nxE B L s.a = tkE B L (skp B L s.a) := rfl
      have hnn := nxE_le (B := B) (L := L) (a := nxE B L s.a) (by omega)
      have h9 := hsR.l9
      have n00 := nxE_le (B := B) ha
      refine r_aload_0 (pc := 8) C dX7_orders_8 ?_
      refine r_getR (pc := 9) C fl_X7_35_7 hsR.1.1 rfl hsR.2.2.2.2.2 dX7_orders_9 ?_
      refine r_getS (pc := 12) C (hT.1 0 (by decide)) q1476 dX7_orders_12 ?_
      refine r_acmp_eq (pc := 15) (tgt := 63) C dX7_orders_15 (by decide) (fun b15 => ?_) (fun b15 => ?_)
      · skip
        have hk0 : tkN B L (skp B L s.a) = 0 := hT.2.1 _ _ tkN_lt (by decide) b15
        refine r_aload_1 (pc := 63) C dX7_orders_63 ?_
        refine r_aret (pc := 64) C E rfl (by omega) (by omega) dX7_orders_64 ?_
        have hF9 : (rdO σ B L fu0 f0 0 s0) = (f, n, nextS B L s) := by rw [← hro]; obtain ⟨v8, rfl⟩ : ∃ v8, v = v8 + 1 := ⟨v - 1, by omega⟩; exact ro_end h0 (tkN_0.mp hk0)
        rw [hF9]
        exact ⟨n, χ, oo, h0, rfl, hi, rfl, hI.2.1.1, hI.2.1.2, hI.2.2.1, hI.2.2.2.1 n (Nat.le_refl _), hI.2.2.2.2.1, hI.2.2.2.2.2.2.1⟩
      · skip
        have hbt : btO B L (skp B L s.a) ≠ none := fun q => b15 (by rw [tkN_0.mpr q])
        refine r_aload_0 (pc := 18) C dX7_orders_18 ?_
        refine r_aload_0 (pc := 19) C dX7_orders_19 ?_
        refine r_getR (pc := 20) C fl_X7_24_7 hsR.1.1 rfl hR4w dX7_orders_20 ?_
        refine r_SN1io (pc := 23) C (c_isAct hsw hz hhw (hC.act hoF hbw1)) snl_X7_229 (by decide) (by omega) (by omega) (Nat.le_of_ble_eq_true rfl) rfl dX7_orders_23 (fun u2 A2 hc2 => ?_)
        obtain ⟨eu2, hsD, hhD, hGD⟩ := hc2
        refine r_top (eu2.trans (bI_iff ((actp_cong hfw1).trans (ordK_act h0)))) ?_
        clear eu2 u2
        generalize A2 = D at hsD hhD hGD ⊢
        refine r_Z (A := D) fun hZD => ?_
        refine r_old fun hoD => ?_
        have hRD := hI.1.1.hs hZF hsw hsD hhD hGD
        obtain ⟨v2, w2, hsRD, -, -⟩ := id hRD
        have hAD : Gw A D (GoX A r) := ori_d hI.2.2.2.2.1 hI.2.2.2.2.2.1 hR4w (gw_old hGD hoF hoD) hc67
        have hPD : StP A D := hI.2.2.2.2.2.2.1.tr (fun _ _ _ _ q => hsw.hs hsD hGD hZF q)
        refine r_iconst (pc := 26) C dX7_orders_26 ci_1 ?_
        refine r_V2vx (pc := 27) C (t_need hsRD (e := 1)) vl_X7_94 hsRD.1.1 (by decide) (by omega) (by omega) (Nat.le_of_ble_eq_true rfl) rfl dX7_orders_27 (fun q A9 hp hE => r_out C E (by rw [hx]; exact fun x h => nomatch h) hE.choose_spec (by omega) (by omega) (by have e9 := ord_e1 (σ := σ) (n := n) h0 hp.1; have e8 : (rdO σ B L fu0 f0 0 s0).2.2 = ordS σ B L n s := (by rw [← hro]; exact rdO_x (by omega) h0 hbt (by rw [e9.1]; decide)); rw [e8, e9.1, e9.2]; exact ⟨by decide, hp.2.of hAD (fun _ _ q => q.elim)⟩)) (fun u3 A3 hc3 => ?_)
        obtain ⟨hp3, eA3⟩ := hc3
        have hka : ordK B L s ≠ none := by assumption
        refine r_eqA eA3 ?_
        clear eA3 A3 u3
        refine r_aload_0 (pc := 30) C dX7_orders_30 ?_
        refine r_iload_2 (pc := 31) C dX7_orders_31 ?_
        refine r_bipush (pc := 32) C dX7_orders_32 cb_30 ?_
        refine r_icmp_ge (pc := 34) (tgt := 41) C dX7_orders_34 (by decide) (fun b34 => ?_) (fun b34 => ?_)
        · skip
          have b34 := (nI_le2 (by omega) (by omega)).mp b34
          refine r_iconst (pc := 41) C dX7_orders_41 ci_0 ?_
          refine r_iconst (pc := 42) C dX7_orders_42 ci_4 ?_
          refine r_V2vx (pc := 43) C (t_needNo hsRD (e := 4)) vl_X7_94 hsRD.1.1 (by decide) (by omega) (by omega) (Nat.le_of_ble_eq_true rfl) rfl dX7_orders_43 (fun q A9 hp hE => r_out C E (by rw [hx]; exact fun x h => nomatch h) hE.choose_spec (by omega) (by omega) (by have e9 := ord_e4 (σ := σ) (n := n) h0 hka (by omega); have e8 : (rdO σ B L fu0 f0 0 s0).2.2 = ordS σ B L n s := (by rw [← hro]; exact rdO_x (by omega) h0 hbt (by rw [e9.1]; decide)); rw [e8, e9.1, e9.2]; exact ⟨by decide, hp.of hAD (fun _ _ q => q.elim)⟩)) (fun u4 A4 hc4 => ?_)
          exact hc4.elim
        · skip
          have b34 := (not_congr (nI_le2 (by omega) (by omega))).mp b34
          refine r_iconst (pc := 37) C dX7_orders_37 ci_1 ?_
          refine r_goto (pc := 38) (tgt := 42) C dX7_orders_38 (by decide) ?_
          refine r_iconst (pc := 42) C dX7_orders_42 ci_4 ?_
          refine r_V2vo (pc := 43) C (t_needYes (r := r) (e := 4)) vl_X7_94 hsRD.1.1 (by decide) (by omega) (by omega) (Nat.le_of_ble_eq_true rfl) rfl dX7_orders_43 (fun u5 A5 hc5 => ?_)
          refine r_eqA hc5 ?_
          clear hc5 A5 u5
          have hwF9 : 1 ≤ wln B L (skp B L s.a) := by have h8 := (ordK_act h0).mpr hka; exact actp_1 h8
          obtain ⟨k9, hk9⟩ : ∃ k9, ordK B L s = some k9 := Option.ne_none_iff_exists'.mp hka
          have hk7 : k9 < 7 := ordK_le hk9
          have hwo := ordK_wd hk9
          have h01 : (goesS (nextS B L s)).e = 0 := h0
          have hga : (goesS (nextS B L s)).a = nxE B L s.a := goes_nx hwF9
          have hDr : D.R r 4 = some w1 := by rw [((hGD.2 r (hZF.lt hI.1.1.r7 rfl)).2.2 (fun e => by have h8 := hI.1.1.r7; rw [e, hsw.g] at h8; cases h8)).2.2]; exact hR4w
          have hgb : g.b ≤ w1 := hbw1.resolve_right (ori_w hsw hC.1 hoF hwF9)
          have hgo : ∀ y, Fp aL d (rK σ) (rG σ) y → ¬ GoX A r y := ori_f hZ hR hC.1 hoA hL
          have hLD := ly_gw hZ hL hAD hgo
          have hvD := lv_gw hZ hL hv2 hAD hgo
          have hNmD := hNm.sp hZ hPD (fun y hy => (hAD.2 y hy).1) (fun y hy => ((hAD.2 y (fp_lt hZ hL hy)).2.2 (hgo y hy)).2.2)
          have hnD : D.R c 0 = some aL := by obtain ⟨x1, x2, x3, -, -⟩ := id hR; rw [((hAD.2 c (hZ.lt x3.2.1.1 rfl)).2.2 (ori_c hZ hR hC.1 hoA)).2.2]; exact hn
          have hc3 := chE_le (B := B) (L := L) (a := nxE B L s.a) (t := k9) (by omega)
          have hc4 := nxE_le (B := B) (L := L) (a := chE B L (nxE B L s.a) k9) hc3.2
          have hc5 := nxE_le (B := B) (L := L) (a := nxE B L (chE B L (nxE B L s.a) k9)) hc4.2
          have hc6 := nxE_le (B := B) (L := L) (a := nxE B L (nxE B L (chE B L (nxE B L s.a) k9))) hc5.2
          refine r_aload_1 (pc := 46) C dX7_orders_46 ?_
          refine r_iload_2 (pc := 47) C dX7_orders_47 ?_
          refine r_aload_0 (pc := 48) C dX7_orders_48 ?_
          refine r_V0rx (pc := 49) C (t_change hRD hT hal hz hnD hLD hvD hW hNmD hC hK h83 hwo (s := goesS (nextS B L s)) h01 hga) vl_X7_233 hsRD.1.1 (by decide) (by omega) (by omega) (Nat.le_of_ble_eq_true rfl) rfl dX7_orders_49 (fun q A9 hp hE => r_out C E (by rw [hx]; exact fun x h => nomatch h) hE.choose_spec (by omega) (by omega) (by obtain ⟨o1, -, -⟩ := ord_ok (σ := σ) (f := f) (n := n) h0 hk9 (by omega); have e9 : ordS σ B L n s = prtS σ B L k9 (goesS (nextS B L s)) := (by rw [o1]; exact sgnS_k hp.1); have e8 : (rdO σ B L fu0 f0 0 s0).2.2 = ordS σ B L n s := (by rw [← hro]; exact rdO_x (by omega) h0 hbt (by rw [e9]; exact hp.1)); rw [e8, e9]; exact ⟨hp.1, hp.2.of hAD (fun y hy q => ori_go hI.2.2.2.2.2.1 hR4w hDr hgb hc67 hy q)⟩)) (fun u6 A6 hc6 => ?_)
          obtain ⟨c1, hRQ, c3, hIo, c5, hGQ, hPQ⟩ := hc6
          generalize u6 = o at hIo ⊢
          generalize A6 = Q at hRQ hIo hGQ hPQ ⊢
          refine r_Z (A := Q) fun hZQ => ?_
          refine r_old fun hoQ => ?_
          have lz : A.z < D.z := hZD.lt (show (D.G A.z).1 = 640 by rw [(hGD.2 _ (hZF.lt hI.2.1.1 rfl)).1]; exact hI.2.1.1) rfl
          have hQg : (Q.G A.z).1 = 640 := by rw [(hGQ.2 _ lz).1, (hGD.2 _ (hZF.lt hI.2.1.1 rfl)).1]; exact hI.2.1.1
          have hE2 : nxE B L (prtS σ B L k9 (goesS (nextS B L s))).a = nxE B L (chE B L (nxE B L s.a) k9) := by rw [c3]
          have hE3 : nxE B L (nxE B L (prtS σ B L k9 (goesS (nextS B L s))).a) = nxE B L (nxE B L (chE B L (nxE B L s.a) k9)) := by rw [c3]
          have hQn : Q.n A.z = 31 := by rw [(hGQ.2 _ lz).2.1, (hGD.2 _ (hZF.lt hI.2.1.1 rfl)).2.1]; exact hI.2.1.2
          refine r_storeL (pc := 52) C hK hIo hQg rfl (by rw [hQn]; omega) (by omega) dX7_orders_52 ?_
          have hQP : Gw Q (Q.sR A.z (va_up (Q.R A.z) n (some o))) (fun y => y = A.z) := gw_sR (fun _ => rfl)
          have hRP : RdT g (Q.sR A.z (va_up (Q.R A.z) n (some o))) r c bf L B (prtS σ B L k9 (goesS (nextS B L s))).a := hRQ.gw hZQ hQP (fun e => by have h8 := hRQ.r7; rw [e, hQg] at h8; cases h8) (fun e => by obtain ⟨x1, x2, x3, -, -⟩ := id hRQ; have h8 := x3.2.1.1; rw [e, hQg] at h8; cases h8) (fun e => by obtain ⟨x1, x2, x3, -, -⟩ := id hRQ; have h8 := x3.2.1.2.2.1; rw [e, hQg] at h8; cases h8) (fun y _ e => by rw [e, hQg]; exact ⟨by decide, by decide⟩)
          refine r_aload_0 (pc := 53) C dX7_orders_53 ?_
          refine r_V0vx (pc := 54) C (t_sign hRP hT (by omega) hz) vl_X7_142 hRP.r7 (by decide) (by omega) (by omega) (Nat.le_of_ble_eq_true rfl) rfl dX7_orders_54 (fun q A9 hp hE => r_out C E (by rw [hx]; exact fun x h => nomatch h) hE.choose_spec (by omega) (by omega) (by obtain ⟨o1, -, -⟩ := ord_ok (σ := σ) (f := f) (n := n) h0 hk9 (by omega); have hAP : Gw A (Q.sR A.z (va_up (Q.R A.z) n (some o))) (GoX A r) := (hAD.tr2 hGQ (fun y hy q => ori_go hI.2.2.2.2.2.1 hR4w hDr hgb hc67 hy q)).tr2 hQP (fun y hy e => absurd hy (by omega)); obtain ⟨z1, z2⟩ := sgn_x (S := ordS σ B L n s) (c := 59) c1 (fun _ => o1) hp hAP; have e8 : (rdO σ B L fu0 f0 0 s0).2.2 = ordS σ B L n s := (by rw [← hro]; exact rdO_x (by omega) h0 hbt z1); rw [e8]; exact ⟨z1, z2⟩)) (fun u7 A7 hc7 => ?_)
          obtain ⟨a5, y1, y2, hRU, hGU, hWU⟩ := hc7
          generalize A7 = U at hRU hGU hWU ⊢
          obtain ⟨o1, o2, o3⟩ := ord_ok (σ := σ) (f := f) (n := n) h0 hk9 (by omega)
          obtain ⟨z1, z2⟩ := sgnS_r (c := 59) c1 y1
          have hoe : (ordS σ B L n s).e = 0 := by rw [o1]; exact z1
          have hoa : (ordS σ B L n s).a = a5 := by rw [o1]; exact z2
          have hI2 := hI.step (v := 0) (x := chgO σ k9 (prtA σ B L k9 (goesS (nextS B L s))) (prtB σ B L k9 (goesS (nextS B L s)))) hc67 hZF hZD hZQ hoF hoD hoQ hR4w hsw hsD hGD hGQ hPQ hIo hGU hWU hW.num hk7 hk9 (by omega) (by rw [hoa]; exact hRU) hoe (by rw [hoa]; omega) rfl c5
          have hrs : rdO σ B L v f n s = rdO σ B L (v - 1) (ordF σ B L n f s) (n + 1) (ordS σ B L n s) := by rw [← o3]; obtain ⟨v8, rfl⟩ : ∃ v8, v = v8 + 1 := ⟨v - 1, by omega⟩; exact ro_st h0 hbt
          have hax := ordS_a hoe
          rw [y2] at hoa
          have hE1 : nxE B L (ordS σ B L n s).a = nxE B L (nxE B L (chE B L (nxE B L s.a) k9)) := by rw [hoa, c3]
          have hcq := chE_nx (B := B) (L := L) (a := nxE B L s.a) (t := k9) (by omega)
          refine r_iinc_2 (pc := 57) C dX7_orders_57 (nI_inc _) rfl ?_
          refine r_goto (pc := 60) (tgt := 8) C dX7_orders_60 (by decide) ?_
          refine r_widen (k' := 30 * (nxE B L (ordS σ B L n s).a - nxE B L s0.a) + 10 * (n + 1) + 1) (n' := 120 * (nxE B L (ordS σ B L n s).a - nxE B L s0.a) + 70 * (n + 1) + 31) (by omega) (by omega) ?_
          exact ih8 (n + 1) (v - 1) _ (ordS σ B L n s) _ _ _ (by omega) (by omega) (hrs.symm.trans hro) hI2 (by omega) (by omega)
  have hmz : A.z < (A.mk 640 0 31).z := by rw [mk_z]; omega
  have hG1 : Gw A (A.mk 640 0 31) (GoX A r) := gw_mk
  refine r_Z (A := (A.mk 640 0 31)) fun hZ1 => ?_
  have hI0 : OrI g A (A.mk 640 0 31) r c bf L B σ 0 f0 s0 (fun _ => (7, 0, 0)) (fun _ => 0) := ⟨⟨hR.gw hZ (gw_mk (X := Non)) (fun q => q) (fun q => q) (fun q => q) (fun _ _ q => q.elim), h00, ha⟩, ⟨by rw [mk_G, if_pos rfl], by rw [mk_n, if_pos rfl]⟩, fun j hj => absurd hj (Nat.not_lt_zero _), fun j _ => by rw [mk_R, if_pos rfl], hG1, fun y hy => Or.inl (Or.inr (by rw [mk_R, if_neg (fun e => by have h8 := hZ.lt hR.r7 rfl; omega)] at hy; exact hy)), StP.no hZ gw_mk, by obtain ⟨x1, x2, x3, -, -⟩ := id hR; rw [x3.2.2.2.2.1]; rfl⟩
  generalize hF1 : (A.mk 640 0 31) = F1 at hI0 ⊢
  refine r_widen (k' := 30 * (nxE B L s0.a - nxE B L s0.a) + 10 * 0 + 1) (n' := 120 * (nxE B L s0.a - nxE B L s0.a) + 70 * 0 + 31) (by omega) (by omega) ?_
  exact lp8_1 _ 0 fu0 f0 s0 (fun _ => (7, 0, 0)) (fun _ => 0) F1 (Nat.zero_le _) hfu rfl hI0 (Nat.le_refl _) (Nat.lt_succ_self _)
