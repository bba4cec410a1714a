/-! THE REFERENCE, 11: what is asked, inner methods -/
set_option maxRecDepth 100000
set_option maxHeartbeats 4000000 in
theorem m_daysSince {g : GZ} {A : HA} {t : Nat} {σ κ π τ : Nat → Int32} (hT : Tw A t) {c : Nat} (hc : c < 80) : Ct g wI yX6_daysSince (.code yX6_daysSince cX6_daysSince 2 (Option.some Jvm.ClassFile.FieldType.int)) 2 0 0 [.ref t, .int (nI (c))] (S5 A t σ κ π τ) (fun u A' => u = sinceR σ c ∧ A' = S5 A t σ κ π τ) fw_no := by
  refine Ct.of [some (.ref t), some (.int (nI (c)))] (by decide) rfl rfl fun z C hx hnm E => ?_
  refine r_aload_0 (pc := 0) C dX6_daysSince_0 ?_
  refine r_iload_1 (pc := 1) C dX6_daysSince_1 ?_
  refine r_iconst (pc := 2) C dX6_daysSince_2 ci_4 ?_
  refine r_V2io (pc := 3) C (m_ofCell (by exact hT) (S5_1 _ _ _ _ _ _)) vl_X6_86 (tw_g hT) (by decide) (Nat.le_refl _) (Nat.le_refl _) (Nat.le_of_ble_eq_true rfl) rfl dX6_daysSince_3 (fun u1 A1 hc1 => ?_)
  refine r_top hc1.1 ?_
  refine r_eqA hc1.2 ?_
  clear hc1 A1 u1
  refine r_if_ne (pc := 6) (tgt := 13) C dX6_daysSince_6 (by decide) (fun b6 => ?_) (fun b6 => ?_)
  · skip
    refine r_aload_0 (pc := 13) C dX6_daysSince_13 ?_
    refine r_getR (pc := 14) C fl_X6_7_6 (tw_g hT) rfl (tw_r1 hT) dX6_daysSince_14 ?_
    refine r_iconst (pc := 17) C dX6_daysSince_17 ci_3 ?_
    refine r_iald (pc := 18) C (tw_g1 hT) rfl rfl (lt_eq (by omega) (tw_n1 hT)) (by omega) dX6_daysSince_18 ?_
    refine r_top (congrFun (S5_1 _ _ _ _ _ _) _) ?_
    refine r_aload_0 (pc := 19) C dX6_daysSince_19 ?_
    refine r_iload_1 (pc := 20) C dX6_daysSince_20 ?_
    refine r_iconst (pc := 21) C dX6_daysSince_21 ci_4 ?_
    refine r_V2io (pc := 22) C (m_ofCell (by exact hT) (S5_1 _ _ _ _ _ _)) vl_X6_86 (tw_g hT) (by decide) (Nat.le_refl _) (Nat.le_refl _) (Nat.le_of_ble_eq_true rfl) rfl dX6_daysSince_22 (fun u2 A2 hc2 => ?_)
    refine r_top hc2.1 ?_
    refine r_eqA hc2.2 ?_
    clear hc2 A2 u2
    refine r_isub (pc := 25) C dX6_daysSince_25 ?_
    refine r_iret (pc := 26) C E rfl (Nat.le_refl _) (Nat.le_refl _) dX6_daysSince_26 ?_
    refine ⟨?_, rfl⟩
    unfold sinceR
    first
      | rw [if_pos (by assumption)]
      | rw [if_neg (by assumption)]
  · skip
    refine r_iconst (pc := 9) C dX6_daysSince_9 ci_m1 ?_
    refine r_goto (pc := 10) (tgt := 26) C dX6_daysSince_10 (by decide) ?_
    refine r_iret (pc := 26) C E rfl (Nat.le_refl _) (Nat.le_refl _) dX6_daysSince_26 ?_
    refine ⟨?_, rfl⟩
    unfold sinceR
    first
      | rw [if_pos (by assumption)]
      | rw [if_neg (by assumption)]
set_option maxHeartbeats 4000000 in
theorem m_walkersOver {g : GZ} {A : HA} {t : Nat} {σ κ π τ : Nat → Int32} (hT : Tw A t) {c : Nat} (hW : RowW σ) (hy : ways σ) (hc : c < 80) : Ct g wI yX6_walkersOver (.code yX6_walkersOver cX6_walkersOver 5 (Option.some Jvm.ClassFile.FieldType.int)) 7 0 0 [.ref t, .int (nI (c))] (S5 A t σ κ π τ) (fun u A' => (∃ κ' π' m', A' = S5 A t σ κ' π' (upd τ 10 m')) ∧ u = nI (overR σ c)) fw_no := by
  refine Ct.of [some (.ref t), some (.int (nI (c))), none, none, none] (by decide) rfl rfl fun z C hx hnm E => ?_
  have hS := hW.s
  have hc80 := hS.c80
  have k6 := hW.k6
  refine r_iconst (pc := 0) C dX6_walkersOver_0 ci_0 ?_
  refine r_istore_2 (pc := 1) C dX6_walkersOver_1 rfl ?_
  refine r_iconst (pc := 2) C dX6_walkersOver_2 ci_0 ?_
  refine r_istore_3 (pc := 3) C dX6_walkersOver_3 rfl ?_
  have lp4_1 : ∀ (fu : Nat) (k : Nat) (κ1 π1 : Nat → Int32) (m1 : Int32) (hk : k ≤ rK σ), rK σ - k < fu → wa g z 0 0 (S5 A t σ κ1 π1 (upd τ 10 m1)) 4 [some (.ref t), some (.int (nI (c))), some (.int (nI (smN (fun k => b01 (onR σ c k)) k))), some (.int (nI (k))), none] [] := by
    intro fu
    induction fu with
    | zero => intro k  κ1 π1  m1  hk hm4; exact absurd hm4 (Nat.not_lt_zero _)
    | succ fu ih4 =>
      intro k  κ1 π1  m1  hk hm4
      refine r_iload_3 (pc := 4) C dX6_walkersOver_4 ?_
      refine r_aload_0 (pc := 5) C dX6_walkersOver_5 ?_
      refine r_getR (pc := 6) C fl_X6_7_6 (tw_g hT) rfl (tw_r1 hT) dX6_walkersOver_6 ?_
      refine r_iconst (pc := 9) C dX6_walkersOver_9 ci_1 ?_
      refine r_iald (pc := 10) C (tw_g1 hT) rfl rfl (lt_eq (by omega) (tw_n1 hT)) (by omega) dX6_walkersOver_10 ?_
      refine r_top (congrFun (S5_1 _ _ _ _ _ _) _) ?_
      refine r_top hW.k ?_
      refine r_icmp_ge (pc := 11) (tgt := 38) C dX6_walkersOver_11 (by decide) (fun b11 => ?_) (fun b11 => ?_)
      · skip
        have b11 := (nI_le2 (by omega) (by omega)).mp b11
        refine r_iload_2 (pc := 38) C dX6_walkersOver_38 ?_
        refine r_iret (pc := 39) C E rfl (Nat.le_refl _) (Nat.le_refl _) dX6_walkersOver_39 ?_
        have e9 : k = rK σ := by omega
        subst e9
        exact ⟨⟨_, _, _, rfl⟩, rfl⟩
      · skip
        have b11 := (not_congr (nI_le2 (by omega) (by omega))).mp b11
        have hk2 : k < rK σ := by omega
        have hwf := wy_facts hW hk2 (hy _ hk2)
        refine r_aload_0 (pc := 14) C dX6_walkersOver_14 ?_
        refine r_iload_3 (pc := 15) C dX6_walkersOver_15 ?_
        refine r_V1io (pc := 16) C (m_laysWay (by exact hT) hW hk2 (hy _ hk2)) vl_X6_147 (tw_g hT) (by decide) (Nat.le_refl _) (Nat.le_refl _) (Nat.le_of_ble_eq_true rfl) rfl dX6_walkersOver_16 (fun u2 A2 hc2 => ?_)
        obtain ⟨κL, πL, eA, hπL, eu⟩ := hc2
        refine r_top eu ?_
        refine r_eqA (eA.trans (by first | rw [bx_upd] | rfl)) ?_
        clear eu eA A2 u2
        refine r_istore_4 (pc := 19) C dX6_walkersOver_19 rfl ?_
        refine r_iload_2 (pc := 21) C dX6_walkersOver_21 ?_
        refine r_aload_0 (pc := 22) C dX6_walkersOver_22 ?_
        refine r_iload_1 (pc := 23) C dX6_walkersOver_23 ?_
        refine r_V1io (pc := 24) C (m_isOnWay (c := c) (y := wy σ k) (L := wl σ k) (by exact hT) (by omega) pk_us hπL (fun i hi => Nat.lt_of_lt_of_le (hwf.1 i hi) hc80) (by omega)) vl_X6_387 (tw_g hT) (by decide) (Nat.le_refl _) (Nat.le_refl _) (Nat.le_of_ble_eq_true rfl) rfl dX6_walkersOver_24 (fun u3 A3 hc3 => ?_)
        refine r_top hc3.1 ?_
        refine r_eqA hc3.2 ?_
        clear hc3 A3 u3
        refine r_S1io (pc := 27) C m_truth sl_X6_130 (by decide) (Nat.le_refl _) (Nat.le_refl _) (Nat.le_of_ble_eq_true rfl) rfl dX6_walkersOver_27 (fun u4 A4 hc4 => ?_)
        refine r_top hc4.1 ?_
        refine r_eqA hc4.2 ?_
        clear hc4 A4 u4
        refine r_top (show _ = nI (b01 (onR σ c k)) from (bI_b01 _).trans (by congr 1; unfold onR; cases onB (wy σ k) c (wl σ k + 1) <;> rfl)) ?_
        refine r_iadd (pc := 30) C dX6_walkersOver_30 ?_
        refine r_top (nI_add _ _) ?_
        refine r_istore_2 (pc := 31) C dX6_walkersOver_31 rfl ?_
        refine r_iinc_3 (pc := 32) C dX6_walkersOver_32 (nI_inc _) rfl ?_
        refine r_goto (pc := 35) (tgt := 4) C dX6_walkersOver_35 (by decide) ?_
        refine r_forget (lv' := [some _, some _, some _, some _, none]) ⟨rfl, rfl, rfl, rfl, trivial⟩ ?_
        exact ih4 (k + 1) _ _ _ (by omega) (by omega)
  rw [show S5 A t σ κ π τ = S5 A t σ κ π (upd τ 10 (τ 10)) by rw [upd_10]]
  exact lp4_1 _ 0 κ π (τ 10) (by omega) (Nat.lt_succ_self _)
set_option maxHeartbeats 4000000 in
theorem m_lowestOver {g : GZ} {A : HA} {t : Nat} {σ κ π τ : Nat → Int32} (hT : Tw A t) {c : Nat} (hW : RowW σ) (hy : ways σ) (hc : c < 80) : Ct g wI yX6_lowestOver (.code yX6_lowestOver cX6_lowestOver 4 (Option.some Jvm.ClassFile.FieldType.int)) 7 0 0 [.ref t, .int (nI (c))] (S5 A t σ κ π τ) (fun u A' => (∃ κ' π' m', A' = S5 A t σ κ' π' (upd τ 10 m')) ∧ u = oI (lowR σ c)) fw_no := by
  refine Ct.of [some (.ref t), some (.int (nI (c))), none, none] (by decide) rfl rfl fun z C hx hnm E => ?_
  have hS := hW.s
  have hc80 := hS.c80
  have k6 := hW.k6
  refine r_iconst (pc := 0) C dX6_lowestOver_0 ci_0 ?_
  refine r_istore_2 (pc := 1) C dX6_lowestOver_1 rfl ?_
  have lp2_1 : ∀ (fu : Nat) (k : Nat) (κ1 π1 : Nat → Int32) (m1 : Int32) (hk : k ≤ rK σ) (hf : firstB (onR σ c) k = none), rK σ - k < fu → wa g z 0 0 (S5 A t σ κ1 π1 (upd τ 10 m1)) 2 [some (.ref t), some (.int (nI (c))), some (.int (nI (k))), none] [] := by
    intro fu
    induction fu with
    | zero => intro k  κ1 π1  m1  hk hf hm2; exact absurd hm2 (Nat.not_lt_zero _)
    | succ fu ih2 =>
      intro k  κ1 π1  m1  hk hf hm2
      refine r_iload_2 (pc := 2) C dX6_lowestOver_2 ?_
      refine r_aload_0 (pc := 3) C dX6_lowestOver_3 ?_
      refine r_getR (pc := 4) C fl_X6_7_6 (tw_g hT) rfl (tw_r1 hT) dX6_lowestOver_4 ?_
      refine r_iconst (pc := 7) C dX6_lowestOver_7 ci_1 ?_
      refine r_iald (pc := 8) C (tw_g1 hT) rfl rfl (lt_eq (by omega) (tw_n1 hT)) (by omega) dX6_lowestOver_8 ?_
      refine r_top (congrFun (S5_1 _ _ _ _ _ _) _) ?_
      refine r_top hW.k ?_
      refine r_icmp_ge (pc := 9) (tgt := 34) C dX6_lowestOver_9 (by decide) (fun b9 => ?_) (fun b9 => ?_)
      · skip
        have b9 := (nI_le2 (by omega) (by omega)).mp b9
        refine r_iconst (pc := 34) C dX6_lowestOver_34 ci_m1 ?_
        refine r_iret (pc := 35) C E rfl (Nat.le_refl _) (Nat.le_refl _) dX6_lowestOver_35 ?_
        have e9 : k = rK σ := by omega
        subst e9
        exact ⟨⟨_, _, _, rfl⟩, by unfold lowR; rw [hf]; rfl⟩
      · skip
        have b9 := (not_congr (nI_le2 (by omega) (by omega))).mp b9
        have hk2 : k < rK σ := by omega
        have hwf := wy_facts hW hk2 (hy _ hk2)
        refine r_aload_0 (pc := 12) C dX6_lowestOver_12 ?_
        refine r_iload_2 (pc := 13) C dX6_lowestOver_13 ?_
        refine r_V1io (pc := 14) C (m_laysWay (by exact hT) hW hk2 (hy _ hk2)) vl_X6_147 (tw_g hT) (by decide) (Nat.le_refl _) (Nat.le_refl _) (Nat.le_of_ble_eq_true rfl) rfl dX6_lowestOver_14 (fun u2 A2 hc2 => ?_)
        obtain ⟨κL, πL, eA, hπL, eu⟩ := hc2
        refine r_top eu ?_
        refine r_eqA (eA.trans (by first | rw [bx_upd] | rfl)) ?_
        clear eu eA A2 u2
        refine r_istore_3 (pc := 17) C dX6_lowestOver_17 rfl ?_
        refine r_aload_0 (pc := 18) C dX6_lowestOver_18 ?_
        refine r_iload_1 (pc := 19) C dX6_lowestOver_19 ?_
        refine r_V1io (pc := 20) C (m_isOnWay (c := c) (y := wy σ k) (L := wl σ k) (by exact hT) (by omega) pk_us hπL (fun i hi => Nat.lt_of_lt_of_le (hwf.1 i hi) hc80) (by omega)) vl_X6_387 (tw_g hT) (by decide) (Nat.le_refl _) (Nat.le_refl _) (Nat.le_of_ble_eq_true rfl) rfl dX6_lowestOver_20 (fun u3 A3 hc3 => ?_)
        refine r_top hc3.1 ?_
        refine r_eqA hc3.2 ?_
        clear hc3 A3 u3
        refine r_if_eq (pc := 23) (tgt := 28) C dX6_lowestOver_23 (by decide) (fun b23 => ?_) (fun b23 => ?_)
        · skip
          have b23 := bI_0.mp b23
          refine r_iinc_2 (pc := 28) C dX6_lowestOver_28 (nI_inc _) rfl ?_
          refine r_goto (pc := 31) (tgt := 2) C dX6_lowestOver_31 (by decide) ?_
          refine r_forget (lv' := [some _, some _, some _, none]) ⟨rfl, rfl, rfl, trivial⟩ ?_
          exact ih2 (k + 1) _ _ _ (by omega) (firstB_none hf b23) (by omega)
        · skip
          have b23 := bI_n.mp b23
          refine r_iload_2 (pc := 26) C dX6_lowestOver_26 ?_
          refine r_iret (pc := 27) C E rfl (Nat.le_refl _) (Nat.le_refl _) dX6_lowestOver_27 ?_
          exact ⟨⟨_, _, _, rfl⟩, by unfold lowR; rw [firstB_some hf b23 _ hk2]; rfl⟩
  rw [show S5 A t σ κ π τ = S5 A t σ κ π (upd τ 10 (τ 10)) by rw [upd_10]]
  exact lp2_1 _ 0 κ π (τ 10) (by omega) rfl (Nat.lt_succ_self _)
set_option maxHeartbeats 4000000 in
theorem m_cellNow {g : GZ} {A : HA} {t : Nat} {σ κ π τ : Nat → Int32} (hT : Tw A t) {c w : Nat} (hW : RowW σ) (hy : ways σ) (hc : c < 80) (hw : w ≤ 5) : Ct g wI yX6_cellNow (.code yX6_cellNow cX6_cellNow 3 (Option.some Jvm.ClassFile.FieldType.int)) 8 0 0 [.ref t, .int (nI (c)), .int (nI (w))] (S5 A t σ κ π τ) (fun u A' => (∃ κ' π' m', A' = S5 A t σ κ' π' (upd τ 10 m')) ∧ u = cellA σ c w) fw_no := by
  refine Ct.of [some (.ref t), some (.int (nI (c))), some (.int (nI (w)))] (by decide) rfl rfl fun z C hx hnm E => ?_
  have hsw : w < 6 := by omega
  refine r_iload_2 (pc := 0) C dX6_cellNow_0 ?_
  by_cases w1_1 : w = 1
  · skip
    subst w1_1
    refine r_tableIn (pc := 1) (tgt := 36) (off := 35) C dX6_cellNow_1 (by decide +kernel) (by decide +kernel) (by decide +kernel) (by decide) ?_
    refine r_aload_0 (pc := 36) C dX6_cellNow_36 ?_
    refine r_iload_1 (pc := 37) C dX6_cellNow_37 ?_
    refine r_V1io (pc := 38) C (m_isGrass (by exact hT) (S5_1 _ _ _ _ _ _)) vl_X6_93 (tw_g hT) (by decide) (Nat.le_refl _) (Nat.le_refl _) (Nat.le_of_ble_eq_true rfl) rfl dX6_cellNow_38 (fun u1 A1 hc1 => ?_)
    refine r_top hc1.1 ?_
    refine r_eqA hc1.2 ?_
    clear hc1 A1 u1
    refine r_if_eq (pc := 41) (tgt := 53) C dX6_cellNow_41 (by decide) (fun b41 => ?_) (fun b41 => ?_)
    · skip
      have b41 := bI_0.mp b41
      refine r_iconst (pc := 53) C dX6_cellNow_53 ci_m1 ?_
      refine r_iret (pc := 54) C E rfl (Nat.le_refl _) (Nat.le_refl _) dX6_cellNow_54 ?_
      exact ⟨⟨κ, π, τ 10, by rw [upd_10]⟩, by first | exact (if_pos (by assumption)).symm | exact (if_neg (by assumption)).symm⟩
    · skip
      have b41 := bI_n.mp b41
      refine r_aload_0 (pc := 44) C dX6_cellNow_44 ?_
      refine r_iload_1 (pc := 45) C dX6_cellNow_45 ?_
      refine r_iconst (pc := 46) C dX6_cellNow_46 ci_1 ?_
      refine r_V2io (pc := 47) C (m_ofCell (by exact hT) (S5_1 _ _ _ _ _ _)) vl_X6_86 (tw_g hT) (by decide) (Nat.le_refl _) (Nat.le_refl _) (Nat.le_of_ble_eq_true rfl) rfl dX6_cellNow_47 (fun u2 A2 hc2 => ?_)
      refine r_top hc2.1 ?_
      refine r_eqA hc2.2 ?_
      clear hc2 A2 u2
      refine r_goto (pc := 50) (tgt := 54) C dX6_cellNow_50 (by decide) ?_
      refine r_iret (pc := 54) C E rfl (Nat.le_refl _) (Nat.le_refl _) dX6_cellNow_54 ?_
      exact ⟨⟨κ, π, τ 10, by rw [upd_10]⟩, by first | exact (if_pos (by assumption)).symm | exact (if_neg (by assumption)).symm⟩
  by_cases w1_2 : w = 2
  · skip
    subst w1_2
    refine r_tableIn (pc := 1) (tgt := 67) (off := 66) C dX6_cellNow_1 (by decide +kernel) (by decide +kernel) (by decide +kernel) (by decide) ?_
    refine r_aload_0 (pc := 67) C dX6_cellNow_67 ?_
    refine r_iload_1 (pc := 68) C dX6_cellNow_68 ?_
    refine r_iload_2 (pc := 69) C dX6_cellNow_69 ?_
    refine r_V2io (pc := 70) C (m_ofCell (by exact hT) (S5_1 _ _ _ _ _ _)) vl_X6_86 (tw_g hT) (by decide) (Nat.le_refl _) (Nat.le_refl _) (Nat.le_of_ble_eq_true rfl) rfl dX6_cellNow_70 (fun u3 A3 hc3 => ?_)
    refine r_top hc3.1 ?_
    refine r_eqA hc3.2 ?_
    clear hc3 A3 u3
    refine r_iret (pc := 73) C E rfl (Nat.le_refl _) (Nat.le_refl _) dX6_cellNow_73 ?_
    exact ⟨⟨κ, π, τ 10, by rw [upd_10]⟩, (cellA_d (by omega) (by omega) (by omega)).symm⟩
  by_cases w1_3 : w = 3
  · skip
    subst w1_3
    refine r_tableIn (pc := 1) (tgt := 67) (off := 66) C dX6_cellNow_1 (by decide +kernel) (by decide +kernel) (by decide +kernel) (by decide) ?_
    refine r_aload_0 (pc := 67) C dX6_cellNow_67 ?_
    refine r_iload_1 (pc := 68) C dX6_cellNow_68 ?_
    refine r_iload_2 (pc := 69) C dX6_cellNow_69 ?_
    refine r_V2io (pc := 70) C (m_ofCell (by exact hT) (S5_1 _ _ _ _ _ _)) vl_X6_86 (tw_g hT) (by decide) (Nat.le_refl _) (Nat.le_refl _) (Nat.le_of_ble_eq_true rfl) rfl dX6_cellNow_70 (fun u4 A4 hc4 => ?_)
    refine r_top hc4.1 ?_
    refine r_eqA hc4.2 ?_
    clear hc4 A4 u4
    refine r_iret (pc := 73) C E rfl (Nat.le_refl _) (Nat.le_refl _) dX6_cellNow_73 ?_
    exact ⟨⟨κ, π, τ 10, by rw [upd_10]⟩, (cellA_d (by omega) (by omega) (by omega)).symm⟩
  by_cases w1_4 : w = 4
  · skip
    subst w1_4
    refine r_tableIn (pc := 1) (tgt := 55) (off := 54) C dX6_cellNow_1 (by decide +kernel) (by decide +kernel) (by decide +kernel) (by decide) ?_
    refine r_aload_0 (pc := 55) C dX6_cellNow_55 ?_
    refine r_iload_1 (pc := 56) C dX6_cellNow_56 ?_
    refine r_V1io (pc := 57) C (m_daysSince (by exact hT) (by first | assumption | omega)) vl_X6_390 (tw_g hT) (by decide) (Nat.le_refl _) (Nat.le_refl _) (Nat.le_of_ble_eq_true rfl) rfl dX6_cellNow_57 (fun u5 A5 hc5 => ?_)
    refine r_top hc5.1 ?_
    refine r_eqA hc5.2 ?_
    clear hc5 A5 u5
    refine r_iret (pc := 60) C E rfl (Nat.le_refl _) (Nat.le_refl _) dX6_cellNow_60 ?_
    exact ⟨⟨κ, π, τ 10, by rw [upd_10]⟩, rfl⟩
  by_cases w1_5 : w = 5
  · skip
    subst w1_5
    refine r_tableIn (pc := 1) (tgt := 61) (off := 60) C dX6_cellNow_1 (by decide +kernel) (by decide +kernel) (by decide +kernel) (by decide) ?_
    refine r_aload_0 (pc := 61) C dX6_cellNow_61 ?_
    refine r_iload_1 (pc := 62) C dX6_cellNow_62 ?_
    refine r_V1io (pc := 63) C (m_walkersOver (by exact hT) hW hy hc) vl_X6_393 (tw_g hT) (by decide) (Nat.le_refl _) (Nat.le_refl _) (Nat.le_of_ble_eq_true rfl) rfl dX6_cellNow_63 (fun u6 A6 hc6 => ?_)
    obtain ⟨⟨κL, πL, mL, eA⟩, eu⟩ := hc6
    refine r_top eu ?_
    refine r_eqA (eA.trans (by first | rw [bx_upd] | rfl)) ?_
    clear eu eA A6 u6
    refine r_iret (pc := 66) C E rfl (Nat.le_refl _) (Nat.le_refl _) dX6_cellNow_66 ?_
    exact ⟨⟨_, _, _, rfl⟩, rfl⟩
  refine r_tableOut (pc := 1) (tgt := 67) C dX6_cellNow_1 (by rw [t_nI (by omega)]; omega) (by decide) ?_
  refine r_aload_0 (pc := 67) C dX6_cellNow_67 ?_
  refine r_iload_1 (pc := 68) C dX6_cellNow_68 ?_
  refine r_iload_2 (pc := 69) C dX6_cellNow_69 ?_
  refine r_V2io (pc := 70) C (m_ofCell (by exact hT) (S5_1 _ _ _ _ _ _)) vl_X6_86 (tw_g hT) (by decide) (Nat.le_refl _) (Nat.le_refl _) (Nat.le_of_ble_eq_true rfl) rfl dX6_cellNow_70 (fun u7 A7 hc7 => ?_)
  refine r_top hc7.1 ?_
  refine r_eqA hc7.2 ?_
  clear hc7 A7 u7
  refine r_iret (pc := 73) C E rfl (Nat.le_refl _) (Nat.le_refl _) dX6_cellNow_73 ?_
  exact ⟨⟨κ, π, τ 10, by rw [upd_10]⟩, (cellA_d (by omega) (by omega) (by omega)).symm⟩
