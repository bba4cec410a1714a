/-! THE REFERENCE, 9: changes, copies -/
set_option maxRecDepth 100000
theorem S5_sx (A : HA) (t : Nat) (σ κ π τ : Rw) {x : Nat} (f : Rw) (h0 : x ≠ t) (h1 : x ≠ t + 1) (h6 : x ≠ t + 6) (h7 : x ≠ t + 7) : (S5 A t σ κ π τ).sI x f = S5 (A.sI x f) t σ κ π τ := by
  unfold S5
  rw [sI_comm _ _ _ (show t ≠ x by omega), sI_comm _ _ _ (show t + 7 ≠ x by omega), sI_comm _ _ _ (show t + 6 ≠ x by omega), sI_comm _ _ _ (show t + 1 ≠ x by omega)]
/-- rows that are the same but for what lies behind -/
theorem cpy_back {σ α τ : Rw} (h : ∀ j, 553 ≤ j → τ j = σ j) : va_cpy (va_cpy σ α 0 0 553) τ 0 0 553 = σ := by
  funext j
  unfold va_cpy
  by_cases q : 0 ≤ j ∧ j < 0 + 553
  · rw [if_pos q, if_pos (by omega)]
    exact congrArg σ (by omega)
  · rw [if_neg q, h j (by omega)]
theorem stone_s {σ : Rw} (h : RowS σ) {c : Nat} : RowS (paveS σ c) := by
  have e : ∀ j, j = 4 ∨ j = 5 → paveS σ c j = σ j := fun j hj => by
    unfold paveS stoneR pav1
    rw [pk_un (by omega), pk_un (by omega), pk_un (by omega)]
  have e1 : rW (paveS σ c) = rW σ := congrArg Int32.toNatClampNeg (e 4 (by omega))
  have e2 : rH (paveS σ c) = rH σ := congrArg Int32.toNatClampNeg (e 5 (by omega))
  unfold RowS
  rw [e1, e2, e 4 (by omega), e 5 (by omega)]
  exact h
set_option maxHeartbeats 4000000 in
theorem m_paveNow {g : GZ} {A : HA} {t : Nat} {σ κ π τ : Nat → Int32} (hT : Tw A t) {a b : Nat} (hW : RowW σ) (ha : a < 1000) (hb : b < 1000) : Ct g wI yX6_paveNow (.code yX6_paveNow cX6_paveNow 4 (Option.some Jvm.ClassFile.FieldType.int)) 3 0 0 [.ref t, .int (nI (a)), .int (nI (b))] (S5 A t σ κ π τ) (fun u A' => u = (inC σ a b (paveC σ)).1 ∧ A' = S5 A t (inC σ a b (paveC σ)).2 κ π τ) fw_no := by
  refine Ct.of [some (.ref t), some (.int (nI (a))), some (.int (nI (b))), none] (by decide) rfl rfl fun z C hx hnm E => ?_
  have hS := hW.s
  have hc80 := hS.c80
  have hw10 := hS.w10
  have hh8 := hS.h8
  refine r_aload_0 (pc := 0) C dX6_paveNow_0 ?_
  refine r_iload_1 (pc := 1) C dX6_paveNow_1 ?_
  refine r_iload_2 (pc := 2) C dX6_paveNow_2 ?_
  refine r_V2io (pc := 3) C (m5_isCell (by exact hT) hS ha hb) vl_X6_89 (tw_g hT) (by decide) (Nat.le_refl _) (Nat.le_refl _) (Nat.le_of_ble_eq_true rfl) rfl dX6_paveNow_3 (fun u1 A1 hc1 => ?_)
  refine r_top hc1.1 ?_
  refine r_eqA hc1.2 ?_
  clear hc1 A1 u1
  refine r_if_ne (pc := 6) (tgt := 12) C dX6_paveNow_6 (by decide) (fun b6 => ?_) (fun b6 => ?_)
  · skip
    have b6 := bI_n.mp b6
    have hc1 : b * rW σ + a < 80 := Nat.lt_of_lt_of_le (at_lt hS b6.1 b6.2) hc80
    refine r_aload_0 (pc := 12) C dX6_paveNow_12 ?_
    refine r_iload_1 (pc := 13) C dX6_paveNow_13 ?_
    refine r_iload_2 (pc := 14) C dX6_paveNow_14 ?_
    refine r_V2io (pc := 15) C (m_at (by exact hT) (S5_1 _ _ _ _ _ _) hS) vl_X6_83 (tw_g hT) (by decide) (Nat.le_refl _) (Nat.le_refl _) (Nat.le_of_ble_eq_true rfl) rfl dX6_paveNow_15 (fun u2 A2 hc2 => ?_)
    refine r_top hc2.1 ?_
    refine r_eqA hc2.2 ?_
    clear hc2 A2 u2
    refine r_istore_3 (pc := 18) C dX6_paveNow_18 rfl ?_
    refine r_aload_0 (pc := 19) C dX6_paveNow_19 ?_
    refine r_iload_3 (pc := 20) C dX6_paveNow_20 ?_
    refine r_V1io (pc := 21) C (m_isGrass (by exact hT) (S5_1 _ _ _ _ _ _)) vl_X6_93 (tw_g hT) (by decide) (Nat.le_refl _) (Nat.le_refl _) (Nat.le_of_ble_eq_true rfl) rfl dX6_paveNow_21 (fun u3 A3 hc3 => ?_)
    refine r_top hc3.1 ?_
    refine r_eqA hc3.2 ?_
    clear hc3 A3 u3
    refine r_if_ne (pc := 24) (tgt := 29) C dX6_paveNow_24 (by decide) (fun b24 => ?_) (fun b24 => ?_)
    · skip
      have b24 := bI_n.mp b24
      refine r_aload_0 (pc := 29) C dX6_paveNow_29 ?_
      refine r_iload_3 (pc := 30) C dX6_paveNow_30 ?_
      refine r_V1io (pc := 31) C (m_hasFence (by exact hT) (S5_1 _ _ _ _ _ _)) vl_X6_97 (tw_g hT) (by decide) (Nat.le_refl _) (Nat.le_refl _) (Nat.le_of_ble_eq_true rfl) rfl dX6_paveNow_31 (fun u4 A4 hc4 => ?_)
      refine r_top hc4.1 ?_
      refine r_eqA hc4.2 ?_
      clear hc4 A4 u4
      refine r_if_eq (pc := 34) (tgt := 40) C dX6_paveNow_34 (by decide) (fun b34 => ?_) (fun b34 => ?_)
      · skip
        have b34 := bI_0.mp b34
        refine r_aload_0 (pc := 40) C dX6_paveNow_40 ?_
        refine r_bipush (pc := 41) C dX6_paveNow_41 cb_7 ?_
        refine r_aload_0 (pc := 43) C dX6_paveNow_43 ?_
        refine r_iload_3 (pc := 44) C dX6_paveNow_44 ?_
        refine r_iconst (pc := 45) C dX6_paveNow_45 ci_1 ?_
        refine r_V2io (pc := 46) C (m_ofCell (by exact hT) (S5_1 _ _ _ _ _ _)) vl_X6_86 (tw_g hT) (by decide) (Nat.le_refl _) (Nat.le_refl _) (Nat.le_of_ble_eq_true rfl) rfl dX6_paveNow_46 (fun u5 A5 hc5 => ?_)
        refine r_top hc5.1 ?_
        refine r_eqA hc5.2 ?_
        clear hc5 A5 u5
        refine r_V2vo (pc := 49) C (m_grows (by exact hT) (S5_1 _ _ _ _ _ _)) vl_X6_143 (tw_g hT) (by decide) (Nat.le_refl _) (Nat.le_refl _) (Nat.le_of_ble_eq_true rfl) rfl dX6_paveNow_49 (fun u6 A6 hc6 => ?_)
        refine r_eqA hc6 ?_
        clear hc6 A6 u6
        refine r_eqA (S5_w1 _ _ _ _ _ _ _) ?_
        refine r_aload_0 (pc := 52) C dX6_paveNow_52 ?_
        refine r_iload_3 (pc := 53) C dX6_paveNow_53 ?_
        refine r_V1vo (pc := 54) C (m_becomesStone (by exact hT) hc1) vl_X6_180 (tw_g hT) (by decide) (Nat.le_refl _) (Nat.le_refl _) (Nat.le_of_ble_eq_true rfl) rfl dX6_paveNow_54 (fun u7 A7 hc7 => ?_)
        refine r_eqA hc7 ?_
        clear hc7 A7 u7
        refine r_aload_0 (pc := 57) C dX6_paveNow_57 ?_
        refine r_iconst (pc := 58) C dX6_paveNow_58 ci_1 ?_
        refine r_V1io (pc := 59) C (m_manyOf (σ := paveS σ (b * rW σ + a)) (by exact hT) (stone_s hS) (by omega)) vl_X6_183 (tw_g hT) (by decide) (Nat.le_refl _) (Nat.le_refl _) (Nat.le_of_ble_eq_true rfl) rfl dX6_paveNow_59 (fun u8 A8 hc8 => ?_)
        refine r_top hc8.1 ?_
        refine r_eqA hc8.2 ?_
        clear hc8 A8 u8
        refine r_iret (pc := 62) C E rfl (Nat.le_refl _) (Nat.le_refl _) dX6_paveNow_62 ?_
        rw [inC_in (by assumption), paveC, if_pos (by assumption), if_neg (by assumption)]
        exact ⟨rfl, rfl⟩
      · skip
        have b34 := bI_n.mp b34
        refine r_bipush (pc := 37) C dX6_paveNow_37 cb_m2 ?_
        refine r_iret (pc := 39) C E rfl (Nat.le_refl _) (Nat.le_refl _) dX6_paveNow_39 ?_
        rw [inC_in (by assumption), paveC, if_pos (by assumption), if_pos (by assumption)]
        exact ⟨rfl, rfl⟩
    · skip
      have b24 := bI_0.mp b24
      refine r_iconst (pc := 27) C dX6_paveNow_27 ci_m1 ?_
      refine r_iret (pc := 28) C E rfl (Nat.le_refl _) (Nat.le_refl _) dX6_paveNow_28 ?_
      rw [inC_in (by assumption), paveC, if_neg (by assumption)]
      exact ⟨rfl, rfl⟩
  · skip
    have b6 := bI_0.mp b6
    refine r_bipush (pc := 9) C dX6_paveNow_9 cb_m8 ?_
    refine r_iret (pc := 11) C E rfl (Nat.le_refl _) (Nat.le_refl _) dX6_paveNow_11 ?_
    rw [inC_no (by assumption)]
    exact ⟨rfl, rfl⟩
set_option maxHeartbeats 4000000 in
theorem m_sowNow {g : GZ} {A : HA} {t : Nat} {σ κ π τ : Nat → Int32} (hT : Tw A t) {a b : Nat} (hW : RowW σ) (ha : a < 1000) (hb : b < 1000) : Ct g wI yX6_sowNow (.code yX6_sowNow cX6_sowNow 5 (Option.some Jvm.ClassFile.FieldType.int)) 3 0 0 [.ref t, .int (nI (a)), .int (nI (b))] (S5 A t σ κ π τ) (fun u A' => u = (inC σ a b (sowC σ)).1 ∧ A' = S5 A t (inC σ a b (sowC σ)).2 κ π τ) fw_no := by
  refine Ct.of [some (.ref t), some (.int (nI (a))), some (.int (nI (b))), none, none] (by decide) rfl rfl fun z C hx hnm E => ?_
  have hS := hW.s
  have hc80 := hS.c80
  have hw10 := hS.w10
  have hh8 := hS.h8
  refine r_aload_0 (pc := 0) C dX6_sowNow_0 ?_
  refine r_iload_1 (pc := 1) C dX6_sowNow_1 ?_
  refine r_iload_2 (pc := 2) C dX6_sowNow_2 ?_
  refine r_V2io (pc := 3) C (m5_isCell (by exact hT) hS ha hb) vl_X6_89 (tw_g hT) (by decide) (Nat.le_refl _) (Nat.le_refl _) (Nat.le_of_ble_eq_true rfl) rfl dX6_sowNow_3 (fun u1 A1 hc1 => ?_)
  refine r_top hc1.1 ?_
  refine r_eqA hc1.2 ?_
  clear hc1 A1 u1
  refine r_if_ne (pc := 6) (tgt := 12) C dX6_sowNow_6 (by decide) (fun b6 => ?_) (fun b6 => ?_)
  · skip
    have b6 := bI_n.mp b6
    have hc1 : b * rW σ + a < 80 := Nat.lt_of_lt_of_le (at_lt hS b6.1 b6.2) hc80
    refine r_aload_0 (pc := 12) C dX6_sowNow_12 ?_
    refine r_iload_1 (pc := 13) C dX6_sowNow_13 ?_
    refine r_iload_2 (pc := 14) C dX6_sowNow_14 ?_
    refine r_V2io (pc := 15) C (m_at (by exact hT) (S5_1 _ _ _ _ _ _) hS) vl_X6_83 (tw_g hT) (by decide) (Nat.le_refl _) (Nat.le_refl _) (Nat.le_of_ble_eq_true rfl) rfl dX6_sowNow_15 (fun u2 A2 hc2 => ?_)
    refine r_top hc2.1 ?_
    refine r_eqA hc2.2 ?_
    clear hc2 A2 u2
    refine r_istore_3 (pc := 18) C dX6_sowNow_18 rfl ?_
    refine r_aload_0 (pc := 19) C dX6_sowNow_19 ?_
    refine r_iload_3 (pc := 20) C dX6_sowNow_20 ?_
    refine r_V1io (pc := 21) C (m_isGrass (by exact hT) (S5_1 _ _ _ _ _ _)) vl_X6_93 (tw_g hT) (by decide) (Nat.le_refl _) (Nat.le_refl _) (Nat.le_of_ble_eq_true rfl) rfl dX6_sowNow_21 (fun u3 A3 hc3 => ?_)
    refine r_top hc3.1 ?_
    refine r_eqA hc3.2 ?_
    clear hc3 A3 u3
    refine r_if_ne (pc := 24) (tgt := 29) C dX6_sowNow_24 (by decide) (fun b24 => ?_) (fun b24 => ?_)
    · skip
      have b24 := bI_n.mp b24
      refine r_aload_0 (pc := 29) C dX6_sowNow_29 ?_
      refine r_iload_3 (pc := 30) C dX6_sowNow_30 ?_
      refine r_iconst (pc := 31) C dX6_sowNow_31 ci_1 ?_
      refine r_V2io (pc := 32) C (m_ofCell (by exact hT) (S5_1 _ _ _ _ _ _)) vl_X6_86 (tw_g hT) (by decide) (Nat.le_refl _) (Nat.le_refl _) (Nat.le_of_ble_eq_true rfl) rfl dX6_sowNow_32 (fun u4 A4 hc4 => ?_)
      refine r_top hc4.1 ?_
      refine r_eqA hc4.2 ?_
      clear hc4 A4 u4
      refine r_istore_4 (pc := 35) C dX6_sowNow_35 rfl ?_
      refine r_iload_4 (pc := 37) C dX6_sowNow_37 ?_
      refine r_bipush (pc := 39) C dX6_sowNow_39 cb_9 ?_
      refine r_icmp_ne (pc := 41) (tgt := 47) C dX6_sowNow_41 (by decide) (fun b41 => ?_) (fun b41 => ?_)
      · skip
        refine r_aload_0 (pc := 47) C dX6_sowNow_47 ?_
        refine r_iload_3 (pc := 48) C dX6_sowNow_48 ?_
        refine r_iconst (pc := 49) C dX6_sowNow_49 ci_1 ?_
        refine r_bipush (pc := 50) C dX6_sowNow_50 cb_9 ?_
        refine r_V3vo (pc := 52) C (m_putsCell (by exact hT) (S5_1 _ _ _ _ _ _)) vl_X6_139 (tw_g hT) (by decide) (Nat.le_refl _) (Nat.le_refl _) (Nat.le_of_ble_eq_true rfl) rfl dX6_sowNow_52 (fun u5 A5 hc5 => ?_)
        refine r_eqA hc5 ?_
        clear hc5 A5 u5
        refine r_eqA (S5_w1 _ _ _ _ _ _ _) ?_
        refine r_aload_0 (pc := 55) C dX6_sowNow_55 ?_
        refine r_bipush (pc := 56) C dX6_sowNow_56 cb_6 ?_
        refine r_bipush (pc := 58) C dX6_sowNow_58 cb_9 ?_
        refine r_iload_4 (pc := 60) C dX6_sowNow_60 ?_
        refine r_isub (pc := 62) C dX6_sowNow_62 ?_
        refine r_V2vo (pc := 63) C (m_grows (by exact hT) (S5_1 _ _ _ _ _ _)) vl_X6_143 (tw_g hT) (by decide) (Nat.le_refl _) (Nat.le_refl _) (Nat.le_of_ble_eq_true rfl) rfl dX6_sowNow_63 (fun u6 A6 hc6 => ?_)
        refine r_eqA hc6 ?_
        clear hc6 A6 u6
        refine r_eqA (S5_w1 _ _ _ _ _ _ _) ?_
        refine r_iload_4 (pc := 66) C dX6_sowNow_66 ?_
        refine r_iret (pc := 68) C E rfl (Nat.le_refl _) (Nat.le_refl _) dX6_sowNow_68 ?_
        rw [inC_in (by assumption), sowC, if_pos (by assumption), if_neg (by assumption)]
        exact ⟨rfl, rfl⟩
      · skip
        refine r_bipush (pc := 44) C dX6_sowNow_44 cb_m6 ?_
        refine r_iret (pc := 46) C E rfl (Nat.le_refl _) (Nat.le_refl _) dX6_sowNow_46 ?_
        rw [inC_in (by assumption), sowC, if_pos (by assumption), if_pos (by assumption)]
        exact ⟨rfl, rfl⟩
    · skip
      have b24 := bI_0.mp b24
      refine r_iconst (pc := 27) C dX6_sowNow_27 ci_m1 ?_
      refine r_iret (pc := 28) C E rfl (Nat.le_refl _) (Nat.le_refl _) dX6_sowNow_28 ?_
      rw [inC_in (by assumption), sowC, if_neg (by assumption)]
      exact ⟨rfl, rfl⟩
  · skip
    have b6 := bI_0.mp b6
    refine r_bipush (pc := 9) C dX6_sowNow_9 cb_m8 ?_
    refine r_iret (pc := 11) C E rfl (Nat.le_refl _) (Nat.le_refl _) dX6_sowNow_11 ?_
    rw [inC_no (by assumption)]
    exact ⟨rfl, rfl⟩
set_option maxHeartbeats 4000000 in
theorem m_hasteNow {g : GZ} {A : HA} {t : Nat} {σ κ π τ : Nat → Int32} (hT : Tw A t) {w n : Nat} (hw : w < 6) : Ct g wI yX6_hasteNow (.code yX6_hasteNow cX6_hasteNow 4 (Option.some Jvm.ClassFile.FieldType.int)) 2 0 0 [.ref t, .int (nI (w)), .int (nI (n))] (S5 A t σ κ π τ) (fun u A' => u = (hasteC σ w n).1 ∧ A' = S5 A t (hasteC σ w n).2 κ π τ) fw_no := by
  refine Ct.of [some (.ref t), some (.int (nI (w))), some (.int (nI (n))), none] (by decide) rfl rfl fun z C hx hnm E => ?_
  refine r_aload_0 (pc := 0) C dX6_hasteNow_0 ?_
  refine r_iload_1 (pc := 1) C dX6_hasteNow_1 ?_
  refine r_bipush (pc := 2) C dX6_hasteNow_2 cb_9 ?_
  refine r_V2io (pc := 4) C (m_of (by exact hT) (S5_1 _ _ _ _ _ _)) vl_X6_103 (tw_g hT) (by decide) (Nat.le_refl _) (Nat.le_refl _) (Nat.le_of_ble_eq_true rfl) rfl dX6_hasteNow_4 (fun u1 A1 hc1 => ?_)
  refine r_top hc1.1 ?_
  refine r_eqA hc1.2 ?_
  clear hc1 A1 u1
  refine r_istore_3 (pc := 7) C dX6_hasteNow_7 rfl ?_
  refine r_iload_3 (pc := 8) C dX6_hasteNow_8 ?_
  refine r_iload_2 (pc := 9) C dX6_hasteNow_9 ?_
  refine r_icmp_ne (pc := 10) (tgt := 16) C dX6_hasteNow_10 (by decide) (fun b10 => ?_) (fun b10 => ?_)
  · skip
    refine r_aload_0 (pc := 16) C dX6_hasteNow_16 ?_
    refine r_iload_1 (pc := 17) C dX6_hasteNow_17 ?_
    refine r_bipush (pc := 18) C dX6_hasteNow_18 cb_9 ?_
    refine r_iload_2 (pc := 20) C dX6_hasteNow_20 ?_
    refine r_V3vo (pc := 21) C (m_puts (by exact hT) (S5_1 _ _ _ _ _ _)) vl_X6_154 (tw_g hT) (by decide) (Nat.le_refl _) (Nat.le_refl _) (Nat.le_of_ble_eq_true rfl) rfl dX6_hasteNow_21 (fun u2 A2 hc2 => ?_)
    refine r_eqA hc2 ?_
    clear hc2 A2 u2
    refine r_eqA (S5_w1 _ _ _ _ _ _ _) ?_
    refine r_iload_3 (pc := 24) C dX6_hasteNow_24 ?_
    refine r_iret (pc := 25) C E rfl (Nat.le_refl _) (Nat.le_refl _) dX6_hasteNow_25 ?_
    rw [hasteC, if_neg (by assumption)]
    exact ⟨rfl, rfl⟩
  · skip
    refine r_bipush (pc := 13) C dX6_hasteNow_13 cb_m6 ?_
    refine r_iret (pc := 15) C E rfl (Nat.le_refl _) (Nat.le_refl _) dX6_hasteNow_15 ?_
    rw [hasteC, if_pos (by assumption)]
    exact ⟨rfl, rfl⟩
set_option maxHeartbeats 4000000 in
theorem m_turnNow {g : GZ} {A : HA} {t : Nat} {σ κ π τ : Nat → Int32} (hT : Tw A t) {w : Nat} (hw : w < 6) : Ct g wI yX6_turnNow (.code yX6_turnNow cX6_turnNow 3 (Option.some Jvm.ClassFile.FieldType.int)) 2 0 0 [.ref t, .int (nI (w))] (S5 A t σ κ π τ) (fun u A' => u = (turnC σ w).1 ∧ A' = S5 A t (turnC σ w).2 κ π τ) fw_no := by
  refine Ct.of [some (.ref t), some (.int (nI (w))), none] (by decide) rfl rfl fun z C hx hnm E => ?_
  refine r_aload_0 (pc := 0) C dX6_turnNow_0 ?_
  refine r_iload_1 (pc := 1) C dX6_turnNow_1 ?_
  refine r_bipush (pc := 2) C dX6_turnNow_2 cb_7 ?_
  refine r_V2io (pc := 4) C (m_of (by exact hT) (S5_1 _ _ _ _ _ _)) vl_X6_103 (tw_g hT) (by decide) (Nat.le_refl _) (Nat.le_refl _) (Nat.le_of_ble_eq_true rfl) rfl dX6_turnNow_4 (fun u1 A1 hc1 => ?_)
  refine r_top hc1.1 ?_
  refine r_eqA hc1.2 ?_
  clear hc1 A1 u1
  refine r_istore_2 (pc := 7) C dX6_turnNow_7 rfl ?_
  refine r_aload_0 (pc := 8) C dX6_turnNow_8 ?_
  refine r_iload_1 (pc := 9) C dX6_turnNow_9 ?_
  refine r_bipush (pc := 10) C dX6_turnNow_10 cb_7 ?_
  refine r_aload_0 (pc := 12) C dX6_turnNow_12 ?_
  refine r_iload_1 (pc := 13) C dX6_turnNow_13 ?_
  refine r_bipush (pc := 14) C dX6_turnNow_14 cb_8 ?_
  refine r_V2io (pc := 16) C (m_of (by exact hT) (S5_1 _ _ _ _ _ _)) vl_X6_103 (tw_g hT) (by decide) (Nat.le_refl _) (Nat.le_refl _) (Nat.le_of_ble_eq_true rfl) rfl dX6_turnNow_16 (fun u2 A2 hc2 => ?_)
  refine r_top hc2.1 ?_
  refine r_eqA hc2.2 ?_
  clear hc2 A2 u2
  refine r_V3vo (pc := 19) C (m_puts (by exact hT) (S5_1 _ _ _ _ _ _)) vl_X6_154 (tw_g hT) (by decide) (Nat.le_refl _) (Nat.le_refl _) (Nat.le_of_ble_eq_true rfl) rfl dX6_turnNow_19 (fun u3 A3 hc3 => ?_)
  refine r_eqA hc3 ?_
  clear hc3 A3 u3
  refine r_eqA (S5_w1 _ _ _ _ _ _ _) ?_
  refine r_aload_0 (pc := 22) C dX6_turnNow_22 ?_
  refine r_iload_1 (pc := 23) C dX6_turnNow_23 ?_
  refine r_bipush (pc := 24) C dX6_turnNow_24 cb_8 ?_
  refine r_iload_2 (pc := 26) C dX6_turnNow_26 ?_
  refine r_V3vo (pc := 27) C (m_puts (by exact hT) (S5_1 _ _ _ _ _ _)) vl_X6_154 (tw_g hT) (by decide) (Nat.le_refl _) (Nat.le_refl _) (Nat.le_of_ble_eq_true rfl) rfl dX6_turnNow_27 (fun u4 A4 hc4 => ?_)
  refine r_eqA hc4 ?_
  clear hc4 A4 u4
  refine r_eqA (S5_w1 _ _ _ _ _ _ _) ?_
  refine r_aload_0 (pc := 30) C dX6_turnNow_30 ?_
  refine r_iload_1 (pc := 31) C dX6_turnNow_31 ?_
  refine r_bipush (pc := 32) C dX6_turnNow_32 cb_7 ?_
  refine r_V2io (pc := 34) C (m_of (by exact hT) (S5_1 _ _ _ _ _ _)) vl_X6_103 (tw_g hT) (by decide) (Nat.le_refl _) (Nat.le_refl _) (Nat.le_of_ble_eq_true rfl) rfl dX6_turnNow_34 (fun u5 A5 hc5 => ?_)
  refine r_top hc5.1 ?_
  refine r_eqA hc5.2 ?_
  clear hc5 A5 u5
  refine r_iret (pc := 37) C E rfl (Nat.le_refl _) (Nat.le_refl _) dX6_turnNow_37 ?_
  exact ⟨rfl, rfl⟩
set_option maxHeartbeats 4000000 in
theorem m_tries {g : GZ} {A : HA} {t : Nat} {σ κ π τ : Nat → Int32} (hT : Tw A t)  : Ct g wV yX6_tries (.code yX6_tries cX6_tries 1 (Option.none : Option Jvm.ClassFile.FieldType)) 2 0 0 [.ref t] (S5 A t σ κ π τ) (fun u A' => A' = S5 (A.sI (t + 4) (va_cpy σ (A.I (t + 4)) 0 0 553)) t σ κ π τ) fw_no := by
  refine Ct.of [some (.ref t)] (by decide) rfl rfl fun z C hx hnm E => ?_
  refine r_aload_0 (pc := 0) C dX6_tries_0 ?_
  refine r_getR (pc := 1) C fl_X6_7_6 (tw_g hT) rfl (tw_r1 hT) dX6_tries_1 ?_
  refine r_iconst (pc := 4) C dX6_tries_4 ci_0 ?_
  refine r_aload_0 (pc := 5) C dX6_tries_5 ?_
  refine r_getR (pc := 6) C fl_X6_19_6 (tw_g hT) rfl (tw_r4 hT) dX6_tries_6 ?_
  refine r_iconst (pc := 9) C dX6_tries_9 ci_0 ?_
  refine r_S4vo (pc := 10) C (m_copies (tw_g1 hT) (tw_g4 hT) rfl rfl (by omega) (by have := tw_n1 hT; show _ ≤ A.n (t + 1); omega) (by have := tw_n4 hT; show _ ≤ A.n (t + 4); omega) (by omega) (by omega)) sl_X6_64 (by decide) (Nat.le_refl _) (Nat.le_refl _) (Nat.le_of_ble_eq_true rfl) rfl dX6_tries_10 (fun u1 A1 hc1 => ?_)
  refine r_eqA hc1 ?_
  clear hc1 A1 u1
  refine r_vret (pc := 13) C E (Nat.le_refl _) (Nat.le_refl _) dX6_tries_13 ?_
  rw [S5_1, S5_x _ _ _ _ _ _ (by omega) (by omega) (by omega) (by omega), S5_sx _ _ _ _ _ _ _ (by omega) (by omega) (by omega) (by omega)]
set_option maxHeartbeats 4000000 in
theorem m_laidBack {g : GZ} {A : HA} {t : Nat} {σ κ π τ : Nat → Int32} (hT : Tw A t) {x : Int32} : Ct g wI yX6_laidBack (.code yX6_laidBack cX6_laidBack 2 (Option.some Jvm.ClassFile.FieldType.int)) 2 0 0 [.ref t, .int x] (S5 A t σ κ π τ) (fun u A' => u = x ∧ A' = S5 A t (va_cpy (A.I (t + 4)) σ 0 0 553) κ π τ) fw_no := by
  refine Ct.of [some (.ref t), some (.int x)] (by decide) rfl rfl fun z C hx hnm E => ?_
  refine r_aload_0 (pc := 0) C dX6_laidBack_0 ?_
  refine r_getR (pc := 1) C fl_X6_19_6 (tw_g hT) rfl (tw_r4 hT) dX6_laidBack_1 ?_
  refine r_iconst (pc := 4) C dX6_laidBack_4 ci_0 ?_
  refine r_aload_0 (pc := 5) C dX6_laidBack_5 ?_
  refine r_getR (pc := 6) C fl_X6_7_6 (tw_g hT) rfl (tw_r1 hT) dX6_laidBack_6 ?_
  refine r_iconst (pc := 9) C dX6_laidBack_9 ci_0 ?_
  refine r_S4vo (pc := 10) C (m_copies (tw_g4 hT) (tw_g1 hT) rfl rfl (by omega) (by have := tw_n4 hT; show _ ≤ A.n (t + 4); omega) (by have := tw_n1 hT; show _ ≤ A.n (t + 1); omega) (by omega) (by omega)) sl_X6_64 (by decide) (Nat.le_refl _) (Nat.le_refl _) (Nat.le_of_ble_eq_true rfl) rfl dX6_laidBack_10 (fun u1 A1 hc1 => ?_)
  refine r_eqA hc1 ?_
  clear hc1 A1 u1
  refine r_iload_1 (pc := 13) C dX6_laidBack_13 ?_
  refine r_iret (pc := 14) C E rfl (Nat.le_refl _) (Nat.le_refl _) dX6_laidBack_14 ?_
  rw [S5_1, S5_x _ _ _ _ _ _ (by omega) (by omega) (by omega) (by omega), S5_w1]
  exact ⟨rfl, rfl⟩
set_option maxHeartbeats 4000000 in
theorem m_tried {g : GZ} {A : HA} {t : Nat} {σ κ π τ : Nat → Int32} (hT : Tw A t) {p : Prop} [Decidable p] : Ct g wI yX6_tried (.code yX6_tried cX6_tried 2 (Option.some Jvm.ClassFile.FieldType.boolean)) 2 0 0 [.ref t, .int (bI p)] (S5 A t σ κ π τ) (fun u A' => u = bI p ∧ A' = S5 (if p then A.sI (t + 3) (va_cpy σ (A.I (t + 3)) 0 0 553) else A) t σ κ π τ) fw_no := by
  refine Ct.of [some (.ref t), some (.int (bI p))] (by decide) rfl rfl fun z C hx hnm E => ?_
  refine r_iload_1 (pc := 0) C dX6_tried_0 ?_
  refine r_if_eq (pc := 1) (tgt := 17) C dX6_tried_1 (by decide) (fun b1 => ?_) (fun b1 => ?_)
  · skip
    have b1 := bI_0.mp b1
    refine r_iload_1 (pc := 17) C dX6_tried_17 ?_
    refine r_iret (pc := 18) C E (nar_b _) (Nat.le_refl _) (Nat.le_refl _) dX6_tried_18 ?_
    refine ⟨rfl, ?_⟩
    first
      | rw [S5_1, S5_x _ _ _ _ _ _ (by omega) (by omega) (by omega) (by omega), S5_sx _ _ _ _ _ _ _ (by omega) (by omega) (by omega) (by omega), if_pos (by assumption)]
      | rw [if_neg (by assumption)]
  · skip
    have b1 := bI_n.mp b1
    refine r_aload_0 (pc := 4) C dX6_tried_4 ?_
    refine r_getR (pc := 5) C fl_X6_7_6 (tw_g hT) rfl (tw_r1 hT) dX6_tried_5 ?_
    refine r_iconst (pc := 8) C dX6_tried_8 ci_0 ?_
    refine r_aload_0 (pc := 9) C dX6_tried_9 ?_
    refine r_getR (pc := 10) C fl_X6_16_6 (tw_g hT) rfl (tw_r3 hT) dX6_tried_10 ?_
    refine r_iconst (pc := 13) C dX6_tried_13 ci_0 ?_
    refine r_S4vo (pc := 14) C (m_copies (tw_g1 hT) (tw_g3 hT) rfl rfl (by omega) (by have := tw_n1 hT; show _ ≤ A.n (t + 1); omega) (by have := tw_n3 hT; show _ ≤ A.n (t + 3); omega) (by omega) (by omega)) sl_X6_64 (by decide) (Nat.le_refl _) (Nat.le_refl _) (Nat.le_of_ble_eq_true rfl) rfl dX6_tried_14 (fun u1 A1 hc1 => ?_)
    refine r_eqA hc1 ?_
    clear hc1 A1 u1
    refine r_iload_1 (pc := 17) C dX6_tried_17 ?_
    refine r_iret (pc := 18) C E (nar_b _) (Nat.le_refl _) (Nat.le_refl _) dX6_tried_18 ?_
    refine ⟨rfl, ?_⟩
    first
      | rw [S5_1, S5_x _ _ _ _ _ _ (by omega) (by omega) (by omega) (by omega), S5_sx _ _ _ _ _ _ _ (by omega) (by omega) (by omega) (by omega), if_pos (by assumption)]
      | rw [if_neg (by assumption)]
