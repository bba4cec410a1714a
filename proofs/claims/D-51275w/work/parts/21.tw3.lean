/-! THE REFERENCE, 3: costs -/
set_option maxRecDepth 100000
set_option maxHeartbeats 4000000 in
theorem m_costOf {g : GZ} {A : HA} {t : Nat} (hT : Tw A t) {σ : Nat → Int32} (hσ : A.I (t + 1) = σ) {w c m : Nat} (hW : RowW (σ)) (hw : w < rK (σ)) (hc : c < 80) (hm : m < 3) : Ct g wI yX6_costOf (.code yX6_costOf cX6_costOf 6 (Option.some Jvm.ClassFile.FieldType.int)) 3 0 0 [.ref t, .int (nI (w)), .int (nI (c)), .int (nI (m))] (A) (fun u A' => u = oI (ecost (σ) w m c) ∧ A' = A) fw_no := by
  refine Ct.of [some (.ref t), some (.int (nI (w))), some (.int (nI (c))), some (.int (nI (m))), none, none] (by decide) rfl rfl fun z C hx hnm E => ?_
  subst hσ
  have hk6 := hW.k6
  have hg9 := hW.c9 hc
  have hd9 := hW.d9
  have hwt := hW.wt9
  have hhs := (hW.K hw).2.2.1.2
  refine r_aload_0 (pc := 0) C dX6_costOf_0 ?_
  refine r_iload_2 (pc := 1) C dX6_costOf_1 ?_
  refine r_V1io (pc := 2) C (m_isGrass hT rfl) vl_X6_93 (tw_g hT) (by decide) (Nat.le_refl _) (Nat.le_refl _) (Nat.le_of_ble_eq_true rfl) rfl dX6_costOf_2 (fun u1 A1 hc1 => ?_)
  refine r_top hc1.1 ?_
  refine r_eqA hc1.2 ?_
  clear hc1 A1 u1
  refine r_if_ne (pc := 5) (tgt := 11) C dX6_costOf_5 (by decide) (fun b5 => ?_) (fun b5 => ?_)
  · skip
    have b5 := bI_n.mp b5
    refine r_iload_3 (pc := 11) C dX6_costOf_11 ?_
    refine r_iconst (pc := 12) C dX6_costOf_12 ci_2 ?_
    refine r_icmp_eq (pc := 13) (tgt := 28) C dX6_costOf_13 (by decide) (fun b13 => ?_) (fun b13 => ?_)
    · skip
      have b13 := (nI_eqI (by omega) (by omega)).mp b13
      refine r_iconst (pc := 28) C dX6_costOf_28 ci_m1 ?_
      refine r_iret (pc := 29) C E rfl (Nat.le_refl _) (Nat.le_refl _) dX6_costOf_29 ?_
      refine ⟨?_, rfl⟩
      unfold ecost
      simp only [*, if_pos, if_neg, oI_none, oI_some, not_false_eq_true, true_and, and_true, false_and, and_false, true_or, or_true, false_or, or_false, ite_true, ite_false, reduceIte, Nat.reduceEqDiff, not_true_eq_false]
      all_goals (try rw [if_pos b48])
    · skip
      have b13 := (not_congr (nI_eqI (by omega) (by omega))).mp b13
      refine r_iload_3 (pc := 16) C dX6_costOf_16 ?_
      refine r_if_ne (pc := 17) (tgt := 30) C dX6_costOf_17 (by decide) (fun b17 => ?_) (fun b17 => ?_)
      · skip
        have b17 := (not_congr (nI_eq0 (by omega))).mp b17
        refine r_aload_0 (pc := 30) C dX6_costOf_30 ?_
        refine r_iload_2 (pc := 31) C dX6_costOf_31 ?_
        refine r_iconst (pc := 32) C dX6_costOf_32 ci_1 ?_
        refine r_V2io (pc := 33) C (m_ofCell hT rfl) vl_X6_86 (tw_g hT) (by decide) (Nat.le_refl _) (Nat.le_refl _) (Nat.le_of_ble_eq_true rfl) rfl dX6_costOf_33 (fun u2 A2 hc2 => ?_)
        refine r_top hc2.1 ?_
        refine r_eqA hc2.2 ?_
        clear hc2 A2 u2
        refine r_top (hW.c hc) ?_
        refine r_istore_4 (pc := 36) C dX6_costOf_36 rfl ?_
        refine r_aload_0 (pc := 38) C dX6_costOf_38 ?_
        refine r_aload_0 (pc := 39) C dX6_costOf_39 ?_
        refine r_getR (pc := 40) C fl_X6_7_6 (tw_g hT) rfl (tw_r1 hT) dX6_costOf_40 ?_
        refine r_iconst (pc := 43) C dX6_costOf_43 ci_3 ?_
        refine r_iald (pc := 44) C (tw_g1 hT) rfl rfl (lt_eq (by omega) (tw_n1 hT)) (by omega) dX6_costOf_44 ?_
        refine r_top hW.d ?_
        refine r_V1io (pc := 45) C (m_isWetDay hT rfl hW.wt hwt) vl_X6_100 (tw_g hT) (by decide) (Nat.le_refl _) (Nat.le_refl _) (Nat.le_of_ble_eq_true rfl) rfl dX6_costOf_45 (fun u3 A3 hc3 => ?_)
        refine r_top hc3.1 ?_
        refine r_eqA hc3.2 ?_
        clear hc3 A3 u3
        refine r_if_eq (pc := 48) (tgt := 62) C dX6_costOf_48 (by decide) (fun b48 => ?_) (fun b48 => ?_)
        · skip
          have b48 := bI_0.mp b48
          refine r_iconst (pc := 62) C dX6_costOf_62 ci_0 ?_
          refine r_istore_5 (pc := 63) C dX6_costOf_63 rfl ?_
          refine r_bipush (pc := 65) C dX6_costOf_65 cb_10 ?_
          refine r_bipush (pc := 67) C dX6_costOf_67 cb_9 ?_
          refine r_aload_0 (pc := 69) C dX6_costOf_69 ?_
          refine r_iload_1 (pc := 70) C dX6_costOf_70 ?_
          refine r_bipush (pc := 71) C dX6_costOf_71 cb_9 ?_
          refine r_V2io (pc := 73) C (m_of hT rfl) vl_X6_103 (tw_g hT) (by decide) (Nat.le_refl _) (Nat.le_refl _) (Nat.le_of_ble_eq_true rfl) rfl dX6_costOf_73 (fun u4 A4 hc4 => ?_)
          refine r_top hc4.1 ?_
          refine r_eqA hc4.2 ?_
          clear hc4 A4 u4
          refine r_top (hW.K hw).2.2.1.1 ?_
          refine r_isub (pc := 76) C dX6_costOf_76 ?_
          refine r_top (pk_sub (by omega)) ?_
          refine r_iload_4 (pc := 77) C dX6_costOf_77 ?_
          refine r_imul (pc := 79) C dX6_costOf_79 ?_
          refine r_top (pk_mul _ _) ?_
          refine r_iadd (pc := 80) C dX6_costOf_80 ?_
          refine r_top (nI_add _ _) ?_
          refine r_iload_5 (pc := 81) C dX6_costOf_81 ?_
          refine r_iadd (pc := 83) C dX6_costOf_83 ?_
          refine r_top (nI_add _ _) ?_
          refine r_iret (pc := 84) C E rfl (Nat.le_refl _) (Nat.le_refl _) dX6_costOf_84 ?_
          refine ⟨?_, rfl⟩
          unfold ecost
          simp only [*, if_pos, if_neg, oI_none, oI_some, not_false_eq_true, true_and, and_true, false_and, and_false, true_or, or_true, false_or, or_false, ite_true, ite_false, reduceIte, Nat.reduceEqDiff, not_true_eq_false]
          all_goals (try rw [if_pos b48])
        · skip
          have b48 := bI_n.mp b48
          refine r_iload_4 (pc := 51) C dX6_costOf_51 ?_
          refine r_iconst (pc := 53) C dX6_costOf_53 ci_2 ?_
          refine r_icmp_gt (pc := 54) (tgt := 62) C dX6_costOf_54 (by decide) (fun b54 => ?_) (fun b54 => ?_)
          · skip
            have b54 := (nI_lt2 (by omega) (by omega)).mp b54
            refine r_iconst (pc := 62) C dX6_costOf_62 ci_0 ?_
            refine r_istore_5 (pc := 63) C dX6_costOf_63 rfl ?_
            refine r_bipush (pc := 65) C dX6_costOf_65 cb_10 ?_
            refine r_bipush (pc := 67) C dX6_costOf_67 cb_9 ?_
            refine r_aload_0 (pc := 69) C dX6_costOf_69 ?_
            refine r_iload_1 (pc := 70) C dX6_costOf_70 ?_
            refine r_bipush (pc := 71) C dX6_costOf_71 cb_9 ?_
            refine r_V2io (pc := 73) C (m_of hT rfl) vl_X6_103 (tw_g hT) (by decide) (Nat.le_refl _) (Nat.le_refl _) (Nat.le_of_ble_eq_true rfl) rfl dX6_costOf_73 (fun u5 A5 hc5 => ?_)
            refine r_top hc5.1 ?_
            refine r_eqA hc5.2 ?_
            clear hc5 A5 u5
            refine r_top (hW.K hw).2.2.1.1 ?_
            refine r_isub (pc := 76) C dX6_costOf_76 ?_
            refine r_top (pk_sub (by omega)) ?_
            refine r_iload_4 (pc := 77) C dX6_costOf_77 ?_
            refine r_imul (pc := 79) C dX6_costOf_79 ?_
            refine r_top (pk_mul _ _) ?_
            refine r_iadd (pc := 80) C dX6_costOf_80 ?_
            refine r_top (nI_add _ _) ?_
            refine r_iload_5 (pc := 81) C dX6_costOf_81 ?_
            refine r_iadd (pc := 83) C dX6_costOf_83 ?_
            refine r_top (nI_add _ _) ?_
            refine r_iret (pc := 84) C E rfl (Nat.le_refl _) (Nat.le_refl _) dX6_costOf_84 ?_
            refine ⟨?_, rfl⟩
            unfold ecost
            simp only [*, if_pos, if_neg, oI_none, oI_some, not_false_eq_true, true_and, and_true, false_and, and_false, true_or, or_true, false_or, or_false, ite_true, ite_false, reduceIte, Nat.reduceEqDiff, not_true_eq_false]
            all_goals (try rw [if_pos b48])
          · skip
            have b54 := (not_congr (nI_lt2 (by omega) (by omega))).mp b54
            refine r_bipush (pc := 57) C dX6_costOf_57 cb_25 ?_
            refine r_goto (pc := 59) (tgt := 63) C dX6_costOf_59 (by decide) ?_
            refine r_istore_5 (pc := 63) C dX6_costOf_63 rfl ?_
            refine r_bipush (pc := 65) C dX6_costOf_65 cb_10 ?_
            refine r_bipush (pc := 67) C dX6_costOf_67 cb_9 ?_
            refine r_aload_0 (pc := 69) C dX6_costOf_69 ?_
            refine r_iload_1 (pc := 70) C dX6_costOf_70 ?_
            refine r_bipush (pc := 71) C dX6_costOf_71 cb_9 ?_
            refine r_V2io (pc := 73) C (m_of hT rfl) vl_X6_103 (tw_g hT) (by decide) (Nat.le_refl _) (Nat.le_refl _) (Nat.le_of_ble_eq_true rfl) rfl dX6_costOf_73 (fun u6 A6 hc6 => ?_)
            refine r_top hc6.1 ?_
            refine r_eqA hc6.2 ?_
            clear hc6 A6 u6
            refine r_top (hW.K hw).2.2.1.1 ?_
            refine r_isub (pc := 76) C dX6_costOf_76 ?_
            refine r_top (pk_sub (by omega)) ?_
            refine r_iload_4 (pc := 77) C dX6_costOf_77 ?_
            refine r_imul (pc := 79) C dX6_costOf_79 ?_
            refine r_top (pk_mul _ _) ?_
            refine r_iadd (pc := 80) C dX6_costOf_80 ?_
            refine r_top (nI_add _ _) ?_
            refine r_iload_5 (pc := 81) C dX6_costOf_81 ?_
            refine r_iadd (pc := 83) C dX6_costOf_83 ?_
            refine r_top (nI_add _ _) ?_
            refine r_iret (pc := 84) C E rfl (Nat.le_refl _) (Nat.le_refl _) dX6_costOf_84 ?_
            refine ⟨?_, rfl⟩
            unfold ecost
            simp only [*, if_pos, if_neg, oI_none, oI_some, not_false_eq_true, true_and, and_true, false_and, and_false, true_or, or_true, false_or, or_false, ite_true, ite_false, reduceIte, Nat.reduceEqDiff, not_true_eq_false]
            all_goals (try rw [if_pos b48])
      · skip
        have b17 := (nI_eq0 (by omega)).mp b17
        refine r_aload_0 (pc := 20) C dX6_costOf_20 ?_
        refine r_iload_2 (pc := 21) C dX6_costOf_21 ?_
        refine r_V1io (pc := 22) C (m_hasFence hT rfl) vl_X6_97 (tw_g hT) (by decide) (Nat.le_refl _) (Nat.le_refl _) (Nat.le_of_ble_eq_true rfl) rfl dX6_costOf_22 (fun u7 A7 hc7 => ?_)
        refine r_top hc7.1 ?_
        refine r_eqA hc7.2 ?_
        clear hc7 A7 u7
        refine r_if_eq (pc := 25) (tgt := 30) C dX6_costOf_25 (by decide) (fun b25 => ?_) (fun b25 => ?_)
        · skip
          have b25 := bI_0.mp b25
          refine r_aload_0 (pc := 30) C dX6_costOf_30 ?_
          refine r_iload_2 (pc := 31) C dX6_costOf_31 ?_
          refine r_iconst (pc := 32) C dX6_costOf_32 ci_1 ?_
          refine r_V2io (pc := 33) C (m_ofCell hT rfl) vl_X6_86 (tw_g hT) (by decide) (Nat.le_refl _) (Nat.le_refl _) (Nat.le_of_ble_eq_true rfl) rfl dX6_costOf_33 (fun u8 A8 hc8 => ?_)
          refine r_top hc8.1 ?_
          refine r_eqA hc8.2 ?_
          clear hc8 A8 u8
          refine r_top (hW.c hc) ?_
          refine r_istore_4 (pc := 36) C dX6_costOf_36 rfl ?_
          refine r_aload_0 (pc := 38) C dX6_costOf_38 ?_
          refine r_aload_0 (pc := 39) C dX6_costOf_39 ?_
          refine r_getR (pc := 40) C fl_X6_7_6 (tw_g hT) rfl (tw_r1 hT) dX6_costOf_40 ?_
          refine r_iconst (pc := 43) C dX6_costOf_43 ci_3 ?_
          refine r_iald (pc := 44) C (tw_g1 hT) rfl rfl (lt_eq (by omega) (tw_n1 hT)) (by omega) dX6_costOf_44 ?_
          refine r_top hW.d ?_
          refine r_V1io (pc := 45) C (m_isWetDay hT rfl hW.wt hwt) vl_X6_100 (tw_g hT) (by decide) (Nat.le_refl _) (Nat.le_refl _) (Nat.le_of_ble_eq_true rfl) rfl dX6_costOf_45 (fun u9 A9 hc9 => ?_)
          refine r_top hc9.1 ?_
          refine r_eqA hc9.2 ?_
          clear hc9 A9 u9
          refine r_if_eq (pc := 48) (tgt := 62) C dX6_costOf_48 (by decide) (fun b48 => ?_) (fun b48 => ?_)
          · skip
            have b48 := bI_0.mp b48
            refine r_iconst (pc := 62) C dX6_costOf_62 ci_0 ?_
            refine r_istore_5 (pc := 63) C dX6_costOf_63 rfl ?_
            refine r_bipush (pc := 65) C dX6_costOf_65 cb_10 ?_
            refine r_bipush (pc := 67) C dX6_costOf_67 cb_9 ?_
            refine r_aload_0 (pc := 69) C dX6_costOf_69 ?_
            refine r_iload_1 (pc := 70) C dX6_costOf_70 ?_
            refine r_bipush (pc := 71) C dX6_costOf_71 cb_9 ?_
            refine r_V2io (pc := 73) C (m_of hT rfl) vl_X6_103 (tw_g hT) (by decide) (Nat.le_refl _) (Nat.le_refl _) (Nat.le_of_ble_eq_true rfl) rfl dX6_costOf_73 (fun u10 A10 hc10 => ?_)
            refine r_top hc10.1 ?_
            refine r_eqA hc10.2 ?_
            clear hc10 A10 u10
            refine r_top (hW.K hw).2.2.1.1 ?_
            refine r_isub (pc := 76) C dX6_costOf_76 ?_
            refine r_top (pk_sub (by omega)) ?_
            refine r_iload_4 (pc := 77) C dX6_costOf_77 ?_
            refine r_imul (pc := 79) C dX6_costOf_79 ?_
            refine r_top (pk_mul _ _) ?_
            refine r_iadd (pc := 80) C dX6_costOf_80 ?_
            refine r_top (nI_add _ _) ?_
            refine r_iload_5 (pc := 81) C dX6_costOf_81 ?_
            refine r_iadd (pc := 83) C dX6_costOf_83 ?_
            refine r_top (nI_add _ _) ?_
            refine r_iret (pc := 84) C E rfl (Nat.le_refl _) (Nat.le_refl _) dX6_costOf_84 ?_
            refine ⟨?_, rfl⟩
            unfold ecost
            simp only [*, if_pos, if_neg, oI_none, oI_some, not_false_eq_true, true_and, and_true, false_and, and_false, true_or, or_true, false_or, or_false, ite_true, ite_false, reduceIte, Nat.reduceEqDiff, not_true_eq_false]
            all_goals (try rw [if_pos b48])
          · skip
            have b48 := bI_n.mp b48
            refine r_iload_4 (pc := 51) C dX6_costOf_51 ?_
            refine r_iconst (pc := 53) C dX6_costOf_53 ci_2 ?_
            refine r_icmp_gt (pc := 54) (tgt := 62) C dX6_costOf_54 (by decide) (fun b54 => ?_) (fun b54 => ?_)
            · skip
              have b54 := (nI_lt2 (by omega) (by omega)).mp b54
              refine r_iconst (pc := 62) C dX6_costOf_62 ci_0 ?_
              refine r_istore_5 (pc := 63) C dX6_costOf_63 rfl ?_
              refine r_bipush (pc := 65) C dX6_costOf_65 cb_10 ?_
              refine r_bipush (pc := 67) C dX6_costOf_67 cb_9 ?_
              refine r_aload_0 (pc := 69) C dX6_costOf_69 ?_
              refine r_iload_1 (pc := 70) C dX6_costOf_70 ?_
              refine r_bipush (pc := 71) C dX6_costOf_71 cb_9 ?_
              refine r_V2io (pc := 73) C (m_of hT rfl) vl_X6_103 (tw_g hT) (by decide) (Nat.le_refl _) (Nat.le_refl _) (Nat.le_of_ble_eq_true rfl) rfl dX6_costOf_73 (fun u11 A11 hc11 => ?_)
              refine r_top hc11.1 ?_
              refine r_eqA hc11.2 ?_
              clear hc11 A11 u11
              refine r_top (hW.K hw).2.2.1.1 ?_
              refine r_isub (pc := 76) C dX6_costOf_76 ?_
              refine r_top (pk_sub (by omega)) ?_
              refine r_iload_4 (pc := 77) C dX6_costOf_77 ?_
              refine r_imul (pc := 79) C dX6_costOf_79 ?_
              refine r_top (pk_mul _ _) ?_
              refine r_iadd (pc := 80) C dX6_costOf_80 ?_
              refine r_top (nI_add _ _) ?_
              refine r_iload_5 (pc := 81) C dX6_costOf_81 ?_
              refine r_iadd (pc := 83) C dX6_costOf_83 ?_
              refine r_top (nI_add _ _) ?_
              refine r_iret (pc := 84) C E rfl (Nat.le_refl _) (Nat.le_refl _) dX6_costOf_84 ?_
              refine ⟨?_, rfl⟩
              unfold ecost
              simp only [*, if_pos, if_neg, oI_none, oI_some, not_false_eq_true, true_and, and_true, false_and, and_false, true_or, or_true, false_or, or_false, ite_true, ite_false, reduceIte, Nat.reduceEqDiff, not_true_eq_false]
              all_goals (try rw [if_pos b48])
            · skip
              have b54 := (not_congr (nI_lt2 (by omega) (by omega))).mp b54
              refine r_bipush (pc := 57) C dX6_costOf_57 cb_25 ?_
              refine r_goto (pc := 59) (tgt := 63) C dX6_costOf_59 (by decide) ?_
              refine r_istore_5 (pc := 63) C dX6_costOf_63 rfl ?_
              refine r_bipush (pc := 65) C dX6_costOf_65 cb_10 ?_
              refine r_bipush (pc := 67) C dX6_costOf_67 cb_9 ?_
              refine r_aload_0 (pc := 69) C dX6_costOf_69 ?_
              refine r_iload_1 (pc := 70) C dX6_costOf_70 ?_
              refine r_bipush (pc := 71) C dX6_costOf_71 cb_9 ?_
              refine r_V2io (pc := 73) C (m_of hT rfl) vl_X6_103 (tw_g hT) (by decide) (Nat.le_refl _) (Nat.le_refl _) (Nat.le_of_ble_eq_true rfl) rfl dX6_costOf_73 (fun u12 A12 hc12 => ?_)
              refine r_top hc12.1 ?_
              refine r_eqA hc12.2 ?_
              clear hc12 A12 u12
              refine r_top (hW.K hw).2.2.1.1 ?_
              refine r_isub (pc := 76) C dX6_costOf_76 ?_
              refine r_top (pk_sub (by omega)) ?_
              refine r_iload_4 (pc := 77) C dX6_costOf_77 ?_
              refine r_imul (pc := 79) C dX6_costOf_79 ?_
              refine r_top (pk_mul _ _) ?_
              refine r_iadd (pc := 80) C dX6_costOf_80 ?_
              refine r_top (nI_add _ _) ?_
              refine r_iload_5 (pc := 81) C dX6_costOf_81 ?_
              refine r_iadd (pc := 83) C dX6_costOf_83 ?_
              refine r_top (nI_add _ _) ?_
              refine r_iret (pc := 84) C E rfl (Nat.le_refl _) (Nat.le_refl _) dX6_costOf_84 ?_
              refine ⟨?_, rfl⟩
              unfold ecost
              simp only [*, if_pos, if_neg, oI_none, oI_some, not_false_eq_true, true_and, and_true, false_and, and_false, true_or, or_true, false_or, or_false, ite_true, ite_false, reduceIte, Nat.reduceEqDiff, not_true_eq_false]
              all_goals (try rw [if_pos b48])
        · skip
          have b25 := bI_n.mp b25
          refine r_iconst (pc := 28) C dX6_costOf_28 ci_m1 ?_
          refine r_iret (pc := 29) C E rfl (Nat.le_refl _) (Nat.le_refl _) dX6_costOf_29 ?_
          refine ⟨?_, rfl⟩
          unfold ecost
          simp only [*, if_pos, if_neg, oI_none, oI_some, not_false_eq_true, true_and, and_true, false_and, and_false, true_or, or_true, false_or, or_false, ite_true, ite_false, reduceIte, Nat.reduceEqDiff, not_true_eq_false]
          all_goals (try rw [if_pos b48])
  · skip
    have b5 := bI_0.mp b5
    refine r_bipush (pc := 8) C dX6_costOf_8 cb_10 ?_
    refine r_iret (pc := 10) C E rfl (Nat.le_refl _) (Nat.le_refl _) dX6_costOf_10 ?_
    refine ⟨?_, rfl⟩
    unfold ecost
    simp only [*, if_pos, if_neg, oI_none, oI_some, not_false_eq_true, true_and, and_true, false_and, and_false, true_or, or_true, false_or, or_false, ite_true, ite_false, reduceIte, Nat.reduceEqDiff, not_true_eq_false]
    all_goals (try rw [if_pos b48])
set_option maxHeartbeats 4000000 in
theorem m_costBy {g : GZ} {A : HA} {t : Nat} (hT : Tw A t) {σ : Nat → Int32} (hσ : A.I (t + 1) = σ) {w c tt m : Nat} {f : Nat → Nat} (hW : RowW (σ)) (hw : w < rK (σ)) (hc : c < rC (σ)) (ht : tt < 4) (hm : m < 3) (hf : ∀ j, j < 80 → A.I (t + 6) j = nI (f j) ∧ f j ≤ 1000000) : Ct g wI yX6_costBy (.code yX6_costBy cX6_costBy 7 (Option.some Jvm.ClassFile.FieldType.int)) 4 0 0 [.ref t, .int (nI (w)), .int (nI (c)), .int (nI (tt)), .int (nI (m))] (A) (fun u A' => u = nI (cby (σ) f w m c tt) ∧ A' = A) fw_no := by
  refine Ct.of [some (.ref t), some (.int (nI (w))), some (.int (nI (c))), some (.int (nI (tt))), some (.int (nI (m))), none, none] (by decide) rfl rfl fun z C hx hnm E => ?_
  subst hσ
  have hk6 := hW.k6
  have hS := hW.s
  have hc80 := hS.c80
  refine r_aload_0 (pc := 0) C dX6_costBy_0 ?_
  refine r_iload_2 (pc := 1) C dX6_costBy_1 ?_
  refine r_iload_3 (pc := 2) C dX6_costBy_2 ?_
  refine r_V2io (pc := 3) C (m_nextTo hT rfl hS hc ht) vl_X6_106 (tw_g hT) (by decide) (Nat.le_refl _) (Nat.le_refl _) (Nat.le_of_ble_eq_true rfl) rfl dX6_costBy_3 (fun u1 A1 hc1 => ?_)
  refine r_top hc1.1 ?_
  refine r_eqA hc1.2 ?_
  clear hc1 A1 u1
  rcases hnb : nb (rW (A.I (t + 1))) (rH (A.I (t + 1))) c tt with _ | v
  · skip
    refine r_top oI_none ?_
    refine r_istore_5 (pc := 6) C dX6_costBy_6 rfl ?_
    refine r_iload_5 (pc := 8) C dX6_costBy_8 ?_
    refine r_iconst (pc := 10) C dX6_costBy_10 ci_m1 ?_
    refine r_icmp_eq (pc := 11) (tgt := 26) C dX6_costBy_11 (by decide) (fun b11 => ?_) (fun b11 => ?_)
    · skip
      refine r_ldc (pc := 26) (v := nI 1000000) C (by have h9 := q2423; rwa [show (1000000 : Int32) = nI 1000000 by decide +kernel] at h9) dX6_costBy_26 ?_
      refine r_iret (pc := 28) C E rfl (Nat.le_refl _) (Nat.le_refl _) dX6_costBy_28 ?_
      refine ⟨?_, rfl⟩
      unfold cby
      simp only [hnb]
      all_goals (first | rfl | (rw [if_pos (by omega)]) | (rw [if_neg (by omega)]; try simp only [hec]))
    · exact absurd b11 (by decide +kernel)
  · skip
    have hv := nb_lt (show 0 < rW (A.I (t + 1)) by have := hS.w3; omega) hc hnb
    have hv80 : v < 80 := Nat.lt_of_lt_of_le hv hc80
    have hfv := hf v hv80
    refine r_top (oI_some v) ?_
    refine r_istore_5 (pc := 6) C dX6_costBy_6 rfl ?_
    refine r_iload_5 (pc := 8) C dX6_costBy_8 ?_
    refine r_iconst (pc := 10) C dX6_costBy_10 ci_m1 ?_
    refine r_icmp_eq (pc := 11) (tgt := 26) C dX6_costBy_11 (by decide) (fun b11 => ?_) (fun b11 => ?_)
    · skip
      exact absurd b11 (nI_m1 (by omega))
    · skip
      refine r_aload_0 (pc := 14) C dX6_costBy_14 ?_
      refine r_getR (pc := 15) C fl_X6_25_6 (tw_g hT) rfl (tw_r6 hT) dX6_costBy_15 ?_
      refine r_iload_5 (pc := 18) C dX6_costBy_18 ?_
      refine r_iald (pc := 20) C (tw_g6 hT) rfl rfl (lt_eq (by omega) (tw_n6 hT)) (by omega) dX6_costBy_20 ?_
      refine r_top hfv.1 ?_
      refine r_ldc (pc := 21) (v := nI 1000000) C (by have h9 := q2423; rwa [show (1000000 : Int32) = nI 1000000 by decide +kernel] at h9) dX6_costBy_21 ?_
      refine r_icmp_lt (pc := 23) (tgt := 29) C dX6_costBy_23 (by decide) (fun b23 => ?_) (fun b23 => ?_)
      · skip
        have b23 := (nI_lt2 (by omega) (by omega)).mp b23
        refine r_aload_0 (pc := 29) C dX6_costBy_29 ?_
        refine r_iload_1 (pc := 30) C dX6_costBy_30 ?_
        refine r_iload_5 (pc := 31) C dX6_costBy_31 ?_
        refine r_iload_4 (pc := 33) C dX6_costBy_33 ?_
        refine r_V3io (pc := 35) C (m_costOf hT rfl hW hw (by omega) hm) vl_X6_110 (tw_g hT) (by decide) (Nat.le_refl _) (Nat.le_refl _) (Nat.le_of_ble_eq_true rfl) rfl dX6_costBy_35 (fun u2 A2 hc2 => ?_)
        refine r_top hc2.1 ?_
        refine r_eqA hc2.2 ?_
        clear hc2 A2 u2
        rcases hec : ecost (A.I (t + 1)) w m v with _ | e
        · skip
          refine r_top oI_none ?_
          refine r_istore_6 (pc := 38) C dX6_costBy_38 rfl ?_
          refine r_iload_6 (pc := 40) C dX6_costBy_40 ?_
          refine r_iconst (pc := 42) C dX6_costBy_42 ci_m1 ?_
          refine r_icmp_ne (pc := 43) (tgt := 51) C dX6_costBy_43 (by decide) (fun b43 => ?_) (fun b43 => ?_)
          · exact absurd b43 (by decide +kernel)
          · skip
            refine r_ldc (pc := 46) (v := nI 1000000) C (by have h9 := q2423; rwa [show (1000000 : Int32) = nI 1000000 by decide +kernel] at h9) dX6_costBy_46 ?_
            refine r_goto (pc := 48) (tgt := 61) C dX6_costBy_48 (by decide) ?_
            refine r_iret (pc := 61) C E rfl (Nat.le_refl _) (Nat.le_refl _) dX6_costBy_61 ?_
            refine ⟨?_, rfl⟩
            unfold cby
            simp only [hnb]
            all_goals (first | rfl | (rw [if_pos (by omega)]) | (rw [if_neg (by omega)]; try simp only [hec]))
        · skip
          have he := ecost_le hW hv80 hec
          refine r_top (oI_some e) ?_
          refine r_istore_6 (pc := 38) C dX6_costBy_38 rfl ?_
          refine r_iload_6 (pc := 40) C dX6_costBy_40 ?_
          refine r_iconst (pc := 42) C dX6_costBy_42 ci_m1 ?_
          refine r_icmp_ne (pc := 43) (tgt := 51) C dX6_costBy_43 (by decide) (fun b43 => ?_) (fun b43 => ?_)
          · skip
            refine r_iload_6 (pc := 51) C dX6_costBy_51 ?_
            refine r_aload_0 (pc := 53) C dX6_costBy_53 ?_
            refine r_getR (pc := 54) C fl_X6_25_6 (tw_g hT) rfl (tw_r6 hT) dX6_costBy_54 ?_
            refine r_iload_5 (pc := 57) C dX6_costBy_57 ?_
            refine r_iald (pc := 59) C (tw_g6 hT) rfl rfl (lt_eq (by omega) (tw_n6 hT)) (by omega) dX6_costBy_59 ?_
            refine r_top hfv.1 ?_
            refine r_iadd (pc := 60) C dX6_costBy_60 ?_
            refine r_top (nI_add _ _) ?_
            refine r_iret (pc := 61) C E rfl (Nat.le_refl _) (Nat.le_refl _) dX6_costBy_61 ?_
            refine ⟨?_, rfl⟩
            unfold cby
            simp only [hnb]
            all_goals (first | rfl | (rw [if_pos (by omega)]) | (rw [if_neg (by omega)]; try simp only [hec]))
          · skip
            exact absurd b43 (nI_m1 (by omega))
      · skip
        have b23 := (not_congr (nI_lt2 (by omega) (by omega))).mp b23
        refine r_ldc (pc := 26) (v := nI 1000000) C (by have h9 := q2423; rwa [show (1000000 : Int32) = nI 1000000 by decide +kernel] at h9) dX6_costBy_26 ?_
        refine r_iret (pc := 28) C E rfl (Nat.le_refl _) (Nat.le_refl _) dX6_costBy_28 ?_
        refine ⟨?_, rfl⟩
        unfold cby
        simp only [hnb]
        all_goals (first | rfl | (rw [if_pos (by omega)]) | (rw [if_neg (by omega)]; try simp only [hec]))
