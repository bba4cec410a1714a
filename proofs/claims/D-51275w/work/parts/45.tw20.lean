/-! THE REFERENCE, 20: public questions, 7 -/
set_option maxRecDepth 100000

set_option maxHeartbeats 4000000 in
theorem m_ifHaste {g : GZ} {A : HA} {t : Nat} {σ κ π τ : Nat → Int32} (hT : Tw A t) {x y w : Int32} (hW : RowW σ) (hy : ways σ)(hd9 : rD σ ≤ 999) : Ct g wI yX6_ifHaste (.code yX6_ifHaste cX6_ifHaste 5 (Option.some Jvm.ClassFile.FieldType.int)) 11 0 0 [.ref t, .int x, .int y, .int w] (S5 A t σ κ π τ) (fun u A' => QP A t σ τ (qTwo (inW σ x) (inZ y 0 9 ∧ inZ w 0 60) (nI (allG (daysR (hasteS σ (nt x) (nt y)) (nt w))) - nI (allG (daysR σ (nt w))))) u A') fw_no := by
  refine Ct.of [some (.ref t), some (.int x), some (.int y), some (.int w), none] (by decide) rfl rfl fun z C hx hnm E => ?_
  have hS := hW.s
  have hc80 := hS.c80
  have k6 := hW.k6
  have g6 := hW.g6
  have hc80 := hS.c80
  have hw10 := hS.w10
  have hh8 := hS.h8
  have hw3 := hS.w3
  refine r_aload_0 (pc := 0) C dX6_ifHaste_0 ?_
  refine r_aload_0 (pc := 1) C dX6_ifHaste_1 ?_
  refine r_iload_1 (pc := 2) C dX6_ifHaste_2 ?_
  refine r_V1io (pc := 3) C (m_isWalker (by exact hT) (S5_1 _ _ _ _ _ _) hW.k k6) vl_X6_413 (tw_g hT) (by decide) (Nat.le_refl _) (Nat.le_refl _) (Nat.le_of_ble_eq_true rfl) rfl dX6_ifHaste_3 (fun u1 A1 hc1 => ?_)
  refine r_top hc1.1 ?_
  refine r_eqA hc1.2 ?_
  clear hc1 A1 u1
  refine r_iload_2 (pc := 6) C dX6_ifHaste_6 ?_
  refine r_i2l (pc := 7) C dX6_ifHaste_7 ?_
  refine r_lconst (pc := 8) (v := 0) C dX6_ifHaste_8 (by decide) ?_
  refine r_ldc2 (pc := 9) C q2867 dX6_ifHaste_9 ?_
  refine r_S3io (pc := 12) C (m_inZ (p := 0) (q := 9) (by decide) (by decide)) sl_X6_68 (by decide) (Nat.le_refl _) (Nat.le_refl _) (Nat.le_of_ble_eq_true rfl) rfl dX6_ifHaste_12 (fun u2 A2 hc2 => ?_)
  refine r_top hc2.1 ?_
  refine r_eqA hc2.2 ?_
  clear hc2 A2 u2
  refine r_if_eq (pc := 15) (tgt := 29) C dX6_ifHaste_15 (by decide) (fun b15 => ?_) (fun b15 => ?_)
  · skip
    have b15 := bI_0.mp b15
    refine r_iconst (pc := 29) C dX6_ifHaste_29 ci_0 ?_
    refine r_V2io (pc := 30) C (m_passesBoth0 (by exact hT)) vl_X6_398 (tw_g hT) (by decide) (Nat.le_refl _) (Nat.le_refl _) (Nat.le_of_ble_eq_true rfl) rfl dX6_ifHaste_30 (fun u3 A3 hc3 => ?_)
    refine r_top hc3.1 ?_
    refine r_eqA (hc3.2.trans (by rw [S5_0, S5_w0])) ?_
    clear hc3 A3 u3
    refine r_if_ne (pc := 33) (tgt := 38) C dX6_ifHaste_33 (by decide) (fun b33 => ?_) (fun b33 => ?_)
    · exact absurd b33 (by decide +kernel)
    · skip
      refine r_iconst (pc := 36) C dX6_ifHaste_36 ci_0 ?_
      refine r_iret (pc := 37) C E rfl (Nat.le_refl _) (Nat.le_refl _) dX6_ifHaste_37 ?_
      first
        | exact QP.no2' b33 (Qo.o rfl)
        | exact QP.no3' (fun q => b15 q.1) (Qo.o rfl)
        | exact QP.no3' (fun q => b22 q.2) (Qo.o rfl)
  · skip
    have b15 := bI_n.mp b15
    refine r_iload_3 (pc := 18) C dX6_ifHaste_18 ?_
    refine r_S1io (pc := 19) C m_areDays sl_X6_450 (by decide) (Nat.le_refl _) (Nat.le_refl _) (Nat.le_of_ble_eq_true rfl) rfl dX6_ifHaste_19 (fun u4 A4 hc4 => ?_)
    refine r_top hc4.1 ?_
    refine r_eqA hc4.2 ?_
    clear hc4 A4 u4
    refine r_if_eq (pc := 22) (tgt := 29) C dX6_ifHaste_22 (by decide) (fun b22 => ?_) (fun b22 => ?_)
    · skip
      have b22 := bI_0.mp b22
      refine r_iconst (pc := 29) C dX6_ifHaste_29 ci_0 ?_
      refine r_V2io (pc := 30) C (m_passesBoth0 (by exact hT)) vl_X6_398 (tw_g hT) (by decide) (Nat.le_refl _) (Nat.le_refl _) (Nat.le_of_ble_eq_true rfl) rfl dX6_ifHaste_30 (fun u5 A5 hc5 => ?_)
      refine r_top hc5.1 ?_
      refine r_eqA (hc5.2.trans (by rw [S5_0, S5_w0])) ?_
      clear hc5 A5 u5
      refine r_if_ne (pc := 33) (tgt := 38) C dX6_ifHaste_33 (by decide) (fun b33 => ?_) (fun b33 => ?_)
      · exact absurd b33 (by decide +kernel)
      · skip
        refine r_iconst (pc := 36) C dX6_ifHaste_36 ci_0 ?_
        refine r_iret (pc := 37) C E rfl (Nat.le_refl _) (Nat.le_refl _) dX6_ifHaste_37 ?_
        first
          | exact QP.no2' b33 (Qo.o rfl)
          | exact QP.no3' (fun q => b15 q.1) (Qo.o rfl)
          | exact QP.no3' (fun q => b22 q.2) (Qo.o rfl)
    · skip
      have b22 := bI_n.mp b22
      refine r_iconst (pc := 25) C dX6_ifHaste_25 ci_1 ?_
      refine r_goto (pc := 26) (tgt := 30) C dX6_ifHaste_26 (by decide) ?_
      refine r_V2io (pc := 30) C (m_passesBoth1 (by exact hT)) vl_X6_398 (tw_g hT) (by decide) (Nat.le_refl _) (Nat.le_refl _) (Nat.le_of_ble_eq_true rfl) rfl dX6_ifHaste_30 (fun u6 A6 hc6 => ?_)
      refine r_top hc6.1 ?_
      refine r_eqA (hc6.2.trans (by rw [S5_0, S5_w0])) ?_
      clear hc6 A6 u6
      refine r_if_ne (pc := 33) (tgt := 38) C dX6_ifHaste_33 (by decide) (fun b33 => ?_) (fun b33 => ?_)
      · skip
        have b33 := bI_n.mp b33
        obtain ⟨k, hk, rfl⟩ := inZ_of b33 (by omega)
        obtain ⟨i, hi9, rfl⟩ := inZ_of2 (n := 9) rfl b15 (by omega)
        obtain ⟨n, hn, rfl⟩ := inZ_of2 (n := 60) rfl b22 (by omega)
        obtain ⟨hSm, hMv, hDd⟩ := daysR_keep hW hy n (by omega)
        obtain ⟨hSm2, hMv2, hDd2⟩ := daysR_keep (hasteS_w hW hk hi9) (hasteS_y hW hy hk hi9) n (by rw [show rD (hasteS σ k i) = rD σ from upd_rD (by omega)]; omega)
        refine r_aload_0 (pc := 38) C dX6_ifHaste_38 ?_
        refine r_V0vo (pc := 39) C (m_tries (by exact hT)) vl_X6_453 (tw_g hT) (by decide) (Nat.le_refl _) (Nat.le_refl _) (Nat.le_of_ble_eq_true rfl) rfl dX6_ifHaste_39 (fun u7 A7 hc7 => ?_)
        refine r_eqA hc7 ?_
        clear hc7 A7 u7
        refine r_aload_0 (pc := 42) C dX6_ifHaste_42 ?_
        refine r_aload_0 (pc := 43) C dX6_ifHaste_43 ?_
        refine r_iload_3 (pc := 44) C dX6_ifHaste_44 ?_
        refine r_V1io (pc := 45) C (m_grassBehind (σ := σ) (by exact hT) hW hy (by omega)) vl_X6_459 (tw_g hT) (by decide) (Nat.le_refl _) (Nat.le_refl _) (Nat.le_of_ble_eq_true rfl) rfl dX6_ifHaste_45 (fun u8 A8 hc8 => ?_)
        obtain ⟨⟨κL, πL, mL, eA⟩, eu⟩ := hc8
        refine r_top eu ?_
        refine r_eqA (eA.trans (by first | rw [bx_upd] | rfl)) ?_
        clear eu eA A8 u8
        refine r_V1io (pc := 48) C (m_laidBack (by exact hT)) vl_X6_456 (tw_g hT) (by decide) (Nat.le_refl _) (Nat.le_refl _) (Nat.le_of_ble_eq_true rfl) rfl dX6_ifHaste_48 (fun u9 A9 hc9 => ?_)
        refine r_top hc9.1 ?_
        refine r_eqA (hc9.2.trans (by rw [sI_s, cpy_back (fun j hj => hSm j (by unfold Stat; omega))])) ?_
        clear hc9 A9 u9
        refine r_istore_4 (pc := 51) C dX6_ifHaste_51 rfl ?_
        refine r_aload_0 (pc := 53) C dX6_ifHaste_53 ?_
        refine r_V0vo (pc := 54) C (m_tries (by exact hT)) vl_X6_453 (tw_g hT) (by decide) (Nat.le_refl _) (Nat.le_refl _) (Nat.le_of_ble_eq_true rfl) rfl dX6_ifHaste_54 (fun u10 A10 hc10 => ?_)
        refine r_eqA hc10 ?_
        clear hc10 A10 u10
        refine r_aload_0 (pc := 57) C dX6_ifHaste_57 ?_
        refine r_iload_1 (pc := 58) C dX6_ifHaste_58 ?_
        refine r_bipush (pc := 59) C dX6_ifHaste_59 cb_9 ?_
        refine r_iload_2 (pc := 61) C dX6_ifHaste_61 ?_
        refine r_V3vo (pc := 62) C (m_puts (by exact hT) (S5_1 _ _ _ _ _ _)) vl_X6_154 (tw_g hT) (by decide) (Nat.le_refl _) (Nat.le_refl _) (Nat.le_of_ble_eq_true rfl) rfl dX6_ifHaste_62 (fun u11 A11 hc11 => ?_)
        refine r_eqA hc11 ?_
        clear hc11 A11 u11
        refine r_eqA (S5_w1 _ _ _ _ _ _ _) ?_
        refine r_aload_0 (pc := 65) C dX6_ifHaste_65 ?_
        refine r_aload_0 (pc := 66) C dX6_ifHaste_66 ?_
        refine r_iload_3 (pc := 67) C dX6_ifHaste_67 ?_
        refine r_V1io (pc := 68) C (m_grassBehind (σ := (hasteS σ k i)) (by exact hT) (hasteS_w hW hk hi9) (hasteS_y hW hy hk hi9) (by rw [show rD (hasteS σ k i) = rD σ from upd_rD (by omega)]; omega)) vl_X6_459 (tw_g hT) (by decide) (Nat.le_refl _) (Nat.le_refl _) (Nat.le_of_ble_eq_true rfl) rfl dX6_ifHaste_68 (fun u12 A12 hc12 => ?_)
        obtain ⟨⟨κL, πL, mL, eA⟩, eu⟩ := hc12
        refine r_top eu ?_
        refine r_eqA (eA.trans (by first | rw [bx_upd] | rfl)) ?_
        clear eu eA A12 u12
        refine r_V1io (pc := 71) C (m_laidBack (by exact hT)) vl_X6_456 (tw_g hT) (by decide) (Nat.le_refl _) (Nat.le_refl _) (Nat.le_of_ble_eq_true rfl) rfl dX6_ifHaste_71 (fun u13 A13 hc13 => ?_)
        refine r_top hc13.1 ?_
        refine r_eqA (hc13.2.trans (by rw [sI_s, sI_s, cpy_back (fun j hj => (hSm2 j (by unfold Stat; omega)).trans (pk_un (by omega))), sI_sI])) ?_
        clear hc13 A13 u13
        refine r_iload_4 (pc := 74) C dX6_ifHaste_74 ?_
        refine r_isub (pc := 76) C dX6_ifHaste_76 ?_
        refine r_iret (pc := 77) C E rfl (Nat.le_refl _) (Nat.le_refl _) dX6_ifHaste_77 ?_
        exact QP.two' b33 ⟨b15, b22⟩ (by rw [nt_n (show k < 2147483648 by omega), nt_n (show i < 2147483648 by omega), nt_n (show n < 2147483648 by omega)]) ⟨_, _, _, _, rfl⟩
      · skip
        have b33 := bI_0.mp b33
        refine r_iconst (pc := 36) C dX6_ifHaste_36 ci_0 ?_
        refine r_iret (pc := 37) C E rfl (Nat.le_refl _) (Nat.le_refl _) dX6_ifHaste_37 ?_
        first
          | exact QP.no2' b33 (Qo.o rfl)
          | exact QP.no3' (fun q => b15 q.1) (Qo.o rfl)
          | exact QP.no3' (fun q => b22 q.2) (Qo.o rfl)
set_option maxHeartbeats 4000000 in
theorem m_meanGrass {g : GZ} {A : HA} {t : Nat} {σ κ π τ : Nat → Int32} (hT : Tw A t) (hW : RowW σ) : Ct g wD yX6_meanGrass (.code yX6_meanGrass cX6_meanGrass 2 (Option.some Jvm.ClassFile.FieldType.double)) 4 0 0 [.ref t] (S5 A t σ κ π τ) (fun u A' => u = meanA σ ∧ A' = S5 A t σ κ π (upd τ 6 (nI 0))) fw_no := by
  refine Ct.of [some (.ref t), none] (by decide) rfl rfl fun z C hx hnm E => ?_
  have hS := hW.s
  have hc80 := hS.c80
  have k6 := hW.k6
  have g6 := hW.g6
  have hc80 := hS.c80
  have hw10 := hS.w10
  have hh8 := hS.h8
  have hw3 := hS.w3
  refine r_aload_0 (pc := 0) C dX6_meanGrass_0 ?_
  refine r_iconst (pc := 1) C dX6_meanGrass_1 ci_0 ?_
  refine r_putI (pc := 2) C fl_X6_61_6 (tw_g hT) rfl (fun _ _ _ h => by cases h; exact Or.inl rfl) rfl rfl rfl dX6_meanGrass_2 ?_
  refine r_eqA (S5_u0 _ _ _ _ _ _ _ _) ?_
  refine r_aload_0 (pc := 5) C dX6_meanGrass_5 ?_
  refine r_iconst (pc := 6) C dX6_meanGrass_6 ci_0 ?_
  refine r_V1io (pc := 7) C (m_manyOf (by exact hT) hS (by omega)) vl_X6_183 (tw_g hT) (by decide) (Nat.le_refl _) (Nat.le_refl _) (Nat.le_of_ble_eq_true rfl) rfl dX6_meanGrass_7 (fun u1 A1 hc1 => ?_)
  refine r_top hc1.1 ?_
  refine r_eqA hc1.2 ?_
  have hml := smb_le (f := fun c => decide (σ (153 + 5 * c + 0) = nI 0)) (rC σ)
  have hml : manyR σ 0 ≤ rC σ := hml
  clear hc1 A1 u1
  refine r_istore_1 (pc := 10) C dX6_meanGrass_10 rfl ?_
  refine r_iload_1 (pc := 11) C dX6_meanGrass_11 ?_
  refine r_if_ne (pc := 12) (tgt := 19) C dX6_meanGrass_12 (by decide) (fun b12 => ?_) (fun b12 => ?_)
  · skip
    have b12 := (not_congr (nI_eq0 (by omega))).mp b12
    refine r_aload_0 (pc := 19) C dX6_meanGrass_19 ?_
    refine r_V0io (pc := 20) C (m_allGrass (by exact hT) (by first | assumption | omega)) vl_X6_318 (tw_g hT) (by decide) (Nat.le_refl _) (Nat.le_refl _) (Nat.le_of_ble_eq_true rfl) rfl dX6_meanGrass_20 (fun u2 A2 hc2 => ?_)
    refine r_top hc2.1 ?_
    refine r_eqA hc2.2 ?_
    clear hc2 A2 u2
    refine r_i2d (pc := 23) C dX6_meanGrass_23 ?_
    refine r_iload_1 (pc := 24) C dX6_meanGrass_24 ?_
    refine r_i2d (pc := 25) C dX6_meanGrass_25 ?_
    refine r_ddiv (pc := 26) C dX6_meanGrass_26 (nan64 b12 (by omega) (allG_many hW)) ?_
    refine r_dret (pc := 27) C E (Nat.le_refl _) (Nat.le_refl _) dX6_meanGrass_27 ?_
    refine ⟨?_, rfl⟩
    unfold meanA
    first
      | rw [if_pos b12]
      | rw [if_neg b12]
  · skip
    have b12 := (nI_eq0 (by omega)).mp b12
    refine r_dconst0 (pc := 15) C dX6_meanGrass_15 ?_
    refine r_goto (pc := 16) (tgt := 27) C dX6_meanGrass_16 (by decide) ?_
    refine r_dret (pc := 27) C E (Nat.le_refl _) (Nat.le_refl _) dX6_meanGrass_27 ?_
    refine ⟨?_, rfl⟩
    unfold meanA
    first
      | rw [if_pos b12]
      | rw [if_neg b12]
set_option maxHeartbeats 4000000 in
theorem m_bareShare {g : GZ} {A : HA} {t : Nat} {σ κ π τ : Nat → Int32} (hT : Tw A t) (hW : RowW σ) : Ct g wF yX6_bareShare (.code yX6_bareShare cX6_bareShare 2 (Option.some Jvm.ClassFile.FieldType.float)) 5 0 0 [.ref t] (S5 A t σ κ π τ) (fun u A' => u = shareA σ ∧ A' = S5 A t σ κ π (upd τ 6 (nI 0))) fw_no := by
  refine Ct.of [some (.ref t), none] (by decide) rfl rfl fun z C hx hnm E => ?_
  have hS := hW.s
  have hc80 := hS.c80
  have k6 := hW.k6
  have g6 := hW.g6
  have hc80 := hS.c80
  have hw10 := hS.w10
  have hh8 := hS.h8
  have hw3 := hS.w3
  refine r_aload_0 (pc := 0) C dX6_bareShare_0 ?_
  refine r_iconst (pc := 1) C dX6_bareShare_1 ci_0 ?_
  refine r_putI (pc := 2) C fl_X6_61_6 (tw_g hT) rfl (fun _ _ _ h => by cases h; exact Or.inl rfl) rfl rfl rfl dX6_bareShare_2 ?_
  refine r_eqA (S5_u0 _ _ _ _ _ _ _ _) ?_
  refine r_aload_0 (pc := 5) C dX6_bareShare_5 ?_
  refine r_iconst (pc := 6) C dX6_bareShare_6 ci_0 ?_
  refine r_V1io (pc := 7) C (m_manyOf (by exact hT) hS (by omega)) vl_X6_183 (tw_g hT) (by decide) (Nat.le_refl _) (Nat.le_refl _) (Nat.le_of_ble_eq_true rfl) rfl dX6_bareShare_7 (fun u1 A1 hc1 => ?_)
  refine r_top hc1.1 ?_
  refine r_eqA hc1.2 ?_
  have hml := smb_le (f := fun c => decide (σ (153 + 5 * c + 0) = nI 0)) (rC σ)
  have hml : manyR σ 0 ≤ rC σ := hml
  clear hc1 A1 u1
  refine r_istore_1 (pc := 10) C dX6_bareShare_10 rfl ?_
  refine r_iload_1 (pc := 11) C dX6_bareShare_11 ?_
  refine r_if_ne (pc := 12) (tgt := 19) C dX6_bareShare_12 (by decide) (fun b12 => ?_) (fun b12 => ?_)
  · skip
    have b12 := (not_congr (nI_eq0 (by omega))).mp b12
    refine r_aload_0 (pc := 19) C dX6_bareShare_19 ?_
    refine r_V0io (pc := 20) C (m_bareCells (by exact hT) (by first | assumption | omega)) vl_X6_384 (tw_g hT) (by decide) (Nat.le_refl _) (Nat.le_refl _) (Nat.le_of_ble_eq_true rfl) rfl dX6_bareShare_20 (fun u2 A2 hc2 => ?_)
    refine r_top hc2.1 ?_
    refine r_eqA hc2.2 ?_
    clear hc2 A2 u2
    refine r_i2f (pc := 23) C dX6_bareShare_23 ?_
    refine r_iload_1 (pc := 24) C dX6_bareShare_24 ?_
    refine r_i2f (pc := 25) C dX6_bareShare_25 ?_
    refine r_fdiv (pc := 26) C dX6_bareShare_26 (nan32 b12 (by omega) bare_many) ?_
    refine r_fret (pc := 27) C E (Nat.le_refl _) (Nat.le_refl _) dX6_bareShare_27 ?_
    refine ⟨?_, rfl⟩
    unfold shareA
    first
      | rw [if_pos b12]
      | rw [if_neg b12]
  · skip
    have b12 := (nI_eq0 (by omega)).mp b12
    refine r_fconst0 (pc := 15) C dX6_bareShare_15 ?_
    refine r_goto (pc := 16) (tgt := 27) C dX6_bareShare_16 (by decide) ?_
    refine r_fret (pc := 27) C E (Nat.le_refl _) (Nat.le_refl _) dX6_bareShare_27 ?_
    refine ⟨?_, rfl⟩
    unfold shareA
    first
      | rw [if_pos b12]
      | rw [if_neg b12]
set_option maxHeartbeats 4000000 in
theorem m_nameByte {g : GZ} {A : HA} {t : Nat} {σ κ π τ : Nat → Int32} (hT : Tw A t) {x y : Int32} {p : Prop} [Decidable p] (hW : RowW σ) (hN : NamI σ) : Ct g wI yX6_nameByte (.code yX6_nameByte cX6_nameByte 5 (Option.some Jvm.ClassFile.FieldType.int)) 3 0 0 [.ref t, .int x, .int (bI p), .int y] (S5 A t σ κ π τ) (fun u A' => QP A t σ τ (qOne ((p ∧ inG σ x) ∨ (¬ p ∧ inW σ x)) (nameA σ (if p then 21 + 9 * nt x else 75 + 13 * nt x) y)) u A') fw_no := by
  refine Ct.of [some (.ref t), some (.int x), some (.int (bI p)), some (.int y), none] (by decide) rfl rfl fun z C hx hnm E => ?_
  have hS := hW.s
  have hc80 := hS.c80
  have k6 := hW.k6
  have g6 := hW.g6
  have hc80 := hS.c80
  have hw10 := hS.w10
  have hh8 := hS.h8
  have hw3 := hS.w3
  refine r_aload_0 (pc := 0) C dX6_nameByte_0 ?_
  refine r_iload_2 (pc := 1) C dX6_nameByte_1 ?_
  refine r_if_eq (pc := 2) (tgt := 13) C dX6_nameByte_2 (by decide) (fun b2 => ?_) (fun b2 => ?_)
  · skip
    have b2 := bI_0.mp b2
    refine r_aload_0 (pc := 13) C dX6_nameByte_13 ?_
    refine r_iload_1 (pc := 14) C dX6_nameByte_14 ?_
    refine r_V1io (pc := 15) C (m_isWalker (by exact hT) (S5_1 _ _ _ _ _ _) hW.k k6) vl_X6_413 (tw_g hT) (by decide) (Nat.le_refl _) (Nat.le_refl _) (Nat.le_of_ble_eq_true rfl) rfl dX6_nameByte_15 (fun u1 A1 hc1 => ?_)
    refine r_top (hc1.1.trans (bI_iff (q := (p ∧ inG σ x) ∨ (¬ p ∧ inW σ x)) ⟨fun h => Or.inr ⟨b2, h⟩, fun h => h.elim (fun h => absurd h.1 b2) (fun h => h.2)⟩)) ?_
    refine r_eqA hc1.2 ?_
    clear hc1 A1 u1
    refine r_V1io (pc := 18) C (m_passes (by exact hT)) vl_X6_186 (tw_g hT) (by decide) (Nat.le_refl _) (Nat.le_refl _) (Nat.le_of_ble_eq_true rfl) rfl dX6_nameByte_18 (fun u2 A2 hc2 => ?_)
    refine r_top hc2.1 ?_
    refine r_eqA (hc2.2.trans (by rw [S5_0, S5_w0])) ?_
    clear hc2 A2 u2
    refine r_if_ne (pc := 21) (tgt := 26) C dX6_nameByte_21 (by decide) (fun b21 => ?_) (fun b21 => ?_)
    · skip
      have b21 := bI_n.mp b21
      refine r_iload_2 (pc := 26) C dX6_nameByte_26 ?_
      refine r_if_eq (pc := 27) (tgt := 40) C dX6_nameByte_27 (by decide) (fun b27 => ?_) (fun b27 => ?_)
      · skip
        have b27 := bI_0.mp b27
        have b99 := b21
        have b21 := b21.elim (fun h => absurd h.1 b27) (fun h => h)
        obtain ⟨k, hk, rfl⟩ := inZ_of b21.2 (by omega)
        obtain ⟨ff, hffe, hn, hff2, hna⟩ : ∃ ff, ff = 75 + 13 * k ∧ NamS σ ff ∧ ff < 200 ∧ ∀ y, nameA σ (if p then 21 + 9 * nt (nI k) else 75 + 13 * nt (nI k)) y = nameA σ ff y := ⟨_, rfl, hN.2 k hk, by omega, fun y => by rw [if_neg b27, nt_n (by omega)]⟩
        refine r_bipush (pc := 40) C dX6_nameByte_40 cb_75 ?_
        refine r_bipush (pc := 42) C dX6_nameByte_42 cb_13 ?_
        refine r_iload_1 (pc := 44) C dX6_nameByte_44 ?_
        refine r_imul (pc := 45) C dX6_nameByte_45 ?_
        refine r_top (pk_mul _ _) ?_
        refine r_iadd (pc := 46) C dX6_nameByte_46 ?_
        refine r_top (nI_add _ _) ?_
        refine r_top (congrArg nI hffe.symm) ?_
        obtain ⟨hn1, hn2, hn3, hn4⟩ := hn
        refine r_istore_4 (pc := 47) C dX6_nameByte_47 rfl ?_
        refine r_iload_3 (pc := 49) C dX6_nameByte_49 ?_
        refine r_i2l (pc := 50) C dX6_nameByte_50 ?_
        refine r_lconst (pc := 51) (v := 0) C dX6_nameByte_51 (by decide) ?_
        refine r_aload_0 (pc := 52) C dX6_nameByte_52 ?_
        refine r_getR (pc := 53) C fl_X6_7_6 (tw_g hT) rfl (tw_r1 hT) dX6_nameByte_53 ?_
        refine r_iload_4 (pc := 56) C dX6_nameByte_56 ?_
        refine r_iald (pc := 58) C (tw_g1 hT) rfl rfl (lt_eq (by omega) (tw_n1 hT)) (by omega) dX6_nameByte_58 ?_
        refine r_top (congrFun (S5_1 _ _ _ _ _ _) _) ?_
        refine r_top hn1 ?_
        refine r_iconst (pc := 59) C dX6_nameByte_59 ci_1 ?_
        refine r_isub (pc := 60) C dX6_nameByte_60 ?_
        refine r_i2l (pc := 61) C dX6_nameByte_61 ?_
        refine r_S3io (pc := 62) C (m_inZ (p := 0) (q := (nt (σ ff) : Int) - 1) (by decide) (t_m1' (by omega))) sl_X6_68 (by decide) (Nat.le_refl _) (Nat.le_refl _) (Nat.le_of_ble_eq_true rfl) rfl dX6_nameByte_62 (fun u3 A3 hc3 => ?_)
        refine r_top hc3.1 ?_
        refine r_eqA hc3.2 ?_
        clear hc3 A3 u3
        refine r_if_eq (pc := 65) (tgt := 82) C dX6_nameByte_65 (by decide) (fun b65 => ?_) (fun b65 => ?_)
        · skip
          have b65 := bI_0.mp b65
          refine r_iconst (pc := 82) C dX6_nameByte_82 ci_m1 ?_
          refine r_iret (pc := 83) C E rfl (Nat.le_refl _) (Nat.le_refl _) dX6_nameByte_83 ?_
          first
            | exact QP.one b99 (by rw [hna]; unfold nameA; rw [if_pos b98, nt_n (by omega)]) (Qo.o rfl)
            | exact QP.one b99 (by rw [hna]; unfold nameA; rw [if_neg b65]) (Qo.o rfl)
        · skip
          have b65 := bI_n.mp b65
          have b98 := b65
          obtain ⟨i, hi, rfl⟩ := inZ_of b65 (by omega)
          refine r_aload_0 (pc := 68) C dX6_nameByte_68 ?_
          refine r_getR (pc := 69) C fl_X6_7_6 (tw_g hT) rfl (tw_r1 hT) dX6_nameByte_69 ?_
          refine r_iload_4 (pc := 72) C dX6_nameByte_72 ?_
          refine r_iconst (pc := 74) C dX6_nameByte_74 ci_1 ?_
          refine r_iadd (pc := 75) C dX6_nameByte_75 ?_
          refine r_top (nI_add _ _) ?_
          refine r_iload_3 (pc := 76) C dX6_nameByte_76 ?_
          refine r_iadd (pc := 77) C dX6_nameByte_77 ?_
          refine r_top (nI_add _ _) ?_
          refine r_iald (pc := 78) C (tw_g1 hT) rfl rfl (lt_eq (by omega) (tw_n1 hT)) (by omega) dX6_nameByte_78 ?_
          refine r_top (congrFun (S5_1 _ _ _ _ _ _) _) ?_
          refine r_goto (pc := 79) (tgt := 83) C dX6_nameByte_79 (by decide) ?_
          refine r_iret (pc := 83) C E rfl (Nat.le_refl _) (Nat.le_refl _) dX6_nameByte_83 ?_
          first
            | exact QP.one b99 (by rw [hna]; unfold nameA; rw [if_pos b98, nt_n (by omega)]) (Qo.o rfl)
            | exact QP.one b99 (by rw [hna]; unfold nameA; rw [if_neg b65]) (Qo.o rfl)
      · skip
        have b27 := bI_n.mp b27
        have b99 := b21
        have b21 := b21.elim (fun h => h) (fun h => absurd b27 h.1)
        obtain ⟨k, hk, rfl⟩ := inZ_of b21.2 (by omega)
        obtain ⟨ff, hffe, hn, hff2, hna⟩ : ∃ ff, ff = 21 + 9 * k ∧ NamS σ ff ∧ ff < 200 ∧ ∀ y, nameA σ (if p then 21 + 9 * nt (nI k) else 75 + 13 * nt (nI k)) y = nameA σ ff y := ⟨_, rfl, hN.1 k hk, by omega, fun y => by rw [if_pos b27, nt_n (by omega)]⟩
        refine r_bipush (pc := 30) C dX6_nameByte_30 cb_21 ?_
        refine r_bipush (pc := 32) C dX6_nameByte_32 cb_9 ?_
        refine r_iload_1 (pc := 34) C dX6_nameByte_34 ?_
        refine r_imul (pc := 35) C dX6_nameByte_35 ?_
        refine r_top (pk_mul _ _) ?_
        refine r_iadd (pc := 36) C dX6_nameByte_36 ?_
        refine r_top (nI_add _ _) ?_
        refine r_goto (pc := 37) (tgt := 47) C dX6_nameByte_37 (by decide) ?_
        refine r_top (congrArg nI hffe.symm) ?_
        obtain ⟨hn1, hn2, hn3, hn4⟩ := hn
        refine r_istore_4 (pc := 47) C dX6_nameByte_47 rfl ?_
        refine r_iload_3 (pc := 49) C dX6_nameByte_49 ?_
        refine r_i2l (pc := 50) C dX6_nameByte_50 ?_
        refine r_lconst (pc := 51) (v := 0) C dX6_nameByte_51 (by decide) ?_
        refine r_aload_0 (pc := 52) C dX6_nameByte_52 ?_
        refine r_getR (pc := 53) C fl_X6_7_6 (tw_g hT) rfl (tw_r1 hT) dX6_nameByte_53 ?_
        refine r_iload_4 (pc := 56) C dX6_nameByte_56 ?_
        refine r_iald (pc := 58) C (tw_g1 hT) rfl rfl (lt_eq (by omega) (tw_n1 hT)) (by omega) dX6_nameByte_58 ?_
        refine r_top (congrFun (S5_1 _ _ _ _ _ _) _) ?_
        refine r_top hn1 ?_
        refine r_iconst (pc := 59) C dX6_nameByte_59 ci_1 ?_
        refine r_isub (pc := 60) C dX6_nameByte_60 ?_
        refine r_i2l (pc := 61) C dX6_nameByte_61 ?_
        refine r_S3io (pc := 62) C (m_inZ (p := 0) (q := (nt (σ ff) : Int) - 1) (by decide) (t_m1' (by omega))) sl_X6_68 (by decide) (Nat.le_refl _) (Nat.le_refl _) (Nat.le_of_ble_eq_true rfl) rfl dX6_nameByte_62 (fun u4 A4 hc4 => ?_)
        refine r_top hc4.1 ?_
        refine r_eqA hc4.2 ?_
        clear hc4 A4 u4
        refine r_if_eq (pc := 65) (tgt := 82) C dX6_nameByte_65 (by decide) (fun b65 => ?_) (fun b65 => ?_)
        · skip
          have b65 := bI_0.mp b65
          refine r_iconst (pc := 82) C dX6_nameByte_82 ci_m1 ?_
          refine r_iret (pc := 83) C E rfl (Nat.le_refl _) (Nat.le_refl _) dX6_nameByte_83 ?_
          first
            | exact QP.one b99 (by rw [hna]; unfold nameA; rw [if_pos b98, nt_n (by omega)]) (Qo.o rfl)
            | exact QP.one b99 (by rw [hna]; unfold nameA; rw [if_neg b65]) (Qo.o rfl)
        · skip
          have b65 := bI_n.mp b65
          have b98 := b65
          obtain ⟨i, hi, rfl⟩ := inZ_of b65 (by omega)
          refine r_aload_0 (pc := 68) C dX6_nameByte_68 ?_
          refine r_getR (pc := 69) C fl_X6_7_6 (tw_g hT) rfl (tw_r1 hT) dX6_nameByte_69 ?_
          refine r_iload_4 (pc := 72) C dX6_nameByte_72 ?_
          refine r_iconst (pc := 74) C dX6_nameByte_74 ci_1 ?_
          refine r_iadd (pc := 75) C dX6_nameByte_75 ?_
          refine r_top (nI_add _ _) ?_
          refine r_iload_3 (pc := 76) C dX6_nameByte_76 ?_
          refine r_iadd (pc := 77) C dX6_nameByte_77 ?_
          refine r_top (nI_add _ _) ?_
          refine r_iald (pc := 78) C (tw_g1 hT) rfl rfl (lt_eq (by omega) (tw_n1 hT)) (by omega) dX6_nameByte_78 ?_
          refine r_top (congrFun (S5_1 _ _ _ _ _ _) _) ?_
          refine r_goto (pc := 79) (tgt := 83) C dX6_nameByte_79 (by decide) ?_
          refine r_iret (pc := 83) C E rfl (Nat.le_refl _) (Nat.le_refl _) dX6_nameByte_83 ?_
          first
            | exact QP.one b99 (by rw [hna]; unfold nameA; rw [if_pos b98, nt_n (by omega)]) (Qo.o rfl)
            | exact QP.one b99 (by rw [hna]; unfold nameA; rw [if_neg b65]) (Qo.o rfl)
    · skip
      have b21 := bI_0.mp b21
      refine r_iconst (pc := 24) C dX6_nameByte_24 ci_0 ?_
      refine r_iret (pc := 25) C E rfl (Nat.le_refl _) (Nat.le_refl _) dX6_nameByte_25 ?_
      exact QP.no b21 (Qo.o rfl)
  · skip
    have b2 := bI_n.mp b2
    refine r_aload_0 (pc := 5) C dX6_nameByte_5 ?_
    refine r_iload_1 (pc := 6) C dX6_nameByte_6 ?_
    refine r_V1io (pc := 7) C (m_isGate (by exact hT) (S5_1 _ _ _ _ _ _) hW.g g6) vl_X6_405 (tw_g hT) (by decide) (Nat.le_refl _) (Nat.le_refl _) (Nat.le_of_ble_eq_true rfl) rfl dX6_nameByte_7 (fun u5 A5 hc5 => ?_)
    refine r_top (hc5.1.trans (bI_iff (q := (p ∧ inG σ x) ∨ (¬ p ∧ inW σ x)) ⟨fun h => Or.inl ⟨b2, h⟩, fun h => h.elim (fun h => h.2) (fun h => absurd b2 h.1)⟩)) ?_
    refine r_eqA hc5.2 ?_
    clear hc5 A5 u5
    refine r_goto (pc := 10) (tgt := 18) C dX6_nameByte_10 (by decide) ?_
    refine r_V1io (pc := 18) C (m_passes (by exact hT)) vl_X6_186 (tw_g hT) (by decide) (Nat.le_refl _) (Nat.le_refl _) (Nat.le_of_ble_eq_true rfl) rfl dX6_nameByte_18 (fun u6 A6 hc6 => ?_)
    refine r_top hc6.1 ?_
    refine r_eqA (hc6.2.trans (by rw [S5_0, S5_w0])) ?_
    clear hc6 A6 u6
    refine r_if_ne (pc := 21) (tgt := 26) C dX6_nameByte_21 (by decide) (fun b21 => ?_) (fun b21 => ?_)
    · skip
      have b21 := bI_n.mp b21
      refine r_iload_2 (pc := 26) C dX6_nameByte_26 ?_
      refine r_if_eq (pc := 27) (tgt := 40) C dX6_nameByte_27 (by decide) (fun b27 => ?_) (fun b27 => ?_)
      · skip
        have b27 := bI_0.mp b27
        have b99 := b21
        have b21 := b21.elim (fun h => absurd h.1 b27) (fun h => h)
        obtain ⟨k, hk, rfl⟩ := inZ_of b21.2 (by omega)
        obtain ⟨ff, hffe, hn, hff2, hna⟩ : ∃ ff, ff = 75 + 13 * k ∧ NamS σ ff ∧ ff < 200 ∧ ∀ y, nameA σ (if p then 21 + 9 * nt (nI k) else 75 + 13 * nt (nI k)) y = nameA σ ff y := ⟨_, rfl, hN.2 k hk, by omega, fun y => by rw [if_neg b27, nt_n (by omega)]⟩
        refine r_bipush (pc := 40) C dX6_nameByte_40 cb_75 ?_
        refine r_bipush (pc := 42) C dX6_nameByte_42 cb_13 ?_
        refine r_iload_1 (pc := 44) C dX6_nameByte_44 ?_
        refine r_imul (pc := 45) C dX6_nameByte_45 ?_
        refine r_top (pk_mul _ _) ?_
        refine r_iadd (pc := 46) C dX6_nameByte_46 ?_
        refine r_top (nI_add _ _) ?_
        refine r_top (congrArg nI hffe.symm) ?_
        obtain ⟨hn1, hn2, hn3, hn4⟩ := hn
        refine r_istore_4 (pc := 47) C dX6_nameByte_47 rfl ?_
        refine r_iload_3 (pc := 49) C dX6_nameByte_49 ?_
        refine r_i2l (pc := 50) C dX6_nameByte_50 ?_
        refine r_lconst (pc := 51) (v := 0) C dX6_nameByte_51 (by decide) ?_
        refine r_aload_0 (pc := 52) C dX6_nameByte_52 ?_
        refine r_getR (pc := 53) C fl_X6_7_6 (tw_g hT) rfl (tw_r1 hT) dX6_nameByte_53 ?_
        refine r_iload_4 (pc := 56) C dX6_nameByte_56 ?_
        refine r_iald (pc := 58) C (tw_g1 hT) rfl rfl (lt_eq (by omega) (tw_n1 hT)) (by omega) dX6_nameByte_58 ?_
        refine r_top (congrFun (S5_1 _ _ _ _ _ _) _) ?_
        refine r_top hn1 ?_
        refine r_iconst (pc := 59) C dX6_nameByte_59 ci_1 ?_
        refine r_isub (pc := 60) C dX6_nameByte_60 ?_
        refine r_i2l (pc := 61) C dX6_nameByte_61 ?_
        refine r_S3io (pc := 62) C (m_inZ (p := 0) (q := (nt (σ ff) : Int) - 1) (by decide) (t_m1' (by omega))) sl_X6_68 (by decide) (Nat.le_refl _) (Nat.le_refl _) (Nat.le_of_ble_eq_true rfl) rfl dX6_nameByte_62 (fun u7 A7 hc7 => ?_)
        refine r_top hc7.1 ?_
        refine r_eqA hc7.2 ?_
        clear hc7 A7 u7
        refine r_if_eq (pc := 65) (tgt := 82) C dX6_nameByte_65 (by decide) (fun b65 => ?_) (fun b65 => ?_)
        · skip
          have b65 := bI_0.mp b65
          refine r_iconst (pc := 82) C dX6_nameByte_82 ci_m1 ?_
          refine r_iret (pc := 83) C E rfl (Nat.le_refl _) (Nat.le_refl _) dX6_nameByte_83 ?_
          first
            | exact QP.one b99 (by rw [hna]; unfold nameA; rw [if_pos b98, nt_n (by omega)]) (Qo.o rfl)
            | exact QP.one b99 (by rw [hna]; unfold nameA; rw [if_neg b65]) (Qo.o rfl)
        · skip
          have b65 := bI_n.mp b65
          have b98 := b65
          obtain ⟨i, hi, rfl⟩ := inZ_of b65 (by omega)
          refine r_aload_0 (pc := 68) C dX6_nameByte_68 ?_
          refine r_getR (pc := 69) C fl_X6_7_6 (tw_g hT) rfl (tw_r1 hT) dX6_nameByte_69 ?_
          refine r_iload_4 (pc := 72) C dX6_nameByte_72 ?_
          refine r_iconst (pc := 74) C dX6_nameByte_74 ci_1 ?_
          refine r_iadd (pc := 75) C dX6_nameByte_75 ?_
          refine r_top (nI_add _ _) ?_
          refine r_iload_3 (pc := 76) C dX6_nameByte_76 ?_
          refine r_iadd (pc := 77) C dX6_nameByte_77 ?_
          refine r_top (nI_add _ _) ?_
          refine r_iald (pc := 78) C (tw_g1 hT) rfl rfl (lt_eq (by omega) (tw_n1 hT)) (by omega) dX6_nameByte_78 ?_
          refine r_top (congrFun (S5_1 _ _ _ _ _ _) _) ?_
          refine r_goto (pc := 79) (tgt := 83) C dX6_nameByte_79 (by decide) ?_
          refine r_iret (pc := 83) C E rfl (Nat.le_refl _) (Nat.le_refl _) dX6_nameByte_83 ?_
          first
            | exact QP.one b99 (by rw [hna]; unfold nameA; rw [if_pos b98, nt_n (by omega)]) (Qo.o rfl)
            | exact QP.one b99 (by rw [hna]; unfold nameA; rw [if_neg b65]) (Qo.o rfl)
      · skip
        have b27 := bI_n.mp b27
        have b99 := b21
        have b21 := b21.elim (fun h => h) (fun h => absurd b27 h.1)
        obtain ⟨k, hk, rfl⟩ := inZ_of b21.2 (by omega)
        obtain ⟨ff, hffe, hn, hff2, hna⟩ : ∃ ff, ff = 21 + 9 * k ∧ NamS σ ff ∧ ff < 200 ∧ ∀ y, nameA σ (if p then 21 + 9 * nt (nI k) else 75 + 13 * nt (nI k)) y = nameA σ ff y := ⟨_, rfl, hN.1 k hk, by omega, fun y => by rw [if_pos b27, nt_n (by omega)]⟩
        refine r_bipush (pc := 30) C dX6_nameByte_30 cb_21 ?_
        refine r_bipush (pc := 32) C dX6_nameByte_32 cb_9 ?_
        refine r_iload_1 (pc := 34) C dX6_nameByte_34 ?_
        refine r_imul (pc := 35) C dX6_nameByte_35 ?_
        refine r_top (pk_mul _ _) ?_
        refine r_iadd (pc := 36) C dX6_nameByte_36 ?_
        refine r_top (nI_add _ _) ?_
        refine r_goto (pc := 37) (tgt := 47) C dX6_nameByte_37 (by decide) ?_
        refine r_top (congrArg nI hffe.symm) ?_
        obtain ⟨hn1, hn2, hn3, hn4⟩ := hn
        refine r_istore_4 (pc := 47) C dX6_nameByte_47 rfl ?_
        refine r_iload_3 (pc := 49) C dX6_nameByte_49 ?_
        refine r_i2l (pc := 50) C dX6_nameByte_50 ?_
        refine r_lconst (pc := 51) (v := 0) C dX6_nameByte_51 (by decide) ?_
        refine r_aload_0 (pc := 52) C dX6_nameByte_52 ?_
        refine r_getR (pc := 53) C fl_X6_7_6 (tw_g hT) rfl (tw_r1 hT) dX6_nameByte_53 ?_
        refine r_iload_4 (pc := 56) C dX6_nameByte_56 ?_
        refine r_iald (pc := 58) C (tw_g1 hT) rfl rfl (lt_eq (by omega) (tw_n1 hT)) (by omega) dX6_nameByte_58 ?_
        refine r_top (congrFun (S5_1 _ _ _ _ _ _) _) ?_
        refine r_top hn1 ?_
        refine r_iconst (pc := 59) C dX6_nameByte_59 ci_1 ?_
        refine r_isub (pc := 60) C dX6_nameByte_60 ?_
        refine r_i2l (pc := 61) C dX6_nameByte_61 ?_
        refine r_S3io (pc := 62) C (m_inZ (p := 0) (q := (nt (σ ff) : Int) - 1) (by decide) (t_m1' (by omega))) sl_X6_68 (by decide) (Nat.le_refl _) (Nat.le_refl _) (Nat.le_of_ble_eq_true rfl) rfl dX6_nameByte_62 (fun u8 A8 hc8 => ?_)
        refine r_top hc8.1 ?_
        refine r_eqA hc8.2 ?_
        clear hc8 A8 u8
        refine r_if_eq (pc := 65) (tgt := 82) C dX6_nameByte_65 (by decide) (fun b65 => ?_) (fun b65 => ?_)
        · skip
          have b65 := bI_0.mp b65
          refine r_iconst (pc := 82) C dX6_nameByte_82 ci_m1 ?_
          refine r_iret (pc := 83) C E rfl (Nat.le_refl _) (Nat.le_refl _) dX6_nameByte_83 ?_
          first
            | exact QP.one b99 (by rw [hna]; unfold nameA; rw [if_pos b98, nt_n (by omega)]) (Qo.o rfl)
            | exact QP.one b99 (by rw [hna]; unfold nameA; rw [if_neg b65]) (Qo.o rfl)
        · skip
          have b65 := bI_n.mp b65
          have b98 := b65
          obtain ⟨i, hi, rfl⟩ := inZ_of b65 (by omega)
          refine r_aload_0 (pc := 68) C dX6_nameByte_68 ?_
          refine r_getR (pc := 69) C fl_X6_7_6 (tw_g hT) rfl (tw_r1 hT) dX6_nameByte_69 ?_
          refine r_iload_4 (pc := 72) C dX6_nameByte_72 ?_
          refine r_iconst (pc := 74) C dX6_nameByte_74 ci_1 ?_
          refine r_iadd (pc := 75) C dX6_nameByte_75 ?_
          refine r_top (nI_add _ _) ?_
          refine r_iload_3 (pc := 76) C dX6_nameByte_76 ?_
          refine r_iadd (pc := 77) C dX6_nameByte_77 ?_
          refine r_top (nI_add _ _) ?_
          refine r_iald (pc := 78) C (tw_g1 hT) rfl rfl (lt_eq (by omega) (tw_n1 hT)) (by omega) dX6_nameByte_78 ?_
          refine r_top (congrFun (S5_1 _ _ _ _ _ _) _) ?_
          refine r_goto (pc := 79) (tgt := 83) C dX6_nameByte_79 (by decide) ?_
          refine r_iret (pc := 83) C E rfl (Nat.le_refl _) (Nat.le_refl _) dX6_nameByte_83 ?_
          first
            | exact QP.one b99 (by rw [hna]; unfold nameA; rw [if_pos b98, nt_n (by omega)]) (Qo.o rfl)
            | exact QP.one b99 (by rw [hna]; unfold nameA; rw [if_neg b65]) (Qo.o rfl)
    · skip
      have b21 := bI_0.mp b21
      refine r_iconst (pc := 24) C dX6_nameByte_24 ci_0 ?_
      refine r_iret (pc := 25) C E rfl (Nat.le_refl _) (Nat.le_refl _) dX6_nameByte_25 ?_
      exact QP.no b21 (Qo.o rfl)
