/-! THE REFERENCE, 16: public questions, 3 -/
set_option maxRecDepth 100000
theorem if_pos_ {σ : Rw} {k : Nat} (h : (busyS σ k).2 < cTr σ k) : busyS σ (k + 1) = (some k, cTr σ k) := if_neg (by omega)
theorem if_neg_ {σ : Rw} {k : Nat} (h : ¬ (busyS σ k).2 < cTr σ k) : busyS σ (k + 1) = busyS σ k := if_pos (by omega)
set_option maxHeartbeats 4000000 in
theorem m_grassBalance {g : GZ} {A : HA} {t : Nat} {σ κ π τ : Nat → Int32} (hT : Tw A t) (hW : RowW σ) : Ct g wI yX6_grassBalance (.code yX6_grassBalance cX6_grassBalance 1 (Option.some Jvm.ClassFile.FieldType.int)) 4 0 0 [.ref t] (S5 A t σ κ π τ) (fun u A' => QP A t σ τ ((0, gbalA σ)) u A') fw_no := by
  refine Ct.of [some (.ref t)] (by decide) rfl rfl fun z C hx hnm E => ?_
  refine r_aload_0 (pc := 0) C dX6_grassBalance_0 ?_
  refine r_iconst (pc := 1) C dX6_grassBalance_1 ci_0 ?_
  refine r_putI (pc := 2) C fl_X6_61_6 (tw_g hT) rfl (fun _ _ _ h => by cases h; exact Or.inl rfl) rfl rfl rfl dX6_grassBalance_2 ?_
  refine r_eqA (S5_u0 _ _ _ _ _ _ _ _) ?_
  refine r_aload_0 (pc := 5) C dX6_grassBalance_5 ?_
  refine r_getR (pc := 6) C fl_X6_7_6 (tw_g hT) rfl (tw_r1 hT) dX6_grassBalance_6 ?_
  refine r_bipush (pc := 9) C dX6_grassBalance_9 cb_8 ?_
  refine r_iald (pc := 11) C (tw_g1 hT) rfl rfl (lt_eq (by omega) (tw_n1 hT)) (by omega) dX6_grassBalance_11 ?_
  refine r_top (congrFun (S5_1 _ _ _ _ _ _) _) ?_
  refine r_aload_0 (pc := 12) C dX6_grassBalance_12 ?_
  refine r_iconst (pc := 13) C dX6_grassBalance_13 ci_3 ?_
  refine r_V1io (pc := 14) C (m_account0 (by exact hT) (by first | assumption | omega)) vl_X6_439 (tw_g hT) (by decide) (Nat.le_refl _) (Nat.le_refl _) (Nat.le_of_ble_eq_true rfl) rfl dX6_grassBalance_14 (fun u1 A1 hc1 => ?_)
  refine r_top hc1.1 ?_
  refine r_eqA hc1.2 ?_
  clear hc1 A1 u1
  refine r_isub (pc := 17) C dX6_grassBalance_17 ?_
  refine r_aload_0 (pc := 18) C dX6_grassBalance_18 ?_
  refine r_iconst (pc := 19) C dX6_grassBalance_19 ci_4 ?_
  refine r_V1io (pc := 20) C (m_account0 (by exact hT) (by first | assumption | omega)) vl_X6_439 (tw_g hT) (by decide) (Nat.le_refl _) (Nat.le_refl _) (Nat.le_of_ble_eq_true rfl) rfl dX6_grassBalance_20 (fun u2 A2 hc2 => ?_)
  refine r_top hc2.1 ?_
  refine r_eqA hc2.2 ?_
  clear hc2 A2 u2
  refine r_iadd (pc := 23) C dX6_grassBalance_23 ?_
  refine r_aload_0 (pc := 24) C dX6_grassBalance_24 ?_
  refine r_iconst (pc := 25) C dX6_grassBalance_25 ci_5 ?_
  refine r_V1io (pc := 26) C (m_account0 (by exact hT) (by first | assumption | omega)) vl_X6_439 (tw_g hT) (by decide) (Nat.le_refl _) (Nat.le_refl _) (Nat.le_of_ble_eq_true rfl) rfl dX6_grassBalance_26 (fun u3 A3 hc3 => ?_)
  refine r_top hc3.1 ?_
  refine r_eqA hc3.2 ?_
  clear hc3 A3 u3
  refine r_iadd (pc := 29) C dX6_grassBalance_29 ?_
  refine r_aload_0 (pc := 30) C dX6_grassBalance_30 ?_
  refine r_bipush (pc := 31) C dX6_grassBalance_31 cb_6 ?_
  refine r_V1io (pc := 33) C (m_account0 (by exact hT) (by first | assumption | omega)) vl_X6_439 (tw_g hT) (by decide) (Nat.le_refl _) (Nat.le_refl _) (Nat.le_of_ble_eq_true rfl) rfl dX6_grassBalance_33 (fun u4 A4 hc4 => ?_)
  refine r_top hc4.1 ?_
  refine r_eqA hc4.2 ?_
  clear hc4 A4 u4
  refine r_iadd (pc := 36) C dX6_grassBalance_36 ?_
  refine r_aload_0 (pc := 37) C dX6_grassBalance_37 ?_
  refine r_bipush (pc := 38) C dX6_grassBalance_38 cb_7 ?_
  refine r_V1io (pc := 40) C (m_account0 (by exact hT) (by first | assumption | omega)) vl_X6_439 (tw_g hT) (by decide) (Nat.le_refl _) (Nat.le_refl _) (Nat.le_of_ble_eq_true rfl) rfl dX6_grassBalance_40 (fun u5 A5 hc5 => ?_)
  refine r_top hc5.1 ?_
  refine r_eqA hc5.2 ?_
  clear hc5 A5 u5
  refine r_isub (pc := 43) C dX6_grassBalance_43 ?_
  refine r_aload_0 (pc := 44) C dX6_grassBalance_44 ?_
  refine r_V0io (pc := 45) C (m_allGrass (by exact hT) (by first | assumption | omega)) vl_X6_318 (tw_g hT) (by decide) (Nat.le_refl _) (Nat.le_refl _) (Nat.le_of_ble_eq_true rfl) rfl dX6_grassBalance_45 (fun u6 A6 hc6 => ?_)
  refine r_top hc6.1 ?_
  refine r_eqA hc6.2 ?_
  clear hc6 A6 u6
  refine r_isub (pc := 48) C dX6_grassBalance_48 ?_
  refine r_iret (pc := 49) C E rfl (Nat.le_refl _) (Nat.le_refl _) dX6_grassBalance_49 ?_
  exact Qo.z rfl (Qo.o rfl)
set_option maxHeartbeats 4000000 in
theorem m_walkBalance {g : GZ} {A : HA} {t : Nat} {σ κ π τ : Nat → Int32} (hT : Tw A t) (hW : RowW σ) : Ct g wI yX6_walkBalance (.code yX6_walkBalance cX6_walkBalance 4 (Option.some Jvm.ClassFile.FieldType.int)) 2 0 0 [.ref t] (S5 A t σ κ π τ) (fun u A' => QP A t σ τ ((0, wbalA σ)) u A') fw_no := by
  refine Ct.of [some (.ref t), none, none, none] (by decide) rfl rfl fun z C hx hnm E => ?_
  have hS := hW.s
  have hc80 := hS.c80
  have k6 := hW.k6
  have g6 := hW.g6
  have hc80 := hS.c80
  have hw10 := hS.w10
  have hh8 := hS.h8
  have hw3 := hS.w3
  refine r_aload_0 (pc := 0) C dX6_walkBalance_0 ?_
  refine r_iconst (pc := 1) C dX6_walkBalance_1 ci_0 ?_
  refine r_putI (pc := 2) C fl_X6_61_6 (tw_g hT) rfl (fun _ _ _ h => by cases h; exact Or.inl rfl) rfl rfl rfl dX6_walkBalance_2 ?_
  refine r_eqA (S5_u0 _ _ _ _ _ _ _ _) ?_
  refine r_iconst (pc := 5) C dX6_walkBalance_5 ci_0 ?_
  refine r_istore_1 (pc := 6) C dX6_walkBalance_6 rfl ?_
  refine r_iconst (pc := 7) C dX6_walkBalance_7 ci_0 ?_
  refine r_istore_2 (pc := 8) C dX6_walkBalance_8 rfl ?_
  refine r_iconst (pc := 9) C dX6_walkBalance_9 ci_0 ?_
  refine r_istore_3 (pc := 10) C dX6_walkBalance_10 rfl ?_
  have lp11_1 : ∀ (fu : Nat) (k : Nat) (hk : k ≤ rK σ), rK σ - k < fu → wa g z 0 0 (S5 A t σ κ π (upd τ 6 (nI 0))) 11 [some (.ref t), some (.int (sumI (fun k => σ (75 + 13 * k + 11)) k)), some (.int (sumI (fun k => σ (75 + 13 * k + 12)) k)), some (.int (nI (k)))] [] := by
    intro fu
    induction fu with
    | zero => intro k  hk hm11; exact absurd hm11 (Nat.not_lt_zero _)
    | succ fu ih11 =>
      intro k  hk hm11
      refine r_iload_3 (pc := 11) C dX6_walkBalance_11 ?_
      refine r_aload_0 (pc := 12) C dX6_walkBalance_12 ?_
      refine r_getR (pc := 13) C fl_X6_7_6 (tw_g hT) rfl (tw_r1 hT) dX6_walkBalance_13 ?_
      refine r_iconst (pc := 16) C dX6_walkBalance_16 ci_1 ?_
      refine r_iald (pc := 17) C (tw_g1 hT) rfl rfl (lt_eq (by omega) (tw_n1 hT)) (by omega) dX6_walkBalance_17 ?_
      refine r_top (congrFun (S5_1 _ _ _ _ _ _) _) ?_
      refine r_top hW.k ?_
      refine r_icmp_ge (pc := 18) (tgt := 47) C dX6_walkBalance_18 (by decide) (fun b18 => ?_) (fun b18 => ?_)
      · skip
        have b18 := (nI_le2 (by omega) (by omega)).mp b18
        refine r_aload_0 (pc := 47) C dX6_walkBalance_47 ?_
        refine r_iconst (pc := 48) C dX6_walkBalance_48 ci_0 ?_
        refine r_V1io (pc := 49) C (m_account0 (by exact hT) (by first | assumption | omega)) vl_X6_439 (tw_g hT) (by decide) (Nat.le_refl _) (Nat.le_refl _) (Nat.le_of_ble_eq_true rfl) rfl dX6_walkBalance_49 (fun u2 A2 hc2 => ?_)
        refine r_top hc2.1 ?_
        refine r_eqA hc2.2 ?_
        clear hc2 A2 u2
        refine r_iload_1 (pc := 52) C dX6_walkBalance_52 ?_
        refine r_isub (pc := 53) C dX6_walkBalance_53 ?_
        refine r_abs (pc := 54) C q2810 rfl (Nat.le_of_ble_eq_true rfl) (by decide) (Nat.le_refl _) (Nat.le_refl _) dX6_walkBalance_54 ?_
        refine r_aload_0 (pc := 57) C dX6_walkBalance_57 ?_
        refine r_iconst (pc := 58) C dX6_walkBalance_58 ci_1 ?_
        refine r_V1io (pc := 59) C (m_account0 (by exact hT) (by first | assumption | omega)) vl_X6_439 (tw_g hT) (by decide) (Nat.le_refl _) (Nat.le_refl _) (Nat.le_of_ble_eq_true rfl) rfl dX6_walkBalance_59 (fun u3 A3 hc3 => ?_)
        refine r_top hc3.1 ?_
        refine r_eqA hc3.2 ?_
        clear hc3 A3 u3
        refine r_iload_2 (pc := 62) C dX6_walkBalance_62 ?_
        refine r_isub (pc := 63) C dX6_walkBalance_63 ?_
        refine r_abs (pc := 64) C q2810 rfl (Nat.le_of_ble_eq_true rfl) (by decide) (Nat.le_refl _) (Nat.le_refl _) dX6_walkBalance_64 ?_
        refine r_iadd (pc := 67) C dX6_walkBalance_67 ?_
        refine r_iret (pc := 68) C E rfl (Nat.le_refl _) (Nat.le_refl _) dX6_walkBalance_68 ?_
        have e9 : k = rK σ := by omega
        subst e9
        exact Qo.z rfl (Qo.o rfl)
      · skip
        have b18 := (not_congr (nI_le2 (by omega) (by omega))).mp b18
        refine r_iload_1 (pc := 21) C dX6_walkBalance_21 ?_
        refine r_aload_0 (pc := 22) C dX6_walkBalance_22 ?_
        refine r_iload_3 (pc := 23) C dX6_walkBalance_23 ?_
        refine r_bipush (pc := 24) C dX6_walkBalance_24 cb_11 ?_
        refine r_V2io (pc := 26) C (m_of (by exact hT) (S5_1 _ _ _ _ _ _)) vl_X6_103 (tw_g hT) (by decide) (Nat.le_refl _) (Nat.le_refl _) (Nat.le_of_ble_eq_true rfl) rfl dX6_walkBalance_26 (fun u4 A4 hc4 => ?_)
        refine r_top hc4.1 ?_
        refine r_eqA hc4.2 ?_
        clear hc4 A4 u4
        refine r_iadd (pc := 29) C dX6_walkBalance_29 ?_
        refine r_istore_1 (pc := 30) C dX6_walkBalance_30 rfl ?_
        refine r_iload_2 (pc := 31) C dX6_walkBalance_31 ?_
        refine r_aload_0 (pc := 32) C dX6_walkBalance_32 ?_
        refine r_iload_3 (pc := 33) C dX6_walkBalance_33 ?_
        refine r_bipush (pc := 34) C dX6_walkBalance_34 cb_12 ?_
        refine r_V2io (pc := 36) C (m_of (by exact hT) (S5_1 _ _ _ _ _ _)) vl_X6_103 (tw_g hT) (by decide) (Nat.le_refl _) (Nat.le_refl _) (Nat.le_of_ble_eq_true rfl) rfl dX6_walkBalance_36 (fun u5 A5 hc5 => ?_)
        refine r_top hc5.1 ?_
        refine r_eqA hc5.2 ?_
        clear hc5 A5 u5
        refine r_iadd (pc := 39) C dX6_walkBalance_39 ?_
        refine r_istore_2 (pc := 40) C dX6_walkBalance_40 rfl ?_
        refine r_iinc_3 (pc := 41) C dX6_walkBalance_41 (nI_inc _) rfl ?_
        refine r_goto (pc := 44) (tgt := 11) C dX6_walkBalance_44 (by decide) ?_
        exact ih11 (k + 1) (by omega) (by omega)
  exact lp11_1 _ 0 (by omega) (Nat.lt_succ_self _)
set_option maxHeartbeats 4000000 in
theorem m_gap {g : GZ} {A : HA} {t : Nat} {σ κ π τ : Nat → Int32} (hT : Tw A t) (hW : RowW σ) (hy : ways σ) : Ct g wI yX6_gap (.code yX6_gap cX6_gap 3 (Option.some Jvm.ClassFile.FieldType.int)) 8 0 0 [.ref t] (S5 A t σ κ π τ) (fun u A' => QP A t σ τ ((0, nI (gapA σ))) u A') fw_no := by
  refine Ct.of [some (.ref t), none, none] (by decide) rfl rfl fun z C hx hnm E => ?_
  have hS := hW.s
  have hc80 := hS.c80
  have k6 := hW.k6
  have g6 := hW.g6
  have hc80 := hS.c80
  have hw10 := hS.w10
  have hh8 := hS.h8
  have hw3 := hS.w3
  refine r_aload_0 (pc := 0) C dX6_gap_0 ?_
  refine r_iconst (pc := 1) C dX6_gap_1 ci_0 ?_
  refine r_putI (pc := 2) C fl_X6_61_6 (tw_g hT) rfl (fun _ _ _ h => by cases h; exact Or.inl rfl) rfl rfl rfl dX6_gap_2 ?_
  refine r_eqA (S5_u0 _ _ _ _ _ _ _ _) ?_
  refine r_iconst (pc := 5) C dX6_gap_5 ci_0 ?_
  refine r_istore_1 (pc := 6) C dX6_gap_6 rfl ?_
  refine r_iconst (pc := 7) C dX6_gap_7 ci_0 ?_
  refine r_istore_2 (pc := 8) C dX6_gap_8 rfl ?_
  have lp9_1 : ∀ (fu : Nat) (k : Nat) (κ1 π1 : Nat → Int32) (m1 : Int32) (hk : k ≤ rK σ), rK σ - k < fu → wa g z 0 0 (S5 A t σ κ1 π1 (upd (upd τ 6 (nI 0)) 10 m1)) 9 [some (.ref t), some (.int (nI (smN (fun k => b01 (brokB σ k)) k))), some (.int (nI (k)))] [] := by
    intro fu
    induction fu with
    | zero => intro k  κ1 π1  m1  hk hm9; exact absurd hm9 (Nat.not_lt_zero _)
    | succ fu ih9 =>
      intro k  κ1 π1  m1  hk hm9
      refine r_iload_2 (pc := 9) C dX6_gap_9 ?_
      refine r_aload_0 (pc := 10) C dX6_gap_10 ?_
      refine r_getR (pc := 11) C fl_X6_7_6 (tw_g hT) rfl (tw_r1 hT) dX6_gap_11 ?_
      refine r_iconst (pc := 14) C dX6_gap_14 ci_1 ?_
      refine r_iald (pc := 15) C (tw_g1 hT) rfl rfl (lt_eq (by omega) (tw_n1 hT)) (by omega) dX6_gap_15 ?_
      refine r_top (congrFun (S5_1 _ _ _ _ _ _) _) ?_
      refine r_top hW.k ?_
      refine r_icmp_ge (pc := 16) (tgt := 36) C dX6_gap_16 (by decide) (fun b16 => ?_) (fun b16 => ?_)
      · skip
        have b16 := (nI_le2 (by omega) (by omega)).mp b16
        refine r_iload_1 (pc := 36) C dX6_gap_36 ?_
        refine r_iret (pc := 37) C E rfl (Nat.le_refl _) (Nat.le_refl _) dX6_gap_37 ?_
        have e9 : k = rK σ := by omega
        subst e9
        exact Qo.z rfl (Qo.m rfl)
      · skip
        have b16 := (not_congr (nI_le2 (by omega) (by omega))).mp b16
        refine r_iload_1 (pc := 19) C dX6_gap_19 ?_
        refine r_aload_0 (pc := 20) C dX6_gap_20 ?_
        refine r_iload_2 (pc := 21) C dX6_gap_21 ?_
        refine r_V1io (pc := 22) C (m_isBroken (by exact hT) hW hy (by omega)) vl_X6_445 (tw_g hT) (by decide) (Nat.le_refl _) (Nat.le_refl _) (Nat.le_of_ble_eq_true rfl) rfl dX6_gap_22 (fun u2 A2 hc2 => ?_)
        obtain ⟨⟨κL, πL, mL, eA⟩, eu⟩ := hc2
        refine r_top eu ?_
        refine r_eqA (eA.trans (by first | rw [bx_upd] | rfl)) ?_
        clear eu eA A2 u2
        refine r_S1io (pc := 25) C m_truth sl_X6_130 (by decide) (Nat.le_refl _) (Nat.le_refl _) (Nat.le_of_ble_eq_true rfl) rfl dX6_gap_25 (fun u3 A3 hc3 => ?_)
        refine r_top hc3.1 ?_
        refine r_eqA hc3.2 ?_
        clear hc3 A3 u3
        refine r_top (show _ = nI (b01 (brokB σ k)) from (bI_b01 _).trans (by congr 1; cases brokB σ k <;> rfl)) ?_
        refine r_iadd (pc := 28) C dX6_gap_28 ?_
        refine r_top (nI_add _ _) ?_
        refine r_istore_1 (pc := 29) C dX6_gap_29 rfl ?_
        refine r_iinc_2 (pc := 30) C dX6_gap_30 (nI_inc _) rfl ?_
        refine r_goto (pc := 33) (tgt := 9) C dX6_gap_33 (by decide) ?_
        exact ih9 (k + 1) _ _ _ (by omega) (by omega)
  rw [show S5 A t σ κ π (upd τ 6 (nI 0)) = S5 A t σ κ π (upd (upd τ 6 (nI 0)) 10 ((upd τ 6 (nI 0)) 10)) by rw [upd_10]]
  exact lp9_1 _ 0 κ π ((upd τ 6 (nI 0)) 10) (by omega) (Nat.lt_succ_self _)
set_option maxHeartbeats 4000000 in
theorem m_busiest {g : GZ} {A : HA} {t : Nat} {σ κ π τ : Nat → Int32} (hT : Tw A t) (hS : RowS σ) (hC : ∀ c, c < 80 → CelI σ c) (hd9 : rD σ ≤ 1200) : Ct g wI yX6_busiest (.code yX6_busiest cX6_busiest 4 (Option.some Jvm.ClassFile.FieldType.int)) 3 0 0 [.ref t] (S5 A t σ κ π τ) (fun u A' => QP A t σ τ ((0, oS σ (busyS σ (rC σ)).1)) u A') fw_no := by
  refine Ct.of [some (.ref t), none, none, none] (by decide) rfl rfl fun z C hx hnm E => ?_
  have hc80 := hS.c80
  refine r_aload_0 (pc := 0) C dX6_busiest_0 ?_
  refine r_iconst (pc := 1) C dX6_busiest_1 ci_0 ?_
  refine r_putI (pc := 2) C fl_X6_61_6 (tw_g hT) rfl (fun _ _ _ h => by cases h; exact Or.inl rfl) rfl rfl rfl dX6_busiest_2 ?_
  refine r_eqA (S5_u0 _ _ _ _ _ _ _ _) ?_
  refine r_iconst (pc := 5) C dX6_busiest_5 ci_m1 ?_
  refine r_istore_1 (pc := 6) C dX6_busiest_6 rfl ?_
  refine r_iconst (pc := 7) C dX6_busiest_7 ci_0 ?_
  refine r_istore_2 (pc := 8) C dX6_busiest_8 rfl ?_
  refine r_iconst (pc := 9) C dX6_busiest_9 ci_0 ?_
  refine r_istore_3 (pc := 10) C dX6_busiest_10 rfl ?_
  have lp11_1 : ∀ (fu : Nat) (k : Nat) (hk : k ≤ rC σ) (hb : (busyS σ k).2 ≤ 576000), rC σ - k < fu → wa g z 0 0 (S5 A t σ κ π (upd τ 6 (nI 0))) 11 [some (.ref t), some (.int (oS σ (busyS σ k).1)), some (.int (nI ((busyS σ k).2))), some (.int (nI (k)))] [] := by
    intro fu
    induction fu with
    | zero => intro k  hk hb hm11; exact absurd hm11 (Nat.not_lt_zero _)
    | succ fu ih11 =>
      intro k  hk hb hm11
      refine r_iload_3 (pc := 11) C dX6_busiest_11 ?_
      refine r_aload_0 (pc := 12) C dX6_busiest_12 ?_
      refine r_V0io (pc := 13) C (m_cells (by exact hT) (S5_1 _ _ _ _ _ _) hS) vl_X6_117 (tw_g hT) (by decide) (Nat.le_refl _) (Nat.le_refl _) (Nat.le_of_ble_eq_true rfl) rfl dX6_busiest_13 (fun u2 A2 hc2 => ?_)
      refine r_top hc2.1 ?_
      refine r_eqA hc2.2 ?_
      clear hc2 A2 u2
      refine r_icmp_ge (pc := 16) (tgt := 51) C dX6_busiest_16 (by decide) (fun b16 => ?_) (fun b16 => ?_)
      · skip
        have b16 := (nI_le2 (by omega) (by omega)).mp b16
        refine r_iload_1 (pc := 51) C dX6_busiest_51 ?_
        refine r_iret (pc := 52) C E rfl (Nat.le_refl _) (Nat.le_refl _) dX6_busiest_52 ?_
        have e9 : k = rC σ := by omega
        subst e9
        exact Qo.z rfl (Qo.o rfl)
      · skip
        have b16 := (not_congr (nI_le2 (by omega) (by omega))).mp b16
        refine r_aload_0 (pc := 19) C dX6_busiest_19 ?_
        refine r_iload_3 (pc := 20) C dX6_busiest_20 ?_
        refine r_iconst (pc := 21) C dX6_busiest_21 ci_3 ?_
        refine r_V2io (pc := 22) C (m_ofCell (by exact hT) (S5_1 _ _ _ _ _ _)) vl_X6_86 (tw_g hT) (by decide) (Nat.le_refl _) (Nat.le_refl _) (Nat.le_of_ble_eq_true rfl) rfl dX6_busiest_22 (fun u3 A3 hc3 => ?_)
        refine r_top hc3.1 ?_
        refine r_eqA hc3.2 ?_
        clear hc3 A3 u3
        have hck := Nat.le_trans ((hC k (by omega)).2.2.1.2) (show 480 * rD σ ≤ 576000 by omega)
        refine r_top (hC k (by omega)).2.2.1.1 ?_
        refine r_iload_2 (pc := 25) C dX6_busiest_25 ?_
        refine r_icmp_gt (pc := 26) (tgt := 32) C dX6_busiest_26 (by decide) (fun b26 => ?_) (fun b26 => ?_)
        · skip
          have b26 := (nI_lt2 (by omega) (by omega)).mp b26
          refine r_aload_0 (pc := 32) C dX6_busiest_32 ?_
          refine r_iload_3 (pc := 33) C dX6_busiest_33 ?_
          refine r_V1io (pc := 34) C (m_shown (by exact hT) (S5_1 _ _ _ _ _ _) hS) vl_X6_420 (tw_g hT) (by decide) (Nat.le_refl _) (Nat.le_refl _) (Nat.le_of_ble_eq_true rfl) rfl dX6_busiest_34 (fun u4 A4 hc4 => ?_)
          refine r_top hc4.1 ?_
          refine r_eqA hc4.2 ?_
          clear hc4 A4 u4
          refine r_istore_1 (pc := 37) C dX6_busiest_37 rfl ?_
          refine r_aload_0 (pc := 38) C dX6_busiest_38 ?_
          refine r_iload_3 (pc := 39) C dX6_busiest_39 ?_
          refine r_iconst (pc := 40) C dX6_busiest_40 ci_3 ?_
          refine r_V2io (pc := 41) C (m_ofCell (by exact hT) (S5_1 _ _ _ _ _ _)) vl_X6_86 (tw_g hT) (by decide) (Nat.le_refl _) (Nat.le_refl _) (Nat.le_of_ble_eq_true rfl) rfl dX6_busiest_41 (fun u5 A5 hc5 => ?_)
          refine r_top hc5.1 ?_
          refine r_eqA hc5.2 ?_
          clear hc5 A5 u5
          refine r_top (hC k (by omega)).2.2.1.1 ?_
          refine r_istore_2 (pc := 44) C dX6_busiest_44 rfl ?_
          refine r_iinc_3 (pc := 45) C dX6_busiest_45 (nI_inc _) rfl ?_
          refine r_goto (pc := 48) (tgt := 11) C dX6_busiest_48 (by decide) ?_
          first | rw [← if_neg_ b26] | rw [show nI (10 * (k / rW σ) + k % rW σ) = oS σ (busyS σ (k + 1)).1 from by rw [if_pos_ b26]; rfl, show nI (cTr σ k) = nI (busyS σ (k + 1)).2 from by rw [if_pos_ b26]]
          exact ih11 (k + 1) (by omega) (by first | (rw [if_neg_ b26]; exact hb) | (rw [if_pos_ b26]; exact hck)) (by omega)
        · skip
          have b26 := (not_congr (nI_lt2 (by omega) (by omega))).mp b26
          refine r_goto (pc := 29) (tgt := 45) C dX6_busiest_29 (by decide) ?_
          refine r_iinc_3 (pc := 45) C dX6_busiest_45 (nI_inc _) rfl ?_
          refine r_goto (pc := 48) (tgt := 11) C dX6_busiest_48 (by decide) ?_
          first | rw [← if_neg_ b26] | rw [show nI (10 * (k / rW σ) + k % rW σ) = oS σ (busyS σ (k + 1)).1 from by rw [if_pos_ b26]; rfl, show nI (cTr σ k) = nI (busyS σ (k + 1)).2 from by rw [if_pos_ b26]]
          exact ih11 (k + 1) (by omega) (by first | (rw [if_neg_ b26]; exact hb) | (rw [if_pos_ b26]; exact hck)) (by omega)
  exact lp11_1 _ 0 (by omega) (Nat.zero_le _) (Nat.lt_succ_self _)
