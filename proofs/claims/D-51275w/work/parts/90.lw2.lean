/-! THE LAWN, 2: counts, costs; what may be entered -/
set_option maxRecDepth 100000
/-- a cell's kind and fence as they must be -/
def CelF (σ : Rw) (c : Nat) : Prop := (σ (153 + 5 * c + 0) = 0 ∨ ((σ (153 + 5 * c + 0) = nI 1 ∨ σ (153 + 5 * c + 0) = nI 2) ∧ σ (153 + 5 * c + 2) = nI 0 ∧ cGr σ c = 0)) ∧ (σ (153 + 5 * c + 2) = nI 0 ∨ σ (153 + 5 * c + 2) = nI 1)
theorem CelI.fe {σ : Rw} {c : Nat} (h : CelI σ c) : CelF σ c := ⟨h.1, h.2.1⟩
theorem CelD.fe {a b : Nat} {σ : Rw} {c : Nat} (h : CelD a b σ c) : CelF σ c := ⟨h.1, h.2.1⟩
theorem fen_bI {σ : Rw} {c : Nat} (h : CelF σ c) : σ (153 + 5 * c + 2) = bI (fenced σ c) := by
  rcases h.2 with q | q
  · rw [bI_f (by unfold fenced; rw [q]; decide +kernel), q]; decide +kernel
  · rw [bI_t q, q]; decide +kernel
theorem grF_c {σ : Rw} {c : Nat} (h : CelF σ c) : grassF σ c = cGr σ c := by
  unfold grassF
  rcases h.1 with q | ⟨-, -, q⟩
  · rw [if_pos q]
  · rw [q]; exact ite_self _
theorem nI_z {n : Nat} (h : n < 2147483648) : nI n = 0 ↔ n = 0 := nI_eq0 h
theorem gco_n {σ : Rw} {w c : Nat} (h : ¬ σ (153 + 5 * c + 0) = 0) : gcost σ w c = 10 := if_neg h
theorem gco_w {σ : Rw} {w c : Nat} (h : σ (153 + 5 * c + 0) = 0) (h2 : wetD σ (rD σ)) (h3 : ¬ 2 < cGr σ c) : gcost σ w c = 10 + (9 - wHs σ w) * cGr σ c + 25 := by unfold gcost; rw [if_pos h, if_pos ⟨h2, h3⟩]
theorem gco_d {σ : Rw} {w c : Nat} (h : σ (153 + 5 * c + 0) = 0) (h2 : ¬ (wetD σ (rD σ) ∧ ¬ 2 < cGr σ c)) : gcost σ w c = 10 + (9 - wHs σ w) * cGr σ c := by unfold gcost; rw [if_pos h, if_neg h2, Nat.add_zero]
/-- Ground's constant for what may be entered -/
def GO (g : GZ) (q m : Nat) : Prop := match m with
  | 0 => Oc g q RX14 ∧ ∃ mk, g.s.methodNamed? yX14_isOpen = some mk
  | 1 => Oc g q RX15 ∧ ∃ mk, g.s.methodNamed? yX15_isOpen = some mk
  | _ => Oc g q RX13 ∧ ∃ mk, g.s.methodNamed? yX13_isOpen = some mk
set_option maxHeartbeats 4000000 in
theorem l_bitN {g : GZ} {A : HA} {n : Nat} (hn : n ≤ 1) : Ct g wI yX1_bit (.code yX1_bit cX1_bit 1 (Option.some Jvm.ClassFile.FieldType.int)) 1 0 0 [.int (nI (n))] (A) (fun u A' => u = nI n ∧ A' = A) fw_no := by
  refine Ct.of [some (.int (nI (n)))] (by decide) rfl rfl fun z C hx hnm E => ?_
  refine r_iload_0 (pc := 0) C dX1_bit_0 ?_
  refine r_if_eq (pc := 1) (tgt := 8) C dX1_bit_1 (by decide) (fun b1 => ?_) (fun b1 => ?_)
  · skip
    have b1 := (nI_eq0 (by omega)).mp b1
    refine r_iconst (pc := 8) C dX1_bit_8 ci_0 ?_
    refine r_iret (pc := 9) C E rfl (Nat.le_refl _) (Nat.le_refl _) dX1_bit_9 ?_
    first
      | (have e9 : n = 0 := by omega); subst e9; exact ⟨rfl, rfl⟩
      | (have e9 : n = 1 := by omega); subst e9; exact ⟨rfl, rfl⟩
  · skip
    have b1 := (not_congr (nI_eq0 (by omega))).mp b1
    refine r_iconst (pc := 4) C dX1_bit_4 ci_1 ?_
    refine r_goto (pc := 5) (tgt := 9) C dX1_bit_5 (by decide) ?_
    refine r_iret (pc := 9) C E rfl (Nat.le_refl _) (Nat.le_refl _) dX1_bit_9 ?_
    first
      | (have e9 : n = 0 := by omega); subst e9; exact ⟨rfl, rfl⟩
      | (have e9 : n = 1 := by omega); subst e9; exact ⟨rfl, rfl⟩
set_option maxHeartbeats 4000000 in
theorem l_costOf {g : GZ} {A : HA} {a : Nat} {d : Nat → Nat} {σ : Rw} (hL : Ly A a d σ) (hv : Lv A.I a d σ) (hW : RowW σ) {k c : Nat} (hk : k < rK σ) (hc : c < rC σ) : Ct g wI yX2_costOf (.code yX2_costOf cX2_costOf 3 (Option.some Jvm.ClassFile.FieldType.int)) 2 0 0 [.ref a, .ref (d (30 + k)), .int (nI (c))] (A) (fun u A' => u = nI (gcost σ k c) ∧ A' = A) fw_no := by
  refine Ct.of [some (.ref a), some (.ref (d (30 + k))), some (.int (nI (c)))] (by decide) rfl rfl fun z C hx hnm E => ?_
  have hS := hW.s
  have hw3 := hS.w3
  have hw10 := hS.w10
  have hh8 := hS.h8
  have hc80 := hS.c80
  have k6 := hW.k6
  have g6 := hW.g6
  have hk6 := hW.K hk
  have d9 := hW.d9
  have h9 := hW.c9 (show c < 80 by omega)
  have hs9 : wHs σ k ≤ 9 := hk6.2.2.1.2
  refine r_aload_0 (pc := 0) C dX2_costOf_0 ?_
  refine r_iload_2 (pc := 1) C dX2_costOf_1 ?_
  refine r_V1io (pc := 2) C (l_isGrass hL hv hW (by omega)) vl_X2_123 (ly_g hL) (by decide) (Nat.le_refl _) (Nat.le_refl _) (Nat.le_of_ble_eq_true rfl) rfl dX2_costOf_2 (fun u1 A1 hc1 => ?_)
  refine r_top hc1.1 ?_
  refine r_eqA hc1.2 ?_
  clear hc1 A1 u1
  refine r_if_ne (pc := 5) (tgt := 11) C dX2_costOf_5 (by decide) (fun b5 => ?_) (fun b5 => ?_)
  · skip
    have b5 := bI_n.mp b5
    refine r_bipush (pc := 11) C dX2_costOf_11 cb_10 ?_
    refine r_bipush (pc := 13) C dX2_costOf_13 cb_9 ?_
    refine r_aload_1 (pc := 15) C dX2_costOf_15 ?_
    refine r_ngetI (pc := 16) C fn_X2_127_5 (ly_w hL hk).2 rfl dX2_costOf_16 ?_
    refine r_top ((hv.wk (v := 9) (by omega) (by omega) hk (by omega)).trans (hW.K hk).2.2.1.1) ?_
    refine r_isub (pc := 19) C dX2_costOf_19 ?_
    refine r_top (pk_sub (by omega)) ?_
    refine r_aload_0 (pc := 20) C dX2_costOf_20 ?_
    refine r_getR (pc := 21) C fl_X2_18_2 (ly_g hL) rfl (ly_rf hL 6 (by decide)) dX2_costOf_21 ?_
    refine r_iload_2 (pc := 24) C dX2_costOf_24 ?_
    refine r_iald (pc := 25) C (ly_gf hL 6 (by decide)) rfl rfl (lt_eq (by omega) (ly_nf hL 6 (by decide) (by decide))) (by omega) dX2_costOf_25 ?_
    refine r_top ((hv.grass hc).trans (hW.c (by omega))) ?_
    refine r_imul (pc := 26) C dX2_costOf_26 ?_
    refine r_top (pk_mul _ _) ?_
    refine r_iadd (pc := 27) C dX2_costOf_27 ?_
    refine r_top (nI_add _ _) ?_
    refine r_aload_0 (pc := 28) C dX2_costOf_28 ?_
    refine r_aload_0 (pc := 29) C dX2_costOf_29 ?_
    refine r_getI (pc := 30) C fl_X2_35_2 (ly_g hL) rfl dX2_costOf_30 ?_
    refine r_top (hv.day.trans hW.d) ?_
    refine r_V1io (pc := 33) C (l_isWet hL hv hW (by omega)) vl_X2_130 (ly_g hL) (by decide) (Nat.le_refl _) (Nat.le_refl _) (Nat.le_of_ble_eq_true rfl) rfl dX2_costOf_33 (fun u2 A2 hc2 => ?_)
    refine r_top hc2.1 ?_
    refine r_eqA hc2.2 ?_
    clear hc2 A2 u2
    refine r_if_eq (pc := 36) (tgt := 54) C dX2_costOf_36 (by decide) (fun b36 => ?_) (fun b36 => ?_)
    · skip
      have b36 := bI_0.mp b36
      refine r_iconst (pc := 54) C dX2_costOf_54 ci_0 ?_
      refine r_iadd (pc := 55) C dX2_costOf_55 ?_
      refine r_top (nI_add _ _) ?_
      refine r_iret (pc := 56) C E rfl (Nat.le_refl _) (Nat.le_refl _) dX2_costOf_56 ?_
      first
        | exact ⟨by rw [gco_n (by assumption)], rfl⟩
        | exact ⟨by rw [gco_w (by assumption) (by assumption) (by omega)], rfl⟩
        | exact ⟨congrArg nI (gco_d (by assumption) (fun q => absurd q.1 (by assumption))).symm, rfl⟩
        | exact ⟨congrArg nI (gco_d (by assumption) (fun q => absurd q.2 (by omega))).symm, rfl⟩
    · skip
      have b36 := bI_n.mp b36
      refine r_aload_0 (pc := 39) C dX2_costOf_39 ?_
      refine r_getR (pc := 40) C fl_X2_18_2 (ly_g hL) rfl (ly_rf hL 6 (by decide)) dX2_costOf_40 ?_
      refine r_iload_2 (pc := 43) C dX2_costOf_43 ?_
      refine r_iald (pc := 44) C (ly_gf hL 6 (by decide)) rfl rfl (lt_eq (by omega) (ly_nf hL 6 (by decide) (by decide))) (by omega) dX2_costOf_44 ?_
      refine r_top ((hv.grass hc).trans (hW.c (by omega))) ?_
      refine r_iconst (pc := 45) C dX2_costOf_45 ci_2 ?_
      refine r_icmp_gt (pc := 46) (tgt := 54) C dX2_costOf_46 (by decide) (fun b46 => ?_) (fun b46 => ?_)
      · skip
        have b46 := (nI_lt2 (by omega) (by omega)).mp b46
        refine r_iconst (pc := 54) C dX2_costOf_54 ci_0 ?_
        refine r_iadd (pc := 55) C dX2_costOf_55 ?_
        refine r_top (nI_add _ _) ?_
        refine r_iret (pc := 56) C E rfl (Nat.le_refl _) (Nat.le_refl _) dX2_costOf_56 ?_
        first
          | exact ⟨by rw [gco_n (by assumption)], rfl⟩
          | exact ⟨by rw [gco_w (by assumption) (by assumption) (by omega)], rfl⟩
          | exact ⟨congrArg nI (gco_d (by assumption) (fun q => absurd q.1 (by assumption))).symm, rfl⟩
          | exact ⟨congrArg nI (gco_d (by assumption) (fun q => absurd q.2 (by omega))).symm, rfl⟩
      · skip
        have b46 := (not_congr (nI_lt2 (by omega) (by omega))).mp b46
        refine r_bipush (pc := 49) C dX2_costOf_49 cb_25 ?_
        refine r_goto (pc := 51) (tgt := 55) C dX2_costOf_51 (by decide) ?_
        refine r_iadd (pc := 55) C dX2_costOf_55 ?_
        refine r_top (nI_add _ _) ?_
        refine r_iret (pc := 56) C E rfl (Nat.le_refl _) (Nat.le_refl _) dX2_costOf_56 ?_
        first
          | exact ⟨by rw [gco_n (by assumption)], rfl⟩
          | exact ⟨by rw [gco_w (by assumption) (by assumption) (by omega)], rfl⟩
          | exact ⟨congrArg nI (gco_d (by assumption) (fun q => absurd q.1 (by assumption))).symm, rfl⟩
          | exact ⟨congrArg nI (gco_d (by assumption) (fun q => absurd q.2 (by omega))).symm, rfl⟩
  · skip
    have b5 := bI_0.mp b5
    refine r_bipush (pc := 8) C dX2_costOf_8 cb_10 ?_
    refine r_iret (pc := 10) C E rfl (Nat.le_refl _) (Nat.le_refl _) dX2_costOf_10 ?_
    first
      | exact ⟨by rw [gco_n (by assumption)], rfl⟩
      | exact ⟨by rw [gco_w (by assumption) (by assumption) (by omega)], rfl⟩
      | exact ⟨congrArg nI (gco_d (by assumption) (fun q => absurd q.1 (by assumption))).symm, rfl⟩
      | exact ⟨congrArg nI (gco_d (by assumption) (fun q => absurd q.2 (by omega))).symm, rfl⟩
set_option maxHeartbeats 4000000 in
theorem l_fencesAll {g : GZ} {A : HA} {a : Nat} {d : Nat → Nat} {σ : Rw} (hL : Ly A a d σ) (hv : Lv A.I a d σ) (hW : RowW σ) (hC : ∀ c, c < 80 → CelF σ c)  : Ct g wI yX2_fencesAll (.code yX2_fencesAll cX2_fencesAll 3 (Option.some Jvm.ClassFile.FieldType.int)) 2 0 0 [.ref a] (A) (fun u A' => u = nI (fcnt σ) ∧ A' = A) fw_no := by
  refine Ct.of [some (.ref a), none, none] (by decide) rfl rfl fun z C hx hnm E => ?_
  have hS := hW.s
  have hw3 := hS.w3
  have hw10 := hS.w10
  have hh8 := hS.h8
  have hc80 := hS.c80
  have k6 := hW.k6
  have g6 := hW.g6
  refine r_iconst (pc := 0) C dX2_fencesAll_0 ci_0 ?_
  refine r_istore_1 (pc := 1) C dX2_fencesAll_1 rfl ?_
  refine r_iconst (pc := 2) C dX2_fencesAll_2 ci_0 ?_
  refine r_istore_2 (pc := 3) C dX2_fencesAll_3 rfl ?_
  have lp4_1 : ∀ (fu : Nat) (c : Nat) (hc : c ≤ rC σ), rC σ - c < fu → wa g z 0 0 (A) 4 [some (.ref a), some (.int (nI (smN (fun c => b01 (decide (fenced σ c))) c))), some (.int (nI (c)))] [] := by
    intro fu
    induction fu with
    | zero => intro c  hc hm4; exact absurd hm4 (Nat.not_lt_zero _)
    | succ fu ih4 =>
      intro c  hc hm4
      refine r_iload_2 (pc := 4) C dX2_fencesAll_4 ?_
      refine r_aload_0 (pc := 5) C dX2_fencesAll_5 ?_
      refine r_getI (pc := 6) C fl_X2_14_2 (ly_g hL) rfl dX2_fencesAll_6 ?_
      refine r_top hv.c ?_
      refine r_icmp_ge (pc := 9) (tgt := 30) C dX2_fencesAll_9 (by decide) (fun b9 => ?_) (fun b9 => ?_)
      · skip
        have b9 := (nI_le2 (by omega) (by omega)).mp b9
        refine r_iload_1 (pc := 30) C dX2_fencesAll_30 ?_
        refine r_iret (pc := 31) C E rfl (Nat.le_refl _) (Nat.le_refl _) dX2_fencesAll_31 ?_
        have e9 : c = rC σ := by omega
        subst e9
        exact ⟨rfl, rfl⟩
      · skip
        have b9 := (not_congr (nI_le2 (by omega) (by omega))).mp b9
        refine r_iload_1 (pc := 12) C dX2_fencesAll_12 ?_
        refine r_aload_0 (pc := 13) C dX2_fencesAll_13 ?_
        refine r_getR (pc := 14) C fl_X2_59_2 (ly_g hL) rfl (ly_rf hL 10 (by decide)) dX2_fencesAll_14 ?_
        refine r_iload_2 (pc := 17) C dX2_fencesAll_17 ?_
        refine r_zald (pc := 18) C (ly_gf hL 10 (by decide)) rfl rfl (lt_eq (by omega) (ly_nf hL 10 (by decide) (by decide))) (by omega) dX2_fencesAll_18 ?_
        refine r_top ((hv.fence (by omega)).trans (fen_bI (hC _ (by omega)))) ?_
        refine r_SN1io (pc := 19) C (l_bit) snl_X2_119 (by decide) (Nat.le_refl _) (Nat.le_refl _) (Nat.le_of_ble_eq_true rfl) rfl dX2_fencesAll_19 (fun u2 A2 hc2 => ?_)
        refine r_top hc2.1 ?_
        refine r_eqA hc2.2 ?_
        clear hc2 A2 u2
        refine r_top (bI_b01 _) ?_
        refine r_iadd (pc := 22) C dX2_fencesAll_22 ?_
        refine r_top (nI_add _ _) ?_
        refine r_istore_1 (pc := 23) C dX2_fencesAll_23 rfl ?_
        refine r_iinc_2 (pc := 24) C dX2_fencesAll_24 (nI_inc _) rfl ?_
        refine r_goto (pc := 27) (tgt := 4) C dX2_fencesAll_27 (by decide) ?_
        exact ih4 (c + 1) (by omega) (by omega)
  exact lp4_1 _ 0 (by omega) (Nat.lt_succ_self _)
set_option maxHeartbeats 4000000 in
theorem l_grassAll {g : GZ} {A : HA} {a : Nat} {d : Nat → Nat} {σ : Rw} (hL : Ly A a d σ) (hv : Lv A.I a d σ) (hW : RowW σ) (hC : ∀ c, c < 80 → CelF σ c)  : Ct g wI yX2_grassAll (.code yX2_grassAll cX2_grassAll 3 (Option.some Jvm.ClassFile.FieldType.int)) 1 0 0 [.ref a] (A) (fun u A' => u = nI (allG σ) ∧ A' = A) fw_no := by
  refine Ct.of [some (.ref a), none, none] (by decide) rfl rfl fun z C hx hnm E => ?_
  have hS := hW.s
  have hw3 := hS.w3
  have hw10 := hS.w10
  have hh8 := hS.h8
  have hc80 := hS.c80
  have k6 := hW.k6
  have g6 := hW.g6
  refine r_iconst (pc := 0) C dX2_grassAll_0 ci_0 ?_
  refine r_istore_1 (pc := 1) C dX2_grassAll_1 rfl ?_
  refine r_iconst (pc := 2) C dX2_grassAll_2 ci_0 ?_
  refine r_istore_2 (pc := 3) C dX2_grassAll_3 rfl ?_
  have lp4_1 : ∀ (fu : Nat) (c : Nat) (hc : c ≤ rC σ), rC σ - c < fu → wa g z 0 0 (A) 4 [some (.ref a), some (.int (nI (smN (grassF σ) c))), some (.int (nI (c)))] [] := by
    intro fu
    induction fu with
    | zero => intro c  hc hm4; exact absurd hm4 (Nat.not_lt_zero _)
    | succ fu ih4 =>
      intro c  hc hm4
      refine r_iload_2 (pc := 4) C dX2_grassAll_4 ?_
      refine r_aload_0 (pc := 5) C dX2_grassAll_5 ?_
      refine r_getI (pc := 6) C fl_X2_14_2 (ly_g hL) rfl dX2_grassAll_6 ?_
      refine r_top hv.c ?_
      refine r_icmp_ge (pc := 9) (tgt := 27) C dX2_grassAll_9 (by decide) (fun b9 => ?_) (fun b9 => ?_)
      · skip
        have b9 := (nI_le2 (by omega) (by omega)).mp b9
        refine r_iload_1 (pc := 27) C dX2_grassAll_27 ?_
        refine r_iret (pc := 28) C E rfl (Nat.le_refl _) (Nat.le_refl _) dX2_grassAll_28 ?_
        have e9 : c = rC σ := by omega
        subst e9
        exact ⟨rfl, rfl⟩
      · skip
        have b9 := (not_congr (nI_le2 (by omega) (by omega))).mp b9
        refine r_iload_1 (pc := 12) C dX2_grassAll_12 ?_
        refine r_aload_0 (pc := 13) C dX2_grassAll_13 ?_
        refine r_getR (pc := 14) C fl_X2_18_2 (ly_g hL) rfl (ly_rf hL 6 (by decide)) dX2_grassAll_14 ?_
        refine r_iload_2 (pc := 17) C dX2_grassAll_17 ?_
        refine r_iald (pc := 18) C (ly_gf hL 6 (by decide)) rfl rfl (lt_eq (by omega) (ly_nf hL 6 (by decide) (by decide))) (by omega) dX2_grassAll_18 ?_
        refine r_top (show _ = nI (grassF σ c) from ((hv.grass (by omega)).trans (hW.c (by omega))).trans (congrArg nI (grF_c (hC c (by omega))).symm)) ?_
        refine r_iadd (pc := 19) C dX2_grassAll_19 ?_
        refine r_top (nI_add _ _) ?_
        refine r_istore_1 (pc := 20) C dX2_grassAll_20 rfl ?_
        refine r_iinc_2 (pc := 21) C dX2_grassAll_21 (nI_inc _) rfl ?_
        refine r_goto (pc := 24) (tgt := 4) C dX2_grassAll_24 (by decide) ?_
        exact ih4 (c + 1) (by omega) (by omega)
  exact lp4_1 _ 0 (by omega) (Nat.lt_succ_self _)
set_option maxHeartbeats 4000000 in
theorem l_cellsOf {g : GZ} {A : HA} {a : Nat} {d : Nat → Nat} {σ : Rw} (hL : Ly A a d σ) (hv : Lv A.I a d σ) (hW : RowW σ) {k : Nat} (hk : k < 1000) : Ct g wI yX2_cellsOf (.code yX2_cellsOf cX2_cellsOf 4 (Option.some Jvm.ClassFile.FieldType.int)) 2 0 0 [.ref a, .int (nI (k))] (A) (fun u A' => u = nI (manyR σ k) ∧ A' = A) fw_no := by
  refine Ct.of [some (.ref a), some (.int (nI (k))), none, none] (by decide) rfl rfl fun z C hx hnm E => ?_
  have hS := hW.s
  have hw3 := hS.w3
  have hw10 := hS.w10
  have hh8 := hS.h8
  have hc80 := hS.c80
  have k6 := hW.k6
  have g6 := hW.g6
  refine r_iconst (pc := 0) C dX2_cellsOf_0 ci_0 ?_
  refine r_istore_2 (pc := 1) C dX2_cellsOf_1 rfl ?_
  refine r_iconst (pc := 2) C dX2_cellsOf_2 ci_0 ?_
  refine r_istore_3 (pc := 3) C dX2_cellsOf_3 rfl ?_
  have lp4_1 : ∀ (fu : Nat) (c : Nat) (hc : c ≤ rC σ), rC σ - c < fu → wa g z 0 0 (A) 4 [some (.ref a), some (.int (nI (k))), some (.int (nI (smN (fun c => b01 (decide (σ (153 + 5 * c + 0) = nI k))) c))), some (.int (nI (c)))] [] := by
    intro fu
    induction fu with
    | zero => intro c  hc hm4; exact absurd hm4 (Nat.not_lt_zero _)
    | succ fu ih4 =>
      intro c  hc hm4
      refine r_iload_3 (pc := 4) C dX2_cellsOf_4 ?_
      refine r_aload_0 (pc := 5) C dX2_cellsOf_5 ?_
      refine r_getI (pc := 6) C fl_X2_14_2 (ly_g hL) rfl dX2_cellsOf_6 ?_
      refine r_top hv.c ?_
      refine r_icmp_ge (pc := 9) (tgt := 39) C dX2_cellsOf_9 (by decide) (fun b9 => ?_) (fun b9 => ?_)
      · skip
        have b9 := (nI_le2 (by omega) (by omega)).mp b9
        refine r_iload_2 (pc := 39) C dX2_cellsOf_39 ?_
        refine r_iret (pc := 40) C E rfl (Nat.le_refl _) (Nat.le_refl _) dX2_cellsOf_40 ?_
        have e9 : c = rC σ := by omega
        subst e9
        exact ⟨rfl, rfl⟩
      · skip
        have b9 := (not_congr (nI_le2 (by omega) (by omega))).mp b9
        refine r_iload_2 (pc := 12) C dX2_cellsOf_12 ?_
        refine r_aload_0 (pc := 13) C dX2_cellsOf_13 ?_
        refine r_getR (pc := 14) C fl_X2_53_2 (ly_g hL) rfl (ly_rf hL 5 (by decide)) dX2_cellsOf_14 ?_
        refine r_iload_3 (pc := 17) C dX2_cellsOf_17 ?_
        refine r_iald (pc := 18) C (ly_gf hL 5 (by decide)) rfl rfl (lt_eq (by omega) (ly_nf hL 5 (by decide) (by decide))) (by omega) dX2_cellsOf_18 ?_
        refine r_top (hv.kind (by omega)) ?_
        refine r_iload_1 (pc := 19) C dX2_cellsOf_19 ?_
        refine r_icmp_ne (pc := 20) (tgt := 27) C dX2_cellsOf_20 (by decide) (fun b20 => ?_) (fun b20 => ?_)
        · skip
          refine r_iconst (pc := 27) C dX2_cellsOf_27 ci_0 ?_
          refine r_SN1io (pc := 28) C (l_bitN (n := 0) (by decide)) snl_X2_119 (by decide) (Nat.le_refl _) (Nat.le_refl _) (Nat.le_of_ble_eq_true rfl) rfl dX2_cellsOf_28 (fun u2 A2 hc2 => ?_)
          refine r_top hc2.1 ?_
          refine r_eqA hc2.2 ?_
          clear hc2 A2 u2
          refine r_iadd (pc := 31) C dX2_cellsOf_31 ?_
          refine r_top (nI_add _ _) ?_
          refine r_istore_2 (pc := 32) C dX2_cellsOf_32 rfl ?_
          refine r_iinc_3 (pc := 33) C dX2_cellsOf_33 (nI_inc _) rfl ?_
          refine r_goto (pc := 36) (tgt := 4) C dX2_cellsOf_36 (by decide) ?_
          first | rw [smN_1 (f := fun c => b01 (decide (σ (153 + 5 * c + 0) = nI k))) (b01_t (by assumption))] | rw [smN_0 (f := fun c => b01 (decide (σ (153 + 5 * c + 0) = nI k))) (b01_f (by assumption))]
          exact ih4 (c + 1) (by omega) (by omega)
        · skip
          refine r_iconst (pc := 23) C dX2_cellsOf_23 ci_1 ?_
          refine r_goto (pc := 24) (tgt := 28) C dX2_cellsOf_24 (by decide) ?_
          refine r_SN1io (pc := 28) C (l_bitN (n := 1) (by decide)) snl_X2_119 (by decide) (Nat.le_refl _) (Nat.le_refl _) (Nat.le_of_ble_eq_true rfl) rfl dX2_cellsOf_28 (fun u3 A3 hc3 => ?_)
          refine r_top hc3.1 ?_
          refine r_eqA hc3.2 ?_
          clear hc3 A3 u3
          refine r_iadd (pc := 31) C dX2_cellsOf_31 ?_
          refine r_top (nI_add _ _) ?_
          refine r_istore_2 (pc := 32) C dX2_cellsOf_32 rfl ?_
          refine r_iinc_3 (pc := 33) C dX2_cellsOf_33 (nI_inc _) rfl ?_
          refine r_goto (pc := 36) (tgt := 4) C dX2_cellsOf_36 (by decide) ?_
          first | rw [smN_1 (f := fun c => b01 (decide (σ (153 + 5 * c + 0) = nI k))) (b01_t (by assumption))] | rw [smN_0 (f := fun c => b01 (decide (σ (153 + 5 * c + 0) = nI k))) (b01_f (by assumption))]
          exact ih4 (c + 1) (by omega) (by omega)
  exact lp4_1 _ 0 (by omega) (Nat.lt_succ_self _)
set_option maxHeartbeats 4000000 in
theorem l_bareAll {g : GZ} {A : HA} {a : Nat} {d : Nat → Nat} {σ : Rw} (hL : Ly A a d σ) (hv : Lv A.I a d σ) (hW : RowW σ)  : Ct g wI yX2_bareAll (.code yX2_bareAll cX2_bareAll 3 (Option.some Jvm.ClassFile.FieldType.int)) 2 0 0 [.ref a] (A) (fun u A' => u = nI (bareR σ) ∧ A' = A) fw_no := by
  refine Ct.of [some (.ref a), none, none] (by decide) rfl rfl fun z C hx hnm E => ?_
  have hS := hW.s
  have hw3 := hS.w3
  have hw10 := hS.w10
  have hh8 := hS.h8
  have hc80 := hS.c80
  have k6 := hW.k6
  have g6 := hW.g6
  refine r_iconst (pc := 0) C dX2_bareAll_0 ci_0 ?_
  refine r_istore_1 (pc := 1) C dX2_bareAll_1 rfl ?_
  refine r_iconst (pc := 2) C dX2_bareAll_2 ci_0 ?_
  refine r_istore_2 (pc := 3) C dX2_bareAll_3 rfl ?_
  have lp4_1 : ∀ (fu : Nat) (c : Nat) (hc : c ≤ rC σ), rC σ - c < fu → wa g z 0 0 (A) 4 [some (.ref a), some (.int (nI (smN (fun c => b01 (decide (bare σ c))) c))), some (.int (nI (c)))] [] := by
    intro fu
    induction fu with
    | zero => intro c  hc hm4; exact absurd hm4 (Nat.not_lt_zero _)
    | succ fu ih4 =>
      intro c  hc hm4
      refine r_iload_2 (pc := 4) C dX2_bareAll_4 ?_
      refine r_aload_0 (pc := 5) C dX2_bareAll_5 ?_
      refine r_getI (pc := 6) C fl_X2_14_2 (ly_g hL) rfl dX2_bareAll_6 ?_
      refine r_top hv.c ?_
      refine r_icmp_ge (pc := 9) (tgt := 46) C dX2_bareAll_9 (by decide) (fun b9 => ?_) (fun b9 => ?_)
      · skip
        have b9 := (nI_le2 (by omega) (by omega)).mp b9
        refine r_iload_1 (pc := 46) C dX2_bareAll_46 ?_
        refine r_iret (pc := 47) C E rfl (Nat.le_refl _) (Nat.le_refl _) dX2_bareAll_47 ?_
        have e9 : c = rC σ := by omega
        subst e9
        exact ⟨rfl, rfl⟩
      · skip
        have b9 := (not_congr (nI_le2 (by omega) (by omega))).mp b9
        refine r_iload_1 (pc := 12) C dX2_bareAll_12 ?_
        refine r_aload_0 (pc := 13) C dX2_bareAll_13 ?_
        refine r_iload_2 (pc := 14) C dX2_bareAll_14 ?_
        refine r_V1io (pc := 15) C (l_isGrass hL hv hW (by omega)) vl_X2_123 (ly_g hL) (by decide) (Nat.le_refl _) (Nat.le_refl _) (Nat.le_of_ble_eq_true rfl) rfl dX2_bareAll_15 (fun u2 A2 hc2 => ?_)
        refine r_top hc2.1 ?_
        refine r_eqA hc2.2 ?_
        clear hc2 A2 u2
        refine r_if_eq (pc := 18) (tgt := 34) C dX2_bareAll_18 (by decide) (fun b18 => ?_) (fun b18 => ?_)
        · skip
          have b18 := bI_0.mp b18
          refine r_iconst (pc := 34) C dX2_bareAll_34 ci_0 ?_
          refine r_SN1io (pc := 35) C (l_bitN (n := 0) (by decide)) snl_X2_119 (by decide) (Nat.le_refl _) (Nat.le_refl _) (Nat.le_of_ble_eq_true rfl) rfl dX2_bareAll_35 (fun u3 A3 hc3 => ?_)
          refine r_top hc3.1 ?_
          refine r_eqA hc3.2 ?_
          clear hc3 A3 u3
          refine r_iadd (pc := 38) C dX2_bareAll_38 ?_
          refine r_top (nI_add _ _) ?_
          refine r_istore_1 (pc := 39) C dX2_bareAll_39 rfl ?_
          refine r_iinc_2 (pc := 40) C dX2_bareAll_40 (nI_inc _) rfl ?_
          refine r_goto (pc := 43) (tgt := 4) C dX2_bareAll_43 (by decide) ?_
          first | rw [smN_1 (f := fun c => b01 (decide (bare σ c))) (b01_t ⟨‹_›, ‹_›⟩)] | rw [smN_0 (f := fun c => b01 (decide (bare σ c))) (b01_f (fun q => absurd q.1 ‹_›))] | rw [smN_0 (f := fun c => b01 (decide (bare σ c))) (b01_f (fun q => absurd q.2 ‹_›))]
          exact ih4 (c + 1) (by omega) (by omega)
        · skip
          have b18 := bI_n.mp b18
          refine r_aload_0 (pc := 21) C dX2_bareAll_21 ?_
          refine r_getR (pc := 22) C fl_X2_18_2 (ly_g hL) rfl (ly_rf hL 6 (by decide)) dX2_bareAll_22 ?_
          refine r_iload_2 (pc := 25) C dX2_bareAll_25 ?_
          refine r_iald (pc := 26) C (ly_gf hL 6 (by decide)) rfl rfl (lt_eq (by omega) (ly_nf hL 6 (by decide) (by decide))) (by omega) dX2_bareAll_26 ?_
          refine r_top (hv.grass (by omega)) ?_
          refine r_if_ne (pc := 27) (tgt := 34) C dX2_bareAll_27 (by decide) (fun b27 => ?_) (fun b27 => ?_)
          · skip
            refine r_iconst (pc := 34) C dX2_bareAll_34 ci_0 ?_
            refine r_SN1io (pc := 35) C (l_bitN (n := 0) (by decide)) snl_X2_119 (by decide) (Nat.le_refl _) (Nat.le_refl _) (Nat.le_of_ble_eq_true rfl) rfl dX2_bareAll_35 (fun u4 A4 hc4 => ?_)
            refine r_top hc4.1 ?_
            refine r_eqA hc4.2 ?_
            clear hc4 A4 u4
            refine r_iadd (pc := 38) C dX2_bareAll_38 ?_
            refine r_top (nI_add _ _) ?_
            refine r_istore_1 (pc := 39) C dX2_bareAll_39 rfl ?_
            refine r_iinc_2 (pc := 40) C dX2_bareAll_40 (nI_inc _) rfl ?_
            refine r_goto (pc := 43) (tgt := 4) C dX2_bareAll_43 (by decide) ?_
            first | rw [smN_1 (f := fun c => b01 (decide (bare σ c))) (b01_t ⟨‹_›, ‹_›⟩)] | rw [smN_0 (f := fun c => b01 (decide (bare σ c))) (b01_f (fun q => absurd q.1 ‹_›))] | rw [smN_0 (f := fun c => b01 (decide (bare σ c))) (b01_f (fun q => absurd q.2 ‹_›))]
            exact ih4 (c + 1) (by omega) (by omega)
          · skip
            refine r_iconst (pc := 30) C dX2_bareAll_30 ci_1 ?_
            refine r_goto (pc := 31) (tgt := 35) C dX2_bareAll_31 (by decide) ?_
            refine r_SN1io (pc := 35) C (l_bitN (n := 1) (by decide)) snl_X2_119 (by decide) (Nat.le_refl _) (Nat.le_refl _) (Nat.le_of_ble_eq_true rfl) rfl dX2_bareAll_35 (fun u5 A5 hc5 => ?_)
            refine r_top hc5.1 ?_
            refine r_eqA hc5.2 ?_
            clear hc5 A5 u5
            refine r_iadd (pc := 38) C dX2_bareAll_38 ?_
            refine r_top (nI_add _ _) ?_
            refine r_istore_1 (pc := 39) C dX2_bareAll_39 rfl ?_
            refine r_iinc_2 (pc := 40) C dX2_bareAll_40 (nI_inc _) rfl ?_
            refine r_goto (pc := 43) (tgt := 4) C dX2_bareAll_43 (by decide) ?_
            first | rw [smN_1 (f := fun c => b01 (decide (bare σ c))) (b01_t ⟨‹_›, ‹_›⟩)] | rw [smN_0 (f := fun c => b01 (decide (bare σ c))) (b01_f (fun q => absurd q.1 ‹_›))] | rw [smN_0 (f := fun c => b01 (decide (bare σ c))) (b01_f (fun q => absurd q.2 ‹_›))]
            exact ih4 (c + 1) (by omega) (by omega)
  exact lp4_1 _ 0 (by omega) (Nat.lt_succ_self _)
set_option maxHeartbeats 4000000 in
theorem u_X14_isOpen {g : GZ} {A : HA} {q : Nat} {mk : MethodId} {a : Nat} {d : Nat → Nat} {σ : Rw} (hL : Ly A a d σ) (hv : Lv A.I a d σ) (hW : RowW σ) (hC : ∀ c, c < 80 → CelF σ c) {c : Nat} (hc : c < rC σ) (hmk : g.s.methodNamed? yX14_isOpen = some mk) : CtU g wI mk 1 0 0 [.ref q, .ref a, .int (nI (c))] (A) (fun u A' => u = bI (opn σ 0 c) ∧ A' = A) fw_no := by
  refine CtU.of [some (.ref q), some (.ref a), some (.int (nI (c)))] (by decide) rfl rfl q1020 hmk fun z C hx hnm E => ?_
  have hc80 := hW.s.c80
  refine r_aload_1 (pc := 0) C dX14_isOpen_0 ?_
  refine r_ngetR (pc := 1) C fn_X14_7_2 (ly_g hL) rfl (ly_rf hL 10 (by decide)) dX14_isOpen_1 ?_
  refine r_iload_2 (pc := 4) C dX14_isOpen_4 ?_
  refine r_zald (pc := 5) C (ly_gf hL 10 (by decide)) rfl rfl (lt_eq (by omega) (ly_nf hL 10 (by decide) (by decide))) (by omega) dX14_isOpen_5 ?_
  refine r_top ((hv.fence hc).trans (fen_bI (hC c (by omega)))) ?_
  refine r_if_ne (pc := 6) (tgt := 13) C dX14_isOpen_6 (by decide) (fun b6 => ?_) (fun b6 => ?_)
  · skip
    have b6 := bI_n.mp b6
    refine r_iconst (pc := 13) C dX14_isOpen_13 ci_0 ?_
    refine r_iret (pc := 14) C E nar_0 (Nat.le_refl _) (Nat.le_refl _) dX14_isOpen_14 ?_
    first
      | exact ⟨bI_1 (by show (!decide (fenced σ c)) = true; rw [decide_eq_false (by assumption)]; rfl), rfl⟩
      | exact ⟨bI_00 (by show ¬ (!decide (fenced σ c)) = true; rw [decide_eq_true (by assumption)]; decide), rfl⟩
  · skip
    have b6 := bI_0.mp b6
    refine r_iconst (pc := 9) C dX14_isOpen_9 ci_1 ?_
    refine r_goto (pc := 10) (tgt := 14) C dX14_isOpen_10 (by decide) ?_
    refine r_iret (pc := 14) C E nar_1 (Nat.le_refl _) (Nat.le_refl _) dX14_isOpen_14 ?_
    first
      | exact ⟨bI_1 (by show (!decide (fenced σ c)) = true; rw [decide_eq_false (by assumption)]; rfl), rfl⟩
      | exact ⟨bI_00 (by show ¬ (!decide (fenced σ c)) = true; rw [decide_eq_true (by assumption)]; decide), rfl⟩
set_option maxHeartbeats 4000000 in
theorem u_X15_isOpen {g : GZ} {A : HA} {q : Nat} {mk : MethodId} {a : Nat} {d : Nat → Nat} {σ : Rw} (hL : Ly A a d σ) (hv : Lv A.I a d σ) (hW : RowW σ) (hC : ∀ c, c < 80 → CelF σ c) {c : Nat} (hc : c < rC σ) (hmk : g.s.methodNamed? yX15_isOpen = some mk) : CtU g wI mk 1 0 0 [.ref q, .ref a, .int (nI (c))] (A) (fun u A' => u = bI (opn σ 1 c) ∧ A' = A) fw_no := by
  refine CtU.of [some (.ref q), some (.ref a), some (.int (nI (c)))] (by decide) rfl rfl q1023 hmk fun z C hx hnm E => ?_
  refine r_iconst (pc := 0) C dX15_isOpen_0 ci_1 ?_
  refine r_iret (pc := 1) C E nar_1 (Nat.le_refl _) (Nat.le_refl _) dX15_isOpen_1 ?_
  exact ⟨bI_1 rfl, rfl⟩
set_option maxHeartbeats 4000000 in
theorem u_X13_isOpen {g : GZ} {A : HA} {q : Nat} {mk : MethodId} {a : Nat} {d : Nat → Nat} {σ : Rw} (hL : Ly A a d σ) (hv : Lv A.I a d σ) (hW : RowW σ) (hC : ∀ c, c < 80 → CelF σ c) {c : Nat} (hc : c < rC σ) (hmk : g.s.methodNamed? yX13_isOpen = some mk) : CtU g wI mk 1 0 0 [.ref q, .ref a, .int (nI (c))] (A) (fun u A' => u = bI (opn σ 2 c) ∧ A' = A) fw_no := by
  refine CtU.of [some (.ref q), some (.ref a), some (.int (nI (c)))] (by decide) rfl rfl q1026 hmk fun z C hx hnm E => ?_
  have hc80 := hW.s.c80
  refine r_aload_1 (pc := 0) C dX13_isOpen_0 ?_
  refine r_ngetR (pc := 1) C fn_X13_9_2 (ly_g hL) rfl (ly_rf hL 5 (by decide)) dX13_isOpen_1 ?_
  refine r_iload_2 (pc := 4) C dX13_isOpen_4 ?_
  refine r_iald (pc := 5) C (ly_gf hL 5 (by decide)) rfl rfl (lt_eq (by omega) (ly_nf hL 5 (by decide) (by decide))) (by omega) dX13_isOpen_5 ?_
  refine r_top (hv.kind hc) ?_
  refine r_if_eq (pc := 6) (tgt := 13) C dX13_isOpen_6 (by decide) (fun b6 => ?_) (fun b6 => ?_)
  · skip
    refine r_iconst (pc := 13) C dX13_isOpen_13 ci_0 ?_
    refine r_iret (pc := 14) C E nar_0 (Nat.le_refl _) (Nat.le_refl _) dX13_isOpen_14 ?_
    first
      | exact ⟨bI_1 (by show (!decide (σ (153 + 5 * c + 0) = 0)) = true; rw [decide_eq_false (by assumption)]; rfl), rfl⟩
      | exact ⟨bI_00 (by show ¬ (!decide (σ (153 + 5 * c + 0) = 0)) = true; rw [decide_eq_true (by assumption)]; decide), rfl⟩
  · skip
    refine r_iconst (pc := 9) C dX13_isOpen_9 ci_1 ?_
    refine r_goto (pc := 10) (tgt := 14) C dX13_isOpen_10 (by decide) ?_
    refine r_iret (pc := 14) C E nar_1 (Nat.le_refl _) (Nat.le_refl _) dX13_isOpen_14 ?_
    first
      | exact ⟨bI_1 (by show (!decide (σ (153 + 5 * c + 0) = 0)) = true; rw [decide_eq_false (by assumption)]; rfl), rfl⟩
      | exact ⟨bI_00 (by show ¬ (!decide (σ (153 + 5 * c + 0) = 0)) = true; rw [decide_eq_true (by assumption)]; decide), rfl⟩
theorem al_X14 : AL RX2 152 RX14 yX14_isOpen cX14_isOpen 3 (Option.some Jvm.ClassFile.FieldType.boolean) 2 := ⟨by decide, "LawnPaths$Ground", ⟨"LawnPaths$Ground", "isOpen", "(LLawnPaths$Lawn;I)Z"⟩, ⟨by decide, by decide, by decide +kernel⟩, q1015, q1017, q1016, q1018, q1019, q1020⟩
theorem al_X15 : AL RX2 152 RX15 yX15_isOpen cX15_isOpen 3 (Option.some Jvm.ClassFile.FieldType.boolean) 2 := ⟨by decide, "LawnPaths$Ground", ⟨"LawnPaths$Ground", "isOpen", "(LLawnPaths$Lawn;I)Z"⟩, ⟨by decide, by decide, by decide +kernel⟩, q1015, q1017, q1016, q1021, q1022, q1023⟩
theorem al_X13 : AL RX2 152 RX13 yX13_isOpen cX13_isOpen 3 (Option.some Jvm.ClassFile.FieldType.boolean) 2 := ⟨by decide, "LawnPaths$Ground", ⟨"LawnPaths$Ground", "isOpen", "(LLawnPaths$Lawn;I)Z"⟩, ⟨by decide, by decide, by decide +kernel⟩, q1015, q1017, q1016, q1024, q1025, q1026⟩
section
variable {g : GZ} {z : ZX} {cc : ByteArray} {nL d0 mc ms k n : Nat} {A : HA} {pc : Nat} {lv : List (Option Value)} {st : List Value}
theorem r_isOpen (C : CX g z cc RX2 nL d0 mc ms) {a q m c : Nat} {d : Nat → Nat} {σ : Rw} (hG : GO g q m) (hm : m < 3) (hL : Ly A a d σ) (hv : Lv A.I a d σ) (hW : RowW σ) (hC : ∀ c, c < 80 → CelF σ c) (hc : c < rC σ) (hdd : 1 < d0) (hk : k + 0 ≤ mc) (hs : n + 0 ≤ ms) (hsum : (st.map fun v => v.category).sum ≤ 8) (hlen : lv.length = nL) (hd : decode cc pc = .ok (.invokevirtual 152, 3))
    (kk : wa g z k n A (pc + 3) lv (.int (bI (opn σ m c)) :: st)) : wa g z k n A pc lv (.int (nI c) :: .ref a :: .ref q :: st) := by
  rcases (show m = 0 ∨ m = 1 ∨ m = 2 by omega) with e | e | e <;> subst e <;> obtain ⟨hO, mk, hmk⟩ := hG
  · exact r_callA C (u_X14_isOpen hL hv hW hC hc hmk) al_X14 hmk hO hdd hk hs rfl hsum hlen hd (fun u A1 hu => by obtain ⟨rfl, rfl⟩ := hu; exact kk) (fun _ _ h => h.elim)
  · exact r_callA C (u_X15_isOpen hL hv hW hC hc hmk) al_X15 hmk hO hdd hk hs rfl hsum hlen hd (fun u A1 hu => by obtain ⟨rfl, rfl⟩ := hu; exact kk) (fun _ _ h => h.elim)
  · exact r_callA C (u_X13_isOpen hL hv hW hC hc hmk) al_X13 hmk hO hdd hk hs rfl hsum hlen hd (fun u A1 hu => by obtain ⟨rfl, rfl⟩ := hu; exact kk) (fun _ _ h => h.elim)
end
