/-! THE REFERENCE, 35: a walker's line -/
set_option maxRecDepth 100000
theorem NumI.cong {σ τ : Rw} (h : NumI σ) (e0 : τ 0 = σ 0) (e1 : τ 1 = σ 1) : NumI τ := by
  have x1 : rG τ = rG σ := congrArg Int32.toNatClampNeg e0
  have x2 : rK τ = rK σ := congrArg Int32.toNatClampNeg e1
  unfold NumI
  rw [x1, x2, e0, e1]
  exact h
def k0 (σ : Rw) (s : TS) : TS := mustS (rK σ < 6) 4 s
def kS1 (σ : Rw) (s : TS) : TS := goesS (k0 σ s)
def kW1 (σ : Rw) (B : Nat → Nat) (L : Nat) (s : TS) : Rw := newW σ B L False (75 + 13 * rK σ) (kS1 σ s)
def kS2 (σ : Rw) (B : Nat → Nat) (L : Nat) (s : TS) : TS := newS σ B L False (kS1 σ s)
def kFr (σ : Rw) (B : Nat → Nat) (L : Nat) (s : TS) : Nat := fndN (kW1 σ B L s) B L True (-1) (kS2 σ B L s)
def kS3 (σ : Rw) (B : Nat → Nat) (L : Nat) (s : TS) : TS := fndS (kW1 σ B L s) B L True (-1) (kS2 σ B L s)
def kW2 (σ : Rw) (B : Nat → Nat) (L : Nat) (s : TS) : Rw := upd (kW1 σ B L s) (75 + 13 * rK σ + 7) (nI (kFr σ B L s))
def kTo (σ : Rw) (B : Nat → Nat) (L : Nat) (s : TS) : Nat := fndN (kW2 σ B L s) B L True (nI (kFr σ B L s)) (kS3 σ B L s)
def kS4 (σ : Rw) (B : Nat → Nat) (L : Nat) (s : TS) : TS := fndS (kW2 σ B L s) B L True (nI (kFr σ B L s)) (kS3 σ B L s)
def kW3 (σ : Rw) (B : Nat → Nat) (L : Nat) (s : TS) : Rw := upd (kW2 σ B L s) (75 + 13 * rK σ + 8) (nI (kTo σ B L s))
def kS5 (σ : Rw) (B : Nat → Nat) (L : Nat) (s : TS) : TS := numS B L 0 9 (kS4 σ B L s)
def kW4 (σ : Rw) (B : Nat → Nat) (L : Nat) (s : TS) : Rw := upd (kW3 σ B L s) (75 + 13 * rK σ + 9) (nI (numN B L 0 9 (kS4 σ B L s)))
def kS6 (σ : Rw) (B : Nat → Nat) (L : Nat) (s : TS) : TS := numS B L 1 9 (kS5 σ B L s)
def kW5 (σ : Rw) (B : Nat → Nat) (L : Nat) (s : TS) : Rw := upd (kW4 σ B L s) (75 + 13 * rK σ + 10) (nI (numN B L 1 9 (kS5 σ B L s)))
def kW6 (σ : Rw) (B : Nat → Nat) (L : Nat) (s : TS) : Rw := upd (kW5 σ B L s) 1 (nI (rK σ + 1))
def walkW (σ : Rw) (B : Nat → Nat) (L : Nat) (s : TS) : Rw := if (k0 σ s).e = 0 then kW6 σ B L s else σ
def walkS (σ : Rw) (B : Nat → Nat) (L : Nat) (s : TS) : TS := if (k0 σ s).e = 0 then kS6 σ B L s else k0 σ s
theorem k0_lt {σ : Rw} {s : TS} (h : (k0 σ s).e = 0) : rK σ < 6 := by
  unfold k0 mustS at h
  split at h
  · rename_i q
    exact q.elim id (fun q => absurd h q)
  · cases h
theorem kW1_x {σ : Rw} {B : Nat → Nat} {L : Nat} {s : TS} {j : Nat} (h : j < 75) : kW1 σ B L s j = σ j := newW_x (by omega)
theorem kW2_x {σ : Rw} {B : Nat → Nat} {L : Nat} {s : TS} {j : Nat} (h : j < 75) : kW2 σ B L s j = σ j := (pk_un (by omega)).trans (kW1_x h)
theorem kW5_x {σ : Rw} {B : Nat → Nat} {L : Nat} {s : TS} {j : Nat} (h : j < 75) : kW5 σ B L s j = σ j := (pk_un (by omega)).trans ((pk_un (by omega)).trans ((pk_un (by omega)).trans (kW2_x h)))
set_option maxHeartbeats 4000000 in
theorem m_walkerLine {g : GZ} {A : HA} {t : Nat} {σ κ π τ : Nat → Int32} (hT : Tw A t) {s : TS} {B : Nat → Nat} {L : Nat} (hB : BufI (A.I (t + 8)) B L) (hτL : τ 12 = nI L) (ht : TOk L s) (hN : NumI σ) : Ct g wV yX6_walkerLine (.code yX6_walkerLine cX6_walkerLine 3 (Option.none : Option Jvm.ClassFile.FieldType)) 6 0 0 [.ref t] (S5 A t σ κ π (stS τ s)) (fun u A' => A' = S5 A t (walkW σ B L s) κ π (stS τ (walkS σ B L s))) fw_no := by
  refine Ct.of [some (.ref t), none, none] (by decide) rfl rfl fun z C hx hnm E => ?_
  have hBl := hB.l
  have ha := ht.a
  have he := ht.e
  have hG := hN.2.1
  have hG6 := hN.2.2
  have ht0 : TOk L (k0 σ s) := mustS_ok ht (by omega) (by omega)
  have he0 := ht0.e
  have ht1 : TOk L (kS1 σ s) := goesS_ok ht0
  have ht2 : TOk L (kS2 σ B L s) := newS_ok ht1
  have ht3 : TOk L (kS3 σ B L s) := fndS_ok ht2
  have ht4 : TOk L (kS4 σ B L s) := fndS_ok ht3
  have ht5 : TOk L (kS5 σ B L s) := numS_ok ht4
  have hN1 : NumI (kW1 σ B L s) := hN.cong (kW1_x (by omega)) (kW1_x (by omega))
  have hN2 : NumI (kW2 σ B L s) := hN.cong (kW2_x (by omega)) (kW2_x (by omega))
  refine r_aload_0 (pc := 0) C dX6_walkerLine_0 ?_
  refine r_aload_0 (pc := 1) C dX6_walkerLine_1 ?_
  refine r_getR (pc := 2) C fl_X6_7_6 (tw_g hT) rfl (tw_r1 hT) dX6_walkerLine_2 ?_
  refine r_iconst (pc := 5) C dX6_walkerLine_5 ci_1 ?_
  refine r_iald (pc := 6) C (tw_g1 hT) rfl rfl (lt_eq (by omega) (tw_n1 hT)) (by omega) dX6_walkerLine_6 ?_
  refine r_top (congrFun (S5_1 _ _ _ _ _ _) _) ?_
  refine r_top hG ?_
  refine r_bipush (pc := 7) C dX6_walkerLine_7 cb_6 ?_
  refine r_icmp_ge (pc := 9) (tgt := 16) C dX6_walkerLine_9 (by decide) (fun b9 => ?_) (fun b9 => ?_)
  · skip
    have b9 := (nI_le2 (by omega) (by omega)).mp b9
    refine r_iconst (pc := 16) C dX6_walkerLine_16 ci_0 ?_
    refine r_iconst (pc := 17) C dX6_walkerLine_17 ci_4 ?_
    refine r_V2vo (pc := 18) C (s_must0 (by exact hT) hB hτL ht (rK σ < 6) (by omega)) vl_X6_217 (tw_g hT) (by decide) (Nat.le_refl _) (Nat.le_refl _) (Nat.le_of_ble_eq_true rfl) rfl dX6_walkerLine_18 (fun u1 A1 hc1 => ?_)
    refine r_eqA (A' := S5 A t σ κ π (stS τ (k0 σ s))) hc1 ?_
    clear hc1 A1 u1
    refine r_aload_0 (pc := 21) C dX6_walkerLine_21 ?_
    refine r_getI (pc := 22) C fl_X6_208_6 (tw_g hT) rfl dX6_walkerLine_22 ?_
    refine r_top (congrFun (S5_0 _ _ _ _ _ _) _) ?_
    refine r_top (st_16 _ _ _ _ _ _) ?_
    refine r_top (rfl : nI _ = nI (k0 σ s).e) ?_
    refine r_if_eq (pc := 25) (tgt := 29) C dX6_walkerLine_25 (by decide) (fun b25 => ?_) (fun b25 => ?_)
    · skip
      have b25 := (nI_eq0 (by omega)).mp b25
      have hg6 := k0_lt b25
      refine r_aload_0 (pc := 29) C dX6_walkerLine_29 ?_
      refine r_V0vo (pc := 30) C (s_goes (by exact hT) hB hτL ht0) vl_X6_242 (tw_g hT) (by decide) (Nat.le_refl _) (Nat.le_refl _) (Nat.le_of_ble_eq_true rfl) rfl dX6_walkerLine_30 (fun u2 A2 hc2 => ?_)
      refine r_eqA (A' := S5 A t σ κ π (stS τ (kS1 σ s))) hc2 ?_
      clear hc2 A2 u2
      refine r_aload_0 (pc := 33) C dX6_walkerLine_33 ?_
      refine r_getR (pc := 34) C fl_X6_7_6 (tw_g hT) rfl (tw_r1 hT) dX6_walkerLine_34 ?_
      refine r_iconst (pc := 37) C dX6_walkerLine_37 ci_1 ?_
      refine r_iald (pc := 38) C (tw_g1 hT) rfl rfl (lt_eq (by omega) (tw_n1 hT)) (by omega) dX6_walkerLine_38 ?_
      refine r_top (congrFun (S5_1 _ _ _ _ _ _) _) ?_
      refine r_top hG ?_
      refine r_istore_1 (pc := 39) C dX6_walkerLine_39 rfl ?_
      refine r_aload_0 (pc := 40) C dX6_walkerLine_40 ?_
      refine r_bipush (pc := 41) C dX6_walkerLine_41 cb_75 ?_
      refine r_bipush (pc := 43) C dX6_walkerLine_43 cb_13 ?_
      refine r_iload_1 (pc := 45) C dX6_walkerLine_45 ?_
      refine r_imul (pc := 46) C dX6_walkerLine_46 ?_
      refine r_top (pk_mul _ _) ?_
      refine r_iadd (pc := 47) C dX6_walkerLine_47 ?_
      refine r_top (nI_add _ _) ?_
      refine r_iconst (pc := 48) C dX6_walkerLine_48 ci_0 ?_
      refine r_V2vo (pc := 49) C (s_newName0 (by exact hT) hB hτL ht1 hN (by omega)) vl_X6_257 (tw_g hT) (by decide) (Nat.le_refl _) (Nat.le_refl _) (Nat.le_of_ble_eq_true rfl) rfl dX6_walkerLine_49 (fun u3 A3 hc3 => ?_)
      refine r_eqA (A' := S5 A t (kW1 σ B L s) κ π (stS τ (kS2 σ B L s))) hc3 ?_
      clear hc3 A3 u3
      refine r_aload_0 (pc := 52) C dX6_walkerLine_52 ?_
      refine r_iconst (pc := 53) C dX6_walkerLine_53 ci_1 ?_
      refine r_iconst (pc := 54) C dX6_walkerLine_54 ci_m1 ?_
      refine r_V2io (pc := 55) C (s_mustBe1 (by exact hT) hB hτL ht2 hN1) vl_X6_263 (tw_g hT) (by decide) (Nat.le_refl _) (Nat.le_refl _) (Nat.le_of_ble_eq_true rfl) rfl dX6_walkerLine_55 (fun u4 A4 hc4 => ?_)
      refine r_top (hc4.1.trans (rfl : _ = nI (kFr σ B L s))) ?_
      refine r_eqA (A' := S5 A t (kW1 σ B L s) κ π (stS τ (kS3 σ B L s))) hc4.2 ?_
      clear hc4 A4 u4
      refine r_istore_2 (pc := 58) C dX6_walkerLine_58 rfl ?_
      refine r_aload_0 (pc := 59) C dX6_walkerLine_59 ?_
      refine r_iload_1 (pc := 60) C dX6_walkerLine_60 ?_
      refine r_bipush (pc := 61) C dX6_walkerLine_61 cb_7 ?_
      refine r_iload_2 (pc := 63) C dX6_walkerLine_63 ?_
      refine r_V3vo (pc := 64) C (m_puts (by exact hT) (S5_1 _ _ _ _ _ _)) vl_X6_154 (tw_g hT) (by decide) (Nat.le_refl _) (Nat.le_refl _) (Nat.le_of_ble_eq_true rfl) rfl dX6_walkerLine_64 (fun u5 A5 hc5 => ?_)
      refine r_eqA hc5 ?_
      clear hc5 A5 u5
      refine r_eqA (S5_w1 _ _ _ _ _ _ _) ?_
      refine r_aload_0 (pc := 67) C dX6_walkerLine_67 ?_
      refine r_iload_1 (pc := 68) C dX6_walkerLine_68 ?_
      refine r_bipush (pc := 69) C dX6_walkerLine_69 cb_8 ?_
      refine r_aload_0 (pc := 71) C dX6_walkerLine_71 ?_
      refine r_iconst (pc := 72) C dX6_walkerLine_72 ci_1 ?_
      refine r_iload_2 (pc := 73) C dX6_walkerLine_73 ?_
      refine r_V2io (pc := 74) C (s_mustBe1 (σ := kW2 σ B L s) (by exact hT) hB hτL ht3 hN2) vl_X6_263 (tw_g hT) (by decide) (Nat.le_refl _) (Nat.le_refl _) (Nat.le_of_ble_eq_true rfl) rfl dX6_walkerLine_74 (fun u6 A6 hc6 => ?_)
      refine r_top (hc6.1.trans (rfl : _ = nI (kTo σ B L s))) ?_
      refine r_eqA (A' := S5 A t (kW2 σ B L s) κ π (stS τ (kS4 σ B L s))) hc6.2 ?_
      clear hc6 A6 u6
      refine r_V3vo (pc := 77) C (m_puts (by exact hT) (S5_1 _ _ _ _ _ _)) vl_X6_154 (tw_g hT) (by decide) (Nat.le_refl _) (Nat.le_refl _) (Nat.le_of_ble_eq_true rfl) rfl dX6_walkerLine_77 (fun u7 A7 hc7 => ?_)
      refine r_eqA hc7 ?_
      clear hc7 A7 u7
      refine r_eqA (S5_w1 _ _ _ _ _ _ _) ?_
      refine r_aload_0 (pc := 80) C dX6_walkerLine_80 ?_
      refine r_iload_1 (pc := 81) C dX6_walkerLine_81 ?_
      refine r_bipush (pc := 82) C dX6_walkerLine_82 cb_9 ?_
      refine r_aload_0 (pc := 84) C dX6_walkerLine_84 ?_
      refine r_iconst (pc := 85) C dX6_walkerLine_85 ci_0 ?_
      refine r_bipush (pc := 86) C dX6_walkerLine_86 cb_9 ?_
      refine r_V2io (pc := 88) C (s_number (by exact hT) hB hτL ht4 (lo := 0) (hi := 9) (by omega) (by omega)) vl_X6_254 (tw_g hT) (by decide) (Nat.le_refl _) (Nat.le_refl _) (Nat.le_of_ble_eq_true rfl) rfl dX6_walkerLine_88 (fun u8 A8 hc8 => ?_)
      refine r_top hc8.1 ?_
      refine r_eqA (A' := S5 A t (kW3 σ B L s) κ π (stS τ (kS5 σ B L s))) hc8.2 ?_
      clear hc8 A8 u8
      refine r_V3vo (pc := 91) C (m_puts (by exact hT) (S5_1 _ _ _ _ _ _)) vl_X6_154 (tw_g hT) (by decide) (Nat.le_refl _) (Nat.le_refl _) (Nat.le_of_ble_eq_true rfl) rfl dX6_walkerLine_91 (fun u9 A9 hc9 => ?_)
      refine r_eqA hc9 ?_
      clear hc9 A9 u9
      refine r_eqA (S5_w1 _ _ _ _ _ _ _) ?_
      refine r_aload_0 (pc := 94) C dX6_walkerLine_94 ?_
      refine r_iload_1 (pc := 95) C dX6_walkerLine_95 ?_
      refine r_bipush (pc := 96) C dX6_walkerLine_96 cb_10 ?_
      refine r_aload_0 (pc := 98) C dX6_walkerLine_98 ?_
      refine r_iconst (pc := 99) C dX6_walkerLine_99 ci_1 ?_
      refine r_bipush (pc := 100) C dX6_walkerLine_100 cb_9 ?_
      refine r_V2io (pc := 102) C (s_number (by exact hT) hB hτL ht5 (lo := 1) (hi := 9) (by omega) (by omega)) vl_X6_254 (tw_g hT) (by decide) (Nat.le_refl _) (Nat.le_refl _) (Nat.le_of_ble_eq_true rfl) rfl dX6_walkerLine_102 (fun u10 A10 hc10 => ?_)
      refine r_top hc10.1 ?_
      refine r_eqA (A' := S5 A t (kW4 σ B L s) κ π (stS τ (kS6 σ B L s))) hc10.2 ?_
      clear hc10 A10 u10
      refine r_V3vo (pc := 105) C (m_puts (by exact hT) (S5_1 _ _ _ _ _ _)) vl_X6_154 (tw_g hT) (by decide) (Nat.le_refl _) (Nat.le_refl _) (Nat.le_of_ble_eq_true rfl) rfl dX6_walkerLine_105 (fun u11 A11 hc11 => ?_)
      refine r_eqA hc11 ?_
      clear hc11 A11 u11
      refine r_eqA (S5_w1 _ _ _ _ _ _ _) ?_
      refine r_aload_0 (pc := 108) C dX6_walkerLine_108 ?_
      refine r_getR (pc := 109) C fl_X6_7_6 (tw_g hT) rfl (tw_r1 hT) dX6_walkerLine_109 ?_
      refine r_iconst (pc := 112) C dX6_walkerLine_112 ci_1 ?_
      refine r_dup2 (pc := 113) C dX6_walkerLine_113 rfl rfl ?_
      refine r_iald (pc := 114) C (tw_g1 hT) rfl rfl (lt_eq (by omega) (tw_n1 hT)) (by omega) dX6_walkerLine_114 ?_
      refine r_top (congrFun (S5_1 _ _ _ _ _ _) _) ?_
      refine r_top ((kW5_x (σ := σ) (B := B) (L := L) (s := s) (j := 1) (by omega)).trans hG) ?_
      refine r_iconst (pc := 115) C dX6_walkerLine_115 ci_1 ?_
      refine r_iadd (pc := 116) C dX6_walkerLine_116 ?_
      refine r_top (nI_add _ _) ?_
      refine r_iast (pc := 117) C (tw_g1 hT) rfl rfl (lt_eq (by omega) (tw_n1 hT)) (by omega) dX6_walkerLine_117 ?_
      refine r_eqA (S5_u1 _ _ _ _ _ _ _ _) ?_
      refine r_vret (pc := 118) C E (Nat.le_refl _) (Nat.le_refl _) dX6_walkerLine_118 ?_
      unfold walkW walkS
      rw [if_pos b25, if_pos b25]
      rfl
    · skip
      have b25 := (not_congr (nI_eq0 (by omega))).mp b25
      refine r_vret (pc := 28) C E (Nat.le_refl _) (Nat.le_refl _) dX6_walkerLine_28 ?_
      unfold walkW walkS
      rw [if_neg b25, if_neg b25]
  · skip
    have b9 := (not_congr (nI_le2 (by omega) (by omega))).mp b9
    refine r_iconst (pc := 12) C dX6_walkerLine_12 ci_1 ?_
    refine r_goto (pc := 13) (tgt := 17) C dX6_walkerLine_13 (by decide) ?_
    refine r_iconst (pc := 17) C dX6_walkerLine_17 ci_4 ?_
    refine r_V2vo (pc := 18) C (s_must1 (by exact hT) hB hτL ht (rK σ < 6) (by omega)) vl_X6_217 (tw_g hT) (by decide) (Nat.le_refl _) (Nat.le_refl _) (Nat.le_of_ble_eq_true rfl) rfl dX6_walkerLine_18 (fun u12 A12 hc12 => ?_)
    refine r_eqA (A' := S5 A t σ κ π (stS τ (k0 σ s))) hc12 ?_
    clear hc12 A12 u12
    refine r_aload_0 (pc := 21) C dX6_walkerLine_21 ?_
    refine r_getI (pc := 22) C fl_X6_208_6 (tw_g hT) rfl dX6_walkerLine_22 ?_
    refine r_top (congrFun (S5_0 _ _ _ _ _ _) _) ?_
    refine r_top (st_16 _ _ _ _ _ _) ?_
    refine r_top (rfl : nI _ = nI (k0 σ s).e) ?_
    refine r_if_eq (pc := 25) (tgt := 29) C dX6_walkerLine_25 (by decide) (fun b25 => ?_) (fun b25 => ?_)
    · skip
      have b25 := (nI_eq0 (by omega)).mp b25
      have hg6 := k0_lt b25
      refine r_aload_0 (pc := 29) C dX6_walkerLine_29 ?_
      refine r_V0vo (pc := 30) C (s_goes (by exact hT) hB hτL ht0) vl_X6_242 (tw_g hT) (by decide) (Nat.le_refl _) (Nat.le_refl _) (Nat.le_of_ble_eq_true rfl) rfl dX6_walkerLine_30 (fun u13 A13 hc13 => ?_)
      refine r_eqA (A' := S5 A t σ κ π (stS τ (kS1 σ s))) hc13 ?_
      clear hc13 A13 u13
      refine r_aload_0 (pc := 33) C dX6_walkerLine_33 ?_
      refine r_getR (pc := 34) C fl_X6_7_6 (tw_g hT) rfl (tw_r1 hT) dX6_walkerLine_34 ?_
      refine r_iconst (pc := 37) C dX6_walkerLine_37 ci_1 ?_
      refine r_iald (pc := 38) C (tw_g1 hT) rfl rfl (lt_eq (by omega) (tw_n1 hT)) (by omega) dX6_walkerLine_38 ?_
      refine r_top (congrFun (S5_1 _ _ _ _ _ _) _) ?_
      refine r_top hG ?_
      refine r_istore_1 (pc := 39) C dX6_walkerLine_39 rfl ?_
      refine r_aload_0 (pc := 40) C dX6_walkerLine_40 ?_
      refine r_bipush (pc := 41) C dX6_walkerLine_41 cb_75 ?_
      refine r_bipush (pc := 43) C dX6_walkerLine_43 cb_13 ?_
      refine r_iload_1 (pc := 45) C dX6_walkerLine_45 ?_
      refine r_imul (pc := 46) C dX6_walkerLine_46 ?_
      refine r_top (pk_mul _ _) ?_
      refine r_iadd (pc := 47) C dX6_walkerLine_47 ?_
      refine r_top (nI_add _ _) ?_
      refine r_iconst (pc := 48) C dX6_walkerLine_48 ci_0 ?_
      refine r_V2vo (pc := 49) C (s_newName0 (by exact hT) hB hτL ht1 hN (by omega)) vl_X6_257 (tw_g hT) (by decide) (Nat.le_refl _) (Nat.le_refl _) (Nat.le_of_ble_eq_true rfl) rfl dX6_walkerLine_49 (fun u14 A14 hc14 => ?_)
      refine r_eqA (A' := S5 A t (kW1 σ B L s) κ π (stS τ (kS2 σ B L s))) hc14 ?_
      clear hc14 A14 u14
      refine r_aload_0 (pc := 52) C dX6_walkerLine_52 ?_
      refine r_iconst (pc := 53) C dX6_walkerLine_53 ci_1 ?_
      refine r_iconst (pc := 54) C dX6_walkerLine_54 ci_m1 ?_
      refine r_V2io (pc := 55) C (s_mustBe1 (by exact hT) hB hτL ht2 hN1) vl_X6_263 (tw_g hT) (by decide) (Nat.le_refl _) (Nat.le_refl _) (Nat.le_of_ble_eq_true rfl) rfl dX6_walkerLine_55 (fun u15 A15 hc15 => ?_)
      refine r_top (hc15.1.trans (rfl : _ = nI (kFr σ B L s))) ?_
      refine r_eqA (A' := S5 A t (kW1 σ B L s) κ π (stS τ (kS3 σ B L s))) hc15.2 ?_
      clear hc15 A15 u15
      refine r_istore_2 (pc := 58) C dX6_walkerLine_58 rfl ?_
      refine r_aload_0 (pc := 59) C dX6_walkerLine_59 ?_
      refine r_iload_1 (pc := 60) C dX6_walkerLine_60 ?_
      refine r_bipush (pc := 61) C dX6_walkerLine_61 cb_7 ?_
      refine r_iload_2 (pc := 63) C dX6_walkerLine_63 ?_
      refine r_V3vo (pc := 64) C (m_puts (by exact hT) (S5_1 _ _ _ _ _ _)) vl_X6_154 (tw_g hT) (by decide) (Nat.le_refl _) (Nat.le_refl _) (Nat.le_of_ble_eq_true rfl) rfl dX6_walkerLine_64 (fun u16 A16 hc16 => ?_)
      refine r_eqA hc16 ?_
      clear hc16 A16 u16
      refine r_eqA (S5_w1 _ _ _ _ _ _ _) ?_
      refine r_aload_0 (pc := 67) C dX6_walkerLine_67 ?_
      refine r_iload_1 (pc := 68) C dX6_walkerLine_68 ?_
      refine r_bipush (pc := 69) C dX6_walkerLine_69 cb_8 ?_
      refine r_aload_0 (pc := 71) C dX6_walkerLine_71 ?_
      refine r_iconst (pc := 72) C dX6_walkerLine_72 ci_1 ?_
      refine r_iload_2 (pc := 73) C dX6_walkerLine_73 ?_
      refine r_V2io (pc := 74) C (s_mustBe1 (σ := kW2 σ B L s) (by exact hT) hB hτL ht3 hN2) vl_X6_263 (tw_g hT) (by decide) (Nat.le_refl _) (Nat.le_refl _) (Nat.le_of_ble_eq_true rfl) rfl dX6_walkerLine_74 (fun u17 A17 hc17 => ?_)
      refine r_top (hc17.1.trans (rfl : _ = nI (kTo σ B L s))) ?_
      refine r_eqA (A' := S5 A t (kW2 σ B L s) κ π (stS τ (kS4 σ B L s))) hc17.2 ?_
      clear hc17 A17 u17
      refine r_V3vo (pc := 77) C (m_puts (by exact hT) (S5_1 _ _ _ _ _ _)) vl_X6_154 (tw_g hT) (by decide) (Nat.le_refl _) (Nat.le_refl _) (Nat.le_of_ble_eq_true rfl) rfl dX6_walkerLine_77 (fun u18 A18 hc18 => ?_)
      refine r_eqA hc18 ?_
      clear hc18 A18 u18
      refine r_eqA (S5_w1 _ _ _ _ _ _ _) ?_
      refine r_aload_0 (pc := 80) C dX6_walkerLine_80 ?_
      refine r_iload_1 (pc := 81) C dX6_walkerLine_81 ?_
      refine r_bipush (pc := 82) C dX6_walkerLine_82 cb_9 ?_
      refine r_aload_0 (pc := 84) C dX6_walkerLine_84 ?_
      refine r_iconst (pc := 85) C dX6_walkerLine_85 ci_0 ?_
      refine r_bipush (pc := 86) C dX6_walkerLine_86 cb_9 ?_
      refine r_V2io (pc := 88) C (s_number (by exact hT) hB hτL ht4 (lo := 0) (hi := 9) (by omega) (by omega)) vl_X6_254 (tw_g hT) (by decide) (Nat.le_refl _) (Nat.le_refl _) (Nat.le_of_ble_eq_true rfl) rfl dX6_walkerLine_88 (fun u19 A19 hc19 => ?_)
      refine r_top hc19.1 ?_
      refine r_eqA (A' := S5 A t (kW3 σ B L s) κ π (stS τ (kS5 σ B L s))) hc19.2 ?_
      clear hc19 A19 u19
      refine r_V3vo (pc := 91) C (m_puts (by exact hT) (S5_1 _ _ _ _ _ _)) vl_X6_154 (tw_g hT) (by decide) (Nat.le_refl _) (Nat.le_refl _) (Nat.le_of_ble_eq_true rfl) rfl dX6_walkerLine_91 (fun u20 A20 hc20 => ?_)
      refine r_eqA hc20 ?_
      clear hc20 A20 u20
      refine r_eqA (S5_w1 _ _ _ _ _ _ _) ?_
      refine r_aload_0 (pc := 94) C dX6_walkerLine_94 ?_
      refine r_iload_1 (pc := 95) C dX6_walkerLine_95 ?_
      refine r_bipush (pc := 96) C dX6_walkerLine_96 cb_10 ?_
      refine r_aload_0 (pc := 98) C dX6_walkerLine_98 ?_
      refine r_iconst (pc := 99) C dX6_walkerLine_99 ci_1 ?_
      refine r_bipush (pc := 100) C dX6_walkerLine_100 cb_9 ?_
      refine r_V2io (pc := 102) C (s_number (by exact hT) hB hτL ht5 (lo := 1) (hi := 9) (by omega) (by omega)) vl_X6_254 (tw_g hT) (by decide) (Nat.le_refl _) (Nat.le_refl _) (Nat.le_of_ble_eq_true rfl) rfl dX6_walkerLine_102 (fun u21 A21 hc21 => ?_)
      refine r_top hc21.1 ?_
      refine r_eqA (A' := S5 A t (kW4 σ B L s) κ π (stS τ (kS6 σ B L s))) hc21.2 ?_
      clear hc21 A21 u21
      refine r_V3vo (pc := 105) C (m_puts (by exact hT) (S5_1 _ _ _ _ _ _)) vl_X6_154 (tw_g hT) (by decide) (Nat.le_refl _) (Nat.le_refl _) (Nat.le_of_ble_eq_true rfl) rfl dX6_walkerLine_105 (fun u22 A22 hc22 => ?_)
      refine r_eqA hc22 ?_
      clear hc22 A22 u22
      refine r_eqA (S5_w1 _ _ _ _ _ _ _) ?_
      refine r_aload_0 (pc := 108) C dX6_walkerLine_108 ?_
      refine r_getR (pc := 109) C fl_X6_7_6 (tw_g hT) rfl (tw_r1 hT) dX6_walkerLine_109 ?_
      refine r_iconst (pc := 112) C dX6_walkerLine_112 ci_1 ?_
      refine r_dup2 (pc := 113) C dX6_walkerLine_113 rfl rfl ?_
      refine r_iald (pc := 114) C (tw_g1 hT) rfl rfl (lt_eq (by omega) (tw_n1 hT)) (by omega) dX6_walkerLine_114 ?_
      refine r_top (congrFun (S5_1 _ _ _ _ _ _) _) ?_
      refine r_top ((kW5_x (σ := σ) (B := B) (L := L) (s := s) (j := 1) (by omega)).trans hG) ?_
      refine r_iconst (pc := 115) C dX6_walkerLine_115 ci_1 ?_
      refine r_iadd (pc := 116) C dX6_walkerLine_116 ?_
      refine r_top (nI_add _ _) ?_
      refine r_iast (pc := 117) C (tw_g1 hT) rfl rfl (lt_eq (by omega) (tw_n1 hT)) (by omega) dX6_walkerLine_117 ?_
      refine r_eqA (S5_u1 _ _ _ _ _ _ _ _) ?_
      refine r_vret (pc := 118) C E (Nat.le_refl _) (Nat.le_refl _) dX6_walkerLine_118 ?_
      unfold walkW walkS
      rw [if_pos b25, if_pos b25]
      rfl
    · skip
      have b25 := (not_congr (nI_eq0 (by omega))).mp b25
      refine r_vret (pc := 28) C E (Nat.le_refl _) (Nat.le_refl _) dX6_walkerLine_28 ?_
      unfold walkW walkS
      rw [if_neg b25, if_neg b25]
