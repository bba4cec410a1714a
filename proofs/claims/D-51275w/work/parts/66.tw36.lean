/-! THE REFERENCE, 36: the lawn's line, a statement -/
set_option maxRecDepth 100000
abbrev seesW (B : Nat → Nat) (L : Nat) (l : List Nat) (s : TS) : Prop := seesP B L (chs l) l.length s
def l1 (B : Nat → Nat) (L : Nat) (s : TS) : TS := mustS (seesW B L wLawn s) 1 (nextS B L s)
def l2 (B : Nat → Nat) (L : Nat) (s : TS) : TS := goesS (l1 B L s)
def l3 (B : Nat → Nat) (L : Nat) (s : TS) : TS := numS B L 3 10 (l2 B L s)
def l4 (B : Nat → Nat) (L : Nat) (s : TS) : TS := numS B L 3 8 (l3 B L s)
def l5 (B : Nat → Nat) (L : Nat) (s : TS) : TS := numS B L 1 9 (l4 B L s)
def l6 (B : Nat → Nat) (L : Nat) (s : TS) : TS := numS B L 0 9 (l5 B L s)
def lw1 (σ : Rw) (B : Nat → Nat) (L : Nat) (s : TS) : Rw := upd σ 4 (nI (numN B L 3 10 (l2 B L s)))
def lw2 (σ : Rw) (B : Nat → Nat) (L : Nat) (s : TS) : Rw := upd (lw1 σ B L s) 5 (nI (numN B L 3 8 (l3 B L s)))
def lw3 (σ : Rw) (B : Nat → Nat) (L : Nat) (s : TS) : Rw := upd (lw2 σ B L s) 6 (nI (numN B L 1 9 (l4 B L s)))
def lw4 (σ : Rw) (B : Nat → Nat) (L : Nat) (s : TS) : Rw := upd (lw3 σ B L s) 7 (nI (numN B L 0 9 (l5 B L s)))
def nineR (σ : Rw) : Nat → Rw
  | 0 => σ
  | k + 1 => upd (nineR σ k) (153 + 5 * k + 1) (nI 9)
theorem nineR_x {σ : Rw} {j : Nat} (h : j < 153) : ∀ k, nineR σ k j = σ j
  | 0 => rfl
  | k + 1 => (pk_un (by omega)).trans (nineR_x h k)
def lawnW (σ : Rw) (B : Nat → Nat) (L : Nat) (s : TS) : Rw := if (l1 B L s).e = 0 then nineR (lw4 σ B L s) (rC (lw4 σ B L s)) else σ
def lawnS (B : Nat → Nat) (L : Nat) (s : TS) : TS := if (l1 B L s).e = 0 then l6 B L s else l1 B L s
theorem lw4_s {σ : Rw} {B : Nat → Nat} {L : Nat} {s : TS} : RowS (lw4 σ B L s) := by
  have h1 := numN_in (B := B) (L := L) (lo := 3) (hi := 10) (s := l2 B L s) (by omega)
  have h2 := numN_in (B := B) (L := L) (lo := 3) (hi := 8) (s := l3 B L s) (by omega)
  have e4 : lw4 σ B L s 4 = nI (numN B L 3 10 (l2 B L s)) := (pk_un (by omega)).trans ((pk_un (by omega)).trans ((pk_un (by omega)).trans pk_us))
  have e5 : lw4 σ B L s 5 = nI (numN B L 3 8 (l3 B L s)) := (pk_un (by omega)).trans ((pk_un (by omega)).trans pk_us)
  have w : rW (lw4 σ B L s) = numN B L 3 10 (l2 B L s) := by unfold rW; rw [e4]; exact nI_nat (by omega)
  have h : rH (lw4 σ B L s) = numN B L 3 8 (l3 B L s) := by unfold rH; rw [e5]; exact nI_nat (by omega)
  refine ⟨⟨by rw [e4, w], by rw [w]; exact h1⟩, ⟨by rw [e5, h], by rw [h]; exact h2⟩⟩
theorem nine_s {σ : Rw} (h : RowS σ) (k : Nat) : RowS (nineR σ k) := h.cong (nineR_x (by omega) k) (nineR_x (by omega) k)
theorem nine_c {σ : Rw} (k : Nat) : rC (nineR σ k) = rC σ := by
  unfold rC rW rH
  rw [nineR_x (by omega), nineR_x (by omega)]
set_option maxHeartbeats 4000000 in
theorem m_lawnLine {g : GZ} {A : HA} {t : Nat} {σ κ π τ : Nat → Int32} (hT : Tw A t) {s : TS} {B : Nat → Nat} {L : Nat} (hB : BufI (A.I (t + 8)) B L) (hτL : τ 12 = nI L) (ha : s.a ≤ L) (he : s.e ≤ 4) (hK : TwK g A) : Ct g wV yX6_lawnLine (.code yX6_lawnLine cX6_lawnLine 2 (Option.none : Option Jvm.ClassFile.FieldType)) 7 0 0 [.ref t] (S5 A t σ κ π (stS τ s)) (fun u A' => A' = S5 A t (lawnW σ B L s) κ π (stS τ (lawnS B L s))) fw_no := by
  refine Ct.of [some (.ref t), none] (by decide) rfl rfl fun z C hx hnm E => ?_
  have hBl := hB.l
  obtain ⟨q248, v248, k248, s248⟩ := hK.2.1
  have ht0 : TOk L (nextS B L s) := nextS_ok0 ha he
  have ht1 : TOk L (l1 B L s) := mustS_ok ht0 (by omega) (by omega)
  have he1 := ht1.e
  have ht2 : TOk L (l2 B L s) := goesS_ok ht1
  have ht3 : TOk L (l3 B L s) := numS_ok ht2
  have ht4 : TOk L (l4 B L s) := numS_ok ht3
  have ht5 : TOk L (l5 B L s) := numS_ok ht4
  have hS4 := lw4_s (σ := σ) (B := B) (L := L) (s := s)
  have hc80 := hS4.c80
  refine r_aload_0 (pc := 0) C dX6_lawnLine_0 ?_
  refine r_aload_0 (pc := 1) C dX6_lawnLine_1 ?_
  refine r_ldcS (pc := 2) C k248 dX6_lawnLine_2 ?_
  refine r_V1io (pc := 4) C (m_sees (by exact hT) hB hτL hK.1 s248 (by omega) he) vl_X6_250 (tw_g hT) (by decide) (Nat.le_refl _) (Nat.le_refl _) (Nat.le_of_ble_eq_true rfl) rfl dX6_lawnLine_4 (fun u1 A1 hc1 => ?_)
  refine r_top hc1.1 ?_
  refine r_eqA (A' := S5 A t σ κ π (stS τ (nextS B L s))) hc1.2 ?_
  clear hc1 A1 u1
  refine r_iconst (pc := 7) C dX6_lawnLine_7 ci_1 ?_
  refine r_V2vo (pc := 8) C (s_must (by exact hT) hB hτL ht0) vl_X6_217 (tw_g hT) (by decide) (Nat.le_refl _) (Nat.le_refl _) (Nat.le_of_ble_eq_true rfl) rfl dX6_lawnLine_8 (fun u2 A2 hc2 => ?_)
  refine r_eqA (A' := S5 A t σ κ π (stS τ (l1 B L s))) hc2 ?_
  clear hc2 A2 u2
  refine r_aload_0 (pc := 11) C dX6_lawnLine_11 ?_
  refine r_getI (pc := 12) C fl_X6_208_6 (tw_g hT) rfl dX6_lawnLine_12 ?_
  refine r_top (congrFun (S5_0 _ _ _ _ _ _) _) ?_
  refine r_top (st_16 _ _ _ _ _ _) ?_
  refine r_top (rfl : nI _ = nI (l1 B L s).e) ?_
  refine r_if_eq (pc := 15) (tgt := 19) C dX6_lawnLine_15 (by decide) (fun b15 => ?_) (fun b15 => ?_)
  · skip
    have b15 := (nI_eq0 (by omega)).mp b15
    refine r_aload_0 (pc := 19) C dX6_lawnLine_19 ?_
    refine r_V0vo (pc := 20) C (s_goes (by exact hT) hB hτL ht1) vl_X6_242 (tw_g hT) (by decide) (Nat.le_refl _) (Nat.le_refl _) (Nat.le_of_ble_eq_true rfl) rfl dX6_lawnLine_20 (fun u3 A3 hc3 => ?_)
    refine r_eqA (A' := S5 A t σ κ π (stS τ (l2 B L s))) hc3 ?_
    clear hc3 A3 u3
    refine r_aload_0 (pc := 23) C dX6_lawnLine_23 ?_
    refine r_getR (pc := 24) C fl_X6_7_6 (tw_g hT) rfl (tw_r1 hT) dX6_lawnLine_24 ?_
    refine r_iconst (pc := 27) C dX6_lawnLine_27 ci_4 ?_
    refine r_aload_0 (pc := 28) C dX6_lawnLine_28 ?_
    refine r_iconst (pc := 29) C dX6_lawnLine_29 ci_3 ?_
    refine r_bipush (pc := 30) C dX6_lawnLine_30 cb_10 ?_
    refine r_V2io (pc := 32) C (s_number (σ := σ) (by exact hT) hB hτL ht2 (lo := 3) (hi := 10) (by omega) (by omega)) vl_X6_254 (tw_g hT) (by decide) (Nat.le_refl _) (Nat.le_refl _) (Nat.le_of_ble_eq_true rfl) rfl dX6_lawnLine_32 (fun u4 A4 hc4 => ?_)
    refine r_top hc4.1 ?_
    refine r_eqA (A' := S5 A t σ κ π (stS τ (l3 B L s))) hc4.2 ?_
    clear hc4 A4 u4
    refine r_iast (pc := 35) C (tw_g1 hT) rfl rfl (lt_eq (by omega) (tw_n1 hT)) (by omega) dX6_lawnLine_35 ?_
    refine r_eqA (S5_u1 _ _ _ _ _ _ _ _) ?_
    refine r_aload_0 (pc := 36) C dX6_lawnLine_36 ?_
    refine r_getR (pc := 37) C fl_X6_7_6 (tw_g hT) rfl (tw_r1 hT) dX6_lawnLine_37 ?_
    refine r_iconst (pc := 40) C dX6_lawnLine_40 ci_5 ?_
    refine r_aload_0 (pc := 41) C dX6_lawnLine_41 ?_
    refine r_iconst (pc := 42) C dX6_lawnLine_42 ci_3 ?_
    refine r_bipush (pc := 43) C dX6_lawnLine_43 cb_8 ?_
    refine r_V2io (pc := 45) C (s_number (σ := (lw1 σ B L s)) (by exact hT) hB hτL ht3 (lo := 3) (hi := 8) (by omega) (by omega)) vl_X6_254 (tw_g hT) (by decide) (Nat.le_refl _) (Nat.le_refl _) (Nat.le_of_ble_eq_true rfl) rfl dX6_lawnLine_45 (fun u5 A5 hc5 => ?_)
    refine r_top hc5.1 ?_
    refine r_eqA (A' := S5 A t (lw1 σ B L s) κ π (stS τ (l4 B L s))) hc5.2 ?_
    clear hc5 A5 u5
    refine r_iast (pc := 48) C (tw_g1 hT) rfl rfl (lt_eq (by omega) (tw_n1 hT)) (by omega) dX6_lawnLine_48 ?_
    refine r_eqA (S5_u1 _ _ _ _ _ _ _ _) ?_
    refine r_aload_0 (pc := 49) C dX6_lawnLine_49 ?_
    refine r_getR (pc := 50) C fl_X6_7_6 (tw_g hT) rfl (tw_r1 hT) dX6_lawnLine_50 ?_
    refine r_bipush (pc := 53) C dX6_lawnLine_53 cb_6 ?_
    refine r_aload_0 (pc := 55) C dX6_lawnLine_55 ?_
    refine r_iconst (pc := 56) C dX6_lawnLine_56 ci_1 ?_
    refine r_bipush (pc := 57) C dX6_lawnLine_57 cb_9 ?_
    refine r_V2io (pc := 59) C (s_number (σ := (lw2 σ B L s)) (by exact hT) hB hτL ht4 (lo := 1) (hi := 9) (by omega) (by omega)) vl_X6_254 (tw_g hT) (by decide) (Nat.le_refl _) (Nat.le_refl _) (Nat.le_of_ble_eq_true rfl) rfl dX6_lawnLine_59 (fun u6 A6 hc6 => ?_)
    refine r_top hc6.1 ?_
    refine r_eqA (A' := S5 A t (lw2 σ B L s) κ π (stS τ (l5 B L s))) hc6.2 ?_
    clear hc6 A6 u6
    refine r_iast (pc := 62) C (tw_g1 hT) rfl rfl (lt_eq (by omega) (tw_n1 hT)) (by omega) dX6_lawnLine_62 ?_
    refine r_eqA (S5_u1 _ _ _ _ _ _ _ _) ?_
    refine r_aload_0 (pc := 63) C dX6_lawnLine_63 ?_
    refine r_getR (pc := 64) C fl_X6_7_6 (tw_g hT) rfl (tw_r1 hT) dX6_lawnLine_64 ?_
    refine r_bipush (pc := 67) C dX6_lawnLine_67 cb_7 ?_
    refine r_aload_0 (pc := 69) C dX6_lawnLine_69 ?_
    refine r_iconst (pc := 70) C dX6_lawnLine_70 ci_0 ?_
    refine r_bipush (pc := 71) C dX6_lawnLine_71 cb_9 ?_
    refine r_V2io (pc := 73) C (s_number (σ := (lw3 σ B L s)) (by exact hT) hB hτL ht5 (lo := 0) (hi := 9) (by omega) (by omega)) vl_X6_254 (tw_g hT) (by decide) (Nat.le_refl _) (Nat.le_refl _) (Nat.le_of_ble_eq_true rfl) rfl dX6_lawnLine_73 (fun u7 A7 hc7 => ?_)
    refine r_top hc7.1 ?_
    refine r_eqA (A' := S5 A t (lw3 σ B L s) κ π (stS τ (l6 B L s))) hc7.2 ?_
    clear hc7 A7 u7
    refine r_iast (pc := 76) C (tw_g1 hT) rfl rfl (lt_eq (by omega) (tw_n1 hT)) (by omega) dX6_lawnLine_76 ?_
    refine r_eqA (S5_u1 _ _ _ _ _ _ _ _) ?_
    refine r_iconst (pc := 77) C dX6_lawnLine_77 ci_0 ?_
    refine r_istore_1 (pc := 78) C dX6_lawnLine_78 rfl ?_
    have lp79_8 : ∀ (fu : Nat) (k : Nat) (hk : k ≤ rC (lw4 σ B L s)), rC (lw4 σ B L s) - k < fu → wa g z 0 0 (S5 A t (nineR (lw4 σ B L s) k) κ π (stS τ (l6 B L s))) 79 [some (.ref t), some (.int (nI (k)))] [] := by
      intro fu
      induction fu with
      | zero => intro k  hk hm79; exact absurd hm79 (Nat.not_lt_zero _)
      | succ fu ih79 =>
        intro k  hk hm79
        refine r_iload_1 (pc := 79) C dX6_lawnLine_79 ?_
        refine r_aload_0 (pc := 80) C dX6_lawnLine_80 ?_
        refine r_V0io (pc := 81) C (m_cells (by exact hT) (S5_1 _ _ _ _ _ _) (nine_s hS4 k)) vl_X6_117 (tw_g hT) (by decide) (Nat.le_refl _) (Nat.le_refl _) (Nat.le_of_ble_eq_true rfl) rfl dX6_lawnLine_81 (fun u9 A9 hc9 => ?_)
        refine r_top (hc9.1.trans (congrArg nI (nine_c k))) ?_
        refine r_eqA hc9.2 ?_
        clear hc9 A9 u9
        refine r_icmp_ge (pc := 84) (tgt := 101) C dX6_lawnLine_84 (by decide) (fun b84 => ?_) (fun b84 => ?_)
        · skip
          have b84 := (nI_le2 (by omega) (by omega)).mp b84
          refine r_vret (pc := 101) C E (Nat.le_refl _) (Nat.le_refl _) dX6_lawnLine_101 ?_
          have e9 : k = rC (lw4 σ B L s) := by omega
          subst e9
          unfold lawnW lawnS
          rw [if_pos b15, if_pos b15]
        · skip
          have b84 := (not_congr (nI_le2 (by omega) (by omega))).mp b84
          refine r_aload_0 (pc := 87) C dX6_lawnLine_87 ?_
          refine r_iload_1 (pc := 88) C dX6_lawnLine_88 ?_
          refine r_iconst (pc := 89) C dX6_lawnLine_89 ci_1 ?_
          refine r_bipush (pc := 90) C dX6_lawnLine_90 cb_9 ?_
          refine r_V3vo (pc := 92) C (m_putsCell (by exact hT) (S5_1 _ _ _ _ _ _)) vl_X6_139 (tw_g hT) (by decide) (Nat.le_refl _) (Nat.le_refl _) (Nat.le_of_ble_eq_true rfl) rfl dX6_lawnLine_92 (fun u10 A10 hc10 => ?_)
          refine r_eqA hc10 ?_
          clear hc10 A10 u10
          refine r_eqA (S5_w1 _ _ _ _ _ _ _) ?_
          refine r_iinc_1 (pc := 95) C dX6_lawnLine_95 (nI_inc _) rfl ?_
          refine r_goto (pc := 98) (tgt := 79) C dX6_lawnLine_98 (by decide) ?_
          exact ih79 (k + 1) (by omega) (by omega)
    exact lp79_8 _ 0 (by omega) (Nat.lt_succ_self _)
  · skip
    have b15 := (not_congr (nI_eq0 (by omega))).mp b15
    refine r_vret (pc := 18) C E (Nat.le_refl _) (Nat.le_refl _) dX6_lawnLine_18 ?_
    unfold lawnW lawnS
    rw [if_neg b15, if_neg b15]
