/-! THE REFERENCE, 6: a day -/
set_option maxRecDepth 100000
/-- a sum over the first n -/
def smN (f : Nat → Nat) : Nat → Nat
  | 0 => 0
  | n + 1 => smN f n + f n
theorem smN_le {f : Nat → Nat} {b : Nat} : ∀ n, (∀ j, j < n → f j ≤ b) → smN f n ≤ n * b
  | 0, _ => Nat.zero_le _
  | n + 1, h => by
    have h1 := smN_le n (fun j hj => h j (by omega))
    have h2 := h n (by omega)
    rw [Nat.succ_mul]
    show smN f n + f n ≤ _
    omega
theorem smN_c {f h : Nat → Nat} : ∀ n, (∀ j, j < n → f j = h j) → smN f n = smN h n
  | 0, _ => rfl
  | n + 1, e => by
    show smN f n + f n = smN h n + h n
    rw [smN_c n (fun j hj => e j (by omega)), e n (by omega)]
/-- whether a cell is among the first n of a way -/
def onB (y : Nat → Nat) (c : Nat) : Nat → Bool
  | 0 => false
  | n + 1 => onB y c n || decide (y n = c)
theorem onB_t {y : Nat → Nat} {c : Nat} : ∀ {n}, onB y c n = true ↔ ∃ i, i < n ∧ y i = c
  | 0 => ⟨fun h => (nomatch h), fun ⟨i, h, _⟩ => absurd h (Nat.not_lt_zero _)⟩
  | n + 1 => by
    show (onB y c n || decide (y n = c)) = true ↔ _
    rw [Bool.or_eq_true, onB_t, decide_eq_true_iff]
    constructor
    · rintro (⟨i, h, e⟩ | e)
      · exact ⟨i, by omega, e⟩
      · exact ⟨n, by omega, e⟩
    · rintro ⟨i, h, e⟩
      by_cases q : i = n
      · exact Or.inr (by rw [← q]; exact e)
      · exact Or.inl ⟨i, by omega, e⟩
def b01 (b : Bool) : Nat := if b then 1 else 0
theorem b01_le (b : Bool) : b01 b ≤ 1 := by cases b <;> decide
theorem bI_b01 (p : Prop) [Decidable p] : bI p = nI (b01 (decide p)) := by
  unfold b01
  by_cases h : p
  · rw [bI_t h, decide_eq_true h]; exact nI1.symm
  · rw [bI_f h, decide_eq_false h]; exact nI0.symm
theorem nI_i64 {n : Nat} (h : n < 2147483648) : (nI n).toInt64.toInt = (n : Int) := t_nI64 h
theorem upd_id (f : Nat → Int32) (k : Nat) : upd f k (f k) = f := by
  funext j
  show (if j = k then f k else f j) = f j
  by_cases q : j = k
  · rw [if_pos q, q]
  · rw [if_neg q]
set_option maxHeartbeats 4000000 in
theorem m_isOnWay {g : GZ} {A : HA} {t : Nat} {σ κ π τ : Nat → Int32} (hT : Tw A t) {c : Nat} {y : Nat → Nat} {L : Nat} (hL : L < 80) (hτ : τ 10 = nI (L + 1)) (hπ : ∀ i, i ≤ L → π i = nI (y i)) (hy : ∀ i, i ≤ L → y i < 80) (hc : c < 80) : Ct g wI yX6_isOnWay (.code yX6_isOnWay cX6_isOnWay 3 (Option.some Jvm.ClassFile.FieldType.boolean)) 1 0 0 [.ref t, .int (nI (c))] (S5 A t σ κ π τ) (fun u A' => u = bI (onB y c (L + 1) = true) ∧ A' = S5 A t σ κ π τ) fw_no := by
  refine Ct.of [some (.ref t), some (.int (nI (c))), none] (by decide) rfl rfl fun z C hx hnm E => ?_
  refine r_iconst (pc := 0) C dX6_isOnWay_0 ci_0 ?_
  refine r_istore_2 (pc := 1) C dX6_isOnWay_1 rfl ?_
  have lp2_1 : ∀ (fu : Nat) (k : Nat) (hk : k ≤ L + 1) (hn : ∀ i, i < k → y i ≠ c), L + 1 - k < fu → wa g z 0 0 (S5 A t σ κ π τ) 2 [some (.ref t), some (.int (nI (c))), some (.int (nI (k)))] [] := by
    intro fu
    induction fu with
    | zero => intro k  hk hn hm2; exact absurd hm2 (Nat.not_lt_zero _)
    | succ fu ih2 =>
      intro k  hk hn hm2
      refine r_iload_2 (pc := 2) C dX6_isOnWay_2 ?_
      refine r_aload_0 (pc := 3) C dX6_isOnWay_3 ?_
      refine r_getI (pc := 4) C fl_X6_127_6 (tw_g hT) rfl dX6_isOnWay_4 ?_
      refine r_top (congrFun (S5_0 _ _ _ _ _ _) _) ?_
      refine r_top hτ ?_
      refine r_icmp_ge (pc := 7) (tgt := 28) C dX6_isOnWay_7 (by decide) (fun b7 => ?_) (fun b7 => ?_)
      · skip
        have b7 := (nI_le2 (by omega) (by omega)).mp b7
        refine r_iconst (pc := 28) C dX6_isOnWay_28 ci_0 ?_
        refine r_iret (pc := 29) C E nar_0 (Nat.le_refl _) (Nat.le_refl _) dX6_isOnWay_29 ?_
        exact ⟨bI_00 (fun q => by obtain ⟨i, h, e⟩ := onB_t.mp q; exact hn i (by omega) e), rfl⟩
      · skip
        have b7 := (not_congr (nI_le2 (by omega) (by omega))).mp b7
        refine r_aload_0 (pc := 10) C dX6_isOnWay_10 ?_
        refine r_getR (pc := 11) C fl_X6_28_6 (tw_g hT) rfl (tw_r7 hT) dX6_isOnWay_11 ?_
        refine r_iload_2 (pc := 14) C dX6_isOnWay_14 ?_
        refine r_iald (pc := 15) C (tw_g7 hT) rfl rfl (lt_eq (by omega) (tw_n7 hT)) (by omega) dX6_isOnWay_15 ?_
        refine r_top (congrFun (S5_7 _ _ _ _ _ _) _) ?_
        refine r_top (hπ _ (by omega)) ?_
        have hyk := hy k (by omega)
        refine r_iload_1 (pc := 16) C dX6_isOnWay_16 ?_
        refine r_icmp_ne (pc := 17) (tgt := 22) C dX6_isOnWay_17 (by decide) (fun b17 => ?_) (fun b17 => ?_)
        · skip
          have b17 := (not_congr (nI_eqI (by omega) (by omega))).mp b17
          refine r_iinc_2 (pc := 22) C dX6_isOnWay_22 (nI_inc _) rfl ?_
          refine r_goto (pc := 25) (tgt := 2) C dX6_isOnWay_25 (by decide) ?_
          exact ih2 (k + 1) (by omega) (fun i hi => if q : i = k then by rw [q]; exact b17 else hn i (by omega)) (by omega)
        · skip
          have b17 := (nI_eqI (by omega) (by omega)).mp b17
          refine r_iconst (pc := 20) C dX6_isOnWay_20 ci_1 ?_
          refine r_iret (pc := 21) C E nar_1 (Nat.le_refl _) (Nat.le_refl _) dX6_isOnWay_21 ?_
          exact ⟨bI_1 (onB_t.mpr ⟨k, by omega, b17⟩), rfl⟩
  exact lp2_1 _ 0 (by omega) (fun i h => absurd h (Nat.not_lt_zero _)) (Nat.lt_succ_self _)
set_option maxHeartbeats 4000000 in
theorem m_grassOnWay {g : GZ} {A : HA} {t : Nat} {σ κ π τ : Nat → Int32} (hT : Tw A t) {y : Nat → Nat} {L : Nat} (hL : L < 80) (hτ : τ 10 = nI (L + 1)) (hπ : ∀ i, i ≤ L → π i = nI (y i)) (hy : ∀ i, i ≤ L → y i < 80) : Ct g wI yX6_grassOnWay (.code yX6_grassOnWay cX6_grassOnWay 3 (Option.some Jvm.ClassFile.FieldType.int)) 3 0 0 [.ref t] (S5 A t σ κ π τ) (fun u A' => u = nI (smN (fun i => b01 (decide (σ (153 + 5 * y i + 0) = 0))) (L + 1)) ∧ A' = S5 A t σ κ π τ) fw_no := by
  refine Ct.of [some (.ref t), none, none] (by decide) rfl rfl fun z C hx hnm E => ?_
  refine r_iconst (pc := 0) C dX6_grassOnWay_0 ci_0 ?_
  refine r_istore_1 (pc := 1) C dX6_grassOnWay_1 rfl ?_
  refine r_iconst (pc := 2) C dX6_grassOnWay_2 ci_0 ?_
  refine r_istore_2 (pc := 3) C dX6_grassOnWay_3 rfl ?_
  have lp4_1 : ∀ (fu : Nat) (k : Nat) (hk : k ≤ L + 1), L + 1 - k < fu → wa g z 0 0 (S5 A t σ κ π τ) 4 [some (.ref t), some (.int (nI (smN (fun i => b01 (decide (σ (153 + 5 * y i + 0) = 0))) k))), some (.int (nI (k)))] [] := by
    intro fu
    induction fu with
    | zero => intro k  hk hm4; exact absurd hm4 (Nat.not_lt_zero _)
    | succ fu ih4 =>
      intro k  hk hm4
      refine r_iload_2 (pc := 4) C dX6_grassOnWay_4 ?_
      refine r_aload_0 (pc := 5) C dX6_grassOnWay_5 ?_
      refine r_getI (pc := 6) C fl_X6_127_6 (tw_g hT) rfl dX6_grassOnWay_6 ?_
      refine r_top (congrFun (S5_0 _ _ _ _ _ _) _) ?_
      refine r_top hτ ?_
      refine r_icmp_ge (pc := 9) (tgt := 34) C dX6_grassOnWay_9 (by decide) (fun b9 => ?_) (fun b9 => ?_)
      · skip
        have b9 := (nI_le2 (by omega) (by omega)).mp b9
        refine r_iload_1 (pc := 34) C dX6_grassOnWay_34 ?_
        refine r_iret (pc := 35) C E rfl (Nat.le_refl _) (Nat.le_refl _) dX6_grassOnWay_35 ?_
        have e9 : k = L + 1 := by omega
        subst e9
        exact ⟨rfl, rfl⟩
      · skip
        have b9 := (not_congr (nI_le2 (by omega) (by omega))).mp b9
        refine r_iload_1 (pc := 12) C dX6_grassOnWay_12 ?_
        refine r_aload_0 (pc := 13) C dX6_grassOnWay_13 ?_
        refine r_aload_0 (pc := 14) C dX6_grassOnWay_14 ?_
        refine r_getR (pc := 15) C fl_X6_28_6 (tw_g hT) rfl (tw_r7 hT) dX6_grassOnWay_15 ?_
        refine r_iload_2 (pc := 18) C dX6_grassOnWay_18 ?_
        refine r_iald (pc := 19) C (tw_g7 hT) rfl rfl (lt_eq (by omega) (tw_n7 hT)) (by omega) dX6_grassOnWay_19 ?_
        refine r_top (congrFun (S5_7 _ _ _ _ _ _) _) ?_
        refine r_top (hπ _ (by omega)) ?_
        have hyk := hy k (by omega)
        refine r_V1io (pc := 20) C (m_isGrass (by exact hT) (S5_1 _ _ _ _ _ _)) vl_X6_93 (tw_g hT) (by decide) (Nat.le_refl _) (Nat.le_refl _) (Nat.le_of_ble_eq_true rfl) rfl dX6_grassOnWay_20 (fun u2 A2 hc2 => ?_)
        refine r_top hc2.1 ?_
        refine r_eqA hc2.2 ?_
        clear hc2 A2 u2
        refine r_S1io (pc := 23) C m_truth sl_X6_130 (by decide) (Nat.le_refl _) (Nat.le_refl _) (Nat.le_of_ble_eq_true rfl) rfl dX6_grassOnWay_23 (fun u3 A3 hc3 => ?_)
        refine r_top hc3.1 ?_
        refine r_eqA hc3.2 ?_
        clear hc3 A3 u3
        refine r_top (bI_b01 _) ?_
        refine r_iadd (pc := 26) C dX6_grassOnWay_26 ?_
        refine r_top (nI_add _ _) ?_
        refine r_istore_1 (pc := 27) C dX6_grassOnWay_27 rfl ?_
        refine r_iinc_2 (pc := 28) C dX6_grassOnWay_28 (nI_inc _) rfl ?_
        refine r_goto (pc := 31) (tgt := 4) C dX6_grassOnWay_31 (by decide) ?_
        exact ih4 (k + 1) (by omega) (by omega)
  exact lp4_1 _ 0 (by omega) (Nat.lt_succ_self _)
set_option maxHeartbeats 4000000 in
theorem m_treads {g : GZ} {A : HA} {t : Nat} {σ κ π τ : Nat → Int32} (hT : Tw A t) {c : Nat} (hW : RowW σ) (hc : c < 80) : Ct g wV yX6_treads (.code yX6_treads cX6_treads 3 (Option.none : Option Jvm.ClassFile.FieldType)) 2 0 0 [.ref t, .int (nI (c))] (S5 A t σ κ π τ) (fun u A' => A' = S5 A t (treadR σ c) κ π τ) fw_no := by
  refine Ct.of [some (.ref t), some (.int (nI (c))), none] (by decide) rfl rfl fun z C hx hnm E => ?_
  have h9 := hW.c9 hc
  have hw9 := hW.wt9
  have hd9 := hW.d9
  have hll := lessN_le σ c
  refine r_aload_0 (pc := 0) C dX6_treads_0 ?_
  refine r_iload_1 (pc := 1) C dX6_treads_1 ?_
  refine r_iconst (pc := 2) C dX6_treads_2 ci_1 ?_
  refine r_V2io (pc := 3) C (m_ofCell (by exact hT) (S5_1 _ _ _ _ _ _)) vl_X6_86 (tw_g hT) (by decide) (Nat.le_refl _) (Nat.le_refl _) (Nat.le_of_ble_eq_true rfl) rfl dX6_treads_3 (fun u1 A1 hc1 => ?_)
  refine r_top hc1.1 ?_
  refine r_eqA hc1.2 ?_
  clear hc1 A1 u1
  refine r_top (hW.c hc) ?_
  refine r_aload_0 (pc := 6) C dX6_treads_6 ?_
  refine r_aload_0 (pc := 7) C dX6_treads_7 ?_
  refine r_getR (pc := 8) C fl_X6_7_6 (tw_g hT) rfl (tw_r1 hT) dX6_treads_8 ?_
  refine r_iconst (pc := 11) C dX6_treads_11 ci_3 ?_
  refine r_iald (pc := 12) C (tw_g1 hT) rfl rfl (lt_eq (by omega) (tw_n1 hT)) (by omega) dX6_treads_12 ?_
  refine r_top (congrFun (S5_1 _ _ _ _ _ _) _) ?_
  refine r_top hW.d ?_
  refine r_V1io (pc := 13) C (m_isWetDay (by exact hT) (S5_1 _ _ _ _ _ _) hW.wt hW.wt9) vl_X6_100 (tw_g hT) (by decide) (Nat.le_refl _) (Nat.le_refl _) (Nat.le_of_ble_eq_true rfl) rfl dX6_treads_13 (fun u2 A2 hc2 => ?_)
  refine r_top hc2.1 ?_
  refine r_eqA hc2.2 ?_
  clear hc2 A2 u2
  refine r_if_eq (pc := 16) (tgt := 23) C dX6_treads_16 (by decide) (fun b16 => ?_) (fun b16 => ?_)
  · skip
    have b16 := bI_0.mp b16
    refine r_iconst (pc := 23) C dX6_treads_23 ci_1 ?_
    refine r_min (pc := 24) C q2631 rfl (Nat.le_of_ble_eq_true rfl) (by decide) (Nat.le_refl _) (Nat.le_refl _) dX6_treads_24 ?_
    refine r_top (nI_min (by omega) (by omega)) ?_
    refine r_top (show _ = nI (lessN σ c) by unfold lessN; first | rw [if_pos b16] | rw [if_neg b16]) ?_
    refine r_istore_2 (pc := 27) C dX6_treads_27 rfl ?_
    refine r_aload_0 (pc := 28) C dX6_treads_28 ?_
    refine r_iload_1 (pc := 29) C dX6_treads_29 ?_
    refine r_iconst (pc := 30) C dX6_treads_30 ci_1 ?_
    refine r_aload_0 (pc := 31) C dX6_treads_31 ?_
    refine r_iload_1 (pc := 32) C dX6_treads_32 ?_
    refine r_iconst (pc := 33) C dX6_treads_33 ci_1 ?_
    refine r_V2io (pc := 34) C (m_ofCell (by exact hT) (S5_1 _ _ _ _ _ _)) vl_X6_86 (tw_g hT) (by decide) (Nat.le_refl _) (Nat.le_refl _) (Nat.le_of_ble_eq_true rfl) rfl dX6_treads_34 (fun u3 A3 hc3 => ?_)
    refine r_top hc3.1 ?_
    refine r_eqA hc3.2 ?_
    clear hc3 A3 u3
    refine r_top (hW.c hc) ?_
    refine r_iload_2 (pc := 37) C dX6_treads_37 ?_
    refine r_isub (pc := 38) C dX6_treads_38 ?_
    refine r_top (pk_sub (by omega)) ?_
    refine r_V3vo (pc := 39) C (m_putsCell (by exact hT) (S5_1 _ _ _ _ _ _)) vl_X6_139 (tw_g hT) (by decide) (Nat.le_refl _) (Nat.le_refl _) (Nat.le_of_ble_eq_true rfl) rfl dX6_treads_39 (fun u4 A4 hc4 => ?_)
    refine r_eqA hc4 ?_
    clear hc4 A4 u4
    refine r_eqA (S5_w1 _ _ _ _ _ _ _) ?_
    refine r_aload_0 (pc := 42) C dX6_treads_42 ?_
    refine r_iload_1 (pc := 43) C dX6_treads_43 ?_
    refine r_iconst (pc := 44) C dX6_treads_44 ci_3 ?_
    refine r_aload_0 (pc := 45) C dX6_treads_45 ?_
    refine r_iload_1 (pc := 46) C dX6_treads_46 ?_
    refine r_iconst (pc := 47) C dX6_treads_47 ci_3 ?_
    refine r_V2io (pc := 48) C (m_ofCell (by exact hT) (S5_1 _ _ _ _ _ _)) vl_X6_86 (tw_g hT) (by decide) (Nat.le_refl _) (Nat.le_refl _) (Nat.le_of_ble_eq_true rfl) rfl dX6_treads_48 (fun u5 A5 hc5 => ?_)
    refine r_top hc5.1 ?_
    refine r_eqA hc5.2 ?_
    clear hc5 A5 u5
    refine r_iconst (pc := 51) C dX6_treads_51 ci_1 ?_
    refine r_iadd (pc := 52) C dX6_treads_52 ?_
    refine r_V3vo (pc := 53) C (m_putsCell (by exact hT) (S5_1 _ _ _ _ _ _)) vl_X6_139 (tw_g hT) (by decide) (Nat.le_refl _) (Nat.le_refl _) (Nat.le_of_ble_eq_true rfl) rfl dX6_treads_53 (fun u6 A6 hc6 => ?_)
    refine r_eqA hc6 ?_
    clear hc6 A6 u6
    refine r_eqA (S5_w1 _ _ _ _ _ _ _) ?_
    refine r_aload_0 (pc := 56) C dX6_treads_56 ?_
    refine r_iload_1 (pc := 57) C dX6_treads_57 ?_
    refine r_iconst (pc := 58) C dX6_treads_58 ci_4 ?_
    refine r_aload_0 (pc := 59) C dX6_treads_59 ?_
    refine r_getR (pc := 60) C fl_X6_7_6 (tw_g hT) rfl (tw_r1 hT) dX6_treads_60 ?_
    refine r_iconst (pc := 63) C dX6_treads_63 ci_3 ?_
    refine r_iald (pc := 64) C (tw_g1 hT) rfl rfl (lt_eq (by omega) (tw_n1 hT)) (by omega) dX6_treads_64 ?_
    refine r_top (congrFun (S5_1 _ _ _ _ _ _) _) ?_
    refine r_iconst (pc := 65) C dX6_treads_65 ci_1 ?_
    refine r_iadd (pc := 66) C dX6_treads_66 ?_
    refine r_V3vo (pc := 67) C (m_putsCell (by exact hT) (S5_1 _ _ _ _ _ _)) vl_X6_139 (tw_g hT) (by decide) (Nat.le_refl _) (Nat.le_refl _) (Nat.le_of_ble_eq_true rfl) rfl dX6_treads_67 (fun u7 A7 hc7 => ?_)
    refine r_eqA hc7 ?_
    clear hc7 A7 u7
    refine r_eqA (S5_w1 _ _ _ _ _ _ _) ?_
    refine r_aload_0 (pc := 70) C dX6_treads_70 ?_
    refine r_iconst (pc := 71) C dX6_treads_71 ci_2 ?_
    refine r_iconst (pc := 72) C dX6_treads_72 ci_1 ?_
    refine r_V2vo (pc := 73) C (m_grows (by exact hT) (S5_1 _ _ _ _ _ _)) vl_X6_143 (tw_g hT) (by decide) (Nat.le_refl _) (Nat.le_refl _) (Nat.le_of_ble_eq_true rfl) rfl dX6_treads_73 (fun u8 A8 hc8 => ?_)
    refine r_eqA hc8 ?_
    clear hc8 A8 u8
    refine r_eqA (S5_w1 _ _ _ _ _ _ _) ?_
    refine r_aload_0 (pc := 76) C dX6_treads_76 ?_
    refine r_iconst (pc := 77) C dX6_treads_77 ci_3 ?_
    refine r_iload_2 (pc := 78) C dX6_treads_78 ?_
    refine r_V2vo (pc := 79) C (m_grows (by exact hT) (S5_1 _ _ _ _ _ _)) vl_X6_143 (tw_g hT) (by decide) (Nat.le_refl _) (Nat.le_refl _) (Nat.le_of_ble_eq_true rfl) rfl dX6_treads_79 (fun u9 A9 hc9 => ?_)
    refine r_eqA hc9 ?_
    clear hc9 A9 u9
    refine r_eqA (S5_w1 _ _ _ _ _ _ _) ?_
    refine r_vret (pc := 82) C E (Nat.le_refl _) (Nat.le_refl _) dX6_treads_82 ?_
    exact rfl
  · skip
    have b16 := bI_n.mp b16
    refine r_iconst (pc := 19) C dX6_treads_19 ci_2 ?_
    refine r_goto (pc := 20) (tgt := 24) C dX6_treads_20 (by decide) ?_
    refine r_min (pc := 24) C q2631 rfl (Nat.le_of_ble_eq_true rfl) (by decide) (Nat.le_refl _) (Nat.le_refl _) dX6_treads_24 ?_
    refine r_top (nI_min (by omega) (by omega)) ?_
    refine r_top (show _ = nI (lessN σ c) by unfold lessN; first | rw [if_pos b16] | rw [if_neg b16]) ?_
    refine r_istore_2 (pc := 27) C dX6_treads_27 rfl ?_
    refine r_aload_0 (pc := 28) C dX6_treads_28 ?_
    refine r_iload_1 (pc := 29) C dX6_treads_29 ?_
    refine r_iconst (pc := 30) C dX6_treads_30 ci_1 ?_
    refine r_aload_0 (pc := 31) C dX6_treads_31 ?_
    refine r_iload_1 (pc := 32) C dX6_treads_32 ?_
    refine r_iconst (pc := 33) C dX6_treads_33 ci_1 ?_
    refine r_V2io (pc := 34) C (m_ofCell (by exact hT) (S5_1 _ _ _ _ _ _)) vl_X6_86 (tw_g hT) (by decide) (Nat.le_refl _) (Nat.le_refl _) (Nat.le_of_ble_eq_true rfl) rfl dX6_treads_34 (fun u10 A10 hc10 => ?_)
    refine r_top hc10.1 ?_
    refine r_eqA hc10.2 ?_
    clear hc10 A10 u10
    refine r_top (hW.c hc) ?_
    refine r_iload_2 (pc := 37) C dX6_treads_37 ?_
    refine r_isub (pc := 38) C dX6_treads_38 ?_
    refine r_top (pk_sub (by omega)) ?_
    refine r_V3vo (pc := 39) C (m_putsCell (by exact hT) (S5_1 _ _ _ _ _ _)) vl_X6_139 (tw_g hT) (by decide) (Nat.le_refl _) (Nat.le_refl _) (Nat.le_of_ble_eq_true rfl) rfl dX6_treads_39 (fun u11 A11 hc11 => ?_)
    refine r_eqA hc11 ?_
    clear hc11 A11 u11
    refine r_eqA (S5_w1 _ _ _ _ _ _ _) ?_
    refine r_aload_0 (pc := 42) C dX6_treads_42 ?_
    refine r_iload_1 (pc := 43) C dX6_treads_43 ?_
    refine r_iconst (pc := 44) C dX6_treads_44 ci_3 ?_
    refine r_aload_0 (pc := 45) C dX6_treads_45 ?_
    refine r_iload_1 (pc := 46) C dX6_treads_46 ?_
    refine r_iconst (pc := 47) C dX6_treads_47 ci_3 ?_
    refine r_V2io (pc := 48) C (m_ofCell (by exact hT) (S5_1 _ _ _ _ _ _)) vl_X6_86 (tw_g hT) (by decide) (Nat.le_refl _) (Nat.le_refl _) (Nat.le_of_ble_eq_true rfl) rfl dX6_treads_48 (fun u12 A12 hc12 => ?_)
    refine r_top hc12.1 ?_
    refine r_eqA hc12.2 ?_
    clear hc12 A12 u12
    refine r_iconst (pc := 51) C dX6_treads_51 ci_1 ?_
    refine r_iadd (pc := 52) C dX6_treads_52 ?_
    refine r_V3vo (pc := 53) C (m_putsCell (by exact hT) (S5_1 _ _ _ _ _ _)) vl_X6_139 (tw_g hT) (by decide) (Nat.le_refl _) (Nat.le_refl _) (Nat.le_of_ble_eq_true rfl) rfl dX6_treads_53 (fun u13 A13 hc13 => ?_)
    refine r_eqA hc13 ?_
    clear hc13 A13 u13
    refine r_eqA (S5_w1 _ _ _ _ _ _ _) ?_
    refine r_aload_0 (pc := 56) C dX6_treads_56 ?_
    refine r_iload_1 (pc := 57) C dX6_treads_57 ?_
    refine r_iconst (pc := 58) C dX6_treads_58 ci_4 ?_
    refine r_aload_0 (pc := 59) C dX6_treads_59 ?_
    refine r_getR (pc := 60) C fl_X6_7_6 (tw_g hT) rfl (tw_r1 hT) dX6_treads_60 ?_
    refine r_iconst (pc := 63) C dX6_treads_63 ci_3 ?_
    refine r_iald (pc := 64) C (tw_g1 hT) rfl rfl (lt_eq (by omega) (tw_n1 hT)) (by omega) dX6_treads_64 ?_
    refine r_top (congrFun (S5_1 _ _ _ _ _ _) _) ?_
    refine r_iconst (pc := 65) C dX6_treads_65 ci_1 ?_
    refine r_iadd (pc := 66) C dX6_treads_66 ?_
    refine r_V3vo (pc := 67) C (m_putsCell (by exact hT) (S5_1 _ _ _ _ _ _)) vl_X6_139 (tw_g hT) (by decide) (Nat.le_refl _) (Nat.le_refl _) (Nat.le_of_ble_eq_true rfl) rfl dX6_treads_67 (fun u14 A14 hc14 => ?_)
    refine r_eqA hc14 ?_
    clear hc14 A14 u14
    refine r_eqA (S5_w1 _ _ _ _ _ _ _) ?_
    refine r_aload_0 (pc := 70) C dX6_treads_70 ?_
    refine r_iconst (pc := 71) C dX6_treads_71 ci_2 ?_
    refine r_iconst (pc := 72) C dX6_treads_72 ci_1 ?_
    refine r_V2vo (pc := 73) C (m_grows (by exact hT) (S5_1 _ _ _ _ _ _)) vl_X6_143 (tw_g hT) (by decide) (Nat.le_refl _) (Nat.le_refl _) (Nat.le_of_ble_eq_true rfl) rfl dX6_treads_73 (fun u15 A15 hc15 => ?_)
    refine r_eqA hc15 ?_
    clear hc15 A15 u15
    refine r_eqA (S5_w1 _ _ _ _ _ _ _) ?_
    refine r_aload_0 (pc := 76) C dX6_treads_76 ?_
    refine r_iconst (pc := 77) C dX6_treads_77 ci_3 ?_
    refine r_iload_2 (pc := 78) C dX6_treads_78 ?_
    refine r_V2vo (pc := 79) C (m_grows (by exact hT) (S5_1 _ _ _ _ _ _)) vl_X6_143 (tw_g hT) (by decide) (Nat.le_refl _) (Nat.le_refl _) (Nat.le_of_ble_eq_true rfl) rfl dX6_treads_79 (fun u16 A16 hc16 => ?_)
    refine r_eqA hc16 ?_
    clear hc16 A16 u16
    refine r_eqA (S5_w1 _ _ _ _ _ _ _) ?_
    refine r_vret (pc := 82) C E (Nat.le_refl _) (Nat.le_refl _) dX6_treads_82 ?_
    exact rfl
set_option maxHeartbeats 4000000 in
theorem m_walks {g : GZ} {A : HA} {t : Nat} {σ κ π τ : Nat → Int32} (hT : Tw A t) {w : Nat} (hW : RowW σ) (hw : w < rK σ) (hy : dist σ w 0 (gC σ (wFr σ w)) < 1000000) : Ct g wV yX6_walks (.code yX6_walks cX6_walks 4 (Option.none : Option Jvm.ClassFile.FieldType)) 7 0 0 [.ref t, .int (nI (w))] (S5 A t σ κ π τ) (fun u A' => ∃ κ' π', A' = S5 A t (walkR σ w) κ' π' (upd τ 10 (nI (wl σ w + 1)))) fw_no := by
  refine Ct.of [some (.ref t), some (.int (nI (w))), none, none] (by decide) rfl rfl fun z C hx hnm E => ?_
  have k6 := hW.k6
  have hS := hW.s
  have hc80 := hS.c80
  have hcf := gC_lt hS (hW.G (hW.K hw).1.2)
  have hwf := wy_facts hW hw hy
  have hdl := dist_le hW hcf hy
  have hT10 : (upd τ 10 (nI (wl σ w + 1))) 10 = nI (wl σ w + 1) := pk_us
  refine r_aload_0 (pc := 0) C dX6_walks_0 ?_
  refine r_iload_1 (pc := 1) C dX6_walks_1 ?_
  refine r_V1io (pc := 2) C (m_laysWay (by exact hT) hW hw hy) vl_X6_147 (tw_g hT) (by decide) (Nat.le_refl _) (Nat.le_refl _) (Nat.le_of_ble_eq_true rfl) rfl dX6_walks_2 (fun u1 A1 hc1 => ?_)
  obtain ⟨κL, πL, eA, hπL, eu⟩ := hc1
  refine r_top eu ?_
  refine r_eqA eA ?_
  clear eu eA A1 u1
  refine r_istore_2 (pc := 5) C dX6_walks_5 rfl ?_
  refine r_iconst (pc := 6) C dX6_walks_6 ci_0 ?_
  refine r_istore_3 (pc := 7) C dX6_walks_7 rfl ?_
  have lp8_2 : ∀ (fu : Nat) (k : Nat) (hk : k ≤ wl σ w + 1), wl σ w + 1 - k < fu → wa g z 0 0 (S5 A t (trK σ w k) κL πL (upd τ 10 (nI (wl σ w + 1)))) 8 [some (.ref t), some (.int (nI (w))), some (.int (nI (dist σ w 0 (gC σ (wFr σ w))))), some (.int (nI (k)))] [] := by
    intro fu
    induction fu with
    | zero => intro k  hk hm8; exact absurd hm8 (Nat.not_lt_zero _)
    | succ fu ih8 =>
      intro k  hk hm8
      obtain ⟨hSm, hMv⟩ := trK_keep (w := w) hW k (fun i hi => by have := hwf.1 i (by omega); omega)
      have hV := hW.same hSm hMv
      refine r_iload_3 (pc := 8) C dX6_walks_8 ?_
      refine r_aload_0 (pc := 9) C dX6_walks_9 ?_
      refine r_getI (pc := 10) C fl_X6_127_6 (tw_g hT) rfl dX6_walks_10 ?_
      refine r_top (congrFun (S5_0 _ _ _ _ _ _) _) ?_
      refine r_top hT10 ?_
      refine r_icmp_ge (pc := 13) (tgt := 45) C dX6_walks_13 (by decide) (fun b13 => ?_) (fun b13 => ?_)
      · skip
        have b13 := (nI_le2 (by omega) (by omega)).mp b13
        refine r_aload_0 (pc := 45) C dX6_walks_45 ?_
        refine r_iload_1 (pc := 46) C dX6_walks_46 ?_
        refine r_bipush (pc := 47) C dX6_walks_47 cb_11 ?_
        refine r_aload_0 (pc := 49) C dX6_walks_49 ?_
        refine r_iload_1 (pc := 50) C dX6_walks_50 ?_
        refine r_bipush (pc := 51) C dX6_walks_51 cb_11 ?_
        refine r_V2io (pc := 53) C (m_of (by exact hT) (S5_1 _ _ _ _ _ _)) vl_X6_103 (tw_g hT) (by decide) (Nat.le_refl _) (Nat.le_refl _) (Nat.le_of_ble_eq_true rfl) rfl dX6_walks_53 (fun u3 A3 hc3 => ?_)
        refine r_top hc3.1 ?_
        refine r_eqA hc3.2 ?_
        clear hc3 A3 u3
        refine r_iconst (pc := 56) C dX6_walks_56 ci_1 ?_
        refine r_iadd (pc := 57) C dX6_walks_57 ?_
        refine r_V3vo (pc := 58) C (m_puts (by exact hT) (S5_1 _ _ _ _ _ _)) vl_X6_154 (tw_g hT) (by decide) (Nat.le_refl _) (Nat.le_refl _) (Nat.le_of_ble_eq_true rfl) rfl dX6_walks_58 (fun u4 A4 hc4 => ?_)
        refine r_eqA hc4 ?_
        clear hc4 A4 u4
        refine r_eqA (S5_w1 _ _ _ _ _ _ _) ?_
        refine r_aload_0 (pc := 61) C dX6_walks_61 ?_
        refine r_iload_1 (pc := 62) C dX6_walks_62 ?_
        refine r_bipush (pc := 63) C dX6_walks_63 cb_12 ?_
        refine r_aload_0 (pc := 65) C dX6_walks_65 ?_
        refine r_iload_1 (pc := 66) C dX6_walks_66 ?_
        refine r_bipush (pc := 67) C dX6_walks_67 cb_12 ?_
        refine r_V2io (pc := 69) C (m_of (by exact hT) (S5_1 _ _ _ _ _ _)) vl_X6_103 (tw_g hT) (by decide) (Nat.le_refl _) (Nat.le_refl _) (Nat.le_of_ble_eq_true rfl) rfl dX6_walks_69 (fun u5 A5 hc5 => ?_)
        refine r_top hc5.1 ?_
        refine r_eqA hc5.2 ?_
        clear hc5 A5 u5
        refine r_aload_0 (pc := 72) C dX6_walks_72 ?_
        refine r_getI (pc := 73) C fl_X6_127_6 (tw_g hT) rfl dX6_walks_73 ?_
        refine r_top (congrFun (S5_0 _ _ _ _ _ _) _) ?_
        refine r_top hT10 ?_
        refine r_iadd (pc := 76) C dX6_walks_76 ?_
        refine r_iconst (pc := 77) C dX6_walks_77 ci_1 ?_
        refine r_isub (pc := 78) C dX6_walks_78 ?_
        refine r_V3vo (pc := 79) C (m_puts (by exact hT) (S5_1 _ _ _ _ _ _)) vl_X6_154 (tw_g hT) (by decide) (Nat.le_refl _) (Nat.le_refl _) (Nat.le_of_ble_eq_true rfl) rfl dX6_walks_79 (fun u6 A6 hc6 => ?_)
        refine r_eqA hc6 ?_
        clear hc6 A6 u6
        refine r_eqA (S5_w1 _ _ _ _ _ _ _) ?_
        refine r_aload_0 (pc := 82) C dX6_walks_82 ?_
        refine r_iconst (pc := 83) C dX6_walks_83 ci_0 ?_
        refine r_iconst (pc := 84) C dX6_walks_84 ci_1 ?_
        refine r_V2vo (pc := 85) C (m_grows (by exact hT) (S5_1 _ _ _ _ _ _)) vl_X6_143 (tw_g hT) (by decide) (Nat.le_refl _) (Nat.le_refl _) (Nat.le_of_ble_eq_true rfl) rfl dX6_walks_85 (fun u7 A7 hc7 => ?_)
        refine r_eqA hc7 ?_
        clear hc7 A7 u7
        refine r_eqA (S5_w1 _ _ _ _ _ _ _) ?_
        refine r_aload_0 (pc := 88) C dX6_walks_88 ?_
        refine r_iconst (pc := 89) C dX6_walks_89 ci_1 ?_
        refine r_aload_0 (pc := 90) C dX6_walks_90 ?_
        refine r_getI (pc := 91) C fl_X6_127_6 (tw_g hT) rfl dX6_walks_91 ?_
        refine r_top (congrFun (S5_0 _ _ _ _ _ _) _) ?_
        refine r_top hT10 ?_
        refine r_iconst (pc := 94) C dX6_walks_94 ci_1 ?_
        refine r_isub (pc := 95) C dX6_walks_95 ?_
        refine r_V2vo (pc := 96) C (m_grows (by exact hT) (S5_1 _ _ _ _ _ _)) vl_X6_143 (tw_g hT) (by decide) (Nat.le_refl _) (Nat.le_refl _) (Nat.le_of_ble_eq_true rfl) rfl dX6_walks_96 (fun u8 A8 hc8 => ?_)
        refine r_eqA hc8 ?_
        clear hc8 A8 u8
        refine r_eqA (S5_w1 _ _ _ _ _ _ _) ?_
        refine r_aload_0 (pc := 99) C dX6_walks_99 ?_
        refine r_bipush (pc := 100) C dX6_walks_100 cb_11 ?_
        refine r_iload_2 (pc := 102) C dX6_walks_102 ?_
        refine r_V2vo (pc := 103) C (m_grows (by exact hT) (S5_1 _ _ _ _ _ _)) vl_X6_143 (tw_g hT) (by decide) (Nat.le_refl _) (Nat.le_refl _) (Nat.le_of_ble_eq_true rfl) rfl dX6_walks_103 (fun u9 A9 hc9 => ?_)
        refine r_eqA hc9 ?_
        clear hc9 A9 u9
        refine r_eqA (S5_w1 _ _ _ _ _ _ _) ?_
        refine r_vret (pc := 106) C E (Nat.le_refl _) (Nat.le_refl _) dX6_walks_106 ?_
        have e9 : k = wl σ w + 1 := by omega
        subst e9
        exact ⟨κL, πL, rfl⟩
      · skip
        have b13 := (not_congr (nI_le2 (by omega) (by omega))).mp b13
        have hyk : wy σ w k < 80 := by have := hwf.1 k (by omega); omega
        refine r_aload_0 (pc := 16) C dX6_walks_16 ?_
        refine r_aload_0 (pc := 17) C dX6_walks_17 ?_
        refine r_getR (pc := 18) C fl_X6_28_6 (tw_g hT) rfl (tw_r7 hT) dX6_walks_18 ?_
        refine r_iload_3 (pc := 21) C dX6_walks_21 ?_
        refine r_iald (pc := 22) C (tw_g7 hT) rfl rfl (lt_eq (by omega) (tw_n7 hT)) (by omega) dX6_walks_22 ?_
        refine r_top (congrFun (S5_7 _ _ _ _ _ _) _) ?_
        refine r_top (hπL _ (by omega)) ?_
        refine r_V1io (pc := 23) C (m_isGrass (by exact hT) (S5_1 _ _ _ _ _ _)) vl_X6_93 (tw_g hT) (by decide) (Nat.le_refl _) (Nat.le_refl _) (Nat.le_of_ble_eq_true rfl) rfl dX6_walks_23 (fun u10 A10 hc10 => ?_)
        refine r_top hc10.1 ?_
        refine r_eqA hc10.2 ?_
        clear hc10 A10 u10
        refine r_if_eq (pc := 26) (tgt := 39) C dX6_walks_26 (by decide) (fun b26 => ?_) (fun b26 => ?_)
        · skip
          have b26 := bI_0.mp b26
          refine r_iinc_3 (pc := 39) C dX6_walks_39 (nI_inc _) rfl ?_
          refine r_goto (pc := 42) (tgt := 8) C dX6_walks_42 (by decide) ?_
          first | rw [show treadR (trK σ w k) (wy σ w k) = trK σ w (k + 1) from (if_pos b26).symm] | rw [show trK σ w k = trK σ w (k + 1) from (if_neg b26).symm]
          exact ih8 (k + 1) (by omega) (by omega)
        · skip
          have b26 := bI_n.mp b26
          refine r_aload_0 (pc := 29) C dX6_walks_29 ?_
          refine r_aload_0 (pc := 30) C dX6_walks_30 ?_
          refine r_getR (pc := 31) C fl_X6_28_6 (tw_g hT) rfl (tw_r7 hT) dX6_walks_31 ?_
          refine r_iload_3 (pc := 34) C dX6_walks_34 ?_
          refine r_iald (pc := 35) C (tw_g7 hT) rfl rfl (lt_eq (by omega) (tw_n7 hT)) (by omega) dX6_walks_35 ?_
          refine r_top (congrFun (S5_7 _ _ _ _ _ _) _) ?_
          refine r_top (hπL _ (by omega)) ?_
          refine r_V1vo (pc := 36) C (m_treads (by exact hT) hV hyk) vl_X6_150 (tw_g hT) (by decide) (Nat.le_refl _) (Nat.le_refl _) (Nat.le_of_ble_eq_true rfl) rfl dX6_walks_36 (fun u11 A11 hc11 => ?_)
          refine r_eqA hc11 ?_
          clear hc11 A11 u11
          refine r_iinc_3 (pc := 39) C dX6_walks_39 (nI_inc _) rfl ?_
          refine r_goto (pc := 42) (tgt := 8) C dX6_walks_42 (by decide) ?_
          first | rw [show treadR (trK σ w k) (wy σ w k) = trK σ w (k + 1) from (if_pos b26).symm] | rw [show trK σ w k = trK σ w (k + 1) from (if_neg b26).symm]
          exact ih8 (k + 1) (by omega) (by omega)
  exact lp8_2 _ 0 (by omega) (Nat.lt_succ_self _)
set_option maxHeartbeats 4000000 in
theorem m_growsCell {g : GZ} {A : HA} {t : Nat} {σ κ π τ : Nat → Int32} (hT : Tw A t) {c : Nat} {p : Prop} [Decidable p] (hc : c < 80) : Ct g wV yX6_growsCell (.code yX6_growsCell cX6_growsCell 5 (Option.none : Option Jvm.ClassFile.FieldType)) 3 0 0 [.ref t, .int (nI (c)), .int (bI p)] (S5 A t σ κ π τ) (fun u A' => A' = S5 A t (growR σ c p) κ π τ) fw_no := by
  refine Ct.of [some (.ref t), some (.int (nI (c))), some (.int (bI p)), none, none] (by decide) rfl rfl fun z C hx hnm E => ?_
  refine r_aload_0 (pc := 0) C dX6_growsCell_0 ?_
  refine r_iload_1 (pc := 1) C dX6_growsCell_1 ?_
  refine r_V1io (pc := 2) C (m_hasFence (by exact hT) (S5_1 _ _ _ _ _ _)) vl_X6_97 (tw_g hT) (by decide) (Nat.le_refl _) (Nat.le_refl _) (Nat.le_of_ble_eq_true rfl) rfl dX6_growsCell_2 (fun u1 A1 hc1 => ?_)
  refine r_top hc1.1 ?_
  refine r_eqA hc1.2 ?_
  clear hc1 A1 u1
  refine r_istore_3 (pc := 5) C dX6_growsCell_5 rfl ?_
  refine r_iload_3 (pc := 6) C dX6_growsCell_6 ?_
  refine r_if_ne (pc := 7) (tgt := 31) C dX6_growsCell_7 (by decide) (fun b7 => ?_) (fun b7 => ?_)
  · skip
    have b7 := bI_n.mp b7
    refine r_iconst (pc := 31) C dX6_growsCell_31 ci_1 ?_
    refine r_goto (pc := 32) (tgt := 36) C dX6_growsCell_32 (by decide) ?_
    refine r_istore_4 (pc := 36) C dX6_growsCell_36 rfl ?_
    refine r_iload_4 (pc := 38) C dX6_growsCell_38 ?_
    refine r_if_eq (pc := 40) (tgt := 54) C dX6_growsCell_40 (by decide) (fun b40 => ?_) (fun b40 => ?_)
    · exact absurd b40 (by decide +kernel)
    · skip
      refine r_aload_0 (pc := 43) C dX6_growsCell_43 ?_
      refine r_iload_1 (pc := 44) C dX6_growsCell_44 ?_
      refine r_iconst (pc := 45) C dX6_growsCell_45 ci_1 ?_
      refine r_V2io (pc := 46) C (m_ofCell (by exact hT) (S5_1 _ _ _ _ _ _)) vl_X6_86 (tw_g hT) (by decide) (Nat.le_refl _) (Nat.le_refl _) (Nat.le_of_ble_eq_true rfl) rfl dX6_growsCell_46 (fun u2 A2 hc2 => ?_)
      refine r_top hc2.1 ?_
      refine r_eqA hc2.2 ?_
      clear hc2 A2 u2
      refine r_bipush (pc := 49) C dX6_growsCell_49 cb_9 ?_
      refine r_icmp_ne (pc := 51) (tgt := 55) C dX6_growsCell_51 (by decide) (fun b51 => ?_) (fun b51 => ?_)
      · skip
        refine r_aload_0 (pc := 55) C dX6_growsCell_55 ?_
        refine r_iload_1 (pc := 56) C dX6_growsCell_56 ?_
        refine r_iconst (pc := 57) C dX6_growsCell_57 ci_1 ?_
        refine r_aload_0 (pc := 58) C dX6_growsCell_58 ?_
        refine r_iload_1 (pc := 59) C dX6_growsCell_59 ?_
        refine r_iconst (pc := 60) C dX6_growsCell_60 ci_1 ?_
        refine r_V2io (pc := 61) C (m_ofCell (by exact hT) (S5_1 _ _ _ _ _ _)) vl_X6_86 (tw_g hT) (by decide) (Nat.le_refl _) (Nat.le_refl _) (Nat.le_of_ble_eq_true rfl) rfl dX6_growsCell_61 (fun u3 A3 hc3 => ?_)
        refine r_top hc3.1 ?_
        refine r_eqA hc3.2 ?_
        clear hc3 A3 u3
        refine r_iconst (pc := 64) C dX6_growsCell_64 ci_1 ?_
        refine r_iadd (pc := 65) C dX6_growsCell_65 ?_
        refine r_V3vo (pc := 66) C (m_putsCell (by exact hT) (S5_1 _ _ _ _ _ _)) vl_X6_139 (tw_g hT) (by decide) (Nat.le_refl _) (Nat.le_refl _) (Nat.le_of_ble_eq_true rfl) rfl dX6_growsCell_66 (fun u4 A4 hc4 => ?_)
        refine r_eqA hc4 ?_
        clear hc4 A4 u4
        refine r_eqA (S5_w1 _ _ _ _ _ _ _) ?_
        refine r_aload_0 (pc := 69) C dX6_growsCell_69 ?_
        refine r_iload_3 (pc := 70) C dX6_growsCell_70 ?_
        refine r_if_eq (pc := 71) (tgt := 78) C dX6_growsCell_71 (by decide) (fun b71 => ?_) (fun b71 => ?_)
        · skip
          have b71 := bI_0.mp b71
          refine r_iconst (pc := 78) C dX6_growsCell_78 ci_4 ?_
          refine r_iconst (pc := 79) C dX6_growsCell_79 ci_1 ?_
          refine r_V2vo (pc := 80) C (m_grows (by exact hT) (S5_1 _ _ _ _ _ _)) vl_X6_143 (tw_g hT) (by decide) (Nat.le_refl _) (Nat.le_refl _) (Nat.le_of_ble_eq_true rfl) rfl dX6_growsCell_80 (fun u5 A5 hc5 => ?_)
          refine r_eqA hc5 ?_
          clear hc5 A5 u5
          refine r_eqA (S5_w1 _ _ _ _ _ _ _) ?_
          refine r_vret (pc := 83) C E (Nat.le_refl _) (Nat.le_refl _) dX6_growsCell_83 ?_
          show _ = S5 A t (growR σ c p) κ π τ
          rw [show growR σ c p = _ from if_pos (by first | exact ⟨Or.inl (by assumption), by assumption⟩ | exact ⟨Or.inr ⟨by assumption, by assumption⟩, by assumption⟩)]
          first
            | (rw [if_pos (by assumption)]; rfl)
            | (rw [if_neg (by assumption)]; rfl)
        · skip
          have b71 := bI_n.mp b71
          refine r_iconst (pc := 74) C dX6_growsCell_74 ci_5 ?_
          refine r_goto (pc := 75) (tgt := 79) C dX6_growsCell_75 (by decide) ?_
          refine r_iconst (pc := 79) C dX6_growsCell_79 ci_1 ?_
          refine r_V2vo (pc := 80) C (m_grows (by exact hT) (S5_1 _ _ _ _ _ _)) vl_X6_143 (tw_g hT) (by decide) (Nat.le_refl _) (Nat.le_refl _) (Nat.le_of_ble_eq_true rfl) rfl dX6_growsCell_80 (fun u6 A6 hc6 => ?_)
          refine r_eqA hc6 ?_
          clear hc6 A6 u6
          refine r_eqA (S5_w1 _ _ _ _ _ _ _) ?_
          refine r_vret (pc := 83) C E (Nat.le_refl _) (Nat.le_refl _) dX6_growsCell_83 ?_
          show _ = S5 A t (growR σ c p) κ π τ
          rw [show growR σ c p = _ from if_pos (by first | exact ⟨Or.inl (by assumption), by assumption⟩ | exact ⟨Or.inr ⟨by assumption, by assumption⟩, by assumption⟩)]
          first
            | (rw [if_pos (by assumption)]; rfl)
            | (rw [if_neg (by assumption)]; rfl)
      · skip
        refine r_vret (pc := 54) C E (Nat.le_refl _) (Nat.le_refl _) dX6_growsCell_54 ?_
        exact congrArg (fun x => S5 A t x κ π τ) (if_neg (by first | exact fun q => q.1.elim (by assumption) (fun q => absurd q.1 (by assumption)) | exact fun q => q.1.elim (by assumption) (fun q => absurd (by assumption) q.2) | exact fun q => q.2 (by assumption))).symm
  · skip
    have b7 := bI_0.mp b7
    refine r_iload_2 (pc := 10) C dX6_growsCell_10 ?_
    refine r_if_eq (pc := 11) (tgt := 35) C dX6_growsCell_11 (by decide) (fun b11 => ?_) (fun b11 => ?_)
    · skip
      have b11 := bI_0.mp b11
      refine r_iconst (pc := 35) C dX6_growsCell_35 ci_0 ?_
      refine r_istore_4 (pc := 36) C dX6_growsCell_36 rfl ?_
      refine r_iload_4 (pc := 38) C dX6_growsCell_38 ?_
      refine r_if_eq (pc := 40) (tgt := 54) C dX6_growsCell_40 (by decide) (fun b40 => ?_) (fun b40 => ?_)
      · skip
        refine r_vret (pc := 54) C E (Nat.le_refl _) (Nat.le_refl _) dX6_growsCell_54 ?_
        exact congrArg (fun x => S5 A t x κ π τ) (if_neg (by first | exact fun q => q.1.elim (by assumption) (fun q => absurd q.1 (by assumption)) | exact fun q => q.1.elim (by assumption) (fun q => absurd (by assumption) q.2) | exact fun q => q.2 (by assumption))).symm
      · exact absurd b40 (by decide +kernel)
    · skip
      have b11 := bI_n.mp b11
      refine r_aload_0 (pc := 14) C dX6_growsCell_14 ?_
      refine r_iload_1 (pc := 15) C dX6_growsCell_15 ?_
      refine r_iconst (pc := 16) C dX6_growsCell_16 ci_4 ?_
      refine r_V2io (pc := 17) C (m_ofCell (by exact hT) (S5_1 _ _ _ _ _ _)) vl_X6_86 (tw_g hT) (by decide) (Nat.le_refl _) (Nat.le_refl _) (Nat.le_of_ble_eq_true rfl) rfl dX6_growsCell_17 (fun u7 A7 hc7 => ?_)
      refine r_top hc7.1 ?_
      refine r_eqA hc7.2 ?_
      clear hc7 A7 u7
      refine r_aload_0 (pc := 20) C dX6_growsCell_20 ?_
      refine r_getR (pc := 21) C fl_X6_7_6 (tw_g hT) rfl (tw_r1 hT) dX6_growsCell_21 ?_
      refine r_iconst (pc := 24) C dX6_growsCell_24 ci_3 ?_
      refine r_iald (pc := 25) C (tw_g1 hT) rfl rfl (lt_eq (by omega) (tw_n1 hT)) (by omega) dX6_growsCell_25 ?_
      refine r_top (congrFun (S5_1 _ _ _ _ _ _) _) ?_
      refine r_iconst (pc := 26) C dX6_growsCell_26 ci_1 ?_
      refine r_iadd (pc := 27) C dX6_growsCell_27 ?_
      refine r_icmp_eq (pc := 28) (tgt := 35) C dX6_growsCell_28 (by decide) (fun b28 => ?_) (fun b28 => ?_)
      · skip
        refine r_iconst (pc := 35) C dX6_growsCell_35 ci_0 ?_
        refine r_istore_4 (pc := 36) C dX6_growsCell_36 rfl ?_
        refine r_iload_4 (pc := 38) C dX6_growsCell_38 ?_
        refine r_if_eq (pc := 40) (tgt := 54) C dX6_growsCell_40 (by decide) (fun b40 => ?_) (fun b40 => ?_)
        · skip
          refine r_vret (pc := 54) C E (Nat.le_refl _) (Nat.le_refl _) dX6_growsCell_54 ?_
          exact congrArg (fun x => S5 A t x κ π τ) (if_neg (by first | exact fun q => q.1.elim (by assumption) (fun q => absurd q.1 (by assumption)) | exact fun q => q.1.elim (by assumption) (fun q => absurd (by assumption) q.2) | exact fun q => q.2 (by assumption))).symm
        · exact absurd b40 (by decide +kernel)
      · skip
        refine r_iconst (pc := 31) C dX6_growsCell_31 ci_1 ?_
        refine r_goto (pc := 32) (tgt := 36) C dX6_growsCell_32 (by decide) ?_
        refine r_istore_4 (pc := 36) C dX6_growsCell_36 rfl ?_
        refine r_iload_4 (pc := 38) C dX6_growsCell_38 ?_
        refine r_if_eq (pc := 40) (tgt := 54) C dX6_growsCell_40 (by decide) (fun b40 => ?_) (fun b40 => ?_)
        · exact absurd b40 (by decide +kernel)
        · skip
          refine r_aload_0 (pc := 43) C dX6_growsCell_43 ?_
          refine r_iload_1 (pc := 44) C dX6_growsCell_44 ?_
          refine r_iconst (pc := 45) C dX6_growsCell_45 ci_1 ?_
          refine r_V2io (pc := 46) C (m_ofCell (by exact hT) (S5_1 _ _ _ _ _ _)) vl_X6_86 (tw_g hT) (by decide) (Nat.le_refl _) (Nat.le_refl _) (Nat.le_of_ble_eq_true rfl) rfl dX6_growsCell_46 (fun u8 A8 hc8 => ?_)
          refine r_top hc8.1 ?_
          refine r_eqA hc8.2 ?_
          clear hc8 A8 u8
          refine r_bipush (pc := 49) C dX6_growsCell_49 cb_9 ?_
          refine r_icmp_ne (pc := 51) (tgt := 55) C dX6_growsCell_51 (by decide) (fun b51 => ?_) (fun b51 => ?_)
          · skip
            refine r_aload_0 (pc := 55) C dX6_growsCell_55 ?_
            refine r_iload_1 (pc := 56) C dX6_growsCell_56 ?_
            refine r_iconst (pc := 57) C dX6_growsCell_57 ci_1 ?_
            refine r_aload_0 (pc := 58) C dX6_growsCell_58 ?_
            refine r_iload_1 (pc := 59) C dX6_growsCell_59 ?_
            refine r_iconst (pc := 60) C dX6_growsCell_60 ci_1 ?_
            refine r_V2io (pc := 61) C (m_ofCell (by exact hT) (S5_1 _ _ _ _ _ _)) vl_X6_86 (tw_g hT) (by decide) (Nat.le_refl _) (Nat.le_refl _) (Nat.le_of_ble_eq_true rfl) rfl dX6_growsCell_61 (fun u9 A9 hc9 => ?_)
            refine r_top hc9.1 ?_
            refine r_eqA hc9.2 ?_
            clear hc9 A9 u9
            refine r_iconst (pc := 64) C dX6_growsCell_64 ci_1 ?_
            refine r_iadd (pc := 65) C dX6_growsCell_65 ?_
            refine r_V3vo (pc := 66) C (m_putsCell (by exact hT) (S5_1 _ _ _ _ _ _)) vl_X6_139 (tw_g hT) (by decide) (Nat.le_refl _) (Nat.le_refl _) (Nat.le_of_ble_eq_true rfl) rfl dX6_growsCell_66 (fun u10 A10 hc10 => ?_)
            refine r_eqA hc10 ?_
            clear hc10 A10 u10
            refine r_eqA (S5_w1 _ _ _ _ _ _ _) ?_
            refine r_aload_0 (pc := 69) C dX6_growsCell_69 ?_
            refine r_iload_3 (pc := 70) C dX6_growsCell_70 ?_
            refine r_if_eq (pc := 71) (tgt := 78) C dX6_growsCell_71 (by decide) (fun b71 => ?_) (fun b71 => ?_)
            · skip
              have b71 := bI_0.mp b71
              refine r_iconst (pc := 78) C dX6_growsCell_78 ci_4 ?_
              refine r_iconst (pc := 79) C dX6_growsCell_79 ci_1 ?_
              refine r_V2vo (pc := 80) C (m_grows (by exact hT) (S5_1 _ _ _ _ _ _)) vl_X6_143 (tw_g hT) (by decide) (Nat.le_refl _) (Nat.le_refl _) (Nat.le_of_ble_eq_true rfl) rfl dX6_growsCell_80 (fun u11 A11 hc11 => ?_)
              refine r_eqA hc11 ?_
              clear hc11 A11 u11
              refine r_eqA (S5_w1 _ _ _ _ _ _ _) ?_
              refine r_vret (pc := 83) C E (Nat.le_refl _) (Nat.le_refl _) dX6_growsCell_83 ?_
              show _ = S5 A t (growR σ c p) κ π τ
              rw [show growR σ c p = _ from if_pos (by first | exact ⟨Or.inl (by assumption), by assumption⟩ | exact ⟨Or.inr ⟨by assumption, by assumption⟩, by assumption⟩)]
              first
                | (rw [if_pos (by assumption)]; rfl)
                | (rw [if_neg (by assumption)]; rfl)
            · skip
              have b71 := bI_n.mp b71
              refine r_iconst (pc := 74) C dX6_growsCell_74 ci_5 ?_
              refine r_goto (pc := 75) (tgt := 79) C dX6_growsCell_75 (by decide) ?_
              refine r_iconst (pc := 79) C dX6_growsCell_79 ci_1 ?_
              refine r_V2vo (pc := 80) C (m_grows (by exact hT) (S5_1 _ _ _ _ _ _)) vl_X6_143 (tw_g hT) (by decide) (Nat.le_refl _) (Nat.le_refl _) (Nat.le_of_ble_eq_true rfl) rfl dX6_growsCell_80 (fun u12 A12 hc12 => ?_)
              refine r_eqA hc12 ?_
              clear hc12 A12 u12
              refine r_eqA (S5_w1 _ _ _ _ _ _ _) ?_
              refine r_vret (pc := 83) C E (Nat.le_refl _) (Nat.le_refl _) dX6_growsCell_83 ?_
              show _ = S5 A t (growR σ c p) κ π τ
              rw [show growR σ c p = _ from if_pos (by first | exact ⟨Or.inl (by assumption), by assumption⟩ | exact ⟨Or.inr ⟨by assumption, by assumption⟩, by assumption⟩)]
              first
                | (rw [if_pos (by assumption)]; rfl)
                | (rw [if_neg (by assumption)]; rfl)
          · skip
            refine r_vret (pc := 54) C E (Nat.le_refl _) (Nat.le_refl _) dX6_growsCell_54 ?_
            exact congrArg (fun x => S5 A t x κ π τ) (if_neg (by first | exact fun q => q.1.elim (by assumption) (fun q => absurd q.1 (by assumption)) | exact fun q => q.1.elim (by assumption) (fun q => absurd (by assumption) q.2) | exact fun q => q.2 (by assumption))).symm
