/-! THE REFERENCE, 2: copies, costs, ways -/
set_option maxRecDepth 100000
theorem cpy_0 {f h : Nat → Int32} {a b : Nat} : va_cpy f h a b 0 = h := by
  funext j
  unfold va_cpy
  rw [if_neg (by omega)]
theorem cpy_s {f h : Nat → Int32} {a b k : Nat} : upd (va_cpy f h a b k) (b + k) (f (a + k)) = va_cpy f h a b (k + 1) := by
  funext j
  show (if j = b + k then f (a + k) else if b ≤ j ∧ j < b + k then f (a + (j - b)) else h j) = (if b ≤ j ∧ j < b + (k + 1) then f (a + (j - b)) else h j)
  by_cases q : j = b + k
  · subst q
    rw [if_pos rfl, if_pos (by omega), Nat.add_sub_cancel_left]
  · rw [if_neg q]
    by_cases q2 : b ≤ j ∧ j < b + k
    · rw [if_pos q2, if_pos (by omega)]
    · rw [if_neg q2, if_neg (by omega)]
set_option maxHeartbeats 4000000 in
theorem m_copies {g : GZ} {A : HA} {p q a b kp kq : Nat} (hp : (A.G p).1 = kp) (hq : (A.G q).1 = kq) (hkp : (decide (100 ≤ kp) && decide (kp / 100 = 1)) = true) (hkq : (decide (100 ≤ kq) && decide (kq / 100 = 1) && fw_mut kq) = true) (hpq : p ≠ q) (hnp : a + 553 ≤ A.n p) (hnq : b + 553 ≤ A.n q) (ha : a < 100000) (hb : b < 100000) : Ct g wV yX6_copies (.code yX6_copies cX6_copies 5 (Option.none : Option Jvm.ClassFile.FieldType)) 1 0 0 [.ref p, .int (nI (a)), .ref q, .int (nI (b))] (A) (fun u A' => A' = A.sI q (va_cpy (A.I p) (A.I q) a b 553)) fw_no := by
  refine Ct.of [some (.ref p), some (.int (nI (a))), some (.ref q), some (.int (nI (b))), none] (by decide) rfl rfl fun z C hx hnm E => ?_
  refine r_iconst (pc := 0) C dX6_copies_0 ci_0 ?_
  refine r_istore_4 (pc := 1) C dX6_copies_1 rfl ?_
  have lp3_1 : ∀ (fu : Nat) (k : Nat) (hk : k ≤ 553), 553 - k < fu → wa g z 0 0 (A.sI q (va_cpy (A.I p) (A.I q) a b k)) 3 [some (.ref p), some (.int (nI (a))), some (.ref q), some (.int (nI (b))), some (.int (nI (k)))] [] := by
    intro fu
    induction fu with
    | zero => intro k  hk hm3; exact absurd hm3 (Nat.not_lt_zero _)
    | succ fu ih3 =>
      intro k  hk hm3
      refine r_iload_4 (pc := 3) C dX6_copies_3 ?_
      refine r_sipush (pc := 5) C dX6_copies_5 cs_553 ?_
      refine r_icmp_ge (pc := 8) (tgt := 29) C dX6_copies_8 (by decide) (fun b8 => ?_) (fun b8 => ?_)
      · skip
        have b8 := (nI_le2 (by omega) (by omega)).mp b8
        refine r_vret (pc := 29) C E (Nat.le_refl _) (Nat.le_refl _) dX6_copies_29 ?_
        have e9 : k = 553 := by omega
        subst e9
        exact rfl
      · skip
        have b8 := (not_congr (nI_le2 (by omega) (by omega))).mp b8
        refine r_aload_2 (pc := 11) C dX6_copies_11 ?_
        refine r_iload_3 (pc := 12) C dX6_copies_12 ?_
        refine r_iload_4 (pc := 13) C dX6_copies_13 ?_
        refine r_iadd (pc := 15) C dX6_copies_15 ?_
        refine r_top (nI_add _ _) ?_
        refine r_aload_0 (pc := 16) C dX6_copies_16 ?_
        refine r_iload_1 (pc := 17) C dX6_copies_17 ?_
        refine r_iload_4 (pc := 18) C dX6_copies_18 ?_
        refine r_iadd (pc := 20) C dX6_copies_20 ?_
        refine r_top (nI_add _ _) ?_
        refine r_iald (pc := 21) C hp hkp rfl (Nat.lt_of_lt_of_le (by omega) hnp) (by omega) dX6_copies_21 ?_
        refine r_iast (pc := 22) C hq hkq rfl (Nat.lt_of_lt_of_le (by omega) hnq) (by omega) dX6_copies_22 ?_
        refine r_iinc_4 (pc := 23) C dX6_copies_23 (nI_inc _) rfl ?_
        refine r_goto (pc := 26) (tgt := 3) C dX6_copies_26 (by decide) ?_
        refine r_eqA (A' := A.sI q (va_cpy (A.I p) (A.I q) a b (k + 1))) (by rw [sI_s, sI_sI, sI_o _ _ hpq, cpy_s]) ?_
        exact ih3 (k + 1) (by omega) (by omega)
  refine r_eqA (A' := A.sI q (va_cpy (A.I p) (A.I q) a b 0)) (by rw [cpy_0, sI_self]) ?_
  exact lp3_1 _ 0 (by omega) (Nat.lt_succ_self _)
/-- nothing of the row changes -/
theorem inZ_mk {j : Nat} {a b : Int} (h : j < 2147483648) (h1 : a ≤ (j : Int)) (h2 : (j : Int) ≤ b) : inZ (nI j) a b := (inZ_nI h).mpr ⟨h1, h2⟩
theorem nI_sub1 {n : Nat} : nI n + nI 0 = nI (n + 0) := nI_add _ _
set_option maxHeartbeats 4000000 in
theorem m_nextTo0 {g : GZ} {A : HA} {t : Nat} (hT : Tw A t) {σ : Nat → Int32} (hσ : A.I (t + 1) = σ) {c : Nat} (hS : RowS (σ)) (hc : c < rC (σ)) : Ct g wI yX6_nextTo (.code yX6_nextTo cX6_nextTo 5 (Option.some Jvm.ClassFile.FieldType.int)) 3 0 0 [.ref t, .int (nI (c)), .int (nI 0)] (A) (fun u A' => u = oI (nb (rW (σ)) (rH (σ)) c 0) ∧ A' = A) fw_no := by
  refine Ct.of [some (.ref t), some (.int (nI (c))), some (.int (nI 0)), none, none] (by decide) rfl rfl fun z C hx hnm E => ?_
  subst hσ
  have hw3 := hS.w3
  have hw10 := hS.w10
  have hh8 := hS.h8
  have hc80 := hS.c80
  have hm := Nat.mod_lt c (show 0 < rW (A.I (t + 1)) by omega)
  have hd := div_lt' (show 0 < rW (A.I (t + 1)) by omega) hc
  have hd9 := Nat.div_le_self c (rW (A.I (t + 1)))
  have hq0 : (0 : Int) ≤ ((c / rW (A.I (t + 1)) : Nat) : Int) := Int.natCast_nonneg _
  have hr0 : (0 : Int) ≤ ((c % rW (A.I (t + 1)) : Nat) : Int) := Int.natCast_nonneg _
  refine r_aload_0 (pc := 0) C dX6_nextTo_0 ?_
  refine r_iload_1 (pc := 1) C dX6_nextTo_1 ?_
  refine r_V1io (pc := 2) C (m_xOf hT rfl hS) vl_X6_76 (tw_g hT) (by decide) (Nat.le_refl _) (Nat.le_refl _) (Nat.le_of_ble_eq_true rfl) rfl dX6_nextTo_2 (fun u1 A1 hc1 => ?_)
  refine r_top hc1.1 ?_
  refine r_eqA hc1.2 ?_
  clear hc1 A1 u1
  refine r_iload_2 (pc := 5) C dX6_nextTo_5 ?_
  refine r_iconst (pc := 6) C dX6_nextTo_6 ci_1 ?_
  refine r_icmp_ne (pc := 7) (tgt := 14) C dX6_nextTo_7 (by decide) (fun b7 => ?_) (fun b7 => ?_)
  · skip
    refine r_iload_2 (pc := 14) C dX6_nextTo_14 ?_
    refine r_iconst (pc := 15) C dX6_nextTo_15 ci_3 ?_
    refine r_icmp_ne (pc := 16) (tgt := 23) C dX6_nextTo_16 (by decide) (fun b16 => ?_) (fun b16 => ?_)
    · skip
      refine r_iconst (pc := 23) C dX6_nextTo_23 ci_0 ?_
      refine r_iadd (pc := 24) C dX6_nextTo_24 ?_
      refine r_top (nI_add _ _) ?_
      refine r_istore_3 (pc := 25) C dX6_nextTo_25 rfl ?_
      refine r_aload_0 (pc := 26) C dX6_nextTo_26 ?_
      refine r_iload_1 (pc := 27) C dX6_nextTo_27 ?_
      refine r_V1io (pc := 28) C (m_yOf hT rfl hS) vl_X6_72 (tw_g hT) (by decide) (Nat.le_refl _) (Nat.le_refl _) (Nat.le_of_ble_eq_true rfl) rfl dX6_nextTo_28 (fun u2 A2 hc2 => ?_)
      refine r_top hc2.1 ?_
      refine r_eqA hc2.2 ?_
      clear hc2 A2 u2
      refine r_iload_2 (pc := 31) C dX6_nextTo_31 ?_
      refine r_iconst (pc := 32) C dX6_nextTo_32 ci_2 ?_
      refine r_icmp_ne (pc := 33) (tgt := 40) C dX6_nextTo_33 (by decide) (fun b33 => ?_) (fun b33 => ?_)
      · skip
        refine r_iload_2 (pc := 40) C dX6_nextTo_40 ?_
        refine r_if_ne (pc := 41) (tgt := 48) C dX6_nextTo_41 (by decide) (fun b41 => ?_) (fun b41 => ?_)
        · exact absurd b41 (by decide +kernel)
        · skip
          refine r_iconst (pc := 44) C dX6_nextTo_44 ci_m1 ?_
          refine r_goto (pc := 45) (tgt := 49) C dX6_nextTo_45 (by decide) ?_
          refine r_iadd (pc := 49) C dX6_nextTo_49 ?_
          refine r_istore_4 (pc := 50) C dX6_nextTo_50 rfl ?_
          refine r_aload_0 (pc := 52) C dX6_nextTo_52 ?_
          refine r_iload_3 (pc := 53) C dX6_nextTo_53 ?_
          refine r_iload_4 (pc := 54) C dX6_nextTo_54 ?_
          refine r_V2io (pc := 56) C (m_isCell hT rfl hS) vl_X6_89 (tw_g hT) (by decide) (Nat.le_refl _) (Nat.le_refl _) (Nat.le_of_ble_eq_true rfl) rfl dX6_nextTo_56 (fun u3 A3 hc3 => ?_)
          refine r_top hc3.1 ?_
          refine r_eqA hc3.2 ?_
          clear hc3 A3 u3
          refine r_if_eq (pc := 59) (tgt := 72) C dX6_nextTo_59 (by decide) (fun b59 => ?_) (fun b59 => ?_)
          · skip
            have b59 := bI_0.mp b59
            refine r_iconst (pc := 72) C dX6_nextTo_72 ci_m1 ?_
            refine r_iret (pc := 73) C E rfl (Nat.le_refl _) (Nat.le_refl _) dX6_nextTo_73 ?_
            refine ⟨?_, rfl⟩
            have h1 : ¬ 1 ≤ c / rW (A.I (t + 1)) := by
              intro h1
              refine b59 ⟨?_, ?_⟩
              · exact inZ_mk (by omega) (by omega) (by omega)
              · rw [nI_p1 h1]; exact inZ_mk (by omega) (by omega) (by omega)
            show _ = oI (nb _ _ c 0)
            unfold nb
            rw [if_neg h1]
            rfl
          · skip
            have b59 := bI_n.mp b59
            have hy := (inZ_of (by exact b59.2) (by omega))
            have h1 : 1 ≤ c / rW (A.I (t + 1)) := by
              have q := b59.2.1
              rw [t_p1 (by omega)] at q
              omega
            rw [nI_p1 h1]
            refine r_aload_0 (pc := 62) C dX6_nextTo_62 ?_
            refine r_iload_3 (pc := 63) C dX6_nextTo_63 ?_
            refine r_iload_4 (pc := 64) C dX6_nextTo_64 ?_
            refine r_V2io (pc := 66) C (m_at hT rfl hS) vl_X6_83 (tw_g hT) (by decide) (Nat.le_refl _) (Nat.le_refl _) (Nat.le_of_ble_eq_true rfl) rfl dX6_nextTo_66 (fun u4 A4 hc4 => ?_)
            refine r_top hc4.1 ?_
            refine r_eqA hc4.2 ?_
            clear hc4 A4 u4
            refine r_goto (pc := 69) (tgt := 73) C dX6_nextTo_69 (by decide) ?_
            refine r_iret (pc := 73) C E rfl (Nat.le_refl _) (Nat.le_refl _) dX6_nextTo_73 ?_
            refine ⟨?_, rfl⟩
            show _ = oI (nb _ _ c 0)
            unfold nb
            rw [if_pos h1]
            rfl
      · exact absurd b33 (by decide +kernel)
    · exact absurd b16 (by decide +kernel)
  · exact absurd b7 (by decide +kernel)
set_option maxHeartbeats 4000000 in
theorem m_nextTo1 {g : GZ} {A : HA} {t : Nat} (hT : Tw A t) {σ : Nat → Int32} (hσ : A.I (t + 1) = σ) {c : Nat} (hS : RowS (σ)) (hc : c < rC (σ)) : Ct g wI yX6_nextTo (.code yX6_nextTo cX6_nextTo 5 (Option.some Jvm.ClassFile.FieldType.int)) 3 0 0 [.ref t, .int (nI (c)), .int (nI 1)] (A) (fun u A' => u = oI (nb (rW (σ)) (rH (σ)) c 1) ∧ A' = A) fw_no := by
  refine Ct.of [some (.ref t), some (.int (nI (c))), some (.int (nI 1)), none, none] (by decide) rfl rfl fun z C hx hnm E => ?_
  subst hσ
  have hw3 := hS.w3
  have hw10 := hS.w10
  have hh8 := hS.h8
  have hc80 := hS.c80
  have hm := Nat.mod_lt c (show 0 < rW (A.I (t + 1)) by omega)
  have hd := div_lt' (show 0 < rW (A.I (t + 1)) by omega) hc
  have hd9 := Nat.div_le_self c (rW (A.I (t + 1)))
  have hq0 : (0 : Int) ≤ ((c / rW (A.I (t + 1)) : Nat) : Int) := Int.natCast_nonneg _
  have hr0 : (0 : Int) ≤ ((c % rW (A.I (t + 1)) : Nat) : Int) := Int.natCast_nonneg _
  refine r_aload_0 (pc := 0) C dX6_nextTo_0 ?_
  refine r_iload_1 (pc := 1) C dX6_nextTo_1 ?_
  refine r_V1io (pc := 2) C (m_xOf hT rfl hS) vl_X6_76 (tw_g hT) (by decide) (Nat.le_refl _) (Nat.le_refl _) (Nat.le_of_ble_eq_true rfl) rfl dX6_nextTo_2 (fun u1 A1 hc1 => ?_)
  refine r_top hc1.1 ?_
  refine r_eqA hc1.2 ?_
  clear hc1 A1 u1
  refine r_iload_2 (pc := 5) C dX6_nextTo_5 ?_
  refine r_iconst (pc := 6) C dX6_nextTo_6 ci_1 ?_
  refine r_icmp_ne (pc := 7) (tgt := 14) C dX6_nextTo_7 (by decide) (fun b7 => ?_) (fun b7 => ?_)
  · exact absurd b7 (by decide +kernel)
  · skip
    refine r_iconst (pc := 10) C dX6_nextTo_10 ci_1 ?_
    refine r_goto (pc := 11) (tgt := 24) C dX6_nextTo_11 (by decide) ?_
    refine r_iadd (pc := 24) C dX6_nextTo_24 ?_
    refine r_top (nI_add _ _) ?_
    refine r_istore_3 (pc := 25) C dX6_nextTo_25 rfl ?_
    refine r_aload_0 (pc := 26) C dX6_nextTo_26 ?_
    refine r_iload_1 (pc := 27) C dX6_nextTo_27 ?_
    refine r_V1io (pc := 28) C (m_yOf hT rfl hS) vl_X6_72 (tw_g hT) (by decide) (Nat.le_refl _) (Nat.le_refl _) (Nat.le_of_ble_eq_true rfl) rfl dX6_nextTo_28 (fun u2 A2 hc2 => ?_)
    refine r_top hc2.1 ?_
    refine r_eqA hc2.2 ?_
    clear hc2 A2 u2
    refine r_iload_2 (pc := 31) C dX6_nextTo_31 ?_
    refine r_iconst (pc := 32) C dX6_nextTo_32 ci_2 ?_
    refine r_icmp_ne (pc := 33) (tgt := 40) C dX6_nextTo_33 (by decide) (fun b33 => ?_) (fun b33 => ?_)
    · skip
      refine r_iload_2 (pc := 40) C dX6_nextTo_40 ?_
      refine r_if_ne (pc := 41) (tgt := 48) C dX6_nextTo_41 (by decide) (fun b41 => ?_) (fun b41 => ?_)
      · skip
        refine r_iconst (pc := 48) C dX6_nextTo_48 ci_0 ?_
        refine r_iadd (pc := 49) C dX6_nextTo_49 ?_
        refine r_top (nI_add _ _) ?_
        refine r_istore_4 (pc := 50) C dX6_nextTo_50 rfl ?_
        refine r_aload_0 (pc := 52) C dX6_nextTo_52 ?_
        refine r_iload_3 (pc := 53) C dX6_nextTo_53 ?_
        refine r_iload_4 (pc := 54) C dX6_nextTo_54 ?_
        refine r_V2io (pc := 56) C (m_isCell hT rfl hS) vl_X6_89 (tw_g hT) (by decide) (Nat.le_refl _) (Nat.le_refl _) (Nat.le_of_ble_eq_true rfl) rfl dX6_nextTo_56 (fun u3 A3 hc3 => ?_)
        refine r_top hc3.1 ?_
        refine r_eqA hc3.2 ?_
        clear hc3 A3 u3
        refine r_if_eq (pc := 59) (tgt := 72) C dX6_nextTo_59 (by decide) (fun b59 => ?_) (fun b59 => ?_)
        · skip
          have b59 := bI_0.mp b59
          refine r_iconst (pc := 72) C dX6_nextTo_72 ci_m1 ?_
          refine r_iret (pc := 73) C E rfl (Nat.le_refl _) (Nat.le_refl _) dX6_nextTo_73 ?_
          refine ⟨?_, rfl⟩
          have h1 : ¬ c % rW (A.I (t + 1)) + 1 < rW (A.I (t + 1)) := by
            intro h1
            refine b59 ⟨?_, ?_⟩
            · exact inZ_mk (by omega) (by omega) (by omega)
            · exact inZ_mk (by omega) (by omega) (by omega)
          show _ = oI (nb _ _ c 1)
          unfold nb
          rw [if_neg h1]
          rfl
        · skip
          have b59 := bI_n.mp b59
          have h1 : c % rW (A.I (t + 1)) + 1 < rW (A.I (t + 1)) := by
            have q := b59.1
            rw [inZ_nI (by omega)] at q
            omega
          refine r_aload_0 (pc := 62) C dX6_nextTo_62 ?_
          refine r_iload_3 (pc := 63) C dX6_nextTo_63 ?_
          refine r_iload_4 (pc := 64) C dX6_nextTo_64 ?_
          refine r_V2io (pc := 66) C (m_at hT rfl hS) vl_X6_83 (tw_g hT) (by decide) (Nat.le_refl _) (Nat.le_refl _) (Nat.le_of_ble_eq_true rfl) rfl dX6_nextTo_66 (fun u4 A4 hc4 => ?_)
          refine r_top hc4.1 ?_
          refine r_eqA hc4.2 ?_
          clear hc4 A4 u4
          refine r_goto (pc := 69) (tgt := 73) C dX6_nextTo_69 (by decide) ?_
          refine r_iret (pc := 73) C E rfl (Nat.le_refl _) (Nat.le_refl _) dX6_nextTo_73 ?_
          refine ⟨?_, rfl⟩
          show _ = oI (nb _ _ c 1)
          unfold nb
          rw [if_pos h1]
          rfl
      · exact absurd b41 (by decide +kernel)
    · exact absurd b33 (by decide +kernel)
set_option maxHeartbeats 4000000 in
theorem m_nextTo2 {g : GZ} {A : HA} {t : Nat} (hT : Tw A t) {σ : Nat → Int32} (hσ : A.I (t + 1) = σ) {c : Nat} (hS : RowS (σ)) (hc : c < rC (σ)) : Ct g wI yX6_nextTo (.code yX6_nextTo cX6_nextTo 5 (Option.some Jvm.ClassFile.FieldType.int)) 3 0 0 [.ref t, .int (nI (c)), .int (nI 2)] (A) (fun u A' => u = oI (nb (rW (σ)) (rH (σ)) c 2) ∧ A' = A) fw_no := by
  refine Ct.of [some (.ref t), some (.int (nI (c))), some (.int (nI 2)), none, none] (by decide) rfl rfl fun z C hx hnm E => ?_
  subst hσ
  have hw3 := hS.w3
  have hw10 := hS.w10
  have hh8 := hS.h8
  have hc80 := hS.c80
  have hm := Nat.mod_lt c (show 0 < rW (A.I (t + 1)) by omega)
  have hd := div_lt' (show 0 < rW (A.I (t + 1)) by omega) hc
  have hd9 := Nat.div_le_self c (rW (A.I (t + 1)))
  have hq0 : (0 : Int) ≤ ((c / rW (A.I (t + 1)) : Nat) : Int) := Int.natCast_nonneg _
  have hr0 : (0 : Int) ≤ ((c % rW (A.I (t + 1)) : Nat) : Int) := Int.natCast_nonneg _
  refine r_aload_0 (pc := 0) C dX6_nextTo_0 ?_
  refine r_iload_1 (pc := 1) C dX6_nextTo_1 ?_
  refine r_V1io (pc := 2) C (m_xOf hT rfl hS) vl_X6_76 (tw_g hT) (by decide) (Nat.le_refl _) (Nat.le_refl _) (Nat.le_of_ble_eq_true rfl) rfl dX6_nextTo_2 (fun u1 A1 hc1 => ?_)
  refine r_top hc1.1 ?_
  refine r_eqA hc1.2 ?_
  clear hc1 A1 u1
  refine r_iload_2 (pc := 5) C dX6_nextTo_5 ?_
  refine r_iconst (pc := 6) C dX6_nextTo_6 ci_1 ?_
  refine r_icmp_ne (pc := 7) (tgt := 14) C dX6_nextTo_7 (by decide) (fun b7 => ?_) (fun b7 => ?_)
  · skip
    refine r_iload_2 (pc := 14) C dX6_nextTo_14 ?_
    refine r_iconst (pc := 15) C dX6_nextTo_15 ci_3 ?_
    refine r_icmp_ne (pc := 16) (tgt := 23) C dX6_nextTo_16 (by decide) (fun b16 => ?_) (fun b16 => ?_)
    · skip
      refine r_iconst (pc := 23) C dX6_nextTo_23 ci_0 ?_
      refine r_iadd (pc := 24) C dX6_nextTo_24 ?_
      refine r_top (nI_add _ _) ?_
      refine r_istore_3 (pc := 25) C dX6_nextTo_25 rfl ?_
      refine r_aload_0 (pc := 26) C dX6_nextTo_26 ?_
      refine r_iload_1 (pc := 27) C dX6_nextTo_27 ?_
      refine r_V1io (pc := 28) C (m_yOf hT rfl hS) vl_X6_72 (tw_g hT) (by decide) (Nat.le_refl _) (Nat.le_refl _) (Nat.le_of_ble_eq_true rfl) rfl dX6_nextTo_28 (fun u2 A2 hc2 => ?_)
      refine r_top hc2.1 ?_
      refine r_eqA hc2.2 ?_
      clear hc2 A2 u2
      refine r_iload_2 (pc := 31) C dX6_nextTo_31 ?_
      refine r_iconst (pc := 32) C dX6_nextTo_32 ci_2 ?_
      refine r_icmp_ne (pc := 33) (tgt := 40) C dX6_nextTo_33 (by decide) (fun b33 => ?_) (fun b33 => ?_)
      · exact absurd b33 (by decide +kernel)
      · skip
        refine r_iconst (pc := 36) C dX6_nextTo_36 ci_1 ?_
        refine r_goto (pc := 37) (tgt := 49) C dX6_nextTo_37 (by decide) ?_
        refine r_iadd (pc := 49) C dX6_nextTo_49 ?_
        refine r_top (nI_add _ _) ?_
        refine r_istore_4 (pc := 50) C dX6_nextTo_50 rfl ?_
        refine r_aload_0 (pc := 52) C dX6_nextTo_52 ?_
        refine r_iload_3 (pc := 53) C dX6_nextTo_53 ?_
        refine r_iload_4 (pc := 54) C dX6_nextTo_54 ?_
        refine r_V2io (pc := 56) C (m_isCell hT rfl hS) vl_X6_89 (tw_g hT) (by decide) (Nat.le_refl _) (Nat.le_refl _) (Nat.le_of_ble_eq_true rfl) rfl dX6_nextTo_56 (fun u3 A3 hc3 => ?_)
        refine r_top hc3.1 ?_
        refine r_eqA hc3.2 ?_
        clear hc3 A3 u3
        refine r_if_eq (pc := 59) (tgt := 72) C dX6_nextTo_59 (by decide) (fun b59 => ?_) (fun b59 => ?_)
        · skip
          have b59 := bI_0.mp b59
          refine r_iconst (pc := 72) C dX6_nextTo_72 ci_m1 ?_
          refine r_iret (pc := 73) C E rfl (Nat.le_refl _) (Nat.le_refl _) dX6_nextTo_73 ?_
          refine ⟨?_, rfl⟩
          have h1 : ¬ c / rW (A.I (t + 1)) + 1 < rH (A.I (t + 1)) := by
            intro h1
            refine b59 ⟨?_, ?_⟩
            · exact inZ_mk (by omega) (by omega) (by omega)
            · exact inZ_mk (by omega) (by omega) (by omega)
          show _ = oI (nb _ _ c 2)
          unfold nb
          rw [if_neg h1]
          rfl
        · skip
          have b59 := bI_n.mp b59
          have h1 : c / rW (A.I (t + 1)) + 1 < rH (A.I (t + 1)) := by
            have q := b59.2
            rw [inZ_nI (by omega)] at q
            omega
          refine r_aload_0 (pc := 62) C dX6_nextTo_62 ?_
          refine r_iload_3 (pc := 63) C dX6_nextTo_63 ?_
          refine r_iload_4 (pc := 64) C dX6_nextTo_64 ?_
          refine r_V2io (pc := 66) C (m_at hT rfl hS) vl_X6_83 (tw_g hT) (by decide) (Nat.le_refl _) (Nat.le_refl _) (Nat.le_of_ble_eq_true rfl) rfl dX6_nextTo_66 (fun u4 A4 hc4 => ?_)
          refine r_top hc4.1 ?_
          refine r_eqA hc4.2 ?_
          clear hc4 A4 u4
          refine r_goto (pc := 69) (tgt := 73) C dX6_nextTo_69 (by decide) ?_
          refine r_iret (pc := 73) C E rfl (Nat.le_refl _) (Nat.le_refl _) dX6_nextTo_73 ?_
          refine ⟨?_, rfl⟩
          show _ = oI (nb _ _ c 2)
          unfold nb
          rw [if_pos h1]
          rfl
    · exact absurd b16 (by decide +kernel)
  · exact absurd b7 (by decide +kernel)
set_option maxHeartbeats 4000000 in
theorem m_nextTo3 {g : GZ} {A : HA} {t : Nat} (hT : Tw A t) {σ : Nat → Int32} (hσ : A.I (t + 1) = σ) {c : Nat} (hS : RowS (σ)) (hc : c < rC (σ)) : Ct g wI yX6_nextTo (.code yX6_nextTo cX6_nextTo 5 (Option.some Jvm.ClassFile.FieldType.int)) 3 0 0 [.ref t, .int (nI (c)), .int (nI 3)] (A) (fun u A' => u = oI (nb (rW (σ)) (rH (σ)) c 3) ∧ A' = A) fw_no := by
  refine Ct.of [some (.ref t), some (.int (nI (c))), some (.int (nI 3)), none, none] (by decide) rfl rfl fun z C hx hnm E => ?_
  subst hσ
  have hw3 := hS.w3
  have hw10 := hS.w10
  have hh8 := hS.h8
  have hc80 := hS.c80
  have hm := Nat.mod_lt c (show 0 < rW (A.I (t + 1)) by omega)
  have hd := div_lt' (show 0 < rW (A.I (t + 1)) by omega) hc
  have hd9 := Nat.div_le_self c (rW (A.I (t + 1)))
  have hq0 : (0 : Int) ≤ ((c / rW (A.I (t + 1)) : Nat) : Int) := Int.natCast_nonneg _
  have hr0 : (0 : Int) ≤ ((c % rW (A.I (t + 1)) : Nat) : Int) := Int.natCast_nonneg _
  refine r_aload_0 (pc := 0) C dX6_nextTo_0 ?_
  refine r_iload_1 (pc := 1) C dX6_nextTo_1 ?_
  refine r_V1io (pc := 2) C (m_xOf hT rfl hS) vl_X6_76 (tw_g hT) (by decide) (Nat.le_refl _) (Nat.le_refl _) (Nat.le_of_ble_eq_true rfl) rfl dX6_nextTo_2 (fun u1 A1 hc1 => ?_)
  refine r_top hc1.1 ?_
  refine r_eqA hc1.2 ?_
  clear hc1 A1 u1
  refine r_iload_2 (pc := 5) C dX6_nextTo_5 ?_
  refine r_iconst (pc := 6) C dX6_nextTo_6 ci_1 ?_
  refine r_icmp_ne (pc := 7) (tgt := 14) C dX6_nextTo_7 (by decide) (fun b7 => ?_) (fun b7 => ?_)
  · skip
    refine r_iload_2 (pc := 14) C dX6_nextTo_14 ?_
    refine r_iconst (pc := 15) C dX6_nextTo_15 ci_3 ?_
    refine r_icmp_ne (pc := 16) (tgt := 23) C dX6_nextTo_16 (by decide) (fun b16 => ?_) (fun b16 => ?_)
    · exact absurd b16 (by decide +kernel)
    · skip
      refine r_iconst (pc := 19) C dX6_nextTo_19 ci_m1 ?_
      refine r_goto (pc := 20) (tgt := 24) C dX6_nextTo_20 (by decide) ?_
      refine r_iadd (pc := 24) C dX6_nextTo_24 ?_
      refine r_istore_3 (pc := 25) C dX6_nextTo_25 rfl ?_
      refine r_aload_0 (pc := 26) C dX6_nextTo_26 ?_
      refine r_iload_1 (pc := 27) C dX6_nextTo_27 ?_
      refine r_V1io (pc := 28) C (m_yOf hT rfl hS) vl_X6_72 (tw_g hT) (by decide) (Nat.le_refl _) (Nat.le_refl _) (Nat.le_of_ble_eq_true rfl) rfl dX6_nextTo_28 (fun u2 A2 hc2 => ?_)
      refine r_top hc2.1 ?_
      refine r_eqA hc2.2 ?_
      clear hc2 A2 u2
      refine r_iload_2 (pc := 31) C dX6_nextTo_31 ?_
      refine r_iconst (pc := 32) C dX6_nextTo_32 ci_2 ?_
      refine r_icmp_ne (pc := 33) (tgt := 40) C dX6_nextTo_33 (by decide) (fun b33 => ?_) (fun b33 => ?_)
      · skip
        refine r_iload_2 (pc := 40) C dX6_nextTo_40 ?_
        refine r_if_ne (pc := 41) (tgt := 48) C dX6_nextTo_41 (by decide) (fun b41 => ?_) (fun b41 => ?_)
        · skip
          refine r_iconst (pc := 48) C dX6_nextTo_48 ci_0 ?_
          refine r_iadd (pc := 49) C dX6_nextTo_49 ?_
          refine r_top (nI_add _ _) ?_
          refine r_istore_4 (pc := 50) C dX6_nextTo_50 rfl ?_
          refine r_aload_0 (pc := 52) C dX6_nextTo_52 ?_
          refine r_iload_3 (pc := 53) C dX6_nextTo_53 ?_
          refine r_iload_4 (pc := 54) C dX6_nextTo_54 ?_
          refine r_V2io (pc := 56) C (m_isCell hT rfl hS) vl_X6_89 (tw_g hT) (by decide) (Nat.le_refl _) (Nat.le_refl _) (Nat.le_of_ble_eq_true rfl) rfl dX6_nextTo_56 (fun u3 A3 hc3 => ?_)
          refine r_top hc3.1 ?_
          refine r_eqA hc3.2 ?_
          clear hc3 A3 u3
          refine r_if_eq (pc := 59) (tgt := 72) C dX6_nextTo_59 (by decide) (fun b59 => ?_) (fun b59 => ?_)
          · skip
            have b59 := bI_0.mp b59
            refine r_iconst (pc := 72) C dX6_nextTo_72 ci_m1 ?_
            refine r_iret (pc := 73) C E rfl (Nat.le_refl _) (Nat.le_refl _) dX6_nextTo_73 ?_
            refine ⟨?_, rfl⟩
            have h1 : ¬ 1 ≤ c % rW (A.I (t + 1)) := by
              intro h1
              refine b59 ⟨?_, ?_⟩
              · rw [nI_p1 h1]; exact inZ_mk (by omega) (by omega) (by omega)
              · exact inZ_mk (by omega) (by omega) (by omega)
            show _ = oI (nb _ _ c 3)
            unfold nb
            rw [if_neg h1]
            rfl
          · skip
            have b59 := bI_n.mp b59
            have h1 : 1 ≤ c % rW (A.I (t + 1)) := by
              have q := b59.1.1
              rw [t_p1 (by omega)] at q
              omega
            rw [nI_p1 h1]
            refine r_aload_0 (pc := 62) C dX6_nextTo_62 ?_
            refine r_iload_3 (pc := 63) C dX6_nextTo_63 ?_
            refine r_iload_4 (pc := 64) C dX6_nextTo_64 ?_
            refine r_V2io (pc := 66) C (m_at hT rfl hS) vl_X6_83 (tw_g hT) (by decide) (Nat.le_refl _) (Nat.le_refl _) (Nat.le_of_ble_eq_true rfl) rfl dX6_nextTo_66 (fun u4 A4 hc4 => ?_)
            refine r_top hc4.1 ?_
            refine r_eqA hc4.2 ?_
            clear hc4 A4 u4
            refine r_goto (pc := 69) (tgt := 73) C dX6_nextTo_69 (by decide) ?_
            refine r_iret (pc := 73) C E rfl (Nat.le_refl _) (Nat.le_refl _) dX6_nextTo_73 ?_
            refine ⟨?_, rfl⟩
            show _ = oI (nb _ _ c 3)
            unfold nb
            rw [if_pos h1]
            rfl
        · exact absurd b41 (by decide +kernel)
      · exact absurd b33 (by decide +kernel)
  · exact absurd b7 (by decide +kernel)
theorem m_nextTo {g : GZ} {A : HA} {t : Nat} (hT : Tw A t) {σ : Nat → Int32} (hσ : A.I (t + 1) = σ) {c w : Nat} (hS : RowS (σ)) (hc : c < rC (σ)) (hw : w < 4) : Ct g wI yX6_nextTo (.code yX6_nextTo cX6_nextTo 5 (Option.some Jvm.ClassFile.FieldType.int)) 3 0 0 [.ref t, .int (nI c), .int (nI w)] A (fun u A' => u = oI (nb (rW (σ)) (rH (σ)) c w) ∧ A' = A) fw_no := by
  match w, hw with
  | 0, _ => exact m_nextTo0 hT hσ hS hc
  | 1, _ => exact m_nextTo1 hT hσ hS hc
  | 2, _ => exact m_nextTo2 hT hσ hS hc
  | 3, _ => exact m_nextTo3 hT hσ hS hc
