/-! THE REFERENCE, 10: past rows -/
set_option maxRecDepth 100000
/-- past rows with one more -/
def pastR (φ : Rw) (m : Nat) (α : Rw) : Rw := if m = 8 then va_cpy α (va_cpy φ φ 553 0 3871) 0 (553 * 7) 553 else va_cpy α φ 0 (553 * m) 553
def pastM (m : Nat) : Nat := if m = 8 then 8 else m + 1
theorem cpy_hi {f : Rw} {a k j : Nat} (h : k ≤ j) : va_cpy f f a 0 k j = f j := by
  unfold va_cpy
  rw [if_neg (by omega)]
theorem cpy_s0 {f h : Nat → Int32} {a k : Nat} : upd (va_cpy f h a 0 k) k (f (a + k)) = va_cpy f h a 0 (k + 1) := by
  have := @cpy_s f h a 0 k
  rw [Nat.zero_add] at this
  exact this
set_option maxHeartbeats 4000000 in
theorem m_keeps1 {g : GZ} {A : HA} {t : Nat} {σ κ π τ : Nat → Int32} (hT : Tw A t) {m : Nat} (hm : τ 5 = nI m) (h8 : m ≤ 8) : Ct g wV yX6_keeps (.code yX6_keeps cX6_keeps 3 (Option.none : Option Jvm.ClassFile.FieldType)) 2 0 0 [.ref t, .ref (t + 1)] (S5 A t σ κ π τ) (fun u A' => A' = S5 (A.sI (t + 5) (pastR (A.I (t + 5)) m (σ))) t σ κ π (upd τ 5 (nI (pastM m)))) fw_no := by
  refine Ct.of [some (.ref t), some (.ref (t + 1)), none] (by decide) rfl rfl fun z C hx hnm E => ?_
  refine r_aload_0 (pc := 0) C dX6_keeps_0 ?_
  refine r_getI (pc := 1) C fl_X6_321_6 (tw_g hT) rfl dX6_keeps_1 ?_
  refine r_top (congrFun (S5_0 _ _ _ _ _ _) _) ?_
  refine r_top hm ?_
  refine r_bipush (pc := 4) C dX6_keeps_4 cb_8 ?_
  refine r_icmp_ne (pc := 6) (tgt := 50) C dX6_keeps_6 (by decide) (fun b6 => ?_) (fun b6 => ?_)
  · skip
    have b6 := (not_congr (nI_eqI (by omega) (by omega))).mp b6
    refine r_aload_1 (pc := 50) C dX6_keeps_50 ?_
    refine r_iconst (pc := 51) C dX6_keeps_51 ci_0 ?_
    refine r_aload_0 (pc := 52) C dX6_keeps_52 ?_
    refine r_getR (pc := 53) C fl_X6_22_6 (tw_g hT) rfl (tw_r5 hT) dX6_keeps_53 ?_
    refine r_sipush (pc := 56) C dX6_keeps_56 cs_553 ?_
    refine r_aload_0 (pc := 59) C dX6_keeps_59 ?_
    refine r_getI (pc := 60) C fl_X6_321_6 (tw_g hT) rfl dX6_keeps_60 ?_
    refine r_top (congrFun (S5_0 _ _ _ _ _ _) _) ?_
    first | refine r_top pk_us ?_ | refine r_top hm ?_
    refine r_imul (pc := 63) C dX6_keeps_63 ?_
    refine r_top (pk_mul _ _) ?_
    refine r_S4vo (pc := 64) C (m_copies (tw_g1 hT) (tw_g5 hT) rfl rfl (by omega) (by have := tw_n1 hT; show _ ≤ A.n (t + 1); omega) (by have := tw_n5 hT; show _ ≤ A.n (t + 5); omega) (by omega) (by omega)) sl_X6_64 (by decide) (Nat.le_refl _) (Nat.le_refl _) (Nat.le_of_ble_eq_true rfl) rfl dX6_keeps_64 (fun u1 A1 hc1 => ?_)
    refine r_eqA (hc1.trans (by rw [S5_1, S5_x _ _ _ _ _ _ (by omega) (by omega) (by omega) (by omega), S5_sx _ _ _ _ _ _ _ (by omega) (by omega) (by omega) (by omega)])) ?_
    clear hc1 A1 u1
    refine r_aload_0 (pc := 67) C dX6_keeps_67 ?_
    refine r_dup (pc := 68) C dX6_keeps_68 rfl ?_
    refine r_getI (pc := 69) C fl_X6_321_6 (tw_g hT) rfl dX6_keeps_69 ?_
    refine r_top (congrFun (S5_0 _ _ _ _ _ _) _) ?_
    refine r_iconst (pc := 72) C dX6_keeps_72 ci_1 ?_
    refine r_iadd (pc := 73) C dX6_keeps_73 ?_
    refine r_putI (pc := 74) C fl_X6_321_6 (tw_g hT) rfl (fun _ _ _ h => by cases h; exact Or.inl rfl) rfl rfl rfl dX6_keeps_74 ?_
    refine r_eqA (S5_u0 _ _ _ _ _ _ _ _) ?_
    refine r_vret (pc := 77) C E (Nat.le_refl _) (Nat.le_refl _) dX6_keeps_77 ?_
    unfold pastR pastM
    first
      | (rw [if_pos rfl, if_pos rfl, bx_upd, sI_s, sI_sI, pk_us]; rfl)
      | (rw [if_pos rfl, if_pos rfl, bx_upd, sI_s, sI_o _ _ (show t + 3 ≠ t + 5 by omega), sI_sI, pk_us]; rfl)
      | (rw [if_neg b6, if_neg b6, hm, nI_add])
  · skip
    have b6 := (nI_eqI (by omega) (by omega)).mp b6
    subst b6
    refine r_iconst (pc := 9) C dX6_keeps_9 ci_0 ?_
    refine r_istore_2 (pc := 10) C dX6_keeps_10 rfl ?_
    have lp11_2 : ∀ (fu : Nat) (k : Nat) (hk : k ≤ 3871), 3871 - k < fu → wa g z 0 0 (S5 (A.sI (t + 5) (va_cpy (A.I (t + 5)) (A.I (t + 5)) 553 0 k)) t σ κ π τ) 11 [some (.ref t), some (.ref (t + 1)), some (.int (nI (k)))] [] := by
      intro fu
      induction fu with
      | zero => intro k  hk hm11; exact absurd hm11 (Nat.not_lt_zero _)
      | succ fu ih11 =>
        intro k  hk hm11
        refine r_iload_2 (pc := 11) C dX6_keeps_11 ?_
        refine r_sipush (pc := 12) C dX6_keeps_12 cs_3871 ?_
        refine r_icmp_ge (pc := 15) (tgt := 40) C dX6_keeps_15 (by decide) (fun b15 => ?_) (fun b15 => ?_)
        · skip
          have b15 := (nI_le2 (by omega) (by omega)).mp b15
          have e9 : k = 3871 := by omega
          subst e9
          refine r_aload_0 (pc := 40) C dX6_keeps_40 ?_
          refine r_dup (pc := 41) C dX6_keeps_41 rfl ?_
          refine r_getI (pc := 42) C fl_X6_321_6 (tw_g hT) rfl dX6_keeps_42 ?_
          refine r_top (congrFun (S5_0 _ _ _ _ _ _) _) ?_
          refine r_top hm ?_
          refine r_iconst (pc := 45) C dX6_keeps_45 ci_1 ?_
          refine r_isub (pc := 46) C dX6_keeps_46 ?_
          refine r_top (pk_sub (by omega)) ?_
          refine r_putI (pc := 47) C fl_X6_321_6 (tw_g hT) rfl (fun _ _ _ h => by cases h; exact Or.inl rfl) rfl rfl rfl dX6_keeps_47 ?_
          refine r_eqA (S5_u0 _ _ _ _ _ _ _ _) ?_
          refine r_aload_1 (pc := 50) C dX6_keeps_50 ?_
          refine r_iconst (pc := 51) C dX6_keeps_51 ci_0 ?_
          refine r_aload_0 (pc := 52) C dX6_keeps_52 ?_
          refine r_getR (pc := 53) C fl_X6_22_6 (tw_g hT) rfl (tw_r5 hT) dX6_keeps_53 ?_
          refine r_sipush (pc := 56) C dX6_keeps_56 cs_553 ?_
          refine r_aload_0 (pc := 59) C dX6_keeps_59 ?_
          refine r_getI (pc := 60) C fl_X6_321_6 (tw_g hT) rfl dX6_keeps_60 ?_
          refine r_top (congrFun (S5_0 _ _ _ _ _ _) _) ?_
          first | refine r_top pk_us ?_ | refine r_top hm ?_
          refine r_imul (pc := 63) C dX6_keeps_63 ?_
          refine r_top (pk_mul _ _) ?_
          refine r_S4vo (pc := 64) C (m_copies (tw_g1 hT) (tw_g5 hT) rfl rfl (by omega) (by have := tw_n1 hT; show _ ≤ A.n (t + 1); omega) (by have := tw_n5 hT; show _ ≤ A.n (t + 5); omega) (by omega) (by omega)) sl_X6_64 (by decide) (Nat.le_refl _) (Nat.le_refl _) (Nat.le_of_ble_eq_true rfl) rfl dX6_keeps_64 (fun u3 A3 hc3 => ?_)
          refine r_eqA (hc3.trans (by rw [S5_1, S5_x _ _ _ _ _ _ (by omega) (by omega) (by omega) (by omega), S5_sx _ _ _ _ _ _ _ (by omega) (by omega) (by omega) (by omega)])) ?_
          clear hc3 A3 u3
          refine r_aload_0 (pc := 67) C dX6_keeps_67 ?_
          refine r_dup (pc := 68) C dX6_keeps_68 rfl ?_
          refine r_getI (pc := 69) C fl_X6_321_6 (tw_g hT) rfl dX6_keeps_69 ?_
          refine r_top (congrFun (S5_0 _ _ _ _ _ _) _) ?_
          refine r_iconst (pc := 72) C dX6_keeps_72 ci_1 ?_
          refine r_iadd (pc := 73) C dX6_keeps_73 ?_
          refine r_putI (pc := 74) C fl_X6_321_6 (tw_g hT) rfl (fun _ _ _ h => by cases h; exact Or.inl rfl) rfl rfl rfl dX6_keeps_74 ?_
          refine r_eqA (S5_u0 _ _ _ _ _ _ _ _) ?_
          refine r_vret (pc := 77) C E (Nat.le_refl _) (Nat.le_refl _) dX6_keeps_77 ?_
          unfold pastR pastM
          first
            | (rw [if_pos rfl, if_pos rfl, bx_upd, sI_s, sI_sI, pk_us]; rfl)
            | (rw [if_pos rfl, if_pos rfl, bx_upd, sI_s, sI_o _ _ (show t + 3 ≠ t + 5 by omega), sI_sI, pk_us]; rfl)
            | (rw [if_neg b6, if_neg b6, hm, nI_add])
        · skip
          have b15 := (not_congr (nI_le2 (by omega) (by omega))).mp b15
          refine r_aload_0 (pc := 18) C dX6_keeps_18 ?_
          refine r_getR (pc := 19) C fl_X6_22_6 (tw_g hT) rfl (tw_r5 hT) dX6_keeps_19 ?_
          refine r_iload_2 (pc := 22) C dX6_keeps_22 ?_
          refine r_aload_0 (pc := 23) C dX6_keeps_23 ?_
          refine r_getR (pc := 24) C fl_X6_22_6 (tw_g hT) rfl (tw_r5 hT) dX6_keeps_24 ?_
          refine r_iload_2 (pc := 27) C dX6_keeps_27 ?_
          refine r_sipush (pc := 28) C dX6_keeps_28 cs_553 ?_
          refine r_iadd (pc := 31) C dX6_keeps_31 ?_
          refine r_top (nI_add _ _) ?_
          refine r_iald (pc := 32) C (tw_g5 hT) rfl rfl (lt_eq (by omega) (tw_n5 hT)) (by omega) dX6_keeps_32 ?_
          refine r_top (congrFun (S5_x _ _ _ _ _ _ (by omega) (by omega) (by omega) (by omega)) _) ?_
          refine r_top (by rw [sI_s, cpy_hi (by omega), Nat.add_comm k 553]) ?_
          refine r_iast (pc := 33) C (tw_g5 hT) rfl rfl (lt_eq (by omega) (tw_n5 hT)) (by omega) dX6_keeps_33 ?_
          refine r_eqA (A' := S5 (A.sI (t + 5) (va_cpy (A.I (t + 5)) (A.I (t + 5)) 553 0 (k + 1))) t σ κ π τ) (by rw [S5_x _ _ _ _ _ _ (by omega) (by omega) (by omega) (by omega), S5_sx _ _ _ _ _ _ _ (by omega) (by omega) (by omega) (by omega), sI_s, sI_sI, cpy_s0]) ?_
          refine r_iinc_2 (pc := 34) C dX6_keeps_34 (nI_inc _) rfl ?_
          refine r_goto (pc := 37) (tgt := 11) C dX6_keeps_37 (by decide) ?_
          exact ih11 (k + 1) (by omega) (by omega)
    refine r_eqA (A' := S5 (A.sI (t + 5) (va_cpy (A.I (t + 5)) (A.I (t + 5)) 553 0 0)) t σ κ π τ) (by rw [cpy_0, sI_self]) ?_
    exact lp11_2 _ 0 (by omega) (Nat.lt_succ_self _)
set_option maxHeartbeats 4000000 in
theorem m_keeps3 {g : GZ} {A : HA} {t : Nat} {σ κ π τ : Nat → Int32} (hT : Tw A t) {m : Nat} (hm : τ 5 = nI m) (h8 : m ≤ 8) : Ct g wV yX6_keeps (.code yX6_keeps cX6_keeps 3 (Option.none : Option Jvm.ClassFile.FieldType)) 2 0 0 [.ref t, .ref (t + 3)] (S5 A t σ κ π τ) (fun u A' => A' = S5 (A.sI (t + 5) (pastR (A.I (t + 5)) m (A.I (t + 3)))) t σ κ π (upd τ 5 (nI (pastM m)))) fw_no := by
  refine Ct.of [some (.ref t), some (.ref (t + 3)), none] (by decide) rfl rfl fun z C hx hnm E => ?_
  refine r_aload_0 (pc := 0) C dX6_keeps_0 ?_
  refine r_getI (pc := 1) C fl_X6_321_6 (tw_g hT) rfl dX6_keeps_1 ?_
  refine r_top (congrFun (S5_0 _ _ _ _ _ _) _) ?_
  refine r_top hm ?_
  refine r_bipush (pc := 4) C dX6_keeps_4 cb_8 ?_
  refine r_icmp_ne (pc := 6) (tgt := 50) C dX6_keeps_6 (by decide) (fun b6 => ?_) (fun b6 => ?_)
  · skip
    have b6 := (not_congr (nI_eqI (by omega) (by omega))).mp b6
    refine r_aload_1 (pc := 50) C dX6_keeps_50 ?_
    refine r_iconst (pc := 51) C dX6_keeps_51 ci_0 ?_
    refine r_aload_0 (pc := 52) C dX6_keeps_52 ?_
    refine r_getR (pc := 53) C fl_X6_22_6 (tw_g hT) rfl (tw_r5 hT) dX6_keeps_53 ?_
    refine r_sipush (pc := 56) C dX6_keeps_56 cs_553 ?_
    refine r_aload_0 (pc := 59) C dX6_keeps_59 ?_
    refine r_getI (pc := 60) C fl_X6_321_6 (tw_g hT) rfl dX6_keeps_60 ?_
    refine r_top (congrFun (S5_0 _ _ _ _ _ _) _) ?_
    first | refine r_top pk_us ?_ | refine r_top hm ?_
    refine r_imul (pc := 63) C dX6_keeps_63 ?_
    refine r_top (pk_mul _ _) ?_
    refine r_S4vo (pc := 64) C (m_copies (tw_g3 hT) (tw_g5 hT) rfl rfl (by omega) (by have := tw_n3 hT; show _ ≤ A.n (t + 3); omega) (by have := tw_n5 hT; show _ ≤ A.n (t + 5); omega) (by omega) (by omega)) sl_X6_64 (by decide) (Nat.le_refl _) (Nat.le_refl _) (Nat.le_of_ble_eq_true rfl) rfl dX6_keeps_64 (fun u1 A1 hc1 => ?_)
    refine r_eqA (hc1.trans (by rw [S5_x _ _ _ _ _ _ (by omega) (by omega) (by omega) (by omega), S5_x _ _ _ _ _ _ (by omega) (by omega) (by omega) (by omega), S5_sx _ _ _ _ _ _ _ (by omega) (by omega) (by omega) (by omega)])) ?_
    clear hc1 A1 u1
    refine r_aload_0 (pc := 67) C dX6_keeps_67 ?_
    refine r_dup (pc := 68) C dX6_keeps_68 rfl ?_
    refine r_getI (pc := 69) C fl_X6_321_6 (tw_g hT) rfl dX6_keeps_69 ?_
    refine r_top (congrFun (S5_0 _ _ _ _ _ _) _) ?_
    refine r_iconst (pc := 72) C dX6_keeps_72 ci_1 ?_
    refine r_iadd (pc := 73) C dX6_keeps_73 ?_
    refine r_putI (pc := 74) C fl_X6_321_6 (tw_g hT) rfl (fun _ _ _ h => by cases h; exact Or.inl rfl) rfl rfl rfl dX6_keeps_74 ?_
    refine r_eqA (S5_u0 _ _ _ _ _ _ _ _) ?_
    refine r_vret (pc := 77) C E (Nat.le_refl _) (Nat.le_refl _) dX6_keeps_77 ?_
    unfold pastR pastM
    first
      | (rw [if_pos rfl, if_pos rfl, bx_upd, sI_s, sI_sI, pk_us]; rfl)
      | (rw [if_pos rfl, if_pos rfl, bx_upd, sI_s, sI_o _ _ (show t + 3 ≠ t + 5 by omega), sI_sI, pk_us]; rfl)
      | (rw [if_neg b6, if_neg b6, hm, nI_add])
  · skip
    have b6 := (nI_eqI (by omega) (by omega)).mp b6
    subst b6
    refine r_iconst (pc := 9) C dX6_keeps_9 ci_0 ?_
    refine r_istore_2 (pc := 10) C dX6_keeps_10 rfl ?_
    have lp11_2 : ∀ (fu : Nat) (k : Nat) (hk : k ≤ 3871), 3871 - k < fu → wa g z 0 0 (S5 (A.sI (t + 5) (va_cpy (A.I (t + 5)) (A.I (t + 5)) 553 0 k)) t σ κ π τ) 11 [some (.ref t), some (.ref (t + 3)), some (.int (nI (k)))] [] := by
      intro fu
      induction fu with
      | zero => intro k  hk hm11; exact absurd hm11 (Nat.not_lt_zero _)
      | succ fu ih11 =>
        intro k  hk hm11
        refine r_iload_2 (pc := 11) C dX6_keeps_11 ?_
        refine r_sipush (pc := 12) C dX6_keeps_12 cs_3871 ?_
        refine r_icmp_ge (pc := 15) (tgt := 40) C dX6_keeps_15 (by decide) (fun b15 => ?_) (fun b15 => ?_)
        · skip
          have b15 := (nI_le2 (by omega) (by omega)).mp b15
          have e9 : k = 3871 := by omega
          subst e9
          refine r_aload_0 (pc := 40) C dX6_keeps_40 ?_
          refine r_dup (pc := 41) C dX6_keeps_41 rfl ?_
          refine r_getI (pc := 42) C fl_X6_321_6 (tw_g hT) rfl dX6_keeps_42 ?_
          refine r_top (congrFun (S5_0 _ _ _ _ _ _) _) ?_
          refine r_top hm ?_
          refine r_iconst (pc := 45) C dX6_keeps_45 ci_1 ?_
          refine r_isub (pc := 46) C dX6_keeps_46 ?_
          refine r_top (pk_sub (by omega)) ?_
          refine r_putI (pc := 47) C fl_X6_321_6 (tw_g hT) rfl (fun _ _ _ h => by cases h; exact Or.inl rfl) rfl rfl rfl dX6_keeps_47 ?_
          refine r_eqA (S5_u0 _ _ _ _ _ _ _ _) ?_
          refine r_aload_1 (pc := 50) C dX6_keeps_50 ?_
          refine r_iconst (pc := 51) C dX6_keeps_51 ci_0 ?_
          refine r_aload_0 (pc := 52) C dX6_keeps_52 ?_
          refine r_getR (pc := 53) C fl_X6_22_6 (tw_g hT) rfl (tw_r5 hT) dX6_keeps_53 ?_
          refine r_sipush (pc := 56) C dX6_keeps_56 cs_553 ?_
          refine r_aload_0 (pc := 59) C dX6_keeps_59 ?_
          refine r_getI (pc := 60) C fl_X6_321_6 (tw_g hT) rfl dX6_keeps_60 ?_
          refine r_top (congrFun (S5_0 _ _ _ _ _ _) _) ?_
          first | refine r_top pk_us ?_ | refine r_top hm ?_
          refine r_imul (pc := 63) C dX6_keeps_63 ?_
          refine r_top (pk_mul _ _) ?_
          refine r_S4vo (pc := 64) C (m_copies (tw_g3 hT) (tw_g5 hT) rfl rfl (by omega) (by have := tw_n3 hT; show _ ≤ A.n (t + 3); omega) (by have := tw_n5 hT; show _ ≤ A.n (t + 5); omega) (by omega) (by omega)) sl_X6_64 (by decide) (Nat.le_refl _) (Nat.le_refl _) (Nat.le_of_ble_eq_true rfl) rfl dX6_keeps_64 (fun u3 A3 hc3 => ?_)
          refine r_eqA (hc3.trans (by rw [S5_x _ _ _ _ _ _ (by omega) (by omega) (by omega) (by omega), S5_x _ _ _ _ _ _ (by omega) (by omega) (by omega) (by omega), S5_sx _ _ _ _ _ _ _ (by omega) (by omega) (by omega) (by omega)])) ?_
          clear hc3 A3 u3
          refine r_aload_0 (pc := 67) C dX6_keeps_67 ?_
          refine r_dup (pc := 68) C dX6_keeps_68 rfl ?_
          refine r_getI (pc := 69) C fl_X6_321_6 (tw_g hT) rfl dX6_keeps_69 ?_
          refine r_top (congrFun (S5_0 _ _ _ _ _ _) _) ?_
          refine r_iconst (pc := 72) C dX6_keeps_72 ci_1 ?_
          refine r_iadd (pc := 73) C dX6_keeps_73 ?_
          refine r_putI (pc := 74) C fl_X6_321_6 (tw_g hT) rfl (fun _ _ _ h => by cases h; exact Or.inl rfl) rfl rfl rfl dX6_keeps_74 ?_
          refine r_eqA (S5_u0 _ _ _ _ _ _ _ _) ?_
          refine r_vret (pc := 77) C E (Nat.le_refl _) (Nat.le_refl _) dX6_keeps_77 ?_
          unfold pastR pastM
          first
            | (rw [if_pos rfl, if_pos rfl, bx_upd, sI_s, sI_sI, pk_us]; rfl)
            | (rw [if_pos rfl, if_pos rfl, bx_upd, sI_s, sI_o _ _ (show t + 3 ≠ t + 5 by omega), sI_sI, pk_us]; rfl)
            | (rw [if_neg b6, if_neg b6, hm, nI_add])
        · skip
          have b15 := (not_congr (nI_le2 (by omega) (by omega))).mp b15
          refine r_aload_0 (pc := 18) C dX6_keeps_18 ?_
          refine r_getR (pc := 19) C fl_X6_22_6 (tw_g hT) rfl (tw_r5 hT) dX6_keeps_19 ?_
          refine r_iload_2 (pc := 22) C dX6_keeps_22 ?_
          refine r_aload_0 (pc := 23) C dX6_keeps_23 ?_
          refine r_getR (pc := 24) C fl_X6_22_6 (tw_g hT) rfl (tw_r5 hT) dX6_keeps_24 ?_
          refine r_iload_2 (pc := 27) C dX6_keeps_27 ?_
          refine r_sipush (pc := 28) C dX6_keeps_28 cs_553 ?_
          refine r_iadd (pc := 31) C dX6_keeps_31 ?_
          refine r_top (nI_add _ _) ?_
          refine r_iald (pc := 32) C (tw_g5 hT) rfl rfl (lt_eq (by omega) (tw_n5 hT)) (by omega) dX6_keeps_32 ?_
          refine r_top (congrFun (S5_x _ _ _ _ _ _ (by omega) (by omega) (by omega) (by omega)) _) ?_
          refine r_top (by rw [sI_s, cpy_hi (by omega), Nat.add_comm k 553]) ?_
          refine r_iast (pc := 33) C (tw_g5 hT) rfl rfl (lt_eq (by omega) (tw_n5 hT)) (by omega) dX6_keeps_33 ?_
          refine r_eqA (A' := S5 (A.sI (t + 5) (va_cpy (A.I (t + 5)) (A.I (t + 5)) 553 0 (k + 1))) t σ κ π τ) (by rw [S5_x _ _ _ _ _ _ (by omega) (by omega) (by omega) (by omega), S5_sx _ _ _ _ _ _ _ (by omega) (by omega) (by omega) (by omega), sI_s, sI_sI, cpy_s0]) ?_
          refine r_iinc_2 (pc := 34) C dX6_keeps_34 (nI_inc _) rfl ?_
          refine r_goto (pc := 37) (tgt := 11) C dX6_keeps_37 (by decide) ?_
          exact ih11 (k + 1) (by omega) (by omega)
    refine r_eqA (A' := S5 (A.sI (t + 5) (va_cpy (A.I (t + 5)) (A.I (t + 5)) 553 0 0)) t σ κ π τ) (by rw [cpy_0, sI_self]) ?_
    exact lp11_2 _ 0 (by omega) (Nat.lt_succ_self _)
set_option maxHeartbeats 4000000 in
theorem m_done {g : GZ} {A : HA} {t : Nat} {σ κ π τ : Nat → Int32} (hT : Tw A t) {m : Nat} {x : Int32} (hm : τ 5 = nI m) (h8 : m ≤ 8) : Ct g wI yX6_done (.code yX6_done cX6_done 2 (Option.some Jvm.ClassFile.FieldType.int)) 3 0 0 [.ref t, .int x] (S5 A t σ κ π τ) (fun u A' => u = x ∧ A' = (if x < 0 then S5 A t σ κ π τ else S5 (A.sI (t + 5) (pastR (A.I (t + 5)) m (A.I (t + 3)))) t σ κ π (upd τ 5 (nI (pastM m))))) fw_no := by
  refine Ct.of [some (.ref t), some (.int x)] (by decide) rfl rfl fun z C hx hnm E => ?_
  refine r_iload_1 (pc := 0) C dX6_done_0 ?_
  refine r_if_lt (pc := 1) (tgt := 12) C dX6_done_1 (by decide) (fun b1 => ?_) (fun b1 => ?_)
  · skip
    refine r_iload_1 (pc := 12) C dX6_done_12 ?_
    refine r_iret (pc := 13) C E rfl (Nat.le_refl _) (Nat.le_refl _) dX6_done_13 ?_
    first
      | rw [if_pos (by assumption)]; exact ⟨rfl, rfl⟩
      | rw [if_neg (by assumption)]; exact ⟨rfl, rfl⟩
  · skip
    refine r_aload_0 (pc := 4) C dX6_done_4 ?_
    refine r_aload_0 (pc := 5) C dX6_done_5 ?_
    refine r_getR (pc := 6) C fl_X6_16_6 (tw_g hT) rfl (tw_r3 hT) dX6_done_6 ?_
    refine r_V1vo (pc := 9) C (m_keeps3 (by exact hT) hm h8) vl_X6_372 (tw_g hT) (by decide) (Nat.le_refl _) (Nat.le_refl _) (Nat.le_of_ble_eq_true rfl) rfl dX6_done_9 (fun u1 A1 hc1 => ?_)
    refine r_eqA hc1 ?_
    clear hc1 A1 u1
    refine r_iload_1 (pc := 12) C dX6_done_12 ?_
    refine r_iret (pc := 13) C E rfl (Nat.le_refl _) (Nat.le_refl _) dX6_done_13 ?_
    first
      | rw [if_pos (by assumption)]; exact ⟨rfl, rfl⟩
      | rw [if_neg (by assumption)]; exact ⟨rfl, rfl⟩
