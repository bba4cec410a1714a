/-! THE REFERENCE, 24: the buffer, tokens -/
set_option maxRecDepth 100000
/-- the twin's numbers with the state of a text's reading: at, begin, wordLong, error, errorAt -/
def stT (τ : Rw) (a g w e : Nat) (ep : Int32) : Rw := fun j => if j = 13 then nI a else if j = 14 then nI g else if j = 15 then nI w else if j = 16 then nI e else if j = 17 then ep else τ j
section
variable (τ : Rw) (a g w e : Nat) (ep : Int32)
theorem st_13 : stT τ a g w e ep 13 = nI a := rfl
theorem st_14 : stT τ a g w e ep 14 = nI g := rfl
theorem st_15 : stT τ a g w e ep 15 = nI w := rfl
theorem st_16 : stT τ a g w e ep 16 = nI e := rfl
theorem st_17 : stT τ a g w e ep 17 = ep := rfl
theorem st_x {j : Nat} (h : j < 13 ∨ 17 < j) : stT τ a g w e ep j = τ j := by
  unfold stT
  rw [if_neg (by omega), if_neg (by omega), if_neg (by omega), if_neg (by omega), if_neg (by omega)]
theorem st_u13 (n : Nat) : upd (stT τ a g w e ep) 13 (nI n) = stT τ n g w e ep := by
  funext j; unfold upd stT; by_cases h : j = 13 <;> simp only [h, if_pos, if_neg, not_false_eq_true]
theorem st_u14 (n : Nat) : upd (stT τ a g w e ep) 14 (nI n) = stT τ a n w e ep := by
  funext j; unfold upd stT
  by_cases h : j = 14
  · subst h; rfl
  · rw [if_neg h, if_neg h]; rw [if_neg h]
theorem st_u15 (n : Nat) : upd (stT τ a g w e ep) 15 (nI n) = stT τ a g n e ep := by
  funext j; unfold upd stT
  by_cases h : j = 15
  · subst h; rfl
  · rw [if_neg h, if_neg h]; rw [if_neg h]
theorem st_u16 (n : Nat) : upd (stT τ a g w e ep) 16 (nI n) = stT τ a g w n ep := by
  funext j; unfold upd stT
  by_cases h : j = 16
  · subst h; rfl
  · rw [if_neg h, if_neg h]; rw [if_neg h]
theorem st_u17 (x : Int32) : upd (stT τ a g w e ep) 17 x = stT τ a g w e x := by
  funext j; unfold upd stT
  by_cases h : j = 17
  · subst h; rfl
  · rw [if_neg h, if_neg h]; rw [if_neg h]
end
theorem st_ux (τ : Rw) (a g w e : Nat) (ep : Int32) {k : Nat} {x : Int32} (h : (decide (k < 13) || decide (17 < k)) = true) : upd (stT τ a g w e ep) k x = stT (upd τ k x) a g w e ep := by
  rw [Bool.or_eq_true, decide_eq_true_iff, decide_eq_true_iff] at h
  funext j
  by_cases q : j = k
  · subst q; rw [pk_us, st_x _ _ _ _ _ _ h, pk_us]
  · rw [pk_un q]; unfold stT; rw [pk_un q]
theorem st_self {τ : Rw} {a g w e : Nat} (h1 : τ 13 = nI a) (h2 : τ 14 = nI g) (h3 : τ 15 = nI w) (h4 : τ 16 = nI e) : stT τ a g w e (τ 17) = τ := by
  funext j; unfold stT
  split
  · rename_i h; rw [h, h1]
  · split
    · rename_i h; rw [h, h2]
    · split
      · rename_i h; rw [h, h3]
      · split
        · rename_i h; rw [h, h4]
        · split
          · rename_i h; rw [h]
          · rfl
/-- the buffer bears a text -/
def BufI (f : Rw) (B : Nat → Nat) (L : Nat) : Prop := L ≤ 900 ∧ ∀ k, k < L → f k = nI (B k) ∧ B k ≤ 255
theorem BufI.l {f : Rw} {B : Nat → Nat} {L : Nat} (h : BufI f B L) : L ≤ 900 := h.1
theorem inZ_bt {f : Rw} {B : Nat → Nat} {L k lo hi : Nat} (hB : BufI f B L) : inZ (oI (btO B L k)) (lo : Int) (hi : Int) ↔ (k < L ∧ (lo ≤ B k ∧ B k ≤ hi)) := by
  by_cases q : k < L
  · have h2 := (hB.2 k q).2
    rw [btO_lt q, oI_some, inZ_nI (by omega)]; omega
  · rw [btO_ge q, oI_none]
    have h2 : (-1 : Int32).toInt = -1 := by decide +kernel
    unfold inZ; rw [h2]; omega
def fourB (f : Rw) (L : Nat) (v : Int32) : Rw := upd (upd (upd (upd f L (v >>> (nI 24 &&& 31) &&& nI 255)) (L + 1) (v >>> (nI 16 &&& 31) &&& nI 255)) (L + 1 + 1) (v >>> (nI 8 &&& 31) &&& nI 255)) (L + 1 + 1 + 1) (v >>> (nI 0 &&& 31) &&& nI 255)
set_option maxHeartbeats 4000000 in
theorem m_four {g : GZ} {A : HA} {t : Nat} {σ κ π τ : Nat → Int32} (hT : Tw A t) {v : Int32} {L : Nat} (hL : τ 12 = nI L) (h9 : L + 4 ≤ 900) : Ct g wV yX6_four (.code yX6_four cX6_four 3 (Option.none : Option Jvm.ClassFile.FieldType)) 1 0 0 [.ref t, .int v] (S5 A t σ κ π τ) (fun u A' => A' = S5 (A.sI (t + 8) (fourB (A.I (t + 8)) L v)) t σ κ π (upd τ 12 (nI (L + 1 + 1 + 1 + 1)))) fw_no := by
  refine Ct.of [some (.ref t), some (.int v), none] (by decide) rfl rfl fun z C hx hnm E => ?_
  refine r_bipush (pc := 0) C dX6_four_0 cb_24 ?_
  refine r_istore_2 (pc := 2) C dX6_four_2 rfl ?_
  refine r_iload_2 (pc := 3) C dX6_four_3 ?_
  refine r_if_lt (pc := 4) (tgt := 39) C dX6_four_4 (by decide) (fun b4 => ?_) (fun b4 => ?_)
  · exact absurd b4 (by decide +kernel)
  · skip
    refine r_aload_0 (pc := 7) C dX6_four_7 ?_
    refine r_getR (pc := 8) C fl_X6_31_6 (tw_g hT) rfl (tw_r8 hT) dX6_four_8 ?_
    refine r_aload_0 (pc := 11) C dX6_four_11 ?_
    refine r_getI (pc := 12) C fl_X6_56_6 (tw_g hT) rfl dX6_four_12 ?_
    refine r_top (congrFun (S5_0 _ _ _ _ _ _) _) ?_
    first | refine r_top pk_us ?_ | refine r_top hL ?_
    refine r_iload_1 (pc := 15) C dX6_four_15 ?_
    refine r_iload_2 (pc := 16) C dX6_four_16 ?_
    refine r_ishr (pc := 17) C dX6_four_17 ?_
    refine r_sipush (pc := 18) C dX6_four_18 cs_255 ?_
    refine r_iand (pc := 21) C dX6_four_21 ?_
    refine r_iast (pc := 22) C (tw_g8 hT) rfl rfl (lt_eq (by omega) (tw_n8 hT)) (by omega) dX6_four_22 ?_
    refine r_eqA (show _ = _ by first | rw [S5_x _ _ _ _ _ _ (by omega) (by omega) (by omega) (by omega), S5_sx _ _ _ _ _ _ _ (by omega) (by omega) (by omega) (by omega), sI_s, sI_sI] | rw [S5_x _ _ _ _ _ _ (by omega) (by omega) (by omega) (by omega), S5_sx _ _ _ _ _ _ _ (by omega) (by omega) (by omega) (by omega)]) ?_
    refine r_aload_0 (pc := 23) C dX6_four_23 ?_
    refine r_dup (pc := 24) C dX6_four_24 rfl ?_
    refine r_getI (pc := 25) C fl_X6_56_6 (tw_g hT) rfl dX6_four_25 ?_
    refine r_top (congrFun (S5_0 _ _ _ _ _ _) _) ?_
    first | refine r_top pk_us ?_ | refine r_top hL ?_
    refine r_iconst (pc := 28) C dX6_four_28 ci_1 ?_
    refine r_iadd (pc := 29) C dX6_four_29 ?_
    refine r_top (nI_add _ _) ?_
    refine r_putI (pc := 30) C fl_X6_56_6 (tw_g hT) rfl (fun _ _ _ h => by cases h; exact Or.inl rfl) rfl rfl rfl dX6_four_30 ?_
    refine r_eqA (S5_u0 _ _ _ _ _ _ _ _) ?_
    first | rw [bx_upd] | skip
    refine r_iinc_2 (pc := 33) C dX6_four_33 (show _ = nI 16 by decide +kernel) rfl ?_
    refine r_goto (pc := 36) (tgt := 3) C dX6_four_36 (by decide) ?_
    refine r_iload_2 (pc := 3) C dX6_four_3 ?_
    refine r_if_lt (pc := 4) (tgt := 39) C dX6_four_4 (by decide) (fun b4 => ?_) (fun b4 => ?_)
    · exact absurd b4 (by decide +kernel)
    · skip
      refine r_aload_0 (pc := 7) C dX6_four_7 ?_
      refine r_getR (pc := 8) C fl_X6_31_6 (tw_g hT) rfl (tw_r8 hT) dX6_four_8 ?_
      refine r_aload_0 (pc := 11) C dX6_four_11 ?_
      refine r_getI (pc := 12) C fl_X6_56_6 (tw_g hT) rfl dX6_four_12 ?_
      refine r_top (congrFun (S5_0 _ _ _ _ _ _) _) ?_
      first | refine r_top pk_us ?_ | refine r_top hL ?_
      refine r_iload_1 (pc := 15) C dX6_four_15 ?_
      refine r_iload_2 (pc := 16) C dX6_four_16 ?_
      refine r_ishr (pc := 17) C dX6_four_17 ?_
      refine r_sipush (pc := 18) C dX6_four_18 cs_255 ?_
      refine r_iand (pc := 21) C dX6_four_21 ?_
      refine r_iast (pc := 22) C (tw_g8 hT) rfl rfl (lt_eq (by omega) (tw_n8 hT)) (by omega) dX6_four_22 ?_
      refine r_eqA (show _ = _ by first | rw [S5_x _ _ _ _ _ _ (by omega) (by omega) (by omega) (by omega), S5_sx _ _ _ _ _ _ _ (by omega) (by omega) (by omega) (by omega), sI_s, sI_sI] | rw [S5_x _ _ _ _ _ _ (by omega) (by omega) (by omega) (by omega), S5_sx _ _ _ _ _ _ _ (by omega) (by omega) (by omega) (by omega)]) ?_
      refine r_aload_0 (pc := 23) C dX6_four_23 ?_
      refine r_dup (pc := 24) C dX6_four_24 rfl ?_
      refine r_getI (pc := 25) C fl_X6_56_6 (tw_g hT) rfl dX6_four_25 ?_
      refine r_top (congrFun (S5_0 _ _ _ _ _ _) _) ?_
      first | refine r_top pk_us ?_ | refine r_top hL ?_
      refine r_iconst (pc := 28) C dX6_four_28 ci_1 ?_
      refine r_iadd (pc := 29) C dX6_four_29 ?_
      refine r_top (nI_add _ _) ?_
      refine r_putI (pc := 30) C fl_X6_56_6 (tw_g hT) rfl (fun _ _ _ h => by cases h; exact Or.inl rfl) rfl rfl rfl dX6_four_30 ?_
      refine r_eqA (S5_u0 _ _ _ _ _ _ _ _) ?_
      first | rw [bx_upd] | skip
      refine r_iinc_2 (pc := 33) C dX6_four_33 (show _ = nI 8 by decide +kernel) rfl ?_
      refine r_goto (pc := 36) (tgt := 3) C dX6_four_36 (by decide) ?_
      refine r_iload_2 (pc := 3) C dX6_four_3 ?_
      refine r_if_lt (pc := 4) (tgt := 39) C dX6_four_4 (by decide) (fun b4 => ?_) (fun b4 => ?_)
      · exact absurd b4 (by decide +kernel)
      · skip
        refine r_aload_0 (pc := 7) C dX6_four_7 ?_
        refine r_getR (pc := 8) C fl_X6_31_6 (tw_g hT) rfl (tw_r8 hT) dX6_four_8 ?_
        refine r_aload_0 (pc := 11) C dX6_four_11 ?_
        refine r_getI (pc := 12) C fl_X6_56_6 (tw_g hT) rfl dX6_four_12 ?_
        refine r_top (congrFun (S5_0 _ _ _ _ _ _) _) ?_
        first | refine r_top pk_us ?_ | refine r_top hL ?_
        refine r_iload_1 (pc := 15) C dX6_four_15 ?_
        refine r_iload_2 (pc := 16) C dX6_four_16 ?_
        refine r_ishr (pc := 17) C dX6_four_17 ?_
        refine r_sipush (pc := 18) C dX6_four_18 cs_255 ?_
        refine r_iand (pc := 21) C dX6_four_21 ?_
        refine r_iast (pc := 22) C (tw_g8 hT) rfl rfl (lt_eq (by omega) (tw_n8 hT)) (by omega) dX6_four_22 ?_
        refine r_eqA (show _ = _ by first | rw [S5_x _ _ _ _ _ _ (by omega) (by omega) (by omega) (by omega), S5_sx _ _ _ _ _ _ _ (by omega) (by omega) (by omega) (by omega), sI_s, sI_sI] | rw [S5_x _ _ _ _ _ _ (by omega) (by omega) (by omega) (by omega), S5_sx _ _ _ _ _ _ _ (by omega) (by omega) (by omega) (by omega)]) ?_
        refine r_aload_0 (pc := 23) C dX6_four_23 ?_
        refine r_dup (pc := 24) C dX6_four_24 rfl ?_
        refine r_getI (pc := 25) C fl_X6_56_6 (tw_g hT) rfl dX6_four_25 ?_
        refine r_top (congrFun (S5_0 _ _ _ _ _ _) _) ?_
        first | refine r_top pk_us ?_ | refine r_top hL ?_
        refine r_iconst (pc := 28) C dX6_four_28 ci_1 ?_
        refine r_iadd (pc := 29) C dX6_four_29 ?_
        refine r_top (nI_add _ _) ?_
        refine r_putI (pc := 30) C fl_X6_56_6 (tw_g hT) rfl (fun _ _ _ h => by cases h; exact Or.inl rfl) rfl rfl rfl dX6_four_30 ?_
        refine r_eqA (S5_u0 _ _ _ _ _ _ _ _) ?_
        first | rw [bx_upd] | skip
        refine r_iinc_2 (pc := 33) C dX6_four_33 (show _ = nI 0 by decide +kernel) rfl ?_
        refine r_goto (pc := 36) (tgt := 3) C dX6_four_36 (by decide) ?_
        refine r_iload_2 (pc := 3) C dX6_four_3 ?_
        refine r_if_lt (pc := 4) (tgt := 39) C dX6_four_4 (by decide) (fun b4 => ?_) (fun b4 => ?_)
        · exact absurd b4 (by decide +kernel)
        · skip
          refine r_aload_0 (pc := 7) C dX6_four_7 ?_
          refine r_getR (pc := 8) C fl_X6_31_6 (tw_g hT) rfl (tw_r8 hT) dX6_four_8 ?_
          refine r_aload_0 (pc := 11) C dX6_four_11 ?_
          refine r_getI (pc := 12) C fl_X6_56_6 (tw_g hT) rfl dX6_four_12 ?_
          refine r_top (congrFun (S5_0 _ _ _ _ _ _) _) ?_
          first | refine r_top pk_us ?_ | refine r_top hL ?_
          refine r_iload_1 (pc := 15) C dX6_four_15 ?_
          refine r_iload_2 (pc := 16) C dX6_four_16 ?_
          refine r_ishr (pc := 17) C dX6_four_17 ?_
          refine r_sipush (pc := 18) C dX6_four_18 cs_255 ?_
          refine r_iand (pc := 21) C dX6_four_21 ?_
          refine r_iast (pc := 22) C (tw_g8 hT) rfl rfl (lt_eq (by omega) (tw_n8 hT)) (by omega) dX6_four_22 ?_
          refine r_eqA (show _ = _ by first | rw [S5_x _ _ _ _ _ _ (by omega) (by omega) (by omega) (by omega), S5_sx _ _ _ _ _ _ _ (by omega) (by omega) (by omega) (by omega), sI_s, sI_sI] | rw [S5_x _ _ _ _ _ _ (by omega) (by omega) (by omega) (by omega), S5_sx _ _ _ _ _ _ _ (by omega) (by omega) (by omega) (by omega)]) ?_
          refine r_aload_0 (pc := 23) C dX6_four_23 ?_
          refine r_dup (pc := 24) C dX6_four_24 rfl ?_
          refine r_getI (pc := 25) C fl_X6_56_6 (tw_g hT) rfl dX6_four_25 ?_
          refine r_top (congrFun (S5_0 _ _ _ _ _ _) _) ?_
          first | refine r_top pk_us ?_ | refine r_top hL ?_
          refine r_iconst (pc := 28) C dX6_four_28 ci_1 ?_
          refine r_iadd (pc := 29) C dX6_four_29 ?_
          refine r_top (nI_add _ _) ?_
          refine r_putI (pc := 30) C fl_X6_56_6 (tw_g hT) rfl (fun _ _ _ h => by cases h; exact Or.inl rfl) rfl rfl rfl dX6_four_30 ?_
          refine r_eqA (S5_u0 _ _ _ _ _ _ _ _) ?_
          first | rw [bx_upd] | skip
          refine r_iinc_2 (pc := 33) C dX6_four_33 (show _ = (-8) by decide +kernel) rfl ?_
          refine r_goto (pc := 36) (tgt := 3) C dX6_four_36 (by decide) ?_
          refine r_iload_2 (pc := 3) C dX6_four_3 ?_
          refine r_if_lt (pc := 4) (tgt := 39) C dX6_four_4 (by decide) (fun b4 => ?_) (fun b4 => ?_)
          · skip
            refine r_vret (pc := 39) C E (Nat.le_refl _) (Nat.le_refl _) dX6_four_39 ?_
            exact rfl
          · exact absurd b4 (by decide +kernel)
def fivB (f : Rw) (L : Nat) (va vb vc vd ve : Int32) : Rw := fourB (fourB (fourB (fourB (fourB f L va) (L + 1 + 1 + 1 + 1) vb) (L + 1 + 1 + 1 + 1 + 1 + 1 + 1 + 1) vc) (L + 1 + 1 + 1 + 1 + 1 + 1 + 1 + 1 + 1 + 1 + 1 + 1) vd) (L + 1 + 1 + 1 + 1 + 1 + 1 + 1 + 1 + 1 + 1 + 1 + 1 + 1 + 1 + 1 + 1) ve
set_option maxHeartbeats 4000000 in
theorem m_append {g : GZ} {A : HA} {t : Nat} {σ κ π τ : Nat → Int32} (hT : Tw A t) {va vb vc vd ve : Int32} {L : Nat} (hL : τ 12 = nI L) (h9 : L ≤ 900) : Ct g wI yX6_append (.code yX6_append cX6_append 6 (Option.some Jvm.ClassFile.FieldType.int)) 2 0 0 [.ref t, .int va, .int vb, .int vc, .int vd, .int ve] (S5 A t σ κ π τ) (fun u A' => (L + 20 ≤ 900 → u = nI (L + 20) ∧ A' = S5 (A.sI (t + 8) (fivB (A.I (t + 8)) L va vb vc vd ve)) t σ κ π (upd (upd τ 6 (nI 0)) 12 (nI (L + 20)))) ∧ (¬ L + 20 ≤ 900 → u = nI 0 ∧ A' = S5 A t σ κ π (upd τ 6 (nI 1)))) fw_no := by
  refine Ct.of [some (.ref t), some (.int va), some (.int vb), some (.int vc), some (.int vd), some (.int ve)] (by decide) rfl rfl fun z C hx hnm E => ?_
  refine r_aload_0 (pc := 0) C dX6_append_0 ?_
  refine r_aload_0 (pc := 1) C dX6_append_1 ?_
  refine r_getI (pc := 2) C fl_X6_56_6 (tw_g hT) rfl dX6_append_2 ?_
  refine r_top (congrFun (S5_0 _ _ _ _ _ _) _) ?_
  refine r_top hL ?_
  refine r_bipush (pc := 5) C dX6_append_5 cb_20 ?_
  refine r_iadd (pc := 7) C dX6_append_7 ?_
  refine r_top (nI_add _ _) ?_
  refine r_sipush (pc := 8) C dX6_append_8 cs_900 ?_
  refine r_icmp_gt (pc := 11) (tgt := 18) C dX6_append_11 (by decide) (fun b11 => ?_) (fun b11 => ?_)
  · skip
    have b11 := (nI_lt2 (by omega) (by omega)).mp b11
    refine r_iconst (pc := 18) C dX6_append_18 ci_0 ?_
    refine r_V1io (pc := 19) C (m_passes0 (by exact hT)) vl_X6_186 (tw_g hT) (by decide) (Nat.le_refl _) (Nat.le_refl _) (Nat.le_of_ble_eq_true rfl) rfl dX6_append_19 (fun u1 A1 hc1 => ?_)
    refine r_top hc1.1 ?_
    refine r_eqA (hc1.2.trans (by rw [S5_0, S5_w0])) ?_
    clear hc1 A1 u1
    refine r_if_ne (pc := 22) (tgt := 27) C dX6_append_22 (by decide) (fun b22 => ?_) (fun b22 => ?_)
    · exact absurd b22 (by decide +kernel)
    · skip
      refine r_iconst (pc := 25) C dX6_append_25 ci_0 ?_
      refine r_iret (pc := 26) C E rfl (Nat.le_refl _) (Nat.le_refl _) dX6_append_26 ?_
      exact ⟨fun q => by omega, fun _ => ⟨rfl, rfl⟩⟩
  · skip
    have b11 := (not_congr (nI_lt2 (by omega) (by omega))).mp b11
    refine r_iconst (pc := 14) C dX6_append_14 ci_1 ?_
    refine r_goto (pc := 15) (tgt := 19) C dX6_append_15 (by decide) ?_
    refine r_V1io (pc := 19) C (m_passes1 (by exact hT)) vl_X6_186 (tw_g hT) (by decide) (Nat.le_refl _) (Nat.le_refl _) (Nat.le_of_ble_eq_true rfl) rfl dX6_append_19 (fun u2 A2 hc2 => ?_)
    refine r_top hc2.1 ?_
    refine r_eqA (hc2.2.trans (by rw [S5_0, S5_w0])) ?_
    clear hc2 A2 u2
    refine r_if_ne (pc := 22) (tgt := 27) C dX6_append_22 (by decide) (fun b22 => ?_) (fun b22 => ?_)
    · skip
      refine r_aload_0 (pc := 27) C dX6_append_27 ?_
      refine r_iload_1 (pc := 28) C dX6_append_28 ?_
      refine r_V1vo (pc := 29) C (m_four (by exact hT) (by first | exact pk_us | exact (pk_un (by omega)).trans hL) (by omega)) vl_X6_190 (tw_g hT) (by decide) (Nat.le_refl _) (Nat.le_refl _) (Nat.le_of_ble_eq_true rfl) rfl dX6_append_29 (fun u3 A3 hc3 => ?_)
      refine r_eqA (hc3.trans (by first | rw [sI_s, sI_sI, bx_upd] | rfl)) ?_
      clear hc3 A3 u3
      refine r_aload_0 (pc := 32) C dX6_append_32 ?_
      refine r_iload_2 (pc := 33) C dX6_append_33 ?_
      refine r_V1vo (pc := 34) C (m_four (by exact hT) (by first | exact pk_us | exact (pk_un (by omega)).trans hL) (by omega)) vl_X6_190 (tw_g hT) (by decide) (Nat.le_refl _) (Nat.le_refl _) (Nat.le_of_ble_eq_true rfl) rfl dX6_append_34 (fun u4 A4 hc4 => ?_)
      refine r_eqA (hc4.trans (by first | rw [sI_s, sI_sI, bx_upd] | rfl)) ?_
      clear hc4 A4 u4
      refine r_aload_0 (pc := 37) C dX6_append_37 ?_
      refine r_iload_3 (pc := 38) C dX6_append_38 ?_
      refine r_V1vo (pc := 39) C (m_four (by exact hT) (by first | exact pk_us | exact (pk_un (by omega)).trans hL) (by omega)) vl_X6_190 (tw_g hT) (by decide) (Nat.le_refl _) (Nat.le_refl _) (Nat.le_of_ble_eq_true rfl) rfl dX6_append_39 (fun u5 A5 hc5 => ?_)
      refine r_eqA (hc5.trans (by first | rw [sI_s, sI_sI, bx_upd] | rfl)) ?_
      clear hc5 A5 u5
      refine r_aload_0 (pc := 42) C dX6_append_42 ?_
      refine r_iload_4 (pc := 43) C dX6_append_43 ?_
      refine r_V1vo (pc := 45) C (m_four (by exact hT) (by first | exact pk_us | exact (pk_un (by omega)).trans hL) (by omega)) vl_X6_190 (tw_g hT) (by decide) (Nat.le_refl _) (Nat.le_refl _) (Nat.le_of_ble_eq_true rfl) rfl dX6_append_45 (fun u6 A6 hc6 => ?_)
      refine r_eqA (hc6.trans (by first | rw [sI_s, sI_sI, bx_upd] | rfl)) ?_
      clear hc6 A6 u6
      refine r_aload_0 (pc := 48) C dX6_append_48 ?_
      refine r_iload_5 (pc := 49) C dX6_append_49 ?_
      refine r_V1vo (pc := 51) C (m_four (by exact hT) (by first | exact pk_us | exact (pk_un (by omega)).trans hL) (by omega)) vl_X6_190 (tw_g hT) (by decide) (Nat.le_refl _) (Nat.le_refl _) (Nat.le_of_ble_eq_true rfl) rfl dX6_append_51 (fun u7 A7 hc7 => ?_)
      refine r_eqA (hc7.trans (by first | rw [sI_s, sI_sI, bx_upd] | rfl)) ?_
      clear hc7 A7 u7
      refine r_aload_0 (pc := 54) C dX6_append_54 ?_
      refine r_getI (pc := 55) C fl_X6_56_6 (tw_g hT) rfl dX6_append_55 ?_
      refine r_top (congrFun (S5_0 _ _ _ _ _ _) _) ?_
      refine r_top pk_us ?_
      refine r_iret (pc := 58) C E rfl (Nat.le_refl _) (Nat.le_refl _) dX6_append_58 ?_
      exact ⟨fun _ => ⟨rfl, rfl⟩, fun q => by omega⟩
    · exact absurd b22 (by decide +kernel)
set_option maxHeartbeats 4000000 in
theorem m_truncate {g : GZ} {A : HA} {t : Nat} {σ κ π τ : Nat → Int32} (hT : Tw A t) {x : Int32} {L : Nat} (hL : τ 12 = nI L) (h9 : L ≤ 900) : Ct g wI yX6_truncate (.code yX6_truncate cX6_truncate 2 (Option.some Jvm.ClassFile.FieldType.int)) 2 0 0 [.ref t, .int x] (S5 A t σ κ π τ) (fun u A' => (inZ x 0 L → u = x ∧ A' = S5 A t σ κ π (upd (upd τ 6 (nI 0)) 12 x)) ∧ (¬ inZ x 0 L → u = nI 0 ∧ A' = S5 A t σ κ π (upd τ 6 (nI 1)))) fw_no := by
  refine Ct.of [some (.ref t), some (.int x)] (by decide) rfl rfl fun z C hx hnm E => ?_
  refine r_aload_0 (pc := 0) C dX6_truncate_0 ?_
  refine r_iload_1 (pc := 1) C dX6_truncate_1 ?_
  refine r_i2l (pc := 2) C dX6_truncate_2 ?_
  refine r_lconst (pc := 3) (v := 0) C dX6_truncate_3 (by decide) ?_
  refine r_aload_0 (pc := 4) C dX6_truncate_4 ?_
  refine r_getI (pc := 5) C fl_X6_56_6 (tw_g hT) rfl dX6_truncate_5 ?_
  refine r_top (congrFun (S5_0 _ _ _ _ _ _) _) ?_
  refine r_top hL ?_
  refine r_i2l (pc := 8) C dX6_truncate_8 ?_
  refine r_S3io (pc := 9) C (m_inZ (p := 0) (q := L) (by decide) (t_nI64 (by omega))) sl_X6_68 (by decide) (Nat.le_refl _) (Nat.le_refl _) (Nat.le_of_ble_eq_true rfl) rfl dX6_truncate_9 (fun u1 A1 hc1 => ?_)
  refine r_top hc1.1 ?_
  refine r_eqA hc1.2 ?_
  clear hc1 A1 u1
  refine r_V1io (pc := 12) C (m_passes (by exact hT)) vl_X6_186 (tw_g hT) (by decide) (Nat.le_refl _) (Nat.le_refl _) (Nat.le_of_ble_eq_true rfl) rfl dX6_truncate_12 (fun u2 A2 hc2 => ?_)
  refine r_top hc2.1 ?_
  refine r_eqA (hc2.2.trans (by rw [S5_0, S5_w0])) ?_
  clear hc2 A2 u2
  refine r_if_ne (pc := 15) (tgt := 20) C dX6_truncate_15 (by decide) (fun b15 => ?_) (fun b15 => ?_)
  · skip
    have b15 := bI_n.mp b15
    refine r_aload_0 (pc := 20) C dX6_truncate_20 ?_
    refine r_iload_1 (pc := 21) C dX6_truncate_21 ?_
    refine r_putI (pc := 22) C fl_X6_56_6 (tw_g hT) rfl (fun _ _ _ h => by cases h; exact Or.inl rfl) rfl rfl rfl dX6_truncate_22 ?_
    refine r_eqA (S5_u0 _ _ _ _ _ _ _ _) ?_
    refine r_iload_1 (pc := 25) C dX6_truncate_25 ?_
    refine r_iret (pc := 26) C E rfl (Nat.le_refl _) (Nat.le_refl _) dX6_truncate_26 ?_
    exact ⟨fun _ => ⟨rfl, by rw [bI_f (fun q => q b15), nI0]⟩, fun q => absurd b15 q⟩
  · skip
    have b15 := bI_0.mp b15
    refine r_iconst (pc := 18) C dX6_truncate_18 ci_0 ?_
    refine r_iret (pc := 19) C E rfl (Nat.le_refl _) (Nat.le_refl _) dX6_truncate_19 ?_
    exact ⟨fun q => absurd q b15, fun _ => ⟨rfl, by rw [bI_t b15, nI1]⟩⟩
set_option maxHeartbeats 4000000 in
theorem m_errorCode {g : GZ} {A : HA} {t : Nat} {σ κ π τ : Nat → Int32} (hT : Tw A t)  : Ct g wI yX6_errorCode (.code yX6_errorCode cX6_errorCode 1 (Option.some Jvm.ClassFile.FieldType.int)) 1 0 0 [.ref t] (S5 A t σ κ π τ) (fun u A' => u = τ 18 ∧ A' = S5 A t σ κ π (upd τ 6 (nI 0))) fw_no := by
  refine Ct.of [some (.ref t)] (by decide) rfl rfl fun z C hx hnm E => ?_
  refine r_aload_0 (pc := 0) C dX6_errorCode_0 ?_
  refine r_iconst (pc := 1) C dX6_errorCode_1 ci_0 ?_
  refine r_putI (pc := 2) C fl_X6_61_6 (tw_g hT) rfl (fun _ _ _ h => by cases h; exact Or.inl rfl) rfl rfl rfl dX6_errorCode_2 ?_
  refine r_eqA (S5_u0 _ _ _ _ _ _ _ _) ?_
  refine r_aload_0 (pc := 5) C dX6_errorCode_5 ?_
  refine r_getI (pc := 6) C fl_X6_245_6 (tw_g hT) rfl dX6_errorCode_6 ?_
  refine r_top (congrFun (S5_0 _ _ _ _ _ _) _) ?_
  refine r_top (pk_un (by omega)) ?_
  refine r_iret (pc := 9) C E rfl (Nat.le_refl _) (Nat.le_refl _) dX6_errorCode_9 ?_
  exact ⟨rfl, rfl⟩
set_option maxHeartbeats 4000000 in
theorem m_errorPosition {g : GZ} {A : HA} {t : Nat} {σ κ π τ : Nat → Int32} (hT : Tw A t)  : Ct g wI yX6_errorPosition (.code yX6_errorPosition cX6_errorPosition 1 (Option.some Jvm.ClassFile.FieldType.int)) 1 0 0 [.ref t] (S5 A t σ κ π τ) (fun u A' => u = τ 19 ∧ A' = S5 A t σ κ π (upd τ 6 (nI 0))) fw_no := by
  refine Ct.of [some (.ref t)] (by decide) rfl rfl fun z C hx hnm E => ?_
  refine r_aload_0 (pc := 0) C dX6_errorPosition_0 ?_
  refine r_iconst (pc := 1) C dX6_errorPosition_1 ci_0 ?_
  refine r_putI (pc := 2) C fl_X6_61_6 (tw_g hT) rfl (fun _ _ _ h => by cases h; exact Or.inl rfl) rfl rfl rfl dX6_errorPosition_2 ?_
  refine r_eqA (S5_u0 _ _ _ _ _ _ _ _) ?_
  refine r_aload_0 (pc := 5) C dX6_errorPosition_5 ?_
  refine r_getI (pc := 6) C fl_X6_34_6 (tw_g hT) rfl dX6_errorPosition_6 ?_
  refine r_top (congrFun (S5_0 _ _ _ _ _ _) _) ?_
  refine r_top (pk_un (by omega)) ?_
  refine r_iret (pc := 9) C E rfl (Nat.le_refl _) (Nat.le_refl _) dX6_errorPosition_9 ?_
  exact ⟨rfl, rfl⟩
set_option maxHeartbeats 4000000 in
theorem m_byteAt {g : GZ} {A : HA} {t : Nat} {σ κ π τ : Nat → Int32} (hT : Tw A t) {a gb w e : Nat} {ep : Int32} {B : Nat → Nat} {L : Nat} (hB : BufI (A.I (t + 8)) B L) (hτL : τ 12 = nI L) {k : Nat} (hk : k < 100000) : Ct g wI yX6_byteAt (.code yX6_byteAt cX6_byteAt 2 (Option.some Jvm.ClassFile.FieldType.int)) 1 0 0 [.ref t, .int (nI (k))] (S5 A t σ κ π (stT τ a gb w e ep)) (fun u A' => u = oI (btO B L k) ∧ A' = S5 A t σ κ π (stT τ a gb w e ep)) fw_no := by
  refine Ct.of [some (.ref t), some (.int (nI (k)))] (by decide) rfl rfl fun z C hx hnm E => ?_
  have hBl := hB.l
  refine r_iload_1 (pc := 0) C dX6_byteAt_0 ?_
  refine r_aload_0 (pc := 1) C dX6_byteAt_1 ?_
  refine r_getI (pc := 2) C fl_X6_56_6 (tw_g hT) rfl dX6_byteAt_2 ?_
  refine r_top (congrFun (S5_0 _ _ _ _ _ _) _) ?_
  refine r_top ((st_x _ _ _ _ _ _ (by omega)).trans hτL) ?_
  refine r_icmp_ge (pc := 5) (tgt := 17) C dX6_byteAt_5 (by decide) (fun b5 => ?_) (fun b5 => ?_)
  · skip
    have b5 := (nI_le2 (by omega) (by omega)).mp b5
    refine r_iconst (pc := 17) C dX6_byteAt_17 ci_m1 ?_
    refine r_iret (pc := 18) C E rfl (Nat.le_refl _) (Nat.le_refl _) dX6_byteAt_18 ?_
    first
      | exact ⟨by rw [btO_lt (by omega), oI_some], rfl⟩
      | exact ⟨by rw [btO_ge (by omega), oI_none], rfl⟩
  · skip
    have b5 := (not_congr (nI_le2 (by omega) (by omega))).mp b5
    refine r_aload_0 (pc := 8) C dX6_byteAt_8 ?_
    refine r_getR (pc := 9) C fl_X6_31_6 (tw_g hT) rfl (tw_r8 hT) dX6_byteAt_9 ?_
    refine r_iload_1 (pc := 12) C dX6_byteAt_12 ?_
    refine r_iald (pc := 13) C (tw_g8 hT) rfl rfl (lt_eq (by omega) (tw_n8 hT)) (by omega) dX6_byteAt_13 ?_
    refine r_top (congrFun (S5_x _ _ _ _ _ _ (by omega) (by omega) (by omega) (by omega)) _) ?_
    refine r_top (hB.2 k (by omega)).1 ?_
    refine r_goto (pc := 14) (tgt := 18) C dX6_byteAt_14 (by decide) ?_
    refine r_iret (pc := 18) C E rfl (Nat.le_refl _) (Nat.le_refl _) dX6_byteAt_18 ?_
    first
      | exact ⟨by rw [btO_lt (by omega), oI_some], rfl⟩
      | exact ⟨by rw [btO_ge (by omega), oI_none], rfl⟩
