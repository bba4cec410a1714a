/-! THE LAWN, 1: small methods -/
set_option maxRecDepth 100000
/-- next cells, without quotients -/
theorem nb_cell {W H c : Nat} (hW : 0 < W) (hc : c < W * H) : nb W H c 0 = (if W ≤ c then some (c - W) else none) ∧ nb W H c 1 = (if c % W + 1 < W then some (c + 1) else none) ∧
    nb W H c 2 = (if c + W < W * H then some (c + W) else none) ∧ nb W H c 3 = (if 1 ≤ c % W then some (c - 1) else none) := by
  have e := xy_c W c
  have hm := Nat.mod_lt c hW
  obtain ⟨x, hx⟩ : ∃ x, x = c % W := ⟨_, rfl⟩
  obtain ⟨y, hy⟩ : ∃ y, y = c / W := ⟨_, rfl⟩
  have hy2 : y < H := by rw [hy]; exact div_lt' hW hc
  rw [← hx, ← hy] at e
  rw [← hx] at hm
  unfold nb
  simp only
  rw [← hx, ← hy]
  refine ⟨?_, ?_, ?_, ?_⟩
  · by_cases q : 1 ≤ y
    · have h1 : (y - 1) * W + W = y * W := by rw [← Nat.succ_mul, Nat.succ_eq_add_one, Nat.sub_add_cancel q]
      rw [if_pos q, if_pos (by omega)]
      exact congrArg some (by omega)
    · rw [if_neg q]
      have h0 : y = 0 := by omega
      rw [h0, Nat.zero_mul] at e
      rw [if_neg (by omega)]
  · by_cases q : x + 1 < W
    · rw [if_pos q, if_pos q]; exact congrArg some (by omega)
    · rw [if_neg q, if_neg q]
  · have h1 : (y + 1) * W = y * W + W := Nat.succ_mul y W
    by_cases q : y + 1 < H
    · have h2 : (y + 1 + 1) * W ≤ H * W := Nat.mul_le_mul_right W q
      rw [Nat.succ_mul, h1, Nat.mul_comm H W] at h2
      rw [if_pos q, if_pos (by omega)]
      exact congrArg some (by omega)
    · have h2 : H * W ≤ (y + 1) * W := Nat.mul_le_mul_right W (by omega)
      rw [h1, Nat.mul_comm H W] at h2
      rw [if_neg q, if_neg (by omega)]
  · by_cases q : 1 ≤ x
    · rw [if_pos q, if_pos q]; exact congrArg some (by omega)
    · rw [if_neg q, if_neg q]
theorem oI_ite {p : Prop} [Decidable p] {n : Nat} : oI (if p then some n else none) = if p then nI n else -1 := by
  split <;> rfl
set_option maxHeartbeats 4000000 in
theorem l_bit {g : GZ} {A : HA} {p : Prop} [Decidable p] : Ct g wI yX1_bit (.code yX1_bit cX1_bit 1 (Option.some Jvm.ClassFile.FieldType.int)) 1 0 0 [.int (bI p)] (A) (fun u A' => u = bI p ∧ A' = A) fw_no := by
  refine Ct.of [some (.int (bI p))] (by decide) rfl rfl fun z C hx hnm E => ?_
  refine r_iload_0 (pc := 0) C dX1_bit_0 ?_
  refine r_if_eq (pc := 1) (tgt := 8) C dX1_bit_1 (by decide) (fun b1 => ?_) (fun b1 => ?_)
  · skip
    have b1 := bI_0.mp b1
    refine r_iconst (pc := 8) C dX1_bit_8 ci_0 ?_
    refine r_iret (pc := 9) C E rfl (Nat.le_refl _) (Nat.le_refl _) dX1_bit_9 ?_
    first | exact ⟨bI_1 ‹_›, rfl⟩ | exact ⟨bI_00 ‹_›, rfl⟩
  · skip
    have b1 := bI_n.mp b1
    refine r_iconst (pc := 4) C dX1_bit_4 ci_1 ?_
    refine r_goto (pc := 5) (tgt := 9) C dX1_bit_5 (by decide) ?_
    refine r_iret (pc := 9) C E rfl (Nat.le_refl _) (Nat.le_refl _) dX1_bit_9 ?_
    first | exact ⟨bI_1 ‹_›, rfl⟩ | exact ⟨bI_00 ‹_›, rfl⟩
set_option maxHeartbeats 4000000 in
theorem l_isGrass {g : GZ} {A : HA} {a : Nat} {d : Nat → Nat} {σ : Rw} (hL : Ly A a d σ) (hv : Lv A.I a d σ) (hW : RowW σ) {c : Nat} (hc : c < rC σ) : Ct g wI yX2_isGrass (.code yX2_isGrass cX2_isGrass 2 (Option.some Jvm.ClassFile.FieldType.boolean)) 1 0 0 [.ref a, .int (nI (c))] (A) (fun u A' => u = bI (σ (153 + 5 * c + 0) = 0) ∧ A' = A) fw_no := by
  refine Ct.of [some (.ref a), some (.int (nI (c)))] (by decide) rfl rfl fun z C hx hnm E => ?_
  have hS := hW.s
  have hw3 := hS.w3
  have hw10 := hS.w10
  have hh8 := hS.h8
  have hc80 := hS.c80
  have k6 := hW.k6
  have g6 := hW.g6
  refine r_aload_0 (pc := 0) C dX2_isGrass_0 ?_
  refine r_getR (pc := 1) C fl_X2_53_2 (ly_g hL) rfl (ly_rf hL 5 (by decide)) dX2_isGrass_1 ?_
  refine r_iload_1 (pc := 4) C dX2_isGrass_4 ?_
  refine r_iald (pc := 5) C (ly_gf hL 5 (by decide)) rfl rfl (lt_eq (by omega) (ly_nf hL 5 (by decide) (by decide))) (by omega) dX2_isGrass_5 ?_
  refine r_top (hv.kind hc) ?_
  refine r_if_ne (pc := 6) (tgt := 13) C dX2_isGrass_6 (by decide) (fun b6 => ?_) (fun b6 => ?_)
  · skip
    refine r_iconst (pc := 13) C dX2_isGrass_13 ci_0 ?_
    refine r_iret (pc := 14) C E nar_0 (Nat.le_refl _) (Nat.le_refl _) dX2_isGrass_14 ?_
    first | exact ⟨bI_1 ‹_›, rfl⟩ | exact ⟨bI_00 ‹_›, rfl⟩
  · skip
    refine r_iconst (pc := 9) C dX2_isGrass_9 ci_1 ?_
    refine r_goto (pc := 10) (tgt := 14) C dX2_isGrass_10 (by decide) ?_
    refine r_iret (pc := 14) C E nar_1 (Nat.le_refl _) (Nat.le_refl _) dX2_isGrass_14 ?_
    first | exact ⟨bI_1 ‹_›, rfl⟩ | exact ⟨bI_00 ‹_›, rfl⟩
set_option maxHeartbeats 4000000 in
theorem l_isWet {g : GZ} {A : HA} {a : Nat} {d : Nat → Nat} {σ : Rw} (hL : Ly A a d σ) (hv : Lv A.I a d σ) (hW : RowW σ) {D : Nat} (hD : D < 100000) : Ct g wI yX2_isWet (.code yX2_isWet cX2_isWet 2 (Option.some Jvm.ClassFile.FieldType.boolean)) 1 0 0 [.ref a, .int (nI (D))] (A) (fun u A' => u = bI (wetD σ D) ∧ A' = A) fw_no := by
  refine Ct.of [some (.ref a), some (.int (nI (D)))] (by decide) rfl rfl fun z C hx hnm E => ?_
  have hS := hW.s
  have hw3 := hS.w3
  have hw10 := hS.w10
  have hh8 := hS.h8
  have hc80 := hS.c80
  have k6 := hW.k6
  have g6 := hW.g6
  have t9 := hW.wt9
  refine r_aload_0 (pc := 0) C dX2_isWet_0 ?_
  refine r_getI (pc := 1) C fl_X2_47_2 (ly_g hL) rfl dX2_isWet_1 ?_
  refine r_top (hv.wt.trans hW.wt) ?_
  refine r_if_le (pc := 4) (tgt := 25) C dX2_isWet_4 (by decide) (fun b4 => ?_) (fun b4 => ?_)
  · skip
    have b4 := (nI_le0 (by omega)).mp b4
    refine r_iconst (pc := 25) C dX2_isWet_25 ci_0 ?_
    refine r_iret (pc := 26) C E nar_0 (Nat.le_refl _) (Nat.le_refl _) dX2_isWet_26 ?_
    unfold wetD wetB
    first
      | exact ⟨bI_1 (decide_eq_true ⟨by omega, by omega⟩), rfl⟩
      | exact ⟨bI_00 (fun q => by have q := of_decide_eq_true q; omega), rfl⟩
  · skip
    have b4 := (not_congr (nI_le0 (by omega))).mp b4
    refine r_iload_1 (pc := 7) C dX2_isWet_7 ?_
    refine r_bipush (pc := 8) C dX2_isWet_8 cb_7 ?_
    refine r_idiv (pc := 10) C dX2_isWet_10 (nI_nz (by omega) (by omega)) ?_
    refine r_top (nI_div (by omega) (by omega) (by omega)) ?_
    refine r_iconst (pc := 11) C dX2_isWet_11 ci_1 ?_
    refine r_iadd (pc := 12) C dX2_isWet_12 ?_
    refine r_top (nI_add _ _) ?_
    refine r_aload_0 (pc := 13) C dX2_isWet_13 ?_
    refine r_getI (pc := 14) C fl_X2_47_2 (ly_g hL) rfl dX2_isWet_14 ?_
    refine r_top (hv.wt.trans hW.wt) ?_
    refine r_irem (pc := 17) C dX2_isWet_17 (nI_nz (by omega) (by omega)) ?_
    refine r_top (nI_rem (by omega) (by omega) (by omega)) ?_
    have hmd : (D / 7 + 1) % rWt σ < 2147483648 := by have := Nat.mod_lt (D / 7 + 1) (show 0 < rWt σ by omega); omega
    refine r_if_ne (pc := 18) (tgt := 25) C dX2_isWet_18 (by decide) (fun b18 => ?_) (fun b18 => ?_)
    · skip
      have b18 := (not_congr (nI_eq0 (by omega))).mp b18
      refine r_iconst (pc := 25) C dX2_isWet_25 ci_0 ?_
      refine r_iret (pc := 26) C E nar_0 (Nat.le_refl _) (Nat.le_refl _) dX2_isWet_26 ?_
      unfold wetD wetB
      first
        | exact ⟨bI_1 (decide_eq_true ⟨by omega, by omega⟩), rfl⟩
        | exact ⟨bI_00 (fun q => by have q := of_decide_eq_true q; omega), rfl⟩
    · skip
      have b18 := (nI_eq0 (by omega)).mp b18
      refine r_iconst (pc := 21) C dX2_isWet_21 ci_1 ?_
      refine r_goto (pc := 22) (tgt := 26) C dX2_isWet_22 (by decide) ?_
      refine r_iret (pc := 26) C E nar_1 (Nat.le_refl _) (Nat.le_refl _) dX2_isWet_26 ?_
      unfold wetD wetB
      first
        | exact ⟨bI_1 (decide_eq_true ⟨by omega, by omega⟩), rfl⟩
        | exact ⟨bI_00 (fun q => by have q := of_decide_eq_true q; omega), rfl⟩
set_option maxHeartbeats 4000000 in
theorem l_walker {g : GZ} {A : HA} {a : Nat} {d : Nat → Nat} {σ : Rw} (hL : Ly A a d σ) (hv : Lv A.I a d σ) (hW : RowW σ) {k : Nat} (hk : k < rK σ) : Ct g wR yX2_walker (.code yX2_walker cX2_walker 2 (Option.some (Jvm.ClassFile.FieldType.object "LawnPaths$Walker"))) 6 0 0 [.ref a, .int (nI (k))] (A) (fun u A' => u = d (30 + k) ∧ A' = A) fw_no := by
  refine Ct.of [some (.ref a), some (.int (nI (k)))] (by decide) rfl rfl fun z C hx hnm E => ?_
  have hS := hW.s
  have hw3 := hS.w3
  have hw10 := hS.w10
  have hh8 := hS.h8
  have hc80 := hS.c80
  have k6 := hW.k6
  have g6 := hW.g6
  refine r_aload_0 (pc := 0) C dX2_walker_0 ?_
  refine r_getR (pc := 1) C fl_X2_31_2 (ly_g hL) rfl (ly_r12 hL) dX2_walker_1 ?_
  refine r_iload_1 (pc := 4) C dX2_walker_4 ?_
  refine r_V1ro (pc := 5) C (j_X3_get5 (ly_g12 hL) (ly_r20 hL) (ly_g20 hL) (ly_r21 hL) (ly_g21 hL) (hv.nk.trans hW.k) (ly_n21 hL) hk (by omega) (ly_w hL hk).1 (ly_w hL hk).2) vl_X2_103 (ly_g12 hL) (by decide) (Nat.le_refl _) (Nat.le_refl _) (Nat.le_of_ble_eq_true rfl) rfl dX2_walker_5 (fun u1 A1 hc1 => ?_)
  refine r_topR hc1.1 ?_
  refine r_eqA hc1.2 ?_
  clear hc1 A1 u1
  refine r_castS (pc := 8) C q968 (ly_w hL hk).2 rfl rfl dX2_walker_8 ?_
  refine r_aret (pc := 11) C E rfl (Nat.le_refl _) (Nat.le_refl _) dX2_walker_11 ?_
  exact ⟨rfl, rfl⟩
set_option maxHeartbeats 4000000 in
theorem l_cellOf {g : GZ} {A : HA} {a : Nat} {d : Nat → Nat} {σ : Rw} (hL : Ly A a d σ) (hv : Lv A.I a d σ) (hW : RowW σ) {r : Nat} (hr : r < rG σ) : Ct g wI yX2_cellOf (.code yX2_cellOf cX2_cellOf 2 (Option.some Jvm.ClassFile.FieldType.int)) 6 0 0 [.ref a, .int (nI (r))] (A) (fun u A' => u = nI (gC σ r) ∧ A' = A) fw_no := by
  refine Ct.of [some (.ref a), some (.int (nI (r)))] (by decide) rfl rfl fun z C hx hnm E => ?_
  have hS := hW.s
  have hw3 := hS.w3
  have hw10 := hS.w10
  have hh8 := hS.h8
  have hc80 := hS.c80
  have k6 := hW.k6
  have g6 := hW.g6
  refine r_aload_0 (pc := 0) C dX2_cellOf_0 ?_
  refine r_getR (pc := 1) C fl_X2_50_2 (ly_g hL) rfl (ly_r11 hL) dX2_cellOf_1 ?_
  refine r_iload_1 (pc := 4) C dX2_cellOf_4 ?_
  refine r_V1ro (pc := 5) C (j_X3_get4 (ly_g11 hL) (ly_r22 hL) (ly_g22 hL) (ly_r23 hL) (ly_g23 hL) (hv.ng.trans hW.g) (ly_n23 hL) hr (by omega) (ly_t hL hr).1 (ly_t hL hr).2) vl_X2_103 (ly_g11 hL) (by decide) (Nat.le_refl _) (Nat.le_refl _) (Nat.le_of_ble_eq_true rfl) rfl dX2_cellOf_5 (fun u1 A1 hc1 => ?_)
  refine r_topR hc1.1 ?_
  refine r_eqA hc1.2 ?_
  clear hc1 A1 u1
  refine r_castS (pc := 8) C q345 (ly_t hL hr).2 rfl rfl dX2_cellOf_8 ?_
  refine r_V0io (pc := 11) C (j_X4_cell (ly_t hL hr).2) vl_X2_109 (ly_t hL hr).2 (by decide) (Nat.le_refl _) (Nat.le_refl _) (Nat.le_of_ble_eq_true rfl) rfl dX2_cellOf_11 (fun u2 A2 hc2 => ?_)
  refine r_top (hc2.1.trans (hv.gate hr)) ?_
  refine r_eqA hc2.2 ?_
  clear hc2 A2 u2
  refine r_iret (pc := 14) C E rfl (Nat.le_refl _) (Nat.le_refl _) dX2_cellOf_14 ?_
  exact ⟨rfl, rfl⟩
set_option maxHeartbeats 4000000 in
theorem l_next {g : GZ} {A : HA} {a : Nat} {d : Nat → Nat} {σ : Rw} (hL : Ly A a d σ) (hv : Lv A.I a d σ) (hW : RowW σ) {c t : Nat} (hc : c < rC σ) (ht : t < 4) : Ct g wI yX2_next (.code yX2_next cX2_next 4 (Option.some Jvm.ClassFile.FieldType.int)) 1 0 0 [.ref a, .int (nI (c)), .int (nI (t))] (A) (fun u A' => u = oI (nb (rW σ) (rH σ) c t) ∧ A' = A) fw_no := by
  refine Ct.of [some (.ref a), some (.int (nI (c))), some (.int (nI (t))), none] (by decide) rfl rfl fun z C hx hnm E => ?_
  have hS := hW.s
  have hw3 := hS.w3
  have hw10 := hS.w10
  have hh8 := hS.h8
  have hc80 := hS.c80
  have k6 := hW.k6
  have g6 := hW.g6
  have hmd := Nat.mod_lt c (show 0 < rW σ by omega)
  have hcm := Nat.mod_le c (rW σ)
  have nbc := nb_cell (H := rH σ) (show 0 < rW σ by omega) hc
  have hCC : rC σ = rW σ * rH σ := rfl
  refine r_iload_1 (pc := 0) C dX2_next_0 ?_
  refine r_aload_0 (pc := 1) C dX2_next_1 ?_
  refine r_getI (pc := 2) C fl_X2_38_2 (ly_g hL) rfl dX2_next_2 ?_
  refine r_top (hv.w.trans hW.s.w) ?_
  refine r_irem (pc := 5) C dX2_next_5 (nI_nz (by omega) (by omega)) ?_
  refine r_top (nI_rem (by omega) (by omega) (by omega)) ?_
  refine r_istore_3 (pc := 6) C dX2_next_6 rfl ?_
  refine r_iload_2 (pc := 7) C dX2_next_7 ?_
  by_cases w8_0 : t = 0
  · skip
    subst w8_0
    refine r_tableIn (pc := 8) (tgt := 36) (off := 28) C dX2_next_8 (by decide +kernel) (by decide +kernel) (by decide +kernel) (by decide) ?_
    refine r_iload_1 (pc := 36) C dX2_next_36 ?_
    refine r_aload_0 (pc := 37) C dX2_next_37 ?_
    refine r_getI (pc := 38) C fl_X2_38_2 (ly_g hL) rfl dX2_next_38 ?_
    refine r_top (hv.w.trans hW.s.w) ?_
    refine r_icmp_lt (pc := 41) (tgt := 53) C dX2_next_41 (by decide) (fun b41 => ?_) (fun b41 => ?_)
    · skip
      have b41 := (nI_lt2 (by omega) (by omega)).mp b41
      refine r_iconst (pc := 53) C dX2_next_53 ci_m1 ?_
      refine r_goto (pc := 54) (tgt := 114) C dX2_next_54 (by decide) ?_
      refine r_iret (pc := 114) C E rfl (Nat.le_refl _) (Nat.le_refl _) dX2_next_114 ?_
      refine ⟨?_, rfl⟩
      first
        | (rw [nbc.1, oI_ite, if_pos (by omega)])
        | (rw [nbc.1, oI_ite, if_neg (by omega)])
        | (rw [nbc.2.1, oI_ite, if_pos (by omega)])
        | (rw [nbc.2.1, oI_ite, if_neg (by omega)])
        | (rw [nbc.2.2.1, oI_ite, if_pos (by omega)])
        | (rw [nbc.2.2.1, oI_ite, if_neg (by omega)])
        | (rw [nbc.2.2.2, oI_ite, if_pos (by omega)])
        | (rw [nbc.2.2.2, oI_ite, if_neg (by omega)])
    · skip
      have b41 := (not_congr (nI_lt2 (by omega) (by omega))).mp b41
      refine r_iload_1 (pc := 44) C dX2_next_44 ?_
      refine r_aload_0 (pc := 45) C dX2_next_45 ?_
      refine r_getI (pc := 46) C fl_X2_38_2 (ly_g hL) rfl dX2_next_46 ?_
      refine r_top (hv.w.trans hW.s.w) ?_
      refine r_isub (pc := 49) C dX2_next_49 ?_
      refine r_top (pk_sub (by omega)) ?_
      refine r_goto (pc := 50) (tgt := 114) C dX2_next_50 (by decide) ?_
      refine r_iret (pc := 114) C E rfl (Nat.le_refl _) (Nat.le_refl _) dX2_next_114 ?_
      refine ⟨?_, rfl⟩
      first
        | (rw [nbc.1, oI_ite, if_pos (by omega)])
        | (rw [nbc.1, oI_ite, if_neg (by omega)])
        | (rw [nbc.2.1, oI_ite, if_pos (by omega)])
        | (rw [nbc.2.1, oI_ite, if_neg (by omega)])
        | (rw [nbc.2.2.1, oI_ite, if_pos (by omega)])
        | (rw [nbc.2.2.1, oI_ite, if_neg (by omega)])
        | (rw [nbc.2.2.2, oI_ite, if_pos (by omega)])
        | (rw [nbc.2.2.2, oI_ite, if_neg (by omega)])
  by_cases w8_1 : t = 1
  · skip
    subst w8_1
    refine r_tableIn (pc := 8) (tgt := 57) (off := 49) C dX2_next_8 (by decide +kernel) (by decide +kernel) (by decide +kernel) (by decide) ?_
    refine r_iload_3 (pc := 57) C dX2_next_57 ?_
    refine r_aload_0 (pc := 58) C dX2_next_58 ?_
    refine r_getI (pc := 59) C fl_X2_38_2 (ly_g hL) rfl dX2_next_59 ?_
    refine r_top (hv.w.trans hW.s.w) ?_
    refine r_iconst (pc := 62) C dX2_next_62 ci_1 ?_
    refine r_isub (pc := 63) C dX2_next_63 ?_
    refine r_top (pk_sub (by omega)) ?_
    refine r_icmp_ge (pc := 64) (tgt := 73) C dX2_next_64 (by decide) (fun b64 => ?_) (fun b64 => ?_)
    · skip
      have b64 := (nI_le2 (by omega) (by omega)).mp b64
      refine r_iconst (pc := 73) C dX2_next_73 ci_m1 ?_
      refine r_goto (pc := 74) (tgt := 114) C dX2_next_74 (by decide) ?_
      refine r_iret (pc := 114) C E rfl (Nat.le_refl _) (Nat.le_refl _) dX2_next_114 ?_
      refine ⟨?_, rfl⟩
      first
        | (rw [nbc.1, oI_ite, if_pos (by omega)])
        | (rw [nbc.1, oI_ite, if_neg (by omega)])
        | (rw [nbc.2.1, oI_ite, if_pos (by omega)])
        | (rw [nbc.2.1, oI_ite, if_neg (by omega)])
        | (rw [nbc.2.2.1, oI_ite, if_pos (by omega)])
        | (rw [nbc.2.2.1, oI_ite, if_neg (by omega)])
        | (rw [nbc.2.2.2, oI_ite, if_pos (by omega)])
        | (rw [nbc.2.2.2, oI_ite, if_neg (by omega)])
    · skip
      have b64 := (not_congr (nI_le2 (by omega) (by omega))).mp b64
      refine r_iload_1 (pc := 67) C dX2_next_67 ?_
      refine r_iconst (pc := 68) C dX2_next_68 ci_1 ?_
      refine r_iadd (pc := 69) C dX2_next_69 ?_
      refine r_top (nI_add _ _) ?_
      refine r_goto (pc := 70) (tgt := 114) C dX2_next_70 (by decide) ?_
      refine r_iret (pc := 114) C E rfl (Nat.le_refl _) (Nat.le_refl _) dX2_next_114 ?_
      refine ⟨?_, rfl⟩
      first
        | (rw [nbc.1, oI_ite, if_pos (by omega)])
        | (rw [nbc.1, oI_ite, if_neg (by omega)])
        | (rw [nbc.2.1, oI_ite, if_pos (by omega)])
        | (rw [nbc.2.1, oI_ite, if_neg (by omega)])
        | (rw [nbc.2.2.1, oI_ite, if_pos (by omega)])
        | (rw [nbc.2.2.1, oI_ite, if_neg (by omega)])
        | (rw [nbc.2.2.2, oI_ite, if_pos (by omega)])
        | (rw [nbc.2.2.2, oI_ite, if_neg (by omega)])
  by_cases w8_2 : t = 2
  · skip
    subst w8_2
    refine r_tableIn (pc := 8) (tgt := 77) (off := 69) C dX2_next_8 (by decide +kernel) (by decide +kernel) (by decide +kernel) (by decide) ?_
    refine r_iload_1 (pc := 77) C dX2_next_77 ?_
    refine r_aload_0 (pc := 78) C dX2_next_78 ?_
    refine r_getI (pc := 79) C fl_X2_38_2 (ly_g hL) rfl dX2_next_79 ?_
    refine r_top (hv.w.trans hW.s.w) ?_
    refine r_iadd (pc := 82) C dX2_next_82 ?_
    refine r_top (nI_add _ _) ?_
    refine r_aload_0 (pc := 83) C dX2_next_83 ?_
    refine r_getI (pc := 84) C fl_X2_14_2 (ly_g hL) rfl dX2_next_84 ?_
    refine r_top hv.c ?_
    refine r_icmp_ge (pc := 87) (tgt := 99) C dX2_next_87 (by decide) (fun b87 => ?_) (fun b87 => ?_)
    · skip
      have b87 := (nI_le2 (by omega) (by omega)).mp b87
      refine r_iconst (pc := 99) C dX2_next_99 ci_m1 ?_
      refine r_goto (pc := 100) (tgt := 114) C dX2_next_100 (by decide) ?_
      refine r_iret (pc := 114) C E rfl (Nat.le_refl _) (Nat.le_refl _) dX2_next_114 ?_
      refine ⟨?_, rfl⟩
      first
        | (rw [nbc.1, oI_ite, if_pos (by omega)])
        | (rw [nbc.1, oI_ite, if_neg (by omega)])
        | (rw [nbc.2.1, oI_ite, if_pos (by omega)])
        | (rw [nbc.2.1, oI_ite, if_neg (by omega)])
        | (rw [nbc.2.2.1, oI_ite, if_pos (by omega)])
        | (rw [nbc.2.2.1, oI_ite, if_neg (by omega)])
        | (rw [nbc.2.2.2, oI_ite, if_pos (by omega)])
        | (rw [nbc.2.2.2, oI_ite, if_neg (by omega)])
    · skip
      have b87 := (not_congr (nI_le2 (by omega) (by omega))).mp b87
      refine r_iload_1 (pc := 90) C dX2_next_90 ?_
      refine r_aload_0 (pc := 91) C dX2_next_91 ?_
      refine r_getI (pc := 92) C fl_X2_38_2 (ly_g hL) rfl dX2_next_92 ?_
      refine r_top (hv.w.trans hW.s.w) ?_
      refine r_iadd (pc := 95) C dX2_next_95 ?_
      refine r_top (nI_add _ _) ?_
      refine r_goto (pc := 96) (tgt := 114) C dX2_next_96 (by decide) ?_
      refine r_iret (pc := 114) C E rfl (Nat.le_refl _) (Nat.le_refl _) dX2_next_114 ?_
      refine ⟨?_, rfl⟩
      first
        | (rw [nbc.1, oI_ite, if_pos (by omega)])
        | (rw [nbc.1, oI_ite, if_neg (by omega)])
        | (rw [nbc.2.1, oI_ite, if_pos (by omega)])
        | (rw [nbc.2.1, oI_ite, if_neg (by omega)])
        | (rw [nbc.2.2.1, oI_ite, if_pos (by omega)])
        | (rw [nbc.2.2.1, oI_ite, if_neg (by omega)])
        | (rw [nbc.2.2.2, oI_ite, if_pos (by omega)])
        | (rw [nbc.2.2.2, oI_ite, if_neg (by omega)])
  refine r_tableOut (pc := 8) (tgt := 103) C dX2_next_8 (by rw [t_nI (by omega)]; omega) (by decide) ?_
  have e3 : t = 3 := by omega
  subst e3
  refine r_iload_3 (pc := 103) C dX2_next_103 ?_
  refine r_if_le (pc := 104) (tgt := 113) C dX2_next_104 (by decide) (fun b104 => ?_) (fun b104 => ?_)
  · skip
    have b104 := (nI_le0 (by omega)).mp b104
    refine r_iconst (pc := 113) C dX2_next_113 ci_m1 ?_
    refine r_iret (pc := 114) C E rfl (Nat.le_refl _) (Nat.le_refl _) dX2_next_114 ?_
    refine ⟨?_, rfl⟩
    first
      | (rw [nbc.1, oI_ite, if_pos (by omega)])
      | (rw [nbc.1, oI_ite, if_neg (by omega)])
      | (rw [nbc.2.1, oI_ite, if_pos (by omega)])
      | (rw [nbc.2.1, oI_ite, if_neg (by omega)])
      | (rw [nbc.2.2.1, oI_ite, if_pos (by omega)])
      | (rw [nbc.2.2.1, oI_ite, if_neg (by omega)])
      | (rw [nbc.2.2.2, oI_ite, if_pos (by omega)])
      | (rw [nbc.2.2.2, oI_ite, if_neg (by omega)])
  · skip
    have b104 := (not_congr (nI_le0 (by omega))).mp b104
    refine r_iload_1 (pc := 107) C dX2_next_107 ?_
    refine r_iconst (pc := 108) C dX2_next_108 ci_1 ?_
    refine r_isub (pc := 109) C dX2_next_109 ?_
    refine r_top (pk_sub (by omega)) ?_
    refine r_goto (pc := 110) (tgt := 114) C dX2_next_110 (by decide) ?_
    refine r_iret (pc := 114) C E rfl (Nat.le_refl _) (Nat.le_refl _) dX2_next_114 ?_
    refine ⟨?_, rfl⟩
    first
      | (rw [nbc.1, oI_ite, if_pos (by omega)])
      | (rw [nbc.1, oI_ite, if_neg (by omega)])
      | (rw [nbc.2.1, oI_ite, if_pos (by omega)])
      | (rw [nbc.2.1, oI_ite, if_neg (by omega)])
      | (rw [nbc.2.2.1, oI_ite, if_pos (by omega)])
      | (rw [nbc.2.2.1, oI_ite, if_neg (by omega)])
      | (rw [nbc.2.2.2, oI_ite, if_pos (by omega)])
      | (rw [nbc.2.2.2, oI_ite, if_neg (by omega)])
