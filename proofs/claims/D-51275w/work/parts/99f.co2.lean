/-! THE COMPONENT, 2: plain questions -/
set_option maxRecDepth 100000
theorem i_sub1 (x y : Int32) : x - nI 1 - (y - 1) = x - y := by
  rw [nI1, Int32.sub_eq_add_neg, Int32.sub_eq_add_neg, Int32.sub_eq_add_neg, Int32.sub_eq_add_neg, Int32.neg_add, Int32.sub_eq_add_neg, Int32.neg_neg, Int32.add_assoc, Int32.add_comm (-y) 1, ← Int32.add_assoc (-1) 1, Int32.add_left_neg, Int32.zero_add]
theorem i_m1 {x : Int32} : x - 1 = -1 ↔ x = 0 := by
  constructor
  · intro h
    have h2 := congrArg (· + 1) h
    simp only [Int32.sub_add_cancel] at h2
    rw [h2]; decide +kernel
  · intro h; rw [h]; decide +kernel
theorem sm_gw_FH {A : HA} {d : Nat → Nat} {κ μ : Nat → Int32} : Gw A (FH A d κ μ) (Sc d) := sm_FH.gw
set_option maxHeartbeats 4000000 in
theorem c_since {g : GZ} {A : HA} {c a : Nat} {d : Nat → Nat} {σ : Rw} (hc : (A.G c).1 = 1) (hn : A.R c 0 = some a) (hL : Ly A a d σ) (hv : Lv A.I a d σ) (hJ : RowJ σ) {k : Nat} (hk : k < rC σ) : Ct g wI yX1_since (.code yX1_since cX1_since 2 (Option.some Jvm.ClassFile.FieldType.int)) 1 0 0 [.ref c, .int (nI (k))] (A) (fun u A' => u = sinceR σ k ∧ A' = A) fw_no := by
  refine Ct.of [some (.ref c), some (.int (nI (k)))] (by decide) rfl rfl fun z C hx hnm E => ?_
  have hW := hJ.w
  have hS := hW.s
  have hw3 := hS.w3
  have hw10 := hS.w10
  have hh8 := hS.h8
  have hc80 := hS.c80
  have k6 := hW.k6
  have g6 := hW.g6
  have hC : ∀ c, c < 80 → CelF σ c := fun c hc => (hJ.c hc).fe
  have d9 := hW.d9
  refine r_aload_0 (pc := 0) C dX1_since_0 ?_
  refine r_getR (pc := 1) C fl_X1_24_1 (by exact hc) rfl (by exact hn) dX1_since_1 ?_
  refine r_ngetR (pc := 4) C fn_X1_279_2 (ly_g hL) rfl (ly_rf hL 8 (by decide)) dX1_since_4 ?_
  refine r_iload_1 (pc := 7) C dX1_since_7 ?_
  refine r_iald (pc := 8) C (ly_gf hL 8 (by decide)) rfl rfl (lt_eq (by omega) (ly_nf hL 8 (by decide) (by decide))) (by omega) dX1_since_8 ?_
  refine r_top (hv.last hk) ?_
  refine r_iconst (pc := 9) C dX1_since_9 ci_m1 ?_
  refine r_icmp_ne (pc := 10) (tgt := 17) C dX1_since_10 (by decide) (fun b10 => ?_) (fun b10 => ?_)
  · skip
    refine r_aload_0 (pc := 17) C dX1_since_17 ?_
    refine r_getR (pc := 18) C fl_X1_24_1 (by exact hc) rfl (by exact hn) dX1_since_18 ?_
    refine r_ngetI (pc := 21) C fn_X1_203_2 (ly_g hL) rfl dX1_since_21 ?_
    refine r_top (hv.day.trans hW.d) ?_
    refine r_iconst (pc := 24) C dX1_since_24 ci_1 ?_
    refine r_isub (pc := 25) C dX1_since_25 ?_
    refine r_aload_0 (pc := 26) C dX1_since_26 ?_
    refine r_getR (pc := 27) C fl_X1_24_1 (by exact hc) rfl (by exact hn) dX1_since_27 ?_
    refine r_ngetR (pc := 30) C fn_X1_279_2 (ly_g hL) rfl (ly_rf hL 8 (by decide)) dX1_since_30 ?_
    refine r_iload_1 (pc := 33) C dX1_since_33 ?_
    refine r_iald (pc := 34) C (ly_gf hL 8 (by decide)) rfl rfl (lt_eq (by omega) (ly_nf hL 8 (by decide) (by decide))) (by omega) dX1_since_34 ?_
    refine r_top (hv.last hk) ?_
    refine r_isub (pc := 35) C dX1_since_35 ?_
    refine r_iret (pc := 36) C E rfl (by omega) (by omega) dX1_since_36 ?_
    refine ⟨?_, rfl⟩
    unfold sinceR
    first
      | rw [if_pos (i_m1.mp (by assumption))]
      | (rw [if_neg (fun q => absurd (i_m1.mpr q) (by assumption)), ← hW.d]; exact i_sub1 _ _)
      | (rw [if_neg (fun q => absurd (i_m1.mpr q) (by assumption)), hW.d]; exact i_sub1 _ _)
  · skip
    refine r_iconst (pc := 13) C dX1_since_13 ci_m1 ?_
    refine r_goto (pc := 14) (tgt := 36) C dX1_since_14 (by decide) ?_
    refine r_iret (pc := 36) C E rfl (by omega) (by omega) dX1_since_36 ?_
    refine ⟨?_, rfl⟩
    unfold sinceR
    first
      | rw [if_pos (i_m1.mp (by assumption))]
      | (rw [if_neg (fun q => absurd (i_m1.mpr q) (by assumption)), ← hW.d]; exact i_sub1 _ _)
      | (rw [if_neg (fun q => absurd (i_m1.mpr q) (by assumption)), hW.d]; exact i_sub1 _ _)
set_option maxHeartbeats 4000000 in
theorem c_account {g : GZ} {A : HA} {c a : Nat} {d : Nat → Nat} {σ : Rw} (hc : (A.G c).1 = 1) (hn : A.R c 0 = some a) (hL : Ly A a d σ) (hv : Lv A.I a d σ) (hJ : RowJ σ) {x : Int32} : Ct g wI yX1_account (.code yX1_account cX1_account 2 (Option.some Jvm.ClassFile.FieldType.int)) 8 1 6 [.ref c, .int x] (A) (fun u A' => inZ x 0 11 ∧ u = σ (9 + nt x) ∧ A' = A) (fun q A' => ¬ inZ x 0 11 ∧ TX A A' Non 19 q) := by
  refine Ct.of [some (.ref c), some (.int x)] (by decide) rfl rfl fun z C hx hnm E => ?_
  have hW := hJ.w
  have hS := hW.s
  have hw3 := hS.w3
  have hw10 := hS.w10
  have hh8 := hS.h8
  have hc80 := hS.c80
  have k6 := hW.k6
  have g6 := hW.g6
  have hC : ∀ c, c < 80 → CelF σ c := fun c hc => (hJ.c hc).fe
  have d9 := hW.d9
  refine r_iload_1 (pc := 0) C dX1_account_0 ?_
  refine r_i2l (pc := 1) C dX1_account_1 ?_
  refine r_lconst (pc := 2) (v := 0) C dX1_account_2 (by decide) ?_
  refine r_ldc2 (pc := 3) C q2092 dX1_account_3 ?_
  refine r_S3io (pc := 6) C (c_inZ (p := 0) (q := 11) (by decide) (by decide)) sl_X1_114 (by decide) (by omega) (by omega) (Nat.le_of_ble_eq_true rfl) rfl dX1_account_6 (fun u1 A1 hc1 => ?_)
  refine r_top hc1.1 ?_
  refine r_eqA hc1.2 ?_
  clear hc1 A1 u1
  refine r_S1vx (pc := 9) C (c_argument) sl_X1_118 (by decide) (by omega) (by omega) (Nat.le_of_ble_eq_true rfl) rfl dX1_account_9 (fun q A9 hp hE => r_out C E (by rw [hx]; exact fun x h => nomatch h) hE.choose_spec (by omega) (by omega) (hp)) (fun u2 A2 hc2 => ?_)
  obtain ⟨hp2, eA2⟩ := hc2
  refine r_eqA eA2 ?_
  clear eA2 A2 u2
  have b99 : inZ x 0 11 := by assumption
  obtain ⟨k, hk, rfl⟩ := inZ_of2 (n := 11) rfl b99 (by omega)
  refine r_aload_0 (pc := 12) C dX1_account_12 ?_
  refine r_getR (pc := 13) C fl_X1_24_1 (by exact hc) rfl (by exact hn) dX1_account_13 ?_
  refine r_ngetR (pc := 16) C fn_X1_413_2 (ly_g hL) rfl (ly_rf hL 9 (by decide)) dX1_account_16 ?_
  refine r_iload_1 (pc := 19) C dX1_account_19 ?_
  refine r_iald (pc := 20) C (ly_gf hL 9 (by decide)) rfl rfl (lt_eq (by omega) (ly_n9 hL)) (by omega) dX1_account_20 ?_
  refine r_top (hv.acc (i := k) (by omega)) ?_
  refine r_iret (pc := 21) C E rfl (by omega) (by omega) dX1_account_21 ?_
  exact ⟨b99, by rw [nt_n (by omega)], rfl⟩
set_option maxHeartbeats 4000000 in
theorem c_isWet {g : GZ} {A : HA} {c a : Nat} {d : Nat → Nat} {σ : Rw} (hc : (A.G c).1 = 1) (hn : A.R c 0 = some a) (hL : Ly A a d σ) (hv : Lv A.I a d σ) (hJ : RowJ σ) {x : Int32} : Ct g wI yX1_isWet (.code yX1_isWet cX1_isWet 2 (Option.some Jvm.ClassFile.FieldType.boolean)) 8 1 6 [.ref c, .int x] (A) (fun u A' => inZ x 0 9999 ∧ u = bI (wetD σ (nt x)) ∧ A' = A) (fun q A' => ¬ inZ x 0 9999 ∧ TX A A' Non 19 q) := by
  refine Ct.of [some (.ref c), some (.int x)] (by decide) rfl rfl fun z C hx hnm E => ?_
  have hW := hJ.w
  have hS := hW.s
  have hw3 := hS.w3
  have hw10 := hS.w10
  have hh8 := hS.h8
  have hc80 := hS.c80
  have k6 := hW.k6
  have g6 := hW.g6
  have hC : ∀ c, c < 80 → CelF σ c := fun c hc => (hJ.c hc).fe
  have d9 := hW.d9
  refine r_iload_1 (pc := 0) C dX1_isWet_0 ?_
  refine r_i2l (pc := 1) C dX1_isWet_1 ?_
  refine r_lconst (pc := 2) (v := 0) C dX1_isWet_2 (by decide) ?_
  refine r_ldc2 (pc := 3) C q2021 dX1_isWet_3 ?_
  refine r_S3io (pc := 6) C (c_inZ (p := 0) (q := 9999) (by decide) (by decide)) sl_X1_114 (by decide) (by omega) (by omega) (Nat.le_of_ble_eq_true rfl) rfl dX1_isWet_6 (fun u1 A1 hc1 => ?_)
  refine r_top hc1.1 ?_
  refine r_eqA hc1.2 ?_
  clear hc1 A1 u1
  refine r_S1vx (pc := 9) C (c_argument) sl_X1_118 (by decide) (by omega) (by omega) (Nat.le_of_ble_eq_true rfl) rfl dX1_isWet_9 (fun q A9 hp hE => r_out C E (by rw [hx]; exact fun x h => nomatch h) hE.choose_spec (by omega) (by omega) (hp)) (fun u2 A2 hc2 => ?_)
  obtain ⟨hp2, eA2⟩ := hc2
  refine r_eqA eA2 ?_
  clear eA2 A2 u2
  have b99 : inZ x 0 9999 := by assumption
  obtain ⟨k, hk, rfl⟩ := inZ_of2 (n := 9999) rfl b99 (by omega)
  refine r_aload_0 (pc := 12) C dX1_isWet_12 ?_
  refine r_getR (pc := 13) C fl_X1_24_1 (by exact hc) rfl (by exact hn) dX1_isWet_13 ?_
  refine r_iload_1 (pc := 16) C dX1_isWet_16 ?_
  refine r_V1io (pc := 17) C (l_isWet hL hv hW (D := k) (by omega)) vl_X1_218 (ly_g hL) (by decide) (by omega) (by omega) (Nat.le_of_ble_eq_true rfl) rfl dX1_isWet_17 (fun u3 A3 hc3 => ?_)
  refine r_top hc3.1 ?_
  refine r_eqA hc3.2 ?_
  clear hc3 A3 u3
  refine r_iret (pc := 20) C E (nar_b _) (by omega) (by omega) dX1_isWet_20 ?_
  exact ⟨b99, by rw [nt_n (by omega)], rfl⟩
set_option maxHeartbeats 4000000 in
theorem c_thingW {g : GZ} {A : HA} {a : Nat} {d : Nat → Nat} {σ : Rw} (hL : Ly A a d σ) (hv : Lv A.I a d σ) (hJ : RowJ σ) {x : Int32} : Ct g wR yX1_thing (.code yX1_thing cX1_thing 2 (Option.some (Jvm.ClassFile.FieldType.object "LawnPaths$Named"))) 8 1 6 [.ref (d 12), .int x] (A) (fun u A' => inW σ x ∧ u = d (30 + nt x) ∧ A' = A) (fun q A' => ¬ inW σ x ∧ TX A A' Non 20 q) := by
  refine Ct.of [some (.ref (d 12)), some (.int x)] (by decide) rfl rfl fun z C hx hnm E => ?_
  have hW := hJ.w
  have hS := hW.s
  have hw3 := hS.w3
  have hw10 := hS.w10
  have hh8 := hS.h8
  have hc80 := hS.c80
  have k6 := hW.k6
  have g6 := hW.g6
  refine r_iload_1 (pc := 0) C dX1_thing_0 ?_
  refine r_i2l (pc := 1) C dX1_thing_1 ?_
  refine r_lconst (pc := 2) (v := 0) C dX1_thing_2 (by decide) ?_
  refine r_aload_0 (pc := 3) C dX1_thing_3 ?_
  refine r_V0io (pc := 4) C (j_X3_size (ly_g12 hL) (ly_r20 hL) (ly_g20 hL) (hv.nk.trans hW.k)) vl_X1_174 (ly_g12 hL) (by decide) (by omega) (by omega) (Nat.le_of_ble_eq_true rfl) rfl dX1_thing_4 (fun u1 A1 hc1 => ?_)
  refine r_top hc1.1 ?_
  refine r_eqA hc1.2 ?_
  clear hc1 A1 u1
  refine r_iconst (pc := 7) C dX1_thing_7 ci_1 ?_
  refine r_isub (pc := 8) C dX1_thing_8 ?_
  refine r_i2l (pc := 9) C dX1_thing_9 ?_
  refine r_S3io (pc := 10) C (c_inZ (p := 0) (q := (rK σ : Int) - 1) (by decide) (t_m1' (by omega))) sl_X1_114 (by decide) (by omega) (by omega) (Nat.le_of_ble_eq_true rfl) rfl dX1_thing_10 (fun u2 A2 hc2 => ?_)
  refine r_top hc2.1 ?_
  refine r_eqA hc2.2 ?_
  clear hc2 A2 u2
  refine r_S1vx (pc := 13) C (c_index) sl_X1_236 (by decide) (by omega) (by omega) (Nat.le_of_ble_eq_true rfl) rfl dX1_thing_13 (fun q A9 hp hE => r_out C E (by rw [hx]; exact fun x h => nomatch h) hE.choose_spec (by omega) (by omega) (hp)) (fun u3 A3 hc3 => ?_)
  obtain ⟨hp3, eA3⟩ := hc3
  refine r_eqA eA3 ?_
  clear eA3 A3 u3
  have b99 : inW σ x := by assumption
  obtain ⟨k, hk, rfl⟩ := inZ_of (n := rK σ) b99 (by omega)
  refine r_aload_0 (pc := 16) C dX1_thing_16 ?_
  refine r_iload_1 (pc := 17) C dX1_thing_17 ?_
  refine r_V1ro (pc := 18) C (j_X3_get5 (ly_g12 hL) (ly_r20 hL) (ly_g20 hL) (ly_r21 hL) (ly_g21 hL) (hv.nk.trans hW.k) (ly_n21 hL) hk (by omega) (ly_w hL hk).1 (ly_w hL hk).2) vl_X1_239 (ly_g12 hL) (by decide) (by omega) (by omega) (Nat.le_of_ble_eq_true rfl) rfl dX1_thing_18 (fun u4 A4 hc4 => ?_)
  refine r_topR hc4.1 ?_
  refine r_eqA hc4.2 ?_
  clear hc4 A4 u4
  refine r_aret (pc := 21) C E rfl (by omega) (by omega) dX1_thing_21 ?_
  exact ⟨b99, by rw [nt_n (by omega)], rfl⟩
set_option maxHeartbeats 4000000 in
theorem c_thingG {g : GZ} {A : HA} {a : Nat} {d : Nat → Nat} {σ : Rw} (hL : Ly A a d σ) (hv : Lv A.I a d σ) (hJ : RowJ σ) {x : Int32} : Ct g wR yX1_thing (.code yX1_thing cX1_thing 2 (Option.some (Jvm.ClassFile.FieldType.object "LawnPaths$Named"))) 8 1 6 [.ref (d 11), .int x] (A) (fun u A' => inG σ x ∧ u = d (40 + nt x) ∧ A' = A) (fun q A' => ¬ inG σ x ∧ TX A A' Non 20 q) := by
  refine Ct.of [some (.ref (d 11)), some (.int x)] (by decide) rfl rfl fun z C hx hnm E => ?_
  have hW := hJ.w
  have hS := hW.s
  have hw3 := hS.w3
  have hw10 := hS.w10
  have hh8 := hS.h8
  have hc80 := hS.c80
  have k6 := hW.k6
  have g6 := hW.g6
  refine r_iload_1 (pc := 0) C dX1_thing_0 ?_
  refine r_i2l (pc := 1) C dX1_thing_1 ?_
  refine r_lconst (pc := 2) (v := 0) C dX1_thing_2 (by decide) ?_
  refine r_aload_0 (pc := 3) C dX1_thing_3 ?_
  refine r_V0io (pc := 4) C (j_X3_size (ly_g11 hL) (ly_r22 hL) (ly_g22 hL) (hv.ng.trans hW.g)) vl_X1_174 (ly_g11 hL) (by decide) (by omega) (by omega) (Nat.le_of_ble_eq_true rfl) rfl dX1_thing_4 (fun u1 A1 hc1 => ?_)
  refine r_top hc1.1 ?_
  refine r_eqA hc1.2 ?_
  clear hc1 A1 u1
  refine r_iconst (pc := 7) C dX1_thing_7 ci_1 ?_
  refine r_isub (pc := 8) C dX1_thing_8 ?_
  refine r_i2l (pc := 9) C dX1_thing_9 ?_
  refine r_S3io (pc := 10) C (c_inZ (p := 0) (q := (rG σ : Int) - 1) (by decide) (t_m1' (by omega))) sl_X1_114 (by decide) (by omega) (by omega) (Nat.le_of_ble_eq_true rfl) rfl dX1_thing_10 (fun u2 A2 hc2 => ?_)
  refine r_top hc2.1 ?_
  refine r_eqA hc2.2 ?_
  clear hc2 A2 u2
  refine r_S1vx (pc := 13) C (c_index) sl_X1_236 (by decide) (by omega) (by omega) (Nat.le_of_ble_eq_true rfl) rfl dX1_thing_13 (fun q A9 hp hE => r_out C E (by rw [hx]; exact fun x h => nomatch h) hE.choose_spec (by omega) (by omega) (hp)) (fun u3 A3 hc3 => ?_)
  obtain ⟨hp3, eA3⟩ := hc3
  refine r_eqA eA3 ?_
  clear eA3 A3 u3
  have b99 : inG σ x := by assumption
  obtain ⟨k, hk, rfl⟩ := inZ_of (n := rG σ) b99 (by omega)
  refine r_aload_0 (pc := 16) C dX1_thing_16 ?_
  refine r_iload_1 (pc := 17) C dX1_thing_17 ?_
  refine r_V1ro (pc := 18) C (j_X3_get4 (ly_g11 hL) (ly_r22 hL) (ly_g22 hL) (ly_r23 hL) (ly_g23 hL) (hv.ng.trans hW.g) (ly_n23 hL) hk (by omega) (ly_t hL hk).1 (ly_t hL hk).2) vl_X1_239 (ly_g11 hL) (by decide) (by omega) (by omega) (Nat.le_of_ble_eq_true rfl) rfl dX1_thing_18 (fun u4 A4 hc4 => ?_)
  refine r_topR hc4.1 ?_
  refine r_eqA hc4.2 ?_
  clear hc4 A4 u4
  refine r_aret (pc := 21) C E rfl (by omega) (by omega) dX1_thing_21 ?_
  exact ⟨b99, by rw [nt_n (by omega)], rfl⟩
set_option maxHeartbeats 4000000 in
theorem c_walkerAt {g : GZ} {A : HA} {c a : Nat} {d : Nat → Nat} {σ : Rw} (hc : (A.G c).1 = 1) (hn : A.R c 0 = some a) (hL : Ly A a d σ) (hv : Lv A.I a d σ) (hJ : RowJ σ) {x : Int32} : Ct g wR yX1_walkerAt (.code yX1_walkerAt cX1_walkerAt 2 (Option.some (Jvm.ClassFile.FieldType.object "LawnPaths$Walker"))) 9 1 6 [.ref c, .int x] (A) (fun u A' => inW σ x ∧ u = d (30 + nt x) ∧ A' = A) (fun q A' => ¬ inW σ x ∧ TX A A' Non 20 q) := by
  refine Ct.of [some (.ref c), some (.int x)] (by decide) rfl rfl fun z C hx hnm E => ?_
  have hW := hJ.w
  have hS := hW.s
  have hw3 := hS.w3
  have hw10 := hS.w10
  have hh8 := hS.h8
  have hc80 := hS.c80
  have k6 := hW.k6
  have g6 := hW.g6
  have hC : ∀ c, c < 80 → CelF σ c := fun c hc => (hJ.c hc).fe
  have d9 := hW.d9
  refine r_aload_0 (pc := 0) C dX1_walkerAt_0 ?_
  refine r_getR (pc := 1) C fl_X1_24_1 (by exact hc) rfl (by exact hn) dX1_walkerAt_1 ?_
  refine r_ngetR (pc := 4) C fn_X1_69_2 (ly_g hL) rfl (ly_r12 hL) dX1_walkerAt_4 ?_
  refine r_iload_1 (pc := 7) C dX1_walkerAt_7 ?_
  refine r_S2rx (pc := 8) C (c_thingW hL hv hJ) sl_X1_243 (by decide) (by omega) (by omega) (Nat.le_of_ble_eq_true rfl) rfl dX1_walkerAt_8 (fun q A9 hp hE => r_out C E (by rw [hx]; exact fun x h => nomatch h) hE.choose_spec (by omega) (by omega) (hp)) (fun u1 A1 hc1 => ?_)
  obtain ⟨hi1, eu1, eA1⟩ := hc1
  refine r_topR eu1 ?_
  refine r_eqA eA1 ?_
  clear eu1 eA1 A1 u1
  have b99 : inW σ x := by assumption
  have hkx : nt x < rK σ := by obtain ⟨k, hk, rfl⟩ := inZ_of (n := rK σ) b99 (by omega); rw [nt_n (by omega)]; exact hk
  refine r_castS (pc := 11) C q451 (ly_w hL hkx).2 rfl rfl dX1_walkerAt_11 ?_
  refine r_aret (pc := 14) C E rfl (by omega) (by omega) dX1_walkerAt_14 ?_
  exact ⟨b99, rfl, rfl⟩
set_option maxHeartbeats 4000000 in
theorem c_wayCost {g : GZ} {A : HA} {c a : Nat} {d : Nat → Nat} {σ : Rw} (hc : (A.G c).1 = 1) (hn : A.R c 0 = some a) (hL : Ly A a d σ) (hv : Lv A.I a d σ) (hJ : RowJ σ) (hG : GdK g) {x : Int32} : Ct g wI yX1_wayCost (.code yX1_wayCost cX1_wayCost 2 (Option.some Jvm.ClassFile.FieldType.int)) 10 1 6 [.ref c, .int x] (A) (fun u A' => inW σ x ∧ u = nI (costR σ (nt x) 0) ∧ ∃ κ μ, A' = FH A d κ μ) (fun q A' => ¬ inW σ x ∧ TX A A' Non 20 q) := by
  refine Ct.of [some (.ref c), some (.int x)] (by decide) rfl rfl fun z C hx hnm E => ?_
  have hW := hJ.w
  have hS := hW.s
  have hw3 := hS.w3
  have hw10 := hS.w10
  have hh8 := hS.h8
  have hc80 := hS.c80
  have k6 := hW.k6
  have g6 := hW.g6
  have hC : ∀ c, c < 80 → CelF σ c := fun c hc => (hJ.c hc).fe
  have d9 := hW.d9
  refine r_aload_0 (pc := 0) C dX1_wayCost_0 ?_
  refine r_getR (pc := 1) C fl_X1_24_1 (by exact hc) rfl (by exact hn) dX1_wayCost_1 ?_
  refine r_aload_0 (pc := 4) C dX1_wayCost_4 ?_
  refine r_iload_1 (pc := 5) C dX1_wayCost_5 ?_
  refine r_V1rx (pc := 6) C (c_walkerAt hc hn hL hv hJ) vl_X1_330 (by exact hc) (by decide) (by omega) (by omega) (Nat.le_of_ble_eq_true rfl) rfl dX1_wayCost_6 (fun q A9 hp hE => r_out C E (by rw [hx]; exact fun x h => nomatch h) hE.choose_spec (by omega) (by omega) (hp)) (fun u1 A1 hc1 => ?_)
  obtain ⟨hi1, eu1, eA1⟩ := hc1
  refine r_topR eu1 ?_
  refine r_eqA eA1 ?_
  clear eu1 eA1 A1 u1
  have b98 : inW σ x := by assumption
  have hkx : nt x < rK σ := by obtain ⟨k, hk, rfl⟩ := inZ_of (n := rK σ) b98 (by omega); rw [nt_n (by omega)]; exact hk
  refine r_getS (pc := 9) C (hG 0 (by omega)).1 q980 dX1_wayCost_9 ?_
  refine r_V2io (pc := 12) C (l_tellsFar (by exact hL) hv hW hC hJ.g hkx (by omega) (hG 0 (by omega)).2) vl_X1_381 (ly_g hL) (by decide) (by omega) (by omega) (Nat.le_of_ble_eq_true rfl) rfl dX1_wayCost_12 (fun u2 A2 hc2 => ?_)
  obtain ⟨⟨fL2, κL2, μL2, eA2, hκ2, hfo2, hfc2⟩, eu2⟩ := hc2
  refine r_top eu2 ?_
  refine r_eqA eA2 ?_
  clear eu2 eA2 A2 u2
  refine r_iret (pc := 15) C E rfl (by omega) (by omega) dX1_wayCost_15 ?_
  exact ⟨b98, rfl, _, _, rfl⟩
set_option maxHeartbeats 4000000 in
theorem c_dearer {g : GZ} {A : HA} {c a : Nat} {d : Nat → Nat} {σ : Rw} (hc : (A.G c).1 = 1) (hn : A.R c 0 = some a) (hL : Ly A a d σ) (hv : Lv A.I a d σ) (hJ : RowJ σ) (hG : GdK g) {k : Nat} (hkx : k < rK σ) : Ct g wI yX1_dearer (.code yX1_dearer cX1_dearer 3 (Option.some Jvm.ClassFile.FieldType.int)) 8 0 0 [.ref c, .ref (d (30 + k))] (A) (fun u A' => u = nI (costR σ k 0) - nI (costR σ k 1) ∧ ∃ κ μ, A' = FH A d κ μ) fw_no := by
  refine Ct.of [some (.ref c), some (.ref (d (30 + k))), none] (by decide) rfl rfl fun z C hx hnm E => ?_
  have hW := hJ.w
  have hS := hW.s
  have hw3 := hS.w3
  have hw10 := hS.w10
  have hh8 := hS.h8
  have hc80 := hS.c80
  have k6 := hW.k6
  have g6 := hW.g6
  have hC : ∀ c, c < 80 → CelF σ c := fun c hc => (hJ.c hc).fe
  have d9 := hW.d9
  refine r_aload_0 (pc := 0) C dX1_dearer_0 ?_
  refine r_getR (pc := 1) C fl_X1_24_1 (by exact hc) rfl (by exact hn) dX1_dearer_1 ?_
  refine r_aload_1 (pc := 4) C dX1_dearer_4 ?_
  refine r_getS (pc := 5) C (hG 0 (by omega)).1 q980 dX1_dearer_5 ?_
  refine r_V2io (pc := 8) C (l_tellsFar (by exact hL) hv hW hC hJ.g hkx (by omega) (hG 0 (by omega)).2) vl_X1_381 (ly_g hL) (by decide) (by omega) (by omega) (Nat.le_of_ble_eq_true rfl) rfl dX1_dearer_8 (fun u1 A1 hc1 => ?_)
  obtain ⟨⟨f1, κ1, μ1, eA1, hκ1, ho1, hcl1⟩, eu1⟩ := hc1
  refine r_top eu1 ?_
  refine r_eqA (eA1.trans (by first | exact FH_FH hL | rfl)) ?_
  clear eu1 eA1 A1 u1
  refine r_istore_2 (pc := 11) C dX1_dearer_11 rfl ?_
  refine r_iload_2 (pc := 12) C dX1_dearer_12 ?_
  refine r_aload_0 (pc := 13) C dX1_dearer_13 ?_
  refine r_getR (pc := 14) C fl_X1_24_1 (by exact hc) rfl (by exact hn) dX1_dearer_14 ?_
  refine r_aload_1 (pc := 17) C dX1_dearer_17 ?_
  refine r_getS (pc := 18) C (hG 1 (by omega)).1 q2067 dX1_dearer_18 ?_
  refine r_V2io (pc := 21) C (l_tellsFar (by exact hL) (lv_FH hL hv) hW hC hJ.g hkx (by omega) (hG 1 (by omega)).2) vl_X1_381 (ly_g hL) (by decide) (by omega) (by omega) (Nat.le_of_ble_eq_true rfl) rfl dX1_dearer_21 (fun u2 A2 hc2 => ?_)
  obtain ⟨⟨f2, κ2, μ2, eA2, hκ2, ho2, hcl2⟩, eu2⟩ := hc2
  refine r_top eu2 ?_
  refine r_eqA (eA2.trans (by first | exact FH_FH hL | rfl)) ?_
  clear eu2 eA2 A2 u2
  refine r_isub (pc := 24) C dX1_dearer_24 ?_
  refine r_iret (pc := 25) C E rfl (by omega) (by omega) dX1_dearer_25 ?_
  exact ⟨rfl, _, _, rfl⟩
set_option maxHeartbeats 4000000 in
theorem c_ifOpen {g : GZ} {A : HA} {c a : Nat} {d : Nat → Nat} {σ : Rw} (hc : (A.G c).1 = 1) (hn : A.R c 0 = some a) (hL : Ly A a d σ) (hv : Lv A.I a d σ) (hJ : RowJ σ) (hG : GdK g) {x : Int32} : Ct g wI yX1_ifOpen (.code yX1_ifOpen cX1_ifOpen 2 (Option.some Jvm.ClassFile.FieldType.int)) 10 1 6 [.ref c, .int x] (A) (fun u A' => inW σ x ∧ u = nI (costR σ (nt x) 0) - nI (costR σ (nt x) 1) ∧ ∃ κ μ, A' = FH A d κ μ) (fun q A' => ¬ inW σ x ∧ TX A A' Non 20 q) := by
  refine Ct.of [some (.ref c), some (.int x)] (by decide) rfl rfl fun z C hx hnm E => ?_
  have hW := hJ.w
  have hS := hW.s
  have hw3 := hS.w3
  have hw10 := hS.w10
  have hh8 := hS.h8
  have hc80 := hS.c80
  have k6 := hW.k6
  have g6 := hW.g6
  have hC : ∀ c, c < 80 → CelF σ c := fun c hc => (hJ.c hc).fe
  have d9 := hW.d9
  refine r_aload_0 (pc := 0) C dX1_ifOpen_0 ?_
  refine r_aload_0 (pc := 1) C dX1_ifOpen_1 ?_
  refine r_iload_1 (pc := 2) C dX1_ifOpen_2 ?_
  refine r_V1rx (pc := 3) C (c_walkerAt hc hn hL hv hJ) vl_X1_330 (by exact hc) (by decide) (by omega) (by omega) (Nat.le_of_ble_eq_true rfl) rfl dX1_ifOpen_3 (fun q A9 hp hE => r_out C E (by rw [hx]; exact fun x h => nomatch h) hE.choose_spec (by omega) (by omega) (hp)) (fun u1 A1 hc1 => ?_)
  obtain ⟨hi1, eu1, eA1⟩ := hc1
  refine r_topR eu1 ?_
  refine r_eqA eA1 ?_
  clear eu1 eA1 A1 u1
  have b98 : inW σ x := by assumption
  have hkx : nt x < rK σ := by obtain ⟨k, hk, rfl⟩ := inZ_of (n := rK σ) b98 (by omega); rw [nt_n (by omega)]; exact hk
  refine r_V1io (pc := 6) C (c_dearer hc hn hL hv hJ hG hkx) vl_X1_397 (by exact hc) (by decide) (by omega) (by omega) (Nat.le_of_ble_eq_true rfl) rfl dX1_ifOpen_6 (fun u2 A2 hc2 => ?_)
  obtain ⟨eu2, hG2⟩ := hc2
  refine r_top eu2 ?_
  clear eu2 u2
  refine r_iret (pc := 9) C E rfl (by omega) (by omega) dX1_ifOpen_9 ?_
  exact ⟨b98, rfl, by assumption⟩
set_option maxHeartbeats 4000000 in
theorem c_grassBalance {g : GZ} {A : HA} {c a : Nat} {d : Nat → Nat} {σ : Rw} (hc : (A.G c).1 = 1) (hn : A.R c 0 = some a) (hL : Ly A a d σ) (hv : Lv A.I a d σ) (hJ : RowJ σ)  : Ct g wI yX1_grassBalance (.code yX1_grassBalance cX1_grassBalance 2 (Option.some Jvm.ClassFile.FieldType.int)) 2 0 0 [.ref c] (A) (fun u A' => u = gbalA σ ∧ A' = A) fw_no := by
  refine Ct.of [some (.ref c), none] (by decide) rfl rfl fun z C hx hnm E => ?_
  have hW := hJ.w
  have hS := hW.s
  have hw3 := hS.w3
  have hw10 := hS.w10
  have hh8 := hS.h8
  have hc80 := hS.c80
  have k6 := hW.k6
  have g6 := hW.g6
  have hC : ∀ c, c < 80 → CelF σ c := fun c hc => (hJ.c hc).fe
  have d9 := hW.d9
  refine r_aload_0 (pc := 0) C dX1_grassBalance_0 ?_
  refine r_getR (pc := 1) C fl_X1_24_1 (by exact hc) rfl (by exact hn) dX1_grassBalance_1 ?_
  refine r_ngetR (pc := 4) C fn_X1_413_2 (ly_g hL) rfl (ly_rf hL 9 (by decide)) dX1_grassBalance_4 ?_
  refine r_astore_1 (pc := 7) C dX1_grassBalance_7 rfl ?_
  refine r_aload_0 (pc := 8) C dX1_grassBalance_8 ?_
  refine r_getR (pc := 9) C fl_X1_24_1 (by exact hc) rfl (by exact hn) dX1_grassBalance_9 ?_
  refine r_ngetI (pc := 12) C fn_X1_416_2 (ly_g hL) rfl dX1_grassBalance_12 ?_
  refine r_top hv.first ?_
  refine r_aload_1 (pc := 15) C dX1_grassBalance_15 ?_
  refine r_iconst (pc := 16) C dX1_grassBalance_16 ci_3 ?_
  refine r_iald (pc := 17) C (ly_gf hL 9 (by decide)) rfl rfl (lt_eq (by omega) (ly_n9 hL)) (by omega) dX1_grassBalance_17 ?_
  refine r_top (hv.acc (by omega)) ?_
  refine r_isub (pc := 18) C dX1_grassBalance_18 ?_
  refine r_aload_1 (pc := 19) C dX1_grassBalance_19 ?_
  refine r_iconst (pc := 20) C dX1_grassBalance_20 ci_4 ?_
  refine r_iald (pc := 21) C (ly_gf hL 9 (by decide)) rfl rfl (lt_eq (by omega) (ly_n9 hL)) (by omega) dX1_grassBalance_21 ?_
  refine r_top (hv.acc (by omega)) ?_
  refine r_iadd (pc := 22) C dX1_grassBalance_22 ?_
  refine r_aload_1 (pc := 23) C dX1_grassBalance_23 ?_
  refine r_iconst (pc := 24) C dX1_grassBalance_24 ci_5 ?_
  refine r_iald (pc := 25) C (ly_gf hL 9 (by decide)) rfl rfl (lt_eq (by omega) (ly_n9 hL)) (by omega) dX1_grassBalance_25 ?_
  refine r_top (hv.acc (by omega)) ?_
  refine r_iadd (pc := 26) C dX1_grassBalance_26 ?_
  refine r_aload_1 (pc := 27) C dX1_grassBalance_27 ?_
  refine r_bipush (pc := 28) C dX1_grassBalance_28 cb_6 ?_
  refine r_iald (pc := 30) C (ly_gf hL 9 (by decide)) rfl rfl (lt_eq (by omega) (ly_n9 hL)) (by omega) dX1_grassBalance_30 ?_
  refine r_top (hv.acc (by omega)) ?_
  refine r_iadd (pc := 31) C dX1_grassBalance_31 ?_
  refine r_aload_1 (pc := 32) C dX1_grassBalance_32 ?_
  refine r_bipush (pc := 33) C dX1_grassBalance_33 cb_7 ?_
  refine r_iald (pc := 35) C (ly_gf hL 9 (by decide)) rfl rfl (lt_eq (by omega) (ly_n9 hL)) (by omega) dX1_grassBalance_35 ?_
  refine r_top (hv.acc (by omega)) ?_
  refine r_isub (pc := 36) C dX1_grassBalance_36 ?_
  refine r_aload_0 (pc := 37) C dX1_grassBalance_37 ?_
  refine r_getR (pc := 38) C fl_X1_24_1 (by exact hc) rfl (by exact hn) dX1_grassBalance_38 ?_
  refine r_V0io (pc := 41) C (l_grassAll hL hv hW hC) vl_X1_233 (ly_g hL) (by decide) (by omega) (by omega) (Nat.le_of_ble_eq_true rfl) rfl dX1_grassBalance_41 (fun u1 A1 hc1 => ?_)
  refine r_top hc1.1 ?_
  refine r_eqA hc1.2 ?_
  clear hc1 A1 u1
  refine r_isub (pc := 44) C dX1_grassBalance_44 ?_
  refine r_iret (pc := 45) C E rfl (by omega) (by omega) dX1_grassBalance_45 ?_
  exact ⟨rfl, rfl⟩
set_option maxHeartbeats 4000000 in
theorem c_errorCode {g : GZ} {A : HA} {c a : Nat} {d : Nat → Nat} {σ : Rw} (hc : (A.G c).1 = 1) (hn : A.R c 0 = some a) (hL : Ly A a d σ) (hv : Lv A.I a d σ) (hJ : RowJ σ)  : Ct g wI yX1_errorCode (.code yX1_errorCode cX1_errorCode 1 (Option.some Jvm.ClassFile.FieldType.int)) 1 0 0 [.ref c] (A) (fun u A' => u = A.I c 5 ∧ A' = A) fw_no := by
  refine Ct.of [some (.ref c)] (by decide) rfl rfl fun z C hx hnm E => ?_
  have hW := hJ.w
  have hS := hW.s
  have hw3 := hS.w3
  have hw10 := hS.w10
  have hh8 := hS.h8
  have hc80 := hS.c80
  have k6 := hW.k6
  have g6 := hW.g6
  have hC : ∀ c, c < 80 → CelF σ c := fun c hc => (hJ.c hc).fe
  have d9 := hW.d9
  refine r_aload_0 (pc := 0) C dX1_errorCode_0 ?_
  refine r_getI (pc := 1) C fl_X1_145_1 (by exact hc) rfl dX1_errorCode_1 ?_
  refine r_iret (pc := 4) C E rfl (by omega) (by omega) dX1_errorCode_4 ?_
  exact ⟨rfl, rfl⟩
set_option maxHeartbeats 4000000 in
theorem c_errorPosition {g : GZ} {A : HA} {c a : Nat} {d : Nat → Nat} {σ : Rw} (hc : (A.G c).1 = 1) (hn : A.R c 0 = some a) (hL : Ly A a d σ) (hv : Lv A.I a d σ) (hJ : RowJ σ)  : Ct g wI yX1_errorPosition (.code yX1_errorPosition cX1_errorPosition 1 (Option.some Jvm.ClassFile.FieldType.int)) 1 0 0 [.ref c] (A) (fun u A' => u = A.I c 6 ∧ A' = A) fw_no := by
  refine Ct.of [some (.ref c)] (by decide) rfl rfl fun z C hx hnm E => ?_
  have hW := hJ.w
  have hS := hW.s
  have hw3 := hS.w3
  have hw10 := hS.w10
  have hh8 := hS.h8
  have hc80 := hS.c80
  have k6 := hW.k6
  have g6 := hW.g6
  have hC : ∀ c, c < 80 → CelF σ c := fun c hc => (hJ.c hc).fe
  have d9 := hW.d9
  refine r_aload_0 (pc := 0) C dX1_errorPosition_0 ?_
  refine r_getI (pc := 1) C fl_X1_39_1 (by exact hc) rfl dX1_errorPosition_1 ?_
  refine r_iret (pc := 4) C E rfl (by omega) (by omega) dX1_errorPosition_4 ?_
  exact ⟨rfl, rfl⟩
