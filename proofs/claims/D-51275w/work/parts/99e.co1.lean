/-! THE COMPONENT, 1: checks, places, plain questions -/
set_option maxRecDepth 100000
/-- thrown: an object of kind e; nothing of ours is changed -/
def TX (A A' : HA) (X : Nat → Prop) (e x : Nat) : Prop := (A'.G x).1 = e ∧ Gw A A' X
theorem TX.of {A B D : HA} {X Y : Nat → Prop} {e x : Nat} (h : TX B D Y e x) (h0 : Gw A B X) (hY : ∀ y, y < A.z → Y y → X y) : TX A D X e x := ⟨h.1, h0.tr2 h.2 hY⟩
theorem tx_mz {A : HA} {e m : Nat} {X : Nat → Prop} (h : A.z < m) : TX A (A.mz e m) X e A.z := ⟨congrArg Prod.fst (if_pos rfl), gw_mz h⟩
set_option maxHeartbeats 4000000 in
theorem c_in {g : GZ} {A : HA} {v a b : Int64} : Ct g wI yX1_in (.code yX1_in cX1_in 6 (Option.some Jvm.ClassFile.FieldType.boolean)) 1 0 0 [.long v, .long a, .long b] (A) (fun u A' => u = bI (a ≤ v ∧ v ≤ b) ∧ A' = A) fw_no := by
  refine Ct.of [some (.long v), none, some (.long a), none, some (.long b), none] (by decide) rfl rfl fun z C hx hnm E => ?_
  refine r_lload_0 (pc := 0) C dX1_in_0 ?_
  refine r_lload_2 (pc := 1) C dX1_in_1 ?_
  refine r_lcmp (pc := 2) C dX1_in_2 ?_
  refine r_if_lt (pc := 3) (tgt := 17) C dX1_in_3 (by decide) (fun b3 => ?_) (fun b3 => ?_)
  · skip
    have b3 := (lg_lt0 _ _).mp b3
    refine r_iconst (pc := 17) C dX1_in_17 ci_0 ?_
    refine r_iret (pc := 18) C E nar_0 (Nat.le_refl _) (Nat.le_refl _) dX1_in_18 ?_
    first | exact ⟨bI_1 ⟨‹_›, ‹_›⟩, rfl⟩ | exact ⟨bI_00 (fun q => absurd q.1 ‹_›), rfl⟩ | exact ⟨bI_00 (fun q => absurd q.2 ‹_›), rfl⟩
  · skip
    have b3 := Decidable.not_not.mp ((not_congr (lg_lt0 _ _)).mp b3)
    refine r_lload_0 (pc := 6) C dX1_in_6 ?_
    refine r_lload_4 (pc := 7) C dX1_in_7 ?_
    refine r_lcmp (pc := 9) C dX1_in_9 ?_
    refine r_if_gt (pc := 10) (tgt := 17) C dX1_in_10 (by decide) (fun b10 => ?_) (fun b10 => ?_)
    · skip
      have b10 := (lg_gt0 _ _).mp b10
      refine r_iconst (pc := 17) C dX1_in_17 ci_0 ?_
      refine r_iret (pc := 18) C E nar_0 (Nat.le_refl _) (Nat.le_refl _) dX1_in_18 ?_
      first | exact ⟨bI_1 ⟨‹_›, ‹_›⟩, rfl⟩ | exact ⟨bI_00 (fun q => absurd q.1 ‹_›), rfl⟩ | exact ⟨bI_00 (fun q => absurd q.2 ‹_›), rfl⟩
    · skip
      have b10 := Decidable.not_not.mp ((not_congr (lg_gt0 _ _)).mp b10)
      refine r_iconst (pc := 13) C dX1_in_13 ci_1 ?_
      refine r_goto (pc := 14) (tgt := 18) C dX1_in_14 (by decide) ?_
      refine r_iret (pc := 18) C E nar_1 (Nat.le_refl _) (Nat.le_refl _) dX1_in_18 ?_
      first | exact ⟨bI_1 ⟨‹_›, ‹_›⟩, rfl⟩ | exact ⟨bI_00 (fun q => absurd q.1 ‹_›), rfl⟩ | exact ⟨bI_00 (fun q => absurd q.2 ‹_›), rfl⟩
theorem c_inZ {g : GZ} {A : HA} {x : Int32} {a b : Int64} {p q : Int} (ha : a.toInt = p) (hb : b.toInt = q) : Ct g wI yX1_in (.code yX1_in cX1_in 6 (Option.some Jvm.ClassFile.FieldType.boolean)) 1 0 0 [.long x.toInt64, .long a, .long b] A (fun u A' => u = bI (inZ x p q) ∧ A' = A) fw_no := c_in.mono (fun u A' h => ⟨h.1.trans (bI_iff (in_64 ha hb)), h.2⟩) (fun _ _ h => h)
set_option maxHeartbeats 4000000 in
theorem c_index {g : GZ} {A : HA} {p : Prop} [Decidable p] : Ct g wV yX1_index (.code yX1_index cX1_index 1 (Option.none : Option Jvm.ClassFile.FieldType)) 7 1 6 [.int (bI p)] (A) (fun u A' => p ∧ A' = A) (fun x A' => ¬ p ∧ TX A A' Non 20 x) := by
  refine Ct.of [some (.int (bI p))] (by decide) rfl rfl fun z C hx hnm E => ?_
  refine r_iload_0 (pc := 0) C dX1_index_0 ?_
  refine r_if_ne (pc := 1) (tgt := 12) C dX1_index_1 (by decide) (fun b1 => ?_) (fun b1 => ?_)
  · skip
    have b1 := bI_n.mp b1
    refine r_vret (pc := 12) C E (by omega) (by omega) dX1_index_12 ?_
    exact ⟨‹p›, rfl⟩
  · skip
    have b1 := bI_0.mp b1
    refine r_make20 (pc := 4) C dX1_index_4 dX1_index_7 dX1_index_8 (by decide) (Nat.le_of_ble_eq_true rfl) rfl (by omega) (by omega) fun m hm => ?_
    refine r_athrow (pc := 11) C dX1_index_11 ?_
    refine r_out C E (by rw [hx]; exact fun x h => nomatch h) (En := RJ22) ((congrArg fw_ex (tx_mz (X := Non) hm).1).trans rfl) (by omega) (by omega) (⟨‹¬ p›, tx_mz hm⟩)
set_option maxHeartbeats 4000000 in
theorem c_indexNo {g : GZ} {A : HA}  : Ct g wV yX1_index (.code yX1_index cX1_index 1 (Option.none : Option Jvm.ClassFile.FieldType)) 7 1 6 [.int (nI (0))] (A) (fun u A' => False) (fun x A' => TX A A' Non 20 x) := by
  refine Ct.of [some (.int (nI (0)))] (by decide) rfl rfl fun z C hx hnm E => ?_
  refine r_iload_0 (pc := 0) C dX1_index_0 ?_
  refine r_if_ne (pc := 1) (tgt := 12) C dX1_index_1 (by decide) (fun b1 => ?_) (fun b1 => ?_)
  · exact absurd b1 (by decide +kernel)
  · skip
    refine r_make20 (pc := 4) C dX1_index_4 dX1_index_7 dX1_index_8 (by decide) (Nat.le_of_ble_eq_true rfl) rfl (by omega) (by omega) fun m hm => ?_
    refine r_athrow (pc := 11) C dX1_index_11 ?_
    refine r_out C E (by rw [hx]; exact fun x h => nomatch h) (En := RJ22) ((congrArg fw_ex (tx_mz (X := Non) hm).1).trans rfl) (by omega) (by omega) (tx_mz hm)
set_option maxHeartbeats 4000000 in
theorem c_indexYes {g : GZ} {A : HA}  : Ct g wV yX1_index (.code yX1_index cX1_index 1 (Option.none : Option Jvm.ClassFile.FieldType)) 7 0 0 [.int (nI (1))] (A) (fun u A' => A' = A) fw_no := by
  refine Ct.of [some (.int (nI (1)))] (by decide) rfl rfl fun z C hx hnm E => ?_
  refine r_iload_0 (pc := 0) C dX1_index_0 ?_
  refine r_if_ne (pc := 1) (tgt := 12) C dX1_index_1 (by decide) (fun b1 => ?_) (fun b1 => ?_)
  · skip
    refine r_vret (pc := 12) C E (Nat.le_refl _) (Nat.le_refl _) dX1_index_12 ?_
    exact rfl
  · exact absurd b1 (by decide +kernel)
set_option maxHeartbeats 4000000 in
theorem c_argument {g : GZ} {A : HA} {p : Prop} [Decidable p] : Ct g wV yX1_argument (.code yX1_argument cX1_argument 1 (Option.none : Option Jvm.ClassFile.FieldType)) 7 1 6 [.int (bI p)] (A) (fun u A' => p ∧ A' = A) (fun x A' => ¬ p ∧ TX A A' Non 19 x) := by
  refine Ct.of [some (.int (bI p))] (by decide) rfl rfl fun z C hx hnm E => ?_
  refine r_iload_0 (pc := 0) C dX1_argument_0 ?_
  refine r_if_ne (pc := 1) (tgt := 12) C dX1_argument_1 (by decide) (fun b1 => ?_) (fun b1 => ?_)
  · skip
    have b1 := bI_n.mp b1
    refine r_vret (pc := 12) C E (by omega) (by omega) dX1_argument_12 ?_
    exact ⟨‹p›, rfl⟩
  · skip
    have b1 := bI_0.mp b1
    refine r_make19 (pc := 4) C dX1_argument_4 dX1_argument_7 dX1_argument_8 (by decide) (Nat.le_of_ble_eq_true rfl) rfl (by omega) (by omega) fun m hm => ?_
    refine r_athrow (pc := 11) C dX1_argument_11 ?_
    refine r_out C E (by rw [hx]; exact fun x h => nomatch h) (En := RJ18) ((congrArg fw_ex (tx_mz (X := Non) hm).1).trans rfl) (by omega) (by omega) (⟨‹¬ p›, tx_mz hm⟩)
set_option maxHeartbeats 4000000 in
theorem c_argumentNo {g : GZ} {A : HA}  : Ct g wV yX1_argument (.code yX1_argument cX1_argument 1 (Option.none : Option Jvm.ClassFile.FieldType)) 7 1 6 [.int (nI (0))] (A) (fun u A' => False) (fun x A' => TX A A' Non 19 x) := by
  refine Ct.of [some (.int (nI (0)))] (by decide) rfl rfl fun z C hx hnm E => ?_
  refine r_iload_0 (pc := 0) C dX1_argument_0 ?_
  refine r_if_ne (pc := 1) (tgt := 12) C dX1_argument_1 (by decide) (fun b1 => ?_) (fun b1 => ?_)
  · exact absurd b1 (by decide +kernel)
  · skip
    refine r_make19 (pc := 4) C dX1_argument_4 dX1_argument_7 dX1_argument_8 (by decide) (Nat.le_of_ble_eq_true rfl) rfl (by omega) (by omega) fun m hm => ?_
    refine r_athrow (pc := 11) C dX1_argument_11 ?_
    refine r_out C E (by rw [hx]; exact fun x h => nomatch h) (En := RJ18) ((congrArg fw_ex (tx_mz (X := Non) hm).1).trans rfl) (by omega) (by omega) (tx_mz hm)
set_option maxHeartbeats 4000000 in
theorem c_argumentYes {g : GZ} {A : HA}  : Ct g wV yX1_argument (.code yX1_argument cX1_argument 1 (Option.none : Option Jvm.ClassFile.FieldType)) 7 0 0 [.int (nI (1))] (A) (fun u A' => A' = A) fw_no := by
  refine Ct.of [some (.int (nI (1)))] (by decide) rfl rfl fun z C hx hnm E => ?_
  refine r_iload_0 (pc := 0) C dX1_argument_0 ?_
  refine r_if_ne (pc := 1) (tgt := 12) C dX1_argument_1 (by decide) (fun b1 => ?_) (fun b1 => ?_)
  · skip
    refine r_vret (pc := 12) C E (Nat.le_refl _) (Nat.le_refl _) dX1_argument_12 ?_
    exact rfl
  · exact absurd b1 (by decide +kernel)
set_option maxHeartbeats 4000000 in
theorem c_told {g : GZ} {A : HA} {c a : Nat} {d : Nat → Nat} {σ : Rw} (hc : (A.G c).1 = 1) (hn : A.R c 0 = some a) (hL : Ly A a d σ) (hv : Lv A.I a d σ) (hJ : RowJ σ) {k : Nat} (hk : k < rC σ) : Ct g wI yX1_told (.code yX1_told cX1_told 2 (Option.some Jvm.ClassFile.FieldType.int)) 1 0 0 [.ref c, .int (nI (k))] (A) (fun u A' => u = nI (10 * (k / rW σ) + k % rW σ) ∧ A' = A) fw_no := by
  refine Ct.of [some (.ref c), some (.int (nI (k)))] (by decide) rfl rfl fun z C hx hnm E => ?_
  have hW := hJ.w
  have hS := hW.s
  have hw3 := hS.w3
  have hw10 := hS.w10
  have hh8 := hS.h8
  have hc80 := hS.c80
  have k6 := hW.k6
  have g6 := hW.g6
  have hC : ∀ c, c < 80 → CelF σ c := fun c hc => (hJ.c hc).fe
  have d9 := hW.d9
  refine r_bipush (pc := 0) C dX1_told_0 cb_10 ?_
  refine r_iload_1 (pc := 2) C dX1_told_2 ?_
  refine r_aload_0 (pc := 3) C dX1_told_3 ?_
  refine r_getR (pc := 4) C fl_X1_24_1 (by exact hc) rfl (by exact hn) dX1_told_4 ?_
  refine r_ngetI (pc := 7) C fn_X1_206_2 (ly_g hL) rfl dX1_told_7 ?_
  refine r_top (hv.w.trans hW.s.w) ?_
  refine r_idiv (pc := 10) C dX1_told_10 (nI_nz (by omega) (by omega)) ?_
  refine r_top (nI_div (by omega) (by omega) (by omega)) ?_
  refine r_imul (pc := 11) C dX1_told_11 ?_
  refine r_top (pk_mul _ _) ?_
  refine r_iload_1 (pc := 12) C dX1_told_12 ?_
  refine r_aload_0 (pc := 13) C dX1_told_13 ?_
  refine r_getR (pc := 14) C fl_X1_24_1 (by exact hc) rfl (by exact hn) dX1_told_14 ?_
  refine r_ngetI (pc := 17) C fn_X1_206_2 (ly_g hL) rfl dX1_told_17 ?_
  refine r_top (hv.w.trans hW.s.w) ?_
  refine r_irem (pc := 20) C dX1_told_20 (nI_nz (by omega) (by omega)) ?_
  refine r_top (nI_rem (by omega) (by omega) (by omega)) ?_
  refine r_iadd (pc := 21) C dX1_told_21 ?_
  refine r_top (nI_add _ _) ?_
  refine r_iret (pc := 22) C E rfl (by omega) (by omega) dX1_told_22 ?_
  exact ⟨rfl, rfl⟩
set_option maxHeartbeats 4000000 in
theorem c_at {g : GZ} {A : HA} {c a : Nat} {d : Nat → Nat} {σ : Rw} (hc : (A.G c).1 = 1) (hn : A.R c 0 = some a) (hL : Ly A a d σ) (hv : Lv A.I a d σ) (hJ : RowJ σ) {x y : Int32} : Ct g wI yX1_at (.code yX1_at cX1_at 3 (Option.some Jvm.ClassFile.FieldType.int)) 8 1 6 [.ref c, .int x, .int y] (A) (fun u A' => inC2 σ x y ∧ u = nI (cat σ x y) ∧ A' = A) (fun q A' => ¬ inC2 σ x y ∧ TX A A' Non 20 q) := by
  refine Ct.of [some (.ref c), some (.int x), some (.int y)] (by decide) rfl rfl fun z C hx hnm E => ?_
  have hW := hJ.w
  have hS := hW.s
  have hw3 := hS.w3
  have hw10 := hS.w10
  have hh8 := hS.h8
  have hc80 := hS.c80
  have k6 := hW.k6
  have g6 := hW.g6
  have hC : ∀ c, c < 80 → CelF σ c := fun c hc => (hJ.c hc).fe
  have d9 := hW.d9
  refine r_iload_1 (pc := 0) C dX1_at_0 ?_
  refine r_i2l (pc := 1) C dX1_at_1 ?_
  refine r_lconst (pc := 2) (v := 0) C dX1_at_2 (by decide) ?_
  refine r_aload_0 (pc := 3) C dX1_at_3 ?_
  refine r_getR (pc := 4) C fl_X1_24_1 (by exact hc) rfl (by exact hn) dX1_at_4 ?_
  refine r_ngetI (pc := 7) C fn_X1_206_2 (ly_g hL) rfl dX1_at_7 ?_
  refine r_top (hv.w.trans hW.s.w) ?_
  refine r_iconst (pc := 10) C dX1_at_10 ci_1 ?_
  refine r_isub (pc := 11) C dX1_at_11 ?_
  refine r_i2l (pc := 12) C dX1_at_12 ?_
  refine r_S3io (pc := 13) C (c_inZ (p := 0) (q := (rW σ : Int) - 1) (by decide) (t_m1' (by omega))) sl_X1_114 (by decide) (by omega) (by omega) (Nat.le_of_ble_eq_true rfl) rfl dX1_at_13 (fun u1 A1 hc1 => ?_)
  refine r_top hc1.1 ?_
  refine r_eqA hc1.2 ?_
  clear hc1 A1 u1
  refine r_if_eq (pc := 16) (tgt := 42) C dX1_at_16 (by decide) (fun b16 => ?_) (fun b16 => ?_)
  · skip
    have b16 := bI_0.mp b16
    refine r_iconst (pc := 42) C dX1_at_42 ci_0 ?_
    refine r_S1vx (pc := 43) C (c_indexNo) sl_X1_236 (by decide) (by omega) (by omega) (Nat.le_of_ble_eq_true rfl) rfl dX1_at_43 (fun q A9 hp hE => r_out C E (by rw [hx]; exact fun x h => nomatch h) hE.choose_spec (by omega) (by omega) (⟨fun q9 => by first | exact absurd q9.1 (by assumption) | exact absurd q9.2 (by assumption), hp⟩)) (fun u2 A2 hc2 => ?_)
    exact hc2.elim
  · skip
    have b16 := bI_n.mp b16
    refine r_iload_2 (pc := 19) C dX1_at_19 ?_
    refine r_i2l (pc := 20) C dX1_at_20 ?_
    refine r_lconst (pc := 21) (v := 0) C dX1_at_21 (by decide) ?_
    refine r_aload_0 (pc := 22) C dX1_at_22 ?_
    refine r_getR (pc := 23) C fl_X1_24_1 (by exact hc) rfl (by exact hn) dX1_at_23 ?_
    refine r_ngetI (pc := 26) C fn_X1_209_2 (ly_g hL) rfl dX1_at_26 ?_
    refine r_top (hv.h.trans hW.s.h) ?_
    refine r_iconst (pc := 29) C dX1_at_29 ci_1 ?_
    refine r_isub (pc := 30) C dX1_at_30 ?_
    refine r_i2l (pc := 31) C dX1_at_31 ?_
    refine r_S3io (pc := 32) C (c_inZ (p := 0) (q := (rH σ : Int) - 1) (by decide) (t_m1' (by omega))) sl_X1_114 (by decide) (by omega) (by omega) (Nat.le_of_ble_eq_true rfl) rfl dX1_at_32 (fun u3 A3 hc3 => ?_)
    refine r_top hc3.1 ?_
    refine r_eqA hc3.2 ?_
    clear hc3 A3 u3
    refine r_if_eq (pc := 35) (tgt := 42) C dX1_at_35 (by decide) (fun b35 => ?_) (fun b35 => ?_)
    · skip
      have b35 := bI_0.mp b35
      refine r_iconst (pc := 42) C dX1_at_42 ci_0 ?_
      refine r_S1vx (pc := 43) C (c_indexNo) sl_X1_236 (by decide) (by omega) (by omega) (Nat.le_of_ble_eq_true rfl) rfl dX1_at_43 (fun q A9 hp hE => r_out C E (by rw [hx]; exact fun x h => nomatch h) hE.choose_spec (by omega) (by omega) (⟨fun q9 => by first | exact absurd q9.1 (by assumption) | exact absurd q9.2 (by assumption), hp⟩)) (fun u4 A4 hc4 => ?_)
      exact hc4.elim
    · skip
      have b35 := bI_n.mp b35
      refine r_iconst (pc := 38) C dX1_at_38 ci_1 ?_
      refine r_goto (pc := 39) (tgt := 43) C dX1_at_39 (by decide) ?_
      refine r_S1vo (pc := 43) C (c_indexYes) sl_X1_236 (by decide) (by omega) (by omega) (Nat.le_of_ble_eq_true rfl) rfl dX1_at_43 (fun u5 A5 hc5 => ?_)
      refine r_eqA hc5 ?_
      clear hc5 A5 u5
      refine r_aload_0 (pc := 46) C dX1_at_46 ?_
      refine r_getR (pc := 47) C fl_X1_24_1 (by exact hc) rfl (by exact hn) dX1_at_47 ?_
      refine r_ngetI (pc := 50) C fn_X1_206_2 (ly_g hL) rfl dX1_at_50 ?_
      refine r_top (hv.w.trans hW.s.w) ?_
      refine r_iload_2 (pc := 53) C dX1_at_53 ?_
      refine r_imul (pc := 54) C dX1_at_54 ?_
      refine r_iload_1 (pc := 55) C dX1_at_55 ?_
      refine r_iadd (pc := 56) C dX1_at_56 ?_
      refine r_iret (pc := 57) C E rfl (by omega) (by omega) dX1_at_57 ?_
      obtain ⟨i, hi, rfl⟩ := inZ_of b16 (by omega)
      obtain ⟨j, hj, rfl⟩ := inZ_of b35 (by omega)
      refine ⟨⟨b16, b35⟩, ?_, rfl⟩
      rw [cat_n (by omega) (by omega), pk_mul, nI_add, Nat.mul_comm]
