/-! THE REFERENCE, 14: public questions -/
set_option maxRecDepth 100000
theorem t_w {L n : Nat} (h : L + 1 ≤ n) (hn : n ≤ 80) : (nI (L + 1) - nI 1).toInt64.toInt = (L : Int) := by
  rw [t_m1' (by omega)]; omega
abbrev nt (x : Int32) : Nat := x.toNatClampNeg
theorem nt_n {n : Nat} (h : n < 2147483648) : nt (nI n) = n := nI_nat (by simpa using h)
def qOne (p : Prop) [Decidable p] (a : Int32) : Nat × Int32 := if p then (0, a) else (1, nI 0)
def qTwo (p q : Prop) [Decidable p] [Decidable q] (a : Int32) : Nat × Int32 := if p then (if q then (0, a) else (2, nI 0)) else (1, nI 0)
/-- the reference's heap behind a question -/
def Qo (A : HA) (t : Nat) (σ τ : Rw) (thr : Int32) (A' : HA) : Prop := ∃ α κ π m, A' = S5 (A.sI (t + 4) α) t σ κ π (upd (upd τ 6 thr) 10 m)
def QP (A : HA) (t : Nat) (σ τ : Rw) (q : Nat × Int32) (u : Int32) (A' : HA) : Prop := u = q.2 ∧ Qo A t σ τ (nI q.1) A'
theorem Qo.m {A A' : HA} {t : Nat} {σ τ κ π : Rw} {thr : Int32} {m : Int32} (h : A' = S5 A t σ κ π (upd (upd τ 6 thr) 10 m)) : Qo A t σ τ thr A' := ⟨A.I (t + 4), κ, π, m, by rw [sI_self]; exact h⟩
theorem Qo.o {A A' : HA} {t : Nat} {σ τ κ π : Rw} {thr : Int32} (h : A' = S5 A t σ κ π (upd τ 6 thr)) : Qo A t σ τ thr A' := Qo.m (m := (upd τ 6 thr) 10) (by rw [upd_10]; exact h)
theorem QP.one {A A' : HA} {t : Nat} {σ τ : Rw} {p : Prop} [Decidable p] {a u : Int32} (h : p) (hu : u = a) (hA : Qo A t σ τ (bI (¬ p)) A') : QP A t σ τ (qOne p a) u A' := by
  unfold qOne
  rw [if_pos h]
  exact ⟨hu, by rw [bI_f (fun q => q h), ← nI0] at hA; exact hA⟩
theorem QP.no {A A' : HA} {t : Nat} {σ τ : Rw} {p : Prop} [Decidable p] {a : Int32} (h : ¬ p) (hA : Qo A t σ τ (bI (¬ p)) A') : QP A t σ τ (qOne p a) (nI 0) A' := by
  unfold qOne
  rw [if_neg h]
  exact ⟨rfl, by rw [bI_t h, ← nI1] at hA; exact hA⟩
theorem QP.two {A A' : HA} {t : Nat} {σ τ : Rw} {p q : Prop} [Decidable p] [Decidable q] {a u : Int32} (h : p ∧ q) (hu : u = a) (hA : Qo A t σ τ (nI (if p then (if q then 0 else 2) else 1)) A') : QP A t σ τ (qTwo p q a) u A' := by
  unfold qTwo
  rw [if_pos h.1, if_pos h.2] at hA ⊢
  exact ⟨hu, hA⟩
theorem QP.no2 {A A' : HA} {t : Nat} {σ τ : Rw} {p q : Prop} [Decidable p] [Decidable q] {a : Int32} (h : ¬ (p ∧ q)) (hA : Qo A t σ τ (nI (if p then (if q then 0 else 2) else 1)) A') : QP A t σ τ (qTwo p q a) (nI 0) A' := by
  unfold qTwo
  by_cases h1 : p
  · have h2 : ¬ q := fun h2 => h ⟨h1, h2⟩
    rw [if_pos h1, if_neg h2] at hA ⊢
    exact ⟨rfl, hA⟩
  · rw [if_neg h1] at hA ⊢
    exact ⟨rfl, hA⟩
theorem Qo.z {A A' : HA} {t : Nat} {σ τ : Rw} {q : Int32} {u : Int32} (hu : u = q) (hA : Qo A t σ τ (nI 0) A') : QP A t σ τ (0, q) u A' := ⟨hu, hA⟩
abbrev inW (σ : Rw) (x : Int32) : Prop := inZ x 0 ((rK σ : Int) - 1)
abbrev inG (σ : Rw) (x : Int32) : Prop := inZ x 0 ((rG σ : Int) - 1)
abbrev inC2 (σ : Rw) (x y : Int32) : Prop := inZ x 0 ((rW σ : Int) - 1) ∧ inZ y 0 ((rH σ : Int) - 1)
def cat (σ : Rw) (x y : Int32) : Nat := nt y * rW σ + nt x
theorem cat_n {σ : Rw} {a b : Nat} (ha : a < 1000) (hb : b < 1000) : cat σ (nI a) (nI b) = b * rW σ + a := by unfold cat; rw [nt_n (by omega), nt_n (by omega)]
set_option maxHeartbeats 4000000 in
theorem m_wayCost {g : GZ} {A : HA} {t : Nat} {σ κ π τ : Nat → Int32} (hT : Tw A t) {x : Int32} (hW : RowW σ) (hy : ways σ) : Ct g wI yX6_wayCost (.code yX6_wayCost cX6_wayCost 2 (Option.some Jvm.ClassFile.FieldType.int)) 7 0 0 [.ref t, .int x] (S5 A t σ κ π τ) (fun u A' => QP A t σ τ (qOne (inW σ x) (nI (costR σ (nt x) 0))) u A') fw_no := by
  refine Ct.of [some (.ref t), some (.int x)] (by decide) rfl rfl fun z C hx hnm E => ?_
  have hS := hW.s
  have hc80 := hS.c80
  have k6 := hW.k6
  have g6 := hW.g6
  have hc80 := hS.c80
  have hw10 := hS.w10
  have hh8 := hS.h8
  have hw3 := hS.w3
  refine r_aload_0 (pc := 0) C dX6_wayCost_0 ?_
  refine r_aload_0 (pc := 1) C dX6_wayCost_1 ?_
  refine r_iload_1 (pc := 2) C dX6_wayCost_2 ?_
  refine r_V1io (pc := 3) C (m_isWalker (by exact hT) (S5_1 _ _ _ _ _ _) hW.k k6) vl_X6_413 (tw_g hT) (by decide) (Nat.le_refl _) (Nat.le_refl _) (Nat.le_of_ble_eq_true rfl) rfl dX6_wayCost_3 (fun u1 A1 hc1 => ?_)
  refine r_top hc1.1 ?_
  refine r_eqA hc1.2 ?_
  clear hc1 A1 u1
  refine r_V1io (pc := 6) C (m_passes (by exact hT)) vl_X6_186 (tw_g hT) (by decide) (Nat.le_refl _) (Nat.le_refl _) (Nat.le_of_ble_eq_true rfl) rfl dX6_wayCost_6 (fun u2 A2 hc2 => ?_)
  refine r_top hc2.1 ?_
  refine r_eqA (hc2.2.trans (by rw [S5_0, S5_w0])) ?_
  clear hc2 A2 u2
  refine r_if_eq (pc := 9) (tgt := 20) C dX6_wayCost_9 (by decide) (fun b9 => ?_) (fun b9 => ?_)
  · skip
    have b9 := bI_0.mp b9
    refine r_iconst (pc := 20) C dX6_wayCost_20 ci_0 ?_
    refine r_iret (pc := 21) C E rfl (Nat.le_refl _) (Nat.le_refl _) dX6_wayCost_21 ?_
    first
      | exact QP.no (by assumption) (Qo.o rfl)
      | exact QP.one b99 (by rw [nt_n (by omega)]) (Qo.m rfl)
  · skip
    have b9 := bI_n.mp b9
    have b99 := b9
    obtain ⟨w, hw, rfl⟩ := inZ_of b9 (by omega)
    refine r_aload_0 (pc := 12) C dX6_wayCost_12 ?_
    refine r_iload_1 (pc := 13) C dX6_wayCost_13 ?_
    refine r_V1io (pc := 14) C (m_laysWay (by exact hT) hW hw (hy _ hw)) vl_X6_147 (tw_g hT) (by decide) (Nat.le_refl _) (Nat.le_refl _) (Nat.le_of_ble_eq_true rfl) rfl dX6_wayCost_14 (fun u3 A3 hc3 => ?_)
    obtain ⟨κL, πL, eA, hπL, eu⟩ := hc3
    refine r_top eu ?_
    refine r_eqA (eA.trans (by first | rw [bx_upd] | rfl)) ?_
    clear eu eA A3 u3
    refine r_goto (pc := 17) (tgt := 21) C dX6_wayCost_17 (by decide) ?_
    refine r_iret (pc := 21) C E rfl (Nat.le_refl _) (Nat.le_refl _) dX6_wayCost_21 ?_
    first
      | exact QP.no (by assumption) (Qo.o rfl)
      | exact QP.one b99 (by rw [nt_n (by omega)]) (Qo.m rfl)
set_option maxHeartbeats 4000000 in
theorem m_waySteps {g : GZ} {A : HA} {t : Nat} {σ κ π τ : Nat → Int32} (hT : Tw A t) {x : Int32} (hW : RowW σ) (hy : ways σ) : Ct g wI yX6_waySteps (.code yX6_waySteps cX6_waySteps 3 (Option.some Jvm.ClassFile.FieldType.int)) 7 0 0 [.ref t, .int x] (S5 A t σ κ π τ) (fun u A' => QP A t σ τ (qOne (inW σ x) (nI (wl σ (nt x)))) u A') fw_no := by
  refine Ct.of [some (.ref t), some (.int x), none] (by decide) rfl rfl fun z C hx hnm E => ?_
  have hS := hW.s
  have hc80 := hS.c80
  have k6 := hW.k6
  have g6 := hW.g6
  have hc80 := hS.c80
  have hw10 := hS.w10
  have hh8 := hS.h8
  have hw3 := hS.w3
  refine r_aload_0 (pc := 0) C dX6_waySteps_0 ?_
  refine r_aload_0 (pc := 1) C dX6_waySteps_1 ?_
  refine r_iload_1 (pc := 2) C dX6_waySteps_2 ?_
  refine r_V1io (pc := 3) C (m_isWalker (by exact hT) (S5_1 _ _ _ _ _ _) hW.k k6) vl_X6_413 (tw_g hT) (by decide) (Nat.le_refl _) (Nat.le_refl _) (Nat.le_of_ble_eq_true rfl) rfl dX6_waySteps_3 (fun u1 A1 hc1 => ?_)
  refine r_top hc1.1 ?_
  refine r_eqA hc1.2 ?_
  clear hc1 A1 u1
  refine r_V1io (pc := 6) C (m_passes (by exact hT)) vl_X6_186 (tw_g hT) (by decide) (Nat.le_refl _) (Nat.le_refl _) (Nat.le_of_ble_eq_true rfl) rfl dX6_waySteps_6 (fun u2 A2 hc2 => ?_)
  refine r_top hc2.1 ?_
  refine r_eqA (hc2.2.trans (by rw [S5_0, S5_w0])) ?_
  clear hc2 A2 u2
  refine r_if_ne (pc := 9) (tgt := 14) C dX6_waySteps_9 (by decide) (fun b9 => ?_) (fun b9 => ?_)
  · skip
    have b9 := bI_n.mp b9
    have b99 := b9
    obtain ⟨w, hw, rfl⟩ := inZ_of b9 (by omega)
    have hwf := wy_facts hW hw (hy _ hw)
    refine r_aload_0 (pc := 14) C dX6_waySteps_14 ?_
    refine r_iload_1 (pc := 15) C dX6_waySteps_15 ?_
    refine r_V1io (pc := 16) C (m_laysWay (by exact hT) hW hw (hy _ hw)) vl_X6_147 (tw_g hT) (by decide) (Nat.le_refl _) (Nat.le_refl _) (Nat.le_of_ble_eq_true rfl) rfl dX6_waySteps_16 (fun u3 A3 hc3 => ?_)
    obtain ⟨κL, πL, eA, hπL, eu⟩ := hc3
    refine r_top eu ?_
    refine r_eqA (eA.trans (by first | rw [bx_upd] | rfl)) ?_
    clear eu eA A3 u3
    refine r_istore_2 (pc := 19) C dX6_waySteps_19 rfl ?_
    refine r_aload_0 (pc := 20) C dX6_waySteps_20 ?_
    refine r_getI (pc := 21) C fl_X6_127_6 (tw_g hT) rfl dX6_waySteps_21 ?_
    refine r_top (congrFun (S5_0 _ _ _ _ _ _) _) ?_
    refine r_top pk_us ?_
    refine r_iconst (pc := 24) C dX6_waySteps_24 ci_1 ?_
    refine r_isub (pc := 25) C dX6_waySteps_25 ?_
    refine r_top (pk_sub (by omega)) ?_
    refine r_iret (pc := 26) C E rfl (Nat.le_refl _) (Nat.le_refl _) dX6_waySteps_26 ?_
    first
      | exact QP.no (by assumption) (Qo.o rfl)
      | exact QP.one b99 (by rw [nt_n (by omega)]; rfl) (Qo.m rfl)
  · skip
    have b9 := bI_0.mp b9
    refine r_iconst (pc := 12) C dX6_waySteps_12 ci_0 ?_
    refine r_iret (pc := 13) C E rfl (Nat.le_refl _) (Nat.le_refl _) dX6_waySteps_13 ?_
    first
      | exact QP.no (by assumption) (Qo.o rfl)
      | exact QP.one b99 (by rw [nt_n (by omega)]; rfl) (Qo.m rfl)
set_option maxHeartbeats 4000000 in
theorem m_wayCell {g : GZ} {A : HA} {t : Nat} {σ κ π τ : Nat → Int32} (hT : Tw A t) {x y : Int32} (hW : RowW σ) (hy : ways σ) : Ct g wI yX6_wayCell (.code yX6_wayCell cX6_wayCell 4 (Option.some Jvm.ClassFile.FieldType.int)) 7 0 0 [.ref t, .int x, .int y] (S5 A t σ κ π τ) (fun u A' => QP A t σ τ (qOne (inW σ x) (if inZ y 0 (wl σ (nt x)) then nI (10 * (wy σ (nt x) (nt y) / rW σ) + wy σ (nt x) (nt y) % rW σ) else -1)) u A') fw_no := by
  refine Ct.of [some (.ref t), some (.int x), some (.int y), none] (by decide) rfl rfl fun z C hx hnm E => ?_
  have hS := hW.s
  have hc80 := hS.c80
  have k6 := hW.k6
  have g6 := hW.g6
  have hc80 := hS.c80
  have hw10 := hS.w10
  have hh8 := hS.h8
  have hw3 := hS.w3
  refine r_aload_0 (pc := 0) C dX6_wayCell_0 ?_
  refine r_aload_0 (pc := 1) C dX6_wayCell_1 ?_
  refine r_iload_1 (pc := 2) C dX6_wayCell_2 ?_
  refine r_V1io (pc := 3) C (m_isWalker (by exact hT) (S5_1 _ _ _ _ _ _) hW.k k6) vl_X6_413 (tw_g hT) (by decide) (Nat.le_refl _) (Nat.le_refl _) (Nat.le_of_ble_eq_true rfl) rfl dX6_wayCell_3 (fun u1 A1 hc1 => ?_)
  refine r_top hc1.1 ?_
  refine r_eqA hc1.2 ?_
  clear hc1 A1 u1
  refine r_V1io (pc := 6) C (m_passes (by exact hT)) vl_X6_186 (tw_g hT) (by decide) (Nat.le_refl _) (Nat.le_refl _) (Nat.le_of_ble_eq_true rfl) rfl dX6_wayCell_6 (fun u2 A2 hc2 => ?_)
  refine r_top hc2.1 ?_
  refine r_eqA (hc2.2.trans (by rw [S5_0, S5_w0])) ?_
  clear hc2 A2 u2
  refine r_if_ne (pc := 9) (tgt := 14) C dX6_wayCell_9 (by decide) (fun b9 => ?_) (fun b9 => ?_)
  · skip
    have b9 := bI_n.mp b9
    have b99 := b9
    obtain ⟨w, hw, rfl⟩ := inZ_of b9 (by omega)
    have hwf := wy_facts hW hw (hy _ hw)
    refine r_aload_0 (pc := 14) C dX6_wayCell_14 ?_
    refine r_iload_1 (pc := 15) C dX6_wayCell_15 ?_
    refine r_V1io (pc := 16) C (m_laysWay (by exact hT) hW hw (hy _ hw)) vl_X6_147 (tw_g hT) (by decide) (Nat.le_refl _) (Nat.le_refl _) (Nat.le_of_ble_eq_true rfl) rfl dX6_wayCell_16 (fun u3 A3 hc3 => ?_)
    obtain ⟨κL, πL, eA, hπL, eu⟩ := hc3
    refine r_top eu ?_
    refine r_eqA (eA.trans (by first | rw [bx_upd] | rfl)) ?_
    clear eu eA A3 u3
    refine r_istore_3 (pc := 19) C dX6_wayCell_19 rfl ?_
    refine r_iload_2 (pc := 20) C dX6_wayCell_20 ?_
    refine r_i2l (pc := 21) C dX6_wayCell_21 ?_
    refine r_lconst (pc := 22) (v := 0) C dX6_wayCell_22 (by decide) ?_
    refine r_aload_0 (pc := 23) C dX6_wayCell_23 ?_
    refine r_getI (pc := 24) C fl_X6_127_6 (tw_g hT) rfl dX6_wayCell_24 ?_
    refine r_top (congrFun (S5_0 _ _ _ _ _ _) _) ?_
    refine r_top pk_us ?_
    refine r_iconst (pc := 27) C dX6_wayCell_27 ci_1 ?_
    refine r_isub (pc := 28) C dX6_wayCell_28 ?_
    refine r_i2l (pc := 29) C dX6_wayCell_29 ?_
    refine r_S3io (pc := 30) C (m_inZ (p := 0) (q := wl σ w) (by decide) (t_w hwf.2.2.2 (by omega))) sl_X6_68 (by decide) (Nat.le_refl _) (Nat.le_refl _) (Nat.le_of_ble_eq_true rfl) rfl dX6_wayCell_30 (fun u4 A4 hc4 => ?_)
    refine r_top hc4.1 ?_
    refine r_eqA hc4.2 ?_
    clear hc4 A4 u4
    refine r_if_eq (pc := 33) (tgt := 49) C dX6_wayCell_33 (by decide) (fun b33 => ?_) (fun b33 => ?_)
    · skip
      have b33 := bI_0.mp b33
      refine r_iconst (pc := 49) C dX6_wayCell_49 ci_m1 ?_
      refine r_iret (pc := 50) C E rfl (Nat.le_refl _) (Nat.le_refl _) dX6_wayCell_50 ?_
      first
        | exact QP.no (by assumption) (Qo.o rfl)
        | exact QP.one b99 (by rw [nt_n (show w < 2147483648 by omega), if_pos b98, nt_n (by omega)]) (Qo.m rfl)
        | exact QP.one b99 (by rw [nt_n (by omega), if_neg b33]) (Qo.m rfl)
    · skip
      have b33 := bI_n.mp b33
      have b98 := b33
      obtain ⟨i, hi, rfl⟩ := inZ_of2 rfl b33 (by omega)
      have hyi := hwf.1 i hi
      refine r_aload_0 (pc := 36) C dX6_wayCell_36 ?_
      refine r_aload_0 (pc := 37) C dX6_wayCell_37 ?_
      refine r_getR (pc := 38) C fl_X6_28_6 (tw_g hT) rfl (tw_r7 hT) dX6_wayCell_38 ?_
      refine r_iload_2 (pc := 41) C dX6_wayCell_41 ?_
      refine r_iald (pc := 42) C (tw_g7 hT) rfl rfl (lt_eq (by omega) (tw_n7 hT)) (by omega) dX6_wayCell_42 ?_
      refine r_top (congrFun (S5_7 _ _ _ _ _ _) _) ?_
      refine r_top (hπL i hi) ?_
      refine r_V1io (pc := 43) C (m_shown (by exact hT) (S5_1 _ _ _ _ _ _) hS (by omega)) vl_X6_420 (tw_g hT) (by decide) (Nat.le_refl _) (Nat.le_refl _) (Nat.le_of_ble_eq_true rfl) rfl dX6_wayCell_43 (fun u5 A5 hc5 => ?_)
      refine r_top hc5.1 ?_
      refine r_eqA hc5.2 ?_
      clear hc5 A5 u5
      refine r_goto (pc := 46) (tgt := 50) C dX6_wayCell_46 (by decide) ?_
      refine r_iret (pc := 50) C E rfl (Nat.le_refl _) (Nat.le_refl _) dX6_wayCell_50 ?_
      first
        | exact QP.no (by assumption) (Qo.o rfl)
        | exact QP.one b99 (by rw [nt_n (show w < 2147483648 by omega), if_pos b98, nt_n (by omega)]) (Qo.m rfl)
        | exact QP.one b99 (by rw [nt_n (by omega), if_neg b33]) (Qo.m rfl)
  · skip
    have b9 := bI_0.mp b9
    refine r_iconst (pc := 12) C dX6_wayCell_12 ci_0 ?_
    refine r_iret (pc := 13) C E rfl (Nat.le_refl _) (Nat.le_refl _) dX6_wayCell_13 ?_
    first
      | exact QP.no (by assumption) (Qo.o rfl)
      | exact QP.one b99 (by rw [nt_n (show w < 2147483648 by omega), if_pos b98, nt_n (by omega)]) (Qo.m rfl)
      | exact QP.one b99 (by rw [nt_n (by omega), if_neg b33]) (Qo.m rfl)
