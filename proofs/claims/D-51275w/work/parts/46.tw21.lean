/-! THE REFERENCE, 21: changes, as they are called -/
set_option maxRecDepth 100000
/-- the heap behind a change -/
def CH (A : HA) (t : Nat) (σ τ : Rw) (m : Nat) (c : Int32 × Rw) (κ π : Rw) (x thr : Int32) : HA :=
  if c.1 < 0 then S5 (A.sI (t + 3) (va_cpy σ (A.I (t + 3)) 0 0 553)) t c.2 κ π (upd (upd τ 6 thr) 10 x)
  else S5 ((A.sI (t + 3) (va_cpy σ (A.I (t + 3)) 0 0 553)).sI (t + 5) (pastR (A.I (t + 5)) m (va_cpy σ (A.I (t + 3)) 0 0 553))) t c.2 κ π (upd (upd (upd τ 6 thr) 10 x) 5 (nI (pastM m)))
def CP (A : HA) (t : Nat) (σ τ : Rw) (m : Nat) (p : Prop) (thr : Int32) (c : Int32 × Rw) (u : Int32) (A' : HA) : Prop :=
  (p → u = c.1 ∧ ∃ κ π x, A' = CH A t σ τ m c κ π x (nI 0)) ∧ (¬ p → u = nI 0 ∧ ∃ κ π, A' = S5 A t σ κ π (upd τ 6 thr))
theorem CP.no {A A' : HA} {t : Nat} {σ τ κ π : Rw} {m : Nat} {p : Prop} {thr : Int32} {c : Int32 × Rw} (h : ¬ p) (hA : A' = S5 A t σ κ π (upd τ 6 thr)) : CP A t σ τ m p thr c (nI 0) A' := ⟨fun q => absurd q h, fun _ => ⟨rfl, _, _, hA⟩⟩
/-- what done() makes of it -/
theorem CP.yes {A A' : HA} {t : Nat} {σ τ κ π : Rw} {m : Nat} {p : Prop} {thr thr' x u : Int32} {c : Int32 × Rw} (h : p) (h0 : thr' = nI 0) (hu : u = c.1)
    (hA : A' = (if c.1 < 0 then S5 (A.sI (t + 3) (va_cpy σ (A.I (t + 3)) 0 0 553)) t c.2 κ π (upd (upd τ 6 thr') 10 x) else S5 ((A.sI (t + 3) (va_cpy σ (A.I (t + 3)) 0 0 553)).sI (t + 5) (pastR ((A.sI (t + 3) (va_cpy σ (A.I (t + 3)) 0 0 553)).I (t + 5)) m ((A.sI (t + 3) (va_cpy σ (A.I (t + 3)) 0 0 553)).I (t + 3)))) t c.2 κ π (upd (upd (upd τ 6 thr') 10 x) 5 (nI (pastM m))))) : CP A t σ τ m p thr c u A' := by
  subst h0
  rw [sI_s, sI_o _ _ (show t + 5 ≠ t + 3 by omega)] at hA
  exact ⟨fun _ => ⟨hu, κ, π, x, hA⟩, fun q => absurd h q⟩
theorem bI_n0 {p : Prop} [Decidable p] (h : p) : bI (¬ p) = nI 0 := by rw [bI_f (fun q => q h), nI0]
theorem two_0 {p q : Prop} [Decidable p] [Decidable q] (h : p ∧ q) : nI (if p then (if q then 0 else 2) else 1) = nI 0 := by rw [if_pos h.1, if_pos h.2]
set_option maxHeartbeats 4000000 in
theorem m_run {g : GZ} {A : HA} {t : Nat} {σ κ π τ : Nat → Int32} (hT : Tw A t) {m : Nat} {x : Int32} (hW : RowW σ) (hy : ways σ) (hd9 : rD σ ≤ 999) (hm : τ 5 = nI m) (h8 : m ≤ 8) : Ct g wI yX6_run (.code yX6_run cX6_run 2 (Option.some Jvm.ClassFile.FieldType.int)) 11 0 0 [.ref t, .int x] (S5 A t σ κ π τ) (fun u A' => CP A t σ τ m (inZ x 1 60) (bI (¬ inZ x 1 60)) (runC σ (nt x)) u A') fw_no := by
  refine Ct.of [some (.ref t), some (.int x)] (by decide) rfl rfl fun z C hx hnm E => ?_
  have hS := hW.s
  have hc80 := hS.c80
  have k6 := hW.k6
  have g6 := hW.g6
  have hc80 := hS.c80
  have hw10 := hS.w10
  have hh8 := hS.h8
  have hw3 := hS.w3
  refine r_aload_0 (pc := 0) C dX6_run_0 ?_
  refine r_aload_0 (pc := 1) C dX6_run_1 ?_
  refine r_iload_1 (pc := 2) C dX6_run_2 ?_
  refine r_i2l (pc := 3) C dX6_run_3 ?_
  refine r_lconst (pc := 4) (v := 1) C dX6_run_4 (by decide) ?_
  refine r_ldc2 (pc := 5) C q2826 dX6_run_5 ?_
  refine r_S3io (pc := 8) C (m_inZ (p := 1) (q := 60) (by decide) (by decide)) sl_X6_68 (by decide) (Nat.le_refl _) (Nat.le_refl _) (Nat.le_of_ble_eq_true rfl) rfl dX6_run_8 (fun u1 A1 hc1 => ?_)
  refine r_top hc1.1 ?_
  refine r_eqA hc1.2 ?_
  clear hc1 A1 u1
  refine r_V1io (pc := 11) C (m_passes (by exact hT)) vl_X6_186 (tw_g hT) (by decide) (Nat.le_refl _) (Nat.le_refl _) (Nat.le_of_ble_eq_true rfl) rfl dX6_run_11 (fun u2 A2 hc2 => ?_)
  refine r_top hc2.1 ?_
  refine r_eqA (hc2.2.trans (by rw [S5_0, S5_w0])) ?_
  clear hc2 A2 u2
  refine r_V1io (pc := 14) C (m_tried (by exact hT)) vl_X6_467 (tw_g hT) (by decide) (Nat.le_refl _) (Nat.le_refl _) (Nat.le_of_ble_eq_true rfl) rfl dX6_run_14 (fun u3 A3 hc3 => ?_)
  refine r_top hc3.1 ?_
  refine r_eqA hc3.2 ?_
  clear hc3 A3 u3
  refine r_if_eq (pc := 17) (tgt := 32) C dX6_run_17 (by decide) (fun b17 => ?_) (fun b17 => ?_)
  · skip
    have b17 := bI_0.mp b17
    rw [if_neg b17]
    refine r_iconst (pc := 32) C dX6_run_32 ci_0 ?_
    refine r_iret (pc := 33) C E rfl (Nat.le_refl _) (Nat.le_refl _) dX6_run_33 ?_
    first
      | exact CP.no b17 rfl
      | exact CP.yes b99 (bI_n0 b99) rfl rfl
  · skip
    have b17 := bI_n.mp b17
    rw [if_pos b17]
    have b99 := b17
    obtain ⟨n, hn, rfl⟩ := inZ_of2 (n := 60) rfl ⟨(by have := b99.1; omega), b99.2⟩ (by omega)
    rw [show nt (nI n) = n from nt_n (by omega)] at E
    refine r_aload_0 (pc := 20) C dX6_run_20 ?_
    refine r_aload_0 (pc := 21) C dX6_run_21 ?_
    refine r_iload_1 (pc := 22) C dX6_run_22 ?_
    refine r_V1io (pc := 23) C (m_runNow (by exact hT) hW hy hn hd9) vl_X6_348 (tw_g hT) (by decide) (Nat.le_refl _) (Nat.le_refl _) (Nat.le_of_ble_eq_true rfl) rfl dX6_run_23 (fun u4 A4 hc4 => ?_)
    obtain ⟨⟨κL, πL, mL, eA⟩, eu⟩ := hc4
    refine r_top eu ?_
    refine r_eqA (eA.trans (by first | rw [bx_upd] | rfl)) ?_
    clear eu eA A4 u4
    refine r_V1io (pc := 26) C (m_done (by exact hT) ((pk_un (by omega)).trans ((pk_un (by omega)).trans hm)) h8) vl_X6_470 (tw_g hT) (by decide) (Nat.le_refl _) (Nat.le_refl _) (Nat.le_of_ble_eq_true rfl) rfl dX6_run_26 (fun u5 A5 hc5 => ?_)
    refine r_top hc5.1 ?_
    refine r_eqA hc5.2 ?_
    clear hc5 A5 u5
    refine r_goto (pc := 29) (tgt := 33) C dX6_run_29 (by decide) ?_
    refine r_iret (pc := 33) C E rfl (Nat.le_refl _) (Nat.le_refl _) dX6_run_33 ?_
    first
      | exact CP.no b17 rfl
      | exact CP.yes b99 (bI_n0 b99) rfl rfl
set_option maxHeartbeats 4000000 in
theorem m_setFence {g : GZ} {A : HA} {t : Nat} {σ κ π τ : Nat → Int32} (hT : Tw A t) {m : Nat} {x y : Int32} (hW : RowW σ) (hC : ∀ c, c < 80 → CelI σ c) (hm : τ 5 = nI m) (h8 : m ≤ 8) : Ct g wI yX6_setFence (.code yX6_setFence cX6_setFence 3 (Option.some Jvm.ClassFile.FieldType.int)) 9 0 0 [.ref t, .int x, .int y] (S5 A t σ κ π τ) (fun u A' => CP A t σ τ m (inC2 σ x y) (bI (¬ inC2 σ x y)) (fenceC σ (cat σ x y)) u A') fw_no := by
  refine Ct.of [some (.ref t), some (.int x), some (.int y)] (by decide) rfl rfl fun z C hx hnm E => ?_
  have hS := hW.s
  have hc80 := hS.c80
  have k6 := hW.k6
  have g6 := hW.g6
  have hc80 := hS.c80
  have hw10 := hS.w10
  have hh8 := hS.h8
  have hw3 := hS.w3
  refine r_aload_0 (pc := 0) C dX6_setFence_0 ?_
  refine r_aload_0 (pc := 1) C dX6_setFence_1 ?_
  refine r_aload_0 (pc := 2) C dX6_setFence_2 ?_
  refine r_iload_1 (pc := 3) C dX6_setFence_3 ?_
  refine r_iload_2 (pc := 4) C dX6_setFence_4 ?_
  refine r_V2io (pc := 5) C (m_isCell (by exact hT) (S5_1 _ _ _ _ _ _) hS) vl_X6_89 (tw_g hT) (by decide) (Nat.le_refl _) (Nat.le_refl _) (Nat.le_of_ble_eq_true rfl) rfl dX6_setFence_5 (fun u1 A1 hc1 => ?_)
  refine r_top hc1.1 ?_
  refine r_eqA hc1.2 ?_
  clear hc1 A1 u1
  refine r_V1io (pc := 8) C (m_passes (by exact hT)) vl_X6_186 (tw_g hT) (by decide) (Nat.le_refl _) (Nat.le_refl _) (Nat.le_of_ble_eq_true rfl) rfl dX6_setFence_8 (fun u2 A2 hc2 => ?_)
  refine r_top hc2.1 ?_
  refine r_eqA (hc2.2.trans (by rw [S5_0, S5_w0])) ?_
  clear hc2 A2 u2
  refine r_V1io (pc := 11) C (m_tried (by exact hT)) vl_X6_467 (tw_g hT) (by decide) (Nat.le_refl _) (Nat.le_refl _) (Nat.le_of_ble_eq_true rfl) rfl dX6_setFence_11 (fun u3 A3 hc3 => ?_)
  refine r_top hc3.1 ?_
  refine r_eqA hc3.2 ?_
  clear hc3 A3 u3
  refine r_if_eq (pc := 14) (tgt := 30) C dX6_setFence_14 (by decide) (fun b14 => ?_) (fun b14 => ?_)
  · skip
    have b14 := bI_0.mp b14
    rw [if_neg b14]
    refine r_iconst (pc := 30) C dX6_setFence_30 ci_0 ?_
    refine r_iret (pc := 31) C E rfl (Nat.le_refl _) (Nat.le_refl _) dX6_setFence_31 ?_
    first
      | exact CP.no b14 rfl
      | exact CP.yes b99 (bI_n0 b99) rfl rfl
  · skip
    have b14 := bI_n.mp b14
    rw [if_pos b14]
    have b99 := b14
    obtain ⟨a, ha, rfl⟩ := inZ_of b99.1 (by omega)
    obtain ⟨b, hb, rfl⟩ := inZ_of b99.2 (by omega)
    rw [cat_n (σ := σ) (show a < 1000 by omega) (show b < 1000 by omega), ← inC_in (f := fenceC σ) ⟨ha, hb⟩] at E
    refine r_aload_0 (pc := 17) C dX6_setFence_17 ?_
    refine r_aload_0 (pc := 18) C dX6_setFence_18 ?_
    refine r_iload_1 (pc := 19) C dX6_setFence_19 ?_
    refine r_iload_2 (pc := 20) C dX6_setFence_20 ?_
    refine r_V2io (pc := 21) C (m_fenceNow (by exact hT) hW hC (by omega) (by omega)) vl_X6_351 (tw_g hT) (by decide) (Nat.le_refl _) (Nat.le_refl _) (Nat.le_of_ble_eq_true rfl) rfl dX6_setFence_21 (fun u4 A4 hc4 => ?_)
    obtain ⟨⟨κL, eA⟩, eu⟩ := hc4
    refine r_top eu ?_
    refine r_eqA eA ?_
    clear eu eA A4 u4
    refine r_eqA (show S5 _ t _ _ _ _ = S5 _ t _ _ _ (upd _ 10 (_ : Int32)) from (congrArg (S5 _ t _ _ _) (upd_10 _)).symm) ?_
    refine r_V1io (pc := 24) C (m_done (by exact hT) ((pk_un (by omega)).trans ((pk_un (by omega)).trans hm)) h8) vl_X6_470 (tw_g hT) (by decide) (Nat.le_refl _) (Nat.le_refl _) (Nat.le_of_ble_eq_true rfl) rfl dX6_setFence_24 (fun u5 A5 hc5 => ?_)
    refine r_top hc5.1 ?_
    refine r_eqA hc5.2 ?_
    clear hc5 A5 u5
    refine r_goto (pc := 27) (tgt := 31) C dX6_setFence_27 (by decide) ?_
    refine r_iret (pc := 31) C E rfl (Nat.le_refl _) (Nat.le_refl _) dX6_setFence_31 ?_
    first
      | exact CP.no b14 rfl
      | exact CP.yes b99 (bI_n0 b99) rfl rfl
set_option maxHeartbeats 4000000 in
theorem m_dropFence {g : GZ} {A : HA} {t : Nat} {σ κ π τ : Nat → Int32} (hT : Tw A t) {m : Nat} {x y : Int32} (hW : RowW σ)  (hm : τ 5 = nI m) (h8 : m ≤ 8) : Ct g wI yX6_dropFence (.code yX6_dropFence cX6_dropFence 3 (Option.some Jvm.ClassFile.FieldType.int)) 4 0 0 [.ref t, .int x, .int y] (S5 A t σ κ π τ) (fun u A' => CP A t σ τ m (inC2 σ x y) (bI (¬ inC2 σ x y)) (openC σ (cat σ x y)) u A') fw_no := by
  refine Ct.of [some (.ref t), some (.int x), some (.int y)] (by decide) rfl rfl fun z C hx hnm E => ?_
  have hS := hW.s
  have hc80 := hS.c80
  have k6 := hW.k6
  have g6 := hW.g6
  have hc80 := hS.c80
  have hw10 := hS.w10
  have hh8 := hS.h8
  have hw3 := hS.w3
  refine r_aload_0 (pc := 0) C dX6_dropFence_0 ?_
  refine r_aload_0 (pc := 1) C dX6_dropFence_1 ?_
  refine r_aload_0 (pc := 2) C dX6_dropFence_2 ?_
  refine r_iload_1 (pc := 3) C dX6_dropFence_3 ?_
  refine r_iload_2 (pc := 4) C dX6_dropFence_4 ?_
  refine r_V2io (pc := 5) C (m_isCell (by exact hT) (S5_1 _ _ _ _ _ _) hS) vl_X6_89 (tw_g hT) (by decide) (Nat.le_refl _) (Nat.le_refl _) (Nat.le_of_ble_eq_true rfl) rfl dX6_dropFence_5 (fun u1 A1 hc1 => ?_)
  refine r_top hc1.1 ?_
  refine r_eqA hc1.2 ?_
  clear hc1 A1 u1
  refine r_V1io (pc := 8) C (m_passes (by exact hT)) vl_X6_186 (tw_g hT) (by decide) (Nat.le_refl _) (Nat.le_refl _) (Nat.le_of_ble_eq_true rfl) rfl dX6_dropFence_8 (fun u2 A2 hc2 => ?_)
  refine r_top hc2.1 ?_
  refine r_eqA (hc2.2.trans (by rw [S5_0, S5_w0])) ?_
  clear hc2 A2 u2
  refine r_V1io (pc := 11) C (m_tried (by exact hT)) vl_X6_467 (tw_g hT) (by decide) (Nat.le_refl _) (Nat.le_refl _) (Nat.le_of_ble_eq_true rfl) rfl dX6_dropFence_11 (fun u3 A3 hc3 => ?_)
  refine r_top hc3.1 ?_
  refine r_eqA hc3.2 ?_
  clear hc3 A3 u3
  refine r_if_eq (pc := 14) (tgt := 30) C dX6_dropFence_14 (by decide) (fun b14 => ?_) (fun b14 => ?_)
  · skip
    have b14 := bI_0.mp b14
    rw [if_neg b14]
    refine r_iconst (pc := 30) C dX6_dropFence_30 ci_0 ?_
    refine r_iret (pc := 31) C E rfl (Nat.le_refl _) (Nat.le_refl _) dX6_dropFence_31 ?_
    first
      | exact CP.no b14 rfl
      | exact CP.yes b99 (bI_n0 b99) rfl rfl
  · skip
    have b14 := bI_n.mp b14
    rw [if_pos b14]
    have b99 := b14
    obtain ⟨a, ha, rfl⟩ := inZ_of b99.1 (by omega)
    obtain ⟨b, hb, rfl⟩ := inZ_of b99.2 (by omega)
    rw [cat_n (σ := σ) (show a < 1000 by omega) (show b < 1000 by omega), ← inC_in (f := openC σ) ⟨ha, hb⟩] at E
    refine r_aload_0 (pc := 17) C dX6_dropFence_17 ?_
    refine r_aload_0 (pc := 18) C dX6_dropFence_18 ?_
    refine r_iload_1 (pc := 19) C dX6_dropFence_19 ?_
    refine r_iload_2 (pc := 20) C dX6_dropFence_20 ?_
    refine r_V2io (pc := 21) C (m_openNow (by exact hT) hW (by omega) (by omega)) vl_X6_354 (tw_g hT) (by decide) (Nat.le_refl _) (Nat.le_refl _) (Nat.le_of_ble_eq_true rfl) rfl dX6_dropFence_21 (fun u4 A4 hc4 => ?_)
    refine r_top hc4.1 ?_
    refine r_eqA hc4.2 ?_
    clear hc4 A4 u4
    refine r_eqA (show S5 _ t _ _ _ _ = S5 _ t _ _ _ (upd _ 10 (_ : Int32)) from (congrArg (S5 _ t _ _ _) (upd_10 _)).symm) ?_
    refine r_V1io (pc := 24) C (m_done (by exact hT) ((pk_un (by omega)).trans ((pk_un (by omega)).trans hm)) h8) vl_X6_470 (tw_g hT) (by decide) (Nat.le_refl _) (Nat.le_refl _) (Nat.le_of_ble_eq_true rfl) rfl dX6_dropFence_24 (fun u5 A5 hc5 => ?_)
    refine r_top hc5.1 ?_
    refine r_eqA hc5.2 ?_
    clear hc5 A5 u5
    refine r_goto (pc := 27) (tgt := 31) C dX6_dropFence_27 (by decide) ?_
    refine r_iret (pc := 31) C E rfl (Nat.le_refl _) (Nat.le_refl _) dX6_dropFence_31 ?_
    first
      | exact CP.no b14 rfl
      | exact CP.yes b99 (bI_n0 b99) rfl rfl
set_option maxHeartbeats 4000000 in
theorem m_pave {g : GZ} {A : HA} {t : Nat} {σ κ π τ : Nat → Int32} (hT : Tw A t) {m : Nat} {x y : Int32} (hW : RowW σ)  (hm : τ 5 = nI m) (h8 : m ≤ 8) : Ct g wI yX6_pave (.code yX6_pave cX6_pave 3 (Option.some Jvm.ClassFile.FieldType.int)) 4 0 0 [.ref t, .int x, .int y] (S5 A t σ κ π τ) (fun u A' => CP A t σ τ m (inC2 σ x y) (bI (¬ inC2 σ x y)) (paveC σ (cat σ x y)) u A') fw_no := by
  refine Ct.of [some (.ref t), some (.int x), some (.int y)] (by decide) rfl rfl fun z C hx hnm E => ?_
  have hS := hW.s
  have hc80 := hS.c80
  have k6 := hW.k6
  have g6 := hW.g6
  have hc80 := hS.c80
  have hw10 := hS.w10
  have hh8 := hS.h8
  have hw3 := hS.w3
  refine r_aload_0 (pc := 0) C dX6_pave_0 ?_
  refine r_aload_0 (pc := 1) C dX6_pave_1 ?_
  refine r_aload_0 (pc := 2) C dX6_pave_2 ?_
  refine r_iload_1 (pc := 3) C dX6_pave_3 ?_
  refine r_iload_2 (pc := 4) C dX6_pave_4 ?_
  refine r_V2io (pc := 5) C (m_isCell (by exact hT) (S5_1 _ _ _ _ _ _) hS) vl_X6_89 (tw_g hT) (by decide) (Nat.le_refl _) (Nat.le_refl _) (Nat.le_of_ble_eq_true rfl) rfl dX6_pave_5 (fun u1 A1 hc1 => ?_)
  refine r_top hc1.1 ?_
  refine r_eqA hc1.2 ?_
  clear hc1 A1 u1
  refine r_V1io (pc := 8) C (m_passes (by exact hT)) vl_X6_186 (tw_g hT) (by decide) (Nat.le_refl _) (Nat.le_refl _) (Nat.le_of_ble_eq_true rfl) rfl dX6_pave_8 (fun u2 A2 hc2 => ?_)
  refine r_top hc2.1 ?_
  refine r_eqA (hc2.2.trans (by rw [S5_0, S5_w0])) ?_
  clear hc2 A2 u2
  refine r_V1io (pc := 11) C (m_tried (by exact hT)) vl_X6_467 (tw_g hT) (by decide) (Nat.le_refl _) (Nat.le_refl _) (Nat.le_of_ble_eq_true rfl) rfl dX6_pave_11 (fun u3 A3 hc3 => ?_)
  refine r_top hc3.1 ?_
  refine r_eqA hc3.2 ?_
  clear hc3 A3 u3
  refine r_if_eq (pc := 14) (tgt := 30) C dX6_pave_14 (by decide) (fun b14 => ?_) (fun b14 => ?_)
  · skip
    have b14 := bI_0.mp b14
    rw [if_neg b14]
    refine r_iconst (pc := 30) C dX6_pave_30 ci_0 ?_
    refine r_iret (pc := 31) C E rfl (Nat.le_refl _) (Nat.le_refl _) dX6_pave_31 ?_
    first
      | exact CP.no b14 rfl
      | exact CP.yes b99 (bI_n0 b99) rfl rfl
  · skip
    have b14 := bI_n.mp b14
    rw [if_pos b14]
    have b99 := b14
    obtain ⟨a, ha, rfl⟩ := inZ_of b99.1 (by omega)
    obtain ⟨b, hb, rfl⟩ := inZ_of b99.2 (by omega)
    rw [cat_n (σ := σ) (show a < 1000 by omega) (show b < 1000 by omega), ← inC_in (f := paveC σ) ⟨ha, hb⟩] at E
    refine r_aload_0 (pc := 17) C dX6_pave_17 ?_
    refine r_aload_0 (pc := 18) C dX6_pave_18 ?_
    refine r_iload_1 (pc := 19) C dX6_pave_19 ?_
    refine r_iload_2 (pc := 20) C dX6_pave_20 ?_
    refine r_V2io (pc := 21) C (m_paveNow (by exact hT) hW (by omega) (by omega)) vl_X6_357 (tw_g hT) (by decide) (Nat.le_refl _) (Nat.le_refl _) (Nat.le_of_ble_eq_true rfl) rfl dX6_pave_21 (fun u4 A4 hc4 => ?_)
    refine r_top hc4.1 ?_
    refine r_eqA hc4.2 ?_
    clear hc4 A4 u4
    refine r_eqA (show S5 _ t _ _ _ _ = S5 _ t _ _ _ (upd _ 10 (_ : Int32)) from (congrArg (S5 _ t _ _ _) (upd_10 _)).symm) ?_
    refine r_V1io (pc := 24) C (m_done (by exact hT) ((pk_un (by omega)).trans ((pk_un (by omega)).trans hm)) h8) vl_X6_470 (tw_g hT) (by decide) (Nat.le_refl _) (Nat.le_refl _) (Nat.le_of_ble_eq_true rfl) rfl dX6_pave_24 (fun u5 A5 hc5 => ?_)
    refine r_top hc5.1 ?_
    refine r_eqA hc5.2 ?_
    clear hc5 A5 u5
    refine r_goto (pc := 27) (tgt := 31) C dX6_pave_27 (by decide) ?_
    refine r_iret (pc := 31) C E rfl (Nat.le_refl _) (Nat.le_refl _) dX6_pave_31 ?_
    first
      | exact CP.no b14 rfl
      | exact CP.yes b99 (bI_n0 b99) rfl rfl
set_option maxHeartbeats 4000000 in
theorem m_sow {g : GZ} {A : HA} {t : Nat} {σ κ π τ : Nat → Int32} (hT : Tw A t) {m : Nat} {x y : Int32} (hW : RowW σ)  (hm : τ 5 = nI m) (h8 : m ≤ 8) : Ct g wI yX6_sow (.code yX6_sow cX6_sow 3 (Option.some Jvm.ClassFile.FieldType.int)) 4 0 0 [.ref t, .int x, .int y] (S5 A t σ κ π τ) (fun u A' => CP A t σ τ m (inC2 σ x y) (bI (¬ inC2 σ x y)) (sowC σ (cat σ x y)) u A') fw_no := by
  refine Ct.of [some (.ref t), some (.int x), some (.int y)] (by decide) rfl rfl fun z C hx hnm E => ?_
  have hS := hW.s
  have hc80 := hS.c80
  have k6 := hW.k6
  have g6 := hW.g6
  have hc80 := hS.c80
  have hw10 := hS.w10
  have hh8 := hS.h8
  have hw3 := hS.w3
  refine r_aload_0 (pc := 0) C dX6_sow_0 ?_
  refine r_aload_0 (pc := 1) C dX6_sow_1 ?_
  refine r_aload_0 (pc := 2) C dX6_sow_2 ?_
  refine r_iload_1 (pc := 3) C dX6_sow_3 ?_
  refine r_iload_2 (pc := 4) C dX6_sow_4 ?_
  refine r_V2io (pc := 5) C (m_isCell (by exact hT) (S5_1 _ _ _ _ _ _) hS) vl_X6_89 (tw_g hT) (by decide) (Nat.le_refl _) (Nat.le_refl _) (Nat.le_of_ble_eq_true rfl) rfl dX6_sow_5 (fun u1 A1 hc1 => ?_)
  refine r_top hc1.1 ?_
  refine r_eqA hc1.2 ?_
  clear hc1 A1 u1
  refine r_V1io (pc := 8) C (m_passes (by exact hT)) vl_X6_186 (tw_g hT) (by decide) (Nat.le_refl _) (Nat.le_refl _) (Nat.le_of_ble_eq_true rfl) rfl dX6_sow_8 (fun u2 A2 hc2 => ?_)
  refine r_top hc2.1 ?_
  refine r_eqA (hc2.2.trans (by rw [S5_0, S5_w0])) ?_
  clear hc2 A2 u2
  refine r_V1io (pc := 11) C (m_tried (by exact hT)) vl_X6_467 (tw_g hT) (by decide) (Nat.le_refl _) (Nat.le_refl _) (Nat.le_of_ble_eq_true rfl) rfl dX6_sow_11 (fun u3 A3 hc3 => ?_)
  refine r_top hc3.1 ?_
  refine r_eqA hc3.2 ?_
  clear hc3 A3 u3
  refine r_if_eq (pc := 14) (tgt := 30) C dX6_sow_14 (by decide) (fun b14 => ?_) (fun b14 => ?_)
  · skip
    have b14 := bI_0.mp b14
    rw [if_neg b14]
    refine r_iconst (pc := 30) C dX6_sow_30 ci_0 ?_
    refine r_iret (pc := 31) C E rfl (Nat.le_refl _) (Nat.le_refl _) dX6_sow_31 ?_
    first
      | exact CP.no b14 rfl
      | exact CP.yes b99 (bI_n0 b99) rfl rfl
  · skip
    have b14 := bI_n.mp b14
    rw [if_pos b14]
    have b99 := b14
    obtain ⟨a, ha, rfl⟩ := inZ_of b99.1 (by omega)
    obtain ⟨b, hb, rfl⟩ := inZ_of b99.2 (by omega)
    rw [cat_n (σ := σ) (show a < 1000 by omega) (show b < 1000 by omega), ← inC_in (f := sowC σ) ⟨ha, hb⟩] at E
    refine r_aload_0 (pc := 17) C dX6_sow_17 ?_
    refine r_aload_0 (pc := 18) C dX6_sow_18 ?_
    refine r_iload_1 (pc := 19) C dX6_sow_19 ?_
    refine r_iload_2 (pc := 20) C dX6_sow_20 ?_
    refine r_V2io (pc := 21) C (m_sowNow (by exact hT) hW (by omega) (by omega)) vl_X6_360 (tw_g hT) (by decide) (Nat.le_refl _) (Nat.le_refl _) (Nat.le_of_ble_eq_true rfl) rfl dX6_sow_21 (fun u4 A4 hc4 => ?_)
    refine r_top hc4.1 ?_
    refine r_eqA hc4.2 ?_
    clear hc4 A4 u4
    refine r_eqA (show S5 _ t _ _ _ _ = S5 _ t _ _ _ (upd _ 10 (_ : Int32)) from (congrArg (S5 _ t _ _ _) (upd_10 _)).symm) ?_
    refine r_V1io (pc := 24) C (m_done (by exact hT) ((pk_un (by omega)).trans ((pk_un (by omega)).trans hm)) h8) vl_X6_470 (tw_g hT) (by decide) (Nat.le_refl _) (Nat.le_refl _) (Nat.le_of_ble_eq_true rfl) rfl dX6_sow_24 (fun u5 A5 hc5 => ?_)
    refine r_top hc5.1 ?_
    refine r_eqA hc5.2 ?_
    clear hc5 A5 u5
    refine r_goto (pc := 27) (tgt := 31) C dX6_sow_27 (by decide) ?_
    refine r_iret (pc := 31) C E rfl (Nat.le_refl _) (Nat.le_refl _) dX6_sow_31 ?_
    first
      | exact CP.no b14 rfl
      | exact CP.yes b99 (bI_n0 b99) rfl rfl
set_option maxHeartbeats 4000000 in
theorem m_turnRound {g : GZ} {A : HA} {t : Nat} {σ κ π τ : Nat → Int32} (hT : Tw A t) {m : Nat} {x : Int32} (hW : RowW σ) (hm : τ 5 = nI m) (h8 : m ≤ 8) : Ct g wI yX6_turnRound (.code yX6_turnRound cX6_turnRound 2 (Option.some Jvm.ClassFile.FieldType.int)) 4 0 0 [.ref t, .int x] (S5 A t σ κ π τ) (fun u A' => CP A t σ τ m (inW σ x) (bI (¬ inW σ x)) (turnC σ (nt x)) u A') fw_no := by
  refine Ct.of [some (.ref t), some (.int x)] (by decide) rfl rfl fun z C hx hnm E => ?_
  have hS := hW.s
  have hc80 := hS.c80
  have k6 := hW.k6
  have g6 := hW.g6
  have hc80 := hS.c80
  have hw10 := hS.w10
  have hh8 := hS.h8
  have hw3 := hS.w3
  refine r_aload_0 (pc := 0) C dX6_turnRound_0 ?_
  refine r_aload_0 (pc := 1) C dX6_turnRound_1 ?_
  refine r_aload_0 (pc := 2) C dX6_turnRound_2 ?_
  refine r_iload_1 (pc := 3) C dX6_turnRound_3 ?_
  refine r_V1io (pc := 4) C (m_isWalker (by exact hT) (S5_1 _ _ _ _ _ _) hW.k k6) vl_X6_413 (tw_g hT) (by decide) (Nat.le_refl _) (Nat.le_refl _) (Nat.le_of_ble_eq_true rfl) rfl dX6_turnRound_4 (fun u1 A1 hc1 => ?_)
  refine r_top hc1.1 ?_
  refine r_eqA hc1.2 ?_
  clear hc1 A1 u1
  refine r_V1io (pc := 7) C (m_passes (by exact hT)) vl_X6_186 (tw_g hT) (by decide) (Nat.le_refl _) (Nat.le_refl _) (Nat.le_of_ble_eq_true rfl) rfl dX6_turnRound_7 (fun u2 A2 hc2 => ?_)
  refine r_top hc2.1 ?_
  refine r_eqA (hc2.2.trans (by rw [S5_0, S5_w0])) ?_
  clear hc2 A2 u2
  refine r_V1io (pc := 10) C (m_tried (by exact hT)) vl_X6_467 (tw_g hT) (by decide) (Nat.le_refl _) (Nat.le_refl _) (Nat.le_of_ble_eq_true rfl) rfl dX6_turnRound_10 (fun u3 A3 hc3 => ?_)
  refine r_top hc3.1 ?_
  refine r_eqA hc3.2 ?_
  clear hc3 A3 u3
  refine r_if_eq (pc := 13) (tgt := 28) C dX6_turnRound_13 (by decide) (fun b13 => ?_) (fun b13 => ?_)
  · skip
    have b13 := bI_0.mp b13
    rw [if_neg b13]
    refine r_iconst (pc := 28) C dX6_turnRound_28 ci_0 ?_
    refine r_iret (pc := 29) C E rfl (Nat.le_refl _) (Nat.le_refl _) dX6_turnRound_29 ?_
    first
      | exact CP.no b13 rfl
      | exact CP.yes b99 (bI_n0 b99) rfl rfl
  · skip
    have b13 := bI_n.mp b13
    rw [if_pos b13]
    have b99 := b13
    obtain ⟨k, hk, rfl⟩ := inZ_of b99 (by omega)
    rw [show nt (nI k) = k from nt_n (by omega)] at E
    refine r_aload_0 (pc := 16) C dX6_turnRound_16 ?_
    refine r_aload_0 (pc := 17) C dX6_turnRound_17 ?_
    refine r_iload_1 (pc := 18) C dX6_turnRound_18 ?_
    refine r_V1io (pc := 19) C (m_turnNow (by exact hT) (by omega)) vl_X6_366 (tw_g hT) (by decide) (Nat.le_refl _) (Nat.le_refl _) (Nat.le_of_ble_eq_true rfl) rfl dX6_turnRound_19 (fun u4 A4 hc4 => ?_)
    refine r_top hc4.1 ?_
    refine r_eqA hc4.2 ?_
    clear hc4 A4 u4
    refine r_eqA (show S5 _ t _ _ _ _ = S5 _ t _ _ _ (upd _ 10 (_ : Int32)) from (congrArg (S5 _ t _ _ _) (upd_10 _)).symm) ?_
    refine r_V1io (pc := 22) C (m_done (by exact hT) ((pk_un (by omega)).trans ((pk_un (by omega)).trans hm)) h8) vl_X6_470 (tw_g hT) (by decide) (Nat.le_refl _) (Nat.le_refl _) (Nat.le_of_ble_eq_true rfl) rfl dX6_turnRound_22 (fun u5 A5 hc5 => ?_)
    refine r_top hc5.1 ?_
    refine r_eqA hc5.2 ?_
    clear hc5 A5 u5
    refine r_goto (pc := 25) (tgt := 29) C dX6_turnRound_25 (by decide) ?_
    refine r_iret (pc := 29) C E rfl (Nat.le_refl _) (Nat.le_refl _) dX6_turnRound_29 ?_
    first
      | exact CP.no b13 rfl
      | exact CP.yes b99 (bI_n0 b99) rfl rfl
set_option maxHeartbeats 4000000 in
theorem m_setHaste {g : GZ} {A : HA} {t : Nat} {σ κ π τ : Nat → Int32} (hT : Tw A t) {m : Nat} {x y : Int32} (hW : RowW σ) (hm : τ 5 = nI m) (h8 : m ≤ 8) : Ct g wI yX6_setHaste (.code yX6_setHaste cX6_setHaste 3 (Option.some Jvm.ClassFile.FieldType.int)) 4 0 0 [.ref t, .int x, .int y] (S5 A t σ κ π τ) (fun u A' => CP A t σ τ m (inW σ x ∧ inZ y 0 9) (nI (if inW σ x then (if inZ y 0 9 then 0 else 2) else 1)) (hasteC σ (nt x) (nt y)) u A') fw_no := by
  refine Ct.of [some (.ref t), some (.int x), some (.int y)] (by decide) rfl rfl fun z C hx hnm E => ?_
  have hS := hW.s
  have hc80 := hS.c80
  have k6 := hW.k6
  have g6 := hW.g6
  have hc80 := hS.c80
  have hw10 := hS.w10
  have hh8 := hS.h8
  have hw3 := hS.w3
  refine r_aload_0 (pc := 0) C dX6_setHaste_0 ?_
  refine r_aload_0 (pc := 1) C dX6_setHaste_1 ?_
  refine r_aload_0 (pc := 2) C dX6_setHaste_2 ?_
  refine r_iload_1 (pc := 3) C dX6_setHaste_3 ?_
  refine r_V1io (pc := 4) C (m_isWalker (by exact hT) (S5_1 _ _ _ _ _ _) hW.k k6) vl_X6_413 (tw_g hT) (by decide) (Nat.le_refl _) (Nat.le_refl _) (Nat.le_of_ble_eq_true rfl) rfl dX6_setHaste_4 (fun u1 A1 hc1 => ?_)
  refine r_top hc1.1 ?_
  refine r_eqA hc1.2 ?_
  clear hc1 A1 u1
  refine r_iload_2 (pc := 7) C dX6_setHaste_7 ?_
  refine r_i2l (pc := 8) C dX6_setHaste_8 ?_
  refine r_lconst (pc := 9) (v := 0) C dX6_setHaste_9 (by decide) ?_
  refine r_ldc2 (pc := 10) C q2867 dX6_setHaste_10 ?_
  refine r_S3io (pc := 13) C (m_inZ (p := 0) (q := 9) (by decide) (by decide)) sl_X6_68 (by decide) (Nat.le_refl _) (Nat.le_refl _) (Nat.le_of_ble_eq_true rfl) rfl dX6_setHaste_13 (fun u2 A2 hc2 => ?_)
  refine r_top hc2.1 ?_
  refine r_eqA hc2.2 ?_
  clear hc2 A2 u2
  refine r_V2io (pc := 16) C (m_passesBoth (by exact hT)) vl_X6_398 (tw_g hT) (by decide) (Nat.le_refl _) (Nat.le_refl _) (Nat.le_of_ble_eq_true rfl) rfl dX6_setHaste_16 (fun u3 A3 hc3 => ?_)
  refine r_top hc3.1 ?_
  refine r_eqA (hc3.2.trans (by rw [S5_0, S5_w0])) ?_
  clear hc3 A3 u3
  refine r_V1io (pc := 19) C (m_tried (by exact hT)) vl_X6_467 (tw_g hT) (by decide) (Nat.le_refl _) (Nat.le_refl _) (Nat.le_of_ble_eq_true rfl) rfl dX6_setHaste_19 (fun u4 A4 hc4 => ?_)
  refine r_top hc4.1 ?_
  refine r_eqA hc4.2 ?_
  clear hc4 A4 u4
  refine r_if_eq (pc := 22) (tgt := 38) C dX6_setHaste_22 (by decide) (fun b22 => ?_) (fun b22 => ?_)
  · skip
    have b22 := bI_0.mp b22
    rw [if_neg b22]
    refine r_iconst (pc := 38) C dX6_setHaste_38 ci_0 ?_
    refine r_iret (pc := 39) C E rfl (Nat.le_refl _) (Nat.le_refl _) dX6_setHaste_39 ?_
    first
      | exact CP.no b22 rfl
      | exact CP.yes b99 (two_0 b99) rfl rfl
  · skip
    have b22 := bI_n.mp b22
    rw [if_pos b22]
    have b99 := b22
    obtain ⟨k, hk, rfl⟩ := inZ_of b99.1 (by omega)
    obtain ⟨i, hi, rfl⟩ := inZ_of2 (n := 9) rfl b99.2 (by omega)
    rw [show nt (nI k) = k from nt_n (by omega), show nt (nI i) = i from nt_n (by omega)] at E
    refine r_aload_0 (pc := 25) C dX6_setHaste_25 ?_
    refine r_aload_0 (pc := 26) C dX6_setHaste_26 ?_
    refine r_iload_1 (pc := 27) C dX6_setHaste_27 ?_
    refine r_iload_2 (pc := 28) C dX6_setHaste_28 ?_
    refine r_V2io (pc := 29) C (m_hasteNow (by exact hT) (by omega)) vl_X6_363 (tw_g hT) (by decide) (Nat.le_refl _) (Nat.le_refl _) (Nat.le_of_ble_eq_true rfl) rfl dX6_setHaste_29 (fun u5 A5 hc5 => ?_)
    refine r_top hc5.1 ?_
    refine r_eqA hc5.2 ?_
    clear hc5 A5 u5
    refine r_eqA (show S5 _ t _ _ _ _ = S5 _ t _ _ _ (upd _ 10 (_ : Int32)) from (congrArg (S5 _ t _ _ _) (upd_10 _)).symm) ?_
    refine r_V1io (pc := 32) C (m_done (by exact hT) ((pk_un (by omega)).trans ((pk_un (by omega)).trans hm)) h8) vl_X6_470 (tw_g hT) (by decide) (Nat.le_refl _) (Nat.le_refl _) (Nat.le_of_ble_eq_true rfl) rfl dX6_setHaste_32 (fun u6 A6 hc6 => ?_)
    refine r_top hc6.1 ?_
    refine r_eqA hc6.2 ?_
    clear hc6 A6 u6
    refine r_goto (pc := 35) (tgt := 39) C dX6_setHaste_35 (by decide) ?_
    refine r_iret (pc := 39) C E rfl (Nat.le_refl _) (Nat.le_refl _) dX6_setHaste_39 ?_
    first
      | exact CP.no b22 rfl
      | exact CP.yes b99 (two_0 b99) rfl rfl
