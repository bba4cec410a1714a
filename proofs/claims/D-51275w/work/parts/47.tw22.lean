/-! THE REFERENCE, 22: undo, save, restore, the output text -/
set_option maxRecDepth 100000
/-- the text of the lawn: how long, what -/
def wlS (σ o : Rw) : Nat → Nat × Rw
  | 0 => (0, o)
  | k + 1 => if 0 < k ∧ k % rW σ = 0 then ((wlS σ o k).1 + 1 + 1, upd (upd (wlS σ o k).2 (wlS σ o k).1 (nI 47)) ((wlS σ o k).1 + 1) (markR σ k)) else ((wlS σ o k).1 + 1, upd (wlS σ o k).2 (wlS σ o k).1 (markR σ k))
theorem wlS_y {σ o : Rw} {k : Nat} (h : 0 < k ∧ k % rW σ = 0) : wlS σ o (k + 1) = ((wlS σ o k).1 + 1 + 1, upd (upd (wlS σ o k).2 (wlS σ o k).1 (nI 47)) ((wlS σ o k).1 + 1) (markR σ k)) := if_pos h
theorem wlS_n {σ o : Rw} {k : Nat} (h : ¬ (0 < k ∧ k % rW σ = 0)) : wlS σ o (k + 1) = ((wlS σ o k).1 + 1, upd (wlS σ o k).2 (wlS σ o k).1 (markR σ k)) := if_neg h
theorem div_s {k W : Nat} (hW : 0 < W) (h : 0 < k) : k / W = (k - 1) / W + (if k % W = 0 then 1 else 0) := by
  obtain ⟨j, rfl⟩ : ∃ j, k = j + 1 := ⟨k - 1, by omega⟩
  rw [Nat.succ_div, Nat.add_sub_cancel]
  by_cases q : W ∣ j + 1
  · rw [if_pos q, if_pos (Nat.mod_eq_zero_of_dvd q)]
  · rw [if_neg q, if_neg (fun e => q (Nat.dvd_of_mod_eq_zero e))]
theorem wlS_len {σ o : Rw} (hW : 0 < rW σ) : ∀ k, (wlS σ o k).1 = k + (k - 1) / rW σ
  | 0 => by show 0 = 0 + (0 - 1) / rW σ; rw [Nat.zero_sub, Nat.zero_div]
  | k + 1 => by
    have ih := wlS_len (o := o) hW k
    have e : k + 1 - 1 = k := by omega
    by_cases q : 0 < k ∧ k % rW σ = 0
    · rw [wlS_y q, e, div_s hW q.1, if_pos q.2]
      show (wlS σ o k).1 + 1 + 1 = _
      omega
    · rw [wlS_n q, e]
      show (wlS σ o k).1 + 1 = _
      by_cases q0 : k = 0
      · subst q0; rw [ih]; show 0 + (0 - 1) / rW σ + 1 = _; rw [Nat.zero_sub, Nat.zero_div]
      · rw [div_s hW (show 0 < k by omega), if_neg (fun e => q ⟨by omega, e⟩)]; omega
theorem wlS_lt {σ o : Rw} (hS : RowS σ) {k : Nat} (hk : k ≤ rC σ) : (wlS σ o k).1 ≤ k + 8 := by
  have hw3 := hS.w3
  have hh8 := hS.h8
  have hh3 := hS.h3
  rw [wlS_len (by omega)]
  have : (k - 1) / rW σ ≤ 8 := by
    refine Nat.le_trans (Nat.div_le_div_right (c := rW σ) (show k - 1 ≤ rW σ * rH σ from by unfold rC at hk; omega)) ?_
    rw [Nat.mul_div_cancel_left _ (by omega)]; exact hh8
  omega
def lettR (s : Nat) : Int32 := match s with
  | 0 => nI 117
  | 1 => nI 114
  | 2 => nI 100
  | _ => nI 108
theorem lettR_d {s : Nat} (h0 : s ≠ 0) (h1 : s ≠ 1) (h2 : s ≠ 2) : lettR s = nI 108 := by
  unfold lettR
  split <;> first | rfl | omega
/-- the direction from one cell to the next -/
def tnF (σ : Rw) (c n : Nat) : Nat := if nb (rW σ) (rH σ) c 0 = some n then 0 else if nb (rW σ) (rH σ) c 1 = some n then 1 else if nb (rW σ) (rH σ) c 2 = some n then 2 else 3
theorem tnF_spec {σ : Rw} {c n s : Nat} (hs : s < 4) (h : nb (rW σ) (rH σ) c s = some n) : tnF σ c n < 4 ∧ nb (rW σ) (rH σ) c (tnF σ c n) = some n ∧ ∀ j, j < tnF σ c n → nb (rW σ) (rH σ) c j ≠ some n := by
  unfold tnF
  split
  · exact ⟨by omega, by assumption, fun j hj => absurd hj (Nat.not_lt_zero _)⟩
  · split
    · exact ⟨by omega, by assumption, fun j hj => by rw [show j = 0 by omega]; assumption⟩
    · split
      · refine ⟨by omega, by assumption, fun j hj => ?_⟩
        rcases (show j = 0 ∨ j = 1 by omega) with e | e <;> rw [e] <;> assumption
      · refine ⟨by omega, ?_, fun j hj => ?_⟩
        · rcases (show s = 0 ∨ s = 1 ∨ s = 2 ∨ s = 3 by omega) with e | e | e | e <;> subst e
          · contradiction
          · contradiction
          · contradiction
          · exact h
        · rcases (show j = 0 ∨ j = 1 ∨ j = 2 by omega) with e | e | e <;> rw [e] <;> assumption
theorem oI_eq {o : Option Nat} {n : Nat} (hn : n < 1000) (h : ∀ k, o = some k → k < 1000) : oI o = nI n ↔ o = some n := by
  cases o with
  | none => exact ⟨fun q => absurd q.symm (nI_m1 (by omega)), fun q => by cases q⟩
  | some k =>
    have := h k rfl
    show nI k = nI n ↔ _
    rw [nI_eqI (by omega) (by omega)]
    exact ⟨fun e => by rw [e], fun e => by cases e; rfl⟩
noncomputable def wwS (σ : Rw) (w : Nat) (o : Rw) : Nat → Rw
  | 0 => o
  | k + 1 => upd (wwS σ w o k) k (lettR (tnF σ (wy σ w k) (wy σ w (k + 1))))
theorem wy_dir {σ : Rw} (hW : RowW σ) {w : Nat} (hw : w < rK σ) (hy : dist σ w 0 (gC σ (wFr σ w)) < 1000000) {i : Nat} (hi : i < wl σ w) : ∃ s, s < 4 ∧ nb (rW σ) (rH σ) (wy σ w i) s = some (wy σ w (i + 1)) := by
  have hwf := wy_facts hW hw hy
  have hcf := gC_lt hW.s (hW.G (hW.K hw).1.2)
  have hdi := (wyF_spec hW hcf hy (n := wl σ w) hwf.2.2.1 i (by omega)).2.1
  have hdi : dist σ w 0 (wy σ w i) + 10 * i ≤ dist σ w 0 (gC σ (wFr σ w)) := hdi
  have hdir := nxt_spec hW (hwf.1 i (by omega)) (by omega) (hwf.2.2.1 i hi)
  exact ⟨_, hdir.1, hdir.2.2.2.1⟩
set_option maxHeartbeats 4000000 in
theorem m_undo {g : GZ} {A : HA} {t : Nat} {σ κ π τ : Nat → Int32} (hT : Tw A t) {m : Nat} (hm : τ 5 = nI m) (h8 : m ≤ 8) : Ct g wI yX6_undo (.code yX6_undo cX6_undo 1 (Option.some Jvm.ClassFile.FieldType.int)) 2 0 0 [.ref t] (S5 A t σ κ π τ) (fun u A' => (m = 0 → u = -1 ∧ A' = S5 A t σ κ π (upd τ 6 (nI 0))) ∧ (0 < m → u = nI (m - 1) ∧ A' = S5 A t (va_cpy (A.I (t + 5)) σ (553 * (m - 1)) 0 553) κ π (upd (upd τ 6 (nI 0)) 5 (nI (m - 1))))) fw_no := by
  refine Ct.of [some (.ref t)] (by decide) rfl rfl fun z C hx hnm E => ?_
  refine r_aload_0 (pc := 0) C dX6_undo_0 ?_
  refine r_iconst (pc := 1) C dX6_undo_1 ci_0 ?_
  refine r_putI (pc := 2) C fl_X6_61_6 (tw_g hT) rfl (fun _ _ _ h => by cases h; exact Or.inl rfl) rfl rfl rfl dX6_undo_2 ?_
  refine r_eqA (S5_u0 _ _ _ _ _ _ _ _) ?_
  refine r_aload_0 (pc := 5) C dX6_undo_5 ?_
  refine r_getI (pc := 6) C fl_X6_321_6 (tw_g hT) rfl dX6_undo_6 ?_
  refine r_top (congrFun (S5_0 _ _ _ _ _ _) _) ?_
  refine r_top ((pk_un (by omega)).trans hm) ?_
  refine r_if_ne (pc := 9) (tgt := 14) C dX6_undo_9 (by decide) (fun b9 => ?_) (fun b9 => ?_)
  · skip
    have b9 := (not_congr (nI_eq0 (by omega))).mp b9
    refine r_aload_0 (pc := 14) C dX6_undo_14 ?_
    refine r_dup (pc := 15) C dX6_undo_15 rfl ?_
    refine r_getI (pc := 16) C fl_X6_321_6 (tw_g hT) rfl dX6_undo_16 ?_
    refine r_top (congrFun (S5_0 _ _ _ _ _ _) _) ?_
    refine r_top ((pk_un (by omega)).trans hm) ?_
    refine r_iconst (pc := 19) C dX6_undo_19 ci_1 ?_
    refine r_isub (pc := 20) C dX6_undo_20 ?_
    refine r_top (pk_sub (by omega)) ?_
    refine r_putI (pc := 21) C fl_X6_321_6 (tw_g hT) rfl (fun _ _ _ h => by cases h; exact Or.inl rfl) rfl rfl rfl dX6_undo_21 ?_
    refine r_eqA (S5_u0 _ _ _ _ _ _ _ _) ?_
    refine r_aload_0 (pc := 24) C dX6_undo_24 ?_
    refine r_getR (pc := 25) C fl_X6_22_6 (tw_g hT) rfl (tw_r5 hT) dX6_undo_25 ?_
    refine r_sipush (pc := 28) C dX6_undo_28 cs_553 ?_
    refine r_aload_0 (pc := 31) C dX6_undo_31 ?_
    refine r_getI (pc := 32) C fl_X6_321_6 (tw_g hT) rfl dX6_undo_32 ?_
    refine r_top (congrFun (S5_0 _ _ _ _ _ _) _) ?_
    refine r_top pk_us ?_
    refine r_imul (pc := 35) C dX6_undo_35 ?_
    refine r_top (pk_mul _ _) ?_
    refine r_aload_0 (pc := 36) C dX6_undo_36 ?_
    refine r_getR (pc := 37) C fl_X6_7_6 (tw_g hT) rfl (tw_r1 hT) dX6_undo_37 ?_
    refine r_iconst (pc := 40) C dX6_undo_40 ci_0 ?_
    refine r_S4vo (pc := 41) C (m_copies (tw_g5 (by exact hT)) (tw_g1 (by exact hT)) rfl rfl (by omega) (by have := tw_n5 (by exact hT); show _ ≤ A.n (t + 5); omega) (by have := tw_n1 (by exact hT); show _ ≤ A.n (t + 1); omega) (by omega) (by omega)) sl_X6_64 (by decide) (Nat.le_refl _) (Nat.le_refl _) (Nat.le_of_ble_eq_true rfl) rfl dX6_undo_41 (fun u1 A1 hc1 => ?_)
    refine r_eqA (hc1.trans (by rw [S5_x _ _ _ _ _ _ (by omega) (by omega) (by omega) (by omega), S5_1, S5_w1])) ?_
    clear hc1 A1 u1
    refine r_aload_0 (pc := 44) C dX6_undo_44 ?_
    refine r_getI (pc := 45) C fl_X6_321_6 (tw_g hT) rfl dX6_undo_45 ?_
    refine r_top (congrFun (S5_0 _ _ _ _ _ _) _) ?_
    refine r_top pk_us ?_
    refine r_iret (pc := 48) C E rfl (Nat.le_refl _) (Nat.le_refl _) dX6_undo_48 ?_
    exact ⟨fun q => by omega, fun _ => ⟨rfl, rfl⟩⟩
  · skip
    have b9 := (nI_eq0 (by omega)).mp b9
    refine r_iconst (pc := 12) C dX6_undo_12 ci_m1 ?_
    refine r_iret (pc := 13) C E rfl (Nat.le_refl _) (Nat.le_refl _) dX6_undo_13 ?_
    exact ⟨fun _ => ⟨rfl, rfl⟩, fun q => by omega⟩
set_option maxHeartbeats 4000000 in
theorem m_save {g : GZ} {A : HA} {t : Nat} {σ κ π τ : Nat → Int32} (hT : Tw A t)  : Ct g wI yX6_save (.code yX6_save cX6_save 1 (Option.some Jvm.ClassFile.FieldType.int)) 2 0 0 [.ref t] (S5 A t σ κ π τ) (fun u A' => u = σ 3 ∧ A' = S5 (A.sI (t + 2) (va_cpy σ (A.I (t + 2)) 0 0 553)) t σ κ π (upd (upd τ 6 (nI 0)) 7 (nI 1))) fw_no := by
  refine Ct.of [some (.ref t)] (by decide) rfl rfl fun z C hx hnm E => ?_
  refine r_aload_0 (pc := 0) C dX6_save_0 ?_
  refine r_iconst (pc := 1) C dX6_save_1 ci_0 ?_
  refine r_putI (pc := 2) C fl_X6_61_6 (tw_g hT) rfl (fun _ _ _ h => by cases h; exact Or.inl rfl) rfl rfl rfl dX6_save_2 ?_
  refine r_eqA (S5_u0 _ _ _ _ _ _ _ _) ?_
  refine r_aload_0 (pc := 5) C dX6_save_5 ?_
  refine r_getR (pc := 6) C fl_X6_7_6 (tw_g hT) rfl (tw_r1 hT) dX6_save_6 ?_
  refine r_iconst (pc := 9) C dX6_save_9 ci_0 ?_
  refine r_aload_0 (pc := 10) C dX6_save_10 ?_
  refine r_getR (pc := 11) C fl_X6_13_6 (tw_g hT) rfl (tw_r2 hT) dX6_save_11 ?_
  refine r_iconst (pc := 14) C dX6_save_14 ci_0 ?_
  refine r_S4vo (pc := 15) C (m_copies (tw_g1 (by exact hT)) (tw_g2 (by exact hT)) rfl rfl (by omega) (by have := tw_n1 (by exact hT); show _ ≤ A.n (t + 1); omega) (by have := tw_n2 (by exact hT); show _ ≤ A.n (t + 2); omega) (by omega) (by omega)) sl_X6_64 (by decide) (Nat.le_refl _) (Nat.le_refl _) (Nat.le_of_ble_eq_true rfl) rfl dX6_save_15 (fun u1 A1 hc1 => ?_)
  refine r_eqA (hc1.trans (by rw [S5_1, S5_x _ _ _ _ _ _ (by omega) (by omega) (by omega) (by omega), S5_sx _ _ _ _ _ _ _ (by omega) (by omega) (by omega) (by omega)])) ?_
  clear hc1 A1 u1
  refine r_aload_0 (pc := 18) C dX6_save_18 ?_
  refine r_iconst (pc := 19) C dX6_save_19 ci_1 ?_
  refine r_putI (pc := 20) C fl_X6_485_6 (tw_g hT) rfl (fun _ _ _ h => by cases h; exact Or.inl rfl) rfl nar_1 fit_1 dX6_save_20 ?_
  refine r_eqA (S5_u0 _ _ _ _ _ _ _ _) ?_
  refine r_aload_0 (pc := 23) C dX6_save_23 ?_
  refine r_getR (pc := 24) C fl_X6_7_6 (tw_g hT) rfl (tw_r1 hT) dX6_save_24 ?_
  refine r_iconst (pc := 27) C dX6_save_27 ci_3 ?_
  refine r_iald (pc := 28) C (tw_g1 hT) rfl rfl (lt_eq (by omega) (tw_n1 hT)) (by omega) dX6_save_28 ?_
  refine r_top (congrFun (S5_1 _ _ _ _ _ _) _) ?_
  refine r_iret (pc := 29) C E rfl (Nat.le_refl _) (Nat.le_refl _) dX6_save_29 ?_
  exact ⟨rfl, rfl⟩
set_option maxHeartbeats 4000000 in
theorem m_restore {g : GZ} {A : HA} {t : Nat} {σ κ π τ : Nat → Int32} (hT : Tw A t) {p : Prop} [Decidable p] (hp : τ 7 = bI p) : Ct g wI yX6_restore (.code yX6_restore cX6_restore 1 (Option.some Jvm.ClassFile.FieldType.int)) 2 0 0 [.ref t] (S5 A t σ κ π τ) (fun u A' => (p → u = A.I (t + 2) 3 ∧ A' = S5 A t (va_cpy (A.I (t + 2)) σ 0 0 553) κ π (upd (upd τ 6 (nI 0)) 5 (nI 0))) ∧ (¬ p → u = nI 0 ∧ A' = S5 A t σ κ π (upd τ 6 (nI 1)))) fw_no := by
  refine Ct.of [some (.ref t)] (by decide) rfl rfl fun z C hx hnm E => ?_
  refine r_aload_0 (pc := 0) C dX6_restore_0 ?_
  refine r_aload_0 (pc := 1) C dX6_restore_1 ?_
  refine r_getI (pc := 2) C fl_X6_485_6 (tw_g hT) rfl dX6_restore_2 ?_
  refine r_top (congrFun (S5_0 _ _ _ _ _ _) _) ?_
  refine r_top hp ?_
  refine r_V1io (pc := 5) C (m_passes (by exact hT)) vl_X6_186 (tw_g hT) (by decide) (Nat.le_refl _) (Nat.le_refl _) (Nat.le_of_ble_eq_true rfl) rfl dX6_restore_5 (fun u1 A1 hc1 => ?_)
  refine r_top hc1.1 ?_
  refine r_eqA (hc1.2.trans (by rw [S5_0, S5_w0])) ?_
  clear hc1 A1 u1
  refine r_if_ne (pc := 8) (tgt := 13) C dX6_restore_8 (by decide) (fun b8 => ?_) (fun b8 => ?_)
  · skip
    have b8 := bI_n.mp b8
    refine r_aload_0 (pc := 13) C dX6_restore_13 ?_
    refine r_getR (pc := 14) C fl_X6_13_6 (tw_g hT) rfl (tw_r2 hT) dX6_restore_14 ?_
    refine r_iconst (pc := 17) C dX6_restore_17 ci_0 ?_
    refine r_aload_0 (pc := 18) C dX6_restore_18 ?_
    refine r_getR (pc := 19) C fl_X6_7_6 (tw_g hT) rfl (tw_r1 hT) dX6_restore_19 ?_
    refine r_iconst (pc := 22) C dX6_restore_22 ci_0 ?_
    refine r_S4vo (pc := 23) C (m_copies (tw_g2 (by exact hT)) (tw_g1 (by exact hT)) rfl rfl (by omega) (by have := tw_n2 (by exact hT); show _ ≤ A.n (t + 2); omega) (by have := tw_n1 (by exact hT); show _ ≤ A.n (t + 1); omega) (by omega) (by omega)) sl_X6_64 (by decide) (Nat.le_refl _) (Nat.le_refl _) (Nat.le_of_ble_eq_true rfl) rfl dX6_restore_23 (fun u2 A2 hc2 => ?_)
    refine r_eqA (hc2.trans (by rw [S5_x _ _ _ _ _ _ (by omega) (by omega) (by omega) (by omega), S5_1, S5_w1])) ?_
    clear hc2 A2 u2
    refine r_aload_0 (pc := 26) C dX6_restore_26 ?_
    refine r_iconst (pc := 27) C dX6_restore_27 ci_0 ?_
    refine r_putI (pc := 28) C fl_X6_321_6 (tw_g hT) rfl (fun _ _ _ h => by cases h; exact Or.inl rfl) rfl rfl rfl dX6_restore_28 ?_
    refine r_eqA (S5_u0 _ _ _ _ _ _ _ _) ?_
    refine r_aload_0 (pc := 31) C dX6_restore_31 ?_
    refine r_getR (pc := 32) C fl_X6_7_6 (tw_g hT) rfl (tw_r1 hT) dX6_restore_32 ?_
    refine r_iconst (pc := 35) C dX6_restore_35 ci_3 ?_
    refine r_iald (pc := 36) C (tw_g1 hT) rfl rfl (lt_eq (by omega) (tw_n1 hT)) (by omega) dX6_restore_36 ?_
    refine r_top (congrFun (S5_1 _ _ _ _ _ _) _) ?_
    refine r_iret (pc := 37) C E rfl (Nat.le_refl _) (Nat.le_refl _) dX6_restore_37 ?_
    exact ⟨fun _ => ⟨rfl, by rw [bI_f (fun q => q b8), nI0]⟩, fun q => absurd b8 q⟩
  · skip
    have b8 := bI_0.mp b8
    refine r_iconst (pc := 11) C dX6_restore_11 ci_0 ?_
    refine r_iret (pc := 12) C E rfl (Nat.le_refl _) (Nat.le_refl _) dX6_restore_12 ?_
    exact ⟨fun q => absurd q b8, fun _ => ⟨rfl, by rw [bI_t b8, nI1]⟩⟩
set_option maxHeartbeats 4000000 in
theorem m_outputByte {g : GZ} {A : HA} {t : Nat} {σ κ π τ : Nat → Int32} (hT : Tw A t) {x : Int32} {L : Nat} (hL : τ 24 = nI L) (h120 : L ≤ 120) : Ct g wI yX6_outputByte (.code yX6_outputByte cX6_outputByte 2 (Option.some Jvm.ClassFile.FieldType.int)) 2 0 0 [.ref t, .int x] (S5 A t σ κ π τ) (fun u A' => u = (if inZ x 0 ((L : Int) - 1) then A.I (t + 10) (nt x) else -1) ∧ A' = S5 A t σ κ π (upd τ 6 (nI 0))) fw_no := by
  refine Ct.of [some (.ref t), some (.int x)] (by decide) rfl rfl fun z C hx hnm E => ?_
  refine r_aload_0 (pc := 0) C dX6_outputByte_0 ?_
  refine r_iconst (pc := 1) C dX6_outputByte_1 ci_0 ?_
  refine r_putI (pc := 2) C fl_X6_61_6 (tw_g hT) rfl (fun _ _ _ h => by cases h; exact Or.inl rfl) rfl rfl rfl dX6_outputByte_2 ?_
  refine r_eqA (S5_u0 _ _ _ _ _ _ _ _) ?_
  refine r_iload_1 (pc := 5) C dX6_outputByte_5 ?_
  refine r_i2l (pc := 6) C dX6_outputByte_6 ?_
  refine r_lconst (pc := 7) (v := 0) C dX6_outputByte_7 (by decide) ?_
  refine r_aload_0 (pc := 8) C dX6_outputByte_8 ?_
  refine r_getI (pc := 9) C fl_X6_473_6 (tw_g hT) rfl dX6_outputByte_9 ?_
  refine r_top (congrFun (S5_0 _ _ _ _ _ _) _) ?_
  refine r_top ((pk_un (by omega)).trans hL) ?_
  refine r_iconst (pc := 12) C dX6_outputByte_12 ci_1 ?_
  refine r_isub (pc := 13) C dX6_outputByte_13 ?_
  refine r_i2l (pc := 14) C dX6_outputByte_14 ?_
  refine r_S3io (pc := 15) C (m_inZ (p := 0) (q := (L : Int) - 1) (by decide) (t_m1' (by omega))) sl_X6_68 (by decide) (Nat.le_refl _) (Nat.le_refl _) (Nat.le_of_ble_eq_true rfl) rfl dX6_outputByte_15 (fun u1 A1 hc1 => ?_)
  refine r_top hc1.1 ?_
  refine r_eqA hc1.2 ?_
  clear hc1 A1 u1
  refine r_if_eq (pc := 18) (tgt := 30) C dX6_outputByte_18 (by decide) (fun b18 => ?_) (fun b18 => ?_)
  · skip
    have b18 := bI_0.mp b18
    refine r_iconst (pc := 30) C dX6_outputByte_30 ci_m1 ?_
    refine r_iret (pc := 31) C E rfl (Nat.le_refl _) (Nat.le_refl _) dX6_outputByte_31 ?_
    first
      | exact ⟨by rw [if_pos b99, nt_n (by omega)], rfl⟩
      | exact ⟨by rw [if_neg b18], rfl⟩
  · skip
    have b18 := bI_n.mp b18
    have b99 := b18
    obtain ⟨i, hi, rfl⟩ := inZ_of b18 (by omega)
    refine r_aload_0 (pc := 21) C dX6_outputByte_21 ?_
    refine r_getR (pc := 22) C fl_X6_41_6 (tw_g hT) rfl (tw_r10 hT) dX6_outputByte_22 ?_
    refine r_iload_1 (pc := 25) C dX6_outputByte_25 ?_
    refine r_iald (pc := 26) C (tw_g10 hT) rfl rfl (lt_eq (by omega) (tw_n10 hT)) (by omega) dX6_outputByte_26 ?_
    refine r_top (congrFun (S5_x _ _ _ _ _ _ (by omega) (by omega) (by omega) (by omega)) _) ?_
    refine r_goto (pc := 27) (tgt := 31) C dX6_outputByte_27 (by decide) ?_
    refine r_iret (pc := 31) C E rfl (Nat.le_refl _) (Nat.le_refl _) dX6_outputByte_31 ?_
    first
      | exact ⟨by rw [if_pos b99, nt_n (by omega)], rfl⟩
      | exact ⟨by rw [if_neg b18], rfl⟩
set_option maxHeartbeats 4000000 in
theorem m_writes {g : GZ} {A : HA} {t : Nat} {σ κ π τ : Nat → Int32} (hT : Tw A t) {c : Int32} {L : Nat} (hL : τ 24 = nI L) (h120 : L < 120) : Ct g wV yX6_writes (.code yX6_writes cX6_writes 2 (Option.none : Option Jvm.ClassFile.FieldType)) 1 0 0 [.ref t, .int c] (S5 A t σ κ π τ) (fun u A' => A' = S5 (A.sI (t + 10) (upd (A.I (t + 10)) L c)) t σ κ π (upd τ 24 (nI (L + 1)))) fw_no := by
  refine Ct.of [some (.ref t), some (.int c)] (by decide) rfl rfl fun z C hx hnm E => ?_
  refine r_aload_0 (pc := 0) C dX6_writes_0 ?_
  refine r_getR (pc := 1) C fl_X6_41_6 (tw_g hT) rfl (tw_r10 hT) dX6_writes_1 ?_
  refine r_aload_0 (pc := 4) C dX6_writes_4 ?_
  refine r_getI (pc := 5) C fl_X6_473_6 (tw_g hT) rfl dX6_writes_5 ?_
  refine r_top (congrFun (S5_0 _ _ _ _ _ _) _) ?_
  refine r_top hL ?_
  refine r_iload_1 (pc := 8) C dX6_writes_8 ?_
  refine r_iast (pc := 9) C (tw_g10 hT) rfl rfl (lt_eq (by omega) (tw_n10 hT)) (by omega) dX6_writes_9 ?_
  refine r_eqA (A' := S5 (A.sI (t + 10) (upd (A.I (t + 10)) L c)) t σ κ π τ) (by rw [S5_x _ _ _ _ _ _ (by omega) (by omega) (by omega) (by omega), S5_sx _ _ _ _ _ _ _ (by omega) (by omega) (by omega) (by omega)]) ?_
  refine r_aload_0 (pc := 10) C dX6_writes_10 ?_
  refine r_dup (pc := 11) C dX6_writes_11 rfl ?_
  refine r_getI (pc := 12) C fl_X6_473_6 (tw_g hT) rfl dX6_writes_12 ?_
  refine r_top (congrFun (S5_0 _ _ _ _ _ _) _) ?_
  refine r_top hL ?_
  refine r_iconst (pc := 15) C dX6_writes_15 ci_1 ?_
  refine r_iadd (pc := 16) C dX6_writes_16 ?_
  refine r_top (nI_add _ _) ?_
  refine r_putI (pc := 17) C fl_X6_473_6 (tw_g hT) rfl (fun _ _ _ h => by cases h; exact Or.inl rfl) rfl rfl rfl dX6_writes_17 ?_
  refine r_eqA (S5_u0 _ _ _ _ _ _ _ _) ?_
  refine r_vret (pc := 20) C E (Nat.le_refl _) (Nat.le_refl _) dX6_writes_20 ?_
  exact rfl
set_option maxHeartbeats 4000000 in
theorem m_letterOf {g : GZ} {A : HA} {s : Nat} (hs : s < 4) : Ct g wI yX6_letterOf (.code yX6_letterOf cX6_letterOf 1 (Option.some Jvm.ClassFile.FieldType.int)) 1 0 0 [.int (nI (s))] (A) (fun u A' => u = lettR s ∧ A' = A) fw_no := by
  refine Ct.of [some (.int (nI (s)))] (by decide) rfl rfl fun z C hx hnm E => ?_
  refine r_iload_0 (pc := 0) C dX6_letterOf_0 ?_
  by_cases w1_0 : s = 0
  · skip
    subst w1_0
    refine r_tableIn (pc := 1) (tgt := 28) (off := 27) C dX6_letterOf_1 (by decide +kernel) (by decide +kernel) (by decide +kernel) (by decide) ?_
    refine r_bipush (pc := 28) C dX6_letterOf_28 cb_117 ?_
    refine r_iret (pc := 30) C E rfl (Nat.le_refl _) (Nat.le_refl _) dX6_letterOf_30 ?_
    first
      | exact ⟨rfl, rfl⟩
      | exact ⟨(lettR_d (by omega) (by omega) (by omega)).symm, rfl⟩
  by_cases w1_1 : s = 1
  · skip
    subst w1_1
    refine r_tableIn (pc := 1) (tgt := 31) (off := 30) C dX6_letterOf_1 (by decide +kernel) (by decide +kernel) (by decide +kernel) (by decide) ?_
    refine r_bipush (pc := 31) C dX6_letterOf_31 cb_114 ?_
    refine r_iret (pc := 33) C E rfl (Nat.le_refl _) (Nat.le_refl _) dX6_letterOf_33 ?_
    first
      | exact ⟨rfl, rfl⟩
      | exact ⟨(lettR_d (by omega) (by omega) (by omega)).symm, rfl⟩
  by_cases w1_2 : s = 2
  · skip
    subst w1_2
    refine r_tableIn (pc := 1) (tgt := 34) (off := 33) C dX6_letterOf_1 (by decide +kernel) (by decide +kernel) (by decide +kernel) (by decide) ?_
    refine r_bipush (pc := 34) C dX6_letterOf_34 cb_100 ?_
    refine r_iret (pc := 36) C E rfl (Nat.le_refl _) (Nat.le_refl _) dX6_letterOf_36 ?_
    first
      | exact ⟨rfl, rfl⟩
      | exact ⟨(lettR_d (by omega) (by omega) (by omega)).symm, rfl⟩
  refine r_tableOut (pc := 1) (tgt := 37) C dX6_letterOf_1 (by rw [t_nI (by omega)]; omega) (by decide) ?_
  refine r_bipush (pc := 37) C dX6_letterOf_37 cb_108 ?_
  refine r_iret (pc := 39) C E rfl (Nat.le_refl _) (Nat.le_refl _) dX6_letterOf_39 ?_
  first
    | exact ⟨rfl, rfl⟩
    | exact ⟨(lettR_d (by omega) (by omega) (by omega)).symm, rfl⟩
