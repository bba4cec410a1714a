/-! THE LAWN, 7: days in a row; haste, turns, hardens -/
set_option maxRecDepth 100000
/-- walks are counted -/
theorem tread_9 (σ : Rw) (c : Nat) : treadR σ c 9 = σ 9 := by
  unfold treadR tr4 tr3 tr2 tr1
  rw [pk_un (by omega), pk_un (by omega), pk_un (by omega), pk_un (by omega), pk_un (by omega)]
theorem trK_9 (σ : Rw) (w : Nat) : ∀ k, trK σ w k 9 = σ 9
  | 0 => rfl
  | k + 1 => by
    by_cases h : trK σ w k (153 + 5 * wy σ w k + 0) = 0
    · rw [trK_y h, tread_9, trK_9 σ w k]
    · rw [trK_no h, trK_9 σ w k]
theorem walk_9 (σ : Rw) {w : Nat} : walkR σ w 9 = σ 9 + nI 1 := by
  unfold walkR wk4
  rw [pk_un (by omega), pk_un (by omega)]
  show wk3 σ w (9 + 0) = _
  unfold wk3
  rw [pk_us]
  unfold wk2 wk1
  rw [pk_un (by omega), pk_un (by omega)]
  unfold wk0
  show trK σ w (wl σ w + 1) 9 + nI 1 = _
  rw [trK_9]
theorem wkK_9 (σ : Rw) : ∀ k, ∃ m, m ≤ k ∧ wkK σ k 9 = σ 9 + nI m
  | 0 => ⟨0, Nat.le_refl _, (i_0 _).symm⟩
  | k + 1 => by
    obtain ⟨m, h1, h2⟩ := wkK_9 σ k
    by_cases h : rD σ % wPd σ k = 0
    · refine ⟨m + 1, by omega, ?_⟩
      rw [wkK_y h, walk_9, h2, Int32.add_assoc, nI_add]
    · exact ⟨m, by omega, by rw [wkK_no h, h2]⟩
theorem grow_9 {b : Prop} [Decidable b] (σ : Rw) (c : Nat) : growR σ c b 9 = σ 9 := by
  unfold growR gw1
  split
  · split
    · rw [pk_un (by omega), pk_un (by omega)]
    · rw [pk_un (by omega), pk_un (by omega)]
  · rfl
theorem grK_9 {b : Prop} [Decidable b] (σ : Rw) : ∀ k, grK b σ k 9 = σ 9
  | 0 => rfl
  | k + 1 => by
    by_cases h : grK b σ k (153 + 5 * k + 0) = 0
    · rw [grK_y h, grow_9, grK_9 σ k]
    · rw [grK_no h, grK_9 σ k]
theorem day_9 (σ : Rw) : ∃ m, m ≤ rK σ ∧ dayR σ 9 = σ 9 + nI m := by
  obtain ⟨m, h1, h2⟩ := wkK_9 σ (rK σ)
  refine ⟨m, h1, ?_⟩
  unfold dayR dy3
  rw [pk_un (by omega), pk_un (by omega)]
  unfold dy2
  rw [grK_9]
  exact h2
theorem days_9 {σ : Rw} (h : RowJ σ) : ∀ n, rD σ + n ≤ 1200 → ∃ m, m ≤ 6 * n ∧ daysR σ n 9 = σ 9 + nI m
  | 0, _ => ⟨0, Nat.le_refl _, (i_0 _).symm⟩
  | n + 1, hn => by
    obtain ⟨m, h1, h2⟩ := days_9 h n (by omega)
    obtain ⟨m2, h3, h4⟩ := day_9 (daysR σ n)
    have hj := (days_J h n (by omega)).1.w.k6
    refine ⟨m + m2, by omega, ?_⟩
    show dayR (daysR σ n) 9 = _
    rw [h4, h2, Int32.add_assoc, nI_add]
theorem days_9p {σ : Rw} (h : RowJ σ) {n : Nat} (hn : rD σ + n ≤ 1200) (h9 : n ≤ 100) : 0 ≤ daysR σ n 9 - σ 9 := by
  obtain ⟨m, h1, h2⟩ := days_9 h n hn
  have e : daysR σ n 9 - σ 9 = nI m := by rw [h2, Int32.add_comm]; exact Int32.add_sub_cancel _ _
  rw [e]
  exact nI_0le (by omega)
set_option maxHeartbeats 4000000 in
theorem l_behind {g : GZ} {A : HA} {a : Nat} {d : Nat → Nat} {σ : Rw} (hL : Ly A a d σ) (hv : Lv A.I a d σ) (hJ : RowJ σ) (hG : GdK g) {n : Nat} (hn : rD σ + n ≤ 1200) : Ct g wR yX2_behind (.code yX2_behind cX2_behind 3 (Option.some (Jvm.ClassFile.FieldType.object "LawnPaths$Lawn"))) 10 0 0 [.ref a, .int (nI (n))] (A) (fun u A' => Nx A A' a d (daysR σ n) ∧ u = a) fw_no := by
  refine Ct.of [some (.ref a), some (.int (nI (n))), none] (by decide) rfl rfl fun z C hx hnm E => ?_
  have hW := hJ.w
  have hS := hW.s
  have hw3 := hS.w3
  have hw10 := hS.w10
  have hh8 := hS.h8
  have hc80 := hS.c80
  have k6 := hW.k6
  have g6 := hW.g6
  have hN := Nx.rf hL hv
  have hC : ∀ c, c < 80 → CelF σ c := fun c hc => (hJ.c hc).fe
  have h10 := hW.f10
  refine r_iconst (pc := 0) C dX2_behind_0 ci_0 ?_
  refine r_istore_2 (pc := 1) C dX2_behind_1 rfl ?_
  have lp2_1 : ∀ (fu : Nat) (i : Nat) (B : HA) (hi : i ≤ n) (hNi : Nx A B a d (daysR σ i)), n - i < fu → wa g z 0 0 (B) 2 [some (.ref a), some (.int (nI (n))), some (.int (nI (i)))] [] := by
    intro fu
    induction fu with
    | zero => intro i  B  hi hNi hm2; exact absurd hm2 (Nat.not_lt_zero _)
    | succ fu ih2 =>
      intro i  B  hi hNi hm2
      have hdj := days_J hJ i (by omega)
      have hJi := hdj.1
      have hdi := hdj.2
      refine r_iload_2 (pc := 2) C dX2_behind_2 ?_
      refine r_iload_1 (pc := 3) C dX2_behind_3 ?_
      refine r_icmp_ge (pc := 4) (tgt := 17) C dX2_behind_4 (by decide) (fun b4 => ?_) (fun b4 => ?_)
      · skip
        have b4 := (nI_le2 (by omega) (by omega)).mp b4
        refine r_aload_0 (pc := 17) C dX2_behind_17 ?_
        refine r_aret (pc := 18) C E rfl (Nat.le_refl _) (Nat.le_refl _) dX2_behind_18 ?_
        have e9 : i = n := by omega
        subst e9
        exact ⟨hNi, rfl⟩
      · skip
        have b4 := (not_congr (nI_le2 (by omega) (by omega))).mp b4
        refine r_aload_0 (pc := 7) C dX2_behind_7 ?_
        refine r_V0vo (pc := 8) C (l_passes hNi.1 hNi.2.1 hJi.w (fun c hc => hJi.c hc) hJi.g hG hJi.y (by omega)) vl_X2_201 (ly_g hNi.1) (by decide) (Nat.le_refl _) (Nat.le_refl _) (Nat.le_of_ble_eq_true rfl) rfl dX2_behind_8 (fun u2 A2 hc2 => ?_)
        have hNp2 := hc2
        refine r_iinc_2 (pc := 11) C dX2_behind_11 (nI_inc _) rfl ?_
        refine r_goto (pc := 14) (tgt := 2) C dX2_behind_14 (by decide) ?_
        exact ih2 (i + 1) _ (by omega) (hNi.tr (by assumption)) (by omega)
  exact lp2_1 _ 0 _ (Nat.zero_le _) hN (Nat.lt_succ_self _)
set_option maxHeartbeats 4000000 in
theorem l_runs {g : GZ} {A : HA} {a : Nat} {d : Nat → Nat} {σ : Rw} (hL : Ly A a d σ) (hv : Lv A.I a d σ) (hJ : RowJ σ) (hG : GdK g) {n : Nat} (hn : n ≤ 100) : Ct g wI yX2_runs (.code yX2_runs cX2_runs 3 (Option.some Jvm.ClassFile.FieldType.int)) 11 1 7 [.ref a, .int (nI (n))] (A) (fun u A' => Nx A A' a d (runC σ n).2 ∧ u = (runC σ n).1 ∧ 0 ≤ (runC σ n).1) (fun q A' => XX A a (runC σ n) σ q A') := by
  refine Ct.of [some (.ref a), some (.int (nI (n))), none] (by decide) rfl rfl fun z C hx hnm E => ?_
  have hW := hJ.w
  have hS := hW.s
  have hw3 := hS.w3
  have hw10 := hS.w10
  have hh8 := hS.h8
  have hc80 := hS.c80
  have k6 := hW.k6
  have g6 := hW.g6
  have hN := Nx.rf hL hv
  have hC : ∀ c, c < 80 → CelF σ c := fun c hc => (hJ.c hc).fe
  have h10 := hW.f10
  have d9 := hW.d9
  refine r_aload_0 (pc := 0) C dX2_runs_0 ?_
  refine r_getI (pc := 1) C fl_X2_35_2 (ly_g hL) rfl dX2_runs_1 ?_
  refine r_top (hv.day.trans hW.d) ?_
  refine r_iload_1 (pc := 4) C dX2_runs_4 ?_
  refine r_iadd (pc := 5) C dX2_runs_5 ?_
  refine r_top (nI_add _ _) ?_
  refine r_sipush (pc := 6) C dX2_runs_6 cs_999 ?_
  refine r_icmp_gt (pc := 9) (tgt := 16) C dX2_runs_9 (by decide) (fun b9 => ?_) (fun b9 => ?_)
  · skip
    have b9 := (nI_lt2 (by omega) (by omega)).mp b9
    refine r_iconst (pc := 16) C dX2_runs_16 ci_0 ?_
    refine r_bipush (pc := 17) C dX2_runs_17 cb_7 ?_
    refine r_SN2vx (pc := 19) C (l_mustNo (r := 7)) snl_X2_204 (by decide) (by omega) (by omega) (Nat.le_of_ble_eq_true rfl) rfl dX2_runs_19 (fun q A9 hp hE => r_out C E (by rw [hx]; exact fun x h => nomatch h) hE.choose_spec (by omega) (by omega) (XX.of hN hp (by decide) (by decide) (by rw [runC, if_neg (by omega)]; rfl))) (fun u1 A1 hc1 => ?_)
    exact hc1.elim
  · skip
    have b9 := (not_congr (nI_lt2 (by omega) (by omega))).mp b9
    refine r_iconst (pc := 12) C dX2_runs_12 ci_1 ?_
    refine r_goto (pc := 13) (tgt := 17) C dX2_runs_13 (by decide) ?_
    refine r_bipush (pc := 17) C dX2_runs_17 cb_7 ?_
    refine r_SN2vo (pc := 19) C (l_mustYes (r := 7)) snl_X2_204 (by decide) (by omega) (by omega) (Nat.le_of_ble_eq_true rfl) rfl dX2_runs_19 (fun u2 A2 hc2 => ?_)
    refine r_eqA hc2 ?_
    clear hc2 A2 u2
    refine r_aload_0 (pc := 22) C dX2_runs_22 ?_
    refine r_getR (pc := 23) C fl_X2_63_2 (ly_g hL) rfl (ly_rf hL 9 (by decide)) dX2_runs_23 ?_
    refine r_iconst (pc := 26) C dX2_runs_26 ci_0 ?_
    refine r_iald (pc := 27) C (ly_gf hL 9 (by decide)) rfl rfl (lt_eq (by omega) (ly_n9 hL)) (by omega) dX2_runs_27 ?_
    refine r_top (hv.acc (by omega)) ?_
    refine r_istore_2 (pc := 28) C dX2_runs_28 rfl ?_
    refine r_aload_0 (pc := 29) C dX2_runs_29 ?_
    refine r_iload_1 (pc := 30) C dX2_runs_30 ?_
    refine r_V1ro (pc := 31) C (l_behind hL hv hJ hG (by omega)) vl_X2_208 (ly_g hL) (by decide) (by omega) (by omega) (Nat.le_of_ble_eq_true rfl) rfl dX2_runs_31 (fun u3 A3 hc3 => ?_)
    obtain ⟨hNb3, eu3⟩ := hc3
    refine r_topR eu3 ?_
    clear eu3 u3
    have hNb := ‹Nx A _ a d (daysR σ n)›
    refine r_getR (pc := 34) C fl_X2_63_2 (ly_g hNb.1) rfl (ly_rf hNb.1 9 (by decide)) dX2_runs_34 ?_
    refine r_iconst (pc := 37) C dX2_runs_37 ci_0 ?_
    refine r_iald (pc := 38) C (ly_gf hNb.1 9 (by decide)) rfl rfl (lt_eq (by omega) (ly_n9 hNb.1)) (by omega) dX2_runs_38 ?_
    refine r_top (hNb.2.1.acc (by omega)) ?_
    refine r_iload_2 (pc := 39) C dX2_runs_39 ?_
    refine r_isub (pc := 40) C dX2_runs_40 ?_
    refine r_iret (pc := 41) C E rfl (by omega) (by omega) dX2_runs_41 ?_
    refine ⟨by rw [runC, if_pos (by omega)]; exact hNb, by rw [runC, if_pos (by omega)], ?_⟩
    rw [runC, if_pos (by omega)]
    exact days_9p hJ (by omega) (by omega)
set_option maxHeartbeats 4000000 in
theorem l_hastens {g : GZ} {A : HA} {a : Nat} {d : Nat → Nat} {σ : Rw} (hL : Ly A a d σ) (hv : Lv A.I a d σ) (hJ : RowJ σ) {k n : Nat} (hk : k < rK σ) (hn : n ≤ 9) : Ct g wI yX2_hastens (.code yX2_hastens cX2_hastens 5 (Option.some Jvm.ClassFile.FieldType.int)) 7 1 7 [.ref a, .int (nI (k)), .int (nI (n))] (A) (fun u A' => Nx A A' a d (hasteC σ k n).2 ∧ u = (hasteC σ k n).1 ∧ 0 ≤ (hasteC σ k n).1) (fun q A' => XX A a (hasteC σ k n) σ q A') := by
  refine Ct.of [some (.ref a), some (.int (nI (k))), some (.int (nI (n))), none, none] (by decide) rfl rfl fun z C hx hnm E => ?_
  have hW := hJ.w
  have hS := hW.s
  have hw3 := hS.w3
  have hw10 := hS.w10
  have hh8 := hS.h8
  have hc80 := hS.c80
  have k6 := hW.k6
  have g6 := hW.g6
  have hN := Nx.rf hL hv
  have hC : ∀ c, c < 80 → CelF σ c := fun c hc => (hJ.c hc).fe
  have h10 := hW.f10
  have hKk := (hW.K hk).2.2.1
  refine r_aload_0 (pc := 0) C dX2_hastens_0 ?_
  refine r_iload_1 (pc := 1) C dX2_hastens_1 ?_
  refine r_V1ro (pc := 2) C (l_walker hL hv hW hk) vl_X2_89 (ly_g hL) (by decide) (by omega) (by omega) (Nat.le_of_ble_eq_true rfl) rfl dX2_hastens_2 (fun u1 A1 hc1 => ?_)
  refine r_topR hc1.1 ?_
  refine r_eqA hc1.2 ?_
  clear hc1 A1 u1
  refine r_astore_3 (pc := 5) C dX2_hastens_5 rfl ?_
  refine r_aload_3 (pc := 6) C dX2_hastens_6 ?_
  refine r_ngetI (pc := 7) C fn_X2_127_5 (ly_w hL hk).2 rfl dX2_hastens_7 ?_
  refine r_top ((hv.wk (v := 9) (by omega) (by omega) hk (by omega)).trans (hW.K hk).2.2.1.1) ?_
  refine r_istore_4 (pc := 10) C dX2_hastens_10 rfl ?_
  refine r_iload_4 (pc := 12) C dX2_hastens_12 ?_
  refine r_iload_2 (pc := 14) C dX2_hastens_14 ?_
  refine r_icmp_eq (pc := 15) (tgt := 22) C dX2_hastens_15 (by decide) (fun b15 => ?_) (fun b15 => ?_)
  · skip
    have b15 := (nI_eqI (by omega) (by omega)).mp b15
    refine r_iconst (pc := 22) C dX2_hastens_22 ci_0 ?_
    refine r_bipush (pc := 23) C dX2_hastens_23 cb_6 ?_
    refine r_SN2vx (pc := 25) C (l_mustNo (r := 6)) snl_X2_204 (by decide) (by omega) (by omega) (Nat.le_of_ble_eq_true rfl) rfl dX2_hastens_25 (fun q A9 hp hE => r_out C E (by rw [hx]; exact fun x h => nomatch h) hE.choose_spec (by omega) (by omega) (XX.of hN hp (by decide) (by decide) (by rw [hasteC, if_pos (by rw [hKk.1, b15])]; rfl))) (fun u2 A2 hc2 => ?_)
    exact hc2.elim
  · skip
    have b15 := (not_congr (nI_eqI (by omega) (by omega))).mp b15
    refine r_iconst (pc := 18) C dX2_hastens_18 ci_1 ?_
    refine r_goto (pc := 19) (tgt := 23) C dX2_hastens_19 (by decide) ?_
    refine r_bipush (pc := 23) C dX2_hastens_23 cb_6 ?_
    refine r_SN2vo (pc := 25) C (l_mustYes (r := 6)) snl_X2_204 (by decide) (by omega) (by omega) (Nat.le_of_ble_eq_true rfl) rfl dX2_hastens_25 (fun u3 A3 hc3 => ?_)
    refine r_eqA hc3 ?_
    clear hc3 A3 u3
    refine r_aload_3 (pc := 28) C dX2_hastens_28 ?_
    refine r_iload_2 (pc := 29) C dX2_hastens_29 ?_
    refine r_nputI (pc := 30) C fn_X2_127_5 (ly_w hL hk).2 rfl (fun _ _ _ h => by cases h; rfl) rfl rfl rfl dX2_hastens_30 ?_
    refine r_wr hN (by omega) (j := 75 + 13 * k + 9) (w := nI n) (dm_wk (by omega) (by omega) (by omega) (by omega)) (adj_w (by omega) (by omega) _) (sA_wk (a := a) (d := d) (k := k) (v := 9) (by omega) (by omega)).1.symm (sA_wk (a := a) (d := d) (k := k) (v := 9) (by omega) (by omega)).2.symm fun B1 hN1 hs1 hq1 => ?_
    have hN1 : Nx A B1 a d (upd σ (75 + 13 * k + 9) (nI n)) := hN1
    obtain ⟨eC1, eK1, eG1⟩ : rC (upd σ (75 + 13 * k + 9) (nI n)) = rC (σ) ∧ rK (upd σ (75 + 13 * k + 9) (nI n)) = rK (σ) ∧ rG (upd σ (75 + 13 * k + 9) (nI n)) = rG (σ) := hq1
    refine r_iload_4 (pc := 33) C dX2_hastens_33 ?_
    refine r_iret (pc := 35) C E rfl (by omega) (by omega) dX2_hastens_35 ?_
    have hn9 : ¬ σ (75 + 13 * k + 9) = nI n := fun q9 => b15 (by rw [hKk.1] at q9; exact nI_inj (by omega) (by omega) q9)
    refine ⟨by rw [hasteC, if_neg hn9]; exact hN1, ?_, ?_⟩
    · rw [hasteC, if_neg hn9]
      exact hKk.1.symm
    · rw [hasteC, if_neg hn9]
      show 0 ≤ σ (75 + 13 * k + 9)
      rw [hKk.1]
      exact nI_0le (by omega)
set_option maxHeartbeats 4000000 in
theorem l_turns {g : GZ} {A : HA} {a : Nat} {d : Nat → Nat} {σ : Rw} (hL : Ly A a d σ) (hv : Lv A.I a d σ) (hJ : RowJ σ) {k : Nat} (hk : k < rK σ) : Ct g wI yX2_turns (.code yX2_turns cX2_turns 4 (Option.some Jvm.ClassFile.FieldType.int)) 7 0 0 [.ref a, .int (nI (k))] (A) (fun u A' => Nx A A' a d (turnC σ k).2 ∧ u = (turnC σ k).1 ∧ 0 ≤ (turnC σ k).1) fw_no := by
  refine Ct.of [some (.ref a), some (.int (nI (k))), none, none] (by decide) rfl rfl fun z C hx hnm E => ?_
  have hW := hJ.w
  have hS := hW.s
  have hw3 := hS.w3
  have hw10 := hS.w10
  have hh8 := hS.h8
  have hc80 := hS.c80
  have k6 := hW.k6
  have g6 := hW.g6
  have hN := Nx.rf hL hv
  have hC : ∀ c, c < 80 → CelF σ c := fun c hc => (hJ.c hc).fe
  have h10 := hW.f10
  refine r_aload_0 (pc := 0) C dX2_turns_0 ?_
  refine r_iload_1 (pc := 1) C dX2_turns_1 ?_
  refine r_V1ro (pc := 2) C (l_walker hL hv hW hk) vl_X2_89 (ly_g hL) (by decide) (Nat.le_refl _) (Nat.le_refl _) (Nat.le_of_ble_eq_true rfl) rfl dX2_turns_2 (fun u1 A1 hc1 => ?_)
  refine r_topR hc1.1 ?_
  refine r_eqA hc1.2 ?_
  clear hc1 A1 u1
  refine r_astore_2 (pc := 5) C dX2_turns_5 rfl ?_
  refine r_aload_2 (pc := 6) C dX2_turns_6 ?_
  refine r_ngetI (pc := 7) C fn_X2_163_5 (ly_w hL hk).2 rfl dX2_turns_7 ?_
  refine r_top (hv.wk (v := 7) (by omega) (by omega) hk (by omega)) ?_
  refine r_istore_3 (pc := 10) C dX2_turns_10 rfl ?_
  refine r_aload_2 (pc := 11) C dX2_turns_11 ?_
  refine r_aload_2 (pc := 12) C dX2_turns_12 ?_
  refine r_ngetI (pc := 13) C fn_X2_134_5 (ly_w hL hk).2 rfl dX2_turns_13 ?_
  refine r_top (hv.wk (v := 8) (by omega) (by omega) hk (by omega)) ?_
  refine r_nputI (pc := 16) C fn_X2_163_5 (ly_w hL hk).2 rfl (fun _ _ _ h => by cases h; rfl) rfl rfl rfl dX2_turns_16 ?_
  refine r_wr hN (by omega) (j := 75 + 13 * k + 7) (w := σ (75 + 13 * k + 8)) (dm_wk (by omega) (by omega) (by omega) (by omega)) (adj_w (by omega) (by omega) _) (sA_wk (a := a) (d := d) (k := k) (v := 7) (by omega) (by omega)).1.symm (sA_wk (a := a) (d := d) (k := k) (v := 7) (by omega) (by omega)).2.symm fun B1 hN1 hs1 hq1 => ?_
  have hN1 : Nx A B1 a d (upd σ (75 + 13 * k + 7) (σ (75 + 13 * k + 8))) := hN1
  obtain ⟨eC1, eK1, eG1⟩ : rC (upd σ (75 + 13 * k + 7) (σ (75 + 13 * k + 8))) = rC (σ) ∧ rK (upd σ (75 + 13 * k + 7) (σ (75 + 13 * k + 8))) = rK (σ) ∧ rG (upd σ (75 + 13 * k + 7) (σ (75 + 13 * k + 8))) = rG (σ) := hq1
  refine r_aload_2 (pc := 19) C dX2_turns_19 ?_
  refine r_iload_3 (pc := 20) C dX2_turns_20 ?_
  refine r_nputI (pc := 21) C fn_X2_134_5 (ly_w hN1.1 (by omega)).2 rfl (fun _ _ _ h => by cases h; rfl) rfl rfl rfl dX2_turns_21 ?_
  refine r_wr hN1 (by omega) (j := 75 + 13 * k + 8) (w := σ (75 + 13 * k + 7)) (dm_wk (by omega) (by omega) (by omega) (by omega)) (adj_w (by omega) (by omega) _) (sA_wk (a := a) (d := d) (k := k) (v := 8) (by omega) (by omega)).1.symm (sA_wk (a := a) (d := d) (k := k) (v := 8) (by omega) (by omega)).2.symm fun B2 hN2 hs2 hq2 => ?_
  have hN2 : Nx A B2 a d (turnS σ k) := hN2
  obtain ⟨eC2, eK2, eG2⟩ : rC (turnS σ k) = rC (upd σ (75 + 13 * k + 7) (σ (75 + 13 * k + 8))) ∧ rK (turnS σ k) = rK (upd σ (75 + 13 * k + 7) (σ (75 + 13 * k + 8))) ∧ rG (turnS σ k) = rG (upd σ (75 + 13 * k + 7) (σ (75 + 13 * k + 8))) := hq2
  refine r_aload_2 (pc := 24) C dX2_turns_24 ?_
  refine r_ngetI (pc := 25) C fn_X2_163_5 (ly_w hN2.1 (by omega)).2 rfl dX2_turns_25 ?_
  refine r_top (hN2.2.1.wk (v := 7) (by omega) (by omega) (by omega) (by omega)) ?_
  refine r_iret (pc := 28) C E rfl (Nat.le_refl _) (Nat.le_refl _) dX2_turns_28 ?_
  refine ⟨hN2, rfl, ?_⟩
  show 0 ≤ turnS σ k (75 + 13 * k + 7)
  rw [turnS_7, (hW.K hk).2.1.1]
  exact nI_0le (by have := (hW.K hk).2.1.2; omega)
/-- a cell that is no grass any more -/
def hardR (σ : Rw) (c k : Nat) : Rw := upd (upd (upd σ (153 + 5 * c + 0) (nI k)) 8 (upd σ (153 + 5 * c + 0) (nI k) 8 - upd σ (153 + 5 * c + 0) (nI k) (153 + 5 * c + 1))) (153 + 5 * c + 1) (nI 0)
theorem sA_8 (a : Nat) (d : Nat → Nat) : sA a d 8 = a ∧ sI 8 = 14 := ⟨rfl, rfl⟩
set_option maxHeartbeats 4000000 in
theorem l_hardens {g : GZ} {A : HA} {a : Nat} {d : Nat → Nat} {σ : Rw} (hL : Ly A a d σ) (hv : Lv A.I a d σ) (h80 : rC σ ≤ 80) (g6 : rG σ ≤ 6) {c k : Nat} (hc : c < rC σ) (hk : k < 10) : Ct g wV yX2_hardens (.code yX2_hardens cX2_hardens 3 (Option.none : Option Jvm.ClassFile.FieldType)) 1 0 0 [.ref a, .int (nI (c)), .int (nI (k))] (A) (fun u A' => Nx A A' a d (hardR σ c k)) fw_no := by
  refine Ct.of [some (.ref a), some (.int (nI (c))), some (.int (nI (k)))] (by decide) rfl rfl fun z C hx hnm E => ?_
  have hN := Nx.rf hL hv
  refine r_aload_0 (pc := 0) C dX2_hardens_0 ?_
  refine r_getR (pc := 1) C fl_X2_53_2 (ly_g hL) rfl (ly_rf hL 5 (by decide)) dX2_hardens_1 ?_
  refine r_iload_1 (pc := 4) C dX2_hardens_4 ?_
  refine r_iload_2 (pc := 5) C dX2_hardens_5 ?_
  refine r_iast (pc := 6) C (ly_gf hL 5 (by decide)) rfl rfl (lt_eq (by omega) (ly_nf hL 5 (by decide) (by decide))) (by omega) dX2_hardens_6 ?_
  refine r_wr hN (by omega) (j := 153 + 5 * c + 0) (w := nI k) (dm_cell (by omega) (by omega)) (adj_c (by omega) _) (sA_cell (a := a) (d := d) (c := c) (v := 0) (by omega)).1.symm (sA_cell (a := a) (d := d) (c := c) (v := 0) (by omega)).2.symm fun B1 hN1 hs1 hq1 => ?_
  have hN1 : Nx A B1 a d (upd σ (153 + 5 * c + 0) (nI k)) := hN1
  obtain ⟨eC1, eK1, eG1⟩ : rC (upd σ (153 + 5 * c + 0) (nI k)) = rC (σ) ∧ rK (upd σ (153 + 5 * c + 0) (nI k)) = rK (σ) ∧ rG (upd σ (153 + 5 * c + 0) (nI k)) = rG (σ) := hq1
  refine r_aload_0 (pc := 7) C dX2_hardens_7 ?_
  refine r_dup (pc := 8) C dX2_hardens_8 rfl ?_
  refine r_getI (pc := 9) C fl_X2_25_2 (ly_g hN1.1) rfl dX2_hardens_9 ?_
  refine r_top hN1.2.1.first ?_
  refine r_aload_0 (pc := 12) C dX2_hardens_12 ?_
  refine r_getR (pc := 13) C fl_X2_18_2 (ly_g hN1.1) rfl (ly_rf hN1.1 6 (by decide)) dX2_hardens_13 ?_
  refine r_iload_1 (pc := 16) C dX2_hardens_16 ?_
  refine r_iald (pc := 17) C (ly_gf hN1.1 6 (by decide)) rfl rfl (lt_eq (by omega) (ly_nf hN1.1 6 (by decide) (by decide))) (by omega) dX2_hardens_17 ?_
  refine r_top (hN1.2.1.grass (by omega)) ?_
  refine r_isub (pc := 18) C dX2_hardens_18 ?_
  refine r_putI (pc := 19) C fl_X2_25_2 (ly_g hN1.1) rfl (fun _ _ _ h => by cases h; exact Or.inl rfl) rfl rfl rfl dX2_hardens_19 ?_
  refine r_wr hN1 (by omega) (j := 8) (w := (upd σ (153 + 5 * c + 0) (nI k)) 8 - (upd σ (153 + 5 * c + 0) (nI k)) (153 + 5 * c + 1)) (Or.inr (Or.inl rfl)) (adj_8 _) (sA_8 a d).1.symm (sA_8 a d).2.symm fun B2 hN2 hs2 hq2 => ?_
  have hN2 : Nx A B2 a d (upd (upd σ (153 + 5 * c + 0) (nI k)) 8 ((upd σ (153 + 5 * c + 0) (nI k)) 8 - (upd σ (153 + 5 * c + 0) (nI k)) (153 + 5 * c + 1))) := hN2
  obtain ⟨eC2, eK2, eG2⟩ : rC (upd (upd σ (153 + 5 * c + 0) (nI k)) 8 ((upd σ (153 + 5 * c + 0) (nI k)) 8 - (upd σ (153 + 5 * c + 0) (nI k)) (153 + 5 * c + 1))) = rC (upd σ (153 + 5 * c + 0) (nI k)) ∧ rK (upd (upd σ (153 + 5 * c + 0) (nI k)) 8 ((upd σ (153 + 5 * c + 0) (nI k)) 8 - (upd σ (153 + 5 * c + 0) (nI k)) (153 + 5 * c + 1))) = rK (upd σ (153 + 5 * c + 0) (nI k)) ∧ rG (upd (upd σ (153 + 5 * c + 0) (nI k)) 8 ((upd σ (153 + 5 * c + 0) (nI k)) 8 - (upd σ (153 + 5 * c + 0) (nI k)) (153 + 5 * c + 1))) = rG (upd σ (153 + 5 * c + 0) (nI k)) := hq2
  refine r_aload_0 (pc := 22) C dX2_hardens_22 ?_
  refine r_getR (pc := 23) C fl_X2_18_2 (ly_g hN2.1) rfl (ly_rf hN2.1 6 (by decide)) dX2_hardens_23 ?_
  refine r_iload_1 (pc := 26) C dX2_hardens_26 ?_
  refine r_iconst (pc := 27) C dX2_hardens_27 ci_0 ?_
  refine r_iast (pc := 28) C (ly_gf hN2.1 6 (by decide)) rfl rfl (lt_eq (by omega) (ly_nf hN2.1 6 (by decide) (by decide))) (by omega) dX2_hardens_28 ?_
  refine r_wr hN2 (by omega) (j := 153 + 5 * c + 1) (w := nI 0) (dm_cell (by omega) (by omega)) (adj_c (by omega) _) (sA_cell (a := a) (d := d) (c := c) (v := 1) (by omega)).1.symm (sA_cell (a := a) (d := d) (c := c) (v := 1) (by omega)).2.symm fun B3 hN3 hs3 hq3 => ?_
  have hN3 : Nx A B3 a d (hardR σ c k) := hN3
  obtain ⟨eC3, eK3, eG3⟩ : rC (hardR σ c k) = rC (upd (upd σ (153 + 5 * c + 0) (nI k)) 8 ((upd σ (153 + 5 * c + 0) (nI k)) 8 - (upd σ (153 + 5 * c + 0) (nI k)) (153 + 5 * c + 1))) ∧ rK (hardR σ c k) = rK (upd (upd σ (153 + 5 * c + 0) (nI k)) 8 ((upd σ (153 + 5 * c + 0) (nI k)) 8 - (upd σ (153 + 5 * c + 0) (nI k)) (153 + 5 * c + 1))) ∧ rG (hardR σ c k) = rG (upd (upd σ (153 + 5 * c + 0) (nI k)) 8 ((upd σ (153 + 5 * c + 0) (nI k)) 8 - (upd σ (153 + 5 * c + 0) (nI k)) (153 + 5 * c + 1))) := hq3
  refine r_vret (pc := 29) C E (Nat.le_refl _) (Nat.le_refl _) dX2_hardens_29 ?_
  exact hN3
