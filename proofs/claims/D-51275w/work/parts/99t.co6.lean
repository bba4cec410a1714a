/-! THE COMPONENT, 10: gates, walkers, names -/
set_option maxRecDepth 100000
/-- the string nm is the name that stands in the row at f -/
def NmS (A : HA) (nm : Nat) (σ : Rw) (f : Nat) : Prop := ∃ (v : Nat) (l : Nat → Nat) (n : Nat), StrV A nm v l n ∧ σ f = nI n ∧ (1 ≤ n ∧ n ≤ 6 ∧ ((A.G v).1 = 200 ∨ (A.G v).1 = 231)) ∧ ∀ j, j < n → σ (f + 1 + j) = nI (l j) ∧ 97 ≤ l j ∧ l j ≤ 122
def NmK (A : HA) (d : Nat → Nat) (σ : Rw) : Prop := (∀ k, k < rK σ → ∃ nm, A.R (d (30 + k)) 0 = some nm ∧ NmS A nm σ (75 + 13 * k)) ∧ ∀ r, r < rG σ → ∃ nm, A.R (d (40 + r)) 0 = some nm ∧ NmS A nm σ (21 + 9 * r)
theorem gC_mod {σ : Rw} {r : Nat} (h : RowG σ r) : nI (gC σ r % rW σ) = σ (21 + 9 * r + (7 + 0)) := by
  have h1 := h.1.2
  have e : gC σ r % rW σ = gX σ r := by
    unfold gC
    rw [Nat.add_comm, Nat.add_mul_mod_self_right]
    exact Nat.mod_eq_of_lt h1
  rw [e]; exact h.1.1.symm
theorem gC_div {σ : Rw} {r : Nat} (h : RowG σ r) : nI (gC σ r / rW σ) = σ (21 + 9 * r + (7 + 1)) := by
  have h1 := h.1.2
  have e : gC σ r / rW σ = gY σ r := by
    unfold gC
    rw [Nat.add_comm, Nat.add_mul_div_right _ _ (by omega), Nat.div_eq_of_lt h1, Nat.zero_add]
  rw [e]; exact h.2.1.symm
theorem nm_y {σ : Rw} {f n : Nat} {y : Int32} (h : σ f = nI n) (h6 : n ≤ 6) : nameA σ f y = if inZ y 0 ((n : Int) - 1) then σ (f + 1 + nt y) else -1 := by
  unfold nameA
  rw [h, nt_n (by omega)]
theorem sub_next (y : Int32) (i : Nat) : y - nI i + Int32.ofInt (-1) = y - nI (i + 1) := by
  rw [cn_m1, ← nI_add, ← Int32.sub_sub, nI1, ← Int32.sub_eq_add_neg]
theorem sub_z {y : Int32} {i : Nat} : y - nI i = 0 ↔ y = nI i := by
  constructor
  · intro h
    have h2 := congrArg (· + nI i) h
    simp only [Int32.sub_add_cancel, Int32.zero_add] at h2
    exact h2
  · intro h; rw [h]; exact Int32.sub_self _
theorem sub_0 (y : Int32) : y = y - nI 0 := by rw [nI0, Int32.sub_zero]
theorem sum_0 (x : Int32) (f : Nat → Int32) : x = x - sumI f 0 := sub_0 x
theorem sum_s (x : Int32) (f : Nat → Int32) (k : Nat) : x - sumI f k - f k = x - sumI f (k + 1) := Int32.sub_sub _ _ _
set_option maxHeartbeats 4000000 in
theorem c_wAtF {g : GZ} {A : HA} {c a : Nat} {d : Nat → Nat} {σ : Rw} (hc : (A.G c).1 = 1) (hn : A.R c 0 = some a) (hL : Ly A a d σ) (hv : Lv A.I a d σ) (hJ : RowJ σ) {r : Nat} (hr : r < 1000) : Ct g wI yX1_walkersAt (.code yX1_walkersAt cX1_walkersAt 5 (Option.some Jvm.ClassFile.FieldType.int)) 7 0 0 [.ref c, .int (nI (r)), .int (nI 1)] (A) (fun u A' => u = nI (withR σ 7 r) ∧ A' = A) fw_no := by
  refine Ct.of [some (.ref c), some (.int (nI (r))), some (.int (nI 1)), none, none] (by decide) rfl rfl fun z C hx hnm E => ?_
  have hW := hJ.w
  have hS := hW.s
  have hw3 := hS.w3
  have hw10 := hS.w10
  have hh8 := hS.h8
  have hc80 := hS.c80
  have k6 := hW.k6
  have g6 := hW.g6
  have hC : ∀ c, c < 80 → CelF σ c := fun c hc => (hJ.c hc).fe
  have d9 := hW.d9
  refine r_iconst (pc := 0) C dX1_walkersAt_0 ci_0 ?_
  refine r_istore_3 (pc := 1) C dX1_walkersAt_1 rfl ?_
  refine r_iconst (pc := 2) C dX1_walkersAt_2 ci_0 ?_
  refine r_istore_4 (pc := 3) C dX1_walkersAt_3 rfl ?_
  have lp5_1 : ∀ (fu : Nat) (k : Nat) (hk : k ≤ rK σ), rK σ - k < fu → wa g z 0 0 (A) 5 [some (.ref c), some (.int (nI (r))), some (.int (nI 1)), some (.int (nI (smN (fun k => b01 (decide (σ (75 + 13 * k + 7) = nI r))) k))), some (.int (nI (k)))] [] := by
    intro fu
    induction fu with
    | zero => intro k  hk hm5; exact absurd hm5 (Nat.not_lt_zero _)
    | succ fu ih5 =>
      intro k  hk hm5
      refine r_iload_4 (pc := 5) C dX1_walkersAt_5 ?_
      refine r_aload_0 (pc := 7) C dX1_walkersAt_7 ?_
      refine r_getR (pc := 8) C fl_X1_24_1 (by exact hc) rfl (by exact hn) dX1_walkersAt_8 ?_
      refine r_ngetR (pc := 11) C fn_X1_69_2 (ly_g hL) rfl (ly_r12 hL) dX1_walkersAt_11 ?_
      refine r_V0io (pc := 14) C (j_X3_size (ly_g12 hL) (ly_r20 hL) (ly_g20 hL) (hv.nk.trans hW.k)) vl_X1_174 (ly_g12 hL) (by decide) (by omega) (by omega) (Nat.le_of_ble_eq_true rfl) rfl dX1_walkersAt_14 (fun u2 A2 hc2 => ?_)
      refine r_top hc2.1 ?_
      refine r_eqA hc2.2 ?_
      clear hc2 A2 u2
      refine r_icmp_ge (pc := 17) (tgt := 72) C dX1_walkersAt_17 (by decide) (fun b17 => ?_) (fun b17 => ?_)
      · skip
        have b17 := (nI_le2 (by omega) (by omega)).mp b17
        refine r_iload_3 (pc := 72) C dX1_walkersAt_72 ?_
        refine r_iret (pc := 73) C E rfl (by omega) (by omega) dX1_walkersAt_73 ?_
        have e9 : k = rK σ := by omega
        subst e9
        exact ⟨rfl, rfl⟩
      · skip
        have b17 := (not_congr (nI_le2 (by omega) (by omega))).mp b17
        have hk2 : k < rK σ := by omega
        have hg1 := (hW.K hk2).1.2
        have hg2 := (hW.K hk2).2.1.2
        refine r_iload_3 (pc := 20) C dX1_walkersAt_20 ?_
        refine r_iload_2 (pc := 21) C dX1_walkersAt_21 ?_
        refine r_if_eq (pc := 22) (tgt := 40) C dX1_walkersAt_22 (by decide) (fun b22 => ?_) (fun b22 => ?_)
        · exact absurd b22 (by decide +kernel)
        · skip
          refine r_aload_0 (pc := 25) C dX1_walkersAt_25 ?_
          refine r_getR (pc := 26) C fl_X1_24_1 (by exact hc) rfl (by exact hn) dX1_walkersAt_26 ?_
          refine r_iload_4 (pc := 29) C dX1_walkersAt_29 ?_
          refine r_V1ro (pc := 31) C (l_walker hL hv hW (k := k) hk2) vl_X1_271 (ly_g hL) (by decide) (by omega) (by omega) (Nat.le_of_ble_eq_true rfl) rfl dX1_walkersAt_31 (fun u3 A3 hc3 => ?_)
          refine r_topR hc3.1 ?_
          refine r_eqA hc3.2 ?_
          clear hc3 A3 u3
          refine r_ngetI (pc := 34) C fn_X1_309_5 (ly_w hL hk2).2 rfl dX1_walkersAt_34 ?_
          refine r_top ((hv.wk (v := 7) (by omega) (by omega) hk2 (by omega)).trans (hW.K hk2).1.1) ?_
          refine r_goto (pc := 37) (tgt := 52) C dX1_walkersAt_37 (by decide) ?_
          refine r_iload_1 (pc := 52) C dX1_walkersAt_52 ?_
          refine r_icmp_ne (pc := 53) (tgt := 60) C dX1_walkersAt_53 (by decide) (fun b53 => ?_) (fun b53 => ?_)
          · skip
            have b53 := (not_congr (nI_eqI (by omega) (by omega))).mp b53
            refine r_iconst (pc := 60) C dX1_walkersAt_60 ci_0 ?_
            refine r_S1io (pc := 61) C (l_bitN (n := 0) (by decide)) sl_X1_222 (by decide) (by omega) (by omega) (Nat.le_of_ble_eq_true rfl) rfl dX1_walkersAt_61 (fun u4 A4 hc4 => ?_)
            refine r_top hc4.1 ?_
            refine r_eqA hc4.2 ?_
            clear hc4 A4 u4
            refine r_iadd (pc := 64) C dX1_walkersAt_64 ?_
            refine r_top (nI_add _ _) ?_
            refine r_istore_3 (pc := 65) C dX1_walkersAt_65 rfl ?_
            refine r_iinc_4 (pc := 66) C dX1_walkersAt_66 (nI_inc _) rfl ?_
            refine r_goto (pc := 69) (tgt := 5) C dX1_walkersAt_69 (by decide) ?_
            first | rw [smN_1 (f := fun k => b01 (decide (σ (75 + 13 * k + 7) = nI r))) (b01_t (show σ (75 + 13 * k + 7) = nI r by rw [(hW.K hk2).1.1, ‹wFr σ k = r›]))] | rw [smN_0 (f := fun k => b01 (decide (σ (75 + 13 * k + 7) = nI r))) (b01_f (fun q => ‹¬ wFr σ k = r› (nI_inj (by omega) (by omega) ((hW.K hk2).1.1.symm.trans q))))]
            exact ih5 (k + 1) (by omega) (by omega)
          · skip
            have b53 := (nI_eqI (by omega) (by omega)).mp b53
            refine r_iconst (pc := 56) C dX1_walkersAt_56 ci_1 ?_
            refine r_goto (pc := 57) (tgt := 61) C dX1_walkersAt_57 (by decide) ?_
            refine r_S1io (pc := 61) C (l_bitN (n := 1) (by decide)) sl_X1_222 (by decide) (by omega) (by omega) (Nat.le_of_ble_eq_true rfl) rfl dX1_walkersAt_61 (fun u5 A5 hc5 => ?_)
            refine r_top hc5.1 ?_
            refine r_eqA hc5.2 ?_
            clear hc5 A5 u5
            refine r_iadd (pc := 64) C dX1_walkersAt_64 ?_
            refine r_top (nI_add _ _) ?_
            refine r_istore_3 (pc := 65) C dX1_walkersAt_65 rfl ?_
            refine r_iinc_4 (pc := 66) C dX1_walkersAt_66 (nI_inc _) rfl ?_
            refine r_goto (pc := 69) (tgt := 5) C dX1_walkersAt_69 (by decide) ?_
            first | rw [smN_1 (f := fun k => b01 (decide (σ (75 + 13 * k + 7) = nI r))) (b01_t (show σ (75 + 13 * k + 7) = nI r by rw [(hW.K hk2).1.1, ‹wFr σ k = r›]))] | rw [smN_0 (f := fun k => b01 (decide (σ (75 + 13 * k + 7) = nI r))) (b01_f (fun q => ‹¬ wFr σ k = r› (nI_inj (by omega) (by omega) ((hW.K hk2).1.1.symm.trans q))))]
            exact ih5 (k + 1) (by omega) (by omega)
  exact lp5_1 _ 0 (by omega) (Nat.lt_succ_self _)
set_option maxHeartbeats 4000000 in
theorem c_wAtT {g : GZ} {A : HA} {c a : Nat} {d : Nat → Nat} {σ : Rw} (hc : (A.G c).1 = 1) (hn : A.R c 0 = some a) (hL : Ly A a d σ) (hv : Lv A.I a d σ) (hJ : RowJ σ) {r : Nat} (hr : r < 1000) : Ct g wI yX1_walkersAt (.code yX1_walkersAt cX1_walkersAt 5 (Option.some Jvm.ClassFile.FieldType.int)) 7 0 0 [.ref c, .int (nI (r)), .int (nI 0)] (A) (fun u A' => u = nI (withR σ 8 r) ∧ A' = A) fw_no := by
  refine Ct.of [some (.ref c), some (.int (nI (r))), some (.int (nI 0)), none, none] (by decide) rfl rfl fun z C hx hnm E => ?_
  have hW := hJ.w
  have hS := hW.s
  have hw3 := hS.w3
  have hw10 := hS.w10
  have hh8 := hS.h8
  have hc80 := hS.c80
  have k6 := hW.k6
  have g6 := hW.g6
  have hC : ∀ c, c < 80 → CelF σ c := fun c hc => (hJ.c hc).fe
  have d9 := hW.d9
  refine r_iconst (pc := 0) C dX1_walkersAt_0 ci_0 ?_
  refine r_istore_3 (pc := 1) C dX1_walkersAt_1 rfl ?_
  refine r_iconst (pc := 2) C dX1_walkersAt_2 ci_0 ?_
  refine r_istore_4 (pc := 3) C dX1_walkersAt_3 rfl ?_
  have lp5_1 : ∀ (fu : Nat) (k : Nat) (hk : k ≤ rK σ), rK σ - k < fu → wa g z 0 0 (A) 5 [some (.ref c), some (.int (nI (r))), some (.int (nI 0)), some (.int (nI (smN (fun k => b01 (decide (σ (75 + 13 * k + 8) = nI r))) k))), some (.int (nI (k)))] [] := by
    intro fu
    induction fu with
    | zero => intro k  hk hm5; exact absurd hm5 (Nat.not_lt_zero _)
    | succ fu ih5 =>
      intro k  hk hm5
      refine r_iload_4 (pc := 5) C dX1_walkersAt_5 ?_
      refine r_aload_0 (pc := 7) C dX1_walkersAt_7 ?_
      refine r_getR (pc := 8) C fl_X1_24_1 (by exact hc) rfl (by exact hn) dX1_walkersAt_8 ?_
      refine r_ngetR (pc := 11) C fn_X1_69_2 (ly_g hL) rfl (ly_r12 hL) dX1_walkersAt_11 ?_
      refine r_V0io (pc := 14) C (j_X3_size (ly_g12 hL) (ly_r20 hL) (ly_g20 hL) (hv.nk.trans hW.k)) vl_X1_174 (ly_g12 hL) (by decide) (by omega) (by omega) (Nat.le_of_ble_eq_true rfl) rfl dX1_walkersAt_14 (fun u2 A2 hc2 => ?_)
      refine r_top hc2.1 ?_
      refine r_eqA hc2.2 ?_
      clear hc2 A2 u2
      refine r_icmp_ge (pc := 17) (tgt := 72) C dX1_walkersAt_17 (by decide) (fun b17 => ?_) (fun b17 => ?_)
      · skip
        have b17 := (nI_le2 (by omega) (by omega)).mp b17
        refine r_iload_3 (pc := 72) C dX1_walkersAt_72 ?_
        refine r_iret (pc := 73) C E rfl (by omega) (by omega) dX1_walkersAt_73 ?_
        have e9 : k = rK σ := by omega
        subst e9
        exact ⟨rfl, rfl⟩
      · skip
        have b17 := (not_congr (nI_le2 (by omega) (by omega))).mp b17
        have hk2 : k < rK σ := by omega
        have hg1 := (hW.K hk2).1.2
        have hg2 := (hW.K hk2).2.1.2
        refine r_iload_3 (pc := 20) C dX1_walkersAt_20 ?_
        refine r_iload_2 (pc := 21) C dX1_walkersAt_21 ?_
        refine r_if_eq (pc := 22) (tgt := 40) C dX1_walkersAt_22 (by decide) (fun b22 => ?_) (fun b22 => ?_)
        · skip
          refine r_aload_0 (pc := 40) C dX1_walkersAt_40 ?_
          refine r_getR (pc := 41) C fl_X1_24_1 (by exact hc) rfl (by exact hn) dX1_walkersAt_41 ?_
          refine r_iload_4 (pc := 44) C dX1_walkersAt_44 ?_
          refine r_V1ro (pc := 46) C (l_walker hL hv hW (k := k) hk2) vl_X1_271 (ly_g hL) (by decide) (by omega) (by omega) (Nat.le_of_ble_eq_true rfl) rfl dX1_walkersAt_46 (fun u3 A3 hc3 => ?_)
          refine r_topR hc3.1 ?_
          refine r_eqA hc3.2 ?_
          clear hc3 A3 u3
          refine r_ngetI (pc := 49) C fn_X1_312_5 (ly_w hL hk2).2 rfl dX1_walkersAt_49 ?_
          refine r_top ((hv.wk (v := 8) (by omega) (by omega) hk2 (by omega)).trans (hW.K hk2).2.1.1) ?_
          refine r_iload_1 (pc := 52) C dX1_walkersAt_52 ?_
          refine r_icmp_ne (pc := 53) (tgt := 60) C dX1_walkersAt_53 (by decide) (fun b53 => ?_) (fun b53 => ?_)
          · skip
            have b53 := (not_congr (nI_eqI (by omega) (by omega))).mp b53
            refine r_iconst (pc := 60) C dX1_walkersAt_60 ci_0 ?_
            refine r_S1io (pc := 61) C (l_bitN (n := 0) (by decide)) sl_X1_222 (by decide) (by omega) (by omega) (Nat.le_of_ble_eq_true rfl) rfl dX1_walkersAt_61 (fun u4 A4 hc4 => ?_)
            refine r_top hc4.1 ?_
            refine r_eqA hc4.2 ?_
            clear hc4 A4 u4
            refine r_iadd (pc := 64) C dX1_walkersAt_64 ?_
            refine r_top (nI_add _ _) ?_
            refine r_istore_3 (pc := 65) C dX1_walkersAt_65 rfl ?_
            refine r_iinc_4 (pc := 66) C dX1_walkersAt_66 (nI_inc _) rfl ?_
            refine r_goto (pc := 69) (tgt := 5) C dX1_walkersAt_69 (by decide) ?_
            first | rw [smN_1 (f := fun k => b01 (decide (σ (75 + 13 * k + 8) = nI r))) (b01_t (show σ (75 + 13 * k + 8) = nI r by rw [(hW.K hk2).2.1.1, ‹wTo σ k = r›]))] | rw [smN_0 (f := fun k => b01 (decide (σ (75 + 13 * k + 8) = nI r))) (b01_f (fun q => ‹¬ wTo σ k = r› (nI_inj (by omega) (by omega) ((hW.K hk2).2.1.1.symm.trans q))))]
            exact ih5 (k + 1) (by omega) (by omega)
          · skip
            have b53 := (nI_eqI (by omega) (by omega)).mp b53
            refine r_iconst (pc := 56) C dX1_walkersAt_56 ci_1 ?_
            refine r_goto (pc := 57) (tgt := 61) C dX1_walkersAt_57 (by decide) ?_
            refine r_S1io (pc := 61) C (l_bitN (n := 1) (by decide)) sl_X1_222 (by decide) (by omega) (by omega) (Nat.le_of_ble_eq_true rfl) rfl dX1_walkersAt_61 (fun u5 A5 hc5 => ?_)
            refine r_top hc5.1 ?_
            refine r_eqA hc5.2 ?_
            clear hc5 A5 u5
            refine r_iadd (pc := 64) C dX1_walkersAt_64 ?_
            refine r_top (nI_add _ _) ?_
            refine r_istore_3 (pc := 65) C dX1_walkersAt_65 rfl ?_
            refine r_iinc_4 (pc := 66) C dX1_walkersAt_66 (nI_inc _) rfl ?_
            refine r_goto (pc := 69) (tgt := 5) C dX1_walkersAt_69 (by decide) ?_
            first | rw [smN_1 (f := fun k => b01 (decide (σ (75 + 13 * k + 8) = nI r))) (b01_t (show σ (75 + 13 * k + 8) = nI r by rw [(hW.K hk2).2.1.1, ‹wTo σ k = r›]))] | rw [smN_0 (f := fun k => b01 (decide (σ (75 + 13 * k + 8) = nI r))) (b01_f (fun q => ‹¬ wTo σ k = r› (nI_inj (by omega) (by omega) ((hW.K hk2).2.1.1.symm.trans q))))]
            exact ih5 (k + 1) (by omega) (by omega)
        · exact absurd b22 (by decide +kernel)
  exact lp5_1 _ 0 (by omega) (Nat.lt_succ_self _)
set_option maxHeartbeats 4000000 in
theorem c_gate {g : GZ} {A : HA} {c a : Nat} {d : Nat → Nat} {σ : Rw} (hc : (A.G c).1 = 1) (hn : A.R c 0 = some a) (hL : Ly A a d σ) (hv : Lv A.I a d σ) (hJ : RowJ σ) (hz : zS g) (hNm : NmK A d σ) {x w : Int32} : Ct g wI yX1_gate (.code yX1_gate cX1_gate 4 (Option.some Jvm.ClassFile.FieldType.int)) 9 2 12 [.ref c, .int x, .int w] (A) (fun u A' => inG σ x ∧ inZ w 0 4 ∧ u = gateA σ (nt x) (nt w) ∧ A' = A) (fun q A' => T2 A A' (inG σ x) (inZ w 0 4) q) := by
  refine Ct.of [some (.ref c), some (.int x), some (.int w), none] (by decide) rfl rfl fun z C hx hnm E => ?_
  have hW := hJ.w
  have hS := hW.s
  have hw3 := hS.w3
  have hw10 := hS.w10
  have hh8 := hS.h8
  have hc80 := hS.c80
  have k6 := hW.k6
  have g6 := hW.g6
  have hC : ∀ c, c < 80 → CelF σ c := fun c hc => (hJ.c hc).fe
  have d9 := hW.d9
  refine r_aload_0 (pc := 0) C dX1_gate_0 ?_
  refine r_getR (pc := 1) C fl_X1_24_1 (by exact hc) rfl (by exact hn) dX1_gate_1 ?_
  refine r_ngetR (pc := 4) C fn_X1_197_2 (ly_g hL) rfl (ly_r11 hL) dX1_gate_4 ?_
  refine r_iload_1 (pc := 7) C dX1_gate_7 ?_
  refine r_S2rx (pc := 8) C (c_thingG hL hv hJ) sl_X1_243 (by decide) (by omega) (by omega) (Nat.le_of_ble_eq_true rfl) rfl dX1_gate_8 (fun q A9 hp hE => r_out C E (by rw [hx]; exact fun x h => nomatch h) hE.choose_spec (by omega) (by omega) (Or.inl hp)) (fun u1 A1 hc1 => ?_)
  obtain ⟨hi1, eu1, eA1⟩ := hc1
  refine r_topR eu1 ?_
  refine r_eqA eA1 ?_
  clear eu1 eA1 A1 u1
  have b99 : inG σ x := by assumption
  have b98 := b99
  obtain ⟨r, hr, rfl⟩ := inZ_of (n := rG σ) b99 (by omega)
  rw [show nt (nI r) = r from nt_n (by omega)]
  have hRG := hW.G hr
  have hgl := gC_lt hS hRG
  obtain ⟨nm, hnm, v, l, n, hSt, hfn, hn6, hl⟩ := hNm.2 r hr
  refine r_castS (pc := 11) C q1976 (ly_t hL hr).2 rfl rfl dX1_gate_11 ?_
  refine r_astore_3 (pc := 14) C dX1_gate_14 rfl ?_
  rcases Classical.em (inZ w 0 4) with b97 | b97
  · skip
    obtain ⟨j, hj, rfl⟩ := inZ_of2 (n := 4) rfl b97 (by omega)
    refine r_iload_2 (pc := 15) C dX1_gate_15 ?_
    by_cases w16_0 : j = 0
    · skip
      subst w16_0
      refine r_tableIn (pc := 16) (tgt := 52) (off := 36) C dX1_gate_16 (by decide +kernel) (by decide +kernel) (by decide +kernel) (by decide) ?_
      refine r_aload_3 (pc := 52) C dX1_gate_52 ?_
      refine r_V0io (pc := 53) C (j_X4_cell (ly_t hL hr).2) vl_X1_317 (ly_t hL hr).2 (by decide) (by omega) (by omega) (Nat.le_of_ble_eq_true rfl) rfl dX1_gate_53 (fun u2 A2 hc2 => ?_)
      refine r_top hc2.1 ?_
      refine r_eqA hc2.2 ?_
      clear hc2 A2 u2
      refine r_top (hv.gate hr) ?_
      refine r_aload_0 (pc := 56) C dX1_gate_56 ?_
      refine r_getR (pc := 57) C fl_X1_24_1 (by exact hc) rfl (by exact hn) dX1_gate_57 ?_
      refine r_ngetI (pc := 60) C fn_X1_206_2 (ly_g hL) rfl dX1_gate_60 ?_
      refine r_top (hv.w.trans hW.s.w) ?_
      refine r_irem (pc := 63) C dX1_gate_63 (nI_nz (by omega) (by omega)) ?_
      refine r_top (nI_rem (by omega) (by omega) (by omega)) ?_
      refine r_goto (pc := 64) (tgt := 118) C dX1_gate_64 (by decide) ?_
      refine r_iret (pc := 118) C E rfl (by omega) (by omega) dX1_gate_118 ?_
      refine ⟨b98, b97, ?_, rfl⟩
      rw [nt_n (by omega), nt_n (by omega)]
      first
        | rfl
        | exact gC_mod hRG
        | exact gC_div hRG
        | exact hfn.symm
    by_cases w16_1 : j = 1
    · skip
      subst w16_1
      refine r_tableIn (pc := 16) (tgt := 67) (off := 51) C dX1_gate_16 (by decide +kernel) (by decide +kernel) (by decide +kernel) (by decide) ?_
      refine r_aload_3 (pc := 67) C dX1_gate_67 ?_
      refine r_V0io (pc := 68) C (j_X4_cell (ly_t hL hr).2) vl_X1_317 (ly_t hL hr).2 (by decide) (by omega) (by omega) (Nat.le_of_ble_eq_true rfl) rfl dX1_gate_68 (fun u3 A3 hc3 => ?_)
      refine r_top hc3.1 ?_
      refine r_eqA hc3.2 ?_
      clear hc3 A3 u3
      refine r_top (hv.gate hr) ?_
      refine r_aload_0 (pc := 71) C dX1_gate_71 ?_
      refine r_getR (pc := 72) C fl_X1_24_1 (by exact hc) rfl (by exact hn) dX1_gate_72 ?_
      refine r_ngetI (pc := 75) C fn_X1_206_2 (ly_g hL) rfl dX1_gate_75 ?_
      refine r_top (hv.w.trans hW.s.w) ?_
      refine r_idiv (pc := 78) C dX1_gate_78 (nI_nz (by omega) (by omega)) ?_
      refine r_top (nI_div (by omega) (by omega) (by omega)) ?_
      refine r_goto (pc := 79) (tgt := 118) C dX1_gate_79 (by decide) ?_
      refine r_iret (pc := 118) C E rfl (by omega) (by omega) dX1_gate_118 ?_
      refine ⟨b98, b97, ?_, rfl⟩
      rw [nt_n (by omega), nt_n (by omega)]
      first
        | rfl
        | exact gC_mod hRG
        | exact gC_div hRG
        | exact hfn.symm
    by_cases w16_2 : j = 2
    · skip
      subst w16_2
      refine r_tableIn (pc := 16) (tgt := 82) (off := 66) C dX1_gate_16 (by decide +kernel) (by decide +kernel) (by decide +kernel) (by decide) ?_
      refine r_aload_0 (pc := 82) C dX1_gate_82 ?_
      refine r_iload_1 (pc := 83) C dX1_gate_83 ?_
      refine r_iconst (pc := 84) C dX1_gate_84 ci_1 ?_
      refine r_V2io (pc := 85) C (c_wAtF hc hn hL hv hJ (r := r) (by omega)) vl_X1_320 (by exact hc) (by decide) (by omega) (by omega) (Nat.le_of_ble_eq_true rfl) rfl dX1_gate_85 (fun u4 A4 hc4 => ?_)
      refine r_top hc4.1 ?_
      refine r_eqA hc4.2 ?_
      clear hc4 A4 u4
      refine r_goto (pc := 88) (tgt := 118) C dX1_gate_88 (by decide) ?_
      refine r_iret (pc := 118) C E rfl (by omega) (by omega) dX1_gate_118 ?_
      refine ⟨b98, b97, ?_, rfl⟩
      rw [nt_n (by omega), nt_n (by omega)]
      first
        | rfl
        | exact gC_mod hRG
        | exact gC_div hRG
        | exact hfn.symm
    by_cases w16_3 : j = 3
    · skip
      subst w16_3
      refine r_tableIn (pc := 16) (tgt := 91) (off := 75) C dX1_gate_16 (by decide +kernel) (by decide +kernel) (by decide +kernel) (by decide) ?_
      refine r_aload_0 (pc := 91) C dX1_gate_91 ?_
      refine r_iload_1 (pc := 92) C dX1_gate_92 ?_
      refine r_iconst (pc := 93) C dX1_gate_93 ci_0 ?_
      refine r_V2io (pc := 94) C (c_wAtT hc hn hL hv hJ (r := r) (by omega)) vl_X1_320 (by exact hc) (by decide) (by omega) (by omega) (Nat.le_of_ble_eq_true rfl) rfl dX1_gate_94 (fun u5 A5 hc5 => ?_)
      refine r_top hc5.1 ?_
      refine r_eqA hc5.2 ?_
      clear hc5 A5 u5
      refine r_goto (pc := 97) (tgt := 118) C dX1_gate_97 (by decide) ?_
      refine r_iret (pc := 118) C E rfl (by omega) (by omega) dX1_gate_118 ?_
      refine ⟨b98, b97, ?_, rfl⟩
      rw [nt_n (by omega), nt_n (by omega)]
      first
        | rfl
        | exact gC_mod hRG
        | exact gC_div hRG
        | exact hfn.symm
    by_cases w16_4 : j = 4
    · skip
      subst w16_4
      refine r_tableIn (pc := 16) (tgt := 100) (off := 84) C dX1_gate_16 (by decide +kernel) (by decide +kernel) (by decide +kernel) (by decide) ?_
      refine r_aload_3 (pc := 100) C dX1_gate_100 ?_
      refine r_V0ro (pc := 101) C (j_X4_name (ly_t hL hr).2 hnm) vl_X1_324 (ly_t hL hr).2 (by decide) (by omega) (by omega) (Nat.le_of_ble_eq_true rfl) rfl dX1_gate_101 (fun u6 A6 hc6 => ?_)
      refine r_topR hc6.1 ?_
      refine r_eqA hc6.2 ?_
      clear hc6 A6 u6
      refine r_V0io (pc := 104) C (j_J10_length hz hSt) vl_X1_328 hSt.g (by decide) (by omega) (by omega) (Nat.le_of_ble_eq_true rfl) rfl dX1_gate_104 (fun u7 A7 hc7 => ?_)
      refine r_top hc7.1 ?_
      refine r_eqA hc7.2 ?_
      clear hc7 A7 u7
      refine r_goto (pc := 107) (tgt := 118) C dX1_gate_107 (by decide) ?_
      refine r_iret (pc := 118) C E rfl (by omega) (by omega) dX1_gate_118 ?_
      refine ⟨b98, b97, ?_, rfl⟩
      rw [nt_n (by omega), nt_n (by omega)]
      first
        | rfl
        | exact gC_mod hRG
        | exact gC_div hRG
        | exact hfn.symm
    exfalso; omega
  · skip
    refine r_iload_2 (pc := 15) C dX1_gate_15 ?_
    refine r_tableOut (pc := 16) (tgt := 110) C dX1_gate_16 (sw_out b97) (by decide) ?_
    refine r_make19 (pc := 110) C dX1_gate_110 dX1_gate_113 dX1_gate_114 (by decide) (Nat.le_of_ble_eq_true rfl) rfl (by omega) (by omega) fun m hm => ?_
    refine r_athrow (pc := 117) C dX1_gate_117 ?_
    refine r_out C E (by rw [hx]; exact fun x h => nomatch h) (En := RJ18) ((congrArg fw_ex (tx_mz (X := Non) hm).1).trans rfl) (by omega) (by omega) (Or.inr ⟨b98, b97, tx_mz hm⟩)
set_option maxHeartbeats 4000000 in
theorem c_walker {g : GZ} {A : HA} {c a : Nat} {d : Nat → Nat} {σ : Rw} (hc : (A.G c).1 = 1) (hn : A.R c 0 = some a) (hL : Ly A a d σ) (hv : Lv A.I a d σ) (hJ : RowJ σ) (hz : zS g) (hNm : NmK A d σ) {x w : Int32} : Ct g wI yX1_walker (.code yX1_walker cX1_walker 4 (Option.some Jvm.ClassFile.FieldType.int)) 10 2 12 [.ref c, .int x, .int w] (A) (fun u A' => inW σ x ∧ inZ w 0 7 ∧ u = walkA σ (nt x) (nt w) ∧ A' = A) (fun q A' => T2 A A' (inW σ x) (inZ w 0 7) q) := by
  refine Ct.of [some (.ref c), some (.int x), some (.int w), none] (by decide) rfl rfl fun z C hx hnm E => ?_
  have hW := hJ.w
  have hS := hW.s
  have hw3 := hS.w3
  have hw10 := hS.w10
  have hh8 := hS.h8
  have hc80 := hS.c80
  have k6 := hW.k6
  have g6 := hW.g6
  have hC : ∀ c, c < 80 → CelF σ c := fun c hc => (hJ.c hc).fe
  have d9 := hW.d9
  refine r_aload_0 (pc := 0) C dX1_walker_0 ?_
  refine r_iload_1 (pc := 1) C dX1_walker_1 ?_
  refine r_V1rx (pc := 2) C (c_walkerAt hc hn hL hv hJ) vl_X1_330 (by exact hc) (by decide) (by omega) (by omega) (Nat.le_of_ble_eq_true rfl) rfl dX1_walker_2 (fun q A9 hp hE => r_out C E (by rw [hx]; exact fun x h => nomatch h) hE.choose_spec (by omega) (by omega) (Or.inl hp)) (fun u1 A1 hc1 => ?_)
  obtain ⟨hi1, eu1, eA1⟩ := hc1
  refine r_topR eu1 ?_
  refine r_eqA eA1 ?_
  clear eu1 eA1 A1 u1
  have b99 : inW σ x := by assumption
  have b98 := b99
  obtain ⟨k, hk, rfl⟩ := inZ_of (n := rK σ) b99 (by omega)
  rw [show nt (nI k) = k from nt_n (by omega)]
  obtain ⟨nm, hnm, v, l, n, hSt, hfn, hn6, hl⟩ := hNm.1 k hk
  refine r_astore_3 (pc := 5) C dX1_walker_5 rfl ?_
  rcases Classical.em (inZ w 0 7) with b97 | b97
  · skip
    obtain ⟨j, hj, rfl⟩ := inZ_of2 (n := 7) rfl b97 (by omega)
    refine r_iload_2 (pc := 6) C dX1_walker_6 ?_
    by_cases w7_0 : j = 0
    · skip
      subst w7_0
      refine r_tableIn (pc := 7) (tgt := 52) (off := 45) C dX1_walker_7 (by decide +kernel) (by decide +kernel) (by decide +kernel) (by decide) ?_
      refine r_aload_3 (pc := 52) C dX1_walker_52 ?_
      refine r_ngetI (pc := 53) C fn_X1_309_5 (ly_w hL hk).2 rfl dX1_walker_53 ?_
      refine r_top (hv.wk (v := 7) (by omega) (by omega) hk (by omega)) ?_
      refine r_goto (pc := 56) (tgt := 129) C dX1_walker_56 (by decide) ?_
      refine r_iret (pc := 129) C E rfl (by omega) (by omega) dX1_walker_129 ?_
      refine ⟨b98, b97, ?_, rfl⟩
      rw [nt_n (by omega), nt_n (by omega)]
      first
        | rfl
        | exact hfn.symm
    by_cases w7_1 : j = 1
    · skip
      subst w7_1
      refine r_tableIn (pc := 7) (tgt := 59) (off := 52) C dX1_walker_7 (by decide +kernel) (by decide +kernel) (by decide +kernel) (by decide) ?_
      refine r_aload_3 (pc := 59) C dX1_walker_59 ?_
      refine r_ngetI (pc := 60) C fn_X1_312_5 (ly_w hL hk).2 rfl dX1_walker_60 ?_
      refine r_top (hv.wk (v := 8) (by omega) (by omega) hk (by omega)) ?_
      refine r_goto (pc := 63) (tgt := 129) C dX1_walker_63 (by decide) ?_
      refine r_iret (pc := 129) C E rfl (by omega) (by omega) dX1_walker_129 ?_
      refine ⟨b98, b97, ?_, rfl⟩
      rw [nt_n (by omega), nt_n (by omega)]
      first
        | rfl
        | exact hfn.symm
    by_cases w7_2 : j = 2
    · skip
      subst w7_2
      refine r_tableIn (pc := 7) (tgt := 66) (off := 59) C dX1_walker_7 (by decide +kernel) (by decide +kernel) (by decide +kernel) (by decide) ?_
      refine r_aload_3 (pc := 66) C dX1_walker_66 ?_
      refine r_ngetI (pc := 67) C fn_X1_333_5 (ly_w hL hk).2 rfl dX1_walker_67 ?_
      refine r_top (hv.wk (v := 9) (by omega) (by omega) hk (by omega)) ?_
      refine r_goto (pc := 70) (tgt := 129) C dX1_walker_70 (by decide) ?_
      refine r_iret (pc := 129) C E rfl (by omega) (by omega) dX1_walker_129 ?_
      refine ⟨b98, b97, ?_, rfl⟩
      rw [nt_n (by omega), nt_n (by omega)]
      first
        | rfl
        | exact hfn.symm
    by_cases w7_3 : j = 3
    · skip
      subst w7_3
      refine r_tableIn (pc := 7) (tgt := 73) (off := 66) C dX1_walker_7 (by decide +kernel) (by decide +kernel) (by decide +kernel) (by decide) ?_
      refine r_aload_3 (pc := 73) C dX1_walker_73 ?_
      refine r_ngetI (pc := 74) C fn_X1_335_5 (ly_w hL hk).2 rfl dX1_walker_74 ?_
      refine r_top (hv.wk (v := 10) (by omega) (by omega) hk (by omega)) ?_
      refine r_goto (pc := 77) (tgt := 129) C dX1_walker_77 (by decide) ?_
      refine r_iret (pc := 129) C E rfl (by omega) (by omega) dX1_walker_129 ?_
      refine ⟨b98, b97, ?_, rfl⟩
      rw [nt_n (by omega), nt_n (by omega)]
      first
        | rfl
        | exact hfn.symm
    by_cases w7_4 : j = 4
    · skip
      subst w7_4
      refine r_tableIn (pc := 7) (tgt := 80) (off := 73) C dX1_walker_7 (by decide +kernel) (by decide +kernel) (by decide +kernel) (by decide) ?_
      refine r_aload_3 (pc := 80) C dX1_walker_80 ?_
      refine r_ngetI (pc := 81) C fn_X1_338_5 (ly_w hL hk).2 rfl dX1_walker_81 ?_
      refine r_top (hv.wk (v := 11) (by omega) (by omega) hk (by omega)) ?_
      refine r_goto (pc := 84) (tgt := 129) C dX1_walker_84 (by decide) ?_
      refine r_iret (pc := 129) C E rfl (by omega) (by omega) dX1_walker_129 ?_
      refine ⟨b98, b97, ?_, rfl⟩
      rw [nt_n (by omega), nt_n (by omega)]
      first
        | rfl
        | exact hfn.symm
    by_cases w7_5 : j = 5
    · skip
      subst w7_5
      refine r_tableIn (pc := 7) (tgt := 87) (off := 80) C dX1_walker_7 (by decide +kernel) (by decide +kernel) (by decide +kernel) (by decide) ?_
      refine r_aload_3 (pc := 87) C dX1_walker_87 ?_
      refine r_ngetI (pc := 88) C fn_X1_341_5 (ly_w hL hk).2 rfl dX1_walker_88 ?_
      refine r_top (hv.wk (v := 12) (by omega) (by omega) hk (by omega)) ?_
      refine r_goto (pc := 91) (tgt := 129) C dX1_walker_91 (by decide) ?_
      refine r_iret (pc := 129) C E rfl (by omega) (by omega) dX1_walker_129 ?_
      refine ⟨b98, b97, ?_, rfl⟩
      rw [nt_n (by omega), nt_n (by omega)]
      first
        | rfl
        | exact hfn.symm
    by_cases w7_6 : j = 6
    · skip
      subst w7_6
      refine r_tableIn (pc := 7) (tgt := 94) (off := 87) C dX1_walker_7 (by decide +kernel) (by decide +kernel) (by decide +kernel) (by decide) ?_
      refine r_aload_3 (pc := 94) C dX1_walker_94 ?_
      refine r_aload_0 (pc := 95) C dX1_walker_95 ?_
      refine r_getR (pc := 96) C fl_X1_24_1 (by exact hc) rfl (by exact hn) dX1_walker_96 ?_
      refine r_ngetI (pc := 99) C fn_X1_203_2 (ly_g hL) rfl dX1_walker_99 ?_
      refine r_top (hv.day.trans hW.d) ?_
      refine r_V1io (pc := 102) C (j_X5_walksOn (ly_w hL hk).2 ((hv.wk (v := 10) (by omega) (by omega) hk (by omega)).trans (hW.K hk).2.2.2.1) (hW.K hk).2.2.2.2.1 (hW.K hk).2.2.2.2.2 (by omega)) vl_X1_344 (ly_w hL hk).2 (by decide) (by omega) (by omega) (Nat.le_of_ble_eq_true rfl) rfl dX1_walker_102 (fun u2 A2 hc2 => ?_)
      refine r_top hc2.1 ?_
      refine r_eqA hc2.2 ?_
      clear hc2 A2 u2
      refine r_S1io (pc := 105) C (l_bit) sl_X1_222 (by decide) (by omega) (by omega) (Nat.le_of_ble_eq_true rfl) rfl dX1_walker_105 (fun u3 A3 hc3 => ?_)
      refine r_top hc3.1 ?_
      refine r_eqA hc3.2 ?_
      clear hc3 A3 u3
      refine r_goto (pc := 108) (tgt := 129) C dX1_walker_108 (by decide) ?_
      refine r_iret (pc := 129) C E rfl (by omega) (by omega) dX1_walker_129 ?_
      refine ⟨b98, b97, ?_, rfl⟩
      rw [nt_n (by omega), nt_n (by omega)]
      first
        | rfl
        | exact hfn.symm
    by_cases w7_7 : j = 7
    · skip
      subst w7_7
      refine r_tableIn (pc := 7) (tgt := 111) (off := 104) C dX1_walker_7 (by decide +kernel) (by decide +kernel) (by decide +kernel) (by decide) ?_
      refine r_aload_3 (pc := 111) C dX1_walker_111 ?_
      refine r_ngetR (pc := 112) C fn_X1_347_5 (ly_w hL hk).2 rfl hnm dX1_walker_112 ?_
      refine r_V0io (pc := 115) C (j_J10_length hz hSt) vl_X1_328 hSt.g (by decide) (by omega) (by omega) (Nat.le_of_ble_eq_true rfl) rfl dX1_walker_115 (fun u4 A4 hc4 => ?_)
      refine r_top hc4.1 ?_
      refine r_eqA hc4.2 ?_
      clear hc4 A4 u4
      refine r_goto (pc := 118) (tgt := 129) C dX1_walker_118 (by decide) ?_
      refine r_iret (pc := 129) C E rfl (by omega) (by omega) dX1_walker_129 ?_
      refine ⟨b98, b97, ?_, rfl⟩
      rw [nt_n (by omega), nt_n (by omega)]
      first
        | rfl
        | exact hfn.symm
    exfalso; omega
  · skip
    refine r_iload_2 (pc := 6) C dX1_walker_6 ?_
    refine r_tableOut (pc := 7) (tgt := 121) C dX1_walker_7 (sw_out b97) (by decide) ?_
    refine r_make19 (pc := 121) C dX1_walker_121 dX1_walker_124 dX1_walker_125 (by decide) (Nat.le_of_ble_eq_true rfl) rfl (by omega) (by omega) fun m hm => ?_
    refine r_athrow (pc := 128) C dX1_walker_128 ?_
    refine r_out C E (by rw [hx]; exact fun x h => nomatch h) (En := RJ18) ((congrArg fw_ex (tx_mz (X := Non) hm).1).trans rfl) (by omega) (by omega) (Or.inr ⟨b98, b97, tx_mz hm⟩)
set_option maxHeartbeats 4000000 in
theorem c_nameByte {g : GZ} {A : HA} {c a : Nat} {d : Nat → Nat} {σ : Rw} (hc : (A.G c).1 = 1) (hn : A.R c 0 = some a) (hL : Ly A a d σ) (hv : Lv A.I a d σ) (hJ : RowJ σ) (hz : zS g) (hNm : NmK A d σ) {x y : Int32} {p : Prop} [Decidable p] : Ct g wI yX1_nameByte (.code yX1_nameByte cX1_nameByte 5 (Option.some Jvm.ClassFile.FieldType.int)) 10 1 6 [.ref c, .int x, .int (bI p), .int y] (A) (fun u A' => ((p ∧ inG σ x) ∨ (¬ p ∧ inW σ x)) ∧ u = nameA σ (if p then 21 + 9 * nt x else 75 + 13 * nt x) y ∧ A' = A) (fun q A' => ¬ ((p ∧ inG σ x) ∨ (¬ p ∧ inW σ x)) ∧ TX A A' Non 20 q) := by
  refine Ct.of [some (.ref c), some (.int x), some (.int (bI p)), some (.int y), none] (by decide) rfl rfl fun z C hx hnm E => ?_
  have hW := hJ.w
  have hS := hW.s
  have hw3 := hS.w3
  have hw10 := hS.w10
  have hh8 := hS.h8
  have hc80 := hS.c80
  have k6 := hW.k6
  have g6 := hW.g6
  have hC : ∀ c, c < 80 → CelF σ c := fun c hc => (hJ.c hc).fe
  have d9 := hW.d9
  refine r_iload_2 (pc := 0) C dX1_nameByte_0 ?_
  refine r_if_eq (pc := 1) (tgt := 24) C dX1_nameByte_1 (by decide) (fun b1 => ?_) (fun b1 => ?_)
  · skip
    have b1 := bI_0.mp b1
    refine r_aload_0 (pc := 24) C dX1_nameByte_24 ?_
    refine r_iload_1 (pc := 25) C dX1_nameByte_25 ?_
    refine r_V1rx (pc := 26) C (c_walkerAt hc hn hL hv hJ) vl_X1_330 (by exact hc) (by decide) (by omega) (by omega) (Nat.le_of_ble_eq_true rfl) rfl dX1_nameByte_26 (fun q A9 hp hE => r_out C E (by rw [hx]; exact fun x h => nomatch h) hE.choose_spec (by omega) (by omega) (⟨fun q => q.elim (fun q => b1 q.1) (fun q => hp.1 q.2), hp.2⟩)) (fun u1 A1 hc1 => ?_)
    obtain ⟨hi1, eu1, eA1⟩ := hc1
    refine r_topR eu1 ?_
    refine r_eqA eA1 ?_
    clear eu1 eA1 A1 u1
    have b99 : inW σ x := by assumption
    have b98 := b99
    obtain ⟨k, hk, rfl⟩ := inZ_of (n := rK σ) b99 (by omega)
    rw [show nt (nI k) = k from nt_n (by omega)]
    obtain ⟨nm, hnm, v, l, n, hSt, hfn, hn6, hl⟩ := hNm.1 k hk
    have hP9 := Or.inr (a := p ∧ inG σ (nI k)) (And.intro b1 b98)
    have hf9 : (if p then 21 + 9 * k else 75 + 13 * k) = 75 + 13 * k := if_neg b1
    rw [← hf9] at hfn hl
    refine r_ngetR (pc := 29) C fn_X1_347_5 (ly_w hL hk).2 rfl hnm dX1_nameByte_29 ?_
    refine r_astore_4 (pc := 32) C dX1_nameByte_32 rfl ?_
    refine r_iload_3 (pc := 34) C dX1_nameByte_34 ?_
    refine r_i2l (pc := 35) C dX1_nameByte_35 ?_
    refine r_lconst (pc := 36) (v := 0) C dX1_nameByte_36 (by decide) ?_
    refine r_aload_4 (pc := 37) C dX1_nameByte_37 ?_
    refine r_V0io (pc := 39) C (j_J10_length hz hSt) vl_X1_328 hSt.g (by decide) (by omega) (by omega) (Nat.le_of_ble_eq_true rfl) rfl dX1_nameByte_39 (fun u2 A2 hc2 => ?_)
    refine r_top hc2.1 ?_
    refine r_eqA hc2.2 ?_
    clear hc2 A2 u2
    refine r_iconst (pc := 42) C dX1_nameByte_42 ci_1 ?_
    refine r_isub (pc := 43) C dX1_nameByte_43 ?_
    refine r_i2l (pc := 44) C dX1_nameByte_44 ?_
    refine r_S3io (pc := 45) C (c_inZ (p := 0) (q := (n : Int) - 1) (by decide) (t_m1' (by omega))) sl_X1_114 (by decide) (by omega) (by omega) (Nat.le_of_ble_eq_true rfl) rfl dX1_nameByte_45 (fun u3 A3 hc3 => ?_)
    refine r_top hc3.1 ?_
    refine r_eqA hc3.2 ?_
    clear hc3 A3 u3
    refine r_if_eq (pc := 48) (tgt := 60) C dX1_nameByte_48 (by decide) (fun b48 => ?_) (fun b48 => ?_)
    · skip
      have b48 := bI_0.mp b48
      refine r_iconst (pc := 60) C dX1_nameByte_60 ci_m1 ?_
      refine r_iret (pc := 61) C E rfl (by omega) (by omega) dX1_nameByte_61 ?_
      refine ⟨hP9, ?_, rfl⟩
      first
        | rw [show nt (nI k) = k from nt_n (by omega)]
        | rw [show nt (nI r) = r from nt_n (by omega)]
      rw [nm_y hfn hn6.2.1]
      first
        | rw [if_pos b96, nt_n (by omega), (hl i hi).1]
        | rw [if_neg b48]
    · skip
      have b48 := bI_n.mp b48
      have b96 := b48
      obtain ⟨i, hi, rfl⟩ := inZ_of (n := n) b48 (by omega)
      refine r_aload_4 (pc := 51) C dX1_nameByte_51 ?_
      refine r_iload_3 (pc := 53) C dX1_nameByte_53 ?_
      refine r_V1io (pc := 54) C (j_J10_charAt hz hSt (k := i) (by omega)) vl_X1_350 hSt.g (by decide) (by omega) (by omega) (Nat.le_of_ble_eq_true rfl) rfl dX1_nameByte_54 (fun u4 A4 hc4 => ?_)
      refine r_top hc4.1 ?_
      refine r_eqA hc4.2 ?_
      clear hc4 A4 u4
      refine r_goto (pc := 57) (tgt := 61) C dX1_nameByte_57 (by decide) ?_
      refine r_iret (pc := 61) C E rfl (by omega) (by omega) dX1_nameByte_61 ?_
      refine ⟨hP9, ?_, rfl⟩
      first
        | rw [show nt (nI k) = k from nt_n (by omega)]
        | rw [show nt (nI r) = r from nt_n (by omega)]
      rw [nm_y hfn hn6.2.1]
      first
        | rw [if_pos b96, nt_n (by omega), (hl i hi).1]
        | rw [if_neg b48]
  · skip
    have b1 := bI_n.mp b1
    refine r_aload_0 (pc := 4) C dX1_nameByte_4 ?_
    refine r_getR (pc := 5) C fl_X1_24_1 (by exact hc) rfl (by exact hn) dX1_nameByte_5 ?_
    refine r_ngetR (pc := 8) C fn_X1_197_2 (ly_g hL) rfl (ly_r11 hL) dX1_nameByte_8 ?_
    refine r_iload_1 (pc := 11) C dX1_nameByte_11 ?_
    refine r_S2rx (pc := 12) C (c_thingG hL hv hJ) sl_X1_243 (by decide) (by omega) (by omega) (Nat.le_of_ble_eq_true rfl) rfl dX1_nameByte_12 (fun q A9 hp hE => r_out C E (by rw [hx]; exact fun x h => nomatch h) hE.choose_spec (by omega) (by omega) (⟨fun q => q.elim (fun q => hp.1 q.2) (fun q => q.1 b1), hp.2⟩)) (fun u5 A5 hc5 => ?_)
    obtain ⟨hi5, eu5, eA5⟩ := hc5
    refine r_topR eu5 ?_
    refine r_eqA eA5 ?_
    clear eu5 eA5 A5 u5
    have b99 : inG σ x := by assumption
    have b98 := b99
    obtain ⟨r, hr, rfl⟩ := inZ_of (n := rG σ) b99 (by omega)
    rw [show nt (nI r) = r from nt_n (by omega)]
    obtain ⟨nm, hnm, v, l, n, hSt, hfn, hn6, hl⟩ := hNm.2 r hr
    have hP9 := Or.inl (b := ¬ p ∧ inW σ (nI r)) (And.intro b1 b98)
    have hf9 : (if p then 21 + 9 * r else 75 + 13 * r) = 21 + 9 * r := if_pos b1
    rw [← hf9] at hfn hl
    refine r_castS (pc := 15) C q1976 (ly_t hL hr).2 rfl rfl dX1_nameByte_15 ?_
    refine r_V0ro (pc := 18) C (j_X4_name (ly_t hL hr).2 hnm) vl_X1_324 (ly_t hL hr).2 (by decide) (by omega) (by omega) (Nat.le_of_ble_eq_true rfl) rfl dX1_nameByte_18 (fun u6 A6 hc6 => ?_)
    refine r_topR hc6.1 ?_
    refine r_eqA hc6.2 ?_
    clear hc6 A6 u6
    refine r_goto (pc := 21) (tgt := 32) C dX1_nameByte_21 (by decide) ?_
    refine r_astore_4 (pc := 32) C dX1_nameByte_32 rfl ?_
    refine r_iload_3 (pc := 34) C dX1_nameByte_34 ?_
    refine r_i2l (pc := 35) C dX1_nameByte_35 ?_
    refine r_lconst (pc := 36) (v := 0) C dX1_nameByte_36 (by decide) ?_
    refine r_aload_4 (pc := 37) C dX1_nameByte_37 ?_
    refine r_V0io (pc := 39) C (j_J10_length hz hSt) vl_X1_328 hSt.g (by decide) (by omega) (by omega) (Nat.le_of_ble_eq_true rfl) rfl dX1_nameByte_39 (fun u7 A7 hc7 => ?_)
    refine r_top hc7.1 ?_
    refine r_eqA hc7.2 ?_
    clear hc7 A7 u7
    refine r_iconst (pc := 42) C dX1_nameByte_42 ci_1 ?_
    refine r_isub (pc := 43) C dX1_nameByte_43 ?_
    refine r_i2l (pc := 44) C dX1_nameByte_44 ?_
    refine r_S3io (pc := 45) C (c_inZ (p := 0) (q := (n : Int) - 1) (by decide) (t_m1' (by omega))) sl_X1_114 (by decide) (by omega) (by omega) (Nat.le_of_ble_eq_true rfl) rfl dX1_nameByte_45 (fun u8 A8 hc8 => ?_)
    refine r_top hc8.1 ?_
    refine r_eqA hc8.2 ?_
    clear hc8 A8 u8
    refine r_if_eq (pc := 48) (tgt := 60) C dX1_nameByte_48 (by decide) (fun b48 => ?_) (fun b48 => ?_)
    · skip
      have b48 := bI_0.mp b48
      refine r_iconst (pc := 60) C dX1_nameByte_60 ci_m1 ?_
      refine r_iret (pc := 61) C E rfl (by omega) (by omega) dX1_nameByte_61 ?_
      refine ⟨hP9, ?_, rfl⟩
      first
        | rw [show nt (nI k) = k from nt_n (by omega)]
        | rw [show nt (nI r) = r from nt_n (by omega)]
      rw [nm_y hfn hn6.2.1]
      first
        | rw [if_pos b96, nt_n (by omega), (hl i hi).1]
        | rw [if_neg b48]
    · skip
      have b48 := bI_n.mp b48
      have b96 := b48
      obtain ⟨i, hi, rfl⟩ := inZ_of (n := n) b48 (by omega)
      refine r_aload_4 (pc := 51) C dX1_nameByte_51 ?_
      refine r_iload_3 (pc := 53) C dX1_nameByte_53 ?_
      refine r_V1io (pc := 54) C (j_J10_charAt hz hSt (k := i) (by omega)) vl_X1_350 hSt.g (by decide) (by omega) (by omega) (Nat.le_of_ble_eq_true rfl) rfl dX1_nameByte_54 (fun u9 A9 hc9 => ?_)
      refine r_top hc9.1 ?_
      refine r_eqA hc9.2 ?_
      clear hc9 A9 u9
      refine r_goto (pc := 57) (tgt := 61) C dX1_nameByte_57 (by decide) ?_
      refine r_iret (pc := 61) C E rfl (by omega) (by omega) dX1_nameByte_61 ?_
      refine ⟨hP9, ?_, rfl⟩
      first
        | rw [show nt (nI k) = k from nt_n (by omega)]
        | rw [show nt (nI r) = r from nt_n (by omega)]
      rw [nm_y hfn hn6.2.1]
      first
        | rw [if_pos b96, nt_n (by omega), (hl i hi).1]
        | rw [if_neg b48]
set_option maxHeartbeats 4000000 in
theorem c_walkBalance {g : GZ} {A : HA} {c a : Nat} {d : Nat → Nat} {σ : Rw} (hc : (A.G c).1 = 1) (hn : A.R c 0 = some a) (hL : Ly A a d σ) (hv : Lv A.I a d σ) (hJ : RowJ σ)  : Ct g wI yX1_walkBalance (.code yX1_walkBalance cX1_walkBalance 4 (Option.some Jvm.ClassFile.FieldType.int)) 7 0 0 [.ref c] (A) (fun u A' => u = wbalA σ ∧ A' = A) fw_no := by
  refine Ct.of [some (.ref c), none, none, none] (by decide) rfl rfl fun z C hx hnm E => ?_
  have hW := hJ.w
  have hS := hW.s
  have hw3 := hS.w3
  have hw10 := hS.w10
  have hh8 := hS.h8
  have hc80 := hS.c80
  have k6 := hW.k6
  have g6 := hW.g6
  have hC : ∀ c, c < 80 → CelF σ c := fun c hc => (hJ.c hc).fe
  have d9 := hW.d9
  refine r_aload_0 (pc := 0) C dX1_walkBalance_0 ?_
  refine r_getR (pc := 1) C fl_X1_24_1 (by exact hc) rfl (by exact hn) dX1_walkBalance_1 ?_
  refine r_ngetR (pc := 4) C fn_X1_413_2 (ly_g hL) rfl (ly_rf hL 9 (by decide)) dX1_walkBalance_4 ?_
  refine r_iconst (pc := 7) C dX1_walkBalance_7 ci_0 ?_
  refine r_iald (pc := 8) C (ly_gf hL 9 (by decide)) rfl rfl (lt_eq (by omega) (ly_n9 hL)) (by omega) dX1_walkBalance_8 ?_
  refine r_top (hv.acc (i := 0) (by omega)) ?_
  refine r_istore_1 (pc := 9) C dX1_walkBalance_9 rfl ?_
  refine r_aload_0 (pc := 10) C dX1_walkBalance_10 ?_
  refine r_getR (pc := 11) C fl_X1_24_1 (by exact hc) rfl (by exact hn) dX1_walkBalance_11 ?_
  refine r_ngetR (pc := 14) C fn_X1_413_2 (ly_g hL) rfl (ly_rf hL 9 (by decide)) dX1_walkBalance_14 ?_
  refine r_iconst (pc := 17) C dX1_walkBalance_17 ci_1 ?_
  refine r_iald (pc := 18) C (ly_gf hL 9 (by decide)) rfl rfl (lt_eq (by omega) (ly_n9 hL)) (by omega) dX1_walkBalance_18 ?_
  refine r_top (hv.acc (i := 1) (by omega)) ?_
  refine r_istore_2 (pc := 19) C dX1_walkBalance_19 rfl ?_
  refine r_iconst (pc := 20) C dX1_walkBalance_20 ci_0 ?_
  refine r_istore_3 (pc := 21) C dX1_walkBalance_21 rfl ?_
  have lp22_1 : ∀ (fu : Nat) (k : Nat) (hk : k ≤ rK σ), rK σ - k < fu → wa g z 0 0 (A) 22 [some (.ref c), some (.int (σ (9 + 0) - sumI (fun k => σ (75 + 13 * k + 11)) k)), some (.int (σ (9 + 1) - sumI (fun k => σ (75 + 13 * k + 12)) k)), some (.int (nI (k)))] [] := by
    intro fu
    induction fu with
    | zero => intro k  hk hm22; exact absurd hm22 (Nat.not_lt_zero _)
    | succ fu ih22 =>
      intro k  hk hm22
      refine r_iload_3 (pc := 22) C dX1_walkBalance_22 ?_
      refine r_aload_0 (pc := 23) C dX1_walkBalance_23 ?_
      refine r_getR (pc := 24) C fl_X1_24_1 (by exact hc) rfl (by exact hn) dX1_walkBalance_24 ?_
      refine r_ngetR (pc := 27) C fn_X1_69_2 (ly_g hL) rfl (ly_r12 hL) dX1_walkBalance_27 ?_
      refine r_V0io (pc := 30) C (j_X3_size (ly_g12 hL) (ly_r20 hL) (ly_g20 hL) (hv.nk.trans hW.k)) vl_X1_174 (ly_g12 hL) (by decide) (by omega) (by omega) (Nat.le_of_ble_eq_true rfl) rfl dX1_walkBalance_30 (fun u2 A2 hc2 => ?_)
      refine r_top hc2.1 ?_
      refine r_eqA hc2.2 ?_
      clear hc2 A2 u2
      refine r_icmp_ge (pc := 33) (tgt := 70) C dX1_walkBalance_33 (by decide) (fun b33 => ?_) (fun b33 => ?_)
      · skip
        have b33 := (nI_le2 (by omega) (by omega)).mp b33
        refine r_iload_1 (pc := 70) C dX1_walkBalance_70 ?_
        refine r_abs (pc := 71) C q969 rfl (Nat.le_of_ble_eq_true rfl) (by decide) (by omega) (by omega) dX1_walkBalance_71 ?_
        refine r_iload_2 (pc := 74) C dX1_walkBalance_74 ?_
        refine r_abs (pc := 75) C q969 rfl (Nat.le_of_ble_eq_true rfl) (by decide) (by omega) (by omega) dX1_walkBalance_75 ?_
        refine r_iadd (pc := 78) C dX1_walkBalance_78 ?_
        refine r_iret (pc := 79) C E rfl (by omega) (by omega) dX1_walkBalance_79 ?_
        have e9 : k = rK σ := by omega
        subst e9
        exact ⟨rfl, rfl⟩
      · skip
        have b33 := (not_congr (nI_le2 (by omega) (by omega))).mp b33
        refine r_iload_1 (pc := 36) C dX1_walkBalance_36 ?_
        refine r_aload_0 (pc := 37) C dX1_walkBalance_37 ?_
        refine r_getR (pc := 38) C fl_X1_24_1 (by exact hc) rfl (by exact hn) dX1_walkBalance_38 ?_
        refine r_iload_3 (pc := 41) C dX1_walkBalance_41 ?_
        refine r_V1ro (pc := 42) C (l_walker hL hv hW (k := k) (by omega)) vl_X1_271 (ly_g hL) (by decide) (by omega) (by omega) (Nat.le_of_ble_eq_true rfl) rfl dX1_walkBalance_42 (fun u3 A3 hc3 => ?_)
        refine r_topR hc3.1 ?_
        refine r_eqA hc3.2 ?_
        clear hc3 A3 u3
        refine r_ngetI (pc := 45) C fn_X1_338_5 (ly_w hL (show k < rK σ by omega)).2 rfl dX1_walkBalance_45 ?_
        refine r_top (hv.wk (v := 11) (by omega) (by omega) (show k < rK σ by omega) (by omega)) ?_
        refine r_isub (pc := 48) C dX1_walkBalance_48 ?_
        refine r_istore_1 (pc := 49) C dX1_walkBalance_49 rfl ?_
        refine r_iload_2 (pc := 50) C dX1_walkBalance_50 ?_
        refine r_aload_0 (pc := 51) C dX1_walkBalance_51 ?_
        refine r_getR (pc := 52) C fl_X1_24_1 (by exact hc) rfl (by exact hn) dX1_walkBalance_52 ?_
        refine r_iload_3 (pc := 55) C dX1_walkBalance_55 ?_
        refine r_V1ro (pc := 56) C (l_walker hL hv hW (k := k) (by omega)) vl_X1_271 (ly_g hL) (by decide) (by omega) (by omega) (Nat.le_of_ble_eq_true rfl) rfl dX1_walkBalance_56 (fun u4 A4 hc4 => ?_)
        refine r_topR hc4.1 ?_
        refine r_eqA hc4.2 ?_
        clear hc4 A4 u4
        refine r_ngetI (pc := 59) C fn_X1_341_5 (ly_w hL (show k < rK σ by omega)).2 rfl dX1_walkBalance_59 ?_
        refine r_top (hv.wk (v := 12) (by omega) (by omega) (show k < rK σ by omega) (by omega)) ?_
        refine r_isub (pc := 62) C dX1_walkBalance_62 ?_
        refine r_istore_2 (pc := 63) C dX1_walkBalance_63 rfl ?_
        refine r_iinc_3 (pc := 64) C dX1_walkBalance_64 (nI_inc _) rfl ?_
        refine r_goto (pc := 67) (tgt := 22) C dX1_walkBalance_67 (by decide) ?_
        refine r_eqL (lv' := [some (.ref c), some (.int (σ (9 + 0) - sumI (fun k => σ (75 + 13 * k + 11)) (k + 1))), some (.int (σ (9 + 1) - sumI (fun k => σ (75 + 13 * k + 12)) (k + 1))), some (.int (nI (k + 1)))]) (by rw [← sum_s, ← sum_s]) ?_
        exact ih22 (k + 1) (by omega) (by omega)
  refine r_eqL (lv' := [some (.ref c), some (.int (σ (9 + 0) - sumI (fun k => σ (75 + 13 * k + 11)) 0)), some (.int (σ (9 + 1) - sumI (fun k => σ (75 + 13 * k + 12)) 0)), some (.int (nI 0))]) (by rw [← sum_0, ← sum_0]) ?_
  exact lp22_1 _ 0 (by omega) (Nat.lt_succ_self _)
set_option maxHeartbeats 4000000 in
theorem c_wayCell {g : GZ} {A : HA} {c a : Nat} {d : Nat → Nat} {σ : Rw} (hc : (A.G c).1 = 1) (hn : A.R c 0 = some a) (hL : Ly A a d σ) (hv : Lv A.I a d σ) (hJ : RowJ σ) (hG : GdK g) (hIc : IcK g A) {x y : Int32} : Ct g wI yX1_wayCell (.code yX1_wayCell cX1_wayCell 6 (Option.some Jvm.ClassFile.FieldType.int)) 10 3 12 [.ref c, .int x, .int y] (A) (fun u A' => inW σ x ∧ u = (if inZ y 0 (wl σ (nt x)) then nI (10 * (wy σ (nt x) (nt y) / rW σ) + wy σ (nt x) (nt y) % rW σ) else -1) ∧ Gs A A' d) (fun q A' => ¬ inW σ x ∧ TX A A' Non 20 q) := by
  refine Ct.of [some (.ref c), some (.int x), some (.int y), none, none, none] (by decide) rfl rfl fun z C hx hnm E => ?_
  have hW := hJ.w
  have hS := hW.s
  have hw3 := hS.w3
  have hw10 := hS.w10
  have hh8 := hS.h8
  have hc80 := hS.c80
  have k6 := hW.k6
  have g6 := hW.g6
  have hC : ∀ c, c < 80 → CelF σ c := fun c hc => (hJ.c hc).fe
  have d9 := hW.d9
  refine r_Z fun hZ => ?_
  have hcz := hZ.lt hc rfl
  refine r_iload_2 (pc := 0) C dX1_wayCell_0 ?_
  refine r_istore_3 (pc := 1) C dX1_wayCell_1 rfl ?_
  refine r_aload_0 (pc := 2) C dX1_wayCell_2 ?_
  refine r_getR (pc := 3) C fl_X1_24_1 (by exact hc) rfl (by exact hn) dX1_wayCell_3 ?_
  refine r_aload_0 (pc := 6) C dX1_wayCell_6 ?_
  refine r_iload_1 (pc := 7) C dX1_wayCell_7 ?_
  refine r_V1rx (pc := 8) C (c_walkerAt hc hn hL hv hJ) vl_X1_330 (by exact hc) (by decide) (by omega) (by omega) (Nat.le_of_ble_eq_true rfl) rfl dX1_wayCell_8 (fun q A9 hp hE => r_out C E (by rw [hx]; exact fun x h => nomatch h) hE.choose_spec (by omega) (by omega) (hp)) (fun u1 A1 hc1 => ?_)
  obtain ⟨hi1, eu1, eA1⟩ := hc1
  refine r_topR eu1 ?_
  refine r_eqA eA1 ?_
  clear eu1 eA1 A1 u1
  have b98 : inW σ x := by assumption
  have hkx : nt x < rK σ := by obtain ⟨k, hk, rfl⟩ := inZ_of (n := rK σ) b98 (by omega); rw [nt_n (by omega)]; exact hk
  refine r_V1r (pc := 11) C (l_way (k := (nt x)) hL hv hW hC hJ.g hG hkx) vl_X1_247 (ly_g hL) (by decide) (by omega) (by omega) (Nat.le_of_ble_eq_true rfl) rfl dX1_wayCell_11 (fun u2 A2 hc2 => ?_)
  obtain ⟨hWi, hFar, hGs1⟩ := hc2
  generalize A2 = B at hWi hFar hGs1 ⊢
  generalize u2 = p at hWi ⊢
  refine r_Z fun hZB => ?_
  have hLB := hGs1.ly hZ hL
  have hvB := hGs1.lv hZ hL hv
  have hIB := hGs1.ic hZ hL hIc
  refine r_F0r (pc := 14) C (j_iterator hLB hvB hJ hkx hWi) fi_X1_251_11 hWi.1 (by decide) (by omega) (by omega) (Nat.le_of_ble_eq_true rfl) rfl dX1_wayCell_14 (fun u3 A3 hc3 => ?_)
  obtain ⟨eu3, hIt0, hGn⟩ := hc3
  refine r_topR eu3 ?_
  clear eu3 u3
  generalize A3 = D at hIt0 hGn ⊢
  refine r_Z fun hZD => ?_
  have hLD := ly_gw hZB hLB hGn (fun _ _ q => q)
  have hvD := lv_gw hZB hLB hvB hGn (fun _ _ q => q)
  have hFD := hFar.gw hZB hLB hGn (fun q => q)
  have hID := hIB.gw hZB hGn (fun _ _ q => q.elim)
  have hG0 := hGs1.nx hGn (fun _ _ q => q)
  have hAB : A.z ≤ B.z := hGs1.1.1
  have hfs : ∀ y, Fp a d (rK σ) (rG σ) y → ¬ y = B.z := fun y hy e => by have h1 := fp_k hLD hy; rw [e, hIt0.1] at h1; omega
  have hwf := wy_facts hW hkx (hJ.y _ hkx)
  refine r_astore_4 (pc := 19) C dX1_wayCell_19 rfl ?_
  have lp21_4 : ∀ (fu : Nat) (i : Nat) (F : HA)  (hi : i ≤ wl σ (nt x) + 1) (hItE : It F (B.z) a d σ (nt x) i) (hGE : Gw D F (fun y => y = B.z)) (hno : ∀ j, j < i → y ≠ nI j), wl σ (nt x) + 1 - i < fu → wa g z 3 12 (F) 21 [some (.ref c), some (.int x), some (.int y), some (.int (y - nI i)), some (.ref (B.z)), none] [] := by
    intro fu
    induction fu with
    | zero => intro i  F  hi hItE hGE hno hm21; exact absurd hm21 (Nat.not_lt_zero _)
    | succ fu ih21 =>
      intro i  F  hi hItE hGE hno hm21
      have hLE := ly_gw hZD hLD hGE hfs
      have hvE := lv_gw hZD hLD hvD hGE hfs
      have hFE := hFD.gw hZD hLD hGE (hfs _ (Or.inr (Or.inl ⟨15, by decide, rfl⟩)))
      have hIE := hID.gw hZD hGE (fun y _ e => by rw [e, hIt0.1]; omega)
      have hGsE : Gs A F d := hG0.nx hGE (fun y hy q => by omega)
      refine r_aload_4 (pc := 21) C dX1_wayCell_21 ?_
      refine r_F0io (pc := 23) C (j_hasNext hItE) fi_X1_257_12 hItE.1 (by decide) (by omega) (by omega) (Nat.le_of_ble_eq_true rfl) rfl dX1_wayCell_23 (fun u5 A5 hc5 => ?_)
      refine r_top hc5.1 ?_
      refine r_eqA hc5.2 ?_
      clear hc5 A5 u5
      refine r_if_eq (pc := 28) (tgt := 63) C dX1_wayCell_28 (by decide) (fun b28 => ?_) (fun b28 => ?_)
      · skip
        have b28 := bI_0.mp b28
        refine r_iconst (pc := 63) C dX1_wayCell_63 ci_m1 ?_
        refine r_iret (pc := 64) C E rfl (by omega) (by omega) dX1_wayCell_64 ?_
        refine ⟨b98, ?_, hGsE⟩
        rw [if_neg (fun q => by obtain ⟨j, hj, e9⟩ := inZ_of2 (n := wl σ (nt x)) rfl q (by omega); exact hno j (by omega) e9)]
      · skip
        have b28 := bI_n.mp b28
        refine r_aload_4 (pc := 31) C dX1_wayCell_31 ?_
        refine r_F0ro (pc := 33) C (j_next hLE hvE hJ hkx hItE hIE hFE b28) fi_X1_263_12 hItE.1 (by decide) (by omega) (by omega) (Nat.le_of_ble_eq_true rfl) rfl dX1_wayCell_33 (fun u6 A6 hc6 => ?_)
        obtain ⟨hu1, hu2, hIt2, hGw2⟩ := hc6
        generalize A6 = E2 at hu1 hu2 hIt2 hGw2 ⊢
        generalize u6 = v at hu1 hu2 ⊢
        have hwi := hwf.1 i b28
        have hLE2 := ly_gw hZD hLD (hGE.tr hGw2) hfs
        have hvE2 := lv_gw hZD hLD hvD (hGE.tr hGw2) hfs
        have hGsE2 : Gs A E2 d := hG0.nx (hGE.tr hGw2) (fun y hy q => by omega)
        refine r_castS (pc := 38) C q1236 hu1 rfl rfl dX1_wayCell_38 ?_
        refine r_V0io (pc := 41) C (j_intValue hu1) vl_X1_268 hu1 (by decide) (by omega) (by omega) (Nat.le_of_ble_eq_true rfl) rfl dX1_wayCell_41 (fun u7 A7 hc7 => ?_)
        refine r_top (hc7.1.trans hu2) ?_
        refine r_eqA hc7.2 ?_
        clear hc7 A7 u7
        refine r_istore_5 (pc := 44) C dX1_wayCell_44 rfl ?_
        refine r_iload_3 (pc := 46) C dX1_wayCell_46 ?_
        refine r_if_ne (pc := 47) (tgt := 57) C dX1_wayCell_47 (by decide) (fun b47 => ?_) (fun b47 => ?_)
        · skip
          refine r_iinc_3 (pc := 57) C dX1_wayCell_57 (sub_next y i) rfl ?_
          refine r_goto (pc := 60) (tgt := 21) C dX1_wayCell_60 (by decide) ?_
          refine r_forget (lv' := [some _, some _, some _, some _, some _, none]) ⟨rfl, rfl, rfl, rfl, rfl, trivial⟩ ?_
          exact ih21 (i + 1) _  (by omega) hIt2 (hGE.tr hGw2) (fun j hj => if q9 : j = i then by rw [q9]; exact fun e => b47 (sub_z.mpr e) else hno j (by omega)) (by omega)
        · skip
          refine r_aload_0 (pc := 50) C dX1_wayCell_50 ?_
          refine r_iload_5 (pc := 51) C dX1_wayCell_51 ?_
          refine r_V1io (pc := 53) C (c_told (by rw [(hGsE2.1.2 c hcz).1]; exact hc) (by rw [hGsE2.2 c hcz]; exact hn) hLE2 hvE2 hJ (by omega)) vl_X1_389 (by rw [(hGsE2.1.2 c hcz).1]; exact hc) (by decide) (by omega) (by omega) (Nat.le_of_ble_eq_true rfl) rfl dX1_wayCell_53 (fun u8 A8 hc8 => ?_)
          refine r_top hc8.1 ?_
          refine r_eqA hc8.2 ?_
          clear hc8 A8 u8
          refine r_iret (pc := 56) C E rfl (by omega) (by omega) dX1_wayCell_56 ?_
          have e9 := sub_z.mp b47
          refine ⟨b98, ?_, hGsE2⟩
          rw [if_pos (show inZ y 0 (wl σ (nt x)) by rw [e9]; exact ⟨by rw [t_nI (by omega)]; omega, by rw [t_nI (by omega)]; omega⟩), show nt y = i by rw [e9]; exact nt_n (by omega)]
  refine r_eqL (lv' := [some (.ref c), some (.int x), some (.int y), some (.int (y - nI 0)), some (.ref B.z), none]) (by rw [← sub_0]) ?_
  exact lp21_4 _ 0 D  (Nat.zero_le _) hIt0 Gw.rf (fun j hj => absurd hj (Nat.not_lt_zero _)) (Nat.lt_succ_self _)
