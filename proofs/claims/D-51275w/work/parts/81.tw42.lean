/-! THE REFERENCE, 42: find -/
set_option maxRecDepth 100000
/-- the names' lengths -/
def NamL (σ : Rw) : Prop := (∀ r, r < rG σ → ∃ n, σ (21 + 9 * r) = nI n ∧ n ≤ 6) ∧ ∀ k, k < rK σ → ∃ n, σ (75 + 13 * k) = nI n ∧ n ≤ 6
/-- the thing whose name is the whole text -/
def fdR (σ : Rw) (B : Nat → Nat) (L : Nat) (q : Prop) [Decidable q] : Int32 := if skp B L 0 = 0 ∧ wln B L (skp B L 0) = L ∧ 0 < L then oI (hereR σ B q 0 L) else -1
set_option maxHeartbeats 4000000 in
theorem m_isNamedL {g : GZ} {A : HA} {t : Nat} {σ κ π τ : Nat → Int32} (hT : Tw A t) {a gb w e : Nat} {ep : Int32} {B : Nat → Nat} {L : Nat} (hB : BufI (A.I (t + 8)) B L) (hτL : τ 12 = nI L) {f n : Nat} (hfn : σ f = nI n) (hn6 : n ≤ 6) (hf : f + 7 < 552) (hg : gb + w ≤ L) (hg9 : gb ≤ 1000) : Ct g wI yX6_isNamed (.code yX6_isNamed cX6_isNamed 3 (Option.some Jvm.ClassFile.FieldType.boolean)) 2 0 0 [.ref t, .int (nI (f))] (S5 A t σ κ π (stT τ a gb w e ep)) (fun u A' => u = bI (nmB σ B f gb w = true) ∧ A' = S5 A t σ κ π (stT τ a gb w e ep)) fw_no := by
  refine Ct.of [some (.ref t), some (.int (nI (f))), none] (by decide) rfl rfl fun z C hx hnm E => ?_
  have hBl := hB.l
  have hw9 : w ≤ 900 := by omega
  refine r_aload_0 (pc := 0) C dX6_isNamed_0 ?_
  refine r_getR (pc := 1) C fl_X6_7_6 (tw_g hT) rfl (tw_r1 hT) dX6_isNamed_1 ?_
  refine r_iload_1 (pc := 4) C dX6_isNamed_4 ?_
  refine r_iald (pc := 5) C (tw_g1 hT) rfl rfl (lt_eq (by omega) (tw_n1 hT)) (by omega) dX6_isNamed_5 ?_
  refine r_top (congrFun (S5_1 _ _ _ _ _ _) _) ?_
  refine r_aload_0 (pc := 6) C dX6_isNamed_6 ?_
  refine r_getI (pc := 7) C fl_X6_201_6 (tw_g hT) rfl dX6_isNamed_7 ?_
  refine r_top (congrFun (S5_0 _ _ _ _ _ _) _) ?_
  refine r_top (st_15 _ _ _ _ _ _) ?_
  refine r_icmp_eq (pc := 10) (tgt := 15) C dX6_isNamed_10 (by decide) (fun b10 => ?_) (fun b10 => ?_)
  · skip
    have hwn : n = w := nI_inj (by omega) (by omega) (hfn.symm.trans b10)
    refine r_iconst (pc := 15) C dX6_isNamed_15 ci_0 ?_
    refine r_istore_2 (pc := 16) C dX6_isNamed_16 rfl ?_
    have lp17_1 : ∀ (fu : Nat) (k : Nat) (hk : k ≤ w) (hn : ∀ i, i < k → σ (f + 1 + i) = nI (B (gb + i))), w - k < fu → wa g z 0 0 (S5 A t σ κ π (stT τ a gb w e ep)) 17 [some (.ref t), some (.int (nI (f))), some (.int (nI (k)))] [] := by
      intro fu
      induction fu with
      | zero => intro k  hk hn hm17; exact absurd hm17 (Nat.not_lt_zero _)
      | succ fu ih17 =>
        intro k  hk hn hm17
        refine r_iload_2 (pc := 17) C dX6_isNamed_17 ?_
        refine r_aload_0 (pc := 18) C dX6_isNamed_18 ?_
        refine r_getI (pc := 19) C fl_X6_201_6 (tw_g hT) rfl dX6_isNamed_19 ?_
        refine r_top (congrFun (S5_0 _ _ _ _ _ _) _) ?_
        refine r_top (st_15 _ _ _ _ _ _) ?_
        refine r_icmp_ge (pc := 22) (tgt := 56) C dX6_isNamed_22 (by decide) (fun b22 => ?_) (fun b22 => ?_)
        · skip
          have b22 := (nI_le2 (by omega) (by omega)).mp b22
          refine r_iconst (pc := 56) C dX6_isNamed_56 ci_1 ?_
          refine r_iret (pc := 57) C E nar_1 (Nat.le_refl _) (Nat.le_refl _) dX6_isNamed_57 ?_
          exact ⟨bI_tt (nmB_t b10 (fun i hi => hn i (by omega))), rfl⟩
        · skip
          have b22 := (not_congr (nI_le2 (by omega) (by omega))).mp b22
          refine r_aload_0 (pc := 25) C dX6_isNamed_25 ?_
          refine r_getR (pc := 26) C fl_X6_7_6 (tw_g hT) rfl (tw_r1 hT) dX6_isNamed_26 ?_
          refine r_iload_1 (pc := 29) C dX6_isNamed_29 ?_
          refine r_iconst (pc := 30) C dX6_isNamed_30 ci_1 ?_
          refine r_iadd (pc := 31) C dX6_isNamed_31 ?_
          refine r_top (nI_add _ _) ?_
          refine r_iload_2 (pc := 32) C dX6_isNamed_32 ?_
          refine r_iadd (pc := 33) C dX6_isNamed_33 ?_
          refine r_top (nI_add _ _) ?_
          refine r_iald (pc := 34) C (tw_g1 hT) rfl rfl (lt_eq (by omega) (tw_n1 hT)) (by omega) dX6_isNamed_34 ?_
          refine r_top (congrFun (S5_1 _ _ _ _ _ _) _) ?_
          refine r_aload_0 (pc := 35) C dX6_isNamed_35 ?_
          refine r_aload_0 (pc := 36) C dX6_isNamed_36 ?_
          refine r_getI (pc := 37) C fl_X6_198_6 (tw_g hT) rfl dX6_isNamed_37 ?_
          refine r_top (congrFun (S5_0 _ _ _ _ _ _) _) ?_
          refine r_top (st_14 _ _ _ _ _ _) ?_
          refine r_iload_2 (pc := 40) C dX6_isNamed_40 ?_
          refine r_iadd (pc := 41) C dX6_isNamed_41 ?_
          refine r_top (nI_add _ _) ?_
          refine r_V1io (pc := 42) C (m_byteAt (by exact hT) hB (by first | exact hτL | exact (st_x _ _ _ _ _ _ (by omega)).trans hτL) (by omega)) vl_X6_195 (tw_g hT) (by decide) (Nat.le_refl _) (Nat.le_refl _) (Nat.le_of_ble_eq_true rfl) rfl dX6_isNamed_42 (fun u2 A2 hc2 => ?_)
          refine r_top hc2.1 ?_
          refine r_eqA hc2.2 ?_
          clear hc2 A2 u2
          refine r_top ((congrArg oI (btO_lt (by omega))).trans (oI_some _)) ?_
          refine r_icmp_eq (pc := 45) (tgt := 50) C dX6_isNamed_45 (by decide) (fun b45 => ?_) (fun b45 => ?_)
          · skip
            refine r_iinc_2 (pc := 50) C dX6_isNamed_50 (nI_inc _) rfl ?_
            refine r_goto (pc := 53) (tgt := 17) C dX6_isNamed_53 (by decide) ?_
            exact ih17 (k + 1) (by omega) (fun i hi => if q : i = k then by rw [q]; exact b45 else hn i (by omega)) (by omega)
          · skip
            refine r_iconst (pc := 48) C dX6_isNamed_48 ci_0 ?_
            refine r_iret (pc := 49) C E nar_0 (Nat.le_refl _) (Nat.le_refl _) dX6_isNamed_49 ?_
            exact ⟨bI_f9 (fun q => b45 ((nmB_iff.mp q).2 k (by omega))), rfl⟩
    exact lp17_1 _ 0 (by omega) (fun i h => absurd h (Nat.not_lt_zero _)) (Nat.lt_succ_self _)
  · skip
    refine r_iconst (pc := 13) C dX6_isNamed_13 ci_0 ?_
    refine r_iret (pc := 14) C E nar_0 (Nat.le_refl _) (Nat.le_refl _) dX6_isNamed_14 ?_
    exact ⟨bI_f9 (fun q => b10 (nmB_iff.mp q).1), rfl⟩
set_option maxHeartbeats 4000000 in
theorem m_gateHereL {g : GZ} {A : HA} {t : Nat} {σ κ π τ : Nat → Int32} (hT : Tw A t) {a gb w e : Nat} {ep : Int32} {B : Nat → Nat} {L : Nat} (hB : BufI (A.I (t + 8)) B L) (hτL : τ 12 = nI L) (hn0 : σ 0 = nI (rG σ)) (hn6 : rG σ ≤ 6) (hnL : NamL σ) (hg : gb + w ≤ L) (hg9 : gb ≤ 1000) : Ct g wI yX6_gateHere (.code yX6_gateHere cX6_gateHere 2 (Option.some Jvm.ClassFile.FieldType.int)) 3 0 0 [.ref t] (S5 A t σ κ π (stT τ a gb w e ep)) (fun u A' => u = oI (hereG σ B gb w) ∧ A' = S5 A t σ κ π (stT τ a gb w e ep)) fw_no := by
  refine Ct.of [some (.ref t), none] (by decide) rfl rfl fun z C hx hnm E => ?_
  have hBl := hB.l
  refine r_iconst (pc := 0) C dX6_gateHere_0 ci_0 ?_
  refine r_istore_1 (pc := 1) C dX6_gateHere_1 rfl ?_
  have lp2_1 : ∀ (fu : Nat) (r : Nat) (hr : r ≤ rG σ) (hf : firstB (fun r => nmB σ B (21 + 9 * r) gb w) r = none), rG σ - r < fu → wa g z 0 0 (S5 A t σ κ π (stT τ a gb w e ep)) 2 [some (.ref t), some (.int (nI (r)))] [] := by
    intro fu
    induction fu with
    | zero => intro r  hr hf hm2; exact absurd hm2 (Nat.not_lt_zero _)
    | succ fu ih2 =>
      intro r  hr hf hm2
      refine r_iload_1 (pc := 2) C dX6_gateHere_2 ?_
      refine r_aload_0 (pc := 3) C dX6_gateHere_3 ?_
      refine r_getR (pc := 4) C fl_X6_7_6 (tw_g hT) rfl (tw_r1 hT) dX6_gateHere_4 ?_
      refine r_iconst (pc := 7) C dX6_gateHere_7 ci_0 ?_
      refine r_iald (pc := 8) C (tw_g1 hT) rfl rfl (lt_eq (by omega) (tw_n1 hT)) (by omega) dX6_gateHere_8 ?_
      refine r_top (congrFun (S5_1 _ _ _ _ _ _) _) ?_
      refine r_top hn0 ?_
      refine r_icmp_ge (pc := 9) (tgt := 34) C dX6_gateHere_9 (by decide) (fun b9 => ?_) (fun b9 => ?_)
      · skip
        have b9 := (nI_le2 (by omega) (by omega)).mp b9
        refine r_iconst (pc := 34) C dX6_gateHere_34 ci_m1 ?_
        refine r_iret (pc := 35) C E rfl (Nat.le_refl _) (Nat.le_refl _) dX6_gateHere_35 ?_
        have e9 : r = rG σ := by omega
        subst e9
        exact ⟨by unfold hereG; rw [hf]; rfl, rfl⟩
      · skip
        have b9 := (not_congr (nI_le2 (by omega) (by omega))).mp b9
        obtain ⟨n9, hfn9, hn9⟩ := hnL.1 r (by omega)
        refine r_aload_0 (pc := 12) C dX6_gateHere_12 ?_
        refine r_bipush (pc := 13) C dX6_gateHere_13 cb_21 ?_
        refine r_bipush (pc := 15) C dX6_gateHere_15 cb_9 ?_
        refine r_iload_1 (pc := 17) C dX6_gateHere_17 ?_
        refine r_imul (pc := 18) C dX6_gateHere_18 ?_
        refine r_top (pk_mul _ _) ?_
        refine r_iadd (pc := 19) C dX6_gateHere_19 ?_
        refine r_top (nI_add _ _) ?_
        refine r_V1io (pc := 20) C (m_isNamedL (by exact hT) hB hτL hfn9 hn9 (by omega) hg hg9) vl_X6_227 (tw_g hT) (by decide) (Nat.le_refl _) (Nat.le_refl _) (Nat.le_of_ble_eq_true rfl) rfl dX6_gateHere_20 (fun u2 A2 hc2 => ?_)
        refine r_top hc2.1 ?_
        refine r_eqA hc2.2 ?_
        clear hc2 A2 u2
        refine r_if_eq (pc := 23) (tgt := 28) C dX6_gateHere_23 (by decide) (fun b23 => ?_) (fun b23 => ?_)
        · skip
          have b23 := bI_0.mp b23
          refine r_iinc_1 (pc := 28) C dX6_gateHere_28 (nI_inc _) rfl ?_
          refine r_goto (pc := 31) (tgt := 2) C dX6_gateHere_31 (by decide) ?_
          exact ih2 (r + 1) (by omega) (firstB_none hf b23) (by omega)
        · skip
          have b23 := bI_n.mp b23
          refine r_iload_1 (pc := 26) C dX6_gateHere_26 ?_
          refine r_iret (pc := 27) C E rfl (Nat.le_refl _) (Nat.le_refl _) dX6_gateHere_27 ?_
          exact ⟨by unfold hereG; rw [firstB_some hf b23 _ (by omega)]; rfl, rfl⟩
  exact lp2_1 _ 0 (by omega) rfl (Nat.lt_succ_self _)
set_option maxHeartbeats 4000000 in
theorem m_walkerHereL {g : GZ} {A : HA} {t : Nat} {σ κ π τ : Nat → Int32} (hT : Tw A t) {a gb w e : Nat} {ep : Int32} {B : Nat → Nat} {L : Nat} (hB : BufI (A.I (t + 8)) B L) (hτL : τ 12 = nI L) (hn0 : σ 1 = nI (rK σ)) (hn6 : rK σ ≤ 6) (hnL : NamL σ) (hg : gb + w ≤ L) (hg9 : gb ≤ 1000) : Ct g wI yX6_walkerHere (.code yX6_walkerHere cX6_walkerHere 2 (Option.some Jvm.ClassFile.FieldType.int)) 3 0 0 [.ref t] (S5 A t σ κ π (stT τ a gb w e ep)) (fun u A' => u = oI (hereW σ B gb w) ∧ A' = S5 A t σ κ π (stT τ a gb w e ep)) fw_no := by
  refine Ct.of [some (.ref t), none] (by decide) rfl rfl fun z C hx hnm E => ?_
  have hBl := hB.l
  refine r_iconst (pc := 0) C dX6_walkerHere_0 ci_0 ?_
  refine r_istore_1 (pc := 1) C dX6_walkerHere_1 rfl ?_
  have lp2_1 : ∀ (fu : Nat) (r : Nat) (hr : r ≤ rK σ) (hf : firstB (fun r => nmB σ B (75 + 13 * r) gb w) r = none), rK σ - r < fu → wa g z 0 0 (S5 A t σ κ π (stT τ a gb w e ep)) 2 [some (.ref t), some (.int (nI (r)))] [] := by
    intro fu
    induction fu with
    | zero => intro r  hr hf hm2; exact absurd hm2 (Nat.not_lt_zero _)
    | succ fu ih2 =>
      intro r  hr hf hm2
      refine r_iload_1 (pc := 2) C dX6_walkerHere_2 ?_
      refine r_aload_0 (pc := 3) C dX6_walkerHere_3 ?_
      refine r_getR (pc := 4) C fl_X6_7_6 (tw_g hT) rfl (tw_r1 hT) dX6_walkerHere_4 ?_
      refine r_iconst (pc := 7) C dX6_walkerHere_7 ci_1 ?_
      refine r_iald (pc := 8) C (tw_g1 hT) rfl rfl (lt_eq (by omega) (tw_n1 hT)) (by omega) dX6_walkerHere_8 ?_
      refine r_top (congrFun (S5_1 _ _ _ _ _ _) _) ?_
      refine r_top hn0 ?_
      refine r_icmp_ge (pc := 9) (tgt := 34) C dX6_walkerHere_9 (by decide) (fun b9 => ?_) (fun b9 => ?_)
      · skip
        have b9 := (nI_le2 (by omega) (by omega)).mp b9
        refine r_iconst (pc := 34) C dX6_walkerHere_34 ci_m1 ?_
        refine r_iret (pc := 35) C E rfl (Nat.le_refl _) (Nat.le_refl _) dX6_walkerHere_35 ?_
        have e9 : r = rK σ := by omega
        subst e9
        exact ⟨by unfold hereW; rw [hf]; rfl, rfl⟩
      · skip
        have b9 := (not_congr (nI_le2 (by omega) (by omega))).mp b9
        obtain ⟨n9, hfn9, hn9⟩ := hnL.2 r (by omega)
        refine r_aload_0 (pc := 12) C dX6_walkerHere_12 ?_
        refine r_bipush (pc := 13) C dX6_walkerHere_13 cb_75 ?_
        refine r_bipush (pc := 15) C dX6_walkerHere_15 cb_13 ?_
        refine r_iload_1 (pc := 17) C dX6_walkerHere_17 ?_
        refine r_imul (pc := 18) C dX6_walkerHere_18 ?_
        refine r_top (pk_mul _ _) ?_
        refine r_iadd (pc := 19) C dX6_walkerHere_19 ?_
        refine r_top (nI_add _ _) ?_
        refine r_V1io (pc := 20) C (m_isNamedL (by exact hT) hB hτL hfn9 hn9 (by omega) hg hg9) vl_X6_227 (tw_g hT) (by decide) (Nat.le_refl _) (Nat.le_refl _) (Nat.le_of_ble_eq_true rfl) rfl dX6_walkerHere_20 (fun u2 A2 hc2 => ?_)
        refine r_top hc2.1 ?_
        refine r_eqA hc2.2 ?_
        clear hc2 A2 u2
        refine r_if_eq (pc := 23) (tgt := 28) C dX6_walkerHere_23 (by decide) (fun b23 => ?_) (fun b23 => ?_)
        · skip
          have b23 := bI_0.mp b23
          refine r_iinc_1 (pc := 28) C dX6_walkerHere_28 (nI_inc _) rfl ?_
          refine r_goto (pc := 31) (tgt := 2) C dX6_walkerHere_31 (by decide) ?_
          exact ih2 (r + 1) (by omega) (firstB_none hf b23) (by omega)
        · skip
          have b23 := bI_n.mp b23
          refine r_iload_1 (pc := 26) C dX6_walkerHere_26 ?_
          refine r_iret (pc := 27) C E rfl (Nat.le_refl _) (Nat.le_refl _) dX6_walkerHere_27 ?_
          exact ⟨by unfold hereW; rw [firstB_some hf b23 _ (by omega)]; rfl, rfl⟩
  exact lp2_1 _ 0 (by omega) rfl (Nat.lt_succ_self _)
set_option maxHeartbeats 4000000 in
theorem m_thingHereL {g : GZ} {A : HA} {t : Nat} {σ κ π τ : Nat → Int32} (hT : Tw A t) {a gb w e : Nat} {ep : Int32} {B : Nat → Nat} {L : Nat} (hB : BufI (A.I (t + 8)) B L) (hτL : τ 12 = nI L) {q : Prop} [Decidable q] (hN : NumI σ) (hnL : NamL σ) (hg : gb + w ≤ L) (hg9 : gb ≤ 1000) : Ct g wI yX6_thingHere (.code yX6_thingHere cX6_thingHere 2 (Option.some Jvm.ClassFile.FieldType.int)) 4 0 0 [.ref t, .int (bI q)] (S5 A t σ κ π (stT τ a gb w e ep)) (fun u A' => u = oI (hereR σ B q gb w) ∧ A' = S5 A t σ κ π (stT τ a gb w e ep)) fw_no := by
  refine Ct.of [some (.ref t), some (.int (bI q))] (by decide) rfl rfl fun z C hx hnm E => ?_
  have hBl := hB.l
  refine r_iload_1 (pc := 0) C dX6_thingHere_0 ?_
  refine r_if_eq (pc := 1) (tgt := 11) C dX6_thingHere_1 (by decide) (fun b1 => ?_) (fun b1 => ?_)
  · skip
    have b1 := bI_0.mp b1
    refine r_aload_0 (pc := 11) C dX6_thingHere_11 ?_
    refine r_V0io (pc := 12) C (m_walkerHereL (by exact hT) hB hτL hN.2.1 hN.2.2 hnL (by omega) (by omega)) vl_X6_233 (tw_g hT) (by decide) (Nat.le_refl _) (Nat.le_refl _) (Nat.le_of_ble_eq_true rfl) rfl dX6_thingHere_12 (fun u1 A1 hc1 => ?_)
    refine r_top hc1.1 ?_
    refine r_eqA hc1.2 ?_
    clear hc1 A1 u1
    refine r_iret (pc := 15) C E rfl (Nat.le_refl _) (Nat.le_refl _) dX6_thingHere_15 ?_
    refine ⟨?_, rfl⟩
    unfold hereR
    first
      | rw [if_pos b1]
      | rw [if_neg b1]
  · skip
    have b1 := bI_n.mp b1
    refine r_aload_0 (pc := 4) C dX6_thingHere_4 ?_
    refine r_V0io (pc := 5) C (m_gateHereL (by exact hT) hB hτL hN.1.1 hN.1.2 hnL (by omega) (by omega)) vl_X6_230 (tw_g hT) (by decide) (Nat.le_refl _) (Nat.le_refl _) (Nat.le_of_ble_eq_true rfl) rfl dX6_thingHere_5 (fun u2 A2 hc2 => ?_)
    refine r_top hc2.1 ?_
    refine r_eqA hc2.2 ?_
    clear hc2 A2 u2
    refine r_goto (pc := 8) (tgt := 15) C dX6_thingHere_8 (by decide) ?_
    refine r_iret (pc := 15) C E rfl (Nat.le_refl _) (Nat.le_refl _) dX6_thingHere_15 ?_
    refine ⟨?_, rfl⟩
    unfold hereR
    first
      | rw [if_pos b1]
      | rw [if_neg b1]
set_option maxHeartbeats 4000000 in
theorem m_find {g : GZ} {A : HA} {t : Nat} {σ κ π τ : Nat → Int32} (hT : Tw A t) {a gb w e : Nat} {ep : Int32} {B : Nat → Nat} {L : Nat} (hB : BufI (A.I (t + 8)) B L) (hτL : τ 12 = nI L) {q : Prop} [Decidable q] (hN : NumI σ) (hnL : NamL σ) : Ct g wI yX6_find (.code yX6_find cX6_find 3 (Option.some Jvm.ClassFile.FieldType.int)) 5 0 0 [.ref t, .int (bI q)] (S5 A t σ κ π (stT τ a gb w e ep)) (fun u A' => u = fdR σ B L q ∧ A' = S5 A t σ κ π (stT (upd τ 6 (nI 0)) (skp B L 0) (skp B L 0) (wln B L (skp B L 0)) e ep)) fw_no := by
  refine Ct.of [some (.ref t), some (.int (bI q)), none] (by decide) rfl rfl fun z C hx hnm E => ?_
  have hBl := hB.l
  have hτ2 : upd τ 6 (nI 0) 12 = nI L := (pk_un (by omega)).trans hτL
  have hsk := skp_le (B := B) (L := L) (a := 0) (Nat.zero_le _)
  have hwl := @wln_le B L (skp B L 0)
  refine r_aload_0 (pc := 0) C dX6_find_0 ?_
  refine r_iconst (pc := 1) C dX6_find_1 ci_0 ?_
  refine r_putI (pc := 2) C fl_X6_61_6 (tw_g hT) rfl (fun _ _ _ h => by cases h; exact Or.inl rfl) rfl rfl rfl dX6_find_2 ?_
  refine r_eqA (S5_u0 _ _ _ _ _ _ _ _) ?_
  refine r_eqA (congrArg (S5 _ t _ _ _) (st_ux _ _ _ _ _ _ (by decide))) ?_
  refine r_eqA (A' := S5 A t σ κ π (stT (upd τ 6 (nI 0)) a gb w e ep)) rfl ?_
  refine r_aload_0 (pc := 5) C dX6_find_5 ?_
  refine r_iconst (pc := 6) C dX6_find_6 ci_0 ?_
  refine r_putI (pc := 7) C fl_X6_193_6 (tw_g hT) rfl (fun _ _ _ h => by cases h; exact Or.inl rfl) rfl rfl rfl dX6_find_7 ?_
  refine r_eqA (S5_u0 _ _ _ _ _ _ _ _) ?_
  refine r_eqA (congrArg (S5 _ t _ _ _) (st_u13 _ _ _ _ _ _ _)) ?_
  refine r_aload_0 (pc := 10) C dX6_find_10 ?_
  refine r_V0io (pc := 11) C (m_next (by exact hT) hB hτ2 (Nat.zero_le _)) vl_X6_214 (tw_g hT) (by decide) (Nat.le_refl _) (Nat.le_refl _) (Nat.le_of_ble_eq_true rfl) rfl dX6_find_11 (fun u1 A1 hc1 => ?_)
  refine r_top hc1.1 ?_
  refine r_eqA hc1.2 ?_
  clear hc1 A1 u1
  refine r_istore_2 (pc := 14) C dX6_find_14 rfl ?_
  refine r_aload_0 (pc := 15) C dX6_find_15 ?_
  refine r_getI (pc := 16) C fl_X6_198_6 (tw_g hT) rfl dX6_find_16 ?_
  refine r_top (congrFun (S5_0 _ _ _ _ _ _) _) ?_
  refine r_top (st_14 _ _ _ _ _ _) ?_
  refine r_if_ne (pc := 19) (tgt := 48) C dX6_find_19 (by decide) (fun b19 => ?_) (fun b19 => ?_)
  · skip
    have b19 := (not_congr (nI_eq0 (by omega))).mp b19
    refine r_iconst (pc := 48) C dX6_find_48 ci_m1 ?_
    refine r_iret (pc := 49) C E rfl (Nat.le_refl _) (Nat.le_refl _) dX6_find_49 ?_
    refine ⟨?_, rfl⟩
    unfold fdR
    first
      | (rw [if_pos ⟨b19, b30, by omega⟩, b30, b19])
      | (rw [if_neg (fun q => by omega)])
  · skip
    have b19 := (nI_eq0 (by omega)).mp b19
    refine r_aload_0 (pc := 22) C dX6_find_22 ?_
    refine r_getI (pc := 23) C fl_X6_201_6 (tw_g hT) rfl dX6_find_23 ?_
    refine r_top (congrFun (S5_0 _ _ _ _ _ _) _) ?_
    refine r_top (st_15 _ _ _ _ _ _) ?_
    refine r_aload_0 (pc := 26) C dX6_find_26 ?_
    refine r_getI (pc := 27) C fl_X6_56_6 (tw_g hT) rfl dX6_find_27 ?_
    refine r_top (congrFun (S5_0 _ _ _ _ _ _) _) ?_
    refine r_top ((st_x _ _ _ _ _ _ (by omega)).trans hτ2) ?_
    refine r_icmp_ne (pc := 30) (tgt := 48) C dX6_find_30 (by decide) (fun b30 => ?_) (fun b30 => ?_)
    · skip
      have b30 := (not_congr (nI_eqI (by omega) (by omega))).mp b30
      refine r_iconst (pc := 48) C dX6_find_48 ci_m1 ?_
      refine r_iret (pc := 49) C E rfl (Nat.le_refl _) (Nat.le_refl _) dX6_find_49 ?_
      refine ⟨?_, rfl⟩
      unfold fdR
      first
        | (rw [if_pos ⟨b19, b30, by omega⟩, b30, b19])
        | (rw [if_neg (fun q => by omega)])
    · skip
      have b30 := (nI_eqI (by omega) (by omega)).mp b30
      refine r_aload_0 (pc := 33) C dX6_find_33 ?_
      refine r_getI (pc := 34) C fl_X6_56_6 (tw_g hT) rfl dX6_find_34 ?_
      refine r_top (congrFun (S5_0 _ _ _ _ _ _) _) ?_
      refine r_top ((st_x _ _ _ _ _ _ (by omega)).trans hτ2) ?_
      refine r_if_le (pc := 37) (tgt := 48) C dX6_find_37 (by decide) (fun b37 => ?_) (fun b37 => ?_)
      · skip
        have b37 := (nI_le0 (by omega)).mp b37
        refine r_iconst (pc := 48) C dX6_find_48 ci_m1 ?_
        refine r_iret (pc := 49) C E rfl (Nat.le_refl _) (Nat.le_refl _) dX6_find_49 ?_
        refine ⟨?_, rfl⟩
        unfold fdR
        first
          | (rw [if_pos ⟨b19, b30, by omega⟩, b30, b19])
          | (rw [if_neg (fun q => by omega)])
      · skip
        have b37 := (not_congr (nI_le0 (by omega))).mp b37
        refine r_aload_0 (pc := 40) C dX6_find_40 ?_
        refine r_iload_1 (pc := 41) C dX6_find_41 ?_
        refine r_V1io (pc := 42) C (m_thingHereL (by exact hT) hB hτ2 hN hnL (by omega) (by omega)) vl_X6_239 (tw_g hT) (by decide) (Nat.le_refl _) (Nat.le_refl _) (Nat.le_of_ble_eq_true rfl) rfl dX6_find_42 (fun u2 A2 hc2 => ?_)
        refine r_top hc2.1 ?_
        refine r_eqA hc2.2 ?_
        clear hc2 A2 u2
        refine r_goto (pc := 45) (tgt := 49) C dX6_find_45 (by decide) ?_
        refine r_iret (pc := 49) C E rfl (Nat.le_refl _) (Nat.le_refl _) dX6_find_49 ?_
        refine ⟨?_, rfl⟩
        unfold fdR
        first
          | (rw [if_pos ⟨b19, b30, by omega⟩, b30, b19])
          | (rw [if_neg (fun q => by omega)])
