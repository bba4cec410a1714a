/-! THE REFERENCE, 33: lines of a description, 2 -/
set_option maxRecDepth 100000
def grasS (σ : Rw) (B : Nat → Nat) (L : Nat) (s : TS) : TS := numS B L 0 9 (freeS σ B L (goesS s))
def grasW (σ : Rw) (B : Nat → Nat) (L : Nat) (s : TS) : Rw := if (grasS σ B L s).e = 0 then upd σ (153 + 5 * cellN σ B L (goesS s) + 1) (nI (numN B L 0 9 (freeS σ B L (goesS s)))) else σ
def stonS (σ : Rw) (B : Nat → Nat) (L : Nat) (s : TS) : TS := freeS σ B L (goesS s)
def stonW (σ : Rw) (B : Nat → Nat) (L : Nat) (s : TS) : Rw := if (stonS σ B L s).e = 0 then stoneR σ (cellN σ B L (goesS s)) else σ
theorem RowW.f2 {σ : Rw} (h : RowW σ) {m : Nat} (hm : m ≤ 10) : RowW (upd σ 2 (nI m)) := by
  have g6 := h.g6
  have k6 := h.k6
  have e : ∀ j, j ≠ 2 → upd σ 2 (nI m) j = σ j := fun j hj => pk_un hj
  have w1 : rW (upd σ 2 (nI m)) = rW σ := congrArg Int32.toNatClampNeg (e 4 (by omega))
  have w2 : rH (upd σ 2 (nI m)) = rH σ := congrArg Int32.toNatClampNeg (e 5 (by omega))
  have w3 : rG (upd σ 2 (nI m)) = rG σ := congrArg Int32.toNatClampNeg (e 0 (by omega))
  have w4 : rK (upd σ 2 (nI m)) = rK σ := congrArg Int32.toNatClampNeg (e 1 (by omega))
  have w5 : rD (upd σ 2 (nI m)) = rD σ := congrArg Int32.toNatClampNeg (e 3 (by omega))
  have w6 : rGr (upd σ 2 (nI m)) = rGr σ := congrArg Int32.toNatClampNeg (e 6 (by omega))
  have w7 : rWt (upd σ 2 (nI m)) = rWt σ := congrArg Int32.toNatClampNeg (e 7 (by omega))
  have w8 : rF (upd σ 2 (nI m)) = m := by unfold rF; rw [pk_us]; exact nI_nat (by omega)
  refine ⟨⟨by rw [w1, e 4 (by omega)]; exact h.1.1, by rw [w2, e 5 (by omega)]; exact h.1.2⟩, by rw [w3, e 0 (by omega)]; exact h.2.1, by rw [w4, e 1 (by omega)]; exact h.2.2.1, by rw [w5, e 3 (by omega)]; exact h.2.2.2.1, by rw [w6, e 6 (by omega)]; exact h.2.2.2.2.1,
    by rw [w7, e 7 (by omega)]; exact h.2.2.2.2.2.1, by rw [w8, pk_us]; exact ⟨rfl, hm⟩, fun r hr => ?_, fun k hk => ?_, fun c hc => ?_⟩
  · rw [w3] at hr
    have h1 := h.G hr
    have x1 : gX (upd σ 2 (nI m)) r = gX σ r := congrArg Int32.toNatClampNeg (e _ (by omega))
    have x2 : gY (upd σ 2 (nI m)) r = gY σ r := congrArg Int32.toNatClampNeg (e _ (by omega))
    unfold RowG
    rw [x1, x2, w1, w2, e _ (show 21 + 9 * r + 7 ≠ 2 by omega), e _ (show 21 + 9 * r + 8 ≠ 2 by omega)]
    exact h1
  · rw [w4] at hk
    have h1 := h.K hk
    have x1 : wFr (upd σ 2 (nI m)) k = wFr σ k := congrArg Int32.toNatClampNeg (e _ (by omega))
    have x2 : wTo (upd σ 2 (nI m)) k = wTo σ k := congrArg Int32.toNatClampNeg (e _ (by omega))
    have x3 : wHs (upd σ 2 (nI m)) k = wHs σ k := congrArg Int32.toNatClampNeg (e _ (by omega))
    have x4 : wPd (upd σ 2 (nI m)) k = wPd σ k := congrArg Int32.toNatClampNeg (e _ (by omega))
    unfold RowK
    rw [x1, x2, x3, x4, w3, e _ (show 75 + 13 * k + 7 ≠ 2 by omega), e _ (show 75 + 13 * k + 8 ≠ 2 by omega), e _ (show 75 + 13 * k + 9 ≠ 2 by omega), e _ (show 75 + 13 * k + 10 ≠ 2 by omega)]
    exact h1
  · have x1 : cGr (upd σ 2 (nI m)) c = cGr σ c := congrArg Int32.toNatClampNeg (e _ (by omega))
    rw [x1, e _ (by omega)]
    exact ⟨h.c hc, h.c9 hc⟩
/-- a fence's line -/
def fen0 (σ : Rw) (s : TS) : TS := mustS (rF σ < 10) 4 s
def fenT (σ : Rw) (B : Nat → Nat) (L : Nat) (s : TS) : TS := freeS σ B L (goesS (fen0 σ s))
noncomputable def fenW (σ : Rw) (B : Nat → Nat) (L : Nat) (s : TS) : Rw := if (fen0 σ s).e = 0 then (if (fenT σ B L s).e = 0 then fen2 σ (cellN σ B L (goesS (fen0 σ s))) else σ) else σ
noncomputable def fenS (σ : Rw) (B : Nat → Nat) (L : Nat) (s : TS) : TS := if (fen0 σ s).e = 0 then (if (fenT σ B L s).e = 0 then mustS (ways (fen2 σ (cellN σ B L (goesS (fen0 σ s))))) 3 (fenT σ B L s) else fenT σ B L s) else fen0 σ s
theorem fen2_w {σ : Rw} (h : RowW σ) {c : Nat} (hf : rF σ < 10) : RowW (fen2 σ c) := by
  have e : fenceOn σ c 2 = nI (rF σ) := (pk_un (by omega)).trans h.f
  unfold fen2
  rw [e, nI_add]
  exact h.fenceOn.f2 (by omega)
theorem fen0_f {σ : Rw} {s : TS} {L : Nat} (h : (fen0 σ s).e = 0) (_ : TOk L s) : rF σ < 10 := by
  unfold fen0 mustS at h
  split at h
  · rename_i q
    exact q.elim id (fun q => absurd h q)
  · cases h
set_option maxHeartbeats 4000000 in
theorem m_grassLine {g : GZ} {A : HA} {t : Nat} {σ κ π τ : Nat → Int32} (hT : Tw A t) {s : TS} {B : Nat → Nat} {L : Nat} (hB : BufI (A.I (t + 8)) B L) (hτL : τ 12 = nI L) (ht : TOk L s) (hS : RowS σ) : Ct g wV yX6_grassLine (.code yX6_grassLine cX6_grassLine 3 (Option.none : Option Jvm.ClassFile.FieldType)) 6 0 0 [.ref t] (S5 A t σ κ π (stS τ s)) (fun u A' => A' = S5 A t (grasW σ B L s) κ π (stS τ (grasS σ B L s))) fw_no := by
  refine Ct.of [some (.ref t), none, none] (by decide) rfl rfl fun z C hx hnm E => ?_
  have hBl := hB.l
  have ha := ht.a
  have he := ht.e
  have hc80 := hS.c80
  have hcl := cellN_lt (B := B) (L := L) (s := goesS s) hS
  refine r_aload_0 (pc := 0) C dX6_grassLine_0 ?_
  refine r_V0vo (pc := 1) C (s_goes (by exact hT) hB hτL ht) vl_X6_242 (tw_g hT) (by decide) (Nat.le_refl _) (Nat.le_refl _) (Nat.le_of_ble_eq_true rfl) rfl dX6_grassLine_1 (fun u1 A1 hc1 => ?_)
  refine r_eqA hc1 ?_
  clear hc1 A1 u1
  refine r_aload_0 (pc := 4) C dX6_grassLine_4 ?_
  refine r_V0io (pc := 5) C (m_freeCellHere (by exact hT) hB hτL (goesS_ok ht) hS) vl_X6_267 (tw_g hT) (by decide) (Nat.le_refl _) (Nat.le_refl _) (Nat.le_of_ble_eq_true rfl) rfl dX6_grassLine_5 (fun u2 A2 hc2 => ?_)
  refine r_top hc2.1 ?_
  refine r_eqA hc2.2 ?_
  clear hc2 A2 u2
  refine r_istore_1 (pc := 8) C dX6_grassLine_8 rfl ?_
  refine r_aload_0 (pc := 9) C dX6_grassLine_9 ?_
  refine r_iconst (pc := 10) C dX6_grassLine_10 ci_0 ?_
  refine r_bipush (pc := 11) C dX6_grassLine_11 cb_9 ?_
  refine r_V2io (pc := 13) C (s_number (by exact hT) hB hτL (freeS_ok (goesS_ok ht)) (lo := 0) (hi := 9) (by omega) (by omega)) vl_X6_254 (tw_g hT) (by decide) (Nat.le_refl _) (Nat.le_refl _) (Nat.le_of_ble_eq_true rfl) rfl dX6_grassLine_13 (fun u3 A3 hc3 => ?_)
  refine r_top hc3.1 ?_
  refine r_eqA hc3.2 ?_
  clear hc3 A3 u3
  refine r_istore_2 (pc := 16) C dX6_grassLine_16 rfl ?_
  refine r_aload_0 (pc := 17) C dX6_grassLine_17 ?_
  refine r_getI (pc := 18) C fl_X6_208_6 (tw_g hT) rfl dX6_grassLine_18 ?_
  refine r_top (congrFun (S5_0 _ _ _ _ _ _) _) ?_
  refine r_top (st_16 _ _ _ _ _ _) ?_
  have hge := (numS_ok (B := B) (lo := 0) (hi := 9) (freeS_ok (σ := σ) (B := B) (goesS_ok ht))).e
  refine r_top (rfl : nI _ = nI (grasS σ B L s).e) ?_
  have hge : (grasS σ B L s).e ≤ 4 := hge
  refine r_if_ne (pc := 21) (tgt := 31) C dX6_grassLine_21 (by decide) (fun b21 => ?_) (fun b21 => ?_)
  · skip
    have b21 := (not_congr (nI_eq0 (by omega))).mp b21
    refine r_vret (pc := 31) C E (Nat.le_refl _) (Nat.le_refl _) dX6_grassLine_31 ?_
    unfold grasW
    first
      | (rw [if_neg b21]; rfl)
      | (rw [if_pos b21]; rfl)
  · skip
    have b21 := (nI_eq0 (by omega)).mp b21
    refine r_aload_0 (pc := 24) C dX6_grassLine_24 ?_
    refine r_iload_1 (pc := 25) C dX6_grassLine_25 ?_
    refine r_iconst (pc := 26) C dX6_grassLine_26 ci_1 ?_
    refine r_iload_2 (pc := 27) C dX6_grassLine_27 ?_
    refine r_V3vo (pc := 28) C (m_putsCell (by exact hT) (S5_1 _ _ _ _ _ _)) vl_X6_139 (tw_g hT) (by decide) (Nat.le_refl _) (Nat.le_refl _) (Nat.le_of_ble_eq_true rfl) rfl dX6_grassLine_28 (fun u4 A4 hc4 => ?_)
    refine r_eqA hc4 ?_
    clear hc4 A4 u4
    refine r_eqA (S5_w1 _ _ _ _ _ _ _) ?_
    refine r_vret (pc := 31) C E (Nat.le_refl _) (Nat.le_refl _) dX6_grassLine_31 ?_
    unfold grasW
    first
      | (rw [if_neg b21]; rfl)
      | (rw [if_pos b21]; rfl)
set_option maxHeartbeats 4000000 in
theorem m_stoneLine {g : GZ} {A : HA} {t : Nat} {σ κ π τ : Nat → Int32} (hT : Tw A t) {s : TS} {B : Nat → Nat} {L : Nat} (hB : BufI (A.I (t + 8)) B L) (hτL : τ 12 = nI L) (ht : TOk L s) (hS : RowS σ) : Ct g wV yX6_stoneLine (.code yX6_stoneLine cX6_stoneLine 2 (Option.none : Option Jvm.ClassFile.FieldType)) 6 0 0 [.ref t] (S5 A t σ κ π (stS τ s)) (fun u A' => A' = S5 A t (stonW σ B L s) κ π (stS τ (stonS σ B L s))) fw_no := by
  refine Ct.of [some (.ref t), none] (by decide) rfl rfl fun z C hx hnm E => ?_
  have hBl := hB.l
  have ha := ht.a
  have he := ht.e
  have hc80 := hS.c80
  have hcl := cellN_lt (B := B) (L := L) (s := goesS s) hS
  refine r_aload_0 (pc := 0) C dX6_stoneLine_0 ?_
  refine r_V0vo (pc := 1) C (s_goes (by exact hT) hB hτL ht) vl_X6_242 (tw_g hT) (by decide) (Nat.le_refl _) (Nat.le_refl _) (Nat.le_of_ble_eq_true rfl) rfl dX6_stoneLine_1 (fun u1 A1 hc1 => ?_)
  refine r_eqA hc1 ?_
  clear hc1 A1 u1
  refine r_aload_0 (pc := 4) C dX6_stoneLine_4 ?_
  refine r_V0io (pc := 5) C (m_freeCellHere (by exact hT) hB hτL (goesS_ok ht) hS) vl_X6_267 (tw_g hT) (by decide) (Nat.le_refl _) (Nat.le_refl _) (Nat.le_of_ble_eq_true rfl) rfl dX6_stoneLine_5 (fun u2 A2 hc2 => ?_)
  refine r_top hc2.1 ?_
  refine r_eqA hc2.2 ?_
  clear hc2 A2 u2
  refine r_istore_1 (pc := 8) C dX6_stoneLine_8 rfl ?_
  refine r_aload_0 (pc := 9) C dX6_stoneLine_9 ?_
  refine r_getI (pc := 10) C fl_X6_208_6 (tw_g hT) rfl dX6_stoneLine_10 ?_
  refine r_top (congrFun (S5_0 _ _ _ _ _ _) _) ?_
  refine r_top (st_16 _ _ _ _ _ _) ?_
  have hge := (freeS_ok (σ := σ) (B := B) (goesS_ok ht)).e
  refine r_top (rfl : nI _ = nI (stonS σ B L s).e) ?_
  have hge : (stonS σ B L s).e ≤ 4 := hge
  refine r_if_ne (pc := 13) (tgt := 21) C dX6_stoneLine_13 (by decide) (fun b13 => ?_) (fun b13 => ?_)
  · skip
    have b13 := (not_congr (nI_eq0 (by omega))).mp b13
    refine r_vret (pc := 21) C E (Nat.le_refl _) (Nat.le_refl _) dX6_stoneLine_21 ?_
    unfold stonW
    first
      | (rw [if_neg b13]; rfl)
      | (rw [if_pos b13]; rfl)
  · skip
    have b13 := (nI_eq0 (by omega)).mp b13
    refine r_aload_0 (pc := 16) C dX6_stoneLine_16 ?_
    refine r_iload_1 (pc := 17) C dX6_stoneLine_17 ?_
    refine r_V1vo (pc := 18) C (m_becomesStone (by exact hT) (by omega)) vl_X6_180 (tw_g hT) (by decide) (Nat.le_refl _) (Nat.le_refl _) (Nat.le_of_ble_eq_true rfl) rfl dX6_stoneLine_18 (fun u3 A3 hc3 => ?_)
    refine r_eqA hc3 ?_
    clear hc3 A3 u3
    refine r_vret (pc := 21) C E (Nat.le_refl _) (Nat.le_refl _) dX6_stoneLine_21 ?_
    unfold stonW
    first
      | (rw [if_neg b13]; rfl)
      | (rw [if_pos b13]; rfl)
set_option maxHeartbeats 4000000 in
theorem m_fenceLine {g : GZ} {A : HA} {t : Nat} {σ κ π τ : Nat → Int32} (hT : Tw A t) {s : TS} {B : Nat → Nat} {L : Nat} (hB : BufI (A.I (t + 8)) B L) (hτL : τ 12 = nI L) (ht : TOk L s) (hW : RowW σ) : Ct g wV yX6_fenceLine (.code yX6_fenceLine cX6_fenceLine 2 (Option.none : Option Jvm.ClassFile.FieldType)) 7 0 0 [.ref t] (S5 A t σ κ π (stS τ s)) (fun u A' => ∃ κ', A' = S5 A t (fenW σ B L s) κ' π (stS τ (fenS σ B L s))) fw_no := by
  refine Ct.of [some (.ref t), none] (by decide) rfl rfl fun z C hx hnm E => ?_
  have hBl := hB.l
  have ha := ht.a
  have he := ht.e
  have hS := hW.s
  have hc80 := hS.c80
  have hf10 := hW.f10
  have hcl := cellN_lt (B := B) (L := L) (s := goesS (fen0 σ s)) hS
  have ht0 : TOk L (fen0 σ s) := mustS_ok ht (by omega) (by omega)
  have he0 := ht0.e
  have htT : TOk L (fenT σ B L s) := freeS_ok (goesS_ok ht0)
  have heT := htT.e
  refine r_aload_0 (pc := 0) C dX6_fenceLine_0 ?_
  refine r_aload_0 (pc := 1) C dX6_fenceLine_1 ?_
  refine r_getR (pc := 2) C fl_X6_7_6 (tw_g hT) rfl (tw_r1 hT) dX6_fenceLine_2 ?_
  refine r_iconst (pc := 5) C dX6_fenceLine_5 ci_2 ?_
  refine r_iald (pc := 6) C (tw_g1 hT) rfl rfl (lt_eq (by omega) (tw_n1 hT)) (by omega) dX6_fenceLine_6 ?_
  refine r_top (congrFun (S5_1 _ _ _ _ _ _) _) ?_
  refine r_top hW.f ?_
  refine r_bipush (pc := 7) C dX6_fenceLine_7 cb_10 ?_
  refine r_icmp_ge (pc := 9) (tgt := 16) C dX6_fenceLine_9 (by decide) (fun b9 => ?_) (fun b9 => ?_)
  · skip
    have b9 := (nI_le2 (by omega) (by omega)).mp b9
    refine r_iconst (pc := 16) C dX6_fenceLine_16 ci_0 ?_
    refine r_iconst (pc := 17) C dX6_fenceLine_17 ci_4 ?_
    refine r_V2vo (pc := 18) C (s_must0 (by exact hT) hB hτL ht (rF σ < 10) (by omega)) vl_X6_217 (tw_g hT) (by decide) (Nat.le_refl _) (Nat.le_refl _) (Nat.le_of_ble_eq_true rfl) rfl dX6_fenceLine_18 (fun u1 A1 hc1 => ?_)
    refine r_eqA (A' := S5 A t σ κ π (stS τ (fen0 σ s))) hc1 ?_
    clear hc1 A1 u1
    refine r_aload_0 (pc := 21) C dX6_fenceLine_21 ?_
    refine r_getI (pc := 22) C fl_X6_208_6 (tw_g hT) rfl dX6_fenceLine_22 ?_
    refine r_top (congrFun (S5_0 _ _ _ _ _ _) _) ?_
    refine r_top (st_16 _ _ _ _ _ _) ?_
    refine r_top (rfl : nI _ = nI (fen0 σ s).e) ?_
    refine r_if_eq (pc := 25) (tgt := 29) C dX6_fenceLine_25 (by decide) (fun b25 => ?_) (fun b25 => ?_)
    · skip
      have b25 := (nI_eq0 (by omega)).mp b25
      refine r_aload_0 (pc := 29) C dX6_fenceLine_29 ?_
      refine r_V0vo (pc := 30) C (s_goes (by exact hT) hB hτL ht0) vl_X6_242 (tw_g hT) (by decide) (Nat.le_refl _) (Nat.le_refl _) (Nat.le_of_ble_eq_true rfl) rfl dX6_fenceLine_30 (fun u2 A2 hc2 => ?_)
      refine r_eqA hc2 ?_
      clear hc2 A2 u2
      refine r_aload_0 (pc := 33) C dX6_fenceLine_33 ?_
      refine r_V0io (pc := 34) C (m_freeCellHere (by exact hT) hB hτL (goesS_ok ht0) hS) vl_X6_267 (tw_g hT) (by decide) (Nat.le_refl _) (Nat.le_refl _) (Nat.le_of_ble_eq_true rfl) rfl dX6_fenceLine_34 (fun u3 A3 hc3 => ?_)
      refine r_top hc3.1 ?_
      refine r_eqA (A' := S5 A t σ κ π (stS τ (fenT σ B L s))) hc3.2 ?_
      clear hc3 A3 u3
      refine r_istore_1 (pc := 37) C dX6_fenceLine_37 rfl ?_
      refine r_aload_0 (pc := 38) C dX6_fenceLine_38 ?_
      refine r_getI (pc := 39) C fl_X6_208_6 (tw_g hT) rfl dX6_fenceLine_39 ?_
      refine r_top (congrFun (S5_0 _ _ _ _ _ _) _) ?_
      refine r_top (st_16 _ _ _ _ _ _) ?_
      refine r_top (rfl : nI _ = nI (fenT σ B L s).e) ?_
      refine r_if_eq (pc := 42) (tgt := 46) C dX6_fenceLine_42 (by decide) (fun b42 => ?_) (fun b42 => ?_)
      · skip
        have b42 := (nI_eq0 (by omega)).mp b42
        refine r_aload_0 (pc := 46) C dX6_fenceLine_46 ?_
        refine r_iload_1 (pc := 47) C dX6_fenceLine_47 ?_
        refine r_iconst (pc := 48) C dX6_fenceLine_48 ci_2 ?_
        refine r_iconst (pc := 49) C dX6_fenceLine_49 ci_1 ?_
        refine r_V3vo (pc := 50) C (m_putsCell (by exact hT) (S5_1 _ _ _ _ _ _)) vl_X6_139 (tw_g hT) (by decide) (Nat.le_refl _) (Nat.le_refl _) (Nat.le_of_ble_eq_true rfl) rfl dX6_fenceLine_50 (fun u4 A4 hc4 => ?_)
        refine r_eqA hc4 ?_
        clear hc4 A4 u4
        refine r_eqA (S5_w1 _ _ _ _ _ _ _) ?_
        refine r_aload_0 (pc := 53) C dX6_fenceLine_53 ?_
        refine r_getR (pc := 54) C fl_X6_7_6 (tw_g hT) rfl (tw_r1 hT) dX6_fenceLine_54 ?_
        refine r_iconst (pc := 57) C dX6_fenceLine_57 ci_2 ?_
        refine r_dup2 (pc := 58) C dX6_fenceLine_58 rfl rfl ?_
        refine r_iald (pc := 59) C (tw_g1 hT) rfl rfl (lt_eq (by omega) (tw_n1 hT)) (by omega) dX6_fenceLine_59 ?_
        refine r_top (congrFun (S5_1 _ _ _ _ _ _) _) ?_
        refine r_iconst (pc := 60) C dX6_fenceLine_60 ci_1 ?_
        refine r_iadd (pc := 61) C dX6_fenceLine_61 ?_
        refine r_iast (pc := 62) C (tw_g1 hT) rfl rfl (lt_eq (by omega) (tw_n1 hT)) (by omega) dX6_fenceLine_62 ?_
        refine r_eqA (S5_u1 _ _ _ _ _ _ _ _) ?_
        refine r_aload_0 (pc := 63) C dX6_fenceLine_63 ?_
        refine r_aload_0 (pc := 64) C dX6_fenceLine_64 ?_
        refine r_V0io (pc := 65) C (m_areWays (σ := fen2 σ (cellN σ B L (goesS (fen0 σ s)))) (by exact hT) (fen2_w hW (fen0_f b25 ht))) vl_X6_173 (tw_g hT) (by decide) (Nat.le_refl _) (Nat.le_refl _) (Nat.le_of_ble_eq_true rfl) rfl dX6_fenceLine_65 (fun u5 A5 hc5 => ?_)
        obtain ⟨κL5, eA5, eu5⟩ := hc5
        refine r_top eu5 ?_
        refine r_eqA eA5 ?_
        clear eu5 eA5 A5 u5
        refine r_iconst (pc := 68) C dX6_fenceLine_68 ci_3 ?_
        refine r_V2vo (pc := 69) C (s_must (by exact hT) hB hτL htT) vl_X6_217 (tw_g hT) (by decide) (Nat.le_refl _) (Nat.le_refl _) (Nat.le_of_ble_eq_true rfl) rfl dX6_fenceLine_69 (fun u6 A6 hc6 => ?_)
        refine r_eqA hc6 ?_
        clear hc6 A6 u6
        refine r_vret (pc := 72) C E (Nat.le_refl _) (Nat.le_refl _) dX6_fenceLine_72 ?_
        exact ⟨_, by unfold fenW fenS; rw [if_pos b25, if_pos b42, if_pos b25, if_pos b42]⟩
      · skip
        have b42 := (not_congr (nI_eq0 (by omega))).mp b42
        refine r_vret (pc := 45) C E (Nat.le_refl _) (Nat.le_refl _) dX6_fenceLine_45 ?_
        exact ⟨_, by unfold fenW fenS; first | (rw [if_pos b25, if_neg b42, if_pos b25, if_neg b42]; done) | (rw [if_pos b25, if_neg b42, if_pos b25, if_neg b42]; rfl)⟩
    · skip
      have b25 := (not_congr (nI_eq0 (by omega))).mp b25
      refine r_vret (pc := 28) C E (Nat.le_refl _) (Nat.le_refl _) dX6_fenceLine_28 ?_
      exact ⟨κ, by unfold fenW fenS; first | (rw [if_neg b25, if_neg b25]; done) | (rw [if_neg b25, if_neg b25]; rfl)⟩
  · skip
    have b9 := (not_congr (nI_le2 (by omega) (by omega))).mp b9
    refine r_iconst (pc := 12) C dX6_fenceLine_12 ci_1 ?_
    refine r_goto (pc := 13) (tgt := 17) C dX6_fenceLine_13 (by decide) ?_
    refine r_iconst (pc := 17) C dX6_fenceLine_17 ci_4 ?_
    refine r_V2vo (pc := 18) C (s_must1 (by exact hT) hB hτL ht (rF σ < 10) (by omega)) vl_X6_217 (tw_g hT) (by decide) (Nat.le_refl _) (Nat.le_refl _) (Nat.le_of_ble_eq_true rfl) rfl dX6_fenceLine_18 (fun u7 A7 hc7 => ?_)
    refine r_eqA (A' := S5 A t σ κ π (stS τ (fen0 σ s))) hc7 ?_
    clear hc7 A7 u7
    refine r_aload_0 (pc := 21) C dX6_fenceLine_21 ?_
    refine r_getI (pc := 22) C fl_X6_208_6 (tw_g hT) rfl dX6_fenceLine_22 ?_
    refine r_top (congrFun (S5_0 _ _ _ _ _ _) _) ?_
    refine r_top (st_16 _ _ _ _ _ _) ?_
    refine r_top (rfl : nI _ = nI (fen0 σ s).e) ?_
    refine r_if_eq (pc := 25) (tgt := 29) C dX6_fenceLine_25 (by decide) (fun b25 => ?_) (fun b25 => ?_)
    · skip
      have b25 := (nI_eq0 (by omega)).mp b25
      refine r_aload_0 (pc := 29) C dX6_fenceLine_29 ?_
      refine r_V0vo (pc := 30) C (s_goes (by exact hT) hB hτL ht0) vl_X6_242 (tw_g hT) (by decide) (Nat.le_refl _) (Nat.le_refl _) (Nat.le_of_ble_eq_true rfl) rfl dX6_fenceLine_30 (fun u8 A8 hc8 => ?_)
      refine r_eqA hc8 ?_
      clear hc8 A8 u8
      refine r_aload_0 (pc := 33) C dX6_fenceLine_33 ?_
      refine r_V0io (pc := 34) C (m_freeCellHere (by exact hT) hB hτL (goesS_ok ht0) hS) vl_X6_267 (tw_g hT) (by decide) (Nat.le_refl _) (Nat.le_refl _) (Nat.le_of_ble_eq_true rfl) rfl dX6_fenceLine_34 (fun u9 A9 hc9 => ?_)
      refine r_top hc9.1 ?_
      refine r_eqA (A' := S5 A t σ κ π (stS τ (fenT σ B L s))) hc9.2 ?_
      clear hc9 A9 u9
      refine r_istore_1 (pc := 37) C dX6_fenceLine_37 rfl ?_
      refine r_aload_0 (pc := 38) C dX6_fenceLine_38 ?_
      refine r_getI (pc := 39) C fl_X6_208_6 (tw_g hT) rfl dX6_fenceLine_39 ?_
      refine r_top (congrFun (S5_0 _ _ _ _ _ _) _) ?_
      refine r_top (st_16 _ _ _ _ _ _) ?_
      refine r_top (rfl : nI _ = nI (fenT σ B L s).e) ?_
      refine r_if_eq (pc := 42) (tgt := 46) C dX6_fenceLine_42 (by decide) (fun b42 => ?_) (fun b42 => ?_)
      · skip
        have b42 := (nI_eq0 (by omega)).mp b42
        refine r_aload_0 (pc := 46) C dX6_fenceLine_46 ?_
        refine r_iload_1 (pc := 47) C dX6_fenceLine_47 ?_
        refine r_iconst (pc := 48) C dX6_fenceLine_48 ci_2 ?_
        refine r_iconst (pc := 49) C dX6_fenceLine_49 ci_1 ?_
        refine r_V3vo (pc := 50) C (m_putsCell (by exact hT) (S5_1 _ _ _ _ _ _)) vl_X6_139 (tw_g hT) (by decide) (Nat.le_refl _) (Nat.le_refl _) (Nat.le_of_ble_eq_true rfl) rfl dX6_fenceLine_50 (fun u10 A10 hc10 => ?_)
        refine r_eqA hc10 ?_
        clear hc10 A10 u10
        refine r_eqA (S5_w1 _ _ _ _ _ _ _) ?_
        refine r_aload_0 (pc := 53) C dX6_fenceLine_53 ?_
        refine r_getR (pc := 54) C fl_X6_7_6 (tw_g hT) rfl (tw_r1 hT) dX6_fenceLine_54 ?_
        refine r_iconst (pc := 57) C dX6_fenceLine_57 ci_2 ?_
        refine r_dup2 (pc := 58) C dX6_fenceLine_58 rfl rfl ?_
        refine r_iald (pc := 59) C (tw_g1 hT) rfl rfl (lt_eq (by omega) (tw_n1 hT)) (by omega) dX6_fenceLine_59 ?_
        refine r_top (congrFun (S5_1 _ _ _ _ _ _) _) ?_
        refine r_iconst (pc := 60) C dX6_fenceLine_60 ci_1 ?_
        refine r_iadd (pc := 61) C dX6_fenceLine_61 ?_
        refine r_iast (pc := 62) C (tw_g1 hT) rfl rfl (lt_eq (by omega) (tw_n1 hT)) (by omega) dX6_fenceLine_62 ?_
        refine r_eqA (S5_u1 _ _ _ _ _ _ _ _) ?_
        refine r_aload_0 (pc := 63) C dX6_fenceLine_63 ?_
        refine r_aload_0 (pc := 64) C dX6_fenceLine_64 ?_
        refine r_V0io (pc := 65) C (m_areWays (σ := fen2 σ (cellN σ B L (goesS (fen0 σ s)))) (by exact hT) (fen2_w hW (fen0_f b25 ht))) vl_X6_173 (tw_g hT) (by decide) (Nat.le_refl _) (Nat.le_refl _) (Nat.le_of_ble_eq_true rfl) rfl dX6_fenceLine_65 (fun u11 A11 hc11 => ?_)
        obtain ⟨κL11, eA11, eu11⟩ := hc11
        refine r_top eu11 ?_
        refine r_eqA eA11 ?_
        clear eu11 eA11 A11 u11
        refine r_iconst (pc := 68) C dX6_fenceLine_68 ci_3 ?_
        refine r_V2vo (pc := 69) C (s_must (by exact hT) hB hτL htT) vl_X6_217 (tw_g hT) (by decide) (Nat.le_refl _) (Nat.le_refl _) (Nat.le_of_ble_eq_true rfl) rfl dX6_fenceLine_69 (fun u12 A12 hc12 => ?_)
        refine r_eqA hc12 ?_
        clear hc12 A12 u12
        refine r_vret (pc := 72) C E (Nat.le_refl _) (Nat.le_refl _) dX6_fenceLine_72 ?_
        exact ⟨_, by unfold fenW fenS; rw [if_pos b25, if_pos b42, if_pos b25, if_pos b42]⟩
      · skip
        have b42 := (not_congr (nI_eq0 (by omega))).mp b42
        refine r_vret (pc := 45) C E (Nat.le_refl _) (Nat.le_refl _) dX6_fenceLine_45 ?_
        exact ⟨_, by unfold fenW fenS; first | (rw [if_pos b25, if_neg b42, if_pos b25, if_neg b42]; done) | (rw [if_pos b25, if_neg b42, if_pos b25, if_neg b42]; rfl)⟩
    · skip
      have b25 := (not_congr (nI_eq0 (by omega))).mp b25
      refine r_vret (pc := 28) C E (Nat.le_refl _) (Nat.le_refl _) dX6_fenceLine_28 ?_
      exact ⟨κ, by unfold fenW fenS; first | (rw [if_neg b25, if_neg b25]; done) | (rw [if_neg b25, if_neg b25]; rfl)⟩
