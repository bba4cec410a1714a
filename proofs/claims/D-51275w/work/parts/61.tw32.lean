/-! THE REFERENCE, 32: lines of a description -/
set_option maxRecDepth 100000
def cellS (σ : Rw) (B : Nat → Nat) (L : Nat) (s : TS) : TS := numS B L 0 (rH σ - 1) (numS B L 0 (rW σ - 1) s)
def cellN (σ : Rw) (B : Nat → Nat) (L : Nat) (s : TS) : Nat := numN B L 0 (rH σ - 1) (numS B L 0 (rW σ - 1) s) * rW σ + numN B L 0 (rW σ - 1) s
theorem cellS_ok {σ : Rw} {B : Nat → Nat} {L : Nat} {s : TS} (h : TOk L s) : TOk L (cellS σ B L s) := numS_ok (numS_ok h)
theorem cellN_lt {σ : Rw} {B : Nat → Nat} {L : Nat} {s : TS} (hS : RowS σ) : cellN σ B L s < rC σ := by
  have h1 := (numN_in (B := B) (L := L) (s := s) (Nat.zero_le (rW σ - 1))).2
  have h2 := (numN_in (B := B) (L := L) (s := numS B L 0 (rW σ - 1) s) (Nat.zero_le (rH σ - 1))).2
  have h3 := hS.w3
  have h4 := hS.h3
  exact at_lt hS (by omega) (by omega)
/-- a free cell -/
abbrev freeP (σ : Rw) (c : Nat) : Prop := σ (153 + 5 * c + 0) = 0 ∧ ¬ fenced σ c
def freeS (σ : Rw) (B : Nat → Nat) (L : Nat) (s : TS) : TS := mustS (freeP σ (cellN σ B L s)) 3 (cellS σ B L s)
theorem freeS_ok {σ : Rw} {B : Nat → Nat} {L : Nat} {s : TS} (h : TOk L s) : TOk L (freeS σ B L s) := mustS_ok (cellS_ok h) (by omega) (by omega)
theorem mustS_1 {p : Prop} [Decidable p] {c : Nat} {s : TS} (h : p) : mustS p c s = s := if_pos (Or.inl h)
theorem s_must1 {g : GZ} {A : HA} {t : Nat} {σ κ π τ : Rw} (hT : Tw A t) {s : TS} {B : Nat → Nat} {L : Nat} (hB : BufI (A.I (t + 8)) B L) (hτL : τ 12 = nI L) (ht : TOk L s) (p : Prop) [Decidable p] (h : p) {c : Nat} : Ct g wV yX6_must (.code yX6_must cX6_must 3 (Option.none : Option Jvm.ClassFile.FieldType)) 1 0 0 [.ref t, .int (nI 1), .int (nI c)] (S5 A t σ κ π (stS τ s)) (fun u A' => A' = S5 A t σ κ π (stS τ (mustS p c s))) fw_no := by
  have q := s_must (g := g) (σ := σ) (κ := κ) (π := π) (τ := τ) hT hB hτL ht (p := p) (c := c)
  rw [bI_t h, ← nI1] at q
  exact q
theorem s_must0 {g : GZ} {A : HA} {t : Nat} {σ κ π τ : Rw} (hT : Tw A t) {s : TS} {B : Nat → Nat} {L : Nat} (hB : BufI (A.I (t + 8)) B L) (hτL : τ 12 = nI L) (ht : TOk L s) (p : Prop) [Decidable p] (h : ¬ p) {c : Nat} : Ct g wV yX6_must (.code yX6_must cX6_must 3 (Option.none : Option Jvm.ClassFile.FieldType)) 1 0 0 [.ref t, .int (nI 0), .int (nI c)] (S5 A t σ κ π (stS τ s)) (fun u A' => A' = S5 A t σ κ π (stS τ (mustS p c s))) fw_no := by
  have q := s_must (g := g) (σ := σ) (κ := κ) (π := π) (τ := τ) hT hB hτL ht (p := p) (c := c)
  rw [bI_f h, ← nI0] at q
  exact q
set_option maxHeartbeats 4000000 in
theorem m_cellHere {g : GZ} {A : HA} {t : Nat} {σ κ π τ : Nat → Int32} (hT : Tw A t) {s : TS} {B : Nat → Nat} {L : Nat} (hB : BufI (A.I (t + 8)) B L) (hτL : τ 12 = nI L) (ht : TOk L s) (hS : RowS σ) : Ct g wI yX6_cellHere (.code yX6_cellHere cX6_cellHere 3 (Option.some Jvm.ClassFile.FieldType.int)) 4 0 0 [.ref t] (S5 A t σ κ π (stS τ s)) (fun u A' => u = nI (cellN σ B L s) ∧ A' = S5 A t σ κ π (stS τ (cellS σ B L s))) fw_no := by
  refine Ct.of [some (.ref t), none, none] (by decide) rfl rfl fun z C hx hnm E => ?_
  have hBl := hB.l
  have ha := ht.a
  have he := ht.e
  have hw3 := hS.w3
  have hw10 := hS.w10
  have hh3 := hS.h3
  have hh8 := hS.h8
  have hc80 := hS.c80
  refine r_aload_0 (pc := 0) C dX6_cellHere_0 ?_
  refine r_iconst (pc := 1) C dX6_cellHere_1 ci_0 ?_
  refine r_aload_0 (pc := 2) C dX6_cellHere_2 ?_
  refine r_getR (pc := 3) C fl_X6_7_6 (tw_g hT) rfl (tw_r1 hT) dX6_cellHere_3 ?_
  refine r_iconst (pc := 6) C dX6_cellHere_6 ci_4 ?_
  refine r_iald (pc := 7) C (tw_g1 hT) rfl rfl (lt_eq (by omega) (tw_n1 hT)) (by omega) dX6_cellHere_7 ?_
  refine r_top (congrFun (S5_1 _ _ _ _ _ _) _) ?_
  refine r_top hS.w ?_
  refine r_iconst (pc := 8) C dX6_cellHere_8 ci_1 ?_
  refine r_isub (pc := 9) C dX6_cellHere_9 ?_
  refine r_top (pk_sub (by omega)) ?_
  refine r_V2io (pc := 10) C (s_number (by exact hT) hB hτL ht (lo := 0) (hi := rW σ - 1) (by omega) (by omega)) vl_X6_254 (tw_g hT) (by decide) (Nat.le_refl _) (Nat.le_refl _) (Nat.le_of_ble_eq_true rfl) rfl dX6_cellHere_10 (fun u1 A1 hc1 => ?_)
  refine r_top hc1.1 ?_
  refine r_eqA hc1.2 ?_
  clear hc1 A1 u1
  refine r_istore_1 (pc := 13) C dX6_cellHere_13 rfl ?_
  refine r_aload_0 (pc := 14) C dX6_cellHere_14 ?_
  refine r_iconst (pc := 15) C dX6_cellHere_15 ci_0 ?_
  refine r_aload_0 (pc := 16) C dX6_cellHere_16 ?_
  refine r_getR (pc := 17) C fl_X6_7_6 (tw_g hT) rfl (tw_r1 hT) dX6_cellHere_17 ?_
  refine r_iconst (pc := 20) C dX6_cellHere_20 ci_5 ?_
  refine r_iald (pc := 21) C (tw_g1 hT) rfl rfl (lt_eq (by omega) (tw_n1 hT)) (by omega) dX6_cellHere_21 ?_
  refine r_top (congrFun (S5_1 _ _ _ _ _ _) _) ?_
  refine r_top hS.h ?_
  refine r_iconst (pc := 22) C dX6_cellHere_22 ci_1 ?_
  refine r_isub (pc := 23) C dX6_cellHere_23 ?_
  refine r_top (pk_sub (by omega)) ?_
  refine r_V2io (pc := 24) C (s_number (by exact hT) hB hτL (numS_ok ht) (lo := 0) (hi := rH σ - 1) (by omega) (by omega)) vl_X6_254 (tw_g hT) (by decide) (Nat.le_refl _) (Nat.le_refl _) (Nat.le_of_ble_eq_true rfl) rfl dX6_cellHere_24 (fun u2 A2 hc2 => ?_)
  refine r_top hc2.1 ?_
  refine r_eqA hc2.2 ?_
  clear hc2 A2 u2
  refine r_istore_2 (pc := 27) C dX6_cellHere_27 rfl ?_
  refine r_aload_0 (pc := 28) C dX6_cellHere_28 ?_
  refine r_iload_1 (pc := 29) C dX6_cellHere_29 ?_
  refine r_iload_2 (pc := 30) C dX6_cellHere_30 ?_
  refine r_V2io (pc := 31) C (m_at (by exact hT) (S5_1 _ _ _ _ _ _) hS) vl_X6_83 (tw_g hT) (by decide) (Nat.le_refl _) (Nat.le_refl _) (Nat.le_of_ble_eq_true rfl) rfl dX6_cellHere_31 (fun u3 A3 hc3 => ?_)
  refine r_top hc3.1 ?_
  refine r_eqA hc3.2 ?_
  clear hc3 A3 u3
  refine r_iret (pc := 34) C E rfl (Nat.le_refl _) (Nat.le_refl _) dX6_cellHere_34 ?_
  exact ⟨rfl, rfl⟩
set_option maxHeartbeats 4000000 in
theorem m_freeCellHere {g : GZ} {A : HA} {t : Nat} {σ κ π τ : Nat → Int32} (hT : Tw A t) {s : TS} {B : Nat → Nat} {L : Nat} (hB : BufI (A.I (t + 8)) B L) (hτL : τ 12 = nI L) (ht : TOk L s) (hS : RowS σ) : Ct g wI yX6_freeCellHere (.code yX6_freeCellHere cX6_freeCellHere 2 (Option.some Jvm.ClassFile.FieldType.int)) 5 0 0 [.ref t] (S5 A t σ κ π (stS τ s)) (fun u A' => u = nI (cellN σ B L s) ∧ A' = S5 A t σ κ π (stS τ (freeS σ B L s))) fw_no := by
  refine Ct.of [some (.ref t), none] (by decide) rfl rfl fun z C hx hnm E => ?_
  have hBl := hB.l
  have ha := ht.a
  have he := ht.e
  have hc80 := hS.c80
  have hcl := cellN_lt (B := B) (L := L) (s := s) hS
  refine r_aload_0 (pc := 0) C dX6_freeCellHere_0 ?_
  refine r_V0io (pc := 1) C (m_cellHere (by exact hT) hB hτL ht hS) vl_X6_260 (tw_g hT) (by decide) (Nat.le_refl _) (Nat.le_refl _) (Nat.le_of_ble_eq_true rfl) rfl dX6_freeCellHere_1 (fun u1 A1 hc1 => ?_)
  refine r_top hc1.1 ?_
  refine r_eqA hc1.2 ?_
  clear hc1 A1 u1
  refine r_istore_1 (pc := 4) C dX6_freeCellHere_4 rfl ?_
  refine r_aload_0 (pc := 5) C dX6_freeCellHere_5 ?_
  refine r_aload_0 (pc := 6) C dX6_freeCellHere_6 ?_
  refine r_iload_1 (pc := 7) C dX6_freeCellHere_7 ?_
  refine r_V1io (pc := 8) C (m_isGrass (by exact hT) (S5_1 _ _ _ _ _ _)) vl_X6_93 (tw_g hT) (by decide) (Nat.le_refl _) (Nat.le_refl _) (Nat.le_of_ble_eq_true rfl) rfl dX6_freeCellHere_8 (fun u2 A2 hc2 => ?_)
  refine r_top hc2.1 ?_
  refine r_eqA hc2.2 ?_
  clear hc2 A2 u2
  refine r_if_eq (pc := 11) (tgt := 26) C dX6_freeCellHere_11 (by decide) (fun b11 => ?_) (fun b11 => ?_)
  · skip
    have b11 := bI_0.mp b11
    refine r_iconst (pc := 26) C dX6_freeCellHere_26 ci_0 ?_
    refine r_iconst (pc := 27) C dX6_freeCellHere_27 ci_3 ?_
    refine r_V2vo (pc := 28) C (s_must0 (by exact hT) hB hτL (cellS_ok ht) (freeP σ (cellN σ B L s)) (fun q => by first | exact absurd q.1 (by assumption) | exact absurd (by assumption) q.2)) vl_X6_217 (tw_g hT) (by decide) (Nat.le_refl _) (Nat.le_refl _) (Nat.le_of_ble_eq_true rfl) rfl dX6_freeCellHere_28 (fun u3 A3 hc3 => ?_)
    refine r_eqA hc3 ?_
    clear hc3 A3 u3
    refine r_iload_1 (pc := 31) C dX6_freeCellHere_31 ?_
    refine r_iret (pc := 32) C E rfl (Nat.le_refl _) (Nat.le_refl _) dX6_freeCellHere_32 ?_
    exact ⟨rfl, rfl⟩
  · skip
    have b11 := bI_n.mp b11
    refine r_aload_0 (pc := 14) C dX6_freeCellHere_14 ?_
    refine r_iload_1 (pc := 15) C dX6_freeCellHere_15 ?_
    refine r_V1io (pc := 16) C (m_hasFence (by exact hT) (S5_1 _ _ _ _ _ _)) vl_X6_97 (tw_g hT) (by decide) (Nat.le_refl _) (Nat.le_refl _) (Nat.le_of_ble_eq_true rfl) rfl dX6_freeCellHere_16 (fun u4 A4 hc4 => ?_)
    refine r_top hc4.1 ?_
    refine r_eqA hc4.2 ?_
    clear hc4 A4 u4
    refine r_if_ne (pc := 19) (tgt := 26) C dX6_freeCellHere_19 (by decide) (fun b19 => ?_) (fun b19 => ?_)
    · skip
      have b19 := bI_n.mp b19
      refine r_iconst (pc := 26) C dX6_freeCellHere_26 ci_0 ?_
      refine r_iconst (pc := 27) C dX6_freeCellHere_27 ci_3 ?_
      refine r_V2vo (pc := 28) C (s_must0 (by exact hT) hB hτL (cellS_ok ht) (freeP σ (cellN σ B L s)) (fun q => by first | exact absurd q.1 (by assumption) | exact absurd (by assumption) q.2)) vl_X6_217 (tw_g hT) (by decide) (Nat.le_refl _) (Nat.le_refl _) (Nat.le_of_ble_eq_true rfl) rfl dX6_freeCellHere_28 (fun u5 A5 hc5 => ?_)
      refine r_eqA hc5 ?_
      clear hc5 A5 u5
      refine r_iload_1 (pc := 31) C dX6_freeCellHere_31 ?_
      refine r_iret (pc := 32) C E rfl (Nat.le_refl _) (Nat.le_refl _) dX6_freeCellHere_32 ?_
      exact ⟨rfl, rfl⟩
    · skip
      have b19 := bI_0.mp b19
      refine r_iconst (pc := 22) C dX6_freeCellHere_22 ci_1 ?_
      refine r_goto (pc := 23) (tgt := 27) C dX6_freeCellHere_23 (by decide) ?_
      refine r_iconst (pc := 27) C dX6_freeCellHere_27 ci_3 ?_
      refine r_V2vo (pc := 28) C (s_must1 (by exact hT) hB hτL (cellS_ok ht) (freeP σ (cellN σ B L s)) ⟨by assumption, by assumption⟩) vl_X6_217 (tw_g hT) (by decide) (Nat.le_refl _) (Nat.le_refl _) (Nat.le_of_ble_eq_true rfl) rfl dX6_freeCellHere_28 (fun u6 A6 hc6 => ?_)
      refine r_eqA hc6 ?_
      clear hc6 A6 u6
      refine r_iload_1 (pc := 31) C dX6_freeCellHere_31 ?_
      refine r_iret (pc := 32) C E rfl (Nat.le_refl _) (Nat.le_refl _) dX6_freeCellHere_32 ?_
      exact ⟨rfl, rfl⟩
