/-! THE REFERENCE, 37: ground lines, a statement -/
set_option maxRecDepth 100000
theorem runF_0 {B : Nat → Nat} {q : Nat → Bool} {n p : Nat} (h : ¬ q (B p) = true ∨ n = 0) : runF B q n p = 0 := by
  cases n with
  | zero => rfl
  | succ n => exact if_neg (h.resolve_right (by omega))
theorem skp_skp {B : Nat → Nat} {L a : Nat} : skp B L (skp B L a) = skp B L a := by
  have h1 := @runF_le B isSp (L - a) a
  have e : skp B L a = a + runF B isSp (L - a) a := rfl
  have : runF B isSp (L - skp B L a) (skp B L a) = 0 := by
    refine runF_0 ?_
    by_cases h : runF B isSp (L - a) a < L - a
    · exact Or.inl (runF_out _ _ h)
    · exact Or.inr (by omega)
  show skp B L a + runF B isSp (L - skp B L a) (skp B L a) = _
  rw [this]; rfl
theorem next_next {B : Nat → Nat} {L : Nat} {s : TS} : nextS B L (nextS B L s) = nextS B L s := by
  show (skp B L (skp B L s.a), skp B L (skp B L s.a), wln B L (skp B L (skp B L s.a)), s.e, s.p) = _
  rw [skp_skp]; rfl
theorem sees_next {B : Nat → Nat} {L : Nat} {l : List Nat} {s : TS} : seesW B L l (nextS B L s) ↔ seesW B L l s := by
  show (s.e = 0 ∧ isWd B L (skp B L (skp B L s.a)) _ _ = true) ↔ _
  rw [skp_skp]
noncomputable def grndW (σ : Rw) (B : Nat → Nat) (L : Nat) (s : TS) : Rw := if seesW B L wStone s then stonW σ B L (nextS B L s) else if seesW B L wGrass s then grasW σ B L (nextS B L s) else fenW σ B L (nextS B L s)
noncomputable def grndS (σ : Rw) (B : Nat → Nat) (L : Nat) (s : TS) : TS := if seesW B L wStone s then stonS σ B L (nextS B L s) else if seesW B L wGrass s then grasS σ B L (nextS B L s) else fenS σ B L (nextS B L s)
theorem stS_ux {τ : Rw} {s : TS} {k : Nat} {x : Int32} (h : (decide (k < 13) || decide (17 < k)) = true) : upd (stS τ s) k x = stS (upd τ k x) s := st_ux _ _ _ _ _ _ h
set_option maxHeartbeats 4000000 in
theorem m_groundLine {g : GZ} {A : HA} {t : Nat} {σ κ π τ : Nat → Int32} (hT : Tw A t) {s : TS} {B : Nat → Nat} {L : Nat} (hB : BufI (A.I (t + 8)) B L) (hτL : τ 12 = nI L) (ht : TOk L s) (hK : TwK g A) (hW : RowW σ) : Ct g wV yX6_groundLine (.code yX6_groundLine cX6_groundLine 1 (Option.none : Option Jvm.ClassFile.FieldType)) 8 0 0 [.ref t] (S5 A t σ κ π (stS τ s)) (fun u A' => ∃ κ', A' = S5 A t (grndW σ B L s) κ' π (stS (upd τ 20 (nI 0)) (grndS σ B L s))) fw_no := by
  refine Ct.of [some (.ref t)] (by decide) rfl rfl fun z C hx hnm E => ?_
  have hBl := hB.l
  have ha := ht.a
  have he := ht.e
  obtain ⟨q274, v274, k274, s274⟩ := hK.2.2.2.2.1
  obtain ⟨q279, v279, k279, s279⟩ := hK.2.2.2.2.2.1
  have hS := hW.s
  have hτL2 : (upd τ 20 (nI 0)) 12 = nI L := (pk_un (by omega)).trans hτL
  have ht1 : TOk L (nextS B L s) := nextS_ok ht
  refine r_aload_0 (pc := 0) C dX6_groundLine_0 ?_
  refine r_iconst (pc := 1) C dX6_groundLine_1 ci_0 ?_
  refine r_putI (pc := 2) C fl_X6_270_6 (tw_g hT) rfl (fun _ _ _ h => by cases h; exact Or.inl rfl) rfl nar_0 fit_0 dX6_groundLine_2 ?_
  refine r_eqA (S5_u0 _ _ _ _ _ _ _ _) ?_
  refine r_eqA (congrArg (S5 _ t _ _ _) (stS_ux (by decide))) ?_
  refine r_aload_0 (pc := 5) C dX6_groundLine_5 ?_
  refine r_ldcwS (pc := 6) C k274 dX6_groundLine_6 ?_
  refine r_V1io (pc := 9) C (s_sees (by exact hT) hB hτL2 ht hK.1 s274) vl_X6_250 (tw_g hT) (by decide) (Nat.le_refl _) (Nat.le_refl _) (Nat.le_of_ble_eq_true rfl) rfl dX6_groundLine_9 (fun u1 A1 hc1 => ?_)
  refine r_top hc1.1 ?_
  refine r_eqA hc1.2 ?_
  clear hc1 A1 u1
  refine r_if_eq (pc := 12) (tgt := 22) C dX6_groundLine_12 (by decide) (fun b12 => ?_) (fun b12 => ?_)
  · skip
    have b12 := bI_0.mp b12
    refine r_aload_0 (pc := 22) C dX6_groundLine_22 ?_
    refine r_ldcwS (pc := 23) C k279 dX6_groundLine_23 ?_
    refine r_V1io (pc := 26) C (s_sees (by exact hT) hB hτL2 ht1 hK.1 s279) vl_X6_250 (tw_g hT) (by decide) (Nat.le_refl _) (Nat.le_refl _) (Nat.le_of_ble_eq_true rfl) rfl dX6_groundLine_26 (fun u2 A2 hc2 => ?_)
    refine r_top (hc2.1.trans (bI_iff (sees_next (l := wGrass)))) ?_
    refine r_eqA (hc2.2.trans (by rw [next_next])) ?_
    clear hc2 A2 u2
    refine r_if_eq (pc := 29) (tgt := 39) C dX6_groundLine_29 (by decide) (fun b29 => ?_) (fun b29 => ?_)
    · skip
      have b29 := bI_0.mp b29
      refine r_aload_0 (pc := 39) C dX6_groundLine_39 ?_
      refine r_V0vo (pc := 40) C (m_fenceLine (by exact hT) hB hτL2 ht1 hW) vl_X6_284 (tw_g hT) (by decide) (Nat.le_refl _) (Nat.le_refl _) (Nat.le_of_ble_eq_true rfl) rfl dX6_groundLine_40 (fun u3 A3 hc3 => ?_)
      obtain ⟨κL, eA⟩ := hc3
      refine r_eqA eA ?_
      clear eA A3 u3
      refine r_vret (pc := 43) C E (Nat.le_refl _) (Nat.le_refl _) dX6_groundLine_43 ?_
      first
        | exact ⟨_, by unfold grndW grndS; rw [if_pos b12, if_pos b12]⟩
        | exact ⟨_, by unfold grndW grndS; rw [if_neg b12, if_pos b29, if_neg b12, if_pos b29]⟩
        | exact ⟨_, by unfold grndW grndS; rw [if_neg b12, if_neg b29, if_neg b12, if_neg b29]⟩
    · skip
      have b29 := bI_n.mp b29
      refine r_aload_0 (pc := 32) C dX6_groundLine_32 ?_
      refine r_V0vo (pc := 33) C (m_grassLine (by exact hT) hB hτL2 ht1 hS) vl_X6_281 (tw_g hT) (by decide) (Nat.le_refl _) (Nat.le_refl _) (Nat.le_of_ble_eq_true rfl) rfl dX6_groundLine_33 (fun u4 A4 hc4 => ?_)
      refine r_eqA hc4 ?_
      clear hc4 A4 u4
      refine r_goto (pc := 36) (tgt := 43) C dX6_groundLine_36 (by decide) ?_
      refine r_vret (pc := 43) C E (Nat.le_refl _) (Nat.le_refl _) dX6_groundLine_43 ?_
      first
        | exact ⟨_, by unfold grndW grndS; rw [if_pos b12, if_pos b12]⟩
        | exact ⟨_, by unfold grndW grndS; rw [if_neg b12, if_pos b29, if_neg b12, if_pos b29]⟩
        | exact ⟨_, by unfold grndW grndS; rw [if_neg b12, if_neg b29, if_neg b12, if_neg b29]⟩
  · skip
    have b12 := bI_n.mp b12
    refine r_aload_0 (pc := 15) C dX6_groundLine_15 ?_
    refine r_V0vo (pc := 16) C (m_stoneLine (by exact hT) hB hτL2 ht1 hS) vl_X6_276 (tw_g hT) (by decide) (Nat.le_refl _) (Nat.le_refl _) (Nat.le_of_ble_eq_true rfl) rfl dX6_groundLine_16 (fun u5 A5 hc5 => ?_)
    refine r_eqA hc5 ?_
    clear hc5 A5 u5
    refine r_goto (pc := 19) (tgt := 43) C dX6_groundLine_19 (by decide) ?_
    refine r_vret (pc := 43) C E (Nat.le_refl _) (Nat.le_refl _) dX6_groundLine_43 ?_
    first
      | exact ⟨_, by unfold grndW grndS; rw [if_pos b12, if_pos b12]⟩
      | exact ⟨_, by unfold grndW grndS; rw [if_neg b12, if_pos b29, if_neg b12, if_pos b29]⟩
      | exact ⟨_, by unfold grndW grndS; rw [if_neg b12, if_neg b29, if_neg b12, if_neg b29]⟩
