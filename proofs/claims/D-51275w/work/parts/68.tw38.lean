/-! THE REFERENCE, 38: a statement -/
set_option maxRecDepth 100000
/-- whether a ground line stands here -/
abbrev isGr (B : Nat → Nat) (L : Nat) (s : TS) : Prop := seesW B L wStone s ∨ seesW B L wGrass s ∨ seesW B L wFence s
noncomputable def stmW (σ : Rw) (B : Nat → Nat) (L : Nat) (mb : Prop) [Decidable mb] (s : TS) : Rw :=
  if rK σ = 0 ∧ seesW B L wGate s then gateW σ B L (nextS B L s) else if 1 < rG σ ∧ mb ∧ seesW B L wWalker s then walkW σ B L (nextS B L s)
  else if 0 < rK σ ∧ isGr B L s then grndW σ B L (nextS B L s) else σ
noncomputable def stmS (σ : Rw) (B : Nat → Nat) (L : Nat) (mb : Prop) [Decidable mb] (s : TS) : TS :=
  if rK σ = 0 ∧ seesW B L wGate s then gateS σ B L (nextS B L s) else if 1 < rG σ ∧ mb ∧ seesW B L wWalker s then walkS σ B L (nextS B L s)
  else if 0 < rK σ ∧ isGr B L s then grndS σ B L (nextS B L s) else mustS False 1 (nextS B L s)
/-- whether walkers may still come -/
abbrev stmM (σ : Rw) (B : Nat → Nat) (L : Nat) (mb : Prop) (s : TS) : Prop := ¬ (¬ (rK σ = 0 ∧ seesW B L wGate s) ∧ ¬ (1 < rG σ ∧ mb ∧ seesW B L wWalker s) ∧ 0 < rK σ ∧ isGr B L s)
def stmT (τ : Rw) (σ : Rw) (B : Nat → Nat) (L : Nat) (mb : Prop) [Decidable mb] (s : TS) : Rw := if rK σ = 0 ∧ seesW B L wGate s then τ else if 1 < rG σ ∧ mb ∧ seesW B L wWalker s then τ else if 0 < rK σ ∧ isGr B L s then upd τ 20 (nI 0) else τ
theorem sees_n {B : Nat → Nat} {L : Nat} {l : List Nat} {s n : TS} (h : n = s ∨ n = nextS B L s) : seesW B L l n ↔ seesW B L l s := by
  rcases h with h | h
  · rw [h]
  · rw [h]; exact sees_next
theorem next_n {B : Nat → Nat} {L : Nat} {s n : TS} (h : n = s ∨ n = nextS B L s) : nextS B L n = nextS B L s := by
  rcases h with h | h
  · rw [h]
  · rw [h]; exact next_next
theorem TOk.n {B : Nat → Nat} {L : Nat} {s n : TS} (ht : TOk L s) (h : n = s ∨ n = nextS B L s) : TOk L n := by
  rcases h with h | h
  · rw [h]; exact ht
  · rw [h]; exact nextS_ok ht
set_option maxHeartbeats 4000000 in
theorem m_statement {g : GZ} {A : HA} {t : Nat} {σ κ π τ : Nat → Int32} (hT : Tw A t) {s : TS} {B : Nat → Nat} {L : Nat} (hB : BufI (A.I (t + 8)) B L) (hτL : τ 12 = nI L) (ht : TOk L s) {mb : Prop} [Decidable mb] (hK : TwK g A) (hS : RowS σ) (hN : NumI σ) (hW : 0 < rK σ → RowW σ) (hmb : τ 20 = bI mb) (h0 : s.e = 0) : Ct g wV yX6_statement (.code yX6_statement cX6_statement 2 (Option.none : Option Jvm.ClassFile.FieldType)) 9 0 0 [.ref t] (S5 A t σ κ π (stS τ s)) (fun u A' => ∃ κ', A' = S5 A t (stmW σ B L mb s) κ' π (stS (stmT τ σ B L mb s) (stmS σ B L mb s))) fw_no := by
  refine Ct.of [some (.ref t), none] (by decide) rfl rfl fun z C hx hnm E => ?_
  have hBl := hB.l
  have ha := ht.a
  have he := ht.e
  obtain ⟨q287, v287, k287, s287⟩ := hK.2.2.1
  obtain ⟨q292, v292, k292, s292⟩ := hK.2.2.2.1
  obtain ⟨q274, v274, k274, s274⟩ := hK.2.2.2.2.1
  obtain ⟨q279, v279, k279, s279⟩ := hK.2.2.2.2.2.1
  obtain ⟨q297, v297, k297, s297⟩ := hK.2.2.2.2.2.2.1
  have hG := hN.1.1
  have hG6 := hN.1.2
  have hQ := hN.2.1
  have hQ6 := hN.2.2
  have ht1 : TOk L (nextS B L s) := nextS_ok ht
  have hcur : s = s ∨ s = nextS B L s := Or.inl rfl
  refine r_aload_0 (pc := 0) C dX6_statement_0 ?_
  refine r_getR (pc := 1) C fl_X6_7_6 (tw_g hT) rfl (tw_r1 hT) dX6_statement_1 ?_
  refine r_iconst (pc := 4) C dX6_statement_4 ci_1 ?_
  refine r_iald (pc := 5) C (tw_g1 hT) rfl rfl (lt_eq (by omega) (tw_n1 hT)) (by omega) dX6_statement_5 ?_
  refine r_top (congrFun (S5_1 _ _ _ _ _ _) _) ?_
  refine r_top hQ ?_
  refine r_if_ne (pc := 6) (tgt := 26) C dX6_statement_6 (by decide) (fun b6 => ?_) (fun b6 => ?_)
  · skip
    have b6 := (not_congr (nI_eq0 (by omega))).mp b6
    refine r_aload_0 (pc := 26) C dX6_statement_26 ?_
    refine r_getR (pc := 27) C fl_X6_7_6 (tw_g hT) rfl (tw_r1 hT) dX6_statement_27 ?_
    refine r_iconst (pc := 30) C dX6_statement_30 ci_0 ?_
    refine r_iald (pc := 31) C (tw_g1 hT) rfl rfl (lt_eq (by omega) (tw_n1 hT)) (by omega) dX6_statement_31 ?_
    refine r_top (congrFun (S5_1 _ _ _ _ _ _) _) ?_
    refine r_top hG ?_
    refine r_iconst (pc := 32) C dX6_statement_32 ci_1 ?_
    refine r_icmp_le (pc := 33) (tgt := 60) C dX6_statement_33 (by decide) (fun b33 => ?_) (fun b33 => ?_)
    · skip
      have b33 := (nI_le2 (by omega) (by omega)).mp b33
      refine r_aload_0 (pc := 60) C dX6_statement_60 ?_
      refine r_getR (pc := 61) C fl_X6_7_6 (tw_g hT) rfl (tw_r1 hT) dX6_statement_61 ?_
      refine r_iconst (pc := 64) C dX6_statement_64 ci_1 ?_
      refine r_iald (pc := 65) C (tw_g1 hT) rfl rfl (lt_eq (by omega) (tw_n1 hT)) (by omega) dX6_statement_65 ?_
      refine r_top (congrFun (S5_1 _ _ _ _ _ _) _) ?_
      refine r_top hQ ?_
      refine r_if_le (pc := 66) (tgt := 106) C dX6_statement_66 (by decide) (fun b66 => ?_) (fun b66 => ?_)
      · skip
        have b66 := (nI_le0 (by omega)).mp b66
        refine r_aload_0 (pc := 106) C dX6_statement_106 ?_
        refine r_V0io (pc := 107) C (s_next (by exact hT) hB hτL (ht.n hcur)) vl_X6_214 (tw_g hT) (by decide) (Nat.le_refl _) (Nat.le_refl _) (Nat.le_of_ble_eq_true rfl) rfl dX6_statement_107 (fun u1 A1 hc1 => ?_)
        refine r_top hc1.1 ?_
        refine r_eqA (hc1.2.trans (by rw [next_n hcur])) ?_
        clear hc1 A1 u1
        refine r_istore_1 (pc := 110) C dX6_statement_110 rfl ?_
        refine r_aload_0 (pc := 111) C dX6_statement_111 ?_
        refine r_iconst (pc := 112) C dX6_statement_112 ci_0 ?_
        refine r_iconst (pc := 113) C dX6_statement_113 ci_1 ?_
        refine r_V2vo (pc := 114) C (s_must0 (by exact hT) hB hτL ht1 False id) vl_X6_217 (tw_g hT) (by decide) (Nat.le_refl _) (Nat.le_refl _) (Nat.le_of_ble_eq_true rfl) rfl dX6_statement_114 (fun u2 A2 hc2 => ?_)
        refine r_eqA hc2 ?_
        clear hc2 A2 u2
        refine r_vret (pc := 117) C E (Nat.le_refl _) (Nat.le_refl _) dX6_statement_117 ?_
        first
          | (have hg : rK σ = 0 ∧ seesW B L wGate s := ⟨b6, b16⟩; exact ⟨_, by unfold stmW stmS stmT; rw [if_pos hg, if_pos hg, if_pos hg]⟩)
          | (have hw : 1 < rG σ ∧ mb ∧ seesW B L wWalker s := ⟨by omega, b40, b50⟩; have ng : ¬ (rK σ = 0 ∧ seesW B L wGate s) := (fun q => by first | exact b6 q.1 | exact b16 q.2); exact ⟨_, by unfold stmW stmS stmT; rw [if_neg ng, if_pos hw, if_neg ng, if_pos hw, if_neg ng, if_pos hw]⟩)
          | (have hr : 0 < rK σ ∧ isGr B L s := ⟨by omega, by first | exact Or.inl b76 | exact Or.inr (Or.inl b86) | exact Or.inr (Or.inr b96)⟩; have ng : ¬ (rK σ = 0 ∧ seesW B L wGate s) := (fun q => by first | exact b6 q.1 | exact b16 q.2); have nw : ¬ (1 < rG σ ∧ mb ∧ seesW B L wWalker s) := (fun q => by first | exact b50 q.2.2 | exact b40 q.2.1 | (have q1 := q.1; omega)); exact ⟨_, by unfold stmW stmS stmT; rw [if_neg ng, if_neg nw, if_pos hr, if_neg ng, if_neg nw, if_pos hr, if_neg ng, if_neg nw, if_pos hr]⟩)
          | (have ng : ¬ (rK σ = 0 ∧ seesW B L wGate s) := (fun q => by first | exact b6 q.1 | exact b16 q.2); have nw : ¬ (1 < rG σ ∧ mb ∧ seesW B L wWalker s) := (fun q => by first | exact b50 q.2.2 | exact b40 q.2.1 | (have q1 := q.1; omega)); have nr : ¬ (0 < rK σ ∧ isGr B L s) := (fun q => by first | (have q1 := q.1; omega) | exact q.2.elim b76 (fun q => q.elim b86 b96)); exact ⟨_, by unfold stmW stmS stmT; rw [if_neg ng, if_neg nw, if_neg nr, if_neg ng, if_neg nw, if_neg nr, if_neg ng, if_neg nw, if_neg nr]⟩)
      · skip
        have b66 := (not_congr (nI_le0 (by omega))).mp b66
        refine r_aload_0 (pc := 69) C dX6_statement_69 ?_
        refine r_ldcwS (pc := 70) C k274 dX6_statement_70 ?_
        refine r_V1io (pc := 73) C (s_sees (by exact hT) hB hτL (ht.n hcur) hK.1 s274) vl_X6_250 (tw_g hT) (by decide) (Nat.le_refl _) (Nat.le_refl _) (Nat.le_of_ble_eq_true rfl) rfl dX6_statement_73 (fun u3 A3 hc3 => ?_)
        refine r_top (hc3.1.trans (bI_iff (sees_n (l := wStone) hcur))) ?_
        refine r_eqA (hc3.2.trans (by rw [next_n hcur])) ?_
        have hcur : nextS B L s = s ∨ nextS B L s = nextS B L s := Or.inr rfl
        clear hc3 A3 u3
        refine r_if_ne (pc := 76) (tgt := 99) C dX6_statement_76 (by decide) (fun b76 => ?_) (fun b76 => ?_)
        · skip
          have b76 := bI_n.mp b76
          refine r_aload_0 (pc := 99) C dX6_statement_99 ?_
          refine r_V0vo (pc := 100) C (m_groundLine (by exact hT) hB hτL ht1 hK (hW (by omega))) vl_X6_299 (tw_g hT) (by decide) (Nat.le_refl _) (Nat.le_refl _) (Nat.le_of_ble_eq_true rfl) rfl dX6_statement_100 (fun u4 A4 hc4 => ?_)
          obtain ⟨κL, eA⟩ := hc4
          refine r_eqA eA ?_
          clear eA A4 u4
          refine r_goto (pc := 103) (tgt := 117) C dX6_statement_103 (by decide) ?_
          refine r_vret (pc := 117) C E (Nat.le_refl _) (Nat.le_refl _) dX6_statement_117 ?_
          first
            | (have hg : rK σ = 0 ∧ seesW B L wGate s := ⟨b6, b16⟩; exact ⟨_, by unfold stmW stmS stmT; rw [if_pos hg, if_pos hg, if_pos hg]⟩)
            | (have hw : 1 < rG σ ∧ mb ∧ seesW B L wWalker s := ⟨by omega, b40, b50⟩; have ng : ¬ (rK σ = 0 ∧ seesW B L wGate s) := (fun q => by first | exact b6 q.1 | exact b16 q.2); exact ⟨_, by unfold stmW stmS stmT; rw [if_neg ng, if_pos hw, if_neg ng, if_pos hw, if_neg ng, if_pos hw]⟩)
            | (have hr : 0 < rK σ ∧ isGr B L s := ⟨by omega, by first | exact Or.inl b76 | exact Or.inr (Or.inl b86) | exact Or.inr (Or.inr b96)⟩; have ng : ¬ (rK σ = 0 ∧ seesW B L wGate s) := (fun q => by first | exact b6 q.1 | exact b16 q.2); have nw : ¬ (1 < rG σ ∧ mb ∧ seesW B L wWalker s) := (fun q => by first | exact b50 q.2.2 | exact b40 q.2.1 | (have q1 := q.1; omega)); exact ⟨_, by unfold stmW stmS stmT; rw [if_neg ng, if_neg nw, if_pos hr, if_neg ng, if_neg nw, if_pos hr, if_neg ng, if_neg nw, if_pos hr]⟩)
            | (have ng : ¬ (rK σ = 0 ∧ seesW B L wGate s) := (fun q => by first | exact b6 q.1 | exact b16 q.2); have nw : ¬ (1 < rG σ ∧ mb ∧ seesW B L wWalker s) := (fun q => by first | exact b50 q.2.2 | exact b40 q.2.1 | (have q1 := q.1; omega)); have nr : ¬ (0 < rK σ ∧ isGr B L s) := (fun q => by first | (have q1 := q.1; omega) | exact q.2.elim b76 (fun q => q.elim b86 b96)); exact ⟨_, by unfold stmW stmS stmT; rw [if_neg ng, if_neg nw, if_neg nr, if_neg ng, if_neg nw, if_neg nr, if_neg ng, if_neg nw, if_neg nr]⟩)
        · skip
          have b76 := bI_0.mp b76
          refine r_aload_0 (pc := 79) C dX6_statement_79 ?_
          refine r_ldcwS (pc := 80) C k279 dX6_statement_80 ?_
          refine r_V1io (pc := 83) C (s_sees (by exact hT) hB hτL (ht.n hcur) hK.1 s279) vl_X6_250 (tw_g hT) (by decide) (Nat.le_refl _) (Nat.le_refl _) (Nat.le_of_ble_eq_true rfl) rfl dX6_statement_83 (fun u5 A5 hc5 => ?_)
          refine r_top (hc5.1.trans (bI_iff (sees_n (l := wGrass) hcur))) ?_
          refine r_eqA (hc5.2.trans (by rw [next_n hcur])) ?_
          have hcur : nextS B L s = s ∨ nextS B L s = nextS B L s := Or.inr rfl
          clear hc5 A5 u5
          refine r_if_ne (pc := 86) (tgt := 99) C dX6_statement_86 (by decide) (fun b86 => ?_) (fun b86 => ?_)
          · skip
            have b86 := bI_n.mp b86
            refine r_aload_0 (pc := 99) C dX6_statement_99 ?_
            refine r_V0vo (pc := 100) C (m_groundLine (by exact hT) hB hτL ht1 hK (hW (by omega))) vl_X6_299 (tw_g hT) (by decide) (Nat.le_refl _) (Nat.le_refl _) (Nat.le_of_ble_eq_true rfl) rfl dX6_statement_100 (fun u6 A6 hc6 => ?_)
            obtain ⟨κL, eA⟩ := hc6
            refine r_eqA eA ?_
            clear eA A6 u6
            refine r_goto (pc := 103) (tgt := 117) C dX6_statement_103 (by decide) ?_
            refine r_vret (pc := 117) C E (Nat.le_refl _) (Nat.le_refl _) dX6_statement_117 ?_
            first
              | (have hg : rK σ = 0 ∧ seesW B L wGate s := ⟨b6, b16⟩; exact ⟨_, by unfold stmW stmS stmT; rw [if_pos hg, if_pos hg, if_pos hg]⟩)
              | (have hw : 1 < rG σ ∧ mb ∧ seesW B L wWalker s := ⟨by omega, b40, b50⟩; have ng : ¬ (rK σ = 0 ∧ seesW B L wGate s) := (fun q => by first | exact b6 q.1 | exact b16 q.2); exact ⟨_, by unfold stmW stmS stmT; rw [if_neg ng, if_pos hw, if_neg ng, if_pos hw, if_neg ng, if_pos hw]⟩)
              | (have hr : 0 < rK σ ∧ isGr B L s := ⟨by omega, by first | exact Or.inl b76 | exact Or.inr (Or.inl b86) | exact Or.inr (Or.inr b96)⟩; have ng : ¬ (rK σ = 0 ∧ seesW B L wGate s) := (fun q => by first | exact b6 q.1 | exact b16 q.2); have nw : ¬ (1 < rG σ ∧ mb ∧ seesW B L wWalker s) := (fun q => by first | exact b50 q.2.2 | exact b40 q.2.1 | (have q1 := q.1; omega)); exact ⟨_, by unfold stmW stmS stmT; rw [if_neg ng, if_neg nw, if_pos hr, if_neg ng, if_neg nw, if_pos hr, if_neg ng, if_neg nw, if_pos hr]⟩)
              | (have ng : ¬ (rK σ = 0 ∧ seesW B L wGate s) := (fun q => by first | exact b6 q.1 | exact b16 q.2); have nw : ¬ (1 < rG σ ∧ mb ∧ seesW B L wWalker s) := (fun q => by first | exact b50 q.2.2 | exact b40 q.2.1 | (have q1 := q.1; omega)); have nr : ¬ (0 < rK σ ∧ isGr B L s) := (fun q => by first | (have q1 := q.1; omega) | exact q.2.elim b76 (fun q => q.elim b86 b96)); exact ⟨_, by unfold stmW stmS stmT; rw [if_neg ng, if_neg nw, if_neg nr, if_neg ng, if_neg nw, if_neg nr, if_neg ng, if_neg nw, if_neg nr]⟩)
          · skip
            have b86 := bI_0.mp b86
            refine r_aload_0 (pc := 89) C dX6_statement_89 ?_
            refine r_ldcwS (pc := 90) C k297 dX6_statement_90 ?_
            refine r_V1io (pc := 93) C (s_sees (by exact hT) hB hτL (ht.n hcur) hK.1 s297) vl_X6_250 (tw_g hT) (by decide) (Nat.le_refl _) (Nat.le_refl _) (Nat.le_of_ble_eq_true rfl) rfl dX6_statement_93 (fun u7 A7 hc7 => ?_)
            refine r_top (hc7.1.trans (bI_iff (sees_n (l := wFence) hcur))) ?_
            refine r_eqA (hc7.2.trans (by rw [next_n hcur])) ?_
            have hcur : nextS B L s = s ∨ nextS B L s = nextS B L s := Or.inr rfl
            clear hc7 A7 u7
            refine r_if_eq (pc := 96) (tgt := 106) C dX6_statement_96 (by decide) (fun b96 => ?_) (fun b96 => ?_)
            · skip
              have b96 := bI_0.mp b96
              refine r_aload_0 (pc := 106) C dX6_statement_106 ?_
              refine r_V0io (pc := 107) C (s_next (by exact hT) hB hτL (ht.n hcur)) vl_X6_214 (tw_g hT) (by decide) (Nat.le_refl _) (Nat.le_refl _) (Nat.le_of_ble_eq_true rfl) rfl dX6_statement_107 (fun u8 A8 hc8 => ?_)
              refine r_top hc8.1 ?_
              refine r_eqA (hc8.2.trans (by rw [next_n hcur])) ?_
              clear hc8 A8 u8
              refine r_istore_1 (pc := 110) C dX6_statement_110 rfl ?_
              refine r_aload_0 (pc := 111) C dX6_statement_111 ?_
              refine r_iconst (pc := 112) C dX6_statement_112 ci_0 ?_
              refine r_iconst (pc := 113) C dX6_statement_113 ci_1 ?_
              refine r_V2vo (pc := 114) C (s_must0 (by exact hT) hB hτL ht1 False id) vl_X6_217 (tw_g hT) (by decide) (Nat.le_refl _) (Nat.le_refl _) (Nat.le_of_ble_eq_true rfl) rfl dX6_statement_114 (fun u9 A9 hc9 => ?_)
              refine r_eqA hc9 ?_
              clear hc9 A9 u9
              refine r_vret (pc := 117) C E (Nat.le_refl _) (Nat.le_refl _) dX6_statement_117 ?_
              first
                | (have hg : rK σ = 0 ∧ seesW B L wGate s := ⟨b6, b16⟩; exact ⟨_, by unfold stmW stmS stmT; rw [if_pos hg, if_pos hg, if_pos hg]⟩)
                | (have hw : 1 < rG σ ∧ mb ∧ seesW B L wWalker s := ⟨by omega, b40, b50⟩; have ng : ¬ (rK σ = 0 ∧ seesW B L wGate s) := (fun q => by first | exact b6 q.1 | exact b16 q.2); exact ⟨_, by unfold stmW stmS stmT; rw [if_neg ng, if_pos hw, if_neg ng, if_pos hw, if_neg ng, if_pos hw]⟩)
                | (have hr : 0 < rK σ ∧ isGr B L s := ⟨by omega, by first | exact Or.inl b76 | exact Or.inr (Or.inl b86) | exact Or.inr (Or.inr b96)⟩; have ng : ¬ (rK σ = 0 ∧ seesW B L wGate s) := (fun q => by first | exact b6 q.1 | exact b16 q.2); have nw : ¬ (1 < rG σ ∧ mb ∧ seesW B L wWalker s) := (fun q => by first | exact b50 q.2.2 | exact b40 q.2.1 | (have q1 := q.1; omega)); exact ⟨_, by unfold stmW stmS stmT; rw [if_neg ng, if_neg nw, if_pos hr, if_neg ng, if_neg nw, if_pos hr, if_neg ng, if_neg nw, if_pos hr]⟩)
                | (have ng : ¬ (rK σ = 0 ∧ seesW B L wGate s) := (fun q => by first | exact b6 q.1 | exact b16 q.2); have nw : ¬ (1 < rG σ ∧ mb ∧ seesW B L wWalker s) := (fun q => by first | exact b50 q.2.2 | exact b40 q.2.1 | (have q1 := q.1; omega)); have nr : ¬ (0 < rK σ ∧ isGr B L s) := (fun q => by first | (have q1 := q.1; omega) | exact q.2.elim b76 (fun q => q.elim b86 b96)); exact ⟨_, by unfold stmW stmS stmT; rw [if_neg ng, if_neg nw, if_neg nr, if_neg ng, if_neg nw, if_neg nr, if_neg ng, if_neg nw, if_neg nr]⟩)
            · skip
              have b96 := bI_n.mp b96
              refine r_aload_0 (pc := 99) C dX6_statement_99 ?_
              refine r_V0vo (pc := 100) C (m_groundLine (by exact hT) hB hτL ht1 hK (hW (by omega))) vl_X6_299 (tw_g hT) (by decide) (Nat.le_refl _) (Nat.le_refl _) (Nat.le_of_ble_eq_true rfl) rfl dX6_statement_100 (fun u10 A10 hc10 => ?_)
              obtain ⟨κL, eA⟩ := hc10
              refine r_eqA eA ?_
              clear eA A10 u10
              refine r_goto (pc := 103) (tgt := 117) C dX6_statement_103 (by decide) ?_
              refine r_vret (pc := 117) C E (Nat.le_refl _) (Nat.le_refl _) dX6_statement_117 ?_
              first
                | (have hg : rK σ = 0 ∧ seesW B L wGate s := ⟨b6, b16⟩; exact ⟨_, by unfold stmW stmS stmT; rw [if_pos hg, if_pos hg, if_pos hg]⟩)
                | (have hw : 1 < rG σ ∧ mb ∧ seesW B L wWalker s := ⟨by omega, b40, b50⟩; have ng : ¬ (rK σ = 0 ∧ seesW B L wGate s) := (fun q => by first | exact b6 q.1 | exact b16 q.2); exact ⟨_, by unfold stmW stmS stmT; rw [if_neg ng, if_pos hw, if_neg ng, if_pos hw, if_neg ng, if_pos hw]⟩)
                | (have hr : 0 < rK σ ∧ isGr B L s := ⟨by omega, by first | exact Or.inl b76 | exact Or.inr (Or.inl b86) | exact Or.inr (Or.inr b96)⟩; have ng : ¬ (rK σ = 0 ∧ seesW B L wGate s) := (fun q => by first | exact b6 q.1 | exact b16 q.2); have nw : ¬ (1 < rG σ ∧ mb ∧ seesW B L wWalker s) := (fun q => by first | exact b50 q.2.2 | exact b40 q.2.1 | (have q1 := q.1; omega)); exact ⟨_, by unfold stmW stmS stmT; rw [if_neg ng, if_neg nw, if_pos hr, if_neg ng, if_neg nw, if_pos hr, if_neg ng, if_neg nw, if_pos hr]⟩)
                | (have ng : ¬ (rK σ = 0 ∧ seesW B L wGate s) := (fun q => by first | exact b6 q.1 | exact b16 q.2); have nw : ¬ (1 < rG σ ∧ mb ∧ seesW B L wWalker s) := (fun q => by first | exact b50 q.2.2 | exact b40 q.2.1 | (have q1 := q.1; omega)); have nr : ¬ (0 < rK σ ∧ isGr B L s) := (fun q => by first | (have q1 := q.1; omega) | exact q.2.elim b76 (fun q => q.elim b86 b96)); exact ⟨_, by unfold stmW stmS stmT; rw [if_neg ng, if_neg nw, if_neg nr, if_neg ng, if_neg nw, if_neg nr, if_neg ng, if_neg nw, if_neg nr]⟩)
    · skip
      have b33 := (not_congr (nI_le2 (by omega) (by omega))).mp b33
      refine r_aload_0 (pc := 36) C dX6_statement_36 ?_
      refine r_getI (pc := 37) C fl_X6_270_6 (tw_g hT) rfl dX6_statement_37 ?_
      refine r_top (congrFun (S5_0 _ _ _ _ _ _) _) ?_
      refine r_top ((st_x _ _ _ _ _ _ (by omega)).trans hmb) ?_
      refine r_if_eq (pc := 40) (tgt := 60) C dX6_statement_40 (by decide) (fun b40 => ?_) (fun b40 => ?_)
      · skip
        have b40 := bI_0.mp b40
        refine r_aload_0 (pc := 60) C dX6_statement_60 ?_
        refine r_getR (pc := 61) C fl_X6_7_6 (tw_g hT) rfl (tw_r1 hT) dX6_statement_61 ?_
        refine r_iconst (pc := 64) C dX6_statement_64 ci_1 ?_
        refine r_iald (pc := 65) C (tw_g1 hT) rfl rfl (lt_eq (by omega) (tw_n1 hT)) (by omega) dX6_statement_65 ?_
        refine r_top (congrFun (S5_1 _ _ _ _ _ _) _) ?_
        refine r_top hQ ?_
        refine r_if_le (pc := 66) (tgt := 106) C dX6_statement_66 (by decide) (fun b66 => ?_) (fun b66 => ?_)
        · skip
          have b66 := (nI_le0 (by omega)).mp b66
          refine r_aload_0 (pc := 106) C dX6_statement_106 ?_
          refine r_V0io (pc := 107) C (s_next (by exact hT) hB hτL (ht.n hcur)) vl_X6_214 (tw_g hT) (by decide) (Nat.le_refl _) (Nat.le_refl _) (Nat.le_of_ble_eq_true rfl) rfl dX6_statement_107 (fun u11 A11 hc11 => ?_)
          refine r_top hc11.1 ?_
          refine r_eqA (hc11.2.trans (by rw [next_n hcur])) ?_
          clear hc11 A11 u11
          refine r_istore_1 (pc := 110) C dX6_statement_110 rfl ?_
          refine r_aload_0 (pc := 111) C dX6_statement_111 ?_
          refine r_iconst (pc := 112) C dX6_statement_112 ci_0 ?_
          refine r_iconst (pc := 113) C dX6_statement_113 ci_1 ?_
          refine r_V2vo (pc := 114) C (s_must0 (by exact hT) hB hτL ht1 False id) vl_X6_217 (tw_g hT) (by decide) (Nat.le_refl _) (Nat.le_refl _) (Nat.le_of_ble_eq_true rfl) rfl dX6_statement_114 (fun u12 A12 hc12 => ?_)
          refine r_eqA hc12 ?_
          clear hc12 A12 u12
          refine r_vret (pc := 117) C E (Nat.le_refl _) (Nat.le_refl _) dX6_statement_117 ?_
          first
            | (have hg : rK σ = 0 ∧ seesW B L wGate s := ⟨b6, b16⟩; exact ⟨_, by unfold stmW stmS stmT; rw [if_pos hg, if_pos hg, if_pos hg]⟩)
            | (have hw : 1 < rG σ ∧ mb ∧ seesW B L wWalker s := ⟨by omega, b40, b50⟩; have ng : ¬ (rK σ = 0 ∧ seesW B L wGate s) := (fun q => by first | exact b6 q.1 | exact b16 q.2); exact ⟨_, by unfold stmW stmS stmT; rw [if_neg ng, if_pos hw, if_neg ng, if_pos hw, if_neg ng, if_pos hw]⟩)
            | (have hr : 0 < rK σ ∧ isGr B L s := ⟨by omega, by first | exact Or.inl b76 | exact Or.inr (Or.inl b86) | exact Or.inr (Or.inr b96)⟩; have ng : ¬ (rK σ = 0 ∧ seesW B L wGate s) := (fun q => by first | exact b6 q.1 | exact b16 q.2); have nw : ¬ (1 < rG σ ∧ mb ∧ seesW B L wWalker s) := (fun q => by first | exact b50 q.2.2 | exact b40 q.2.1 | (have q1 := q.1; omega)); exact ⟨_, by unfold stmW stmS stmT; rw [if_neg ng, if_neg nw, if_pos hr, if_neg ng, if_neg nw, if_pos hr, if_neg ng, if_neg nw, if_pos hr]⟩)
            | (have ng : ¬ (rK σ = 0 ∧ seesW B L wGate s) := (fun q => by first | exact b6 q.1 | exact b16 q.2); have nw : ¬ (1 < rG σ ∧ mb ∧ seesW B L wWalker s) := (fun q => by first | exact b50 q.2.2 | exact b40 q.2.1 | (have q1 := q.1; omega)); have nr : ¬ (0 < rK σ ∧ isGr B L s) := (fun q => by first | (have q1 := q.1; omega) | exact q.2.elim b76 (fun q => q.elim b86 b96)); exact ⟨_, by unfold stmW stmS stmT; rw [if_neg ng, if_neg nw, if_neg nr, if_neg ng, if_neg nw, if_neg nr, if_neg ng, if_neg nw, if_neg nr]⟩)
        · skip
          have b66 := (not_congr (nI_le0 (by omega))).mp b66
          refine r_aload_0 (pc := 69) C dX6_statement_69 ?_
          refine r_ldcwS (pc := 70) C k274 dX6_statement_70 ?_
          refine r_V1io (pc := 73) C (s_sees (by exact hT) hB hτL (ht.n hcur) hK.1 s274) vl_X6_250 (tw_g hT) (by decide) (Nat.le_refl _) (Nat.le_refl _) (Nat.le_of_ble_eq_true rfl) rfl dX6_statement_73 (fun u13 A13 hc13 => ?_)
          refine r_top (hc13.1.trans (bI_iff (sees_n (l := wStone) hcur))) ?_
          refine r_eqA (hc13.2.trans (by rw [next_n hcur])) ?_
          have hcur : nextS B L s = s ∨ nextS B L s = nextS B L s := Or.inr rfl
          clear hc13 A13 u13
          refine r_if_ne (pc := 76) (tgt := 99) C dX6_statement_76 (by decide) (fun b76 => ?_) (fun b76 => ?_)
          · skip
            have b76 := bI_n.mp b76
            refine r_aload_0 (pc := 99) C dX6_statement_99 ?_
            refine r_V0vo (pc := 100) C (m_groundLine (by exact hT) hB hτL ht1 hK (hW (by omega))) vl_X6_299 (tw_g hT) (by decide) (Nat.le_refl _) (Nat.le_refl _) (Nat.le_of_ble_eq_true rfl) rfl dX6_statement_100 (fun u14 A14 hc14 => ?_)
            obtain ⟨κL, eA⟩ := hc14
            refine r_eqA eA ?_
            clear eA A14 u14
            refine r_goto (pc := 103) (tgt := 117) C dX6_statement_103 (by decide) ?_
            refine r_vret (pc := 117) C E (Nat.le_refl _) (Nat.le_refl _) dX6_statement_117 ?_
            first
              | (have hg : rK σ = 0 ∧ seesW B L wGate s := ⟨b6, b16⟩; exact ⟨_, by unfold stmW stmS stmT; rw [if_pos hg, if_pos hg, if_pos hg]⟩)
              | (have hw : 1 < rG σ ∧ mb ∧ seesW B L wWalker s := ⟨by omega, b40, b50⟩; have ng : ¬ (rK σ = 0 ∧ seesW B L wGate s) := (fun q => by first | exact b6 q.1 | exact b16 q.2); exact ⟨_, by unfold stmW stmS stmT; rw [if_neg ng, if_pos hw, if_neg ng, if_pos hw, if_neg ng, if_pos hw]⟩)
              | (have hr : 0 < rK σ ∧ isGr B L s := ⟨by omega, by first | exact Or.inl b76 | exact Or.inr (Or.inl b86) | exact Or.inr (Or.inr b96)⟩; have ng : ¬ (rK σ = 0 ∧ seesW B L wGate s) := (fun q => by first | exact b6 q.1 | exact b16 q.2); have nw : ¬ (1 < rG σ ∧ mb ∧ seesW B L wWalker s) := (fun q => by first | exact b50 q.2.2 | exact b40 q.2.1 | (have q1 := q.1; omega)); exact ⟨_, by unfold stmW stmS stmT; rw [if_neg ng, if_neg nw, if_pos hr, if_neg ng, if_neg nw, if_pos hr, if_neg ng, if_neg nw, if_pos hr]⟩)
              | (have ng : ¬ (rK σ = 0 ∧ seesW B L wGate s) := (fun q => by first | exact b6 q.1 | exact b16 q.2); have nw : ¬ (1 < rG σ ∧ mb ∧ seesW B L wWalker s) := (fun q => by first | exact b50 q.2.2 | exact b40 q.2.1 | (have q1 := q.1; omega)); have nr : ¬ (0 < rK σ ∧ isGr B L s) := (fun q => by first | (have q1 := q.1; omega) | exact q.2.elim b76 (fun q => q.elim b86 b96)); exact ⟨_, by unfold stmW stmS stmT; rw [if_neg ng, if_neg nw, if_neg nr, if_neg ng, if_neg nw, if_neg nr, if_neg ng, if_neg nw, if_neg nr]⟩)
          · skip
            have b76 := bI_0.mp b76
            refine r_aload_0 (pc := 79) C dX6_statement_79 ?_
            refine r_ldcwS (pc := 80) C k279 dX6_statement_80 ?_
            refine r_V1io (pc := 83) C (s_sees (by exact hT) hB hτL (ht.n hcur) hK.1 s279) vl_X6_250 (tw_g hT) (by decide) (Nat.le_refl _) (Nat.le_refl _) (Nat.le_of_ble_eq_true rfl) rfl dX6_statement_83 (fun u15 A15 hc15 => ?_)
            refine r_top (hc15.1.trans (bI_iff (sees_n (l := wGrass) hcur))) ?_
            refine r_eqA (hc15.2.trans (by rw [next_n hcur])) ?_
            have hcur : nextS B L s = s ∨ nextS B L s = nextS B L s := Or.inr rfl
            clear hc15 A15 u15
            refine r_if_ne (pc := 86) (tgt := 99) C dX6_statement_86 (by decide) (fun b86 => ?_) (fun b86 => ?_)
            · skip
              have b86 := bI_n.mp b86
              refine r_aload_0 (pc := 99) C dX6_statement_99 ?_
              refine r_V0vo (pc := 100) C (m_groundLine (by exact hT) hB hτL ht1 hK (hW (by omega))) vl_X6_299 (tw_g hT) (by decide) (Nat.le_refl _) (Nat.le_refl _) (Nat.le_of_ble_eq_true rfl) rfl dX6_statement_100 (fun u16 A16 hc16 => ?_)
              obtain ⟨κL, eA⟩ := hc16
              refine r_eqA eA ?_
              clear eA A16 u16
              refine r_goto (pc := 103) (tgt := 117) C dX6_statement_103 (by decide) ?_
              refine r_vret (pc := 117) C E (Nat.le_refl _) (Nat.le_refl _) dX6_statement_117 ?_
              first
                | (have hg : rK σ = 0 ∧ seesW B L wGate s := ⟨b6, b16⟩; exact ⟨_, by unfold stmW stmS stmT; rw [if_pos hg, if_pos hg, if_pos hg]⟩)
                | (have hw : 1 < rG σ ∧ mb ∧ seesW B L wWalker s := ⟨by omega, b40, b50⟩; have ng : ¬ (rK σ = 0 ∧ seesW B L wGate s) := (fun q => by first | exact b6 q.1 | exact b16 q.2); exact ⟨_, by unfold stmW stmS stmT; rw [if_neg ng, if_pos hw, if_neg ng, if_pos hw, if_neg ng, if_pos hw]⟩)
                | (have hr : 0 < rK σ ∧ isGr B L s := ⟨by omega, by first | exact Or.inl b76 | exact Or.inr (Or.inl b86) | exact Or.inr (Or.inr b96)⟩; have ng : ¬ (rK σ = 0 ∧ seesW B L wGate s) := (fun q => by first | exact b6 q.1 | exact b16 q.2); have nw : ¬ (1 < rG σ ∧ mb ∧ seesW B L wWalker s) := (fun q => by first | exact b50 q.2.2 | exact b40 q.2.1 | (have q1 := q.1; omega)); exact ⟨_, by unfold stmW stmS stmT; rw [if_neg ng, if_neg nw, if_pos hr, if_neg ng, if_neg nw, if_pos hr, if_neg ng, if_neg nw, if_pos hr]⟩)
                | (have ng : ¬ (rK σ = 0 ∧ seesW B L wGate s) := (fun q => by first | exact b6 q.1 | exact b16 q.2); have nw : ¬ (1 < rG σ ∧ mb ∧ seesW B L wWalker s) := (fun q => by first | exact b50 q.2.2 | exact b40 q.2.1 | (have q1 := q.1; omega)); have nr : ¬ (0 < rK σ ∧ isGr B L s) := (fun q => by first | (have q1 := q.1; omega) | exact q.2.elim b76 (fun q => q.elim b86 b96)); exact ⟨_, by unfold stmW stmS stmT; rw [if_neg ng, if_neg nw, if_neg nr, if_neg ng, if_neg nw, if_neg nr, if_neg ng, if_neg nw, if_neg nr]⟩)
            · skip
              have b86 := bI_0.mp b86
              refine r_aload_0 (pc := 89) C dX6_statement_89 ?_
              refine r_ldcwS (pc := 90) C k297 dX6_statement_90 ?_
              refine r_V1io (pc := 93) C (s_sees (by exact hT) hB hτL (ht.n hcur) hK.1 s297) vl_X6_250 (tw_g hT) (by decide) (Nat.le_refl _) (Nat.le_refl _) (Nat.le_of_ble_eq_true rfl) rfl dX6_statement_93 (fun u17 A17 hc17 => ?_)
              refine r_top (hc17.1.trans (bI_iff (sees_n (l := wFence) hcur))) ?_
              refine r_eqA (hc17.2.trans (by rw [next_n hcur])) ?_
              have hcur : nextS B L s = s ∨ nextS B L s = nextS B L s := Or.inr rfl
              clear hc17 A17 u17
              refine r_if_eq (pc := 96) (tgt := 106) C dX6_statement_96 (by decide) (fun b96 => ?_) (fun b96 => ?_)
              · skip
                have b96 := bI_0.mp b96
                refine r_aload_0 (pc := 106) C dX6_statement_106 ?_
                refine r_V0io (pc := 107) C (s_next (by exact hT) hB hτL (ht.n hcur)) vl_X6_214 (tw_g hT) (by decide) (Nat.le_refl _) (Nat.le_refl _) (Nat.le_of_ble_eq_true rfl) rfl dX6_statement_107 (fun u18 A18 hc18 => ?_)
                refine r_top hc18.1 ?_
                refine r_eqA (hc18.2.trans (by rw [next_n hcur])) ?_
                clear hc18 A18 u18
                refine r_istore_1 (pc := 110) C dX6_statement_110 rfl ?_
                refine r_aload_0 (pc := 111) C dX6_statement_111 ?_
                refine r_iconst (pc := 112) C dX6_statement_112 ci_0 ?_
                refine r_iconst (pc := 113) C dX6_statement_113 ci_1 ?_
                refine r_V2vo (pc := 114) C (s_must0 (by exact hT) hB hτL ht1 False id) vl_X6_217 (tw_g hT) (by decide) (Nat.le_refl _) (Nat.le_refl _) (Nat.le_of_ble_eq_true rfl) rfl dX6_statement_114 (fun u19 A19 hc19 => ?_)
                refine r_eqA hc19 ?_
                clear hc19 A19 u19
                refine r_vret (pc := 117) C E (Nat.le_refl _) (Nat.le_refl _) dX6_statement_117 ?_
                first
                  | (have hg : rK σ = 0 ∧ seesW B L wGate s := ⟨b6, b16⟩; exact ⟨_, by unfold stmW stmS stmT; rw [if_pos hg, if_pos hg, if_pos hg]⟩)
                  | (have hw : 1 < rG σ ∧ mb ∧ seesW B L wWalker s := ⟨by omega, b40, b50⟩; have ng : ¬ (rK σ = 0 ∧ seesW B L wGate s) := (fun q => by first | exact b6 q.1 | exact b16 q.2); exact ⟨_, by unfold stmW stmS stmT; rw [if_neg ng, if_pos hw, if_neg ng, if_pos hw, if_neg ng, if_pos hw]⟩)
                  | (have hr : 0 < rK σ ∧ isGr B L s := ⟨by omega, by first | exact Or.inl b76 | exact Or.inr (Or.inl b86) | exact Or.inr (Or.inr b96)⟩; have ng : ¬ (rK σ = 0 ∧ seesW B L wGate s) := (fun q => by first | exact b6 q.1 | exact b16 q.2); have nw : ¬ (1 < rG σ ∧ mb ∧ seesW B L wWalker s) := (fun q => by first | exact b50 q.2.2 | exact b40 q.2.1 | (have q1 := q.1; omega)); exact ⟨_, by unfold stmW stmS stmT; rw [if_neg ng, if_neg nw, if_pos hr, if_neg ng, if_neg nw, if_pos hr, if_neg ng, if_neg nw, if_pos hr]⟩)
                  | (have ng : ¬ (rK σ = 0 ∧ seesW B L wGate s) := (fun q => by first | exact b6 q.1 | exact b16 q.2); have nw : ¬ (1 < rG σ ∧ mb ∧ seesW B L wWalker s) := (fun q => by first | exact b50 q.2.2 | exact b40 q.2.1 | (have q1 := q.1; omega)); have nr : ¬ (0 < rK σ ∧ isGr B L s) := (fun q => by first | (have q1 := q.1; omega) | exact q.2.elim b76 (fun q => q.elim b86 b96)); exact ⟨_, by unfold stmW stmS stmT; rw [if_neg ng, if_neg nw, if_neg nr, if_neg ng, if_neg nw, if_neg nr, if_neg ng, if_neg nw, if_neg nr]⟩)
              · skip
                have b96 := bI_n.mp b96
                refine r_aload_0 (pc := 99) C dX6_statement_99 ?_
                refine r_V0vo (pc := 100) C (m_groundLine (by exact hT) hB hτL ht1 hK (hW (by omega))) vl_X6_299 (tw_g hT) (by decide) (Nat.le_refl _) (Nat.le_refl _) (Nat.le_of_ble_eq_true rfl) rfl dX6_statement_100 (fun u20 A20 hc20 => ?_)
                obtain ⟨κL, eA⟩ := hc20
                refine r_eqA eA ?_
                clear eA A20 u20
                refine r_goto (pc := 103) (tgt := 117) C dX6_statement_103 (by decide) ?_
                refine r_vret (pc := 117) C E (Nat.le_refl _) (Nat.le_refl _) dX6_statement_117 ?_
                first
                  | (have hg : rK σ = 0 ∧ seesW B L wGate s := ⟨b6, b16⟩; exact ⟨_, by unfold stmW stmS stmT; rw [if_pos hg, if_pos hg, if_pos hg]⟩)
                  | (have hw : 1 < rG σ ∧ mb ∧ seesW B L wWalker s := ⟨by omega, b40, b50⟩; have ng : ¬ (rK σ = 0 ∧ seesW B L wGate s) := (fun q => by first | exact b6 q.1 | exact b16 q.2); exact ⟨_, by unfold stmW stmS stmT; rw [if_neg ng, if_pos hw, if_neg ng, if_pos hw, if_neg ng, if_pos hw]⟩)
                  | (have hr : 0 < rK σ ∧ isGr B L s := ⟨by omega, by first | exact Or.inl b76 | exact Or.inr (Or.inl b86) | exact Or.inr (Or.inr b96)⟩; have ng : ¬ (rK σ = 0 ∧ seesW B L wGate s) := (fun q => by first | exact b6 q.1 | exact b16 q.2); have nw : ¬ (1 < rG σ ∧ mb ∧ seesW B L wWalker s) := (fun q => by first | exact b50 q.2.2 | exact b40 q.2.1 | (have q1 := q.1; omega)); exact ⟨_, by unfold stmW stmS stmT; rw [if_neg ng, if_neg nw, if_pos hr, if_neg ng, if_neg nw, if_pos hr, if_neg ng, if_neg nw, if_pos hr]⟩)
                  | (have ng : ¬ (rK σ = 0 ∧ seesW B L wGate s) := (fun q => by first | exact b6 q.1 | exact b16 q.2); have nw : ¬ (1 < rG σ ∧ mb ∧ seesW B L wWalker s) := (fun q => by first | exact b50 q.2.2 | exact b40 q.2.1 | (have q1 := q.1; omega)); have nr : ¬ (0 < rK σ ∧ isGr B L s) := (fun q => by first | (have q1 := q.1; omega) | exact q.2.elim b76 (fun q => q.elim b86 b96)); exact ⟨_, by unfold stmW stmS stmT; rw [if_neg ng, if_neg nw, if_neg nr, if_neg ng, if_neg nw, if_neg nr, if_neg ng, if_neg nw, if_neg nr]⟩)
      · skip
        have b40 := bI_n.mp b40
        refine r_aload_0 (pc := 43) C dX6_statement_43 ?_
        refine r_ldcwS (pc := 44) C k292 dX6_statement_44 ?_
        refine r_V1io (pc := 47) C (s_sees (by exact hT) hB hτL (ht.n hcur) hK.1 s292) vl_X6_250 (tw_g hT) (by decide) (Nat.le_refl _) (Nat.le_refl _) (Nat.le_of_ble_eq_true rfl) rfl dX6_statement_47 (fun u21 A21 hc21 => ?_)
        refine r_top (hc21.1.trans (bI_iff (sees_n (l := wWalker) hcur))) ?_
        refine r_eqA (hc21.2.trans (by rw [next_n hcur])) ?_
        have hcur : nextS B L s = s ∨ nextS B L s = nextS B L s := Or.inr rfl
        clear hc21 A21 u21
        refine r_if_eq (pc := 50) (tgt := 60) C dX6_statement_50 (by decide) (fun b50 => ?_) (fun b50 => ?_)
        · skip
          have b50 := bI_0.mp b50
          refine r_aload_0 (pc := 60) C dX6_statement_60 ?_
          refine r_getR (pc := 61) C fl_X6_7_6 (tw_g hT) rfl (tw_r1 hT) dX6_statement_61 ?_
          refine r_iconst (pc := 64) C dX6_statement_64 ci_1 ?_
          refine r_iald (pc := 65) C (tw_g1 hT) rfl rfl (lt_eq (by omega) (tw_n1 hT)) (by omega) dX6_statement_65 ?_
          refine r_top (congrFun (S5_1 _ _ _ _ _ _) _) ?_
          refine r_top hQ ?_
          refine r_if_le (pc := 66) (tgt := 106) C dX6_statement_66 (by decide) (fun b66 => ?_) (fun b66 => ?_)
          · skip
            have b66 := (nI_le0 (by omega)).mp b66
            refine r_aload_0 (pc := 106) C dX6_statement_106 ?_
            refine r_V0io (pc := 107) C (s_next (by exact hT) hB hτL (ht.n hcur)) vl_X6_214 (tw_g hT) (by decide) (Nat.le_refl _) (Nat.le_refl _) (Nat.le_of_ble_eq_true rfl) rfl dX6_statement_107 (fun u22 A22 hc22 => ?_)
            refine r_top hc22.1 ?_
            refine r_eqA (hc22.2.trans (by rw [next_n hcur])) ?_
            clear hc22 A22 u22
            refine r_istore_1 (pc := 110) C dX6_statement_110 rfl ?_
            refine r_aload_0 (pc := 111) C dX6_statement_111 ?_
            refine r_iconst (pc := 112) C dX6_statement_112 ci_0 ?_
            refine r_iconst (pc := 113) C dX6_statement_113 ci_1 ?_
            refine r_V2vo (pc := 114) C (s_must0 (by exact hT) hB hτL ht1 False id) vl_X6_217 (tw_g hT) (by decide) (Nat.le_refl _) (Nat.le_refl _) (Nat.le_of_ble_eq_true rfl) rfl dX6_statement_114 (fun u23 A23 hc23 => ?_)
            refine r_eqA hc23 ?_
            clear hc23 A23 u23
            refine r_vret (pc := 117) C E (Nat.le_refl _) (Nat.le_refl _) dX6_statement_117 ?_
            first
              | (have hg : rK σ = 0 ∧ seesW B L wGate s := ⟨b6, b16⟩; exact ⟨_, by unfold stmW stmS stmT; rw [if_pos hg, if_pos hg, if_pos hg]⟩)
              | (have hw : 1 < rG σ ∧ mb ∧ seesW B L wWalker s := ⟨by omega, b40, b50⟩; have ng : ¬ (rK σ = 0 ∧ seesW B L wGate s) := (fun q => by first | exact b6 q.1 | exact b16 q.2); exact ⟨_, by unfold stmW stmS stmT; rw [if_neg ng, if_pos hw, if_neg ng, if_pos hw, if_neg ng, if_pos hw]⟩)
              | (have hr : 0 < rK σ ∧ isGr B L s := ⟨by omega, by first | exact Or.inl b76 | exact Or.inr (Or.inl b86) | exact Or.inr (Or.inr b96)⟩; have ng : ¬ (rK σ = 0 ∧ seesW B L wGate s) := (fun q => by first | exact b6 q.1 | exact b16 q.2); have nw : ¬ (1 < rG σ ∧ mb ∧ seesW B L wWalker s) := (fun q => by first | exact b50 q.2.2 | exact b40 q.2.1 | (have q1 := q.1; omega)); exact ⟨_, by unfold stmW stmS stmT; rw [if_neg ng, if_neg nw, if_pos hr, if_neg ng, if_neg nw, if_pos hr, if_neg ng, if_neg nw, if_pos hr]⟩)
              | (have ng : ¬ (rK σ = 0 ∧ seesW B L wGate s) := (fun q => by first | exact b6 q.1 | exact b16 q.2); have nw : ¬ (1 < rG σ ∧ mb ∧ seesW B L wWalker s) := (fun q => by first | exact b50 q.2.2 | exact b40 q.2.1 | (have q1 := q.1; omega)); have nr : ¬ (0 < rK σ ∧ isGr B L s) := (fun q => by first | (have q1 := q.1; omega) | exact q.2.elim b76 (fun q => q.elim b86 b96)); exact ⟨_, by unfold stmW stmS stmT; rw [if_neg ng, if_neg nw, if_neg nr, if_neg ng, if_neg nw, if_neg nr, if_neg ng, if_neg nw, if_neg nr]⟩)
          · skip
            have b66 := (not_congr (nI_le0 (by omega))).mp b66
            refine r_aload_0 (pc := 69) C dX6_statement_69 ?_
            refine r_ldcwS (pc := 70) C k274 dX6_statement_70 ?_
            refine r_V1io (pc := 73) C (s_sees (by exact hT) hB hτL (ht.n hcur) hK.1 s274) vl_X6_250 (tw_g hT) (by decide) (Nat.le_refl _) (Nat.le_refl _) (Nat.le_of_ble_eq_true rfl) rfl dX6_statement_73 (fun u24 A24 hc24 => ?_)
            refine r_top (hc24.1.trans (bI_iff (sees_n (l := wStone) hcur))) ?_
            refine r_eqA (hc24.2.trans (by rw [next_n hcur])) ?_
            have hcur : nextS B L s = s ∨ nextS B L s = nextS B L s := Or.inr rfl
            clear hc24 A24 u24
            refine r_if_ne (pc := 76) (tgt := 99) C dX6_statement_76 (by decide) (fun b76 => ?_) (fun b76 => ?_)
            · skip
              have b76 := bI_n.mp b76
              refine r_aload_0 (pc := 99) C dX6_statement_99 ?_
              refine r_V0vo (pc := 100) C (m_groundLine (by exact hT) hB hτL ht1 hK (hW (by omega))) vl_X6_299 (tw_g hT) (by decide) (Nat.le_refl _) (Nat.le_refl _) (Nat.le_of_ble_eq_true rfl) rfl dX6_statement_100 (fun u25 A25 hc25 => ?_)
              obtain ⟨κL, eA⟩ := hc25
              refine r_eqA eA ?_
              clear eA A25 u25
              refine r_goto (pc := 103) (tgt := 117) C dX6_statement_103 (by decide) ?_
              refine r_vret (pc := 117) C E (Nat.le_refl _) (Nat.le_refl _) dX6_statement_117 ?_
              first
                | (have hg : rK σ = 0 ∧ seesW B L wGate s := ⟨b6, b16⟩; exact ⟨_, by unfold stmW stmS stmT; rw [if_pos hg, if_pos hg, if_pos hg]⟩)
                | (have hw : 1 < rG σ ∧ mb ∧ seesW B L wWalker s := ⟨by omega, b40, b50⟩; have ng : ¬ (rK σ = 0 ∧ seesW B L wGate s) := (fun q => by first | exact b6 q.1 | exact b16 q.2); exact ⟨_, by unfold stmW stmS stmT; rw [if_neg ng, if_pos hw, if_neg ng, if_pos hw, if_neg ng, if_pos hw]⟩)
                | (have hr : 0 < rK σ ∧ isGr B L s := ⟨by omega, by first | exact Or.inl b76 | exact Or.inr (Or.inl b86) | exact Or.inr (Or.inr b96)⟩; have ng : ¬ (rK σ = 0 ∧ seesW B L wGate s) := (fun q => by first | exact b6 q.1 | exact b16 q.2); have nw : ¬ (1 < rG σ ∧ mb ∧ seesW B L wWalker s) := (fun q => by first | exact b50 q.2.2 | exact b40 q.2.1 | (have q1 := q.1; omega)); exact ⟨_, by unfold stmW stmS stmT; rw [if_neg ng, if_neg nw, if_pos hr, if_neg ng, if_neg nw, if_pos hr, if_neg ng, if_neg nw, if_pos hr]⟩)
                | (have ng : ¬ (rK σ = 0 ∧ seesW B L wGate s) := (fun q => by first | exact b6 q.1 | exact b16 q.2); have nw : ¬ (1 < rG σ ∧ mb ∧ seesW B L wWalker s) := (fun q => by first | exact b50 q.2.2 | exact b40 q.2.1 | (have q1 := q.1; omega)); have nr : ¬ (0 < rK σ ∧ isGr B L s) := (fun q => by first | (have q1 := q.1; omega) | exact q.2.elim b76 (fun q => q.elim b86 b96)); exact ⟨_, by unfold stmW stmS stmT; rw [if_neg ng, if_neg nw, if_neg nr, if_neg ng, if_neg nw, if_neg nr, if_neg ng, if_neg nw, if_neg nr]⟩)
            · skip
              have b76 := bI_0.mp b76
              refine r_aload_0 (pc := 79) C dX6_statement_79 ?_
              refine r_ldcwS (pc := 80) C k279 dX6_statement_80 ?_
              refine r_V1io (pc := 83) C (s_sees (by exact hT) hB hτL (ht.n hcur) hK.1 s279) vl_X6_250 (tw_g hT) (by decide) (Nat.le_refl _) (Nat.le_refl _) (Nat.le_of_ble_eq_true rfl) rfl dX6_statement_83 (fun u26 A26 hc26 => ?_)
              refine r_top (hc26.1.trans (bI_iff (sees_n (l := wGrass) hcur))) ?_
              refine r_eqA (hc26.2.trans (by rw [next_n hcur])) ?_
              have hcur : nextS B L s = s ∨ nextS B L s = nextS B L s := Or.inr rfl
              clear hc26 A26 u26
              refine r_if_ne (pc := 86) (tgt := 99) C dX6_statement_86 (by decide) (fun b86 => ?_) (fun b86 => ?_)
              · skip
                have b86 := bI_n.mp b86
                refine r_aload_0 (pc := 99) C dX6_statement_99 ?_
                refine r_V0vo (pc := 100) C (m_groundLine (by exact hT) hB hτL ht1 hK (hW (by omega))) vl_X6_299 (tw_g hT) (by decide) (Nat.le_refl _) (Nat.le_refl _) (Nat.le_of_ble_eq_true rfl) rfl dX6_statement_100 (fun u27 A27 hc27 => ?_)
                obtain ⟨κL, eA⟩ := hc27
                refine r_eqA eA ?_
                clear eA A27 u27
                refine r_goto (pc := 103) (tgt := 117) C dX6_statement_103 (by decide) ?_
                refine r_vret (pc := 117) C E (Nat.le_refl _) (Nat.le_refl _) dX6_statement_117 ?_
                first
                  | (have hg : rK σ = 0 ∧ seesW B L wGate s := ⟨b6, b16⟩; exact ⟨_, by unfold stmW stmS stmT; rw [if_pos hg, if_pos hg, if_pos hg]⟩)
                  | (have hw : 1 < rG σ ∧ mb ∧ seesW B L wWalker s := ⟨by omega, b40, b50⟩; have ng : ¬ (rK σ = 0 ∧ seesW B L wGate s) := (fun q => by first | exact b6 q.1 | exact b16 q.2); exact ⟨_, by unfold stmW stmS stmT; rw [if_neg ng, if_pos hw, if_neg ng, if_pos hw, if_neg ng, if_pos hw]⟩)
                  | (have hr : 0 < rK σ ∧ isGr B L s := ⟨by omega, by first | exact Or.inl b76 | exact Or.inr (Or.inl b86) | exact Or.inr (Or.inr b96)⟩; have ng : ¬ (rK σ = 0 ∧ seesW B L wGate s) := (fun q => by first | exact b6 q.1 | exact b16 q.2); have nw : ¬ (1 < rG σ ∧ mb ∧ seesW B L wWalker s) := (fun q => by first | exact b50 q.2.2 | exact b40 q.2.1 | (have q1 := q.1; omega)); exact ⟨_, by unfold stmW stmS stmT; rw [if_neg ng, if_neg nw, if_pos hr, if_neg ng, if_neg nw, if_pos hr, if_neg ng, if_neg nw, if_pos hr]⟩)
                  | (have ng : ¬ (rK σ = 0 ∧ seesW B L wGate s) := (fun q => by first | exact b6 q.1 | exact b16 q.2); have nw : ¬ (1 < rG σ ∧ mb ∧ seesW B L wWalker s) := (fun q => by first | exact b50 q.2.2 | exact b40 q.2.1 | (have q1 := q.1; omega)); have nr : ¬ (0 < rK σ ∧ isGr B L s) := (fun q => by first | (have q1 := q.1; omega) | exact q.2.elim b76 (fun q => q.elim b86 b96)); exact ⟨_, by unfold stmW stmS stmT; rw [if_neg ng, if_neg nw, if_neg nr, if_neg ng, if_neg nw, if_neg nr, if_neg ng, if_neg nw, if_neg nr]⟩)
              · skip
                have b86 := bI_0.mp b86
                refine r_aload_0 (pc := 89) C dX6_statement_89 ?_
                refine r_ldcwS (pc := 90) C k297 dX6_statement_90 ?_
                refine r_V1io (pc := 93) C (s_sees (by exact hT) hB hτL (ht.n hcur) hK.1 s297) vl_X6_250 (tw_g hT) (by decide) (Nat.le_refl _) (Nat.le_refl _) (Nat.le_of_ble_eq_true rfl) rfl dX6_statement_93 (fun u28 A28 hc28 => ?_)
                refine r_top (hc28.1.trans (bI_iff (sees_n (l := wFence) hcur))) ?_
                refine r_eqA (hc28.2.trans (by rw [next_n hcur])) ?_
                have hcur : nextS B L s = s ∨ nextS B L s = nextS B L s := Or.inr rfl
                clear hc28 A28 u28
                refine r_if_eq (pc := 96) (tgt := 106) C dX6_statement_96 (by decide) (fun b96 => ?_) (fun b96 => ?_)
                · skip
                  have b96 := bI_0.mp b96
                  refine r_aload_0 (pc := 106) C dX6_statement_106 ?_
                  refine r_V0io (pc := 107) C (s_next (by exact hT) hB hτL (ht.n hcur)) vl_X6_214 (tw_g hT) (by decide) (Nat.le_refl _) (Nat.le_refl _) (Nat.le_of_ble_eq_true rfl) rfl dX6_statement_107 (fun u29 A29 hc29 => ?_)
                  refine r_top hc29.1 ?_
                  refine r_eqA (hc29.2.trans (by rw [next_n hcur])) ?_
                  clear hc29 A29 u29
                  refine r_istore_1 (pc := 110) C dX6_statement_110 rfl ?_
                  refine r_aload_0 (pc := 111) C dX6_statement_111 ?_
                  refine r_iconst (pc := 112) C dX6_statement_112 ci_0 ?_
                  refine r_iconst (pc := 113) C dX6_statement_113 ci_1 ?_
                  refine r_V2vo (pc := 114) C (s_must0 (by exact hT) hB hτL ht1 False id) vl_X6_217 (tw_g hT) (by decide) (Nat.le_refl _) (Nat.le_refl _) (Nat.le_of_ble_eq_true rfl) rfl dX6_statement_114 (fun u30 A30 hc30 => ?_)
                  refine r_eqA hc30 ?_
                  clear hc30 A30 u30
                  refine r_vret (pc := 117) C E (Nat.le_refl _) (Nat.le_refl _) dX6_statement_117 ?_
                  first
                    | (have hg : rK σ = 0 ∧ seesW B L wGate s := ⟨b6, b16⟩; exact ⟨_, by unfold stmW stmS stmT; rw [if_pos hg, if_pos hg, if_pos hg]⟩)
                    | (have hw : 1 < rG σ ∧ mb ∧ seesW B L wWalker s := ⟨by omega, b40, b50⟩; have ng : ¬ (rK σ = 0 ∧ seesW B L wGate s) := (fun q => by first | exact b6 q.1 | exact b16 q.2); exact ⟨_, by unfold stmW stmS stmT; rw [if_neg ng, if_pos hw, if_neg ng, if_pos hw, if_neg ng, if_pos hw]⟩)
                    | (have hr : 0 < rK σ ∧ isGr B L s := ⟨by omega, by first | exact Or.inl b76 | exact Or.inr (Or.inl b86) | exact Or.inr (Or.inr b96)⟩; have ng : ¬ (rK σ = 0 ∧ seesW B L wGate s) := (fun q => by first | exact b6 q.1 | exact b16 q.2); have nw : ¬ (1 < rG σ ∧ mb ∧ seesW B L wWalker s) := (fun q => by first | exact b50 q.2.2 | exact b40 q.2.1 | (have q1 := q.1; omega)); exact ⟨_, by unfold stmW stmS stmT; rw [if_neg ng, if_neg nw, if_pos hr, if_neg ng, if_neg nw, if_pos hr, if_neg ng, if_neg nw, if_pos hr]⟩)
                    | (have ng : ¬ (rK σ = 0 ∧ seesW B L wGate s) := (fun q => by first | exact b6 q.1 | exact b16 q.2); have nw : ¬ (1 < rG σ ∧ mb ∧ seesW B L wWalker s) := (fun q => by first | exact b50 q.2.2 | exact b40 q.2.1 | (have q1 := q.1; omega)); have nr : ¬ (0 < rK σ ∧ isGr B L s) := (fun q => by first | (have q1 := q.1; omega) | exact q.2.elim b76 (fun q => q.elim b86 b96)); exact ⟨_, by unfold stmW stmS stmT; rw [if_neg ng, if_neg nw, if_neg nr, if_neg ng, if_neg nw, if_neg nr, if_neg ng, if_neg nw, if_neg nr]⟩)
                · skip
                  have b96 := bI_n.mp b96
                  refine r_aload_0 (pc := 99) C dX6_statement_99 ?_
                  refine r_V0vo (pc := 100) C (m_groundLine (by exact hT) hB hτL ht1 hK (hW (by omega))) vl_X6_299 (tw_g hT) (by decide) (Nat.le_refl _) (Nat.le_refl _) (Nat.le_of_ble_eq_true rfl) rfl dX6_statement_100 (fun u31 A31 hc31 => ?_)
                  obtain ⟨κL, eA⟩ := hc31
                  refine r_eqA eA ?_
                  clear eA A31 u31
                  refine r_goto (pc := 103) (tgt := 117) C dX6_statement_103 (by decide) ?_
                  refine r_vret (pc := 117) C E (Nat.le_refl _) (Nat.le_refl _) dX6_statement_117 ?_
                  first
                    | (have hg : rK σ = 0 ∧ seesW B L wGate s := ⟨b6, b16⟩; exact ⟨_, by unfold stmW stmS stmT; rw [if_pos hg, if_pos hg, if_pos hg]⟩)
                    | (have hw : 1 < rG σ ∧ mb ∧ seesW B L wWalker s := ⟨by omega, b40, b50⟩; have ng : ¬ (rK σ = 0 ∧ seesW B L wGate s) := (fun q => by first | exact b6 q.1 | exact b16 q.2); exact ⟨_, by unfold stmW stmS stmT; rw [if_neg ng, if_pos hw, if_neg ng, if_pos hw, if_neg ng, if_pos hw]⟩)
                    | (have hr : 0 < rK σ ∧ isGr B L s := ⟨by omega, by first | exact Or.inl b76 | exact Or.inr (Or.inl b86) | exact Or.inr (Or.inr b96)⟩; have ng : ¬ (rK σ = 0 ∧ seesW B L wGate s) := (fun q => by first | exact b6 q.1 | exact b16 q.2); have nw : ¬ (1 < rG σ ∧ mb ∧ seesW B L wWalker s) := (fun q => by first | exact b50 q.2.2 | exact b40 q.2.1 | (have q1 := q.1; omega)); exact ⟨_, by unfold stmW stmS stmT; rw [if_neg ng, if_neg nw, if_pos hr, if_neg ng, if_neg nw, if_pos hr, if_neg ng, if_neg nw, if_pos hr]⟩)
                    | (have ng : ¬ (rK σ = 0 ∧ seesW B L wGate s) := (fun q => by first | exact b6 q.1 | exact b16 q.2); have nw : ¬ (1 < rG σ ∧ mb ∧ seesW B L wWalker s) := (fun q => by first | exact b50 q.2.2 | exact b40 q.2.1 | (have q1 := q.1; omega)); have nr : ¬ (0 < rK σ ∧ isGr B L s) := (fun q => by first | (have q1 := q.1; omega) | exact q.2.elim b76 (fun q => q.elim b86 b96)); exact ⟨_, by unfold stmW stmS stmT; rw [if_neg ng, if_neg nw, if_neg nr, if_neg ng, if_neg nw, if_neg nr, if_neg ng, if_neg nw, if_neg nr]⟩)
        · skip
          have b50 := bI_n.mp b50
          refine r_aload_0 (pc := 53) C dX6_statement_53 ?_
          refine r_V0vo (pc := 54) C (m_walkerLine (by exact hT) hB hτL ht1 hN) vl_X6_294 (tw_g hT) (by decide) (Nat.le_refl _) (Nat.le_refl _) (Nat.le_of_ble_eq_true rfl) rfl dX6_statement_54 (fun u32 A32 hc32 => ?_)
          refine r_eqA hc32 ?_
          clear hc32 A32 u32
          refine r_goto (pc := 57) (tgt := 117) C dX6_statement_57 (by decide) ?_
          refine r_vret (pc := 117) C E (Nat.le_refl _) (Nat.le_refl _) dX6_statement_117 ?_
          first
            | (have hg : rK σ = 0 ∧ seesW B L wGate s := ⟨b6, b16⟩; exact ⟨_, by unfold stmW stmS stmT; rw [if_pos hg, if_pos hg, if_pos hg]⟩)
            | (have hw : 1 < rG σ ∧ mb ∧ seesW B L wWalker s := ⟨by omega, b40, b50⟩; have ng : ¬ (rK σ = 0 ∧ seesW B L wGate s) := (fun q => by first | exact b6 q.1 | exact b16 q.2); exact ⟨_, by unfold stmW stmS stmT; rw [if_neg ng, if_pos hw, if_neg ng, if_pos hw, if_neg ng, if_pos hw]⟩)
            | (have hr : 0 < rK σ ∧ isGr B L s := ⟨by omega, by first | exact Or.inl b76 | exact Or.inr (Or.inl b86) | exact Or.inr (Or.inr b96)⟩; have ng : ¬ (rK σ = 0 ∧ seesW B L wGate s) := (fun q => by first | exact b6 q.1 | exact b16 q.2); have nw : ¬ (1 < rG σ ∧ mb ∧ seesW B L wWalker s) := (fun q => by first | exact b50 q.2.2 | exact b40 q.2.1 | (have q1 := q.1; omega)); exact ⟨_, by unfold stmW stmS stmT; rw [if_neg ng, if_neg nw, if_pos hr, if_neg ng, if_neg nw, if_pos hr, if_neg ng, if_neg nw, if_pos hr]⟩)
            | (have ng : ¬ (rK σ = 0 ∧ seesW B L wGate s) := (fun q => by first | exact b6 q.1 | exact b16 q.2); have nw : ¬ (1 < rG σ ∧ mb ∧ seesW B L wWalker s) := (fun q => by first | exact b50 q.2.2 | exact b40 q.2.1 | (have q1 := q.1; omega)); have nr : ¬ (0 < rK σ ∧ isGr B L s) := (fun q => by first | (have q1 := q.1; omega) | exact q.2.elim b76 (fun q => q.elim b86 b96)); exact ⟨_, by unfold stmW stmS stmT; rw [if_neg ng, if_neg nw, if_neg nr, if_neg ng, if_neg nw, if_neg nr, if_neg ng, if_neg nw, if_neg nr]⟩)
  · skip
    have b6 := (nI_eq0 (by omega)).mp b6
    refine r_aload_0 (pc := 9) C dX6_statement_9 ?_
    refine r_ldcwS (pc := 10) C k287 dX6_statement_10 ?_
    refine r_V1io (pc := 13) C (s_sees (by exact hT) hB hτL (ht.n hcur) hK.1 s287) vl_X6_250 (tw_g hT) (by decide) (Nat.le_refl _) (Nat.le_refl _) (Nat.le_of_ble_eq_true rfl) rfl dX6_statement_13 (fun u33 A33 hc33 => ?_)
    refine r_top (hc33.1.trans (bI_iff (sees_n (l := wGate) hcur))) ?_
    refine r_eqA (hc33.2.trans (by rw [next_n hcur])) ?_
    have hcur : nextS B L s = s ∨ nextS B L s = nextS B L s := Or.inr rfl
    clear hc33 A33 u33
    refine r_if_eq (pc := 16) (tgt := 26) C dX6_statement_16 (by decide) (fun b16 => ?_) (fun b16 => ?_)
    · skip
      have b16 := bI_0.mp b16
      refine r_aload_0 (pc := 26) C dX6_statement_26 ?_
      refine r_getR (pc := 27) C fl_X6_7_6 (tw_g hT) rfl (tw_r1 hT) dX6_statement_27 ?_
      refine r_iconst (pc := 30) C dX6_statement_30 ci_0 ?_
      refine r_iald (pc := 31) C (tw_g1 hT) rfl rfl (lt_eq (by omega) (tw_n1 hT)) (by omega) dX6_statement_31 ?_
      refine r_top (congrFun (S5_1 _ _ _ _ _ _) _) ?_
      refine r_top hG ?_
      refine r_iconst (pc := 32) C dX6_statement_32 ci_1 ?_
      refine r_icmp_le (pc := 33) (tgt := 60) C dX6_statement_33 (by decide) (fun b33 => ?_) (fun b33 => ?_)
      · skip
        have b33 := (nI_le2 (by omega) (by omega)).mp b33
        refine r_aload_0 (pc := 60) C dX6_statement_60 ?_
        refine r_getR (pc := 61) C fl_X6_7_6 (tw_g hT) rfl (tw_r1 hT) dX6_statement_61 ?_
        refine r_iconst (pc := 64) C dX6_statement_64 ci_1 ?_
        refine r_iald (pc := 65) C (tw_g1 hT) rfl rfl (lt_eq (by omega) (tw_n1 hT)) (by omega) dX6_statement_65 ?_
        refine r_top (congrFun (S5_1 _ _ _ _ _ _) _) ?_
        refine r_top hQ ?_
        refine r_if_le (pc := 66) (tgt := 106) C dX6_statement_66 (by decide) (fun b66 => ?_) (fun b66 => ?_)
        · skip
          have b66 := (nI_le0 (by omega)).mp b66
          refine r_aload_0 (pc := 106) C dX6_statement_106 ?_
          refine r_V0io (pc := 107) C (s_next (by exact hT) hB hτL (ht.n hcur)) vl_X6_214 (tw_g hT) (by decide) (Nat.le_refl _) (Nat.le_refl _) (Nat.le_of_ble_eq_true rfl) rfl dX6_statement_107 (fun u34 A34 hc34 => ?_)
          refine r_top hc34.1 ?_
          refine r_eqA (hc34.2.trans (by rw [next_n hcur])) ?_
          clear hc34 A34 u34
          refine r_istore_1 (pc := 110) C dX6_statement_110 rfl ?_
          refine r_aload_0 (pc := 111) C dX6_statement_111 ?_
          refine r_iconst (pc := 112) C dX6_statement_112 ci_0 ?_
          refine r_iconst (pc := 113) C dX6_statement_113 ci_1 ?_
          refine r_V2vo (pc := 114) C (s_must0 (by exact hT) hB hτL ht1 False id) vl_X6_217 (tw_g hT) (by decide) (Nat.le_refl _) (Nat.le_refl _) (Nat.le_of_ble_eq_true rfl) rfl dX6_statement_114 (fun u35 A35 hc35 => ?_)
          refine r_eqA hc35 ?_
          clear hc35 A35 u35
          refine r_vret (pc := 117) C E (Nat.le_refl _) (Nat.le_refl _) dX6_statement_117 ?_
          first
            | (have hg : rK σ = 0 ∧ seesW B L wGate s := ⟨b6, b16⟩; exact ⟨_, by unfold stmW stmS stmT; rw [if_pos hg, if_pos hg, if_pos hg]⟩)
            | (have hw : 1 < rG σ ∧ mb ∧ seesW B L wWalker s := ⟨by omega, b40, b50⟩; have ng : ¬ (rK σ = 0 ∧ seesW B L wGate s) := (fun q => by first | exact b6 q.1 | exact b16 q.2); exact ⟨_, by unfold stmW stmS stmT; rw [if_neg ng, if_pos hw, if_neg ng, if_pos hw, if_neg ng, if_pos hw]⟩)
            | (have hr : 0 < rK σ ∧ isGr B L s := ⟨by omega, by first | exact Or.inl b76 | exact Or.inr (Or.inl b86) | exact Or.inr (Or.inr b96)⟩; have ng : ¬ (rK σ = 0 ∧ seesW B L wGate s) := (fun q => by first | exact b6 q.1 | exact b16 q.2); have nw : ¬ (1 < rG σ ∧ mb ∧ seesW B L wWalker s) := (fun q => by first | exact b50 q.2.2 | exact b40 q.2.1 | (have q1 := q.1; omega)); exact ⟨_, by unfold stmW stmS stmT; rw [if_neg ng, if_neg nw, if_pos hr, if_neg ng, if_neg nw, if_pos hr, if_neg ng, if_neg nw, if_pos hr]⟩)
            | (have ng : ¬ (rK σ = 0 ∧ seesW B L wGate s) := (fun q => by first | exact b6 q.1 | exact b16 q.2); have nw : ¬ (1 < rG σ ∧ mb ∧ seesW B L wWalker s) := (fun q => by first | exact b50 q.2.2 | exact b40 q.2.1 | (have q1 := q.1; omega)); have nr : ¬ (0 < rK σ ∧ isGr B L s) := (fun q => by first | (have q1 := q.1; omega) | exact q.2.elim b76 (fun q => q.elim b86 b96)); exact ⟨_, by unfold stmW stmS stmT; rw [if_neg ng, if_neg nw, if_neg nr, if_neg ng, if_neg nw, if_neg nr, if_neg ng, if_neg nw, if_neg nr]⟩)
        · skip
          have b66 := (not_congr (nI_le0 (by omega))).mp b66
          refine r_aload_0 (pc := 69) C dX6_statement_69 ?_
          refine r_ldcwS (pc := 70) C k274 dX6_statement_70 ?_
          refine r_V1io (pc := 73) C (s_sees (by exact hT) hB hτL (ht.n hcur) hK.1 s274) vl_X6_250 (tw_g hT) (by decide) (Nat.le_refl _) (Nat.le_refl _) (Nat.le_of_ble_eq_true rfl) rfl dX6_statement_73 (fun u36 A36 hc36 => ?_)
          refine r_top (hc36.1.trans (bI_iff (sees_n (l := wStone) hcur))) ?_
          refine r_eqA (hc36.2.trans (by rw [next_n hcur])) ?_
          have hcur : nextS B L s = s ∨ nextS B L s = nextS B L s := Or.inr rfl
          clear hc36 A36 u36
          refine r_if_ne (pc := 76) (tgt := 99) C dX6_statement_76 (by decide) (fun b76 => ?_) (fun b76 => ?_)
          · skip
            have b76 := bI_n.mp b76
            refine r_aload_0 (pc := 99) C dX6_statement_99 ?_
            refine r_V0vo (pc := 100) C (m_groundLine (by exact hT) hB hτL ht1 hK (hW (by omega))) vl_X6_299 (tw_g hT) (by decide) (Nat.le_refl _) (Nat.le_refl _) (Nat.le_of_ble_eq_true rfl) rfl dX6_statement_100 (fun u37 A37 hc37 => ?_)
            obtain ⟨κL, eA⟩ := hc37
            refine r_eqA eA ?_
            clear eA A37 u37
            refine r_goto (pc := 103) (tgt := 117) C dX6_statement_103 (by decide) ?_
            refine r_vret (pc := 117) C E (Nat.le_refl _) (Nat.le_refl _) dX6_statement_117 ?_
            first
              | (have hg : rK σ = 0 ∧ seesW B L wGate s := ⟨b6, b16⟩; exact ⟨_, by unfold stmW stmS stmT; rw [if_pos hg, if_pos hg, if_pos hg]⟩)
              | (have hw : 1 < rG σ ∧ mb ∧ seesW B L wWalker s := ⟨by omega, b40, b50⟩; have ng : ¬ (rK σ = 0 ∧ seesW B L wGate s) := (fun q => by first | exact b6 q.1 | exact b16 q.2); exact ⟨_, by unfold stmW stmS stmT; rw [if_neg ng, if_pos hw, if_neg ng, if_pos hw, if_neg ng, if_pos hw]⟩)
              | (have hr : 0 < rK σ ∧ isGr B L s := ⟨by omega, by first | exact Or.inl b76 | exact Or.inr (Or.inl b86) | exact Or.inr (Or.inr b96)⟩; have ng : ¬ (rK σ = 0 ∧ seesW B L wGate s) := (fun q => by first | exact b6 q.1 | exact b16 q.2); have nw : ¬ (1 < rG σ ∧ mb ∧ seesW B L wWalker s) := (fun q => by first | exact b50 q.2.2 | exact b40 q.2.1 | (have q1 := q.1; omega)); exact ⟨_, by unfold stmW stmS stmT; rw [if_neg ng, if_neg nw, if_pos hr, if_neg ng, if_neg nw, if_pos hr, if_neg ng, if_neg nw, if_pos hr]⟩)
              | (have ng : ¬ (rK σ = 0 ∧ seesW B L wGate s) := (fun q => by first | exact b6 q.1 | exact b16 q.2); have nw : ¬ (1 < rG σ ∧ mb ∧ seesW B L wWalker s) := (fun q => by first | exact b50 q.2.2 | exact b40 q.2.1 | (have q1 := q.1; omega)); have nr : ¬ (0 < rK σ ∧ isGr B L s) := (fun q => by first | (have q1 := q.1; omega) | exact q.2.elim b76 (fun q => q.elim b86 b96)); exact ⟨_, by unfold stmW stmS stmT; rw [if_neg ng, if_neg nw, if_neg nr, if_neg ng, if_neg nw, if_neg nr, if_neg ng, if_neg nw, if_neg nr]⟩)
          · skip
            have b76 := bI_0.mp b76
            refine r_aload_0 (pc := 79) C dX6_statement_79 ?_
            refine r_ldcwS (pc := 80) C k279 dX6_statement_80 ?_
            refine r_V1io (pc := 83) C (s_sees (by exact hT) hB hτL (ht.n hcur) hK.1 s279) vl_X6_250 (tw_g hT) (by decide) (Nat.le_refl _) (Nat.le_refl _) (Nat.le_of_ble_eq_true rfl) rfl dX6_statement_83 (fun u38 A38 hc38 => ?_)
            refine r_top (hc38.1.trans (bI_iff (sees_n (l := wGrass) hcur))) ?_
            refine r_eqA (hc38.2.trans (by rw [next_n hcur])) ?_
            have hcur : nextS B L s = s ∨ nextS B L s = nextS B L s := Or.inr rfl
            clear hc38 A38 u38
            refine r_if_ne (pc := 86) (tgt := 99) C dX6_statement_86 (by decide) (fun b86 => ?_) (fun b86 => ?_)
            · skip
              have b86 := bI_n.mp b86
              refine r_aload_0 (pc := 99) C dX6_statement_99 ?_
              refine r_V0vo (pc := 100) C (m_groundLine (by exact hT) hB hτL ht1 hK (hW (by omega))) vl_X6_299 (tw_g hT) (by decide) (Nat.le_refl _) (Nat.le_refl _) (Nat.le_of_ble_eq_true rfl) rfl dX6_statement_100 (fun u39 A39 hc39 => ?_)
              obtain ⟨κL, eA⟩ := hc39
              refine r_eqA eA ?_
              clear eA A39 u39
              refine r_goto (pc := 103) (tgt := 117) C dX6_statement_103 (by decide) ?_
              refine r_vret (pc := 117) C E (Nat.le_refl _) (Nat.le_refl _) dX6_statement_117 ?_
              first
                | (have hg : rK σ = 0 ∧ seesW B L wGate s := ⟨b6, b16⟩; exact ⟨_, by unfold stmW stmS stmT; rw [if_pos hg, if_pos hg, if_pos hg]⟩)
                | (have hw : 1 < rG σ ∧ mb ∧ seesW B L wWalker s := ⟨by omega, b40, b50⟩; have ng : ¬ (rK σ = 0 ∧ seesW B L wGate s) := (fun q => by first | exact b6 q.1 | exact b16 q.2); exact ⟨_, by unfold stmW stmS stmT; rw [if_neg ng, if_pos hw, if_neg ng, if_pos hw, if_neg ng, if_pos hw]⟩)
                | (have hr : 0 < rK σ ∧ isGr B L s := ⟨by omega, by first | exact Or.inl b76 | exact Or.inr (Or.inl b86) | exact Or.inr (Or.inr b96)⟩; have ng : ¬ (rK σ = 0 ∧ seesW B L wGate s) := (fun q => by first | exact b6 q.1 | exact b16 q.2); have nw : ¬ (1 < rG σ ∧ mb ∧ seesW B L wWalker s) := (fun q => by first | exact b50 q.2.2 | exact b40 q.2.1 | (have q1 := q.1; omega)); exact ⟨_, by unfold stmW stmS stmT; rw [if_neg ng, if_neg nw, if_pos hr, if_neg ng, if_neg nw, if_pos hr, if_neg ng, if_neg nw, if_pos hr]⟩)
                | (have ng : ¬ (rK σ = 0 ∧ seesW B L wGate s) := (fun q => by first | exact b6 q.1 | exact b16 q.2); have nw : ¬ (1 < rG σ ∧ mb ∧ seesW B L wWalker s) := (fun q => by first | exact b50 q.2.2 | exact b40 q.2.1 | (have q1 := q.1; omega)); have nr : ¬ (0 < rK σ ∧ isGr B L s) := (fun q => by first | (have q1 := q.1; omega) | exact q.2.elim b76 (fun q => q.elim b86 b96)); exact ⟨_, by unfold stmW stmS stmT; rw [if_neg ng, if_neg nw, if_neg nr, if_neg ng, if_neg nw, if_neg nr, if_neg ng, if_neg nw, if_neg nr]⟩)
            · skip
              have b86 := bI_0.mp b86
              refine r_aload_0 (pc := 89) C dX6_statement_89 ?_
              refine r_ldcwS (pc := 90) C k297 dX6_statement_90 ?_
              refine r_V1io (pc := 93) C (s_sees (by exact hT) hB hτL (ht.n hcur) hK.1 s297) vl_X6_250 (tw_g hT) (by decide) (Nat.le_refl _) (Nat.le_refl _) (Nat.le_of_ble_eq_true rfl) rfl dX6_statement_93 (fun u40 A40 hc40 => ?_)
              refine r_top (hc40.1.trans (bI_iff (sees_n (l := wFence) hcur))) ?_
              refine r_eqA (hc40.2.trans (by rw [next_n hcur])) ?_
              have hcur : nextS B L s = s ∨ nextS B L s = nextS B L s := Or.inr rfl
              clear hc40 A40 u40
              refine r_if_eq (pc := 96) (tgt := 106) C dX6_statement_96 (by decide) (fun b96 => ?_) (fun b96 => ?_)
              · skip
                have b96 := bI_0.mp b96
                refine r_aload_0 (pc := 106) C dX6_statement_106 ?_
                refine r_V0io (pc := 107) C (s_next (by exact hT) hB hτL (ht.n hcur)) vl_X6_214 (tw_g hT) (by decide) (Nat.le_refl _) (Nat.le_refl _) (Nat.le_of_ble_eq_true rfl) rfl dX6_statement_107 (fun u41 A41 hc41 => ?_)
                refine r_top hc41.1 ?_
                refine r_eqA (hc41.2.trans (by rw [next_n hcur])) ?_
                clear hc41 A41 u41
                refine r_istore_1 (pc := 110) C dX6_statement_110 rfl ?_
                refine r_aload_0 (pc := 111) C dX6_statement_111 ?_
                refine r_iconst (pc := 112) C dX6_statement_112 ci_0 ?_
                refine r_iconst (pc := 113) C dX6_statement_113 ci_1 ?_
                refine r_V2vo (pc := 114) C (s_must0 (by exact hT) hB hτL ht1 False id) vl_X6_217 (tw_g hT) (by decide) (Nat.le_refl _) (Nat.le_refl _) (Nat.le_of_ble_eq_true rfl) rfl dX6_statement_114 (fun u42 A42 hc42 => ?_)
                refine r_eqA hc42 ?_
                clear hc42 A42 u42
                refine r_vret (pc := 117) C E (Nat.le_refl _) (Nat.le_refl _) dX6_statement_117 ?_
                first
                  | (have hg : rK σ = 0 ∧ seesW B L wGate s := ⟨b6, b16⟩; exact ⟨_, by unfold stmW stmS stmT; rw [if_pos hg, if_pos hg, if_pos hg]⟩)
                  | (have hw : 1 < rG σ ∧ mb ∧ seesW B L wWalker s := ⟨by omega, b40, b50⟩; have ng : ¬ (rK σ = 0 ∧ seesW B L wGate s) := (fun q => by first | exact b6 q.1 | exact b16 q.2); exact ⟨_, by unfold stmW stmS stmT; rw [if_neg ng, if_pos hw, if_neg ng, if_pos hw, if_neg ng, if_pos hw]⟩)
                  | (have hr : 0 < rK σ ∧ isGr B L s := ⟨by omega, by first | exact Or.inl b76 | exact Or.inr (Or.inl b86) | exact Or.inr (Or.inr b96)⟩; have ng : ¬ (rK σ = 0 ∧ seesW B L wGate s) := (fun q => by first | exact b6 q.1 | exact b16 q.2); have nw : ¬ (1 < rG σ ∧ mb ∧ seesW B L wWalker s) := (fun q => by first | exact b50 q.2.2 | exact b40 q.2.1 | (have q1 := q.1; omega)); exact ⟨_, by unfold stmW stmS stmT; rw [if_neg ng, if_neg nw, if_pos hr, if_neg ng, if_neg nw, if_pos hr, if_neg ng, if_neg nw, if_pos hr]⟩)
                  | (have ng : ¬ (rK σ = 0 ∧ seesW B L wGate s) := (fun q => by first | exact b6 q.1 | exact b16 q.2); have nw : ¬ (1 < rG σ ∧ mb ∧ seesW B L wWalker s) := (fun q => by first | exact b50 q.2.2 | exact b40 q.2.1 | (have q1 := q.1; omega)); have nr : ¬ (0 < rK σ ∧ isGr B L s) := (fun q => by first | (have q1 := q.1; omega) | exact q.2.elim b76 (fun q => q.elim b86 b96)); exact ⟨_, by unfold stmW stmS stmT; rw [if_neg ng, if_neg nw, if_neg nr, if_neg ng, if_neg nw, if_neg nr, if_neg ng, if_neg nw, if_neg nr]⟩)
              · skip
                have b96 := bI_n.mp b96
                refine r_aload_0 (pc := 99) C dX6_statement_99 ?_
                refine r_V0vo (pc := 100) C (m_groundLine (by exact hT) hB hτL ht1 hK (hW (by omega))) vl_X6_299 (tw_g hT) (by decide) (Nat.le_refl _) (Nat.le_refl _) (Nat.le_of_ble_eq_true rfl) rfl dX6_statement_100 (fun u43 A43 hc43 => ?_)
                obtain ⟨κL, eA⟩ := hc43
                refine r_eqA eA ?_
                clear eA A43 u43
                refine r_goto (pc := 103) (tgt := 117) C dX6_statement_103 (by decide) ?_
                refine r_vret (pc := 117) C E (Nat.le_refl _) (Nat.le_refl _) dX6_statement_117 ?_
                first
                  | (have hg : rK σ = 0 ∧ seesW B L wGate s := ⟨b6, b16⟩; exact ⟨_, by unfold stmW stmS stmT; rw [if_pos hg, if_pos hg, if_pos hg]⟩)
                  | (have hw : 1 < rG σ ∧ mb ∧ seesW B L wWalker s := ⟨by omega, b40, b50⟩; have ng : ¬ (rK σ = 0 ∧ seesW B L wGate s) := (fun q => by first | exact b6 q.1 | exact b16 q.2); exact ⟨_, by unfold stmW stmS stmT; rw [if_neg ng, if_pos hw, if_neg ng, if_pos hw, if_neg ng, if_pos hw]⟩)
                  | (have hr : 0 < rK σ ∧ isGr B L s := ⟨by omega, by first | exact Or.inl b76 | exact Or.inr (Or.inl b86) | exact Or.inr (Or.inr b96)⟩; have ng : ¬ (rK σ = 0 ∧ seesW B L wGate s) := (fun q => by first | exact b6 q.1 | exact b16 q.2); have nw : ¬ (1 < rG σ ∧ mb ∧ seesW B L wWalker s) := (fun q => by first | exact b50 q.2.2 | exact b40 q.2.1 | (have q1 := q.1; omega)); exact ⟨_, by unfold stmW stmS stmT; rw [if_neg ng, if_neg nw, if_pos hr, if_neg ng, if_neg nw, if_pos hr, if_neg ng, if_neg nw, if_pos hr]⟩)
                  | (have ng : ¬ (rK σ = 0 ∧ seesW B L wGate s) := (fun q => by first | exact b6 q.1 | exact b16 q.2); have nw : ¬ (1 < rG σ ∧ mb ∧ seesW B L wWalker s) := (fun q => by first | exact b50 q.2.2 | exact b40 q.2.1 | (have q1 := q.1; omega)); have nr : ¬ (0 < rK σ ∧ isGr B L s) := (fun q => by first | (have q1 := q.1; omega) | exact q.2.elim b76 (fun q => q.elim b86 b96)); exact ⟨_, by unfold stmW stmS stmT; rw [if_neg ng, if_neg nw, if_neg nr, if_neg ng, if_neg nw, if_neg nr, if_neg ng, if_neg nw, if_neg nr]⟩)
      · skip
        have b33 := (not_congr (nI_le2 (by omega) (by omega))).mp b33
        refine r_aload_0 (pc := 36) C dX6_statement_36 ?_
        refine r_getI (pc := 37) C fl_X6_270_6 (tw_g hT) rfl dX6_statement_37 ?_
        refine r_top (congrFun (S5_0 _ _ _ _ _ _) _) ?_
        refine r_top ((st_x _ _ _ _ _ _ (by omega)).trans hmb) ?_
        refine r_if_eq (pc := 40) (tgt := 60) C dX6_statement_40 (by decide) (fun b40 => ?_) (fun b40 => ?_)
        · skip
          have b40 := bI_0.mp b40
          refine r_aload_0 (pc := 60) C dX6_statement_60 ?_
          refine r_getR (pc := 61) C fl_X6_7_6 (tw_g hT) rfl (tw_r1 hT) dX6_statement_61 ?_
          refine r_iconst (pc := 64) C dX6_statement_64 ci_1 ?_
          refine r_iald (pc := 65) C (tw_g1 hT) rfl rfl (lt_eq (by omega) (tw_n1 hT)) (by omega) dX6_statement_65 ?_
          refine r_top (congrFun (S5_1 _ _ _ _ _ _) _) ?_
          refine r_top hQ ?_
          refine r_if_le (pc := 66) (tgt := 106) C dX6_statement_66 (by decide) (fun b66 => ?_) (fun b66 => ?_)
          · skip
            have b66 := (nI_le0 (by omega)).mp b66
            refine r_aload_0 (pc := 106) C dX6_statement_106 ?_
            refine r_V0io (pc := 107) C (s_next (by exact hT) hB hτL (ht.n hcur)) vl_X6_214 (tw_g hT) (by decide) (Nat.le_refl _) (Nat.le_refl _) (Nat.le_of_ble_eq_true rfl) rfl dX6_statement_107 (fun u44 A44 hc44 => ?_)
            refine r_top hc44.1 ?_
            refine r_eqA (hc44.2.trans (by rw [next_n hcur])) ?_
            clear hc44 A44 u44
            refine r_istore_1 (pc := 110) C dX6_statement_110 rfl ?_
            refine r_aload_0 (pc := 111) C dX6_statement_111 ?_
            refine r_iconst (pc := 112) C dX6_statement_112 ci_0 ?_
            refine r_iconst (pc := 113) C dX6_statement_113 ci_1 ?_
            refine r_V2vo (pc := 114) C (s_must0 (by exact hT) hB hτL ht1 False id) vl_X6_217 (tw_g hT) (by decide) (Nat.le_refl _) (Nat.le_refl _) (Nat.le_of_ble_eq_true rfl) rfl dX6_statement_114 (fun u45 A45 hc45 => ?_)
            refine r_eqA hc45 ?_
            clear hc45 A45 u45
            refine r_vret (pc := 117) C E (Nat.le_refl _) (Nat.le_refl _) dX6_statement_117 ?_
            first
              | (have hg : rK σ = 0 ∧ seesW B L wGate s := ⟨b6, b16⟩; exact ⟨_, by unfold stmW stmS stmT; rw [if_pos hg, if_pos hg, if_pos hg]⟩)
              | (have hw : 1 < rG σ ∧ mb ∧ seesW B L wWalker s := ⟨by omega, b40, b50⟩; have ng : ¬ (rK σ = 0 ∧ seesW B L wGate s) := (fun q => by first | exact b6 q.1 | exact b16 q.2); exact ⟨_, by unfold stmW stmS stmT; rw [if_neg ng, if_pos hw, if_neg ng, if_pos hw, if_neg ng, if_pos hw]⟩)
              | (have hr : 0 < rK σ ∧ isGr B L s := ⟨by omega, by first | exact Or.inl b76 | exact Or.inr (Or.inl b86) | exact Or.inr (Or.inr b96)⟩; have ng : ¬ (rK σ = 0 ∧ seesW B L wGate s) := (fun q => by first | exact b6 q.1 | exact b16 q.2); have nw : ¬ (1 < rG σ ∧ mb ∧ seesW B L wWalker s) := (fun q => by first | exact b50 q.2.2 | exact b40 q.2.1 | (have q1 := q.1; omega)); exact ⟨_, by unfold stmW stmS stmT; rw [if_neg ng, if_neg nw, if_pos hr, if_neg ng, if_neg nw, if_pos hr, if_neg ng, if_neg nw, if_pos hr]⟩)
              | (have ng : ¬ (rK σ = 0 ∧ seesW B L wGate s) := (fun q => by first | exact b6 q.1 | exact b16 q.2); have nw : ¬ (1 < rG σ ∧ mb ∧ seesW B L wWalker s) := (fun q => by first | exact b50 q.2.2 | exact b40 q.2.1 | (have q1 := q.1; omega)); have nr : ¬ (0 < rK σ ∧ isGr B L s) := (fun q => by first | (have q1 := q.1; omega) | exact q.2.elim b76 (fun q => q.elim b86 b96)); exact ⟨_, by unfold stmW stmS stmT; rw [if_neg ng, if_neg nw, if_neg nr, if_neg ng, if_neg nw, if_neg nr, if_neg ng, if_neg nw, if_neg nr]⟩)
          · skip
            have b66 := (not_congr (nI_le0 (by omega))).mp b66
            refine r_aload_0 (pc := 69) C dX6_statement_69 ?_
            refine r_ldcwS (pc := 70) C k274 dX6_statement_70 ?_
            refine r_V1io (pc := 73) C (s_sees (by exact hT) hB hτL (ht.n hcur) hK.1 s274) vl_X6_250 (tw_g hT) (by decide) (Nat.le_refl _) (Nat.le_refl _) (Nat.le_of_ble_eq_true rfl) rfl dX6_statement_73 (fun u46 A46 hc46 => ?_)
            refine r_top (hc46.1.trans (bI_iff (sees_n (l := wStone) hcur))) ?_
            refine r_eqA (hc46.2.trans (by rw [next_n hcur])) ?_
            have hcur : nextS B L s = s ∨ nextS B L s = nextS B L s := Or.inr rfl
            clear hc46 A46 u46
            refine r_if_ne (pc := 76) (tgt := 99) C dX6_statement_76 (by decide) (fun b76 => ?_) (fun b76 => ?_)
            · skip
              have b76 := bI_n.mp b76
              refine r_aload_0 (pc := 99) C dX6_statement_99 ?_
              refine r_V0vo (pc := 100) C (m_groundLine (by exact hT) hB hτL ht1 hK (hW (by omega))) vl_X6_299 (tw_g hT) (by decide) (Nat.le_refl _) (Nat.le_refl _) (Nat.le_of_ble_eq_true rfl) rfl dX6_statement_100 (fun u47 A47 hc47 => ?_)
              obtain ⟨κL, eA⟩ := hc47
              refine r_eqA eA ?_
              clear eA A47 u47
              refine r_goto (pc := 103) (tgt := 117) C dX6_statement_103 (by decide) ?_
              refine r_vret (pc := 117) C E (Nat.le_refl _) (Nat.le_refl _) dX6_statement_117 ?_
              first
                | (have hg : rK σ = 0 ∧ seesW B L wGate s := ⟨b6, b16⟩; exact ⟨_, by unfold stmW stmS stmT; rw [if_pos hg, if_pos hg, if_pos hg]⟩)
                | (have hw : 1 < rG σ ∧ mb ∧ seesW B L wWalker s := ⟨by omega, b40, b50⟩; have ng : ¬ (rK σ = 0 ∧ seesW B L wGate s) := (fun q => by first | exact b6 q.1 | exact b16 q.2); exact ⟨_, by unfold stmW stmS stmT; rw [if_neg ng, if_pos hw, if_neg ng, if_pos hw, if_neg ng, if_pos hw]⟩)
                | (have hr : 0 < rK σ ∧ isGr B L s := ⟨by omega, by first | exact Or.inl b76 | exact Or.inr (Or.inl b86) | exact Or.inr (Or.inr b96)⟩; have ng : ¬ (rK σ = 0 ∧ seesW B L wGate s) := (fun q => by first | exact b6 q.1 | exact b16 q.2); have nw : ¬ (1 < rG σ ∧ mb ∧ seesW B L wWalker s) := (fun q => by first | exact b50 q.2.2 | exact b40 q.2.1 | (have q1 := q.1; omega)); exact ⟨_, by unfold stmW stmS stmT; rw [if_neg ng, if_neg nw, if_pos hr, if_neg ng, if_neg nw, if_pos hr, if_neg ng, if_neg nw, if_pos hr]⟩)
                | (have ng : ¬ (rK σ = 0 ∧ seesW B L wGate s) := (fun q => by first | exact b6 q.1 | exact b16 q.2); have nw : ¬ (1 < rG σ ∧ mb ∧ seesW B L wWalker s) := (fun q => by first | exact b50 q.2.2 | exact b40 q.2.1 | (have q1 := q.1; omega)); have nr : ¬ (0 < rK σ ∧ isGr B L s) := (fun q => by first | (have q1 := q.1; omega) | exact q.2.elim b76 (fun q => q.elim b86 b96)); exact ⟨_, by unfold stmW stmS stmT; rw [if_neg ng, if_neg nw, if_neg nr, if_neg ng, if_neg nw, if_neg nr, if_neg ng, if_neg nw, if_neg nr]⟩)
            · skip
              have b76 := bI_0.mp b76
              refine r_aload_0 (pc := 79) C dX6_statement_79 ?_
              refine r_ldcwS (pc := 80) C k279 dX6_statement_80 ?_
              refine r_V1io (pc := 83) C (s_sees (by exact hT) hB hτL (ht.n hcur) hK.1 s279) vl_X6_250 (tw_g hT) (by decide) (Nat.le_refl _) (Nat.le_refl _) (Nat.le_of_ble_eq_true rfl) rfl dX6_statement_83 (fun u48 A48 hc48 => ?_)
              refine r_top (hc48.1.trans (bI_iff (sees_n (l := wGrass) hcur))) ?_
              refine r_eqA (hc48.2.trans (by rw [next_n hcur])) ?_
              have hcur : nextS B L s = s ∨ nextS B L s = nextS B L s := Or.inr rfl
              clear hc48 A48 u48
              refine r_if_ne (pc := 86) (tgt := 99) C dX6_statement_86 (by decide) (fun b86 => ?_) (fun b86 => ?_)
              · skip
                have b86 := bI_n.mp b86
                refine r_aload_0 (pc := 99) C dX6_statement_99 ?_
                refine r_V0vo (pc := 100) C (m_groundLine (by exact hT) hB hτL ht1 hK (hW (by omega))) vl_X6_299 (tw_g hT) (by decide) (Nat.le_refl _) (Nat.le_refl _) (Nat.le_of_ble_eq_true rfl) rfl dX6_statement_100 (fun u49 A49 hc49 => ?_)
                obtain ⟨κL, eA⟩ := hc49
                refine r_eqA eA ?_
                clear eA A49 u49
                refine r_goto (pc := 103) (tgt := 117) C dX6_statement_103 (by decide) ?_
                refine r_vret (pc := 117) C E (Nat.le_refl _) (Nat.le_refl _) dX6_statement_117 ?_
                first
                  | (have hg : rK σ = 0 ∧ seesW B L wGate s := ⟨b6, b16⟩; exact ⟨_, by unfold stmW stmS stmT; rw [if_pos hg, if_pos hg, if_pos hg]⟩)
                  | (have hw : 1 < rG σ ∧ mb ∧ seesW B L wWalker s := ⟨by omega, b40, b50⟩; have ng : ¬ (rK σ = 0 ∧ seesW B L wGate s) := (fun q => by first | exact b6 q.1 | exact b16 q.2); exact ⟨_, by unfold stmW stmS stmT; rw [if_neg ng, if_pos hw, if_neg ng, if_pos hw, if_neg ng, if_pos hw]⟩)
                  | (have hr : 0 < rK σ ∧ isGr B L s := ⟨by omega, by first | exact Or.inl b76 | exact Or.inr (Or.inl b86) | exact Or.inr (Or.inr b96)⟩; have ng : ¬ (rK σ = 0 ∧ seesW B L wGate s) := (fun q => by first | exact b6 q.1 | exact b16 q.2); have nw : ¬ (1 < rG σ ∧ mb ∧ seesW B L wWalker s) := (fun q => by first | exact b50 q.2.2 | exact b40 q.2.1 | (have q1 := q.1; omega)); exact ⟨_, by unfold stmW stmS stmT; rw [if_neg ng, if_neg nw, if_pos hr, if_neg ng, if_neg nw, if_pos hr, if_neg ng, if_neg nw, if_pos hr]⟩)
                  | (have ng : ¬ (rK σ = 0 ∧ seesW B L wGate s) := (fun q => by first | exact b6 q.1 | exact b16 q.2); have nw : ¬ (1 < rG σ ∧ mb ∧ seesW B L wWalker s) := (fun q => by first | exact b50 q.2.2 | exact b40 q.2.1 | (have q1 := q.1; omega)); have nr : ¬ (0 < rK σ ∧ isGr B L s) := (fun q => by first | (have q1 := q.1; omega) | exact q.2.elim b76 (fun q => q.elim b86 b96)); exact ⟨_, by unfold stmW stmS stmT; rw [if_neg ng, if_neg nw, if_neg nr, if_neg ng, if_neg nw, if_neg nr, if_neg ng, if_neg nw, if_neg nr]⟩)
              · skip
                have b86 := bI_0.mp b86
                refine r_aload_0 (pc := 89) C dX6_statement_89 ?_
                refine r_ldcwS (pc := 90) C k297 dX6_statement_90 ?_
                refine r_V1io (pc := 93) C (s_sees (by exact hT) hB hτL (ht.n hcur) hK.1 s297) vl_X6_250 (tw_g hT) (by decide) (Nat.le_refl _) (Nat.le_refl _) (Nat.le_of_ble_eq_true rfl) rfl dX6_statement_93 (fun u50 A50 hc50 => ?_)
                refine r_top (hc50.1.trans (bI_iff (sees_n (l := wFence) hcur))) ?_
                refine r_eqA (hc50.2.trans (by rw [next_n hcur])) ?_
                have hcur : nextS B L s = s ∨ nextS B L s = nextS B L s := Or.inr rfl
                clear hc50 A50 u50
                refine r_if_eq (pc := 96) (tgt := 106) C dX6_statement_96 (by decide) (fun b96 => ?_) (fun b96 => ?_)
                · skip
                  have b96 := bI_0.mp b96
                  refine r_aload_0 (pc := 106) C dX6_statement_106 ?_
                  refine r_V0io (pc := 107) C (s_next (by exact hT) hB hτL (ht.n hcur)) vl_X6_214 (tw_g hT) (by decide) (Nat.le_refl _) (Nat.le_refl _) (Nat.le_of_ble_eq_true rfl) rfl dX6_statement_107 (fun u51 A51 hc51 => ?_)
                  refine r_top hc51.1 ?_
                  refine r_eqA (hc51.2.trans (by rw [next_n hcur])) ?_
                  clear hc51 A51 u51
                  refine r_istore_1 (pc := 110) C dX6_statement_110 rfl ?_
                  refine r_aload_0 (pc := 111) C dX6_statement_111 ?_
                  refine r_iconst (pc := 112) C dX6_statement_112 ci_0 ?_
                  refine r_iconst (pc := 113) C dX6_statement_113 ci_1 ?_
                  refine r_V2vo (pc := 114) C (s_must0 (by exact hT) hB hτL ht1 False id) vl_X6_217 (tw_g hT) (by decide) (Nat.le_refl _) (Nat.le_refl _) (Nat.le_of_ble_eq_true rfl) rfl dX6_statement_114 (fun u52 A52 hc52 => ?_)
                  refine r_eqA hc52 ?_
                  clear hc52 A52 u52
                  refine r_vret (pc := 117) C E (Nat.le_refl _) (Nat.le_refl _) dX6_statement_117 ?_
                  first
                    | (have hg : rK σ = 0 ∧ seesW B L wGate s := ⟨b6, b16⟩; exact ⟨_, by unfold stmW stmS stmT; rw [if_pos hg, if_pos hg, if_pos hg]⟩)
                    | (have hw : 1 < rG σ ∧ mb ∧ seesW B L wWalker s := ⟨by omega, b40, b50⟩; have ng : ¬ (rK σ = 0 ∧ seesW B L wGate s) := (fun q => by first | exact b6 q.1 | exact b16 q.2); exact ⟨_, by unfold stmW stmS stmT; rw [if_neg ng, if_pos hw, if_neg ng, if_pos hw, if_neg ng, if_pos hw]⟩)
                    | (have hr : 0 < rK σ ∧ isGr B L s := ⟨by omega, by first | exact Or.inl b76 | exact Or.inr (Or.inl b86) | exact Or.inr (Or.inr b96)⟩; have ng : ¬ (rK σ = 0 ∧ seesW B L wGate s) := (fun q => by first | exact b6 q.1 | exact b16 q.2); have nw : ¬ (1 < rG σ ∧ mb ∧ seesW B L wWalker s) := (fun q => by first | exact b50 q.2.2 | exact b40 q.2.1 | (have q1 := q.1; omega)); exact ⟨_, by unfold stmW stmS stmT; rw [if_neg ng, if_neg nw, if_pos hr, if_neg ng, if_neg nw, if_pos hr, if_neg ng, if_neg nw, if_pos hr]⟩)
                    | (have ng : ¬ (rK σ = 0 ∧ seesW B L wGate s) := (fun q => by first | exact b6 q.1 | exact b16 q.2); have nw : ¬ (1 < rG σ ∧ mb ∧ seesW B L wWalker s) := (fun q => by first | exact b50 q.2.2 | exact b40 q.2.1 | (have q1 := q.1; omega)); have nr : ¬ (0 < rK σ ∧ isGr B L s) := (fun q => by first | (have q1 := q.1; omega) | exact q.2.elim b76 (fun q => q.elim b86 b96)); exact ⟨_, by unfold stmW stmS stmT; rw [if_neg ng, if_neg nw, if_neg nr, if_neg ng, if_neg nw, if_neg nr, if_neg ng, if_neg nw, if_neg nr]⟩)
                · skip
                  have b96 := bI_n.mp b96
                  refine r_aload_0 (pc := 99) C dX6_statement_99 ?_
                  refine r_V0vo (pc := 100) C (m_groundLine (by exact hT) hB hτL ht1 hK (hW (by omega))) vl_X6_299 (tw_g hT) (by decide) (Nat.le_refl _) (Nat.le_refl _) (Nat.le_of_ble_eq_true rfl) rfl dX6_statement_100 (fun u53 A53 hc53 => ?_)
                  obtain ⟨κL, eA⟩ := hc53
                  refine r_eqA eA ?_
                  clear eA A53 u53
                  refine r_goto (pc := 103) (tgt := 117) C dX6_statement_103 (by decide) ?_
                  refine r_vret (pc := 117) C E (Nat.le_refl _) (Nat.le_refl _) dX6_statement_117 ?_
                  first
                    | (have hg : rK σ = 0 ∧ seesW B L wGate s := ⟨b6, b16⟩; exact ⟨_, by unfold stmW stmS stmT; rw [if_pos hg, if_pos hg, if_pos hg]⟩)
                    | (have hw : 1 < rG σ ∧ mb ∧ seesW B L wWalker s := ⟨by omega, b40, b50⟩; have ng : ¬ (rK σ = 0 ∧ seesW B L wGate s) := (fun q => by first | exact b6 q.1 | exact b16 q.2); exact ⟨_, by unfold stmW stmS stmT; rw [if_neg ng, if_pos hw, if_neg ng, if_pos hw, if_neg ng, if_pos hw]⟩)
                    | (have hr : 0 < rK σ ∧ isGr B L s := ⟨by omega, by first | exact Or.inl b76 | exact Or.inr (Or.inl b86) | exact Or.inr (Or.inr b96)⟩; have ng : ¬ (rK σ = 0 ∧ seesW B L wGate s) := (fun q => by first | exact b6 q.1 | exact b16 q.2); have nw : ¬ (1 < rG σ ∧ mb ∧ seesW B L wWalker s) := (fun q => by first | exact b50 q.2.2 | exact b40 q.2.1 | (have q1 := q.1; omega)); exact ⟨_, by unfold stmW stmS stmT; rw [if_neg ng, if_neg nw, if_pos hr, if_neg ng, if_neg nw, if_pos hr, if_neg ng, if_neg nw, if_pos hr]⟩)
                    | (have ng : ¬ (rK σ = 0 ∧ seesW B L wGate s) := (fun q => by first | exact b6 q.1 | exact b16 q.2); have nw : ¬ (1 < rG σ ∧ mb ∧ seesW B L wWalker s) := (fun q => by first | exact b50 q.2.2 | exact b40 q.2.1 | (have q1 := q.1; omega)); have nr : ¬ (0 < rK σ ∧ isGr B L s) := (fun q => by first | (have q1 := q.1; omega) | exact q.2.elim b76 (fun q => q.elim b86 b96)); exact ⟨_, by unfold stmW stmS stmT; rw [if_neg ng, if_neg nw, if_neg nr, if_neg ng, if_neg nw, if_neg nr, if_neg ng, if_neg nw, if_neg nr]⟩)
        · skip
          have b40 := bI_n.mp b40
          refine r_aload_0 (pc := 43) C dX6_statement_43 ?_
          refine r_ldcwS (pc := 44) C k292 dX6_statement_44 ?_
          refine r_V1io (pc := 47) C (s_sees (by exact hT) hB hτL (ht.n hcur) hK.1 s292) vl_X6_250 (tw_g hT) (by decide) (Nat.le_refl _) (Nat.le_refl _) (Nat.le_of_ble_eq_true rfl) rfl dX6_statement_47 (fun u54 A54 hc54 => ?_)
          refine r_top (hc54.1.trans (bI_iff (sees_n (l := wWalker) hcur))) ?_
          refine r_eqA (hc54.2.trans (by rw [next_n hcur])) ?_
          have hcur : nextS B L s = s ∨ nextS B L s = nextS B L s := Or.inr rfl
          clear hc54 A54 u54
          refine r_if_eq (pc := 50) (tgt := 60) C dX6_statement_50 (by decide) (fun b50 => ?_) (fun b50 => ?_)
          · skip
            have b50 := bI_0.mp b50
            refine r_aload_0 (pc := 60) C dX6_statement_60 ?_
            refine r_getR (pc := 61) C fl_X6_7_6 (tw_g hT) rfl (tw_r1 hT) dX6_statement_61 ?_
            refine r_iconst (pc := 64) C dX6_statement_64 ci_1 ?_
            refine r_iald (pc := 65) C (tw_g1 hT) rfl rfl (lt_eq (by omega) (tw_n1 hT)) (by omega) dX6_statement_65 ?_
            refine r_top (congrFun (S5_1 _ _ _ _ _ _) _) ?_
            refine r_top hQ ?_
            refine r_if_le (pc := 66) (tgt := 106) C dX6_statement_66 (by decide) (fun b66 => ?_) (fun b66 => ?_)
            · skip
              have b66 := (nI_le0 (by omega)).mp b66
              refine r_aload_0 (pc := 106) C dX6_statement_106 ?_
              refine r_V0io (pc := 107) C (s_next (by exact hT) hB hτL (ht.n hcur)) vl_X6_214 (tw_g hT) (by decide) (Nat.le_refl _) (Nat.le_refl _) (Nat.le_of_ble_eq_true rfl) rfl dX6_statement_107 (fun u55 A55 hc55 => ?_)
              refine r_top hc55.1 ?_
              refine r_eqA (hc55.2.trans (by rw [next_n hcur])) ?_
              clear hc55 A55 u55
              refine r_istore_1 (pc := 110) C dX6_statement_110 rfl ?_
              refine r_aload_0 (pc := 111) C dX6_statement_111 ?_
              refine r_iconst (pc := 112) C dX6_statement_112 ci_0 ?_
              refine r_iconst (pc := 113) C dX6_statement_113 ci_1 ?_
              refine r_V2vo (pc := 114) C (s_must0 (by exact hT) hB hτL ht1 False id) vl_X6_217 (tw_g hT) (by decide) (Nat.le_refl _) (Nat.le_refl _) (Nat.le_of_ble_eq_true rfl) rfl dX6_statement_114 (fun u56 A56 hc56 => ?_)
              refine r_eqA hc56 ?_
              clear hc56 A56 u56
              refine r_vret (pc := 117) C E (Nat.le_refl _) (Nat.le_refl _) dX6_statement_117 ?_
              first
                | (have hg : rK σ = 0 ∧ seesW B L wGate s := ⟨b6, b16⟩; exact ⟨_, by unfold stmW stmS stmT; rw [if_pos hg, if_pos hg, if_pos hg]⟩)
                | (have hw : 1 < rG σ ∧ mb ∧ seesW B L wWalker s := ⟨by omega, b40, b50⟩; have ng : ¬ (rK σ = 0 ∧ seesW B L wGate s) := (fun q => by first | exact b6 q.1 | exact b16 q.2); exact ⟨_, by unfold stmW stmS stmT; rw [if_neg ng, if_pos hw, if_neg ng, if_pos hw, if_neg ng, if_pos hw]⟩)
                | (have hr : 0 < rK σ ∧ isGr B L s := ⟨by omega, by first | exact Or.inl b76 | exact Or.inr (Or.inl b86) | exact Or.inr (Or.inr b96)⟩; have ng : ¬ (rK σ = 0 ∧ seesW B L wGate s) := (fun q => by first | exact b6 q.1 | exact b16 q.2); have nw : ¬ (1 < rG σ ∧ mb ∧ seesW B L wWalker s) := (fun q => by first | exact b50 q.2.2 | exact b40 q.2.1 | (have q1 := q.1; omega)); exact ⟨_, by unfold stmW stmS stmT; rw [if_neg ng, if_neg nw, if_pos hr, if_neg ng, if_neg nw, if_pos hr, if_neg ng, if_neg nw, if_pos hr]⟩)
                | (have ng : ¬ (rK σ = 0 ∧ seesW B L wGate s) := (fun q => by first | exact b6 q.1 | exact b16 q.2); have nw : ¬ (1 < rG σ ∧ mb ∧ seesW B L wWalker s) := (fun q => by first | exact b50 q.2.2 | exact b40 q.2.1 | (have q1 := q.1; omega)); have nr : ¬ (0 < rK σ ∧ isGr B L s) := (fun q => by first | (have q1 := q.1; omega) | exact q.2.elim b76 (fun q => q.elim b86 b96)); exact ⟨_, by unfold stmW stmS stmT; rw [if_neg ng, if_neg nw, if_neg nr, if_neg ng, if_neg nw, if_neg nr, if_neg ng, if_neg nw, if_neg nr]⟩)
            · skip
              have b66 := (not_congr (nI_le0 (by omega))).mp b66
              refine r_aload_0 (pc := 69) C dX6_statement_69 ?_
              refine r_ldcwS (pc := 70) C k274 dX6_statement_70 ?_
              refine r_V1io (pc := 73) C (s_sees (by exact hT) hB hτL (ht.n hcur) hK.1 s274) vl_X6_250 (tw_g hT) (by decide) (Nat.le_refl _) (Nat.le_refl _) (Nat.le_of_ble_eq_true rfl) rfl dX6_statement_73 (fun u57 A57 hc57 => ?_)
              refine r_top (hc57.1.trans (bI_iff (sees_n (l := wStone) hcur))) ?_
              refine r_eqA (hc57.2.trans (by rw [next_n hcur])) ?_
              have hcur : nextS B L s = s ∨ nextS B L s = nextS B L s := Or.inr rfl
              clear hc57 A57 u57
              refine r_if_ne (pc := 76) (tgt := 99) C dX6_statement_76 (by decide) (fun b76 => ?_) (fun b76 => ?_)
              · skip
                have b76 := bI_n.mp b76
                refine r_aload_0 (pc := 99) C dX6_statement_99 ?_
                refine r_V0vo (pc := 100) C (m_groundLine (by exact hT) hB hτL ht1 hK (hW (by omega))) vl_X6_299 (tw_g hT) (by decide) (Nat.le_refl _) (Nat.le_refl _) (Nat.le_of_ble_eq_true rfl) rfl dX6_statement_100 (fun u58 A58 hc58 => ?_)
                obtain ⟨κL, eA⟩ := hc58
                refine r_eqA eA ?_
                clear eA A58 u58
                refine r_goto (pc := 103) (tgt := 117) C dX6_statement_103 (by decide) ?_
                refine r_vret (pc := 117) C E (Nat.le_refl _) (Nat.le_refl _) dX6_statement_117 ?_
                first
                  | (have hg : rK σ = 0 ∧ seesW B L wGate s := ⟨b6, b16⟩; exact ⟨_, by unfold stmW stmS stmT; rw [if_pos hg, if_pos hg, if_pos hg]⟩)
                  | (have hw : 1 < rG σ ∧ mb ∧ seesW B L wWalker s := ⟨by omega, b40, b50⟩; have ng : ¬ (rK σ = 0 ∧ seesW B L wGate s) := (fun q => by first | exact b6 q.1 | exact b16 q.2); exact ⟨_, by unfold stmW stmS stmT; rw [if_neg ng, if_pos hw, if_neg ng, if_pos hw, if_neg ng, if_pos hw]⟩)
                  | (have hr : 0 < rK σ ∧ isGr B L s := ⟨by omega, by first | exact Or.inl b76 | exact Or.inr (Or.inl b86) | exact Or.inr (Or.inr b96)⟩; have ng : ¬ (rK σ = 0 ∧ seesW B L wGate s) := (fun q => by first | exact b6 q.1 | exact b16 q.2); have nw : ¬ (1 < rG σ ∧ mb ∧ seesW B L wWalker s) := (fun q => by first | exact b50 q.2.2 | exact b40 q.2.1 | (have q1 := q.1; omega)); exact ⟨_, by unfold stmW stmS stmT; rw [if_neg ng, if_neg nw, if_pos hr, if_neg ng, if_neg nw, if_pos hr, if_neg ng, if_neg nw, if_pos hr]⟩)
                  | (have ng : ¬ (rK σ = 0 ∧ seesW B L wGate s) := (fun q => by first | exact b6 q.1 | exact b16 q.2); have nw : ¬ (1 < rG σ ∧ mb ∧ seesW B L wWalker s) := (fun q => by first | exact b50 q.2.2 | exact b40 q.2.1 | (have q1 := q.1; omega)); have nr : ¬ (0 < rK σ ∧ isGr B L s) := (fun q => by first | (have q1 := q.1; omega) | exact q.2.elim b76 (fun q => q.elim b86 b96)); exact ⟨_, by unfold stmW stmS stmT; rw [if_neg ng, if_neg nw, if_neg nr, if_neg ng, if_neg nw, if_neg nr, if_neg ng, if_neg nw, if_neg nr]⟩)
              · skip
                have b76 := bI_0.mp b76
                refine r_aload_0 (pc := 79) C dX6_statement_79 ?_
                refine r_ldcwS (pc := 80) C k279 dX6_statement_80 ?_
                refine r_V1io (pc := 83) C (s_sees (by exact hT) hB hτL (ht.n hcur) hK.1 s279) vl_X6_250 (tw_g hT) (by decide) (Nat.le_refl _) (Nat.le_refl _) (Nat.le_of_ble_eq_true rfl) rfl dX6_statement_83 (fun u59 A59 hc59 => ?_)
                refine r_top (hc59.1.trans (bI_iff (sees_n (l := wGrass) hcur))) ?_
                refine r_eqA (hc59.2.trans (by rw [next_n hcur])) ?_
                have hcur : nextS B L s = s ∨ nextS B L s = nextS B L s := Or.inr rfl
                clear hc59 A59 u59
                refine r_if_ne (pc := 86) (tgt := 99) C dX6_statement_86 (by decide) (fun b86 => ?_) (fun b86 => ?_)
                · skip
                  have b86 := bI_n.mp b86
                  refine r_aload_0 (pc := 99) C dX6_statement_99 ?_
                  refine r_V0vo (pc := 100) C (m_groundLine (by exact hT) hB hτL ht1 hK (hW (by omega))) vl_X6_299 (tw_g hT) (by decide) (Nat.le_refl _) (Nat.le_refl _) (Nat.le_of_ble_eq_true rfl) rfl dX6_statement_100 (fun u60 A60 hc60 => ?_)
                  obtain ⟨κL, eA⟩ := hc60
                  refine r_eqA eA ?_
                  clear eA A60 u60
                  refine r_goto (pc := 103) (tgt := 117) C dX6_statement_103 (by decide) ?_
                  refine r_vret (pc := 117) C E (Nat.le_refl _) (Nat.le_refl _) dX6_statement_117 ?_
                  first
                    | (have hg : rK σ = 0 ∧ seesW B L wGate s := ⟨b6, b16⟩; exact ⟨_, by unfold stmW stmS stmT; rw [if_pos hg, if_pos hg, if_pos hg]⟩)
                    | (have hw : 1 < rG σ ∧ mb ∧ seesW B L wWalker s := ⟨by omega, b40, b50⟩; have ng : ¬ (rK σ = 0 ∧ seesW B L wGate s) := (fun q => by first | exact b6 q.1 | exact b16 q.2); exact ⟨_, by unfold stmW stmS stmT; rw [if_neg ng, if_pos hw, if_neg ng, if_pos hw, if_neg ng, if_pos hw]⟩)
                    | (have hr : 0 < rK σ ∧ isGr B L s := ⟨by omega, by first | exact Or.inl b76 | exact Or.inr (Or.inl b86) | exact Or.inr (Or.inr b96)⟩; have ng : ¬ (rK σ = 0 ∧ seesW B L wGate s) := (fun q => by first | exact b6 q.1 | exact b16 q.2); have nw : ¬ (1 < rG σ ∧ mb ∧ seesW B L wWalker s) := (fun q => by first | exact b50 q.2.2 | exact b40 q.2.1 | (have q1 := q.1; omega)); exact ⟨_, by unfold stmW stmS stmT; rw [if_neg ng, if_neg nw, if_pos hr, if_neg ng, if_neg nw, if_pos hr, if_neg ng, if_neg nw, if_pos hr]⟩)
                    | (have ng : ¬ (rK σ = 0 ∧ seesW B L wGate s) := (fun q => by first | exact b6 q.1 | exact b16 q.2); have nw : ¬ (1 < rG σ ∧ mb ∧ seesW B L wWalker s) := (fun q => by first | exact b50 q.2.2 | exact b40 q.2.1 | (have q1 := q.1; omega)); have nr : ¬ (0 < rK σ ∧ isGr B L s) := (fun q => by first | (have q1 := q.1; omega) | exact q.2.elim b76 (fun q => q.elim b86 b96)); exact ⟨_, by unfold stmW stmS stmT; rw [if_neg ng, if_neg nw, if_neg nr, if_neg ng, if_neg nw, if_neg nr, if_neg ng, if_neg nw, if_neg nr]⟩)
                · skip
                  have b86 := bI_0.mp b86
                  refine r_aload_0 (pc := 89) C dX6_statement_89 ?_
                  refine r_ldcwS (pc := 90) C k297 dX6_statement_90 ?_
                  refine r_V1io (pc := 93) C (s_sees (by exact hT) hB hτL (ht.n hcur) hK.1 s297) vl_X6_250 (tw_g hT) (by decide) (Nat.le_refl _) (Nat.le_refl _) (Nat.le_of_ble_eq_true rfl) rfl dX6_statement_93 (fun u61 A61 hc61 => ?_)
                  refine r_top (hc61.1.trans (bI_iff (sees_n (l := wFence) hcur))) ?_
                  refine r_eqA (hc61.2.trans (by rw [next_n hcur])) ?_
                  have hcur : nextS B L s = s ∨ nextS B L s = nextS B L s := Or.inr rfl
                  clear hc61 A61 u61
                  refine r_if_eq (pc := 96) (tgt := 106) C dX6_statement_96 (by decide) (fun b96 => ?_) (fun b96 => ?_)
                  · skip
                    have b96 := bI_0.mp b96
                    refine r_aload_0 (pc := 106) C dX6_statement_106 ?_
                    refine r_V0io (pc := 107) C (s_next (by exact hT) hB hτL (ht.n hcur)) vl_X6_214 (tw_g hT) (by decide) (Nat.le_refl _) (Nat.le_refl _) (Nat.le_of_ble_eq_true rfl) rfl dX6_statement_107 (fun u62 A62 hc62 => ?_)
                    refine r_top hc62.1 ?_
                    refine r_eqA (hc62.2.trans (by rw [next_n hcur])) ?_
                    clear hc62 A62 u62
                    refine r_istore_1 (pc := 110) C dX6_statement_110 rfl ?_
                    refine r_aload_0 (pc := 111) C dX6_statement_111 ?_
                    refine r_iconst (pc := 112) C dX6_statement_112 ci_0 ?_
                    refine r_iconst (pc := 113) C dX6_statement_113 ci_1 ?_
                    refine r_V2vo (pc := 114) C (s_must0 (by exact hT) hB hτL ht1 False id) vl_X6_217 (tw_g hT) (by decide) (Nat.le_refl _) (Nat.le_refl _) (Nat.le_of_ble_eq_true rfl) rfl dX6_statement_114 (fun u63 A63 hc63 => ?_)
                    refine r_eqA hc63 ?_
                    clear hc63 A63 u63
                    refine r_vret (pc := 117) C E (Nat.le_refl _) (Nat.le_refl _) dX6_statement_117 ?_
                    first
                      | (have hg : rK σ = 0 ∧ seesW B L wGate s := ⟨b6, b16⟩; exact ⟨_, by unfold stmW stmS stmT; rw [if_pos hg, if_pos hg, if_pos hg]⟩)
                      | (have hw : 1 < rG σ ∧ mb ∧ seesW B L wWalker s := ⟨by omega, b40, b50⟩; have ng : ¬ (rK σ = 0 ∧ seesW B L wGate s) := (fun q => by first | exact b6 q.1 | exact b16 q.2); exact ⟨_, by unfold stmW stmS stmT; rw [if_neg ng, if_pos hw, if_neg ng, if_pos hw, if_neg ng, if_pos hw]⟩)
                      | (have hr : 0 < rK σ ∧ isGr B L s := ⟨by omega, by first | exact Or.inl b76 | exact Or.inr (Or.inl b86) | exact Or.inr (Or.inr b96)⟩; have ng : ¬ (rK σ = 0 ∧ seesW B L wGate s) := (fun q => by first | exact b6 q.1 | exact b16 q.2); have nw : ¬ (1 < rG σ ∧ mb ∧ seesW B L wWalker s) := (fun q => by first | exact b50 q.2.2 | exact b40 q.2.1 | (have q1 := q.1; omega)); exact ⟨_, by unfold stmW stmS stmT; rw [if_neg ng, if_neg nw, if_pos hr, if_neg ng, if_neg nw, if_pos hr, if_neg ng, if_neg nw, if_pos hr]⟩)
                      | (have ng : ¬ (rK σ = 0 ∧ seesW B L wGate s) := (fun q => by first | exact b6 q.1 | exact b16 q.2); have nw : ¬ (1 < rG σ ∧ mb ∧ seesW B L wWalker s) := (fun q => by first | exact b50 q.2.2 | exact b40 q.2.1 | (have q1 := q.1; omega)); have nr : ¬ (0 < rK σ ∧ isGr B L s) := (fun q => by first | (have q1 := q.1; omega) | exact q.2.elim b76 (fun q => q.elim b86 b96)); exact ⟨_, by unfold stmW stmS stmT; rw [if_neg ng, if_neg nw, if_neg nr, if_neg ng, if_neg nw, if_neg nr, if_neg ng, if_neg nw, if_neg nr]⟩)
                  · skip
                    have b96 := bI_n.mp b96
                    refine r_aload_0 (pc := 99) C dX6_statement_99 ?_
                    refine r_V0vo (pc := 100) C (m_groundLine (by exact hT) hB hτL ht1 hK (hW (by omega))) vl_X6_299 (tw_g hT) (by decide) (Nat.le_refl _) (Nat.le_refl _) (Nat.le_of_ble_eq_true rfl) rfl dX6_statement_100 (fun u64 A64 hc64 => ?_)
                    obtain ⟨κL, eA⟩ := hc64
                    refine r_eqA eA ?_
                    clear eA A64 u64
                    refine r_goto (pc := 103) (tgt := 117) C dX6_statement_103 (by decide) ?_
                    refine r_vret (pc := 117) C E (Nat.le_refl _) (Nat.le_refl _) dX6_statement_117 ?_
                    first
                      | (have hg : rK σ = 0 ∧ seesW B L wGate s := ⟨b6, b16⟩; exact ⟨_, by unfold stmW stmS stmT; rw [if_pos hg, if_pos hg, if_pos hg]⟩)
                      | (have hw : 1 < rG σ ∧ mb ∧ seesW B L wWalker s := ⟨by omega, b40, b50⟩; have ng : ¬ (rK σ = 0 ∧ seesW B L wGate s) := (fun q => by first | exact b6 q.1 | exact b16 q.2); exact ⟨_, by unfold stmW stmS stmT; rw [if_neg ng, if_pos hw, if_neg ng, if_pos hw, if_neg ng, if_pos hw]⟩)
                      | (have hr : 0 < rK σ ∧ isGr B L s := ⟨by omega, by first | exact Or.inl b76 | exact Or.inr (Or.inl b86) | exact Or.inr (Or.inr b96)⟩; have ng : ¬ (rK σ = 0 ∧ seesW B L wGate s) := (fun q => by first | exact b6 q.1 | exact b16 q.2); have nw : ¬ (1 < rG σ ∧ mb ∧ seesW B L wWalker s) := (fun q => by first | exact b50 q.2.2 | exact b40 q.2.1 | (have q1 := q.1; omega)); exact ⟨_, by unfold stmW stmS stmT; rw [if_neg ng, if_neg nw, if_pos hr, if_neg ng, if_neg nw, if_pos hr, if_neg ng, if_neg nw, if_pos hr]⟩)
                      | (have ng : ¬ (rK σ = 0 ∧ seesW B L wGate s) := (fun q => by first | exact b6 q.1 | exact b16 q.2); have nw : ¬ (1 < rG σ ∧ mb ∧ seesW B L wWalker s) := (fun q => by first | exact b50 q.2.2 | exact b40 q.2.1 | (have q1 := q.1; omega)); have nr : ¬ (0 < rK σ ∧ isGr B L s) := (fun q => by first | (have q1 := q.1; omega) | exact q.2.elim b76 (fun q => q.elim b86 b96)); exact ⟨_, by unfold stmW stmS stmT; rw [if_neg ng, if_neg nw, if_neg nr, if_neg ng, if_neg nw, if_neg nr, if_neg ng, if_neg nw, if_neg nr]⟩)
          · skip
            have b50 := bI_n.mp b50
            refine r_aload_0 (pc := 53) C dX6_statement_53 ?_
            refine r_V0vo (pc := 54) C (m_walkerLine (by exact hT) hB hτL ht1 hN) vl_X6_294 (tw_g hT) (by decide) (Nat.le_refl _) (Nat.le_refl _) (Nat.le_of_ble_eq_true rfl) rfl dX6_statement_54 (fun u65 A65 hc65 => ?_)
            refine r_eqA hc65 ?_
            clear hc65 A65 u65
            refine r_goto (pc := 57) (tgt := 117) C dX6_statement_57 (by decide) ?_
            refine r_vret (pc := 117) C E (Nat.le_refl _) (Nat.le_refl _) dX6_statement_117 ?_
            first
              | (have hg : rK σ = 0 ∧ seesW B L wGate s := ⟨b6, b16⟩; exact ⟨_, by unfold stmW stmS stmT; rw [if_pos hg, if_pos hg, if_pos hg]⟩)
              | (have hw : 1 < rG σ ∧ mb ∧ seesW B L wWalker s := ⟨by omega, b40, b50⟩; have ng : ¬ (rK σ = 0 ∧ seesW B L wGate s) := (fun q => by first | exact b6 q.1 | exact b16 q.2); exact ⟨_, by unfold stmW stmS stmT; rw [if_neg ng, if_pos hw, if_neg ng, if_pos hw, if_neg ng, if_pos hw]⟩)
              | (have hr : 0 < rK σ ∧ isGr B L s := ⟨by omega, by first | exact Or.inl b76 | exact Or.inr (Or.inl b86) | exact Or.inr (Or.inr b96)⟩; have ng : ¬ (rK σ = 0 ∧ seesW B L wGate s) := (fun q => by first | exact b6 q.1 | exact b16 q.2); have nw : ¬ (1 < rG σ ∧ mb ∧ seesW B L wWalker s) := (fun q => by first | exact b50 q.2.2 | exact b40 q.2.1 | (have q1 := q.1; omega)); exact ⟨_, by unfold stmW stmS stmT; rw [if_neg ng, if_neg nw, if_pos hr, if_neg ng, if_neg nw, if_pos hr, if_neg ng, if_neg nw, if_pos hr]⟩)
              | (have ng : ¬ (rK σ = 0 ∧ seesW B L wGate s) := (fun q => by first | exact b6 q.1 | exact b16 q.2); have nw : ¬ (1 < rG σ ∧ mb ∧ seesW B L wWalker s) := (fun q => by first | exact b50 q.2.2 | exact b40 q.2.1 | (have q1 := q.1; omega)); have nr : ¬ (0 < rK σ ∧ isGr B L s) := (fun q => by first | (have q1 := q.1; omega) | exact q.2.elim b76 (fun q => q.elim b86 b96)); exact ⟨_, by unfold stmW stmS stmT; rw [if_neg ng, if_neg nw, if_neg nr, if_neg ng, if_neg nw, if_neg nr, if_neg ng, if_neg nw, if_neg nr]⟩)
    · skip
      have b16 := bI_n.mp b16
      refine r_aload_0 (pc := 19) C dX6_statement_19 ?_
      refine r_V0vo (pc := 20) C (m_gateLine (by exact hT) hB hτL ht1 hS hN) vl_X6_289 (tw_g hT) (by decide) (Nat.le_refl _) (Nat.le_refl _) (Nat.le_of_ble_eq_true rfl) rfl dX6_statement_20 (fun u66 A66 hc66 => ?_)
      refine r_eqA hc66 ?_
      clear hc66 A66 u66
      refine r_goto (pc := 23) (tgt := 117) C dX6_statement_23 (by decide) ?_
      refine r_vret (pc := 117) C E (Nat.le_refl _) (Nat.le_refl _) dX6_statement_117 ?_
      first
        | (have hg : rK σ = 0 ∧ seesW B L wGate s := ⟨b6, b16⟩; exact ⟨_, by unfold stmW stmS stmT; rw [if_pos hg, if_pos hg, if_pos hg]⟩)
        | (have hw : 1 < rG σ ∧ mb ∧ seesW B L wWalker s := ⟨by omega, b40, b50⟩; have ng : ¬ (rK σ = 0 ∧ seesW B L wGate s) := (fun q => by first | exact b6 q.1 | exact b16 q.2); exact ⟨_, by unfold stmW stmS stmT; rw [if_neg ng, if_pos hw, if_neg ng, if_pos hw, if_neg ng, if_pos hw]⟩)
        | (have hr : 0 < rK σ ∧ isGr B L s := ⟨by omega, by first | exact Or.inl b76 | exact Or.inr (Or.inl b86) | exact Or.inr (Or.inr b96)⟩; have ng : ¬ (rK σ = 0 ∧ seesW B L wGate s) := (fun q => by first | exact b6 q.1 | exact b16 q.2); have nw : ¬ (1 < rG σ ∧ mb ∧ seesW B L wWalker s) := (fun q => by first | exact b50 q.2.2 | exact b40 q.2.1 | (have q1 := q.1; omega)); exact ⟨_, by unfold stmW stmS stmT; rw [if_neg ng, if_neg nw, if_pos hr, if_neg ng, if_neg nw, if_pos hr, if_neg ng, if_neg nw, if_pos hr]⟩)
        | (have ng : ¬ (rK σ = 0 ∧ seesW B L wGate s) := (fun q => by first | exact b6 q.1 | exact b16 q.2); have nw : ¬ (1 < rG σ ∧ mb ∧ seesW B L wWalker s) := (fun q => by first | exact b50 q.2.2 | exact b40 q.2.1 | (have q1 := q.1; omega)); have nr : ¬ (0 < rK σ ∧ isGr B L s) := (fun q => by first | (have q1 := q.1; omega) | exact q.2.elim b76 (fun q => q.elim b86 b96)); exact ⟨_, by unfold stmW stmS stmT; rw [if_neg ng, if_neg nw, if_neg nr, if_neg ng, if_neg nw, if_neg nr, if_neg ng, if_neg nw, if_neg nr]⟩)
