/-! THE REFERENCE, 15: public questions, 2 -/
set_option maxRecDepth 100000
theorem QP.one' {A A' : HA} {t : Nat} {σ τ : Rw} {p : Prop} [Decidable p] {a u : Int32} (h : p) (hu : u = a) (hA : Qo A t σ τ (nI 0) A') : QP A t σ τ (qOne p a) u A' := by
  unfold qOne
  rw [if_pos h]
  exact ⟨hu, hA⟩
theorem QP.no' {A A' : HA} {t : Nat} {σ τ : Rw} {p : Prop} [Decidable p] {a : Int32} (h : ¬ p) (hA : Qo A t σ τ (nI 1) A') : QP A t σ τ (qOne p a) (nI 0) A' := by
  unfold qOne
  rw [if_neg h]
  exact ⟨rfl, hA⟩
theorem m_passes1 {g : GZ} {A : HA} {t : Nat} (hT : Tw A t) : Ct g wI yX6_passes (.code yX6_passes cX6_passes 2 (Option.some Jvm.ClassFile.FieldType.boolean)) 1 0 0 [.ref t, .int (nI 1)] A (fun u A' => u = nI 1 ∧ A' = A.sI t (upd (A.I t) 6 (nI 0))) fw_no := by
  have h := m_passes (g := g) (A := A) (p := True) hT
  rw [bI_t trivial, ← nI1, bI_f (fun q => q trivial), ← nI0] at h
  exact h
theorem m_passes0 {g : GZ} {A : HA} {t : Nat} (hT : Tw A t) : Ct g wI yX6_passes (.code yX6_passes cX6_passes 2 (Option.some Jvm.ClassFile.FieldType.boolean)) 1 0 0 [.ref t, .int (nI 0)] A (fun u A' => u = nI 0 ∧ A' = A.sI t (upd (A.I t) 6 (nI 1))) fw_no := by
  have h := m_passes (g := g) (A := A) (p := False) hT
  rw [bI_f id, ← nI0, bI_t id, ← nI1] at h
  exact h
theorem bI_tp {p q : Prop} [Decidable p] [Decidable q] (h : p ↔ q) : bI p = bI q := bI_iff h
/-- a name in the row, at f: how long, its letters -/
def NamS (σ : Rw) (f : Nat) : Prop := σ f = nI (nt (σ f)) ∧ 1 ≤ nt (σ f) ∧ nt (σ f) ≤ 6 ∧ ∀ i, i < nt (σ f) → ∃ c, 97 ≤ c ∧ c ≤ 122 ∧ σ (f + 1 + i) = nI c
def NamI (σ : Rw) : Prop := (∀ r, r < rG σ → NamS σ (21 + 9 * r)) ∧ ∀ k, k < rK σ → NamS σ (75 + 13 * k)
def sizeA (σ : Rw) (m w : Nat) : Int32 := match w with
  | 8 => bI (wetD σ (rD σ))
  | 9 => nI (manyR σ 0)
  | 10 => nI (bareR σ)
  | 11 => nI (allG σ)
  | 12 => nI (manyR σ 1)
  | 13 => nI m
  | w => σ w
theorem sizeA_d {σ : Rw} {m w : Nat} (h : w < 8) : sizeA σ m w = σ w := by
  unfold sizeA
  split <;> first | rfl | omega
def gateA (σ : Rw) (r w : Nat) : Int32 := match w with
  | 2 => nI (withR σ 7 r)
  | 3 => nI (withR σ 8 r)
  | 4 => σ (21 + 9 * r + 0)
  | w => σ (21 + 9 * r + (7 + w))
theorem gateA_d {σ : Rw} {r w : Nat} (h : w < 2) : gateA σ r w = σ (21 + 9 * r + (7 + w)) := by
  unfold gateA
  split <;> first | rfl | omega
def walkA (σ : Rw) (k w : Nat) : Int32 := if w = 6 then bI (rD σ % wPd σ k = 0) else if w = 7 then σ (75 + 13 * k + 0) else σ (75 + 13 * k + (7 + w))
def nameA (σ : Rw) (f : Nat) (x : Int32) : Int32 := if inZ x 0 ((nt (σ f) : Int) - 1) then σ (f + 1 + nt x) else -1
set_option maxHeartbeats 4000000 in
theorem m_keptNow {g : GZ} {A : HA} {t : Nat} {σ κ π τ : Nat → Int32} (hT : Tw A t) {c d : Nat} (hW : RowW σ) (hy : ways σ) (hc : c < 80) (hd : d ≤ 2) : Ct g wI yX6_keptNow (.code yX6_keptNow cX6_keptNow 5 (Option.some Jvm.ClassFile.FieldType.int)) 8 0 0 [.ref t, .int (nI (c)), .int (nI (d))] (S5 A t σ κ π τ) (fun u A' => (∃ κ' π' m', A' = S5 A t σ κ' π' (upd τ 10 m')) ∧ u = keptA σ c d) fw_no := by
  refine Ct.of [some (.ref t), some (.int (nI (c))), some (.int (nI (d))), none, none] (by decide) rfl rfl fun z C hx hnm E => ?_
  have hS := hW.s
  have hc80 := hS.c80
  have k6 := hW.k6
  have g6 := hW.g6
  have hc80 := hS.c80
  have hw10 := hS.w10
  have hh8 := hS.h8
  have hw3 := hS.w3
  refine r_aload_0 (pc := 0) C dX6_keptNow_0 ?_
  refine r_iload_1 (pc := 1) C dX6_keptNow_1 ?_
  refine r_V1io (pc := 2) C (m_isGrass (by exact hT) (S5_1 _ _ _ _ _ _)) vl_X6_93 (tw_g hT) (by decide) (Nat.le_refl _) (Nat.le_refl _) (Nat.le_of_ble_eq_true rfl) rfl dX6_keptNow_2 (fun u1 A1 hc1 => ?_)
  refine r_top hc1.1 ?_
  refine r_eqA hc1.2 ?_
  clear hc1 A1 u1
  refine r_if_ne (pc := 5) (tgt := 10) C dX6_keptNow_5 (by decide) (fun b5 => ?_) (fun b5 => ?_)
  · skip
    have b5 := bI_n.mp b5
    refine r_aload_0 (pc := 10) C dX6_keptNow_10 ?_
    refine r_iload_1 (pc := 11) C dX6_keptNow_11 ?_
    refine r_V1io (pc := 12) C (m_lowestOver (by exact hT) (by first | assumption | omega) (by first | assumption | omega) (by first | assumption | omega)) vl_X6_431 (tw_g hT) (by decide) (Nat.le_refl _) (Nat.le_refl _) (Nat.le_of_ble_eq_true rfl) rfl dX6_keptNow_12 (fun u2 A2 hc2 => ?_)
    obtain ⟨⟨κL, πL, mL, eA⟩, eu⟩ := hc2
    refine r_top eu ?_
    refine r_eqA (eA.trans (by first | rw [bx_upd] | rfl)) ?_
    clear eu eA A2 u2
    refine r_istore_3 (pc := 15) C dX6_keptNow_15 rfl ?_
    rcases hlow : lowR σ c with _ | k
    · skip
      refine r_eqL (lv' := [some (.ref t), some (.int (nI c)), some (.int (nI d)), some (.int (-1)), none]) rfl ?_
      refine r_iload_3 (pc := 16) C dX6_keptNow_16 ?_
      refine r_iconst (pc := 17) C dX6_keptNow_17 ci_m1 ?_
      refine r_icmp_eq (pc := 18) (tgt := 52) C dX6_keptNow_18 (by decide) (fun b18 => ?_) (fun b18 => ?_)
      · skip
        refine r_aload_0 (pc := 52) C dX6_keptNow_52 ?_
        refine r_iload_1 (pc := 53) C dX6_keptNow_53 ?_
        refine r_V1io (pc := 54) C (m_daysSince (by exact hT) (by first | assumption | omega)) vl_X6_390 (tw_g hT) (by decide) (Nat.le_refl _) (Nat.le_refl _) (Nat.le_of_ble_eq_true rfl) rfl dX6_keptNow_54 (fun u3 A3 hc3 => ?_)
        refine r_top hc3.1 ?_
        refine r_eqA hc3.2 ?_
        clear hc3 A3 u3
        refine r_istore_4 (pc := 57) C dX6_keptNow_57 rfl ?_
        refine r_iload_4 (pc := 59) C dX6_keptNow_59 ?_
        refine r_iconst (pc := 61) C dX6_keptNow_61 ci_m1 ?_
        refine r_icmp_eq (pc := 62) (tgt := 70) C dX6_keptNow_62 (by decide) (fun b62 => ?_) (fun b62 => ?_)
        · skip
          refine r_iconst (pc := 70) C dX6_keptNow_70 ci_0 ?_
          refine r_goto (pc := 71) (tgt := 88) C dX6_keptNow_71 (by decide) ?_
          refine r_iret (pc := 88) C E rfl (Nat.le_refl _) (Nat.le_refl _) dX6_keptNow_88 ?_
          refine ⟨⟨_, _, _, rfl⟩, ?_⟩
          unfold keptA
          rw [if_pos (by assumption), hlow]
          show _ = (if sinceR σ c = -1 ∨ d = 2 then nI 0 else if d = 0 then nI 2 else nI 701 + sinceR σ c)
          first
            | rw [if_pos (Or.inl b62)]
            | rw [if_pos (Or.inr b67)]
            | rw [if_neg (fun q => q.elim b62 b67), if_pos b75]
            | rw [if_neg (fun q => q.elim b62 b67), if_neg b75]
        · skip
          refine r_iload_2 (pc := 65) C dX6_keptNow_65 ?_
          refine r_iconst (pc := 66) C dX6_keptNow_66 ci_2 ?_
          refine r_icmp_ne (pc := 67) (tgt := 74) C dX6_keptNow_67 (by decide) (fun b67 => ?_) (fun b67 => ?_)
          · skip
            have b67 := (not_congr (nI_eqI (by omega) (by omega))).mp b67
            refine r_iload_2 (pc := 74) C dX6_keptNow_74 ?_
            refine r_if_ne (pc := 75) (tgt := 82) C dX6_keptNow_75 (by decide) (fun b75 => ?_) (fun b75 => ?_)
            · skip
              have b75 := (not_congr (nI_eq0 (by omega))).mp b75
              refine r_sipush (pc := 82) C dX6_keptNow_82 cs_701 ?_
              refine r_iload_4 (pc := 85) C dX6_keptNow_85 ?_
              refine r_iadd (pc := 87) C dX6_keptNow_87 ?_
              refine r_iret (pc := 88) C E rfl (Nat.le_refl _) (Nat.le_refl _) dX6_keptNow_88 ?_
              refine ⟨⟨_, _, _, rfl⟩, ?_⟩
              unfold keptA
              rw [if_pos (by assumption), hlow]
              show _ = (if sinceR σ c = -1 ∨ d = 2 then nI 0 else if d = 0 then nI 2 else nI 701 + sinceR σ c)
              first
                | rw [if_pos (Or.inl b62)]
                | rw [if_pos (Or.inr b67)]
                | rw [if_neg (fun q => q.elim b62 b67), if_pos b75]
                | rw [if_neg (fun q => q.elim b62 b67), if_neg b75]
            · skip
              have b75 := (nI_eq0 (by omega)).mp b75
              refine r_iconst (pc := 78) C dX6_keptNow_78 ci_2 ?_
              refine r_goto (pc := 79) (tgt := 88) C dX6_keptNow_79 (by decide) ?_
              refine r_iret (pc := 88) C E rfl (Nat.le_refl _) (Nat.le_refl _) dX6_keptNow_88 ?_
              refine ⟨⟨_, _, _, rfl⟩, ?_⟩
              unfold keptA
              rw [if_pos (by assumption), hlow]
              show _ = (if sinceR σ c = -1 ∨ d = 2 then nI 0 else if d = 0 then nI 2 else nI 701 + sinceR σ c)
              first
                | rw [if_pos (Or.inl b62)]
                | rw [if_pos (Or.inr b67)]
                | rw [if_neg (fun q => q.elim b62 b67), if_pos b75]
                | rw [if_neg (fun q => q.elim b62 b67), if_neg b75]
          · skip
            have b67 := (nI_eqI (by omega) (by omega)).mp b67
            refine r_iconst (pc := 70) C dX6_keptNow_70 ci_0 ?_
            refine r_goto (pc := 71) (tgt := 88) C dX6_keptNow_71 (by decide) ?_
            refine r_iret (pc := 88) C E rfl (Nat.le_refl _) (Nat.le_refl _) dX6_keptNow_88 ?_
            refine ⟨⟨_, _, _, rfl⟩, ?_⟩
            unfold keptA
            rw [if_pos (by assumption), hlow]
            show _ = (if sinceR σ c = -1 ∨ d = 2 then nI 0 else if d = 0 then nI 2 else nI 701 + sinceR σ c)
            first
              | rw [if_pos (Or.inl b62)]
              | rw [if_pos (Or.inr b67)]
              | rw [if_neg (fun q => q.elim b62 b67), if_pos b75]
              | rw [if_neg (fun q => q.elim b62 b67), if_neg b75]
      · exact absurd b18 (by decide +kernel)
    · skip
      have hk9 := low_le hlow
      refine r_eqL (lv' := [some (.ref t), some (.int (nI c)), some (.int (nI d)), some (.int (nI k)), none]) rfl ?_
      refine r_iload_3 (pc := 16) C dX6_keptNow_16 ?_
      refine r_iconst (pc := 17) C dX6_keptNow_17 ci_m1 ?_
      refine r_icmp_eq (pc := 18) (tgt := 52) C dX6_keptNow_18 (by decide) (fun b18 => ?_) (fun b18 => ?_)
      · skip
        exact absurd b18 (nI_m1 (by omega))
      · skip
        refine r_iload_2 (pc := 21) C dX6_keptNow_21 ?_
        refine r_if_ne (pc := 22) (tgt := 29) C dX6_keptNow_22 (by decide) (fun b22 => ?_) (fun b22 => ?_)
        · skip
          have b22 := (not_congr (nI_eq0 (by omega))).mp b22
          refine r_iload_2 (pc := 29) C dX6_keptNow_29 ?_
          refine r_iconst (pc := 30) C dX6_keptNow_30 ci_1 ?_
          refine r_icmp_ne (pc := 31) (tgt := 42) C dX6_keptNow_31 (by decide) (fun b31 => ?_) (fun b31 => ?_)
          · skip
            have b31 := (not_congr (nI_eqI (by omega) (by omega))).mp b31
            refine r_sipush (pc := 42) C dX6_keptNow_42 cs_601 ?_
            refine r_aload_0 (pc := 45) C dX6_keptNow_45 ?_
            refine r_iload_1 (pc := 46) C dX6_keptNow_46 ?_
            refine r_V1io (pc := 47) C (m_walkersOver (by exact hT) (by first | assumption | omega) (by first | assumption | omega) (by first | assumption | omega)) vl_X6_393 (tw_g hT) (by decide) (Nat.le_refl _) (Nat.le_refl _) (Nat.le_of_ble_eq_true rfl) rfl dX6_keptNow_47 (fun u4 A4 hc4 => ?_)
            obtain ⟨⟨κL, πL, mL, eA⟩, eu⟩ := hc4
            refine r_top eu ?_
            refine r_eqA (eA.trans (by first | rw [bx_upd] | rfl)) ?_
            clear eu eA A4 u4
            refine r_iadd (pc := 50) C dX6_keptNow_50 ?_
            refine r_top (nI_add _ _) ?_
            refine r_iret (pc := 51) C E rfl (Nat.le_refl _) (Nat.le_refl _) dX6_keptNow_51 ?_
            refine ⟨⟨_, _, _, rfl⟩, ?_⟩
            unfold keptA
            rw [if_pos (by assumption), hlow]
            show _ = pick _ _ _ _
            first
              | rw [pick0 (by assumption)]
              | rw [pick1 (by assumption) (by assumption)]
              | rw [pick2 (by assumption) (by assumption)]
          · skip
            have b31 := (nI_eqI (by omega) (by omega)).mp b31
            refine r_sipush (pc := 34) C dX6_keptNow_34 cs_501 ?_
            refine r_iload_3 (pc := 37) C dX6_keptNow_37 ?_
            refine r_iadd (pc := 38) C dX6_keptNow_38 ?_
            refine r_top (nI_add _ _) ?_
            refine r_goto (pc := 39) (tgt := 51) C dX6_keptNow_39 (by decide) ?_
            refine r_iret (pc := 51) C E rfl (Nat.le_refl _) (Nat.le_refl _) dX6_keptNow_51 ?_
            refine ⟨⟨_, _, _, rfl⟩, ?_⟩
            unfold keptA
            rw [if_pos (by assumption), hlow]
            show _ = pick _ _ _ _
            first
              | rw [pick0 (by assumption)]
              | rw [pick1 (by assumption) (by assumption)]
              | rw [pick2 (by assumption) (by assumption)]
        · skip
          have b22 := (nI_eq0 (by omega)).mp b22
          refine r_iconst (pc := 25) C dX6_keptNow_25 ci_1 ?_
          refine r_goto (pc := 26) (tgt := 51) C dX6_keptNow_26 (by decide) ?_
          refine r_iret (pc := 51) C E rfl (Nat.le_refl _) (Nat.le_refl _) dX6_keptNow_51 ?_
          refine ⟨⟨_, _, _, rfl⟩, ?_⟩
          unfold keptA
          rw [if_pos (by assumption), hlow]
          show _ = pick _ _ _ _
          first
            | rw [pick0 (by assumption)]
            | rw [pick1 (by assumption) (by assumption)]
            | rw [pick2 (by assumption) (by assumption)]
  · skip
    have b5 := bI_0.mp b5
    refine r_iconst (pc := 8) C dX6_keptNow_8 ci_0 ?_
    refine r_iret (pc := 9) C E rfl (Nat.le_refl _) (Nat.le_refl _) dX6_keptNow_9 ?_
    exact ⟨⟨κ, π, τ 10, by rw [upd_10]⟩, (if_neg (by assumption)).symm⟩
set_option maxHeartbeats 4000000 in
theorem m_cell {g : GZ} {A : HA} {t : Nat} {σ κ π τ : Nat → Int32} (hT : Tw A t) {x y w : Int32} (hW : RowW σ) (hy : ways σ) : Ct g wI yX6_cell (.code yX6_cell cX6_cell 4 (Option.some Jvm.ClassFile.FieldType.int)) 9 0 0 [.ref t, .int x, .int y, .int w] (S5 A t σ κ π τ) (fun u A' => QP A t σ τ (qTwo (inC2 σ x y) (inZ w 0 5) (cellA σ (cat σ x y) (nt w))) u A') fw_no := by
  refine Ct.of [some (.ref t), some (.int x), some (.int y), some (.int w)] (by decide) rfl rfl fun z C hx hnm E => ?_
  have hS := hW.s
  have hc80 := hS.c80
  have k6 := hW.k6
  have g6 := hW.g6
  have hc80 := hS.c80
  have hw10 := hS.w10
  have hh8 := hS.h8
  have hw3 := hS.w3
  refine r_aload_0 (pc := 0) C dX6_cell_0 ?_
  refine r_aload_0 (pc := 1) C dX6_cell_1 ?_
  refine r_iload_1 (pc := 2) C dX6_cell_2 ?_
  refine r_iload_2 (pc := 3) C dX6_cell_3 ?_
  refine r_V2io (pc := 4) C (m_isCell (by exact hT) (S5_1 _ _ _ _ _ _) hS) vl_X6_89 (tw_g hT) (by decide) (Nat.le_refl _) (Nat.le_refl _) (Nat.le_of_ble_eq_true rfl) rfl dX6_cell_4 (fun u1 A1 hc1 => ?_)
  refine r_top hc1.1 ?_
  refine r_eqA hc1.2 ?_
  clear hc1 A1 u1
  refine r_iload_3 (pc := 7) C dX6_cell_7 ?_
  refine r_i2l (pc := 8) C dX6_cell_8 ?_
  refine r_lconst (pc := 9) (v := 0) C dX6_cell_9 (by decide) ?_
  refine r_ldc2 (pc := 10) C q2692 dX6_cell_10 ?_
  refine r_S3io (pc := 13) C (m_inZ (p := 0) (q := 5) (by decide) (by decide)) sl_X6_68 (by decide) (Nat.le_refl _) (Nat.le_refl _) (Nat.le_of_ble_eq_true rfl) rfl dX6_cell_13 (fun u2 A2 hc2 => ?_)
  refine r_top hc2.1 ?_
  refine r_eqA hc2.2 ?_
  clear hc2 A2 u2
  refine r_V2io (pc := 16) C (m_passesBoth (by exact hT)) vl_X6_398 (tw_g hT) (by decide) (Nat.le_refl _) (Nat.le_refl _) (Nat.le_of_ble_eq_true rfl) rfl dX6_cell_16 (fun u3 A3 hc3 => ?_)
  refine r_top hc3.1 ?_
  refine r_eqA (hc3.2.trans (by rw [S5_0, S5_w0])) ?_
  clear hc3 A3 u3
  refine r_if_eq (pc := 19) (tgt := 36) C dX6_cell_19 (by decide) (fun b19 => ?_) (fun b19 => ?_)
  · skip
    have b19 := bI_0.mp b19
    refine r_iconst (pc := 36) C dX6_cell_36 ci_0 ?_
    refine r_iret (pc := 37) C E rfl (Nat.le_refl _) (Nat.le_refl _) dX6_cell_37 ?_
    first
      | exact QP.no (by assumption) (Qo.o rfl)
      | exact QP.no2 (by assumption) (Qo.o rfl)
      | exact QP.two b99 (by rw [hcat, nt_n (by omega)]) (Qo.m rfl)
  · skip
    have b19 := bI_n.mp b19
    have b99 := b19
    obtain ⟨a, ha, rfl⟩ := inZ_of b19.1.1 (by omega)
    obtain ⟨b, hb, rfl⟩ := inZ_of b19.1.2 (by omega)
    obtain ⟨w, hw, rfl⟩ := inZ_of2 (n := 5) rfl b19.2 (by omega)
    have hcl := at_lt hS ha hb
    have hcat := cat_n (σ := σ) (show a < 1000 by omega) (show b < 1000 by omega)
    refine r_aload_0 (pc := 22) C dX6_cell_22 ?_
    refine r_aload_0 (pc := 23) C dX6_cell_23 ?_
    refine r_iload_1 (pc := 24) C dX6_cell_24 ?_
    refine r_iload_2 (pc := 25) C dX6_cell_25 ?_
    refine r_V2io (pc := 26) C (m_at (by exact hT) (S5_1 _ _ _ _ _ _) hS) vl_X6_83 (tw_g hT) (by decide) (Nat.le_refl _) (Nat.le_refl _) (Nat.le_of_ble_eq_true rfl) rfl dX6_cell_26 (fun u4 A4 hc4 => ?_)
    refine r_top hc4.1 ?_
    refine r_eqA hc4.2 ?_
    clear hc4 A4 u4
    refine r_iload_3 (pc := 29) C dX6_cell_29 ?_
    refine r_V2io (pc := 30) C (m_cellNow (by exact hT) hW hy (by omega) hw) vl_X6_402 (tw_g hT) (by decide) (Nat.le_refl _) (Nat.le_refl _) (Nat.le_of_ble_eq_true rfl) rfl dX6_cell_30 (fun u5 A5 hc5 => ?_)
    obtain ⟨⟨κL, πL, mL, eA⟩, eu⟩ := hc5
    refine r_top eu ?_
    refine r_eqA (eA.trans (by first | rw [bx_upd] | rfl)) ?_
    clear eu eA A5 u5
    refine r_goto (pc := 33) (tgt := 37) C dX6_cell_33 (by decide) ?_
    refine r_iret (pc := 37) C E rfl (Nat.le_refl _) (Nat.le_refl _) dX6_cell_37 ?_
    first
      | exact QP.no (by assumption) (Qo.o rfl)
      | exact QP.no2 (by assumption) (Qo.o rfl)
      | exact QP.two b99 (by rw [hcat, nt_n (by omega)]) (Qo.m rfl)
set_option maxHeartbeats 4000000 in
theorem m_keptBy {g : GZ} {A : HA} {t : Nat} {σ κ π τ : Nat → Int32} (hT : Tw A t) {x y w : Int32} (hW : RowW σ) (hy : ways σ) : Ct g wI yX6_keptBy (.code yX6_keptBy cX6_keptBy 4 (Option.some Jvm.ClassFile.FieldType.int)) 9 0 0 [.ref t, .int x, .int y, .int w] (S5 A t σ κ π τ) (fun u A' => QP A t σ τ (qTwo (inC2 σ x y) (inZ w 0 2) (keptA σ (cat σ x y) (nt w))) u A') fw_no := by
  refine Ct.of [some (.ref t), some (.int x), some (.int y), some (.int w)] (by decide) rfl rfl fun z C hx hnm E => ?_
  have hS := hW.s
  have hc80 := hS.c80
  have k6 := hW.k6
  have g6 := hW.g6
  have hc80 := hS.c80
  have hw10 := hS.w10
  have hh8 := hS.h8
  have hw3 := hS.w3
  refine r_aload_0 (pc := 0) C dX6_keptBy_0 ?_
  refine r_aload_0 (pc := 1) C dX6_keptBy_1 ?_
  refine r_iload_1 (pc := 2) C dX6_keptBy_2 ?_
  refine r_iload_2 (pc := 3) C dX6_keptBy_3 ?_
  refine r_V2io (pc := 4) C (m_isCell (by exact hT) (S5_1 _ _ _ _ _ _) hS) vl_X6_89 (tw_g hT) (by decide) (Nat.le_refl _) (Nat.le_refl _) (Nat.le_of_ble_eq_true rfl) rfl dX6_keptBy_4 (fun u1 A1 hc1 => ?_)
  refine r_top hc1.1 ?_
  refine r_eqA hc1.2 ?_
  clear hc1 A1 u1
  refine r_iload_3 (pc := 7) C dX6_keptBy_7 ?_
  refine r_i2l (pc := 8) C dX6_keptBy_8 ?_
  refine r_lconst (pc := 9) (v := 0) C dX6_keptBy_9 (by decide) ?_
  refine r_ldc2 (pc := 10) C q2772 dX6_keptBy_10 ?_
  refine r_S3io (pc := 13) C (m_inZ (p := 0) (q := 2) (by decide) (by decide)) sl_X6_68 (by decide) (Nat.le_refl _) (Nat.le_refl _) (Nat.le_of_ble_eq_true rfl) rfl dX6_keptBy_13 (fun u2 A2 hc2 => ?_)
  refine r_top hc2.1 ?_
  refine r_eqA hc2.2 ?_
  clear hc2 A2 u2
  refine r_V2io (pc := 16) C (m_passesBoth (by exact hT)) vl_X6_398 (tw_g hT) (by decide) (Nat.le_refl _) (Nat.le_refl _) (Nat.le_of_ble_eq_true rfl) rfl dX6_keptBy_16 (fun u3 A3 hc3 => ?_)
  refine r_top hc3.1 ?_
  refine r_eqA (hc3.2.trans (by rw [S5_0, S5_w0])) ?_
  clear hc3 A3 u3
  refine r_if_eq (pc := 19) (tgt := 36) C dX6_keptBy_19 (by decide) (fun b19 => ?_) (fun b19 => ?_)
  · skip
    have b19 := bI_0.mp b19
    refine r_iconst (pc := 36) C dX6_keptBy_36 ci_0 ?_
    refine r_iret (pc := 37) C E rfl (Nat.le_refl _) (Nat.le_refl _) dX6_keptBy_37 ?_
    first
      | exact QP.no (by assumption) (Qo.o rfl)
      | exact QP.no2 (by assumption) (Qo.o rfl)
      | exact QP.two b99 (by rw [hcat, nt_n (by omega)]) (Qo.m rfl)
  · skip
    have b19 := bI_n.mp b19
    have b99 := b19
    obtain ⟨a, ha, rfl⟩ := inZ_of b19.1.1 (by omega)
    obtain ⟨b, hb, rfl⟩ := inZ_of b19.1.2 (by omega)
    obtain ⟨w, hw, rfl⟩ := inZ_of2 (n := 2) rfl b19.2 (by omega)
    have hcl := at_lt hS ha hb
    have hcat := cat_n (σ := σ) (show a < 1000 by omega) (show b < 1000 by omega)
    refine r_aload_0 (pc := 22) C dX6_keptBy_22 ?_
    refine r_aload_0 (pc := 23) C dX6_keptBy_23 ?_
    refine r_iload_1 (pc := 24) C dX6_keptBy_24 ?_
    refine r_iload_2 (pc := 25) C dX6_keptBy_25 ?_
    refine r_V2io (pc := 26) C (m_at (by exact hT) (S5_1 _ _ _ _ _ _) hS) vl_X6_83 (tw_g hT) (by decide) (Nat.le_refl _) (Nat.le_refl _) (Nat.le_of_ble_eq_true rfl) rfl dX6_keptBy_26 (fun u4 A4 hc4 => ?_)
    refine r_top hc4.1 ?_
    refine r_eqA hc4.2 ?_
    clear hc4 A4 u4
    refine r_iload_3 (pc := 29) C dX6_keptBy_29 ?_
    refine r_V2io (pc := 30) C (m_keptNow (by exact hT) hW hy (by omega) hw) vl_X6_434 (tw_g hT) (by decide) (Nat.le_refl _) (Nat.le_refl _) (Nat.le_of_ble_eq_true rfl) rfl dX6_keptBy_30 (fun u5 A5 hc5 => ?_)
    obtain ⟨⟨κL, πL, mL, eA⟩, eu⟩ := hc5
    refine r_top eu ?_
    refine r_eqA (eA.trans (by first | rw [bx_upd] | rfl)) ?_
    clear eu eA A5 u5
    refine r_goto (pc := 33) (tgt := 37) C dX6_keptBy_33 (by decide) ?_
    refine r_iret (pc := 37) C E rfl (Nat.le_refl _) (Nat.le_refl _) dX6_keptBy_37 ?_
    first
      | exact QP.no (by assumption) (Qo.o rfl)
      | exact QP.no2 (by assumption) (Qo.o rfl)
      | exact QP.two b99 (by rw [hcat, nt_n (by omega)]) (Qo.m rfl)
set_option maxHeartbeats 4000000 in
theorem m_why {g : GZ} {A : HA} {t : Nat} {σ κ π τ : Nat → Int32} (hT : Tw A t) {x w : Int32} (hW : RowW σ) (hy : ways σ) : Ct g wI yX6_why (.code yX6_why cX6_why 3 (Option.some Jvm.ClassFile.FieldType.int)) 8 0 0 [.ref t, .int x, .int w] (S5 A t σ κ π τ) (fun u A' => QP A t σ τ (qTwo (inW σ x) (inZ w 0 2) (whyA σ (nt x) (nt w))) u A') fw_no := by
  refine Ct.of [some (.ref t), some (.int x), some (.int w)] (by decide) rfl rfl fun z C hx hnm E => ?_
  have hS := hW.s
  have hc80 := hS.c80
  have k6 := hW.k6
  have g6 := hW.g6
  have hc80 := hS.c80
  have hw10 := hS.w10
  have hh8 := hS.h8
  have hw3 := hS.w3
  refine r_aload_0 (pc := 0) C dX6_why_0 ?_
  refine r_aload_0 (pc := 1) C dX6_why_1 ?_
  refine r_iload_1 (pc := 2) C dX6_why_2 ?_
  refine r_V1io (pc := 3) C (m_isWalker (by exact hT) (S5_1 _ _ _ _ _ _) hW.k k6) vl_X6_413 (tw_g hT) (by decide) (Nat.le_refl _) (Nat.le_refl _) (Nat.le_of_ble_eq_true rfl) rfl dX6_why_3 (fun u1 A1 hc1 => ?_)
  refine r_top hc1.1 ?_
  refine r_eqA hc1.2 ?_
  clear hc1 A1 u1
  refine r_iload_2 (pc := 6) C dX6_why_6 ?_
  refine r_i2l (pc := 7) C dX6_why_7 ?_
  refine r_lconst (pc := 8) (v := 0) C dX6_why_8 (by decide) ?_
  refine r_ldc2 (pc := 9) C q2772 dX6_why_9 ?_
  refine r_S3io (pc := 12) C (m_inZ (p := 0) (q := 2) (by decide) (by decide)) sl_X6_68 (by decide) (Nat.le_refl _) (Nat.le_refl _) (Nat.le_of_ble_eq_true rfl) rfl dX6_why_12 (fun u2 A2 hc2 => ?_)
  refine r_top hc2.1 ?_
  refine r_eqA hc2.2 ?_
  clear hc2 A2 u2
  refine r_V2io (pc := 15) C (m_passesBoth (by exact hT)) vl_X6_398 (tw_g hT) (by decide) (Nat.le_refl _) (Nat.le_refl _) (Nat.le_of_ble_eq_true rfl) rfl dX6_why_15 (fun u3 A3 hc3 => ?_)
  refine r_top hc3.1 ?_
  refine r_eqA (hc3.2.trans (by rw [S5_0, S5_w0])) ?_
  clear hc3 A3 u3
  refine r_if_eq (pc := 18) (tgt := 30) C dX6_why_18 (by decide) (fun b18 => ?_) (fun b18 => ?_)
  · skip
    have b18 := bI_0.mp b18
    refine r_iconst (pc := 30) C dX6_why_30 ci_0 ?_
    refine r_iret (pc := 31) C E rfl (Nat.le_refl _) (Nat.le_refl _) dX6_why_31 ?_
    first
      | exact QP.no (by assumption) (Qo.o rfl)
      | exact QP.no2 (by assumption) (Qo.o rfl)
      | exact QP.two b99 (by rw [nt_n (show k < 2147483648 by omega), nt_n (show w < 2147483648 by omega)]) (Qo.m rfl)
  · skip
    have b18 := bI_n.mp b18
    have b99 := b18
    obtain ⟨k, hk, rfl⟩ := inZ_of b18.1 (by omega)
    obtain ⟨w, hw, rfl⟩ := inZ_of2 (n := 2) rfl b18.2 (by omega)
    refine r_aload_0 (pc := 21) C dX6_why_21 ?_
    refine r_iload_1 (pc := 22) C dX6_why_22 ?_
    refine r_iload_2 (pc := 23) C dX6_why_23 ?_
    refine r_V2io (pc := 24) C (m_whyWay (by exact hT) hW hy hk hw) vl_X6_428 (tw_g hT) (by decide) (Nat.le_refl _) (Nat.le_refl _) (Nat.le_of_ble_eq_true rfl) rfl dX6_why_24 (fun u4 A4 hc4 => ?_)
    obtain ⟨⟨κL, πL, mL, eA⟩, eu⟩ := hc4
    refine r_top eu ?_
    refine r_eqA (eA.trans (by first | rw [bx_upd] | rfl)) ?_
    clear eu eA A4 u4
    refine r_goto (pc := 27) (tgt := 31) C dX6_why_27 (by decide) ?_
    refine r_iret (pc := 31) C E rfl (Nat.le_refl _) (Nat.le_refl _) dX6_why_31 ?_
    first
      | exact QP.no (by assumption) (Qo.o rfl)
      | exact QP.no2 (by assumption) (Qo.o rfl)
      | exact QP.two b99 (by rw [nt_n (show k < 2147483648 by omega), nt_n (show w < 2147483648 by omega)]) (Qo.m rfl)
set_option maxHeartbeats 4000000 in
theorem m_gate {g : GZ} {A : HA} {t : Nat} {σ κ π τ : Nat → Int32} (hT : Tw A t) {x w : Int32} (hW : RowW σ) : Ct g wI yX6_gate (.code yX6_gate cX6_gate 3 (Option.some Jvm.ClassFile.FieldType.int)) 3 0 0 [.ref t, .int x, .int w] (S5 A t σ κ π τ) (fun u A' => QP A t σ τ (qTwo (inG σ x) (inZ w 0 4) (gateA σ (nt x) (nt w))) u A') fw_no := by
  refine Ct.of [some (.ref t), some (.int x), some (.int w)] (by decide) rfl rfl fun z C hx hnm E => ?_
  have hS := hW.s
  have hc80 := hS.c80
  have k6 := hW.k6
  have g6 := hW.g6
  have hc80 := hS.c80
  have hw10 := hS.w10
  have hh8 := hS.h8
  have hw3 := hS.w3
  refine r_aload_0 (pc := 0) C dX6_gate_0 ?_
  refine r_aload_0 (pc := 1) C dX6_gate_1 ?_
  refine r_iload_1 (pc := 2) C dX6_gate_2 ?_
  refine r_V1io (pc := 3) C (m_isGate (by exact hT) (S5_1 _ _ _ _ _ _) hW.g g6) vl_X6_405 (tw_g hT) (by decide) (Nat.le_refl _) (Nat.le_refl _) (Nat.le_of_ble_eq_true rfl) rfl dX6_gate_3 (fun u1 A1 hc1 => ?_)
  refine r_top hc1.1 ?_
  refine r_eqA hc1.2 ?_
  clear hc1 A1 u1
  refine r_iload_2 (pc := 6) C dX6_gate_6 ?_
  refine r_i2l (pc := 7) C dX6_gate_7 ?_
  refine r_lconst (pc := 8) (v := 0) C dX6_gate_8 (by decide) ?_
  refine r_ldc2 (pc := 9) C q2721 dX6_gate_9 ?_
  refine r_S3io (pc := 12) C (m_inZ (p := 0) (q := 4) (by decide) (by decide)) sl_X6_68 (by decide) (Nat.le_refl _) (Nat.le_refl _) (Nat.le_of_ble_eq_true rfl) rfl dX6_gate_12 (fun u2 A2 hc2 => ?_)
  refine r_top hc2.1 ?_
  refine r_eqA hc2.2 ?_
  clear hc2 A2 u2
  refine r_V2io (pc := 15) C (m_passesBoth (by exact hT)) vl_X6_398 (tw_g hT) (by decide) (Nat.le_refl _) (Nat.le_refl _) (Nat.le_of_ble_eq_true rfl) rfl dX6_gate_15 (fun u3 A3 hc3 => ?_)
  refine r_top hc3.1 ?_
  refine r_eqA (hc3.2.trans (by rw [S5_0, S5_w0])) ?_
  clear hc3 A3 u3
  refine r_if_ne (pc := 18) (tgt := 23) C dX6_gate_18 (by decide) (fun b18 => ?_) (fun b18 => ?_)
  · skip
    have b18 := bI_n.mp b18
    have b99 := b18
    obtain ⟨k, hk, rfl⟩ := inZ_of b18.1 (by omega)
    obtain ⟨w, hw, rfl⟩ := inZ_of2 (n := 4) rfl b18.2 (by omega)
    refine r_iload_2 (pc := 23) C dX6_gate_23 ?_
    by_cases w24_2 : w = 2
    · skip
      subst w24_2
      refine r_tableIn (pc := 24) (tgt := 52) (off := 28) C dX6_gate_24 (by decide +kernel) (by decide +kernel) (by decide +kernel) (by decide) ?_
      refine r_aload_0 (pc := 52) C dX6_gate_52 ?_
      refine r_bipush (pc := 53) C dX6_gate_53 cb_7 ?_
      refine r_iload_1 (pc := 55) C dX6_gate_55 ?_
      refine r_V2io (pc := 56) C (m_walkersWith (by exact hT) (by first | assumption | omega) (by first | assumption | omega) (by first | assumption | omega)) vl_X6_410 (tw_g hT) (by decide) (Nat.le_refl _) (Nat.le_refl _) (Nat.le_of_ble_eq_true rfl) rfl dX6_gate_56 (fun u4 A4 hc4 => ?_)
      refine r_top hc4.1 ?_
      refine r_eqA hc4.2 ?_
      clear hc4 A4 u4
      refine r_iret (pc := 59) C E rfl (Nat.le_refl _) (Nat.le_refl _) dX6_gate_59 ?_
      first
        | exact QP.no (by assumption) (Qo.o rfl)
        | exact QP.no2 (by assumption) (Qo.o rfl)
        | exact QP.two b99 (by rw [nt_n (show k < 2147483648 by omega), nt_n (by omega)]; first | rfl | exact (gateA_d (by omega)).symm) (Qo.o rfl)
    by_cases w24_3 : w = 3
    · skip
      subst w24_3
      refine r_tableIn (pc := 24) (tgt := 60) (off := 36) C dX6_gate_24 (by decide +kernel) (by decide +kernel) (by decide +kernel) (by decide) ?_
      refine r_aload_0 (pc := 60) C dX6_gate_60 ?_
      refine r_bipush (pc := 61) C dX6_gate_61 cb_8 ?_
      refine r_iload_1 (pc := 63) C dX6_gate_63 ?_
      refine r_V2io (pc := 64) C (m_walkersWith (by exact hT) (by first | assumption | omega) (by first | assumption | omega) (by first | assumption | omega)) vl_X6_410 (tw_g hT) (by decide) (Nat.le_refl _) (Nat.le_refl _) (Nat.le_of_ble_eq_true rfl) rfl dX6_gate_64 (fun u5 A5 hc5 => ?_)
      refine r_top hc5.1 ?_
      refine r_eqA hc5.2 ?_
      clear hc5 A5 u5
      refine r_iret (pc := 67) C E rfl (Nat.le_refl _) (Nat.le_refl _) dX6_gate_67 ?_
      first
        | exact QP.no (by assumption) (Qo.o rfl)
        | exact QP.no2 (by assumption) (Qo.o rfl)
        | exact QP.two b99 (by rw [nt_n (show k < 2147483648 by omega), nt_n (by omega)]; first | rfl | exact (gateA_d (by omega)).symm) (Qo.o rfl)
    by_cases w24_4 : w = 4
    · skip
      subst w24_4
      refine r_tableIn (pc := 24) (tgt := 68) (off := 44) C dX6_gate_24 (by decide +kernel) (by decide +kernel) (by decide +kernel) (by decide) ?_
      refine r_aload_0 (pc := 68) C dX6_gate_68 ?_
      refine r_iload_1 (pc := 69) C dX6_gate_69 ?_
      refine r_iconst (pc := 70) C dX6_gate_70 ci_0 ?_
      refine r_V2io (pc := 71) C (m_ofGate (by exact hT) (S5_1 _ _ _ _ _ _)) vl_X6_79 (tw_g hT) (by decide) (Nat.le_refl _) (Nat.le_refl _) (Nat.le_of_ble_eq_true rfl) rfl dX6_gate_71 (fun u6 A6 hc6 => ?_)
      refine r_top hc6.1 ?_
      refine r_eqA hc6.2 ?_
      clear hc6 A6 u6
      refine r_iret (pc := 74) C E rfl (Nat.le_refl _) (Nat.le_refl _) dX6_gate_74 ?_
      first
        | exact QP.no (by assumption) (Qo.o rfl)
        | exact QP.no2 (by assumption) (Qo.o rfl)
        | exact QP.two b99 (by rw [nt_n (show k < 2147483648 by omega), nt_n (by omega)]; first | rfl | exact (gateA_d (by omega)).symm) (Qo.o rfl)
    refine r_tableOut (pc := 24) (tgt := 75) C dX6_gate_24 (by rw [t_nI (by omega)]; omega) (by decide) ?_
    refine r_aload_0 (pc := 75) C dX6_gate_75 ?_
    refine r_iload_1 (pc := 76) C dX6_gate_76 ?_
    refine r_bipush (pc := 77) C dX6_gate_77 cb_7 ?_
    refine r_iload_2 (pc := 79) C dX6_gate_79 ?_
    refine r_iadd (pc := 80) C dX6_gate_80 ?_
    refine r_top (nI_add _ _) ?_
    refine r_V2io (pc := 81) C (m_ofGate (by exact hT) (S5_1 _ _ _ _ _ _)) vl_X6_79 (tw_g hT) (by decide) (Nat.le_refl _) (Nat.le_refl _) (Nat.le_of_ble_eq_true rfl) rfl dX6_gate_81 (fun u7 A7 hc7 => ?_)
    refine r_top hc7.1 ?_
    refine r_eqA hc7.2 ?_
    clear hc7 A7 u7
    refine r_iret (pc := 84) C E rfl (Nat.le_refl _) (Nat.le_refl _) dX6_gate_84 ?_
    first
      | exact QP.no (by assumption) (Qo.o rfl)
      | exact QP.no2 (by assumption) (Qo.o rfl)
      | exact QP.two b99 (by rw [nt_n (show k < 2147483648 by omega), nt_n (by omega)]; first | rfl | exact (gateA_d (by omega)).symm) (Qo.o rfl)
  · skip
    have b18 := bI_0.mp b18
    refine r_iconst (pc := 21) C dX6_gate_21 ci_0 ?_
    refine r_iret (pc := 22) C E rfl (Nat.le_refl _) (Nat.le_refl _) dX6_gate_22 ?_
    first
      | exact QP.no (by assumption) (Qo.o rfl)
      | exact QP.no2 (by assumption) (Qo.o rfl)
      | exact QP.two b99 (by rw [nt_n (show k < 2147483648 by omega), nt_n (by omega)]; first | rfl | exact (gateA_d (by omega)).symm) (Qo.o rfl)
set_option maxHeartbeats 4000000 in
theorem m_walker {g : GZ} {A : HA} {t : Nat} {σ κ π τ : Nat → Int32} (hT : Tw A t) {x w : Int32} (hW : RowW σ) : Ct g wI yX6_walker (.code yX6_walker cX6_walker 3 (Option.some Jvm.ClassFile.FieldType.int)) 3 0 0 [.ref t, .int x, .int w] (S5 A t σ κ π τ) (fun u A' => QP A t σ τ (qTwo (inW σ x) (inZ w 0 7) (walkA σ (nt x) (nt w))) u A') fw_no := by
  refine Ct.of [some (.ref t), some (.int x), some (.int w)] (by decide) rfl rfl fun z C hx hnm E => ?_
  have hS := hW.s
  have hc80 := hS.c80
  have k6 := hW.k6
  have g6 := hW.g6
  have hc80 := hS.c80
  have hw10 := hS.w10
  have hh8 := hS.h8
  have hw3 := hS.w3
  refine r_aload_0 (pc := 0) C dX6_walker_0 ?_
  refine r_aload_0 (pc := 1) C dX6_walker_1 ?_
  refine r_iload_1 (pc := 2) C dX6_walker_2 ?_
  refine r_V1io (pc := 3) C (m_isWalker (by exact hT) (S5_1 _ _ _ _ _ _) hW.k k6) vl_X6_413 (tw_g hT) (by decide) (Nat.le_refl _) (Nat.le_refl _) (Nat.le_of_ble_eq_true rfl) rfl dX6_walker_3 (fun u1 A1 hc1 => ?_)
  refine r_top hc1.1 ?_
  refine r_eqA hc1.2 ?_
  clear hc1 A1 u1
  refine r_iload_2 (pc := 6) C dX6_walker_6 ?_
  refine r_i2l (pc := 7) C dX6_walker_7 ?_
  refine r_lconst (pc := 8) (v := 0) C dX6_walker_8 (by decide) ?_
  refine r_ldc2 (pc := 9) C q2734 dX6_walker_9 ?_
  refine r_S3io (pc := 12) C (m_inZ (p := 0) (q := 7) (by decide) (by decide)) sl_X6_68 (by decide) (Nat.le_refl _) (Nat.le_refl _) (Nat.le_of_ble_eq_true rfl) rfl dX6_walker_12 (fun u2 A2 hc2 => ?_)
  refine r_top hc2.1 ?_
  refine r_eqA hc2.2 ?_
  clear hc2 A2 u2
  refine r_V2io (pc := 15) C (m_passesBoth (by exact hT)) vl_X6_398 (tw_g hT) (by decide) (Nat.le_refl _) (Nat.le_refl _) (Nat.le_of_ble_eq_true rfl) rfl dX6_walker_15 (fun u3 A3 hc3 => ?_)
  refine r_top hc3.1 ?_
  refine r_eqA (hc3.2.trans (by rw [S5_0, S5_w0])) ?_
  clear hc3 A3 u3
  refine r_if_ne (pc := 18) (tgt := 23) C dX6_walker_18 (by decide) (fun b18 => ?_) (fun b18 => ?_)
  · skip
    have b18 := bI_n.mp b18
    have b99 := b18
    obtain ⟨k, hk, rfl⟩ := inZ_of b18.1 (by omega)
    obtain ⟨w, hw, rfl⟩ := inZ_of2 (n := 7) rfl b18.2 (by omega)
    have hd9 := hW.d9
    refine r_iload_2 (pc := 23) C dX6_walker_23 ?_
    refine r_bipush (pc := 24) C dX6_walker_24 cb_6 ?_
    refine r_icmp_ne (pc := 26) (tgt := 46) C dX6_walker_26 (by decide) (fun b26 => ?_) (fun b26 => ?_)
    · skip
      have b26 := (not_congr (nI_eqI (by omega) (by omega))).mp b26
      refine r_iload_2 (pc := 46) C dX6_walker_46 ?_
      refine r_bipush (pc := 47) C dX6_walker_47 cb_7 ?_
      refine r_icmp_ne (pc := 49) (tgt := 61) C dX6_walker_49 (by decide) (fun b49 => ?_) (fun b49 => ?_)
      · skip
        have b49 := (not_congr (nI_eqI (by omega) (by omega))).mp b49
        refine r_aload_0 (pc := 61) C dX6_walker_61 ?_
        refine r_iload_1 (pc := 62) C dX6_walker_62 ?_
        refine r_bipush (pc := 63) C dX6_walker_63 cb_7 ?_
        refine r_iload_2 (pc := 65) C dX6_walker_65 ?_
        refine r_iadd (pc := 66) C dX6_walker_66 ?_
        refine r_top (nI_add _ _) ?_
        refine r_V2io (pc := 67) C (m_of (by exact hT) (S5_1 _ _ _ _ _ _)) vl_X6_103 (tw_g hT) (by decide) (Nat.le_refl _) (Nat.le_refl _) (Nat.le_of_ble_eq_true rfl) rfl dX6_walker_67 (fun u4 A4 hc4 => ?_)
        refine r_top hc4.1 ?_
        refine r_eqA hc4.2 ?_
        clear hc4 A4 u4
        refine r_iret (pc := 70) C E rfl (Nat.le_refl _) (Nat.le_refl _) dX6_walker_70 ?_
        first
          | exact QP.no (by assumption) (Qo.o rfl)
          | exact QP.no2 (by assumption) (Qo.o rfl)
          | exact QP.two b99 (by rw [nt_n (show k < 2147483648 by omega), nt_n (show w < 2147483648 by omega)]; unfold walkA; first | (rw [if_pos b26]) | (rw [if_neg b26, if_pos b49]) | (rw [if_neg b26, if_neg b49])) (Qo.o rfl)
      · skip
        have b49 := (nI_eqI (by omega) (by omega)).mp b49
        refine r_aload_0 (pc := 52) C dX6_walker_52 ?_
        refine r_iload_1 (pc := 53) C dX6_walker_53 ?_
        refine r_iconst (pc := 54) C dX6_walker_54 ci_0 ?_
        refine r_V2io (pc := 55) C (m_of (by exact hT) (S5_1 _ _ _ _ _ _)) vl_X6_103 (tw_g hT) (by decide) (Nat.le_refl _) (Nat.le_refl _) (Nat.le_of_ble_eq_true rfl) rfl dX6_walker_55 (fun u5 A5 hc5 => ?_)
        refine r_top hc5.1 ?_
        refine r_eqA hc5.2 ?_
        clear hc5 A5 u5
        refine r_goto (pc := 58) (tgt := 70) C dX6_walker_58 (by decide) ?_
        refine r_iret (pc := 70) C E rfl (Nat.le_refl _) (Nat.le_refl _) dX6_walker_70 ?_
        first
          | exact QP.no (by assumption) (Qo.o rfl)
          | exact QP.no2 (by assumption) (Qo.o rfl)
          | exact QP.two b99 (by rw [nt_n (show k < 2147483648 by omega), nt_n (show w < 2147483648 by omega)]; unfold walkA; first | (rw [if_pos b26]) | (rw [if_neg b26, if_pos b49]) | (rw [if_neg b26, if_neg b49])) (Qo.o rfl)
    · skip
      have b26 := (nI_eqI (by omega) (by omega)).mp b26
      refine r_aload_0 (pc := 29) C dX6_walker_29 ?_
      refine r_iload_1 (pc := 30) C dX6_walker_30 ?_
      refine r_aload_0 (pc := 31) C dX6_walker_31 ?_
      refine r_getR (pc := 32) C fl_X6_7_6 (tw_g hT) rfl (tw_r1 hT) dX6_walker_32 ?_
      refine r_iconst (pc := 35) C dX6_walker_35 ci_3 ?_
      refine r_iald (pc := 36) C (tw_g1 hT) rfl rfl (lt_eq (by omega) (tw_n1 hT)) (by omega) dX6_walker_36 ?_
      refine r_top (congrFun (S5_1 _ _ _ _ _ _) _) ?_
      refine r_top hW.d ?_
      refine r_V2io (pc := 37) C (m_walksOn (by exact hT) (hW.K hk) (by omega) (by omega)) vl_X6_157 (tw_g hT) (by decide) (Nat.le_refl _) (Nat.le_refl _) (Nat.le_of_ble_eq_true rfl) rfl dX6_walker_37 (fun u6 A6 hc6 => ?_)
      refine r_top hc6.1 ?_
      refine r_eqA hc6.2 ?_
      clear hc6 A6 u6
      refine r_S1io (pc := 40) C m_truth sl_X6_130 (by decide) (Nat.le_refl _) (Nat.le_refl _) (Nat.le_of_ble_eq_true rfl) rfl dX6_walker_40 (fun u7 A7 hc7 => ?_)
      refine r_top hc7.1 ?_
      refine r_eqA hc7.2 ?_
      clear hc7 A7 u7
      refine r_goto (pc := 43) (tgt := 70) C dX6_walker_43 (by decide) ?_
      refine r_iret (pc := 70) C E rfl (Nat.le_refl _) (Nat.le_refl _) dX6_walker_70 ?_
      first
        | exact QP.no (by assumption) (Qo.o rfl)
        | exact QP.no2 (by assumption) (Qo.o rfl)
        | exact QP.two b99 (by rw [nt_n (show k < 2147483648 by omega), nt_n (show w < 2147483648 by omega)]; unfold walkA; first | (rw [if_pos b26]) | (rw [if_neg b26, if_pos b49]) | (rw [if_neg b26, if_neg b49])) (Qo.o rfl)
  · skip
    have b18 := bI_0.mp b18
    refine r_iconst (pc := 21) C dX6_walker_21 ci_0 ?_
    refine r_iret (pc := 22) C E rfl (Nat.le_refl _) (Nat.le_refl _) dX6_walker_22 ?_
    first
      | exact QP.no (by assumption) (Qo.o rfl)
      | exact QP.no2 (by assumption) (Qo.o rfl)
      | exact QP.two b99 (by rw [nt_n (show k < 2147483648 by omega), nt_n (show w < 2147483648 by omega)]; unfold walkA; first | (rw [if_pos b26]) | (rw [if_neg b26, if_pos b49]) | (rw [if_neg b26, if_neg b49])) (Qo.o rfl)
set_option maxHeartbeats 4000000 in
theorem m_account {g : GZ} {A : HA} {t : Nat} {σ κ π τ : Nat → Int32} (hT : Tw A t) {w : Int32} : Ct g wI yX6_account (.code yX6_account cX6_account 2 (Option.some Jvm.ClassFile.FieldType.int)) 2 0 0 [.ref t, .int w] (S5 A t σ κ π τ) (fun u A' => QP A t σ τ (qOne (inZ w 0 11) (σ (9 + nt w))) u A') fw_no := by
  refine Ct.of [some (.ref t), some (.int w)] (by decide) rfl rfl fun z C hx hnm E => ?_
  refine r_aload_0 (pc := 0) C dX6_account_0 ?_
  refine r_iload_1 (pc := 1) C dX6_account_1 ?_
  refine r_i2l (pc := 2) C dX6_account_2 ?_
  refine r_lconst (pc := 3) (v := 0) C dX6_account_3 (by decide) ?_
  refine r_ldc2 (pc := 4) C q2797 dX6_account_4 ?_
  refine r_S3io (pc := 7) C (m_inZ (p := 0) (q := 11) (by decide) (by decide)) sl_X6_68 (by decide) (Nat.le_refl _) (Nat.le_refl _) (Nat.le_of_ble_eq_true rfl) rfl dX6_account_7 (fun u1 A1 hc1 => ?_)
  refine r_top hc1.1 ?_
  refine r_eqA hc1.2 ?_
  clear hc1 A1 u1
  refine r_V1io (pc := 10) C (m_passes (by exact hT)) vl_X6_186 (tw_g hT) (by decide) (Nat.le_refl _) (Nat.le_refl _) (Nat.le_of_ble_eq_true rfl) rfl dX6_account_10 (fun u2 A2 hc2 => ?_)
  refine r_top hc2.1 ?_
  refine r_eqA (hc2.2.trans (by rw [S5_0, S5_w0])) ?_
  clear hc2 A2 u2
  refine r_if_eq (pc := 13) (tgt := 24) C dX6_account_13 (by decide) (fun b13 => ?_) (fun b13 => ?_)
  · skip
    have b13 := bI_0.mp b13
    refine r_iconst (pc := 24) C dX6_account_24 ci_0 ?_
    refine r_iret (pc := 25) C E rfl (Nat.le_refl _) (Nat.le_refl _) dX6_account_25 ?_
    first
      | exact QP.no (by assumption) (Qo.o rfl)
      | exact QP.no2 (by assumption) (Qo.o rfl)
      | exact QP.one b99 (by rw [nt_n (by omega)]) (Qo.o rfl)
  · skip
    have b13 := bI_n.mp b13
    have b99 := b13
    obtain ⟨w, hw, rfl⟩ := inZ_of2 (n := 11) rfl b13 (by omega)
    refine r_aload_0 (pc := 16) C dX6_account_16 ?_
    refine r_iload_1 (pc := 17) C dX6_account_17 ?_
    refine r_V1io (pc := 18) C (m_account0 (by exact hT) (by first | assumption | omega)) vl_X6_439 (tw_g hT) (by decide) (Nat.le_refl _) (Nat.le_refl _) (Nat.le_of_ble_eq_true rfl) rfl dX6_account_18 (fun u3 A3 hc3 => ?_)
    refine r_top hc3.1 ?_
    refine r_eqA hc3.2 ?_
    clear hc3 A3 u3
    refine r_goto (pc := 21) (tgt := 25) C dX6_account_21 (by decide) ?_
    refine r_iret (pc := 25) C E rfl (Nat.le_refl _) (Nat.le_refl _) dX6_account_25 ?_
    first
      | exact QP.no (by assumption) (Qo.o rfl)
      | exact QP.no2 (by assumption) (Qo.o rfl)
      | exact QP.one b99 (by rw [nt_n (by omega)]) (Qo.o rfl)
set_option maxHeartbeats 4000000 in
theorem m_isWet {g : GZ} {A : HA} {t : Nat} {σ κ π τ : Nat → Int32} (hT : Tw A t) {w : Int32} (hW : RowW σ) : Ct g wI yX6_isWet (.code yX6_isWet cX6_isWet 2 (Option.some Jvm.ClassFile.FieldType.boolean)) 2 0 0 [.ref t, .int w] (S5 A t σ κ π τ) (fun u A' => QP A t σ τ (qOne (inZ w 0 9999) (bI (wetD σ (nt w)))) u A') fw_no := by
  refine Ct.of [some (.ref t), some (.int w)] (by decide) rfl rfl fun z C hx hnm E => ?_
  have hwt := hW.wt9
  refine r_aload_0 (pc := 0) C dX6_isWet_0 ?_
  refine r_iload_1 (pc := 1) C dX6_isWet_1 ?_
  refine r_i2l (pc := 2) C dX6_isWet_2 ?_
  refine r_lconst (pc := 3) (v := 0) C dX6_isWet_3 (by decide) ?_
  refine r_ldc2 (pc := 4) C q2747 dX6_isWet_4 ?_
  refine r_S3io (pc := 7) C (m_inZ (p := 0) (q := 9999) (by decide) (by decide)) sl_X6_68 (by decide) (Nat.le_refl _) (Nat.le_refl _) (Nat.le_of_ble_eq_true rfl) rfl dX6_isWet_7 (fun u1 A1 hc1 => ?_)
  refine r_top hc1.1 ?_
  refine r_eqA hc1.2 ?_
  clear hc1 A1 u1
  refine r_V1io (pc := 10) C (m_passes (by exact hT)) vl_X6_186 (tw_g hT) (by decide) (Nat.le_refl _) (Nat.le_refl _) (Nat.le_of_ble_eq_true rfl) rfl dX6_isWet_10 (fun u2 A2 hc2 => ?_)
  refine r_top hc2.1 ?_
  refine r_eqA (hc2.2.trans (by rw [S5_0, S5_w0])) ?_
  clear hc2 A2 u2
  refine r_if_eq (pc := 13) (tgt := 28) C dX6_isWet_13 (by decide) (fun b13 => ?_) (fun b13 => ?_)
  · skip
    have b13 := bI_0.mp b13
    refine r_iconst (pc := 28) C dX6_isWet_28 ci_0 ?_
    refine r_iret (pc := 29) C E nar_0 (Nat.le_refl _) (Nat.le_refl _) dX6_isWet_29 ?_
    first
      | exact QP.no (by assumption) (Qo.o rfl)
      | exact QP.no2 (by assumption) (Qo.o rfl)
      | exact QP.one b99 (by rw [nt_n (by omega), bI_t b21, nI1]) (Qo.o rfl)
      | exact QP.one b99 (by rw [nt_n (by omega), bI_f b21, nI0]) (Qo.o rfl)
  · skip
    have b13 := bI_n.mp b13
    have b99 := b13
    obtain ⟨w, hw, rfl⟩ := inZ_of2 (n := 9999) rfl b13 (by omega)
    refine r_aload_0 (pc := 16) C dX6_isWet_16 ?_
    refine r_iload_1 (pc := 17) C dX6_isWet_17 ?_
    refine r_V1io (pc := 18) C (m_isWetDay (by exact hT) (S5_1 _ _ _ _ _ _) hW.wt hwt) vl_X6_100 (tw_g hT) (by decide) (Nat.le_refl _) (Nat.le_refl _) (Nat.le_of_ble_eq_true rfl) rfl dX6_isWet_18 (fun u3 A3 hc3 => ?_)
    refine r_top hc3.1 ?_
    refine r_eqA hc3.2 ?_
    clear hc3 A3 u3
    refine r_if_eq (pc := 21) (tgt := 28) C dX6_isWet_21 (by decide) (fun b21 => ?_) (fun b21 => ?_)
    · skip
      have b21 := bI_0.mp b21
      refine r_iconst (pc := 28) C dX6_isWet_28 ci_0 ?_
      refine r_iret (pc := 29) C E nar_0 (Nat.le_refl _) (Nat.le_refl _) dX6_isWet_29 ?_
      first
        | exact QP.no (by assumption) (Qo.o rfl)
        | exact QP.no2 (by assumption) (Qo.o rfl)
        | exact QP.one b99 (by rw [nt_n (by omega), bI_t b21, nI1]) (Qo.o rfl)
        | exact QP.one b99 (by rw [nt_n (by omega), bI_f b21, nI0]) (Qo.o rfl)
    · skip
      have b21 := bI_n.mp b21
      refine r_iconst (pc := 24) C dX6_isWet_24 ci_1 ?_
      refine r_goto (pc := 25) (tgt := 29) C dX6_isWet_25 (by decide) ?_
      refine r_iret (pc := 29) C E nar_1 (Nat.le_refl _) (Nat.le_refl _) dX6_isWet_29 ?_
      first
        | exact QP.no (by assumption) (Qo.o rfl)
        | exact QP.no2 (by assumption) (Qo.o rfl)
        | exact QP.one b99 (by rw [nt_n (by omega), bI_t b21, nI1]) (Qo.o rfl)
        | exact QP.one b99 (by rw [nt_n (by omega), bI_f b21, nI0]) (Qo.o rfl)
set_option maxHeartbeats 4000000 in
theorem m_size {g : GZ} {A : HA} {t : Nat} {σ κ π τ : Nat → Int32} (hT : Tw A t) {w : Int32} {m : Nat} (hW : RowW σ) (hm : τ 5 = nI m) : Ct g wI yX6_size (.code yX6_size cX6_size 2 (Option.some Jvm.ClassFile.FieldType.int)) 5 0 0 [.ref t, .int w] (S5 A t σ κ π τ) (fun u A' => QP A t σ τ (qOne (inZ w 0 13) (sizeA σ m (nt w))) u A') fw_no := by
  refine Ct.of [some (.ref t), some (.int w)] (by decide) rfl rfl fun z C hx hnm E => ?_
  have hS := hW.s
  have hc80 := hS.c80
  have k6 := hW.k6
  have g6 := hW.g6
  have hc80 := hS.c80
  have hw10 := hS.w10
  have hh8 := hS.h8
  have hw3 := hS.w3
  have hwt := hW.wt9
  have hd9 := hW.d9
  refine r_aload_0 (pc := 0) C dX6_size_0 ?_
  refine r_iload_1 (pc := 1) C dX6_size_1 ?_
  refine r_i2l (pc := 2) C dX6_size_2 ?_
  refine r_lconst (pc := 3) (v := 0) C dX6_size_3 (by decide) ?_
  refine r_ldc2 (pc := 4) C q2679 dX6_size_4 ?_
  refine r_S3io (pc := 7) C (m_inZ (p := 0) (q := 13) (by decide) (by decide)) sl_X6_68 (by decide) (Nat.le_refl _) (Nat.le_refl _) (Nat.le_of_ble_eq_true rfl) rfl dX6_size_7 (fun u1 A1 hc1 => ?_)
  refine r_top hc1.1 ?_
  refine r_eqA hc1.2 ?_
  clear hc1 A1 u1
  refine r_V1io (pc := 10) C (m_passes (by exact hT)) vl_X6_186 (tw_g hT) (by decide) (Nat.le_refl _) (Nat.le_refl _) (Nat.le_of_ble_eq_true rfl) rfl dX6_size_10 (fun u2 A2 hc2 => ?_)
  refine r_top hc2.1 ?_
  refine r_eqA (hc2.2.trans (by rw [S5_0, S5_w0])) ?_
  clear hc2 A2 u2
  refine r_if_ne (pc := 13) (tgt := 18) C dX6_size_13 (by decide) (fun b13 => ?_) (fun b13 => ?_)
  · skip
    have b13 := bI_n.mp b13
    have b99 := b13
    obtain ⟨w, hw, rfl⟩ := inZ_of2 (n := 13) rfl b13 (by omega)
    refine r_iload_1 (pc := 18) C dX6_size_18 ?_
    by_cases w19_8 : w = 8
    · skip
      subst w19_8
      refine r_tableIn (pc := 19) (tgt := 56) (off := 37) C dX6_size_19 (by decide +kernel) (by decide +kernel) (by decide +kernel) (by decide) ?_
      refine r_aload_0 (pc := 56) C dX6_size_56 ?_
      refine r_aload_0 (pc := 57) C dX6_size_57 ?_
      refine r_getR (pc := 58) C fl_X6_7_6 (tw_g hT) rfl (tw_r1 hT) dX6_size_58 ?_
      refine r_iconst (pc := 61) C dX6_size_61 ci_3 ?_
      refine r_iald (pc := 62) C (tw_g1 hT) rfl rfl (lt_eq (by omega) (tw_n1 hT)) (by omega) dX6_size_62 ?_
      refine r_top (congrFun (S5_1 _ _ _ _ _ _) _) ?_
      refine r_top hW.d ?_
      refine r_V1io (pc := 63) C (m_isWetDay (by exact hT) (S5_1 _ _ _ _ _ _) hW.wt hwt) vl_X6_100 (tw_g hT) (by decide) (Nat.le_refl _) (Nat.le_refl _) (Nat.le_of_ble_eq_true rfl) rfl dX6_size_63 (fun u3 A3 hc3 => ?_)
      refine r_top hc3.1 ?_
      refine r_eqA hc3.2 ?_
      clear hc3 A3 u3
      refine r_S1io (pc := 66) C m_truth sl_X6_130 (by decide) (Nat.le_refl _) (Nat.le_refl _) (Nat.le_of_ble_eq_true rfl) rfl dX6_size_66 (fun u4 A4 hc4 => ?_)
      refine r_top hc4.1 ?_
      refine r_eqA hc4.2 ?_
      clear hc4 A4 u4
      refine r_iret (pc := 69) C E rfl (Nat.le_refl _) (Nat.le_refl _) dX6_size_69 ?_
      first
        | exact QP.no (by assumption) (Qo.o rfl)
        | exact QP.no2 (by assumption) (Qo.o rfl)
        | exact QP.one b99 (by rw [nt_n (by omega)]; first | rfl | exact (sizeA_d (by omega)).symm) (Qo.o rfl)
    by_cases w19_9 : w = 9
    · skip
      subst w19_9
      refine r_tableIn (pc := 19) (tgt := 70) (off := 51) C dX6_size_19 (by decide +kernel) (by decide +kernel) (by decide +kernel) (by decide) ?_
      refine r_aload_0 (pc := 70) C dX6_size_70 ?_
      refine r_iconst (pc := 71) C dX6_size_71 ci_0 ?_
      refine r_V1io (pc := 72) C (m_manyOf (by exact hT) (by first | assumption | omega) (by first | assumption | omega)) vl_X6_183 (tw_g hT) (by decide) (Nat.le_refl _) (Nat.le_refl _) (Nat.le_of_ble_eq_true rfl) rfl dX6_size_72 (fun u5 A5 hc5 => ?_)
      refine r_top hc5.1 ?_
      refine r_eqA hc5.2 ?_
      clear hc5 A5 u5
      refine r_iret (pc := 75) C E rfl (Nat.le_refl _) (Nat.le_refl _) dX6_size_75 ?_
      first
        | exact QP.no (by assumption) (Qo.o rfl)
        | exact QP.no2 (by assumption) (Qo.o rfl)
        | exact QP.one b99 (by rw [nt_n (by omega)]; first | rfl | exact (sizeA_d (by omega)).symm) (Qo.o rfl)
    by_cases w19_10 : w = 10
    · skip
      subst w19_10
      refine r_tableIn (pc := 19) (tgt := 76) (off := 57) C dX6_size_19 (by decide +kernel) (by decide +kernel) (by decide +kernel) (by decide) ?_
      refine r_aload_0 (pc := 76) C dX6_size_76 ?_
      refine r_V0io (pc := 77) C (m_bareCells (by exact hT) (by first | assumption | omega)) vl_X6_384 (tw_g hT) (by decide) (Nat.le_refl _) (Nat.le_refl _) (Nat.le_of_ble_eq_true rfl) rfl dX6_size_77 (fun u6 A6 hc6 => ?_)
      refine r_top hc6.1 ?_
      refine r_eqA hc6.2 ?_
      clear hc6 A6 u6
      refine r_iret (pc := 80) C E rfl (Nat.le_refl _) (Nat.le_refl _) dX6_size_80 ?_
      first
        | exact QP.no (by assumption) (Qo.o rfl)
        | exact QP.no2 (by assumption) (Qo.o rfl)
        | exact QP.one b99 (by rw [nt_n (by omega)]; first | rfl | exact (sizeA_d (by omega)).symm) (Qo.o rfl)
    by_cases w19_11 : w = 11
    · skip
      subst w19_11
      refine r_tableIn (pc := 19) (tgt := 81) (off := 62) C dX6_size_19 (by decide +kernel) (by decide +kernel) (by decide +kernel) (by decide) ?_
      refine r_aload_0 (pc := 81) C dX6_size_81 ?_
      refine r_V0io (pc := 82) C (m_allGrass (by exact hT) (by first | assumption | omega)) vl_X6_318 (tw_g hT) (by decide) (Nat.le_refl _) (Nat.le_refl _) (Nat.le_of_ble_eq_true rfl) rfl dX6_size_82 (fun u7 A7 hc7 => ?_)
      refine r_top hc7.1 ?_
      refine r_eqA hc7.2 ?_
      clear hc7 A7 u7
      refine r_iret (pc := 85) C E rfl (Nat.le_refl _) (Nat.le_refl _) dX6_size_85 ?_
      first
        | exact QP.no (by assumption) (Qo.o rfl)
        | exact QP.no2 (by assumption) (Qo.o rfl)
        | exact QP.one b99 (by rw [nt_n (by omega)]; first | rfl | exact (sizeA_d (by omega)).symm) (Qo.o rfl)
    by_cases w19_12 : w = 12
    · skip
      subst w19_12
      refine r_tableIn (pc := 19) (tgt := 86) (off := 67) C dX6_size_19 (by decide +kernel) (by decide +kernel) (by decide +kernel) (by decide) ?_
      refine r_aload_0 (pc := 86) C dX6_size_86 ?_
      refine r_iconst (pc := 87) C dX6_size_87 ci_1 ?_
      refine r_V1io (pc := 88) C (m_manyOf (by exact hT) (by first | assumption | omega) (by first | assumption | omega)) vl_X6_183 (tw_g hT) (by decide) (Nat.le_refl _) (Nat.le_refl _) (Nat.le_of_ble_eq_true rfl) rfl dX6_size_88 (fun u8 A8 hc8 => ?_)
      refine r_top hc8.1 ?_
      refine r_eqA hc8.2 ?_
      clear hc8 A8 u8
      refine r_iret (pc := 91) C E rfl (Nat.le_refl _) (Nat.le_refl _) dX6_size_91 ?_
      first
        | exact QP.no (by assumption) (Qo.o rfl)
        | exact QP.no2 (by assumption) (Qo.o rfl)
        | exact QP.one b99 (by rw [nt_n (by omega)]; first | rfl | exact (sizeA_d (by omega)).symm) (Qo.o rfl)
    by_cases w19_13 : w = 13
    · skip
      subst w19_13
      refine r_tableIn (pc := 19) (tgt := 92) (off := 73) C dX6_size_19 (by decide +kernel) (by decide +kernel) (by decide +kernel) (by decide) ?_
      refine r_aload_0 (pc := 92) C dX6_size_92 ?_
      refine r_getI (pc := 93) C fl_X6_321_6 (tw_g hT) rfl dX6_size_93 ?_
      refine r_top (congrFun (S5_0 _ _ _ _ _ _) _) ?_
      refine r_top ((pk_un (by omega)).trans hm) ?_
      refine r_iret (pc := 96) C E rfl (Nat.le_refl _) (Nat.le_refl _) dX6_size_96 ?_
      first
        | exact QP.no (by assumption) (Qo.o rfl)
        | exact QP.no2 (by assumption) (Qo.o rfl)
        | exact QP.one b99 (by rw [nt_n (by omega)]; first | rfl | exact (sizeA_d (by omega)).symm) (Qo.o rfl)
    refine r_tableOut (pc := 19) (tgt := 97) C dX6_size_19 (by rw [t_nI (by omega)]; omega) (by decide) ?_
    refine r_aload_0 (pc := 97) C dX6_size_97 ?_
    refine r_getR (pc := 98) C fl_X6_7_6 (tw_g hT) rfl (tw_r1 hT) dX6_size_98 ?_
    refine r_iload_1 (pc := 101) C dX6_size_101 ?_
    refine r_iald (pc := 102) C (tw_g1 hT) rfl rfl (lt_eq (by omega) (tw_n1 hT)) (by omega) dX6_size_102 ?_
    refine r_top (congrFun (S5_1 _ _ _ _ _ _) _) ?_
    refine r_iret (pc := 103) C E rfl (Nat.le_refl _) (Nat.le_refl _) dX6_size_103 ?_
    first
      | exact QP.no (by assumption) (Qo.o rfl)
      | exact QP.no2 (by assumption) (Qo.o rfl)
      | exact QP.one b99 (by rw [nt_n (by omega)]; first | rfl | exact (sizeA_d (by omega)).symm) (Qo.o rfl)
  · skip
    have b13 := bI_0.mp b13
    refine r_iconst (pc := 16) C dX6_size_16 ci_0 ?_
    refine r_iret (pc := 17) C E rfl (Nat.le_refl _) (Nat.le_refl _) dX6_size_17 ?_
    first
      | exact QP.no (by assumption) (Qo.o rfl)
      | exact QP.no2 (by assumption) (Qo.o rfl)
      | exact QP.one b99 (by rw [nt_n (by omega)]; first | rfl | exact (sizeA_d (by omega)).symm) (Qo.o rfl)
set_option maxHeartbeats 4000000 in
theorem m_cost {g : GZ} {A : HA} {t : Nat} {σ κ π τ : Nat → Int32} (hT : Tw A t) {z x y : Int32} (hW : RowW σ) : Ct g wI yX6_cost (.code yX6_cost cX6_cost 4 (Option.some Jvm.ClassFile.FieldType.int)) 4 0 0 [.ref t, .int z, .int x, .int y] (S5 A t σ κ π τ) (fun u A' => QP A t σ τ (qOne (inW σ z ∧ inC2 σ x y) (oI (ecost σ (nt z) 0 (cat σ x y)))) u A') fw_no := by
  refine Ct.of [some (.ref t), some (.int z), some (.int x), some (.int y)] (by decide) rfl rfl fun z C hx hnm E => ?_
  have hS := hW.s
  have hc80 := hS.c80
  have k6 := hW.k6
  have g6 := hW.g6
  have hc80 := hS.c80
  have hw10 := hS.w10
  have hh8 := hS.h8
  have hw3 := hS.w3
  refine r_aload_0 (pc := 0) C dX6_cost_0 ?_
  refine r_aload_0 (pc := 1) C dX6_cost_1 ?_
  refine r_iload_1 (pc := 2) C dX6_cost_2 ?_
  refine r_V1io (pc := 3) C (m_isWalker (by exact hT) (S5_1 _ _ _ _ _ _) hW.k k6) vl_X6_413 (tw_g hT) (by decide) (Nat.le_refl _) (Nat.le_refl _) (Nat.le_of_ble_eq_true rfl) rfl dX6_cost_3 (fun u1 A1 hc1 => ?_)
  refine r_top hc1.1 ?_
  refine r_eqA hc1.2 ?_
  clear hc1 A1 u1
  refine r_if_eq (pc := 6) (tgt := 22) C dX6_cost_6 (by decide) (fun b6 => ?_) (fun b6 => ?_)
  · skip
    have b6 := bI_0.mp b6
    refine r_iconst (pc := 22) C dX6_cost_22 ci_0 ?_
    refine r_V1io (pc := 23) C (m_passes0 (by exact hT)) vl_X6_186 (tw_g hT) (by decide) (Nat.le_refl _) (Nat.le_refl _) (Nat.le_of_ble_eq_true rfl) rfl dX6_cost_23 (fun u2 A2 hc2 => ?_)
    refine r_top hc2.1 ?_
    refine r_eqA (hc2.2.trans (by rw [S5_0, S5_w0])) ?_
    clear hc2 A2 u2
    refine r_if_eq (pc := 26) (tgt := 44) C dX6_cost_26 (by decide) (fun b26 => ?_) (fun b26 => ?_)
    · skip
      refine r_iconst (pc := 44) C dX6_cost_44 ci_0 ?_
      refine r_iret (pc := 45) C E rfl (Nat.le_refl _) (Nat.le_refl _) dX6_cost_45 ?_
      first
        | exact QP.one' ⟨by assumption, by assumption⟩ (by rw [nt_n (by omega), hcat]) (Qo.o rfl)
        | exact QP.no' (fun q => absurd q.1 (by assumption)) (Qo.o rfl)
        | exact QP.no' (fun q => absurd q.2 (by assumption)) (Qo.o rfl)
    · exact absurd b26 (by decide +kernel)
  · skip
    have b6 := bI_n.mp b6
    refine r_aload_0 (pc := 9) C dX6_cost_9 ?_
    refine r_iload_2 (pc := 10) C dX6_cost_10 ?_
    refine r_iload_3 (pc := 11) C dX6_cost_11 ?_
    refine r_V2io (pc := 12) C (m_isCell (by exact hT) (S5_1 _ _ _ _ _ _) hS) vl_X6_89 (tw_g hT) (by decide) (Nat.le_refl _) (Nat.le_refl _) (Nat.le_of_ble_eq_true rfl) rfl dX6_cost_12 (fun u3 A3 hc3 => ?_)
    refine r_top hc3.1 ?_
    refine r_eqA hc3.2 ?_
    clear hc3 A3 u3
    refine r_if_eq (pc := 15) (tgt := 22) C dX6_cost_15 (by decide) (fun b15 => ?_) (fun b15 => ?_)
    · skip
      have b15 := bI_0.mp b15
      refine r_iconst (pc := 22) C dX6_cost_22 ci_0 ?_
      refine r_V1io (pc := 23) C (m_passes0 (by exact hT)) vl_X6_186 (tw_g hT) (by decide) (Nat.le_refl _) (Nat.le_refl _) (Nat.le_of_ble_eq_true rfl) rfl dX6_cost_23 (fun u4 A4 hc4 => ?_)
      refine r_top hc4.1 ?_
      refine r_eqA (hc4.2.trans (by rw [S5_0, S5_w0])) ?_
      clear hc4 A4 u4
      refine r_if_eq (pc := 26) (tgt := 44) C dX6_cost_26 (by decide) (fun b26 => ?_) (fun b26 => ?_)
      · skip
        refine r_iconst (pc := 44) C dX6_cost_44 ci_0 ?_
        refine r_iret (pc := 45) C E rfl (Nat.le_refl _) (Nat.le_refl _) dX6_cost_45 ?_
        first
          | exact QP.one' ⟨by assumption, by assumption⟩ (by rw [nt_n (by omega), hcat]) (Qo.o rfl)
          | exact QP.no' (fun q => absurd q.1 (by assumption)) (Qo.o rfl)
          | exact QP.no' (fun q => absurd q.2 (by assumption)) (Qo.o rfl)
      · exact absurd b26 (by decide +kernel)
    · skip
      have b15 := bI_n.mp b15
      obtain ⟨k, hk, rfl⟩ := inZ_of b6 (by omega)
      obtain ⟨a, ha, rfl⟩ := inZ_of b15.1 (by omega)
      obtain ⟨b, hb, rfl⟩ := inZ_of b15.2 (by omega)
      have hcl := at_lt hS ha hb
      have hcat := cat_n (σ := σ) (show a < 1000 by omega) (show b < 1000 by omega)
      refine r_iconst (pc := 18) C dX6_cost_18 ci_1 ?_
      refine r_goto (pc := 19) (tgt := 23) C dX6_cost_19 (by decide) ?_
      refine r_V1io (pc := 23) C (m_passes1 (by exact hT)) vl_X6_186 (tw_g hT) (by decide) (Nat.le_refl _) (Nat.le_refl _) (Nat.le_of_ble_eq_true rfl) rfl dX6_cost_23 (fun u5 A5 hc5 => ?_)
      refine r_top hc5.1 ?_
      refine r_eqA (hc5.2.trans (by rw [S5_0, S5_w0])) ?_
      clear hc5 A5 u5
      refine r_if_eq (pc := 26) (tgt := 44) C dX6_cost_26 (by decide) (fun b26 => ?_) (fun b26 => ?_)
      · exact absurd b26 (by decide +kernel)
      · skip
        refine r_aload_0 (pc := 29) C dX6_cost_29 ?_
        refine r_iload_1 (pc := 30) C dX6_cost_30 ?_
        refine r_aload_0 (pc := 31) C dX6_cost_31 ?_
        refine r_iload_2 (pc := 32) C dX6_cost_32 ?_
        refine r_iload_3 (pc := 33) C dX6_cost_33 ?_
        refine r_V2io (pc := 34) C (m_at (by exact hT) (S5_1 _ _ _ _ _ _) hS) vl_X6_83 (tw_g hT) (by decide) (Nat.le_refl _) (Nat.le_refl _) (Nat.le_of_ble_eq_true rfl) rfl dX6_cost_34 (fun u6 A6 hc6 => ?_)
        refine r_top hc6.1 ?_
        refine r_eqA hc6.2 ?_
        clear hc6 A6 u6
        refine r_iconst (pc := 37) C dX6_cost_37 ci_0 ?_
        refine r_V3io (pc := 38) C (m_costOf (by exact hT) (S5_1 _ _ _ _ _ _) hW hk (by omega) (by omega)) vl_X6_110 (tw_g hT) (by decide) (Nat.le_refl _) (Nat.le_refl _) (Nat.le_of_ble_eq_true rfl) rfl dX6_cost_38 (fun u7 A7 hc7 => ?_)
        refine r_top hc7.1 ?_
        refine r_eqA hc7.2 ?_
        clear hc7 A7 u7
        refine r_goto (pc := 41) (tgt := 45) C dX6_cost_41 (by decide) ?_
        refine r_iret (pc := 45) C E rfl (Nat.le_refl _) (Nat.le_refl _) dX6_cost_45 ?_
        first
          | exact QP.one' ⟨by assumption, by assumption⟩ (by rw [nt_n (by omega), hcat]) (Qo.o rfl)
          | exact QP.no' (fun q => absurd q.1 (by assumption)) (Qo.o rfl)
          | exact QP.no' (fun q => absurd q.2 (by assumption)) (Qo.o rfl)
