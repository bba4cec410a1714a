/-! THE REFERENCE, 1: small methods -/
set_option maxRecDepth 100000
theorem Ct.mono {g : GZ} {ρ : Type} {w : ρ → Option Value} {y : MethodName} {cw : Cond} {d mc ms : Nat} {As : List Value} {A : HA} {Po Po' : ρ → HA → Prop} {Px Px' : Nat → HA → Prop} (h : Ct g w y cw d mc ms As A Po Px) (h1 : ∀ u A', Po u A' → Po' u A') (h2 : ∀ q A', Px q A' → Px' q A') : Ct g w y cw d mc ms As A Po' Px' := by
  intro hg l hl p e q1 q2 q3 s m args below q4 q5 q6 q7
  obtain ⟨n, o, r1, r2, r3, r4⟩ := h hg l hl p e q1 q2 q3 s m args below q4 q5 q6 q7
  refine ⟨n, o, r1, r2, r3, ?_⟩
  rcases r4 with ⟨⟨u, A', e1, e2, e3⟩, r4⟩ | ⟨q, e1, E, ce, L, ⟨A', e2, e3⟩, r4⟩
  · exact Or.inl ⟨⟨u, A', e1, h1 u A' e2, e3⟩, r4⟩
  · exact Or.inr ⟨q, e1, E, ce, L, ⟨A', h2 q A' e2, e3⟩, r4⟩
set_option maxHeartbeats 4000000 in
theorem m_in {g : GZ} {A : HA} {v a b : Int64} : Ct g wI yX6_in (.code yX6_in cX6_in 6 (Option.some Jvm.ClassFile.FieldType.boolean)) 1 0 0 [.long v, .long a, .long b] (A) (fun u A' => u = bI (a ≤ v ∧ v ≤ b) ∧ A' = A) fw_no := by
  refine Ct.of [some (.long v), none, some (.long a), none, some (.long b), none] (by decide) rfl rfl fun z C hx hnm E => ?_
  refine r_lload_0 (pc := 0) C dX6_in_0 ?_
  refine r_lload_2 (pc := 1) C dX6_in_1 ?_
  refine r_lcmp (pc := 2) C dX6_in_2 ?_
  refine r_if_lt (pc := 3) (tgt := 17) C dX6_in_3 (by decide) (fun b3 => ?_) (fun b3 => ?_)
  · skip
    have b3 := (lg_lt0 _ _).mp b3
    refine r_iconst (pc := 17) C dX6_in_17 ci_0 ?_
    refine r_iret (pc := 18) C E nar_0 (Nat.le_refl _) (Nat.le_refl _) dX6_in_18 ?_
    first | exact ⟨bI_1 ⟨‹_›, ‹_›⟩, rfl⟩ | exact ⟨bI_00 (fun q => absurd q.1 ‹_›), rfl⟩ | exact ⟨bI_00 (fun q => absurd q.2 ‹_›), rfl⟩
  · skip
    have b3 := Decidable.not_not.mp ((not_congr (lg_lt0 _ _)).mp b3)
    refine r_lload_0 (pc := 6) C dX6_in_6 ?_
    refine r_lload_4 (pc := 7) C dX6_in_7 ?_
    refine r_lcmp (pc := 9) C dX6_in_9 ?_
    refine r_if_gt (pc := 10) (tgt := 17) C dX6_in_10 (by decide) (fun b10 => ?_) (fun b10 => ?_)
    · skip
      have b10 := (lg_gt0 _ _).mp b10
      refine r_iconst (pc := 17) C dX6_in_17 ci_0 ?_
      refine r_iret (pc := 18) C E nar_0 (Nat.le_refl _) (Nat.le_refl _) dX6_in_18 ?_
      first | exact ⟨bI_1 ⟨‹_›, ‹_›⟩, rfl⟩ | exact ⟨bI_00 (fun q => absurd q.1 ‹_›), rfl⟩ | exact ⟨bI_00 (fun q => absurd q.2 ‹_›), rfl⟩
    · skip
      have b10 := Decidable.not_not.mp ((not_congr (lg_gt0 _ _)).mp b10)
      refine r_iconst (pc := 13) C dX6_in_13 ci_1 ?_
      refine r_goto (pc := 14) (tgt := 18) C dX6_in_14 (by decide) ?_
      refine r_iret (pc := 18) C E nar_1 (Nat.le_refl _) (Nat.le_refl _) dX6_in_18 ?_
      first | exact ⟨bI_1 ⟨‹_›, ‹_›⟩, rfl⟩ | exact ⟨bI_00 (fun q => absurd q.1 ‹_›), rfl⟩ | exact ⟨bI_00 (fun q => absurd q.2 ‹_›), rfl⟩
theorem m_inZ {g : GZ} {A : HA} {x : Int32} {a b : Int64} {p q : Int} (ha : a.toInt = p) (hb : b.toInt = q) : Ct g wI yX6_in (.code yX6_in cX6_in 6 (Option.some Jvm.ClassFile.FieldType.boolean)) 1 0 0 [.long x.toInt64, .long a, .long b] A (fun u A' => u = bI (inZ x p q) ∧ A' = A) fw_no := m_in.mono (fun u A' h => ⟨h.1.trans (bI_iff (in_64 ha hb)), h.2⟩) (fun _ _ h => h)
set_option maxHeartbeats 4000000 in
theorem m_truth {g : GZ} {A : HA} {p : Prop} [Decidable p] : Ct g wI yX6_truth (.code yX6_truth cX6_truth 1 (Option.some Jvm.ClassFile.FieldType.int)) 1 0 0 [.int (bI p)] (A) (fun u A' => u = bI p ∧ A' = A) fw_no := by
  refine Ct.of [some (.int (bI p))] (by decide) rfl rfl fun z C hx hnm E => ?_
  refine r_iload_0 (pc := 0) C dX6_truth_0 ?_
  refine r_if_eq (pc := 1) (tgt := 8) C dX6_truth_1 (by decide) (fun b1 => ?_) (fun b1 => ?_)
  · skip
    have b1 := bI_0.mp b1
    refine r_iconst (pc := 8) C dX6_truth_8 ci_0 ?_
    refine r_iret (pc := 9) C E rfl (Nat.le_refl _) (Nat.le_refl _) dX6_truth_9 ?_
    first | exact ⟨bI_1 ‹_›, rfl⟩ | exact ⟨bI_00 ‹_›, rfl⟩
  · skip
    have b1 := bI_n.mp b1
    refine r_iconst (pc := 4) C dX6_truth_4 ci_1 ?_
    refine r_goto (pc := 5) (tgt := 9) C dX6_truth_5 (by decide) ?_
    refine r_iret (pc := 9) C E rfl (Nat.le_refl _) (Nat.le_refl _) dX6_truth_9 ?_
    first | exact ⟨bI_1 ‹_›, rfl⟩ | exact ⟨bI_00 ‹_›, rfl⟩
set_option maxHeartbeats 4000000 in
theorem m_thrown {g : GZ} {A : HA} {t : Nat} (hT : Tw A t)  : Ct g wI yX6_thrown (.code yX6_thrown cX6_thrown 1 (Option.some Jvm.ClassFile.FieldType.int)) 1 0 0 [.ref t] (A) (fun u A' => u = A.I t 6 ∧ A' = A) fw_no := by
  refine Ct.of [some (.ref t)] (by decide) rfl rfl fun z C hx hnm E => ?_
  refine r_aload_0 (pc := 0) C dX6_thrown_0 ?_
  refine r_getI (pc := 1) C fl_X6_61_6 (tw_g hT) rfl dX6_thrown_1 ?_
  refine r_iret (pc := 4) C E rfl (Nat.le_refl _) (Nat.le_refl _) dX6_thrown_4 ?_
  exact ⟨rfl, rfl⟩
set_option maxHeartbeats 4000000 in
theorem m_passes {g : GZ} {A : HA} {t : Nat} (hT : Tw A t) {p : Prop} [Decidable p] : Ct g wI yX6_passes (.code yX6_passes cX6_passes 2 (Option.some Jvm.ClassFile.FieldType.boolean)) 1 0 0 [.ref t, .int (bI p)] (A) (fun u A' => u = bI p ∧ A' = A.sI t (upd (A.I t) 6 (bI (¬ p)))) fw_no := by
  refine Ct.of [some (.ref t), some (.int (bI p))] (by decide) rfl rfl fun z C hx hnm E => ?_
  refine r_aload_0 (pc := 0) C dX6_passes_0 ?_
  refine r_iload_1 (pc := 1) C dX6_passes_1 ?_
  refine r_if_eq (pc := 2) (tgt := 9) C dX6_passes_2 (by decide) (fun b2 => ?_) (fun b2 => ?_)
  · skip
    have b2 := bI_0.mp b2
    refine r_iconst (pc := 9) C dX6_passes_9 ci_1 ?_
    refine r_putI (pc := 10) C fl_X6_61_6 (tw_g hT) rfl (fun _ _ _ h => by cases h; exact Or.inl rfl) rfl rfl rfl dX6_passes_10 ?_
    refine r_iload_1 (pc := 13) C dX6_passes_13 ?_
    refine r_iret (pc := 14) C E (nar_b _) (Nat.le_refl _) (Nat.le_refl _) dX6_passes_14 ?_
    first | exact ⟨rfl, by rw [bI_f (fun q => q ‹_›), nI0]⟩ | exact ⟨rfl, by rw [bI_t ‹_›, nI1]⟩
  · skip
    have b2 := bI_n.mp b2
    refine r_iconst (pc := 5) C dX6_passes_5 ci_0 ?_
    refine r_goto (pc := 6) (tgt := 10) C dX6_passes_6 (by decide) ?_
    refine r_putI (pc := 10) C fl_X6_61_6 (tw_g hT) rfl (fun _ _ _ h => by cases h; exact Or.inl rfl) rfl rfl rfl dX6_passes_10 ?_
    refine r_iload_1 (pc := 13) C dX6_passes_13 ?_
    refine r_iret (pc := 14) C E (nar_b _) (Nat.le_refl _) (Nat.le_refl _) dX6_passes_14 ?_
    first | exact ⟨rfl, by rw [bI_f (fun q => q ‹_›), nI0]⟩ | exact ⟨rfl, by rw [bI_t ‹_›, nI1]⟩
set_option maxHeartbeats 4000000 in
theorem m_passesBoth {g : GZ} {A : HA} {t : Nat} (hT : Tw A t) {p q : Prop} [Decidable p] [Decidable q] : Ct g wI yX6_passesBoth (.code yX6_passesBoth cX6_passesBoth 3 (Option.some Jvm.ClassFile.FieldType.boolean)) 1 0 0 [.ref t, .int (bI p), .int (bI q)] (A) (fun u A' => u = bI (p ∧ q) ∧ A' = A.sI t (upd (A.I t) 6 (nI (if p then (if q then 0 else 2) else 1)))) fw_no := by
  refine Ct.of [some (.ref t), some (.int (bI p)), some (.int (bI q))] (by decide) rfl rfl fun z C hx hnm E => ?_
  refine r_aload_0 (pc := 0) C dX6_passesBoth_0 ?_
  refine r_iload_1 (pc := 1) C dX6_passesBoth_1 ?_
  refine r_if_ne (pc := 2) (tgt := 9) C dX6_passesBoth_2 (by decide) (fun b2 => ?_) (fun b2 => ?_)
  · skip
    have b2 := bI_n.mp b2
    refine r_iload_2 (pc := 9) C dX6_passesBoth_9 ?_
    refine r_if_ne (pc := 10) (tgt := 17) C dX6_passesBoth_10 (by decide) (fun b10 => ?_) (fun b10 => ?_)
    · skip
      have b10 := bI_n.mp b10
      refine r_iconst (pc := 17) C dX6_passesBoth_17 ci_0 ?_
      refine r_putI (pc := 18) C fl_X6_61_6 (tw_g hT) rfl (fun _ _ _ h => by cases h; exact Or.inl rfl) rfl rfl rfl dX6_passesBoth_18 ?_
      refine r_aload_0 (pc := 21) C dX6_passesBoth_21 ?_
      refine r_getI (pc := 22) C fl_X6_61_6 (tw_g hT) rfl dX6_passesBoth_22 ?_
      refine r_if_ne (pc := 25) (tgt := 32) C dX6_passesBoth_25 (by decide) (fun b25 => ?_) (fun b25 => ?_)
      · skip
        refine r_iconst (pc := 32) C dX6_passesBoth_32 ci_0 ?_
        refine r_iret (pc := 33) C E nar_0 (Nat.le_refl _) (Nat.le_refl _) dX6_passesBoth_33 ?_
        first
          | exact ⟨bI_1 ⟨‹p›, ‹q›⟩, by rw [if_pos ‹p›, if_pos ‹q›]⟩
          | exact ⟨bI_00 (fun w => ‹¬ p› w.1), by rw [if_neg ‹¬ p›]⟩
          | exact ⟨bI_00 (fun w => ‹¬ q› w.2), by rw [if_pos ‹p›, if_neg ‹¬ q›]⟩
          | (exfalso; simp only [sI_s, pk_us] at *; rename_i h99 _; revert h99; decide)
          | (exfalso; simp only [sI_s, pk_us] at *; rename_i h99; revert h99; decide)
          | (exfalso; simp_all [sI_s, pk_us, nI_eq0])
      · skip
        refine r_iconst (pc := 28) C dX6_passesBoth_28 ci_1 ?_
        refine r_goto (pc := 29) (tgt := 33) C dX6_passesBoth_29 (by decide) ?_
        refine r_iret (pc := 33) C E nar_1 (Nat.le_refl _) (Nat.le_refl _) dX6_passesBoth_33 ?_
        first
          | exact ⟨bI_1 ⟨‹p›, ‹q›⟩, by rw [if_pos ‹p›, if_pos ‹q›]⟩
          | exact ⟨bI_00 (fun w => ‹¬ p› w.1), by rw [if_neg ‹¬ p›]⟩
          | exact ⟨bI_00 (fun w => ‹¬ q› w.2), by rw [if_pos ‹p›, if_neg ‹¬ q›]⟩
          | (exfalso; simp only [sI_s, pk_us] at *; rename_i h99 _; revert h99; decide)
          | (exfalso; simp only [sI_s, pk_us] at *; rename_i h99; revert h99; decide)
          | (exfalso; simp_all [sI_s, pk_us, nI_eq0])
    · skip
      have b10 := bI_0.mp b10
      refine r_iconst (pc := 13) C dX6_passesBoth_13 ci_2 ?_
      refine r_goto (pc := 14) (tgt := 18) C dX6_passesBoth_14 (by decide) ?_
      refine r_putI (pc := 18) C fl_X6_61_6 (tw_g hT) rfl (fun _ _ _ h => by cases h; exact Or.inl rfl) rfl rfl rfl dX6_passesBoth_18 ?_
      refine r_aload_0 (pc := 21) C dX6_passesBoth_21 ?_
      refine r_getI (pc := 22) C fl_X6_61_6 (tw_g hT) rfl dX6_passesBoth_22 ?_
      refine r_if_ne (pc := 25) (tgt := 32) C dX6_passesBoth_25 (by decide) (fun b25 => ?_) (fun b25 => ?_)
      · skip
        refine r_iconst (pc := 32) C dX6_passesBoth_32 ci_0 ?_
        refine r_iret (pc := 33) C E nar_0 (Nat.le_refl _) (Nat.le_refl _) dX6_passesBoth_33 ?_
        first
          | exact ⟨bI_1 ⟨‹p›, ‹q›⟩, by rw [if_pos ‹p›, if_pos ‹q›]⟩
          | exact ⟨bI_00 (fun w => ‹¬ p› w.1), by rw [if_neg ‹¬ p›]⟩
          | exact ⟨bI_00 (fun w => ‹¬ q› w.2), by rw [if_pos ‹p›, if_neg ‹¬ q›]⟩
          | (exfalso; simp only [sI_s, pk_us] at *; rename_i h99 _; revert h99; decide)
          | (exfalso; simp only [sI_s, pk_us] at *; rename_i h99; revert h99; decide)
          | (exfalso; simp_all [sI_s, pk_us, nI_eq0])
      · skip
        refine r_iconst (pc := 28) C dX6_passesBoth_28 ci_1 ?_
        refine r_goto (pc := 29) (tgt := 33) C dX6_passesBoth_29 (by decide) ?_
        refine r_iret (pc := 33) C E nar_1 (Nat.le_refl _) (Nat.le_refl _) dX6_passesBoth_33 ?_
        first
          | exact ⟨bI_1 ⟨‹p›, ‹q›⟩, by rw [if_pos ‹p›, if_pos ‹q›]⟩
          | exact ⟨bI_00 (fun w => ‹¬ p› w.1), by rw [if_neg ‹¬ p›]⟩
          | exact ⟨bI_00 (fun w => ‹¬ q› w.2), by rw [if_pos ‹p›, if_neg ‹¬ q›]⟩
          | (exfalso; simp only [sI_s, pk_us] at *; rename_i h99 _; revert h99; decide)
          | (exfalso; simp only [sI_s, pk_us] at *; rename_i h99; revert h99; decide)
          | (exfalso; simp_all [sI_s, pk_us, nI_eq0])
  · skip
    have b2 := bI_0.mp b2
    refine r_iconst (pc := 5) C dX6_passesBoth_5 ci_1 ?_
    refine r_goto (pc := 6) (tgt := 18) C dX6_passesBoth_6 (by decide) ?_
    refine r_putI (pc := 18) C fl_X6_61_6 (tw_g hT) rfl (fun _ _ _ h => by cases h; exact Or.inl rfl) rfl rfl rfl dX6_passesBoth_18 ?_
    refine r_aload_0 (pc := 21) C dX6_passesBoth_21 ?_
    refine r_getI (pc := 22) C fl_X6_61_6 (tw_g hT) rfl dX6_passesBoth_22 ?_
    refine r_if_ne (pc := 25) (tgt := 32) C dX6_passesBoth_25 (by decide) (fun b25 => ?_) (fun b25 => ?_)
    · skip
      refine r_iconst (pc := 32) C dX6_passesBoth_32 ci_0 ?_
      refine r_iret (pc := 33) C E nar_0 (Nat.le_refl _) (Nat.le_refl _) dX6_passesBoth_33 ?_
      first
        | exact ⟨bI_1 ⟨‹p›, ‹q›⟩, by rw [if_pos ‹p›, if_pos ‹q›]⟩
        | exact ⟨bI_00 (fun w => ‹¬ p› w.1), by rw [if_neg ‹¬ p›]⟩
        | exact ⟨bI_00 (fun w => ‹¬ q› w.2), by rw [if_pos ‹p›, if_neg ‹¬ q›]⟩
        | (exfalso; simp only [sI_s, pk_us] at *; rename_i h99 _; revert h99; decide)
        | (exfalso; simp only [sI_s, pk_us] at *; rename_i h99; revert h99; decide)
        | (exfalso; simp_all [sI_s, pk_us, nI_eq0])
    · skip
      refine r_iconst (pc := 28) C dX6_passesBoth_28 ci_1 ?_
      refine r_goto (pc := 29) (tgt := 33) C dX6_passesBoth_29 (by decide) ?_
      refine r_iret (pc := 33) C E nar_1 (Nat.le_refl _) (Nat.le_refl _) dX6_passesBoth_33 ?_
      first
        | exact ⟨bI_1 ⟨‹p›, ‹q›⟩, by rw [if_pos ‹p›, if_pos ‹q›]⟩
        | exact ⟨bI_00 (fun w => ‹¬ p› w.1), by rw [if_neg ‹¬ p›]⟩
        | exact ⟨bI_00 (fun w => ‹¬ q› w.2), by rw [if_pos ‹p›, if_neg ‹¬ q›]⟩
        | (exfalso; simp only [sI_s, pk_us] at *; rename_i h99 _; revert h99; decide)
        | (exfalso; simp only [sI_s, pk_us] at *; rename_i h99; revert h99; decide)
        | (exfalso; simp_all [sI_s, pk_us, nI_eq0])
set_option maxHeartbeats 4000000 in
theorem m_ofGate {g : GZ} {A : HA} {t : Nat} (hT : Tw A t) {σ : Nat → Int32} (hσ : A.I (t + 1) = σ) {r w : Nat} (hb : 9 * r + w < 532 := by omega) : Ct g wI yX6_ofGate (.code yX6_ofGate cX6_ofGate 3 (Option.some Jvm.ClassFile.FieldType.int)) 1 0 0 [.ref t, .int (nI (r)), .int (nI (w))] (A) (fun u A' => u = σ (21 + 9 * r + w) ∧ A' = A) fw_no := by
  refine Ct.of [some (.ref t), some (.int (nI (r))), some (.int (nI (w)))] (by decide) rfl rfl fun z C hx hnm E => ?_
  subst hσ
  refine r_aload_0 (pc := 0) C dX6_ofGate_0 ?_
  refine r_getR (pc := 1) C fl_X6_7_6 (tw_g hT) rfl (tw_r1 hT) dX6_ofGate_1 ?_
  refine r_bipush (pc := 4) C dX6_ofGate_4 cb_21 ?_
  refine r_bipush (pc := 6) C dX6_ofGate_6 cb_9 ?_
  refine r_iload_1 (pc := 8) C dX6_ofGate_8 ?_
  refine r_imul (pc := 9) C dX6_ofGate_9 ?_
  refine r_top (pk_mul _ _) ?_
  refine r_iadd (pc := 10) C dX6_ofGate_10 ?_
  refine r_top (nI_add _ _) ?_
  refine r_iload_2 (pc := 11) C dX6_ofGate_11 ?_
  refine r_iadd (pc := 12) C dX6_ofGate_12 ?_
  refine r_top (nI_add _ _) ?_
  refine r_iald (pc := 13) C (tw_g1 hT) rfl rfl (lt_eq (by omega) (tw_n1 hT)) (by omega) dX6_ofGate_13 ?_
  refine r_iret (pc := 14) C E rfl (Nat.le_refl _) (Nat.le_refl _) dX6_ofGate_14 ?_
  exact ⟨rfl, rfl⟩
set_option maxHeartbeats 4000000 in
theorem m_of {g : GZ} {A : HA} {t : Nat} (hT : Tw A t) {σ : Nat → Int32} (hσ : A.I (t + 1) = σ) {r w : Nat} (hb : 13 * r + w < 478 := by omega) : Ct g wI yX6_of (.code yX6_of cX6_of 3 (Option.some Jvm.ClassFile.FieldType.int)) 1 0 0 [.ref t, .int (nI (r)), .int (nI (w))] (A) (fun u A' => u = σ (75 + 13 * r + w) ∧ A' = A) fw_no := by
  refine Ct.of [some (.ref t), some (.int (nI (r))), some (.int (nI (w)))] (by decide) rfl rfl fun z C hx hnm E => ?_
  subst hσ
  refine r_aload_0 (pc := 0) C dX6_of_0 ?_
  refine r_getR (pc := 1) C fl_X6_7_6 (tw_g hT) rfl (tw_r1 hT) dX6_of_1 ?_
  refine r_bipush (pc := 4) C dX6_of_4 cb_75 ?_
  refine r_bipush (pc := 6) C dX6_of_6 cb_13 ?_
  refine r_iload_1 (pc := 8) C dX6_of_8 ?_
  refine r_imul (pc := 9) C dX6_of_9 ?_
  refine r_top (pk_mul _ _) ?_
  refine r_iadd (pc := 10) C dX6_of_10 ?_
  refine r_top (nI_add _ _) ?_
  refine r_iload_2 (pc := 11) C dX6_of_11 ?_
  refine r_iadd (pc := 12) C dX6_of_12 ?_
  refine r_top (nI_add _ _) ?_
  refine r_iald (pc := 13) C (tw_g1 hT) rfl rfl (lt_eq (by omega) (tw_n1 hT)) (by omega) dX6_of_13 ?_
  refine r_iret (pc := 14) C E rfl (Nat.le_refl _) (Nat.le_refl _) dX6_of_14 ?_
  exact ⟨rfl, rfl⟩
set_option maxHeartbeats 4000000 in
theorem m_puts {g : GZ} {A : HA} {t : Nat} (hT : Tw A t) {σ : Nat → Int32} (hσ : A.I (t + 1) = σ) {r w : Nat} {v : Int32} (hb : 13 * r + w < 478 := by omega) : Ct g wV yX6_puts (.code yX6_puts cX6_puts 4 (Option.none : Option Jvm.ClassFile.FieldType)) 1 0 0 [.ref t, .int (nI (r)), .int (nI (w)), .int v] (A) (fun u A' => A' = A.sI (t + 1) (upd (σ) (75 + 13 * r + w) v)) fw_no := by
  refine Ct.of [some (.ref t), some (.int (nI (r))), some (.int (nI (w))), some (.int v)] (by decide) rfl rfl fun z C hx hnm E => ?_
  subst hσ
  refine r_aload_0 (pc := 0) C dX6_puts_0 ?_
  refine r_getR (pc := 1) C fl_X6_7_6 (tw_g hT) rfl (tw_r1 hT) dX6_puts_1 ?_
  refine r_bipush (pc := 4) C dX6_puts_4 cb_75 ?_
  refine r_bipush (pc := 6) C dX6_puts_6 cb_13 ?_
  refine r_iload_1 (pc := 8) C dX6_puts_8 ?_
  refine r_imul (pc := 9) C dX6_puts_9 ?_
  refine r_top (pk_mul _ _) ?_
  refine r_iadd (pc := 10) C dX6_puts_10 ?_
  refine r_top (nI_add _ _) ?_
  refine r_iload_2 (pc := 11) C dX6_puts_11 ?_
  refine r_iadd (pc := 12) C dX6_puts_12 ?_
  refine r_top (nI_add _ _) ?_
  refine r_iload_3 (pc := 13) C dX6_puts_13 ?_
  refine r_iast (pc := 14) C (tw_g1 hT) rfl rfl (lt_eq (by omega) (tw_n1 hT)) (by omega) dX6_puts_14 ?_
  refine r_vret (pc := 15) C E (Nat.le_refl _) (Nat.le_refl _) dX6_puts_15 ?_
  exact rfl
set_option maxHeartbeats 4000000 in
theorem m_ofCell {g : GZ} {A : HA} {t : Nat} (hT : Tw A t) {σ : Nat → Int32} (hσ : A.I (t + 1) = σ) {c w : Nat} (hb : 5 * c + w < 400 := by omega) : Ct g wI yX6_ofCell (.code yX6_ofCell cX6_ofCell 3 (Option.some Jvm.ClassFile.FieldType.int)) 1 0 0 [.ref t, .int (nI (c)), .int (nI (w))] (A) (fun u A' => u = σ (153 + 5 * c + w) ∧ A' = A) fw_no := by
  refine Ct.of [some (.ref t), some (.int (nI (c))), some (.int (nI (w)))] (by decide) rfl rfl fun z C hx hnm E => ?_
  subst hσ
  refine r_aload_0 (pc := 0) C dX6_ofCell_0 ?_
  refine r_getR (pc := 1) C fl_X6_7_6 (tw_g hT) rfl (tw_r1 hT) dX6_ofCell_1 ?_
  refine r_sipush (pc := 4) C dX6_ofCell_4 cs_153 ?_
  refine r_iconst (pc := 7) C dX6_ofCell_7 ci_5 ?_
  refine r_iload_1 (pc := 8) C dX6_ofCell_8 ?_
  refine r_imul (pc := 9) C dX6_ofCell_9 ?_
  refine r_top (pk_mul _ _) ?_
  refine r_iadd (pc := 10) C dX6_ofCell_10 ?_
  refine r_top (nI_add _ _) ?_
  refine r_iload_2 (pc := 11) C dX6_ofCell_11 ?_
  refine r_iadd (pc := 12) C dX6_ofCell_12 ?_
  refine r_top (nI_add _ _) ?_
  refine r_iald (pc := 13) C (tw_g1 hT) rfl rfl (lt_eq (by omega) (tw_n1 hT)) (by omega) dX6_ofCell_13 ?_
  refine r_iret (pc := 14) C E rfl (Nat.le_refl _) (Nat.le_refl _) dX6_ofCell_14 ?_
  exact ⟨rfl, rfl⟩
set_option maxHeartbeats 4000000 in
theorem m_putsCell {g : GZ} {A : HA} {t : Nat} (hT : Tw A t) {σ : Nat → Int32} (hσ : A.I (t + 1) = σ) {c w : Nat} {v : Int32} (hb : 5 * c + w < 400 := by omega) : Ct g wV yX6_putsCell (.code yX6_putsCell cX6_putsCell 4 (Option.none : Option Jvm.ClassFile.FieldType)) 1 0 0 [.ref t, .int (nI (c)), .int (nI (w)), .int v] (A) (fun u A' => A' = A.sI (t + 1) (upd (σ) (153 + 5 * c + w) v)) fw_no := by
  refine Ct.of [some (.ref t), some (.int (nI (c))), some (.int (nI (w))), some (.int v)] (by decide) rfl rfl fun z C hx hnm E => ?_
  subst hσ
  refine r_aload_0 (pc := 0) C dX6_putsCell_0 ?_
  refine r_getR (pc := 1) C fl_X6_7_6 (tw_g hT) rfl (tw_r1 hT) dX6_putsCell_1 ?_
  refine r_sipush (pc := 4) C dX6_putsCell_4 cs_153 ?_
  refine r_iconst (pc := 7) C dX6_putsCell_7 ci_5 ?_
  refine r_iload_1 (pc := 8) C dX6_putsCell_8 ?_
  refine r_imul (pc := 9) C dX6_putsCell_9 ?_
  refine r_top (pk_mul _ _) ?_
  refine r_iadd (pc := 10) C dX6_putsCell_10 ?_
  refine r_top (nI_add _ _) ?_
  refine r_iload_2 (pc := 11) C dX6_putsCell_11 ?_
  refine r_iadd (pc := 12) C dX6_putsCell_12 ?_
  refine r_top (nI_add _ _) ?_
  refine r_iload_3 (pc := 13) C dX6_putsCell_13 ?_
  refine r_iast (pc := 14) C (tw_g1 hT) rfl rfl (lt_eq (by omega) (tw_n1 hT)) (by omega) dX6_putsCell_14 ?_
  refine r_vret (pc := 15) C E (Nat.le_refl _) (Nat.le_refl _) dX6_putsCell_15 ?_
  exact rfl
set_option maxHeartbeats 4000000 in
theorem m_grows {g : GZ} {A : HA} {t : Nat} (hT : Tw A t) {σ : Nat → Int32} (hσ : A.I (t + 1) = σ) {a : Nat} {v : Int32} (hb : a < 544 := by omega) : Ct g wV yX6_grows (.code yX6_grows cX6_grows 3 (Option.none : Option Jvm.ClassFile.FieldType)) 1 0 0 [.ref t, .int (nI (a)), .int v] (A) (fun u A' => A' = A.sI (t + 1) (upd (σ) (9 + a) (σ (9 + a) + v))) fw_no := by
  refine Ct.of [some (.ref t), some (.int (nI (a))), some (.int v)] (by decide) rfl rfl fun z C hx hnm E => ?_
  subst hσ
  refine r_aload_0 (pc := 0) C dX6_grows_0 ?_
  refine r_getR (pc := 1) C fl_X6_7_6 (tw_g hT) rfl (tw_r1 hT) dX6_grows_1 ?_
  refine r_bipush (pc := 4) C dX6_grows_4 cb_9 ?_
  refine r_iload_1 (pc := 6) C dX6_grows_6 ?_
  refine r_iadd (pc := 7) C dX6_grows_7 ?_
  refine r_top (nI_add _ _) ?_
  refine r_dup2 (pc := 8) C dX6_grows_8 rfl rfl ?_
  refine r_iald (pc := 9) C (tw_g1 hT) rfl rfl (lt_eq (by omega) (tw_n1 hT)) (by omega) dX6_grows_9 ?_
  refine r_iload_2 (pc := 10) C dX6_grows_10 ?_
  refine r_iadd (pc := 11) C dX6_grows_11 ?_
  refine r_iast (pc := 12) C (tw_g1 hT) rfl rfl (lt_eq (by omega) (tw_n1 hT)) (by omega) dX6_grows_12 ?_
  refine r_vret (pc := 13) C E (Nat.le_refl _) (Nat.le_refl _) dX6_grows_13 ?_
  exact rfl
set_option maxHeartbeats 4000000 in
theorem m_isWalker {g : GZ} {A : HA} {t : Nat} (hT : Tw A t) {σ : Nat → Int32} (hσ : A.I (t + 1) = σ) {x : Int32} (h0 : σ 1 = nI (rK (σ))) (h6 : rK (σ) ≤ 6) : Ct g wI yX6_isWalker (.code yX6_isWalker cX6_isWalker 2 (Option.some Jvm.ClassFile.FieldType.boolean)) 2 0 0 [.ref t, .int x] (A) (fun u A' => u = bI (inZ x 0 ((rK (σ) : Int) - 1)) ∧ A' = A) fw_no := by
  refine Ct.of [some (.ref t), some (.int x)] (by decide) rfl rfl fun z C hx hnm E => ?_
  subst hσ
  refine r_iload_1 (pc := 0) C dX6_isWalker_0 ?_
  refine r_i2l (pc := 1) C dX6_isWalker_1 ?_
  refine r_lconst (pc := 2) (v := 0) C dX6_isWalker_2 (by decide) ?_
  refine r_aload_0 (pc := 3) C dX6_isWalker_3 ?_
  refine r_getR (pc := 4) C fl_X6_7_6 (tw_g hT) rfl (tw_r1 hT) dX6_isWalker_4 ?_
  refine r_iconst (pc := 7) C dX6_isWalker_7 ci_1 ?_
  refine r_iald (pc := 8) C (tw_g1 hT) rfl rfl (lt_eq (by omega) (tw_n1 hT)) (by omega) dX6_isWalker_8 ?_
  refine r_top h0 ?_
  refine r_iconst (pc := 9) C dX6_isWalker_9 ci_1 ?_
  refine r_isub (pc := 10) C dX6_isWalker_10 ?_
  refine r_i2l (pc := 11) C dX6_isWalker_11 ?_
  refine r_S3io (pc := 12) C (m_inZ (p := 0) (by decide) (t_m1' (by omega))) sl_X6_68 (by decide) (Nat.le_refl _) (Nat.le_refl _) (Nat.le_of_ble_eq_true rfl) rfl dX6_isWalker_12 (fun u1 A1 hc1 => ?_)
  refine r_top hc1.1 ?_
  refine r_eqA hc1.2 ?_
  clear hc1 A1 u1
  refine r_iret (pc := 15) C E (nar_b _) (Nat.le_refl _) (Nat.le_refl _) dX6_isWalker_15 ?_
  exact ⟨rfl, rfl⟩
set_option maxHeartbeats 4000000 in
theorem m_isGate {g : GZ} {A : HA} {t : Nat} (hT : Tw A t) {σ : Nat → Int32} (hσ : A.I (t + 1) = σ) {x : Int32} (h0 : σ 0 = nI (rG (σ))) (h6 : rG (σ) ≤ 6) : Ct g wI yX6_isGate (.code yX6_isGate cX6_isGate 2 (Option.some Jvm.ClassFile.FieldType.boolean)) 2 0 0 [.ref t, .int x] (A) (fun u A' => u = bI (inZ x 0 ((rG (σ) : Int) - 1)) ∧ A' = A) fw_no := by
  refine Ct.of [some (.ref t), some (.int x)] (by decide) rfl rfl fun z C hx hnm E => ?_
  subst hσ
  refine r_iload_1 (pc := 0) C dX6_isGate_0 ?_
  refine r_i2l (pc := 1) C dX6_isGate_1 ?_
  refine r_lconst (pc := 2) (v := 0) C dX6_isGate_2 (by decide) ?_
  refine r_aload_0 (pc := 3) C dX6_isGate_3 ?_
  refine r_getR (pc := 4) C fl_X6_7_6 (tw_g hT) rfl (tw_r1 hT) dX6_isGate_4 ?_
  refine r_iconst (pc := 7) C dX6_isGate_7 ci_0 ?_
  refine r_iald (pc := 8) C (tw_g1 hT) rfl rfl (lt_eq (by omega) (tw_n1 hT)) (by omega) dX6_isGate_8 ?_
  refine r_top h0 ?_
  refine r_iconst (pc := 9) C dX6_isGate_9 ci_1 ?_
  refine r_isub (pc := 10) C dX6_isGate_10 ?_
  refine r_i2l (pc := 11) C dX6_isGate_11 ?_
  refine r_S3io (pc := 12) C (m_inZ (p := 0) (by decide) (t_m1' (by omega))) sl_X6_68 (by decide) (Nat.le_refl _) (Nat.le_refl _) (Nat.le_of_ble_eq_true rfl) rfl dX6_isGate_12 (fun u1 A1 hc1 => ?_)
  refine r_top hc1.1 ?_
  refine r_eqA hc1.2 ?_
  clear hc1 A1 u1
  refine r_iret (pc := 15) C E (nar_b _) (Nat.le_refl _) (Nat.le_refl _) dX6_isGate_15 ?_
  exact ⟨rfl, rfl⟩
theorem r4w {σ : Nat → Int32} (h : RowS σ) : rW σ < 1000000 := by have := h.w10; omega
theorem r5w {σ : Nat → Int32} (h : RowS σ) : rH σ < 1000000 := by have := h.h8; omega
set_option maxHeartbeats 4000000 in
theorem m_isCell {g : GZ} {A : HA} {t : Nat} (hT : Tw A t) {σ : Nat → Int32} (hσ : A.I (t + 1) = σ) {x y : Int32} (hS : RowS (σ)) : Ct g wI yX6_isCell (.code yX6_isCell cX6_isCell 3 (Option.some Jvm.ClassFile.FieldType.boolean)) 2 0 0 [.ref t, .int x, .int y] (A) (fun u A' => u = bI (inZ x 0 ((rW (σ) : Int) - 1) ∧ inZ y 0 ((rH (σ) : Int) - 1)) ∧ A' = A) fw_no := by
  refine Ct.of [some (.ref t), some (.int x), some (.int y)] (by decide) rfl rfl fun z C hx hnm E => ?_
  subst hσ
  refine r_iload_1 (pc := 0) C dX6_isCell_0 ?_
  refine r_i2l (pc := 1) C dX6_isCell_1 ?_
  refine r_lconst (pc := 2) (v := 0) C dX6_isCell_2 (by decide) ?_
  refine r_aload_0 (pc := 3) C dX6_isCell_3 ?_
  refine r_getR (pc := 4) C fl_X6_7_6 (tw_g hT) rfl (tw_r1 hT) dX6_isCell_4 ?_
  refine r_iconst (pc := 7) C dX6_isCell_7 ci_4 ?_
  refine r_iald (pc := 8) C (tw_g1 hT) rfl rfl (lt_eq (by omega) (tw_n1 hT)) (by omega) dX6_isCell_8 ?_
  refine r_top hS.w ?_
  refine r_iconst (pc := 9) C dX6_isCell_9 ci_1 ?_
  refine r_isub (pc := 10) C dX6_isCell_10 ?_
  refine r_i2l (pc := 11) C dX6_isCell_11 ?_
  refine r_S3io (pc := 12) C (m_inZ (p := 0) (by decide) (t_m1' (r4w hS))) sl_X6_68 (by decide) (Nat.le_refl _) (Nat.le_refl _) (Nat.le_of_ble_eq_true rfl) rfl dX6_isCell_12 (fun u1 A1 hc1 => ?_)
  refine r_top hc1.1 ?_
  refine r_eqA hc1.2 ?_
  clear hc1 A1 u1
  refine r_if_eq (pc := 15) (tgt := 40) C dX6_isCell_15 (by decide) (fun b15 => ?_) (fun b15 => ?_)
  · skip
    have b15 := bI_0.mp b15
    refine r_iconst (pc := 40) C dX6_isCell_40 ci_0 ?_
    refine r_iret (pc := 41) C E nar_0 (Nat.le_refl _) (Nat.le_refl _) dX6_isCell_41 ?_
    first | exact ⟨bI_1 ⟨‹_›, ‹_›⟩, rfl⟩ | exact ⟨bI_00 (fun q => absurd q.1 ‹_›), rfl⟩ | exact ⟨bI_00 (fun q => absurd q.2 ‹_›), rfl⟩
  · skip
    have b15 := bI_n.mp b15
    refine r_iload_2 (pc := 18) C dX6_isCell_18 ?_
    refine r_i2l (pc := 19) C dX6_isCell_19 ?_
    refine r_lconst (pc := 20) (v := 0) C dX6_isCell_20 (by decide) ?_
    refine r_aload_0 (pc := 21) C dX6_isCell_21 ?_
    refine r_getR (pc := 22) C fl_X6_7_6 (tw_g hT) rfl (tw_r1 hT) dX6_isCell_22 ?_
    refine r_iconst (pc := 25) C dX6_isCell_25 ci_5 ?_
    refine r_iald (pc := 26) C (tw_g1 hT) rfl rfl (lt_eq (by omega) (tw_n1 hT)) (by omega) dX6_isCell_26 ?_
    refine r_top hS.h ?_
    refine r_iconst (pc := 27) C dX6_isCell_27 ci_1 ?_
    refine r_isub (pc := 28) C dX6_isCell_28 ?_
    refine r_i2l (pc := 29) C dX6_isCell_29 ?_
    refine r_S3io (pc := 30) C (m_inZ (p := 0) (by decide) (t_m1' (r5w hS))) sl_X6_68 (by decide) (Nat.le_refl _) (Nat.le_refl _) (Nat.le_of_ble_eq_true rfl) rfl dX6_isCell_30 (fun u2 A2 hc2 => ?_)
    refine r_top hc2.1 ?_
    refine r_eqA hc2.2 ?_
    clear hc2 A2 u2
    refine r_if_eq (pc := 33) (tgt := 40) C dX6_isCell_33 (by decide) (fun b33 => ?_) (fun b33 => ?_)
    · skip
      have b33 := bI_0.mp b33
      refine r_iconst (pc := 40) C dX6_isCell_40 ci_0 ?_
      refine r_iret (pc := 41) C E nar_0 (Nat.le_refl _) (Nat.le_refl _) dX6_isCell_41 ?_
      first | exact ⟨bI_1 ⟨‹_›, ‹_›⟩, rfl⟩ | exact ⟨bI_00 (fun q => absurd q.1 ‹_›), rfl⟩ | exact ⟨bI_00 (fun q => absurd q.2 ‹_›), rfl⟩
    · skip
      have b33 := bI_n.mp b33
      refine r_iconst (pc := 36) C dX6_isCell_36 ci_1 ?_
      refine r_goto (pc := 37) (tgt := 41) C dX6_isCell_37 (by decide) ?_
      refine r_iret (pc := 41) C E nar_1 (Nat.le_refl _) (Nat.le_refl _) dX6_isCell_41 ?_
      first | exact ⟨bI_1 ⟨‹_›, ‹_›⟩, rfl⟩ | exact ⟨bI_00 (fun q => absurd q.1 ‹_›), rfl⟩ | exact ⟨bI_00 (fun q => absurd q.2 ‹_›), rfl⟩
set_option maxHeartbeats 4000000 in
theorem m_cells {g : GZ} {A : HA} {t : Nat} (hT : Tw A t) {σ : Nat → Int32} (hσ : A.I (t + 1) = σ) (hS : RowS (σ)) : Ct g wI yX6_cells (.code yX6_cells cX6_cells 1 (Option.some Jvm.ClassFile.FieldType.int)) 1 0 0 [.ref t] (A) (fun u A' => u = nI (rC (σ)) ∧ A' = A) fw_no := by
  refine Ct.of [some (.ref t)] (by decide) rfl rfl fun z C hx hnm E => ?_
  subst hσ
  refine r_aload_0 (pc := 0) C dX6_cells_0 ?_
  refine r_getR (pc := 1) C fl_X6_7_6 (tw_g hT) rfl (tw_r1 hT) dX6_cells_1 ?_
  refine r_iconst (pc := 4) C dX6_cells_4 ci_4 ?_
  refine r_iald (pc := 5) C (tw_g1 hT) rfl rfl (lt_eq (by omega) (tw_n1 hT)) (by omega) dX6_cells_5 ?_
  refine r_top hS.w ?_
  refine r_aload_0 (pc := 6) C dX6_cells_6 ?_
  refine r_getR (pc := 7) C fl_X6_7_6 (tw_g hT) rfl (tw_r1 hT) dX6_cells_7 ?_
  refine r_iconst (pc := 10) C dX6_cells_10 ci_5 ?_
  refine r_iald (pc := 11) C (tw_g1 hT) rfl rfl (lt_eq (by omega) (tw_n1 hT)) (by omega) dX6_cells_11 ?_
  refine r_top hS.h ?_
  refine r_imul (pc := 12) C dX6_cells_12 ?_
  refine r_top (pk_mul _ _) ?_
  refine r_iret (pc := 13) C E rfl (Nat.le_refl _) (Nat.le_refl _) dX6_cells_13 ?_
  exact ⟨rfl, rfl⟩
set_option maxHeartbeats 4000000 in
theorem m_at {g : GZ} {A : HA} {t : Nat} (hT : Tw A t) {σ : Nat → Int32} (hσ : A.I (t + 1) = σ) {x y : Nat} (hS : RowS (σ)) : Ct g wI yX6_at (.code yX6_at cX6_at 3 (Option.some Jvm.ClassFile.FieldType.int)) 1 0 0 [.ref t, .int (nI (x)), .int (nI (y))] (A) (fun u A' => u = nI (y * rW (σ) + x) ∧ A' = A) fw_no := by
  refine Ct.of [some (.ref t), some (.int (nI (x))), some (.int (nI (y)))] (by decide) rfl rfl fun z C hx hnm E => ?_
  subst hσ
  refine r_iload_2 (pc := 0) C dX6_at_0 ?_
  refine r_aload_0 (pc := 1) C dX6_at_1 ?_
  refine r_getR (pc := 2) C fl_X6_7_6 (tw_g hT) rfl (tw_r1 hT) dX6_at_2 ?_
  refine r_iconst (pc := 5) C dX6_at_5 ci_4 ?_
  refine r_iald (pc := 6) C (tw_g1 hT) rfl rfl (lt_eq (by omega) (tw_n1 hT)) (by omega) dX6_at_6 ?_
  refine r_top hS.w ?_
  refine r_imul (pc := 7) C dX6_at_7 ?_
  refine r_top (pk_mul _ _) ?_
  refine r_iload_1 (pc := 8) C dX6_at_8 ?_
  refine r_iadd (pc := 9) C dX6_at_9 ?_
  refine r_top (nI_add _ _) ?_
  refine r_iret (pc := 10) C E rfl (Nat.le_refl _) (Nat.le_refl _) dX6_at_10 ?_
  exact ⟨rfl, rfl⟩
set_option maxHeartbeats 4000000 in
theorem m_xOf {g : GZ} {A : HA} {t : Nat} (hT : Tw A t) {σ : Nat → Int32} (hσ : A.I (t + 1) = σ) {c : Nat} (hS : RowS (σ)) (hc : c < 1000 := by omega) : Ct g wI yX6_xOf (.code yX6_xOf cX6_xOf 2 (Option.some Jvm.ClassFile.FieldType.int)) 1 0 0 [.ref t, .int (nI (c))] (A) (fun u A' => u = nI (c % rW (σ)) ∧ A' = A) fw_no := by
  refine Ct.of [some (.ref t), some (.int (nI (c)))] (by decide) rfl rfl fun z C hx hnm E => ?_
  subst hσ
  have hw3 := hS.w3
  have hw10 := hS.w10
  refine r_iload_1 (pc := 0) C dX6_xOf_0 ?_
  refine r_aload_0 (pc := 1) C dX6_xOf_1 ?_
  refine r_getR (pc := 2) C fl_X6_7_6 (tw_g hT) rfl (tw_r1 hT) dX6_xOf_2 ?_
  refine r_iconst (pc := 5) C dX6_xOf_5 ci_4 ?_
  refine r_iald (pc := 6) C (tw_g1 hT) rfl rfl (lt_eq (by omega) (tw_n1 hT)) (by omega) dX6_xOf_6 ?_
  refine r_top hS.w ?_
  refine r_irem (pc := 7) C dX6_xOf_7 (nI_nz (by omega) (by omega)) ?_
  refine r_top (nI_rem (by omega) (by omega) (by omega)) ?_
  refine r_iret (pc := 8) C E rfl (Nat.le_refl _) (Nat.le_refl _) dX6_xOf_8 ?_
  exact ⟨rfl, rfl⟩
set_option maxHeartbeats 4000000 in
theorem m_yOf {g : GZ} {A : HA} {t : Nat} (hT : Tw A t) {σ : Nat → Int32} (hσ : A.I (t + 1) = σ) {c : Nat} (hS : RowS (σ)) (hc : c < 1000 := by omega) : Ct g wI yX6_yOf (.code yX6_yOf cX6_yOf 2 (Option.some Jvm.ClassFile.FieldType.int)) 1 0 0 [.ref t, .int (nI (c))] (A) (fun u A' => u = nI (c / rW (σ)) ∧ A' = A) fw_no := by
  refine Ct.of [some (.ref t), some (.int (nI (c)))] (by decide) rfl rfl fun z C hx hnm E => ?_
  subst hσ
  have hw3 := hS.w3
  have hw10 := hS.w10
  refine r_iload_1 (pc := 0) C dX6_yOf_0 ?_
  refine r_aload_0 (pc := 1) C dX6_yOf_1 ?_
  refine r_getR (pc := 2) C fl_X6_7_6 (tw_g hT) rfl (tw_r1 hT) dX6_yOf_2 ?_
  refine r_iconst (pc := 5) C dX6_yOf_5 ci_4 ?_
  refine r_iald (pc := 6) C (tw_g1 hT) rfl rfl (lt_eq (by omega) (tw_n1 hT)) (by omega) dX6_yOf_6 ?_
  refine r_top hS.w ?_
  refine r_idiv (pc := 7) C dX6_yOf_7 (nI_nz (by omega) (by omega)) ?_
  refine r_top (nI_div (by omega) (by omega) (by omega)) ?_
  refine r_iret (pc := 8) C E rfl (Nat.le_refl _) (Nat.le_refl _) dX6_yOf_8 ?_
  exact ⟨rfl, rfl⟩
set_option maxHeartbeats 4000000 in
theorem m_shown {g : GZ} {A : HA} {t : Nat} (hT : Tw A t) {σ : Nat → Int32} (hσ : A.I (t + 1) = σ) {c : Nat} (hS : RowS (σ)) (hc : c < 1000 := by omega) : Ct g wI yX6_shown (.code yX6_shown cX6_shown 2 (Option.some Jvm.ClassFile.FieldType.int)) 2 0 0 [.ref t, .int (nI (c))] (A) (fun u A' => u = nI (10 * (c / rW (σ)) + c % rW (σ)) ∧ A' = A) fw_no := by
  refine Ct.of [some (.ref t), some (.int (nI (c)))] (by decide) rfl rfl fun z C hx hnm E => ?_
  subst hσ
  refine r_bipush (pc := 0) C dX6_shown_0 cb_10 ?_
  refine r_aload_0 (pc := 2) C dX6_shown_2 ?_
  refine r_iload_1 (pc := 3) C dX6_shown_3 ?_
  refine r_V1io (pc := 4) C (m_yOf hT rfl hS) vl_X6_72 (tw_g hT) (by decide) (Nat.le_refl _) (Nat.le_refl _) (Nat.le_of_ble_eq_true rfl) rfl dX6_shown_4 (fun u1 A1 hc1 => ?_)
  refine r_top hc1.1 ?_
  refine r_eqA hc1.2 ?_
  clear hc1 A1 u1
  refine r_imul (pc := 7) C dX6_shown_7 ?_
  refine r_top (pk_mul _ _) ?_
  refine r_aload_0 (pc := 8) C dX6_shown_8 ?_
  refine r_iload_1 (pc := 9) C dX6_shown_9 ?_
  refine r_V1io (pc := 10) C (m_xOf hT rfl hS) vl_X6_76 (tw_g hT) (by decide) (Nat.le_refl _) (Nat.le_refl _) (Nat.le_of_ble_eq_true rfl) rfl dX6_shown_10 (fun u2 A2 hc2 => ?_)
  refine r_top hc2.1 ?_
  refine r_eqA hc2.2 ?_
  clear hc2 A2 u2
  refine r_iadd (pc := 13) C dX6_shown_13 ?_
  refine r_top (nI_add _ _) ?_
  refine r_iret (pc := 14) C E rfl (Nat.le_refl _) (Nat.le_refl _) dX6_shown_14 ?_
  exact ⟨rfl, rfl⟩
set_option maxHeartbeats 4000000 in
theorem m_gateCell {g : GZ} {A : HA} {t : Nat} (hT : Tw A t) {σ : Nat → Int32} (hσ : A.I (t + 1) = σ) {r : Nat} (hS : RowS (σ)) (hG : RowG (σ) r) (hr : r < 6 := by omega) : Ct g wI yX6_gateCell (.code yX6_gateCell cX6_gateCell 2 (Option.some Jvm.ClassFile.FieldType.int)) 2 0 0 [.ref t, .int (nI (r))] (A) (fun u A' => u = nI (gC (σ) r) ∧ A' = A) fw_no := by
  refine Ct.of [some (.ref t), some (.int (nI (r)))] (by decide) rfl rfl fun z C hx hnm E => ?_
  subst hσ
  refine r_aload_0 (pc := 0) C dX6_gateCell_0 ?_
  refine r_aload_0 (pc := 1) C dX6_gateCell_1 ?_
  refine r_iload_1 (pc := 2) C dX6_gateCell_2 ?_
  refine r_bipush (pc := 3) C dX6_gateCell_3 cb_7 ?_
  refine r_V2io (pc := 5) C (m_ofGate hT rfl) vl_X6_79 (tw_g hT) (by decide) (Nat.le_refl _) (Nat.le_refl _) (Nat.le_of_ble_eq_true rfl) rfl dX6_gateCell_5 (fun u1 A1 hc1 => ?_)
  refine r_top hc1.1 ?_
  refine r_eqA hc1.2 ?_
  clear hc1 A1 u1
  refine r_top hG.1.1 ?_
  refine r_aload_0 (pc := 8) C dX6_gateCell_8 ?_
  refine r_iload_1 (pc := 9) C dX6_gateCell_9 ?_
  refine r_bipush (pc := 10) C dX6_gateCell_10 cb_8 ?_
  refine r_V2io (pc := 12) C (m_ofGate hT rfl) vl_X6_79 (tw_g hT) (by decide) (Nat.le_refl _) (Nat.le_refl _) (Nat.le_of_ble_eq_true rfl) rfl dX6_gateCell_12 (fun u2 A2 hc2 => ?_)
  refine r_top hc2.1 ?_
  refine r_eqA hc2.2 ?_
  clear hc2 A2 u2
  refine r_top hG.2.1 ?_
  refine r_V2io (pc := 15) C (m_at hT rfl hS) vl_X6_83 (tw_g hT) (by decide) (Nat.le_refl _) (Nat.le_refl _) (Nat.le_of_ble_eq_true rfl) rfl dX6_gateCell_15 (fun u3 A3 hc3 => ?_)
  refine r_top hc3.1 ?_
  refine r_eqA hc3.2 ?_
  clear hc3 A3 u3
  refine r_iret (pc := 18) C E rfl (Nat.le_refl _) (Nat.le_refl _) dX6_gateCell_18 ?_
  exact ⟨rfl, rfl⟩
set_option maxHeartbeats 4000000 in
theorem m_isGrass {g : GZ} {A : HA} {t : Nat} (hT : Tw A t) {σ : Nat → Int32} (hσ : A.I (t + 1) = σ) {c : Nat} (hc : c < 80 := by omega) : Ct g wI yX6_isGrass (.code yX6_isGrass cX6_isGrass 2 (Option.some Jvm.ClassFile.FieldType.boolean)) 2 0 0 [.ref t, .int (nI (c))] (A) (fun u A' => u = bI (σ (153 + 5 * c + 0) = 0) ∧ A' = A) fw_no := by
  refine Ct.of [some (.ref t), some (.int (nI (c)))] (by decide) rfl rfl fun z C hx hnm E => ?_
  subst hσ
  refine r_aload_0 (pc := 0) C dX6_isGrass_0 ?_
  refine r_iload_1 (pc := 1) C dX6_isGrass_1 ?_
  refine r_iconst (pc := 2) C dX6_isGrass_2 ci_0 ?_
  refine r_V2io (pc := 3) C (m_ofCell hT rfl) vl_X6_86 (tw_g hT) (by decide) (Nat.le_refl _) (Nat.le_refl _) (Nat.le_of_ble_eq_true rfl) rfl dX6_isGrass_3 (fun u1 A1 hc1 => ?_)
  refine r_top hc1.1 ?_
  refine r_eqA hc1.2 ?_
  clear hc1 A1 u1
  refine r_if_ne (pc := 6) (tgt := 13) C dX6_isGrass_6 (by decide) (fun b6 => ?_) (fun b6 => ?_)
  · skip
    refine r_iconst (pc := 13) C dX6_isGrass_13 ci_0 ?_
    refine r_iret (pc := 14) C E nar_0 (Nat.le_refl _) (Nat.le_refl _) dX6_isGrass_14 ?_
    first | exact ⟨bI_1 ‹_›, rfl⟩ | exact ⟨bI_00 ‹_›, rfl⟩
  · skip
    refine r_iconst (pc := 9) C dX6_isGrass_9 ci_1 ?_
    refine r_goto (pc := 10) (tgt := 14) C dX6_isGrass_10 (by decide) ?_
    refine r_iret (pc := 14) C E nar_1 (Nat.le_refl _) (Nat.le_refl _) dX6_isGrass_14 ?_
    first | exact ⟨bI_1 ‹_›, rfl⟩ | exact ⟨bI_00 ‹_›, rfl⟩
set_option maxHeartbeats 4000000 in
theorem m_hasFence {g : GZ} {A : HA} {t : Nat} (hT : Tw A t) {σ : Nat → Int32} (hσ : A.I (t + 1) = σ) {c : Nat} (hc : c < 80 := by omega) : Ct g wI yX6_hasFence (.code yX6_hasFence cX6_hasFence 2 (Option.some Jvm.ClassFile.FieldType.boolean)) 2 0 0 [.ref t, .int (nI (c))] (A) (fun u A' => u = bI (σ (153 + 5 * c + 2) = nI 1) ∧ A' = A) fw_no := by
  refine Ct.of [some (.ref t), some (.int (nI (c)))] (by decide) rfl rfl fun z C hx hnm E => ?_
  subst hσ
  refine r_aload_0 (pc := 0) C dX6_hasFence_0 ?_
  refine r_iload_1 (pc := 1) C dX6_hasFence_1 ?_
  refine r_iconst (pc := 2) C dX6_hasFence_2 ci_2 ?_
  refine r_V2io (pc := 3) C (m_ofCell hT rfl) vl_X6_86 (tw_g hT) (by decide) (Nat.le_refl _) (Nat.le_refl _) (Nat.le_of_ble_eq_true rfl) rfl dX6_hasFence_3 (fun u1 A1 hc1 => ?_)
  refine r_top hc1.1 ?_
  refine r_eqA hc1.2 ?_
  clear hc1 A1 u1
  refine r_iconst (pc := 6) C dX6_hasFence_6 ci_1 ?_
  refine r_icmp_ne (pc := 7) (tgt := 14) C dX6_hasFence_7 (by decide) (fun b7 => ?_) (fun b7 => ?_)
  · skip
    refine r_iconst (pc := 14) C dX6_hasFence_14 ci_0 ?_
    refine r_iret (pc := 15) C E nar_0 (Nat.le_refl _) (Nat.le_refl _) dX6_hasFence_15 ?_
    first | exact ⟨bI_1 ‹_›, rfl⟩ | exact ⟨bI_00 ‹_›, rfl⟩
  · skip
    refine r_iconst (pc := 10) C dX6_hasFence_10 ci_1 ?_
    refine r_goto (pc := 11) (tgt := 15) C dX6_hasFence_11 (by decide) ?_
    refine r_iret (pc := 15) C E nar_1 (Nat.le_refl _) (Nat.le_refl _) dX6_hasFence_15 ?_
    first | exact ⟨bI_1 ‹_›, rfl⟩ | exact ⟨bI_00 ‹_›, rfl⟩
set_option maxHeartbeats 4000000 in
theorem m_isWetDay {g : GZ} {A : HA} {t : Nat} (hT : Tw A t) {σ : Nat → Int32} (hσ : A.I (t + 1) = σ) {d : Nat} (h7 : σ 7 = nI (rWt (σ))) (h9 : rWt (σ) ≤ 9) (hd : d < 20000 := by omega) : Ct g wI yX6_isWetDay (.code yX6_isWetDay cX6_isWetDay 2 (Option.some Jvm.ClassFile.FieldType.boolean)) 1 0 0 [.ref t, .int (nI (d))] (A) (fun u A' => u = bI (wetD (σ) d) ∧ A' = A) fw_no := by
  refine Ct.of [some (.ref t), some (.int (nI (d)))] (by decide) rfl rfl fun z C hx hnm E => ?_
  subst hσ
  have hm := Nat.mod_le (d / 7 + 1) (rWt (A.I (t + 1)))
  refine r_aload_0 (pc := 0) C dX6_isWetDay_0 ?_
  refine r_getR (pc := 1) C fl_X6_7_6 (tw_g hT) rfl (tw_r1 hT) dX6_isWetDay_1 ?_
  refine r_bipush (pc := 4) C dX6_isWetDay_4 cb_7 ?_
  refine r_iald (pc := 6) C (tw_g1 hT) rfl rfl (lt_eq (by omega) (tw_n1 hT)) (by omega) dX6_isWetDay_6 ?_
  refine r_top h7 ?_
  refine r_if_le (pc := 7) (tgt := 31) C dX6_isWetDay_7 (by decide) (fun b7 => ?_) (fun b7 => ?_)
  · skip
    have b7 := (nI_le0 (by omega)).mp b7
    refine r_iconst (pc := 31) C dX6_isWetDay_31 ci_0 ?_
    refine r_iret (pc := 32) C E nar_0 (Nat.le_refl _) (Nat.le_refl _) dX6_isWetDay_32 ?_
    first | exact ⟨bI_1 (decide_eq_true ⟨by omega, by omega⟩), rfl⟩ | exact ⟨bI_00 (fun q => by have q := of_decide_eq_true q; have q1 := q.1; have q2 := q.2; omega), rfl⟩
  · skip
    have b7 := (not_congr (nI_le0 (by omega))).mp b7
    refine r_iload_1 (pc := 10) C dX6_isWetDay_10 ?_
    refine r_bipush (pc := 11) C dX6_isWetDay_11 cb_7 ?_
    refine r_idiv (pc := 13) C dX6_isWetDay_13 (nI_nz (by omega) (by omega)) ?_
    refine r_top (nI_div (by omega) (by omega) (by omega)) ?_
    refine r_iconst (pc := 14) C dX6_isWetDay_14 ci_1 ?_
    refine r_iadd (pc := 15) C dX6_isWetDay_15 ?_
    refine r_top (nI_add _ _) ?_
    refine r_aload_0 (pc := 16) C dX6_isWetDay_16 ?_
    refine r_getR (pc := 17) C fl_X6_7_6 (tw_g hT) rfl (tw_r1 hT) dX6_isWetDay_17 ?_
    refine r_bipush (pc := 20) C dX6_isWetDay_20 cb_7 ?_
    refine r_iald (pc := 22) C (tw_g1 hT) rfl rfl (lt_eq (by omega) (tw_n1 hT)) (by omega) dX6_isWetDay_22 ?_
    refine r_top h7 ?_
    refine r_irem (pc := 23) C dX6_isWetDay_23 (nI_nz (by omega) (by omega)) ?_
    refine r_top (nI_rem (by omega) (by omega) (by omega)) ?_
    refine r_if_ne (pc := 24) (tgt := 31) C dX6_isWetDay_24 (by decide) (fun b24 => ?_) (fun b24 => ?_)
    · skip
      have b24 := (not_congr (nI_eq0 (by omega))).mp b24
      refine r_iconst (pc := 31) C dX6_isWetDay_31 ci_0 ?_
      refine r_iret (pc := 32) C E nar_0 (Nat.le_refl _) (Nat.le_refl _) dX6_isWetDay_32 ?_
      first | exact ⟨bI_1 (decide_eq_true ⟨by omega, by omega⟩), rfl⟩ | exact ⟨bI_00 (fun q => by have q := of_decide_eq_true q; have q1 := q.1; have q2 := q.2; omega), rfl⟩
    · skip
      have b24 := (nI_eq0 (by omega)).mp b24
      refine r_iconst (pc := 27) C dX6_isWetDay_27 ci_1 ?_
      refine r_goto (pc := 28) (tgt := 32) C dX6_isWetDay_28 (by decide) ?_
      refine r_iret (pc := 32) C E nar_1 (Nat.le_refl _) (Nat.le_refl _) dX6_isWetDay_32 ?_
      first | exact ⟨bI_1 (decide_eq_true ⟨by omega, by omega⟩), rfl⟩ | exact ⟨bI_00 (fun q => by have q := of_decide_eq_true q; have q1 := q.1; have q2 := q.2; omega), rfl⟩
