/-! THE REFERENCE, 26: tokens, 2 -/
set_option maxRecDepth 100000
set_option maxHeartbeats 4000000 in
theorem m_must {g : GZ} {A : HA} {t : Nat} {σ κ π τ : Nat → Int32} (hT : Tw A t) {a gb w e : Nat} {ep : Int32} {p : Prop} [Decidable p] {c : Nat} (he : e ≤ 4) : Ct g wV yX6_must (.code yX6_must cX6_must 3 (Option.none : Option Jvm.ClassFile.FieldType)) 1 0 0 [.ref t, .int (bI p), .int (nI (c))] (S5 A t σ κ π (stT τ a gb w e ep)) (fun u A' => A' = (if p ∨ ¬ e = 0 then S5 A t σ κ π (stT τ a gb w e ep) else S5 A t σ κ π (stT τ (a) (gb) (w) (c) (nI gb)))) fw_no := by
  refine Ct.of [some (.ref t), some (.int (bI p)), some (.int (nI (c)))] (by decide) rfl rfl fun z C hx hnm E => ?_
  refine r_iload_1 (pc := 0) C dX6_must_0 ?_
  refine r_if_ne (pc := 1) (tgt := 11) C dX6_must_1 (by decide) (fun b1 => ?_) (fun b1 => ?_)
  · skip
    have b1 := bI_n.mp b1
    refine r_vret (pc := 11) C E (Nat.le_refl _) (Nat.le_refl _) dX6_must_11 ?_
    first
      | exact (if_pos (Or.inl b1)).symm
      | exact (if_pos (Or.inr b8)).symm
  · skip
    have b1 := bI_0.mp b1
    refine r_aload_0 (pc := 4) C dX6_must_4 ?_
    refine r_getI (pc := 5) C fl_X6_208_6 (tw_g hT) rfl dX6_must_5 ?_
    refine r_top (congrFun (S5_0 _ _ _ _ _ _) _) ?_
    refine r_top (st_16 _ _ _ _ _ _) ?_
    refine r_if_eq (pc := 8) (tgt := 12) C dX6_must_8 (by decide) (fun b8 => ?_) (fun b8 => ?_)
    · skip
      have b8 := (nI_eq0 (by omega)).mp b8
      refine r_aload_0 (pc := 12) C dX6_must_12 ?_
      refine r_iload_2 (pc := 13) C dX6_must_13 ?_
      refine r_putI (pc := 14) C fl_X6_208_6 (tw_g hT) rfl (fun _ _ _ h => by cases h; exact Or.inl rfl) rfl rfl rfl dX6_must_14 ?_
      refine r_eqA (S5_u0 _ _ _ _ _ _ _ _) ?_
      refine r_eqA (congrArg (S5 _ t _ _ _) (st_u16 _ _ _ _ _ _ _)) ?_
      refine r_aload_0 (pc := 17) C dX6_must_17 ?_
      refine r_aload_0 (pc := 18) C dX6_must_18 ?_
      refine r_getI (pc := 19) C fl_X6_198_6 (tw_g hT) rfl dX6_must_19 ?_
      refine r_top (congrFun (S5_0 _ _ _ _ _ _) _) ?_
      refine r_top (st_14 _ _ _ _ _ _) ?_
      refine r_putI (pc := 22) C fl_X6_211_6 (tw_g hT) rfl (fun _ _ _ h => by cases h; exact Or.inl rfl) rfl rfl rfl dX6_must_22 ?_
      refine r_eqA (S5_u0 _ _ _ _ _ _ _ _) ?_
      refine r_eqA (congrArg (S5 _ t _ _ _) (st_u17 _ _ _ _ _ _ _)) ?_
      refine r_vret (pc := 25) C E (Nat.le_refl _) (Nat.le_refl _) dX6_must_25 ?_
      exact (if_neg (fun q => q.elim b1 (fun q => q b8))).symm
    · skip
      have b8 := (not_congr (nI_eq0 (by omega))).mp b8
      refine r_vret (pc := 11) C E (Nat.le_refl _) (Nat.le_refl _) dX6_must_11 ?_
      first
        | exact (if_pos (Or.inl b1)).symm
        | exact (if_pos (Or.inr b8)).symm
theorem m_must_t {g : GZ} {A : HA} {t : Nat} {σ κ π τ : Rw} (hT : Tw A t) {a gb w e : Nat} {ep : Int32} {p : Prop} [Decidable p] {c : Nat} (h : p) (he : e ≤ 4 := by omega) : Ct g wV yX6_must (.code yX6_must cX6_must 3 (Option.none : Option Jvm.ClassFile.FieldType)) 1 0 0 [.ref t, .int (bI p), .int (nI c)] (S5 A t σ κ π (stT τ a gb w e ep)) (fun u A' => A' = S5 A t σ κ π (stT τ a gb w e ep)) fw_no :=
  (m_must hT he).mono (fun u A' q => q.trans (if_pos (Or.inl h))) (fun _ _ h => h)
theorem m_must_e {g : GZ} {A : HA} {t : Nat} {σ κ π τ : Rw} (hT : Tw A t) {a gb w e : Nat} {ep : Int32} {p : Prop} [Decidable p] {c : Nat} (h : ¬ e = 0) (he : e ≤ 4 := by omega) : Ct g wV yX6_must (.code yX6_must cX6_must 3 (Option.none : Option Jvm.ClassFile.FieldType)) 1 0 0 [.ref t, .int (bI p), .int (nI c)] (S5 A t σ κ π (stT τ a gb w e ep)) (fun u A' => A' = S5 A t σ κ π (stT τ a gb w e ep)) fw_no :=
  (m_must hT he).mono (fun u A' q => q.trans (if_pos (Or.inr h))) (fun _ _ h => h)
theorem m_must_f {g : GZ} {A : HA} {t : Nat} {σ κ π τ : Rw} (hT : Tw A t) {a gb w e : Nat} {ep : Int32} {p : Prop} [Decidable p] {c : Nat} (h : ¬ p) (h0 : e = 0) : Ct g wV yX6_must (.code yX6_must cX6_must 3 (Option.none : Option Jvm.ClassFile.FieldType)) 1 0 0 [.ref t, .int (bI p), .int (nI c)] (S5 A t σ κ π (stT τ a gb w e ep)) (fun u A' => A' = S5 A t σ κ π (stT τ (a) (gb) (w) (c) (nI gb))) fw_no :=
  (m_must hT (by omega)).mono (fun u A' q => q.trans (if_neg (fun q => q.elim h (fun q => q h0)))) (fun _ _ h => h)
theorem m_must_c1 {g : GZ} {A : HA} {t : Nat} {σ κ π τ : Rw} (hT : Tw A t) {a gb w e : Nat} {ep : Int32} {c : Nat} (he : e ≤ 4 := by omega) : Ct g wV yX6_must (.code yX6_must cX6_must 3 (Option.none : Option Jvm.ClassFile.FieldType)) 1 0 0 [.ref t, .int (nI 1), .int (nI c)] (S5 A t σ κ π (stT τ a gb w e ep)) (fun u A' => A' = S5 A t σ κ π (stT τ a gb w e ep)) fw_no := by
  have h := m_must_t (g := g) (σ := σ) (κ := κ) (π := π) (τ := τ) (a := a) (gb := gb) (w := w) (e := e) (ep := ep) (c := c) hT trivial he
  rw [bI_t trivial, ← nI1] at h
  exact h
theorem m_must_c0 {g : GZ} {A : HA} {t : Nat} {σ κ π τ : Rw} (hT : Tw A t) {a gb w e : Nat} {ep : Int32} {c : Nat} (h0 : e = 0) : Ct g wV yX6_must (.code yX6_must cX6_must 3 (Option.none : Option Jvm.ClassFile.FieldType)) 1 0 0 [.ref t, .int (nI 0), .int (nI c)] (S5 A t σ κ π (stT τ a gb w e ep)) (fun u A' => A' = S5 A t σ κ π (stT τ (a) (gb) (w) (c) (nI gb))) fw_no := by
  have h := m_must_f (g := g) (σ := σ) (κ := κ) (π := π) (τ := τ) (a := a) (gb := gb) (w := w) (ep := ep) (c := c) (p := False) hT id h0
  rw [bI_f id, ← nI0] at h
  exact h
theorem m_must_d0 {g : GZ} {A : HA} {t : Nat} {σ κ π τ : Rw} (hT : Tw A t) {a gb w e : Nat} {ep : Int32} {c : Nat} (h0 : ¬ e = 0) (he : e ≤ 4 := by omega) : Ct g wV yX6_must (.code yX6_must cX6_must 3 (Option.none : Option Jvm.ClassFile.FieldType)) 1 0 0 [.ref t, .int (nI 0), .int (nI c)] (S5 A t σ κ π (stT τ a gb w e ep)) (fun u A' => A' = S5 A t σ κ π (stT τ a gb w e ep)) fw_no := by
  have h := m_must_e (g := g) (σ := σ) (κ := κ) (π := π) (τ := τ) (a := a) (gb := gb) (w := w) (ep := ep) (c := c) (p := False) hT h0 he
  rw [bI_f id, ← nI0] at h
  exact h
set_option maxHeartbeats 4000000 in
theorem m_goesPast {g : GZ} {A : HA} {t : Nat} {σ κ π τ : Nat → Int32} (hT : Tw A t) {a gb w e : Nat} {ep : Int32} (hg : gb ≤ 3000) (hw : w ≤ 3000) : Ct g wV yX6_goesPast (.code yX6_goesPast cX6_goesPast 1 (Option.none : Option Jvm.ClassFile.FieldType)) 1 0 0 [.ref t] (S5 A t σ κ π (stT τ a gb w e ep)) (fun u A' => A' = S5 A t σ κ π (stT τ (gb + w) (gb) (w) (e) (ep))) fw_no := by
  refine Ct.of [some (.ref t)] (by decide) rfl rfl fun z C hx hnm E => ?_
  refine r_aload_0 (pc := 0) C dX6_goesPast_0 ?_
  refine r_aload_0 (pc := 1) C dX6_goesPast_1 ?_
  refine r_getI (pc := 2) C fl_X6_198_6 (tw_g hT) rfl dX6_goesPast_2 ?_
  refine r_top (congrFun (S5_0 _ _ _ _ _ _) _) ?_
  refine r_top (st_14 _ _ _ _ _ _) ?_
  refine r_aload_0 (pc := 5) C dX6_goesPast_5 ?_
  refine r_getI (pc := 6) C fl_X6_201_6 (tw_g hT) rfl dX6_goesPast_6 ?_
  refine r_top (congrFun (S5_0 _ _ _ _ _ _) _) ?_
  refine r_top (st_15 _ _ _ _ _ _) ?_
  refine r_iadd (pc := 9) C dX6_goesPast_9 ?_
  refine r_top (nI_add _ _) ?_
  refine r_putI (pc := 10) C fl_X6_193_6 (tw_g hT) rfl (fun _ _ _ h => by cases h; exact Or.inl rfl) rfl rfl rfl dX6_goesPast_10 ?_
  refine r_eqA (S5_u0 _ _ _ _ _ _ _ _) ?_
  refine r_eqA (congrArg (S5 _ t _ _ _) (st_u13 _ _ _ _ _ _ _)) ?_
  refine r_vret (pc := 13) C E (Nat.le_refl _) (Nat.le_refl _) dX6_goesPast_13 ?_
  exact rfl
set_option maxHeartbeats 4000000 in
theorem m_number {g : GZ} {A : HA} {t : Nat} {σ κ π τ : Nat → Int32} (hT : Tw A t) {a gb w e : Nat} {ep : Int32} {B : Nat → Nat} {L : Nat} (hB : BufI (A.I (t + 8)) B L) (hτL : τ 12 = nI L) {lo hi : Nat} (ha : a ≤ 2000) (h0 : e = 0) (hlo : lo < 100000) (hhi : hi < 100000) : Ct g wI yX6_number (.code yX6_number cX6_number 4 (Option.some Jvm.ClassFile.FieldType.int)) 3 0 0 [.ref t, .int (nI (lo)), .int (nI (hi))] (S5 A t σ κ π (stT τ a gb w e ep)) (fun u A' => u = nI (numV (numR B L a lo hi) lo) ∧ A' = S5 A t σ κ π (stT τ (skp B L a + dln B L (skp B L a)) (skp B L a) (wln B L (skp B L a)) (errC (numR B L a lo hi)) (errP (numR B L a lo hi) ep))) fw_no := by
  refine Ct.of [some (.ref t), some (.int (nI (lo))), some (.int (nI (hi))), none] (by decide) rfl rfl fun z C hx hnm E => ?_
  have hBl := hB.l
  obtain ⟨p, hp⟩ : ∃ p, p = skp B L a := ⟨_, rfl⟩
  have hp2 : p ≤ 3000 := by have := @runF_le B isSp (L - a) a; unfold skp at hp; omega
  have hdl := @dln_le B L p
  refine r_aload_0 (pc := 0) C dX6_number_0 ?_
  refine r_getI (pc := 1) C fl_X6_208_6 (tw_g hT) rfl dX6_number_1 ?_
  refine r_top (congrFun (S5_0 _ _ _ _ _ _) _) ?_
  refine r_top (st_16 _ _ _ _ _ _) ?_
  refine r_if_eq (pc := 4) (tgt := 9) C dX6_number_4 (by decide) (fun b4 => ?_) (fun b4 => ?_)
  · skip
    have b4 := (nI_eq0 (by omega)).mp b4
    refine r_aload_0 (pc := 9) C dX6_number_9 ?_
    refine r_aload_0 (pc := 10) C dX6_number_10 ?_
    refine r_V0io (pc := 11) C (m_next (by exact hT) hB hτL ha) vl_X6_214 (tw_g hT) (by decide) (Nat.le_refl _) (Nat.le_refl _) (Nat.le_of_ble_eq_true rfl) rfl dX6_number_11 (fun u1 A1 hc1 => ?_)
    refine r_top hc1.1 ?_
    refine r_eqA hc1.2 ?_
    rw [← hp]
    clear hc1 A1 u1
    refine r_i2l (pc := 14) C dX6_number_14 ?_
    refine r_ldc2 (pc := 15) C q2299 dX6_number_15 ?_
    refine r_ldc2 (pc := 18) C q2300 dX6_number_18 ?_
    refine r_S3io (pc := 21) C (m_inZ (p := 48) (q := 57) (by decide) (by decide)) sl_X6_68 (by decide) (Nat.le_refl _) (Nat.le_refl _) (Nat.le_of_ble_eq_true rfl) rfl dX6_number_21 (fun u2 A2 hc2 => ?_)
    refine r_top hc2.1 ?_
    refine r_eqA hc2.2 ?_
    clear hc2 A2 u2
    refine r_iconst (pc := 24) C dX6_number_24 ci_1 ?_
    by_cases hd0 : dln B L p = 0
    · skip
      have hm25 : ¬ inZ (oI (btO B L p)) 48 57 := fun q => dln_0.mp hd0 ((inZ_bt (lo := 48) (hi := 57) hB).mp q)
      refine r_V2vo (pc := 25) C (m_must_f (by exact hT) hm25 (by omega)) vl_X6_217 (tw_g hT) (by decide) (Nat.le_refl _) (Nat.le_refl _) (Nat.le_of_ble_eq_true rfl) rfl dX6_number_25 (fun u3 A3 hc3 => ?_)
      refine r_eqA hc3 ?_
      clear hc3 A3 u3
      refine r_iconst (pc := 28) C dX6_number_28 ci_0 ?_
      refine r_istore_3 (pc := 29) C dX6_number_29 rfl ?_
      have lp30_4 : ∀ (fu : Nat) (j : Nat) (hj : j ≤ L - p) (hs : ∀ i, i < j → isDi (B (p + i)) = true), L - p - j < fu → wa g z 0 0 (S5 A t σ κ π (stT τ (p + j) (p) (wln B L p) (1) (nI p))) 30 [some (.ref t), some (.int (nI (lo))), some (.int (nI (hi))), some (.int (nI (valF B p j)))] [] := by
        intro fu
        induction fu with
        | zero => intro j  hj hs hm30; exact absurd hm30 (Nat.not_lt_zero _)
        | succ fu ih30 =>
          intro j  hj hs hm30
          have hv := valF_1000 hs
          refine r_aload_0 (pc := 30) C dX6_number_30 ?_
          refine r_aload_0 (pc := 31) C dX6_number_31 ?_
          refine r_getI (pc := 32) C fl_X6_193_6 (tw_g hT) rfl dX6_number_32 ?_
          refine r_top (congrFun (S5_0 _ _ _ _ _ _) _) ?_
          refine r_top (st_13 _ _ _ _ _ _) ?_
          refine r_V1io (pc := 35) C (m_byteAt (by exact hT) hB (by first | exact hτL | exact (st_x _ _ _ _ _ _ (by omega)).trans hτL) (by omega)) vl_X6_195 (tw_g hT) (by decide) (Nat.le_refl _) (Nat.le_refl _) (Nat.le_of_ble_eq_true rfl) rfl dX6_number_35 (fun u5 A5 hc5 => ?_)
          refine r_top hc5.1 ?_
          refine r_eqA hc5.2 ?_
          clear hc5 A5 u5
          refine r_i2l (pc := 38) C dX6_number_38 ?_
          refine r_ldc2 (pc := 39) C q2299 dX6_number_39 ?_
          refine r_ldc2 (pc := 42) C q2300 dX6_number_42 ?_
          refine r_S3io (pc := 45) C (m_inZ (p := 48) (q := 57) (by decide) (by decide)) sl_X6_68 (by decide) (Nat.le_refl _) (Nat.le_refl _) (Nat.le_of_ble_eq_true rfl) rfl dX6_number_45 (fun u6 A6 hc6 => ?_)
          refine r_top hc6.1 ?_
          refine r_eqA hc6.2 ?_
          clear hc6 A6 u6
          refine r_if_eq (pc := 48) (tgt := 98) C dX6_number_48 (by decide) (fun b48 => ?_) (fun b48 => ?_)
          · skip
            have b48 := bI_0.mp b48
            have b48 := fun q => b48 ((inZ_bt (lo := 48) (hi := 57) hB).mpr q)
            have ed : j = dln B L p := runF_eq (B := B) (q := isDi) hj hs (fun hj2 q => b48 ⟨by omega, of_decide_eq_true q⟩)
            refine r_aload_0 (pc := 98) C dX6_number_98 ?_
            refine r_aload_0 (pc := 99) C dX6_number_99 ?_
            refine r_getI (pc := 100) C fl_X6_193_6 (tw_g hT) rfl dX6_number_100 ?_
            refine r_top (congrFun (S5_0 _ _ _ _ _ _) _) ?_
            refine r_top (st_13 _ _ _ _ _ _) ?_
            refine r_aload_0 (pc := 103) C dX6_number_103 ?_
            refine r_getI (pc := 104) C fl_X6_198_6 (tw_g hT) rfl dX6_number_104 ?_
            refine r_top (congrFun (S5_0 _ _ _ _ _ _) _) ?_
            refine r_top (st_14 _ _ _ _ _ _) ?_
            refine r_isub (pc := 107) C dX6_number_107 ?_
            refine r_top (pk_sub (by omega)) ?_
            refine r_iconst (pc := 108) C dX6_number_108 ci_3 ?_
            refine r_icmp_gt (pc := 109) (tgt := 116) C dX6_number_109 (by decide) (fun b109 => ?_) (fun b109 => ?_)
            · skip
              have b109 := (nI_lt2 (by omega) (by omega)).mp b109
              refine r_iconst (pc := 116) C dX6_number_116 ci_0 ?_
              refine r_iconst (pc := 117) C dX6_number_117 ci_1 ?_
              refine r_V2vo (pc := 118) C (m_must_d0 (by exact hT) (by omega)) vl_X6_217 (tw_g hT) (by decide) (Nat.le_refl _) (Nat.le_refl _) (Nat.le_of_ble_eq_true rfl) rfl dX6_number_118 (fun u7 A7 hc7 => ?_)
              refine r_eqA hc7 ?_
              clear hc7 A7 u7
              refine r_aload_0 (pc := 121) C dX6_number_121 ?_
              refine r_iload_3 (pc := 122) C dX6_number_122 ?_
              refine r_i2l (pc := 123) C dX6_number_123 ?_
              refine r_iload_1 (pc := 124) C dX6_number_124 ?_
              refine r_i2l (pc := 125) C dX6_number_125 ?_
              refine r_iload_2 (pc := 126) C dX6_number_126 ?_
              refine r_i2l (pc := 127) C dX6_number_127 ?_
              refine r_S3io (pc := 128) C (m_inZ (p := lo) (q := hi) (t_nI64 (by omega)) (t_nI64 (by omega))) sl_X6_68 (by decide) (Nat.le_refl _) (Nat.le_refl _) (Nat.le_of_ble_eq_true rfl) rfl dX6_number_128 (fun u8 A8 hc8 => ?_)
              refine r_top hc8.1 ?_
              refine r_eqA hc8.2 ?_
              clear hc8 A8 u8
              refine r_iconst (pc := 131) C dX6_number_131 ci_2 ?_
              refine r_V2vo (pc := 132) C (m_must_e (by exact hT) (by omega)) vl_X6_217 (tw_g hT) (by decide) (Nat.le_refl _) (Nat.le_refl _) (Nat.le_of_ble_eq_true rfl) rfl dX6_number_132 (fun u9 A9 hc9 => ?_)
              refine r_eqA hc9 ?_
              clear hc9 A9 u9
              refine r_aload_0 (pc := 135) C dX6_number_135 ?_
              refine r_getI (pc := 136) C fl_X6_208_6 (tw_g hT) rfl dX6_number_136 ?_
              refine r_top (congrFun (S5_0 _ _ _ _ _ _) _) ?_
              refine r_top (st_16 _ _ _ _ _ _) ?_
              refine r_if_ne (pc := 139) (tgt := 146) C dX6_number_139 (by decide) (fun b139 => ?_) (fun b139 => ?_)
              · skip
                have b139 := (not_congr (nI_eq0 (by omega))).mp b139
                refine r_iload_1 (pc := 146) C dX6_number_146 ?_
                refine r_iret (pc := 147) C E rfl (Nat.le_refl _) (Nat.le_refl _) dX6_number_147 ?_
                subst ed
                subst hp
                subst h0
                first
                  | (rw [num_0 hd0]; exact ⟨rfl, rfl⟩)
                  | (rw [num_4 (by omega)]; exact ⟨rfl, rfl⟩)
                  | (rw [num_2 hd0 (by omega) (fun q => hm132 ((inZ_nI (by omega)).mpr (by omega)))]; exact ⟨rfl, rfl⟩)
                  | (rw [num_1 hd0 (by omega) (by have q := (inZ_nI (by omega)).mp hm132; omega)]; exact ⟨rfl, rfl⟩)
                  | (exfalso; omega)
              · skip
                have b139 := (nI_eq0 (by omega)).mp b139
                refine r_iload_3 (pc := 142) C dX6_number_142 ?_
                refine r_goto (pc := 143) (tgt := 147) C dX6_number_143 (by decide) ?_
                refine r_iret (pc := 147) C E rfl (Nat.le_refl _) (Nat.le_refl _) dX6_number_147 ?_
                subst ed
                subst hp
                subst h0
                first
                  | (rw [num_0 hd0]; exact ⟨rfl, rfl⟩)
                  | (rw [num_4 (by omega)]; exact ⟨rfl, rfl⟩)
                  | (rw [num_2 hd0 (by omega) (fun q => hm132 ((inZ_nI (by omega)).mpr (by omega)))]; exact ⟨rfl, rfl⟩)
                  | (rw [num_1 hd0 (by omega) (by have q := (inZ_nI (by omega)).mp hm132; omega)]; exact ⟨rfl, rfl⟩)
                  | (exfalso; omega)
            · skip
              have b109 := (not_congr (nI_lt2 (by omega) (by omega))).mp b109
              refine r_iconst (pc := 112) C dX6_number_112 ci_1 ?_
              refine r_goto (pc := 113) (tgt := 117) C dX6_number_113 (by decide) ?_
              refine r_iconst (pc := 117) C dX6_number_117 ci_1 ?_
              refine r_V2vo (pc := 118) C (m_must_c1 (by exact hT)) vl_X6_217 (tw_g hT) (by decide) (Nat.le_refl _) (Nat.le_refl _) (Nat.le_of_ble_eq_true rfl) rfl dX6_number_118 (fun u10 A10 hc10 => ?_)
              refine r_eqA hc10 ?_
              clear hc10 A10 u10
              refine r_aload_0 (pc := 121) C dX6_number_121 ?_
              refine r_iload_3 (pc := 122) C dX6_number_122 ?_
              refine r_i2l (pc := 123) C dX6_number_123 ?_
              refine r_iload_1 (pc := 124) C dX6_number_124 ?_
              refine r_i2l (pc := 125) C dX6_number_125 ?_
              refine r_iload_2 (pc := 126) C dX6_number_126 ?_
              refine r_i2l (pc := 127) C dX6_number_127 ?_
              refine r_S3io (pc := 128) C (m_inZ (p := lo) (q := hi) (t_nI64 (by omega)) (t_nI64 (by omega))) sl_X6_68 (by decide) (Nat.le_refl _) (Nat.le_refl _) (Nat.le_of_ble_eq_true rfl) rfl dX6_number_128 (fun u11 A11 hc11 => ?_)
              refine r_top hc11.1 ?_
              refine r_eqA hc11.2 ?_
              clear hc11 A11 u11
              refine r_iconst (pc := 131) C dX6_number_131 ci_2 ?_
              refine r_V2vo (pc := 132) C (m_must_e (by exact hT) (by omega)) vl_X6_217 (tw_g hT) (by decide) (Nat.le_refl _) (Nat.le_refl _) (Nat.le_of_ble_eq_true rfl) rfl dX6_number_132 (fun u12 A12 hc12 => ?_)
              refine r_eqA hc12 ?_
              clear hc12 A12 u12
              refine r_aload_0 (pc := 135) C dX6_number_135 ?_
              refine r_getI (pc := 136) C fl_X6_208_6 (tw_g hT) rfl dX6_number_136 ?_
              refine r_top (congrFun (S5_0 _ _ _ _ _ _) _) ?_
              refine r_top (st_16 _ _ _ _ _ _) ?_
              refine r_if_ne (pc := 139) (tgt := 146) C dX6_number_139 (by decide) (fun b139 => ?_) (fun b139 => ?_)
              · skip
                have b139 := (not_congr (nI_eq0 (by omega))).mp b139
                refine r_iload_1 (pc := 146) C dX6_number_146 ?_
                refine r_iret (pc := 147) C E rfl (Nat.le_refl _) (Nat.le_refl _) dX6_number_147 ?_
                subst ed
                subst hp
                subst h0
                first
                  | (rw [num_0 hd0]; exact ⟨rfl, rfl⟩)
                  | (rw [num_4 (by omega)]; exact ⟨rfl, rfl⟩)
                  | (rw [num_2 hd0 (by omega) (fun q => hm132 ((inZ_nI (by omega)).mpr (by omega)))]; exact ⟨rfl, rfl⟩)
                  | (rw [num_1 hd0 (by omega) (by have q := (inZ_nI (by omega)).mp hm132; omega)]; exact ⟨rfl, rfl⟩)
                  | (exfalso; omega)
              · skip
                have b139 := (nI_eq0 (by omega)).mp b139
                refine r_iload_3 (pc := 142) C dX6_number_142 ?_
                refine r_goto (pc := 143) (tgt := 147) C dX6_number_143 (by decide) ?_
                refine r_iret (pc := 147) C E rfl (Nat.le_refl _) (Nat.le_refl _) dX6_number_147 ?_
                subst ed
                subst hp
                subst h0
                first
                  | (rw [num_0 hd0]; exact ⟨rfl, rfl⟩)
                  | (rw [num_4 (by omega)]; exact ⟨rfl, rfl⟩)
                  | (rw [num_2 hd0 (by omega) (fun q => hm132 ((inZ_nI (by omega)).mpr (by omega)))]; exact ⟨rfl, rfl⟩)
                  | (rw [num_1 hd0 (by omega) (by have q := (inZ_nI (by omega)).mp hm132; omega)]; exact ⟨rfl, rfl⟩)
                  | (exfalso; omega)
          · skip
            have b48 := bI_n.mp b48
            have b48 := (inZ_bt (lo := 48) (hi := 57) hB).mp b48
            refine r_aload_0 (pc := 51) C dX6_number_51 ?_
            refine r_getI (pc := 52) C fl_X6_193_6 (tw_g hT) rfl dX6_number_52 ?_
            refine r_top (congrFun (S5_0 _ _ _ _ _ _) _) ?_
            refine r_top (st_13 _ _ _ _ _ _) ?_
            refine r_aload_0 (pc := 55) C dX6_number_55 ?_
            refine r_getI (pc := 56) C fl_X6_198_6 (tw_g hT) rfl dX6_number_56 ?_
            refine r_top (congrFun (S5_0 _ _ _ _ _ _) _) ?_
            refine r_top (st_14 _ _ _ _ _ _) ?_
            refine r_isub (pc := 59) C dX6_number_59 ?_
            refine r_top (pk_sub (by omega)) ?_
            refine r_iconst (pc := 60) C dX6_number_60 ci_3 ?_
            refine r_icmp_ge (pc := 61) (tgt := 83) C dX6_number_61 (by decide) (fun b61 => ?_) (fun b61 => ?_)
            · skip
              have b61 := (nI_le2 (by omega) (by omega)).mp b61
              refine r_iload_3 (pc := 83) C dX6_number_83 ?_
              refine r_istore_3 (pc := 84) C dX6_number_84 rfl ?_
              refine r_aload_0 (pc := 85) C dX6_number_85 ?_
              refine r_dup (pc := 86) C dX6_number_86 rfl ?_
              refine r_getI (pc := 87) C fl_X6_193_6 (tw_g hT) rfl dX6_number_87 ?_
              refine r_top (congrFun (S5_0 _ _ _ _ _ _) _) ?_
              refine r_top (st_13 _ _ _ _ _ _) ?_
              refine r_iconst (pc := 90) C dX6_number_90 ci_1 ?_
              refine r_iadd (pc := 91) C dX6_number_91 ?_
              refine r_top (nI_add _ _) ?_
              refine r_putI (pc := 92) C fl_X6_193_6 (tw_g hT) rfl (fun _ _ _ h => by cases h; exact Or.inl rfl) rfl rfl rfl dX6_number_92 ?_
              refine r_eqA (S5_u0 _ _ _ _ _ _ _ _) ?_
              refine r_eqA (congrArg (S5 _ t _ _ _) (st_u13 _ _ _ _ _ _ _)) ?_
              refine r_goto (pc := 95) (tgt := 30) C dX6_number_95 (by decide) ?_
              first | rw [show 10 * valF B p j + B (p + j) - 48 = valF B p (j + 1) from (if_pos (by omega)).symm] | (refine r_eqL (lv' := [some (.ref t), some (.int (nI lo)), some (.int (nI hi)), some (.int (nI (valF B p (j + 1))))]) (by rw [show valF B p (j + 1) = valF B p j from if_neg (by omega)]) ?_)
              exact ih30 (j + 1) (by omega) (fun i hi => if q : i = j then by rw [q]; exact decide_eq_true b48.2 else hs i (by omega)) (by omega)
            · skip
              have b61 := (not_congr (nI_le2 (by omega) (by omega))).mp b61
              refine r_bipush (pc := 64) C dX6_number_64 cb_10 ?_
              refine r_iload_3 (pc := 66) C dX6_number_66 ?_
              refine r_imul (pc := 67) C dX6_number_67 ?_
              refine r_top (pk_mul _ _) ?_
              refine r_aload_0 (pc := 68) C dX6_number_68 ?_
              refine r_aload_0 (pc := 69) C dX6_number_69 ?_
              refine r_getI (pc := 70) C fl_X6_193_6 (tw_g hT) rfl dX6_number_70 ?_
              refine r_top (congrFun (S5_0 _ _ _ _ _ _) _) ?_
              refine r_top (st_13 _ _ _ _ _ _) ?_
              refine r_V1io (pc := 73) C (m_byteAt (by exact hT) hB (by first | exact hτL | exact (st_x _ _ _ _ _ _ (by omega)).trans hτL) (by omega)) vl_X6_195 (tw_g hT) (by decide) (Nat.le_refl _) (Nat.le_refl _) (Nat.le_of_ble_eq_true rfl) rfl dX6_number_73 (fun u13 A13 hc13 => ?_)
              refine r_top hc13.1 ?_
              refine r_eqA hc13.2 ?_
              clear hc13 A13 u13
              refine r_top ((congrArg oI (btO_lt b48.1)).trans (oI_some _)) ?_
              have hb2 := (hB.2 _ b48.1).2
              refine r_iadd (pc := 76) C dX6_number_76 ?_
              refine r_top (nI_add _ _) ?_
              refine r_bipush (pc := 77) C dX6_number_77 cb_48 ?_
              refine r_isub (pc := 79) C dX6_number_79 ?_
              refine r_top (pk_sub (by omega)) ?_
              refine r_goto (pc := 80) (tgt := 84) C dX6_number_80 (by decide) ?_
              refine r_istore_3 (pc := 84) C dX6_number_84 rfl ?_
              refine r_aload_0 (pc := 85) C dX6_number_85 ?_
              refine r_dup (pc := 86) C dX6_number_86 rfl ?_
              refine r_getI (pc := 87) C fl_X6_193_6 (tw_g hT) rfl dX6_number_87 ?_
              refine r_top (congrFun (S5_0 _ _ _ _ _ _) _) ?_
              refine r_top (st_13 _ _ _ _ _ _) ?_
              refine r_iconst (pc := 90) C dX6_number_90 ci_1 ?_
              refine r_iadd (pc := 91) C dX6_number_91 ?_
              refine r_top (nI_add _ _) ?_
              refine r_putI (pc := 92) C fl_X6_193_6 (tw_g hT) rfl (fun _ _ _ h => by cases h; exact Or.inl rfl) rfl rfl rfl dX6_number_92 ?_
              refine r_eqA (S5_u0 _ _ _ _ _ _ _ _) ?_
              refine r_eqA (congrArg (S5 _ t _ _ _) (st_u13 _ _ _ _ _ _ _)) ?_
              refine r_goto (pc := 95) (tgt := 30) C dX6_number_95 (by decide) ?_
              first | rw [show 10 * valF B p j + B (p + j) - 48 = valF B p (j + 1) from (if_pos (by omega)).symm] | (refine r_eqL (lv' := [some (.ref t), some (.int (nI lo)), some (.int (nI hi)), some (.int (nI (valF B p (j + 1))))]) (by rw [show valF B p (j + 1) = valF B p j from if_neg (by omega)]) ?_)
              exact ih30 (j + 1) (by omega) (fun i hi => if q : i = j then by rw [q]; exact decide_eq_true b48.2 else hs i (by omega)) (by omega)
      exact lp30_4 _ 0 (by omega) (fun i h => absurd h (Nat.not_lt_zero _)) (Nat.lt_succ_self _)
    · skip
      have hm25 : inZ (oI (btO B L p)) 48 57 := (inZ_bt (lo := 48) (hi := 57) hB).mpr (Decidable.not_not.mp (fun q => hd0 (dln_0.mpr q)))
      refine r_V2vo (pc := 25) C (m_must_t (by exact hT) hm25) vl_X6_217 (tw_g hT) (by decide) (Nat.le_refl _) (Nat.le_refl _) (Nat.le_of_ble_eq_true rfl) rfl dX6_number_25 (fun u14 A14 hc14 => ?_)
      refine r_eqA hc14 ?_
      clear hc14 A14 u14
      refine r_iconst (pc := 28) C dX6_number_28 ci_0 ?_
      refine r_istore_3 (pc := 29) C dX6_number_29 rfl ?_
      have lp30_15 : ∀ (fu : Nat) (j : Nat) (hj : j ≤ L - p) (hs : ∀ i, i < j → isDi (B (p + i)) = true), L - p - j < fu → wa g z 0 0 (S5 A t σ κ π (stT τ (p + j) (p) (wln B L p) (e) (ep))) 30 [some (.ref t), some (.int (nI (lo))), some (.int (nI (hi))), some (.int (nI (valF B p j)))] [] := by
        intro fu
        induction fu with
        | zero => intro j  hj hs hm30; exact absurd hm30 (Nat.not_lt_zero _)
        | succ fu ih30 =>
          intro j  hj hs hm30
          have hv := valF_1000 hs
          refine r_aload_0 (pc := 30) C dX6_number_30 ?_
          refine r_aload_0 (pc := 31) C dX6_number_31 ?_
          refine r_getI (pc := 32) C fl_X6_193_6 (tw_g hT) rfl dX6_number_32 ?_
          refine r_top (congrFun (S5_0 _ _ _ _ _ _) _) ?_
          refine r_top (st_13 _ _ _ _ _ _) ?_
          refine r_V1io (pc := 35) C (m_byteAt (by exact hT) hB (by first | exact hτL | exact (st_x _ _ _ _ _ _ (by omega)).trans hτL) (by omega)) vl_X6_195 (tw_g hT) (by decide) (Nat.le_refl _) (Nat.le_refl _) (Nat.le_of_ble_eq_true rfl) rfl dX6_number_35 (fun u16 A16 hc16 => ?_)
          refine r_top hc16.1 ?_
          refine r_eqA hc16.2 ?_
          clear hc16 A16 u16
          refine r_i2l (pc := 38) C dX6_number_38 ?_
          refine r_ldc2 (pc := 39) C q2299 dX6_number_39 ?_
          refine r_ldc2 (pc := 42) C q2300 dX6_number_42 ?_
          refine r_S3io (pc := 45) C (m_inZ (p := 48) (q := 57) (by decide) (by decide)) sl_X6_68 (by decide) (Nat.le_refl _) (Nat.le_refl _) (Nat.le_of_ble_eq_true rfl) rfl dX6_number_45 (fun u17 A17 hc17 => ?_)
          refine r_top hc17.1 ?_
          refine r_eqA hc17.2 ?_
          clear hc17 A17 u17
          refine r_if_eq (pc := 48) (tgt := 98) C dX6_number_48 (by decide) (fun b48 => ?_) (fun b48 => ?_)
          · skip
            have b48 := bI_0.mp b48
            have b48 := fun q => b48 ((inZ_bt (lo := 48) (hi := 57) hB).mpr q)
            have ed : j = dln B L p := runF_eq (B := B) (q := isDi) hj hs (fun hj2 q => b48 ⟨by omega, of_decide_eq_true q⟩)
            refine r_aload_0 (pc := 98) C dX6_number_98 ?_
            refine r_aload_0 (pc := 99) C dX6_number_99 ?_
            refine r_getI (pc := 100) C fl_X6_193_6 (tw_g hT) rfl dX6_number_100 ?_
            refine r_top (congrFun (S5_0 _ _ _ _ _ _) _) ?_
            refine r_top (st_13 _ _ _ _ _ _) ?_
            refine r_aload_0 (pc := 103) C dX6_number_103 ?_
            refine r_getI (pc := 104) C fl_X6_198_6 (tw_g hT) rfl dX6_number_104 ?_
            refine r_top (congrFun (S5_0 _ _ _ _ _ _) _) ?_
            refine r_top (st_14 _ _ _ _ _ _) ?_
            refine r_isub (pc := 107) C dX6_number_107 ?_
            refine r_top (pk_sub (by omega)) ?_
            refine r_iconst (pc := 108) C dX6_number_108 ci_3 ?_
            refine r_icmp_gt (pc := 109) (tgt := 116) C dX6_number_109 (by decide) (fun b109 => ?_) (fun b109 => ?_)
            · skip
              have b109 := (nI_lt2 (by omega) (by omega)).mp b109
              refine r_iconst (pc := 116) C dX6_number_116 ci_0 ?_
              refine r_iconst (pc := 117) C dX6_number_117 ci_1 ?_
              refine r_V2vo (pc := 118) C (m_must_c0 (by exact hT) (by omega)) vl_X6_217 (tw_g hT) (by decide) (Nat.le_refl _) (Nat.le_refl _) (Nat.le_of_ble_eq_true rfl) rfl dX6_number_118 (fun u18 A18 hc18 => ?_)
              refine r_eqA hc18 ?_
              clear hc18 A18 u18
              refine r_aload_0 (pc := 121) C dX6_number_121 ?_
              refine r_iload_3 (pc := 122) C dX6_number_122 ?_
              refine r_i2l (pc := 123) C dX6_number_123 ?_
              refine r_iload_1 (pc := 124) C dX6_number_124 ?_
              refine r_i2l (pc := 125) C dX6_number_125 ?_
              refine r_iload_2 (pc := 126) C dX6_number_126 ?_
              refine r_i2l (pc := 127) C dX6_number_127 ?_
              refine r_S3io (pc := 128) C (m_inZ (p := lo) (q := hi) (t_nI64 (by omega)) (t_nI64 (by omega))) sl_X6_68 (by decide) (Nat.le_refl _) (Nat.le_refl _) (Nat.le_of_ble_eq_true rfl) rfl dX6_number_128 (fun u19 A19 hc19 => ?_)
              refine r_top hc19.1 ?_
              refine r_eqA hc19.2 ?_
              clear hc19 A19 u19
              refine r_iconst (pc := 131) C dX6_number_131 ci_2 ?_
              refine r_V2vo (pc := 132) C (m_must_e (by exact hT) (by omega)) vl_X6_217 (tw_g hT) (by decide) (Nat.le_refl _) (Nat.le_refl _) (Nat.le_of_ble_eq_true rfl) rfl dX6_number_132 (fun u20 A20 hc20 => ?_)
              refine r_eqA hc20 ?_
              clear hc20 A20 u20
              refine r_aload_0 (pc := 135) C dX6_number_135 ?_
              refine r_getI (pc := 136) C fl_X6_208_6 (tw_g hT) rfl dX6_number_136 ?_
              refine r_top (congrFun (S5_0 _ _ _ _ _ _) _) ?_
              refine r_top (st_16 _ _ _ _ _ _) ?_
              refine r_if_ne (pc := 139) (tgt := 146) C dX6_number_139 (by decide) (fun b139 => ?_) (fun b139 => ?_)
              · skip
                have b139 := (not_congr (nI_eq0 (by omega))).mp b139
                refine r_iload_1 (pc := 146) C dX6_number_146 ?_
                refine r_iret (pc := 147) C E rfl (Nat.le_refl _) (Nat.le_refl _) dX6_number_147 ?_
                subst ed
                subst hp
                subst h0
                first
                  | (rw [num_0 hd0]; exact ⟨rfl, rfl⟩)
                  | (rw [num_4 (by omega)]; exact ⟨rfl, rfl⟩)
                  | (rw [num_2 hd0 (by omega) (fun q => hm132 ((inZ_nI (by omega)).mpr (by omega)))]; exact ⟨rfl, rfl⟩)
                  | (rw [num_1 hd0 (by omega) (by have q := (inZ_nI (by omega)).mp hm132; omega)]; exact ⟨rfl, rfl⟩)
                  | (exfalso; omega)
              · skip
                have b139 := (nI_eq0 (by omega)).mp b139
                refine r_iload_3 (pc := 142) C dX6_number_142 ?_
                refine r_goto (pc := 143) (tgt := 147) C dX6_number_143 (by decide) ?_
                refine r_iret (pc := 147) C E rfl (Nat.le_refl _) (Nat.le_refl _) dX6_number_147 ?_
                subst ed
                subst hp
                subst h0
                first
                  | (rw [num_0 hd0]; exact ⟨rfl, rfl⟩)
                  | (rw [num_4 (by omega)]; exact ⟨rfl, rfl⟩)
                  | (rw [num_2 hd0 (by omega) (fun q => hm132 ((inZ_nI (by omega)).mpr (by omega)))]; exact ⟨rfl, rfl⟩)
                  | (rw [num_1 hd0 (by omega) (by have q := (inZ_nI (by omega)).mp hm132; omega)]; exact ⟨rfl, rfl⟩)
                  | (exfalso; omega)
            · skip
              have b109 := (not_congr (nI_lt2 (by omega) (by omega))).mp b109
              refine r_iconst (pc := 112) C dX6_number_112 ci_1 ?_
              refine r_goto (pc := 113) (tgt := 117) C dX6_number_113 (by decide) ?_
              refine r_iconst (pc := 117) C dX6_number_117 ci_1 ?_
              refine r_V2vo (pc := 118) C (m_must_c1 (by exact hT)) vl_X6_217 (tw_g hT) (by decide) (Nat.le_refl _) (Nat.le_refl _) (Nat.le_of_ble_eq_true rfl) rfl dX6_number_118 (fun u21 A21 hc21 => ?_)
              refine r_eqA hc21 ?_
              clear hc21 A21 u21
              refine r_aload_0 (pc := 121) C dX6_number_121 ?_
              refine r_iload_3 (pc := 122) C dX6_number_122 ?_
              refine r_i2l (pc := 123) C dX6_number_123 ?_
              refine r_iload_1 (pc := 124) C dX6_number_124 ?_
              refine r_i2l (pc := 125) C dX6_number_125 ?_
              refine r_iload_2 (pc := 126) C dX6_number_126 ?_
              refine r_i2l (pc := 127) C dX6_number_127 ?_
              refine r_S3io (pc := 128) C (m_inZ (p := lo) (q := hi) (t_nI64 (by omega)) (t_nI64 (by omega))) sl_X6_68 (by decide) (Nat.le_refl _) (Nat.le_refl _) (Nat.le_of_ble_eq_true rfl) rfl dX6_number_128 (fun u22 A22 hc22 => ?_)
              refine r_top hc22.1 ?_
              refine r_eqA hc22.2 ?_
              clear hc22 A22 u22
              refine r_iconst (pc := 131) C dX6_number_131 ci_2 ?_
              by_cases hm132 : inZ (nI (valF B p j)) lo hi
              · skip
                refine r_V2vo (pc := 132) C (m_must_t (by exact hT) hm132) vl_X6_217 (tw_g hT) (by decide) (Nat.le_refl _) (Nat.le_refl _) (Nat.le_of_ble_eq_true rfl) rfl dX6_number_132 (fun u23 A23 hc23 => ?_)
                refine r_eqA hc23 ?_
                clear hc23 A23 u23
                refine r_aload_0 (pc := 135) C dX6_number_135 ?_
                refine r_getI (pc := 136) C fl_X6_208_6 (tw_g hT) rfl dX6_number_136 ?_
                refine r_top (congrFun (S5_0 _ _ _ _ _ _) _) ?_
                refine r_top (st_16 _ _ _ _ _ _) ?_
                refine r_if_ne (pc := 139) (tgt := 146) C dX6_number_139 (by decide) (fun b139 => ?_) (fun b139 => ?_)
                · skip
                  have b139 := (not_congr (nI_eq0 (by omega))).mp b139
                  refine r_iload_1 (pc := 146) C dX6_number_146 ?_
                  refine r_iret (pc := 147) C E rfl (Nat.le_refl _) (Nat.le_refl _) dX6_number_147 ?_
                  subst ed
                  subst hp
                  subst h0
                  first
                    | (rw [num_0 hd0]; exact ⟨rfl, rfl⟩)
                    | (rw [num_4 (by omega)]; exact ⟨rfl, rfl⟩)
                    | (rw [num_2 hd0 (by omega) (fun q => hm132 ((inZ_nI (by omega)).mpr (by omega)))]; exact ⟨rfl, rfl⟩)
                    | (rw [num_1 hd0 (by omega) (by have q := (inZ_nI (by omega)).mp hm132; omega)]; exact ⟨rfl, rfl⟩)
                    | (exfalso; omega)
                · skip
                  have b139 := (nI_eq0 (by omega)).mp b139
                  refine r_iload_3 (pc := 142) C dX6_number_142 ?_
                  refine r_goto (pc := 143) (tgt := 147) C dX6_number_143 (by decide) ?_
                  refine r_iret (pc := 147) C E rfl (Nat.le_refl _) (Nat.le_refl _) dX6_number_147 ?_
                  subst ed
                  subst hp
                  subst h0
                  first
                    | (rw [num_0 hd0]; exact ⟨rfl, rfl⟩)
                    | (rw [num_4 (by omega)]; exact ⟨rfl, rfl⟩)
                    | (rw [num_2 hd0 (by omega) (fun q => hm132 ((inZ_nI (by omega)).mpr (by omega)))]; exact ⟨rfl, rfl⟩)
                    | (rw [num_1 hd0 (by omega) (by have q := (inZ_nI (by omega)).mp hm132; omega)]; exact ⟨rfl, rfl⟩)
                    | (exfalso; omega)
              · skip
                refine r_V2vo (pc := 132) C (m_must_f (by exact hT) hm132 (by omega)) vl_X6_217 (tw_g hT) (by decide) (Nat.le_refl _) (Nat.le_refl _) (Nat.le_of_ble_eq_true rfl) rfl dX6_number_132 (fun u24 A24 hc24 => ?_)
                refine r_eqA hc24 ?_
                clear hc24 A24 u24
                refine r_aload_0 (pc := 135) C dX6_number_135 ?_
                refine r_getI (pc := 136) C fl_X6_208_6 (tw_g hT) rfl dX6_number_136 ?_
                refine r_top (congrFun (S5_0 _ _ _ _ _ _) _) ?_
                refine r_top (st_16 _ _ _ _ _ _) ?_
                refine r_if_ne (pc := 139) (tgt := 146) C dX6_number_139 (by decide) (fun b139 => ?_) (fun b139 => ?_)
                · skip
                  have b139 := (not_congr (nI_eq0 (by omega))).mp b139
                  refine r_iload_1 (pc := 146) C dX6_number_146 ?_
                  refine r_iret (pc := 147) C E rfl (Nat.le_refl _) (Nat.le_refl _) dX6_number_147 ?_
                  subst ed
                  subst hp
                  subst h0
                  first
                    | (rw [num_0 hd0]; exact ⟨rfl, rfl⟩)
                    | (rw [num_4 (by omega)]; exact ⟨rfl, rfl⟩)
                    | (rw [num_2 hd0 (by omega) (fun q => hm132 ((inZ_nI (by omega)).mpr (by omega)))]; exact ⟨rfl, rfl⟩)
                    | (rw [num_1 hd0 (by omega) (by have q := (inZ_nI (by omega)).mp hm132; omega)]; exact ⟨rfl, rfl⟩)
                    | (exfalso; omega)
                · skip
                  have b139 := (nI_eq0 (by omega)).mp b139
                  refine r_iload_3 (pc := 142) C dX6_number_142 ?_
                  refine r_goto (pc := 143) (tgt := 147) C dX6_number_143 (by decide) ?_
                  refine r_iret (pc := 147) C E rfl (Nat.le_refl _) (Nat.le_refl _) dX6_number_147 ?_
                  subst ed
                  subst hp
                  subst h0
                  first
                    | (rw [num_0 hd0]; exact ⟨rfl, rfl⟩)
                    | (rw [num_4 (by omega)]; exact ⟨rfl, rfl⟩)
                    | (rw [num_2 hd0 (by omega) (fun q => hm132 ((inZ_nI (by omega)).mpr (by omega)))]; exact ⟨rfl, rfl⟩)
                    | (rw [num_1 hd0 (by omega) (by have q := (inZ_nI (by omega)).mp hm132; omega)]; exact ⟨rfl, rfl⟩)
                    | (exfalso; omega)
          · skip
            have b48 := bI_n.mp b48
            have b48 := (inZ_bt (lo := 48) (hi := 57) hB).mp b48
            refine r_aload_0 (pc := 51) C dX6_number_51 ?_
            refine r_getI (pc := 52) C fl_X6_193_6 (tw_g hT) rfl dX6_number_52 ?_
            refine r_top (congrFun (S5_0 _ _ _ _ _ _) _) ?_
            refine r_top (st_13 _ _ _ _ _ _) ?_
            refine r_aload_0 (pc := 55) C dX6_number_55 ?_
            refine r_getI (pc := 56) C fl_X6_198_6 (tw_g hT) rfl dX6_number_56 ?_
            refine r_top (congrFun (S5_0 _ _ _ _ _ _) _) ?_
            refine r_top (st_14 _ _ _ _ _ _) ?_
            refine r_isub (pc := 59) C dX6_number_59 ?_
            refine r_top (pk_sub (by omega)) ?_
            refine r_iconst (pc := 60) C dX6_number_60 ci_3 ?_
            refine r_icmp_ge (pc := 61) (tgt := 83) C dX6_number_61 (by decide) (fun b61 => ?_) (fun b61 => ?_)
            · skip
              have b61 := (nI_le2 (by omega) (by omega)).mp b61
              refine r_iload_3 (pc := 83) C dX6_number_83 ?_
              refine r_istore_3 (pc := 84) C dX6_number_84 rfl ?_
              refine r_aload_0 (pc := 85) C dX6_number_85 ?_
              refine r_dup (pc := 86) C dX6_number_86 rfl ?_
              refine r_getI (pc := 87) C fl_X6_193_6 (tw_g hT) rfl dX6_number_87 ?_
              refine r_top (congrFun (S5_0 _ _ _ _ _ _) _) ?_
              refine r_top (st_13 _ _ _ _ _ _) ?_
              refine r_iconst (pc := 90) C dX6_number_90 ci_1 ?_
              refine r_iadd (pc := 91) C dX6_number_91 ?_
              refine r_top (nI_add _ _) ?_
              refine r_putI (pc := 92) C fl_X6_193_6 (tw_g hT) rfl (fun _ _ _ h => by cases h; exact Or.inl rfl) rfl rfl rfl dX6_number_92 ?_
              refine r_eqA (S5_u0 _ _ _ _ _ _ _ _) ?_
              refine r_eqA (congrArg (S5 _ t _ _ _) (st_u13 _ _ _ _ _ _ _)) ?_
              refine r_goto (pc := 95) (tgt := 30) C dX6_number_95 (by decide) ?_
              first | rw [show 10 * valF B p j + B (p + j) - 48 = valF B p (j + 1) from (if_pos (by omega)).symm] | (refine r_eqL (lv' := [some (.ref t), some (.int (nI lo)), some (.int (nI hi)), some (.int (nI (valF B p (j + 1))))]) (by rw [show valF B p (j + 1) = valF B p j from if_neg (by omega)]) ?_)
              exact ih30 (j + 1) (by omega) (fun i hi => if q : i = j then by rw [q]; exact decide_eq_true b48.2 else hs i (by omega)) (by omega)
            · skip
              have b61 := (not_congr (nI_le2 (by omega) (by omega))).mp b61
              refine r_bipush (pc := 64) C dX6_number_64 cb_10 ?_
              refine r_iload_3 (pc := 66) C dX6_number_66 ?_
              refine r_imul (pc := 67) C dX6_number_67 ?_
              refine r_top (pk_mul _ _) ?_
              refine r_aload_0 (pc := 68) C dX6_number_68 ?_
              refine r_aload_0 (pc := 69) C dX6_number_69 ?_
              refine r_getI (pc := 70) C fl_X6_193_6 (tw_g hT) rfl dX6_number_70 ?_
              refine r_top (congrFun (S5_0 _ _ _ _ _ _) _) ?_
              refine r_top (st_13 _ _ _ _ _ _) ?_
              refine r_V1io (pc := 73) C (m_byteAt (by exact hT) hB (by first | exact hτL | exact (st_x _ _ _ _ _ _ (by omega)).trans hτL) (by omega)) vl_X6_195 (tw_g hT) (by decide) (Nat.le_refl _) (Nat.le_refl _) (Nat.le_of_ble_eq_true rfl) rfl dX6_number_73 (fun u25 A25 hc25 => ?_)
              refine r_top hc25.1 ?_
              refine r_eqA hc25.2 ?_
              clear hc25 A25 u25
              refine r_top ((congrArg oI (btO_lt b48.1)).trans (oI_some _)) ?_
              have hb2 := (hB.2 _ b48.1).2
              refine r_iadd (pc := 76) C dX6_number_76 ?_
              refine r_top (nI_add _ _) ?_
              refine r_bipush (pc := 77) C dX6_number_77 cb_48 ?_
              refine r_isub (pc := 79) C dX6_number_79 ?_
              refine r_top (pk_sub (by omega)) ?_
              refine r_goto (pc := 80) (tgt := 84) C dX6_number_80 (by decide) ?_
              refine r_istore_3 (pc := 84) C dX6_number_84 rfl ?_
              refine r_aload_0 (pc := 85) C dX6_number_85 ?_
              refine r_dup (pc := 86) C dX6_number_86 rfl ?_
              refine r_getI (pc := 87) C fl_X6_193_6 (tw_g hT) rfl dX6_number_87 ?_
              refine r_top (congrFun (S5_0 _ _ _ _ _ _) _) ?_
              refine r_top (st_13 _ _ _ _ _ _) ?_
              refine r_iconst (pc := 90) C dX6_number_90 ci_1 ?_
              refine r_iadd (pc := 91) C dX6_number_91 ?_
              refine r_top (nI_add _ _) ?_
              refine r_putI (pc := 92) C fl_X6_193_6 (tw_g hT) rfl (fun _ _ _ h => by cases h; exact Or.inl rfl) rfl rfl rfl dX6_number_92 ?_
              refine r_eqA (S5_u0 _ _ _ _ _ _ _ _) ?_
              refine r_eqA (congrArg (S5 _ t _ _ _) (st_u13 _ _ _ _ _ _ _)) ?_
              refine r_goto (pc := 95) (tgt := 30) C dX6_number_95 (by decide) ?_
              first | rw [show 10 * valF B p j + B (p + j) - 48 = valF B p (j + 1) from (if_pos (by omega)).symm] | (refine r_eqL (lv' := [some (.ref t), some (.int (nI lo)), some (.int (nI hi)), some (.int (nI (valF B p (j + 1))))]) (by rw [show valF B p (j + 1) = valF B p j from if_neg (by omega)]) ?_)
              exact ih30 (j + 1) (by omega) (fun i hi => if q : i = j then by rw [q]; exact decide_eq_true b48.2 else hs i (by omega)) (by omega)
      exact lp30_15 _ 0 (by omega) (fun i h => absurd h (Nat.not_lt_zero _)) (Nat.lt_succ_self _)
  · skip
    have b4 := (not_congr (nI_eq0 (by omega))).mp b4
    exact absurd h0 b4
