/-! THE REFERENCE, 25: tokens -/
set_option maxRecDepth 100000
def errC {α : Type} (r : RdE ⊕ α) : Nat := match r with
  | .inl x => x.1
  | .inr _ => 0
def errP {α : Type} (r : RdE ⊕ α) (ep : Int32) : Int32 := match r with
  | .inl x => nI x.2
  | .inr _ => ep
def numV (r : RdE ⊕ (Nat × Nat)) (lo : Nat) : Nat := match r with
  | .inl _ => lo
  | .inr x => x.1
theorem num_0 {B : Nat → Nat} {L a lo hi : Nat} (h : dln B L (skp B L a) = 0) : numR B L a lo hi = .inl (1, skp B L a) := if_pos (Or.inl h)
theorem num_4 {B : Nat → Nat} {L a lo hi : Nat} (h : 3 < dln B L (skp B L a)) : numR B L a lo hi = .inl (1, skp B L a) := if_pos (Or.inr h)
theorem num_2 {B : Nat → Nat} {L a lo hi : Nat} (h0 : ¬ dln B L (skp B L a) = 0) (h3 : ¬ 3 < dln B L (skp B L a)) (h : ¬ (lo ≤ valF B (skp B L a) (dln B L (skp B L a)) ∧ valF B (skp B L a) (dln B L (skp B L a)) ≤ hi)) : numR B L a lo hi = .inl (2, skp B L a) := by
  unfold numR; rw [if_neg (by omega), if_neg h]
theorem num_1 {B : Nat → Nat} {L a lo hi : Nat} (h0 : ¬ dln B L (skp B L a) = 0) (h3 : ¬ 3 < dln B L (skp B L a)) (h : lo ≤ valF B (skp B L a) (dln B L (skp B L a)) ∧ valF B (skp B L a) (dln B L (skp B L a)) ≤ hi) : numR B L a lo hi = .inr (valF B (skp B L a) (dln B L (skp B L a)), skp B L a + dln B L (skp B L a)) := by
  unfold numR; rw [if_neg (by omega), if_pos h]
theorem dln_0 {B : Nat → Nat} {L p : Nat} : dln B L p = 0 ↔ ¬ (p < L ∧ (48 ≤ B p ∧ B p ≤ 57)) := by
  constructor
  · rintro h ⟨h1, h2⟩
    have := runF_out (B := B) (q := isDi) (L - p) p (by unfold dln at h; omega)
    unfold dln at h
    rw [h] at this
    exact this (decide_eq_true h2)
  · intro h
    refine (runF_eq (B := B) (q := isDi) (n := L - p) (p := p) (j := 0) (Nat.zero_le _) (fun i hi => absurd hi (Nat.not_lt_zero _)) (fun hj q => h ⟨by omega, of_decide_eq_true q⟩)).symm
set_option maxHeartbeats 4000000 in
theorem m_next {g : GZ} {A : HA} {t : Nat} {σ κ π τ : Nat → Int32} (hT : Tw A t) {a gb w e : Nat} {ep : Int32} {B : Nat → Nat} {L : Nat} (hB : BufI (A.I (t + 8)) B L) (hτL : τ 12 = nI L) (ha : a ≤ 2000) : Ct g wI yX6_next (.code yX6_next cX6_next 1 (Option.some Jvm.ClassFile.FieldType.int)) 2 0 0 [.ref t] (S5 A t σ κ π (stT τ a gb w e ep)) (fun u A' => u = oI (btO B L (skp B L a)) ∧ A' = S5 A t σ κ π (stT τ (skp B L a) (skp B L a) (wln B L (skp B L a)) (e) (ep))) fw_no := by
  refine Ct.of [some (.ref t)] (by decide) rfl rfl fun z C hx hnm E => ?_
  have hBl := hB.l
  have lp0_1 : ∀ (fu : Nat) (j : Nat) (hj : j ≤ L - a) (hs : ∀ i, i < j → isSp (B (a + i)) = true), L - a - j < fu → wa g z 0 0 (S5 A t σ κ π (stT τ (a + j) (gb) (w) (e) (ep))) 0 [some (.ref t)] [] := by
    intro fu
    induction fu with
    | zero => intro j  hj hs hm0; exact absurd hm0 (Nat.not_lt_zero _)
    | succ fu ih0 =>
      intro j  hj hs hm0
      refine r_aload_0 (pc := 0) C dX6_next_0 ?_
      refine r_aload_0 (pc := 1) C dX6_next_1 ?_
      refine r_getI (pc := 2) C fl_X6_193_6 (tw_g hT) rfl dX6_next_2 ?_
      refine r_top (congrFun (S5_0 _ _ _ _ _ _) _) ?_
      refine r_top (st_13 _ _ _ _ _ _) ?_
      refine r_V1io (pc := 5) C (m_byteAt (by exact hT) hB (by first | exact hτL | exact (st_x _ _ _ _ _ _ (by omega)).trans hτL) (by omega)) vl_X6_195 (tw_g hT) (by decide) (Nat.le_refl _) (Nat.le_refl _) (Nat.le_of_ble_eq_true rfl) rfl dX6_next_5 (fun u2 A2 hc2 => ?_)
      refine r_top hc2.1 ?_
      refine r_eqA hc2.2 ?_
      clear hc2 A2 u2
      rcases Nat.lt_or_ge (a + j) L with hin | hin
      · skip
        refine r_top ((congrArg oI (btO_lt hin)).trans (oI_some _)) ?_
        have hb255 := (hB.2 _ hin).2
        refine r_bipush (pc := 8) C dX6_next_8 cb_32 ?_
        refine r_icmp_ne (pc := 10) (tgt := 26) C dX6_next_10 (by decide) (fun b10 => ?_) (fun b10 => ?_)
        · skip
          have b10 := (not_congr (nI_eqI (by omega) (by omega))).mp b10
          have ej : a + j = skp B L a := by
            unfold skp
            rw [← runF_eq (B := B) (q := isSp) hj hs (fun hj2 q => by first | exact b10 (of_decide_eq_true q) | omega)]
          obtain ⟨p, hp⟩ : ∃ p, p = skp B L a := ⟨_, rfl⟩
          have hp2 : p ≤ 3000 := by omega
          rw [ej, ← hp]
          refine r_aload_0 (pc := 26) C dX6_next_26 ?_
          refine r_aload_0 (pc := 27) C dX6_next_27 ?_
          refine r_getI (pc := 28) C fl_X6_193_6 (tw_g hT) rfl dX6_next_28 ?_
          refine r_top (congrFun (S5_0 _ _ _ _ _ _) _) ?_
          refine r_top (st_13 _ _ _ _ _ _) ?_
          refine r_putI (pc := 31) C fl_X6_198_6 (tw_g hT) rfl (fun _ _ _ h => by cases h; exact Or.inl rfl) rfl rfl rfl dX6_next_31 ?_
          refine r_eqA (S5_u0 _ _ _ _ _ _ _ _) ?_
          refine r_eqA (congrArg (S5 _ t _ _ _) (st_u14 _ _ _ _ _ _ _)) ?_
          refine r_aload_0 (pc := 34) C dX6_next_34 ?_
          refine r_iconst (pc := 35) C dX6_next_35 ci_0 ?_
          refine r_putI (pc := 36) C fl_X6_201_6 (tw_g hT) rfl (fun _ _ _ h => by cases h; exact Or.inl rfl) rfl rfl rfl dX6_next_36 ?_
          refine r_eqA (S5_u0 _ _ _ _ _ _ _ _) ?_
          refine r_eqA (congrArg (S5 _ t _ _ _) (st_u15 _ _ _ _ _ _ _)) ?_
          have lp39_3 : ∀ (fu : Nat) (i : Nat) (hi : i ≤ L - p) (hl : ∀ k, k < i → isLe (B (p + k)) = true), L - p - i < fu → wa g z 0 0 (S5 A t σ κ π (stT τ (p) (p) (i) (e) (ep))) 39 [some (.ref t)] [] := by
            intro fu
            induction fu with
            | zero => intro i  hi hl hm39; exact absurd hm39 (Nat.not_lt_zero _)
            | succ fu ih39 =>
              intro i  hi hl hm39
              refine r_aload_0 (pc := 39) C dX6_next_39 ?_
              refine r_aload_0 (pc := 40) C dX6_next_40 ?_
              refine r_getI (pc := 41) C fl_X6_198_6 (tw_g hT) rfl dX6_next_41 ?_
              refine r_top (congrFun (S5_0 _ _ _ _ _ _) _) ?_
              refine r_top (st_14 _ _ _ _ _ _) ?_
              refine r_aload_0 (pc := 44) C dX6_next_44 ?_
              refine r_getI (pc := 45) C fl_X6_201_6 (tw_g hT) rfl dX6_next_45 ?_
              refine r_top (congrFun (S5_0 _ _ _ _ _ _) _) ?_
              refine r_top (st_15 _ _ _ _ _ _) ?_
              refine r_iadd (pc := 48) C dX6_next_48 ?_
              refine r_top (nI_add _ _) ?_
              refine r_V1io (pc := 49) C (m_byteAt (by exact hT) hB (by first | exact hτL | exact (st_x _ _ _ _ _ _ (by omega)).trans hτL) (by omega)) vl_X6_195 (tw_g hT) (by decide) (Nat.le_refl _) (Nat.le_refl _) (Nat.le_of_ble_eq_true rfl) rfl dX6_next_49 (fun u4 A4 hc4 => ?_)
              refine r_top hc4.1 ?_
              refine r_eqA hc4.2 ?_
              clear hc4 A4 u4
              refine r_i2l (pc := 52) C dX6_next_52 ?_
              refine r_ldc2 (pc := 53) C q2282 dX6_next_53 ?_
              refine r_ldc2 (pc := 56) C q2283 dX6_next_56 ?_
              refine r_S3io (pc := 59) C (m_inZ (p := 97) (q := 122) (by decide) (by decide)) sl_X6_68 (by decide) (Nat.le_refl _) (Nat.le_refl _) (Nat.le_of_ble_eq_true rfl) rfl dX6_next_59 (fun u5 A5 hc5 => ?_)
              refine r_top hc5.1 ?_
              refine r_eqA hc5.2 ?_
              clear hc5 A5 u5
              refine r_if_eq (pc := 62) (tgt := 78) C dX6_next_62 (by decide) (fun b62 => ?_) (fun b62 => ?_)
              · skip
                have b62 := bI_0.mp b62
                have b62 := fun q => b62 ((inZ_bt (lo := 97) (hi := 122) hB).mpr q)
                have ew : i = wln B L p := runF_eq (B := B) (q := isLe) hi hl (fun hj2 q => b62 ⟨by omega, of_decide_eq_true q⟩)
                refine r_aload_0 (pc := 78) C dX6_next_78 ?_
                refine r_aload_0 (pc := 79) C dX6_next_79 ?_
                refine r_getI (pc := 80) C fl_X6_193_6 (tw_g hT) rfl dX6_next_80 ?_
                refine r_top (congrFun (S5_0 _ _ _ _ _ _) _) ?_
                refine r_top (st_13 _ _ _ _ _ _) ?_
                refine r_V1io (pc := 83) C (m_byteAt (by exact hT) hB (by first | exact hτL | exact (st_x _ _ _ _ _ _ (by omega)).trans hτL) (by omega)) vl_X6_195 (tw_g hT) (by decide) (Nat.le_refl _) (Nat.le_refl _) (Nat.le_of_ble_eq_true rfl) rfl dX6_next_83 (fun u6 A6 hc6 => ?_)
                refine r_top hc6.1 ?_
                refine r_eqA hc6.2 ?_
                clear hc6 A6 u6
                refine r_iret (pc := 86) C E rfl (Nat.le_refl _) (Nat.le_refl _) dX6_next_86 ?_
                subst ew
                subst hp
                exact ⟨rfl, rfl⟩
              · skip
                have b62 := bI_n.mp b62
                have b62 := (inZ_bt (lo := 97) (hi := 122) hB).mp b62
                refine r_aload_0 (pc := 65) C dX6_next_65 ?_
                refine r_dup (pc := 66) C dX6_next_66 rfl ?_
                refine r_getI (pc := 67) C fl_X6_201_6 (tw_g hT) rfl dX6_next_67 ?_
                refine r_top (congrFun (S5_0 _ _ _ _ _ _) _) ?_
                refine r_top (st_15 _ _ _ _ _ _) ?_
                refine r_iconst (pc := 70) C dX6_next_70 ci_1 ?_
                refine r_iadd (pc := 71) C dX6_next_71 ?_
                refine r_top (nI_add _ _) ?_
                refine r_putI (pc := 72) C fl_X6_201_6 (tw_g hT) rfl (fun _ _ _ h => by cases h; exact Or.inl rfl) rfl rfl rfl dX6_next_72 ?_
                refine r_eqA (S5_u0 _ _ _ _ _ _ _ _) ?_
                refine r_eqA (congrArg (S5 _ t _ _ _) (st_u15 _ _ _ _ _ _ _)) ?_
                refine r_goto (pc := 75) (tgt := 39) C dX6_next_75 (by decide) ?_
                exact ih39 (i + 1) (by omega) (fun k hk => if q : k = i then by rw [q]; exact decide_eq_true b62.2 else hl k (by omega)) (by omega)
          exact lp39_3 _ 0 (by omega) (fun k h => absurd h (Nat.not_lt_zero _)) (Nat.lt_succ_self _)
        · skip
          have b10 := (nI_eqI (by omega) (by omega)).mp b10
          refine r_aload_0 (pc := 13) C dX6_next_13 ?_
          refine r_dup (pc := 14) C dX6_next_14 rfl ?_
          refine r_getI (pc := 15) C fl_X6_193_6 (tw_g hT) rfl dX6_next_15 ?_
          refine r_top (congrFun (S5_0 _ _ _ _ _ _) _) ?_
          refine r_top (st_13 _ _ _ _ _ _) ?_
          refine r_iconst (pc := 18) C dX6_next_18 ci_1 ?_
          refine r_iadd (pc := 19) C dX6_next_19 ?_
          refine r_top (nI_add _ _) ?_
          refine r_putI (pc := 20) C fl_X6_193_6 (tw_g hT) rfl (fun _ _ _ h => by cases h; exact Or.inl rfl) rfl rfl rfl dX6_next_20 ?_
          refine r_eqA (S5_u0 _ _ _ _ _ _ _ _) ?_
          refine r_eqA (congrArg (S5 _ t _ _ _) (st_u13 _ _ _ _ _ _ _)) ?_
          refine r_goto (pc := 23) (tgt := 0) C dX6_next_23 (by decide) ?_
          exact ih0 (j + 1) (by omega) (fun i hi => if q : i = j then by rw [q]; exact decide_eq_true b10 else hs i (by omega)) (by omega)
      · skip
        refine r_top (congrArg oI (btO_ge (by omega))) ?_
        refine r_top oI_none ?_
        refine r_bipush (pc := 8) C dX6_next_8 cb_32 ?_
        refine r_icmp_ne (pc := 10) (tgt := 26) C dX6_next_10 (by decide) (fun b10 => ?_) (fun b10 => ?_)
        · skip
          have ej : a + j = skp B L a := by
            unfold skp
            rw [← runF_eq (B := B) (q := isSp) hj hs (fun hj2 q => by first | exact b10 (of_decide_eq_true q) | omega)]
          obtain ⟨p, hp⟩ : ∃ p, p = skp B L a := ⟨_, rfl⟩
          have hp2 : p ≤ 3000 := by omega
          rw [ej, ← hp]
          refine r_aload_0 (pc := 26) C dX6_next_26 ?_
          refine r_aload_0 (pc := 27) C dX6_next_27 ?_
          refine r_getI (pc := 28) C fl_X6_193_6 (tw_g hT) rfl dX6_next_28 ?_
          refine r_top (congrFun (S5_0 _ _ _ _ _ _) _) ?_
          refine r_top (st_13 _ _ _ _ _ _) ?_
          refine r_putI (pc := 31) C fl_X6_198_6 (tw_g hT) rfl (fun _ _ _ h => by cases h; exact Or.inl rfl) rfl rfl rfl dX6_next_31 ?_
          refine r_eqA (S5_u0 _ _ _ _ _ _ _ _) ?_
          refine r_eqA (congrArg (S5 _ t _ _ _) (st_u14 _ _ _ _ _ _ _)) ?_
          refine r_aload_0 (pc := 34) C dX6_next_34 ?_
          refine r_iconst (pc := 35) C dX6_next_35 ci_0 ?_
          refine r_putI (pc := 36) C fl_X6_201_6 (tw_g hT) rfl (fun _ _ _ h => by cases h; exact Or.inl rfl) rfl rfl rfl dX6_next_36 ?_
          refine r_eqA (S5_u0 _ _ _ _ _ _ _ _) ?_
          refine r_eqA (congrArg (S5 _ t _ _ _) (st_u15 _ _ _ _ _ _ _)) ?_
          have lp39_7 : ∀ (fu : Nat) (i : Nat) (hi : i ≤ L - p) (hl : ∀ k, k < i → isLe (B (p + k)) = true), L - p - i < fu → wa g z 0 0 (S5 A t σ κ π (stT τ (p) (p) (i) (e) (ep))) 39 [some (.ref t)] [] := by
            intro fu
            induction fu with
            | zero => intro i  hi hl hm39; exact absurd hm39 (Nat.not_lt_zero _)
            | succ fu ih39 =>
              intro i  hi hl hm39
              refine r_aload_0 (pc := 39) C dX6_next_39 ?_
              refine r_aload_0 (pc := 40) C dX6_next_40 ?_
              refine r_getI (pc := 41) C fl_X6_198_6 (tw_g hT) rfl dX6_next_41 ?_
              refine r_top (congrFun (S5_0 _ _ _ _ _ _) _) ?_
              refine r_top (st_14 _ _ _ _ _ _) ?_
              refine r_aload_0 (pc := 44) C dX6_next_44 ?_
              refine r_getI (pc := 45) C fl_X6_201_6 (tw_g hT) rfl dX6_next_45 ?_
              refine r_top (congrFun (S5_0 _ _ _ _ _ _) _) ?_
              refine r_top (st_15 _ _ _ _ _ _) ?_
              refine r_iadd (pc := 48) C dX6_next_48 ?_
              refine r_top (nI_add _ _) ?_
              refine r_V1io (pc := 49) C (m_byteAt (by exact hT) hB (by first | exact hτL | exact (st_x _ _ _ _ _ _ (by omega)).trans hτL) (by omega)) vl_X6_195 (tw_g hT) (by decide) (Nat.le_refl _) (Nat.le_refl _) (Nat.le_of_ble_eq_true rfl) rfl dX6_next_49 (fun u8 A8 hc8 => ?_)
              refine r_top hc8.1 ?_
              refine r_eqA hc8.2 ?_
              clear hc8 A8 u8
              refine r_i2l (pc := 52) C dX6_next_52 ?_
              refine r_ldc2 (pc := 53) C q2282 dX6_next_53 ?_
              refine r_ldc2 (pc := 56) C q2283 dX6_next_56 ?_
              refine r_S3io (pc := 59) C (m_inZ (p := 97) (q := 122) (by decide) (by decide)) sl_X6_68 (by decide) (Nat.le_refl _) (Nat.le_refl _) (Nat.le_of_ble_eq_true rfl) rfl dX6_next_59 (fun u9 A9 hc9 => ?_)
              refine r_top hc9.1 ?_
              refine r_eqA hc9.2 ?_
              clear hc9 A9 u9
              refine r_if_eq (pc := 62) (tgt := 78) C dX6_next_62 (by decide) (fun b62 => ?_) (fun b62 => ?_)
              · skip
                have b62 := bI_0.mp b62
                have b62 := fun q => b62 ((inZ_bt (lo := 97) (hi := 122) hB).mpr q)
                have ew : i = wln B L p := runF_eq (B := B) (q := isLe) hi hl (fun hj2 q => b62 ⟨by omega, of_decide_eq_true q⟩)
                refine r_aload_0 (pc := 78) C dX6_next_78 ?_
                refine r_aload_0 (pc := 79) C dX6_next_79 ?_
                refine r_getI (pc := 80) C fl_X6_193_6 (tw_g hT) rfl dX6_next_80 ?_
                refine r_top (congrFun (S5_0 _ _ _ _ _ _) _) ?_
                refine r_top (st_13 _ _ _ _ _ _) ?_
                refine r_V1io (pc := 83) C (m_byteAt (by exact hT) hB (by first | exact hτL | exact (st_x _ _ _ _ _ _ (by omega)).trans hτL) (by omega)) vl_X6_195 (tw_g hT) (by decide) (Nat.le_refl _) (Nat.le_refl _) (Nat.le_of_ble_eq_true rfl) rfl dX6_next_83 (fun u10 A10 hc10 => ?_)
                refine r_top hc10.1 ?_
                refine r_eqA hc10.2 ?_
                clear hc10 A10 u10
                refine r_iret (pc := 86) C E rfl (Nat.le_refl _) (Nat.le_refl _) dX6_next_86 ?_
                subst ew
                subst hp
                exact ⟨rfl, rfl⟩
              · skip
                have b62 := bI_n.mp b62
                have b62 := (inZ_bt (lo := 97) (hi := 122) hB).mp b62
                refine r_aload_0 (pc := 65) C dX6_next_65 ?_
                refine r_dup (pc := 66) C dX6_next_66 rfl ?_
                refine r_getI (pc := 67) C fl_X6_201_6 (tw_g hT) rfl dX6_next_67 ?_
                refine r_top (congrFun (S5_0 _ _ _ _ _ _) _) ?_
                refine r_top (st_15 _ _ _ _ _ _) ?_
                refine r_iconst (pc := 70) C dX6_next_70 ci_1 ?_
                refine r_iadd (pc := 71) C dX6_next_71 ?_
                refine r_top (nI_add _ _) ?_
                refine r_putI (pc := 72) C fl_X6_201_6 (tw_g hT) rfl (fun _ _ _ h => by cases h; exact Or.inl rfl) rfl rfl rfl dX6_next_72 ?_
                refine r_eqA (S5_u0 _ _ _ _ _ _ _ _) ?_
                refine r_eqA (congrArg (S5 _ t _ _ _) (st_u15 _ _ _ _ _ _ _)) ?_
                refine r_goto (pc := 75) (tgt := 39) C dX6_next_75 (by decide) ?_
                exact ih39 (i + 1) (by omega) (fun k hk => if q : k = i then by rw [q]; exact decide_eq_true b62.2 else hl k (by omega)) (by omega)
          exact lp39_7 _ 0 (by omega) (fun k h => absurd h (Nat.not_lt_zero _)) (Nat.lt_succ_self _)
        · exact absurd b10 (by decide +kernel)
  exact lp0_1 _ 0 (by omega) (fun i h => absurd h (Nat.not_lt_zero _)) (Nat.lt_succ_self _)
