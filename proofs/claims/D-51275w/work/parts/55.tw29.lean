/-! THE REFERENCE, 29: names, 3 -/
set_option maxRecDepth 100000
theorem fnd_0 {σ : Rw} {B : Nat → Nat} {L a : Nat} {q : Prop} [Decidable q] {but : Int32} (h : ¬ (1 ≤ wln B L (skp B L a) ∧ wln B L (skp B L a) ≤ 6)) : fndR σ B L a q but = .inl (1, skp B L a) := by
  unfold fndR; rw [nam_0 h]
theorem fnd_n {σ : Rw} {B : Nat → Nat} {L a : Nat} {q : Prop} [Decidable q] {but : Int32} (h : 1 ≤ wln B L (skp B L a) ∧ wln B L (skp B L a) ≤ 6) (h2 : hereR σ B q (skp B L a) (wln B L (skp B L a)) = none) : fndR σ B L a q but = .inl (3, skp B L a) := by
  unfold fndR; rw [nam_1 h]; simp only [h2]
theorem fnd_b {σ : Rw} {B : Nat → Nat} {L a k : Nat} {q : Prop} [Decidable q] {but : Int32} (h : 1 ≤ wln B L (skp B L a) ∧ wln B L (skp B L a) ≤ 6) (h2 : hereR σ B q (skp B L a) (wln B L (skp B L a)) = some k) (h3 : nI k = but) : fndR σ B L a q but = .inl (3, skp B L a) := by
  unfold fndR; rw [nam_1 h]; simp only [h2]; exact if_pos h3
theorem fnd_1 {σ : Rw} {B : Nat → Nat} {L a k : Nat} {q : Prop} [Decidable q] {but : Int32} (h : 1 ≤ wln B L (skp B L a) ∧ wln B L (skp B L a) ≤ 6) (h2 : hereR σ B q (skp B L a) (wln B L (skp B L a)) = some k) (h3 : ¬ nI k = but) : fndR σ B L a q but = .inr (k, skp B L a + wln B L (skp B L a)) := by
  unfold fndR; rw [nam_1 h]; simp only [h2]; exact if_neg h3
theorem new_0 {σ : Rw} {B : Nat → Nat} {L a : Nat} {q : Prop} [Decidable q] (h : ¬ (1 ≤ wln B L (skp B L a) ∧ wln B L (skp B L a) ≤ 6)) : newR σ B L a q = .inl (1, skp B L a) := by
  unfold newR; rw [nam_0 h]
theorem new_s {σ : Rw} {B : Nat → Nat} {L a k : Nat} {q : Prop} [Decidable q] (h : 1 ≤ wln B L (skp B L a) ∧ wln B L (skp B L a) ≤ 6) (h2 : hereR σ B q (skp B L a) (wln B L (skp B L a)) = some k) : newR σ B L a q = .inl (3, skp B L a) := by
  unfold newR; rw [nam_1 h]; simp only [h2]
theorem new_1 {σ : Rw} {B : Nat → Nat} {L a : Nat} {q : Prop} [Decidable q] (h : 1 ≤ wln B L (skp B L a) ∧ wln B L (skp B L a) ≤ 6) (h2 : hereR σ B q (skp B L a) (wln B L (skp B L a)) = none) : newR σ B L a q = .inr (skp B L a + wln B L (skp B L a)) := by
  unfold newR; rw [nam_1 h]; simp only [h2]
def isR {α : Type} (r : RdE ⊕ α) : Bool := match r with
  | .inl _ => false
  | .inr _ => true
set_option maxHeartbeats 4000000 in
theorem m_mustBe {g : GZ} {A : HA} {t : Nat} {σ κ π τ : Nat → Int32} (hT : Tw A t) {a gb w e : Nat} {ep : Int32} {B : Nat → Nat} {L : Nat} (hB : BufI (A.I (t + 8)) B L) (hτL : τ 12 = nI L) {q : Prop} [Decidable q] {but : Int32} (ha : a ≤ L) (h0 : e = 0) (hN : NumI σ) : Ct g wI yX6_mustBe (.code yX6_mustBe cX6_mustBe 4 (Option.some Jvm.ClassFile.FieldType.int)) 5 0 0 [.ref t, .int (bI q), .int but] (S5 A t σ κ π (stT τ a gb w e ep)) (fun u A' => u = nI (numV (fndR σ B L a q but) 0) ∧ A' = S5 A t σ κ π (stT τ (if 1 ≤ wln B L (skp B L a) ∧ wln B L (skp B L a) ≤ 6 then skp B L a + wln B L (skp B L a) else skp B L a) (skp B L a) (wln B L (skp B L a)) (errC (fndR σ B L a q but)) (errP (fndR σ B L a q but) ep))) fw_no := by
  refine Ct.of [some (.ref t), some (.int (bI q)), some (.int but), none] (by decide) rfl rfl fun z C hx hnm E => ?_
  have hBl := hB.l
  obtain ⟨p, hp⟩ : ∃ p, p = skp B L a := ⟨_, rfl⟩
  have hp2 : p ≤ L := by rw [hp]; exact skp_le ha
  have hwl := @wln_le B L p
  refine r_aload_0 (pc := 0) C dX6_mustBe_0 ?_
  refine r_V0io (pc := 1) C (m_isName (by exact hT) hB hτL (by omega) h0) vl_X6_236 (tw_g hT) (by decide) (Nat.le_refl _) (Nat.le_refl _) (Nat.le_of_ble_eq_true rfl) rfl dX6_mustBe_1 (fun u1 A1 hc1 => ?_)
  refine r_top hc1.1 ?_
  refine r_eqA hc1.2 ?_
  rw [← hp]
  clear hc1 A1 u1
  refine r_if_ne (pc := 4) (tgt := 9) C dX6_mustBe_4 (by decide) (fun b4 => ?_) (fun b4 => ?_)
  · skip
    have b4 := bI_n.mp b4
    refine r_eqA (A' := S5 A t σ κ π (stT τ (p) (p) (wln B L p) (0) (ep))) (by rw [nam_1 (show _ from by rw [← hp]; exact b4)]; rfl) ?_
    refine r_aload_0 (pc := 9) C dX6_mustBe_9 ?_
    refine r_iload_1 (pc := 10) C dX6_mustBe_10 ?_
    refine r_V1io (pc := 11) C (m_thingHere (by exact hT) hB hτL hN (by omega) (by omega) (by omega)) vl_X6_239 (tw_g hT) (by decide) (Nat.le_refl _) (Nat.le_refl _) (Nat.le_of_ble_eq_true rfl) rfl dX6_mustBe_11 (fun u2 A2 hc2 => ?_)
    refine r_top hc2.1 ?_
    refine r_eqA hc2.2 ?_
    clear hc2 A2 u2
    refine r_istore_3 (pc := 14) C dX6_mustBe_14 rfl ?_
    rcases hh : hereR σ B q p (wln B L p) with _ | k
    · skip
      refine r_eqL (lv' := [some (.ref t), some (.int (bI q)), some (.int but), some (.int (-1))]) rfl ?_
      refine r_aload_0 (pc := 15) C dX6_mustBe_15 ?_
      refine r_iload_3 (pc := 16) C dX6_mustBe_16 ?_
      refine r_iconst (pc := 17) C dX6_mustBe_17 ci_m1 ?_
      refine r_icmp_eq (pc := 18) (tgt := 30) C dX6_mustBe_18 (by decide) (fun b18 => ?_) (fun b18 => ?_)
      · skip
        refine r_iconst (pc := 30) C dX6_mustBe_30 ci_0 ?_
        refine r_iconst (pc := 31) C dX6_mustBe_31 ci_3 ?_
        refine r_V2vo (pc := 32) C (m_must_c0 (by exact hT) (by omega)) vl_X6_217 (tw_g hT) (by decide) (Nat.le_refl _) (Nat.le_refl _) (Nat.le_of_ble_eq_true rfl) rfl dX6_mustBe_32 (fun u3 A3 hc3 => ?_)
        refine r_eqA hc3 ?_
        clear hc3 A3 u3
        refine r_aload_0 (pc := 35) C dX6_mustBe_35 ?_
        refine r_V0vo (pc := 36) C (m_goesPast (by exact hT) (by omega) (by omega)) vl_X6_242 (tw_g hT) (by decide) (Nat.le_refl _) (Nat.le_refl _) (Nat.le_of_ble_eq_true rfl) rfl dX6_mustBe_36 (fun u4 A4 hc4 => ?_)
        refine r_eqA hc4 ?_
        clear hc4 A4 u4
        refine r_aload_0 (pc := 39) C dX6_mustBe_39 ?_
        refine r_getI (pc := 40) C fl_X6_208_6 (tw_g hT) rfl dX6_mustBe_40 ?_
        refine r_top (congrFun (S5_0 _ _ _ _ _ _) _) ?_
        refine r_top (st_16 _ _ _ _ _ _) ?_
        refine r_if_ne (pc := 43) (tgt := 50) C dX6_mustBe_43 (by decide) (fun b43 => ?_) (fun b43 => ?_)
        · skip
          have b43 := (not_congr (nI_eq0 (by omega))).mp b43
          refine r_iconst (pc := 50) C dX6_mustBe_50 ci_0 ?_
          refine r_iret (pc := 51) C E rfl (Nat.le_refl _) (Nat.le_refl _) dX6_mustBe_51 ?_
          subst hp
          subst h0
          first
            | (rw [fnd_0 b4, nam_0 b4, if_neg b4]; exact ⟨rfl, rfl⟩)
            | (rw [fnd_n b4 hh, if_pos b4]; exact ⟨rfl, rfl⟩)
            | (rw [fnd_b b4 hh b23, if_pos b4]; exact ⟨rfl, rfl⟩)
            | (rw [fnd_1 b4 hh b23, if_pos b4]; exact ⟨rfl, rfl⟩)
            | (exfalso; omega)
        · skip
          have b43 := (nI_eq0 (by omega)).mp b43
          refine r_iload_3 (pc := 46) C dX6_mustBe_46 ?_
          refine r_goto (pc := 47) (tgt := 51) C dX6_mustBe_47 (by decide) ?_
          refine r_iret (pc := 51) C E rfl (Nat.le_refl _) (Nat.le_refl _) dX6_mustBe_51 ?_
          subst hp
          subst h0
          first
            | (rw [fnd_0 b4, nam_0 b4, if_neg b4]; exact ⟨rfl, rfl⟩)
            | (rw [fnd_n b4 hh, if_pos b4]; exact ⟨rfl, rfl⟩)
            | (rw [fnd_b b4 hh b23, if_pos b4]; exact ⟨rfl, rfl⟩)
            | (rw [fnd_1 b4 hh b23, if_pos b4]; exact ⟨rfl, rfl⟩)
            | (exfalso; omega)
      · exact absurd b18 (by decide +kernel)
    · skip
      refine r_eqL (lv' := [some (.ref t), some (.int (bI q)), some (.int but), some (.int (nI k))]) rfl ?_
      have hk6 := hereR_lt hN hh
      refine r_aload_0 (pc := 15) C dX6_mustBe_15 ?_
      refine r_iload_3 (pc := 16) C dX6_mustBe_16 ?_
      refine r_iconst (pc := 17) C dX6_mustBe_17 ci_m1 ?_
      refine r_icmp_eq (pc := 18) (tgt := 30) C dX6_mustBe_18 (by decide) (fun b18 => ?_) (fun b18 => ?_)
      · skip
        exact absurd b18 (nI_m1 (by omega))
      · skip
        refine r_iload_3 (pc := 21) C dX6_mustBe_21 ?_
        refine r_iload_2 (pc := 22) C dX6_mustBe_22 ?_
        refine r_icmp_eq (pc := 23) (tgt := 30) C dX6_mustBe_23 (by decide) (fun b23 => ?_) (fun b23 => ?_)
        · skip
          refine r_iconst (pc := 30) C dX6_mustBe_30 ci_0 ?_
          refine r_iconst (pc := 31) C dX6_mustBe_31 ci_3 ?_
          refine r_V2vo (pc := 32) C (m_must_c0 (by exact hT) (by omega)) vl_X6_217 (tw_g hT) (by decide) (Nat.le_refl _) (Nat.le_refl _) (Nat.le_of_ble_eq_true rfl) rfl dX6_mustBe_32 (fun u5 A5 hc5 => ?_)
          refine r_eqA hc5 ?_
          clear hc5 A5 u5
          refine r_aload_0 (pc := 35) C dX6_mustBe_35 ?_
          refine r_V0vo (pc := 36) C (m_goesPast (by exact hT) (by omega) (by omega)) vl_X6_242 (tw_g hT) (by decide) (Nat.le_refl _) (Nat.le_refl _) (Nat.le_of_ble_eq_true rfl) rfl dX6_mustBe_36 (fun u6 A6 hc6 => ?_)
          refine r_eqA hc6 ?_
          clear hc6 A6 u6
          refine r_aload_0 (pc := 39) C dX6_mustBe_39 ?_
          refine r_getI (pc := 40) C fl_X6_208_6 (tw_g hT) rfl dX6_mustBe_40 ?_
          refine r_top (congrFun (S5_0 _ _ _ _ _ _) _) ?_
          refine r_top (st_16 _ _ _ _ _ _) ?_
          refine r_if_ne (pc := 43) (tgt := 50) C dX6_mustBe_43 (by decide) (fun b43 => ?_) (fun b43 => ?_)
          · skip
            have b43 := (not_congr (nI_eq0 (by omega))).mp b43
            refine r_iconst (pc := 50) C dX6_mustBe_50 ci_0 ?_
            refine r_iret (pc := 51) C E rfl (Nat.le_refl _) (Nat.le_refl _) dX6_mustBe_51 ?_
            subst hp
            subst h0
            first
              | (rw [fnd_0 b4, nam_0 b4, if_neg b4]; exact ⟨rfl, rfl⟩)
              | (rw [fnd_n b4 hh, if_pos b4]; exact ⟨rfl, rfl⟩)
              | (rw [fnd_b b4 hh b23, if_pos b4]; exact ⟨rfl, rfl⟩)
              | (rw [fnd_1 b4 hh b23, if_pos b4]; exact ⟨rfl, rfl⟩)
              | (exfalso; omega)
          · skip
            have b43 := (nI_eq0 (by omega)).mp b43
            refine r_iload_3 (pc := 46) C dX6_mustBe_46 ?_
            refine r_goto (pc := 47) (tgt := 51) C dX6_mustBe_47 (by decide) ?_
            refine r_iret (pc := 51) C E rfl (Nat.le_refl _) (Nat.le_refl _) dX6_mustBe_51 ?_
            subst hp
            subst h0
            first
              | (rw [fnd_0 b4, nam_0 b4, if_neg b4]; exact ⟨rfl, rfl⟩)
              | (rw [fnd_n b4 hh, if_pos b4]; exact ⟨rfl, rfl⟩)
              | (rw [fnd_b b4 hh b23, if_pos b4]; exact ⟨rfl, rfl⟩)
              | (rw [fnd_1 b4 hh b23, if_pos b4]; exact ⟨rfl, rfl⟩)
              | (exfalso; omega)
        · skip
          refine r_iconst (pc := 26) C dX6_mustBe_26 ci_1 ?_
          refine r_goto (pc := 27) (tgt := 31) C dX6_mustBe_27 (by decide) ?_
          refine r_iconst (pc := 31) C dX6_mustBe_31 ci_3 ?_
          refine r_V2vo (pc := 32) C (m_must_c1 (by exact hT)) vl_X6_217 (tw_g hT) (by decide) (Nat.le_refl _) (Nat.le_refl _) (Nat.le_of_ble_eq_true rfl) rfl dX6_mustBe_32 (fun u7 A7 hc7 => ?_)
          refine r_eqA hc7 ?_
          clear hc7 A7 u7
          refine r_aload_0 (pc := 35) C dX6_mustBe_35 ?_
          refine r_V0vo (pc := 36) C (m_goesPast (by exact hT) (by omega) (by omega)) vl_X6_242 (tw_g hT) (by decide) (Nat.le_refl _) (Nat.le_refl _) (Nat.le_of_ble_eq_true rfl) rfl dX6_mustBe_36 (fun u8 A8 hc8 => ?_)
          refine r_eqA hc8 ?_
          clear hc8 A8 u8
          refine r_aload_0 (pc := 39) C dX6_mustBe_39 ?_
          refine r_getI (pc := 40) C fl_X6_208_6 (tw_g hT) rfl dX6_mustBe_40 ?_
          refine r_top (congrFun (S5_0 _ _ _ _ _ _) _) ?_
          refine r_top (st_16 _ _ _ _ _ _) ?_
          refine r_if_ne (pc := 43) (tgt := 50) C dX6_mustBe_43 (by decide) (fun b43 => ?_) (fun b43 => ?_)
          · skip
            have b43 := (not_congr (nI_eq0 (by omega))).mp b43
            refine r_iconst (pc := 50) C dX6_mustBe_50 ci_0 ?_
            refine r_iret (pc := 51) C E rfl (Nat.le_refl _) (Nat.le_refl _) dX6_mustBe_51 ?_
            subst hp
            subst h0
            first
              | (rw [fnd_0 b4, nam_0 b4, if_neg b4]; exact ⟨rfl, rfl⟩)
              | (rw [fnd_n b4 hh, if_pos b4]; exact ⟨rfl, rfl⟩)
              | (rw [fnd_b b4 hh b23, if_pos b4]; exact ⟨rfl, rfl⟩)
              | (rw [fnd_1 b4 hh b23, if_pos b4]; exact ⟨rfl, rfl⟩)
              | (exfalso; omega)
          · skip
            have b43 := (nI_eq0 (by omega)).mp b43
            refine r_iload_3 (pc := 46) C dX6_mustBe_46 ?_
            refine r_goto (pc := 47) (tgt := 51) C dX6_mustBe_47 (by decide) ?_
            refine r_iret (pc := 51) C E rfl (Nat.le_refl _) (Nat.le_refl _) dX6_mustBe_51 ?_
            subst hp
            subst h0
            first
              | (rw [fnd_0 b4, nam_0 b4, if_neg b4]; exact ⟨rfl, rfl⟩)
              | (rw [fnd_n b4 hh, if_pos b4]; exact ⟨rfl, rfl⟩)
              | (rw [fnd_b b4 hh b23, if_pos b4]; exact ⟨rfl, rfl⟩)
              | (rw [fnd_1 b4 hh b23, if_pos b4]; exact ⟨rfl, rfl⟩)
              | (exfalso; omega)
  · skip
    have b4 := bI_0.mp b4
    refine r_iconst (pc := 7) C dX6_mustBe_7 ci_0 ?_
    refine r_iret (pc := 8) C E rfl (Nat.le_refl _) (Nat.le_refl _) dX6_mustBe_8 ?_
    subst hp
    subst h0
    first
      | (rw [fnd_0 b4, nam_0 b4, if_neg b4]; exact ⟨rfl, rfl⟩)
      | (rw [fnd_n b4 hh, if_pos b4]; exact ⟨rfl, rfl⟩)
      | (rw [fnd_b b4 hh b23, if_pos b4]; exact ⟨rfl, rfl⟩)
      | (rw [fnd_1 b4 hh b23, if_pos b4]; exact ⟨rfl, rfl⟩)
      | (exfalso; omega)
set_option maxHeartbeats 4000000 in
theorem m_mustBeE {g : GZ} {A : HA} {t : Nat} {σ κ π τ : Nat → Int32} (hT : Tw A t) {a gb w e : Nat} {ep : Int32} {q : Prop} [Decidable q] {but : Int32} (h0 : ¬ e = 0) (he : e ≤ 4) : Ct g wI yX6_mustBe (.code yX6_mustBe cX6_mustBe 4 (Option.some Jvm.ClassFile.FieldType.int)) 5 0 0 [.ref t, .int (bI q), .int but] (S5 A t σ κ π (stT τ a gb w e ep)) (fun u A' => u = nI 0 ∧ A' = S5 A t σ κ π (stT τ a gb w e ep)) fw_no := by
  refine Ct.of [some (.ref t), some (.int (bI q)), some (.int but), none] (by decide) rfl rfl fun z C hx hnm E => ?_
  refine r_aload_0 (pc := 0) C dX6_mustBe_0 ?_
  refine r_V0io (pc := 1) C (m_isNameE (by exact hT) h0 he) vl_X6_236 (tw_g hT) (by decide) (Nat.le_refl _) (Nat.le_refl _) (Nat.le_of_ble_eq_true rfl) rfl dX6_mustBe_1 (fun u1 A1 hc1 => ?_)
  refine r_top hc1.1 ?_
  refine r_eqA hc1.2 ?_
  clear hc1 A1 u1
  refine r_if_ne (pc := 4) (tgt := 9) C dX6_mustBe_4 (by decide) (fun b4 => ?_) (fun b4 => ?_)
  · exact absurd b4 (by decide +kernel)
  · skip
    refine r_iconst (pc := 7) C dX6_mustBe_7 ci_0 ?_
    refine r_iret (pc := 8) C E rfl (Nat.le_refl _) (Nat.le_refl _) dX6_mustBe_8 ?_
    exact ⟨rfl, rfl⟩
set_option maxHeartbeats 4000000 in
theorem m_newName {g : GZ} {A : HA} {t : Nat} {σ κ π τ : Nat → Int32} (hT : Tw A t) {a gb w e : Nat} {ep : Int32} {B : Nat → Nat} {L : Nat} (hB : BufI (A.I (t + 8)) B L) (hτL : τ 12 = nI L) {q : Prop} [Decidable q] {f : Nat} (ha : a ≤ L) (h0 : e = 0) (hN : NumI σ) (hf : f < 500) : Ct g wV yX6_newName (.code yX6_newName cX6_newName 4 (Option.none : Option Jvm.ClassFile.FieldType)) 5 0 0 [.ref t, .int (nI (f)), .int (bI q)] (S5 A t σ κ π (stT τ a gb w e ep)) (fun u A' => A' = S5 A t (if isR (newR σ B L a q) then nmPut σ B f (skp B L a) (wln B L (skp B L a)) (wln B L (skp B L a)) else σ) κ π (stT τ (if isR (newR σ B L a q) then skp B L a + wln B L (skp B L a) else skp B L a) (skp B L a) (wln B L (skp B L a)) (errC (newR σ B L a q)) (errP (newR σ B L a q) ep))) fw_no := by
  refine Ct.of [some (.ref t), some (.int (nI (f))), some (.int (bI q)), none] (by decide) rfl rfl fun z C hx hnm E => ?_
  have hBl := hB.l
  obtain ⟨p, hp⟩ : ∃ p, p = skp B L a := ⟨_, rfl⟩
  have hp2 : p ≤ L := by rw [hp]; exact skp_le ha
  have hwl := @wln_le B L p
  refine r_aload_0 (pc := 0) C dX6_newName_0 ?_
  refine r_V0io (pc := 1) C (m_isName (by exact hT) hB hτL (by omega) h0) vl_X6_236 (tw_g hT) (by decide) (Nat.le_refl _) (Nat.le_refl _) (Nat.le_of_ble_eq_true rfl) rfl dX6_newName_1 (fun u1 A1 hc1 => ?_)
  refine r_top hc1.1 ?_
  refine r_eqA hc1.2 ?_
  rw [← hp]
  clear hc1 A1 u1
  refine r_if_ne (pc := 4) (tgt := 8) C dX6_newName_4 (by decide) (fun b4 => ?_) (fun b4 => ?_)
  · skip
    have b4 := bI_n.mp b4
    refine r_eqA (A' := S5 A t σ κ π (stT τ (p) (p) (wln B L p) (0) (ep))) (by rw [nam_1 (show _ from by rw [← hp]; exact b4)]; rfl) ?_
    refine r_aload_0 (pc := 8) C dX6_newName_8 ?_
    refine r_aload_0 (pc := 9) C dX6_newName_9 ?_
    refine r_iload_2 (pc := 10) C dX6_newName_10 ?_
    refine r_V1io (pc := 11) C (m_thingHere (by exact hT) hB hτL hN (by omega) (by omega) (by omega)) vl_X6_239 (tw_g hT) (by decide) (Nat.le_refl _) (Nat.le_refl _) (Nat.le_of_ble_eq_true rfl) rfl dX6_newName_11 (fun u2 A2 hc2 => ?_)
    refine r_top hc2.1 ?_
    refine r_eqA hc2.2 ?_
    clear hc2 A2 u2
    rcases hh : hereR σ B q p (wln B L p) with _ | k0
    · skip
      refine r_top (rfl : oI none = -1) ?_
      refine r_iconst (pc := 14) C dX6_newName_14 ci_m1 ?_
      refine r_icmp_ne (pc := 15) (tgt := 22) C dX6_newName_15 (by decide) (fun b15 => ?_) (fun b15 => ?_)
      · exact absurd b15 (by decide +kernel)
      · skip
        refine r_iconst (pc := 18) C dX6_newName_18 ci_1 ?_
        refine r_goto (pc := 19) (tgt := 23) C dX6_newName_19 (by decide) ?_
        refine r_iconst (pc := 23) C dX6_newName_23 ci_3 ?_
        refine r_V2vo (pc := 24) C (m_must_c1 (by exact hT)) vl_X6_217 (tw_g hT) (by decide) (Nat.le_refl _) (Nat.le_refl _) (Nat.le_of_ble_eq_true rfl) rfl dX6_newName_24 (fun u3 A3 hc3 => ?_)
        refine r_eqA hc3 ?_
        clear hc3 A3 u3
        refine r_aload_0 (pc := 27) C dX6_newName_27 ?_
        refine r_getI (pc := 28) C fl_X6_208_6 (tw_g hT) rfl dX6_newName_28 ?_
        refine r_top (congrFun (S5_0 _ _ _ _ _ _) _) ?_
        refine r_top (st_16 _ _ _ _ _ _) ?_
        refine r_if_eq (pc := 31) (tgt := 35) C dX6_newName_31 (by decide) (fun b31 => ?_) (fun b31 => ?_)
        · skip
          have b31 := (nI_eq0 (by omega)).mp b31
          refine r_aload_0 (pc := 35) C dX6_newName_35 ?_
          refine r_getR (pc := 36) C fl_X6_7_6 (tw_g hT) rfl (tw_r1 hT) dX6_newName_36 ?_
          refine r_iload_1 (pc := 39) C dX6_newName_39 ?_
          refine r_aload_0 (pc := 40) C dX6_newName_40 ?_
          refine r_getI (pc := 41) C fl_X6_201_6 (tw_g hT) rfl dX6_newName_41 ?_
          refine r_top (congrFun (S5_0 _ _ _ _ _ _) _) ?_
          refine r_top (st_15 _ _ _ _ _ _) ?_
          refine r_iast (pc := 44) C (tw_g1 hT) rfl rfl (lt_eq (by omega) (tw_n1 hT)) (by omega) dX6_newName_44 ?_
          refine r_eqA (S5_u1 _ _ _ _ _ _ _ _) ?_
          refine r_iconst (pc := 45) C dX6_newName_45 ci_0 ?_
          refine r_istore_3 (pc := 46) C dX6_newName_46 rfl ?_
          have lp47_4 : ∀ (fu : Nat) (k : Nat) (hk : k ≤ wln B L p), wln B L p - k < fu → wa g z 0 0 (S5 A t (nmPut σ B f p (wln B L p) k) κ π (stT τ p p (wln B L p) 0 ep)) 47 [some (.ref t), some (.int (nI (f))), some (.int (bI q)), some (.int (nI (k)))] [] := by
            intro fu
            induction fu with
            | zero => intro k  hk hm47; exact absurd hm47 (Nat.not_lt_zero _)
            | succ fu ih47 =>
              intro k  hk hm47
              refine r_iload_3 (pc := 47) C dX6_newName_47 ?_
              refine r_aload_0 (pc := 48) C dX6_newName_48 ?_
              refine r_getI (pc := 49) C fl_X6_201_6 (tw_g hT) rfl dX6_newName_49 ?_
              refine r_top (congrFun (S5_0 _ _ _ _ _ _) _) ?_
              refine r_top (st_15 _ _ _ _ _ _) ?_
              refine r_icmp_ge (pc := 52) (tgt := 81) C dX6_newName_52 (by decide) (fun b52 => ?_) (fun b52 => ?_)
              · skip
                have b52 := (nI_le2 (by omega) (by omega)).mp b52
                have e9 : k = wln B L p := by omega
                subst e9
                refine r_aload_0 (pc := 81) C dX6_newName_81 ?_
                refine r_V0vo (pc := 82) C (m_goesPast (by exact hT) (by omega) (by omega)) vl_X6_242 (tw_g hT) (by decide) (Nat.le_refl _) (Nat.le_refl _) (Nat.le_of_ble_eq_true rfl) rfl dX6_newName_82 (fun u5 A5 hc5 => ?_)
                refine r_eqA hc5 ?_
                clear hc5 A5 u5
                refine r_vret (pc := 85) C E (Nat.le_refl _) (Nat.le_refl _) dX6_newName_85 ?_
                subst hp
                subst h0
                first
                  | (rw [new_0 b4, nam_0 b4]; rfl)
                  | (rw [new_s b4 hh]; rfl)
                  | (rw [new_s b4 hh, if_pos b4]; rfl)
                  | (rw [new_1 b4 hh]; rfl)
                  | (exfalso; omega)
              · skip
                have b52 := (not_congr (nI_le2 (by omega) (by omega))).mp b52
                refine r_aload_0 (pc := 55) C dX6_newName_55 ?_
                refine r_getR (pc := 56) C fl_X6_7_6 (tw_g hT) rfl (tw_r1 hT) dX6_newName_56 ?_
                refine r_iload_1 (pc := 59) C dX6_newName_59 ?_
                refine r_iconst (pc := 60) C dX6_newName_60 ci_1 ?_
                refine r_iadd (pc := 61) C dX6_newName_61 ?_
                refine r_top (nI_add _ _) ?_
                refine r_iload_3 (pc := 62) C dX6_newName_62 ?_
                refine r_iadd (pc := 63) C dX6_newName_63 ?_
                refine r_top (nI_add _ _) ?_
                refine r_aload_0 (pc := 64) C dX6_newName_64 ?_
                refine r_aload_0 (pc := 65) C dX6_newName_65 ?_
                refine r_getI (pc := 66) C fl_X6_198_6 (tw_g hT) rfl dX6_newName_66 ?_
                refine r_top (congrFun (S5_0 _ _ _ _ _ _) _) ?_
                refine r_top (st_14 _ _ _ _ _ _) ?_
                refine r_iload_3 (pc := 69) C dX6_newName_69 ?_
                refine r_iadd (pc := 70) C dX6_newName_70 ?_
                refine r_top (nI_add _ _) ?_
                refine r_V1io (pc := 71) C (m_byteAt (by exact hT) hB (by first | exact hτL | exact (st_x _ _ _ _ _ _ (by omega)).trans hτL) (by omega)) vl_X6_195 (tw_g hT) (by decide) (Nat.le_refl _) (Nat.le_refl _) (Nat.le_of_ble_eq_true rfl) rfl dX6_newName_71 (fun u6 A6 hc6 => ?_)
                refine r_top hc6.1 ?_
                refine r_eqA hc6.2 ?_
                clear hc6 A6 u6
                refine r_top ((congrArg oI (btO_lt (by omega))).trans (oI_some _)) ?_
                refine r_iast (pc := 74) C (tw_g1 hT) rfl rfl (lt_eq (by omega) (tw_n1 hT)) (by omega) dX6_newName_74 ?_
                refine r_eqA (S5_u1 _ _ _ _ _ _ _ _) ?_
                refine r_iinc_3 (pc := 75) C dX6_newName_75 (nI_inc _) rfl ?_
                refine r_goto (pc := 78) (tgt := 47) C dX6_newName_78 (by decide) ?_
                exact ih47 (k + 1) (by omega) (by omega)
          exact lp47_4 _ 0 (by omega) (Nat.lt_succ_self _)
        · skip
          have b31 := (not_congr (nI_eq0 (by omega))).mp b31
          refine r_vret (pc := 34) C E (Nat.le_refl _) (Nat.le_refl _) dX6_newName_34 ?_
          subst hp
          subst h0
          first
            | (rw [new_0 b4, nam_0 b4]; rfl)
            | (rw [new_s b4 hh]; rfl)
            | (rw [new_s b4 hh, if_pos b4]; rfl)
            | (rw [new_1 b4 hh]; rfl)
            | (exfalso; omega)
    · skip
      refine r_top (rfl : oI (some k0) = nI k0) ?_
      have hk6 := hereR_lt hN hh
      refine r_iconst (pc := 14) C dX6_newName_14 ci_m1 ?_
      refine r_icmp_ne (pc := 15) (tgt := 22) C dX6_newName_15 (by decide) (fun b15 => ?_) (fun b15 => ?_)
      · skip
        refine r_iconst (pc := 22) C dX6_newName_22 ci_0 ?_
        refine r_iconst (pc := 23) C dX6_newName_23 ci_3 ?_
        refine r_V2vo (pc := 24) C (m_must_c0 (by exact hT) (by omega)) vl_X6_217 (tw_g hT) (by decide) (Nat.le_refl _) (Nat.le_refl _) (Nat.le_of_ble_eq_true rfl) rfl dX6_newName_24 (fun u7 A7 hc7 => ?_)
        refine r_eqA hc7 ?_
        clear hc7 A7 u7
        refine r_aload_0 (pc := 27) C dX6_newName_27 ?_
        refine r_getI (pc := 28) C fl_X6_208_6 (tw_g hT) rfl dX6_newName_28 ?_
        refine r_top (congrFun (S5_0 _ _ _ _ _ _) _) ?_
        refine r_top (st_16 _ _ _ _ _ _) ?_
        refine r_if_eq (pc := 31) (tgt := 35) C dX6_newName_31 (by decide) (fun b31 => ?_) (fun b31 => ?_)
        · skip
          have b31 := (nI_eq0 (by omega)).mp b31
          exfalso; omega
        · skip
          have b31 := (not_congr (nI_eq0 (by omega))).mp b31
          refine r_vret (pc := 34) C E (Nat.le_refl _) (Nat.le_refl _) dX6_newName_34 ?_
          subst hp
          subst h0
          first
            | (rw [new_0 b4, nam_0 b4]; rfl)
            | (rw [new_s b4 hh]; rfl)
            | (rw [new_s b4 hh, if_pos b4]; rfl)
            | (rw [new_1 b4 hh]; rfl)
            | (exfalso; omega)
      · skip
        exact absurd b15 (nI_m1 (by omega))
  · skip
    have b4 := bI_0.mp b4
    refine r_vret (pc := 7) C E (Nat.le_refl _) (Nat.le_refl _) dX6_newName_7 ?_
    subst hp
    subst h0
    first
      | (rw [new_0 b4, nam_0 b4]; rfl)
      | (rw [new_s b4 hh]; rfl)
      | (rw [new_s b4 hh, if_pos b4]; rfl)
      | (rw [new_1 b4 hh]; rfl)
      | (exfalso; omega)
set_option maxHeartbeats 4000000 in
theorem m_newNameE {g : GZ} {A : HA} {t : Nat} {σ κ π τ : Nat → Int32} (hT : Tw A t) {a gb w e : Nat} {ep : Int32} {q : Prop} [Decidable q] {f : Nat} (h0 : ¬ e = 0) (he : e ≤ 4) : Ct g wV yX6_newName (.code yX6_newName cX6_newName 4 (Option.none : Option Jvm.ClassFile.FieldType)) 5 0 0 [.ref t, .int (nI (f)), .int (bI q)] (S5 A t σ κ π (stT τ a gb w e ep)) (fun u A' => A' = S5 A t σ κ π (stT τ a gb w e ep)) fw_no := by
  refine Ct.of [some (.ref t), some (.int (nI (f))), some (.int (bI q)), none] (by decide) rfl rfl fun z C hx hnm E => ?_
  refine r_aload_0 (pc := 0) C dX6_newName_0 ?_
  refine r_V0io (pc := 1) C (m_isNameE (by exact hT) h0 he) vl_X6_236 (tw_g hT) (by decide) (Nat.le_refl _) (Nat.le_refl _) (Nat.le_of_ble_eq_true rfl) rfl dX6_newName_1 (fun u1 A1 hc1 => ?_)
  refine r_top hc1.1 ?_
  refine r_eqA hc1.2 ?_
  clear hc1 A1 u1
  refine r_if_ne (pc := 4) (tgt := 8) C dX6_newName_4 (by decide) (fun b4 => ?_) (fun b4 => ?_)
  · exact absurd b4 (by decide +kernel)
  · skip
    refine r_vret (pc := 7) C E (Nat.le_refl _) (Nat.le_refl _) dX6_newName_7 ?_
    exact rfl
set_option maxHeartbeats 4000000 in
theorem m_startsText {g : GZ} {A : HA} {t : Nat} {σ κ π τ : Nat → Int32} (hT : Tw A t) {a gb w e : Nat} {ep : Int32}  : Ct g wV yX6_startsText (.code yX6_startsText cX6_startsText 1 (Option.none : Option Jvm.ClassFile.FieldType)) 1 0 0 [.ref t] (S5 A t σ κ π (stT τ a gb w e ep)) (fun u A' => A' = S5 A t σ κ π (stT τ (0) (0) (w) (0) (-1))) fw_no := by
  refine Ct.of [some (.ref t)] (by decide) rfl rfl fun z C hx hnm E => ?_
  refine r_aload_0 (pc := 0) C dX6_startsText_0 ?_
  refine r_iconst (pc := 1) C dX6_startsText_1 ci_0 ?_
  refine r_putI (pc := 2) C fl_X6_193_6 (tw_g hT) rfl (fun _ _ _ h => by cases h; exact Or.inl rfl) rfl rfl rfl dX6_startsText_2 ?_
  refine r_eqA (S5_u0 _ _ _ _ _ _ _ _) ?_
  refine r_eqA (congrArg (S5 _ t _ _ _) (st_u13 _ _ _ _ _ _ _)) ?_
  refine r_aload_0 (pc := 5) C dX6_startsText_5 ?_
  refine r_iconst (pc := 6) C dX6_startsText_6 ci_0 ?_
  refine r_putI (pc := 7) C fl_X6_198_6 (tw_g hT) rfl (fun _ _ _ h => by cases h; exact Or.inl rfl) rfl rfl rfl dX6_startsText_7 ?_
  refine r_eqA (S5_u0 _ _ _ _ _ _ _ _) ?_
  refine r_eqA (congrArg (S5 _ t _ _ _) (st_u14 _ _ _ _ _ _ _)) ?_
  refine r_aload_0 (pc := 10) C dX6_startsText_10 ?_
  refine r_iconst (pc := 11) C dX6_startsText_11 ci_0 ?_
  refine r_putI (pc := 12) C fl_X6_208_6 (tw_g hT) rfl (fun _ _ _ h => by cases h; exact Or.inl rfl) rfl rfl rfl dX6_startsText_12 ?_
  refine r_eqA (S5_u0 _ _ _ _ _ _ _ _) ?_
  refine r_eqA (congrArg (S5 _ t _ _ _) (st_u16 _ _ _ _ _ _ _)) ?_
  refine r_aload_0 (pc := 15) C dX6_startsText_15 ?_
  refine r_iconst (pc := 16) C dX6_startsText_16 ci_m1 ?_
  refine r_putI (pc := 17) C fl_X6_211_6 (tw_g hT) rfl (fun _ _ _ h => by cases h; exact Or.inl rfl) rfl rfl rfl dX6_startsText_17 ?_
  refine r_eqA (S5_u0 _ _ _ _ _ _ _ _) ?_
  refine r_eqA (congrArg (S5 _ t _ _ _) (st_u17 _ _ _ _ _ _ _)) ?_
  refine r_vret (pc := 20) C E (Nat.le_refl _) (Nat.le_refl _) dX6_startsText_20 ?_
  exact rfl
set_option maxHeartbeats 4000000 in
theorem m_endsText {g : GZ} {A : HA} {t : Nat} {σ κ π τ : Nat → Int32} (hT : Tw A t) {a gb w e : Nat} {ep : Int32} (he : e ≤ 4) : Ct g wI yX6_endsText (.code yX6_endsText cX6_endsText 1 (Option.some Jvm.ClassFile.FieldType.boolean)) 1 0 0 [.ref t] (S5 A t σ κ π (stT τ a gb w e ep)) (fun u A' => u = bI (e = 0) ∧ A' = S5 A t σ κ π (stT (upd (upd (upd τ 12 (nI 0)) 18 (nI e)) 19 ep) (a) (gb) (w) (e) (ep))) fw_no := by
  refine Ct.of [some (.ref t)] (by decide) rfl rfl fun z C hx hnm E => ?_
  refine r_aload_0 (pc := 0) C dX6_endsText_0 ?_
  refine r_iconst (pc := 1) C dX6_endsText_1 ci_0 ?_
  refine r_putI (pc := 2) C fl_X6_56_6 (tw_g hT) rfl (fun _ _ _ h => by cases h; exact Or.inl rfl) rfl rfl rfl dX6_endsText_2 ?_
  refine r_eqA (S5_u0 _ _ _ _ _ _ _ _) ?_
  refine r_eqA (congrArg (S5 _ t _ _ _) (st_ux _ _ _ _ _ _ (by decide))) ?_
  refine r_aload_0 (pc := 5) C dX6_endsText_5 ?_
  refine r_aload_0 (pc := 6) C dX6_endsText_6 ?_
  refine r_getI (pc := 7) C fl_X6_208_6 (tw_g hT) rfl dX6_endsText_7 ?_
  refine r_top (congrFun (S5_0 _ _ _ _ _ _) _) ?_
  refine r_top (st_16 _ _ _ _ _ _) ?_
  refine r_putI (pc := 10) C fl_X6_245_6 (tw_g hT) rfl (fun _ _ _ h => by cases h; exact Or.inl rfl) rfl rfl rfl dX6_endsText_10 ?_
  refine r_eqA (S5_u0 _ _ _ _ _ _ _ _) ?_
  refine r_eqA (congrArg (S5 _ t _ _ _) (st_ux _ _ _ _ _ _ (by decide))) ?_
  refine r_aload_0 (pc := 13) C dX6_endsText_13 ?_
  refine r_aload_0 (pc := 14) C dX6_endsText_14 ?_
  refine r_getI (pc := 15) C fl_X6_211_6 (tw_g hT) rfl dX6_endsText_15 ?_
  refine r_top (congrFun (S5_0 _ _ _ _ _ _) _) ?_
  refine r_top (st_17 _ _ _ _ _ _) ?_
  refine r_putI (pc := 18) C fl_X6_34_6 (tw_g hT) rfl (fun _ _ _ h => by cases h; exact Or.inl rfl) rfl rfl rfl dX6_endsText_18 ?_
  refine r_eqA (S5_u0 _ _ _ _ _ _ _ _) ?_
  refine r_eqA (congrArg (S5 _ t _ _ _) (st_ux _ _ _ _ _ _ (by decide))) ?_
  refine r_aload_0 (pc := 21) C dX6_endsText_21 ?_
  refine r_getI (pc := 22) C fl_X6_208_6 (tw_g hT) rfl dX6_endsText_22 ?_
  refine r_top (congrFun (S5_0 _ _ _ _ _ _) _) ?_
  refine r_top (st_16 _ _ _ _ _ _) ?_
  refine r_if_ne (pc := 25) (tgt := 32) C dX6_endsText_25 (by decide) (fun b25 => ?_) (fun b25 => ?_)
  · skip
    have b25 := (not_congr (nI_eq0 (by omega))).mp b25
    refine r_iconst (pc := 32) C dX6_endsText_32 ci_0 ?_
    refine r_iret (pc := 33) C E nar_0 (Nat.le_refl _) (Nat.le_refl _) dX6_endsText_33 ?_
    first
      | exact ⟨bI_1 b25, rfl⟩
      | exact ⟨bI_00 b25, rfl⟩
  · skip
    have b25 := (nI_eq0 (by omega)).mp b25
    refine r_iconst (pc := 28) C dX6_endsText_28 ci_1 ?_
    refine r_goto (pc := 29) (tgt := 33) C dX6_endsText_29 (by decide) ?_
    refine r_iret (pc := 33) C E nar_1 (Nat.le_refl _) (Nat.le_refl _) dX6_endsText_33 ?_
    first
      | exact ⟨bI_1 b25, rfl⟩
      | exact ⟨bI_00 b25, rfl⟩
