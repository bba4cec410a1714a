/-! THE REFERENCE, 30: words -/
set_option maxRecDepth 100000
theorem StrV.s5 {A : HA} {t a v n : Nat} {f : Nat → Nat} (hT : Tw A t) (h : StrV A a v f n) (σ κ π τ : Rw) : StrV (S5 A t σ κ π τ) a v f n := by
  have k1 := h.g
  have k2 := h.k
  rw [Bool.and_eq_true, decide_eq_true_iff, decide_eq_true_iff] at k2
  have g0 := tw_g hT
  have g1 := tw_g1 hT
  have g6 := tw_g6 hT
  have g7 := tw_g7 hT
  have d : ∀ x, (A.G x).1 = 6 ∨ (A.G x).1 = 101 ∨ (A.G x).1 = 106 ∨ (A.G x).1 = 107 → a ≠ x ∧ v ≠ x := fun x hx => ⟨fun e => by rw [← e, k1] at hx; omega, fun e => by rw [← e] at hx; omega⟩
  have e1 : (S5 A t σ κ π τ).I a = A.I a := S5_x _ _ _ _ _ _ (d t (by omega)).1 (d (t + 1) (by omega)).1 (d (t + 6) (by omega)).1 (d (t + 7) (by omega)).1
  have e2 : (S5 A t σ κ π τ).I v = A.I v := S5_x _ _ _ _ _ _ (d t (by omega)).2 (d (t + 1) (by omega)).2 (d (t + 6) (by omega)).2 (d (t + 7) (by omega)).2
  exact ⟨h.1, h.2.1, h.2.2.1, h.2.2.2.1, h.2.2.2.2.1, by rw [e2]; exact h.2.2.2.2.2.1, by rw [e1]; exact h.2.2.2.2.2.2⟩
/-- whether the word at p is f's m signs -/
def isWd (B : Nat → Nat) (L p : Nat) (f : Nat → Nat) (m : Nat) : Bool := decide (wln B L p = m) && allD (fun k => decide (B (p + k) = f k)) m
theorem isWd_iff {B : Nat → Nat} {L p : Nat} {f : Nat → Nat} {m : Nat} : isWd B L p f m = true ↔ (wln B L p = m ∧ ∀ k, k < m → B (p + k) = f k) := by
  unfold isWd
  rw [Bool.and_eq_true, decide_eq_true_iff]
  exact ⟨fun h => ⟨h.1, fun k hk => of_decide_eq_true (allD_k m h.2 hk)⟩, fun h => ⟨h.1, allD_t m (fun k hk => decide_eq_true (h.2 k hk))⟩⟩
set_option maxHeartbeats 4000000 in
theorem m_sees {g : GZ} {A : HA} {t : Nat} {σ κ π τ : Nat → Int32} (hT : Tw A t) {a gb w e : Nat} {ep : Int32} {B : Nat → Nat} {L : Nat} (hB : BufI (A.I (t + 8)) B L) (hτL : τ 12 = nI L) {sa v m : Nat} {f : Nat → Nat} (hz : zS g) (hs : StrV A sa v f m) (ha : a ≤ 2000) (he : e ≤ 4) : Ct g wI yX6_sees (.code yX6_sees cX6_sees 4 (Option.some Jvm.ClassFile.FieldType.boolean)) 6 0 0 [.ref t, .ref sa] (S5 A t σ κ π (stT τ a gb w e ep)) (fun u A' => u = bI (e = 0 ∧ isWd B L (skp B L a) f m = true) ∧ A' = S5 A t σ κ π (stT τ (skp B L a) (skp B L a) (wln B L (skp B L a)) (e) (ep))) fw_no := by
  refine Ct.of [some (.ref t), some (.ref sa), none, none] (by decide) rfl rfl fun z C hx hnm E => ?_
  have hBl := hB.l
  obtain ⟨p, hp⟩ : ∃ p, p = skp B L a := ⟨_, rfl⟩
  have hp2 : p ≤ 3000 := by have := @runF_le B isSp (L - a) a; unfold skp at hp; omega
  have hwl := @wln_le B L p
  have hm := hs.l
  refine r_aload_0 (pc := 0) C dX6_sees_0 ?_
  refine r_V0io (pc := 1) C (m_next (by exact hT) hB hτL ha) vl_X6_214 (tw_g hT) (by decide) (Nat.le_refl _) (Nat.le_refl _) (Nat.le_of_ble_eq_true rfl) rfl dX6_sees_1 (fun u1 A1 hc1 => ?_)
  refine r_top hc1.1 ?_
  refine r_eqA hc1.2 ?_
  rw [← hp]
  clear hc1 A1 u1
  refine r_istore_2 (pc := 4) C dX6_sees_4 rfl ?_
  refine r_aload_0 (pc := 5) C dX6_sees_5 ?_
  refine r_getI (pc := 6) C fl_X6_208_6 (tw_g hT) rfl dX6_sees_6 ?_
  refine r_top (congrFun (S5_0 _ _ _ _ _ _) _) ?_
  refine r_top (st_16 _ _ _ _ _ _) ?_
  refine r_if_ne (pc := 9) (tgt := 23) C dX6_sees_9 (by decide) (fun b9 => ?_) (fun b9 => ?_)
  · skip
    have b9 := (not_congr (nI_eq0 (by omega))).mp b9
    refine r_iconst (pc := 23) C dX6_sees_23 ci_0 ?_
    refine r_iret (pc := 24) C E nar_0 (Nat.le_refl _) (Nat.le_refl _) dX6_sees_24 ?_
    subst hp
    first
      | exact ⟨bI_f9 (fun q => b9 q.1), rfl⟩
      | exact ⟨bI_f9 (fun q => b20 (isWd_iff.mp q.2).1), rfl⟩
      | exact ⟨bI_f9 (fun q => b50 ((isWd_iff.mp q.2).2 k (by omega))), rfl⟩
      | exact ⟨bI_1 ⟨b9, isWd_iff.mpr ⟨b20, fun i hi => hn i (by omega)⟩⟩, rfl⟩
  · skip
    have b9 := (nI_eq0 (by omega)).mp b9
    refine r_aload_0 (pc := 12) C dX6_sees_12 ?_
    refine r_getI (pc := 13) C fl_X6_201_6 (tw_g hT) rfl dX6_sees_13 ?_
    refine r_top (congrFun (S5_0 _ _ _ _ _ _) _) ?_
    refine r_top (st_15 _ _ _ _ _ _) ?_
    refine r_aload_1 (pc := 16) C dX6_sees_16 ?_
    refine r_V0io (pc := 17) C (j_J10_length hz (hs.s5 (by exact hT) _ _ _ _)) vl_X6_46 hs.g (by decide) (Nat.le_refl _) (Nat.le_refl _) (Nat.le_of_ble_eq_true rfl) rfl dX6_sees_17 (fun u2 A2 hc2 => ?_)
    refine r_top hc2.1 ?_
    refine r_eqA hc2.2 ?_
    clear hc2 A2 u2
    refine r_icmp_eq (pc := 20) (tgt := 25) C dX6_sees_20 (by decide) (fun b20 => ?_) (fun b20 => ?_)
    · skip
      have b20 := (nI_eqI (by omega) (by omega)).mp b20
      refine r_iconst (pc := 25) C dX6_sees_25 ci_0 ?_
      refine r_istore_3 (pc := 26) C dX6_sees_26 rfl ?_
      have lp27_3 : ∀ (fu : Nat) (k : Nat) (hk : k ≤ m) (hn : ∀ i, i < k → B (p + i) = f i), m - k < fu → wa g z 0 0 (S5 A t σ κ π (stT τ (p) (p) (wln B L p) (e) (ep))) 27 [some (.ref t), some (.ref sa), none, some (.int (nI (k)))] [] := by
        intro fu
        induction fu with
        | zero => intro k  hk hn hm27; exact absurd hm27 (Nat.not_lt_zero _)
        | succ fu ih27 =>
          intro k  hk hn hm27
          refine r_iload_3 (pc := 27) C dX6_sees_27 ?_
          refine r_aload_0 (pc := 28) C dX6_sees_28 ?_
          refine r_getI (pc := 29) C fl_X6_201_6 (tw_g hT) rfl dX6_sees_29 ?_
          refine r_top (congrFun (S5_0 _ _ _ _ _ _) _) ?_
          refine r_top (st_15 _ _ _ _ _ _) ?_
          refine r_icmp_ge (pc := 32) (tgt := 61) C dX6_sees_32 (by decide) (fun b32 => ?_) (fun b32 => ?_)
          · skip
            have b32 := (nI_le2 (by omega) (by omega)).mp b32
            refine r_iconst (pc := 61) C dX6_sees_61 ci_1 ?_
            refine r_iret (pc := 62) C E nar_1 (Nat.le_refl _) (Nat.le_refl _) dX6_sees_62 ?_
            subst hp
            first
              | exact ⟨bI_f9 (fun q => b9 q.1), rfl⟩
              | exact ⟨bI_f9 (fun q => b20 (isWd_iff.mp q.2).1), rfl⟩
              | exact ⟨bI_f9 (fun q => b50 ((isWd_iff.mp q.2).2 k (by omega))), rfl⟩
              | exact ⟨bI_1 ⟨b9, isWd_iff.mpr ⟨b20, fun i hi => hn i (by omega)⟩⟩, rfl⟩
          · skip
            have b32 := (not_congr (nI_le2 (by omega) (by omega))).mp b32
            refine r_aload_0 (pc := 35) C dX6_sees_35 ?_
            refine r_aload_0 (pc := 36) C dX6_sees_36 ?_
            refine r_getI (pc := 37) C fl_X6_198_6 (tw_g hT) rfl dX6_sees_37 ?_
            refine r_top (congrFun (S5_0 _ _ _ _ _ _) _) ?_
            refine r_top (st_14 _ _ _ _ _ _) ?_
            refine r_iload_3 (pc := 40) C dX6_sees_40 ?_
            refine r_iadd (pc := 41) C dX6_sees_41 ?_
            refine r_top (nI_add _ _) ?_
            refine r_V1io (pc := 42) C (m_byteAt (by exact hT) hB (by first | exact hτL | exact (st_x _ _ _ _ _ _ (by omega)).trans hτL) (by omega)) vl_X6_195 (tw_g hT) (by decide) (Nat.le_refl _) (Nat.le_refl _) (Nat.le_of_ble_eq_true rfl) rfl dX6_sees_42 (fun u4 A4 hc4 => ?_)
            refine r_top hc4.1 ?_
            refine r_eqA hc4.2 ?_
            clear hc4 A4 u4
            refine r_top ((congrArg oI (btO_lt (by omega))).trans (oI_some _)) ?_
            have hb1 := (hB.2 (p + k) (by omega)).2
            have hb2 := hs.b (show k < m by omega)
            refine r_aload_1 (pc := 45) C dX6_sees_45 ?_
            refine r_iload_3 (pc := 46) C dX6_sees_46 ?_
            refine r_V1io (pc := 47) C (j_J10_charAt hz (hs.s5 (by exact hT) _ _ _ _) (k := k) (by omega)) vl_X6_52 hs.g (by decide) (Nat.le_refl _) (Nat.le_refl _) (Nat.le_of_ble_eq_true rfl) rfl dX6_sees_47 (fun u5 A5 hc5 => ?_)
            refine r_top hc5.1 ?_
            refine r_eqA hc5.2 ?_
            clear hc5 A5 u5
            refine r_icmp_eq (pc := 50) (tgt := 55) C dX6_sees_50 (by decide) (fun b50 => ?_) (fun b50 => ?_)
            · skip
              have b50 := (nI_eqI (by omega) (by omega)).mp b50
              refine r_iinc_3 (pc := 55) C dX6_sees_55 (nI_inc _) rfl ?_
              refine r_goto (pc := 58) (tgt := 27) C dX6_sees_58 (by decide) ?_
              exact ih27 (k + 1) (by omega) (fun i hi => if q : i = k then by rw [q]; exact b50 else hn i (by omega)) (by omega)
            · skip
              have b50 := (not_congr (nI_eqI (by omega) (by omega))).mp b50
              refine r_iconst (pc := 53) C dX6_sees_53 ci_0 ?_
              refine r_iret (pc := 54) C E nar_0 (Nat.le_refl _) (Nat.le_refl _) dX6_sees_54 ?_
              subst hp
              first
                | exact ⟨bI_f9 (fun q => b9 q.1), rfl⟩
                | exact ⟨bI_f9 (fun q => b20 (isWd_iff.mp q.2).1), rfl⟩
                | exact ⟨bI_f9 (fun q => b50 ((isWd_iff.mp q.2).2 k (by omega))), rfl⟩
                | exact ⟨bI_1 ⟨b9, isWd_iff.mpr ⟨b20, fun i hi => hn i (by omega)⟩⟩, rfl⟩
      refine r_forget (lv' := [some _, some _, none, some _]) ⟨rfl, rfl, rfl, trivial⟩ ?_
      exact lp27_3 _ 0 (by omega) (fun i h => absurd h (Nat.not_lt_zero _)) (Nat.lt_succ_self _)
    · skip
      have b20 := (not_congr (nI_eqI (by omega) (by omega))).mp b20
      refine r_iconst (pc := 23) C dX6_sees_23 ci_0 ?_
      refine r_iret (pc := 24) C E nar_0 (Nat.le_refl _) (Nat.le_refl _) dX6_sees_24 ?_
      subst hp
      first
        | exact ⟨bI_f9 (fun q => b9 q.1), rfl⟩
        | exact ⟨bI_f9 (fun q => b20 (isWd_iff.mp q.2).1), rfl⟩
        | exact ⟨bI_f9 (fun q => b50 ((isWd_iff.mp q.2).2 k (by omega))), rfl⟩
        | exact ⟨bI_1 ⟨b9, isWd_iff.mpr ⟨b20, fun i hi => hn i (by omega)⟩⟩, rfl⟩
