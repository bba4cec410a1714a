/-! LIBRARY: hashes of strings -/
set_option maxRecDepth 100000
def hshF (f : Nat → Nat) : Nat → Int32
  | 0 => 0
  | n + 1 => nI 31 * hshF f n + nI (f n)
theorem and_127 {b : Nat} (h : b ≤ 127) : nI b &&& nI 255 = nI b := by
  have : ∀ b, b < 128 → nI b &&& nI 255 = nI b := by decide +kernel
  exact this b (by omega)
theorem hsh_1 (f : Nat → Nat) : hshF f 1 = nI (f 0) := by
  show nI 31 * (0 : Int32) + nI (f 0) = nI (f 0)
  rw [Int32.mul_zero, Int32.zero_add]
set_option maxHeartbeats 4000000 in
theorem h_signed {g : GZ} {A : HA} {s v n : Nat} {f : Nat → Nat} (hs : StrV A s v f n)  : Ct g wI yJ4_signedHashCode (.code yJ4_signedHashCode cJ4_signedHashCode 6 (Option.some Jvm.ClassFile.FieldType.int)) 1 0 0 [.int (0), .ref v, .int (nI (0)), .int (nI (n))] (A) (fun u A' => u = hshF f n ∧ A' = A) fw_no := by
  refine Ct.of [some (.int (0)), some (.ref v), some (.int (nI (0))), some (.int (nI (n))), none, none] (by decide) rfl rfl fun z C hx hnm E => ?_
  have h9 := hs.l
  refine r_iload_2 (pc := 0) C dJ4_signedHashCode_0 ?_
  refine r_iload_3 (pc := 1) C dJ4_signedHashCode_1 ?_
  refine r_iadd (pc := 2) C dJ4_signedHashCode_2 ?_
  refine r_top (nI_add _ _) ?_
  refine r_top (congrArg nI (Nat.zero_add n)) ?_
  refine r_istore_4 (pc := 3) C dJ4_signedHashCode_3 rfl ?_
  refine r_iload_2 (pc := 5) C dJ4_signedHashCode_5 ?_
  refine r_istore_5 (pc := 6) C dJ4_signedHashCode_6 rfl ?_
  have lp8_1 : ∀ (fu : Nat) (i : Nat) (hi : i ≤ n), n - i < fu → wa g z 0 0 (A) 8 [some (.int (hshF f i)), some (.ref v), some (.int (nI (0))), some (.int (nI (n))), some (.int (nI (n))), some (.int (nI (i)))] [] := by
    intro fu
    induction fu with
    | zero => intro i  hi hm8; exact absurd hm8 (Nat.not_lt_zero _)
    | succ fu ih8 =>
      intro i  hi hm8
      refine r_iload_5 (pc := 8) C dJ4_signedHashCode_8 ?_
      refine r_iload_4 (pc := 10) C dJ4_signedHashCode_10 ?_
      refine r_icmp_ge (pc := 12) (tgt := 35) C dJ4_signedHashCode_12 (by decide) (fun b12 => ?_) (fun b12 => ?_)
      · skip
        have b12 := (nI_le2 (by omega) (by omega)).mp b12
        refine r_iload_0 (pc := 35) C dJ4_signedHashCode_35 ?_
        refine r_iret (pc := 36) C E rfl (by omega) (by omega) dJ4_signedHashCode_36 ?_
        have e9 : i = n := by omega
        subst e9
        exact ⟨rfl, rfl⟩
      · skip
        have b12 := (not_congr (nI_le2 (by omega) (by omega))).mp b12
        refine r_bipush (pc := 15) C dJ4_signedHashCode_15 cb_31 ?_
        refine r_iload_0 (pc := 17) C dJ4_signedHashCode_17 ?_
        refine r_imul (pc := 18) C dJ4_signedHashCode_18 ?_
        refine r_aload_1 (pc := 19) C dJ4_signedHashCode_19 ?_
        refine r_iload_5 (pc := 20) C dJ4_signedHashCode_20 ?_
        refine r_bald (pc := 22) C rfl hs.k rfl (lt_eq (by omega) hs.n') (by omega) dJ4_signedHashCode_22 ?_
        refine r_top (hs.2.2.2.2.2.1 i (by omega)).1 ?_
        refine r_sipush (pc := 23) C dJ4_signedHashCode_23 cs_255 ?_
        refine r_iand (pc := 26) C dJ4_signedHashCode_26 ?_
        refine r_top (and_127 (hs.2.2.2.2.2.1 i (by omega)).2) ?_
        refine r_iadd (pc := 27) C dJ4_signedHashCode_27 ?_
        refine r_istore_0 (pc := 28) C dJ4_signedHashCode_28 ?_
        refine r_iinc_5 (pc := 29) C dJ4_signedHashCode_29 (nI_inc _) rfl ?_
        refine r_goto (pc := 32) (tgt := 8) C dJ4_signedHashCode_32 (by decide) ?_
        exact ih8 (i + 1) (by omega) (by omega)
  exact lp8_1 _ 0 (Nat.zero_le _) (Nat.lt_succ_self _)
set_option maxHeartbeats 4000000 in
theorem h_vect {g : GZ} {A : HA} {s v n : Nat} {f : Nat → Nat} (hs : StrV A s v f n)  : Ct g wI yJ4_vectorizedHashCode (.code yJ4_vectorizedHashCode cJ4_vectorizedHashCode 5 (Option.some Jvm.ClassFile.FieldType.int)) 10 0 0 [.ref v, .int (nI (0)), .int (nI (n)), .int (0), .int (nI (4))] (A) (fun u A' => u = hshF f n ∧ A' = A) fw_no := by
  refine Ct.of [some (.ref v), some (.int (nI (0))), some (.int (nI (n))), some (.int (0)), some (.int (nI (4)))] (by decide) rfl rfl fun z C hx hnm E => ?_
  have h9 := hs.l
  refine r_iload_4 (pc := 0) C dJ4_vectorizedHashCode_0 ?_
  refine r_tableIn (pc := 2) (tgt := 44) (off := 42) C dJ4_vectorizedHashCode_2 (by decide +kernel) (by decide +kernel) (by decide +kernel) (by decide) ?_
  refine r_iload_3 (pc := 44) C dJ4_vectorizedHashCode_44 ?_
  refine r_aload_0 (pc := 45) C dJ4_vectorizedHashCode_45 ?_
  refine r_castAr (pc := 46) (ki := (A.G v).1) (t := 2) (ty := .byte) C rfl hs.k rfl va_byte q1674 dJ4_vectorizedHashCode_46 ?_
  refine r_iload_1 (pc := 49) C dJ4_vectorizedHashCode_49 ?_
  refine r_iload_2 (pc := 50) C dJ4_vectorizedHashCode_50 ?_
  refine r_S4io (pc := 51) C (h_signed hs) sl_J4_62 (by decide) (by omega) (by omega) (Nat.le_of_ble_eq_true rfl) rfl dJ4_vectorizedHashCode_51 (fun u1 A1 hc1 => ?_)
  refine r_top hc1.1 ?_
  refine r_eqA hc1.2 ?_
  clear hc1 A1 u1
  refine r_goto (pc := 54) (tgt := 157) C dJ4_vectorizedHashCode_54 (by decide) ?_
  refine r_iret (pc := 157) C E rfl (by omega) (by omega) dJ4_vectorizedHashCode_157 ?_
  exact ⟨rfl, rfl⟩
theorem lkp_n {n : Nat} (h : 2 ≤ n ∧ n ≤ 1000) : Op.lookupswitch.offset [((0 : Int), (26 : Int)), (1, 30)] 40 (nI n).toInt = 40 := by
  rw [t_nI (by omega)]
  have h0 : ¬ ((0 : Int) = (n : Int)) := by omega
  have h1 : ¬ ((1 : Int) = (n : Int)) := by omega
  simp [Op.lookupswitch.offset, h0, h1]
set_option maxHeartbeats 4000000 in
theorem h_latin {g : GZ} {A : HA} {s v n : Nat} {f : Nat → Nat} (hs : StrV A s v f n)  : Ct g wI yJ12_hashCode (.code yJ12_hashCode cJ12_hashCode 1 (Option.some Jvm.ClassFile.FieldType.int)) 11 0 0 [.ref v] (A) (fun u A' => u = hshF f n ∧ A' = A) fw_no := by
  refine Ct.of [some (.ref v)] (by decide) rfl rfl fun z C hx hnm E => ?_
  have h9 := hs.l
  refine r_aload_0 (pc := 0) C dJ12_hashCode_0 ?_
  refine r_alen (pc := 1) C rfl hs.k rfl dJ12_hashCode_1 ?_
  refine r_top (congrArg nI hs.n') ?_
  rcases (show n = 0 ∨ n = 1 ∨ (2 ≤ n ∧ n ≤ 1000) by omega) with e | e | e
  · skip
    subst e
    refine r_lookup (pc := 2) (tgt := 28) (off := 26) C dJ12_hashCode_2 (by decide +kernel) (by decide +kernel) (by decide) ?_
    refine r_iconst (pc := 28) C dJ12_hashCode_28 ci_0 ?_
    refine r_goto (pc := 29) (tgt := 51) C dJ12_hashCode_29 (by decide) ?_
    refine r_iret (pc := 51) C E rfl (by omega) (by omega) dJ12_hashCode_51 ?_
    exact ⟨rfl, rfl⟩
  · skip
    subst e
    refine r_lookup (pc := 2) (tgt := 32) (off := 30) C dJ12_hashCode_2 (by decide +kernel) (by decide +kernel) (by decide) ?_
    refine r_aload_0 (pc := 32) C dJ12_hashCode_32 ?_
    refine r_iconst (pc := 33) C dJ12_hashCode_33 ci_0 ?_
    refine r_bald (pc := 34) C rfl hs.k rfl (lt_eq (by omega) hs.n') (by omega) dJ12_hashCode_34 ?_
    refine r_top (hs.2.2.2.2.2.1 0 (by omega)).1 ?_
    refine r_sipush (pc := 35) C dJ12_hashCode_35 cs_255 ?_
    refine r_iand (pc := 38) C dJ12_hashCode_38 ?_
    refine r_top (and_127 (hs.2.2.2.2.2.1 0 (by omega)).2) ?_
    refine r_goto (pc := 39) (tgt := 51) C dJ12_hashCode_39 (by decide) ?_
    refine r_iret (pc := 51) C E rfl (by omega) (by omega) dJ12_hashCode_51 ?_
    exact ⟨(hsh_1 f).symm, rfl⟩
  · skip
    refine r_lookup (pc := 2) (tgt := 42) (off := 40) C dJ12_hashCode_2 (by decide +kernel) (lkp_n (by omega)) (by decide) ?_
    refine r_aload_0 (pc := 42) C dJ12_hashCode_42 ?_
    refine r_iconst (pc := 43) C dJ12_hashCode_43 ci_0 ?_
    refine r_aload_0 (pc := 44) C dJ12_hashCode_44 ?_
    refine r_alen (pc := 45) C rfl hs.k rfl dJ12_hashCode_45 ?_
    refine r_top (congrArg nI hs.n') ?_
    refine r_iconst (pc := 46) C dJ12_hashCode_46 ci_0 ?_
    refine r_iconst (pc := 47) C dJ12_hashCode_47 ci_4 ?_
    refine r_S5io (pc := 48) C (h_vect hs) sl_J12_84 (by decide) (by omega) (by omega) (Nat.le_of_ble_eq_true rfl) rfl dJ12_hashCode_48 (fun u1 A1 hc1 => ?_)
    refine r_top hc1.1 ?_
    refine r_eqA hc1.2 ?_
    clear hc1 A1 u1
    refine r_iret (pc := 51) C E rfl (by omega) (by omega) dJ12_hashCode_51 ?_
    exact ⟨rfl, rfl⟩
/-- a string's hash field: not told yet, told, or told to be 0 -/
def HsS (g : GZ) (A : HA) (s : Nat) (f : Nat → Nat) (n : Nat) : Prop := (A.I s 2 = nI 0 ∧ A.I s 3 = nI 0 ∧ g.b ≤ s) ∨ (A.I s 2 = hshF f n ∧ ¬ hshF f n = 0) ∨ (A.I s 2 = 0 ∧ A.I s 3 = nI 1 ∧ hshF f n = 0)
theorem StrV.up {A : HA} {s v n j : Nat} {f : Nat → Nat} {x : Int32} (h : StrV A s v f n) (hj : j = 2 ∨ j = 3) : StrV (A.sI s (upd (A.I s) j x)) s v f n := by
  have hne : v ≠ s := fun e => by
    have h1 := h.k
    rw [e, h.g] at h1
    cases h1
  exact ⟨h.g, h.r, h.k, h.n', h.l, fun k hk => by rw [sI_o _ _ hne]; exact h.2.2.2.2.2.1 k hk, by rw [sI_s, pk_un (by omega)]; exact h.c⟩
set_option maxHeartbeats 4000000 in
theorem h_hash {g : GZ} {A : HA} {s v n : Nat} {f : Nat → Nat} (hs : StrV A s v f n) (hz : zS g) (hh : HsS g A s f n)  : Ct g wI yJ10_hashCode (.code yJ10_hashCode cJ10_hashCode 2 (Option.some Jvm.ClassFile.FieldType.int)) 12 0 0 [.ref s] (A) (fun u A' => u = hshF f n ∧ StrV A' s v f n ∧ HsS g A' s f n ∧ Gw A A' (fun y => y = s)) fw_no := by
  refine Ct.of [some (.ref s), none] (by decide) rfl rfl fun z C hx hnm E => ?_
  have h9 := hs.l
  rcases hh with ⟨z2, z3, hb⟩ | ⟨z2, z3⟩ | ⟨z2, z3, z4⟩
  · skip
    refine r_aload_0 (pc := 0) C dJ10_hashCode_0 ?_
    refine r_getI (pc := 1) C fl_J10_19_16 hs.g rfl dJ10_hashCode_1 ?_
    refine r_top z2 ?_
    refine r_istore_1 (pc := 4) C dJ10_hashCode_4 rfl ?_
    refine r_iload_1 (pc := 5) C dJ10_hashCode_5 ?_
    refine r_if_ne (pc := 6) (tgt := 58) C dJ10_hashCode_6 (by decide) (fun b6 => ?_) (fun b6 => ?_)
    · exact absurd b6 (by decide +kernel)
    · skip
      refine r_aload_0 (pc := 9) C dJ10_hashCode_9 ?_
      refine r_getI (pc := 10) C fl_J10_23_16 hs.g rfl dJ10_hashCode_10 ?_
      refine r_top z3 ?_
      refine r_if_ne (pc := 13) (tgt := 58) C dJ10_hashCode_13 (by decide) (fun b13 => ?_) (fun b13 => ?_)
      · exact absurd b13 (by decide +kernel)
      · skip
        refine r_aload_0 (pc := 16) C dJ10_hashCode_16 ?_
        refine r_V0io (pc := 17) C (j_J10_isLatin1 hz hs) vl_J10_492 hs.g (by decide) (by omega) (by omega) (Nat.le_of_ble_eq_true rfl) rfl dJ10_hashCode_17 (fun u1 A1 hc1 => ?_)
        refine r_top hc1.1 ?_
        refine r_eqA hc1.2 ?_
        clear hc1 A1 u1
        refine r_if_eq (pc := 20) (tgt := 33) C dJ10_hashCode_20 (by decide) (fun b20 => ?_) (fun b20 => ?_)
        · exact absurd b20 (by decide +kernel)
        · skip
          refine r_aload_0 (pc := 23) C dJ10_hashCode_23 ?_
          refine r_getR (pc := 24) C fl_J10_9_16 hs.g rfl hs.r dJ10_hashCode_24 ?_
          refine r_S1io (pc := 27) C (h_latin hs) sl_J10_628 (by decide) (by omega) (by omega) (Nat.le_of_ble_eq_true rfl) rfl dJ10_hashCode_27 (fun u2 A2 hc2 => ?_)
          refine r_top hc2.1 ?_
          refine r_eqA hc2.2 ?_
          clear hc2 A2 u2
          refine r_goto (pc := 30) (tgt := 40) C dJ10_hashCode_30 (by decide) ?_
          refine r_istore_1 (pc := 40) C dJ10_hashCode_40 rfl ?_
          refine r_iload_1 (pc := 41) C dJ10_hashCode_41 ?_
          refine r_if_ne (pc := 42) (tgt := 53) C dJ10_hashCode_42 (by decide) (fun b42 => ?_) (fun b42 => ?_)
          · skip
            refine r_aload_0 (pc := 53) C dJ10_hashCode_53 ?_
            refine r_iload_1 (pc := 54) C dJ10_hashCode_54 ?_
            refine r_putIB (pc := 55) C fl_J10_19_16 hs.g hb (fun _ _ _ h => by cases h; exact Or.inl rfl) rfl rfl rfl dJ10_hashCode_55 ?_
            refine r_iload_1 (pc := 58) C dJ10_hashCode_58 ?_
            refine r_iret (pc := 59) C E rfl (by omega) (by omega) dJ10_hashCode_59 ?_
            exact ⟨rfl, hs.up (Or.inl rfl), Or.inr (Or.inl ⟨by rw [sI_s, pk_us], b42⟩), gw_sI (fun _ => rfl)⟩
          · skip
            refine r_aload_0 (pc := 45) C dJ10_hashCode_45 ?_
            refine r_iconst (pc := 46) C dJ10_hashCode_46 ci_1 ?_
            refine r_putIB (pc := 47) C fl_J10_23_16 hs.g hb (fun _ _ _ h => by cases h; exact Or.inl rfl) rfl (by decide +kernel) (by decide +kernel) dJ10_hashCode_47 ?_
            refine r_goto (pc := 50) (tgt := 58) C dJ10_hashCode_50 (by decide) ?_
            refine r_iload_1 (pc := 58) C dJ10_hashCode_58 ?_
            refine r_iret (pc := 59) C E rfl (by omega) (by omega) dJ10_hashCode_59 ?_
            exact ⟨rfl, hs.up (Or.inr rfl), Or.inr (Or.inr ⟨by rw [sI_s, pk_un (by decide)]; exact z2.trans nI0, by rw [sI_s, pk_us], b42⟩), gw_sI (fun _ => rfl)⟩
  · skip
    refine r_aload_0 (pc := 0) C dJ10_hashCode_0 ?_
    refine r_getI (pc := 1) C fl_J10_19_16 hs.g rfl dJ10_hashCode_1 ?_
    refine r_top z2 ?_
    refine r_istore_1 (pc := 4) C dJ10_hashCode_4 rfl ?_
    refine r_iload_1 (pc := 5) C dJ10_hashCode_5 ?_
    refine r_if_ne (pc := 6) (tgt := 58) C dJ10_hashCode_6 (by decide) (fun b6 => ?_) (fun b6 => ?_)
    · skip
      refine r_iload_1 (pc := 58) C dJ10_hashCode_58 ?_
      refine r_iret (pc := 59) C E rfl (by omega) (by omega) dJ10_hashCode_59 ?_
      exact ⟨rfl, hs, Or.inr (Or.inl ⟨z2, z3⟩), Gw.rf⟩
    · skip
      exact absurd b6 z3
  · skip
    refine r_aload_0 (pc := 0) C dJ10_hashCode_0 ?_
    refine r_getI (pc := 1) C fl_J10_19_16 hs.g rfl dJ10_hashCode_1 ?_
    refine r_top z2 ?_
    refine r_istore_1 (pc := 4) C dJ10_hashCode_4 rfl ?_
    refine r_iload_1 (pc := 5) C dJ10_hashCode_5 ?_
    refine r_if_ne (pc := 6) (tgt := 58) C dJ10_hashCode_6 (by decide) (fun b6 => ?_) (fun b6 => ?_)
    · exact absurd b6 (by decide +kernel)
    · skip
      refine r_aload_0 (pc := 9) C dJ10_hashCode_9 ?_
      refine r_getI (pc := 10) C fl_J10_23_16 hs.g rfl dJ10_hashCode_10 ?_
      refine r_top z3 ?_
      refine r_if_ne (pc := 13) (tgt := 58) C dJ10_hashCode_13 (by decide) (fun b13 => ?_) (fun b13 => ?_)
      · skip
        refine r_iload_1 (pc := 58) C dJ10_hashCode_58 ?_
        refine r_iret (pc := 59) C E rfl (by omega) (by omega) dJ10_hashCode_59 ?_
        exact ⟨z4.symm, hs, Or.inr (Or.inr ⟨z2, z3, z4⟩), Gw.rf⟩
      · exact absurd b13 (by decide +kernel)
/-- a word that was read: a string made in the run, its hash told or not -/
def WrS (g : GZ) (A : HA) (a v : Nat) (f : Nat → Nat) (n : Nat) : Prop := StrV A a v f n ∧ g.b ≤ a ∧ (A.G v).1 = 231 ∧ HsS g A a f n
theorem MkS.wr {g : GZ} {A : HA} {a v n : Nat} {f : Nat → Nat} (h : MkS g A a v f n) : WrS g A a v f n := ⟨h.1, h.2.1, h.2.2.2.2, Or.inl ⟨h.2.2.1, h.2.2.2.1, h.2.1⟩⟩
theorem WrS.gw {g : GZ} {A D : HA} {X : Nat → Prop} {a v n : Nat} {f : Nat → Nat} (h : WrS g A a v f n) (hz : Zk A) (hw : Gw A D X) (h1 : ¬ X a) (h2 : ¬ X v) : WrS g D a v f n := by
  have la := hz.lt h.1.g rfl
  have lv : v < A.z := by
    rcases Nat.lt_or_ge v A.z with q | q
    · exact q
    · have h9 := hz v q
      have := h.2.2.1
      omega
  obtain ⟨e1, e2, e3⟩ := hw.2 a la
  refine ⟨h.1.gw hz hw h1 h2, h.2.1, by rw [(hw.2 v lv).1]; exact h.2.2.1, ?_⟩
  have h4 := h.2.2.2
  unfold HsS at h4 ⊢
  rw [(e3 h1).2.1]
  exact h4
