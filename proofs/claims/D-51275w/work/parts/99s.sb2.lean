/-! THE JDK: StringBuilder, 2 -/
set_option maxRecDepth 100000
theorem NF15 : ∀ j, fw_ty 15 j ≠ .float ∧ fw_ty 15 j ≠ .double := by
  intro j; show tyJ9 j ≠ _ ∧ tyJ9 j ≠ _; unfold tyJ9; split <;> exact ⟨by decide, by decide⟩
theorem NF16 : ∀ j, fw_ty 16 j ≠ .float ∧ fw_ty 16 j ≠ .double := by
  intro j; show tyJ10 j ≠ _ ∧ tyJ10 j ≠ _; unfold tyJ10; split <;> exact ⟨by decide, by decide⟩
/-- a string that was made in the run -/
def MkS (g : GZ) (A : HA) (a v : Nat) (f : Nat → Nat) (n : Nat) : Prop := StrV A a v f n ∧ g.b ≤ a ∧ A.I a 2 = nI 0 ∧ A.I a 3 = nI 0 ∧ (A.G v).1 = 231
/-- bytes copied behind the heap -/
def Bc (A A' : HA) (v n : Nat) : Prop := A'.z = A.z + 1 ∧ Gw A A' Non ∧ (A'.G A.z).1 = 231 ∧ A'.n A.z = n ∧ ∀ k, k < n → A'.I A.z k = A.I v k
theorem bc_cl {A : HA} {v n : Nat} (hn : A.n v = n) : Bc A (A.cl v 231 0) v n := ⟨rfl, gw_cl, by rw [cl_G, if_pos rfl], by rw [cl_n, if_pos rfl]; exact hn, fun k _ => by rw [cl_I, if_pos rfl]⟩
theorem bc_cpy {A : HA} {v n : Nat} (hv : v < A.z) : Bc A ((A.mk 231 0 n).sI A.z (va_cpy ((A.mk 231 0 n).I v) ((A.mk 231 0 n).I A.z) 0 0 n)) v n := by
  refine ⟨rfl, gw_mk.tr2 (gw_sI (X := fun y => y = A.z) (fun _ => rfl)) (fun y hy e => absurd e (by omega)), by show ((A.mk 231 0 n).G A.z).1 = 231; rw [mk_G, if_pos rfl], by show (A.mk 231 0 n).n A.z = n; rw [mk_n, if_pos rfl], fun k hk => ?_⟩
  rw [sI_s]
  unfold va_cpy
  rw [if_pos ⟨Nat.zero_le _, by omega⟩, mk_I, if_neg (by omega)]
  congr 1; omega
theorem st_fin {g : GZ} {A B : HA} {a s v m n : Nat} {f : Nat → Nat} (hz : Zk A) (hb : g.b ≤ a) (ha : (A.G a).1 = 16) (hs : SbV A s v m f n) (h9 : n ≤ 1000) (h2 : A.I a 2 = nI 0) (h3 : A.I a 3 = nI 0) (hB : Bc (A.sI a (upd (A.I a) 1 (nI 0))) B v n) :
    MkS g (B.sR a (va_up (B.R a) 0 (some A.z))) a A.z f n ∧ Gw A (B.sR a (va_up (B.R a) 0 (some A.z))) (fun y => y = a) := by
  have la := hz.lt ha rfl
  obtain ⟨-, lv⟩ := hs.lt hz
  have hne : a ≠ v := fun e => by have h1 := hs.k; rw [← e, ha] at h1; cases h1
  obtain ⟨b1, b2, b3, b4, b5⟩ := hB
  have ga := b2.2 a la
  have ea : B.I a = upd (A.I a) 1 (nI 0) := by rw [(ga.2.2 (fun q => q)).2.1, sI_s]
  have b3 : (B.G A.z).1 = 231 := b3
  have b4 : B.n A.z = n := b4
  refine ⟨⟨⟨?_, ?_, ?_, ?_, h9, fun k hk => ?_, ?_⟩, hb, ?_, ?_, b3⟩, ?_⟩
  · show (B.G a).1 = 16; rw [ga.1]; exact ha
  · rw [sR_s]; simp [va_up]
  · show isBy (B.G A.z).1 = true; rw [b3]; rfl
  · exact b4
  · have h5 := b5 k hk
    have h5 : B.I A.z k = (A.sI a (upd (A.I a) 1 (nI 0))).I v k := h5
    rw [sI_o _ _ (Ne.symm hne)] at h5
    show B.I A.z k = _ ∧ _
    rw [h5]; exact hs.2.2.2.1 k hk
  · show B.I a 1 = nI 0; rw [ea, pk_us]
  · show B.I a 2 = nI 0; rw [ea, pk_un (by decide)]; exact h2
  · show B.I a 3 = nI 0; rw [ea, pk_un (by decide)]; exact h3
  · exact ((gw_sI (X := fun y => y = a) (fun _ => rfl)).tr (b2.mono (fun _ _ q => q.elim))).tr (gw_sR (fun _ => rfl))
set_option maxHeartbeats 4000000 in
theorem j_J8_charAt {g : GZ} {A : HA} (hz : zS g) {s v m n : Nat} {f : Nat → Nat} (hs : SbV A s v m f n) {i : Nat} (hi : i < n) : Ct g wI yJ8_charAt (.code yJ8_charAt cJ8_charAt 5 (Option.some Jvm.ClassFile.FieldType.char)) 4 0 0 [.ref s, .int (nI (i))] (A) (fun u A' => u = nI (f i) ∧ A' = A) fw_no := by
  refine Ct.of [some (.ref s), some (.int (nI (i))), none, none, none] (by decide) rfl rfl fun z C hx hnm E => ?_
  have hnm := hs.nm
  have h9 := hs.m9
  have hb := hs.b7 hi
  refine r_aload_0 (pc := 0) C dJ8_charAt_0 ?_
  refine r_getI (pc := 1) C fl_J8_22_15 hs.g rfl dJ8_charAt_1 ?_
  refine r_top hs.c ?_
  refine r_istore_2 (pc := 4) C dJ8_charAt_4 rfl ?_
  refine r_aload_0 (pc := 5) C dJ8_charAt_5 ?_
  refine r_getR (pc := 6) C fl_J8_15_15 hs.g rfl hs.r dJ8_charAt_6 ?_
  refine r_astore_3 (pc := 9) C dJ8_charAt_9 rfl ?_
  refine r_aload_0 (pc := 10) C dJ8_charAt_10 ?_
  refine r_getI (pc := 11) C fl_J8_79_15 hs.g rfl dJ8_charAt_11 ?_
  refine r_top hs.ct ?_
  refine r_aload_3 (pc := 14) C dJ8_charAt_14 ?_
  refine r_alen (pc := 15) (t := 2) C hs.k rfl rfl dJ8_charAt_15 ?_
  refine r_top (congrArg nI hs.l) ?_
  refine r_iload_2 (pc := 16) C dJ8_charAt_16 ?_
  refine r_ishr (pc := 17) C dJ8_charAt_17 ?_
  refine r_top (sb_r _) ?_
  refine r_min (pc := 18) C q1357 rfl (Nat.le_of_ble_eq_true rfl) (by decide) (by omega) (by omega) dJ8_charAt_18 ?_
  refine r_top (nI_min (by omega) (by omega)) ?_
  refine r_top (congrArg nI (show (if m < n then m else n) = n from if_neg (by omega))) ?_
  refine r_istore_4 (pc := 21) C dJ8_charAt_21 rfl ?_
  refine r_iload_1 (pc := 23) C dJ8_charAt_23 ?_
  refine r_iload_4 (pc := 24) C dJ8_charAt_24 ?_
  refine r_S2vo (pc := 26) C (j_J10_checkIndex hz (n := n) hi (by omega)) sl_J8_144 (by decide) (by omega) (by omega) (Nat.le_of_ble_eq_true rfl) rfl dJ8_charAt_26 (fun u1 A1 hc1 => ?_)
  refine r_eqA hc1 ?_
  clear hc1 A1 u1
  refine r_iload_2 (pc := 29) C dJ8_charAt_29 ?_
  refine r_if_ne (pc := 30) (tgt := 42) C dJ8_charAt_30 (by decide) (fun b30 => ?_) (fun b30 => ?_)
  · exact absurd b30 (by decide +kernel)
  · skip
    refine r_aload_3 (pc := 33) C dJ8_charAt_33 ?_
    refine r_iload_1 (pc := 34) C dJ8_charAt_34 ?_
    refine r_bald (pc := 35) C hs.k rfl rfl (lt_eq (show i < m by omega) hs.l) (by omega) dJ8_charAt_35 ?_
    refine r_top (hs.i hi) ?_
    refine r_sipush (pc := 36) C dJ8_charAt_36 cs_255 ?_
    refine r_iand (pc := 39) C dJ8_charAt_39 ?_
    refine r_top (by_and hb) ?_
    refine r_i2c (pc := 40) C dJ8_charAt_40 ?_
    refine r_top (by_c hb) ?_
    refine r_iret (pc := 41) C E (by_nar hb) (by omega) (by omega) dJ8_charAt_41 ?_
    exact ⟨rfl, rfl⟩
set_option maxHeartbeats 4000000 in
theorem j_J9_charAt {g : GZ} {A : HA} (hz : zS g) {s v m n : Nat} {f : Nat → Nat} (hs : SbV A s v m f n) {i : Nat} (hi : i < n) : Ct g wI yJ9_charAt (.code yJ9_charAt cJ9_charAt 2 (Option.some Jvm.ClassFile.FieldType.char)) 5 0 0 [.ref s, .int (nI (i))] (A) (fun u A' => u = nI (f i) ∧ A' = A) fw_no := by
  refine Ct.of [some (.ref s), some (.int (nI (i)))] (by decide) rfl rfl fun z C hx hnm E => ?_
  have hb := hs.b7 hi
  refine r_aload_0 (pc := 0) C dJ9_charAt_0 ?_
  refine r_iload_1 (pc := 1) C dJ9_charAt_1 ?_
  refine r_SU1io (pc := 2) C (j_J8_charAt hz hs hi) sul_J9_329 hs.g (by decide) (by omega) (by omega) (Nat.le_of_ble_eq_true rfl) rfl dJ9_charAt_2 (fun u1 A1 hc1 => ?_)
  refine r_top hc1.1 ?_
  refine r_eqA hc1.2 ?_
  clear hc1 A1 u1
  refine r_iret (pc := 5) C E (by_nar hb) (by omega) (by omega) dJ9_charAt_5 ?_
  exact ⟨rfl, rfl⟩
set_option maxHeartbeats 4000000 in
theorem j_J8_setLength {g : GZ} {A : HA} {s v m n : Nat} {f : Nat → Nat} (hs : SbV A s v m f n)  : Ct g wV yJ8_setLength (.code yJ8_setLength cJ8_setLength 2 (Option.none : Option Jvm.ClassFile.FieldType)) 5 0 0 [.ref s, .int (nI 0)] (A) (fun u A' => SbV A' s v m f 0 ∧ Gw A A' (fun y => y = s) ∧ A'.z = A.z) fw_no := by
  refine Ct.of [some (.ref s), some (.int (nI 0))] (by decide) rfl rfl fun z C hx hnm E => ?_
  have hnm := hs.nm
  have h9 := hs.m9
  refine r_iload_1 (pc := 0) C dJ8_setLength_0 ?_
  refine r_if_ge (pc := 1) (tgt := 13) C dJ8_setLength_1 (by decide) (fun b1 => ?_) (fun b1 => ?_)
  · skip
    refine r_aload_0 (pc := 13) C dJ8_setLength_13 ?_
    refine r_iload_1 (pc := 14) C dJ8_setLength_14 ?_
    refine r_P1vo (pc := 15) C (j_enO hs (q := 0) (by omega)) pl_J8_100_15 hs.g (by decide) (by omega) (by omega) (Nat.le_of_ble_eq_true rfl) rfl dJ8_setLength_15 (fun u1 A1 hc1 => ?_)
    refine r_eqA hc1 ?_
    clear hc1 A1 u1
    refine r_aload_0 (pc := 18) C dJ8_setLength_18 ?_
    refine r_getI (pc := 19) C fl_J8_79_15 hs.g rfl dJ8_setLength_19 ?_
    refine r_top hs.ct ?_
    refine r_iload_1 (pc := 22) C dJ8_setLength_22 ?_
    refine r_icmp_ge (pc := 23) (tgt := 63) C dJ8_setLength_23 (by decide) (fun b23 => ?_) (fun b23 => ?_)
    · skip
      have b23 := (nI_le2 (by omega) (by omega)).mp b23
      refine r_aload_0 (pc := 63) C dJ8_setLength_63 ?_
      refine r_getI (pc := 64) C fl_J8_79_15 hs.g rfl dJ8_setLength_64 ?_
      refine r_top hs.ct ?_
      refine r_iload_1 (pc := 67) C dJ8_setLength_67 ?_
      refine r_icmp_le (pc := 68) (tgt := 76) C dJ8_setLength_68 (by decide) (fun b68 => ?_) (fun b68 => ?_)
      · skip
        have b68 := (nI_le2 (by omega) (by omega)).mp b68
        refine r_aload_0 (pc := 76) C dJ8_setLength_76 ?_
        refine r_iload_1 (pc := 77) C dJ8_setLength_77 ?_
        refine r_putI (pc := 78) C fl_J8_79_15 hs.g rfl (fun _ _ _ h => by cases h; exact Or.inl rfl) rfl rfl rfl dJ8_setLength_78 ?_
        refine r_vret (pc := 81) C E (by omega) (by omega) dJ8_setLength_81 ?_
        first
          | exact ⟨hs.fewer (Nat.zero_le _), gw_sI (fun _ => rfl), rfl⟩
          | exact ⟨hs.ml.fewer (Nat.zero_le _), (gw_sI (X := fun y => y = s) (fun _ => rfl)).tr (gw_sI (fun _ => rfl)), rfl⟩
      · skip
        have b68 := (not_congr (nI_le2 (by omega) (by omega))).mp b68
        refine r_aload_0 (pc := 71) C dJ8_setLength_71 ?_
        refine r_iconst (pc := 72) C dJ8_setLength_72 ci_1 ?_
        refine r_putI (pc := 73) C fl_J8_73_15 hs.g rfl (fun _ _ _ h => by cases h; exact Or.inl rfl) rfl nar_1 fit_1 dJ8_setLength_73 ?_
        refine r_aload_0 (pc := 76) C dJ8_setLength_76 ?_
        refine r_iload_1 (pc := 77) C dJ8_setLength_77 ?_
        refine r_putI (pc := 78) C fl_J8_79_15 hs.g rfl (fun _ _ _ h => by cases h; exact Or.inl rfl) rfl rfl rfl dJ8_setLength_78 ?_
        refine r_vret (pc := 81) C E (by omega) (by omega) dJ8_setLength_81 ?_
        first
          | exact ⟨hs.fewer (Nat.zero_le _), gw_sI (fun _ => rfl), rfl⟩
          | exact ⟨hs.ml.fewer (Nat.zero_le _), (gw_sI (X := fun y => y = s) (fun _ => rfl)).tr (gw_sI (fun _ => rfl)), rfl⟩
    · skip
      have b23 := (not_congr (nI_le2 (by omega) (by omega))).mp b23
      exfalso; omega
  · exact absurd b1 (by decide +kernel)
set_option maxHeartbeats 4000000 in
theorem j_J9_setLength {g : GZ} {A : HA} {s v m n : Nat} {f : Nat → Nat} (hs : SbV A s v m f n)  : Ct g wV yJ9_setLength (.code yJ9_setLength cJ9_setLength 2 (Option.none : Option Jvm.ClassFile.FieldType)) 6 0 0 [.ref s, .int (nI 0)] (A) (fun u A' => SbV A' s v m f 0 ∧ Gw A A' (fun y => y = s) ∧ A'.z = A.z) fw_no := by
  refine Ct.of [some (.ref s), some (.int (nI 0))] (by decide) rfl rfl fun z C hx hnm E => ?_
  refine r_aload_0 (pc := 0) C dJ9_setLength_0 ?_
  refine r_iload_1 (pc := 1) C dJ9_setLength_1 ?_
  refine r_SU1vo (pc := 2) C (j_J8_setLength hs) sul_J9_333 hs.g (by decide) (by omega) (by omega) (Nat.le_of_ble_eq_true rfl) rfl dJ9_setLength_2 (fun u1 A1 hc1 => ?_)
  have hP1 := hc1
  refine r_vret (pc := 5) C E (by omega) (by omega) dJ9_setLength_5 ?_
  assumption
set_option maxHeartbeats 4000000 in
theorem j_J6_checkLength {g : GZ} {A : HA} {a b : Nat} (h : a ≤ b) (h9 : b < 1000000) : Ct g wV yJ6_checkLength (.code yJ6_checkLength cJ6_checkLength 2 (Option.none : Option Jvm.ClassFile.FieldType)) 4 0 0 [.int (nI (a)), .int (nI (b))] (A) (fun u A' => A' = A) fw_no := by
  refine Ct.of [some (.int (nI (a))), some (.int (nI (b)))] (by decide) rfl rfl fun z C hx hnm E => ?_
  refine r_iload_1 (pc := 0) C dJ6_checkLength_0 ?_
  refine r_iload_0 (pc := 1) C dJ6_checkLength_1 ?_
  refine r_icmp_ge (pc := 2) (tgt := 37) C dJ6_checkLength_2 (by decide) (fun b2 => ?_) (fun b2 => ?_)
  · skip
    have b2 := (nI_le2 (by omega) (by omega)).mp b2
    refine r_vret (pc := 37) C E (by omega) (by omega) dJ6_checkLength_37 ?_
    exact rfl
  · skip
    have b2 := (not_congr (nI_le2 (by omega) (by omega))).mp b2
    exfalso; omega
set_option maxHeartbeats 4000000 in
theorem j_J6_copyOfRangeByte {g : GZ} {A : HA} {v m n : Nat} (hk : (A.G v).1 = 230) (hn : A.n v = m) (hnm9 : n ≤ m) (h9 : m ≤ 100000) (hft : ∀ k, k < m → fits .byte (.int (A.I v k)) = true) : Ct g wR yJ6_copyOfRangeByte (.code yJ6_copyOfRangeByte cJ6_copyOfRangeByte 5 (Option.some (Jvm.ClassFile.FieldType.array Jvm.ClassFile.FieldType.byte))) 5 1 n [.ref v, .int (nI 0), .int (nI (n))] (A) (fun u A' => u = A.z ∧ Bc A A' v n) fw_no := by
  refine Ct.of [some (.ref v), some (.int (nI 0)), some (.int (nI (n))), none, none] (by decide) rfl rfl fun z C hx hnm E => ?_
  refine r_Z fun hZ => ?_
  have hvz : v < A.z := hZ.lt hk rfl
  have hne : v ≠ A.z := by omega
  refine r_iload_1 (pc := 0) C dJ6_copyOfRangeByte_0 ?_
  refine r_iload_2 (pc := 1) C dJ6_copyOfRangeByte_1 ?_
  refine r_S2vo (pc := 2) C (j_J6_checkLength (a := 0) (b := n) (by omega) (by omega)) sl_J6_343 (by decide) (by omega) (by omega) (Nat.le_of_ble_eq_true rfl) rfl dJ6_copyOfRangeByte_2 (fun u1 A1 hc1 => ?_)
  refine r_eqA hc1 ?_
  clear hc1 A1 u1
  refine r_iload_2 (pc := 5) C dJ6_copyOfRangeByte_5 ?_
  refine r_iload_1 (pc := 6) C dJ6_copyOfRangeByte_6 ?_
  refine r_isub (pc := 7) C dJ6_copyOfRangeByte_7 ?_
  refine r_top (pk_sub (by omega)) ?_
  refine r_istore_3 (pc := 8) C dJ6_copyOfRangeByte_8 rfl ?_
  refine r_iload_3 (pc := 9) C dJ6_copyOfRangeByte_9 ?_
  refine r_newB (pc := 10) C 231 (0) (Nat.zero_le _) rfl q361 rfl (by omega) (by omega) (by omega) dJ6_copyOfRangeByte_10 ?_
  refine r_astore_4 (pc := 12) C dJ6_copyOfRangeByte_12 rfl ?_
  refine r_aload_0 (pc := 14) C dJ6_copyOfRangeByte_14 ?_
  refine r_iload_1 (pc := 15) C dJ6_copyOfRangeByte_15 ?_
  refine r_aload_4 (pc := 16) C dJ6_copyOfRangeByte_16 ?_
  refine r_iconst (pc := 18) C dJ6_copyOfRangeByte_18 ci_0 ?_
  refine r_aload_0 (pc := 19) C dJ6_copyOfRangeByte_19 ?_
  refine r_alen (pc := 20) (t := 2) C (show ((A.mk 231 0 n).G v).1 = 230 by rw [mk_G, if_neg hne]; exact hk) rfl rfl dJ6_copyOfRangeByte_20 ?_
  refine r_top (congrArg nI (show (A.mk 231 0 n).n v = m by rw [mk_n, if_neg hne]; exact hn)) ?_
  refine r_iload_1 (pc := 21) C dJ6_copyOfRangeByte_21 ?_
  refine r_isub (pc := 22) C dJ6_copyOfRangeByte_22 ?_
  refine r_top (pk_sub (by omega)) ?_
  refine r_iload_3 (pc := 23) C dJ6_copyOfRangeByte_23 ?_
  refine r_min (pc := 24) C q441 rfl (Nat.le_of_ble_eq_true rfl) (by decide) (by omega) (by omega) dJ6_copyOfRangeByte_24 ?_
  refine r_top (nI_min (by omega) (by omega)) ?_
  refine r_top (congrArg nI (show (if n < m then n else m) = n by split <;> omega)) ?_
  refine r_bcopy (pc := 27) C (show isBy ((A.mk 231 0 n).G v).1 = true by rw [mk_G, if_neg hne, hk]; rfl) (show isBy ((A.mk 231 0 n).G A.z).1 = true by rw [mk_G, if_pos rfl]; rfl) (show fw_mut ((A.mk 231 0 n).G A.z).1 = true by rw [mk_G, if_pos rfl]; rfl) (by rw [mk_n, if_neg hne]; omega) (by rw [mk_n, if_pos rfl]; omega) (by rw [mk_n, if_neg hne]; omega) (by rw [mk_n, if_pos rfl]; omega) (fun i hi => by rw [mk_I, if_neg hne, Nat.zero_add]; exact hft i (by omega)) q444 rfl (by decide) (by omega) dJ6_copyOfRangeByte_27 ?_
  refine r_aload_4 (pc := 30) C dJ6_copyOfRangeByte_30 ?_
  refine r_aret (pc := 32) C E rfl (by omega) (by omega) dJ6_copyOfRangeByte_32 ?_
  exact ⟨rfl, bc_cpy hvz⟩
set_option maxHeartbeats 4000000 in
theorem j_J6_copyOfRange {g : GZ} {A : HA} {v m n : Nat} (hk : (A.G v).1 = 230) (hn : A.n v = m) (hnm9 : n ≤ m) (h9 : m ≤ 100000) (hft : ∀ k, k < m → fits .byte (.int (A.I v k)) = true) : Ct g wR yJ6_copyOfRange (.code yJ6_copyOfRange cJ6_copyOfRange 3 (Option.some (Jvm.ClassFile.FieldType.array Jvm.ClassFile.FieldType.byte))) 6 1 n [.ref v, .int (nI 0), .int (nI (n))] (A) (fun u A' => u = A.z ∧ Bc A A' v n) fw_no := by
  refine Ct.of [some (.ref v), some (.int (nI 0)), some (.int (nI (n)))] (by decide) rfl rfl fun z C hx hnm E => ?_
  refine r_Z fun hZ => ?_
  have hvz : v < A.z := hZ.lt hk rfl
  have hne : v ≠ A.z := by omega
  refine r_iload_1 (pc := 0) C dJ6_copyOfRange_0 ?_
  refine r_if_ne (pc := 1) (tgt := 10) C dJ6_copyOfRange_1 (by decide) (fun b1 => ?_) (fun b1 => ?_)
  · exact absurd b1 (by decide +kernel)
  · skip
    refine r_iload_2 (pc := 4) C dJ6_copyOfRange_4 ?_
    refine r_aload_0 (pc := 5) C dJ6_copyOfRange_5 ?_
    refine r_alen (pc := 6) (t := 2) C hk rfl rfl dJ6_copyOfRange_6 ?_
    refine r_top (congrArg nI hn) ?_
    refine r_icmp_eq (pc := 7) (tgt := 17) C dJ6_copyOfRange_7 (by decide) (fun b7 => ?_) (fun b7 => ?_)
    · skip
      have b7 := (nI_eqI (by omega) (by omega)).mp b7
      refine r_aload_0 (pc := 17) C dJ6_copyOfRange_17 ?_
      refine r_clone (pc := 18) (t := 2) (ty := .byte) C 231 0 (Nat.zero_le _) hk rfl ⟨rfl, rfl⟩ rfl va_byte q618 q619 q622 q623 (fun j hj => hft j (by omega)) rfl (Nat.le_of_ble_eq_true rfl) (by decide) (by omega) (by omega) dJ6_copyOfRange_18 ?_
      refine r_castAr (pc := 21) (ki := 231) (t := 2) (ty := .byte) C (show ((A.cl v 231 0).G A.z).1 = 231 by rw [cl_G, if_pos rfl]) rfl rfl va_byte q624 dJ6_copyOfRange_21 ?_
      refine r_aret (pc := 24) C E rfl (by omega) (by omega) dJ6_copyOfRange_24 ?_
      exact ⟨rfl, bc_cl (by omega)⟩
    · skip
      have b7 := (not_congr (nI_eqI (by omega) (by omega))).mp b7
      refine r_aload_0 (pc := 10) C dJ6_copyOfRange_10 ?_
      refine r_iload_1 (pc := 11) C dJ6_copyOfRange_11 ?_
      refine r_iload_2 (pc := 12) C dJ6_copyOfRange_12 ?_
      refine r_S3r (pc := 13) C (j_J6_copyOfRangeByte hk hn hnm9 h9 hft) sl_J6_339 (by decide) (by omega) (by omega) (Nat.le_of_ble_eq_true rfl) rfl dJ6_copyOfRange_13 (fun u1 A1 hc1 => ?_)
      obtain ⟨eu1, hB1⟩ := hc1
      refine r_topR eu1 ?_
      clear eu1 u1
      refine r_aret (pc := 16) C E rfl (by omega) (by omega) dJ6_copyOfRange_16 ?_
      exact ⟨rfl, by assumption⟩
set_option maxHeartbeats 4000000 in
theorem j_J10_init_2 {g : GZ} {A : HA} (hz : zS g) {a s v m n : Nat} {f : Nat → Nat} (hb : g.b ≤ a) (ha : (A.G a).1 = 16) (h2 : A.I a 2 = nI 0) (h3 : A.I a 3 = nI 0) (hs : SbV A s v m f n) (h9 : n ≤ 1000) : Ct g wV yJ10_init_2 (.code yJ10_init_2 cJ10_init_2 5 (Option.none : Option Jvm.ClassFile.FieldType)) 7 1 n [.ref a, .ref s, .null] (A) (fun u A' => MkS g A' a A.z f n ∧ Gw A A' (fun y => y = a) ∧ A'.z = A.z + 1) fw_no := by
  refine Ct.of [some (.ref a), some (.ref s), some (.null), none, none] (by decide) rfl rfl fun z C hx hnm E => ?_
  have hnm9 := hnm
  refine r_Z fun hZ => ?_
  have la := hZ.lt ha rfl
  have hsa : s ≠ a := fun e => by have h1 := hs.g; rw [e, ha] at h1; cases h1
  have hne : a ≠ v := fun e => by have h1 := hs.k; rw [← e, ha] at h1; cases h1
  refine r_aload_0 (pc := 0) C dJ10_init_2_0 ?_
  refine r_objInit (pc := 1) C q690 q199 q200 rfl (Nat.le_of_ble_eq_true rfl) (by decide) dJ10_init_2_1 ?_
  refine r_aload_1 (pc := 4) C dJ10_init_2_4 ?_
  refine r_U0ro (pc := 5) C (j_J8_getValue hs) ul_J10_552_15 hs.g (by decide) (by omega) (by omega) (Nat.le_of_ble_eq_true rfl) rfl dJ10_init_2_5 (fun u1 A1 hc1 => ?_)
  refine r_topR hc1.1 ?_
  refine r_eqA hc1.2 ?_
  clear hc1 A1 u1
  refine r_astore_3 (pc := 8) C dJ10_init_2_8 rfl ?_
  refine r_aload_1 (pc := 9) C dJ10_init_2_9 ?_
  refine r_O0io (pc := 10) C (j_J9_length hs) ol_J10_549_15 hs.g (by decide) (by omega) (by omega) (Nat.le_of_ble_eq_true rfl) rfl dJ10_init_2_10 (fun u2 A2 hc2 => ?_)
  refine r_top hc2.1 ?_
  refine r_eqA hc2.2 ?_
  clear hc2 A2 u2
  refine r_istore_4 (pc := 13) C dJ10_init_2_13 rfl ?_
  refine r_aload_1 (pc := 15) C dJ10_init_2_15 ?_
  refine r_U0io (pc := 16) C (j_J8_isLatin1 hz hs) ul_J10_1047_15 hs.g (by decide) (by omega) (by omega) (Nat.le_of_ble_eq_true rfl) rfl dJ10_init_2_16 (fun u3 A3 hc3 => ?_)
  refine r_top hc3.1 ?_
  refine r_eqA hc3.2 ?_
  clear hc3 A3 u3
  refine r_if_eq (pc := 19) (tgt := 41) C dJ10_init_2_19 (by decide) (fun b19 => ?_) (fun b19 => ?_)
  · exact absurd b19 (by decide +kernel)
  · skip
    refine r_aload_0 (pc := 22) C dJ10_init_2_22 ?_
    refine r_iconst (pc := 23) C dJ10_init_2_23 ci_0 ?_
    refine r_putIB (pc := 24) C fl_J10_15_16 ha hb (fun _ _ _ h => by cases h; exact Or.inr ⟨rfl, hnm9⟩) rfl (by decide +kernel) (by decide +kernel) dJ10_init_2_24 ?_
    have hs1 := (show SbV (A.sI a (upd (A.I a) 1 (nI 0))) s v m f n from hs.gw hZ (gw_sI (X := fun y => y = a) (fun _ => rfl)) (fun e => hsa e) (fun e => hne (e.symm)))
    refine r_aload_0 (pc := 27) C dJ10_init_2_27 ?_
    refine r_aload_3 (pc := 28) C dJ10_init_2_28 ?_
    refine r_iconst (pc := 29) C dJ10_init_2_29 ci_0 ?_
    refine r_iload_4 (pc := 30) C dJ10_init_2_30 ?_
    refine r_S3r (pc := 32) C (j_J6_copyOfRange hs1.k hs1.l hs1.nm hs1.m9 (fun k hk => hs1.ft hk)) sl_J10_54 (by decide) (by omega) (by omega) (Nat.le_of_ble_eq_true rfl) rfl dJ10_init_2_32 (fun u4 A4 hc4 => ?_)
    obtain ⟨eu4, hB⟩ := hc4
    refine r_topR eu4 ?_
    clear eu4 u4
    generalize A4 = B at hB ⊢
    refine r_putRB (pc := 35) C fl_J10_9_16 (show (B.G a).1 = 16 by rw [(hB.2.1.2 a la).1]; exact ha) hb (fun _ _ _ h => by cases h; exact Or.inr ⟨rfl, hnm9⟩) rfl dJ10_init_2_35 ?_
    refine r_goto (pc := 38) (tgt := 97) C dJ10_init_2_38 (by decide) ?_
    refine r_vret (pc := 97) C E (by omega) (by omega) dJ10_init_2_97 ?_
    have hq := st_fin hZ hb ha hs h9 h2 h3 hB
    exact ⟨hq.1, hq.2, hB.1⟩
set_option maxHeartbeats 4000000 in
theorem j_J10_init {g : GZ} {A : HA} (hz : zS g) {a s v m n : Nat} {f : Nat → Nat} (hb : g.b ≤ a) (ha : (A.G a).1 = 16) (h2 : A.I a 2 = nI 0) (h3 : A.I a 3 = nI 0) (hs : SbV A s v m f n) (h9 : n ≤ 1000) : Ct g wV yJ10_init (.code yJ10_init cJ10_init 2 (Option.none : Option Jvm.ClassFile.FieldType)) 8 1 n [.ref a, .ref s] (A) (fun u A' => MkS g A' a A.z f n ∧ Gw A A' (fun y => y = a) ∧ A'.z = A.z + 1) fw_no := by
  refine Ct.of [some (.ref a), some (.ref s)] (by decide) rfl rfl fun z C hx hnm E => ?_
  refine r_aload_0 (pc := 0) C dJ10_init_0 ?_
  refine r_aload_1 (pc := 1) C dJ10_init_1 ?_
  refine r_null (pc := 2) C dJ10_init_2 ?_
  refine r_I2v (pc := 3) C (j_J10_init_2 hz hb ha h2 h3 hs h9) il_J10_489 (by decide) (by omega) (by omega) (Nat.le_of_ble_eq_true rfl) rfl dJ10_init_3 (fun u1 A1 hc1 => ?_)
  have hP1 := hc1
  refine r_vret (pc := 6) C E (by omega) (by omega) dJ10_init_6 ?_
  assumption
set_option maxHeartbeats 4000000 in
theorem j_J9_toString {g : GZ} {A : HA} (hz : zS g) {s v m n : Nat} {f : Nat → Nat} (hs : SbV A s v m f n) (h9 : n ≤ 1000) : Ct g wR yJ9_toString (.code yJ9_toString cJ9_toString 1 (Option.some (Jvm.ClassFile.FieldType.object "java/lang/String"))) 9 2 (4 + n) [.ref s] (A) (fun u A' => u = A.z ∧ MkS g A' A.z (A.z + 1) f n ∧ Gw A A' Non ∧ A'.z = A.z + 2) fw_no := by
  refine Ct.of [some (.ref s)] (by decide) rfl rfl fun z C hx hnm E => ?_
  refine r_Z fun hZ => ?_
  refine r_zb fun hzb => ?_
  have hlt := hs.lt hZ
  refine r_new (pc := 0) C (0) (Nat.zero_le _) nl_J9_18 NF16 (by omega) (by omega) dJ9_toString_0 ?_
  refine r_dup (pc := 3) C dJ9_toString_3 rfl ?_
  refine r_aload_0 (pc := 4) C dJ9_toString_4 ?_
  refine r_I1v (pc := 5) C (j_J10_init (A := (A.mk 16 0 0)) hz hzb (by rw [mk_G, if_pos rfl]) (by rw [mk_I, if_pos rfl]; exact nI0.symm) (by rw [mk_I, if_pos rfl]; exact nI0.symm) (hs.gw hZ (gw_mk (X := Non)) (fun q => q) (fun q => q)) h9) il_J9_137 (by decide) (by omega) (by omega) (Nat.le_of_ble_eq_true rfl) rfl dJ9_toString_5 (fun u1 A1 hc1 => ?_)
  have hP := hc1
  generalize A1 = B at hP ⊢
  refine r_aret (pc := 8) C E rfl (by omega) (by omega) dJ9_toString_8 ?_
  exact ⟨rfl, hP.1, (gw_mk (X := Non)).tr2 hP.2.1 (fun y hy e => absurd e (by omega)), hP.2.2⟩
