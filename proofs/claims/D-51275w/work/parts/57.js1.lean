/-! JDK: strings -/
set_option maxRecDepth 100000
/-- statics that strings look at -/
def zS (g : GZ) : Prop := SZ g "java/lang/String" "COMPACT_STRINGS" "Z" (.int (nI 1)) ∧ va_Zq "jdk/internal/util/Preconditions" "SIOOBE_FORMATTER" "Ljava/util/function/BiFunction;" (fun q => g.b ≤ q) g.s g.s.heap
abbrev isBy (k : Nat) : Bool := decide (100 ≤ k) && decide (k / 100 = 2)
/-- a string of n signs f, its bytes at v -/
def StrV (A : HA) (a v : Nat) (f : Nat → Nat) (n : Nat) : Prop := (A.G a).1 = 16 ∧ A.R a 0 = some v ∧ isBy (A.G v).1 = true ∧ A.n v = n ∧ n ≤ 1000 ∧ (∀ k, k < n → A.I v k = nI (f k) ∧ f k ≤ 127) ∧ A.I a 1 = nI 0
section
variable {A : HA} {a v n : Nat} {f : Nat → Nat}
theorem StrV.g (h : StrV A a v f n) : (A.G a).1 = 16 := h.1
theorem StrV.r (h : StrV A a v f n) : A.R a 0 = some v := h.2.1
theorem StrV.k (h : StrV A a v f n) : isBy (A.G v).1 = true := h.2.2.1
theorem StrV.n' (h : StrV A a v f n) : A.n v = n := h.2.2.2.1
theorem StrV.l (h : StrV A a v f n) : n ≤ 1000 := h.2.2.2.2.1
theorem StrV.i (h : StrV A a v f n) {k : Nat} (hk : k < n) : A.I v k = nI (f k) := (h.2.2.2.2.2.1 k hk).1
theorem StrV.b (h : StrV A a v f n) {k : Nat} (hk : k < n) : f k ≤ 127 := (h.2.2.2.2.2.1 k hk).2
theorem StrV.c (h : StrV A a v f n) : A.I a 1 = nI 0 := h.2.2.2.2.2.2
end
theorem by_and {n : Nat} (h : n ≤ 127) : nI n &&& nI 255 = nI n := by
  have : ∀ n, n < 128 → nI n &&& nI 255 = nI n := by decide +kernel
  exact this n (by omega)
theorem by_c {n : Nat} (h : n ≤ 127) : ((nI n).toUInt32 % 65536).toInt32 = nI n := by
  have : ∀ n, n < 128 → ((nI n).toUInt32 % 65536).toInt32 = nI n := by decide +kernel
  exact this n (by omega)
theorem by_nar {n : Nat} (h : n ≤ 127) : narrow .char (.int (nI n)) = .int (nI n) := by
  have : ∀ n, n < 128 → narrow .char (.int (nI n)) = .int (nI n) := by decide +kernel
  exact this n (by omega)
set_option maxHeartbeats 4000000 in
theorem j_J10_coder {g : GZ} {A : HA} (hz : zS g) {s v n : Nat} {f : Nat → Nat} (hs : StrV A s v f n)  : Ct g wI yJ10_coder (.code yJ10_coder cJ10_coder 1 (Option.some Jvm.ClassFile.FieldType.byte)) 1 0 0 [.ref s] (A) (fun u A' => u = nI 0 ∧ A' = A) fw_no := by
  refine Ct.of [some (.ref s)] (by decide) rfl rfl fun z C hx hnm E => ?_
  refine r_getS (pc := 0) C hz.1 q819 dJ10_coder_0 ?_
  refine r_if_eq (pc := 3) (tgt := 13) C dJ10_coder_3 (by decide) (fun b3 => ?_) (fun b3 => ?_)
  · exact absurd b3 (by decide +kernel)
  · skip
    refine r_aload_0 (pc := 6) C dJ10_coder_6 ?_
    refine r_getI (pc := 7) C fl_J10_15_16 hs.g rfl dJ10_coder_7 ?_
    refine r_top hs.c ?_
    refine r_goto (pc := 10) (tgt := 14) C dJ10_coder_10 (by decide) ?_
    refine r_iret (pc := 14) C E rfl (Nat.le_refl _) (Nat.le_refl _) dJ10_coder_14 ?_
    exact ⟨rfl, rfl⟩
set_option maxHeartbeats 4000000 in
theorem j_J10_isLatin1 {g : GZ} {A : HA} (hz : zS g) {s v n : Nat} {f : Nat → Nat} (hs : StrV A s v f n)  : Ct g wI yJ10_isLatin1 (.code yJ10_isLatin1 cJ10_isLatin1 1 (Option.some Jvm.ClassFile.FieldType.boolean)) 1 0 0 [.ref s] (A) (fun u A' => u = nI 1 ∧ A' = A) fw_no := by
  refine Ct.of [some (.ref s)] (by decide) rfl rfl fun z C hx hnm E => ?_
  refine r_getS (pc := 0) C hz.1 q819 dJ10_isLatin1_0 ?_
  refine r_if_eq (pc := 3) (tgt := 17) C dJ10_isLatin1_3 (by decide) (fun b3 => ?_) (fun b3 => ?_)
  · exact absurd b3 (by decide +kernel)
  · skip
    refine r_aload_0 (pc := 6) C dJ10_isLatin1_6 ?_
    refine r_getI (pc := 7) C fl_J10_15_16 hs.g rfl dJ10_isLatin1_7 ?_
    refine r_top hs.c ?_
    refine r_if_ne (pc := 10) (tgt := 17) C dJ10_isLatin1_10 (by decide) (fun b10 => ?_) (fun b10 => ?_)
    · exact absurd b10 (by decide +kernel)
    · skip
      refine r_iconst (pc := 13) C dJ10_isLatin1_13 ci_1 ?_
      refine r_goto (pc := 14) (tgt := 18) C dJ10_isLatin1_14 (by decide) ?_
      refine r_iret (pc := 18) C E rfl (Nat.le_refl _) (Nat.le_refl _) dJ10_isLatin1_18 ?_
      exact ⟨rfl, rfl⟩
set_option maxHeartbeats 4000000 in
theorem j_J10_length {g : GZ} {A : HA} (hz : zS g) {s v n : Nat} {f : Nat → Nat} (hs : StrV A s v f n)  : Ct g wI yJ10_length (.code yJ10_length cJ10_length 1 (Option.some Jvm.ClassFile.FieldType.int)) 2 0 0 [.ref s] (A) (fun u A' => u = nI n ∧ A' = A) fw_no := by
  refine Ct.of [some (.ref s)] (by decide) rfl rfl fun z C hx hnm E => ?_
  have hl := hs.l
  refine r_aload_0 (pc := 0) C dJ10_length_0 ?_
  refine r_getR (pc := 1) C fl_J10_9_16 hs.g rfl hs.r dJ10_length_1 ?_
  refine r_alen (pc := 4) C rfl hs.k rfl dJ10_length_4 ?_
  refine r_top (congrArg nI hs.n') ?_
  refine r_aload_0 (pc := 5) C dJ10_length_5 ?_
  refine r_V0io (pc := 6) C (j_J10_coder hz hs) vl_J10_335 hs.g (by decide) (Nat.le_refl _) (Nat.le_refl _) (Nat.le_of_ble_eq_true rfl) rfl dJ10_length_6 (fun u1 A1 hc1 => ?_)
  refine r_top hc1.1 ?_
  refine r_eqA hc1.2 ?_
  clear hc1 A1 u1
  refine r_ishr (pc := 9) C dJ10_length_9 ?_
  refine r_iret (pc := 10) C E rfl (Nat.le_refl _) (Nat.le_refl _) dJ10_length_10 ?_
  exact ⟨by rw [nI0]; exact sc_shr0 (by omega), rfl⟩
set_option maxHeartbeats 4000000 in
theorem j_ckIx_n {g : GZ} {A : HA} {k n : Nat} (hk : k < n) (hn : n < 2147483648) : Ct g wI yJ13_checkIndex (.code yJ13_checkIndex cJ13_checkIndex 3 (Option.some Jvm.ClassFile.FieldType.int)) 2 0 0 [.int (nI (k)), .int (nI (n)), .null] (A) (fun u A' => u = nI k ∧ A' = A) fw_no := by
  refine Ct.of [some (.int (nI (k))), some (.int (nI (n))), some (.null)] (by decide) rfl rfl fun z C hx hnm E => ?_
  refine r_iload_0 (pc := 0) C dJ13_checkIndex_0 ?_
  refine r_if_lt (pc := 1) (tgt := 9) C dJ13_checkIndex_1 (by decide) (fun b1 => ?_) (fun b1 => ?_)
  · exact absurd b1 (nI_lt0 (by omega))
  · skip
    refine r_iload_0 (pc := 4) C dJ13_checkIndex_4 ?_
    refine r_iload_1 (pc := 5) C dJ13_checkIndex_5 ?_
    refine r_icmp_lt (pc := 6) (tgt := 16) C dJ13_checkIndex_6 (by decide) (fun b6 => ?_) (fun b6 => ?_)
    · skip
      have b6 := (nI_lt2 (by omega) (by omega)).mp b6
      refine r_iload_0 (pc := 16) C dJ13_checkIndex_16 ?_
      refine r_iret (pc := 17) C E rfl (Nat.le_refl _) (Nat.le_refl _) dJ13_checkIndex_17 ?_
      exact ⟨rfl, rfl⟩
    · skip
      have b6 := (not_congr (nI_lt2 (by omega) (by omega))).mp b6
      exfalso; omega
set_option maxHeartbeats 4000000 in
theorem j_ckIx_r {g : GZ} {A : HA} {tq : Nat} {k n : Nat} (hk : k < n) (hn : n < 2147483648) : Ct g wI yJ13_checkIndex (.code yJ13_checkIndex cJ13_checkIndex 3 (Option.some Jvm.ClassFile.FieldType.int)) 2 0 0 [.int (nI (k)), .int (nI (n)), .ref tq] (A) (fun u A' => u = nI k ∧ A' = A) fw_no := by
  refine Ct.of [some (.int (nI (k))), some (.int (nI (n))), some (.ref tq)] (by decide) rfl rfl fun z C hx hnm E => ?_
  refine r_iload_0 (pc := 0) C dJ13_checkIndex_0 ?_
  refine r_if_lt (pc := 1) (tgt := 9) C dJ13_checkIndex_1 (by decide) (fun b1 => ?_) (fun b1 => ?_)
  · exact absurd b1 (nI_lt0 (by omega))
  · skip
    refine r_iload_0 (pc := 4) C dJ13_checkIndex_4 ?_
    refine r_iload_1 (pc := 5) C dJ13_checkIndex_5 ?_
    refine r_icmp_lt (pc := 6) (tgt := 16) C dJ13_checkIndex_6 (by decide) (fun b6 => ?_) (fun b6 => ?_)
    · skip
      have b6 := (nI_lt2 (by omega) (by omega)).mp b6
      refine r_iload_0 (pc := 16) C dJ13_checkIndex_16 ?_
      refine r_iret (pc := 17) C E rfl (Nat.le_refl _) (Nat.le_refl _) dJ13_checkIndex_17 ?_
      exact ⟨rfl, rfl⟩
    · skip
      have b6 := (not_congr (nI_lt2 (by omega) (by omega))).mp b6
      exfalso; omega
set_option maxHeartbeats 4000000 in
theorem j_J10_checkIndex {g : GZ} {A : HA} (hz : zS g) {k n : Nat} (hk : k < n) (hn : n < 2147483648) : Ct g wV yJ10_checkIndex (.code yJ10_checkIndex cJ10_checkIndex 2 (Option.none : Option Jvm.ClassFile.FieldType)) 3 0 0 [.int (nI (k)), .int (nI (n))] (A) (fun u A' => A' = A) fw_no := by
  refine Ct.of [some (.int (nI (k))), some (.int (nI (n)))] (by decide) rfl rfl fun z C hx hnm E => ?_
  refine r_iload_0 (pc := 0) C dJ10_checkIndex_0 ?_
  refine r_iload_1 (pc := 1) C dJ10_checkIndex_1 ?_
  rcases hz.2 with hzq | ⟨tq, hzq⟩
  · skip
    refine r_getS (pc := 2) C hzq q652 dJ10_checkIndex_2 ?_
    refine r_S3io (pc := 5) C (j_ckIx_n hk hn) sl_J10_1059 (by decide) (Nat.le_refl _) (Nat.le_refl _) (Nat.le_of_ble_eq_true rfl) rfl dJ10_checkIndex_5 (fun u1 A1 hc1 => ?_)
    refine r_top hc1.1 ?_
    refine r_eqA hc1.2 ?_
    clear hc1 A1 u1
    refine r_pop (pc := 8) C dJ10_checkIndex_8 rfl ?_
    refine r_vret (pc := 9) C E (Nat.le_refl _) (Nat.le_refl _) dJ10_checkIndex_9 ?_
    exact rfl
  · skip
    refine r_getS (pc := 2) C hzq q652 dJ10_checkIndex_2 ?_
    refine r_S3io (pc := 5) C (j_ckIx_r hk hn) sl_J10_1059 (by decide) (Nat.le_refl _) (Nat.le_refl _) (Nat.le_of_ble_eq_true rfl) rfl dJ10_checkIndex_5 (fun u2 A2 hc2 => ?_)
    refine r_top hc2.1 ?_
    refine r_eqA hc2.2 ?_
    clear hc2 A2 u2
    refine r_pop (pc := 8) C dJ10_checkIndex_8 rfl ?_
    refine r_vret (pc := 9) C E (Nat.le_refl _) (Nat.le_refl _) dJ10_checkIndex_9 ?_
    exact rfl
set_option maxHeartbeats 4000000 in
theorem j_J12_charAt {g : GZ} {A : HA} (hz : zS g) {s v n : Nat} {f : Nat → Nat} (hs : StrV A s v f n) {k : Nat} (hk : k < n) : Ct g wI yJ12_charAt (.code yJ12_charAt cJ12_charAt 2 (Option.some Jvm.ClassFile.FieldType.char)) 4 0 0 [.ref v, .int (nI (k))] (A) (fun u A' => u = nI (f k) ∧ A' = A) fw_no := by
  refine Ct.of [some (.ref v), some (.int (nI (k)))] (by decide) rfl rfl fun z C hx hnm E => ?_
  have hl := hs.l
  have hb := hs.b hk
  refine r_iload_1 (pc := 0) C dJ12_charAt_0 ?_
  refine r_aload_0 (pc := 1) C dJ12_charAt_1 ?_
  refine r_alen (pc := 2) C rfl hs.k rfl dJ12_charAt_2 ?_
  refine r_top (congrArg nI hs.n') ?_
  refine r_S2vo (pc := 3) C (j_J10_checkIndex hz (by omega) (by omega)) sl_J12_9 (by decide) (Nat.le_refl _) (Nat.le_refl _) (Nat.le_of_ble_eq_true rfl) rfl dJ12_charAt_3 (fun u1 A1 hc1 => ?_)
  refine r_eqA hc1 ?_
  clear hc1 A1 u1
  refine r_aload_0 (pc := 6) C dJ12_charAt_6 ?_
  refine r_iload_1 (pc := 7) C dJ12_charAt_7 ?_
  refine r_bald (pc := 8) C rfl hs.k rfl (lt_eq (by omega) hs.n') (by omega) dJ12_charAt_8 ?_
  refine r_top (hs.i hk) ?_
  refine r_sipush (pc := 9) C dJ12_charAt_9 cs_255 ?_
  refine r_iand (pc := 12) C dJ12_charAt_12 ?_
  refine r_top (by_and hb) ?_
  refine r_i2c (pc := 13) C dJ12_charAt_13 ?_
  refine r_top (by_c hb) ?_
  refine r_iret (pc := 14) C E (by_nar hb) (Nat.le_refl _) (Nat.le_refl _) dJ12_charAt_14 ?_
  exact ⟨rfl, rfl⟩
set_option maxHeartbeats 4000000 in
theorem j_J10_charAt {g : GZ} {A : HA} (hz : zS g) {s v n : Nat} {f : Nat → Nat} (hs : StrV A s v f n) {k : Nat} (hk : k < n) : Ct g wI yJ10_charAt (.code yJ10_charAt cJ10_charAt 2 (Option.some Jvm.ClassFile.FieldType.char)) 5 0 0 [.ref s, .int (nI (k))] (A) (fun u A' => u = nI (f k) ∧ A' = A) fw_no := by
  refine Ct.of [some (.ref s), some (.int (nI (k)))] (by decide) rfl rfl fun z C hx hnm E => ?_
  have hb := hs.b hk
  refine r_aload_0 (pc := 0) C dJ10_charAt_0 ?_
  refine r_V0io (pc := 1) C (j_J10_isLatin1 hz hs) vl_J10_492 hs.g (by decide) (Nat.le_refl _) (Nat.le_refl _) (Nat.le_of_ble_eq_true rfl) rfl dJ10_charAt_1 (fun u1 A1 hc1 => ?_)
  refine r_top hc1.1 ?_
  refine r_eqA hc1.2 ?_
  clear hc1 A1 u1
  refine r_if_eq (pc := 4) (tgt := 16) C dJ10_charAt_4 (by decide) (fun b4 => ?_) (fun b4 => ?_)
  · exact absurd b4 (by decide +kernel)
  · skip
    refine r_aload_0 (pc := 7) C dJ10_charAt_7 ?_
    refine r_getR (pc := 8) C fl_J10_9_16 hs.g rfl hs.r dJ10_charAt_8 ?_
    refine r_iload_1 (pc := 11) C dJ10_charAt_11 ?_
    refine r_S2io (pc := 12) C (j_J12_charAt hz hs hk) sl_J10_495 (by decide) (Nat.le_refl _) (Nat.le_refl _) (Nat.le_of_ble_eq_true rfl) rfl dJ10_charAt_12 (fun u2 A2 hc2 => ?_)
    refine r_top hc2.1 ?_
    refine r_eqA hc2.2 ?_
    clear hc2 A2 u2
    refine r_iret (pc := 15) C E (by_nar hb) (Nat.le_refl _) (Nat.le_refl _) dJ10_charAt_15 ?_
    exact ⟨rfl, rfl⟩
