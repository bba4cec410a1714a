/-! THE JDK: ArrayDeque -/
set_option maxRecDepth 100000
theorem sR_self (A : HA) (a : Nat) : A.sR a (A.R a) = A := by
  refine HA.ext rfl rfl ?_ rfl rfl rfl
  funext x
  rw [sR_R]
  by_cases q : x = a
  · rw [if_pos q, q]
  · rw [if_neg q]
/-- the deque at q: its places at e, from h on m things f -/
def DqV (A : HA) (q e h m : Nat) (f : Nat → Nat) : Prop := ((A.G q).1 = 14 ∧ A.R q 0 = some e ∧ (A.G e).1 = 502 ∧ A.n e = 10) ∧ (h < 10 ∧ m ≤ 9) ∧ (A.I q 1 = nI h ∧ A.I q 2 = nI ((h + m) % 10)) ∧ ∀ i, i < m → A.R e ((h + i) % 10) = some (f i)
section
variable {A : HA} {q e h m : Nat} {f : Nat → Nat}
theorem DqV.g (s : DqV A q e h m f) : (A.G q).1 = 14 := s.1.1
theorem DqV.r (s : DqV A q e h m f) : A.R q 0 = some e := s.1.2.1
theorem DqV.k (s : DqV A q e h m f) : (A.G e).1 = 502 := s.1.2.2.1
theorem DqV.l (s : DqV A q e h m f) : A.n e = 10 := s.1.2.2.2
theorem DqV.h10 (s : DqV A q e h m f) : h < 10 := s.2.1.1
theorem DqV.m9 (s : DqV A q e h m f) : m ≤ 9 := s.2.1.2
theorem DqV.hd (s : DqV A q e h m f) : A.I q 1 = nI h := s.2.2.1.1
theorem DqV.tl (s : DqV A q e h m f) : A.I q 2 = nI ((h + m) % 10) := s.2.2.1.2
theorem DqV.el (s : DqV A q e h m f) {i : Nat} (hi : i < m) : A.R e ((h + i) % 10) = some (f i) := s.2.2.2 i hi
theorem DqV.ne (s : DqV A q e h m f) : q ≠ e := fun z => by have h1 := s.g; have h2 := s.k; rw [z, h2] at h1; cases h1
theorem DqV.lt (s : DqV A q e h m f) (hz : Zk A) : q < A.z ∧ e < A.z := ⟨hz.lt s.g rfl, hz.lt s.k rfl⟩
theorem DqV.gw {B : HA} {X : Nat → Prop} (s : DqV A q e h m f) (hz : Zk A) (hw : Gw A B X) (h1 : ¬ X q) (h2 : ¬ X e) : DqV B q e h m f := by
  obtain ⟨l1, l2⟩ := s.lt hz
  obtain ⟨e1, e2, e3⟩ := hw.2 q l1
  obtain ⟨e4, e5, e6⟩ := hw.2 e l2
  obtain ⟨-, e7, e8⟩ := e3 h1
  obtain ⟨-, e9, e0⟩ := e6 h2
  exact ⟨⟨by rw [e1]; exact s.g, by rw [e8]; exact s.r, by rw [e4]; exact s.k, by rw [e5]; exact s.l⟩, s.2.1, ⟨by rw [e7]; exact s.hd, by rw [e7]; exact s.tl⟩, fun i hi => by rw [e0]; exact s.el hi⟩
theorem DqV.cong {h' : Nat → Nat} (s : DqV A q e h m f) (e1 : ∀ i, i < m → h' i = f i) : DqV A q e h m h' := ⟨s.1, s.2.1, s.2.2.1, fun i hi => by rw [e1 i hi]; exact s.el hi⟩
/-- behind the last one -/
theorem dq_add {x : Nat} (s : DqV A q e h m f) (h8 : m ≤ 8) : DqV ((A.sR e (va_up (A.R e) ((h + m) % 10) (some x))).sI q (upd ((A.sR e (va_up (A.R e) ((h + m) % 10) (some x))).I q) 2 (nI ((h + (m + 1)) % 10)))) q e h (m + 1) (lower f m x) ∧
    Gw A ((A.sR e (va_up (A.R e) ((h + m) % 10) (some x))).sI q (upd ((A.sR e (va_up (A.R e) ((h + m) % 10) (some x))).I q) 2 (nI ((h + (m + 1)) % 10)))) (fun y => y = q ∨ y = e) := by
  have hne := s.ne
  have h10 := s.h10
  refine ⟨⟨⟨s.g, ?_, s.k, s.l⟩, ⟨s.h10, by omega⟩, ⟨?_, ?_⟩, fun i hi => ?_⟩, (gw_sR (fun _ => Or.inr rfl)).tr (gw_sI (fun _ => Or.inl rfl))⟩
  · show (A.sR e _).R q 0 = _; rw [sR_o _ _ hne]; exact s.r
  · rw [sI_s, pk_un (by decide)]; exact s.hd
  · rw [sI_s, pk_us]
  · show (A.sR e _).R e _ = _
    rw [sR_s]
    by_cases q2 : i = m
    · subst q2; rw [lower_s]; simp [va_up]
    · have : (h + i) % 10 ≠ (h + m) % 10 := by omega
      rw [lower_o _ _ q2]
      simp only [va_up, if_neg this]
      exact s.el (by omega)
/-- the first one goes -/
theorem dq_first (s : DqV A q e h m f) (h1 : 1 ≤ m) : DqV ((A.sR e (va_up (A.R e) h none)).sI q (upd ((A.sR e (va_up (A.R e) h none)).I q) 1 (nI ((h + 1) % 10)))) q e ((h + 1) % 10) (m - 1) (fun i => f (i + 1)) ∧
    Gw A ((A.sR e (va_up (A.R e) h none)).sI q (upd ((A.sR e (va_up (A.R e) h none)).I q) 1 (nI ((h + 1) % 10)))) (fun y => y = q ∨ y = e) := by
  have hne := s.ne
  have h10 := s.h10
  have h9 := s.m9
  refine ⟨⟨⟨s.g, ?_, s.k, s.l⟩, ⟨by omega, by omega⟩, ⟨?_, ?_⟩, fun i hi => ?_⟩, (gw_sR (fun _ => Or.inr rfl)).tr (gw_sI (fun _ => Or.inl rfl))⟩
  · show (A.sR e _).R q 0 = _; rw [sR_o _ _ hne]; exact s.r
  · rw [sI_s, pk_us]
  · rw [sI_s, pk_un (by decide)]
    exact s.tl.trans (congrArg nI (by omega))
  · show (A.sR e _).R e _ = _
    rw [sR_s]
    have e1 : ((h + 1) % 10 + i) % 10 = (h + (i + 1)) % 10 := by omega
    have : (h + (i + 1)) % 10 ≠ h := by omega
    rw [e1]
    simp only [va_up, if_neg this]
    exact s.el (by omega)
/-- the last one goes -/
theorem dq_last (s : DqV A q e h m f) (h1 : 1 ≤ m) : DqV ((A.sI q (upd (A.I q) 2 (nI ((h + (m - 1)) % 10)))).sR e (va_up ((A.sI q (upd (A.I q) 2 (nI ((h + (m - 1)) % 10)))).R e) ((h + (m - 1)) % 10) none)) q e h (m - 1) f ∧
    Gw A ((A.sI q (upd (A.I q) 2 (nI ((h + (m - 1)) % 10)))).sR e (va_up ((A.sI q (upd (A.I q) 2 (nI ((h + (m - 1)) % 10)))).R e) ((h + (m - 1)) % 10) none)) (fun y => y = q ∨ y = e) := by
  have hne := s.ne
  have h10 := s.h10
  have h9 := s.m9
  refine ⟨⟨⟨s.g, ?_, s.k, s.l⟩, ⟨s.h10, by omega⟩, ⟨?_, ?_⟩, fun i hi => ?_⟩, (gw_sI (fun _ => Or.inl rfl)).tr (gw_sR (fun _ => Or.inr rfl))⟩
  · rw [sR_o _ _ hne]; exact s.r
  · show (A.sI q _).I q 1 = _; rw [sI_s, pk_un (by decide)]; exact s.hd
  · show (A.sI q _).I q 2 = _; rw [sI_s, pk_us]
  · rw [sR_s]
    have : (h + i) % 10 ≠ (h + (m - 1)) % 10 := by omega
    simp only [va_up, if_neg this]
    exact s.el (by omega)
theorem dq_clear {ρ : Nat → Option Nat} (s : DqV A q e h m f) : DqV (((A.sR e ρ).sI q (upd ((A.sR e ρ).I q) 2 (nI 0))).sI q (upd (((A.sR e ρ).sI q (upd ((A.sR e ρ).I q) 2 (nI 0))).I q) 1 (nI 0))) q e 0 0 f ∧
    Gw A (((A.sR e ρ).sI q (upd ((A.sR e ρ).I q) 2 (nI 0))).sI q (upd (((A.sR e ρ).sI q (upd ((A.sR e ρ).I q) 2 (nI 0))).I q) 1 (nI 0))) (fun y => y = q ∨ y = e) := by
  have hne := s.ne
  refine ⟨⟨⟨s.g, ?_, s.k, s.l⟩, ⟨by omega, by omega⟩, ⟨?_, ?_⟩, fun i hi => absurd hi (by omega)⟩, ((gw_sR (fun _ => Or.inr rfl)).tr (gw_sI (fun _ => Or.inl rfl))).tr (gw_sI (fun _ => Or.inl rfl))⟩
  · show (A.sR e ρ).R q 0 = _; rw [sR_o _ _ hne]; exact s.r
  · rw [sI_s, pk_us]
  · rw [sI_s, pk_un (by decide), sI_s, pk_us]
end
theorem dq_new {A : HA} {q : Nat} {f : Nat → Nat} (hq : q < A.z) (hg : (A.G q).1 = 14) (h1 : A.I q 1 = nI 0) (h2 : A.I q 2 = nI 0) : DqV ((A.mk 502 0 10).sR q (va_up ((A.mk 502 0 10).R q) 0 (some A.z))) q A.z 0 0 f ∧ Gw A ((A.mk 502 0 10).sR q (va_up ((A.mk 502 0 10).R q) 0 (some A.z))) (fun y => y = q) := by
  have hn : q ≠ A.z := by omega
  refine ⟨⟨⟨?_, ?_, ?_, ?_⟩, ⟨by omega, by omega⟩, ⟨?_, ?_⟩, fun i hi => absurd hi (by omega)⟩, gw_mk.tr (gw_sR (fun _ => rfl))⟩
  · show ((A.mk 502 0 10).G q).1 = 14; rw [mk_G, if_neg hn]; exact hg
  · rw [sR_s]; simp [va_up]
  · show ((A.mk 502 0 10).G A.z).1 = 502; rw [mk_G, if_pos rfl]
  · show (A.mk 502 0 10).n A.z = 10; rw [mk_n, if_pos rfl]
  · show (A.mk 502 0 10).I q 1 = _; rw [mk_I, if_neg hn]; exact h1
  · show (A.mk 502 0 10).I q 2 = _; rw [mk_I, if_neg hn]; exact h2
theorem sub_lt0 {t h : Nat} (h1 : t < h) (h9 : h < 1000) : ¬ 0 ≤ nI t - nI h := by
  rw [Int32.le_iff_toInt_le, pk_sub_toInt (by omega) (by omega), show (0 : Int32).toInt = 0 by decide +kernel]
  omega
theorem sub_add {t h n : Nat} (h1 : h ≤ t + n) (h9 : t + n < 1000) : nI t - nI h + nI n = nI (t + n - h) := by
  rw [Int32.sub_eq_add_neg, Int32.add_assoc, Int32.add_comm (-_) _, ← Int32.add_assoc, ← Int32.sub_eq_add_neg, nI_add, pk_sub h1]
theorem OkO2 : OkO 2 := ⟨_, _, _, rfl, rfl, q2971⟩
theorem NF14 : ∀ j, fw_ty 14 j ≠ .float ∧ fw_ty 14 j ≠ .double := by
  intro j; show tyJ7 j ≠ _ ∧ tyJ7 j ≠ _; unfold tyJ7; split <;> exact ⟨by decide, by decide⟩
theorem sub_ge0 {t h : Nat} (h1 : h ≤ t) (h9 : t < 1000) : 0 ≤ nI t - nI h := by
  rw [pk_sub h1]; exact nI_0le (by omega)
set_option maxHeartbeats 4000000 in
theorem j_J7_sub {g : GZ} {A : HA} {t h n : Nat} (ht : t < n) (hh : h < n) (hn : n < 400) : Ct g wI yJ7_sub (.code yJ7_sub cJ7_sub 3 (Option.some Jvm.ClassFile.FieldType.int)) 1 0 0 [.int (nI (t)), .int (nI (h)), .int (nI (n))] (A) (fun u A' => u = nI (if h ≤ t then t - h else t + n - h) ∧ A' = A) fw_no := by
  refine Ct.of [some (.int (nI (t))), some (.int (nI (h))), some (.int (nI (n)))] (by decide) rfl rfl fun z C hx hnm E => ?_
  refine r_iload_0 (pc := 0) C dJ7_sub_0 ?_
  refine r_iload_1 (pc := 1) C dJ7_sub_1 ?_
  rcases Nat.lt_or_ge t h with q | q
  · skip
    refine r_isub (pc := 2) C dJ7_sub_2 ?_
    refine r_dup (pc := 3) C dJ7_sub_3 rfl ?_
    refine r_istore_0 (pc := 4) C dJ7_sub_4 ?_
    refine r_if_ge (pc := 5) (tgt := 12) C dJ7_sub_5 (by decide) (fun b5 => ?_) (fun b5 => ?_)
    · skip
      exact absurd b5 (sub_lt0 q (by omega))
    · skip
      refine r_iload_0 (pc := 8) C dJ7_sub_8 ?_
      refine r_iload_2 (pc := 9) C dJ7_sub_9 ?_
      refine r_iadd (pc := 10) C dJ7_sub_10 ?_
      refine r_istore_0 (pc := 11) C dJ7_sub_11 ?_
      refine r_iload_0 (pc := 12) C dJ7_sub_12 ?_
      refine r_iret (pc := 13) C E rfl (by omega) (by omega) dJ7_sub_13 ?_
      first
        | exact ⟨by rw [if_neg (by omega)]; exact sub_add (by omega) (by omega), rfl⟩
        | exact ⟨by rw [if_pos q]; exact pk_sub q, rfl⟩
  · skip
    refine r_isub (pc := 2) C dJ7_sub_2 ?_
    refine r_dup (pc := 3) C dJ7_sub_3 rfl ?_
    refine r_istore_0 (pc := 4) C dJ7_sub_4 ?_
    refine r_if_ge (pc := 5) (tgt := 12) C dJ7_sub_5 (by decide) (fun b5 => ?_) (fun b5 => ?_)
    · skip
      refine r_iload_0 (pc := 12) C dJ7_sub_12 ?_
      refine r_iret (pc := 13) C E rfl (by omega) (by omega) dJ7_sub_13 ?_
      first
        | exact ⟨by rw [if_neg (by omega)]; exact sub_add (by omega) (by omega), rfl⟩
        | exact ⟨by rw [if_pos q]; exact pk_sub q, rfl⟩
    · skip
      exact absurd (sub_ge0 q (by omega)) b5
set_option maxHeartbeats 4000000 in
theorem j_J7_size {g : GZ} {A : HA} {q e h m : Nat} {f : Nat → Nat} (hs : DqV A q e h m f)  : Ct g wI yJ7_size (.code yJ7_size cJ7_size 1 (Option.some Jvm.ClassFile.FieldType.int)) 2 0 0 [.ref q] (A) (fun u A' => u = nI m ∧ A' = A) fw_no := by
  refine Ct.of [some (.ref q)] (by decide) rfl rfl fun z C hx hnm E => ?_
  have h10 := hs.h10
  have h9 := hs.m9
  refine r_aload_0 (pc := 0) C dJ7_size_0 ?_
  refine r_getI (pc := 1) C fl_J7_20_14 hs.g rfl dJ7_size_1 ?_
  refine r_top hs.tl ?_
  refine r_aload_0 (pc := 4) C dJ7_size_4 ?_
  refine r_getI (pc := 5) C fl_J7_24_14 hs.g rfl dJ7_size_5 ?_
  refine r_top hs.hd ?_
  refine r_aload_0 (pc := 8) C dJ7_size_8 ?_
  refine r_getR (pc := 9) C fl_J7_3_14 hs.g rfl hs.r dJ7_size_9 ?_
  refine r_alen (pc := 12) (t := 5) C hs.k rfl rfl dJ7_size_12 ?_
  refine r_top (congrArg nI hs.l) ?_
  refine r_S3io (pc := 13) C (j_J7_sub (by omega) (by omega) (by omega)) sl_J7_127 (by decide) (by omega) (by omega) (Nat.le_of_ble_eq_true rfl) rfl dJ7_size_13 (fun u1 A1 hc1 => ?_)
  refine r_top hc1.1 ?_
  refine r_eqA hc1.2 ?_
  clear hc1 A1 u1
  refine r_top (congrArg nI (show (if h ≤ (h + m) % 10 then (h + m) % 10 - h else (h + m) % 10 + 10 - h) = m by split <;> omega)) ?_
  refine r_iret (pc := 16) C E rfl (by omega) (by omega) dJ7_size_16 ?_
  exact ⟨rfl, rfl⟩
set_option maxHeartbeats 4000000 in
theorem j_J7_isEmpty {g : GZ} {A : HA} {q e h m : Nat} {f : Nat → Nat} (hs : DqV A q e h m f)  : Ct g wI yJ7_isEmpty (.code yJ7_isEmpty cJ7_isEmpty 1 (Option.some Jvm.ClassFile.FieldType.boolean)) 1 0 0 [.ref q] (A) (fun u A' => u = bI (m = 0) ∧ A' = A) fw_no := by
  refine Ct.of [some (.ref q)] (by decide) rfl rfl fun z C hx hnm E => ?_
  have h10 := hs.h10
  have h9 := hs.m9
  refine r_aload_0 (pc := 0) C dJ7_isEmpty_0 ?_
  refine r_getI (pc := 1) C fl_J7_24_14 hs.g rfl dJ7_isEmpty_1 ?_
  refine r_top hs.hd ?_
  refine r_aload_0 (pc := 4) C dJ7_isEmpty_4 ?_
  refine r_getI (pc := 5) C fl_J7_20_14 hs.g rfl dJ7_isEmpty_5 ?_
  refine r_top hs.tl ?_
  refine r_icmp_ne (pc := 8) (tgt := 15) C dJ7_isEmpty_8 (by decide) (fun b8 => ?_) (fun b8 => ?_)
  · skip
    have b8 := (not_congr (nI_eqI (by omega) (by omega))).mp b8
    refine r_iconst (pc := 15) C dJ7_isEmpty_15 ci_0 ?_
    refine r_iret (pc := 16) C E nar_0 (by omega) (by omega) dJ7_isEmpty_16 ?_
    first
      | exact ⟨bI_1 (by omega), rfl⟩
      | exact ⟨bI_00 (by omega), rfl⟩
  · skip
    have b8 := (nI_eqI (by omega) (by omega)).mp b8
    refine r_iconst (pc := 11) C dJ7_isEmpty_11 ci_1 ?_
    refine r_goto (pc := 12) (tgt := 16) C dJ7_isEmpty_12 (by decide) ?_
    refine r_iret (pc := 16) C E nar_1 (by omega) (by omega) dJ7_isEmpty_16 ?_
    first
      | exact ⟨bI_1 (by omega), rfl⟩
      | exact ⟨bI_00 (by omega), rfl⟩
set_option maxHeartbeats 4000000 in
theorem j_J7_inc {g : GZ} {A : HA} {i n : Nat} (hi : i < n) (hn : n < 400) : Ct g wI yJ7_inc (.code yJ7_inc cJ7_inc 2 (Option.some Jvm.ClassFile.FieldType.int)) 1 0 0 [.int (nI (i)), .int (nI (n))] (A) (fun u A' => u = nI (if i + 1 < n then i + 1 else 0) ∧ A' = A) fw_no := by
  refine Ct.of [some (.int (nI (i))), some (.int (nI (n)))] (by decide) rfl rfl fun z C hx hnm E => ?_
  refine r_iinc_0 (pc := 0) C dJ7_inc_0 (nI_inc _) ?_
  refine r_iload_0 (pc := 3) C dJ7_inc_3 ?_
  refine r_iload_1 (pc := 4) C dJ7_inc_4 ?_
  refine r_icmp_lt (pc := 5) (tgt := 10) C dJ7_inc_5 (by decide) (fun b5 => ?_) (fun b5 => ?_)
  · skip
    have b5 := (nI_lt2 (by omega) (by omega)).mp b5
    refine r_iload_0 (pc := 10) C dJ7_inc_10 ?_
    refine r_iret (pc := 11) C E rfl (by omega) (by omega) dJ7_inc_11 ?_
    first
      | exact ⟨by rw [if_pos (by omega)], rfl⟩
      | exact ⟨by rw [if_neg (by omega)], rfl⟩
  · skip
    have b5 := (not_congr (nI_lt2 (by omega) (by omega))).mp b5
    refine r_iconst (pc := 8) C dJ7_inc_8 ci_0 ?_
    refine r_istore_0 (pc := 9) C dJ7_inc_9 ?_
    refine r_iload_0 (pc := 10) C dJ7_inc_10 ?_
    refine r_iret (pc := 11) C E rfl (by omega) (by omega) dJ7_inc_11 ?_
    first
      | exact ⟨by rw [if_pos (by omega)], rfl⟩
      | exact ⟨by rw [if_neg (by omega)], rfl⟩
set_option maxHeartbeats 4000000 in
theorem j_J7_dec {g : GZ} {A : HA} {i n : Nat} (hi : i < n) (hn : n < 400) : Ct g wI yJ7_dec (.code yJ7_dec cJ7_dec 2 (Option.some Jvm.ClassFile.FieldType.int)) 1 0 0 [.int (nI (i)), .int (nI (n))] (A) (fun u A' => u = nI (if i = 0 then n - 1 else i - 1) ∧ A' = A) fw_no := by
  refine Ct.of [some (.int (nI (i))), some (.int (nI (n)))] (by decide) rfl rfl fun z C hx hnm E => ?_
  rcases Nat.eq_zero_or_pos i with q | q
  · skip
    subst q
    refine r_iinc_0 (pc := 0) C dJ7_dec_0 (show _ = (-1 : Int32) by decide +kernel) ?_
    refine r_iload_0 (pc := 3) C dJ7_dec_3 ?_
    refine r_if_ge (pc := 4) (tgt := 11) C dJ7_dec_4 (by decide) (fun b4 => ?_) (fun b4 => ?_)
    · exact absurd b4 (by decide +kernel)
    · skip
      refine r_iload_1 (pc := 7) C dJ7_dec_7 ?_
      refine r_iconst (pc := 8) C dJ7_dec_8 ci_1 ?_
      refine r_isub (pc := 9) C dJ7_dec_9 ?_
      refine r_top (pk_sub (by omega)) ?_
      refine r_istore_0 (pc := 10) C dJ7_dec_10 ?_
      refine r_iload_0 (pc := 11) C dJ7_dec_11 ?_
      refine r_iret (pc := 12) C E rfl (by omega) (by omega) dJ7_dec_12 ?_
      first
        | exact ⟨by rw [if_pos rfl], rfl⟩
        | exact ⟨by rw [if_neg (by omega)]; exact congrArg nI (by omega), rfl⟩
  · skip
    obtain ⟨j, rfl⟩ : ∃ j, i = j + 1 := ⟨i - 1, by omega⟩
    refine r_iinc_0 (pc := 0) C dJ7_dec_0 (show nI (j + 1) + Int32.ofInt (-1) = nI j by rw [cn_m1]; exact nI_p1 (by omega)) ?_
    refine r_iload_0 (pc := 3) C dJ7_dec_3 ?_
    refine r_if_ge (pc := 4) (tgt := 11) C dJ7_dec_4 (by decide) (fun b4 => ?_) (fun b4 => ?_)
    · skip
      refine r_iload_0 (pc := 11) C dJ7_dec_11 ?_
      refine r_iret (pc := 12) C E rfl (by omega) (by omega) dJ7_dec_12 ?_
      first
        | exact ⟨by rw [if_pos rfl], rfl⟩
        | exact ⟨by rw [if_neg (by omega)]; exact congrArg nI (by omega), rfl⟩
    · exact absurd (nI_0le (by omega)) b4
set_option maxHeartbeats 4000000 in
theorem j_J7_elementAt {g : GZ} {A : HA} {e i x : Nat} (hk : (A.G e).1 = 502) (hn : A.n e = 10) (hi : i < 10) (hx0 : A.R e i = some x) : Ct g wR yJ7_elementAt (.code yJ7_elementAt cJ7_elementAt 2 (Option.some (Jvm.ClassFile.FieldType.object "java/lang/Object"))) 1 0 0 [.ref e, .int (nI (i))] (A) (fun u A' => u = x ∧ A' = A) fw_no := by
  refine Ct.of [some (.ref e), some (.int (nI (i)))] (by decide) rfl rfl fun z C hx hnm E => ?_
  refine r_aload_0 (pc := 0) C dJ7_elementAt_0 ?_
  refine r_iload_1 (pc := 1) C dJ7_elementAt_1 ?_
  refine r_aaldR (pc := 2) (t := 5) C hk rfl rfl rfl (lt_eq (by omega) hn) (by omega) hx0 dJ7_elementAt_2 ?_
  refine r_aret (pc := 3) C E rfl (by omega) (by omega) dJ7_elementAt_3 ?_
  exact ⟨rfl, rfl⟩
set_option maxHeartbeats 4000000 in
theorem j_J7_addLast {g : GZ} {A : HA} {q e h m : Nat} {f : Nat → Nat} (hs : DqV A q e h m f) {x : Nat} (hx9 : OkO (A.G x).1) (h8 : m ≤ 8) : Ct g wV yJ7_addLast (.code yJ7_addLast cJ7_addLast 3 (Option.none : Option Jvm.ClassFile.FieldType)) 2 0 0 [.ref q, .ref x] (A) (fun u A' => DqV A' q e h (m + 1) (lower f m x) ∧ Gw A A' (fun y => y = q ∨ y = e) ∧ A'.z = A.z) fw_no := by
  refine Ct.of [some (.ref q), some (.ref x), none] (by decide) rfl rfl fun z C hx hnm E => ?_
  have h10 := hs.h10
  have h9 := hs.m9
  refine r_aload_1 (pc := 0) C dJ7_addLast_0 ?_
  refine r_ifnonnull (pc := 1) (tgt := 12) C dJ7_addLast_1 (by decide) ?_
  refine r_aload_0 (pc := 12) C dJ7_addLast_12 ?_
  refine r_getR (pc := 13) C fl_J7_3_14 hs.g rfl hs.r dJ7_addLast_13 ?_
  refine r_astore_2 (pc := 16) C dJ7_addLast_16 rfl ?_
  refine r_aload_2 (pc := 17) C dJ7_addLast_17 ?_
  refine r_aload_0 (pc := 18) C dJ7_addLast_18 ?_
  refine r_getI (pc := 19) C fl_J7_20_14 hs.g rfl dJ7_addLast_19 ?_
  refine r_top hs.tl ?_
  refine r_aload_1 (pc := 22) C dJ7_addLast_22 ?_
  refine r_aastX (pc := 23) (t := 5) (j := (h + m) % 10) C hs.k rfl rfl hx9 rfl (lt_eq (by omega) hs.l) (by omega) dJ7_addLast_23 ?_
  refine r_aload_0 (pc := 24) C dJ7_addLast_24 ?_
  refine r_getI (pc := 25) C fl_J7_24_14 hs.g rfl dJ7_addLast_25 ?_
  refine r_top hs.hd ?_
  refine r_aload_0 (pc := 28) C dJ7_addLast_28 ?_
  refine r_aload_0 (pc := 29) C dJ7_addLast_29 ?_
  refine r_getI (pc := 30) C fl_J7_20_14 hs.g rfl dJ7_addLast_30 ?_
  refine r_top hs.tl ?_
  refine r_aload_2 (pc := 33) C dJ7_addLast_33 ?_
  refine r_alen (pc := 34) (t := 5) C hs.k rfl rfl dJ7_addLast_34 ?_
  refine r_top (congrArg nI hs.l) ?_
  refine r_S2io (pc := 35) C (j_J7_inc (by omega) (by omega)) sl_J7_74 (by decide) (by omega) (by omega) (Nat.le_of_ble_eq_true rfl) rfl dJ7_addLast_35 (fun u1 A1 hc1 => ?_)
  refine r_top hc1.1 ?_
  refine r_eqA hc1.2 ?_
  clear hc1 A1 u1
  refine r_top (congrArg nI (show (if (h + m) % 10 + 1 < 10 then (h + m) % 10 + 1 else 0) = (h + (m + 1)) % 10 by split <;> omega)) ?_
  refine r_dup_x1 (pc := 38) C dJ7_addLast_38 rfl rfl ?_
  refine r_putI (pc := 39) C fl_J7_20_14 hs.g rfl (fun _ _ _ h => by cases h; exact Or.inl rfl) rfl rfl rfl dJ7_addLast_39 ?_
  refine r_icmp_ne (pc := 42) (tgt := 50) C dJ7_addLast_42 (by decide) (fun b42 => ?_) (fun b42 => ?_)
  · skip
    have b42 := (not_congr (nI_eqI (by omega) (by omega))).mp b42
    refine r_vret (pc := 50) C E (by omega) (by omega) dJ7_addLast_50 ?_
    have hq := dq_add (x := x) hs h8
    exact ⟨hq.1, hq.2, rfl⟩
  · skip
    have b42 := (nI_eqI (by omega) (by omega)).mp b42
    exfalso; omega
set_option maxHeartbeats 4000000 in
theorem j_J7_pollFirst {g : GZ} {A : HA} {q e h m : Nat} {f : Nat → Nat} (hs : DqV A q e h m f) (h1 : 1 ≤ m) : Ct g wR yJ7_pollFirst (.code yJ7_pollFirst cJ7_pollFirst 4 (Option.some (Jvm.ClassFile.FieldType.object "java/lang/Object"))) 2 0 0 [.ref q] (A) (fun u A' => u = f 0 ∧ DqV A' q e ((h + 1) % 10) (m - 1) (fun i => f (i + 1)) ∧ Gw A A' (fun y => y = q ∨ y = e) ∧ A'.z = A.z) fw_no := by
  refine Ct.of [some (.ref q), none, none, none] (by decide) rfl rfl fun z C hx hnm E => ?_
  have h10 := hs.h10
  have h9 := hs.m9
  have hx0 := hs.el (i := 0) (by omega)
  rw [show (h + 0) % 10 = h by omega] at hx0
  refine r_aload_0 (pc := 0) C dJ7_pollFirst_0 ?_
  refine r_getR (pc := 1) C fl_J7_3_14 hs.g rfl hs.r dJ7_pollFirst_1 ?_
  refine r_dup (pc := 4) C dJ7_pollFirst_4 rfl ?_
  refine r_astore_1 (pc := 5) C dJ7_pollFirst_5 rfl ?_
  refine r_aload_0 (pc := 6) C dJ7_pollFirst_6 ?_
  refine r_getI (pc := 7) C fl_J7_24_14 hs.g rfl dJ7_pollFirst_7 ?_
  refine r_top hs.hd ?_
  refine r_dup (pc := 10) C dJ7_pollFirst_10 rfl ?_
  refine r_istore_2 (pc := 11) C dJ7_pollFirst_11 rfl ?_
  refine r_S2ro (pc := 12) C (j_J7_elementAt hs.k hs.l h10 hx0) sl_J7_103 (by decide) (by omega) (by omega) (Nat.le_of_ble_eq_true rfl) rfl dJ7_pollFirst_12 (fun u1 A1 hc1 => ?_)
  refine r_topR hc1.1 ?_
  refine r_eqA hc1.2 ?_
  clear hc1 A1 u1
  refine r_astore_3 (pc := 15) C dJ7_pollFirst_15 rfl ?_
  refine r_aload_3 (pc := 16) C dJ7_pollFirst_16 ?_
  refine r_ifnull (pc := 17) C dJ7_pollFirst_17 ?_
  refine r_aload_1 (pc := 20) C dJ7_pollFirst_20 ?_
  refine r_iload_2 (pc := 21) C dJ7_pollFirst_21 ?_
  refine r_null (pc := 22) C dJ7_pollFirst_22 ?_
  refine r_aastN (pc := 23) (t := 5) C hs.k rfl rfl rfl (lt_eq (by omega) hs.l) (by omega) dJ7_pollFirst_23 ?_
  refine r_aload_0 (pc := 24) C dJ7_pollFirst_24 ?_
  refine r_iload_2 (pc := 25) C dJ7_pollFirst_25 ?_
  refine r_aload_1 (pc := 26) C dJ7_pollFirst_26 ?_
  refine r_alen (pc := 27) (t := 5) C hs.k rfl rfl dJ7_pollFirst_27 ?_
  refine r_top (congrArg nI hs.l) ?_
  refine r_S2io (pc := 28) C (j_J7_inc (by omega) (by omega)) sl_J7_74 (by decide) (by omega) (by omega) (Nat.le_of_ble_eq_true rfl) rfl dJ7_pollFirst_28 (fun u2 A2 hc2 => ?_)
  refine r_top hc2.1 ?_
  refine r_eqA hc2.2 ?_
  clear hc2 A2 u2
  refine r_top (congrArg nI (show (if h + 1 < 10 then h + 1 else 0) = (h + 1) % 10 by split <;> omega)) ?_
  refine r_putI (pc := 31) C fl_J7_24_14 hs.g rfl (fun _ _ _ h => by cases h; exact Or.inl rfl) rfl rfl rfl dJ7_pollFirst_31 ?_
  refine r_aload_3 (pc := 34) C dJ7_pollFirst_34 ?_
  refine r_aret (pc := 35) C E rfl (by omega) (by omega) dJ7_pollFirst_35 ?_
  have hq := dq_first hs h1
  exact ⟨rfl, hq.1, hq.2, rfl⟩
set_option maxHeartbeats 4000000 in
theorem j_J7_removeFirst {g : GZ} {A : HA} {q e h m : Nat} {f : Nat → Nat} (hs : DqV A q e h m f) (h1 : 1 ≤ m) : Ct g wR yJ7_removeFirst (.code yJ7_removeFirst cJ7_removeFirst 2 (Option.some (Jvm.ClassFile.FieldType.object "java/lang/Object"))) 3 0 0 [.ref q] (A) (fun u A' => u = f 0 ∧ DqV A' q e ((h + 1) % 10) (m - 1) (fun i => f (i + 1)) ∧ Gw A A' (fun y => y = q ∨ y = e) ∧ A'.z = A.z) fw_no := by
  refine Ct.of [some (.ref q), none] (by decide) rfl rfl fun z C hx hnm E => ?_
  refine r_aload_0 (pc := 0) C dJ7_removeFirst_0 ?_
  refine r_V0ro (pc := 1) C (j_J7_pollFirst hs h1) vl_J7_93 hs.g (by decide) (by omega) (by omega) (Nat.le_of_ble_eq_true rfl) rfl dJ7_removeFirst_1 (fun u1 A1 hc1 => ?_)
  obtain ⟨eu1, hP1⟩ := hc1
  refine r_topR eu1 ?_
  clear eu1 u1
  refine r_astore_1 (pc := 4) C dJ7_removeFirst_4 rfl ?_
  refine r_aload_1 (pc := 5) C dJ7_removeFirst_5 ?_
  refine r_ifnonnull (pc := 6) (tgt := 17) C dJ7_removeFirst_6 (by decide) ?_
  refine r_aload_1 (pc := 17) C dJ7_removeFirst_17 ?_
  refine r_aret (pc := 18) C E rfl (by omega) (by omega) dJ7_removeFirst_18 ?_
  exact ⟨rfl, by assumption⟩
set_option maxHeartbeats 4000000 in
theorem j_J7_pollLast {g : GZ} {A : HA} {q e h m : Nat} {f : Nat → Nat} (hs : DqV A q e h m f) (h1 : 1 ≤ m) : Ct g wR yJ7_pollLast (.code yJ7_pollLast cJ7_pollLast 4 (Option.some (Jvm.ClassFile.FieldType.object "java/lang/Object"))) 2 0 0 [.ref q] (A) (fun u A' => u = f (m - 1) ∧ DqV A' q e h (m - 1) f ∧ Gw A A' (fun y => y = q ∨ y = e) ∧ A'.z = A.z) fw_no := by
  refine Ct.of [some (.ref q), none, none, none] (by decide) rfl rfl fun z C hx hnm E => ?_
  have h10 := hs.h10
  have h9 := hs.m9
  have hx0 := hs.el (i := m - 1) (by omega)
  refine r_aload_0 (pc := 0) C dJ7_pollLast_0 ?_
  refine r_getR (pc := 1) C fl_J7_3_14 hs.g rfl hs.r dJ7_pollLast_1 ?_
  refine r_dup (pc := 4) C dJ7_pollLast_4 rfl ?_
  refine r_astore_1 (pc := 5) C dJ7_pollLast_5 rfl ?_
  refine r_aload_0 (pc := 6) C dJ7_pollLast_6 ?_
  refine r_getI (pc := 7) C fl_J7_20_14 hs.g rfl dJ7_pollLast_7 ?_
  refine r_top hs.tl ?_
  refine r_aload_1 (pc := 10) C dJ7_pollLast_10 ?_
  refine r_alen (pc := 11) (t := 5) C hs.k rfl rfl dJ7_pollLast_11 ?_
  refine r_top (congrArg nI hs.l) ?_
  refine r_S2io (pc := 12) C (j_J7_dec (by omega) (by omega)) sl_J7_68 (by decide) (by omega) (by omega) (Nat.le_of_ble_eq_true rfl) rfl dJ7_pollLast_12 (fun u1 A1 hc1 => ?_)
  refine r_top hc1.1 ?_
  refine r_eqA hc1.2 ?_
  clear hc1 A1 u1
  refine r_top (congrArg nI (show (if (h + m) % 10 = 0 then 10 - 1 else (h + m) % 10 - 1) = (h + (m - 1)) % 10 by split <;> omega)) ?_
  refine r_dup (pc := 15) C dJ7_pollLast_15 rfl ?_
  refine r_istore_2 (pc := 16) C dJ7_pollLast_16 rfl ?_
  refine r_S2ro (pc := 17) C (j_J7_elementAt hs.k hs.l (i := (h + (m - 1)) % 10) (by omega) hx0) sl_J7_103 (by decide) (by omega) (by omega) (Nat.le_of_ble_eq_true rfl) rfl dJ7_pollLast_17 (fun u2 A2 hc2 => ?_)
  refine r_topR hc2.1 ?_
  refine r_eqA hc2.2 ?_
  clear hc2 A2 u2
  refine r_astore_3 (pc := 20) C dJ7_pollLast_20 rfl ?_
  refine r_aload_3 (pc := 21) C dJ7_pollLast_21 ?_
  refine r_ifnull (pc := 22) C dJ7_pollLast_22 ?_
  refine r_aload_1 (pc := 25) C dJ7_pollLast_25 ?_
  refine r_aload_0 (pc := 26) C dJ7_pollLast_26 ?_
  refine r_iload_2 (pc := 27) C dJ7_pollLast_27 ?_
  refine r_dup_x1 (pc := 28) C dJ7_pollLast_28 rfl rfl ?_
  refine r_putI (pc := 29) C fl_J7_20_14 hs.g rfl (fun _ _ _ h => by cases h; exact Or.inl rfl) rfl rfl rfl dJ7_pollLast_29 ?_
  refine r_null (pc := 32) C dJ7_pollLast_32 ?_
  refine r_aastN (pc := 33) (t := 5) C hs.k rfl rfl rfl (lt_eq (by omega) hs.l) (by omega) dJ7_pollLast_33 ?_
  refine r_aload_3 (pc := 34) C dJ7_pollLast_34 ?_
  refine r_aret (pc := 35) C E rfl (by omega) (by omega) dJ7_pollLast_35 ?_
  have hq := dq_last hs h1
  exact ⟨rfl, hq.1, hq.2, rfl⟩
set_option maxHeartbeats 4000000 in
theorem j_J7_removeLast {g : GZ} {A : HA} {q e h m : Nat} {f : Nat → Nat} (hs : DqV A q e h m f) (h1 : 1 ≤ m) : Ct g wR yJ7_removeLast (.code yJ7_removeLast cJ7_removeLast 2 (Option.some (Jvm.ClassFile.FieldType.object "java/lang/Object"))) 3 0 0 [.ref q] (A) (fun u A' => u = f (m - 1) ∧ DqV A' q e h (m - 1) f ∧ Gw A A' (fun y => y = q ∨ y = e) ∧ A'.z = A.z) fw_no := by
  refine Ct.of [some (.ref q), none] (by decide) rfl rfl fun z C hx hnm E => ?_
  refine r_aload_0 (pc := 0) C dJ7_removeLast_0 ?_
  refine r_V0ro (pc := 1) C (j_J7_pollLast hs h1) vl_J7_100 hs.g (by decide) (by omega) (by omega) (Nat.le_of_ble_eq_true rfl) rfl dJ7_removeLast_1 (fun u1 A1 hc1 => ?_)
  obtain ⟨eu1, hP1⟩ := hc1
  refine r_topR eu1 ?_
  clear eu1 u1
  refine r_astore_1 (pc := 4) C dJ7_removeLast_4 rfl ?_
  refine r_aload_1 (pc := 5) C dJ7_removeLast_5 ?_
  refine r_ifnonnull (pc := 6) (tgt := 17) C dJ7_removeLast_6 (by decide) ?_
  refine r_aload_1 (pc := 17) C dJ7_removeLast_17 ?_
  refine r_aret (pc := 18) C E rfl (by omega) (by omega) dJ7_removeLast_18 ?_
  exact ⟨rfl, by assumption⟩
set_option maxHeartbeats 4000000 in
theorem j_J7_circularClear {g : GZ} {A : HA} {e i0 t : Nat} (hk : (A.G e).1 = 502) (hn : A.n e = 10) (hi : i0 < 10) (ht : t < 10) : Ct g wV yJ7_circularClear (.code yJ7_circularClear cJ7_circularClear 4 (Option.none : Option Jvm.ClassFile.FieldType)) 1 0 0 [.ref e, .int (nI (i0)), .int (nI (t))] (A) (fun u A' => ∃ ρ, A' = A.sR e ρ) fw_no := by
  refine Ct.of [some (.ref e), some (.int (nI (i0))), some (.int (nI (t))), none] (by decide) rfl rfl fun z C hx hnm E => ?_
  refine r_iload_1 (pc := 0) C dJ7_circularClear_0 ?_
  refine r_iload_2 (pc := 1) C dJ7_circularClear_1 ?_
  refine r_icmp_gt (pc := 2) (tgt := 9) C dJ7_circularClear_2 (by decide) (fun b2 => ?_) (fun b2 => ?_)
  · skip
    have b2 := (nI_lt2 (by omega) (by omega)).mp b2
    refine r_aload_0 (pc := 9) C dJ7_circularClear_9 ?_
    refine r_alen (pc := 10) (t := 5) C hk rfl rfl dJ7_circularClear_10 ?_
    refine r_top (congrArg nI hn) ?_
    refine r_istore_3 (pc := 11) C dJ7_circularClear_11 rfl ?_
    have lp12_1 : ∀ (fu : Nat) (i to c : Nat) (ρ : Nat → Option Nat) (hc : (c = 0 ∧ to = t) ∨ (c = 1 ∧ to = 10)) (hio : i ≤ to), c * 20 + (to - i) < fu → wa g z 0 0 ((A.sR e ρ)) 12 [some (.ref e), some (.int (nI (i))), some (.int (nI (t))), some (.int (nI (to)))] [] := by
      intro fu
      induction fu with
      | zero => intro i to c  ρ  hc hio hm12; exact absurd hm12 (Nat.not_lt_zero _)
      | succ fu ih12 =>
        intro i to c  ρ  hc hio hm12
        refine r_iload_1 (pc := 12) C dJ7_circularClear_12 ?_
        refine r_iload_3 (pc := 13) C dJ7_circularClear_13 ?_
        refine r_icmp_ge (pc := 14) (tgt := 27) C dJ7_circularClear_14 (by decide) (fun b14 => ?_) (fun b14 => ?_)
        · skip
          have b14 := (nI_le2 (by omega) (by omega)).mp b14
          refine r_iload_3 (pc := 27) C dJ7_circularClear_27 ?_
          refine r_iload_2 (pc := 28) C dJ7_circularClear_28 ?_
          refine r_icmp_ne (pc := 29) (tgt := 35) C dJ7_circularClear_29 (by decide) (fun b29 => ?_) (fun b29 => ?_)
          · skip
            have b29 := (not_congr (nI_eqI (by omega) (by omega))).mp b29
            refine r_iconst (pc := 35) C dJ7_circularClear_35 ci_0 ?_
            refine r_istore_1 (pc := 36) C dJ7_circularClear_36 rfl ?_
            refine r_iload_2 (pc := 37) C dJ7_circularClear_37 ?_
            refine r_istore_3 (pc := 38) C dJ7_circularClear_38 rfl ?_
            refine r_goto (pc := 39) (tgt := 12) C dJ7_circularClear_39 (by decide) ?_
            exact ih12 0 t 0 _ (by omega) (by omega) (by omega)
          · skip
            have b29 := (nI_eqI (by omega) (by omega)).mp b29
            refine r_goto (pc := 32) (tgt := 42) C dJ7_circularClear_32 (by decide) ?_
            refine r_vret (pc := 42) C E (by omega) (by omega) dJ7_circularClear_42 ?_
            exact ⟨_, rfl⟩
        · skip
          have b14 := (not_congr (nI_le2 (by omega) (by omega))).mp b14
          refine r_aload_0 (pc := 17) C dJ7_circularClear_17 ?_
          refine r_iload_1 (pc := 18) C dJ7_circularClear_18 ?_
          refine r_null (pc := 19) C dJ7_circularClear_19 ?_
          refine r_aastN (pc := 20) (t := 5) C hk rfl rfl rfl (lt_eq (by omega) hn) (by omega) dJ7_circularClear_20 ?_
          refine r_eqA (by rw [sR_s, sR_sR]) ?_
          refine r_iinc_1 (pc := 21) C dJ7_circularClear_21 (nI_inc _) rfl ?_
          refine r_goto (pc := 24) (tgt := 12) C dJ7_circularClear_24 (by decide) ?_
          exact ih12 (i + 1) to c _ (by omega) (by omega) (by omega)
    refine r_eqA (sR_self A e).symm ?_
    exact lp12_1 _ i0 10 1 (A.R e) (by omega) (by omega) (Nat.lt_succ_self _)
  · skip
    have b2 := (not_congr (nI_lt2 (by omega) (by omega))).mp b2
    refine r_iload_2 (pc := 5) C dJ7_circularClear_5 ?_
    refine r_goto (pc := 6) (tgt := 11) C dJ7_circularClear_6 (by decide) ?_
    refine r_istore_3 (pc := 11) C dJ7_circularClear_11 rfl ?_
    have lp12_2 : ∀ (fu : Nat) (i to c : Nat) (ρ : Nat → Option Nat) (hc : (c = 0 ∧ to = t) ∨ (c = 1 ∧ to = 10)) (hio : i ≤ to), c * 20 + (to - i) < fu → wa g z 0 0 ((A.sR e ρ)) 12 [some (.ref e), some (.int (nI (i))), some (.int (nI (t))), some (.int (nI (to)))] [] := by
      intro fu
      induction fu with
      | zero => intro i to c  ρ  hc hio hm12; exact absurd hm12 (Nat.not_lt_zero _)
      | succ fu ih12 =>
        intro i to c  ρ  hc hio hm12
        refine r_iload_1 (pc := 12) C dJ7_circularClear_12 ?_
        refine r_iload_3 (pc := 13) C dJ7_circularClear_13 ?_
        refine r_icmp_ge (pc := 14) (tgt := 27) C dJ7_circularClear_14 (by decide) (fun b14 => ?_) (fun b14 => ?_)
        · skip
          have b14 := (nI_le2 (by omega) (by omega)).mp b14
          refine r_iload_3 (pc := 27) C dJ7_circularClear_27 ?_
          refine r_iload_2 (pc := 28) C dJ7_circularClear_28 ?_
          refine r_icmp_ne (pc := 29) (tgt := 35) C dJ7_circularClear_29 (by decide) (fun b29 => ?_) (fun b29 => ?_)
          · skip
            have b29 := (not_congr (nI_eqI (by omega) (by omega))).mp b29
            refine r_iconst (pc := 35) C dJ7_circularClear_35 ci_0 ?_
            refine r_istore_1 (pc := 36) C dJ7_circularClear_36 rfl ?_
            refine r_iload_2 (pc := 37) C dJ7_circularClear_37 ?_
            refine r_istore_3 (pc := 38) C dJ7_circularClear_38 rfl ?_
            refine r_goto (pc := 39) (tgt := 12) C dJ7_circularClear_39 (by decide) ?_
            exact ih12 0 t 0 _ (by omega) (by omega) (by omega)
          · skip
            have b29 := (nI_eqI (by omega) (by omega)).mp b29
            refine r_goto (pc := 32) (tgt := 42) C dJ7_circularClear_32 (by decide) ?_
            refine r_vret (pc := 42) C E (by omega) (by omega) dJ7_circularClear_42 ?_
            exact ⟨_, rfl⟩
        · skip
          have b14 := (not_congr (nI_le2 (by omega) (by omega))).mp b14
          refine r_aload_0 (pc := 17) C dJ7_circularClear_17 ?_
          refine r_iload_1 (pc := 18) C dJ7_circularClear_18 ?_
          refine r_null (pc := 19) C dJ7_circularClear_19 ?_
          refine r_aastN (pc := 20) (t := 5) C hk rfl rfl rfl (lt_eq (by omega) hn) (by omega) dJ7_circularClear_20 ?_
          refine r_eqA (by rw [sR_s, sR_sR]) ?_
          refine r_iinc_1 (pc := 21) C dJ7_circularClear_21 (nI_inc _) rfl ?_
          refine r_goto (pc := 24) (tgt := 12) C dJ7_circularClear_24 (by decide) ?_
          exact ih12 (i + 1) to c _ (by omega) (by omega) (by omega)
    refine r_eqA (sR_self A e).symm ?_
    exact lp12_2 _ i0 t 0 (A.R e) (by omega) (by omega) (Nat.lt_succ_self _)
set_option maxHeartbeats 4000000 in
theorem j_J7_clear {g : GZ} {A : HA} {q e h m : Nat} {f : Nat → Nat} (hs : DqV A q e h m f)  : Ct g wV yJ7_clear (.code yJ7_clear cJ7_clear 1 (Option.none : Option Jvm.ClassFile.FieldType)) 2 0 0 [.ref q] (A) (fun u A' => DqV A' q e 0 0 f ∧ Gw A A' (fun y => y = q ∨ y = e) ∧ A'.z = A.z) fw_no := by
  refine Ct.of [some (.ref q)] (by decide) rfl rfl fun z C hx hnm E => ?_
  have h10 := hs.h10
  have h9 := hs.m9
  refine r_aload_0 (pc := 0) C dJ7_clear_0 ?_
  refine r_getR (pc := 1) C fl_J7_3_14 hs.g rfl hs.r dJ7_clear_1 ?_
  refine r_aload_0 (pc := 4) C dJ7_clear_4 ?_
  refine r_getI (pc := 5) C fl_J7_24_14 hs.g rfl dJ7_clear_5 ?_
  refine r_top hs.hd ?_
  refine r_aload_0 (pc := 8) C dJ7_clear_8 ?_
  refine r_getI (pc := 9) C fl_J7_20_14 hs.g rfl dJ7_clear_9 ?_
  refine r_top hs.tl ?_
  refine r_S3vo (pc := 12) C (j_J7_circularClear hs.k hs.l hs.h10 (by omega)) sl_J7_181 (by decide) (by omega) (by omega) (Nat.le_of_ble_eq_true rfl) rfl dJ7_clear_12 (fun u1 A1 hc1 => ?_)
  obtain ⟨ρ9, eA1⟩ := hc1
  refine r_eqA eA1 ?_
  clear eA1 A1 u1
  refine r_aload_0 (pc := 15) C dJ7_clear_15 ?_
  refine r_aload_0 (pc := 16) C dJ7_clear_16 ?_
  refine r_iconst (pc := 17) C dJ7_clear_17 ci_0 ?_
  refine r_dup_x1 (pc := 18) C dJ7_clear_18 rfl rfl ?_
  refine r_putI (pc := 19) C fl_J7_20_14 hs.g rfl (fun _ _ _ h => by cases h; exact Or.inl rfl) rfl rfl rfl dJ7_clear_19 ?_
  refine r_putI (pc := 22) C fl_J7_24_14 hs.g rfl (fun _ _ _ h => by cases h; exact Or.inl rfl) rfl rfl rfl dJ7_clear_22 ?_
  refine r_vret (pc := 25) C E (by omega) (by omega) dJ7_clear_25 ?_
  have hq := dq_clear (ρ := ρ9) hs
  exact ⟨hq.1, hq.2, rfl⟩
set_option maxHeartbeats 4000000 in
theorem j_J7_init {g : GZ} {A : HA} {q : Nat} {f : Nat → Nat} (hg : (A.G q).1 = 14) (h1 : A.I q 1 = nI 0) (h2 : A.I q 2 = nI 0) : Ct g wV yJ7_init (.code yJ7_init cJ7_init 2 (Option.none : Option Jvm.ClassFile.FieldType)) 3 1 10 [.ref q, .int (nI 9)] (A) (fun u A' => DqV A' q A.z 0 0 f ∧ Gw A A' (fun y => y = q) ∧ A'.z = A.z + 1) fw_no := by
  refine Ct.of [some (.ref q), some (.int (nI 9))] (by decide) rfl rfl fun z C hx hnm E => ?_
  refine r_Z fun hZ => ?_
  have hqz := hZ.lt hg rfl
  refine r_aload_0 (pc := 0) C dJ7_init_0 ?_
  refine r_I0vo (pc := 1) C (j_J0_init) il_J7_42 (by decide) (by omega) (by omega) (Nat.le_of_ble_eq_true rfl) rfl dJ7_init_1 (fun u1 A1 hc1 => ?_)
  refine r_eqA hc1 ?_
  clear hc1 A1 u1
  refine r_aload_0 (pc := 4) C dJ7_init_4 ?_
  refine r_iload_1 (pc := 5) C dJ7_init_5 ?_
  refine r_iconst (pc := 6) C dJ7_init_6 ci_1 ?_
  refine r_icmp_ge (pc := 7) (tgt := 14) C dJ7_init_7 (by decide) (fun b7 => ?_) (fun b7 => ?_)
  · skip
    refine r_iload_1 (pc := 14) C dJ7_init_14 ?_
    refine r_ldc (pc := 15) (v := nI 2147483647) C (by have h9 := q506; rwa [show (2147483647 : Int32) = nI 2147483647 by decide +kernel] at h9) dJ7_init_15 ?_
    refine r_icmp_ne (pc := 17) (tgt := 25) C dJ7_init_17 (by decide) (fun b17 => ?_) (fun b17 => ?_)
    · skip
      refine r_iload_1 (pc := 25) C dJ7_init_25 ?_
      refine r_iconst (pc := 26) C dJ7_init_26 ci_1 ?_
      refine r_iadd (pc := 27) C dJ7_init_27 ?_
      refine r_top (nI_add _ _) ?_
      refine r_newA (pc := 28) (t := 5) C 502 (0) (Nat.zero_le _) rfl rfl q507 q439 rfl (by omega) (by omega) (by omega) dJ7_init_28 ?_
      refine r_putR (pc := 31) C fl_J7_3_14 (show ((A.mk 502 0 10).G q).1 = 14 by rw [mk_G, if_neg (Nat.ne_of_lt hqz)]; exact hg) rfl (fun _ _ _ h => by cases h; exact Or.inl rfl) rfl dJ7_init_31 ?_
      refine r_vret (pc := 34) C E (by omega) (by omega) dJ7_init_34 ?_
      have hq := dq_new (f := f) hqz hg h1 h2
      exact ⟨hq.1, hq.2, rfl⟩
    · exact absurd b17 (by decide +kernel)
  · exact absurd b7 (by decide +kernel)
