/-! THE JDK: StringBuilder -/
set_option maxRecDepth 100000
theorem by_i2b {c : Nat} (h : c ≤ 127) : (nI c).toInt8.toInt32 = nI c := by
  have : ∀ c, c < 128 → (nI c).toInt8.toInt32 = nI c := by decide +kernel
  exact this c (by omega)
theorem by_narb {c : Nat} (h : c ≤ 127) : narrow .byte (.int (nI c)) = .int (nI c) := by
  have : ∀ c, c < 128 → narrow .byte (.int (nI c)) = .int (nI c) := by decide +kernel
  exact this c (by omega)
theorem by_fit {c : Nat} (h : c ≤ 127) : fits .byte (.int (nI c)) = true := by
  have : ∀ c, c < 128 → fits .byte (.int (nI c)) = true := by decide +kernel
  exact this c (by omega)
theorem sb_l (x : Int32) : x <<< (nI 0 &&& 31) = x := by rw [nI0]; exact sb_shl0 x
theorem sb_r (x : Int32) : x >>> (nI 0 &&& 31) = x := by rw [nI0]; exact sb_shr0 x
/-- a StringBuilder at b, its bytes at v, of capacity m: n letters f -/
def SbV (A : HA) (b v m : Nat) (f : Nat → Nat) (n : Nat) : Prop := ((A.G b).1 = 15 ∧ A.R b 0 = some v ∧ (A.G v).1 = 230 ∧ A.n v = m) ∧ (n ≤ m ∧ m ≤ 100000) ∧ (A.I b 1 = nI 0 ∧ A.I b 3 = nI n) ∧ (∀ k, k < n → A.I v k = nI (f k) ∧ f k ≤ 127) ∧ ∀ k, k < m → fits .byte (.int (A.I v k)) = true
section
variable {A : HA} {b v m n : Nat} {f : Nat → Nat}
theorem SbV.g (h : SbV A b v m f n) : (A.G b).1 = 15 := h.1.1
theorem SbV.r (h : SbV A b v m f n) : A.R b 0 = some v := h.1.2.1
theorem SbV.k (h : SbV A b v m f n) : (A.G v).1 = 230 := h.1.2.2.1
theorem SbV.l (h : SbV A b v m f n) : A.n v = m := h.1.2.2.2
theorem SbV.nm (h : SbV A b v m f n) : n ≤ m := h.2.1.1
theorem SbV.m9 (h : SbV A b v m f n) : m ≤ 100000 := h.2.1.2
theorem SbV.c (h : SbV A b v m f n) : A.I b 1 = nI 0 := h.2.2.1.1
theorem SbV.ct (h : SbV A b v m f n) : A.I b 3 = nI n := h.2.2.1.2
theorem SbV.i (h : SbV A b v m f n) {k : Nat} (hk : k < n) : A.I v k = nI (f k) := (h.2.2.2.1 k hk).1
theorem SbV.b7 (h : SbV A b v m f n) {k : Nat} (hk : k < n) : f k ≤ 127 := (h.2.2.2.1 k hk).2
theorem SbV.ft (h : SbV A b v m f n) {k : Nat} (hk : k < m) : fits .byte (.int (A.I v k)) = true := h.2.2.2.2 k hk
theorem SbV.ne (h : SbV A b v m f n) : b ≠ v := fun e => by have h1 := h.g; have h2 := h.k; rw [e, h2] at h1; cases h1
theorem SbV.lt (h : SbV A b v m f n) (hz : Zk A) : b < A.z ∧ v < A.z := ⟨hz.lt h.g rfl, hz.lt h.k rfl⟩
theorem SbV.gw {B : HA} {X : Nat → Prop} (h : SbV A b v m f n) (hz : Zk A) (hw : Gw A B X) (h1 : ¬ X b) (h2 : ¬ X v) : SbV B b v m f n := by
  obtain ⟨l1, l2⟩ := h.lt hz
  obtain ⟨e1, e2, e3⟩ := hw.2 b l1
  obtain ⟨e4, e5, e6⟩ := hw.2 v l2
  obtain ⟨-, e7, e8⟩ := e3 h1
  obtain ⟨-, e9, -⟩ := e6 h2
  refine ⟨⟨by rw [e1]; exact h.g, by rw [e8]; exact h.r, by rw [e4]; exact h.k, by rw [e5]; exact h.l⟩, h.2.1, ⟨by rw [e7]; exact h.c, by rw [e7]; exact h.ct⟩, fun k hk => ?_, fun k hk => ?_⟩
  · rw [e9]; exact h.2.2.2.1 k hk
  · rw [e9]; exact h.ft hk
theorem SbV.cong {h : Nat → Nat} (hs : SbV A b v m f n) (e : ∀ k, k < n → h k = f k) : SbV A b v m h n := ⟨hs.1, hs.2.1, hs.2.2.1, fun k hk => by rw [e k hk]; exact hs.2.2.2.1 k hk, hs.2.2.2.2⟩
theorem SbV.fewer {j : Nat} (hs : SbV A b v m f n) (hj : j ≤ n) : SbV (A.sI b (upd (A.I b) 3 (nI j))) b v m f j := by
  have hne := hs.ne
  have e1 : (A.sI b (upd (A.I b) 3 (nI j))).I v = A.I v := sI_o A _ (Ne.symm hne)
  have e2 : (A.sI b (upd (A.I b) 3 (nI j))).I b = upd (A.I b) 3 (nI j) := sI_s _ _ _
  refine ⟨hs.1, ⟨Nat.le_trans hj hs.nm, hs.m9⟩, ⟨by rw [e2, pk_un (by decide)]; exact hs.c, by rw [e2, pk_us]⟩, fun k hk => ?_, fun k hk => ?_⟩
  · rw [e1]; exact hs.2.2.2.1 k (by omega)
  · rw [e1]; exact hs.ft hk
/-- maybeLatin1 is of no account -/
theorem SbV.ml {x : Int32} (hs : SbV A b v m f n) : SbV (A.sI b (upd (A.I b) 2 x)) b v m f n := by
  have hne := hs.ne
  have e1 : (A.sI b (upd (A.I b) 2 x)).I v = A.I v := sI_o A _ (Ne.symm hne)
  have e2 : (A.sI b (upd (A.I b) 2 x)).I b = upd (A.I b) 2 x := sI_s _ _ _
  refine ⟨hs.1, hs.2.1, ⟨by rw [e2, pk_un (by decide)]; exact hs.c, by rw [e2, pk_un (by decide)]; exact hs.ct⟩, fun k hk => ?_, fun k hk => ?_⟩
  · rw [e1]; exact hs.2.2.2.1 k hk
  · rw [e1]; exact hs.ft hk
/-- a letter more, where there is room -/
theorem sbv_app {c : Nat} (hs : SbV A b v m f n) (h1 : n < m) (hc : c ≤ 127) : SbV ((A.sI b (upd (A.I b) 3 (nI (n + 1)))).sI v (upd ((A.sI b (upd (A.I b) 3 (nI (n + 1)))).I v) n (nI c))) b v m (lower f n c) (n + 1) ∧
    Gw A ((A.sI b (upd (A.I b) 3 (nI (n + 1)))).sI v (upd ((A.sI b (upd (A.I b) 3 (nI (n + 1)))).I v) n (nI c))) (fun y => y = b ∨ y = v) := by
  have hne := hs.ne
  refine ⟨?_, (gw_sI (fun _ => Or.inl rfl)).tr (gw_sI (fun _ => Or.inr rfl))⟩
  have e1 : ((A.sI b (upd (A.I b) 3 (nI (n + 1)))).sI v (upd ((A.sI b (upd (A.I b) 3 (nI (n + 1)))).I v) n (nI c))).I v = upd (A.I v) n (nI c) := by
    rw [sI_s, sI_o A _ (Ne.symm hne)]
  have e2 : ((A.sI b (upd (A.I b) 3 (nI (n + 1)))).sI v (upd ((A.sI b (upd (A.I b) 3 (nI (n + 1)))).I v) n (nI c))).I b = upd (A.I b) 3 (nI (n + 1)) := by
    rw [sI_o _ _ hne, sI_s]
  refine ⟨hs.1, ⟨h1, hs.m9⟩, ⟨by rw [e2, pk_un (by decide)]; exact hs.c, by rw [e2, pk_us]⟩, fun k hk => ?_, fun k hk => ?_⟩
  · rw [e1]
    by_cases q : k = n
    · subst q; rw [pk_us, lower_s]; exact ⟨rfl, hc⟩
    · rw [pk_un q, lower_o _ _ q]; exact hs.2.2.2.1 k (by omega)
  · rw [e1]
    by_cases q : k = n
    · subst q; rw [pk_us]; exact by_fit hc
    · rw [pk_un q]; exact hs.ft hk
/-- more room -/
theorem sbv_grow {M : Nat} (hs : SbV A b v m f n) (hz : Zk A) (h1 : m ≤ M) (h9 : M ≤ 100000) : SbV (((A.mk 230 0 M).sI A.z (va_cpy ((A.mk 230 0 M).I v) ((A.mk 230 0 M).I A.z) 0 0 m)).sR b (va_up (((A.mk 230 0 M).sI A.z (va_cpy ((A.mk 230 0 M).I v) ((A.mk 230 0 M).I A.z) 0 0 m)).R b) 0 (some A.z))) b A.z M f n ∧
    Gw A (((A.mk 230 0 M).sI A.z (va_cpy ((A.mk 230 0 M).I v) ((A.mk 230 0 M).I A.z) 0 0 m)).sR b (va_up (((A.mk 230 0 M).sI A.z (va_cpy ((A.mk 230 0 M).I v) ((A.mk 230 0 M).I A.z) 0 0 m)).R b) 0 (some A.z))) (fun y => y = b) := by
  obtain ⟨l1, l2⟩ := hs.lt hz
  have hb : b ≠ A.z := by omega
  have hv : v ≠ A.z := by omega
  refine ⟨?_, (gw_mk (X := fun y => y = b)).tr2 ((gw_sI (X := fun y => y = b ∨ y = A.z) (fun _ => Or.inr rfl)).tr (gw_sR (fun _ => Or.inl rfl))) (fun y hy q => q.elim id (fun e => absurd e (by omega)))⟩
  generalize hW : va_cpy ((A.mk 230 0 M).I v) ((A.mk 230 0 M).I A.z) 0 0 m = w
  have eg : ((A.mk 230 0 M).G b).1 = 15 := by rw [mk_G, if_neg hb]; exact hs.g
  have ez : ((A.mk 230 0 M).G A.z).1 = 230 := by rw [mk_G, if_pos rfl]
  have en : (A.mk 230 0 M).n A.z = M := by rw [mk_n, if_pos rfl]
  have ei : ((A.mk 230 0 M).sI A.z w).I b = A.I b := by rw [sI_o _ _ hb, mk_I, if_neg hb]
  have ew : ((A.mk 230 0 M).sI A.z w).I A.z = w := sI_s _ _ _
  have hw : ∀ k, w k = if k < m then A.I v k else 0 := fun k => by
    rw [← hW]
    unfold va_cpy
    rw [mk_I, if_neg hv, mk_I, if_pos rfl]
    by_cases q : k < m
    · rw [if_pos ⟨Nat.zero_le _, by omega⟩, if_pos q]; congr 1; omega
    · rw [if_neg (by omega), if_neg q]
  refine ⟨⟨eg, by rw [sR_s]; simp [va_up], ez, en⟩, ⟨Nat.le_trans hs.nm h1, h9⟩, ⟨?_, ?_⟩, fun k hk => ?_, fun k hk => ?_⟩
  · show ((A.mk 230 0 M).sI A.z w).I b 1 = _
    rw [ei]; exact hs.c
  · show ((A.mk 230 0 M).sI A.z w).I b 3 = _
    rw [ei]; exact hs.ct
  · show ((A.mk 230 0 M).sI A.z w).I A.z k = _ ∧ _
    have := hs.nm
    rw [ew, hw, if_pos (by omega)]
    exact hs.2.2.2.1 k hk
  · show fits .byte (.int (((A.mk 230 0 M).sI A.z w).I A.z k)) = true
    rw [ew, hw]
    by_cases q : k < m
    · rw [if_pos q]; exact hs.ft q
    · rw [if_neg q, ← nI0]; exact by_fit (by omega)
end
theorem sbv_new {A : HA} {b : Nat} {f : Nat → Nat} (hb : b < A.z) (hg : (A.G b).1 = 15) (h3 : A.I b 3 = nI 0) : SbV (((A.mk 230 0 16).sR b (va_up ((A.mk 230 0 16).R b) 0 (some A.z))).sI b (upd (((A.mk 230 0 16).sR b (va_up ((A.mk 230 0 16).R b) 0 (some A.z))).I b) 1 (nI 0))) b A.z 16 f 0 ∧
    Gw A (((A.mk 230 0 16).sR b (va_up ((A.mk 230 0 16).R b) 0 (some A.z))).sI b (upd (((A.mk 230 0 16).sR b (va_up ((A.mk 230 0 16).R b) 0 (some A.z))).I b) 1 (nI 0))) (fun y => y = b) := by
  have hn : b ≠ A.z := by omega
  refine ⟨?_, ((gw_mk (X := fun y => y = b)).tr (gw_sR (fun _ => rfl))).tr (gw_sI (fun _ => rfl))⟩
  have eg : ((A.mk 230 0 16).G b).1 = 15 := by rw [mk_G, if_neg hn]; exact hg
  have ez : ((A.mk 230 0 16).G A.z).1 = 230 := by rw [mk_G, if_pos rfl]
  have en : (A.mk 230 0 16).n A.z = 16 := by rw [mk_n, if_pos rfl]
  have ei : (A.mk 230 0 16).I b = A.I b := by rw [mk_I, if_neg hn]
  have e0 : (A.mk 230 0 16).I A.z = fun _ => 0 := by rw [mk_I, if_pos rfl]
  have e1 : (((A.mk 230 0 16).sR b (va_up ((A.mk 230 0 16).R b) 0 (some A.z))).sI b (upd (((A.mk 230 0 16).sR b (va_up ((A.mk 230 0 16).R b) 0 (some A.z))).I b) 1 (nI 0))).I b = upd (A.I b) 1 (nI 0) := by rw [sI_s]; show upd ((A.mk 230 0 16).I b) 1 (nI 0) = _; rw [ei]
  have e2 : (((A.mk 230 0 16).sR b (va_up ((A.mk 230 0 16).R b) 0 (some A.z))).sI b (upd (((A.mk 230 0 16).sR b (va_up ((A.mk 230 0 16).R b) 0 (some A.z))).I b) 1 (nI 0))).I A.z = fun _ => 0 := by rw [sI_o _ _ (Ne.symm hn)]; exact e0
  refine ⟨⟨eg, by show ((A.mk 230 0 16).sR b (va_up ((A.mk 230 0 16).R b) 0 (some A.z))).R b 0 = _; rw [sR_s]; simp [va_up], ez, en⟩, ⟨by omega, by omega⟩, ⟨by rw [e1, pk_us], by rw [e1, pk_un (by decide)]; exact h3⟩, fun k hk => absurd hk (by omega), fun k hk => ?_⟩
  rw [e2]
  show fits .byte (.int 0) = true
  rw [← nI0]; exact by_fit (by omega)
/-- a link: a method that the object's class overrides -/
def OL (own : String) (ix ki : Nat) (y : MethodName) (b : ByteArray) (nc : Nat) (r : Option FieldType) (na : Nat) : Prop := (1 ≤ ki ∧ ki < 40) ∧ nc ≤ 41 ∧ ∃ (Cn owner : String) (x : MethodName) (T : u_T) (N : Nat) (b0 : ByteArray) (m0 : Nat) (r0 : Option FieldType), fw_cl[ki]? = some (Cn, T, N) ∧ (owner ≠ "java/lang/invoke/MethodHandle" ∧ owner ≠ "java/lang/invoke/VarHandle" ∧ (parseMethodDescriptor x.desc).map (fun d => d.parameters.length) = some na) ∧ GoodIn lw_all (va_wsO own ix Cn owner x y (ws_ y b nc r)) ∧ Cond.code ⟨owner, x.name, x.desc⟩ b0 m0 r0 ∈ lw_all
section
variable {g : GZ} {z : ZX} {cc : ByteArray} {own : String} {nL d mc ms k n : Nat} {A : HA} {pc : Nat} {lv : List (Option Value)} {st st0 : List Value}
theorem r_callO (C : CX g z cc own nL d mc ms) {ki : Nat} {y : MethodName} {b : ByteArray} {nc : Nat} {r : Option FieldType} {d' mc' ms' a ix : Nat} {As : List Value} {ρ : Type} {w : ρ → Option Value} {Po : ρ → HA → Prop} {Px : Nat → HA → Prop} (hM : Ct g w y (.code y b nc r) d' mc' ms' (.ref a :: As) A Po Px) (hV : OL own ix ki y b nc r As.length) (h1 : (A.G a).1 = ki) (hdd : d' < d) (hk : k + mc' ≤ mc) (hs : n + ms' ≤ ms) (hst : st0 = As.reverse ++ .ref a :: st) (hsum : (st.map fun v => v.category).sum ≤ 8) (hlen : lv.length = nL) (hd : decode cc pc = .ok (.invokevirtual ix, 3))
    (kk : ∀ u A', Po u A' → wa g z (k + mc') (n + ms') A' (pc + 3) lv ((w u).toList ++ st)) (kx : ∀ q A', Px q A' → (∃ E, fw_ex (A'.G q).1 = some E) → wx g z (k + mc') (n + ms') A' pc lv q) : wa g z k n A pc lv st0 := by
  obtain ⟨hki, hnc, Cn, owner, x, T, N, b0, m0, r0, hcl, hpm, hG, h0⟩ := hV
  refine fw_go (ar := (Value.ref a :: As).toArray) (fun H locs ls hR hl => ?_) kk kx
  exact vx_runU (C := Cn) (Ts := lw_all) (nL := nL) ⟨C.x, C.b, C.ml, C.o, C.w⟩ (hM C.1 z.l C.nt) (va_cwO As.length C.w hG rfl rfl rfl h0 hpm (fw_rooms C hdd hnc)) ⟨fw_blind g _ A, fw_recv C hR h1 hki hcl, fw_pre C hR _⟩ rfl rfl (hl.1.trans hlen) hst (lv_room hsum) hd ⟨by rw [C.r]; exact hk, by rw [C.r]; exact hs⟩
theorem r_O0io (C : CX g z cc own nL d mc ms) {ki : Nat} {y : MethodName} {b : ByteArray} {nc : Nat} {r : Option FieldType} {d' ix a : Nat} {Po : Int32 → HA → Prop} (hM : Ct g wI y (.code y b nc r) d' 0 0 (.ref a :: []) A Po fw_no) (hV : OL own ix ki y b nc r 0) (h1 : (A.G a).1 = ki) (hdd : d' < d) (hk : k ≤ mc) (hs : n ≤ ms) (hsum : (st.map fun v => v.category).sum ≤ 8) (hlen : lv.length = nL) (hd : decode cc pc = .ok (.invokevirtual ix, 3)) (kk : ∀ u A', Po u A' → wa g z k n A' (pc + 3) lv (.int u :: st)) : wa g z k n A pc lv (.ref a :: st) :=
  r_callO (As := []) (mc' := 0) (ms' := 0) C hM hV h1 hdd hk hs rfl hsum hlen hd (fun u A' h => kk u A' h) (fun _ _ h _ => h.elim)
end
theorem mx_le {p q : Nat} (h : p ≤ q) (h9 : q < 2147483648) : (if nI p < nI q then nI q else nI p) = nI q := by
  by_cases e : p < q
  · rw [if_pos ((nI_lt2 (by omega) (by omega)).mpr e)]
  · rw [show p = q by omega]; exact ite_self _
theorem le_sub0 {q m : Nat} (h : q ≤ m) (h9 : m ≤ 100000) : nI q - nI m ≤ 0 := by
  rw [Int32.le_iff_toInt_le, pk_sub_toInt (by omega) (by omega), show (0 : Int32).toInt = 0 by decide +kernel]
  omega
theorem nle_sub0 {q m : Nat} (h : m < q) (h9 : q ≤ 100000) : ¬ nI q - nI m ≤ 0 := by
  rw [Int32.le_iff_toInt_le, pk_sub_toInt (by omega) (by omega), show (0 : Int32).toInt = 0 by decide +kernel]
  omega
theorem pl_J8_100_15 : PL RJ8 100 15 yJ8_ensureCapacityInternal cJ8_ensureCapacityInternal 3 (Option.none : Option Jvm.ClassFile.FieldType) 1 := ⟨⟨by decide, by decide⟩, by decide, RJ9, _, _, TJ9, 4, rfl, ⟨by decide, by decide, by decide +kernel⟩, lw_meth q608, q605, q2953, q606, q607, q162, q628, rfl⟩
theorem pl_J8_104_15 : PL RJ8 104 15 yJ8_newCapacity cJ8_newCapacity 6 (Option.some Jvm.ClassFile.FieldType.int) 1 := ⟨⟨by decide, by decide⟩, by decide, RJ9, _, _, TJ9, 4, rfl, ⟨by decide, by decide, by decide +kernel⟩, lw_meth q612, q609, q2954, q610, q611, q162, q628, rfl⟩
theorem ol_J10_549_15 : OL RJ10 549 15 yJ9_length cJ9_length 1 (Option.some Jvm.ClassFile.FieldType.int) 0 := ⟨⟨by decide, by decide⟩, by decide, RJ9, _, ⟨"java/lang/AbstractStringBuilder", "length", "()I"⟩, TJ9, 4, _, _, _, rfl, ⟨by decide, by decide, by decide +kernel⟩, (lw_app (fun w hw => by simp only [List.mem_cons, List.not_mem_nil, or_false] at hw; rcases hw with e | e | e | e | e | e <;> (rw [e]; first | exact q696 | exact q698 | exact q697 | exact q699 | exact q700 | exact q163)) (lw_meth q701)), q703⟩
set_option maxHeartbeats 4000000 in
theorem j_J8_isLatin1 {g : GZ} {A : HA} (hz : zS g) {s v m n : Nat} {f : Nat → Nat} (hs : SbV A s v m f n)  : Ct g wI yJ8_isLatin1 (.code yJ8_isLatin1 cJ8_isLatin1 1 (Option.some Jvm.ClassFile.FieldType.boolean)) 1 0 0 [.ref s] (A) (fun u A' => u = nI 1 ∧ A' = A) fw_no := by
  refine Ct.of [some (.ref s)] (by decide) rfl rfl fun z C hx hnm E => ?_
  refine r_getS (pc := 0) C hz.1 q529 dJ8_isLatin1_0 ?_
  refine r_if_eq (pc := 3) (tgt := 17) C dJ8_isLatin1_3 (by decide) (fun b3 => ?_) (fun b3 => ?_)
  · exact absurd b3 (by decide +kernel)
  · skip
    refine r_aload_0 (pc := 6) C dJ8_isLatin1_6 ?_
    refine r_getI (pc := 7) C fl_J8_22_15 hs.g rfl dJ8_isLatin1_7 ?_
    refine r_top hs.c ?_
    refine r_if_ne (pc := 10) (tgt := 17) C dJ8_isLatin1_10 (by decide) (fun b10 => ?_) (fun b10 => ?_)
    · exact absurd b10 (by decide +kernel)
    · skip
      refine r_iconst (pc := 13) C dJ8_isLatin1_13 ci_1 ?_
      refine r_goto (pc := 14) (tgt := 18) C dJ8_isLatin1_14 (by decide) ?_
      refine r_iret (pc := 18) C E rfl (by omega) (by omega) dJ8_isLatin1_18 ?_
      exact ⟨rfl, rfl⟩
set_option maxHeartbeats 4000000 in
theorem j_J8_length {g : GZ} {A : HA} {s v m n : Nat} {f : Nat → Nat} (hs : SbV A s v m f n)  : Ct g wI yJ8_length (.code yJ8_length cJ8_length 1 (Option.some Jvm.ClassFile.FieldType.int)) 1 0 0 [.ref s] (A) (fun u A' => u = nI n ∧ A' = A) fw_no := by
  refine Ct.of [some (.ref s)] (by decide) rfl rfl fun z C hx hnm E => ?_
  refine r_aload_0 (pc := 0) C dJ8_length_0 ?_
  refine r_getI (pc := 1) C fl_J8_79_15 hs.g rfl dJ8_length_1 ?_
  refine r_top hs.ct ?_
  refine r_iret (pc := 4) C E rfl (by omega) (by omega) dJ8_length_4 ?_
  exact ⟨rfl, rfl⟩
set_option maxHeartbeats 4000000 in
theorem j_J9_length {g : GZ} {A : HA} {s v m n : Nat} {f : Nat → Nat} (hs : SbV A s v m f n)  : Ct g wI yJ9_length (.code yJ9_length cJ9_length 1 (Option.some Jvm.ClassFile.FieldType.int)) 2 0 0 [.ref s] (A) (fun u A' => u = nI n ∧ A' = A) fw_no := by
  refine Ct.of [some (.ref s)] (by decide) rfl rfl fun z C hx hnm E => ?_
  refine r_aload_0 (pc := 0) C dJ9_length_0 ?_
  refine r_SU0io (pc := 1) C (j_J8_length hs) sul_J9_343 hs.g (by decide) (by omega) (by omega) (Nat.le_of_ble_eq_true rfl) rfl dJ9_length_1 (fun u1 A1 hc1 => ?_)
  refine r_top hc1.1 ?_
  refine r_eqA hc1.2 ?_
  clear hc1 A1 u1
  refine r_iret (pc := 4) C E rfl (by omega) (by omega) dJ9_length_4 ?_
  exact ⟨rfl, rfl⟩
set_option maxHeartbeats 4000000 in
theorem j_J8_getValue {g : GZ} {A : HA} {s v m n : Nat} {f : Nat → Nat} (hs : SbV A s v m f n)  : Ct g wR yJ8_getValue (.code yJ8_getValue cJ8_getValue 1 (Option.some (Jvm.ClassFile.FieldType.array Jvm.ClassFile.FieldType.byte))) 1 0 0 [.ref s] (A) (fun u A' => u = v ∧ A' = A) fw_no := by
  refine Ct.of [some (.ref s)] (by decide) rfl rfl fun z C hx hnm E => ?_
  refine r_aload_0 (pc := 0) C dJ8_getValue_0 ?_
  refine r_getR (pc := 1) C fl_J8_15_15 hs.g rfl hs.r dJ8_getValue_1 ?_
  refine r_aret (pc := 4) C E rfl (by omega) (by omega) dJ8_getValue_4 ?_
  exact ⟨rfl, rfl⟩
set_option maxHeartbeats 4000000 in
theorem j_J12_canEncode {g : GZ} {A : HA} {c : Nat} (hc : c ≤ 127) : Ct g wI yJ12_canEncode (.code yJ12_canEncode cJ12_canEncode 1 (Option.some Jvm.ClassFile.FieldType.boolean)) 1 0 0 [.int (nI (c))] (A) (fun u A' => u = nI 1 ∧ A' = A) fw_no := by
  refine Ct.of [some (.int (nI (c)))] (by decide) rfl rfl fun z C hx hnm E => ?_
  refine r_iload_0 (pc := 0) C dJ12_canEncode_0 ?_
  refine r_sipush (pc := 1) C dJ12_canEncode_1 cs_255 ?_
  refine r_icmp_gt (pc := 4) (tgt := 11) C dJ12_canEncode_4 (by decide) (fun b4 => ?_) (fun b4 => ?_)
  · skip
    have b4 := (nI_lt2 (by omega) (by omega)).mp b4
    exfalso; omega
  · skip
    have b4 := (not_congr (nI_lt2 (by omega) (by omega))).mp b4
    refine r_iconst (pc := 7) C dJ12_canEncode_7 ci_1 ?_
    refine r_goto (pc := 8) (tgt := 12) C dJ12_canEncode_8 (by decide) ?_
    refine r_iret (pc := 12) C E nar_1 (by omega) (by omega) dJ12_canEncode_12 ?_
    exact ⟨rfl, rfl⟩
set_option maxHeartbeats 4000000 in
theorem j_J8_init {g : GZ} {A : HA} (hz : zS g) {s : Nat} {f : Nat → Nat} (hg : (A.G s).1 = 15) (h3 : A.I s 3 = nI 0) : Ct g wV yJ8_init (.code yJ8_init cJ8_init 2 (Option.none : Option Jvm.ClassFile.FieldType)) 2 1 16 [.ref s, .int (nI 16)] (A) (fun u A' => SbV A' s A.z 16 f 0 ∧ Gw A A' (fun y => y = s) ∧ A'.z = A.z + 1) fw_no := by
  refine Ct.of [some (.ref s), some (.int (nI 16))] (by decide) rfl rfl fun z C hx hnm E => ?_
  refine r_Z fun hZ => ?_
  have hsz : s < A.z := hZ.lt hg rfl
  refine r_aload_0 (pc := 0) C dJ8_init_0 ?_
  refine r_objInit (pc := 1) C q528 q199 q200 rfl (Nat.le_of_ble_eq_true rfl) (by decide) dJ8_init_1 ?_
  refine r_getS (pc := 4) C hz.1 q529 dJ8_init_4 ?_
  refine r_if_eq (pc := 7) (tgt := 25) C dJ8_init_7 (by decide) (fun b7 => ?_) (fun b7 => ?_)
  · exact absurd b7 (by decide +kernel)
  · skip
    refine r_aload_0 (pc := 10) C dJ8_init_10 ?_
    refine r_iload_1 (pc := 11) C dJ8_init_11 ?_
    refine r_newB (pc := 12) C 230 (0) (Nat.zero_le _) rfl q361 rfl (by omega) (by omega) (by omega) dJ8_init_12 ?_
    refine r_putR (pc := 14) C fl_J8_15_15 (show ((A.mk 230 0 16).G s).1 = 15 by rw [mk_G, if_neg (Nat.ne_of_lt hsz)]; exact hg) rfl (fun _ _ _ h => by cases h; exact Or.inl rfl) rfl dJ8_init_14 ?_
    refine r_aload_0 (pc := 17) C dJ8_init_17 ?_
    refine r_iconst (pc := 18) C dJ8_init_18 ci_0 ?_
    refine r_putI (pc := 19) C fl_J8_22_15 (show ((A.mk 230 0 16).G s).1 = 15 by rw [mk_G, if_neg (Nat.ne_of_lt hsz)]; exact hg) rfl (fun _ _ _ h => by cases h; exact Or.inl rfl) rfl rfl rfl dJ8_init_19 ?_
    refine r_goto (pc := 22) (tgt := 38) C dJ8_init_22 (by decide) ?_
    refine r_vret (pc := 38) C E (by omega) (by omega) dJ8_init_38 ?_
    have hq := sbv_new (f := f) hsz hg h3
    exact ⟨hq.1, hq.2, rfl⟩
set_option maxHeartbeats 4000000 in
theorem j_J9_init {g : GZ} {A : HA} (hz : zS g) {s : Nat} {f : Nat → Nat} (hg : (A.G s).1 = 15) (h3 : A.I s 3 = nI 0) : Ct g wV yJ9_init (.code yJ9_init cJ9_init 1 (Option.none : Option Jvm.ClassFile.FieldType)) 3 1 16 [.ref s] (A) (fun u A' => SbV A' s A.z 16 f 0 ∧ Gw A A' (fun y => y = s) ∧ A'.z = A.z + 1) fw_no := by
  refine Ct.of [some (.ref s)] (by decide) rfl rfl fun z C hx hnm E => ?_
  refine r_aload_0 (pc := 0) C dJ9_init_0 ?_
  refine r_bipush (pc := 1) C dJ9_init_1 cb_16 ?_
  refine r_I1v (pc := 3) C (j_J8_init (f := f) hz hg h3) il_J9_1 (by decide) (by omega) (by omega) (Nat.le_of_ble_eq_true rfl) rfl dJ9_init_3 (fun u1 A1 hc1 => ?_)
  have hN1 := hc1
  refine r_vret (pc := 6) C E (by omega) (by omega) dJ9_init_6 ?_
  assumption
set_option maxHeartbeats 4000000 in
theorem j_J4_newLength {g : GZ} {A : HA} {a p q : Nat} (h0 : 0 < q) (hp : p ≤ q) (ha : a + q < 1000000) : Ct g wI yJ4_newLength (.code yJ4_newLength cJ4_newLength 4 (Option.some Jvm.ClassFile.FieldType.int)) 2 0 0 [.int (nI (a)), .int (nI (p)), .int (nI (q))] (A) (fun u A' => u = nI (a + q) ∧ A' = A) fw_no := by
  refine Ct.of [some (.int (nI (a))), some (.int (nI (p))), some (.int (nI (q))), none] (by decide) rfl rfl fun z C hx hnm E => ?_
  refine r_iload_0 (pc := 0) C dJ4_newLength_0 ?_
  refine r_iload_1 (pc := 1) C dJ4_newLength_1 ?_
  refine r_iload_2 (pc := 2) C dJ4_newLength_2 ?_
  refine r_max (pc := 3) C q391 rfl (Nat.le_of_ble_eq_true rfl) (by decide) (by omega) (by omega) dJ4_newLength_3 ?_
  refine r_top (show (if nI p < nI q then nI q else nI p) = nI q from mx_le hp (by omega)) ?_
  refine r_iadd (pc := 6) C dJ4_newLength_6 ?_
  refine r_top (nI_add _ _) ?_
  refine r_istore_3 (pc := 7) C dJ4_newLength_7 rfl ?_
  refine r_iconst (pc := 8) C dJ4_newLength_8 ci_0 ?_
  refine r_iload_3 (pc := 9) C dJ4_newLength_9 ?_
  refine r_icmp_ge (pc := 10) (tgt := 21) C dJ4_newLength_10 (by decide) (fun b10 => ?_) (fun b10 => ?_)
  · skip
    have b10 := (nI_le2 (by omega) (by omega)).mp b10
    exfalso; omega
  · skip
    have b10 := (not_congr (nI_le2 (by omega) (by omega))).mp b10
    refine r_iload_3 (pc := 13) C dJ4_newLength_13 ?_
    refine r_ldc (pc := 14) (v := nI 2147483639) C (by have h9 := q394; rwa [show (2147483639 : Int32) = nI 2147483639 by decide +kernel] at h9) dJ4_newLength_14 ?_
    refine r_icmp_gt (pc := 16) (tgt := 21) C dJ4_newLength_16 (by decide) (fun b16 => ?_) (fun b16 => ?_)
    · skip
      have b16 := (nI_lt2 (by omega) (by omega)).mp b16
      exfalso; omega
    · skip
      have b16 := (not_congr (nI_lt2 (by omega) (by omega))).mp b16
      refine r_iload_3 (pc := 19) C dJ4_newLength_19 ?_
      refine r_iret (pc := 20) C E rfl (by omega) (by omega) dJ4_newLength_20 ?_
      exact ⟨rfl, rfl⟩
set_option maxHeartbeats 4000000 in
theorem j_J8_newCapacity {g : GZ} {A : HA} {s v m n : Nat} {f : Nat → Nat} (hs : SbV A s v m f n) {q : Nat} (hq : m < q) (hq2 : q ≤ 2 * m + 2) (h9 : m ≤ 5000) : Ct g wI yJ8_newCapacity (.code yJ8_newCapacity cJ8_newCapacity 6 (Option.some Jvm.ClassFile.FieldType.int)) 3 0 0 [.ref s, .int (nI (q))] (A) (fun u A' => u = nI (m + (m + 2)) ∧ A' = A) fw_no := by
  refine Ct.of [some (.ref s), some (.int (nI (q))), none, none, none, none] (by decide) rfl rfl fun z C hx hnm E => ?_
  refine r_aload_0 (pc := 0) C dJ8_newCapacity_0 ?_
  refine r_getR (pc := 1) C fl_J8_15_15 hs.g rfl hs.r dJ8_newCapacity_1 ?_
  refine r_alen (pc := 4) (t := 2) C hs.k rfl rfl dJ8_newCapacity_4 ?_
  refine r_top (congrArg nI hs.l) ?_
  refine r_istore_2 (pc := 5) C dJ8_newCapacity_5 rfl ?_
  refine r_iload_1 (pc := 6) C dJ8_newCapacity_6 ?_
  refine r_aload_0 (pc := 7) C dJ8_newCapacity_7 ?_
  refine r_getI (pc := 8) C fl_J8_22_15 hs.g rfl dJ8_newCapacity_8 ?_
  refine r_top hs.c ?_
  refine r_ishl (pc := 11) C dJ8_newCapacity_11 ?_
  refine r_top (sb_l _) ?_
  refine r_istore_3 (pc := 12) C dJ8_newCapacity_12 rfl ?_
  refine r_iload_3 (pc := 13) C dJ8_newCapacity_13 ?_
  refine r_iload_2 (pc := 14) C dJ8_newCapacity_14 ?_
  refine r_isub (pc := 15) C dJ8_newCapacity_15 ?_
  refine r_top (pk_sub (by omega)) ?_
  refine r_istore_4 (pc := 16) C dJ8_newCapacity_16 rfl ?_
  refine r_iload_2 (pc := 18) C dJ8_newCapacity_18 ?_
  refine r_iload_4 (pc := 19) C dJ8_newCapacity_19 ?_
  refine r_iload_2 (pc := 21) C dJ8_newCapacity_21 ?_
  refine r_iconst (pc := 22) C dJ8_newCapacity_22 ci_2 ?_
  refine r_aload_0 (pc := 23) C dJ8_newCapacity_23 ?_
  refine r_getI (pc := 24) C fl_J8_22_15 hs.g rfl dJ8_newCapacity_24 ?_
  refine r_top hs.c ?_
  refine r_ishl (pc := 27) C dJ8_newCapacity_27 ?_
  refine r_top (sb_l _) ?_
  refine r_iadd (pc := 28) C dJ8_newCapacity_28 ?_
  refine r_top (nI_add _ _) ?_
  refine r_S3io (pc := 29) C (j_J4_newLength (by omega) (by omega) (by omega)) sl_J8_114 (by decide) (by omega) (by omega) (Nat.le_of_ble_eq_true rfl) rfl dJ8_newCapacity_29 (fun u1 A1 hc1 => ?_)
  refine r_top hc1.1 ?_
  refine r_eqA hc1.2 ?_
  clear hc1 A1 u1
  refine r_istore_5 (pc := 32) C dJ8_newCapacity_32 rfl ?_
  refine r_iload_5 (pc := 34) C dJ8_newCapacity_34 ?_
  refine r_ldc (pc := 36) (v := nI 2147483647) C (by have h9 := q614; rwa [show (2147483647 : Int32) = nI 2147483647 by decide +kernel] at h9) dJ8_newCapacity_36 ?_
  refine r_icmp_ne (pc := 38) (tgt := 51) C dJ8_newCapacity_38 (by decide) (fun b38 => ?_) (fun b38 => ?_)
  · skip
    have b38 := (not_congr (nI_eqI (by omega) (by omega))).mp b38
    refine r_iload_5 (pc := 51) C dJ8_newCapacity_51 ?_
    refine r_aload_0 (pc := 53) C dJ8_newCapacity_53 ?_
    refine r_getI (pc := 54) C fl_J8_22_15 hs.g rfl dJ8_newCapacity_54 ?_
    refine r_top hs.c ?_
    refine r_ishr (pc := 57) C dJ8_newCapacity_57 ?_
    refine r_top (sb_r _) ?_
    refine r_iret (pc := 58) C E rfl (by omega) (by omega) dJ8_newCapacity_58 ?_
    exact ⟨rfl, rfl⟩
  · skip
    have b38 := (nI_eqI (by omega) (by omega)).mp b38
    exfalso; omega
set_option maxHeartbeats 4000000 in
theorem j_J6_copyOf_3 {g : GZ} {A : HA} {v m q : Nat} (hk : (A.G v).1 = 230) (hn : A.n v = m) (hq : m < q) (h9 : q ≤ 100000) (hft : ∀ k, k < m → fits .byte (.int (A.I v k)) = true) : Ct g wR yJ6_copyOf_3 (.code yJ6_copyOf_3 cJ6_copyOf_3 3 (Option.some (Jvm.ClassFile.FieldType.array Jvm.ClassFile.FieldType.byte))) 2 1 q [.ref v, .int (nI (q))] (A) (fun u A' => u = A.z ∧ A' = (A.mk 230 0 q).sI A.z (va_cpy ((A.mk 230 0 q).I v) ((A.mk 230 0 q).I A.z) 0 0 m)) fw_no := by
  refine Ct.of [some (.ref v), some (.int (nI (q))), none] (by decide) rfl rfl fun z C hx hnm E => ?_
  refine r_Z fun hZ => ?_
  have hvz : v < A.z := hZ.lt hk rfl
  have hne : v ≠ A.z := by omega
  refine r_iload_1 (pc := 0) C dJ6_copyOf_3_0 ?_
  refine r_aload_0 (pc := 1) C dJ6_copyOf_3_1 ?_
  refine r_alen (pc := 2) (t := 2) C hk rfl rfl dJ6_copyOf_3_2 ?_
  refine r_top (congrArg nI hn) ?_
  refine r_icmp_ne (pc := 3) (tgt := 14) C dJ6_copyOf_3_3 (by decide) (fun b3 => ?_) (fun b3 => ?_)
  · skip
    have b3 := (not_congr (nI_eqI (by omega) (by omega))).mp b3
    refine r_iload_1 (pc := 14) C dJ6_copyOf_3_14 ?_
    refine r_newB (pc := 15) C 230 (0) (Nat.zero_le _) rfl q361 rfl (by omega) (by omega) (by omega) dJ6_copyOf_3_15 ?_
    refine r_astore_2 (pc := 17) C dJ6_copyOf_3_17 rfl ?_
    refine r_aload_0 (pc := 18) C dJ6_copyOf_3_18 ?_
    refine r_iconst (pc := 19) C dJ6_copyOf_3_19 ci_0 ?_
    refine r_aload_2 (pc := 20) C dJ6_copyOf_3_20 ?_
    refine r_iconst (pc := 21) C dJ6_copyOf_3_21 ci_0 ?_
    refine r_aload_0 (pc := 22) C dJ6_copyOf_3_22 ?_
    refine r_alen (pc := 23) (t := 2) C (show ((A.mk 230 0 q).G v).1 = 230 by rw [mk_G, if_neg hne]; exact hk) rfl rfl dJ6_copyOf_3_23 ?_
    refine r_top (congrArg nI (show (A.mk 230 0 q).n v = m by rw [mk_n, if_neg hne]; exact hn)) ?_
    refine r_iload_1 (pc := 24) C dJ6_copyOf_3_24 ?_
    refine r_min (pc := 25) C q441 rfl (Nat.le_of_ble_eq_true rfl) (by decide) (by omega) (by omega) dJ6_copyOf_3_25 ?_
    refine r_top (nI_min (by omega) (by omega)) ?_
    refine r_top (congrArg nI (show (if q < m then q else m) = m from if_neg (by omega))) ?_
    refine r_bcopy (pc := 28) C (show isBy ((A.mk 230 0 q).G v).1 = true by rw [mk_G, if_neg hne, hk]; rfl) (show isBy ((A.mk 230 0 q).G A.z).1 = true by rw [mk_G, if_pos rfl]; rfl) (show fw_mut ((A.mk 230 0 q).G A.z).1 = true by rw [mk_G, if_pos rfl]; rfl) (by rw [mk_n, if_neg hne]; omega) (by rw [mk_n, if_pos rfl]; omega) (by rw [mk_n, if_neg hne]; omega) (by rw [mk_n, if_pos rfl]; omega) (fun i hi => by rw [mk_I, if_neg hne, Nat.zero_add]; exact hft i hi) q444 rfl (by decide) (by omega) dJ6_copyOf_3_28 ?_
    refine r_aload_2 (pc := 31) C dJ6_copyOf_3_31 ?_
    refine r_aret (pc := 32) C E rfl (by omega) (by omega) dJ6_copyOf_3_32 ?_
    exact ⟨rfl, rfl⟩
  · skip
    have b3 := (nI_eqI (by omega) (by omega)).mp b3
    exfalso; omega
set_option maxHeartbeats 4000000 in
theorem j_enO {g : GZ} {A : HA} {s v m n : Nat} {f : Nat → Nat} (hs : SbV A s v m f n) {q : Nat} (hq : q ≤ m) : Ct g wV yJ8_ensureCapacityInternal (.code yJ8_ensureCapacityInternal cJ8_ensureCapacityInternal 3 (Option.none : Option Jvm.ClassFile.FieldType)) 4 0 0 [.ref s, .int (nI (q))] (A) (fun u A' => A' = A) fw_no := by
  refine Ct.of [some (.ref s), some (.int (nI (q))), none] (by decide) rfl rfl fun z C hx hnm E => ?_
  have h9 := hs.m9
  refine r_aload_0 (pc := 0) C dJ8_ensureCapacityInternal_0 ?_
  refine r_getR (pc := 1) C fl_J8_15_15 hs.g rfl hs.r dJ8_ensureCapacityInternal_1 ?_
  refine r_alen (pc := 4) (t := 2) C hs.k rfl rfl dJ8_ensureCapacityInternal_4 ?_
  refine r_top (congrArg nI hs.l) ?_
  refine r_aload_0 (pc := 5) C dJ8_ensureCapacityInternal_5 ?_
  refine r_getI (pc := 6) C fl_J8_22_15 hs.g rfl dJ8_ensureCapacityInternal_6 ?_
  refine r_top hs.c ?_
  refine r_ishr (pc := 9) C dJ8_ensureCapacityInternal_9 ?_
  refine r_top (sb_r _) ?_
  refine r_istore_2 (pc := 10) C dJ8_ensureCapacityInternal_10 rfl ?_
  refine r_iload_1 (pc := 11) C dJ8_ensureCapacityInternal_11 ?_
  refine r_iload_2 (pc := 12) C dJ8_ensureCapacityInternal_12 ?_
  refine r_isub (pc := 13) C dJ8_ensureCapacityInternal_13 ?_
  refine r_if_le (pc := 14) (tgt := 38) C dJ8_ensureCapacityInternal_14 (by decide) (fun b14 => ?_) (fun b14 => ?_)
  · skip
    refine r_vret (pc := 38) C E (by omega) (by omega) dJ8_ensureCapacityInternal_38 ?_
    exact rfl
  · skip
    exact absurd (le_sub0 hq h9) b14
set_option maxHeartbeats 4000000 in
theorem j_enG {g : GZ} {A : HA} {s v m n : Nat} {f : Nat → Nat} (hs : SbV A s v m f n) {q : Nat} (hq : m < q) (hq2 : q ≤ 2 * m + 2) (h9 : m ≤ 5000) : Ct g wV yJ8_ensureCapacityInternal (.code yJ8_ensureCapacityInternal cJ8_ensureCapacityInternal 3 (Option.none : Option Jvm.ClassFile.FieldType)) 4 1 (m + (m + 2)) [.ref s, .int (nI (q))] (A) (fun u A' => SbV A' s A.z (m + (m + 2)) f n ∧ Gw A A' (fun y => y = s) ∧ A'.z = A.z + 1) fw_no := by
  refine Ct.of [some (.ref s), some (.int (nI (q))), none] (by decide) rfl rfl fun z C hx hnm E => ?_
  refine r_Z fun hZ => ?_
  have hlt := hs.lt hZ
  have hsz : s ≠ A.z := by omega
  have hnm := hs.nm
  refine r_aload_0 (pc := 0) C dJ8_ensureCapacityInternal_0 ?_
  refine r_getR (pc := 1) C fl_J8_15_15 hs.g rfl hs.r dJ8_ensureCapacityInternal_1 ?_
  refine r_alen (pc := 4) (t := 2) C hs.k rfl rfl dJ8_ensureCapacityInternal_4 ?_
  refine r_top (congrArg nI hs.l) ?_
  refine r_aload_0 (pc := 5) C dJ8_ensureCapacityInternal_5 ?_
  refine r_getI (pc := 6) C fl_J8_22_15 hs.g rfl dJ8_ensureCapacityInternal_6 ?_
  refine r_top hs.c ?_
  refine r_ishr (pc := 9) C dJ8_ensureCapacityInternal_9 ?_
  refine r_top (sb_r _) ?_
  refine r_istore_2 (pc := 10) C dJ8_ensureCapacityInternal_10 rfl ?_
  refine r_iload_1 (pc := 11) C dJ8_ensureCapacityInternal_11 ?_
  refine r_iload_2 (pc := 12) C dJ8_ensureCapacityInternal_12 ?_
  refine r_isub (pc := 13) C dJ8_ensureCapacityInternal_13 ?_
  refine r_if_le (pc := 14) (tgt := 38) C dJ8_ensureCapacityInternal_14 (by decide) (fun b14 => ?_) (fun b14 => ?_)
  · skip
    exact absurd b14 (nle_sub0 hq (by omega))
  · skip
    refine r_aload_0 (pc := 17) C dJ8_ensureCapacityInternal_17 ?_
    refine r_aload_0 (pc := 18) C dJ8_ensureCapacityInternal_18 ?_
    refine r_getR (pc := 19) C fl_J8_15_15 hs.g rfl hs.r dJ8_ensureCapacityInternal_19 ?_
    refine r_aload_0 (pc := 22) C dJ8_ensureCapacityInternal_22 ?_
    refine r_iload_1 (pc := 23) C dJ8_ensureCapacityInternal_23 ?_
    refine r_P1io (pc := 24) C (j_J8_newCapacity hs (by omega) (by omega) (by omega)) pl_J8_104_15 hs.g (by decide) (by omega) (by omega) (Nat.le_of_ble_eq_true rfl) rfl dJ8_ensureCapacityInternal_24 (fun u1 A1 hc1 => ?_)
    refine r_top hc1.1 ?_
    refine r_eqA hc1.2 ?_
    clear hc1 A1 u1
    refine r_aload_0 (pc := 27) C dJ8_ensureCapacityInternal_27 ?_
    refine r_getI (pc := 28) C fl_J8_22_15 hs.g rfl dJ8_ensureCapacityInternal_28 ?_
    refine r_top hs.c ?_
    refine r_ishl (pc := 31) C dJ8_ensureCapacityInternal_31 ?_
    refine r_top (sb_l _) ?_
    refine r_S2r (pc := 32) C (j_J6_copyOf_3 hs.k hs.l (q := m + (m + 2)) (by omega) (by omega) (fun k hk => hs.ft hk)) sl_J8_108 (by decide) (by omega) (by omega) (Nat.le_of_ble_eq_true rfl) rfl dJ8_ensureCapacityInternal_32 (fun u2 A2 hc2 => ?_)
    refine r_topR hc2.1 ?_
    refine r_eqA hc2.2 ?_
    clear hc2 A2 u2
    refine r_putR (pc := 35) C fl_J8_15_15 (show ((A.mk 230 0 (m + (m + 2))).G s).1 = 15 by rw [mk_G, if_neg hsz]; exact hs.g) rfl (fun _ _ _ h => by cases h; exact Or.inl rfl) rfl dJ8_ensureCapacityInternal_35 ?_
    refine r_vret (pc := 38) C E (by omega) (by omega) dJ8_ensureCapacityInternal_38 ?_
    have hg := sbv_grow (M := m + (m + 2)) hs hZ (by omega) (by omega)
    exact ⟨hg.1, hg.2, rfl⟩
set_option maxHeartbeats 4000000 in
theorem j_ap8O {g : GZ} {A : HA} (hz : zS g) {s v m n : Nat} {f : Nat → Nat} (hs : SbV A s v m f n) {c : Nat} (hc : c ≤ 127) (hnr : n < m) : Ct g wR yJ8_append (.code yJ8_append cJ8_append 2 (Option.some (Jvm.ClassFile.FieldType.object "java/lang/AbstractStringBuilder"))) 5 0 0 [.ref s, .int (nI (c))] (A) (fun u A' => u = s ∧ SbV A' s v m (lower f n c) (n + 1) ∧ Gw A A' (fun y => y = s ∨ y = v) ∧ A'.z = A.z) fw_no := by
  refine Ct.of [some (.ref s), some (.int (nI (c)))] (by decide) rfl rfl fun z C hx hnm E => ?_
  refine r_Z fun hZ => ?_
  have hnm := hs.nm
  have hm99 := hs.m9
  have hlt := hs.lt hZ
  refine r_aload_0 (pc := 0) C dJ8_append_0 ?_
  refine r_aload_0 (pc := 1) C dJ8_append_1 ?_
  refine r_getI (pc := 2) C fl_J8_79_15 hs.g rfl dJ8_append_2 ?_
  refine r_top hs.ct ?_
  refine r_iconst (pc := 5) C dJ8_append_5 ci_1 ?_
  refine r_iadd (pc := 6) C dJ8_append_6 ?_
  refine r_top (nI_add _ _) ?_
  refine r_P1vo (pc := 7) C (j_enO hs (q := n + 1) (by omega)) pl_J8_100_15 hs.g (by decide) (by omega) (by omega) (Nat.le_of_ble_eq_true rfl) rfl dJ8_append_7 (fun u1 A1 hc1 => ?_)
  refine r_eqA hc1 ?_
  clear hc1 A1 u1
  refine r_aload_0 (pc := 10) C dJ8_append_10 ?_
  refine r_U0io (pc := 11) C (j_J8_isLatin1 hz hs) ul_J8_83_15 hs.g (by decide) (by omega) (by omega) (Nat.le_of_ble_eq_true rfl) rfl dJ8_append_11 (fun u2 A2 hc2 => ?_)
  refine r_top hc2.1 ?_
  refine r_eqA hc2.2 ?_
  clear hc2 A2 u2
  refine r_if_eq (pc := 14) (tgt := 45) C dJ8_append_14 (by decide) (fun b14 => ?_) (fun b14 => ?_)
  · exact absurd b14 (by decide +kernel)
  · skip
    refine r_iload_1 (pc := 17) C dJ8_append_17 ?_
    refine r_S1io (pc := 18) C (j_J12_canEncode (by omega)) sl_J8_191 (by decide) (by omega) (by omega) (Nat.le_of_ble_eq_true rfl) rfl dJ8_append_18 (fun u3 A3 hc3 => ?_)
    refine r_top hc3.1 ?_
    refine r_eqA hc3.2 ?_
    clear hc3 A3 u3
    refine r_if_eq (pc := 21) (tgt := 45) C dJ8_append_21 (by decide) (fun b21 => ?_) (fun b21 => ?_)
    · exact absurd b21 (by decide +kernel)
    · skip
      refine r_aload_0 (pc := 24) C dJ8_append_24 ?_
      refine r_getR (pc := 25) C fl_J8_15_15 hs.g rfl hs.r dJ8_append_25 ?_
      refine r_aload_0 (pc := 28) C dJ8_append_28 ?_
      refine r_dup (pc := 29) C dJ8_append_29 rfl ?_
      refine r_getI (pc := 30) C fl_J8_79_15 hs.g rfl dJ8_append_30 ?_
      refine r_top hs.ct ?_
      refine r_dup_x1 (pc := 33) C dJ8_append_33 rfl rfl ?_
      refine r_iconst (pc := 34) C dJ8_append_34 ci_1 ?_
      refine r_iadd (pc := 35) C dJ8_append_35 ?_
      refine r_top (nI_add _ _) ?_
      refine r_putI (pc := 36) C fl_J8_79_15 hs.g rfl (fun _ _ _ h => by cases h; exact Or.inl rfl) rfl rfl rfl dJ8_append_36 ?_
      refine r_iload_1 (pc := 39) C dJ8_append_39 ?_
      refine r_i2b (pc := 40) C dJ8_append_40 ?_
      refine r_top (by_i2b hc) ?_
      refine r_bast (pc := 41) C hs.k rfl rfl (lt_eq (show n < _ by omega) hs.l) (by omega) (by_narb hc) dJ8_append_41 ?_
      refine r_goto (pc := 42) (tgt := 75) C dJ8_append_42 (by decide) ?_
      refine r_aload_0 (pc := 75) C dJ8_append_75 ?_
      refine r_aret (pc := 76) C E rfl (by omega) (by omega) dJ8_append_76 ?_
      have hq := sbv_app (c := c) hs (by omega) hc
      exact ⟨rfl, hq.1, hq.2, rfl⟩
set_option maxHeartbeats 4000000 in
theorem j_ap9O {g : GZ} {A : HA} (hz : zS g) {s v m n : Nat} {f : Nat → Nat} (hs : SbV A s v m f n) {c : Nat} (hc : c ≤ 127) (hnr : n < m) : Ct g wR yJ9_append (.code yJ9_append cJ9_append 2 (Option.some (Jvm.ClassFile.FieldType.object "java/lang/StringBuilder"))) 6 0 0 [.ref s, .int (nI (c))] (A) (fun u A' => u = s ∧ SbV A' s v m (lower f n c) (n + 1) ∧ Gw A A' (fun y => y = s ∨ y = v) ∧ A'.z = A.z) fw_no := by
  refine Ct.of [some (.ref s), some (.int (nI (c)))] (by decide) rfl rfl fun z C hx hnm E => ?_
  have hnm := hs.nm
  have hm99 := hs.m9
  refine r_aload_0 (pc := 0) C dJ9_append_0 ?_
  refine r_iload_1 (pc := 1) C dJ9_append_1 ?_
  refine r_SU1ro (pc := 2) C (j_ap8O hz hs hc hnr) sul_J9_50 hs.g (by decide) (by omega) (by omega) (Nat.le_of_ble_eq_true rfl) rfl dJ9_append_2 (fun u1 A1 hc1 => ?_)
  obtain ⟨eu1, hP1⟩ := hc1
  refine r_topR eu1 ?_
  clear eu1 u1
  refine r_pop (pc := 5) C dJ9_append_5 rfl ?_
  refine r_aload_0 (pc := 6) C dJ9_append_6 ?_
  refine r_aret (pc := 7) C E rfl (by omega) (by omega) dJ9_append_7 ?_
  exact ⟨rfl, by assumption⟩
set_option maxHeartbeats 4000000 in
theorem j_ap8G {g : GZ} {A : HA} (hz : zS g) {s v m n : Nat} {f : Nat → Nat} (hs : SbV A s v m f n) {c : Nat} (hc : c ≤ 127) (hnr : n = m) (h9 : m ≤ 5000) : Ct g wR yJ8_append (.code yJ8_append cJ8_append 2 (Option.some (Jvm.ClassFile.FieldType.object "java/lang/AbstractStringBuilder"))) 5 1 (m + (m + 2)) [.ref s, .int (nI (c))] (A) (fun u A' => u = s ∧ SbV A' s A.z (m + (m + 2)) (lower f n c) (n + 1) ∧ Gw A A' (fun y => y = s) ∧ A'.z = A.z + 1) fw_no := by
  refine Ct.of [some (.ref s), some (.int (nI (c)))] (by decide) rfl rfl fun z C hx hnm E => ?_
  refine r_Z fun hZ => ?_
  have hnm := hs.nm
  have hm99 := hs.m9
  have hlt := hs.lt hZ
  refine r_aload_0 (pc := 0) C dJ8_append_0 ?_
  refine r_aload_0 (pc := 1) C dJ8_append_1 ?_
  refine r_getI (pc := 2) C fl_J8_79_15 hs.g rfl dJ8_append_2 ?_
  refine r_top hs.ct ?_
  refine r_iconst (pc := 5) C dJ8_append_5 ci_1 ?_
  refine r_iadd (pc := 6) C dJ8_append_6 ?_
  refine r_top (nI_add _ _) ?_
  refine r_P1v (pc := 7) C (j_enG hs (q := n + 1) (by omega) (by omega) h9) pl_J8_100_15 hs.g (by decide) (by omega) (by omega) (Nat.le_of_ble_eq_true rfl) rfl dJ8_append_7 (fun u1 A1 hc1 => ?_)
  obtain ⟨hB, hBw, hBz⟩ := hc1
  generalize A1 = B at hB hBw hBz ⊢
  clear u1
  refine r_aload_0 (pc := 10) C dJ8_append_10 ?_
  refine r_U0io (pc := 11) C (j_J8_isLatin1 hz hB) ul_J8_83_15 hB.g (by decide) (by omega) (by omega) (Nat.le_of_ble_eq_true rfl) rfl dJ8_append_11 (fun u2 A2 hc2 => ?_)
  refine r_top hc2.1 ?_
  refine r_eqA hc2.2 ?_
  clear hc2 A2 u2
  refine r_if_eq (pc := 14) (tgt := 45) C dJ8_append_14 (by decide) (fun b14 => ?_) (fun b14 => ?_)
  · exact absurd b14 (by decide +kernel)
  · skip
    refine r_iload_1 (pc := 17) C dJ8_append_17 ?_
    refine r_S1io (pc := 18) C (j_J12_canEncode (by omega)) sl_J8_191 (by decide) (by omega) (by omega) (Nat.le_of_ble_eq_true rfl) rfl dJ8_append_18 (fun u3 A3 hc3 => ?_)
    refine r_top hc3.1 ?_
    refine r_eqA hc3.2 ?_
    clear hc3 A3 u3
    refine r_if_eq (pc := 21) (tgt := 45) C dJ8_append_21 (by decide) (fun b21 => ?_) (fun b21 => ?_)
    · exact absurd b21 (by decide +kernel)
    · skip
      refine r_aload_0 (pc := 24) C dJ8_append_24 ?_
      refine r_getR (pc := 25) C fl_J8_15_15 hB.g rfl hB.r dJ8_append_25 ?_
      refine r_aload_0 (pc := 28) C dJ8_append_28 ?_
      refine r_dup (pc := 29) C dJ8_append_29 rfl ?_
      refine r_getI (pc := 30) C fl_J8_79_15 hB.g rfl dJ8_append_30 ?_
      refine r_top hB.ct ?_
      refine r_dup_x1 (pc := 33) C dJ8_append_33 rfl rfl ?_
      refine r_iconst (pc := 34) C dJ8_append_34 ci_1 ?_
      refine r_iadd (pc := 35) C dJ8_append_35 ?_
      refine r_top (nI_add _ _) ?_
      refine r_putI (pc := 36) C fl_J8_79_15 hB.g rfl (fun _ _ _ h => by cases h; exact Or.inl rfl) rfl rfl rfl dJ8_append_36 ?_
      refine r_iload_1 (pc := 39) C dJ8_append_39 ?_
      refine r_i2b (pc := 40) C dJ8_append_40 ?_
      refine r_top (by_i2b hc) ?_
      refine r_bast (pc := 41) C hB.k rfl rfl (lt_eq (show n < _ by omega) hB.l) (by omega) (by_narb hc) dJ8_append_41 ?_
      refine r_goto (pc := 42) (tgt := 75) C dJ8_append_42 (by decide) ?_
      refine r_aload_0 (pc := 75) C dJ8_append_75 ?_
      refine r_aret (pc := 76) C E rfl (by omega) (by omega) dJ8_append_76 ?_
      have hq := sbv_app (c := c) hB (by omega) hc
      refine ⟨rfl, hq.1, hBw.tr2 hq.2 (fun y hy z => z.elim (fun e => e) (fun e => absurd e (by omega))), hBz⟩
set_option maxHeartbeats 4000000 in
theorem j_ap9G {g : GZ} {A : HA} (hz : zS g) {s v m n : Nat} {f : Nat → Nat} (hs : SbV A s v m f n) {c : Nat} (hc : c ≤ 127) (hnr : n = m) (h9 : m ≤ 5000) : Ct g wR yJ9_append (.code yJ9_append cJ9_append 2 (Option.some (Jvm.ClassFile.FieldType.object "java/lang/StringBuilder"))) 6 1 (m + (m + 2)) [.ref s, .int (nI (c))] (A) (fun u A' => u = s ∧ SbV A' s A.z (m + (m + 2)) (lower f n c) (n + 1) ∧ Gw A A' (fun y => y = s) ∧ A'.z = A.z + 1) fw_no := by
  refine Ct.of [some (.ref s), some (.int (nI (c)))] (by decide) rfl rfl fun z C hx hnm E => ?_
  have hnm := hs.nm
  have hm99 := hs.m9
  refine r_aload_0 (pc := 0) C dJ9_append_0 ?_
  refine r_iload_1 (pc := 1) C dJ9_append_1 ?_
  refine r_SU1r (pc := 2) C (j_ap8G hz hs hc hnr h9) sul_J9_50 hs.g (by decide) (by omega) (by omega) (Nat.le_of_ble_eq_true rfl) rfl dJ9_append_2 (fun u1 A1 hc1 => ?_)
  obtain ⟨eu1, hP1⟩ := hc1
  refine r_topR eu1 ?_
  clear eu1 u1
  refine r_pop (pc := 5) C dJ9_append_5 rfl ?_
  refine r_aload_0 (pc := 6) C dJ9_append_6 ?_
  refine r_aret (pc := 7) C E rfl (by omega) (by omega) dJ9_append_7 ?_
  exact ⟨rfl, by assumption⟩
