/-! LISTS: made, added to; rows of things -/
set_option maxRecDepth 100000
theorem fs_J2_63 : FS RJ2 63 13 0 := FS.of RJ2 TJ2 3 "java/util/ArrayList" rfl rfl in_J2 tyJ2_ok nmJ2 rfl q236 q235
/-- the empty array that new lists share -/
def DeK (g : GZ) (A : HA) : Prop := SZ g "java/util/ArrayList" "DEFAULTCAPACITY_EMPTY_ELEMENTDATA" "[Ljava/lang/Object;" (.ref (g.c 70)) ∧ (A.G (g.c 70)).1 = 500 ∧ A.n (g.c 70) = 0
theorem DeK.gw {g : GZ} {A B : HA} {X : Nat → Prop} (h : DeK g A) (hz : Zk A) (hw : Gw A B X) : DeK g B := by
  have hl := hz.lt h.2.1 rfl
  have h2 := hw.2 _ hl
  exact ⟨h.1, by rw [h2.1]; exact h.2.1, by rw [h2.2.1]; exact h.2.2⟩
/-- the list at l: its elements' array e, m elements f -/
def Ll (g : GZ) (A : HA) (l e m : Nat) (f : Nat → Nat) : Prop := (A.G l).1 = 13 ∧ A.R l 1 = some e ∧ A.I l 2 = nI m ∧ ((m = 0 ∧ e = g.c 70) ∨ (A.G e = (501, l) ∧ A.n e = 10)) ∧ m ≤ 10 ∧ ∀ k, k < m → A.R e k = some (f k)
theorem NF13 : ∀ j, fw_ty 13 j ≠ .float ∧ fw_ty 13 j ≠ .double := by
  intro j
  show tyJ2 j ≠ .float ∧ tyJ2 j ≠ .double
  unfold tyJ2
  split <;> exact ⟨fun h => (by cases h), fun h => (by cases h)⟩
theorem NF3 : ∀ j, fw_ty 3 j ≠ .float ∧ fw_ty 3 j ≠ .double := by
  intro j
  show tyX3 j ≠ .float ∧ tyX3 j ≠ .double
  unfold tyX3
  split <;> exact ⟨fun h => (by cases h), fun h => (by cases h)⟩
theorem NF5 : ∀ j, fw_ty 5 j ≠ .float ∧ fw_ty 5 j ≠ .double := by
  intro j
  show tyX5 j ≠ .float ∧ tyX5 j ≠ .double
  unfold tyX5
  split <;> exact ⟨fun h => (by cases h), fun h => (by cases h)⟩
theorem NF4 : ∀ j, fw_ty 4 j ≠ .float ∧ fw_ty 4 j ≠ .double := by
  intro j
  show tyX4 j ≠ .float ∧ tyX4 j ≠ .double
  unfold tyX4
  split <;> exact ⟨fun h => (by cases h), fun h => (by cases h)⟩
theorem NF2 : ∀ j, fw_ty 2 j ≠ .float ∧ fw_ty 2 j ≠ .double := by
  intro j
  show tyX2 j ≠ .float ∧ tyX2 j ≠ .double
  unfold tyX2
  split <;> exact ⟨fun h => (by cases h), fun h => (by cases h)⟩
/-- x's array is laid out, then x put there: what one more element makes of a list -/
def lA1 (A : HA) (l m : Nat) : HA := A.sI l (upd (upd (A.I l) 0 (A.I l 0 + nI 1)) 2 (nI (m + 1)))
theorem ll_addS {g : GZ} {A : HA} {l e m x : Nat} {f : Nat → Nat} (h : Ll g A l e m f) (h1 : 1 ≤ m) (h9 : m < 10) : Ll g ((lA1 A l m).sR e (va_up (A.R e) m (some x))) l e (m + 1) (lower f m x) ∧ Gw A ((lA1 A l m).sR e (va_up (A.R e) m (some x))) (fun y => y = l ∨ y = e) := by
  obtain ⟨a1, a2, a3, a4, a5, a6⟩ := h
  obtain ⟨b1, b2⟩ := a4.resolve_left (fun q => by omega)
  have hne : l ≠ e := fun q => by rw [q] at a1; rw [b1] at a1; exact absurd (show (501 : Nat) = 13 from a1) (by decide)
  refine ⟨⟨a1, ?_, ?_, Or.inr ⟨b1, b2⟩, by omega, fun k hk => ?_⟩, ?_⟩
  · rw [sR_o _ _ hne]; exact a2
  · show (lA1 A l m).I l 2 = _
    unfold lA1
    rw [sI_s, pk_us]
  · rw [sR_s]
    by_cases q : k = m
    · rw [q, va_up_self, lower_s]
    · rw [va_up_ne _ _ q, lower_o _ _ q]; exact a6 k (by omega)
  · exact (gw_sI (X := fun y => y = l ∨ y = e) (fun _ => Or.inl rfl)).tr (gw_sR (fun _ => Or.inr rfl))
def lA0 (A : HA) (l x : Nat) : HA := ((((A.sI l (upd (A.I l) 0 (A.I l 0 + nI 1))).mk 501 l 10).sR l (va_up (A.R l) 1 (some A.z))).sR A.z (va_up (fun _ => none) 0 (some x))).sI l (upd (upd (A.I l) 0 (A.I l 0 + nI 1)) 2 (nI 1))
theorem ll_add0 {g : GZ} {A : HA} {l x : Nat} {f : Nat → Nat} (hz : Zk A) (h : Ll g A l (g.c 70) 0 f) : Ll g (lA0 A l x) l A.z 1 (fun _ => x) ∧ Gw A (lA0 A l x) (fun y => y = l) ∧ (lA0 A l x).z = A.z + 1 := by
  obtain ⟨a1, a2, a3, a4, a5, a6⟩ := h
  have hlt : l < A.z := hz.lt a1 rfl
  have hne : l ≠ A.z := Nat.ne_of_lt hlt
  refine ⟨⟨?_, ?_, ?_, Or.inr ⟨?_, ?_⟩, by omega, fun k hk => ?_⟩, ?_, rfl⟩
  · show (if l = A.z then (501, l) else A.G l).1 = 13
    rw [if_neg hne]; exact a1
  · show (((((A.sI l (upd (A.I l) 0 (A.I l 0 + nI 1))).mk 501 l 10).sR l (va_up (A.R l) 1 (some A.z))).sR A.z (va_up (fun _ => none) 0 (some x)))).R l 1 = _
    rw [sR_o _ _ hne, sR_s, va_up_self]
  · unfold lA0
    rw [sI_s, pk_us]
  · show (if A.z = A.z then (501, l) else A.G A.z) = (501, l)
    rw [if_pos rfl]
  · show (if A.z = A.z then 10 else A.n A.z) = 10
    rw [if_pos rfl]
  · show (((((A.sI l (upd (A.I l) 0 (A.I l 0 + nI 1))).mk 501 l 10).sR l (va_up (A.R l) 1 (some A.z))).sR A.z (va_up (fun _ => none) 0 (some x)))).R A.z k = _
    have : k = 0 := by omega
    rw [sR_s, this, va_up_self]
  · exact ((((gw_sI (X := fun y => y = l) (fun _ => rfl)).tr gw_mk).tr (gw_sR (fun _ => rfl))).tr2 (gw_sR (X := fun y => y = A.z) (fun _ => rfl)) (fun y h1 h2 => absurd h2 (Nat.ne_of_lt h1))).tr (gw_sI (fun _ => rfl))
set_option maxHeartbeats 4000000 in
theorem j_J0_init {g : GZ} {A : HA} {l : Nat} : Ct g wV yJ0_init (.code yJ0_init cJ0_init 1 (Option.none : Option Jvm.ClassFile.FieldType)) 2 0 0 [.ref l] (A) (fun u A' => A' = A) fw_no := by
  refine Ct.of [some (.ref l)] (by decide) rfl rfl fun z C hx hnm E => ?_
  refine r_aload_0 (pc := 0) C dJ0_init_0 ?_
  refine r_objInit (pc := 1) C q226 q199 q200 rfl (Nat.le_of_ble_eq_true rfl) (by decide) dJ0_init_1 ?_
  refine r_vret (pc := 4) C E (Nat.le_refl _) (Nat.le_refl _) dJ0_init_4 ?_
  exact rfl
set_option maxHeartbeats 4000000 in
theorem j_J1_init {g : GZ} {A : HA} {l : Nat} (hg : (A.G l).1 = 13) : Ct g wV yJ1_init (.code yJ1_init cJ1_init 1 (Option.none : Option Jvm.ClassFile.FieldType)) 3 0 0 [.ref l] (A) (fun u A' => A' = A.sI l (upd (A.I l) 0 (nI 0))) fw_no := by
  refine Ct.of [some (.ref l)] (by decide) rfl rfl fun z C hx hnm E => ?_
  refine r_aload_0 (pc := 0) C dJ1_init_0 ?_
  refine r_I0vo (pc := 1) C (j_J0_init) il_J1_1 (by decide) (Nat.le_refl _) (Nat.le_refl _) (Nat.le_of_ble_eq_true rfl) rfl dJ1_init_1 (fun u1 A1 hc1 => ?_)
  refine r_eqA hc1 ?_
  clear hc1 A1 u1
  refine r_aload_0 (pc := 4) C dJ1_init_4 ?_
  refine r_iconst (pc := 5) C dJ1_init_5 ci_0 ?_
  refine r_putI (pc := 6) C fl_J1_7_13 hg rfl (fun _ _ _ h => by cases h; exact Or.inl rfl) rfl rfl rfl dJ1_init_6 ?_
  refine r_vret (pc := 9) C E (Nat.le_refl _) (Nat.le_refl _) dJ1_init_9 ?_
  exact rfl
set_option maxHeartbeats 4000000 in
theorem j_J2_init {g : GZ} {A : HA} {l : Nat} (hg : (A.G l).1 = 13) (hD : DeK g A) : Ct g wV yJ2_init (.code yJ2_init cJ2_init 1 (Option.none : Option Jvm.ClassFile.FieldType)) 4 0 0 [.ref l] (A) (fun u A' => A' = (A.sI l (upd (A.I l) 0 (nI 0))).sR l (va_up (A.R l) 1 (some (g.c 70)))) fw_no := by
  refine Ct.of [some (.ref l)] (by decide) rfl rfl fun z C hx hnm E => ?_
  refine r_aload_0 (pc := 0) C dJ2_init_0 ?_
  refine r_I0vo (pc := 1) C (j_J1_init (by exact hg)) il_J2_1 (by decide) (Nat.le_refl _) (Nat.le_refl _) (Nat.le_of_ble_eq_true rfl) rfl dJ2_init_1 (fun u1 A1 hc1 => ?_)
  refine r_eqA hc1 ?_
  clear hc1 A1 u1
  refine r_aload_0 (pc := 4) C dJ2_init_4 ?_
  refine r_getS (pc := 5) C hD.1 q227 dJ2_init_5 ?_
  refine r_putR (pc := 8) C fl_J2_9_13 hg rfl (fun _ _ _ h => by cases h; exact Or.inl rfl) rfl dJ2_init_8 ?_
  refine r_vret (pc := 11) C E (Nat.le_refl _) (Nat.le_refl _) dJ2_init_11 ?_
  exact rfl
set_option maxHeartbeats 4000000 in
theorem j_J2_grow_2 {g : GZ} {A : HA} {l : Nat} (hL : (A.G l).1 = 13) (hr : A.R l 1 = some (g.c 70)) (hs : A.I l 2 = nI 0) (hD : DeK g A) : Ct g wR yJ2_grow_2 (.code yJ2_grow_2 cJ2_grow_2 4 (Option.some (Jvm.ClassFile.FieldType.array (Jvm.ClassFile.FieldType.object "java/lang/Object")))) 2 1 10 [.ref l, .int (nI (1))] (A) (fun u A' => u = A.z ∧ A' = (A.mk 501 l 10).sR l (va_up (A.R l) 1 (some A.z))) fw_no := by
  refine Ct.of [some (.ref l), some (.int (nI (1))), none, none] (by decide) rfl rfl fun z C hx hnm E => ?_
  refine r_Z fun hZ => ?_
  have hlz9 : l ≤ A.z := Nat.le_of_lt (hZ.lt hL rfl)
  refine r_aload_0 (pc := 0) C dJ2_grow_2_0 ?_
  refine r_getR (pc := 1) C fl_J2_9_13 (by exact hL) rfl (hr) dJ2_grow_2_1 ?_
  refine r_alen (pc := 4) C (t := 5) hD.2.1 rfl rfl dJ2_grow_2_4 ?_
  refine r_top (congrArg nI hD.2.2) ?_
  refine r_istore_2 (pc := 5) C dJ2_grow_2_5 rfl ?_
  refine r_iload_2 (pc := 6) C dJ2_grow_2_6 ?_
  refine r_if_gt (pc := 7) (tgt := 20) C dJ2_grow_2_7 (by decide) (fun b7 => ?_) (fun b7 => ?_)
  · skip
    have b7 := (nI_0lt (by omega)).mp b7
    exact absurd b7 (by omega)
  · skip
    have b7 := (not_congr (nI_0lt (by omega))).mp b7
    refine r_aload_0 (pc := 10) C dJ2_grow_2_10 ?_
    refine r_getR (pc := 11) C fl_J2_9_13 (by exact hL) rfl (hr) dJ2_grow_2_11 ?_
    refine r_getS (pc := 14) C hD.1 q227 dJ2_grow_2_14 ?_
    refine r_acmp_eq (pc := 17) (tgt := 45) C dJ2_grow_2_17 (by decide) (fun b17 => ?_) (fun b17 => absurd rfl b17)
    refine r_aload_0 (pc := 45) C dJ2_grow_2_45 ?_
    refine r_bipush (pc := 46) C dJ2_grow_2_46 cb_10 ?_
    refine r_iload_1 (pc := 48) C dJ2_grow_2_48 ?_
    refine r_max (pc := 49) C q447 rfl (Nat.le_of_ble_eq_true rfl) (by decide) (by omega) (by omega) dJ2_grow_2_49 ?_
    refine r_top (show _ = nI 10 by decide +kernel) ?_
    refine r_newA (pc := 52) (t := 5) C 501 (l) (by omega) rfl rfl q448 q439 rfl (by omega) (by omega) (by omega) dJ2_grow_2_52 ?_
    have hg9 : ((A.mk 501 l 10).G l).1 = 13 := by show (if l = A.z then (501, l) else A.G l).1 = 13; rw [if_neg (Nat.ne_of_lt (hZ.lt hL rfl))]; exact hL
    refine r_dup_x1 (pc := 55) C dJ2_grow_2_55 rfl rfl ?_
    refine r_putR (pc := 56) C fl_J2_9_13 hg9 rfl (fun _ _ _ h => by cases h; exact Or.inl rfl) rfl dJ2_grow_2_56 ?_
    refine r_aret (pc := 59) C E rfl (by omega) (by omega) dJ2_grow_2_59 ?_
    refine ⟨rfl, ?_⟩
    show (A.mk 501 l 10).sR l (va_up ((A.mk 501 l 10).R l) 1 (some A.z)) = _
    rw [mk_R, if_neg (Nat.ne_of_lt (hZ.lt hL rfl))]
set_option maxHeartbeats 4000000 in
theorem j_J2_grow {g : GZ} {A : HA} {l : Nat} (hL : (A.G l).1 = 13) (hr : A.R l 1 = some (g.c 70)) (hs : A.I l 2 = nI 0) (hD : DeK g A) : Ct g wR yJ2_grow (.code yJ2_grow cJ2_grow 1 (Option.some (Jvm.ClassFile.FieldType.array (Jvm.ClassFile.FieldType.object "java/lang/Object")))) 3 1 10 [.ref l] (A) (fun u A' => u = A.z ∧ A' = (A.mk 501 l 10).sR l (va_up (A.R l) 1 (some A.z))) fw_no := by
  refine Ct.of [some (.ref l)] (by decide) rfl rfl fun z C hx hnm E => ?_
  refine r_aload_0 (pc := 0) C dJ2_grow_0 ?_
  refine r_aload_0 (pc := 1) C dJ2_grow_1 ?_
  refine r_getI (pc := 2) C fl_J2_48_13 (by exact hL) rfl dJ2_grow_2 ?_
  refine r_top hs ?_
  refine r_iconst (pc := 5) C dJ2_grow_5 ci_1 ?_
  refine r_iadd (pc := 6) C dJ2_grow_6 ?_
  refine r_top (nI_add _ _) ?_
  refine r_top (show _ = nI 1 by decide +kernel) ?_
  refine r_V1r (pc := 7) C (j_J2_grow_2 (by exact hL) hr hs hD) vl_J2_69 (by exact hL) (by decide) (by omega) (by omega) (Nat.le_of_ble_eq_true rfl) rfl dJ2_grow_7 (fun u1 A1 hc1 => ?_)
  refine r_topR hc1.1 ?_
  refine r_eqA hc1.2 ?_
  clear hc1 A1 u1
  refine r_aret (pc := 10) C E rfl (by omega) (by omega) dJ2_grow_10 ?_
  exact ⟨rfl, rfl⟩
/-- a kind of objects that may stand in an array of objects -/
def OkO (kv : Nat) : Prop := ∃ (Cn : String) (T : u_T) (N : Nat), (decide (1 ≤ kv) && decide (kv < 40)) = true ∧ fw_cl[kv]? = some (Cn, T, N) ∧ Cond.castable Cn "java/lang/Object" ∈ lw_tbl
theorem OkO.lt {A : HA} {x : Nat} (h : OkO (A.G x).1) (hz : Zk A) : x < A.z := by
  obtain ⟨-, -, -, h1, -⟩ := h
  exact hz.lt rfl (by simp only [Bool.and_eq_true, Bool.or_eq_true, decide_eq_true_eq] at h1 ⊢; omega)
section
variable {g : GZ} {z : ZX} {cc : ByteArray} {own : String} {nL d mc ms k n : Nat} {A : HA} {pc : Nat} {lv : List (Option Value)} {st : List Value}
theorem r_aastX (C : CX g z cc own nL d mc ms) {ki a j t v : Nat} {i : Int32} (h1 : (A.G a).1 = ki) (hki : (decide (100 ≤ ki) && decide (ki / 100 = t) && fw_isR (fw_at t) && fw_mut ki) = true) (ht : (fw_tys g)[t]? = some (g.dA t, .object "java/lang/Object")) (hv : OkO (A.G v).1) (hi : i = nI j) (hj : j < A.n a) (hj2 : j < 2147483648) (hd : decode cc pc = .ok (.aastore, 1))
    (kk : wa g z k n (A.sR a (va_up (A.R a) j (some v))) (pc + 1) lv st) : wa g z k n A pc lv (.ref v :: .int i :: .ref a :: st) := by
  obtain ⟨Cn, T, N, q1, q2, q3⟩ := hv
  exact r_aast C h1 hki ht rfl q1 q2 q3 hi hj hj2 hd kk
end
set_option maxHeartbeats 4000000 in
theorem j_J2_add_20 {g : GZ} {A : HA} {l x : Nat} (hg : (A.G l).1 = 13) (hr : A.R l 1 = some (g.c 70)) (hs : A.I l 2 = nI 0) (hD : DeK g A) (hx9 : OkO (A.G x).1) : Ct g wV yJ2_add_2 (.code yJ2_add_2 cJ2_add_2 4 (Option.none : Option Jvm.ClassFile.FieldType)) 4 1 10 [.ref l, .ref x, .ref (g.c 70), .int (nI (0))] (A) (fun u A' => A' = (((A.mk 501 l 10).sR l (va_up (A.R l) 1 (some A.z))).sR A.z (va_up (fun _ => none) 0 (some x))).sI l (upd (A.I l) 2 (nI 1))) fw_no := by
  refine Ct.of [some (.ref l), some (.ref x), some (.ref (g.c 70)), some (.int (nI (0)))] (by decide) rfl rfl fun z C hx hnm E => ?_
  refine r_Z fun hZ => ?_
  have hlz := hZ.lt hg rfl
  have hne : l ≠ A.z := Nat.ne_of_lt hlz
  have hxz : x ≠ A.z := Nat.ne_of_lt (hx9.lt hZ)
  refine r_iload_3 (pc := 0) C dJ2_add_2_0 ?_
  refine r_aload_2 (pc := 1) C dJ2_add_2_1 ?_
  refine r_alen (pc := 2) C (t := 5) hD.2.1 rfl rfl dJ2_add_2_2 ?_
  refine r_top (congrArg nI hD.2.2) ?_
  refine r_icmp_ne (pc := 3) (tgt := 11) C dJ2_add_2_3 (by decide) (fun b3 => ?_) (fun b3 => ?_)
  · skip
    have b3 := (not_congr (nI_eqI (by omega) (by omega))).mp b3
    exact absurd rfl b3
  · skip
    have b3 := (nI_eqI (by omega) (by omega)).mp b3
    refine r_aload_0 (pc := 6) C dJ2_add_2_6 ?_
    refine r_V0r (pc := 7) C (j_J2_grow hg hr hs hD) vl_J2_129 hg (by decide) (by omega) (by omega) (Nat.le_of_ble_eq_true rfl) rfl dJ2_add_2_7 (fun u1 A1 hc1 => ?_)
    refine r_topR hc1.1 ?_
    refine r_eqA hc1.2 ?_
    clear hc1 A1 u1
    have gz9 : (((A.mk 501 l 10).sR l (va_up (A.R l) 1 (some A.z))).G A.z).1 = 501 := congrArg Prod.fst (if_pos rfl)
    have nz9 : 0 < ((A.mk 501 l 10).sR l (va_up (A.R l) 1 (some A.z))).n A.z := by show 0 < (if A.z = A.z then 10 else A.n A.z); rw [if_pos rfl]; omega
    have ox9 : OkO (((A.mk 501 l 10).sR l (va_up (A.R l) 1 (some A.z))).G x).1 := by show OkO (if x = A.z then (501, l) else A.G x).1; rw [if_neg hxz]; exact hx9
    have hg9 : (((A.mk 501 l 10).sR l (va_up (A.R l) 1 (some A.z))).G l).1 = 13 := by show (if l = A.z then (501, l) else A.G l).1 = 13; rw [if_neg hne]; exact hg
    refine r_astore_2 (pc := 10) C dJ2_add_2_10 rfl ?_
    refine r_aload_2 (pc := 11) C dJ2_add_2_11 ?_
    refine r_iload_3 (pc := 12) C dJ2_add_2_12 ?_
    refine r_aload_1 (pc := 13) C dJ2_add_2_13 ?_
    refine r_aastX (pc := 14) C (t := 5) gz9 rfl rfl ox9 rfl nz9 (by omega) dJ2_add_2_14 ?_
    refine r_eqA (congrArg (fun r => HA.sR _ A.z (va_up r 0 (some x))) (show ((A.mk 501 l 10).sR l (va_up (A.R l) 1 (some A.z))).R A.z = fun _ => none from (sR_o _ _ (Ne.symm hne)).trans (if_pos rfl))) ?_
    refine r_aload_0 (pc := 15) C dJ2_add_2_15 ?_
    refine r_iload_3 (pc := 16) C dJ2_add_2_16 ?_
    refine r_iconst (pc := 17) C dJ2_add_2_17 ci_1 ?_
    refine r_iadd (pc := 18) C dJ2_add_2_18 ?_
    refine r_top (nI_add _ _) ?_
    refine r_putI (pc := 19) C fl_J2_48_13 (by exact hg9) rfl (fun _ _ _ h => by cases h; exact Or.inl rfl) rfl rfl rfl dJ2_add_2_19 ?_
    refine r_eqA (congrArg (fun r => HA.sI _ l (upd r 2 _)) (show ((A.mk 501 l 10).sR l (va_up (A.R l) 1 (some A.z))).I l = A.I l from if_neg hne)) ?_
    refine r_vret (pc := 22) C E (by omega) (by omega) dJ2_add_2_22 ?_
    exact rfl
set_option maxHeartbeats 4000000 in
theorem j_J2_add_2S {g : GZ} {A : HA} {l e m x : Nat} (hg : (A.G l).1 = 13) (hs : A.I l 2 = nI m) (he : A.G e = (501, l)) (hn : A.n e = 10) (h1 : 1 ≤ m) (h9 : m < 10) (hx9 : OkO (A.G x).1) : Ct g wV yJ2_add_2 (.code yJ2_add_2 cJ2_add_2 4 (Option.none : Option Jvm.ClassFile.FieldType)) 4 0 0 [.ref l, .ref x, .ref e, .int (nI (m))] (A) (fun u A' => A' = (A.sR e (va_up (A.R e) m (some x))).sI l (upd (A.I l) 2 (nI (m + 1)))) fw_no := by
  refine Ct.of [some (.ref l), some (.ref x), some (.ref e), some (.int (nI (m)))] (by decide) rfl rfl fun z C hx hnm E => ?_
  have he5 : (A.G e).1 = 501 := congrArg Prod.fst he
  refine r_iload_3 (pc := 0) C dJ2_add_2_0 ?_
  refine r_aload_2 (pc := 1) C dJ2_add_2_1 ?_
  refine r_alen (pc := 2) C (t := 5) he5 rfl rfl dJ2_add_2_2 ?_
  refine r_top (congrArg nI hn) ?_
  refine r_icmp_ne (pc := 3) (tgt := 11) C dJ2_add_2_3 (by decide) (fun b3 => ?_) (fun b3 => ?_)
  · skip
    have b3 := (not_congr (nI_eqI (by omega) (by omega))).mp b3
    refine r_aload_2 (pc := 11) C dJ2_add_2_11 ?_
    refine r_iload_3 (pc := 12) C dJ2_add_2_12 ?_
    refine r_aload_1 (pc := 13) C dJ2_add_2_13 ?_
    refine r_aastX (pc := 14) C (t := 5) he5 rfl rfl hx9 rfl (by omega) (by omega) dJ2_add_2_14 ?_
    refine r_aload_0 (pc := 15) C dJ2_add_2_15 ?_
    refine r_iload_3 (pc := 16) C dJ2_add_2_16 ?_
    refine r_iconst (pc := 17) C dJ2_add_2_17 ci_1 ?_
    refine r_iadd (pc := 18) C dJ2_add_2_18 ?_
    refine r_top (nI_add _ _) ?_
    refine r_putI (pc := 19) C fl_J2_48_13 (by exact hg) rfl (fun _ _ _ h => by cases h; exact Or.inl rfl) rfl rfl rfl dJ2_add_2_19 ?_
    refine r_vret (pc := 22) C E (Nat.le_refl _) (Nat.le_refl _) dJ2_add_2_22 ?_
    exact rfl
  · skip
    have b3 := (nI_eqI (by omega) (by omega)).mp b3
    exact absurd b3 (by omega)
set_option maxHeartbeats 4000000 in
theorem j_J2_add0 {g : GZ} {A : HA} {l x : Nat} {f : Nat → Nat} (hL : Ll g A l (g.c 70) 0 f) (hD : DeK g A) (hx9 : OkO (A.G x).1) : Ct g wI yJ2_add (.code yJ2_add cJ2_add 2 (Option.some Jvm.ClassFile.FieldType.boolean)) 5 1 10 [.ref l, .ref x] (A) (fun u A' => u = nI 1 ∧ A' = lA0 A l x) fw_no := by
  refine Ct.of [some (.ref l), some (.ref x)] (by decide) rfl rfl fun z C hx hnm E => ?_
  refine r_aload_0 (pc := 0) C dJ2_add_0 ?_
  refine r_dup (pc := 1) C dJ2_add_1 rfl ?_
  refine r_sgetI (pc := 2) C fs_J2_63 (by exact hL.1) rfl dJ2_add_2 ?_
  refine r_top rfl ?_
  refine r_iconst (pc := 5) C dJ2_add_5 ci_1 ?_
  refine r_iadd (pc := 6) C dJ2_add_6 ?_
  refine r_sputI (pc := 7) C fs_J2_63 (by exact hL.1) rfl (fun _ _ _ h => by cases h; rfl) rfl rfl rfl dJ2_add_7 ?_
  refine r_aload_0 (pc := 10) C dJ2_add_10 ?_
  refine r_aload_1 (pc := 11) C dJ2_add_11 ?_
  refine r_aload_0 (pc := 12) C dJ2_add_12 ?_
  refine r_getR (pc := 13) C fl_J2_9_13 (by exact hL.1) rfl (by exact hL.2.1) dJ2_add_13 ?_
  refine r_aload_0 (pc := 16) C dJ2_add_16 ?_
  refine r_getI (pc := 17) C fl_J2_48_13 (by exact hL.1) rfl dJ2_add_17 ?_
  refine r_top ((congrFun (sI_s _ _ _) 2).trans ((pk_un (by decide)).trans hL.2.2.1)) ?_
  refine r_V3v (pc := 20) C (j_J2_add_20 (by exact hL.1) (by exact hL.2.1) ((congrFun (sI_s _ _ _) 2).trans ((pk_un (by decide)).trans hL.2.2.1)) (by exact hD) (by exact hx9)) vl_J2_131 (by exact hL.1) (by decide) (by omega) (by omega) (Nat.le_of_ble_eq_true rfl) rfl dJ2_add_20 (fun u1 A1 hc1 => ?_)
  refine r_eqA hc1 ?_
  clear hc1 A1 u1
  refine r_eqA (show _ = lA0 A l x by unfold lA0; rw [sI_s]; rfl) ?_
  refine r_iconst (pc := 23) C dJ2_add_23 ci_1 ?_
  refine r_iret (pc := 24) C E nar_1 (by omega) (by omega) dJ2_add_24 ?_
  exact ⟨rfl, rfl⟩
set_option maxHeartbeats 4000000 in
theorem j_J2_addS {g : GZ} {A : HA} {l e m x : Nat} {f : Nat → Nat} (hL : Ll g A l e m f) (h1 : 1 ≤ m) (h9 : m < 10) (hx9 : OkO (A.G x).1) : Ct g wI yJ2_add (.code yJ2_add cJ2_add 2 (Option.some Jvm.ClassFile.FieldType.boolean)) 5 0 0 [.ref l, .ref x] (A) (fun u A' => u = nI 1 ∧ A' = (lA1 A l m).sR e (va_up (A.R e) m (some x))) fw_no := by
  refine Ct.of [some (.ref l), some (.ref x)] (by decide) rfl rfl fun z C hx hnm E => ?_
  obtain ⟨he, hn⟩ := hL.2.2.2.1.resolve_left (fun q => by omega)
  refine r_aload_0 (pc := 0) C dJ2_add_0 ?_
  refine r_dup (pc := 1) C dJ2_add_1 rfl ?_
  refine r_sgetI (pc := 2) C fs_J2_63 (by exact hL.1) rfl dJ2_add_2 ?_
  refine r_top rfl ?_
  refine r_iconst (pc := 5) C dJ2_add_5 ci_1 ?_
  refine r_iadd (pc := 6) C dJ2_add_6 ?_
  refine r_sputI (pc := 7) C fs_J2_63 (by exact hL.1) rfl (fun _ _ _ h => by cases h; rfl) rfl rfl rfl dJ2_add_7 ?_
  refine r_aload_0 (pc := 10) C dJ2_add_10 ?_
  refine r_aload_1 (pc := 11) C dJ2_add_11 ?_
  refine r_aload_0 (pc := 12) C dJ2_add_12 ?_
  refine r_getR (pc := 13) C fl_J2_9_13 (by exact hL.1) rfl (by exact hL.2.1) dJ2_add_13 ?_
  refine r_aload_0 (pc := 16) C dJ2_add_16 ?_
  refine r_getI (pc := 17) C fl_J2_48_13 (by exact hL.1) rfl dJ2_add_17 ?_
  refine r_top ((congrFun (sI_s _ _ _) 2).trans ((pk_un (by decide)).trans hL.2.2.1)) ?_
  refine r_V3vo (pc := 20) C (j_J2_add_2S (by exact hL.1) ((congrFun (sI_s _ _ _) 2).trans ((pk_un (by decide)).trans hL.2.2.1)) (by exact he) (by exact hn) h1 h9 (by exact hx9)) vl_J2_131 (by exact hL.1) (by decide) (Nat.le_refl _) (Nat.le_refl _) (Nat.le_of_ble_eq_true rfl) rfl dJ2_add_20 (fun u1 A1 hc1 => ?_)
  refine r_eqA hc1 ?_
  clear hc1 A1 u1
  refine r_eqA (show _ = (lA1 A l m).sR e (va_up (A.R e) m (some x)) from congrArg (fun B => HA.sR B e (va_up (A.R e) m (some x))) (show (A.sI l (upd (A.I l) 0 (A.I l 0 + nI 1))).sI l (upd ((A.sI l (upd (A.I l) 0 (A.I l 0 + nI 1))).I l) 2 (nI (m + 1))) = lA1 A l m by rw [sI_sI, sI_s]; rfl)) ?_
  refine r_iconst (pc := 23) C dJ2_add_23 ci_1 ?_
  refine r_iret (pc := 24) C E nar_1 (Nat.le_refl _) (Nat.le_refl _) dJ2_add_24 ?_
  exact ⟨rfl, rfl⟩
set_option maxHeartbeats 4000000 in
theorem j_X3_add0 {g : GZ} {A : HA} {r l x : Nat} {f : Nat → Nat} (hr : (A.G r).1 = 3) (h0 : A.R r 0 = some l) (hL : Ll g A l (g.c 70) 0 f) (hD : DeK g A) (hx9 : OkO (A.G x).1) : Ct g wV yX3_add (.code yX3_add cX3_add 2 (Option.none : Option Jvm.ClassFile.FieldType)) 6 1 10 [.ref r, .ref x] (A) (fun u A' => A' = lA0 A l x) fw_no := by
  refine Ct.of [some (.ref r), some (.ref x)] (by decide) rfl rfl fun z C hx hnm E => ?_
  refine r_aload_0 (pc := 0) C dX3_add_0 ?_
  refine r_getR (pc := 1) C fl_X3_12_3 hr rfl h0 dX3_add_1 ?_
  refine r_aload_1 (pc := 4) C dX3_add_4 ?_
  refine r_F1i (pc := 5) C (j_J2_add0 hL hD hx9) fi_X3_30_13 hL.1 (by decide) (by omega) (by omega) (Nat.le_of_ble_eq_true rfl) rfl dX3_add_5 (fun u1 A1 hc1 => ?_)
  refine r_top hc1.1 ?_
  refine r_eqA hc1.2 ?_
  clear hc1 A1 u1
  refine r_pop (pc := 10) C dX3_add_10 rfl ?_
  refine r_vret (pc := 11) C E (by omega) (by omega) dX3_add_11 ?_
  exact rfl
set_option maxHeartbeats 4000000 in
theorem j_X3_addS {g : GZ} {A : HA} {r l e m x : Nat} {f : Nat → Nat} (hr : (A.G r).1 = 3) (h0 : A.R r 0 = some l) (hL : Ll g A l e m f) (h1 : 1 ≤ m) (h9 : m < 10) (hx9 : OkO (A.G x).1) : Ct g wV yX3_add (.code yX3_add cX3_add 2 (Option.none : Option Jvm.ClassFile.FieldType)) 6 0 0 [.ref r, .ref x] (A) (fun u A' => A' = (lA1 A l m).sR e (va_up (A.R e) m (some x))) fw_no := by
  refine Ct.of [some (.ref r), some (.ref x)] (by decide) rfl rfl fun z C hx hnm E => ?_
  refine r_aload_0 (pc := 0) C dX3_add_0 ?_
  refine r_getR (pc := 1) C fl_X3_12_3 hr rfl h0 dX3_add_1 ?_
  refine r_aload_1 (pc := 4) C dX3_add_4 ?_
  refine r_F1io (pc := 5) C (j_J2_addS hL h1 h9 hx9) fi_X3_30_13 hL.1 (by decide) (Nat.le_refl _) (Nat.le_refl _) (Nat.le_of_ble_eq_true rfl) rfl dX3_add_5 (fun u1 A1 hc1 => ?_)
  refine r_top hc1.1 ?_
  refine r_eqA hc1.2 ?_
  clear hc1 A1 u1
  refine r_pop (pc := 10) C dX3_add_10 rfl ?_
  refine r_vret (pc := 11) C E (Nat.le_refl _) (Nat.le_refl _) dX3_add_11 ?_
  exact rfl
