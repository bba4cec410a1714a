/-! THE COMPONENT, 11: the past, what is saved, the buffer -/
set_option maxRecDepth 100000
def pastF (f : Nat → Nat) (m x : Nat) : Nat → Nat := if m = 8 then lower (fun i => f (i + 1)) 7 x else lower f m x
theorem bec_fin {A B D : HA} {c q e h h1 m m1 l : Nat} {f f1 : Nat → Nat} (hz : Zk A) (hzD : Zk D) (hc : (A.G c).1 = 1) (hs : DqV A q e h m f) (hG1 : Gw A B (fun y => y = q ∨ y = e)) (hG2 : Gw B D (fun y => y = q ∨ y = e)) (hs2 : DqV D q e h1 m1 f1) (hzz : D.z = A.z) :
    (D.sR c (va_up (D.R c) 0 (some l))).R c = va_up (A.R c) 0 (some l) ∧ (D.sR c (va_up (D.R c) 0 (some l))).I c = A.I c ∧ DqV (D.sR c (va_up (D.R c) 0 (some l))) q e h1 m1 f1 ∧ Gw A (D.sR c (va_up (D.R c) 0 (some l))) (fun y => y = c ∨ y = q ∨ y = e) ∧ (D.sR c (va_up (D.R c) 0 (some l))).z = A.z := by
  have lc := hz.lt hc rfl
  have n1 : c ≠ q := fun z => by have h9 := hs.g; rw [← z, hc] at h9; cases h9
  have n2 : c ≠ e := fun z => by have h9 := hs.k; rw [← z, hc] at h9; cases h9
  have hG := hG1.tr hG2
  have e1 := (hG.2 c lc).2.2 (fun z => z.elim n1 n2)
  refine ⟨by rw [sR_s, e1.2.2], e1.2.1, hs2.gw hzD (gw_sR (X := fun y => y = c) (fun _ => rfl)) (Ne.symm n1) (Ne.symm n2), (hG.mono (fun _ _ z => Or.inr z)).tr (gw_sR (fun _ => Or.inl rfl)), hzz⟩
/-- signed bytes of the bytes φ -/
def relB (ψ φ : Nat → Int32) (L : Nat) : Prop := ∀ k, k < L → ψ k = (φ k).toInt8.toInt32
theorem byte_and (x : Int32) : (x &&& nI 255).toInt8.toInt32 = x.toInt8.toInt32 := by
  have e : (nI 255).toInt8 = -1 := by decide +kernel
  have e2 : (x &&& nI 255).toInt8 = x.toInt8 := by
    rw [Int32.toInt8_and, e]
    simp
  rw [e2]
def fourC (f : Rw) (L : Nat) (v : Int32) : Rw := upd (upd (upd (upd f L (v >>> (nI 24 &&& 31)).toInt8.toInt32) (L + 1) (v >>> (nI 16 &&& 31)).toInt8.toInt32) (L + 1 + 1) (v >>> (nI 8 &&& 31)).toInt8.toInt32) (L + 1 + 1 + 1) (v >>> (nI 0 &&& 31)).toInt8.toInt32
theorem rel_up {ψ φ : Nat → Int32} {L : Nat} {x : Int32} (h : relB ψ φ L) : relB (upd ψ L x.toInt8.toInt32) (upd φ L (x &&& nI 255)) (L + 1) := fun k hk => by
  by_cases q : k = L
  · subst q; rw [pk_us, pk_us, byte_and]
  · rw [pk_un q, pk_un q]; exact h k (by omega)
theorem four_rel {ψ φ : Nat → Int32} {L : Nat} {v : Int32} (h : relB ψ φ L) : relB (fourC ψ L v) (fourB φ L v) (L + 1 + 1 + 1 + 1) := rel_up (rel_up (rel_up (rel_up h)))
def fivC (f : Rw) (L : Nat) (va vb vc vd ve : Int32) : Rw := fourC (fourC (fourC (fourC (fourC f L va) (L + 1 + 1 + 1 + 1) vb) (L + 1 + 1 + 1 + 1 + 1 + 1 + 1 + 1) vc) (L + 1 + 1 + 1 + 1 + 1 + 1 + 1 + 1 + 1 + 1 + 1 + 1) vd) (L + 1 + 1 + 1 + 1 + 1 + 1 + 1 + 1 + 1 + 1 + 1 + 1 + 1 + 1 + 1 + 1) ve
theorem fiv_rel {ψ φ : Nat → Int32} {L : Nat} {va vb vc vd ve : Int32} (h : relB ψ φ L) : relB (fivC ψ L va vb vc vd ve) (fivB φ L va vb vc vd ve) (L + 20) := four_rel (four_rel (four_rel (four_rel (four_rel h))))
/-- the component's heap by its buffer and how long it is -/
def BH (A : HA) (c bf L : Nat) (ψ : Rw) : HA := (A.sI bf ψ).sI c (upd (A.I c) 4 (nI L))
section
variable {A : HA} {c bf L : Nat} {ψ : Rw}
theorem BH_len : (BH A c bf L ψ).I c 4 = nI L := by unfold BH; rw [sI_s, pk_us]
theorem BH_bf (h : bf ≠ c) : (BH A c bf L ψ).I bf = ψ := by unfold BH; rw [sI_o _ _ h, sI_s]
theorem BH_x {x : Nat} (h1 : x ≠ bf) (h2 : x ≠ c) : (BH A c bf L ψ).I x = A.I x := by unfold BH; rw [sI_o _ _ h2, sI_o _ _ h1]
theorem BH_self (hL : A.I c 4 = nI L) : A = BH A c bf L (A.I bf) := by
  unfold BH
  rw [sI_self, ← hL]
  have e : upd (A.I c) 4 (A.I c 4) = A.I c := by
    funext j
    by_cases q : j = 4
    · subst q; rw [pk_us]
    · rw [pk_un q]
  rw [e, sI_self]
theorem BH_b (h : bf ≠ c) (j : Nat) (x : Int32) : (BH A c bf L ψ).sI bf (upd ((BH A c bf L ψ).I bf) j x) = BH A c bf L (upd ψ j x) := by
  rw [BH_bf h]
  unfold BH
  rw [sI_comm _ _ _ (Ne.symm h), sI_sI]
theorem BH_l (M : Nat) : (BH A c bf L ψ).sI c (upd ((BH A c bf L ψ).I c) 4 (nI M)) = BH A c bf M ψ := by
  unfold BH
  rw [sI_s, sI_sI]
  congr 1
  funext j
  by_cases q : j = 4
  · subst q; rw [pk_us, pk_us]
  · rw [pk_un q, pk_un q, pk_un q]
end
theorem r_genA {g : GZ} {z : ZX} {k n pc : Nat} {A : HA} {lv : List (Option Value)} {st : List Value} (kk : ∀ B, B = A → wa g z k n B pc lv st) : wa g z k n A pc lv st := kk A rfl
theorem nar_i2b (x : Int32) : narrow .byte (.int x.toInt8.toInt32) = .int x.toInt8.toInt32 := by
  show Value.int (x.toInt8.toInt32).toInt8.toInt32 = _
  simp
theorem t_long {n : Nat} (h : n < 1000000) : (nI n).toInt64.toInt = (n : Int) := by
  rw [Int32.toInt_toInt64, t_nI (by omega)]
set_option maxHeartbeats 4000000 in
theorem c_becomes {g : GZ} {A : HA} {c a : Nat} {d : Nat → Nat} {σ : Rw} (hc : (A.G c).1 = 1) (hn : A.R c 0 = some a) (hL : Ly A a d σ) (hv : Lv A.I a d σ) (hJ : RowJ σ) {q e h m : Nat} {f : Nat → Nat} (hp : A.R c 2 = some q) (hs : DqV A q e h m f) (h8 : m ≤ 8) (hfk : ∀ i, i < m → (A.G (f i)).1 = 2) {l : Nat} {v : Int32} : Ct g wI yX1_becomes (.code yX1_becomes cX1_becomes 4 (Option.some Jvm.ClassFile.FieldType.int)) 4 0 0 [.ref c, .ref l, .int v] (A) (fun u A' => u = v ∧ A'.R c = va_up (A.R c) 0 (some l) ∧ A'.I c = A.I c ∧ (∃ h', DqV A' q e h' (pastM m) (pastF f m a)) ∧ Gw A A' (fun y => y = c ∨ y = q ∨ y = e) ∧ A'.z = A.z) fw_no := by
  refine Ct.of [some (.ref c), some (.ref l), some (.int v), none] (by decide) rfl rfl fun z C hx hnm E => ?_
  have hW := hJ.w
  have hS := hW.s
  have hw3 := hS.w3
  have hw10 := hS.w10
  have hh8 := hS.h8
  have hc80 := hS.c80
  have k6 := hW.k6
  have g6 := hW.g6
  have hC : ∀ c, c < 80 → CelF σ c := fun c hc => (hJ.c hc).fe
  have d9 := hW.d9
  refine r_Z fun hZ => ?_
  have hlt := hs.lt hZ
  have lc := hZ.lt hc rfl
  have n1 : c ≠ q := fun z => by have h9 := hs.g; rw [← z, hc] at h9; cases h9
  have n2 : c ≠ e := fun z => by have h9 := hs.k; rw [← z, hc] at h9; cases h9
  have la := hZ.lt (ly_g hL) rfl
  have na1 : a ≠ q := fun z => by have h9 := hs.g; rw [← z, ly_g hL] at h9; cases h9
  have na2 : a ≠ e := fun z => by have h9 := hs.k; rw [← z, ly_g hL] at h9; cases h9
  refine r_aload_0 (pc := 0) C dX1_becomes_0 ?_
  refine r_getR (pc := 1) C fl_X1_31_1 (by exact hc) rfl (by exact hp) dX1_becomes_1 ?_
  refine r_V0io (pc := 4) C (j_J7_size hs) vl_X1_92 hs.g (by decide) (by omega) (by omega) (Nat.le_of_ble_eq_true rfl) rfl dX1_becomes_4 (fun u1 A1 hc1 => ?_)
  refine r_top hc1.1 ?_
  refine r_eqA hc1.2 ?_
  clear hc1 A1 u1
  refine r_bipush (pc := 7) C dX1_becomes_7 cb_8 ?_
  refine r_icmp_ne (pc := 9) (tgt := 23) C dX1_becomes_9 (by decide) (fun b9 => ?_) (fun b9 => ?_)
  · skip
    have b9 := (not_congr (nI_eqI (by omega) (by omega))).mp b9
    have hs1 := hs
    have hG1 : Gw A A (fun y => y = q ∨ y = e) := Gw.rf
    have hz1 : A.z = A.z := rfl
    have hcB := hc
    have hnB := hn
    have hpB := hp
    have hokB : OkO (A.G a).1 := by rw [ly_g hL]; exact OkO2
    have hm1 := h8
    refine r_aload_0 (pc := 23) C dX1_becomes_23 ?_
    refine r_getR (pc := 24) C fl_X1_31_1 (by exact hc) rfl (by exact hp) dX1_becomes_24 ?_
    refine r_aload_0 (pc := 27) C dX1_becomes_27 ?_
    refine r_getR (pc := 28) C fl_X1_24_1 (by exact hc) rfl (by exact hn) dX1_becomes_28 ?_
    refine r_V1vo (pc := 31) C (j_J7_addLast hs1 (x := a) hokB hm1) vl_X1_100 hs.g (by decide) (by omega) (by omega) (Nat.le_of_ble_eq_true rfl) rfl dX1_becomes_31 (fun u2 A2 hc2 => ?_)
    obtain ⟨hs2, hG2, hz2⟩ := hc2
    generalize A2 = D at hs2 hG2 hz2 ⊢
    refine r_Z fun hZD => ?_
    have hcD : (D.G c).1 = 1 := by rw [((hG1.tr hG2).2 c lc).1]; exact hc
    refine r_aload_0 (pc := 34) C dX1_becomes_34 ?_
    refine r_aload_1 (pc := 35) C dX1_becomes_35 ?_
    refine r_putR (pc := 36) C fl_X1_24_1 (by exact hcD) rfl (fun _ _ _ h => by cases h; exact Or.inl rfl) rfl dX1_becomes_36 ?_
    refine r_iload_2 (pc := 39) C dX1_becomes_39 ?_
    refine r_iret (pc := 40) C E rfl (by omega) (by omega) dX1_becomes_40 ?_
    have hq := bec_fin (l := l) hZ hZD hc hs hG1 hG2 hs2 (hz2.trans hz1)
    refine ⟨rfl, hq.1, hq.2.1, ?_, hq.2.2.2⟩
    unfold pastM pastF
    first
      | (rw [if_neg b9, if_neg b9]; exact ⟨_, hq.2.2.1⟩)
      | (subst b9; rw [if_pos rfl, if_pos rfl]; exact ⟨_, hq.2.2.1⟩)
  · skip
    have b9 := (nI_eqI (by omega) (by omega)).mp b9
    refine r_aload_0 (pc := 12) C dX1_becomes_12 ?_
    refine r_getR (pc := 13) C fl_X1_31_1 (by exact hc) rfl (by exact hp) dX1_becomes_13 ?_
    refine r_V0ro (pc := 16) C (j_J7_removeFirst hs (by omega)) vl_X1_96 hs.g (by decide) (by omega) (by omega) (Nat.le_of_ble_eq_true rfl) rfl dX1_becomes_16 (fun u3 A3 hc3 => ?_)
    obtain ⟨eu3, hs1, hG1, hz1⟩ := hc3
    refine r_topR eu3 ?_
    clear eu3 u3
    generalize A3 = B at hs1 hG1 hz1 ⊢
    have hcB : (B.G c).1 = 1 := by rw [(hG1.2 c lc).1]; exact hc
    have e9 := (hG1.2 c lc).2.2 (fun z => z.elim n1 n2)
    have hnB : B.R c 0 = some a := by rw [e9.2.2]; exact hn
    have hpB : B.R c 2 = some q := by rw [e9.2.2]; exact hp
    have hokB : OkO (B.G a).1 := by rw [(hG1.2 a la).1, ly_g hL]; exact OkO2
    have hf0 : (B.G (f 0)).1 = 2 := by have h9 := hfk 0 (by omega); rw [(hG1.2 _ (hZ.lt h9 rfl)).1]; exact h9
    have hm1 : m - 1 ≤ 8 := by omega
    refine r_castS (pc := 19) C q204 hf0 rfl rfl dX1_becomes_19 ?_
    refine r_astore_3 (pc := 22) C dX1_becomes_22 rfl ?_
    refine r_aload_0 (pc := 23) C dX1_becomes_23 ?_
    refine r_getR (pc := 24) C fl_X1_31_1 (by exact hcB) rfl (by exact hpB) dX1_becomes_24 ?_
    refine r_aload_0 (pc := 27) C dX1_becomes_27 ?_
    refine r_getR (pc := 28) C fl_X1_24_1 (by exact hcB) rfl (by exact hnB) dX1_becomes_28 ?_
    refine r_V1vo (pc := 31) C (j_J7_addLast hs1 (x := a) hokB hm1) vl_X1_100 hs1.g (by decide) (by omega) (by omega) (Nat.le_of_ble_eq_true rfl) rfl dX1_becomes_31 (fun u4 A4 hc4 => ?_)
    obtain ⟨hs2, hG2, hz2⟩ := hc4
    generalize A4 = D at hs2 hG2 hz2 ⊢
    refine r_Z fun hZD => ?_
    have hcD : (D.G c).1 = 1 := by rw [((hG1.tr hG2).2 c lc).1]; exact hc
    refine r_aload_0 (pc := 34) C dX1_becomes_34 ?_
    refine r_aload_1 (pc := 35) C dX1_becomes_35 ?_
    refine r_putR (pc := 36) C fl_X1_24_1 (by exact hcD) rfl (fun _ _ _ h => by cases h; exact Or.inl rfl) rfl dX1_becomes_36 ?_
    refine r_iload_2 (pc := 39) C dX1_becomes_39 ?_
    refine r_iret (pc := 40) C E rfl (by omega) (by omega) dX1_becomes_40 ?_
    have hq := bec_fin (l := l) hZ hZD hc hs hG1 hG2 hs2 (hz2.trans hz1)
    refine ⟨rfl, hq.1, hq.2.1, ?_, hq.2.2.2⟩
    unfold pastM pastF
    first
      | (rw [if_neg b9, if_neg b9]; exact ⟨_, hq.2.2.1⟩)
      | (subst b9; rw [if_pos rfl, if_pos rfl]; exact ⟨_, hq.2.2.1⟩)
set_option maxHeartbeats 4000000 in
theorem c_undo {g : GZ} {A : HA} {c a : Nat} {d : Nat → Nat} {σ : Rw} (hc : (A.G c).1 = 1) (hn : A.R c 0 = some a) (hL : Ly A a d σ) (hv : Lv A.I a d σ) (hJ : RowJ σ) {q e h m : Nat} {f : Nat → Nat} (hp : A.R c 2 = some q) (hs : DqV A q e h m f) (hfk : ∀ i, i < m → (A.G (f i)).1 = 2) : Ct g wI yX1_undo (.code yX1_undo cX1_undo 1 (Option.some Jvm.ClassFile.FieldType.int)) 4 0 0 [.ref c] (A) (fun u A' => (m = 0 → u = -1 ∧ A' = A) ∧ (0 < m → u = nI (m - 1) ∧ A'.R c = va_up (A.R c) 0 (some (f (m - 1))) ∧ A'.I c = A.I c ∧ DqV A' q e h (m - 1) f ∧ Gw A A' (fun y => y = c ∨ y = q ∨ y = e) ∧ A'.z = A.z)) fw_no := by
  refine Ct.of [some (.ref c)] (by decide) rfl rfl fun z C hx hnm E => ?_
  have hW := hJ.w
  have hS := hW.s
  have hw3 := hS.w3
  have hw10 := hS.w10
  have hh8 := hS.h8
  have hc80 := hS.c80
  have k6 := hW.k6
  have g6 := hW.g6
  have hC : ∀ c, c < 80 → CelF σ c := fun c hc => (hJ.c hc).fe
  have d9 := hW.d9
  refine r_Z fun hZ => ?_
  have lc := hZ.lt hc rfl
  have h9 := hs.m9
  have n1 : c ≠ q := fun z => by have h9 := hs.g; rw [← z, hc] at h9; cases h9
  have n2 : c ≠ e := fun z => by have h9 := hs.k; rw [← z, hc] at h9; cases h9
  refine r_aload_0 (pc := 0) C dX1_undo_0 ?_
  refine r_getR (pc := 1) C fl_X1_31_1 (by exact hc) rfl (by exact hp) dX1_undo_1 ?_
  refine r_V0io (pc := 4) C (j_J7_isEmpty hs) vl_X1_483 hs.g (by decide) (by omega) (by omega) (Nat.le_of_ble_eq_true rfl) rfl dX1_undo_4 (fun u1 A1 hc1 => ?_)
  refine r_top hc1.1 ?_
  refine r_eqA hc1.2 ?_
  clear hc1 A1 u1
  refine r_if_eq (pc := 7) (tgt := 12) C dX1_undo_7 (by decide) (fun b7 => ?_) (fun b7 => ?_)
  · skip
    have b7 := bI_0.mp b7
    refine r_aload_0 (pc := 12) C dX1_undo_12 ?_
    refine r_aload_0 (pc := 13) C dX1_undo_13 ?_
    refine r_getR (pc := 14) C fl_X1_31_1 (by exact hc) rfl (by exact hp) dX1_undo_14 ?_
    refine r_V0ro (pc := 17) C (j_J7_removeLast hs (by omega)) vl_X1_486 hs.g (by decide) (by omega) (by omega) (Nat.le_of_ble_eq_true rfl) rfl dX1_undo_17 (fun u2 A2 hc2 => ?_)
    obtain ⟨eu2, hs1, hG1, hz1⟩ := hc2
    refine r_topR eu2 ?_
    clear eu2 u2
    generalize A2 = B at hs1 hG1 hz1 ⊢
    refine r_Z fun hZB => ?_
    have hcB : (B.G c).1 = 1 := by rw [(hG1.2 c lc).1]; exact hc
    have hf0 : (B.G (f (m - 1))).1 = 2 := by have h9 := hfk (m - 1) (by omega); rw [(hG1.2 _ (hZ.lt h9 rfl)).1]; exact h9
    refine r_castS (pc := 20) C q204 hf0 rfl rfl dX1_undo_20 ?_
    refine r_putR (pc := 23) C fl_X1_24_1 (by exact hcB) rfl (fun _ _ _ h => by cases h; exact Or.inl rfl) rfl dX1_undo_23 ?_
    have hq := bec_fin (l := f (m - 1)) hZ hZB hc hs hG1 Gw.rf hs1 hz1
    generalize B.sR c (va_up (B.R c) 0 (some (f (m - 1)))) = D at hq ⊢
    have hcD : (D.G c).1 = 1 := by rw [(hq.2.2.2.1.2 c lc).1]; exact hc
    have hpD : D.R c 2 = some q := by rw [hq.1]; simp [va_up]; exact hp
    refine r_aload_0 (pc := 26) C dX1_undo_26 ?_
    refine r_getR (pc := 27) C fl_X1_31_1 (by exact hcD) rfl (by exact hpD) dX1_undo_27 ?_
    refine r_V0io (pc := 30) C (j_J7_size hq.2.2.1) vl_X1_92 hq.2.2.1.g (by decide) (by omega) (by omega) (Nat.le_of_ble_eq_true rfl) rfl dX1_undo_30 (fun u3 A3 hc3 => ?_)
    refine r_top hc3.1 ?_
    refine r_eqA hc3.2 ?_
    clear hc3 A3 u3
    refine r_iret (pc := 33) C E rfl (by omega) (by omega) dX1_undo_33 ?_
    exact ⟨fun h => absurd h b7, fun _ => ⟨rfl, hq⟩⟩
  · skip
    have b7 := bI_n.mp b7
    refine r_iconst (pc := 10) C dX1_undo_10 ci_m1 ?_
    refine r_iret (pc := 11) C E rfl (by omega) (by omega) dX1_undo_11 ?_
    exact ⟨fun _ => ⟨rfl, rfl⟩, fun h => absurd b7 (by omega)⟩
set_option maxHeartbeats 4000000 in
theorem c_save {g : GZ} {A : HA} {c a : Nat} {d : Nat → Nat} {σ : Rw} (hc : (A.G c).1 = 1) (hn : A.R c 0 = some a) (hL : Ly A a d σ) (hv : Lv A.I a d σ) (hJ : RowJ σ) (hDE : DeK g A) (hnam : ∀ k, k < rK σ → ∃ nm, A.R (d (30 + k)) 0 = some nm) : Ct g wI yX1_save (.code yX1_save cX1_save 1 (Option.some Jvm.ClassFile.FieldType.int)) 8 25 940 [.ref c] (A) (fun u A' => u = σ 3 ∧ ∃ q B d2, Cp A B q d d2 σ ∧ A' = B.sR c (va_up (B.R c) 1 (some q))) fw_no := by
  refine Ct.of [some (.ref c)] (by decide) rfl rfl fun z C hx hnm E => ?_
  have hW := hJ.w
  have hS := hW.s
  have hw3 := hS.w3
  have hw10 := hS.w10
  have hh8 := hS.h8
  have hc80 := hS.c80
  have k6 := hW.k6
  have g6 := hW.g6
  have hC : ∀ c, c < 80 → CelF σ c := fun c hc => (hJ.c hc).fe
  have d9 := hW.d9
  refine r_Z fun hZ => ?_
  have lc := hZ.lt hc rfl
  have la := hZ.lt (ly_g hL) rfl
  have nca : a ≠ c := fun z => by have h9 := ly_g hL; rw [z, hc] at h9; cases h9
  refine r_aload_0 (pc := 0) C dX1_save_0 ?_
  refine r_aload_0 (pc := 1) C dX1_save_1 ?_
  refine r_getR (pc := 2) C fl_X1_24_1 (by exact hc) rfl (by exact hn) dX1_save_2 ?_
  refine r_V0r (pc := 5) C (l_copy hL hv hW hC hDE hnam) vl_X1_187 (ly_g hL) (by decide) (by omega) (by omega) (Nat.le_of_ble_eq_true rfl) rfl dX1_save_5 (fun u1 A1 hc1 => ?_)
  obtain ⟨d2, hCp⟩ := hc1
  generalize A1 = B at hCp ⊢
  generalize u1 = q at hCp ⊢
  have hcB : (B.G c).1 = 1 := by rw [(hCp.2.2.2.1.2 c lc).1]; exact hc
  have hnB : B.R c 0 = some a := by rw [((hCp.2.2.2.1.2 c lc).2.2 (fun z => z)).2.2]; exact hn
  have haB : (B.G a).1 = 2 := by rw [(hCp.2.2.2.1.2 a la).1]; exact ly_g hL
  have hdB : B.I a 13 = σ 3 := by rw [((hCp.2.2.2.1.2 a la).2.2 (fun z => z)).2.1]; exact hv.day
  refine r_putR (pc := 8) C fl_X1_489_1 (by exact hcB) rfl (fun _ _ _ h => by cases h; exact Or.inl rfl) rfl dX1_save_8 ?_
  refine r_aload_0 (pc := 11) C dX1_save_11 ?_
  refine r_getR (pc := 12) C fl_X1_24_1 (by exact hcB) rfl (show (B.sR c (va_up (B.R c) 1 (some q))).R c 0 = some a by rw [sR_s]; simp [va_up]; exact hnB) dX1_save_12 ?_
  refine r_ngetI (pc := 15) C fn_X1_203_2 (by exact haB) rfl dX1_save_15 ?_
  refine r_top hdB ?_
  refine r_iret (pc := 18) C E rfl (by omega) (by omega) dX1_save_18 ?_
  exact ⟨rfl, q, B, d2, hCp, rfl⟩
set_option maxHeartbeats 4000000 in
theorem c_fours5 {g : GZ} {A : HA} {c : Nat} (hc : (A.G c).1 = 1) {bf L : Nat} (hb : A.R c 3 = some bf) (hbk : (A.G bf).1 = 201) (hbn : A.n bf = 900) (hlL : A.I c 4 = nI L) (h9 : L + 20 ≤ 900) {t : Nat} (htk : (A.G t).1 = 130) (htn : A.n t = 5) : Ct g wV yX1_fours (.code yX1_fours cX1_fours 7 (Option.none : Option Jvm.ClassFile.FieldType)) 1 0 0 [.ref c, .ref t] (A) (fun u A' => A' = BH A c bf (L + 20) (fivC (A.I bf) L (A.I t 0) (A.I t 1) (A.I t 2) (A.I t 3) (A.I t 4))) fw_no := by
  refine Ct.of [some (.ref c), some (.ref t), none, none, none, none, none] (by decide) rfl rfl fun z C hx hnm E => ?_
  have nbc : bf ≠ c := fun z => by rw [z, hc] at hbk; cases hbk
  have ntb : t ≠ bf := fun z => by rw [z, hbk] at htk; cases htk
  have ntc : t ≠ c := fun z => by rw [z, hc] at htk; cases htk
  refine r_eqA (BH_self (bf := bf) hlL) ?_
  refine r_aload_1 (pc := 0) C dX1_fours_0 ?_
  refine r_astore_2 (pc := 1) C dX1_fours_1 rfl ?_
  refine r_aload_2 (pc := 2) C dX1_fours_2 ?_
  refine r_alen (pc := 3) (t := 1) C (by exact htk) rfl rfl dX1_fours_3 ?_
  refine r_top (congrArg nI (show _ = 5 from htn)) ?_
  refine r_istore_3 (pc := 4) C dX1_fours_4 rfl ?_
  refine r_iconst (pc := 5) C dX1_fours_5 ci_0 ?_
  refine r_istore_4 (pc := 6) C dX1_fours_6 rfl ?_
  refine r_iload_4 (pc := 8) C dX1_fours_8 ?_
  refine r_iload_3 (pc := 10) C dX1_fours_10 ?_
  refine r_icmp_ge (pc := 11) (tgt := 66) C dX1_fours_11 (by decide) (fun b11 => ?_) (fun b11 => ?_)
  · exact absurd b11 (by decide +kernel)
  · skip
    refine r_aload_2 (pc := 14) C dX1_fours_14 ?_
    refine r_iload_4 (pc := 15) C dX1_fours_15 ?_
    refine r_iald (pc := 17) C (by exact htk) rfl rfl (lt_eq (by omega) (show _ = 5 from htn)) (by omega) dX1_fours_17 ?_
    refine r_top (congrFun (BH_x ntb ntc) _) ?_
    refine r_istore_5 (pc := 18) C dX1_fours_18 rfl ?_
    refine r_bipush (pc := 20) C dX1_fours_20 cb_24 ?_
    refine r_istore_6 (pc := 22) C dX1_fours_22 rfl ?_
    refine r_iload_6 (pc := 24) C dX1_fours_24 ?_
    refine r_if_lt (pc := 26) (tgt := 60) C dX1_fours_26 (by decide) (fun b26 => ?_) (fun b26 => ?_)
    · exact absurd b26 (by decide +kernel)
    · skip
      refine r_aload_0 (pc := 29) C dX1_fours_29 ?_
      refine r_getR (pc := 30) C fl_X1_35_1 (by exact hc) rfl (by exact hb) dX1_fours_30 ?_
      refine r_aload_0 (pc := 33) C dX1_fours_33 ?_
      refine r_getI (pc := 34) C fl_X1_104_1 (by exact hc) rfl dX1_fours_34 ?_
      refine r_top BH_len ?_
      refine r_iload_5 (pc := 37) C dX1_fours_37 ?_
      refine r_iload_6 (pc := 39) C dX1_fours_39 ?_
      refine r_ishr (pc := 41) C dX1_fours_41 ?_
      refine r_i2b (pc := 42) C dX1_fours_42 ?_
      refine r_bast (pc := 43) C (by exact hbk) rfl rfl (lt_eq (by omega) (show _ = 900 from hbn)) (by omega) (nar_i2b _) dX1_fours_43 ?_
      refine r_eqA (BH_b nbc _ _) ?_
      refine r_aload_0 (pc := 44) C dX1_fours_44 ?_
      refine r_dup (pc := 45) C dX1_fours_45 rfl ?_
      refine r_getI (pc := 46) C fl_X1_104_1 (by exact hc) rfl dX1_fours_46 ?_
      refine r_top BH_len ?_
      refine r_iconst (pc := 49) C dX1_fours_49 ci_1 ?_
      refine r_iadd (pc := 50) C dX1_fours_50 ?_
      refine r_top (nI_add _ _) ?_
      refine r_putI (pc := 51) C fl_X1_104_1 (by exact hc) rfl (fun _ _ _ h => by cases h; exact Or.inl rfl) rfl rfl rfl dX1_fours_51 ?_
      refine r_eqA (BH_l _) ?_
      refine r_iinc_6 (pc := 54) C dX1_fours_54 (show _ = nI 16 by decide +kernel) rfl ?_
      refine r_goto (pc := 57) (tgt := 24) C dX1_fours_57 (by decide) ?_
      refine r_iload_6 (pc := 24) C dX1_fours_24 ?_
      refine r_if_lt (pc := 26) (tgt := 60) C dX1_fours_26 (by decide) (fun b26 => ?_) (fun b26 => ?_)
      · exact absurd b26 (by decide +kernel)
      · skip
        refine r_aload_0 (pc := 29) C dX1_fours_29 ?_
        refine r_getR (pc := 30) C fl_X1_35_1 (by exact hc) rfl (by exact hb) dX1_fours_30 ?_
        refine r_aload_0 (pc := 33) C dX1_fours_33 ?_
        refine r_getI (pc := 34) C fl_X1_104_1 (by exact hc) rfl dX1_fours_34 ?_
        refine r_top BH_len ?_
        refine r_iload_5 (pc := 37) C dX1_fours_37 ?_
        refine r_iload_6 (pc := 39) C dX1_fours_39 ?_
        refine r_ishr (pc := 41) C dX1_fours_41 ?_
        refine r_i2b (pc := 42) C dX1_fours_42 ?_
        refine r_bast (pc := 43) C (by exact hbk) rfl rfl (lt_eq (by omega) (show _ = 900 from hbn)) (by omega) (nar_i2b _) dX1_fours_43 ?_
        refine r_eqA (BH_b nbc _ _) ?_
        refine r_aload_0 (pc := 44) C dX1_fours_44 ?_
        refine r_dup (pc := 45) C dX1_fours_45 rfl ?_
        refine r_getI (pc := 46) C fl_X1_104_1 (by exact hc) rfl dX1_fours_46 ?_
        refine r_top BH_len ?_
        refine r_iconst (pc := 49) C dX1_fours_49 ci_1 ?_
        refine r_iadd (pc := 50) C dX1_fours_50 ?_
        refine r_top (nI_add _ _) ?_
        refine r_putI (pc := 51) C fl_X1_104_1 (by exact hc) rfl (fun _ _ _ h => by cases h; exact Or.inl rfl) rfl rfl rfl dX1_fours_51 ?_
        refine r_eqA (BH_l _) ?_
        refine r_iinc_6 (pc := 54) C dX1_fours_54 (show _ = nI 8 by decide +kernel) rfl ?_
        refine r_goto (pc := 57) (tgt := 24) C dX1_fours_57 (by decide) ?_
        refine r_iload_6 (pc := 24) C dX1_fours_24 ?_
        refine r_if_lt (pc := 26) (tgt := 60) C dX1_fours_26 (by decide) (fun b26 => ?_) (fun b26 => ?_)
        · exact absurd b26 (by decide +kernel)
        · skip
          refine r_aload_0 (pc := 29) C dX1_fours_29 ?_
          refine r_getR (pc := 30) C fl_X1_35_1 (by exact hc) rfl (by exact hb) dX1_fours_30 ?_
          refine r_aload_0 (pc := 33) C dX1_fours_33 ?_
          refine r_getI (pc := 34) C fl_X1_104_1 (by exact hc) rfl dX1_fours_34 ?_
          refine r_top BH_len ?_
          refine r_iload_5 (pc := 37) C dX1_fours_37 ?_
          refine r_iload_6 (pc := 39) C dX1_fours_39 ?_
          refine r_ishr (pc := 41) C dX1_fours_41 ?_
          refine r_i2b (pc := 42) C dX1_fours_42 ?_
          refine r_bast (pc := 43) C (by exact hbk) rfl rfl (lt_eq (by omega) (show _ = 900 from hbn)) (by omega) (nar_i2b _) dX1_fours_43 ?_
          refine r_eqA (BH_b nbc _ _) ?_
          refine r_aload_0 (pc := 44) C dX1_fours_44 ?_
          refine r_dup (pc := 45) C dX1_fours_45 rfl ?_
          refine r_getI (pc := 46) C fl_X1_104_1 (by exact hc) rfl dX1_fours_46 ?_
          refine r_top BH_len ?_
          refine r_iconst (pc := 49) C dX1_fours_49 ci_1 ?_
          refine r_iadd (pc := 50) C dX1_fours_50 ?_
          refine r_top (nI_add _ _) ?_
          refine r_putI (pc := 51) C fl_X1_104_1 (by exact hc) rfl (fun _ _ _ h => by cases h; exact Or.inl rfl) rfl rfl rfl dX1_fours_51 ?_
          refine r_eqA (BH_l _) ?_
          refine r_iinc_6 (pc := 54) C dX1_fours_54 (show _ = nI 0 by decide +kernel) rfl ?_
          refine r_goto (pc := 57) (tgt := 24) C dX1_fours_57 (by decide) ?_
          refine r_iload_6 (pc := 24) C dX1_fours_24 ?_
          refine r_if_lt (pc := 26) (tgt := 60) C dX1_fours_26 (by decide) (fun b26 => ?_) (fun b26 => ?_)
          · exact absurd b26 (by decide +kernel)
          · skip
            refine r_aload_0 (pc := 29) C dX1_fours_29 ?_
            refine r_getR (pc := 30) C fl_X1_35_1 (by exact hc) rfl (by exact hb) dX1_fours_30 ?_
            refine r_aload_0 (pc := 33) C dX1_fours_33 ?_
            refine r_getI (pc := 34) C fl_X1_104_1 (by exact hc) rfl dX1_fours_34 ?_
            refine r_top BH_len ?_
            refine r_iload_5 (pc := 37) C dX1_fours_37 ?_
            refine r_iload_6 (pc := 39) C dX1_fours_39 ?_
            refine r_ishr (pc := 41) C dX1_fours_41 ?_
            refine r_i2b (pc := 42) C dX1_fours_42 ?_
            refine r_bast (pc := 43) C (by exact hbk) rfl rfl (lt_eq (by omega) (show _ = 900 from hbn)) (by omega) (nar_i2b _) dX1_fours_43 ?_
            refine r_eqA (BH_b nbc _ _) ?_
            refine r_aload_0 (pc := 44) C dX1_fours_44 ?_
            refine r_dup (pc := 45) C dX1_fours_45 rfl ?_
            refine r_getI (pc := 46) C fl_X1_104_1 (by exact hc) rfl dX1_fours_46 ?_
            refine r_top BH_len ?_
            refine r_iconst (pc := 49) C dX1_fours_49 ci_1 ?_
            refine r_iadd (pc := 50) C dX1_fours_50 ?_
            refine r_top (nI_add _ _) ?_
            refine r_putI (pc := 51) C fl_X1_104_1 (by exact hc) rfl (fun _ _ _ h => by cases h; exact Or.inl rfl) rfl rfl rfl dX1_fours_51 ?_
            refine r_eqA (BH_l _) ?_
            refine r_iinc_6 (pc := 54) C dX1_fours_54 (show _ = (-8) by decide +kernel) rfl ?_
            refine r_goto (pc := 57) (tgt := 24) C dX1_fours_57 (by decide) ?_
            refine r_iload_6 (pc := 24) C dX1_fours_24 ?_
            refine r_if_lt (pc := 26) (tgt := 60) C dX1_fours_26 (by decide) (fun b26 => ?_) (fun b26 => ?_)
            · skip
              refine r_iinc_4 (pc := 60) C dX1_fours_60 (show _ = nI 1 by decide +kernel) rfl ?_
              refine r_goto (pc := 63) (tgt := 8) C dX1_fours_63 (by decide) ?_
              refine r_iload_4 (pc := 8) C dX1_fours_8 ?_
              refine r_iload_3 (pc := 10) C dX1_fours_10 ?_
              refine r_icmp_ge (pc := 11) (tgt := 66) C dX1_fours_11 (by decide) (fun b11 => ?_) (fun b11 => ?_)
              · exact absurd b11 (by decide +kernel)
              · skip
                refine r_aload_2 (pc := 14) C dX1_fours_14 ?_
                refine r_iload_4 (pc := 15) C dX1_fours_15 ?_
                refine r_iald (pc := 17) C (by exact htk) rfl rfl (lt_eq (by omega) (show _ = 5 from htn)) (by omega) dX1_fours_17 ?_
                refine r_top (congrFun (BH_x ntb ntc) _) ?_
                refine r_istore_5 (pc := 18) C dX1_fours_18 rfl ?_
                refine r_bipush (pc := 20) C dX1_fours_20 cb_24 ?_
                refine r_istore_6 (pc := 22) C dX1_fours_22 rfl ?_
                refine r_iload_6 (pc := 24) C dX1_fours_24 ?_
                refine r_if_lt (pc := 26) (tgt := 60) C dX1_fours_26 (by decide) (fun b26 => ?_) (fun b26 => ?_)
                · exact absurd b26 (by decide +kernel)
                · skip
                  refine r_aload_0 (pc := 29) C dX1_fours_29 ?_
                  refine r_getR (pc := 30) C fl_X1_35_1 (by exact hc) rfl (by exact hb) dX1_fours_30 ?_
                  refine r_aload_0 (pc := 33) C dX1_fours_33 ?_
                  refine r_getI (pc := 34) C fl_X1_104_1 (by exact hc) rfl dX1_fours_34 ?_
                  refine r_top BH_len ?_
                  refine r_iload_5 (pc := 37) C dX1_fours_37 ?_
                  refine r_iload_6 (pc := 39) C dX1_fours_39 ?_
                  refine r_ishr (pc := 41) C dX1_fours_41 ?_
                  refine r_i2b (pc := 42) C dX1_fours_42 ?_
                  refine r_bast (pc := 43) C (by exact hbk) rfl rfl (lt_eq (by omega) (show _ = 900 from hbn)) (by omega) (nar_i2b _) dX1_fours_43 ?_
                  refine r_eqA (BH_b nbc _ _) ?_
                  refine r_aload_0 (pc := 44) C dX1_fours_44 ?_
                  refine r_dup (pc := 45) C dX1_fours_45 rfl ?_
                  refine r_getI (pc := 46) C fl_X1_104_1 (by exact hc) rfl dX1_fours_46 ?_
                  refine r_top BH_len ?_
                  refine r_iconst (pc := 49) C dX1_fours_49 ci_1 ?_
                  refine r_iadd (pc := 50) C dX1_fours_50 ?_
                  refine r_top (nI_add _ _) ?_
                  refine r_putI (pc := 51) C fl_X1_104_1 (by exact hc) rfl (fun _ _ _ h => by cases h; exact Or.inl rfl) rfl rfl rfl dX1_fours_51 ?_
                  refine r_eqA (BH_l _) ?_
                  refine r_iinc_6 (pc := 54) C dX1_fours_54 (show _ = nI 16 by decide +kernel) rfl ?_
                  refine r_goto (pc := 57) (tgt := 24) C dX1_fours_57 (by decide) ?_
                  refine r_iload_6 (pc := 24) C dX1_fours_24 ?_
                  refine r_if_lt (pc := 26) (tgt := 60) C dX1_fours_26 (by decide) (fun b26 => ?_) (fun b26 => ?_)
                  · exact absurd b26 (by decide +kernel)
                  · skip
                    refine r_aload_0 (pc := 29) C dX1_fours_29 ?_
                    refine r_getR (pc := 30) C fl_X1_35_1 (by exact hc) rfl (by exact hb) dX1_fours_30 ?_
                    refine r_aload_0 (pc := 33) C dX1_fours_33 ?_
                    refine r_getI (pc := 34) C fl_X1_104_1 (by exact hc) rfl dX1_fours_34 ?_
                    refine r_top BH_len ?_
                    refine r_iload_5 (pc := 37) C dX1_fours_37 ?_
                    refine r_iload_6 (pc := 39) C dX1_fours_39 ?_
                    refine r_ishr (pc := 41) C dX1_fours_41 ?_
                    refine r_i2b (pc := 42) C dX1_fours_42 ?_
                    refine r_bast (pc := 43) C (by exact hbk) rfl rfl (lt_eq (by omega) (show _ = 900 from hbn)) (by omega) (nar_i2b _) dX1_fours_43 ?_
                    refine r_eqA (BH_b nbc _ _) ?_
                    refine r_aload_0 (pc := 44) C dX1_fours_44 ?_
                    refine r_dup (pc := 45) C dX1_fours_45 rfl ?_
                    refine r_getI (pc := 46) C fl_X1_104_1 (by exact hc) rfl dX1_fours_46 ?_
                    refine r_top BH_len ?_
                    refine r_iconst (pc := 49) C dX1_fours_49 ci_1 ?_
                    refine r_iadd (pc := 50) C dX1_fours_50 ?_
                    refine r_top (nI_add _ _) ?_
                    refine r_putI (pc := 51) C fl_X1_104_1 (by exact hc) rfl (fun _ _ _ h => by cases h; exact Or.inl rfl) rfl rfl rfl dX1_fours_51 ?_
                    refine r_eqA (BH_l _) ?_
                    refine r_iinc_6 (pc := 54) C dX1_fours_54 (show _ = nI 8 by decide +kernel) rfl ?_
                    refine r_goto (pc := 57) (tgt := 24) C dX1_fours_57 (by decide) ?_
                    refine r_iload_6 (pc := 24) C dX1_fours_24 ?_
                    refine r_if_lt (pc := 26) (tgt := 60) C dX1_fours_26 (by decide) (fun b26 => ?_) (fun b26 => ?_)
                    · exact absurd b26 (by decide +kernel)
                    · skip
                      refine r_aload_0 (pc := 29) C dX1_fours_29 ?_
                      refine r_getR (pc := 30) C fl_X1_35_1 (by exact hc) rfl (by exact hb) dX1_fours_30 ?_
                      refine r_aload_0 (pc := 33) C dX1_fours_33 ?_
                      refine r_getI (pc := 34) C fl_X1_104_1 (by exact hc) rfl dX1_fours_34 ?_
                      refine r_top BH_len ?_
                      refine r_iload_5 (pc := 37) C dX1_fours_37 ?_
                      refine r_iload_6 (pc := 39) C dX1_fours_39 ?_
                      refine r_ishr (pc := 41) C dX1_fours_41 ?_
                      refine r_i2b (pc := 42) C dX1_fours_42 ?_
                      refine r_bast (pc := 43) C (by exact hbk) rfl rfl (lt_eq (by omega) (show _ = 900 from hbn)) (by omega) (nar_i2b _) dX1_fours_43 ?_
                      refine r_eqA (BH_b nbc _ _) ?_
                      refine r_aload_0 (pc := 44) C dX1_fours_44 ?_
                      refine r_dup (pc := 45) C dX1_fours_45 rfl ?_
                      refine r_getI (pc := 46) C fl_X1_104_1 (by exact hc) rfl dX1_fours_46 ?_
                      refine r_top BH_len ?_
                      refine r_iconst (pc := 49) C dX1_fours_49 ci_1 ?_
                      refine r_iadd (pc := 50) C dX1_fours_50 ?_
                      refine r_top (nI_add _ _) ?_
                      refine r_putI (pc := 51) C fl_X1_104_1 (by exact hc) rfl (fun _ _ _ h => by cases h; exact Or.inl rfl) rfl rfl rfl dX1_fours_51 ?_
                      refine r_eqA (BH_l _) ?_
                      refine r_iinc_6 (pc := 54) C dX1_fours_54 (show _ = nI 0 by decide +kernel) rfl ?_
                      refine r_goto (pc := 57) (tgt := 24) C dX1_fours_57 (by decide) ?_
                      refine r_iload_6 (pc := 24) C dX1_fours_24 ?_
                      refine r_if_lt (pc := 26) (tgt := 60) C dX1_fours_26 (by decide) (fun b26 => ?_) (fun b26 => ?_)
                      · exact absurd b26 (by decide +kernel)
                      · skip
                        refine r_aload_0 (pc := 29) C dX1_fours_29 ?_
                        refine r_getR (pc := 30) C fl_X1_35_1 (by exact hc) rfl (by exact hb) dX1_fours_30 ?_
                        refine r_aload_0 (pc := 33) C dX1_fours_33 ?_
                        refine r_getI (pc := 34) C fl_X1_104_1 (by exact hc) rfl dX1_fours_34 ?_
                        refine r_top BH_len ?_
                        refine r_iload_5 (pc := 37) C dX1_fours_37 ?_
                        refine r_iload_6 (pc := 39) C dX1_fours_39 ?_
                        refine r_ishr (pc := 41) C dX1_fours_41 ?_
                        refine r_i2b (pc := 42) C dX1_fours_42 ?_
                        refine r_bast (pc := 43) C (by exact hbk) rfl rfl (lt_eq (by omega) (show _ = 900 from hbn)) (by omega) (nar_i2b _) dX1_fours_43 ?_
                        refine r_eqA (BH_b nbc _ _) ?_
                        refine r_aload_0 (pc := 44) C dX1_fours_44 ?_
                        refine r_dup (pc := 45) C dX1_fours_45 rfl ?_
                        refine r_getI (pc := 46) C fl_X1_104_1 (by exact hc) rfl dX1_fours_46 ?_
                        refine r_top BH_len ?_
                        refine r_iconst (pc := 49) C dX1_fours_49 ci_1 ?_
                        refine r_iadd (pc := 50) C dX1_fours_50 ?_
                        refine r_top (nI_add _ _) ?_
                        refine r_putI (pc := 51) C fl_X1_104_1 (by exact hc) rfl (fun _ _ _ h => by cases h; exact Or.inl rfl) rfl rfl rfl dX1_fours_51 ?_
                        refine r_eqA (BH_l _) ?_
                        refine r_iinc_6 (pc := 54) C dX1_fours_54 (show _ = (-8) by decide +kernel) rfl ?_
                        refine r_goto (pc := 57) (tgt := 24) C dX1_fours_57 (by decide) ?_
                        refine r_iload_6 (pc := 24) C dX1_fours_24 ?_
                        refine r_if_lt (pc := 26) (tgt := 60) C dX1_fours_26 (by decide) (fun b26 => ?_) (fun b26 => ?_)
                        · skip
                          refine r_iinc_4 (pc := 60) C dX1_fours_60 (show _ = nI 2 by decide +kernel) rfl ?_
                          refine r_goto (pc := 63) (tgt := 8) C dX1_fours_63 (by decide) ?_
                          refine r_iload_4 (pc := 8) C dX1_fours_8 ?_
                          refine r_iload_3 (pc := 10) C dX1_fours_10 ?_
                          refine r_icmp_ge (pc := 11) (tgt := 66) C dX1_fours_11 (by decide) (fun b11 => ?_) (fun b11 => ?_)
                          · exact absurd b11 (by decide +kernel)
                          · skip
                            refine r_aload_2 (pc := 14) C dX1_fours_14 ?_
                            refine r_iload_4 (pc := 15) C dX1_fours_15 ?_
                            refine r_iald (pc := 17) C (by exact htk) rfl rfl (lt_eq (by omega) (show _ = 5 from htn)) (by omega) dX1_fours_17 ?_
                            refine r_top (congrFun (BH_x ntb ntc) _) ?_
                            refine r_istore_5 (pc := 18) C dX1_fours_18 rfl ?_
                            refine r_bipush (pc := 20) C dX1_fours_20 cb_24 ?_
                            refine r_istore_6 (pc := 22) C dX1_fours_22 rfl ?_
                            refine r_iload_6 (pc := 24) C dX1_fours_24 ?_
                            refine r_if_lt (pc := 26) (tgt := 60) C dX1_fours_26 (by decide) (fun b26 => ?_) (fun b26 => ?_)
                            · exact absurd b26 (by decide +kernel)
                            · skip
                              refine r_aload_0 (pc := 29) C dX1_fours_29 ?_
                              refine r_getR (pc := 30) C fl_X1_35_1 (by exact hc) rfl (by exact hb) dX1_fours_30 ?_
                              refine r_aload_0 (pc := 33) C dX1_fours_33 ?_
                              refine r_getI (pc := 34) C fl_X1_104_1 (by exact hc) rfl dX1_fours_34 ?_
                              refine r_top BH_len ?_
                              refine r_iload_5 (pc := 37) C dX1_fours_37 ?_
                              refine r_iload_6 (pc := 39) C dX1_fours_39 ?_
                              refine r_ishr (pc := 41) C dX1_fours_41 ?_
                              refine r_i2b (pc := 42) C dX1_fours_42 ?_
                              refine r_bast (pc := 43) C (by exact hbk) rfl rfl (lt_eq (by omega) (show _ = 900 from hbn)) (by omega) (nar_i2b _) dX1_fours_43 ?_
                              refine r_eqA (BH_b nbc _ _) ?_
                              refine r_aload_0 (pc := 44) C dX1_fours_44 ?_
                              refine r_dup (pc := 45) C dX1_fours_45 rfl ?_
                              refine r_getI (pc := 46) C fl_X1_104_1 (by exact hc) rfl dX1_fours_46 ?_
                              refine r_top BH_len ?_
                              refine r_iconst (pc := 49) C dX1_fours_49 ci_1 ?_
                              refine r_iadd (pc := 50) C dX1_fours_50 ?_
                              refine r_top (nI_add _ _) ?_
                              refine r_putI (pc := 51) C fl_X1_104_1 (by exact hc) rfl (fun _ _ _ h => by cases h; exact Or.inl rfl) rfl rfl rfl dX1_fours_51 ?_
                              refine r_eqA (BH_l _) ?_
                              refine r_iinc_6 (pc := 54) C dX1_fours_54 (show _ = nI 16 by decide +kernel) rfl ?_
                              refine r_goto (pc := 57) (tgt := 24) C dX1_fours_57 (by decide) ?_
                              refine r_iload_6 (pc := 24) C dX1_fours_24 ?_
                              refine r_if_lt (pc := 26) (tgt := 60) C dX1_fours_26 (by decide) (fun b26 => ?_) (fun b26 => ?_)
                              · exact absurd b26 (by decide +kernel)
                              · skip
                                refine r_aload_0 (pc := 29) C dX1_fours_29 ?_
                                refine r_getR (pc := 30) C fl_X1_35_1 (by exact hc) rfl (by exact hb) dX1_fours_30 ?_
                                refine r_aload_0 (pc := 33) C dX1_fours_33 ?_
                                refine r_getI (pc := 34) C fl_X1_104_1 (by exact hc) rfl dX1_fours_34 ?_
                                refine r_top BH_len ?_
                                refine r_iload_5 (pc := 37) C dX1_fours_37 ?_
                                refine r_iload_6 (pc := 39) C dX1_fours_39 ?_
                                refine r_ishr (pc := 41) C dX1_fours_41 ?_
                                refine r_i2b (pc := 42) C dX1_fours_42 ?_
                                refine r_bast (pc := 43) C (by exact hbk) rfl rfl (lt_eq (by omega) (show _ = 900 from hbn)) (by omega) (nar_i2b _) dX1_fours_43 ?_
                                refine r_eqA (BH_b nbc _ _) ?_
                                refine r_aload_0 (pc := 44) C dX1_fours_44 ?_
                                refine r_dup (pc := 45) C dX1_fours_45 rfl ?_
                                refine r_getI (pc := 46) C fl_X1_104_1 (by exact hc) rfl dX1_fours_46 ?_
                                refine r_top BH_len ?_
                                refine r_iconst (pc := 49) C dX1_fours_49 ci_1 ?_
                                refine r_iadd (pc := 50) C dX1_fours_50 ?_
                                refine r_top (nI_add _ _) ?_
                                refine r_putI (pc := 51) C fl_X1_104_1 (by exact hc) rfl (fun _ _ _ h => by cases h; exact Or.inl rfl) rfl rfl rfl dX1_fours_51 ?_
                                refine r_eqA (BH_l _) ?_
                                refine r_iinc_6 (pc := 54) C dX1_fours_54 (show _ = nI 8 by decide +kernel) rfl ?_
                                refine r_goto (pc := 57) (tgt := 24) C dX1_fours_57 (by decide) ?_
                                refine r_iload_6 (pc := 24) C dX1_fours_24 ?_
                                refine r_if_lt (pc := 26) (tgt := 60) C dX1_fours_26 (by decide) (fun b26 => ?_) (fun b26 => ?_)
                                · exact absurd b26 (by decide +kernel)
                                · skip
                                  refine r_aload_0 (pc := 29) C dX1_fours_29 ?_
                                  refine r_getR (pc := 30) C fl_X1_35_1 (by exact hc) rfl (by exact hb) dX1_fours_30 ?_
                                  refine r_aload_0 (pc := 33) C dX1_fours_33 ?_
                                  refine r_getI (pc := 34) C fl_X1_104_1 (by exact hc) rfl dX1_fours_34 ?_
                                  refine r_top BH_len ?_
                                  refine r_iload_5 (pc := 37) C dX1_fours_37 ?_
                                  refine r_iload_6 (pc := 39) C dX1_fours_39 ?_
                                  refine r_ishr (pc := 41) C dX1_fours_41 ?_
                                  refine r_i2b (pc := 42) C dX1_fours_42 ?_
                                  refine r_bast (pc := 43) C (by exact hbk) rfl rfl (lt_eq (by omega) (show _ = 900 from hbn)) (by omega) (nar_i2b _) dX1_fours_43 ?_
                                  refine r_eqA (BH_b nbc _ _) ?_
                                  refine r_aload_0 (pc := 44) C dX1_fours_44 ?_
                                  refine r_dup (pc := 45) C dX1_fours_45 rfl ?_
                                  refine r_getI (pc := 46) C fl_X1_104_1 (by exact hc) rfl dX1_fours_46 ?_
                                  refine r_top BH_len ?_
                                  refine r_iconst (pc := 49) C dX1_fours_49 ci_1 ?_
                                  refine r_iadd (pc := 50) C dX1_fours_50 ?_
                                  refine r_top (nI_add _ _) ?_
                                  refine r_putI (pc := 51) C fl_X1_104_1 (by exact hc) rfl (fun _ _ _ h => by cases h; exact Or.inl rfl) rfl rfl rfl dX1_fours_51 ?_
                                  refine r_eqA (BH_l _) ?_
                                  refine r_iinc_6 (pc := 54) C dX1_fours_54 (show _ = nI 0 by decide +kernel) rfl ?_
                                  refine r_goto (pc := 57) (tgt := 24) C dX1_fours_57 (by decide) ?_
                                  refine r_iload_6 (pc := 24) C dX1_fours_24 ?_
                                  refine r_if_lt (pc := 26) (tgt := 60) C dX1_fours_26 (by decide) (fun b26 => ?_) (fun b26 => ?_)
                                  · exact absurd b26 (by decide +kernel)
                                  · skip
                                    refine r_aload_0 (pc := 29) C dX1_fours_29 ?_
                                    refine r_getR (pc := 30) C fl_X1_35_1 (by exact hc) rfl (by exact hb) dX1_fours_30 ?_
                                    refine r_aload_0 (pc := 33) C dX1_fours_33 ?_
                                    refine r_getI (pc := 34) C fl_X1_104_1 (by exact hc) rfl dX1_fours_34 ?_
                                    refine r_top BH_len ?_
                                    refine r_iload_5 (pc := 37) C dX1_fours_37 ?_
                                    refine r_iload_6 (pc := 39) C dX1_fours_39 ?_
                                    refine r_ishr (pc := 41) C dX1_fours_41 ?_
                                    refine r_i2b (pc := 42) C dX1_fours_42 ?_
                                    refine r_bast (pc := 43) C (by exact hbk) rfl rfl (lt_eq (by omega) (show _ = 900 from hbn)) (by omega) (nar_i2b _) dX1_fours_43 ?_
                                    refine r_eqA (BH_b nbc _ _) ?_
                                    refine r_aload_0 (pc := 44) C dX1_fours_44 ?_
                                    refine r_dup (pc := 45) C dX1_fours_45 rfl ?_
                                    refine r_getI (pc := 46) C fl_X1_104_1 (by exact hc) rfl dX1_fours_46 ?_
                                    refine r_top BH_len ?_
                                    refine r_iconst (pc := 49) C dX1_fours_49 ci_1 ?_
                                    refine r_iadd (pc := 50) C dX1_fours_50 ?_
                                    refine r_top (nI_add _ _) ?_
                                    refine r_putI (pc := 51) C fl_X1_104_1 (by exact hc) rfl (fun _ _ _ h => by cases h; exact Or.inl rfl) rfl rfl rfl dX1_fours_51 ?_
                                    refine r_eqA (BH_l _) ?_
                                    refine r_iinc_6 (pc := 54) C dX1_fours_54 (show _ = (-8) by decide +kernel) rfl ?_
                                    refine r_goto (pc := 57) (tgt := 24) C dX1_fours_57 (by decide) ?_
                                    refine r_iload_6 (pc := 24) C dX1_fours_24 ?_
                                    refine r_if_lt (pc := 26) (tgt := 60) C dX1_fours_26 (by decide) (fun b26 => ?_) (fun b26 => ?_)
                                    · skip
                                      refine r_iinc_4 (pc := 60) C dX1_fours_60 (show _ = nI 3 by decide +kernel) rfl ?_
                                      refine r_goto (pc := 63) (tgt := 8) C dX1_fours_63 (by decide) ?_
                                      refine r_iload_4 (pc := 8) C dX1_fours_8 ?_
                                      refine r_iload_3 (pc := 10) C dX1_fours_10 ?_
                                      refine r_icmp_ge (pc := 11) (tgt := 66) C dX1_fours_11 (by decide) (fun b11 => ?_) (fun b11 => ?_)
                                      · exact absurd b11 (by decide +kernel)
                                      · skip
                                        refine r_aload_2 (pc := 14) C dX1_fours_14 ?_
                                        refine r_iload_4 (pc := 15) C dX1_fours_15 ?_
                                        refine r_iald (pc := 17) C (by exact htk) rfl rfl (lt_eq (by omega) (show _ = 5 from htn)) (by omega) dX1_fours_17 ?_
                                        refine r_top (congrFun (BH_x ntb ntc) _) ?_
                                        refine r_istore_5 (pc := 18) C dX1_fours_18 rfl ?_
                                        refine r_bipush (pc := 20) C dX1_fours_20 cb_24 ?_
                                        refine r_istore_6 (pc := 22) C dX1_fours_22 rfl ?_
                                        refine r_iload_6 (pc := 24) C dX1_fours_24 ?_
                                        refine r_if_lt (pc := 26) (tgt := 60) C dX1_fours_26 (by decide) (fun b26 => ?_) (fun b26 => ?_)
                                        · exact absurd b26 (by decide +kernel)
                                        · skip
                                          refine r_aload_0 (pc := 29) C dX1_fours_29 ?_
                                          refine r_getR (pc := 30) C fl_X1_35_1 (by exact hc) rfl (by exact hb) dX1_fours_30 ?_
                                          refine r_aload_0 (pc := 33) C dX1_fours_33 ?_
                                          refine r_getI (pc := 34) C fl_X1_104_1 (by exact hc) rfl dX1_fours_34 ?_
                                          refine r_top BH_len ?_
                                          refine r_iload_5 (pc := 37) C dX1_fours_37 ?_
                                          refine r_iload_6 (pc := 39) C dX1_fours_39 ?_
                                          refine r_ishr (pc := 41) C dX1_fours_41 ?_
                                          refine r_i2b (pc := 42) C dX1_fours_42 ?_
                                          refine r_bast (pc := 43) C (by exact hbk) rfl rfl (lt_eq (by omega) (show _ = 900 from hbn)) (by omega) (nar_i2b _) dX1_fours_43 ?_
                                          refine r_eqA (BH_b nbc _ _) ?_
                                          refine r_aload_0 (pc := 44) C dX1_fours_44 ?_
                                          refine r_dup (pc := 45) C dX1_fours_45 rfl ?_
                                          refine r_getI (pc := 46) C fl_X1_104_1 (by exact hc) rfl dX1_fours_46 ?_
                                          refine r_top BH_len ?_
                                          refine r_iconst (pc := 49) C dX1_fours_49 ci_1 ?_
                                          refine r_iadd (pc := 50) C dX1_fours_50 ?_
                                          refine r_top (nI_add _ _) ?_
                                          refine r_putI (pc := 51) C fl_X1_104_1 (by exact hc) rfl (fun _ _ _ h => by cases h; exact Or.inl rfl) rfl rfl rfl dX1_fours_51 ?_
                                          refine r_eqA (BH_l _) ?_
                                          refine r_iinc_6 (pc := 54) C dX1_fours_54 (show _ = nI 16 by decide +kernel) rfl ?_
                                          refine r_goto (pc := 57) (tgt := 24) C dX1_fours_57 (by decide) ?_
                                          refine r_iload_6 (pc := 24) C dX1_fours_24 ?_
                                          refine r_if_lt (pc := 26) (tgt := 60) C dX1_fours_26 (by decide) (fun b26 => ?_) (fun b26 => ?_)
                                          · exact absurd b26 (by decide +kernel)
                                          · skip
                                            refine r_aload_0 (pc := 29) C dX1_fours_29 ?_
                                            refine r_getR (pc := 30) C fl_X1_35_1 (by exact hc) rfl (by exact hb) dX1_fours_30 ?_
                                            refine r_aload_0 (pc := 33) C dX1_fours_33 ?_
                                            refine r_getI (pc := 34) C fl_X1_104_1 (by exact hc) rfl dX1_fours_34 ?_
                                            refine r_top BH_len ?_
                                            refine r_iload_5 (pc := 37) C dX1_fours_37 ?_
                                            refine r_iload_6 (pc := 39) C dX1_fours_39 ?_
                                            refine r_ishr (pc := 41) C dX1_fours_41 ?_
                                            refine r_i2b (pc := 42) C dX1_fours_42 ?_
                                            refine r_bast (pc := 43) C (by exact hbk) rfl rfl (lt_eq (by omega) (show _ = 900 from hbn)) (by omega) (nar_i2b _) dX1_fours_43 ?_
                                            refine r_eqA (BH_b nbc _ _) ?_
                                            refine r_aload_0 (pc := 44) C dX1_fours_44 ?_
                                            refine r_dup (pc := 45) C dX1_fours_45 rfl ?_
                                            refine r_getI (pc := 46) C fl_X1_104_1 (by exact hc) rfl dX1_fours_46 ?_
                                            refine r_top BH_len ?_
                                            refine r_iconst (pc := 49) C dX1_fours_49 ci_1 ?_
                                            refine r_iadd (pc := 50) C dX1_fours_50 ?_
                                            refine r_top (nI_add _ _) ?_
                                            refine r_putI (pc := 51) C fl_X1_104_1 (by exact hc) rfl (fun _ _ _ h => by cases h; exact Or.inl rfl) rfl rfl rfl dX1_fours_51 ?_
                                            refine r_eqA (BH_l _) ?_
                                            refine r_iinc_6 (pc := 54) C dX1_fours_54 (show _ = nI 8 by decide +kernel) rfl ?_
                                            refine r_goto (pc := 57) (tgt := 24) C dX1_fours_57 (by decide) ?_
                                            refine r_iload_6 (pc := 24) C dX1_fours_24 ?_
                                            refine r_if_lt (pc := 26) (tgt := 60) C dX1_fours_26 (by decide) (fun b26 => ?_) (fun b26 => ?_)
                                            · exact absurd b26 (by decide +kernel)
                                            · skip
                                              refine r_aload_0 (pc := 29) C dX1_fours_29 ?_
                                              refine r_getR (pc := 30) C fl_X1_35_1 (by exact hc) rfl (by exact hb) dX1_fours_30 ?_
                                              refine r_aload_0 (pc := 33) C dX1_fours_33 ?_
                                              refine r_getI (pc := 34) C fl_X1_104_1 (by exact hc) rfl dX1_fours_34 ?_
                                              refine r_top BH_len ?_
                                              refine r_iload_5 (pc := 37) C dX1_fours_37 ?_
                                              refine r_iload_6 (pc := 39) C dX1_fours_39 ?_
                                              refine r_ishr (pc := 41) C dX1_fours_41 ?_
                                              refine r_i2b (pc := 42) C dX1_fours_42 ?_
                                              refine r_bast (pc := 43) C (by exact hbk) rfl rfl (lt_eq (by omega) (show _ = 900 from hbn)) (by omega) (nar_i2b _) dX1_fours_43 ?_
                                              refine r_eqA (BH_b nbc _ _) ?_
                                              refine r_aload_0 (pc := 44) C dX1_fours_44 ?_
                                              refine r_dup (pc := 45) C dX1_fours_45 rfl ?_
                                              refine r_getI (pc := 46) C fl_X1_104_1 (by exact hc) rfl dX1_fours_46 ?_
                                              refine r_top BH_len ?_
                                              refine r_iconst (pc := 49) C dX1_fours_49 ci_1 ?_
                                              refine r_iadd (pc := 50) C dX1_fours_50 ?_
                                              refine r_top (nI_add _ _) ?_
                                              refine r_putI (pc := 51) C fl_X1_104_1 (by exact hc) rfl (fun _ _ _ h => by cases h; exact Or.inl rfl) rfl rfl rfl dX1_fours_51 ?_
                                              refine r_eqA (BH_l _) ?_
                                              refine r_iinc_6 (pc := 54) C dX1_fours_54 (show _ = nI 0 by decide +kernel) rfl ?_
                                              refine r_goto (pc := 57) (tgt := 24) C dX1_fours_57 (by decide) ?_
                                              refine r_iload_6 (pc := 24) C dX1_fours_24 ?_
                                              refine r_if_lt (pc := 26) (tgt := 60) C dX1_fours_26 (by decide) (fun b26 => ?_) (fun b26 => ?_)
                                              · exact absurd b26 (by decide +kernel)
                                              · skip
                                                refine r_aload_0 (pc := 29) C dX1_fours_29 ?_
                                                refine r_getR (pc := 30) C fl_X1_35_1 (by exact hc) rfl (by exact hb) dX1_fours_30 ?_
                                                refine r_aload_0 (pc := 33) C dX1_fours_33 ?_
                                                refine r_getI (pc := 34) C fl_X1_104_1 (by exact hc) rfl dX1_fours_34 ?_
                                                refine r_top BH_len ?_
                                                refine r_iload_5 (pc := 37) C dX1_fours_37 ?_
                                                refine r_iload_6 (pc := 39) C dX1_fours_39 ?_
                                                refine r_ishr (pc := 41) C dX1_fours_41 ?_
                                                refine r_i2b (pc := 42) C dX1_fours_42 ?_
                                                refine r_bast (pc := 43) C (by exact hbk) rfl rfl (lt_eq (by omega) (show _ = 900 from hbn)) (by omega) (nar_i2b _) dX1_fours_43 ?_
                                                refine r_eqA (BH_b nbc _ _) ?_
                                                refine r_aload_0 (pc := 44) C dX1_fours_44 ?_
                                                refine r_dup (pc := 45) C dX1_fours_45 rfl ?_
                                                refine r_getI (pc := 46) C fl_X1_104_1 (by exact hc) rfl dX1_fours_46 ?_
                                                refine r_top BH_len ?_
                                                refine r_iconst (pc := 49) C dX1_fours_49 ci_1 ?_
                                                refine r_iadd (pc := 50) C dX1_fours_50 ?_
                                                refine r_top (nI_add _ _) ?_
                                                refine r_putI (pc := 51) C fl_X1_104_1 (by exact hc) rfl (fun _ _ _ h => by cases h; exact Or.inl rfl) rfl rfl rfl dX1_fours_51 ?_
                                                refine r_eqA (BH_l _) ?_
                                                refine r_iinc_6 (pc := 54) C dX1_fours_54 (show _ = (-8) by decide +kernel) rfl ?_
                                                refine r_goto (pc := 57) (tgt := 24) C dX1_fours_57 (by decide) ?_
                                                refine r_iload_6 (pc := 24) C dX1_fours_24 ?_
                                                refine r_if_lt (pc := 26) (tgt := 60) C dX1_fours_26 (by decide) (fun b26 => ?_) (fun b26 => ?_)
                                                · skip
                                                  refine r_iinc_4 (pc := 60) C dX1_fours_60 (show _ = nI 4 by decide +kernel) rfl ?_
                                                  refine r_goto (pc := 63) (tgt := 8) C dX1_fours_63 (by decide) ?_
                                                  refine r_iload_4 (pc := 8) C dX1_fours_8 ?_
                                                  refine r_iload_3 (pc := 10) C dX1_fours_10 ?_
                                                  refine r_icmp_ge (pc := 11) (tgt := 66) C dX1_fours_11 (by decide) (fun b11 => ?_) (fun b11 => ?_)
                                                  · exact absurd b11 (by decide +kernel)
                                                  · skip
                                                    refine r_aload_2 (pc := 14) C dX1_fours_14 ?_
                                                    refine r_iload_4 (pc := 15) C dX1_fours_15 ?_
                                                    refine r_iald (pc := 17) C (by exact htk) rfl rfl (lt_eq (by omega) (show _ = 5 from htn)) (by omega) dX1_fours_17 ?_
                                                    refine r_top (congrFun (BH_x ntb ntc) _) ?_
                                                    refine r_istore_5 (pc := 18) C dX1_fours_18 rfl ?_
                                                    refine r_bipush (pc := 20) C dX1_fours_20 cb_24 ?_
                                                    refine r_istore_6 (pc := 22) C dX1_fours_22 rfl ?_
                                                    refine r_iload_6 (pc := 24) C dX1_fours_24 ?_
                                                    refine r_if_lt (pc := 26) (tgt := 60) C dX1_fours_26 (by decide) (fun b26 => ?_) (fun b26 => ?_)
                                                    · exact absurd b26 (by decide +kernel)
                                                    · skip
                                                      refine r_aload_0 (pc := 29) C dX1_fours_29 ?_
                                                      refine r_getR (pc := 30) C fl_X1_35_1 (by exact hc) rfl (by exact hb) dX1_fours_30 ?_
                                                      refine r_aload_0 (pc := 33) C dX1_fours_33 ?_
                                                      refine r_getI (pc := 34) C fl_X1_104_1 (by exact hc) rfl dX1_fours_34 ?_
                                                      refine r_top BH_len ?_
                                                      refine r_iload_5 (pc := 37) C dX1_fours_37 ?_
                                                      refine r_iload_6 (pc := 39) C dX1_fours_39 ?_
                                                      refine r_ishr (pc := 41) C dX1_fours_41 ?_
                                                      refine r_i2b (pc := 42) C dX1_fours_42 ?_
                                                      refine r_bast (pc := 43) C (by exact hbk) rfl rfl (lt_eq (by omega) (show _ = 900 from hbn)) (by omega) (nar_i2b _) dX1_fours_43 ?_
                                                      refine r_eqA (BH_b nbc _ _) ?_
                                                      refine r_aload_0 (pc := 44) C dX1_fours_44 ?_
                                                      refine r_dup (pc := 45) C dX1_fours_45 rfl ?_
                                                      refine r_getI (pc := 46) C fl_X1_104_1 (by exact hc) rfl dX1_fours_46 ?_
                                                      refine r_top BH_len ?_
                                                      refine r_iconst (pc := 49) C dX1_fours_49 ci_1 ?_
                                                      refine r_iadd (pc := 50) C dX1_fours_50 ?_
                                                      refine r_top (nI_add _ _) ?_
                                                      refine r_putI (pc := 51) C fl_X1_104_1 (by exact hc) rfl (fun _ _ _ h => by cases h; exact Or.inl rfl) rfl rfl rfl dX1_fours_51 ?_
                                                      refine r_eqA (BH_l _) ?_
                                                      refine r_iinc_6 (pc := 54) C dX1_fours_54 (show _ = nI 16 by decide +kernel) rfl ?_
                                                      refine r_goto (pc := 57) (tgt := 24) C dX1_fours_57 (by decide) ?_
                                                      refine r_iload_6 (pc := 24) C dX1_fours_24 ?_
                                                      refine r_if_lt (pc := 26) (tgt := 60) C dX1_fours_26 (by decide) (fun b26 => ?_) (fun b26 => ?_)
                                                      · exact absurd b26 (by decide +kernel)
                                                      · skip
                                                        refine r_aload_0 (pc := 29) C dX1_fours_29 ?_
                                                        refine r_getR (pc := 30) C fl_X1_35_1 (by exact hc) rfl (by exact hb) dX1_fours_30 ?_
                                                        refine r_aload_0 (pc := 33) C dX1_fours_33 ?_
                                                        refine r_getI (pc := 34) C fl_X1_104_1 (by exact hc) rfl dX1_fours_34 ?_
                                                        refine r_top BH_len ?_
                                                        refine r_iload_5 (pc := 37) C dX1_fours_37 ?_
                                                        refine r_iload_6 (pc := 39) C dX1_fours_39 ?_
                                                        refine r_ishr (pc := 41) C dX1_fours_41 ?_
                                                        refine r_i2b (pc := 42) C dX1_fours_42 ?_
                                                        refine r_bast (pc := 43) C (by exact hbk) rfl rfl (lt_eq (by omega) (show _ = 900 from hbn)) (by omega) (nar_i2b _) dX1_fours_43 ?_
                                                        refine r_eqA (BH_b nbc _ _) ?_
                                                        refine r_aload_0 (pc := 44) C dX1_fours_44 ?_
                                                        refine r_dup (pc := 45) C dX1_fours_45 rfl ?_
                                                        refine r_getI (pc := 46) C fl_X1_104_1 (by exact hc) rfl dX1_fours_46 ?_
                                                        refine r_top BH_len ?_
                                                        refine r_iconst (pc := 49) C dX1_fours_49 ci_1 ?_
                                                        refine r_iadd (pc := 50) C dX1_fours_50 ?_
                                                        refine r_top (nI_add _ _) ?_
                                                        refine r_putI (pc := 51) C fl_X1_104_1 (by exact hc) rfl (fun _ _ _ h => by cases h; exact Or.inl rfl) rfl rfl rfl dX1_fours_51 ?_
                                                        refine r_eqA (BH_l _) ?_
                                                        refine r_iinc_6 (pc := 54) C dX1_fours_54 (show _ = nI 8 by decide +kernel) rfl ?_
                                                        refine r_goto (pc := 57) (tgt := 24) C dX1_fours_57 (by decide) ?_
                                                        refine r_iload_6 (pc := 24) C dX1_fours_24 ?_
                                                        refine r_if_lt (pc := 26) (tgt := 60) C dX1_fours_26 (by decide) (fun b26 => ?_) (fun b26 => ?_)
                                                        · exact absurd b26 (by decide +kernel)
                                                        · skip
                                                          refine r_aload_0 (pc := 29) C dX1_fours_29 ?_
                                                          refine r_getR (pc := 30) C fl_X1_35_1 (by exact hc) rfl (by exact hb) dX1_fours_30 ?_
                                                          refine r_aload_0 (pc := 33) C dX1_fours_33 ?_
                                                          refine r_getI (pc := 34) C fl_X1_104_1 (by exact hc) rfl dX1_fours_34 ?_
                                                          refine r_top BH_len ?_
                                                          refine r_iload_5 (pc := 37) C dX1_fours_37 ?_
                                                          refine r_iload_6 (pc := 39) C dX1_fours_39 ?_
                                                          refine r_ishr (pc := 41) C dX1_fours_41 ?_
                                                          refine r_i2b (pc := 42) C dX1_fours_42 ?_
                                                          refine r_bast (pc := 43) C (by exact hbk) rfl rfl (lt_eq (by omega) (show _ = 900 from hbn)) (by omega) (nar_i2b _) dX1_fours_43 ?_
                                                          refine r_eqA (BH_b nbc _ _) ?_
                                                          refine r_aload_0 (pc := 44) C dX1_fours_44 ?_
                                                          refine r_dup (pc := 45) C dX1_fours_45 rfl ?_
                                                          refine r_getI (pc := 46) C fl_X1_104_1 (by exact hc) rfl dX1_fours_46 ?_
                                                          refine r_top BH_len ?_
                                                          refine r_iconst (pc := 49) C dX1_fours_49 ci_1 ?_
                                                          refine r_iadd (pc := 50) C dX1_fours_50 ?_
                                                          refine r_top (nI_add _ _) ?_
                                                          refine r_putI (pc := 51) C fl_X1_104_1 (by exact hc) rfl (fun _ _ _ h => by cases h; exact Or.inl rfl) rfl rfl rfl dX1_fours_51 ?_
                                                          refine r_eqA (BH_l _) ?_
                                                          refine r_iinc_6 (pc := 54) C dX1_fours_54 (show _ = nI 0 by decide +kernel) rfl ?_
                                                          refine r_goto (pc := 57) (tgt := 24) C dX1_fours_57 (by decide) ?_
                                                          refine r_iload_6 (pc := 24) C dX1_fours_24 ?_
                                                          refine r_if_lt (pc := 26) (tgt := 60) C dX1_fours_26 (by decide) (fun b26 => ?_) (fun b26 => ?_)
                                                          · exact absurd b26 (by decide +kernel)
                                                          · skip
                                                            refine r_aload_0 (pc := 29) C dX1_fours_29 ?_
                                                            refine r_getR (pc := 30) C fl_X1_35_1 (by exact hc) rfl (by exact hb) dX1_fours_30 ?_
                                                            refine r_aload_0 (pc := 33) C dX1_fours_33 ?_
                                                            refine r_getI (pc := 34) C fl_X1_104_1 (by exact hc) rfl dX1_fours_34 ?_
                                                            refine r_top BH_len ?_
                                                            refine r_iload_5 (pc := 37) C dX1_fours_37 ?_
                                                            refine r_iload_6 (pc := 39) C dX1_fours_39 ?_
                                                            refine r_ishr (pc := 41) C dX1_fours_41 ?_
                                                            refine r_i2b (pc := 42) C dX1_fours_42 ?_
                                                            refine r_bast (pc := 43) C (by exact hbk) rfl rfl (lt_eq (by omega) (show _ = 900 from hbn)) (by omega) (nar_i2b _) dX1_fours_43 ?_
                                                            refine r_eqA (BH_b nbc _ _) ?_
                                                            refine r_aload_0 (pc := 44) C dX1_fours_44 ?_
                                                            refine r_dup (pc := 45) C dX1_fours_45 rfl ?_
                                                            refine r_getI (pc := 46) C fl_X1_104_1 (by exact hc) rfl dX1_fours_46 ?_
                                                            refine r_top BH_len ?_
                                                            refine r_iconst (pc := 49) C dX1_fours_49 ci_1 ?_
                                                            refine r_iadd (pc := 50) C dX1_fours_50 ?_
                                                            refine r_top (nI_add _ _) ?_
                                                            refine r_putI (pc := 51) C fl_X1_104_1 (by exact hc) rfl (fun _ _ _ h => by cases h; exact Or.inl rfl) rfl rfl rfl dX1_fours_51 ?_
                                                            refine r_eqA (BH_l _) ?_
                                                            refine r_iinc_6 (pc := 54) C dX1_fours_54 (show _ = (-8) by decide +kernel) rfl ?_
                                                            refine r_goto (pc := 57) (tgt := 24) C dX1_fours_57 (by decide) ?_
                                                            refine r_iload_6 (pc := 24) C dX1_fours_24 ?_
                                                            refine r_if_lt (pc := 26) (tgt := 60) C dX1_fours_26 (by decide) (fun b26 => ?_) (fun b26 => ?_)
                                                            · skip
                                                              refine r_iinc_4 (pc := 60) C dX1_fours_60 (show _ = nI 5 by decide +kernel) rfl ?_
                                                              refine r_goto (pc := 63) (tgt := 8) C dX1_fours_63 (by decide) ?_
                                                              refine r_iload_4 (pc := 8) C dX1_fours_8 ?_
                                                              refine r_iload_3 (pc := 10) C dX1_fours_10 ?_
                                                              refine r_icmp_ge (pc := 11) (tgt := 66) C dX1_fours_11 (by decide) (fun b11 => ?_) (fun b11 => ?_)
                                                              · skip
                                                                refine r_vret (pc := 66) C E (by omega) (by omega) dX1_fours_66 ?_
                                                                exact rfl
                                                              · exact absurd b11 (by decide +kernel)
                                                            · exact absurd b26 (by decide +kernel)
                                                · exact absurd b26 (by decide +kernel)
                                    · exact absurd b26 (by decide +kernel)
                        · exact absurd b26 (by decide +kernel)
            · exact absurd b26 (by decide +kernel)
set_option maxHeartbeats 4000000 in
theorem c_append {g : GZ} {A : HA} {c a : Nat} {d : Nat → Nat} {σ : Rw} (hc : (A.G c).1 = 1) (hn : A.R c 0 = some a) (hL : Ly A a d σ) (hv : Lv A.I a d σ) (hJ : RowJ σ) {bf L : Nat} (hb : A.R c 3 = some bf) (hbk : (A.G bf).1 = 201) (hbn : A.n bf = 900) (hlL : A.I c 4 = nI L) (h9 : L ≤ 900) {va vb vc vd ve : Int32} : Ct g wI yX1_append (.code yX1_append cX1_append 6 (Option.some Jvm.ClassFile.FieldType.int)) 8 1 6 [.ref c, .int va, .int vb, .int vc, .int vd, .int ve] (A) (fun u A' => L + 20 ≤ 900 ∧ u = nI (L + 20) ∧ A'.I c = upd (A.I c) 4 (nI (L + 20)) ∧ A'.R c = A.R c ∧ A'.I bf = fivC (A.I bf) L va vb vc vd ve ∧ Gw A A' (fun y => y = c ∨ y = bf) ∧ A'.z = A.z + 1) (fun q A' => ¬ L + 20 ≤ 900 ∧ TX A A' Non 18 q) := by
  refine Ct.of [some (.ref c), some (.int va), some (.int vb), some (.int vc), some (.int vd), some (.int ve)] (by decide) rfl rfl fun z C hx hnm E => ?_
  have hW := hJ.w
  have hS := hW.s
  have hw3 := hS.w3
  have hw10 := hS.w10
  have hh8 := hS.h8
  have hc80 := hS.c80
  have k6 := hW.k6
  have g6 := hW.g6
  have hC : ∀ c, c < 80 → CelF σ c := fun c hc => (hJ.c hc).fe
  have d9 := hW.d9
  refine r_Z fun hZ => ?_
  have lc := hZ.lt hc rfl
  have lb := hZ.lt hbk rfl
  have nbc : bf ≠ c := fun z => by rw [z, hc] at hbk; cases hbk
  refine r_aload_0 (pc := 0) C dX1_append_0 ?_
  refine r_getI (pc := 1) C fl_X1_104_1 (by first | exact hc | exact hcD) rfl dX1_append_1 ?_
  refine r_top hlL ?_
  refine r_bipush (pc := 4) C dX1_append_4 cb_20 ?_
  refine r_iadd (pc := 6) C dX1_append_6 ?_
  refine r_top (nI_add _ _) ?_
  refine r_sipush (pc := 7) C dX1_append_7 cs_900 ?_
  refine r_icmp_le (pc := 10) (tgt := 21) C dX1_append_10 (by decide) (fun b10 => ?_) (fun b10 => ?_)
  · skip
    have b10 := (nI_le2 (by omega) (by omega)).mp b10
    refine r_aload_0 (pc := 21) C dX1_append_21 ?_
    refine r_iconst (pc := 22) C dX1_append_22 ci_5 ?_
    refine r_newI (pc := 23) C 130 (0) (Nat.zero_le _) rfl q334 rfl (by omega) (by omega) (by omega) dX1_append_23 ?_
    refine r_dup (pc := 25) C dX1_append_25 rfl ?_
    refine r_iconst (pc := 26) C dX1_append_26 ci_0 ?_
    refine r_iload_1 (pc := 27) C dX1_append_27 ?_
    refine r_iast (pc := 28) C (show ((A.mk 130 0 5).G A.z).1 = 130 by rw [mk_G, if_pos rfl]) rfl rfl (lt_eq (by omega) (show (A.mk 130 0 5).n A.z = 5 by rw [mk_n, if_pos rfl])) (by omega) dX1_append_28 ?_
    refine r_dup (pc := 29) C dX1_append_29 rfl ?_
    refine r_iconst (pc := 30) C dX1_append_30 ci_1 ?_
    refine r_iload_2 (pc := 31) C dX1_append_31 ?_
    refine r_iast (pc := 32) C (show ((A.mk 130 0 5).G A.z).1 = 130 by rw [mk_G, if_pos rfl]) rfl rfl (lt_eq (by omega) (show (A.mk 130 0 5).n A.z = 5 by rw [mk_n, if_pos rfl])) (by omega) dX1_append_32 ?_
    refine r_dup (pc := 33) C dX1_append_33 rfl ?_
    refine r_iconst (pc := 34) C dX1_append_34 ci_2 ?_
    refine r_iload_3 (pc := 35) C dX1_append_35 ?_
    refine r_iast (pc := 36) C (show ((A.mk 130 0 5).G A.z).1 = 130 by rw [mk_G, if_pos rfl]) rfl rfl (lt_eq (by omega) (show (A.mk 130 0 5).n A.z = 5 by rw [mk_n, if_pos rfl])) (by omega) dX1_append_36 ?_
    refine r_dup (pc := 37) C dX1_append_37 rfl ?_
    refine r_iconst (pc := 38) C dX1_append_38 ci_3 ?_
    refine r_iload_4 (pc := 39) C dX1_append_39 ?_
    refine r_iast (pc := 41) C (show ((A.mk 130 0 5).G A.z).1 = 130 by rw [mk_G, if_pos rfl]) rfl rfl (lt_eq (by omega) (show (A.mk 130 0 5).n A.z = 5 by rw [mk_n, if_pos rfl])) (by omega) dX1_append_41 ?_
    refine r_dup (pc := 42) C dX1_append_42 rfl ?_
    refine r_iconst (pc := 43) C dX1_append_43 ci_4 ?_
    refine r_iload_5 (pc := 44) C dX1_append_44 ?_
    refine r_iast (pc := 46) C (show ((A.mk 130 0 5).G A.z).1 = 130 by rw [mk_G, if_pos rfl]) rfl rfl (lt_eq (by omega) (show (A.mk 130 0 5).n A.z = 5 by rw [mk_n, if_pos rfl])) (by omega) dX1_append_46 ?_
    refine r_genA fun D hD => ?_
    have gD : D.G = (A.mk 130 0 5).G := by rw [hD]; rfl
    have rD : D.R = (A.mk 130 0 5).R := by rw [hD]; rfl
    have nD : D.n = (A.mk 130 0 5).n := by rw [hD]; rfl
    have zD : D.z = A.z + 1 := by rw [hD]; rfl
    have iD : D.I A.z = upd (upd (upd (upd (upd (fun _ => 0) 0 va) 1 vb) 2 vc) 3 vd) 4 ve := by rw [hD]; simp only [sI_s]; rw [mk_I, if_pos rfl]
    have xD : ∀ x, x < A.z → D.I x = A.I x := fun x hx => by have hne : x ≠ A.z := (by omega); rw [hD, sI_o _ _ hne, sI_o _ _ hne, sI_o _ _ hne, sI_o _ _ hne, sI_o _ _ hne, mk_I, if_neg hne]
    have hcD : (D.G c).1 = 1 := by rw [gD, mk_G, if_neg (Nat.ne_of_lt lc)]; exact hc
    have hbD : (D.G bf).1 = 201 := by rw [gD, mk_G, if_neg (Nat.ne_of_lt lb)]; exact hbk
    have htD : (D.G A.z).1 = 130 := by rw [gD, mk_G, if_pos rfl]
    have hnD : D.n bf = 900 := by rw [nD, mk_n, if_neg (Nat.ne_of_lt lb)]; exact hbn
    have htnD : D.n A.z = 5 := by rw [nD, mk_n, if_pos rfl]
    have hRc : D.R c = A.R c := by rw [rD, mk_R, if_neg (Nat.ne_of_lt lc)]
    have hGD : Gw A D Non := ⟨by omega, fun x hx => ⟨by rw [gD, mk_G, if_neg (Nat.ne_of_lt hx)], by rw [nD, mk_n, if_neg (Nat.ne_of_lt hx)], fun _ => ⟨by rw [hD]; show (A.mk 130 0 5).L x = A.L x; rw [mk_L, if_neg (Nat.ne_of_lt hx)], xD x hx, by rw [rD, mk_R, if_neg (Nat.ne_of_lt hx)]⟩⟩⟩
    clear hD
    refine r_V1vo (pc := 47) C (c_fours5 hcD ((congrFun hRc 3).trans hb) hbD hnD ((congrFun (xD c lc) 4).trans hlL) (by omega) htD htnD) vl_X1_110 (by first | exact hc | exact hcD) (by decide) (by omega) (by omega) (Nat.le_of_ble_eq_true rfl) rfl dX1_append_47 (fun u1 A1 hc1 => ?_)
    refine r_eqA hc1 ?_
    clear hc1 A1 u1
    refine r_aload_0 (pc := 50) C dX1_append_50 ?_
    refine r_getI (pc := 51) C fl_X1_104_1 (by exact hcD) rfl dX1_append_51 ?_
    refine r_top BH_len ?_
    refine r_iret (pc := 54) C E rfl (by omega) (by omega) dX1_append_54 ?_
    refine ⟨by omega, rfl, ?_, ?_, ?_, ?_, zD⟩
    · unfold BH; rw [sI_s, xD c lc]
    · exact hRc
    · rw [BH_bf nbc, xD bf lb, iD]; rfl
    · exact (hGD.mono (fun _ _ q => q.elim)).tr ((gw_sI (fun _ => Or.inr rfl)).tr (gw_sI (fun _ => Or.inl rfl)))
  · skip
    have b10 := (not_congr (nI_le2 (by omega) (by omega))).mp b10
    refine r_make18 (pc := 13) C dX1_append_13 dX1_append_16 dX1_append_17 (by decide) (Nat.le_of_ble_eq_true rfl) rfl (by omega) (by omega) fun m hm => ?_
    refine r_athrow (pc := 20) C dX1_append_20 ?_
    refine r_out C E (by rw [hx]; exact fun x h => nomatch h) (En := RJ17) ((congrArg fw_ex (tx_mz (X := Non) hm).1).trans rfl) (by omega) (by omega) (⟨by omega, tx_mz hm⟩)
set_option maxHeartbeats 4000000 in
theorem c_truncate {g : GZ} {A : HA} {c a : Nat} {d : Nat → Nat} {σ : Rw} (hc : (A.G c).1 = 1) (hn : A.R c 0 = some a) (hL : Ly A a d σ) (hv : Lv A.I a d σ) (hJ : RowJ σ) {L : Nat} (hlL : A.I c 4 = nI L) (h9 : L ≤ 900) {x : Int32} : Ct g wI yX1_truncate (.code yX1_truncate cX1_truncate 2 (Option.some Jvm.ClassFile.FieldType.int)) 8 1 6 [.ref c, .int x] (A) (fun u A' => inZ x 0 L ∧ u = x ∧ A' = A.sI c (upd (A.I c) 4 x)) (fun q A' => ¬ inZ x 0 L ∧ TX A A' Non 19 q) := by
  refine Ct.of [some (.ref c), some (.int x)] (by decide) rfl rfl fun z C hx hnm E => ?_
  have hW := hJ.w
  have hS := hW.s
  have hw3 := hS.w3
  have hw10 := hS.w10
  have hh8 := hS.h8
  have hc80 := hS.c80
  have k6 := hW.k6
  have g6 := hW.g6
  have hC : ∀ c, c < 80 → CelF σ c := fun c hc => (hJ.c hc).fe
  have d9 := hW.d9
  refine r_iload_1 (pc := 0) C dX1_truncate_0 ?_
  refine r_i2l (pc := 1) C dX1_truncate_1 ?_
  refine r_lconst (pc := 2) (v := 0) C dX1_truncate_2 (by decide) ?_
  refine r_aload_0 (pc := 3) C dX1_truncate_3 ?_
  refine r_getI (pc := 4) C fl_X1_104_1 (by exact hc) rfl dX1_truncate_4 ?_
  refine r_top hlL ?_
  refine r_i2l (pc := 7) C dX1_truncate_7 ?_
  refine r_S3io (pc := 8) C (c_inZ (p := 0) (q := (L : Int)) (by decide) (by rw [t_long (by omega)])) sl_X1_114 (by decide) (by omega) (by omega) (Nat.le_of_ble_eq_true rfl) rfl dX1_truncate_8 (fun u1 A1 hc1 => ?_)
  refine r_top hc1.1 ?_
  refine r_eqA hc1.2 ?_
  clear hc1 A1 u1
  refine r_S1vx (pc := 11) C (c_argument) sl_X1_118 (by decide) (by omega) (by omega) (Nat.le_of_ble_eq_true rfl) rfl dX1_truncate_11 (fun q A9 hp hE => r_out C E (by rw [hx]; exact fun x h => nomatch h) hE.choose_spec (by omega) (by omega) (hp)) (fun u2 A2 hc2 => ?_)
  obtain ⟨hp2, eA2⟩ := hc2
  refine r_eqA eA2 ?_
  clear eA2 A2 u2
  refine r_aload_0 (pc := 14) C dX1_truncate_14 ?_
  refine r_iload_1 (pc := 15) C dX1_truncate_15 ?_
  refine r_putI (pc := 16) C fl_X1_104_1 (by exact hc) rfl (fun _ _ _ h => by cases h; exact Or.inl rfl) rfl rfl rfl dX1_truncate_16 ?_
  refine r_iload_1 (pc := 19) C dX1_truncate_19 ?_
  refine r_iret (pc := 20) C E rfl (by omega) (by omega) dX1_truncate_20 ?_
  exact ⟨by assumption, rfl, rfl⟩
