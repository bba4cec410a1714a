/-! THE WAY, as it is gone over -/
set_option maxRecDepth 100000
/-- what the lawn's way gives -/
def Wi (A : HA) (p a : Nat) (d : Nat → Nat) (k : Nat) : Prop := (A.G p).1 = 11 ∧ A.R p 0 = some (d (30 + k)) ∧ A.R p 1 = some a
/-- the scratch's numbers may change, its references don't -/
def Gs (A B : HA) (d : Nat → Nat) : Prop := Gw A B (Sc d) ∧ ∀ x, x < A.z → B.R x = A.R x
theorem Gs.rf {A : HA} {d : Nat → Nat} : Gs A A d := ⟨Gw.rf, fun _ _ => rfl⟩
theorem Gs.FH {A : HA} {d : Nat → Nat} {κ μ : Nat → Int32} : Gs A (FH A d κ μ) d := ⟨sm_FH.gw, fun _ _ => rfl⟩
theorem Gs.nx {A B D : HA} {d : Nat → Nat} {X : Nat → Prop} (h : Gs A B d) (hw : Gw B D X) (hX : ∀ y, y < A.z → ¬ X y) : Gs A D d := ⟨h.1.tr2 hw (fun y hy q => absurd q (hX y hy)), fun x hx => by
  rw [← h.2 x hx]
  exact ((hw.2 x (Nat.lt_of_lt_of_le hx h.1.1)).2.2 (hX x hx)).2.2⟩
theorem Gs.tr {A B D : HA} {d : Nat → Nat} (h : Gs A B d) (h2 : Gs B D d) : Gs A D d := ⟨h.1.tr h2.1, fun x hx => (h2.2 x (Nat.lt_of_lt_of_le hx h.1.1)).trans (h.2 x hx)⟩
theorem Gs.ly {A B : HA} {a : Nat} {d : Nat → Nat} {σ : Rw} (hz : Zk A) (hL : Ly A a d σ) (h : Gs A B d) : Ly B a d σ := by
  have e : ∀ y, Fp a d (rK σ) (rG σ) y → B.G y = A.G y ∧ B.n y = A.n y ∧ B.R y = A.R y := fun y hy => by
    have hl := fp_lt hz hL hy
    have v := h.1.2 y hl
    exact ⟨v.1, v.2.1, h.2 y hl⟩
  -- by a heap whose ints are as before
  have hw : Gw A (B.1, A.I, B.2.2.1, A.L, B.2.2.2.2.1, B.2.2.2.2.2) Non := ⟨h.1.1, fun x hx => ⟨(h.1.2 x hx).1, (h.1.2 x hx).2.1, fun _ => ⟨rfl, rfl, h.2 x hx⟩⟩⟩
  exact ly_gw (B := (B.1, A.I, B.2.2.1, A.L, B.2.2.2.2.1, B.2.2.2.2.2)) hz hL hw (fun _ _ q => q)
theorem Gs.lv {A B : HA} {a : Nat} {d : Nat → Nat} {σ : Rw} (hz : Zk A) (hL : Ly A a d σ) (hv : Lv A.I a d σ) (h : Gs A B d) : Lv B.I a d σ := by
  have h1 : Lv (fun x => if x < A.z then (if x = d 15 ∨ x = d 16 ∨ x = d 17 ∨ x = d 18 then A.I x else B.I x) else A.I x) a d σ := by
    have e : (fun x => if x < A.z then (if x = d 15 ∨ x = d 16 ∨ x = d 17 ∨ x = d 18 then A.I x else B.I x) else A.I x) = A.I := by
      funext x
      by_cases q : x < A.z
      · rw [if_pos q]
        by_cases q2 : x = d 15 ∨ x = d 16 ∨ x = d 17 ∨ x = d 18
        · rw [if_pos q2]
        · rw [if_neg q2]; exact ((h.1.2 x q).2.2 q2).2.1
      · rw [if_neg q]
    rw [e]; exact hv
  have h2 : Lv (fun x => if x < A.z then B.I x else A.I x) a d σ := by
    refine hv.sc hL (fun x hx => ?_)
    show (if x < A.z then B.I x else A.I x) = A.I x
    by_cases q : x < A.z
    · rw [if_pos q]; exact ((h.1.2 x q).2.2 hx).2.1
    · rw [if_neg q]
  have e : ∀ y, Fp a d (rK σ) (rG σ) y → B.I y = (fun x => if x < A.z then B.I x else A.I x) y := fun y hy => (if_pos (fp_lt hz hL hy)).symm
  have e0 := e a (Or.inl rfl)
  refine ⟨⟨?_, ?_, ?_, ?_, ?_, ?_, ?_⟩, fun r hr => ?_, fun j hj => ?_⟩
  · rw [e0]; exact h2.w
  · rw [e0]; exact h2.h
  · rw [e0]; exact h2.gr
  · rw [e0]; exact h2.wt
  · rw [e0]; exact h2.c
  · rw [e (d 20) (Or.inr (Or.inr (Or.inl (Or.inr (Or.inr (Or.inl rfl))))))]; exact h2.nk
  · rw [e (d 22) (Or.inr (Or.inr (Or.inl (Or.inr (Or.inr (Or.inr (Or.inr (Or.inl rfl))))))))]; exact h2.ng
  · rw [e (d (40 + r)) (Or.inr (Or.inr (Or.inr (Or.inr ⟨r, hr, rfl⟩))))]; exact h2.gate hr
  · rw [e _ (sA_fp hj)]; exact h2.2.2 j hj
theorem Gs.ic {g : GZ} {A B : HA} {a : Nat} {d : Nat → Nat} {σ : Rw} (hz : Zk A) (hL : Ly A a d σ) (h : Gs A B d) (hI : IcK g A) : IcK g B := hI.gw hz h.1 (fun y _ q => by have := q.k hL; omega)
set_option maxHeartbeats 4000000 in
theorem j_X11_init {g : GZ} {A : HA} {p a : Nat} {d : Nat → Nat} {k : Nat} (hp : (A.G p).1 = 11) : Ct g wV yX11_init (.code yX11_init cX11_init 3 (Option.none : Option Jvm.ClassFile.FieldType)) 2 0 0 [.ref p, .ref a, .ref (d (30 + k))] (A) (fun u A' => A' = OB A p (va_up (va_up (A.R p) 1 (some a)) 0 (some (d (30 + k)))) (A.I p)) fw_no := by
  refine Ct.of [some (.ref p), some (.ref a), some (.ref (d (30 + k)))] (by decide) rfl rfl fun z C hx hnm E => ?_
  refine r_aload_0 (pc := 0) C dX11_init_0 ?_
  refine r_aload_1 (pc := 1) C dX11_init_1 ?_
  refine r_eqA (OB_self A p) ?_
  refine r_putR (pc := 2) C fl_X11_1_11 (by exact hp) rfl (fun _ _ _ h => by cases h; exact Or.inr ⟨rfl, hnm⟩) rfl dX11_init_2 ?_
  refine r_eqA (OB_R _ _ _ _ _ _) ?_
  refine r_aload_0 (pc := 5) C dX11_init_5 ?_
  refine r_aload_2 (pc := 6) C dX11_init_6 ?_
  refine r_putR (pc := 7) C fl_X11_7_11 (by exact hp) rfl (fun _ _ _ h => by cases h; exact Or.inr ⟨rfl, hnm⟩) rfl dX11_init_7 ?_
  refine r_eqA (OB_R _ _ _ _ _ _) ?_
  refine r_aload_0 (pc := 10) C dX11_init_10 ?_
  refine r_objInit (pc := 11) C q1040 q199 q200 rfl (Nat.le_of_ble_eq_true rfl) (by decide) dX11_init_11 ?_
  refine r_vret (pc := 14) C E (Nat.le_refl _) (Nat.le_refl _) dX11_init_14 ?_
  exact rfl
set_option maxHeartbeats 4000000 in
theorem j_iterator {g : GZ} {A : HA} {a : Nat} {d : Nat → Nat} {σ : Rw} (hL : Ly A a d σ) (hv : Lv A.I a d σ) (hJ : RowJ σ) {k : Nat} (hk : k < rK σ) {p : Nat} (hW : Wi A p a d k) : Ct g wR yX11_iterator (.code yX11_iterator cX11_iterator 1 (Option.some (Jvm.ClassFile.FieldType.object "java/util/Iterator"))) 8 1 4 [.ref p] (A) (fun u A' => u = A.z ∧ It A' A.z a d σ k 0 ∧ Gw A A' Non) fw_no := by
  refine Ct.of [some (.ref p)] (by decide) rfl rfl fun z C hx hnm E => ?_
  refine r_Z fun hZ => ?_
  have hpz := hZ.lt hW.1 rfl
  have hne : p ≠ A.z := Nat.ne_of_lt hpz
  have hp9 : ((A.mk 12 A.z 0).G p).1 = 11 := by show (if p = A.z then _ else A.G p).1 = 11; rw [if_neg hne]; exact hW.1
  have hr0 : (A.mk 12 A.z 0).R p 0 = some (d (30 + k)) := (congrFun (if_neg hne) 0).trans hW.2.1
  have hr1 : (A.mk 12 A.z 0).R p 1 = some a := (congrFun (if_neg hne) 1).trans hW.2.2
  have hw9 : Gw A (A.mk 12 A.z 0) Non := gw_mk
  have hL9 := ly_gw hZ hL hw9 (fun _ _ q => q)
  have hv9 := lv_gw hZ hL hv hw9 (fun _ _ q => q)
  refine r_new (pc := 0) C (A.z) (by omega) nl_X11_17 NF12 (by omega) (by omega) dX11_iterator_0 ?_
  refine r_dup (pc := 3) C dX11_iterator_3 rfl ?_
  refine r_aload_0 (pc := 4) C dX11_iterator_4 ?_
  refine r_getR (pc := 5) C fl_X11_1_11 hp9 rfl hr1 dX11_iterator_5 ?_
  refine r_aload_0 (pc := 8) C dX11_iterator_8 ?_
  refine r_getR (pc := 9) C fl_X11_7_11 hp9 rfl hr0 dX11_iterator_9 ?_
  refine r_I2vo (pc := 12) C (j_X12_init hL9 hv9 hJ (k := k) hk (congrArg Prod.fst (if_pos rfl)) ((congrFun (if_pos rfl) 2).trans nI0.symm)) il_X11_19 (by decide) (by omega) (by omega) (Nat.le_of_ble_eq_true rfl) rfl dX11_iterator_12 (fun u1 A1 hc1 => ?_)
  have hpost := hc1
  clear hc1 u1
  generalize A1 = B at hpost ⊢
  refine r_aret (pc := 15) C E rfl (by omega) (by omega) dX11_iterator_15 ?_
  exact ⟨rfl, hpost.1, hw9.tr2 hpost.2 (fun y h1 h2 => absurd h2 (Nat.ne_of_lt h1))⟩
set_option maxHeartbeats 4000000 in
theorem l_way {g : GZ} {A : HA} {a : Nat} {d : Nat → Nat} {σ : Rw} (hL : Ly A a d σ) (hv : Lv A.I a d σ) (hW : RowW σ) (hC : ∀ c, c < 80 → CelF σ c) (hK : GK σ) (hG : GdK g) {k : Nat} (hk : k < rK σ) : Ct g wR yX2_way (.code yX2_way cX2_way 3 (Option.some (Jvm.ClassFile.FieldType.object "java/lang/Iterable"))) 8 1 2 [.ref a, .ref (d (30 + k))] (A) (fun u A' => Wi A' u a d k ∧ Far A' d σ k ∧ Gs A A' d) fw_no := by
  refine Ct.of [some (.ref a), some (.ref (d (30 + k))), none] (by decide) rfl rfl fun z C hx hnm E => ?_
  have hS := hW.s
  have hw3 := hS.w3
  have hw10 := hS.w10
  have hh8 := hS.h8
  have hc80 := hS.c80
  have k6 := hW.k6
  have g6 := hW.g6
  refine r_Z fun hZ => ?_
  refine r_aload_0 (pc := 0) C dX2_way_0 ?_
  refine r_aload_1 (pc := 1) C dX2_way_1 ?_
  refine r_getS (pc := 2) C (hG 0 (by omega)).1 q1033 dX2_way_2 ?_
  refine r_V2io (pc := 5) C (l_tellsFar hL hv hW hC hK hk (by omega) (hG 0 (by omega)).2) vl_X2_170 (ly_g hL) (by decide) (by omega) (by omega) (Nat.le_of_ble_eq_true rfl) rfl dX2_way_5 (fun u1 A1 hc1 => ?_)
  obtain ⟨⟨f, κ, μ, eA1, hκ, hfo, hfc⟩, eu1⟩ := hc1
  refine r_top eu1 ?_
  have hGs : Gs A A1 d := by rw [eA1]; exact Gs.FH
  have hFar : Far A1 d σ k := ⟨f, fun j hj => by rw [eA1, FH_15 hL]; exact hκ j hj, hfo, hfc⟩
  clear eu1 u1 eA1
  generalize A1 = B at hGs hFar ⊢
  refine r_Z fun hZB => ?_
  have haB : a ≤ B.z := Nat.le_trans (Nat.le_of_lt (hZ.lt (ly_g hL) rfl)) hGs.1.1
  have hpB : ((B.mk 11 a 0).G B.z).1 = 11 := congrArg Prod.fst (if_pos rfl)
  refine r_istore_2 (pc := 8) C dX2_way_8 rfl ?_
  refine r_new (pc := 9) C (a) (by omega) nl_X2_174 NF11 (by omega) (by omega) dX2_way_9 ?_
  refine r_dup (pc := 12) C dX2_way_12 rfl ?_
  refine r_aload_0 (pc := 13) C dX2_way_13 ?_
  refine r_aload_1 (pc := 14) C dX2_way_14 ?_
  refine r_I2vo (pc := 15) C (j_X11_init (a := a) (d := d) (k := k) hpB) il_X2_176 (by decide) (by omega) (by omega) (Nat.le_of_ble_eq_true rfl) rfl dX2_way_15 (fun u2 A2 hc2 => ?_)
  refine r_eqA hc2 ?_
  clear hc2 A2 u2
  refine r_aret (pc := 18) C E rfl (by omega) (by omega) dX2_way_18 ?_
  have hw : Gw B (OB (B.mk 11 a 0) B.z (va_up (va_up ((B.mk 11 a 0).R B.z) 1 (some a)) 0 (some (d (30 + k)))) ((B.mk 11 a 0).I B.z)) Non := gw_mk.tr2 (gw_OB _ _ _ _ (X := fun y => y = B.z) (fun _ => rfl)) (fun y h1 h2 => absurd h2 (Nat.ne_of_lt h1))
  exact ⟨⟨hpB, by rw [OB_r]; rfl, by rw [OB_r]; rfl⟩, hFar.gw hZB (hGs.ly hZ hL) hw (fun q => q), hGs.nx hw (fun _ _ q => q)⟩
