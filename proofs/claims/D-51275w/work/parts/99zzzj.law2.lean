/-! THE LAW, 2: questions -/
set_option maxRecDepth 100000
def okE (x y : Nat) : Bool := decide (FP.f2d (FP.fdiv (FP.i2f (nI x)) (FP.i2f (nI y))) &&& 0x7fffffffffffffff ≤ 0x7ff0000000000000)
set_option maxRecDepth 100000 in
theorem okE_all : allD (fun y => allD (fun x => okE x (y + 1)) (y + 2)) 80 = true := by decide +kernel
theorem nan32d {x y : Nat} (h0 : y ≠ 0) (h : y ≤ 80) (hx : x ≤ y) : vf_n64 (FP.f2d (FP.fdiv (FP.i2f (nI x)) (FP.i2f (nI y)))) := by
  have h1 := allD_k (k := y - 1) 80 okE_all (by omega)
  have h2 := allD_k (k := x) _ h1 (by omega)
  rw [show y - 1 + 1 = y by omega] at h2
  have h3 : decide (FP.f2d (FP.fdiv (FP.i2f (nI x)) (FP.i2f (nI y))) &&& 0x7fffffffffffffff ≤ 0x7ff0000000000000) = true := h2
  have h4 := of_decide_eq_true h3
  exact h4
theorem many_80 {σ : Rw} {k : Nat} (h : RowW σ) : manyR σ k ≤ 80 := by
  have hc80 := h.s.c80
  have := smN_mul (f := fun c => b01 (decide (σ (153 + 5 * c + 0) = nI k))) (h := fun _ => 1) (m := 1) (rC σ) (fun j hj => by
    show b01 (decide (σ (153 + 5 * j + 0) = nI k)) ≤ 1 * 1
    by_cases q : σ (153 + 5 * j + 0) = nI k
    · rw [b01_t q]; omega
    · rw [b01_f q]; omega)
  have h1 : ∀ n, smN (fun _ => 1) n = n := fun n => by
    induction n with
    | zero => rfl
    | succ n ih => show smN (fun _ => 1) n + 1 = n + 1; rw [ih]
  rw [h1] at this
  have e : manyR σ k = smN (fun c => b01 (decide (σ (153 + 5 * c + 0) = nI k))) (rC σ) := rfl
  omega
theorem share_n {σ : Rw} (h : RowW σ) : vf_n64 (FP.f2d (shareA σ)) := by
  unfold shareA
  by_cases q : manyR σ 0 = 0
  · rw [if_pos q]
    show FP.f2d 0 &&& 0x7fffffffffffffff ≤ 0x7ff0000000000000
    decide +kernel
  · rw [if_neg q]
    exact nan32d q (many_80 h) bare_many
/-- what the start gives -/
def LwG (g : GZ) : Prop := GdK g ∧ zS g ∧ LamK g ∧ TkC g ∧ RdC g ∧ DsC g ∧ ((g.A.G (g.c 83)).1 = 83 ∧ g.A.n (g.c 83) = 0 ∧ g.c 83 < g.b) ∧ (∀ D, fw_old g D → TwK g D) ∧ va_Nc RJ18 RJ22 g.s
section
variable {g : GZ}
theorem LwG.gd (K : LwG g) : GdK g := K.1
theorem LwG.zs (K : LwG g) : zS g := K.2.1
theorem LwG.lam (K : LwG g) : LamK g := K.2.2.1
theorem LwG.tk (K : LwG g) : TkC g := K.2.2.2.1
theorem LwG.rd (K : LwG g) : RdC g := K.2.2.2.2.1
theorem LwG.ds (K : LwG g) : DsC g := K.2.2.2.2.2.1
theorem LwG.c83 (K : LwG g) : (g.A.G (g.c 83)).1 = 83 ∧ g.A.n (g.c 83) = 0 ∧ g.c 83 < g.b := K.2.2.2.2.2.2.1
theorem LwG.tw (K : LwG g) : ∀ D, fw_old g D → TwK g D := K.2.2.2.2.2.2.2.1
theorem LwG.nc (K : LwG g) : va_Nc RJ18 RJ22 g.s := K.2.2.2.2.2.2.2.2
end
theorem gs_o {A D : HA} {d : Nat → Nat} {o : Nat} (hG : Gs A D d) (lo : o < A.z) (h1 : (A.G o).1 = 401) (h2 : A.n o = 1) : (D.G o).1 = 401 ∧ D.n o = 1 := ⟨by rw [(hG.1.2 o lo).1]; exact h1, by rw [(hG.1.2 o lo).2.1]; exact h2⟩
theorem t2_k {A D : HA} {p r : Prop} {q : Nat} (h : T2 A D p r q) : (D.G q).1 = 20 ∨ (D.G q).1 = 19 := h.elim (fun z => Or.inl z.2.1) (fun z => Or.inr z.2.2.1)
theorem NmS.namS {A : HA} {nm f : Nat} {σ : Rw} (h : NmS A nm σ f) : NamS σ f := by
  obtain ⟨v, l, n, -, h2, h3, h4⟩ := h
  have e : nt (σ f) = n := by rw [h2]; exact nt_n (by omega)
  refine ⟨by rw [e]; exact h2, by rw [e]; exact h3.1, by rw [e]; exact h3.2.1, fun i hi => ?_⟩
  rw [e] at hi
  obtain ⟨q1, q2, q3⟩ := h4 i hi
  exact ⟨l i, q2, q3, q1⟩
theorem NmK.namI {A : HA} {d : Nat → Nat} {σ : Rw} (h : NmK A d σ) : NamI σ := by
  refine ⟨fun r hr => ?_, fun k hk => ?_⟩
  · obtain ⟨nm, -, h2⟩ := h.2 r hr
    exact h2.namS
  · obtain ⟨nm, -, h2⟩ := h.1 k hk
    exact h2.namS
theorem NmK.namL {A : HA} {d : Nat → Nat} {σ : Rw} (h : NmK A d σ) : NamL σ := by
  refine ⟨fun r hr => ?_, fun k hk => ?_⟩
  · obtain ⟨nm, -, v, l, n, -, h2, h3, -⟩ := h.2 r hr
    exact ⟨n, h2, h3.2.1⟩
  · obtain ⟨nm, -, v, l, n, -, h2, h3, -⟩ := h.1 k hk
    exact ⟨n, h2, h3.2.1⟩
set_option maxHeartbeats 1000000 in
theorem lw_size {g : GZ} {A : HA} {c t o : Nat} {x0 : Int32} (K : LwG g) (hP : LwP g c t o A) (hz : Zk A) (hzo : Zo A) (hold : fw_old g A) : Ct g wI yX0_size (.codeWith yX0_size cX0_size 4 (Option.some Jvm.ClassFile.FieldType.int) [(0, 9, 12, 19)]) 67 1 6 [.ref c, .int x0, .ref o] A (fun u B => LwQ g c t o Int32.toInt64 yX6_size (.code yX6_size cX6_size 2 (Option.some Jvm.ClassFile.FieldType.int)) 5 [.int x0] u B) fw_no := by
  obtain ⟨σ, m, P, kp, L, Bf, n0, fo, e5, e6, ⟨a, pq, pe, h, bf, ob, v, mo, d, f, w⟩, wt, h1, h2⟩ := hP
  have lo := hz.lt h1 rfl
  refine lq_one (lf := Int32.toInt64) (w_size (c_size (w := x0) w.kc w.now w.lawn.1.1 w.lawn.1.2.1 w.row.1 w.past w.deq) w.kc (fun v D z => gs_o (d := d) (by first | exact z.2.2 | exact Gs.of z.2.2 | (rw [z.2.2]; exact Gs.rf) | (obtain ⟨κ, μ, e⟩ := z.2.2; rw [e]; exact Gs.FH)) lo h1 h2) (fun q D z => z.2.1)) (fun v D z => ⟨z.1, z.2.1, (by first | exact z.2.2 | exact Gs.of z.2.2 | (rw [z.2.2]; exact Gs.rf) | (obtain ⟨κ, μ, e⟩ := z.2.2; rw [e]; exact Gs.FH))⟩) (fun q D z => ⟨z.1, Gs.of z.2.2⟩) w wt hz h1 h2 (fun B wtB holdB => ?_)
  have H := m_size (g := g) (A := B) (t := t) (σ := σ) (κ := B.I (t + 6)) (π := B.I (t + 7)) (τ := B.I t) (w := x0) wtB.tw w.row.1.w wtB.mn
  rw [wtB.sF5] at H
  exact H
set_option maxHeartbeats 1000000 in
theorem lw_cell {g : GZ} {A : HA} {c t o : Nat} {x0 x1 x2 : Int32} (K : LwG g) (hP : LwP g c t o A) (hz : Zk A) (hzo : Zo A) (hold : fw_old g A) : Ct g wI yX0_cell (.codeWith yX0_cell cX0_cell 6 (Option.some Jvm.ClassFile.FieldType.int) [(0, 12, 15, 35), (0, 12, 19, 19)]) 67 13 42 [.ref c, .int x0, .int x1, .int x2, .ref o] A (fun u B => LwQ g c t o Int32.toInt64 yX6_cell (.code yX6_cell cX6_cell 4 (Option.some Jvm.ClassFile.FieldType.int)) 9 [.int x0, .int x1, .int x2] u B) fw_no := by
  obtain ⟨σ, m, P, kp, L, Bf, n0, fo, e5, e6, ⟨a, pq, pe, h, bf, ob, v, mo, d, f, w⟩, wt, h1, h2⟩ := hP
  have lo := hz.lt h1 rfl
  refine lq_two (lf := Int32.toInt64) (w_cell (c_cell (x := x0) (y := x1) (w := x2) w.kc w.now w.lawn.1.1 w.lawn.1.2.1 w.row.1 K.gd w.ic) w.kc (fun v D z => gs_o (d := d) (by first | exact z.2.2.2 | exact Gs.of z.2.2.2 | (rw [z.2.2.2]; exact Gs.rf) | (obtain ⟨κ, μ, e⟩ := z.2.2.2; rw [e]; exact Gs.FH)) lo h1 h2) (fun q D z => t2_k z) K.nc) (fun v D z => ⟨z.1, z.2.1, z.2.2.1, (by first | exact z.2.2.2 | exact Gs.of z.2.2.2 | (rw [z.2.2.2]; exact Gs.rf) | (obtain ⟨κ, μ, e⟩ := z.2.2.2; rw [e]; exact Gs.FH))⟩) (fun q D z => z) w wt hz h1 h2 (fun B wtB holdB => ?_)
  have H := m_cell (g := g) (A := B) (t := t) (σ := σ) (κ := B.I (t + 6)) (π := B.I (t + 7)) (τ := B.I t) (x := x0) (y := x1) (w := x2) wtB.tw w.row.1.w w.row.1.y
  rw [wtB.sF5] at H
  exact H
set_option maxHeartbeats 1000000 in
theorem lw_gate {g : GZ} {A : HA} {c t o : Nat} {x0 x1 : Int32} (K : LwG g) (hP : LwP g c t o A) (hz : Zk A) (hzo : Zo A) (hold : fw_old g A) : Ct g wI yX0_gate (.codeWith yX0_gate cX0_gate 5 (Option.some Jvm.ClassFile.FieldType.int) [(0, 10, 13, 35), (0, 10, 17, 19)]) 67 2 12 [.ref c, .int x0, .int x1, .ref o] A (fun u B => LwQ g c t o Int32.toInt64 yX6_gate (.code yX6_gate cX6_gate 3 (Option.some Jvm.ClassFile.FieldType.int)) 3 [.int x0, .int x1] u B) fw_no := by
  obtain ⟨σ, m, P, kp, L, Bf, n0, fo, e5, e6, ⟨a, pq, pe, h, bf, ob, v, mo, d, f, w⟩, wt, h1, h2⟩ := hP
  have lo := hz.lt h1 rfl
  refine lq_two (lf := Int32.toInt64) (w_gate (c_gate (x := x0) (w := x1) w.kc w.now w.lawn.1.1 w.lawn.1.2.1 w.row.1 K.zs w.lawn.1.2.2) w.kc (fun v D z => gs_o (d := d) (by first | exact z.2.2.2 | exact Gs.of z.2.2.2 | (rw [z.2.2.2]; exact Gs.rf) | (obtain ⟨κ, μ, e⟩ := z.2.2.2; rw [e]; exact Gs.FH)) lo h1 h2) (fun q D z => t2_k z) K.nc) (fun v D z => ⟨z.1, z.2.1, z.2.2.1, (by first | exact z.2.2.2 | exact Gs.of z.2.2.2 | (rw [z.2.2.2]; exact Gs.rf) | (obtain ⟨κ, μ, e⟩ := z.2.2.2; rw [e]; exact Gs.FH))⟩) (fun q D z => z) w wt hz h1 h2 (fun B wtB holdB => ?_)
  have H := m_gate (g := g) (A := B) (t := t) (σ := σ) (κ := B.I (t + 6)) (π := B.I (t + 7)) (τ := B.I t) (x := x0) (w := x1) wtB.tw w.row.1.w
  rw [wtB.sF5] at H
  exact H
set_option maxHeartbeats 1000000 in
theorem lw_walker {g : GZ} {A : HA} {c t o : Nat} {x0 x1 : Int32} (K : LwG g) (hP : LwP g c t o A) (hz : Zk A) (hzo : Zo A) (hold : fw_old g A) : Ct g wI yX0_walker (.codeWith yX0_walker cX0_walker 5 (Option.some Jvm.ClassFile.FieldType.int) [(0, 10, 13, 35), (0, 10, 17, 19)]) 67 2 12 [.ref c, .int x0, .int x1, .ref o] A (fun u B => LwQ g c t o Int32.toInt64 yX6_walker (.code yX6_walker cX6_walker 3 (Option.some Jvm.ClassFile.FieldType.int)) 3 [.int x0, .int x1] u B) fw_no := by
  obtain ⟨σ, m, P, kp, L, Bf, n0, fo, e5, e6, ⟨a, pq, pe, h, bf, ob, v, mo, d, f, w⟩, wt, h1, h2⟩ := hP
  have lo := hz.lt h1 rfl
  refine lq_two (lf := Int32.toInt64) (w_walker (c_walker (x := x0) (w := x1) w.kc w.now w.lawn.1.1 w.lawn.1.2.1 w.row.1 K.zs w.lawn.1.2.2) w.kc (fun v D z => gs_o (d := d) (by first | exact z.2.2.2 | exact Gs.of z.2.2.2 | (rw [z.2.2.2]; exact Gs.rf) | (obtain ⟨κ, μ, e⟩ := z.2.2.2; rw [e]; exact Gs.FH)) lo h1 h2) (fun q D z => t2_k z) K.nc) (fun v D z => ⟨z.1, z.2.1, z.2.2.1, (by first | exact z.2.2.2 | exact Gs.of z.2.2.2 | (rw [z.2.2.2]; exact Gs.rf) | (obtain ⟨κ, μ, e⟩ := z.2.2.2; rw [e]; exact Gs.FH))⟩) (fun q D z => z) w wt hz h1 h2 (fun B wtB holdB => ?_)
  have H := m_walker (g := g) (A := B) (t := t) (σ := σ) (κ := B.I (t + 6)) (π := B.I (t + 7)) (τ := B.I t) (x := x0) (w := x1) wtB.tw w.row.1.w
  rw [wtB.sF5] at H
  exact H
set_option maxHeartbeats 1000000 in
theorem lw_nameByte {g : GZ} {A : HA} {c t o : Nat} {x0 x2 : Int32} {pp : Prop} [Decidable pp] (K : LwG g) (hP : LwP g c t o A) (hz : Zk A) (hzo : Zo A) (hold : fw_old g A) : Ct g wI yX0_nameByte (.codeWith yX0_nameByte cX0_nameByte 6 (Option.some Jvm.ClassFile.FieldType.int) [(0, 12, 15, 35)]) 67 1 6 [.ref c, .int x0, .int (bI pp), .int x2, .ref o] A (fun u B => LwQ g c t o Int32.toInt64 yX6_nameByte (.code yX6_nameByte cX6_nameByte 5 (Option.some Jvm.ClassFile.FieldType.int)) 3 [.int x0, .int (bI pp), .int x2] u B) fw_no := by
  obtain ⟨σ, m, P, kp, L, Bf, n0, fo, e5, e6, ⟨a, pq, pe, h, bf, ob, v, mo, d, f, w⟩, wt, h1, h2⟩ := hP
  have lo := hz.lt h1 rfl
  refine lq_one (lf := Int32.toInt64) (w_nameByte (c_nameByte (x := x0) (y := x2) (p := pp) w.kc w.now w.lawn.1.1 w.lawn.1.2.1 w.row.1 K.zs w.lawn.1.2.2) w.kc (fun v D z => gs_o (d := d) (by first | exact z.2.2 | exact Gs.of z.2.2 | (rw [z.2.2]; exact Gs.rf) | (obtain ⟨κ, μ, e⟩ := z.2.2; rw [e]; exact Gs.FH)) lo h1 h2) (fun q D z => z.2.1)) (fun v D z => ⟨z.1, z.2.1, (by first | exact z.2.2 | exact Gs.of z.2.2 | (rw [z.2.2]; exact Gs.rf) | (obtain ⟨κ, μ, e⟩ := z.2.2; rw [e]; exact Gs.FH))⟩) (fun q D z => ⟨z.1, Gs.of z.2.2⟩) w wt hz h1 h2 (fun B wtB holdB => ?_)
  have H := m_nameByte (g := g) (A := B) (t := t) (σ := σ) (κ := B.I (t + 6)) (π := B.I (t + 7)) (τ := B.I t) (x := x0) (y := x2) (p := pp) wtB.tw w.row.1.w w.lawn.1.2.2.namI
  rw [wtB.sF5] at H
  exact H
set_option maxHeartbeats 1000000 in
theorem lw_isWet {g : GZ} {A : HA} {c t o : Nat} {x0 : Int32} (K : LwG g) (hP : LwP g c t o A) (hz : Zk A) (hzo : Zo A) (hold : fw_old g A) : Ct g wI yX0_isWet (.codeWith yX0_isWet cX0_isWet 4 (Option.some Jvm.ClassFile.FieldType.int) [(0, 16, 19, 19)]) 67 1 6 [.ref c, .int x0, .ref o] A (fun u B => LwQ g c t o (fun v => if v = 0 then 0 else 1) yX6_isWet (.code yX6_isWet cX6_isWet 2 (Option.some Jvm.ClassFile.FieldType.boolean)) 2 [.int x0] u B) fw_no := by
  obtain ⟨σ, m, P, kp, L, Bf, n0, fo, e5, e6, ⟨a, pq, pe, h, bf, ob, v, mo, d, f, w⟩, wt, h1, h2⟩ := hP
  have lo := hz.lt h1 rfl
  refine lq_one (lf := (fun v => if v = 0 then 0 else 1)) (w_isWet (c_isWet (x := x0) w.kc w.now w.lawn.1.1 w.lawn.1.2.1 w.row.1) w.kc (fun v D z => gs_o (d := d) (by first | exact z.2.2 | exact Gs.of z.2.2 | (rw [z.2.2]; exact Gs.rf) | (obtain ⟨κ, μ, e⟩ := z.2.2; rw [e]; exact Gs.FH)) lo h1 h2) (fun q D z => z.2.1)) (fun v D z => ⟨z.1, z.2.1, (by first | exact z.2.2 | exact Gs.of z.2.2 | (rw [z.2.2]; exact Gs.rf) | (obtain ⟨κ, μ, e⟩ := z.2.2; rw [e]; exact Gs.FH))⟩) (fun q D z => ⟨z.1, Gs.of z.2.2⟩) w wt hz h1 h2 (fun B wtB holdB => ?_)
  have H := m_isWet (g := g) (A := B) (t := t) (σ := σ) (κ := B.I (t + 6)) (π := B.I (t + 7)) (τ := B.I t) (w := x0) wtB.tw w.row.1.w
  rw [wtB.sF5] at H
  exact H
set_option maxHeartbeats 1000000 in
theorem lw_cost {g : GZ} {A : HA} {c t o : Nat} {x0 x1 x2 : Int32} (K : LwG g) (hP : LwP g c t o A) (hz : Zk A) (hzo : Zo A) (hold : fw_old g A) : Ct g wI yX0_cost (.codeWith yX0_cost cX0_cost 6 (Option.some Jvm.ClassFile.FieldType.int) [(0, 12, 15, 35)]) 67 2 12 [.ref c, .int x0, .int x1, .int x2, .ref o] A (fun u B => LwQ g c t o Int32.toInt64 yX6_cost (.code yX6_cost cX6_cost 4 (Option.some Jvm.ClassFile.FieldType.int)) 4 [.int x0, .int x1, .int x2] u B) fw_no := by
  obtain ⟨σ, m, P, kp, L, Bf, n0, fo, e5, e6, ⟨a, pq, pe, h, bf, ob, v, mo, d, f, w⟩, wt, h1, h2⟩ := hP
  have lo := hz.lt h1 rfl
  refine lq_one (lf := Int32.toInt64) (w_cost (c_cost (x := x0) (y := x1) (w := x2) w.kc w.now w.lawn.1.1 w.lawn.1.2.1 w.row.1) w.kc (fun v D z => gs_o (d := d) (by first | exact z.2.2 | exact Gs.of z.2.2 | (rw [z.2.2]; exact Gs.rf) | (obtain ⟨κ, μ, e⟩ := z.2.2; rw [e]; exact Gs.FH)) lo h1 h2) (fun q D z => z.2.1)) (fun v D z => ⟨z.1, z.2.1, (by first | exact z.2.2 | exact Gs.of z.2.2 | (rw [z.2.2]; exact Gs.rf) | (obtain ⟨κ, μ, e⟩ := z.2.2; rw [e]; exact Gs.FH))⟩) (fun q D z => ⟨z.1, Gs.of z.2.2⟩) w wt hz h1 h2 (fun B wtB holdB => ?_)
  have H := m_cost (g := g) (A := B) (t := t) (σ := σ) (κ := B.I (t + 6)) (π := B.I (t + 7)) (τ := B.I t) (z := x0) (x := x1) (y := x2) wtB.tw w.row.1.w
  rw [wtB.sF5] at H
  exact H
set_option maxHeartbeats 1000000 in
theorem lw_wayCost {g : GZ} {A : HA} {c t o : Nat} {x0 : Int32} (K : LwG g) (hP : LwP g c t o A) (hz : Zk A) (hzo : Zo A) (hold : fw_old g A) : Ct g wI yX0_wayCost (.codeWith yX0_wayCost cX0_wayCost 4 (Option.some Jvm.ClassFile.FieldType.int) [(0, 9, 12, 35)]) 67 1 6 [.ref c, .int x0, .ref o] A (fun u B => LwQ g c t o Int32.toInt64 yX6_wayCost (.code yX6_wayCost cX6_wayCost 2 (Option.some Jvm.ClassFile.FieldType.int)) 7 [.int x0] u B) fw_no := by
  obtain ⟨σ, m, P, kp, L, Bf, n0, fo, e5, e6, ⟨a, pq, pe, h, bf, ob, v, mo, d, f, w⟩, wt, h1, h2⟩ := hP
  have lo := hz.lt h1 rfl
  refine lq_one (lf := Int32.toInt64) (w_wayCost (c_wayCost (x := x0) w.kc w.now w.lawn.1.1 w.lawn.1.2.1 w.row.1 K.gd) w.kc (fun v D z => gs_o (d := d) (by first | exact z.2.2 | exact Gs.of z.2.2 | (rw [z.2.2]; exact Gs.rf) | (obtain ⟨κ, μ, e⟩ := z.2.2; rw [e]; exact Gs.FH)) lo h1 h2) (fun q D z => z.2.1)) (fun v D z => ⟨z.1, z.2.1, (by first | exact z.2.2 | exact Gs.of z.2.2 | (rw [z.2.2]; exact Gs.rf) | (obtain ⟨κ, μ, e⟩ := z.2.2; rw [e]; exact Gs.FH))⟩) (fun q D z => ⟨z.1, Gs.of z.2.2⟩) w wt hz h1 h2 (fun B wtB holdB => ?_)
  have H := m_wayCost (g := g) (A := B) (t := t) (σ := σ) (κ := B.I (t + 6)) (π := B.I (t + 7)) (τ := B.I t) (x := x0) wtB.tw w.row.1.w w.row.1.y
  rw [wtB.sF5] at H
  exact H
set_option maxHeartbeats 1000000 in
theorem lw_waySteps {g : GZ} {A : HA} {c t o : Nat} {x0 : Int32} (K : LwG g) (hP : LwP g c t o A) (hz : Zk A) (hzo : Zo A) (hold : fw_old g A) : Ct g wI yX0_waySteps (.codeWith yX0_waySteps cX0_waySteps 4 (Option.some Jvm.ClassFile.FieldType.int) [(0, 9, 12, 35)]) 67 3 12 [.ref c, .int x0, .ref o] A (fun u B => LwQ g c t o Int32.toInt64 yX6_waySteps (.code yX6_waySteps cX6_waySteps 3 (Option.some Jvm.ClassFile.FieldType.int)) 7 [.int x0] u B) fw_no := by
  obtain ⟨σ, m, P, kp, L, Bf, n0, fo, e5, e6, ⟨a, pq, pe, h, bf, ob, v, mo, d, f, w⟩, wt, h1, h2⟩ := hP
  have lo := hz.lt h1 rfl
  refine lq_one (lf := Int32.toInt64) (w_waySteps (c_waySteps (x := x0) w.kc w.now w.lawn.1.1 w.lawn.1.2.1 w.row.1 K.gd w.ic) w.kc (fun v D z => gs_o (d := d) (by first | exact z.2.2 | exact Gs.of z.2.2 | (rw [z.2.2]; exact Gs.rf) | (obtain ⟨κ, μ, e⟩ := z.2.2; rw [e]; exact Gs.FH)) lo h1 h2) (fun q D z => z.2.1)) (fun v D z => ⟨z.1, z.2.1, (by first | exact z.2.2 | exact Gs.of z.2.2 | (rw [z.2.2]; exact Gs.rf) | (obtain ⟨κ, μ, e⟩ := z.2.2; rw [e]; exact Gs.FH))⟩) (fun q D z => ⟨z.1, Gs.of z.2.2⟩) w wt hz h1 h2 (fun B wtB holdB => ?_)
  have H := m_waySteps (g := g) (A := B) (t := t) (σ := σ) (κ := B.I (t + 6)) (π := B.I (t + 7)) (τ := B.I t) (x := x0) wtB.tw w.row.1.w w.row.1.y
  rw [wtB.sF5] at H
  exact H
set_option maxHeartbeats 1000000 in
theorem lw_wayCell {g : GZ} {A : HA} {c t o : Nat} {x0 x1 : Int32} (K : LwG g) (hP : LwP g c t o A) (hz : Zk A) (hzo : Zo A) (hold : fw_old g A) : Ct g wI yX0_wayCell (.codeWith yX0_wayCell cX0_wayCell 5 (Option.some Jvm.ClassFile.FieldType.int) [(0, 10, 13, 35)]) 67 3 12 [.ref c, .int x0, .int x1, .ref o] A (fun u B => LwQ g c t o Int32.toInt64 yX6_wayCell (.code yX6_wayCell cX6_wayCell 4 (Option.some Jvm.ClassFile.FieldType.int)) 7 [.int x0, .int x1] u B) fw_no := by
  obtain ⟨σ, m, P, kp, L, Bf, n0, fo, e5, e6, ⟨a, pq, pe, h, bf, ob, v, mo, d, f, w⟩, wt, h1, h2⟩ := hP
  have lo := hz.lt h1 rfl
  refine lq_one (lf := Int32.toInt64) (w_wayCell (c_wayCell (x := x0) (y := x1) w.kc w.now w.lawn.1.1 w.lawn.1.2.1 w.row.1 K.gd w.ic) w.kc (fun v D z => gs_o (d := d) (by first | exact z.2.2 | exact Gs.of z.2.2 | (rw [z.2.2]; exact Gs.rf) | (obtain ⟨κ, μ, e⟩ := z.2.2; rw [e]; exact Gs.FH)) lo h1 h2) (fun q D z => z.2.1)) (fun v D z => ⟨z.1, z.2.1, (by first | exact z.2.2 | exact Gs.of z.2.2 | (rw [z.2.2]; exact Gs.rf) | (obtain ⟨κ, μ, e⟩ := z.2.2; rw [e]; exact Gs.FH))⟩) (fun q D z => ⟨z.1, Gs.of z.2.2⟩) w wt hz h1 h2 (fun B wtB holdB => ?_)
  have H := m_wayCell (g := g) (A := B) (t := t) (σ := σ) (κ := B.I (t + 6)) (π := B.I (t + 7)) (τ := B.I t) (x := x0) (y := x1) wtB.tw w.row.1.w w.row.1.y
  rw [wtB.sF5] at H
  exact H
set_option maxHeartbeats 1000000 in
theorem lw_why {g : GZ} {A : HA} {c t o : Nat} {x0 x1 : Int32} (K : LwG g) (hP : LwP g c t o A) (hz : Zk A) (hzo : Zo A) (hold : fw_old g A) : Ct g wI yX0_why (.codeWith yX0_why cX0_why 5 (Option.some Jvm.ClassFile.FieldType.int) [(0, 10, 13, 35), (0, 10, 17, 19)]) 67 6 24 [.ref c, .int x0, .int x1, .ref o] A (fun u B => LwQ g c t o Int32.toInt64 yX6_why (.code yX6_why cX6_why 3 (Option.some Jvm.ClassFile.FieldType.int)) 8 [.int x0, .int x1] u B) fw_no := by
  obtain ⟨σ, m, P, kp, L, Bf, n0, fo, e5, e6, ⟨a, pq, pe, h, bf, ob, v, mo, d, f, w⟩, wt, h1, h2⟩ := hP
  have lo := hz.lt h1 rfl
  refine lq_two (lf := Int32.toInt64) (w_why (c_why (x := x0) (w := x1) w.kc w.now w.lawn.1.1 w.lawn.1.2.1 w.row.1 K.gd w.ic) w.kc (fun v D z => gs_o (d := d) (by first | exact z.2.2.2 | exact Gs.of z.2.2.2 | (rw [z.2.2.2]; exact Gs.rf) | (obtain ⟨κ, μ, e⟩ := z.2.2.2; rw [e]; exact Gs.FH)) lo h1 h2) (fun q D z => t2_k z) K.nc) (fun v D z => ⟨z.1, z.2.1, z.2.2.1, (by first | exact z.2.2.2 | exact Gs.of z.2.2.2 | (rw [z.2.2.2]; exact Gs.rf) | (obtain ⟨κ, μ, e⟩ := z.2.2.2; rw [e]; exact Gs.FH))⟩) (fun q D z => z) w wt hz h1 h2 (fun B wtB holdB => ?_)
  have H := m_why (g := g) (A := B) (t := t) (σ := σ) (κ := B.I (t + 6)) (π := B.I (t + 7)) (τ := B.I t) (x := x0) (w := x1) wtB.tw w.row.1.w w.row.1.y
  rw [wtB.sF5] at H
  exact H
set_option maxHeartbeats 1000000 in
theorem lw_keptBy {g : GZ} {A : HA} {c t o : Nat} {x0 x1 x2 : Int32} (K : LwG g) (hP : LwP g c t o A) (hz : Zk A) (hzo : Zo A) (hold : fw_old g A) : Ct g wI yX0_keptBy (.codeWith yX0_keptBy cX0_keptBy 6 (Option.some Jvm.ClassFile.FieldType.int) [(0, 12, 15, 35), (0, 12, 19, 19)]) 67 26 90 [.ref c, .int x0, .int x1, .int x2, .ref o] A (fun u B => LwQ g c t o Int32.toInt64 yX6_keptBy (.code yX6_keptBy cX6_keptBy 4 (Option.some Jvm.ClassFile.FieldType.int)) 9 [.int x0, .int x1, .int x2] u B) fw_no := by
  obtain ⟨σ, m, P, kp, L, Bf, n0, fo, e5, e6, ⟨a, pq, pe, h, bf, ob, v, mo, d, f, w⟩, wt, h1, h2⟩ := hP
  have lo := hz.lt h1 rfl
  refine lq_two (lf := Int32.toInt64) (w_keptBy (c_keptBy (x := x0) (y := x1) (w := x2) w.kc w.now w.lawn.1.1 w.lawn.1.2.1 w.row.1 K.gd w.ic) w.kc (fun v D z => gs_o (d := d) (by first | exact z.2.2.2 | exact Gs.of z.2.2.2 | (rw [z.2.2.2]; exact Gs.rf) | (obtain ⟨κ, μ, e⟩ := z.2.2.2; rw [e]; exact Gs.FH)) lo h1 h2) (fun q D z => t2_k z) K.nc) (fun v D z => ⟨z.1, z.2.1, z.2.2.1, (by first | exact z.2.2.2 | exact Gs.of z.2.2.2 | (rw [z.2.2.2]; exact Gs.rf) | (obtain ⟨κ, μ, e⟩ := z.2.2.2; rw [e]; exact Gs.FH))⟩) (fun q D z => z) w wt hz h1 h2 (fun B wtB holdB => ?_)
  have H := m_keptBy (g := g) (A := B) (t := t) (σ := σ) (κ := B.I (t + 6)) (π := B.I (t + 7)) (τ := B.I t) (x := x0) (y := x1) (w := x2) wtB.tw w.row.1.w w.row.1.y
  rw [wtB.sF5] at H
  exact H
set_option maxHeartbeats 1000000 in
theorem lw_account {g : GZ} {A : HA} {c t o : Nat} {x0 : Int32} (K : LwG g) (hP : LwP g c t o A) (hz : Zk A) (hzo : Zo A) (hold : fw_old g A) : Ct g wI yX0_account (.codeWith yX0_account cX0_account 4 (Option.some Jvm.ClassFile.FieldType.int) [(0, 9, 12, 19)]) 67 1 6 [.ref c, .int x0, .ref o] A (fun u B => LwQ g c t o Int32.toInt64 yX6_account (.code yX6_account cX6_account 2 (Option.some Jvm.ClassFile.FieldType.int)) 2 [.int x0] u B) fw_no := by
  obtain ⟨σ, m, P, kp, L, Bf, n0, fo, e5, e6, ⟨a, pq, pe, h, bf, ob, v, mo, d, f, w⟩, wt, h1, h2⟩ := hP
  have lo := hz.lt h1 rfl
  refine lq_one (lf := Int32.toInt64) (w_account (c_account (x := x0) w.kc w.now w.lawn.1.1 w.lawn.1.2.1 w.row.1) w.kc (fun v D z => gs_o (d := d) (by first | exact z.2.2 | exact Gs.of z.2.2 | (rw [z.2.2]; exact Gs.rf) | (obtain ⟨κ, μ, e⟩ := z.2.2; rw [e]; exact Gs.FH)) lo h1 h2) (fun q D z => z.2.1)) (fun v D z => ⟨z.1, z.2.1, (by first | exact z.2.2 | exact Gs.of z.2.2 | (rw [z.2.2]; exact Gs.rf) | (obtain ⟨κ, μ, e⟩ := z.2.2; rw [e]; exact Gs.FH))⟩) (fun q D z => ⟨z.1, Gs.of z.2.2⟩) w wt hz h1 h2 (fun B wtB holdB => ?_)
  have H := m_account (g := g) (A := B) (t := t) (σ := σ) (κ := B.I (t + 6)) (π := B.I (t + 7)) (τ := B.I t) (w := x0) wtB.tw
  rw [wtB.sF5] at H
  exact H
set_option maxHeartbeats 1000000 in
theorem lw_grassIn {g : GZ} {A : HA} {c t o : Nat} {x0 x1 x2 : Int32} (K : LwG g) (hP : LwP g c t o A) (hz : Zk A) (hzo : Zo A) (hold : fw_old g A) : Ct g wI yX0_grassIn (.codeWith yX0_grassIn cX0_grassIn 6 (Option.some Jvm.ClassFile.FieldType.int) [(0, 12, 15, 35), (0, 12, 19, 19)]) 67 27 952 [.ref c, .int x0, .int x1, .int x2, .ref o] A (fun u B => LwQ g c t o Int32.toInt64 yX6_grassIn (.code yX6_grassIn cX6_grassIn 4 (Option.some Jvm.ClassFile.FieldType.int)) 10 [.int x0, .int x1, .int x2] u B) fw_no := by
  obtain ⟨σ, m, P, kp, L, Bf, n0, fo, e5, e6, ⟨a, pq, pe, h, bf, ob, v, mo, d, f, w⟩, wt, h1, h2⟩ := hP
  have lo := hz.lt h1 rfl
  refine lq_two (lf := Int32.toInt64) (w_grassIn (c_grassIn (x := x0) (y := x1) (w := x2) w.kc w.now w.lawn.1.1 w.lawn.1.2.1 w.row.1 K.gd w.de w.nam w.row.2) w.kc (fun v D z => gs_o (d := d) (by first | exact z.2.2.2 | exact Gs.of z.2.2.2 | (rw [z.2.2.2]; exact Gs.rf) | (obtain ⟨κ, μ, e⟩ := z.2.2.2; rw [e]; exact Gs.FH)) lo h1 h2) (fun q D z => t2_k z) K.nc) (fun v D z => ⟨z.1, z.2.1, z.2.2.1, (by first | exact z.2.2.2 | exact Gs.of z.2.2.2 | (rw [z.2.2.2]; exact Gs.rf) | (obtain ⟨κ, μ, e⟩ := z.2.2.2; rw [e]; exact Gs.FH))⟩) (fun q D z => z) w wt hz h1 h2 (fun B wtB holdB => ?_)
  have H := m_grassIn (g := g) (A := B) (t := t) (σ := σ) (κ := B.I (t + 6)) (π := B.I (t + 7)) (τ := B.I t) (x := x0) (y := x1) (w := x2) wtB.tw w.row.1.w w.row.1.y w.row.2
  rw [wtB.sF5] at H
  exact H
set_option maxHeartbeats 1000000 in
theorem lw_bareIn {g : GZ} {A : HA} {c t o : Nat} {x0 : Int32} (K : LwG g) (hP : LwP g c t o A) (hz : Zk A) (hzo : Zo A) (hold : fw_old g A) : Ct g wI yX0_bareIn (.codeWith yX0_bareIn cX0_bareIn 4 (Option.some Jvm.ClassFile.FieldType.int) [(0, 9, 12, 19)]) 67 26 946 [.ref c, .int x0, .ref o] A (fun u B => LwQ g c t o Int32.toInt64 yX6_bareIn (.code yX6_bareIn cX6_bareIn 2 (Option.some Jvm.ClassFile.FieldType.int)) 10 [.int x0] u B) fw_no := by
  obtain ⟨σ, m, P, kp, L, Bf, n0, fo, e5, e6, ⟨a, pq, pe, h, bf, ob, v, mo, d, f, w⟩, wt, h1, h2⟩ := hP
  have lo := hz.lt h1 rfl
  refine lq_one (lf := Int32.toInt64) (w_bareIn (c_bareIn (x := x0) w.kc w.now w.lawn.1.1 w.lawn.1.2.1 w.row.1 K.gd w.de w.nam w.row.2) w.kc (fun v D z => gs_o (d := d) (by first | exact z.2.2 | exact Gs.of z.2.2 | (rw [z.2.2]; exact Gs.rf) | (obtain ⟨κ, μ, e⟩ := z.2.2; rw [e]; exact Gs.FH)) lo h1 h2) (fun q D z => z.2.1)) (fun v D z => ⟨z.1, z.2.1, (by first | exact z.2.2 | exact Gs.of z.2.2 | (rw [z.2.2]; exact Gs.rf) | (obtain ⟨κ, μ, e⟩ := z.2.2; rw [e]; exact Gs.FH))⟩) (fun q D z => ⟨z.1, Gs.of z.2.2⟩) w wt hz h1 h2 (fun B wtB holdB => ?_)
  have H := m_bareIn (g := g) (A := B) (t := t) (σ := σ) (κ := B.I (t + 6)) (π := B.I (t + 7)) (τ := B.I t) (w := x0) wtB.tw w.row.1.w w.row.1.y w.row.2
  rw [wtB.sF5] at H
  exact H
set_option maxHeartbeats 1000000 in
theorem lw_whenBare {g : GZ} {A : HA} {c t o : Nat} {x0 x1 : Int32} (K : LwG g) (hP : LwP g c t o A) (hz : Zk A) (hzo : Zo A) (hold : fw_old g A) : Ct g wI yX0_whenBare (.codeWith yX0_whenBare cX0_whenBare 5 (Option.some Jvm.ClassFile.FieldType.int) [(0, 10, 13, 35)]) 67 26 946 [.ref c, .int x0, .int x1, .ref o] A (fun u B => LwQ g c t o Int32.toInt64 yX6_whenBare (.code yX6_whenBare cX6_whenBare 5 (Option.some Jvm.ClassFile.FieldType.int)) 9 [.int x0, .int x1] u B) fw_no := by
  obtain ⟨σ, m, P, kp, L, Bf, n0, fo, e5, e6, ⟨a, pq, pe, h, bf, ob, v, mo, d, f, w⟩, wt, h1, h2⟩ := hP
  have lo := hz.lt h1 rfl
  refine lq_one (lf := Int32.toInt64) (w_whenBare (c_whenBare (x := x0) (y := x1) w.kc w.now w.lawn.1.1 w.lawn.1.2.1 w.row.1 K.gd w.de w.nam w.row.2) w.kc (fun v D z => gs_o (d := d) (by first | exact z.2.2 | exact Gs.of z.2.2 | (rw [z.2.2]; exact Gs.rf) | (obtain ⟨κ, μ, e⟩ := z.2.2; rw [e]; exact Gs.FH)) lo h1 h2) (fun q D z => z.2.1)) (fun v D z => ⟨z.1, z.2.1, (by first | exact z.2.2 | exact Gs.of z.2.2 | (rw [z.2.2]; exact Gs.rf) | (obtain ⟨κ, μ, e⟩ := z.2.2; rw [e]; exact Gs.FH))⟩) (fun q D z => ⟨z.1, Gs.of z.2.2⟩) w wt hz h1 h2 (fun B wtB holdB => ?_)
  have H := m_whenBare (g := g) (A := B) (t := t) (σ := σ) (κ := B.I (t + 6)) (π := B.I (t + 7)) (τ := B.I t) (x := x0) (y := x1) wtB.tw w.row.1.w w.row.1.y w.row.2
  rw [wtB.sF5] at H
  exact H
set_option maxHeartbeats 1000000 in
theorem lw_ifFence {g : GZ} {A : HA} {c t o : Nat} {x0 x1 x2 : Int32} (K : LwG g) (hP : LwP g c t o A) (hz : Zk A) (hzo : Zo A) (hold : fw_old g A) : Ct g wI yX0_ifFence (.codeWith yX0_ifFence cX0_ifFence 6 (Option.some Jvm.ClassFile.FieldType.int) [(0, 12, 15, 35)]) 67 31 980 [.ref c, .int x0, .int x1, .int x2, .ref o] A (fun u B => LwQ g c t o Int32.toInt64 yX6_ifFence (.code yX6_ifFence cX6_ifFence 7 (Option.some Jvm.ClassFile.FieldType.int)) 8 [.int x0, .int x1, .int x2] u B) fw_no := by
  obtain ⟨σ, m, P, kp, L, Bf, n0, fo, e5, e6, ⟨a, pq, pe, h, bf, ob, v, mo, d, f, w⟩, wt, h1, h2⟩ := hP
  have lo := hz.lt h1 rfl
  refine lq_one (lf := Int32.toInt64) (w_ifFence (c_ifFence (x := x0) (y := x1) (w := x2) w.kc w.now w.lawn.1.1 w.lawn.1.2.1 w.row.1 K.gd w.de w.nam w.row.2) w.kc (fun v D z => gs_o (d := d) (by first | exact z.2.2 | exact Gs.of z.2.2 | (rw [z.2.2]; exact Gs.rf) | (obtain ⟨κ, μ, e⟩ := z.2.2; rw [e]; exact Gs.FH)) lo h1 h2) (fun q D z => z.2.1)) (fun v D z => ⟨z.1, z.2.1, (by first | exact z.2.2 | exact Gs.of z.2.2 | (rw [z.2.2]; exact Gs.rf) | (obtain ⟨κ, μ, e⟩ := z.2.2; rw [e]; exact Gs.FH))⟩) (fun q D z => ⟨z.1, Gs.of z.2.2⟩) w wt hz h1 h2 (fun B wtB holdB => ?_)
  have H := m_ifFence (g := g) (A := B) (t := t) (σ := σ) (κ := B.I (t + 6)) (π := B.I (t + 7)) (τ := B.I t) (z := x0) (x := x1) (y := x2) wtB.tw w.row.1.w (fun _ h9 => w.row.1.c h9)
  rw [wtB.sF5] at H
  exact H
set_option maxHeartbeats 1000000 in
theorem lw_ifOpen {g : GZ} {A : HA} {c t o : Nat} {x0 : Int32} (K : LwG g) (hP : LwP g c t o A) (hz : Zk A) (hzo : Zo A) (hold : fw_old g A) : Ct g wI yX0_ifOpen (.codeWith yX0_ifOpen cX0_ifOpen 4 (Option.some Jvm.ClassFile.FieldType.int) [(0, 9, 12, 35)]) 67 1 6 [.ref c, .int x0, .ref o] A (fun u B => LwQ g c t o Int32.toInt64 yX6_ifOpen (.code yX6_ifOpen cX6_ifOpen 2 (Option.some Jvm.ClassFile.FieldType.int)) 6 [.int x0] u B) fw_no := by
  obtain ⟨σ, m, P, kp, L, Bf, n0, fo, e5, e6, ⟨a, pq, pe, h, bf, ob, v, mo, d, f, w⟩, wt, h1, h2⟩ := hP
  have lo := hz.lt h1 rfl
  refine lq_one (lf := Int32.toInt64) (w_ifOpen (c_ifOpen (x := x0) w.kc w.now w.lawn.1.1 w.lawn.1.2.1 w.row.1 K.gd) w.kc (fun v D z => gs_o (d := d) (by first | exact z.2.2 | exact Gs.of z.2.2 | (rw [z.2.2]; exact Gs.rf) | (obtain ⟨κ, μ, e⟩ := z.2.2; rw [e]; exact Gs.FH)) lo h1 h2) (fun q D z => z.2.1)) (fun v D z => ⟨z.1, z.2.1, (by first | exact z.2.2 | exact Gs.of z.2.2 | (rw [z.2.2]; exact Gs.rf) | (obtain ⟨κ, μ, e⟩ := z.2.2; rw [e]; exact Gs.FH))⟩) (fun q D z => ⟨z.1, Gs.of z.2.2⟩) w wt hz h1 h2 (fun B wtB holdB => ?_)
  have H := m_ifOpen (g := g) (A := B) (t := t) (σ := σ) (κ := B.I (t + 6)) (π := B.I (t + 7)) (τ := B.I t) (x := x0) wtB.tw w.row.1.w
  rw [wtB.sF5] at H
  exact H
set_option maxHeartbeats 1000000 in
theorem lw_bestFence {g : GZ} {A : HA} {c t o : Nat} {x0 : Int32} (K : LwG g) (hP : LwP g c t o A) (hz : Zk A) (hzo : Zo A) (hold : fw_old g A) : Ct g wI yX0_bestFence (.codeWith yX0_bestFence cX0_bestFence 4 (Option.some Jvm.ClassFile.FieldType.int) [(0, 9, 12, 19)]) 67 2321 77446 [.ref c, .int x0, .ref o] A (fun u B => LwQ g c t o Int32.toInt64 yX6_bestFence (.code yX6_bestFence cX6_bestFence 6 (Option.some Jvm.ClassFile.FieldType.int)) 12 [.int x0] u B) fw_no := by
  obtain ⟨σ, m, P, kp, L, Bf, n0, fo, e5, e6, ⟨a, pq, pe, h, bf, ob, v, mo, d, f, w⟩, wt, h1, h2⟩ := hP
  have lo := hz.lt h1 rfl
  refine lq_one (lf := Int32.toInt64) (w_bestFence (c_bestFence (w := x0) w.kc w.now w.lawn.1.1 w.lawn.1.2.1 w.row.1 K.gd w.de w.nam w.row.2) w.kc (fun v D z => gs_o (d := d) (by first | exact z.2.2 | exact Gs.of z.2.2 | (rw [z.2.2]; exact Gs.rf) | (obtain ⟨κ, μ, e⟩ := z.2.2; rw [e]; exact Gs.FH)) lo h1 h2) (fun q D z => z.2.1)) (fun v D z => ⟨z.1, z.2.1, (by first | exact z.2.2 | exact Gs.of z.2.2 | (rw [z.2.2]; exact Gs.rf) | (obtain ⟨κ, μ, e⟩ := z.2.2; rw [e]; exact Gs.FH))⟩) (fun q D z => ⟨z.1, Gs.of z.2.2⟩) w wt hz h1 h2 (fun B wtB holdB => ?_)
  have H := m_bestFence (g := g) (A := B) (t := t) (σ := σ) (κ := B.I (t + 6)) (π := B.I (t + 7)) (τ := B.I t) (w := x0) wtB.tw w.row.1.w w.row.1.y (fun _ h9 => w.row.1.c h9) w.row.2
  rw [wtB.sF5] at H
  exact H
set_option maxHeartbeats 1000000 in
theorem lw_ifHaste {g : GZ} {A : HA} {c t o : Nat} {x0 x1 x2 : Int32} (K : LwG g) (hP : LwP g c t o A) (hz : Zk A) (hzo : Zo A) (hold : fw_old g A) : Ct g wI yX0_ifHaste (.codeWith yX0_ifHaste cX0_ifHaste 6 (Option.some Jvm.ClassFile.FieldType.int) [(0, 12, 15, 35), (0, 12, 19, 19)]) 67 52 1898 [.ref c, .int x0, .int x1, .int x2, .ref o] A (fun u B => LwQ g c t o Int32.toInt64 yX6_ifHaste (.code yX6_ifHaste cX6_ifHaste 5 (Option.some Jvm.ClassFile.FieldType.int)) 11 [.int x0, .int x1, .int x2] u B) fw_no := by
  obtain ⟨σ, m, P, kp, L, Bf, n0, fo, e5, e6, ⟨a, pq, pe, h, bf, ob, v, mo, d, f, w⟩, wt, h1, h2⟩ := hP
  have lo := hz.lt h1 rfl
  refine lq_two (lf := Int32.toInt64) (w_ifHaste (c_ifHaste (x := x0) (y := x1) (w := x2) w.kc w.now w.lawn.1.1 w.lawn.1.2.1 w.row.1 K.gd w.de w.nam w.row.2) w.kc (fun v D z => gs_o (d := d) (by first | exact z.2.2.2 | exact Gs.of z.2.2.2 | (rw [z.2.2.2]; exact Gs.rf) | (obtain ⟨κ, μ, e⟩ := z.2.2.2; rw [e]; exact Gs.FH)) lo h1 h2) (fun q D z => t2_k z) K.nc) (fun v D z => ⟨z.1, z.2.1, z.2.2.1, (by first | exact z.2.2.2 | exact Gs.of z.2.2.2 | (rw [z.2.2.2]; exact Gs.rf) | (obtain ⟨κ, μ, e⟩ := z.2.2.2; rw [e]; exact Gs.FH))⟩) (fun q D z => z) w wt hz h1 h2 (fun B wtB holdB => ?_)
  have H := m_ifHaste (g := g) (A := B) (t := t) (σ := σ) (κ := B.I (t + 6)) (π := B.I (t + 7)) (τ := B.I t) (x := x0) (y := x1) (w := x2) wtB.tw w.row.1.w w.row.1.y w.row.2
  rw [wtB.sF5] at H
  exact H
set_option maxHeartbeats 1000000 in
theorem lw_grassBalance {g : GZ} {A : HA} {c t o : Nat} (K : LwG g) (hP : LwP g c t o A) (hz : Zk A) (hzo : Zo A) (hold : fw_old g A) : Ct g wI yX1_grassBalance (.code yX1_grassBalance cX1_grassBalance 2 (Option.some Jvm.ClassFile.FieldType.int)) 2 0 0 [.ref c] A (fun u B => ∃ ans : Int32, u = ans ∧ (B.G t).1 = 6 ∧ (Zk B → Zo B → fw_old g B → Ct g wI yX6_grassBalance (.code yX6_grassBalance cX6_grassBalance 1 (Option.some Jvm.ClassFile.FieldType.int)) 4 0 0 [.ref t] B (fun u D => u = ans ∧ LwD g c t o B D) fw_no)) fw_no := by
  obtain ⟨σ, m, P, kp, L, Bf, n0, fo, e5, e6, ⟨a, pq, pe, h, bf, ob, v, mo, d, f, w⟩, wt, h1, h2⟩ := hP
  refine (lq_no (ans := gbalA σ) (As := []) (Pm := fun B u D => QP B t σ (B.I t) (0, gbalA σ) u D) (c_grassBalance w.kc w.now w.lawn.1.1 w.lawn.1.2.1 w.row.1) (fun v D z => ⟨z.1, (by first | exact z.2 | exact Gs.of z.2 | (rw [z.2]; exact Gs.rf) | (obtain ⟨κ, μ, e⟩ := z.2; rw [e]; exact Gs.FH))⟩) w wt hz h1 h2 (fun B wtB holdB => ?_) (fun B u D wB tB hzB d1 d2 z => ⟨z.1, (tq_q wB tB hzB d1 d2 z).2.2⟩)).mono (fun u B z => ⟨_, z⟩) (fun _ _ z => z)
  have H := m_grassBalance (g := g) (A := B) (t := t) (σ := σ) (κ := B.I (t + 6)) (π := B.I (t + 7)) (τ := B.I t) wtB.tw w.row.1.w
  rw [wtB.sF5] at H
  exact H
set_option maxHeartbeats 1000000 in
theorem lw_walkBalance {g : GZ} {A : HA} {c t o : Nat} (K : LwG g) (hP : LwP g c t o A) (hz : Zk A) (hzo : Zo A) (hold : fw_old g A) : Ct g wI yX1_walkBalance (.code yX1_walkBalance cX1_walkBalance 4 (Option.some Jvm.ClassFile.FieldType.int)) 7 0 0 [.ref c] A (fun u B => ∃ ans : Int32, u = ans ∧ (B.G t).1 = 6 ∧ (Zk B → Zo B → fw_old g B → Ct g wI yX6_walkBalance (.code yX6_walkBalance cX6_walkBalance 4 (Option.some Jvm.ClassFile.FieldType.int)) 2 0 0 [.ref t] B (fun u D => u = ans ∧ LwD g c t o B D) fw_no)) fw_no := by
  obtain ⟨σ, m, P, kp, L, Bf, n0, fo, e5, e6, ⟨a, pq, pe, h, bf, ob, v, mo, d, f, w⟩, wt, h1, h2⟩ := hP
  refine (lq_no (ans := wbalA σ) (As := []) (Pm := fun B u D => QP B t σ (B.I t) (0, wbalA σ) u D) (c_walkBalance w.kc w.now w.lawn.1.1 w.lawn.1.2.1 w.row.1) (fun v D z => ⟨z.1, (by first | exact z.2 | exact Gs.of z.2 | (rw [z.2]; exact Gs.rf) | (obtain ⟨κ, μ, e⟩ := z.2; rw [e]; exact Gs.FH))⟩) w wt hz h1 h2 (fun B wtB holdB => ?_) (fun B u D wB tB hzB d1 d2 z => ⟨z.1, (tq_q wB tB hzB d1 d2 z).2.2⟩)).mono (fun u B z => ⟨_, z⟩) (fun _ _ z => z)
  have H := m_walkBalance (g := g) (A := B) (t := t) (σ := σ) (κ := B.I (t + 6)) (π := B.I (t + 7)) (τ := B.I t) wtB.tw w.row.1.w
  rw [wtB.sF5] at H
  exact H
set_option maxHeartbeats 1000000 in
theorem lw_gap {g : GZ} {A : HA} {c t o : Nat} (K : LwG g) (hP : LwP g c t o A) (hz : Zk A) (hzo : Zo A) (hold : fw_old g A) : Ct g wI yX1_gap (.code yX1_gap cX1_gap 3 (Option.some Jvm.ClassFile.FieldType.int)) 10 12 36 [.ref c] A (fun u B => ∃ ans : Int32, u = ans ∧ (B.G t).1 = 6 ∧ (Zk B → Zo B → fw_old g B → Ct g wI yX6_gap (.code yX6_gap cX6_gap 3 (Option.some Jvm.ClassFile.FieldType.int)) 8 0 0 [.ref t] B (fun u D => u = ans ∧ LwD g c t o B D) fw_no)) fw_no := by
  obtain ⟨σ, m, P, kp, L, Bf, n0, fo, e5, e6, ⟨a, pq, pe, h, bf, ob, v, mo, d, f, w⟩, wt, h1, h2⟩ := hP
  refine (lq_no (ans := nI (gapA σ)) (As := []) (Pm := fun B u D => QP B t σ (B.I t) (0, nI (gapA σ)) u D) (c_gap w.kc w.now w.lawn.1.1 w.lawn.1.2.1 w.row.1 K.gd w.ic) (fun v D z => ⟨z.1, (by first | exact z.2 | exact Gs.of z.2 | (rw [z.2]; exact Gs.rf) | (obtain ⟨κ, μ, e⟩ := z.2; rw [e]; exact Gs.FH))⟩) w wt hz h1 h2 (fun B wtB holdB => ?_) (fun B u D wB tB hzB d1 d2 z => ⟨z.1, (tq_q wB tB hzB d1 d2 z).2.2⟩)).mono (fun u B z => ⟨_, z⟩) (fun _ _ z => z)
  have H := m_gap (g := g) (A := B) (t := t) (σ := σ) (κ := B.I (t + 6)) (π := B.I (t + 7)) (τ := B.I t) wtB.tw w.row.1.w w.row.1.y
  rw [wtB.sF5] at H
  exact H
set_option maxHeartbeats 1000000 in
theorem lw_busiest {g : GZ} {A : HA} {c t o : Nat} (K : LwG g) (hP : LwP g c t o A) (hz : Zk A) (hzo : Zo A) (hold : fw_old g A) : Ct g wI yX1_busiest (.code yX1_busiest cX1_busiest 3 (Option.some Jvm.ClassFile.FieldType.int)) 2 0 0 [.ref c] A (fun u B => ∃ ans : Int32, u = ans ∧ (B.G t).1 = 6 ∧ (Zk B → Zo B → fw_old g B → Ct g wI yX6_busiest (.code yX6_busiest cX6_busiest 4 (Option.some Jvm.ClassFile.FieldType.int)) 3 0 0 [.ref t] B (fun u D => u = ans ∧ LwD g c t o B D) fw_no)) fw_no := by
  obtain ⟨σ, m, P, kp, L, Bf, n0, fo, e5, e6, ⟨a, pq, pe, h, bf, ob, v, mo, d, f, w⟩, wt, h1, h2⟩ := hP
  refine (lq_no (ans := oS σ (busyS σ (rC σ)).1) (As := []) (Pm := fun B u D => QP B t σ (B.I t) (0, oS σ (busyS σ (rC σ)).1) u D) (c_busiest w.kc w.now w.lawn.1.1 w.lawn.1.2.1 w.row.1) (fun v D z => ⟨z.1, (by first | exact z.2 | exact Gs.of z.2 | (rw [z.2]; exact Gs.rf) | (obtain ⟨κ, μ, e⟩ := z.2; rw [e]; exact Gs.FH))⟩) w wt hz h1 h2 (fun B wtB holdB => ?_) (fun B u D wB tB hzB d1 d2 z => ⟨z.1, (tq_q wB tB hzB d1 d2 z).2.2⟩)).mono (fun u B z => ⟨_, z⟩) (fun _ _ z => z)
  have H := m_busiest (g := g) (A := B) (t := t) (σ := σ) (κ := B.I (t + 6)) (π := B.I (t + 7)) (τ := B.I t) wtB.tw w.row.1.w.s (fun _ h9 => w.row.1.c h9) (Nat.le_trans w.row.2 (by decide))
  rw [wtB.sF5] at H
  exact H
set_option maxHeartbeats 1000000 in
theorem lw_meanGrass {g : GZ} {A : HA} {c t o : Nat} (K : LwG g) (hP : LwP g c t o A) (hz : Zk A) (hzo : Zo A) (hold : fw_old g A) : Ct g wD yX1_meanGrass (.code yX1_meanGrass cX1_meanGrass 2 (Option.some Jvm.ClassFile.FieldType.double)) 3 0 0 [.ref c] A (fun u B => ∃ ans : UInt64, u = ans ∧ (B.G t).1 = 6 ∧ (Zk B → Zo B → fw_old g B → Ct g wD yX6_meanGrass (.code yX6_meanGrass cX6_meanGrass 2 (Option.some Jvm.ClassFile.FieldType.double)) 4 0 0 [.ref t] B (fun u D => u = ans ∧ LwD g c t o B D) fw_no)) fw_no := by
  obtain ⟨σ, m, P, kp, L, Bf, n0, fo, e5, e6, ⟨a, pq, pe, h, bf, ob, v, mo, d, f, w⟩, wt, h1, h2⟩ := hP
  refine (lq_no (ans := meanA σ) (As := []) (Pm := fun B u D => u = meanA σ ∧ D = S5 B t σ (B.I (t + 6)) (B.I (t + 7)) (upd (B.I t) 6 (nI 0))) (c_meanGrass w.kc w.now w.lawn.1.1 w.lawn.1.2.1 w.row.1) (fun v D z => ⟨z.1, (by rw [z.2]; exact Gs.rf)⟩) w wt hz h1 h2 (fun B wtB holdB => ?_) (fun B u D wB tB hzB d1 d2 z => ⟨z.1, by rw [z.2]; exact tq_n wB tB hzB d1 d2 (fun j hj => pk_un (by omega))⟩)).mono (fun u B z => ⟨_, z⟩) (fun _ _ z => z)
  have H := m_meanGrass (g := g) (A := B) (t := t) (σ := σ) (κ := B.I (t + 6)) (π := B.I (t + 7)) (τ := B.I t) wtB.tw w.row.1.w
  rw [wtB.sF5] at H
  exact H
set_option maxHeartbeats 1000000 in
theorem lw_bareShare {g : GZ} {A : HA} {c t o : Nat} (K : LwG g) (hP : LwP g c t o A) (hz : Zk A) (hzo : Zo A) (hold : fw_old g A) : Ct g wF yX1_bareShare (.code yX1_bareShare cX1_bareShare 2 (Option.some Jvm.ClassFile.FieldType.float)) 3 0 0 [.ref c] A (fun u B => ∃ ans : UInt32, vf_n64 (FP.f2d ans) ∧ u = ans ∧ (B.G t).1 = 6 ∧ (Zk B → Zo B → fw_old g B → Ct g wF yX6_bareShare (.code yX6_bareShare cX6_bareShare 2 (Option.some Jvm.ClassFile.FieldType.float)) 5 0 0 [.ref t] B (fun u D => u = ans ∧ LwD g c t o B D) fw_no)) fw_no := by
  obtain ⟨σ, m, P, kp, L, Bf, n0, fo, e5, e6, ⟨a, pq, pe, h, bf, ob, v, mo, d, f, w⟩, wt, h1, h2⟩ := hP
  refine (lq_no (ans := shareA σ) (As := []) (Pm := fun B u D => u = shareA σ ∧ D = S5 B t σ (B.I (t + 6)) (B.I (t + 7)) (upd (B.I t) 6 (nI 0))) (c_bareShare w.kc w.now w.lawn.1.1 w.lawn.1.2.1 w.row.1) (fun v D z => ⟨z.1, (by rw [z.2]; exact Gs.rf)⟩) w wt hz h1 h2 (fun B wtB holdB => ?_) (fun B u D wB tB hzB d1 d2 z => ⟨z.1, by rw [z.2]; exact tq_n wB tB hzB d1 d2 (fun j hj => pk_un (by omega))⟩)).mono (fun u B z => ⟨_, share_n w.row.1.w, z⟩) (fun _ _ z => z)
  have H := m_bareShare (g := g) (A := B) (t := t) (σ := σ) (κ := B.I (t + 6)) (π := B.I (t + 7)) (τ := B.I t) wtB.tw w.row.1.w
  rw [wtB.sF5] at H
  exact H
