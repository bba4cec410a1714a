/-! THE WORLD, 5: component and reference apart, tied by one state: row σ, past P of m rows, kept row kp, text B of L bytes, output fo of n0 bytes, error e5 at e6 -/
set_option maxRecDepth 100000
/-- kinds of cells that are none of the component's -/
def OutW (k : Nat) : Prop := k = 6 ∨ (101 ≤ k ∧ k ≤ 110) ∨ k = 401
/-- kinds of the reference's cells -/
def TwW (k : Nat) : Prop := k = 6 ∨ (101 ≤ k ∧ k ≤ 110)
def KeC (A : HA) (c : Nat) (kp : Option Rw) : Prop := (kp = none → A.R c 1 = none) ∧ ∀ ρ, kp = some ρ → RowN ρ ∧ ∃ b db, A.R c 1 = some b ∧ WLn A b db ρ
def KeF (τ φ : Rw) (kp : Option Rw) : Prop := (kp = none → τ 7 = nI 0) ∧ ∀ ρ, kp = some ρ → τ 7 = nI 1 ∧ ∀ j, j < 553 → φ j = ρ j
/-- the component -/
def WCx (g : GZ) (A : HA) (c a pq pe h bf ob v mo : Nat) (d f : Nat → Nat) (σ : Rw) (m : Nat) (P : Nat → Rw) (kp : Option Rw) (L : Nat) (B : Nat → Nat) (n0 : Nat) (fo : Nat → Nat) (e5 e6 : Int32) : Prop :=
  ((A.G c).1 = 1) ∧ (A.R c 0 = some a) ∧ (WLn A a d σ) ∧ (RowN σ) ∧ (A.R c 2 = some pq) ∧ (DqV A pq pe h m f) ∧ (m ≤ 8) ∧ (∀ i, i < m → RowN (P i) ∧ ∃ di, WLn A (f i) di (P i)) ∧ (KeC A c kp) ∧ (TxC A c bf L B) ∧ (A.R c 7 = some ob) ∧ (SbV A ob v mo fo n0) ∧ (mo ≤ 200 ∧ n0 ≤ 120) ∧ (A.I c 5 = e5) ∧ (A.I c 6 = e6) ∧ (DeK g A) ∧ (IcK g A)
section
variable {g : GZ} {A : HA} {c a pq pe h bf ob v mo : Nat} {d f : Nat → Nat} {σ : Rw} {m : Nat} {P : Nat → Rw} {kp : Option Rw} {L : Nat} {B : Nat → Nat} {n0 : Nat} {fo : Nat → Nat} {e5 e6 : Int32}
theorem WCx.kc (w : WCx g A c a pq pe h bf ob v mo d f σ m P kp L B n0 fo e5 e6) : (A.G c).1 = 1 := w.1
theorem WCx.now (w : WCx g A c a pq pe h bf ob v mo d f σ m P kp L B n0 fo e5 e6) : A.R c 0 = some a := w.2.1
theorem WCx.lawn (w : WCx g A c a pq pe h bf ob v mo d f σ m P kp L B n0 fo e5 e6) : WLn A a d σ := w.2.2.1
theorem WCx.row (w : WCx g A c a pq pe h bf ob v mo d f σ m P kp L B n0 fo e5 e6) : RowN σ := w.2.2.2.1
theorem WCx.past (w : WCx g A c a pq pe h bf ob v mo d f σ m P kp L B n0 fo e5 e6) : A.R c 2 = some pq := w.2.2.2.2.1
theorem WCx.deq (w : WCx g A c a pq pe h bf ob v mo d f σ m P kp L B n0 fo e5 e6) : DqV A pq pe h m f := w.2.2.2.2.2.1
theorem WCx.m8 (w : WCx g A c a pq pe h bf ob v mo d f σ m P kp L B n0 fo e5 e6) : m ≤ 8 := w.2.2.2.2.2.2.1
theorem WCx.old (w : WCx g A c a pq pe h bf ob v mo d f σ m P kp L B n0 fo e5 e6) : ∀ i, i < m → RowN (P i) ∧ ∃ di, WLn A (f i) di (P i) := w.2.2.2.2.2.2.2.1
theorem WCx.kept (w : WCx g A c a pq pe h bf ob v mo d f σ m P kp L B n0 fo e5 e6) : KeC A c kp := w.2.2.2.2.2.2.2.2.1
theorem WCx.txt (w : WCx g A c a pq pe h bf ob v mo d f σ m P kp L B n0 fo e5 e6) : TxC A c bf L B := w.2.2.2.2.2.2.2.2.2.1
theorem WCx.outR (w : WCx g A c a pq pe h bf ob v mo d f σ m P kp L B n0 fo e5 e6) : A.R c 7 = some ob := w.2.2.2.2.2.2.2.2.2.2.1
theorem WCx.out (w : WCx g A c a pq pe h bf ob v mo d f σ m P kp L B n0 fo e5 e6) : SbV A ob v mo fo n0 := w.2.2.2.2.2.2.2.2.2.2.2.1
theorem WCx.outM (w : WCx g A c a pq pe h bf ob v mo d f σ m P kp L B n0 fo e5 e6) : mo ≤ 200 ∧ n0 ≤ 120 := w.2.2.2.2.2.2.2.2.2.2.2.2.1
theorem WCx.errC (w : WCx g A c a pq pe h bf ob v mo d f σ m P kp L B n0 fo e5 e6) : A.I c 5 = e5 := w.2.2.2.2.2.2.2.2.2.2.2.2.2.1
theorem WCx.errP (w : WCx g A c a pq pe h bf ob v mo d f σ m P kp L B n0 fo e5 e6) : A.I c 6 = e6 := w.2.2.2.2.2.2.2.2.2.2.2.2.2.2.1
theorem WCx.de (w : WCx g A c a pq pe h bf ob v mo d f σ m P kp L B n0 fo e5 e6) : DeK g A := w.2.2.2.2.2.2.2.2.2.2.2.2.2.2.2.1
theorem WCx.ic (w : WCx g A c a pq pe h bf ob v mo d f σ m P kp L B n0 fo e5 e6) : IcK g A := w.2.2.2.2.2.2.2.2.2.2.2.2.2.2.2.2
theorem WCx.nam (w : WCx g A c a pq pe h bf ob v mo d f σ m P kp L B n0 fo e5 e6) : ∀ k, k < rK σ → ∃ nm, A.R (d (30 + k)) 0 = some nm := fun k hk => (w.lawn.1.2.2.1 k hk).imp fun _ q => q.1
theorem WCx.fk (w : WCx g A c a pq pe h bf ob v mo d f σ m P kp L B n0 fo e5 e6) : ∀ i, i < m → (A.G (f i)).1 = 2 := fun i hi => by
  obtain ⟨-, di, q⟩ := w.old i hi
  exact ly_g q.1.1
end
section
variable {A D : HA} {c : Nat} {kp : Option Rw}
theorem KeC.mv (h : KeC A c kp) (e : D.R c 1 = A.R c 1) (hw : ∀ b db ρ, WLn A b db ρ → WLn D b db ρ) : KeC D c kp :=
  ⟨fun q => by rw [e]; exact h.1 q, fun ρ q => by
    obtain ⟨h1, b, db, h2, h3⟩ := h.2 ρ q
    exact ⟨h1, b, db, by rw [e]; exact h2, hw _ _ _ h3⟩⟩
end
section
variable {g : GZ} {A D : HA} {c a pq pe h bf ob v mo : Nat} {d f : Nat → Nat} {σ : Rw} {m : Nat} {P : Nat → Rw} {kp : Option Rw} {L : Nat} {B : Nat → Nat} {n0 : Nat} {fo : Nat → Nat} {e5 e6 : Int32} {X : Nat → Prop}
/-- cells that aren't the component's are written -/
theorem WCx.fr (w : WCx g A c a pq pe h bf ob v mo d f σ m P kp L B n0 fo e5 e6) (hz : Zk A) (hG : Gw A D X) (hX : ∀ y, X y → OutW (A.G y).1) : WCx g D c a pq pe h bf ob v mo d f σ m P kp L B n0 fo e5 e6 := by
  have nX : ∀ y k, (A.G y).1 = k → ¬ OutW k → ¬ X y := fun y k e q z => q (e ▸ hX y z)
  have hP : StP A D := StP.gw hz hG (fun y q => by
    have h1 := hX y q
    unfold OutW at h1
    refine ⟨by omega, Bool.eq_false_iff.mpr (fun z => ?_)⟩
    simp only [Bool.and_eq_true, decide_eq_true_eq] at z
    omega)
  have hW : ∀ b db ρ, WLn A b db ρ → WLn D b db ρ := fun b db ρ q => q.mv hz hG (fun y hy z => by
    have h1 := fp_kind q.1.1 hy
    have h2 := hX y z
    unfold OutW at h2
    omega) hP
  have nc : ¬ X c := nX c 1 w.kc (by unfold OutW; omega)
  have lc := hG.2 c (hz.lt w.kc rfl)
  have e := lc.2.2 nc
  refine ⟨by rw [lc.1]; exact w.kc, by rw [e.2.2]; exact w.now, hW _ _ _ w.lawn, w.row, by rw [e.2.2]; exact w.past, w.deq.gw hz hG (nX _ 14 w.deq.g (by unfold OutW; omega)) (nX _ 502 w.deq.k (by unfold OutW; omega)), w.m8, fun i hi => ?_, w.kept.mv (by rw [e.2.2]) hW, w.txt.gw hz w.kc hG nc (nX _ 201 w.txt.2.1 (by unfold OutW; omega)), by rw [e.2.2]; exact w.outR, w.out.gwI hz hG (nX _ 15 w.out.1.1 (by unfold OutW; omega)) (nX _ 230 w.out.1.2.2.1 (by unfold OutW; omega)), w.outM, by rw [e.2.1]; exact w.errC, by rw [e.2.1]; exact w.errP, w.de.gw hz hG, w.ic.gw hz hG (fun y _ q => ?_)⟩
  · obtain ⟨h1, di, h2⟩ := w.old i hi
    exact ⟨h1, di, hW _ _ _ h2⟩
  · have h2 := hX y q
    unfold OutW at h2
    omega
/-- the scratch of the lawn that is now is written -/
theorem WCx.gs (w : WCx g A c a pq pe h bf ob v mo d f σ m P kp L B n0 fo e5 e6) (hz : Zk A) (hG : Gs A D d) : WCx g D c a pq pe h bf ob v mo d f σ m P kp L B n0 fo e5 e6 := by
  have hL := w.lawn.1.1
  have ks : ∀ y, Sc d y → (A.G y).1 = 126 ∨ (A.G y).1 = 127 ∨ (A.G y).1 = 322 ∨ (A.G y).1 = 323 := fun y q => by
    rcases q with q | q | q | q <;> rw [q]
    · rw [ly_gf hL 15 (by decide)]; decide
    · rw [ly_gf hL 16 (by decide)]; decide
    · rw [ly_gf hL 17 (by decide)]; decide
    · rw [ly_gf hL 18 (by decide)]; decide
  have nS : ∀ y k, (A.G y).1 = k → k ≠ 126 → k ≠ 127 → k ≠ 322 → k ≠ 323 → ¬ Sc d y := fun y k e h1 h2 h3 h4 q => by
    have := ks y q
    omega
  have nc : ¬ Sc d c := nS c 1 w.kc (by decide) (by decide) (by decide) (by decide)
  have lc := hG.1.2 c (hz.lt w.kc rfl)
  have e := lc.2.2 nc
  have hW : ∀ b db ρ, WLn A b db ρ → WLn D b db ρ := fun b db ρ q => q.gs hz hL hG
  refine ⟨by rw [lc.1]; exact w.kc, by rw [e.2.2]; exact w.now, hW _ _ _ w.lawn, w.row, by rw [e.2.2]; exact w.past, w.deq.gw hz hG.1 (nS _ 14 w.deq.g (by decide) (by decide) (by decide) (by decide)) (nS _ 502 w.deq.k (by decide) (by decide) (by decide) (by decide)), w.m8, fun i hi => ?_, w.kept.mv (by rw [e.2.2]) hW, w.txt.gw hz w.kc hG.1 nc (nS _ 201 w.txt.2.1 (by decide) (by decide) (by decide) (by decide)), by rw [e.2.2]; exact w.outR, w.out.gwI hz hG.1 (nS _ 15 w.out.1.1 (by decide) (by decide) (by decide) (by decide)) (nS _ 230 w.out.1.2.2.1 (by decide) (by decide) (by decide) (by decide)), w.outM, by rw [e.2.1]; exact w.errC, by rw [e.2.1]; exact w.errP, w.de.gw hz hG.1, hG.ic hz hL w.ic⟩
  obtain ⟨h1, di, h2⟩ := w.old i hi
  exact ⟨h1, di, hW _ _ _ h2⟩
/-- rows that agree -/
theorem WCx.cg {τ : Rw} (w : WCx g A c a pq pe h bf ob v mo d f σ m P kp L B n0 fo e5 e6) (e : EqE σ τ) : WCx g A c a pq pe h bf ob v mo d f τ m P kp L B n0 fo e5 e6 :=
  ⟨w.1, w.2.1, w.lawn.cg e w.row.1.w, e.N w.row, w.2.2.2.2⟩
end
/-- the reference's numbers and arrays -/
def WTf (τ s2 s5 s8 s10 : Rw) (m : Nat) (P : Nat → Rw) (kp : Option Rw) (L : Nat) (B : Nat → Nat) (n0 : Nat) (fo : Nat → Nat) (e5 e6 : Int32) : Prop :=
  τ 5 = nI m ∧ (∀ i, i < m → ∀ j, j < 553 → s5 (553 * i + j) = P i j) ∧ KeF τ s2 kp ∧ BufI s8 B L ∧ τ 12 = nI L ∧ (∀ i, i < n0 → s10 i = nI (fo i)) ∧ τ 24 = nI n0 ∧ τ 18 = e5 ∧ τ 19 = e6
def WTx (A : HA) (t : Nat) (σ : Rw) (m : Nat) (P : Nat → Rw) (kp : Option Rw) (L : Nat) (B : Nat → Nat) (n0 : Nat) (fo : Nat → Nat) (e5 e6 : Int32) : Prop :=
  Tw A t ∧ A.I (t + 1) = σ ∧ WTf (A.I t) (A.I (t + 2)) (A.I (t + 5)) (A.I (t + 8)) (A.I (t + 10)) m P kp L B n0 fo e5 e6
section
variable {τ τ' s2 s5 s8 s10 : Rw} {σ : Rw} {m : Nat} {P : Nat → Rw} {kp : Option Rw} {L : Nat} {B : Nat → Nat} {n0 : Nat} {fo : Nat → Nat} {e5 e6 : Int32} {A D : HA} {t : Nat} {X : Nat → Prop}
theorem KeF.cg (h : KeF τ s2 kp) (e : τ' 7 = τ 7) : KeF τ' s2 kp := ⟨fun q => e.trans (h.1 q), fun ρ q => ⟨e.trans (h.2 ρ q).1, (h.2 ρ q).2⟩⟩
/-- numbers that none of it reads -/
theorem WTf.cg (h : WTf τ s2 s5 s8 s10 m P kp L B n0 fo e5 e6) (e : ∀ j, (j = 5 ∨ j = 7 ∨ j = 12 ∨ j = 24 ∨ j = 18 ∨ j = 19) → τ' j = τ j) : WTf τ' s2 s5 s8 s10 m P kp L B n0 fo e5 e6 :=
  ⟨(e 5 (by omega)).trans h.1, h.2.1, h.2.2.1.cg (e 7 (by omega)), h.2.2.2.1, (e 12 (by omega)).trans h.2.2.2.2.1, h.2.2.2.2.2.1, (e 24 (by omega)).trans h.2.2.2.2.2.2.1, (e 18 (by omega)).trans h.2.2.2.2.2.2.2.1, (e 19 (by omega)).trans h.2.2.2.2.2.2.2.2⟩
theorem WTx.tw (w : WTx A t σ m P kp L B n0 fo e5 e6) : Tw A t := w.1
theorem WTx.sg (w : WTx A t σ m P kp L B n0 fo e5 e6) : A.I (t + 1) = σ := w.2.1
theorem WTx.f (w : WTx A t σ m P kp L B n0 fo e5 e6) : WTf (A.I t) (A.I (t + 2)) (A.I (t + 5)) (A.I (t + 8)) (A.I (t + 10)) m P kp L B n0 fo e5 e6 := w.2.2
theorem WTx.mn (w : WTx A t σ m P kp L B n0 fo e5 e6) : A.I t 5 = nI m := w.2.2.1
theorem WTx.old (w : WTx A t σ m P kp L B n0 fo e5 e6) : ∀ i, i < m → ∀ j, j < 553 → A.I (t + 5) (553 * i + j) = P i j := w.2.2.2.1
theorem WTx.kept (w : WTx A t σ m P kp L B n0 fo e5 e6) : KeF (A.I t) (A.I (t + 2)) kp := w.2.2.2.2.1
theorem WTx.buf (w : WTx A t σ m P kp L B n0 fo e5 e6) : BufI (A.I (t + 8)) B L := w.2.2.2.2.2.1
theorem WTx.len (w : WTx A t σ m P kp L B n0 fo e5 e6) : A.I t 12 = nI L := w.2.2.2.2.2.2.1
theorem WTx.out (w : WTx A t σ m P kp L B n0 fo e5 e6) : ∀ i, i < n0 → A.I (t + 10) i = nI (fo i) := w.2.2.2.2.2.2.2.1
theorem WTx.outL (w : WTx A t σ m P kp L B n0 fo e5 e6) : A.I t 24 = nI n0 := w.2.2.2.2.2.2.2.2.1
theorem WTx.errC (w : WTx A t σ m P kp L B n0 fo e5 e6) : A.I t 18 = e5 := w.2.2.2.2.2.2.2.2.2.1
theorem WTx.errP (w : WTx A t σ m P kp L B n0 fo e5 e6) : A.I t 19 = e6 := w.2.2.2.2.2.2.2.2.2.2
/-- the heap in the reference's form -/
theorem WTx.sF5 (w : WTx A t σ m P kp L B n0 fo e5 e6) : S5 A t σ (A.I (t + 6)) (A.I (t + 7)) (A.I t) = A := by
  have h := S5_self A t
  rw [w.sg] at h
  exact h
theorem WTx.of {σ' κ π : Rw} {A' : HA} (hT : Tw A' t) (h : WTf τ' (A'.I (t + 2)) (A'.I (t + 5)) (A'.I (t + 8)) (A'.I (t + 10)) m P kp L B n0 fo e5 e6) : WTx (S5 A' t σ' κ π τ') t σ' m P kp L B n0 fo e5 e6 := by
  refine ⟨hT, S5_1 _ _ _ _ _ _, ?_⟩
  rw [S5_0, S5_x _ _ _ _ _ _ (by omega) (by omega) (by omega) (by omega), S5_x _ _ _ _ _ _ (by omega) (by omega) (by omega) (by omega), S5_x _ _ _ _ _ _ (by omega) (by omega) (by omega) (by omega), S5_x _ _ _ _ _ _ (by omega) (by omega) (by omega) (by omega)]
  exact h
theorem tw_gw2 (hT : Tw A t) (hz : Zk A) (hw : Gw A D X) (hX : ¬ X t) : Tw D t := by
  have g : ∀ x k, (A.G x).1 = k → k ≠ 0 → (k < 40 ∨ 80 ≤ k) → x < A.z := fun x k e h0 h1 => by
    rcases Nat.lt_or_ge x A.z with q | q
    · exact q
    · have := hz x q
      omega
  have kt := tw_g hT
  have lt := g t 6 kt (by decide) (by decide)
  have eR : D.R t = A.R t := ((hw.2 t lt).2.2 hX).2.2
  have p : ∀ i, 1 ≤ i → (A.G (t + i)).1 = 100 + i → i ≤ 10 → (D.G (t + i)).1 = 100 + i ∧ D.n (t + i) = A.n (t + i) := fun i h1 h2 h3 => by
    have l := g (t + i) (100 + i) h2 (by omega) (by omega)
    exact ⟨by rw [(hw.2 _ l).1]; exact h2, (hw.2 _ l).2.1⟩
  have q1 := p 1 (by decide) (tw_g1 hT) (by decide)
  have q2 := p 2 (by decide) (tw_g2 hT) (by decide)
  have q3 := p 3 (by decide) (tw_g3 hT) (by decide)
  have q4 := p 4 (by decide) (tw_g4 hT) (by decide)
  have q5 := p 5 (by decide) (tw_g5 hT) (by decide)
  have q6 := p 6 (by decide) (tw_g6 hT) (by decide)
  have q7 := p 7 (by decide) (tw_g7 hT) (by decide)
  have q8 := p 8 (by decide) (tw_g8 hT) (by decide)
  have q9 := p 9 (by decide) (tw_g9 hT) (by decide)
  have q10 := p 10 (by decide) (tw_g10 hT) (by decide)
  show Tw0 D.G D.R D.n t
  unfold Tw0
  rw [eR, q1.2, q2.2, q3.2, q4.2, q5.2, q6.2, q7.2, q8.2, q9.2, q10.2, (hw.2 t lt).1]
  exact ⟨kt, ⟨tw_r1 hT, q1.1, tw_n1 hT⟩, ⟨tw_r2 hT, q2.1, tw_n2 hT⟩, ⟨tw_r3 hT, q3.1, tw_n3 hT⟩, ⟨tw_r4 hT, q4.1, tw_n4 hT⟩, ⟨tw_r5 hT, q5.1, tw_n5 hT⟩, ⟨tw_r6 hT, q6.1, tw_n6 hT⟩, ⟨tw_r7 hT, q7.1, tw_n7 hT⟩, ⟨tw_r8 hT, q8.1, tw_n8 hT⟩, ⟨tw_r9 hT, q9.1, tw_n9 hT⟩, ⟨tw_r10 hT, q10.1, tw_n10 hT⟩⟩
/-- cells that aren't the reference's are written -/
theorem WTx.fr (w : WTx A t σ m P kp L B n0 fo e5 e6) (hz : Zk A) (hG : Gw A D X) (hX : ∀ y, X y → ¬ TwW (A.G y).1) : WTx D t σ m P kp L B n0 fo e5 e6 := by
  have T := w.tw
  have e : ∀ y k, (A.G y).1 = k → (decide (1 ≤ k) && (decide (k < 40) || decide (80 ≤ k))) = true → TwW k → D.I y = A.I y := fun y k e1 e2 e3 => ((hG.2 y (hz.lt e1 e2)).2.2 (fun q => hX y q (by rw [e1]; exact e3))).2.1
  have i0 := e t 6 (tw_g T) rfl (by unfold TwW; omega)
  have i1 := e (t + 1) 101 (tw_g1 T) rfl (by unfold TwW; omega)
  have i2 := e (t + 2) 102 (tw_g2 T) rfl (by unfold TwW; omega)
  have i5 := e (t + 5) 105 (tw_g5 T) rfl (by unfold TwW; omega)
  have i8 := e (t + 8) 108 (tw_g8 T) rfl (by unfold TwW; omega)
  have i10 := e (t + 10) 110 (tw_g10 T) rfl (by unfold TwW; omega)
  refine ⟨tw_gw2 T hz hG (fun q => hX t q (by rw [tw_g T]; unfold TwW; omega)), by rw [i1]; exact w.sg, ?_⟩
  rw [i0, i2, i5, i8, i10]
  exact w.f
/-- the reference's cells -/
def TwA (t y : Nat) : Prop := ∃ i, i ≤ 10 ∧ y = t + i
theorem twA_k (hT : Tw A t) : ∀ y, TwA t y → OutW (A.G y).1 := by
  rintro y ⟨i, hi, rfl⟩
  unfold OutW
  have h : i = 0 ∨ i = 1 ∨ i = 2 ∨ i = 3 ∨ i = 4 ∨ i = 5 ∨ i = 6 ∨ i = 7 ∨ i = 8 ∨ i = 9 ∨ i = 10 := by omega
  rcases h with e | e | e | e | e | e | e | e | e | e | e <;> subst e
  · have := tw_g hT; exact Or.inl this
  · rw [tw_g1 hT]; omega
  · rw [tw_g2 hT]; omega
  · rw [tw_g3 hT]; omega
  · rw [tw_g4 hT]; omega
  · rw [tw_g5 hT]; omega
  · rw [tw_g6 hT]; omega
  · rw [tw_g7 hT]; omega
  · rw [tw_g8 hT]; omega
  · rw [tw_g9 hT]; omega
  · rw [tw_g10 hT]; omega
theorem gw_tI {i : Nat} {φ : Rw} (h : i ≤ 10) : Gw A (A.sI (t + i) φ) (TwA t) := gw_sI (fun _ => ⟨i, h, rfl⟩)
theorem gw_tS {σ' κ π : Rw} (h : Gw A D (TwA t)) : Gw A (S5 D t σ' κ π τ') (TwA t) := by
  refine ⟨h.1, fun x hx => ⟨(h.2 x hx).1, (h.2 x hx).2.1, fun q => ?_⟩⟩
  have h1 := (h.2 x hx).2.2 q
  refine ⟨h1.1, ?_, h1.2.2⟩
  rw [S5_x D t _ _ _ _ (fun z => q ⟨0, by omega, z⟩) (fun z => q ⟨1, by omega, z⟩) (fun z => q ⟨6, by omega, z⟩) (fun z => q ⟨7, by omega, z⟩)]
  exact h1.2.1
end
/-- the law's world: both, one state; o is the law's array -/
def LwP (g : GZ) (c t o : Nat) (A : HA) : Prop := ∃ (σ : Rw) (m : Nat) (P : Nat → Rw) (kp : Option Rw) (L : Nat) (B : Nat → Nat) (n0 : Nat) (fo : Nat → Nat) (e5 e6 : Int32),
  (∃ (a pq pe h bf ob v mo : Nat) (d f : Nat → Nat), WCx g A c a pq pe h bf ob v mo d f σ m P kp L B n0 fo e5 e6) ∧ WTx A t σ m P kp L B n0 fo e5 e6 ∧ (A.G o).1 = 401 ∧ A.n o = 1
/-- the world again; the law's array isn't written -/
def LwD (g : GZ) (c t o : Nat) (B D : HA) : Prop := D.L = B.L ∧ LwP g c t o D
/-- what the reference owes behind the component: q = (what is thrown, answer) -/
def TC (g : GZ) (c t o : Nat) (y : MethodName) (cw : Cond) (dd : Nat) (As : List Value) (q : Nat × Int32) (B : HA) : Prop :=
  Zk B → Zo B → fw_old g B → Ct g wI y cw dd 0 0 (.ref t :: As) B (fun u D => (q.1 = 0 → u = q.2) ∧ D.I t 6 = nI q.1 ∧ LwD g c t o B D) fw_no
section
variable {g : GZ} {A : HA} {c t o : Nat}
theorem LwP.kc (h : LwP g c t o A) : (A.G c).1 = 1 := by
  obtain ⟨σ, m, P, kp, L, B, n0, fo, e5, e6, ⟨a, pq, pe, h, bf, ob, v, mo, d, f, w⟩, wt, h1, h2⟩ := h
  exact w.kc
theorem LwP.tw (h : LwP g c t o A) : Tw A t := by
  obtain ⟨σ, m, P, kp, L, B, n0, fo, e5, e6, ⟨a, pq, pe, h, bf, ob, v, mo, d, f, w⟩, wt, h1, h2⟩ := h
  exact wt.tw
theorem LwP.ko (h : LwP g c t o A) : (A.G o).1 = 401 ∧ A.n o = 1 := by
  obtain ⟨σ, m, P, kp, L, B, n0, fo, e5, e6, ⟨a, pq, pe, h, bf, ob, v, mo, d, f, w⟩, wt, h1, h2⟩ := h
  exact ⟨h1, h2⟩
end
