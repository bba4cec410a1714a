/-! THE WORLD, 3: the world stays when only a lawn's scratch is written -/
set_option maxRecDepth 100000
section
variable {g : GZ} {A D : HA} {c t a pq pe h m bf L ob v mo n0 : Nat} {d f B fo : Nat → Nat} {σ τ : Rw} {X : Nat → Prop}
theorem tw_gw (hT : Tw A t) (hz : Zk A) (hw : Gw A D X) (hX : ∀ y, y < A.z → X y → (A.G y).1 = 126 ∨ (A.G y).1 = 127 ∨ (A.G y).1 = 322 ∨ (A.G y).1 = 323) : Tw D t := by
  have g : ∀ x k, (A.G x).1 = k → k ≠ 0 → (k < 40 ∨ 80 ≤ k) → x < A.z := fun x k e h0 h1 => by
    rcases Nat.lt_or_ge x A.z with q | q
    · exact q
    · have := hz x q
      omega
  have kt := tw_g hT
  have lt := g t 6 kt (by decide) (by decide)
  have eR : D.R t = A.R t := ((hw.2 t lt).2.2 (fun q => by have := hX t lt q; omega)).2.2
  have p : ∀ i, 1 ≤ i → (A.G (t + i)).1 = 100 + i → i ≤ 10 → (D.G (t + i)).1 = 100 + i ∧ D.n (t + i) = A.n (t + i) := fun i h1 h2 h3 => by
    have l := g (t + i) (100 + i) h2 (by omega) (by omega)
    exact ⟨by rw [(hw.2 _ l).1]; exact h2, (hw.2 _ l).2.1⟩
  have q1 := p 1 (by decide) (tw_g1 hT) (by decide)
  have q2 := p 2 (by decide) (tw_g2 hT) (by decide)
  have q3 := p 3 (by decide) (tw_g3 hT) (by decide)
  have q4 := p 4 (by decide) (tw_g4 hT) (by decide)
  have q5 := p 5 (by decide) (tw_g5 hT) (by decide)
  have q6 := p 6 (by decide) (tw_g6 hT) (by decide)
  have q7 := p 7 (by decide) (tw_g7 hT) (by decide)
  have q8 := p 8 (by decide) (tw_g8 hT) (by decide)
  have q9 := p 9 (by decide) (tw_g9 hT) (by decide)
  have q10 := p 10 (by decide) (tw_g10 hT) (by decide)
  show Tw0 D.G D.R D.n t
  unfold Tw0
  rw [eR, q1.2, q2.2, q3.2, q4.2, q5.2, q6.2, q7.2, q8.2, q9.2, q10.2, (hw.2 t lt).1]
  exact ⟨kt, ⟨tw_r1 hT, q1.1, tw_n1 hT⟩, ⟨tw_r2 hT, q2.1, tw_n2 hT⟩, ⟨tw_r3 hT, q3.1, tw_n3 hT⟩, ⟨tw_r4 hT, q4.1, tw_n4 hT⟩, ⟨tw_r5 hT, q5.1, tw_n5 hT⟩, ⟨tw_r6 hT, q6.1, tw_n6 hT⟩, ⟨tw_r7 hT, q7.1, tw_n7 hT⟩, ⟨tw_r8 hT, q8.1, tw_n8 hT⟩, ⟨tw_r9 hT, q9.1, tw_n9 hT⟩, ⟨tw_r10 hT, q10.1, tw_n10 hT⟩⟩
theorem Wo.gs (w : Wo g A c t a pq pe h m bf L ob v mo n0 d f B fo σ τ) (hz : Zk A) (hG : Gs A D d) : Wo g D c t a pq pe h m bf L ob v mo n0 d f B fo σ τ := by
  have hL := w.lawn.1.1
  have ks : ∀ y, Sc d y → (A.G y).1 = 126 ∨ (A.G y).1 = 127 ∨ (A.G y).1 = 322 ∨ (A.G y).1 = 323 := fun y q => by
    rcases q with q | q | q | q <;> rw [q]
    · rw [ly_gf hL 15 (by decide)]; decide
    · rw [ly_gf hL 16 (by decide)]; decide
    · rw [ly_gf hL 17 (by decide)]; decide
    · rw [ly_gf hL 18 (by decide)]; decide
  have nS : ∀ y k, (A.G y).1 = k → k ≠ 126 → k ≠ 127 → k ≠ 322 → k ≠ 323 → ¬ Sc d y := fun y k e h1 h2 h3 h4 q => by
    have := ks y q
    omega
  have eq : ∀ y k, (A.G y).1 = k → (k < 40 ∨ 80 ≤ k) → 1 ≤ k → k ≠ 126 → k ≠ 127 → k ≠ 322 → k ≠ 323 → D.I y = A.I y ∧ D.R y = A.R y ∧ (D.G y).1 = k := fun y k e h0 h00 h1 h2 h3 h4 => by
    have l : y < A.z := by
      rcases Nat.lt_or_ge y A.z with q | q
      · exact q
      · have := hz y q
        omega
    have u := hG.1.2 y l
    have u2 := u.2.2 (nS y k e h1 h2 h3 h4)
    exact ⟨u2.2.1, u2.2.2, by rw [u.1]; exact e⟩
  obtain ⟨c1, c2, c3⟩ := eq c 1 w.kc (by decide) (by decide) (by decide) (by decide) (by decide) (by decide)
  have T := w.tw
  obtain ⟨t0, -, -⟩ := eq t 6 (tw_g T) (by decide) (by decide) (by decide) (by decide) (by decide) (by decide)
  obtain ⟨t1, -, -⟩ := eq (t + 1) 101 (tw_g1 T) (by decide) (by decide) (by decide) (by decide) (by decide) (by decide)
  obtain ⟨t2, -, -⟩ := eq (t + 2) 102 (tw_g2 T) (by decide) (by decide) (by decide) (by decide) (by decide) (by decide)
  obtain ⟨t5, -, -⟩ := eq (t + 5) 105 (tw_g5 T) (by decide) (by decide) (by decide) (by decide) (by decide) (by decide)
  obtain ⟨t8, -, -⟩ := eq (t + 8) 108 (tw_g8 T) (by decide) (by decide) (by decide) (by decide) (by decide) (by decide)
  obtain ⟨t10, -, -⟩ := eq (t + 10) 110 (tw_g10 T) (by decide) (by decide) (by decide) (by decide) (by decide) (by decide)
  have nc := nS c 1 w.kc (by decide) (by decide) (by decide) (by decide)
  refine ⟨c3, by rw [c2]; exact w.now, w.lawn.gs hz hL hG, w.row, by rw [c2]; exact w.past, w.deq.gw hz hG.1 (nS _ 14 w.deq.g (by decide) (by decide) (by decide) (by decide)) (nS _ 502 w.deq.k (by decide) (by decide) (by decide) (by decide)), w.m8, fun i hi => ?_, ?_, w.txt.gw hz w.kc hG.1 nc (nS _ 201 w.txt.2.1 (by decide) (by decide) (by decide) (by decide)), by rw [t8]; exact w.buf, w.len, by rw [c2]; exact w.outR, w.out.gwI hz hG.1 (nS _ 15 w.out.1.1 (by decide) (by decide) (by decide) (by decide)) (nS _ 230 w.out.1.2.2.1 (by decide) (by decide) (by decide) (by decide)), w.outM, by rw [t10]; exact w.outE, w.outL, by rw [c1]; exact w.errC, by rw [c1]; exact w.errP, tw_gw T hz hG.1 (fun y _ q => ks y q), by rw [t1]; exact w.twS, by rw [t0]; exact w.twI, w.mny, w.de.gw hz hG.1, hG.ic hz hL w.ic⟩
  · obtain ⟨di, ρ, h1, h2, h3⟩ := w.old i hi
    exact ⟨di, ρ, h1.gs hz hL hG, h2, by rw [t5]; exact h3⟩
  · rcases w.kept with ⟨h1, h2⟩ | ⟨b, db, ρ, h1, h2, h3, h4, h5⟩
    · exact Or.inl ⟨by rw [c2]; exact h1, h2⟩
    · exact Or.inr ⟨b, db, ρ, by rw [c2]; exact h1, h2, h3.gs hz hL hG, h4, by rw [t2]; exact h5⟩
end
