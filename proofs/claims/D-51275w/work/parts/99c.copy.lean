/-! A LAWN'S COPY: what stays, what is copied (pure) -/
set_option maxRecDepth 100000
/-- the cells that tell of a lawn -/
def Fp (a : Nat) (d : Nat → Nat) (K N y : Nat) : Prop := y = a ∨ (∃ f, arrF f ∧ y = d f) ∨ (y = d 11 ∨ y = d 12 ∨ y = d 20 ∨ y = d 21 ∨ y = d 22 ∨ y = d 23) ∨ (∃ k, k < K ∧ y = d (30 + k)) ∨ ∃ r, r < N ∧ y = d (40 + r)
theorem isObA_k {k : Nat} (h : isObA k = true) : 100 ≤ k := by
  simp only [isObA, Bool.and_eq_true, decide_eq_true_eq] at h
  exact h.1.1
theorem fp_lt {A : HA} {a : Nat} {d : Nat → Nat} {C K N y : Nat} (hz : Zk A) (hL : Ly0 A.G A.R A.n a d C K N) (h : Fp a d K N y) : y < A.z := by
  have ob : ∀ x, isObA (A.G x).1 = true → x < A.z := fun x hx => by
    have h1 := isObA_k hx
    rcases Nat.lt_or_ge x A.z with q | q
    · exact q
    · have := hz x q; omega
  rcases h with q | ⟨f, hf, q⟩ | (q | q | q | q | q | q) | ⟨k, hk, q⟩ | ⟨r, hr, q⟩ <;> rw [q]
  · exact hz.lt (ly_g hL) rfl
  · refine hz.lt (ly_gf hL f hf) ?_
    unfold lyK
    split <;> rfl
  · exact hz.lt (ly_g11 hL) rfl
  · exact hz.lt (ly_g12 hL) rfl
  · exact hz.lt (ly_g20 hL) rfl
  · exact ob _ (ly_g21 hL)
  · exact hz.lt (ly_g22 hL) rfl
  · exact ob _ (ly_g23 hL)
  · exact hz.lt (ly_w hL hk).2 rfl
  · exact hz.lt (ly_t hL hr).2 rfl
/-- a lawn that isn't touched stays -/
theorem ly_gw {A B : HA} {X : Nat → Prop} {a : Nat} {d : Nat → Nat} {σ : Rw} (hz : Zk A) (hL : Ly A a d σ) (hw : Gw A B X) (hX : ∀ y, Fp a d (rK σ) (rG σ) y → ¬ X y) : Ly B a d σ := by
  have e : ∀ y, Fp a d (rK σ) (rG σ) y → B.G y = A.G y ∧ B.n y = A.n y ∧ B.R y = A.R y := fun y hy => by
    have h := hw.2 y (fp_lt hz hL hy)
    exact ⟨h.1, h.2.1, (h.2.2 (hX y hy)).2.2⟩
  have e0 := e a (Or.inl rfl)
  have e11 := e (d 11) (Or.inr (Or.inr (Or.inl (Or.inl rfl))))
  have e12 := e (d 12) (Or.inr (Or.inr (Or.inl (Or.inr (Or.inl rfl)))))
  have e20 := e (d 20) (Or.inr (Or.inr (Or.inl (Or.inr (Or.inr (Or.inl rfl))))))
  have e21 := e (d 21) (Or.inr (Or.inr (Or.inl (Or.inr (Or.inr (Or.inr (Or.inl rfl)))))))
  have e22 := e (d 22) (Or.inr (Or.inr (Or.inl (Or.inr (Or.inr (Or.inr (Or.inr (Or.inl rfl))))))))
  have e23 := e (d 23) (Or.inr (Or.inr (Or.inl (Or.inr (Or.inr (Or.inr (Or.inr (Or.inr rfl))))))))
  obtain ⟨h1, h2, h3, h4, h5⟩ := hL
  refine ⟨by rw [e0.1]; exact h1, fun f hf => ?_, ?_, ?_, h5⟩
  · have ef := e (d f) (Or.inr (Or.inl ⟨f, hf, rfl⟩))
    rw [e0.2.2, ef.1, ef.2.1]; exact h2 f hf
  · obtain ⟨a1, a2, a3, a4, a5, a6, a7, a8⟩ := h3
    refine ⟨by rw [e0.2.2]; exact a1, by rw [e12.1]; exact a2, by rw [e12.2.2]; exact a3, by rw [e20.1]; exact a4, by rw [e20.2.2]; exact a5, by rw [e21.1]; exact a6, by rw [e21.2.1]; exact a7, fun k hk => ?_⟩
    have ek := e (d (30 + k)) (Or.inr (Or.inr (Or.inr (Or.inl ⟨k, hk, rfl⟩))))
    rw [e21.2.2, ek.1]; exact a8 k hk
  · obtain ⟨a1, a2, a3, a4, a5, a6, a7, a8⟩ := h4
    refine ⟨by rw [e0.2.2]; exact a1, by rw [e11.1]; exact a2, by rw [e11.2.2]; exact a3, by rw [e22.1]; exact a4, by rw [e22.2.2]; exact a5, by rw [e23.1]; exact a6, by rw [e23.2.1]; exact a7, fun r hr => ?_⟩
    have er := e (d (40 + r)) (Or.inr (Or.inr (Or.inr (Or.inr ⟨r, hr, rfl⟩))))
    rw [e23.2.2, er.1]; exact a8 r hr
theorem sA_fp {a : Nat} {d : Nat → Nat} {C K N j : Nat} (hj : Dm C K j) : Fp a d K N (sA a d j) := by
  unfold sA
  unfold Dm at hj
  by_cases h1 : j < 9
  · rw [if_pos h1]; exact Or.inl rfl
  · rw [if_neg h1]
    by_cases h2 : j < 21
    · rw [if_pos h2]; exact Or.inr (Or.inl ⟨9, by decide, rfl⟩)
    · rw [if_neg h2]
      by_cases h3 : j < 153
      · rw [if_pos h3]; exact Or.inr (Or.inr (Or.inr (Or.inl ⟨(j - 75) / 13, by omega, rfl⟩)))
      · rw [if_neg h3]; exact Or.inr (Or.inl ⟨_, (fcL_arr _).1, rfl⟩)
theorem lv_gw {A B : HA} {X : Nat → Prop} {a : Nat} {d : Nat → Nat} {σ : Rw} (hz : Zk A) (hL : Ly A a d σ) (hv : Lv A.I a d σ) (hw : Gw A B X) (hX : ∀ y, Fp a d (rK σ) (rG σ) y → ¬ X y) : Lv B.I a d σ := by
  have e : ∀ y, Fp a d (rK σ) (rG σ) y → B.I y = A.I y := fun y hy => ((hw.2 y (fp_lt hz hL hy)).2.2 (hX y hy)).2.1
  have e0 := e a (Or.inl rfl)
  refine ⟨⟨?_, ?_, ?_, ?_, ?_, ?_, ?_⟩, fun r hr => ?_, fun j hj => ?_⟩
  · rw [e0]; exact hv.w
  · rw [e0]; exact hv.h
  · rw [e0]; exact hv.gr
  · rw [e0]; exact hv.wt
  · rw [e0]; exact hv.c
  · rw [e (d 20) (Or.inr (Or.inr (Or.inl (Or.inr (Or.inr (Or.inl rfl))))))]; exact hv.nk
  · rw [e (d 22) (Or.inr (Or.inr (Or.inl (Or.inr (Or.inr (Or.inr (Or.inr (Or.inl rfl))))))))]; exact hv.ng
  · rw [e (d (40 + r)) (Or.inr (Or.inr (Or.inr (Or.inr ⟨r, hr, rfl⟩))))]; exact hv.gate hr
  · rw [e _ (sA_fp hj)]; exact hv.2.2 j hj
/-- a copy's cells: its arrays stand behind it, in the order in which they were made -/
def cpD (z e : Nat) (wd d : Nat → Nat) (j : Nat) : Nat := if j = 5 then z + 1 else if j = 6 then z + 2 else if j = 7 then z + 3 else if j = 8 then z + 4 else if j = 10 then z + 5 else if j = 9 then z + 6 else if j = 12 then z + 7 else if j = 20 then z + 8 else if j = 15 then z + 9 else if j = 16 then z + 10 else if j = 17 then z + 11 else if j = 18 then z + 12 else if j = 21 then e else if 30 ≤ j ∧ j < 40 then wd (j - 30) else d j
theorem cpD_w {z e : Nat} {wd d : Nat → Nat} {k : Nat} (h : k < 10) : cpD z e wd d (30 + k) = wd k := by
  unfold cpD
  rw [if_neg (by omega), if_neg (by omega), if_neg (by omega), if_neg (by omega), if_neg (by omega), if_neg (by omega), if_neg (by omega), if_neg (by omega), if_neg (by omega), if_neg (by omega), if_neg (by omega), if_neg (by omega), if_neg (by omega), if_pos (by omega), show 30 + k - 30 = k by omega]
theorem cpD_o {z e : Nat} {wd d : Nat → Nat} {j : Nat} (h : j = 11 ∨ j = 22 ∨ j = 23 ∨ 40 ≤ j) : cpD z e wd d j = d j := by
  unfold cpD
  rw [if_neg (by omega), if_neg (by omega), if_neg (by omega), if_neg (by omega), if_neg (by omega), if_neg (by omega), if_neg (by omega), if_neg (by omega), if_neg (by omega), if_neg (by omega), if_neg (by omega), if_neg (by omega), if_neg (by omega), if_neg (by omega)]
/-- the copies of the first k walkers of a lawn: wd, in the list at l, whose elements stand at e -/
def Wc (g : GZ) (A D : HA) (d : Nat → Nat) (q z0 l e k : Nat) (wd : Nat → Nat) : Prop := Ll g D l e k wd ∧ (k = 0 → e = g.c 70) ∧ (k ≠ 0 → z0 ≤ e) ∧ (∀ j, j < k → D.G (wd j) = (5, q) ∧ D.R (wd j) 0 = A.R (d (30 + j)) 0 ∧ (∀ f, 1 ≤ f → f ≤ 6 → D.I (wd j) f = A.I (d (30 + j)) f) ∧ z0 ≤ wd j) ∧ ∀ i j, i < j → j < k → wd i < wd j
/-- a lawn's copy -/
def Cp (A A' : HA) (u : Nat) (d d' : Nat → Nat) (σ : Rw) : Prop := u = A.z ∧ Ly A' u d' σ ∧ Lv A'.I u d' σ ∧ Gw A A' Non ∧ (∀ j, (j = 11 ∨ j = 22 ∨ j = 23 ∨ 40 ≤ j) → d' j = d j) ∧ (∀ k, k < rK σ → A'.R (d' (30 + k)) 0 = A.R (d (30 + k)) 0) ∧ (A'.G (d' 21)).1 ≠ 502
theorem cp_mk {g : GZ} {A D : HA} {a e : Nat} {d wd : Nat → Nat} {σ : Rw} (hz : Zk A) (hL : Ly A a d σ) (hv : Lv A.I a d σ) (hW : RowW σ) (hDE : DeK g D) (hw : Gw A D Non) (hq : D.G A.z = (2, A.z))
    (hR : (∀ f, arrF f ∨ f = 12 → D.R A.z f = some (cpD A.z e wd d f)) ∧ D.R A.z 11 = some (d 11)) (hG : ∀ f, arrF f → D.G (cpD A.z e wd d f) = (lyK f, A.z) ∧ D.n (cpD A.z e wd d f) = lyN (rC σ) f)
    (hr : D.G (A.z + 7) = (3, A.z) ∧ D.R (A.z + 7) 0 = some (A.z + 8)) (hc : Wc g A D d A.z (A.z + 13) (A.z + 8) e (rK σ) wd)
    (hI : D.I A.z 0 = σ 4 ∧ D.I A.z 1 = σ 5 ∧ D.I A.z 2 = σ 6 ∧ D.I A.z 3 = σ 7 ∧ D.I A.z 4 = nI (rC σ) ∧ D.I A.z 13 = σ 3 ∧ D.I A.z 14 = σ 8) (hA : ∀ f, 5 ≤ f → f ≤ 10 → D.I (cpD A.z e wd d f) = A.I (d f)) : Cp A D A.z d (cpD A.z e wd d) σ := by
  have k6 := hW.k6
  have g6 := hW.g6
  have hLB := ly_gw hz hL hw (fun _ _ h => h)
  have hvB := lv_gw hz hL hv hw (fun _ _ h => h)
  obtain ⟨c1, c2, c3, c4, c5⟩ := hc
  have o11 : cpD A.z e wd d 11 = d 11 := cpD_o (Or.inl rfl)
  have o22 : cpD A.z e wd d 22 = d 22 := cpD_o (Or.inr (Or.inl rfl))
  have o23 : cpD A.z e wd d 23 = d 23 := cpD_o (Or.inr (Or.inr (Or.inl rfl)))
  have o4 : ∀ r, cpD A.z e wd d (40 + r) = d (40 + r) := fun r => cpD_o (Or.inr (Or.inr (Or.inr (by omega))))
  have o3 : ∀ k, k < rK σ → cpD A.z e wd d (30 + k) = wd k := fun k hk => cpD_w (by omega)
  have he : isObA (D.G e).1 = true ∧ rK σ ≤ D.n e := by
    rcases c1.2.2.2.1 with ⟨q1, q2⟩ | ⟨q1, q2⟩
    · rw [q2, hDE.2.1, q1]; exact ⟨rfl, Nat.zero_le _⟩
    · rw [q1, q2]; exact ⟨(show isObA 501 = true from rfl), by omega⟩
  have he3 : (D.G e).1 ≠ 502 := by
    rcases c1.2.2.2.1 with ⟨q1, q2⟩ | ⟨q1, q2⟩
    · rw [q2, hDE.2.1]; decide
    · rw [q1]; exact (show (501 : Nat) ≠ 502 by decide)
  refine ⟨rfl, ⟨hq, fun f hf => ⟨hR.1 f (Or.inl hf), hG f hf⟩, ?_, ?_, fun i j hi hj hij => ?_⟩, ⟨?_, fun r hr => ?_, fun j hj => ?_⟩, hw, fun j hj => cpD_o hj, fun k hk => ?_, he3⟩
  · refine ⟨hR.1 12 (Or.inr rfl), congrArg Prod.fst hr.1, hr.2, c1.1, c1.2.1, he.1, he.2, fun k hk => ?_⟩
    rw [o3 k hk]; exact ⟨c1.2.2.2.2.2 k hk, (c4 k hk).1⟩
  · rw [o11, o22, o23]
    obtain ⟨a1, a2, a3, a4, a5, a6, a7, a8⟩ := hLB.2.2.2.1
    refine ⟨hR.2, a2, a3, a4, a5, a6, a7, fun r hr => ?_⟩
    rw [o4 r]; exact a8 r hr
  · rw [o3 i hi, o3 j hj] at hij
    rcases Nat.lt_trichotomy i j with q | q | q
    · have := c5 i j q hj; omega
    · exact q
    · have := c5 j i q hi; omega
  · rw [o22]
    exact ⟨hI.1, hI.2.1, hI.2.2.1, hI.2.2.2.1, hI.2.2.2.2.1, c1.2.2.1.trans hW.k.symm, hvB.ng⟩
  · rw [o4 r]; exact hvB.gate hr
  · have h9 := hv.2.2 j hj
    unfold Dm at hj
    unfold sA sI at h9 ⊢
    by_cases h1 : j < 9
    · rw [if_pos h1, if_pos h1] at h9 ⊢
      rcases (show j = 3 ∨ j = 8 by omega) with q | q <;> subst q
      · exact hI.2.2.2.2.2.1
      · exact hI.2.2.2.2.2.2
    · rw [if_neg h1, if_neg h1] at h9 ⊢
      by_cases h2 : j < 21
      · rw [if_pos h2, if_pos h2] at h9 ⊢
        rw [hA 9 (by omega) (by omega)]; exact h9
      · rw [if_neg h2, if_neg h2] at h9 ⊢
        by_cases h3 : j < 153
        · rw [if_pos h3, if_pos h3] at h9 ⊢
          have hk : (j - 75) / 13 < rK σ := by omega
          have hwf : ∀ v, v < 13 → 7 ≤ v → 1 ≤ wfL v ∧ wfL v ≤ 6 := by decide
          have hw9 := hwf ((j - 75) % 13) (by omega) (by omega)
          rw [o3 _ hk, (c4 _ hk).2.2.1 _ hw9.1 hw9.2]; exact h9
        · rw [if_neg h3, if_neg h3] at h9 ⊢
          have hfc : ∀ v, v < 5 → 5 ≤ fcL v ∧ fcL v ≤ 10 := by decide
          have hf9 := hfc ((j - 153) % 5) (by omega)
          rw [hA _ hf9.1 hf9.2]; exact h9
  · rw [o3 k hk]; exact (c4 k hk).2.1
