/-! THE WORLD, 2: component and reference side by side -/
set_option maxRecDepth 100000
/-- the world: the component c (its lawn a, its past, its buffer, its output) and the reference t -/
def Wo (g : GZ) (A : HA) (c t a pq pe h m bf L ob v mo n0 : Nat) (d f B fo : Nat → Nat) (σ τ : Rw) : Prop :=
  ((A.G c).1 = 1) ∧
  (A.R c 0 = some a) ∧
  (WLn A a d σ) ∧
  (RowN σ) ∧
  (A.R c 2 = some pq) ∧
  (DqV A pq pe h m f) ∧
  (m ≤ 8) ∧
  (∀ i, i < m → ∃ di ρ, WLn A (f i) di ρ ∧ RowN ρ ∧ ∀ j, j < 553 → A.I (t + 5) (553 * i + j) = ρ j) ∧
  ((A.R c 1 = none ∧ τ 7 = nI 0) ∨ ∃ b db ρ, A.R c 1 = some b ∧ τ 7 = nI 1 ∧ WLn A b db ρ ∧ RowN ρ ∧ ∀ j, j < 553 → A.I (t + 2) j = ρ j) ∧
  (TxC A c bf L B) ∧
  (BufI (A.I (t + 8)) B L) ∧
  (τ 12 = nI L) ∧
  (A.R c 7 = some ob) ∧
  (SbV A ob v mo fo n0) ∧
  (mo ≤ 200 ∧ n0 ≤ 120) ∧
  (∀ i, i < n0 → A.I (t + 10) i = nI (fo i)) ∧
  (τ 24 = nI n0) ∧
  (A.I c 5 = τ 18) ∧
  (A.I c 6 = τ 19) ∧
  (Tw A t) ∧
  (A.I (t + 1) = σ) ∧
  (A.I t = τ) ∧
  (τ 5 = nI m) ∧
  (DeK g A) ∧
  (IcK g A)
section
variable {g : GZ} {A : HA} {c t a pq pe h m bf L ob v mo n0 : Nat} {d f B fo : Nat → Nat} {σ τ : Rw}
theorem Wo.kc (w : Wo g A c t a pq pe h m bf L ob v mo n0 d f B fo σ τ) : (A.G c).1 = 1 := w.1
theorem Wo.now (w : Wo g A c t a pq pe h m bf L ob v mo n0 d f B fo σ τ) : A.R c 0 = some a := w.2.1
theorem Wo.lawn (w : Wo g A c t a pq pe h m bf L ob v mo n0 d f B fo σ τ) : WLn A a d σ := w.2.2.1
theorem Wo.row (w : Wo g A c t a pq pe h m bf L ob v mo n0 d f B fo σ τ) : RowN σ := w.2.2.2.1
theorem Wo.past (w : Wo g A c t a pq pe h m bf L ob v mo n0 d f B fo σ τ) : A.R c 2 = some pq := w.2.2.2.2.1
theorem Wo.deq (w : Wo g A c t a pq pe h m bf L ob v mo n0 d f B fo σ τ) : DqV A pq pe h m f := w.2.2.2.2.2.1
theorem Wo.m8 (w : Wo g A c t a pq pe h m bf L ob v mo n0 d f B fo σ τ) : m ≤ 8 := w.2.2.2.2.2.2.1
theorem Wo.old (w : Wo g A c t a pq pe h m bf L ob v mo n0 d f B fo σ τ) : ∀ i, i < m → ∃ di ρ, WLn A (f i) di ρ ∧ RowN ρ ∧ ∀ j, j < 553 → A.I (t + 5) (553 * i + j) = ρ j := w.2.2.2.2.2.2.2.1
theorem Wo.kept (w : Wo g A c t a pq pe h m bf L ob v mo n0 d f B fo σ τ) : (A.R c 1 = none ∧ τ 7 = nI 0) ∨ ∃ b db ρ, A.R c 1 = some b ∧ τ 7 = nI 1 ∧ WLn A b db ρ ∧ RowN ρ ∧ ∀ j, j < 553 → A.I (t + 2) j = ρ j := w.2.2.2.2.2.2.2.2.1
theorem Wo.txt (w : Wo g A c t a pq pe h m bf L ob v mo n0 d f B fo σ τ) : TxC A c bf L B := w.2.2.2.2.2.2.2.2.2.1
theorem Wo.buf (w : Wo g A c t a pq pe h m bf L ob v mo n0 d f B fo σ τ) : BufI (A.I (t + 8)) B L := w.2.2.2.2.2.2.2.2.2.2.1
theorem Wo.len (w : Wo g A c t a pq pe h m bf L ob v mo n0 d f B fo σ τ) : τ 12 = nI L := w.2.2.2.2.2.2.2.2.2.2.2.1
theorem Wo.outR (w : Wo g A c t a pq pe h m bf L ob v mo n0 d f B fo σ τ) : A.R c 7 = some ob := w.2.2.2.2.2.2.2.2.2.2.2.2.1
theorem Wo.out (w : Wo g A c t a pq pe h m bf L ob v mo n0 d f B fo σ τ) : SbV A ob v mo fo n0 := w.2.2.2.2.2.2.2.2.2.2.2.2.2.1
theorem Wo.outM (w : Wo g A c t a pq pe h m bf L ob v mo n0 d f B fo σ τ) : mo ≤ 200 ∧ n0 ≤ 120 := w.2.2.2.2.2.2.2.2.2.2.2.2.2.2.1
theorem Wo.outE (w : Wo g A c t a pq pe h m bf L ob v mo n0 d f B fo σ τ) : ∀ i, i < n0 → A.I (t + 10) i = nI (fo i) := w.2.2.2.2.2.2.2.2.2.2.2.2.2.2.2.1
theorem Wo.outL (w : Wo g A c t a pq pe h m bf L ob v mo n0 d f B fo σ τ) : τ 24 = nI n0 := w.2.2.2.2.2.2.2.2.2.2.2.2.2.2.2.2.1
theorem Wo.errC (w : Wo g A c t a pq pe h m bf L ob v mo n0 d f B fo σ τ) : A.I c 5 = τ 18 := w.2.2.2.2.2.2.2.2.2.2.2.2.2.2.2.2.2.1
theorem Wo.errP (w : Wo g A c t a pq pe h m bf L ob v mo n0 d f B fo σ τ) : A.I c 6 = τ 19 := w.2.2.2.2.2.2.2.2.2.2.2.2.2.2.2.2.2.2.1
theorem Wo.tw (w : Wo g A c t a pq pe h m bf L ob v mo n0 d f B fo σ τ) : Tw A t := w.2.2.2.2.2.2.2.2.2.2.2.2.2.2.2.2.2.2.2.1
theorem Wo.twS (w : Wo g A c t a pq pe h m bf L ob v mo n0 d f B fo σ τ) : A.I (t + 1) = σ := w.2.2.2.2.2.2.2.2.2.2.2.2.2.2.2.2.2.2.2.2.1
theorem Wo.twI (w : Wo g A c t a pq pe h m bf L ob v mo n0 d f B fo σ τ) : A.I t = τ := w.2.2.2.2.2.2.2.2.2.2.2.2.2.2.2.2.2.2.2.2.2.1
theorem Wo.mny (w : Wo g A c t a pq pe h m bf L ob v mo n0 d f B fo σ τ) : τ 5 = nI m := w.2.2.2.2.2.2.2.2.2.2.2.2.2.2.2.2.2.2.2.2.2.2.1
theorem Wo.de (w : Wo g A c t a pq pe h m bf L ob v mo n0 d f B fo σ τ) : DeK g A := w.2.2.2.2.2.2.2.2.2.2.2.2.2.2.2.2.2.2.2.2.2.2.2.1
theorem Wo.ic (w : Wo g A c t a pq pe h m bf L ob v mo n0 d f B fo σ τ) : IcK g A := w.2.2.2.2.2.2.2.2.2.2.2.2.2.2.2.2.2.2.2.2.2.2.2.2
end
section
variable {g : GZ} {A D : HA} {a x : Nat} {d dx : Nat → Nat} {σ ρ : Rw}
theorem WLn.gs (h : WLn A x dx ρ) (hz : Zk A) (hL : Ly A a d σ) (hG : Gs A D d) : WLn D x dx ρ := by
  have ks : ∀ y, Sc d y → (A.G y).2 = a ∧ ((A.G y).1 = 126 ∨ (A.G y).1 = 127 ∨ (A.G y).1 = 322 ∨ (A.G y).1 = 323) := fun y q => by
    rcases q with q | q | q | q <;> rw [q]
    · rw [(hL.2.1 15 (by decide)).2.1]; exact ⟨rfl, show lyK 15 = 126 ∨ lyK 15 = 127 ∨ lyK 15 = 322 ∨ lyK 15 = 323 by decide⟩
    · rw [(hL.2.1 16 (by decide)).2.1]; exact ⟨rfl, show lyK 16 = 126 ∨ lyK 16 = 127 ∨ lyK 16 = 322 ∨ lyK 16 = 323 by decide⟩
    · rw [(hL.2.1 17 (by decide)).2.1]; exact ⟨rfl, show lyK 17 = 126 ∨ lyK 17 = 127 ∨ lyK 17 = 322 ∨ lyK 17 = 323 by decide⟩
    · rw [(hL.2.1 18 (by decide)).2.1]; exact ⟨rfl, show lyK 18 = 126 ∨ lyK 18 = 127 ∨ lyK 18 = 322 ∨ lyK 18 = 323 by decide⟩
  have hP : StP A D := StP.gw hz hG.1 (fun y q => by
    rcases (ks y q).2 with w | w | w | w <;> rw [w] <;> exact ⟨by decide, by decide⟩)
  by_cases e : x = a
  · subst e
    have hLx := h.1.1
    have ed : ∀ f, arrF f → dx f = d f := fun f hf => by
      have h1 := ly_rf hLx f hf
      rw [ly_rf hL f hf] at h1
      exact (Option.some.inj h1).symm
    have eS : Gs A D dx := ⟨hG.1.mono (fun y _ q => by
      unfold Sc at q ⊢
      rw [ed 15 (by decide), ed 16 (by decide), ed 17 (by decide), ed 18 (by decide)]
      exact q), hG.2⟩
    have eR : ∀ y, Fp x dx (rK ρ) (rG ρ) y → D.R y = A.R y := fun y hy => hG.2 y (fp_lt hz hLx hy)
    refine ⟨⟨eS.ly hz hLx, eS.lv hz hLx h.1.2.1, h.1.2.2.sp hz hP (fun y hy => (hG.1.2 y hy).1) eR⟩, ?_, ?_⟩
    · rw [(hG.1.2 _ (fp_lt hz hLx (y := dx 21) (Or.inr (Or.inr (Or.inl (by simp)))))).1]; exact h.2.1
    · rw [(hG.1.2 _ (fp_lt hz hLx (y := dx 23) (Or.inr (Or.inr (Or.inl (by simp)))))).1]; exact h.2.2
  · refine h.mv hz hG.1 (fun y hy q => ?_) hP
    obtain ⟨k1, k2⟩ := ks y q
    have hLx := h.1.1
    rcases hy with w | ⟨f, hf, w⟩ | (w | w | w | w | w | w) | ⟨k, hk, w⟩ | ⟨r, hr, w⟩
    · rw [w, ly_g hLx] at k2; omega
    · rw [w, (hLx.2.1 f hf).2.1] at k1
      exact e k1
    · rw [w, ly_g11 hLx] at k2; omega
    · rw [w, ly_g12 hLx] at k2; omega
    · rw [w, ly_g20 hLx] at k2; omega
    · have h1 := ly_g21 hLx
      rw [w] at k2
      rcases k2 with z | z | z | z <;> rw [z] at h1 <;> revert h1 <;> decide
    · rw [w, ly_g22 hLx] at k2; omega
    · have h1 := ly_g23 hLx
      rw [w] at k2
      rcases k2 with z | z | z | z <;> rw [z] at h1 <;> revert h1 <;> decide
    · rw [w, (ly_w hLx hk).2] at k2; omega
    · rw [w, (ly_t hLx hr).2] at k2; omega
end
