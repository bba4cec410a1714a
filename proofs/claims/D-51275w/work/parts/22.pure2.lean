/-! PURE: costs to a goal: what is laid, that it is one -/
set_option maxRecDepth 100000
def sumN (f : Nat → Nat) : Nat → Nat
  | 0 => 0
  | n + 1 => sumN f n + f n
def lower (f : Nat → Nat) (k v : Nat) : Nat → Nat := fun j => if j = k then v else f j
theorem lower_s (f : Nat → Nat) (k v : Nat) : lower f k v k = v := if_pos rfl
theorem lower_o (f : Nat → Nat) {k j : Nat} (v : Nat) (h : j ≠ k) : lower f k v j = f j := if_neg h
theorem sumN_lower_ge (f : Nat → Nat) (k v : Nat) : ∀ n, n ≤ k → sumN (lower f k v) n = sumN f n
  | 0, _ => rfl
  | n + 1, h => by
    show sumN (lower f k v) n + lower f k v n = _
    rw [sumN_lower_ge f k v n (by omega), lower_o f v (show n ≠ k by omega)]
    rfl
theorem sumN_lower (f : Nat → Nat) {k v : Nat} (hv : v < f k) : ∀ n, k < n → sumN (lower f k v) n < sumN f n
  | 0, h => absurd h (by omega)
  | n + 1, h => by
    show sumN (lower f k v) n + lower f k v n < sumN f n + f n
    by_cases e : n = k
    · subst e
      rw [sumN_lower_ge f n v n (Nat.le_refl n), lower_s]
      omega
    · have := sumN_lower f hv n (by omega)
      rw [lower_o f v e]
      omega
/-- no way: as far as this -/
abbrev FARN : Nat := 1000000
/-- the costs f to the goal of the walker w -/
def Sol (σ : Nat → Int32) (w m : Nat) (f : Nat → Nat) : Prop :=
  (∀ c, c < 80 → f c ≤ 1000000) ∧ f (gC σ (wTo σ w)) = 0 ∧ (∀ c, c < rC σ → ∀ t, t < 4 → f c ≤ cby σ f w m c t) ∧
  (∀ c, c < rC σ → c ≠ gC σ (wTo σ w) → f c = 1000000 ∨ ∃ t, t < 4 ∧ cby σ f w m c t = f c)
/-- by a next cell, written out -/
theorem cby_cases (σ : Nat → Int32) (f : Nat → Nat) (w m c t : Nat) : cby σ f w m c t = 1000000 ∨ ∃ n e, nb (rW σ) (rH σ) c t = some n ∧ f n < 1000000 ∧ ecost σ w m n = some e ∧ cby σ f w m c t = e + f n := by
  unfold cby
  cases h1 : nb (rW σ) (rH σ) c t with
  | none => exact Or.inl rfl
  | some n =>
    simp only
    by_cases h2 : 1000000 ≤ f n
    · rw [if_pos h2]; exact Or.inl rfl
    · rw [if_neg h2]
      cases h3 : ecost σ w m n with
      | none => exact Or.inl rfl
      | some e => exact Or.inr ⟨n, e, rfl, by omega, h3, rfl⟩
theorem cby_of {σ : Nat → Int32} {f : Nat → Nat} {w m c t n e : Nat} (h1 : nb (rW σ) (rH σ) c t = some n) (h2 : f n < 1000000) (h3 : ecost σ w m n = some e) : cby σ f w m c t = e + f n := by
  unfold cby
  rw [h1]
  simp only
  rw [if_neg (by omega), h3]
theorem Sol.unique {σ : Nat → Int32} {w m : Nat} {f h : Nat → Nat} (hW : RowW σ) (hf : Sol σ w m f) (hh : Sol σ w m h) : ∀ c, c < rC σ → f c = h c := by
  -- by the lesser of the two values
  have hS := hW.s
  have hc80 := hS.c80
  have hw3 := hS.w3
  have key : ∀ (n : Nat) (f h : Nat → Nat), Sol σ w m f → Sol σ w m h → ∀ c, c < rC σ → f c < n → h c ≤ f c := by
    intro n
    induction n with
    | zero => intro f h _ _ c _ hc; exact absurd hc (Nat.not_lt_zero _)
    | succ n ih =>
      intro f h hf hh c hc hlt
      by_cases e : c = gC σ (wTo σ w)
      · rw [e, hf.2.1, hh.2.1]; exact Nat.le_refl _
      · rcases hf.2.2.2 c hc e with q | ⟨t, ht, q⟩
        · rw [q]; exact hh.1 c (by omega)
        · rcases cby_cases σ f w m c t with q2 | ⟨j, v, h1, h2, h3, h4⟩
          · rw [← q, q2]; exact hh.1 c (by omega)
          · have hj := nb_lt (by omega) hc h1
            have hv := ecost_le hW (show j < 80 by unfold rC at hc80; omega) h3
            have h5 : h j ≤ f j := ih f h hf hh j hj (by omega)
            have h6 := hh.2.2.1 c hc t ht
            rw [cby_of h1 (show h j < 1000000 by omega) h3] at h6
            omega
  intro c hc
  have h1 := key (f c + 1) f h hf hh c hc (by omega)
  have h2 := key (h c + 1) h f hh hf c hc (by omega)
  omega
noncomputable def dist (σ : Nat → Int32) (w m : Nat) : Nat → Nat := Classical.epsilon (fun f => Sol σ w m f)
theorem dist_sol {σ : Nat → Int32} {w m : Nat} {f : Nat → Nat} (hf : Sol σ w m f) : Sol σ w m (dist σ w m) := by
  exact Classical.epsilon_spec (p := fun f => Sol σ w m f) ⟨f, hf⟩
theorem dist_eq {σ : Nat → Int32} {w m : Nat} {f : Nat → Nat} (hW : RowW σ) (hf : Sol σ w m f) {c : Nat} (hc : c < rC σ) : dist σ w m c = f c := Sol.unique hW (dist_sol hf) hf c hc
/-- the invariant while costs are laid -/
def LCI (σ : Nat → Int32) (w m : Nat) (κ : Nat → Int32) (f : Nat → Nat) : Prop :=
  (∀ j, j < 80 → κ j = nI (f j) ∧ f j ≤ 1000000) ∧ f (gC σ (wTo σ w)) = 0 ∧
  ∀ c, c < 80 → c ≠ gC σ (wTo σ w) → f c = 1000000 ∨ ∃ t n e, t < 4 ∧ nb (rW σ) (rH σ) c t = some n ∧ f n < 1000000 ∧ ecost σ w m n = some e ∧ e + f n ≤ f c
theorem LCI.init (σ : Nat → Int32) (w m : Nat) (κ : Nat → Int32) (hκ : ∀ j, j < 80 → κ j = nI 1000000) : LCI σ w m (upd κ (gC σ (wTo σ w)) (nI 0)) (lower (fun _ => 1000000) (gC σ (wTo σ w)) 0) := by
  refine ⟨fun j hj => ?_, lower_s _ _ _, fun c hc h => Or.inl (lower_o _ _ h)⟩
  by_cases e : j = gC σ (wTo σ w)
  · rw [e, pk_us, lower_s]; exact ⟨rfl, by omega⟩
  · rw [pk_un e, lower_o _ _ e]; exact ⟨hκ j hj, Nat.le_refl _⟩
theorem LCI.step {σ : Nat → Int32} {w m : Nat} {κ : Nat → Int32} {f : Nat → Nat} (hW : RowW σ) (h : LCI σ w m κ f) {k t : Nat} (hk : k < rC σ) (ht : t < 4) (hlt : cby σ f w m k t < f k) :
    LCI σ w m (upd κ k (nI (cby σ f w m k t))) (lower f k (cby σ f w m k t)) ∧ sumN (lower f k (cby σ f w m k t)) 80 < sumN f 80 := by
  have hS := hW.s
  have hc80 := hS.c80
  have hw3 := hS.w3
  obtain ⟨h1, h2, h3⟩ := h
  have hk80 : k < 80 := by omega
  have hkt : k ≠ gC σ (wTo σ w) := by
    intro e; rw [e, h2] at hlt; omega
  have hfk := (h1 k hk80).2
  obtain ⟨n, e, e1, e2, e3, e4⟩ : ∃ n e, nb (rW σ) (rH σ) k t = some n ∧ f n < 1000000 ∧ ecost σ w m n = some e ∧ cby σ f w m k t = e + f n := by
    rcases cby_cases σ f w m k t with q | q
    · omega
    · exact q
  have hn := nb_lt (show 0 < rW σ by omega) hk e1
  have hn80 : n < 80 := by unfold rC at hc80; omega
  have he := ecost_le hW hn80 e3
  have hnk : n ≠ k := by intro q; rw [q] at e4; omega
  refine ⟨⟨fun j hj => ?_, ?_, fun c hc hct => ?_⟩, sumN_lower f hlt 80 hk80⟩
  · by_cases q : j = k
    · rw [q, pk_us, lower_s]; exact ⟨rfl, by omega⟩
    · rw [pk_un q, lower_o _ _ q]; exact h1 j hj
  · rw [lower_o _ _ (Ne.symm hkt)]; exact h2
  · by_cases q : c = k
    · subst q
      refine Or.inr ⟨t, n, e, ht, e1, ?_, e3, ?_⟩
      · rw [lower_o _ _ hnk]; exact e2
      · rw [lower_o _ _ hnk, lower_s, e4]; exact Nat.le_refl _
    · rw [lower_o _ _ q]
      rcases h3 c hc hct with q2 | ⟨t', n', e', a1, a2, a3, a4, a5⟩
      · exact Or.inl q2
      · refine Or.inr ⟨t', n', e', a1, a2, ?_, a4, ?_⟩
        · by_cases q3 : n' = k
          · rw [q3, lower_s]; omega
          · rw [lower_o _ _ q3]; exact a3
        · by_cases q3 : n' = k
          · rw [q3, lower_s]; rw [q3] at a5; omega
          · rw [lower_o _ _ q3]; exact a5
theorem LCI.sol {σ : Nat → Int32} {w m : Nat} {κ : Nat → Int32} {f : Nat → Nat} (hW : RowW σ) (h : LCI σ w m κ f) (hfix : ∀ c, c < rC σ → ∀ t, t < 4 → f c ≤ cby σ f w m c t) : Sol σ w m f := by
  have hc80 := hW.s.c80
  obtain ⟨h1, h2, h3⟩ := h
  refine ⟨fun c hc => (h1 c hc).2, h2, hfix, fun c hc hct => ?_⟩
  rcases h3 c (by omega) hct with q | ⟨t, n, e, a1, a2, a3, a4, a5⟩
  · exact Or.inl q
  · refine Or.inr ⟨t, a1, ?_⟩
    have := hfix c hc t a1
    rw [cby_of a2 a3 a4] at this ⊢
    omega
