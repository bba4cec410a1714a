/-! PURE: costs laid from the goal outwards (the component's way to lay them) -/
set_option maxRecDepth 100000
/-- what may be entered -/
def opB (σ : Rw) (m c : Nat) : Bool := match m with
  | 0 => !decide (fenced σ c)
  | 1 => true
  | _ => !decide (σ (153 + 5 * c + 0) = 0)
abbrev opn (σ : Rw) (m c : Nat) : Prop := opB σ m c = true
/-- what a cell costs, be it open or not -/
def gcost (σ : Rw) (w c : Nat) : Nat := if σ (153 + 5 * c + 0) = 0 then 10 + (9 - wHs σ w) * cGr σ c + (if wetD σ (rD σ) ∧ ¬ 2 < cGr σ c then 25 else 0) else 10
theorem ec_opn {σ : Rw} {w m c : Nat} (hm : m < 3) (hf : fenced σ c → σ (153 + 5 * c + 0) = 0) : ecost σ w m c = if opn σ m c then some (gcost σ w c) else none := by
  unfold ecost gcost
  by_cases h : σ (153 + 5 * c + 0) = 0
  · rw [if_pos h, if_pos h]
    rcases (show m = 0 ∨ m = 1 ∨ m = 2 by omega) with e | e | e <;> subst e
    · by_cases q : fenced σ c
      · rw [if_pos (Or.inr ⟨rfl, q⟩), if_neg (by show ¬ (!decide (fenced σ c)) = true; rw [decide_eq_true q]; decide)]
      · have ho : opn σ 0 c := by show (!decide (fenced σ c)) = true; rw [decide_eq_false q]; rfl
        rw [if_neg (fun z => z.elim (fun z => by omega) (fun z => q z.2)), if_pos ho]
    · have ho : opn σ 1 c := rfl
      rw [if_neg (fun z => z.elim (fun z => by omega) (fun z => by omega)), if_pos ho]
    · rw [if_pos (Or.inl rfl), if_neg (by show ¬ (!decide (σ (153 + 5 * c + 0) = 0)) = true; rw [decide_eq_true h]; decide)]
  · rw [if_neg h, if_neg h]
    have : opn σ m c := by
      rcases (show m = 0 ∨ m = 1 ∨ m = 2 by omega) with e | e | e <;> subst e
      · show (!decide (fenced σ c)) = true
        rw [decide_eq_false (fun q => h (hf q))]; rfl
      · rfl
      · show (!decide (σ (153 + 5 * c + 0) = 0)) = true
        rw [decide_eq_false h]; rfl
    rw [if_pos this]
theorem gcost_le {σ : Rw} {w c : Nat} (hW : RowW σ) (hc : c < 80) : 10 ≤ gcost σ w c ∧ gcost σ w c ≤ 116 := by
  unfold gcost
  have h9 := hW.c9 hc
  have : (9 - wHs σ w) * cGr σ c ≤ 9 * 9 := Nat.mul_le_mul (by omega) h9
  split
  · split <;> omega
  · omega
/-- one cell's next ones, lowered to v: behind t of them -/
def rlK (σ : Rw) (m cell v : Nat) (f : Nat → Nat) : Nat → Nat → Nat
  | 0 => f
  | t + 1 => match nb (rW σ) (rH σ) cell t with
    | none => rlK σ m cell v f t
    | some n => if opn σ m n then lower (rlK σ m cell v f t) n (min (rlK σ m cell v f t n) v) else rlK σ m cell v f t
theorem rlK_spec {σ : Rw} {m cell v : Nat} {f : Nat → Nat} : ∀ t, t ≤ 4 → (∀ n, rlK σ m cell v f t n = f n ∨ (v < f n ∧ rlK σ m cell v f t n = v ∧ opn σ m n ∧ ∃ s, s < 4 ∧ nb (rW σ) (rH σ) cell s = some n)) ∧ ∀ n s, s < t → nb (rW σ) (rH σ) cell s = some n → opn σ m n → rlK σ m cell v f t n ≤ v
  | 0, _ => ⟨fun _ => Or.inl rfl, fun _ _ h => absurd h (Nat.not_lt_zero _)⟩
  | t + 1, ht => by
    obtain ⟨h1, h2⟩ := rlK_spec (σ := σ) (m := m) (cell := cell) (v := v) (f := f) t (by omega)
    cases hn : nb (rW σ) (rH σ) cell t with
    | none =>
      have e : rlK σ m cell v f (t + 1) = rlK σ m cell v f t := by
        show (match nb (rW σ) (rH σ) cell t with
          | none => rlK σ m cell v f t
          | some n => if opn σ m n then lower (rlK σ m cell v f t) n (min (rlK σ m cell v f t n) v) else rlK σ m cell v f t) = _
        rw [hn]
      rw [e]
      refine ⟨h1, fun n s hs hns ho => ?_⟩
      by_cases q : s = t
      · rw [q, hn] at hns; cases hns
      · exact h2 n s (by omega) hns ho
    | some k =>
      have e : rlK σ m cell v f (t + 1) = if opn σ m k then lower (rlK σ m cell v f t) k (min (rlK σ m cell v f t k) v) else rlK σ m cell v f t := by
        show (match nb (rW σ) (rH σ) cell t with
          | none => rlK σ m cell v f t
          | some n => if opn σ m n then lower (rlK σ m cell v f t) n (min (rlK σ m cell v f t n) v) else rlK σ m cell v f t) = _
        rw [hn]
      by_cases hk : opn σ m k
      · rw [e, if_pos hk]
        constructor
        · intro n
          by_cases q : n = k
          · subst q
            rw [lower_s]
            rcases h1 n with a | ⟨a1, a2, a3⟩
            · rw [a]
              by_cases z : f n ≤ v
              · left; omega
              · exact Or.inr ⟨by omega, by omega, hk, t, by omega, hn⟩
            · exact Or.inr ⟨a1, by omega, a3⟩
          · rw [lower_o _ _ q]; exact h1 n
        · intro n s hs hns ho
          by_cases q : n = k
          · subst q; rw [lower_s]; omega
          · rw [lower_o _ _ q]
            by_cases z : s = t
            · rw [z, hn] at hns; cases hns; exact absurd rfl q
            · exact h2 n s (by omega) hns ho
      · rw [e, if_neg hk]
        refine ⟨h1, fun n s hs hns ho => ?_⟩
        by_cases z : s = t
        · rw [z, hn] at hns; cases hns; exact absurd ho hk
        · exact h2 n s (by omega) hns ho
/-- while costs are laid: f so far, M the cells that are done with -/
def DJ (σ : Rw) (w m : Nat) (f : Nat → Nat) (M : Nat → Prop) : Prop :=
  f (gC σ (wTo σ w)) = 0 ∧ (∀ c, c < 80 → f c ≤ 1000000) ∧ (∀ c, c < rC σ → M c → f c < 1000000) ∧
  (∀ c n t, c < rC σ → t < 4 → M c → nb (rW σ) (rH σ) c t = some n → opn σ m n → f n ≤ f c + gcost σ w c) ∧
  (∀ n, n < rC σ → n ≠ gC σ (wTo σ w) → f n < 1000000 → opn σ m n ∧ ∃ c t, c < rC σ ∧ t < 4 ∧ M c ∧ nb (rW σ) (rH σ) c t = some n ∧ f n = f c + gcost σ w c) ∧
  ∀ c k, c < rC σ → k < rC σ → M c → ¬ M k → f c ≤ f k
theorem DJ.init {σ : Rw} {w m : Nat} (hg : gC σ (wTo σ w) < rC σ) : DJ σ w m (lower (fun _ => 1000000) (gC σ (wTo σ w)) 0) (fun _ => False) := by
  refine ⟨lower_s _ _ _, fun c _ => ?_, fun _ _ h => h.elim, fun _ _ _ _ _ h => h.elim, fun n hn h1 h2 => ?_, fun _ _ _ _ h => h.elim⟩
  · by_cases q : c = gC σ (wTo σ w)
    · rw [q, lower_s]; omega
    · rw [lower_o _ _ q]; omega
  · rw [lower_o _ _ h1] at h2; omega
theorem DJ.step {σ : Rw} {w m : Nat} {f : Nat → Nat} {M : Nat → Prop} (hW : RowW σ) (h : DJ σ w m f M) {k : Nat} (hk : k < rC σ) (hkM : ¬ M k) (hkf : f k < 1000000) (hmin : ∀ j, j < rC σ → ¬ M j → f k ≤ f j) :
    DJ σ w m (rlK σ m k (f k + gcost σ w k) f 4) (fun c => M c ∨ c = k) := by
  obtain ⟨d1, d2, d3, d4, d5, d6⟩ := h
  obtain ⟨r1, r2⟩ := rlK_spec (σ := σ) (m := m) (cell := k) (v := f k + gcost σ w k) (f := f) 4 (Nat.le_refl _)
  have hw3 := hW.s.w3
  have hc80 := hW.s.c80
  have hgc := gcost_le (w := w) hW (show k < 80 by omega)
  have le : ∀ n, rlK σ m k (f k + gcost σ w k) f 4 n ≤ f n := fun n => by rcases r1 n with a | ⟨a1, a2, -⟩ <;> omega
  have same : ∀ c, f c ≤ f k + gcost σ w k → rlK σ m k (f k + gcost σ w k) f 4 c = f c := fun c hc => by
    rcases r1 c with a | ⟨a1, a2, -⟩
    · exact a
    · omega
  have sk : rlK σ m k (f k + gcost σ w k) f 4 k = f k := same k (by omega)
  have sM : ∀ c, c < rC σ → M c → rlK σ m k (f k + gcost σ w k) f 4 c = f c := fun c hc hM => same c (by have := d6 c k hc hk hM hkM; omega)
  refine ⟨?_, fun c hc => Nat.le_trans (le c) (d2 c hc), fun c hc hM => ?_, fun c n t hc ht hM hn ho => ?_, fun n hn hng hnf => ?_, fun c j hc hj hM hjM => ?_⟩
  · rw [same _ (by omega)]; exact d1
  · rcases hM with hM | hM
    · rw [sM c hc hM]; exact d3 c hc hM
    · rw [hM, sk]; exact hkf
  · rcases hM with hM | hM
    · rw [sM c hc hM]
      exact Nat.le_trans (le n) (d4 c n t hc ht hM hn ho)
    · subst hM
      rw [sk]
      exact r2 n t ht hn ho
  · rcases r1 n with a | ⟨a1, a2, a3, s, a4, a5⟩
    · rw [a] at hnf ⊢
      obtain ⟨b1, c, t, b2, b3, b4, b5, b6⟩ := d5 n hn hng hnf
      exact ⟨b1, c, t, b2, b3, Or.inl b4, b5, by rw [sM c b2 b4]; exact b6⟩
    · exact ⟨a3, k, s, hk, a4, Or.inr rfl, a5, by rw [sk]; exact a2⟩
  · have hjM1 : ¬ M j := fun q => hjM (Or.inl q)
    have hjk : j ≠ k := fun q => hjM (Or.inr q)
    have hck : f c ≤ f k := by
      rcases hM with hM | hM
      · exact d6 c k hc hk hM hkM
      · rw [hM]; exact Nat.le_refl _
    have hsc : rlK σ m k (f k + gcost σ w k) f 4 c = f c := same c (by omega)
    rw [hsc]
    rcases r1 j with a | ⟨a1, a2, -⟩
    · rw [a]; exact Nat.le_trans hck (hmin j hj hjM1)
    · rw [a2]; omega
/-- at the end: the costs -/
theorem DJ.done {σ : Rw} {w m : Nat} {f : Nat → Nat} {M : Nat → Prop} (hW : RowW σ) (hm : m < 3) (hC : ∀ c, c < 80 → fenced σ c → σ (153 + 5 * c + 0) = 0) (hg : gC σ (wTo σ w) < rC σ) (hgo : opn σ m (gC σ (wTo σ w)))
    (h : DJ σ w m f M) (hall : ∀ k, k < rC σ → ¬ M k → ¬ f k < 1000000) : (∀ c, c < rC σ → opn σ m c → f c = dist σ w m c) ∧ ∀ c, c < rC σ → ¬ opn σ m c → f c = 1000000 := by
  obtain ⟨d1, d2, d3, d4, d5, d6⟩ := h
  have hw3 := hW.s.w3
  have hc80 := hW.s.c80
  have hne : ∀ c, c < rC σ → ¬ opn σ m c → f c = 1000000 := fun c hc ho => by
    have h1 := d2 c (by omega)
    rcases Nat.lt_or_ge (f c) 1000000 with q | q
    · by_cases e : c = gC σ (wTo σ w)
      · exact absurd hgo (by rw [← e]; exact ho)
      · exact absurd (d5 c hc e q).1 ho
    · omega
  refine ⟨?_, hne⟩
  -- the costs of all cells, entered or not
  have hfin : ∀ c, c < rC σ → f c < 1000000 → M c := fun c hc hf => Classical.byContradiction fun q => hall c hc q hf
  have ec : ∀ c, c < 80 → ecost σ w m c = if opn σ m c then some (gcost σ w c) else none := fun c hc => ec_opn hm (hC c hc)
  let mn : Nat → Nat := fun n => min 1000000 (min (min (cby σ f w m n 0) (cby σ f w m n 1)) (min (cby σ f w m n 2) (cby σ f w m n 3)))
  let F : Nat → Nat := fun n => if opn σ m n ∨ ¬ n < rC σ then f n else mn n
  have Fo : ∀ n, opn σ m n → F n = f n := fun n hn => if_pos (Or.inl hn)
  have cb : ∀ n t, n < rC σ → cby σ F w m n t = cby σ f w m n t := fun n t hn => by
    unfold cby
    cases hb : nb (rW σ) (rH σ) n t with
    | none => rfl
    | some k =>
      have hk : k < rC σ := nb_lt (show 0 < rW σ by omega) hn hb
      simp only
      by_cases ho : opn σ m k
      · rw [Fo k ho]
      · rw [ec k (by omega), if_neg ho]
        simp only [ite_self]
  have hS : Sol σ w m F := by
    refine ⟨fun c hc => ?_, by rw [Fo _ hgo]; exact d1, fun c hc t ht => ?_, fun c hc hcg => ?_⟩
    · by_cases q : opn σ m c ∨ ¬ c < rC σ
      · rw [show F c = f c from if_pos q]; exact d2 c hc
      · rw [show F c = mn c from if_neg q]; exact Nat.min_le_left _ _
    · rw [cb c t hc]
      by_cases q : opn σ m c
      · rw [Fo c q]
        rcases cby_cases σ f w m c t with a | ⟨n, e, a1, a2, a3, a4⟩
        · rw [a]; exact d2 c (by omega)
        · have hn : n < rC σ := nb_lt (show 0 < rW σ by omega) hc a1
          obtain ⟨t2, b1, b2⟩ := nb_sym (show 0 < rW σ by omega) hc a1
          have h4 := d4 n c t2 hn b1 (hfin n hn a2) b2 q
          rw [ec n (by omega)] at a3
          by_cases z : opn σ m n
          · rw [if_pos z] at a3; cases a3; omega
          · rw [if_neg z] at a3; cases a3
      · rw [show F c = mn c from if_neg (fun z => z.elim q (fun z => z hc))]
        show min 1000000 _ ≤ _
        rcases (show t = 0 ∨ t = 1 ∨ t = 2 ∨ t = 3 by omega) with e | e | e | e <;> subst e <;> omega
    · by_cases q : opn σ m c
      · rw [Fo c q]
        rcases Nat.lt_or_ge (f c) 1000000 with z | z
        · right
          obtain ⟨-, k, t, b2, b3, b4, b5, b6⟩ := d5 c hc hcg z
          obtain ⟨t2, b7, b8⟩ := nb_sym (show 0 < rW σ by omega) b2 b5
          refine ⟨t2, b7, ?_⟩
          rw [cb c t2 hc]
          have hk3 := d3 k b2 b4
          have hko : opn σ m k := Classical.byContradiction fun ho => by have := hne k b2 ho; omega
          rw [cby_of b8 hk3 (by rw [ec k (by omega), if_pos hko])]
          omega
        · left
          have := d2 c (by omega)
          omega
      · have e : F c = mn c := if_neg (fun z => z.elim q (fun z => z hc))
        rw [e]
        have : mn c = 1000000 ∨ mn c = cby σ f w m c 0 ∨ mn c = cby σ f w m c 1 ∨ mn c = cby σ f w m c 2 ∨ mn c = cby σ f w m c 3 := by
          show min 1000000 _ = _ ∨ min 1000000 _ = _ ∨ min 1000000 _ = _ ∨ min 1000000 _ = _ ∨ min 1000000 _ = _
          omega
        rcases this with a | a | a | a | a
        · exact Or.inl a
        · exact Or.inr ⟨0, by omega, by rw [cb c 0 hc, a]⟩
        · exact Or.inr ⟨1, by omega, by rw [cb c 1 hc, a]⟩
        · exact Or.inr ⟨2, by omega, by rw [cb c 2 hc, a]⟩
        · exact Or.inr ⟨3, by omega, by rw [cb c 3 hc, a]⟩
  intro c hc ho
  rw [dist_eq hW hS hc, Fo c ho]
