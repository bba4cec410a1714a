/-! PURE: the distances are there; THE way, step by step -/
set_option maxRecDepth 100000
/-- more places than values: two are alike -/
theorem php : ∀ (m n : Nat) (f : Nat → Nat), (∀ i, i < n → f i < m) → (∀ i j, i < n → j < n → f i = f j → i = j) → n ≤ m
  | 0, n, f, h, _ => by
    rcases Nat.eq_zero_or_pos n with e | e
    · omega
    · exact absurd (h 0 e) (Nat.not_lt_zero _)
  | m + 1, n, f, h, hi => by
    by_cases hx : ∃ i, i < n ∧ f i = m
    · obtain ⟨i0, h1, h2⟩ := hx
      have := php m (n - 1) (fun j => f (if j < i0 then j else j + 1)) (fun i hin => by
        show f (if i < i0 then i else i + 1) < m
        by_cases q : i < i0
        · rw [if_pos q]
          have h3 := h i (by omega)
          have : f i ≠ m := fun e => by have := hi i i0 (by omega) h1 (by rw [e, h2]); omega
          omega
        · rw [if_neg q]
          have h3 := h (i + 1) (by omega)
          have : f (i + 1) ≠ m := fun e => by have := hi (i + 1) i0 (by omega) h1 (by rw [e, h2]); omega
          omega) (fun i j hin hjn e => by
        have e : f (if i < i0 then i else i + 1) = f (if j < i0 then j else j + 1) := e
        by_cases q : i < i0 <;> by_cases q2 : j < i0
        · rw [if_pos q, if_pos q2] at e; exact hi i j (by omega) (by omega) e
        · rw [if_pos q, if_neg q2] at e; have := hi i (j + 1) (by omega) (by omega) e; omega
        · rw [if_neg q, if_pos q2] at e; have := hi (i + 1) j (by omega) (by omega) e; omega
        · rw [if_neg q, if_neg q2] at e; have := hi (i + 1) (j + 1) (by omega) (by omega) e; omega)
      omega
    · have := php m n f (fun i hin => by
        have h3 := h i hin
        have : f i ≠ m := fun e => hx ⟨i, hin, e⟩
        omega) hi
      omega
theorem sol_ex {σ : Nat → Int32} {w m : Nat} (hW : RowW σ) : ∃ f, Sol σ w m f := by
  have key : ∀ (n : Nat) (κ : Nat → Int32) (f : Nat → Nat), sumN f 80 < n → LCI σ w m κ f → ∃ f, Sol σ w m f := by
    intro n
    induction n with
    | zero => intro κ f h; exact absurd h (Nat.not_lt_zero _)
    | succ n ih =>
      intro κ f h hI
      by_cases hx : ∃ c t, c < rC σ ∧ t < 4 ∧ cby σ f w m c t < f c
      · obtain ⟨c, t, h1, h2, h3⟩ := hx
        obtain ⟨s1, s2⟩ := hI.step hW h1 h2 h3
        exact ih _ _ (by omega) s1
      · refine ⟨f, hI.sol hW fun c hc t ht => ?_⟩
        by_cases q : cby σ f w m c t < f c
        · exact absurd ⟨c, t, hc, ht, q⟩ hx
        · omega
  exact key _ _ _ (Nat.lt_succ_self _) (LCI.init σ w m (fun _ => nI 1000000) (fun _ _ => rfl))
theorem dist_S {σ : Nat → Int32} {w m : Nat} (hW : RowW σ) : Sol σ w m (dist σ w m) := dist_sol (sol_ex hW).choose_spec
/-- the first direction of four for which p holds; 3 if none of the first three -/
def fstT (p : Nat → Prop) [DecidablePred p] : Nat := if p 0 then 0 else if p 1 then 1 else if p 2 then 2 else 3
theorem fstT_spec {p : Nat → Prop} [DecidablePred p] (h : ∃ t, t < 4 ∧ p t) : fstT p < 4 ∧ p (fstT p) ∧ ∀ j, j < fstT p → ¬ p j := by
  obtain ⟨t, ht, hp⟩ := h
  unfold fstT
  by_cases h0 : p 0
  · rw [if_pos h0]; exact ⟨by omega, h0, fun j hj => absurd hj (Nat.not_lt_zero _)⟩
  · rw [if_neg h0]
    by_cases h1 : p 1
    · rw [if_pos h1]; exact ⟨by omega, h1, fun j hj => by rw [show j = 0 by omega]; exact h0⟩
    · rw [if_neg h1]
      by_cases h2 : p 2
      · rw [if_pos h2]
        refine ⟨by omega, h2, fun j hj => ?_⟩
        rcases (show j = 0 ∨ j = 1 by omega) with rfl | rfl
        · exact h0
        · exact h1
      · rw [if_neg h2]
        refine ⟨by omega, ?_, fun j hj => ?_⟩
        · rcases (show t = 0 ∨ t = 1 ∨ t = 2 ∨ t = 3 by omega) with rfl | rfl | rfl | rfl
          · exact absurd hp h0
          · exact absurd hp h1
          · exact absurd hp h2
          · exact hp
        · rcases (show j = 0 ∨ j = 1 ∨ j = 2 by omega) with rfl | rfl | rfl
          · exact h0
          · exact h1
          · exact h2
theorem fstT_of {p : Nat → Prop} [DecidablePred p] {t : Nat} (ht : t < 4) (hp : p t) (hn : ∀ j, j < t → ¬ p j) : fstT p = t := by
  obtain ⟨h1, h2, h3⟩ := fstT_spec ⟨t, ht, hp⟩
  rcases Nat.lt_trichotomy (fstT p) t with q | q | q
  · exact absurd h2 (hn _ q)
  · exact q
  · exact absurd hp (h3 _ q)
/-- the direction in which THE way of w goes on from c; the next cell; the cell after n steps -/
noncomputable def dirT (σ : Nat → Int32) (w c : Nat) : Nat := fstT (fun t => cby σ (dist σ w 0) w 0 c t = dist σ w 0 c)
noncomputable def nxt (σ : Nat → Int32) (w c : Nat) : Nat := (nb (rW σ) (rH σ) c (dirT σ w c)).getD c
noncomputable def wyF (σ : Nat → Int32) (w c : Nat) : Nat → Nat
  | 0 => c
  | n + 1 => nxt σ w (wyF σ w c n)
/-- how many steps to the goal -/
noncomputable def wlF (σ : Nat → Int32) (w : Nat) : Nat → Nat → Nat
  | 0, _ => 0
  | n + 1, c => if c = gC σ (wTo σ w) then 0 else wlF σ w n (nxt σ w c) + 1
noncomputable def wl (σ : Nat → Int32) (w : Nat) : Nat := wlF σ w (dist σ w 0 (gC σ (wFr σ w)) + 1) (gC σ (wFr σ w))
noncomputable def wy (σ : Nat → Int32) (w : Nat) : Nat → Nat := wyF σ w (gC σ (wFr σ w))
theorem nxt_spec {σ : Nat → Int32} {w c : Nat} (hW : RowW σ) (hc : c < rC σ) (hd : dist σ w 0 c < 1000000) (hct : c ≠ gC σ (wTo σ w)) :
    dirT σ w c < 4 ∧ (∀ j, j < dirT σ w c → cby σ (dist σ w 0) w 0 c j ≠ dist σ w 0 c) ∧ cby σ (dist σ w 0) w 0 c (dirT σ w c) = dist σ w 0 c ∧ nb (rW σ) (rH σ) c (dirT σ w c) = some (nxt σ w c) ∧ nxt σ w c < rC σ ∧
    ∃ e, ecost σ w 0 (nxt σ w c) = some e ∧ 10 ≤ e ∧ e ≤ 116 ∧ dist σ w 0 c = e + dist σ w 0 (nxt σ w c) := by
  have hS := hW.s
  have hc80 := hS.c80
  have hw3 := hS.w3
  have hD := dist_S (w := w) (m := 0) hW
  obtain ⟨h1, h2, h3⟩ := fstT_spec (p := fun t => cby σ (dist σ w 0) w 0 c t = dist σ w 0 c) (by
    rcases hD.2.2.2 c hc hct with q | q
    · omega
    · exact q)
  have h2' : cby σ (dist σ w 0) w 0 c (dirT σ w c) = dist σ w 0 c := h2
  rcases cby_cases σ (dist σ w 0) w 0 c (dirT σ w c) with q | ⟨n, e, a1, a2, a3, a4⟩
  · omega
  · have en : nxt σ w c = n := by unfold nxt; rw [a1]; rfl
    have hn := nb_lt (show 0 < rW σ by omega) hc a1
    rw [en]
    have he := ecost_le hW (show n < 80 by unfold rC at hc80; omega) a3
    exact ⟨h1, h3, h2', a1, hn, e, a3, he.1, he.2, by omega⟩
/-- the chain from c: it comes to the goal, its distances fall -/
theorem wlF_spec {σ : Nat → Int32} {w : Nat} (hW : RowW σ) : ∀ (n c : Nat), c < rC σ → dist σ w 0 c < 1000000 → dist σ w 0 c < n →
    wyF σ w c (wlF σ w n c) = gC σ (wTo σ w) ∧ ∀ i, i < wlF σ w n c → wyF σ w c i ≠ gC σ (wTo σ w)
  | 0, c, _, _, h => absurd h (Nat.not_lt_zero _)
  | n + 1, c, hc, hd, h => by
    by_cases e : c = gC σ (wTo σ w)
    · have e2 : wlF σ w (n + 1) c = 0 := if_pos e
      rw [e2]
      exact ⟨e, fun i hi => absurd hi (Nat.not_lt_zero _)⟩
    · have e2 : wlF σ w (n + 1) c = wlF σ w n (nxt σ w c) + 1 := if_neg e
      obtain ⟨-, -, -, -, h1, v, -, h2, -, h3⟩ := nxt_spec hW hc hd e
      obtain ⟨a1, a2⟩ := wlF_spec (w := w) hW n (nxt σ w c) h1 (by omega) (by omega)
      have sh : ∀ i, wyF σ w c (i + 1) = wyF σ w (nxt σ w c) i := by
        intro i
        induction i with
        | zero => rfl
        | succ i ih => show nxt σ w (wyF σ w c (i + 1)) = nxt σ w (wyF σ w (nxt σ w c) i); rw [ih]
      rw [e2]
      refine ⟨by rw [sh]; exact a1, fun i hi => ?_⟩
      cases i with
      | zero => exact e
      | succ i => rw [sh]; exact a2 i (by omega)
/-- all that is known of a chain's cells -/
theorem wyF_spec {σ : Nat → Int32} {w n c : Nat} (hW : RowW σ) (hc : c < rC σ) (hd : dist σ w 0 c < 1000000) (hn : ∀ i, i < n → wyF σ w c i ≠ gC σ (wTo σ w)) :
    ∀ i, i ≤ n → wyF σ w c i < rC σ ∧ dist σ w 0 (wyF σ w c i) + 10 * i ≤ dist σ w 0 c ∧ dist σ w 0 c ≤ dist σ w 0 (wyF σ w c i) + 116 * i
  | 0, _ => ⟨hc, by simp [wyF], by simp [wyF]⟩
  | i + 1, hi => by
    obtain ⟨h1, h2, h3⟩ := wyF_spec hW hc hd hn i (by omega)
    obtain ⟨-, -, -, -, a1, v, -, a2, a3, a4⟩ := nxt_spec hW h1 (by omega) (hn i (by omega))
    refine ⟨a1, ?_, ?_⟩ <;> show _ ≤ _ <;> (have : wyF σ w c (i + 1) = nxt σ w (wyF σ w c i) := rfl) <;> rw [this] <;> omega
theorem wyF_inj {σ : Nat → Int32} {w n c : Nat} (hW : RowW σ) (hc : c < rC σ) (hd : dist σ w 0 c < 1000000) (hn : ∀ i, i < n → wyF σ w c i ≠ gC σ (wTo σ w)) :
    ∀ j i, i < j → j ≤ n → dist σ w 0 (wyF σ w c j) < dist σ w 0 (wyF σ w c i)
  | 0, i, h, _ => absurd h (Nat.not_lt_zero _)
  | j + 1, i, h, hj => by
    obtain ⟨h1, h2, h3⟩ := wyF_spec hW hc hd hn j (by omega)
    obtain ⟨-, -, -, -, a1, v, -, a2, a3, a4⟩ := nxt_spec hW h1 (by omega) (hn j (by omega))
    have e : wyF σ w c (j + 1) = nxt σ w (wyF σ w c j) := rfl
    rw [e]
    by_cases q : i = j
    · rw [q]; omega
    · have := wyF_inj hW hc hd hn j i (by omega) (by omega)
      omega
theorem wlF_lt {σ : Nat → Int32} {w n c : Nat} (hW : RowW σ) (hc : c < rC σ) (hd : dist σ w 0 c < 1000000) (hn : ∀ i, i < n → wyF σ w c i ≠ gC σ (wTo σ w)) : n + 1 ≤ rC σ := by
  refine php (rC σ) (n + 1) (wyF σ w c) (fun i hi => (wyF_spec hW hc hd hn i (by omega)).1) (fun i j hi hj e => ?_)
  rcases Nat.lt_trichotomy i j with q | q | q
  · have := wyF_inj hW hc hd hn j i q (by omega)
    rw [e] at this; omega
  · exact q
  · have := wyF_inj hW hc hd hn i j q (by omega)
    rw [e] at this; omega
/-- no finite distance is great -/
theorem dist_le {σ : Nat → Int32} {w c : Nat} (hW : RowW σ) (hc : c < rC σ) (hd : dist σ w 0 c < 1000000) : dist σ w 0 c ≤ 9280 := by
  obtain ⟨h1, h2⟩ := wlF_spec (w := w) hW (dist σ w 0 c + 1) c hc hd (by omega)
  have h3 := wlF_lt hW hc hd h2
  have h4 := wyF_spec hW hc hd h2 _ (Nat.le_refl _)
  rw [h1, (dist_S (w := w) (m := 0) hW).2.1] at h4
  have := hW.s.c80
  omega
/-- a way is a way still when GRASS, HASTE, the day are other -/
theorem way_keep {σ τ : Nat → Int32} {w : Nat} (hW : RowW σ) (hV : RowW τ) (e1 : rW τ = rW σ) (e2 : rH τ = rH σ) (e3 : gC τ (wTo τ w) = gC σ (wTo σ w)) (e4 : ∀ c, c < 80 → (ecost σ w 0 c).isSome = true → (ecost τ w 0 c).isSome = true) :
    ∀ (n c : Nat), dist σ w 0 c < n → c < rC σ → dist σ w 0 c < 1000000 → dist τ w 0 c < 1000000
  | 0, c, h, _, _ => absurd h (Nat.not_lt_zero _)
  | n + 1, c, h, hc, hd => by
    have hD := dist_S (w := w) (m := 0) hV
    have hc80 := hW.s.c80
    by_cases e : c = gC σ (wTo σ w)
    · rw [e, ← e3, hD.2.1]; omega
    · obtain ⟨h1, -, -, h2, h3, v, h4, h5, h6, h7⟩ := nxt_spec hW hc hd e
      have ih := way_keep hW hV e1 e2 e3 e4 n (nxt σ w c) (by omega) h3 (by omega)
      have hcr : rC τ = rC σ := by unfold rC; rw [e1, e2]
      have hle := dist_le hV (by rw [hcr]; exact h3) ih
      have hs := e4 (nxt σ w c) (by omega) (by rw [h4]; rfl)
      obtain ⟨v2, hv2⟩ := Option.isSome_iff_exists.mp hs
      have hv3 := ecost_le hV (show nxt σ w c < 80 by omega) hv2
      have := hD.2.2.1 c (by rw [hcr]; exact hc) (dirT σ w c) h1
      rw [cby_of (by rw [e1, e2]; exact h2) ih hv2] at this
      omega
