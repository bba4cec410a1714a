/-! PURE: ways back, ways without fences; costs laid from the goal outwards -/
set_option maxRecDepth 100000
theorem way_step {τ : Rw} {w c n e t : Nat} (hV : RowW τ) (ht : t < 4) (hc : c < rC τ) (h1 : nb (rW τ) (rH τ) c t = some n) (h2 : ecost τ w 0 n = some e) (h3 : dist τ w 0 n < 1000000) : dist τ w 0 c < 1000000 := by
  have hD := dist_S (w := w) (m := 0) hV
  have hw3 := hV.s.w3
  have hc80 := hV.s.c80
  have hn : n < rC τ := nb_lt (show 0 < rW τ by omega) hc h1
  have hle := dist_le hV hn h3
  have hv3 := ecost_le hV (show n < 80 by omega) h2
  have := hD.2.2.1 c hc t ht
  rw [cby_of h1 h3 h2] at this
  omega
/-- cells by X and Y -/
theorem xy_d {W x y : Nat} (hx : x < W) : (y * W + x) / W = y ∧ (y * W + x) % W = x := by
  have hW : 0 < W := by omega
  constructor
  · rw [Nat.mul_comm, Nat.mul_add_div hW, Nat.div_eq_of_lt hx, Nat.add_zero]
  · rw [Nat.mul_comm, Nat.mul_add_mod, Nat.mod_eq_of_lt hx]
theorem xy_c (W c : Nat) : c / W * W + c % W = c := by
  rw [Nat.mul_comm]
  exact Nat.div_add_mod c W
/-- next cells, by X and Y -/
theorem nb_xy {W H x y : Nat} (hx : x < W) : nb W H (y * W + x) 0 = (if 1 ≤ y then some ((y - 1) * W + x) else none) ∧ nb W H (y * W + x) 1 = (if x + 1 < W then some (y * W + (x + 1)) else none) ∧
    nb W H (y * W + x) 2 = (if y + 1 < H then some ((y + 1) * W + x) else none) ∧ nb W H (y * W + x) 3 = (if 1 ≤ x then some (y * W + (x - 1)) else none) := by
  obtain ⟨e1, e2⟩ := xy_d (y := y) hx
  unfold nb
  simp only [e1, e2]
  exact ⟨trivial, trivial, trivial, trivial⟩
/-- next to each other, both ways -/
theorem nb_sym {W H c n t : Nat} (hW : 0 < W) (hc : c < W * H) (h : nb W H c t = some n) : ∃ t2, t2 < 4 ∧ nb W H n t2 = some c := by
  obtain ⟨x, hx⟩ : ∃ x, x = c % W := ⟨_, rfl⟩
  obtain ⟨y, hy⟩ : ∃ y, y = c / W := ⟨_, rfl⟩
  have hxW : x < W := by rw [hx]; exact Nat.mod_lt c hW
  have hyH : y < H := by rw [hy]; exact div_lt' hW hc
  have ec : c = y * W + x := by rw [hx, hy]; exact (xy_c W c).symm
  obtain ⟨n0, n1, n2, n3⟩ := nb_xy (H := H) (y := y) hxW
  have h3 : ∀ t, 3 ≤ t → nb W H c t = nb W H c 3 := fun t ht => by
    match t, ht with
    | t + 3, _ => rfl
  rw [ec] at h h3 ⊢
  rcases (show t = 0 ∨ t = 1 ∨ t = 2 ∨ 3 ≤ t by omega) with e | e | e | e
  · rw [e, n0] at h
    by_cases q : 1 ≤ y
    · rw [if_pos q] at h
      cases h
      obtain ⟨-, -, m2, -⟩ := nb_xy (H := H) (y := y - 1) hxW
      exact ⟨2, by omega, by rw [m2, if_pos (by omega), Nat.sub_add_cancel q]⟩
    · rw [if_neg q] at h; cases h
  · rw [e, n1] at h
    by_cases q : x + 1 < W
    · rw [if_pos q] at h
      cases h
      obtain ⟨-, -, -, m3⟩ := nb_xy (H := H) (y := y) q
      exact ⟨3, by omega, by rw [m3, if_pos (by omega), Nat.add_sub_cancel]⟩
    · rw [if_neg q] at h; cases h
  · rw [e, n2] at h
    by_cases q : y + 1 < H
    · rw [if_pos q] at h
      cases h
      obtain ⟨m0, -, -, -⟩ := nb_xy (H := H) (y := y + 1) hxW
      exact ⟨0, by omega, by rw [m0, if_pos (by omega), Nat.add_sub_cancel]⟩
    · rw [if_neg q] at h; cases h
  · rw [h3 t e, n3] at h
    by_cases q : 1 ≤ x
    · rw [if_pos q] at h
      cases h
      obtain ⟨-, m1, -, -⟩ := nb_xy (H := H) (y := y) (show x - 1 < W by omega)
      exact ⟨1, by omega, by rw [m1, if_pos (by omega), Nat.sub_add_cancel q]⟩
    · rw [if_neg q] at h; cases h
/-- a set of cells that holds one, and with each its next ones, holds all -/
theorem all_cells {W H : Nat} {P : Nat → Prop} {g : Nat} (hW : 0 < W) (hg : g < W * H) (h0 : P g) (hs : ∀ c n t, c < W * H → t < 4 → nb W H c t = some n → P n → P c) : ∀ c, c < W * H → P c := by
  obtain ⟨gx, hgx⟩ : ∃ x, x = g % W := ⟨_, rfl⟩
  obtain ⟨gy, hgy⟩ : ∃ y, y = g / W := ⟨_, rfl⟩
  have hxW : gx < W := by rw [hgx]; exact Nat.mod_lt g hW
  have hyH : gy < H := by rw [hgy]; exact div_lt' hW hg
  have eg : g = gy * W + gx := by rw [hgx, hgy]; exact (xy_c W g).symm
  have key : ∀ x y, x < W → y < H → y * W + x < W * H := by
    intro x y h1 h2
    have : (y + 1) * W ≤ H * W := Nat.mul_le_mul_right W h2
    rw [Nat.add_mul, Nat.one_mul] at this
    rw [Nat.mul_comm W H]
    omega
  -- along the goal's row
  have r1 : ∀ n x, x < W → (x + n = gx ∨ x = gx + n) → P (gy * W + x) := by
    intro n
    induction n with
    | zero => intro x hx h; rw [show x = gx by omega, ← eg]; exact h0
    | succ n ih =>
      intro x hx h
      obtain ⟨-, m1, -, m3⟩ := nb_xy (H := H) (y := gy) hx
      rcases h with h | h
      · exact hs _ _ 1 (key _ _ hx hyH) (by omega) (by rw [m1, if_pos (by omega)]) (ih (x + 1) (by omega) (Or.inl (by omega)))
      · exact hs _ _ 3 (key _ _ hx hyH) (by omega) (by rw [m3, if_pos (by omega)]) (ih (x - 1) (by omega) (Or.inr (by omega)))
  have r2 : ∀ n x y, x < W → y < H → (y + n = gy ∨ y = gy + n) → P (y * W + x) := by
    intro n
    induction n with
    | zero =>
      intro x y hx hy h
      rw [show y = gy by omega]
      rcases Nat.le_total x gx with q | q
      · exact r1 (gx - x) x hx (Or.inl (by omega))
      · exact r1 (x - gx) x hx (Or.inr (by omega))
    | succ n ih =>
      intro x y hx hy h
      obtain ⟨m0, -, m2, -⟩ := nb_xy (H := H) (y := y) hx
      rcases h with h | h
      · exact hs _ _ 2 (key _ _ hx hy) (by omega) (by rw [m2, if_pos (by omega)]) (ih x (y + 1) hx (by omega) (Or.inl (by omega)))
      · exact hs _ _ 0 (key _ _ hx hy) (by omega) (by rw [m0, if_pos (by omega)]) (ih x (y - 1) hx (by omega) (Or.inr (by omega)))
  intro c hc
  rw [← xy_c W c]
  have h1 := Nat.mod_lt c hW
  have h2 := div_lt' hW hc
  rcases Nat.le_total (c / W) gy with q | q
  · exact r2 (gy - c / W) _ _ h1 h2 (Or.inl (by omega))
  · exact r2 (c / W - gy) _ _ h1 h2 (Or.inr (by omega))
/-- without fences all walkers have ways -/
theorem free_ways {σ : Rw} (hW : RowW σ) (hf : ∀ c, c < 80 → ¬ fenced σ c) : ways σ := by
  intro k hk
  have hK := hW.K hk
  have hw3 := hW.s.w3
  have hc80 := hW.s.c80
  have hg := gC_lt hW.s (hW.G hK.2.1.2)
  have hfr := gC_lt hW.s (hW.G hK.1.2)
  refine all_cells (P := fun c => dist σ k 0 c < 1000000) (show 0 < rW σ by omega) hg ?_ ?_ _ hfr
  · show dist σ k 0 _ < 1000000
    rw [(dist_S (w := k) (m := 0) hW).2.1]; omega
  · intro c n t hc ht hn hp
    have hn2 := nb_lt (show 0 < rW σ by omega) hc hn
    have : ∃ e, ecost σ k 0 n = some e := by
      unfold ecost
      by_cases q : σ (153 + 5 * n + 0) = 0
      · rw [if_pos q, if_neg (fun h => by
          rcases h with h | h
          · omega
          · exact hf n (show n < 80 from Nat.lt_of_lt_of_le hn2 hc80) h.2)]
        exact ⟨_, rfl⟩
      · rw [if_neg q]; exact ⟨_, rfl⟩
    obtain ⟨e, he⟩ := this
    exact way_step hW ht hc hn he hp
/-- the way back -/
theorem way_back {σ τ : Rw} {w : Nat} (hW : RowW σ) (hw : w < rK σ) (hV : RowW τ) (e1 : rW τ = rW σ) (e2 : rH τ = rH σ) (e3 : gC τ (wTo τ w) = gC σ (wFr σ w)) (hg : (ecost τ w 0 (gC σ (wFr σ w))).isSome = true)
    (e4 : ∀ c, c < 80 → (ecost σ w 0 c).isSome = true → (ecost τ w 0 c).isSome = true) (hd : dist σ w 0 (gC σ (wFr σ w)) < 1000000) : dist τ w 0 (gC σ (wTo σ w)) < 1000000 := by
  have hwf := wy_facts hW hw hd
  have hcf := gC_lt hW.s (hW.G (hW.K hw).1.2)
  have hc80 := hW.s.c80
  have hw3 := hW.s.w3
  have hcr : rC τ = rC σ := by unfold rC; rw [e1, e2]
  have key : ∀ i, i ≤ wl σ w → dist τ w 0 (wy σ w i) < 1000000 ∧ (ecost τ w 0 (wy σ w i)).isSome = true := by
    intro i
    induction i with
    | zero =>
      intro _
      refine ⟨?_, hg⟩
      show dist τ w 0 (gC σ (wFr σ w)) < 1000000
      rw [← e3, (dist_S (w := w) (m := 0) hV).2.1]; omega
    | succ i ih =>
      intro hi
      obtain ⟨h1, h2⟩ := ih (by omega)
      have hci := hwf.1 i (by omega)
      have hdi := (wyF_spec hW hcf hd (n := wl σ w) hwf.2.2.1 i (by omega)).2.1
      have hdi : dist σ w 0 (wy σ w i) + 10 * i ≤ dist σ w 0 (gC σ (wFr σ w)) := hdi
      obtain ⟨a1, -, -, a2, a3, v, a4, -⟩ := nxt_spec hW hci (by omega) (hwf.2.2.1 i (by omega))
      have hwe : wy σ w (i + 1) = nxt σ w (wy σ w i) := rfl
      have a5 : ecost σ w 0 (nxt σ w (wy σ w i)) = some v := a4
      obtain ⟨t2, b1, b2⟩ := nb_sym (show 0 < rW σ by omega) hci a2
      obtain ⟨e, he⟩ := Option.isSome_iff_exists.mp h2
      rw [hwe]
      exact ⟨way_step hV b1 (by rw [hcr]; exact a3) (by rw [e1, e2]; exact b2) he h1, e4 _ (show nxt σ w (wy σ w i) < 80 from Nat.lt_of_lt_of_le a3 hc80) (by rw [a5]; rfl)⟩
  have := (key (wl σ w) (Nat.le_refl _)).1
  rw [hwf.2.1] at this
  exact this
