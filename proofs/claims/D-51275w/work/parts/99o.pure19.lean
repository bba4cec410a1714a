/-! PURE: rows that agree but for the fences' count and the accounts -/
set_option maxRecDepth 100000
def EqM (σ τ : Rw) : Prop := ∀ j, j ≠ 2 → ¬ (9 ≤ j ∧ j < 21) → τ j = σ j
theorem EqM.rf {σ : Rw} : EqM σ σ := fun _ _ _ => rfl
theorem EqM.sy {σ τ : Rw} (h : EqM σ τ) : EqM τ σ := fun j h1 h2 => (h j h1 h2).symm
theorem EqM.tr {σ τ υ : Rw} (h : EqM σ τ) (h2 : EqM τ υ) : EqM σ υ := fun j a b => (h2 j a b).trans (h j a b)
theorem EqM.up {σ τ : Rw} (h : EqM σ τ) {k : Nat} {v w : Int32} (e : w = v) : EqM (upd σ k v) (upd τ k w) := fun j h1 h2 => by
  by_cases q : j = k
  · subst q; rw [pk_us, pk_us]; exact e
  · rw [pk_un q, pk_un q]; exact h j h1 h2
theorem EqM.ac {σ τ : Rw} (h : EqM σ τ) {k : Nat} {v w : Int32} (hk : k = 2 ∨ (9 ≤ k ∧ k < 21)) : EqM (upd σ k v) (upd τ k w) := fun j h1 h2 => by
  have q : j ≠ k := fun e => by subst e; omega
  rw [pk_un q, pk_un q]; exact h j h1 h2
theorem EqM.acR {σ τ : Rw} (h : EqM σ τ) {k : Nat} {w : Int32} (hk : k = 2 ∨ (9 ≤ k ∧ k < 21)) : EqM σ (upd τ k w) := fun j h1 h2 => by
  have q : j ≠ k := fun e => by subst e; omega
  rw [pk_un q]; exact h j h1 h2
section
variable {σ τ : Rw}
theorem EqM.w (h : EqM σ τ) : rW τ = rW σ := congrArg Int32.toNatClampNeg (h 4 (by omega) (by omega))
theorem EqM.h (h : EqM σ τ) : rH τ = rH σ := congrArg Int32.toNatClampNeg (h 5 (by omega) (by omega))
theorem EqM.g (h : EqM σ τ) : rG τ = rG σ := congrArg Int32.toNatClampNeg (h 0 (by omega) (by omega))
theorem EqM.k (h : EqM σ τ) : rK τ = rK σ := congrArg Int32.toNatClampNeg (h 1 (by omega) (by omega))
theorem EqM.d (h : EqM σ τ) : rD τ = rD σ := congrArg Int32.toNatClampNeg (h 3 (by omega) (by omega))
theorem EqM.gr (h : EqM σ τ) : rGr τ = rGr σ := congrArg Int32.toNatClampNeg (h 6 (by omega) (by omega))
theorem EqM.wt (h : EqM σ τ) : rWt τ = rWt σ := congrArg Int32.toNatClampNeg (h 7 (by omega) (by omega))
theorem EqM.c (h : EqM σ τ) : rC τ = rC σ := by unfold rC; rw [h.w, h.h]
theorem EqM.fr (h : EqM σ τ) (k : Nat) : wFr τ k = wFr σ k := congrArg Int32.toNatClampNeg (h _ (by omega) (by omega))
theorem EqM.to (h : EqM σ τ) (k : Nat) : wTo τ k = wTo σ k := congrArg Int32.toNatClampNeg (h _ (by omega) (by omega))
theorem EqM.hs (h : EqM σ τ) (k : Nat) : wHs τ k = wHs σ k := congrArg Int32.toNatClampNeg (h _ (by omega) (by omega))
theorem EqM.pd (h : EqM σ τ) (k : Nat) : wPd τ k = wPd σ k := congrArg Int32.toNatClampNeg (h _ (by omega) (by omega))
theorem EqM.ce (h : EqM σ τ) (c v : Nat) : τ (153 + 5 * c + v) = σ (153 + 5 * c + v) := h _ (by omega) (by omega)
theorem EqM.cg (h : EqM σ τ) (c : Nat) : cGr τ c = cGr σ c := congrArg Int32.toNatClampNeg (h _ (by omega) (by omega))
theorem EqM.gc (h : EqM σ τ) (r : Nat) : gC τ r = gC σ r := by
  have e1 : gX τ r = gX σ r := congrArg Int32.toNatClampNeg (h _ (by omega) (by omega))
  have e2 : gY τ r = gY σ r := congrArg Int32.toNatClampNeg (h _ (by omega) (by omega))
  unfold gC; rw [e1, e2, h.w]
theorem EqM.wet (h : EqM σ τ) (n : Nat) : wetB τ n = wetB σ n := by unfold wetB; rw [h.wt]
theorem EqM.ec (h : EqM σ τ) (w m c : Nat) : ecost τ w m c = ecost σ w m c := by
  unfold ecost
  rw [h.ce c 0, h.ce c 2, h.hs, h.cg]
  unfold wetD
  rw [h.d, h.wet]
theorem EqM.cb (h : EqM σ τ) (f : Nat → Nat) (w m c t : Nat) : cby τ f w m c t = cby σ f w m c t := by
  unfold cby
  rw [h.w, h.h]
  cases nb (rW σ) (rH σ) c t with
  | none => rfl
  | some n => simp only [h.ec w m n]
theorem EqM.di (h : EqM σ τ) (w m : Nat) : dist τ w m = dist σ w m := by
  have e : (fun f => Sol τ w m f) = fun f => Sol σ w m f := by
    funext f
    unfold Sol
    simp only [h.cb, h.gc, h.to, h.c]
  unfold dist
  rw [e]
theorem EqM.dr (h : EqM σ τ) (w c : Nat) : dirT τ w c = dirT σ w c := by
  unfold dirT
  simp only [h.cb, h.di]
theorem EqM.nx (h : EqM σ τ) (w c : Nat) : nxt τ w c = nxt σ w c := by
  unfold nxt
  rw [h.w, h.h, h.dr]
theorem EqM.pyF (h : EqM σ τ) (w c : Nat) : ∀ i, wyF τ w c i = wyF σ w c i
  | 0 => rfl
  | i + 1 => by
    have ih := EqM.pyF h w c i
    simp only [wyF] at ih ⊢
    rw [ih, h.nx]
theorem EqM.py (h : EqM σ τ) (w i : Nat) : wy τ w i = wy σ w i := by
  unfold wy
  rw [h.fr, h.gc, h.pyF]
theorem EqM.plF (h : EqM σ τ) (w : Nat) : ∀ n c, wlF τ w n c = wlF σ w n c
  | 0, _ => rfl
  | n + 1, c => by
    have ih := EqM.plF h w n
    simp only [wlF]
    rw [h.to, h.gc, h.nx, ih]
theorem EqM.pl (h : EqM σ τ) (w : Nat) : wl τ w = wl σ w := by
  unfold wl
  rw [h.di, h.fr, h.gc, h.plF]
theorem EqM.le (h : EqM σ τ) (c : Nat) : lessN τ c = lessN σ c := by
  unfold lessN wetD
  rw [h.d, h.wet, h.cg]
theorem EqM.tread (h : EqM σ τ) (c : Nat) : EqM (treadR σ c) (treadR τ c) := by
  have h1 : EqM (tr1 σ c) (tr1 τ c) := h.up (by rw [h.cg, h.le])
  have h2 : EqM (tr2 σ c) (tr2 τ c) := h1.up (by rw [h1.ce])
  have h3 : EqM (tr3 σ c) (tr3 τ c) := h2.up (by rw [h2 3 (by omega) (by omega)])
  exact EqM.ac (EqM.ac h3 (Or.inr (by omega))) (Or.inr (by omega))
theorem EqM.ptr (h : EqM σ τ) (w : Nat) : ∀ k, EqM (trK σ w k) (trK τ w k)
  | 0 => h
  | k + 1 => by
    have ih := EqM.ptr h w k
    have e := ih.ce (wy σ w k) 0
    by_cases q : trK σ w k (153 + 5 * wy σ w k + 0) = 0
    · rw [trK_y q, trK_y (by rw [h.py]; exact e.trans q), h.py]
      exact ih.tread _
    · rw [trK_no q, trK_no (by rw [h.py, e]; exact q)]
      exact ih
theorem EqM.walk (h : EqM σ τ) (w : Nat) : EqM (walkR σ w) (walkR τ w) := by
  have h0 : EqM (wk0 σ w) (wk0 τ w) := by
    unfold wk0
    rw [h.pl]
    exact h.ptr w _
  have h1 : EqM (wk1 σ w) (wk1 τ w) := h0.up (by rw [h0 _ (by omega) (by omega)])
  have h2 : EqM (wk2 σ w) (wk2 τ w) := h1.up (by rw [h1 _ (by omega) (by omega), h.pl])
  exact EqM.ac (EqM.ac (EqM.ac h2 (Or.inr (by omega))) (Or.inr (by omega))) (Or.inr (by omega))
theorem EqM.pwk (h : EqM σ τ) : ∀ k, EqM (wkK σ k) (wkK τ k)
  | 0 => h
  | k + 1 => by
    have ih := EqM.pwk h k
    by_cases q : rD σ % wPd σ k = 0
    · rw [wkK_y q, wkK_y (by rw [h.d, h.pd]; exact q)]
      exact ih.walk k
    · rw [wkK_no q, wkK_no (by rw [h.d, h.pd]; exact q)]
      exact ih
theorem EqM.fe (h : EqM σ τ) (c : Nat) : fenced τ c ↔ fenced σ c := by
  show τ (153 + 5 * c + 2) = nI 1 ↔ σ (153 + 5 * c + 2) = nI 1
  rw [h.ce]
theorem EqM.grow (h : EqM σ τ) {a b : Prop} [Decidable a] [Decidable b] (hab : a ↔ b) (c : Nat) : EqM (growR σ c a) (growR τ c b) := by
  have hd : does τ c b ↔ does σ c a := by
    show ((τ (153 + 5 * c + 2) = nI 1 ∨ (b ∧ ¬ τ (153 + 5 * c + 4) = τ 3 + nI 1)) ∧ ¬ τ (153 + 5 * c + 1) = nI 9) ↔ ((σ (153 + 5 * c + 2) = nI 1 ∨ (a ∧ ¬ σ (153 + 5 * c + 4) = σ 3 + nI 1)) ∧ ¬ σ (153 + 5 * c + 1) = nI 9)
    rw [h.ce, h.ce, h.ce, h 3 (by omega) (by omega), hab]
  have h1 : EqM (gw1 σ c) (gw1 τ c) := h.up (by rw [h.ce])
  unfold growR
  by_cases q : does σ c a
  · rw [if_pos q, if_pos (hd.mpr q)]
    by_cases f : fenced σ c
    · rw [if_pos f, if_pos ((h.fe c).mpr f)]; exact h1.ac (Or.inr (by omega))
    · rw [if_neg f, if_neg (fun z => f ((h.fe c).mp z))]; exact h1.ac (Or.inr (by omega))
  · rw [if_neg q, if_neg (fun z => q (hd.mp z))]; exact h
theorem EqM.pgr (h : EqM σ τ) {a b : Prop} [Decidable a] [Decidable b] (hab : a ↔ b) : ∀ k, EqM (grK a σ k) (grK b τ k)
  | 0 => h
  | k + 1 => by
    have ih := EqM.pgr h hab k
    by_cases q : grK a σ k (153 + 5 * k + 0) = 0
    · rw [grK_y q, grK_y ((ih.ce k 0).trans q)]; exact ih.grow hab k
    · rw [grK_no q, grK_no (fun z => q ((ih.ce k 0).symm.trans z))]; exact ih
theorem EqM.day (h : EqM σ τ) : EqM (dayR σ) (dayR τ) := by
  have h1 : EqM (dy1 σ) (dy1 τ) := by unfold dy1; rw [h.k]; exact h.pwk _
  have h2 : EqM (dy2 σ) (dy2 τ) := by
    unfold dy2
    rw [h.c]
    exact h1.pgr (by show (rD σ + 1) % rGr σ = 0 ↔ (rD τ + 1) % rGr τ = 0; rw [h.d, h.gr]) _
  exact EqM.up (EqM.ac h2 (Or.inr (by omega))) (by rw [h.d])
theorem EqM.days (h : EqM σ τ) : ∀ n, EqM (daysR σ n) (daysR τ n)
  | 0 => h
  | n + 1 => (EqM.days h n).day
theorem EqM.pal (h : EqM σ τ) : allG τ = allG σ := by
  have e : grassF τ = grassF σ := by
    funext c
    unfold grassF
    rw [h.ce, h.cg]
  unfold allG
  rw [e, h.c]
theorem EqM.cost (h : EqM σ τ) (w m : Nat) : costR τ w m = costR σ w m := by
  show dist τ w m (gC τ (wFr τ w)) = dist σ w m (gC σ (wFr σ w))
  rw [h.di, h.fr, h.gc]
end
theorem fenceS_M {σ : Rw} {c : Nat} : EqM (fenceOn σ c) (fenceS σ c) := (EqM.rf.acR (Or.inl rfl)).acR (Or.inr (by omega))
theorem fenceC_no {σ : Rw} {k r : Nat} (hW : RowW σ) (h1 : 1 ≤ r) (h9 : r < 10) (h : fenceC σ k = (-(nI r), σ)) : ¬ whyF σ k = nI 0 := fun q => by
  have h2 := i_neg r h1 h9
  have h10 := hW.f10
  rw [fenceC, if_pos q] at h
  have h3 := congrArg Prod.fst h
  have h3 : fenceS σ k 2 = -(nI r) := h3
  rw [fenceS_2 hW] at h3
  rw [← h3] at h2
  exact nI_lt0 (by omega) h2
theorem fenceC_yes {σ : Rw} {k : Nat} (h : 0 ≤ (fenceC σ k).1) : whyF σ k = nI 0 := by
  refine Classical.byContradiction fun q => ?_
  rw [fenceC, if_neg q] at h
  have h : 0 ≤ whyF σ k := h
  by_cases h1 : σ (153 + 5 * k + 0) = 0
  · by_cases h2 : fenced σ k
    · have e : whyF σ k = -2 := by unfold whyF; rw [if_pos h1, if_pos h2]
      rw [e] at h; exact absurd h (by decide +kernel)
    · by_cases h3 : rF σ = 10
      · have e : whyF σ k = -4 := by unfold whyF; rw [if_pos h1, if_neg h2, if_pos h3]
        rw [e] at h; exact absurd h (by decide +kernel)
      · by_cases h4 : ways (fenceOn σ k)
        · exact q (whyF_y h1 h2 h3 h4)
        · have e : whyF σ k = -5 := by unfold whyF; rw [if_pos h1, if_neg h2, if_neg h3, if_neg h4]
          rw [e] at h; exact absurd h (by decide +kernel)
  · have e : whyF σ k = -1 := if_neg h1
    rw [e] at h; exact absurd h (by decide +kernel)
