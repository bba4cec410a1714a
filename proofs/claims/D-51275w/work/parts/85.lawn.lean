/-! THE LAWN as an object: its cells, what they hold -/
set_option maxRecDepth 100000
section
variable {g : GZ} {z : ZX} {nL d0 mc ms k n : Nat} {A : HA} {pc : Nat} {lv : List (Option Value)} {st : List Value}
theorem r_topR {x y : Nat} (h : x = y) (kk : wa g z k n A pc lv (.ref y :: st)) : wa g z k n A pc lv (.ref x :: st) := h ▸ kk
end
/-- what a heap's ints are now, all else as it is -/
def HA.wI (A : HA) (F : Nat → Nat → Int32) : HA := (A.G, F, A.R, A.L, A.n, A.z)
/-- the same cells; ints changed in X alone -/
def Sm (A A' : HA) (X : Nat → Prop) : Prop := A'.G = A.G ∧ A'.R = A.R ∧ A'.n = A.n ∧ A'.z = A.z ∧ A'.L = A.L ∧ ∀ y, ¬ X y → A'.I y = A.I y
section
variable {A B D : HA} {X Y : Nat → Prop}
theorem Sm.rf : Sm A A X := ⟨rfl, rfl, rfl, rfl, rfl, fun _ _ => rfl⟩
theorem Sm.tr (h : Sm A B X) (h2 : Sm B D X) : Sm A D X := ⟨h2.1.trans h.1, h2.2.1.trans h.2.1, h2.2.2.1.trans h.2.2.1, h2.2.2.2.1.trans h.2.2.2.1, h2.2.2.2.2.1.trans h.2.2.2.2.1, fun y hy => (h2.2.2.2.2.2 y hy).trans (h.2.2.2.2.2 y hy)⟩
theorem Sm.mono (h : Sm A B X) (hx : ∀ y, X y → Y y) : Sm A B Y := ⟨h.1, h.2.1, h.2.2.1, h.2.2.2.1, h.2.2.2.2.1, fun y hy => h.2.2.2.2.2 y (fun q => hy (hx y q))⟩
theorem Sm.sI {a : Nat} {f : Nat → Int32} (h : X a) : Sm A (A.sI a f) X := ⟨rfl, rfl, rfl, rfl, rfl, fun y hy => sI_o A f (fun e => hy (by rw [e]; exact h))⟩
end
abbrev isObA (k : Nat) : Bool := decide (100 ≤ k) && decide (k / 100 = 5) && fw_isR (fw_at 5)
/-- a lawn's arrays: their fields, kinds, lengths -/
abbrev arrF (f : Nat) : Prop := (5 ≤ f ∧ f ≤ 10) ∨ (15 ≤ f ∧ f ≤ 18)
def lyK (f : Nat) : Nat := match f with
  | 5 => 121 | 6 => 122 | 7 => 123 | 8 => 124 | 9 => 125 | 10 => 321 | 15 => 126 | 16 => 127 | 17 => 322 | _ => 323
def lyN (C f : Nat) : Nat := if f = 9 then 12 else C
/-- the cells of the lawn at a: d 5 .. d 18 its fields', d 20, d 21 walkers' list and elements, d 22, d 23 gates', d (30 + k) walkers, d (40 + r) gates -/
def Ly0 (G : Nat → Nat × Nat) (R : Nat → Nat → Option Nat) (n : Nat → Nat) (a : Nat) (d : Nat → Nat) (C K N : Nat) : Prop :=
  G a = (2, a) ∧ (∀ f, arrF f → R a f = some (d f) ∧ G (d f) = (lyK f, a) ∧ n (d f) = lyN C f) ∧
  (R a 12 = some (d 12) ∧ (G (d 12)).1 = 3 ∧ R (d 12) 0 = some (d 20) ∧ (G (d 20)).1 = 13 ∧ R (d 20) 1 = some (d 21) ∧ isObA (G (d 21)).1 = true ∧ K ≤ n (d 21) ∧ ∀ k, k < K → R (d 21) k = some (d (30 + k)) ∧ G (d (30 + k)) = (5, a)) ∧
  (R a 11 = some (d 11) ∧ (G (d 11)).1 = 3 ∧ R (d 11) 0 = some (d 22) ∧ (G (d 22)).1 = 13 ∧ R (d 22) 1 = some (d 23) ∧ isObA (G (d 23)).1 = true ∧ N ≤ n (d 23) ∧ ∀ r, r < N → R (d 23) r = some (d (40 + r)) ∧ (G (d (40 + r))).1 = 4) ∧
  (∀ j k, j < K → k < K → d (30 + j) = d (30 + k) → j = k)
abbrev Ly (A : HA) (a : Nat) (d : Nat → Nat) (σ : Rw) : Prop := Ly0 A.G A.R A.n a d (rC σ) (rK σ) (rG σ)
section
variable {G : Nat → Nat × Nat} {R : Nat → Nat → Option Nat} {n : Nat → Nat} {a : Nat} {d : Nat → Nat} {C K N : Nat}
theorem ly_g (h : Ly0 G R n a d C K N) : (G a).1 = 2 := by rw [h.1]
theorem ly_rf (h : Ly0 G R n a d C K N) (f : Nat) (hf : arrF f) : R a f = some (d f) := (h.2.1 f hf).1
theorem ly_gf (h : Ly0 G R n a d C K N) (f : Nat) (hf : arrF f) : (G (d f)).1 = lyK f := by rw [(h.2.1 f hf).2.1]
theorem ly_nf (h : Ly0 G R n a d C K N) (f : Nat) (hf : arrF f) (h9 : f ≠ 9) : n (d f) = C := by rw [(h.2.1 f hf).2.2]; exact if_neg h9
theorem ly_n9 (h : Ly0 G R n a d C K N) : n (d 9) = 12 := (h.2.1 9 (by decide)).2.2
theorem ly_r12 (h : Ly0 G R n a d C K N) : R a 12 = some (d 12) := h.2.2.1.1
theorem ly_g12 (h : Ly0 G R n a d C K N) : (G (d 12)).1 = 3 := h.2.2.1.2.1
theorem ly_r20 (h : Ly0 G R n a d C K N) : R (d 12) 0 = some (d 20) := h.2.2.1.2.2.1
theorem ly_g20 (h : Ly0 G R n a d C K N) : (G (d 20)).1 = 13 := h.2.2.1.2.2.2.1
theorem ly_r21 (h : Ly0 G R n a d C K N) : R (d 20) 1 = some (d 21) := h.2.2.1.2.2.2.2.1
theorem ly_g21 (h : Ly0 G R n a d C K N) : isObA (G (d 21)).1 = true := h.2.2.1.2.2.2.2.2.1
theorem ly_n21 (h : Ly0 G R n a d C K N) : K ≤ n (d 21) := h.2.2.1.2.2.2.2.2.2.1
theorem ly_w (h : Ly0 G R n a d C K N) {k : Nat} (hk : k < K) : R (d 21) k = some (d (30 + k)) ∧ (G (d (30 + k))).1 = 5 := ⟨(h.2.2.1.2.2.2.2.2.2.2 k hk).1, by rw [(h.2.2.1.2.2.2.2.2.2.2 k hk).2]⟩
theorem ly_r11 (h : Ly0 G R n a d C K N) : R a 11 = some (d 11) := h.2.2.2.1.1
theorem ly_g11 (h : Ly0 G R n a d C K N) : (G (d 11)).1 = 3 := h.2.2.2.1.2.1
theorem ly_r22 (h : Ly0 G R n a d C K N) : R (d 11) 0 = some (d 22) := h.2.2.2.1.2.2.1
theorem ly_g22 (h : Ly0 G R n a d C K N) : (G (d 22)).1 = 13 := h.2.2.2.1.2.2.2.1
theorem ly_r23 (h : Ly0 G R n a d C K N) : R (d 22) 1 = some (d 23) := h.2.2.2.1.2.2.2.2.1
theorem ly_g23 (h : Ly0 G R n a d C K N) : isObA (G (d 23)).1 = true := h.2.2.2.1.2.2.2.2.2.1
theorem ly_n23 (h : Ly0 G R n a d C K N) : N ≤ n (d 23) := h.2.2.2.1.2.2.2.2.2.2.1
theorem ly_t (h : Ly0 G R n a d C K N) {r : Nat} (hr : r < N) : R (d 23) r = some (d (40 + r)) ∧ (G (d (40 + r))).1 = 4 := h.2.2.2.1.2.2.2.2.2.2.2 r hr
end
/-- the row's place j: the cell, the index in it; what it holds -/
def fcL (v : Nat) : Nat := match v with
  | 0 => 5 | 1 => 6 | 2 => 10 | 3 => 7 | _ => 8
def wfL (v : Nat) : Nat := match v with
  | 7 => 2 | 8 => 3 | 9 => 4 | 10 => 1 | 11 => 5 | _ => 6
def sA (a : Nat) (d : Nat → Nat) (j : Nat) : Nat := if j < 9 then a else if j < 21 then d 9 else if j < 153 then d (30 + (j - 75) / 13) else d (fcL ((j - 153) % 5))
def sI (j : Nat) : Nat := if j < 9 then (if j = 3 then 13 else 14) else if j < 21 then j - 9 else if j < 153 then wfL ((j - 75) % 13) else (j - 153) / 5
def adj (j : Nat) (x : Int32) : Int32 := if 153 ≤ j ∧ (j - 153) % 5 = 4 then x - 1 else x
def Dm (C K j : Nat) : Prop := j = 3 ∨ j = 8 ∨ (9 ≤ j ∧ j < 21) ∨ (75 ≤ j ∧ j < 153 ∧ (j - 75) / 13 < K ∧ 7 ≤ (j - 75) % 13) ∨ (153 ≤ j ∧ (j - 153) / 5 < C)
theorem fcL_arr (v : Nat) : arrF (fcL v) ∧ fcL v ≠ 9 := by
  unfold fcL
  split <;> decide
theorem fcL_inj {u v : Nat} (hu : u < 5) (hv : v < 5) (h : fcL u = fcL v) : u = v := by
  have : ∀ u, u < 5 → ∀ v, v < 5 → fcL u = fcL v → u = v := by decide
  exact this u hu v hv h
theorem wfL_inj {u v : Nat} (h1 : 7 ≤ u) (hu : u < 13) (h2 : 7 ≤ v) (hv : v < 13) (h : wfL u = wfL v) : u = v := by
  have : ∀ u, u < 13 → ∀ v, v < 13 → 7 ≤ u → 7 ≤ v → wfL u = wfL v → u = v := by decide
  exact this u hu v hv h1 h2 h
theorem lyK_fc (v : Nat) : lyK (fcL v) ≠ 2 ∧ lyK (fcL v) ≠ 125 ∧ lyK (fcL v) ≠ 5 ∧ lyK (fcL v) ≠ 13 ∧ lyK (fcL v) ≠ 4 := by
  unfold fcL
  split <;> decide
theorem lyK_inj {u v : Nat} (hu : u < 5) (hv : v < 5) (h : lyK (fcL u) = lyK (fcL v)) : u = v := by
  have : ∀ u, u < 5 → ∀ v, v < 5 → lyK (fcL u) = lyK (fcL v) → u = v := by decide
  exact this u hu v hv h
section
variable {G : Nat → Nat × Nat} {R : Nat → Nat → Option Nat} {n : Nat → Nat} {a : Nat} {d : Nat → Nat} {C K N : Nat}
/-- the kind of a place's cell -/
theorem sA_g (h : Ly0 G R n a d C K N) {j : Nat} (hj : Dm C K j) : (j < 9 ∧ sA a d j = a ∧ G (sA a d j) = (2, a)) ∨ (9 ≤ j ∧ j < 21 ∧ sA a d j = d 9 ∧ G (sA a d j) = (125, a)) ∨ (21 ≤ j ∧ j < 153 ∧ sA a d j = d (30 + (j - 75) / 13) ∧ G (sA a d j) = (5, a)) ∨ (153 ≤ j ∧ sA a d j = d (fcL ((j - 153) % 5)) ∧ G (sA a d j) = (lyK (fcL ((j - 153) % 5)), a)) := by
  unfold Dm at hj
  unfold sA
  by_cases h1 : j < 9
  · rw [if_pos h1]; exact Or.inl ⟨h1, rfl, h.1⟩
  · rw [if_neg h1]
    by_cases h2 : j < 21
    · rw [if_pos h2]; exact Or.inr (Or.inl ⟨by omega, h2, rfl, (h.2.1 9 (by decide)).2.1⟩)
    · rw [if_neg h2]
      by_cases h3 : j < 153
      · rw [if_pos h3]; exact Or.inr (Or.inr (Or.inl ⟨by omega, h3, rfl, (h.2.2.1.2.2.2.2.2.2.2 _ (by omega)).2⟩))
      · rw [if_neg h3]; exact Or.inr (Or.inr (Or.inr ⟨by omega, rfl, (h.2.1 _ (fcL_arr _).1).2.1⟩))
/-- two places are two -/
theorem sA_inj (h : Ly0 G R n a d C K N) {i j : Nat} (hi : Dm C K i) (hj : Dm C K j) (e1 : sA a d i = sA a d j) (e2 : sI i = sI j) : i = j := by
  have k1 := sA_g h hi
  have k2 := sA_g h hj
  rw [e1] at k1
  have f1 := lyK_fc ((i - 153) % 5)
  have f2 := lyK_fc ((j - 153) % 5)
  unfold Dm at hi hj
  unfold sI at e2
  rcases k1 with ⟨b1, c1, g1⟩ | ⟨b1, b1', c1, g1⟩ | ⟨b1, b1', c1, g1⟩ | ⟨b1, c1, g1⟩ <;> rcases k2 with ⟨b2, c2, g2⟩ | ⟨b2, b2', c2, g2⟩ | ⟨b2, b2', c2, g2⟩ | ⟨b2, c2, g2⟩ <;> rw [g1] at g2 <;> have g3 := congrArg Prod.fst g2 <;> simp only at g3
  · rw [if_pos b1, if_pos b2] at e2
    by_cases q1 : i = 3 <;> by_cases q2 : j = 3
    · omega
    · rw [if_pos q1, if_neg q2] at e2; omega
    · rw [if_neg q1, if_pos q2] at e2; omega
    · omega
  · omega
  · omega
  · omega
  · omega
  · rw [if_neg (by omega), if_pos b1', if_neg (by omega), if_pos b2'] at e2; omega
  · omega
  · omega
  · omega
  · omega
  · have hk : (i - 75) / 13 = (j - 75) / 13 := h.2.2.2.2 _ _ (by omega) (by omega) (by rw [← c2, ← c1])
    rw [if_neg (by omega), if_neg (by omega), if_pos b1', if_neg (by omega), if_neg (by omega), if_pos b2'] at e2
    have hm : (i - 75) % 13 = (j - 75) % 13 := wfL_inj (by omega) (by omega) (by omega) (by omega) e2
    omega
  · omega
  · omega
  · omega
  · omega
  · have hm := lyK_inj (by omega) (by omega) g3
    rw [if_neg (by omega), if_neg (by omega), if_neg (by omega), if_neg (by omega), if_neg (by omega), if_neg (by omega)] at e2
    omega
end
/-- what the lawn's cells hold, by a row -/
def Lv (I : Nat → Nat → Int32) (a : Nat) (d : Nat → Nat) (σ : Rw) : Prop :=
  (I a 0 = σ 4 ∧ I a 1 = σ 5 ∧ I a 2 = σ 6 ∧ I a 3 = σ 7 ∧ I a 4 = nI (rC σ) ∧ I (d 20) 2 = σ 1 ∧ I (d 22) 2 = σ 0) ∧ (∀ r, r < rG σ → I (d (40 + r)) 1 = nI (gC σ r)) ∧ ∀ j, Dm (rC σ) (rK σ) j → I (sA a d j) (sI j) = adj j (σ j)
section
variable {I : Nat → Nat → Int32} {a : Nat} {d : Nat → Nat} {σ : Rw}
theorem Lv.w (h : Lv I a d σ) : I a 0 = σ 4 := h.1.1
theorem Lv.h (h : Lv I a d σ) : I a 1 = σ 5 := h.1.2.1
theorem Lv.gr (h : Lv I a d σ) : I a 2 = σ 6 := h.1.2.2.1
theorem Lv.wt (h : Lv I a d σ) : I a 3 = σ 7 := h.1.2.2.2.1
theorem Lv.c (h : Lv I a d σ) : I a 4 = nI (rC σ) := h.1.2.2.2.2.1
theorem Lv.nk (h : Lv I a d σ) : I (d 20) 2 = σ 1 := h.1.2.2.2.2.2.1
theorem Lv.ng (h : Lv I a d σ) : I (d 22) 2 = σ 0 := h.1.2.2.2.2.2.2
theorem Lv.gate (h : Lv I a d σ) {r : Nat} (hr : r < rG σ) : I (d (40 + r)) 1 = nI (gC σ r) := h.2.1 r hr
theorem Lv.day (h : Lv I a d σ) : I a 13 = σ 3 := h.2.2 3 (Or.inl rfl)
theorem Lv.first (h : Lv I a d σ) : I a 14 = σ 8 := h.2.2 8 (Or.inr (Or.inl rfl))
theorem sA_acc {i : Nat} (hi : i < 12) : sA a d (9 + i) = d 9 ∧ sI (9 + i) = i := by
  unfold sA sI
  rw [if_neg (by omega), if_pos (by omega), if_neg (by omega), if_pos (by omega)]
  exact ⟨rfl, by omega⟩
theorem Lv.acc (h : Lv I a d σ) {i : Nat} (hi : i < 12) : I (d 9) i = σ (9 + i) := by
  have := h.2.2 (9 + i) (Or.inr (Or.inr (Or.inl (by omega))))
  rw [(sA_acc hi).1, (sA_acc (a := a) (d := d) hi).2] at this
  rw [this]
  exact if_neg (by omega)
theorem sA_cell {c v : Nat} (hv : v < 5) : sA a d (153 + 5 * c + v) = d (fcL v) ∧ sI (153 + 5 * c + v) = c := by
  unfold sA sI
  rw [if_neg (by omega), if_neg (by omega), if_neg (by omega), if_neg (by omega), if_neg (by omega), if_neg (by omega)]
  exact ⟨by rw [show (153 + 5 * c + v - 153) % 5 = v by omega], by omega⟩
theorem dm_cell {c v C K : Nat} (hv : v < 5) (hc : c < C) : Dm C K (153 + 5 * c + v) := Or.inr (Or.inr (Or.inr (Or.inr ⟨by omega, by omega⟩)))
theorem Lv.cell (h : Lv I a d σ) {c v : Nat} (hv : v < 5) (hc : c < rC σ) : I (d (fcL v)) c = adj (153 + 5 * c + v) (σ (153 + 5 * c + v)) := by
  have := h.2.2 (153 + 5 * c + v) (dm_cell hv hc)
  rw [(sA_cell hv).1, (sA_cell (a := a) (d := d) hv).2] at this
  exact this
theorem adj_c {c v : Nat} (hv : v < 4) (x : Int32) : adj (153 + 5 * c + v) x = x := if_neg (by omega)
theorem Lv.kind (h : Lv I a d σ) {c : Nat} (hc : c < rC σ) : I (d 5) c = σ (153 + 5 * c + 0) := (h.cell (v := 0) (by omega) hc).trans (adj_c (by omega) _)
theorem Lv.grass (h : Lv I a d σ) {c : Nat} (hc : c < rC σ) : I (d 6) c = σ (153 + 5 * c + 1) := (h.cell (v := 1) (by omega) hc).trans (adj_c (by omega) _)
theorem Lv.fence (h : Lv I a d σ) {c : Nat} (hc : c < rC σ) : I (d 10) c = σ (153 + 5 * c + 2) := (h.cell (v := 2) (by omega) hc).trans (adj_c (by omega) _)
theorem Lv.trod (h : Lv I a d σ) {c : Nat} (hc : c < rC σ) : I (d 7) c = σ (153 + 5 * c + 3) := (h.cell (v := 3) (by omega) hc).trans (adj_c (by omega) _)
theorem Lv.last (h : Lv I a d σ) {c : Nat} (hc : c < rC σ) : I (d 8) c = σ (153 + 5 * c + 4) - 1 := (h.cell (v := 4) (by omega) hc).trans (if_pos (by omega))
theorem sA_wk {k v : Nat} (hv : v < 13) (hk : k < 6) : sA a d (75 + 13 * k + v) = d (30 + k) ∧ sI (75 + 13 * k + v) = wfL v := by
  unfold sA sI
  rw [if_neg (by omega), if_neg (by omega), if_pos (by omega), if_neg (by omega), if_neg (by omega), if_pos (by omega)]
  exact ⟨by rw [show (75 + 13 * k + v - 75) / 13 = k by omega], by rw [show (75 + 13 * k + v - 75) % 13 = v by omega]⟩
theorem dm_wk {k v C K : Nat} (hv : v < 13) (h7 : 7 ≤ v) (hk : k < K) (h6 : k < 6) : Dm C K (75 + 13 * k + v) := Or.inr (Or.inr (Or.inr (Or.inl ⟨by omega, by omega, by omega, by omega⟩)))
theorem Lv.wk (h : Lv I a d σ) {k v : Nat} (hv : v < 13) (h7 : 7 ≤ v) (hk : k < rK σ) (h6 : k < 6) : I (d (30 + k)) (wfL v) = σ (75 + 13 * k + v) := by
  have := h.2.2 (75 + 13 * k + v) (dm_wk hv h7 hk h6)
  rw [(sA_wk hv h6).1, (sA_wk (a := a) (d := d) hv h6).2] at this
  rw [this]
  exact if_neg (by omega)
/-- one place, written -/
theorem Lv.up {G : Nat → Nat × Nat} {R : Nat → Nat → Option Nat} {n : Nat → Nat} (hL : Ly0 G R n a d (rC σ) (rK σ) (rG σ)) (h : Lv I a d σ) (h6 : rG σ ≤ 6) {j : Nat} {v w : Int32} (hj : Dm (rC σ) (rK σ) j) (hvw : adj j w = v) : Lv (fun y => if y = sA a d j then upd (I (sA a d j)) (sI j) v else I y) a d (upd σ j w) := by
  have hjx : j ≠ 0 ∧ j ≠ 1 ∧ j ≠ 4 ∧ j ≠ 5 ∧ j ≠ 6 ∧ j ≠ 7 ∧ ¬ (21 ≤ j ∧ j < 75) := by unfold Dm at hj; omega
  have eC : rC (upd σ j w) = rC σ := by unfold rC rW rH; rw [pk_un (by omega), pk_un (by omega)]
  have eK : rK (upd σ j w) = rK σ := by unfold rK; rw [pk_un (by omega)]
  have eG : rG (upd σ j w) = rG σ := by unfold rG; rw [pk_un (by omega)]
  have kg := sA_g hL hj
  have fk := lyK_fc ((j - 153) % 5)
  -- a cell that isn't the place's, or the place's cell at another index
  have o1 : ∀ x i, G x ≠ G (sA a d j) → (fun y => if y = sA a d j then upd (I (sA a d j)) (sI j) v else I y) x i = I x i := fun x i hx => by
    show (if x = sA a d j then upd (I (sA a d j)) (sI j) v else I x) i = _
    rw [if_neg (fun e => hx (by rw [e]))]
  have o2 : ∀ x i, i ≠ sI j → (fun y => if y = sA a d j then upd (I (sA a d j)) (sI j) v else I y) x i = I x i := fun x i hx => by
    show (if x = sA a d j then upd (I (sA a d j)) (sI j) v else I x) i = _
    by_cases q : x = sA a d j
    · rw [if_pos q, pk_un hx, q]
    · rw [if_neg q]
  have oa : ∀ i, i < 5 → (fun y => if y = sA a d j then upd (I (sA a d j)) (sI j) v else I y) a i = I a i := fun i hi => by
    rcases kg with ⟨b1, c1, g1⟩ | ⟨b1, b1', c1, g1⟩ | ⟨b1, b1', c1, g1⟩ | ⟨b1, c1, g1⟩
    · refine o2 a i ?_
      unfold sI
      rw [if_pos b1]
      split <;> omega
    · exact o1 a i (by rw [hL.1, g1]; exact fun e => by cases e)
    · exact o1 a i (by rw [hL.1, g1]; exact fun e => by cases e)
    · exact o1 a i (by rw [hL.1, g1]; exact fun e => fk.1 (congrArg Prod.fst e).symm)
  have ox : ∀ x i, (G x).1 = 13 ∨ (G x).1 = 4 → (fun y => if y = sA a d j then upd (I (sA a d j)) (sI j) v else I y) x i = I x i := fun x i hx => by
    refine o1 x i (fun e => ?_)
    rw [e] at hx
    rcases kg with ⟨b1, c1, g1⟩ | ⟨b1, b1', c1, g1⟩ | ⟨b1, b1', c1, g1⟩ | ⟨b1, c1, g1⟩ <;> rw [g1] at hx <;> simp only at hx <;> omega
  refine ⟨⟨?_, ?_, ?_, ?_, ?_, ?_, ?_⟩, fun r hr => ?_, fun i hi => ?_⟩
  · rw [oa 0 (by omega), pk_un (by omega)]; exact h.w
  · rw [oa 1 (by omega), pk_un (by omega)]; exact h.h
  · rw [oa 2 (by omega), pk_un (by omega)]; exact h.gr
  · rw [oa 3 (by omega), pk_un (by omega)]; exact h.wt
  · rw [oa 4 (by omega), eC]; exact h.c
  · rw [ox _ _ (Or.inl (ly_g20 hL)), pk_un (by omega)]; exact h.nk
  · rw [ox _ _ (Or.inl (ly_g22 hL)), pk_un (by omega)]; exact h.ng
  · rw [eG] at hr
    have eg : gC (upd σ j w) r = gC σ r := by
      unfold gC gX gY rW
      rw [pk_un (by omega), pk_un (by omega), pk_un (by omega)]
    rw [ox _ _ (Or.inr (ly_t hL hr).2), eg]
    exact h.gate hr
  · rw [eC, eK] at hi
    by_cases q : i = j
    · subst q
      show (if sA a d i = sA a d i then upd (I (sA a d i)) (sI i) v else I (sA a d i)) (sI i) = _
      rw [if_pos rfl, pk_us, pk_us]
      exact hvw.symm
    · rw [pk_un q]
      have hne : sA a d i ≠ sA a d j ∨ sI i ≠ sI j := by
        by_cases q1 : sA a d i = sA a d j
        · exact Or.inr (fun q2 => q (sA_inj hL hi hj q1 q2))
        · exact Or.inl q1
      have : (fun y => if y = sA a d j then upd (I (sA a d j)) (sI j) v else I y) (sA a d i) (sI i) = I (sA a d i) (sI i) := by
        rcases hne with q1 | q1
        · show (if sA a d i = sA a d j then upd (I (sA a d j)) (sI j) v else I (sA a d i)) (sI i) = _
          rw [if_neg q1]
        · exact o2 _ _ q1
      rw [this]
      exact h.2.2 i hi
end
