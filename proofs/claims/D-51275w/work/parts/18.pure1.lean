/-! PURE: the reference's row of numbers and what it must satisfy -/
set_option maxRecDepth 100000
abbrev inZ (x : Int32) (a b : Int) : Prop := a ≤ x.toInt ∧ x.toInt ≤ b
theorem in_64 {x : Int32} {a b : Int64} {p q : Int} (ha : a.toInt = p) (hb : b.toInt = q) : (a ≤ x.toInt64 ∧ x.toInt64 ≤ b) ↔ inZ x p q := by
  subst ha; subst hb
  rw [Int64.le_iff_toInt_le, Int64.le_iff_toInt_le, Int32.toInt_toInt64]
theorem t_nI {n : Nat} (h : n < 2147483648) : (nI n).toInt = (n : Int) := nI_toInt (by simpa using h)
theorem t_nI64 {n : Nat} (h : n < 2147483648) : (nI n).toInt64.toInt = (n : Int) := by rw [Int32.toInt_toInt64]; exact t_nI h
theorem t_m1 {n : Nat} (h1 : 1 ≤ n) (h : n < 2147483648) : (nI n - nI 1).toInt64.toInt = (n : Int) - 1 := by
  rw [pk_sub h1, t_nI64 (by omega)]; omega
theorem t_m1' {n : Nat} (h : n < 1000000) : (nI n - nI 1).toInt64.toInt = (n : Int) - 1 := by
  rw [Int32.toInt_toInt64]
  have := pk_sub_toInt (a := n) (b := 1) (by omega) (by omega)
  rw [this]; rfl
theorem inZ_nI {j : Nat} {a b : Int} (h : j < 2147483648) : inZ (nI j) a b ↔ a ≤ (j : Int) ∧ (j : Int) ≤ b := by unfold inZ; rw [t_nI h]
theorem inZ_of {x : Int32} {n : Nat} (h : inZ x 0 ((n : Int) - 1)) (hn : n < 2147483648) : ∃ j : Nat, j < n ∧ x = nI j := by
  refine vp_in_of (vp_in_iff.mpr ⟨h.1, by omega⟩) (by simpa using hn)
theorem inZ_of2 {x : Int32} {b : Int} {n : Nat} (hb : b = (n : Int)) (h : inZ x 0 b) (hn : n < 2147483647) : ∃ j : Nat, j ≤ n ∧ x = nI j := by
  subst hb
  obtain ⟨j, h1, h2⟩ := inZ_of (n := n + 1) (x := x) ⟨h.1, by have := h.2; omega⟩ (by omega)
  exact ⟨j, by omega, h2⟩
def rG (σ : Nat → Int32) : Nat := (σ 0).toNatClampNeg
def rK (σ : Nat → Int32) : Nat := (σ 1).toNatClampNeg
def rF (σ : Nat → Int32) : Nat := (σ 2).toNatClampNeg
def rD (σ : Nat → Int32) : Nat := (σ 3).toNatClampNeg
def rW (σ : Nat → Int32) : Nat := (σ 4).toNatClampNeg
def rH (σ : Nat → Int32) : Nat := (σ 5).toNatClampNeg
def rGr (σ : Nat → Int32) : Nat := (σ 6).toNatClampNeg
def rWt (σ : Nat → Int32) : Nat := (σ 7).toNatClampNeg
def rC (σ : Nat → Int32) : Nat := rW σ * rH σ
def gX (σ : Nat → Int32) (r : Nat) : Nat := (σ (21 + 9 * r + 7)).toNatClampNeg
def gY (σ : Nat → Int32) (r : Nat) : Nat := (σ (21 + 9 * r + 8)).toNatClampNeg
def gC (σ : Nat → Int32) (r : Nat) : Nat := gY σ r * rW σ + gX σ r
def wFr (σ : Nat → Int32) (k : Nat) : Nat := (σ (75 + 13 * k + 7)).toNatClampNeg
def wTo (σ : Nat → Int32) (k : Nat) : Nat := (σ (75 + 13 * k + 8)).toNatClampNeg
def wHs (σ : Nat → Int32) (k : Nat) : Nat := (σ (75 + 13 * k + 9)).toNatClampNeg
def wPd (σ : Nat → Int32) (k : Nat) : Nat := (σ (75 + 13 * k + 10)).toNatClampNeg
def cGr (σ : Nat → Int32) (c : Nat) : Nat := (σ (153 + 5 * c + 1)).toNatClampNeg
def RowG (σ : Nat → Int32) (r : Nat) : Prop := (σ (21 + 9 * r + 7) = nI (gX σ r) ∧ gX σ r < rW σ) ∧ (σ (21 + 9 * r + 8) = nI (gY σ r) ∧ gY σ r < rH σ)
def RowK (σ : Nat → Int32) (k : Nat) : Prop := (σ (75 + 13 * k + 7) = nI (wFr σ k) ∧ wFr σ k < rG σ) ∧ (σ (75 + 13 * k + 8) = nI (wTo σ k) ∧ wTo σ k < rG σ) ∧ (σ (75 + 13 * k + 9) = nI (wHs σ k) ∧ wHs σ k ≤ 9) ∧ (σ (75 + 13 * k + 10) = nI (wPd σ k) ∧ 1 ≤ wPd σ k ∧ wPd σ k ≤ 9)
/-- width and height alone -/
def RowS (σ : Nat → Int32) : Prop := (σ 4 = nI (rW σ) ∧ 3 ≤ rW σ ∧ rW σ ≤ 10) ∧ (σ 5 = nI (rH σ) ∧ 3 ≤ rH σ ∧ rH σ ≤ 8)
/-- a row that can be worked with -/
def RowW (σ : Nat → Int32) : Prop := RowS σ ∧ (σ 0 = nI (rG σ) ∧ rG σ ≤ 6) ∧ (σ 1 = nI (rK σ) ∧ rK σ ≤ 6) ∧ (σ 3 = nI (rD σ) ∧ rD σ ≤ 1200) ∧ (σ 6 = nI (rGr σ) ∧ 1 ≤ rGr σ ∧ rGr σ ≤ 9) ∧ (σ 7 = nI (rWt σ) ∧ rWt σ ≤ 9) ∧ (σ 2 = nI (rF σ) ∧ rF σ ≤ 10) ∧ (∀ r, r < rG σ → RowG σ r) ∧ (∀ k, k < rK σ → RowK σ k) ∧ (∀ c, c < 80 → σ (153 + 5 * c + 1) = nI (cGr σ c) ∧ cGr σ c ≤ 9)
section
variable {σ : Nat → Int32}
theorem RowS.w (h : RowS σ) : σ 4 = nI (rW σ) := h.1.1
theorem RowS.w3 (h : RowS σ) : 3 ≤ rW σ := h.1.2.1
theorem RowS.w10 (h : RowS σ) : rW σ ≤ 10 := h.1.2.2
theorem RowS.h (h : RowS σ) : σ 5 = nI (rH σ) := h.2.1
theorem RowS.h3 (h : RowS σ) : 3 ≤ rH σ := h.2.2.1
theorem RowS.h8 (h : RowS σ) : rH σ ≤ 8 := h.2.2.2
theorem RowS.c80 (h : RowS σ) : rC σ ≤ 80 := by
  have := Nat.mul_le_mul h.w10 h.h8
  unfold rC; omega
theorem RowW.s (h : RowW σ) : RowS σ := h.1
theorem RowW.g (h : RowW σ) : σ 0 = nI (rG σ) := h.2.1.1
theorem RowW.g6 (h : RowW σ) : rG σ ≤ 6 := h.2.1.2
theorem RowW.k (h : RowW σ) : σ 1 = nI (rK σ) := h.2.2.1.1
theorem RowW.k6 (h : RowW σ) : rK σ ≤ 6 := h.2.2.1.2
theorem RowW.d (h : RowW σ) : σ 3 = nI (rD σ) := h.2.2.2.1.1
theorem RowW.d9 (h : RowW σ) : rD σ ≤ 1200 := h.2.2.2.1.2
theorem RowW.gr (h : RowW σ) : σ 6 = nI (rGr σ) := h.2.2.2.2.1.1
theorem RowW.gr1 (h : RowW σ) : 1 ≤ rGr σ := h.2.2.2.2.1.2.1
theorem RowW.gr9 (h : RowW σ) : rGr σ ≤ 9 := h.2.2.2.2.1.2.2
theorem RowW.wt (h : RowW σ) : σ 7 = nI (rWt σ) := h.2.2.2.2.2.1.1
theorem RowW.wt9 (h : RowW σ) : rWt σ ≤ 9 := h.2.2.2.2.2.1.2
theorem RowW.f (h : RowW σ) : σ 2 = nI (rF σ) := h.2.2.2.2.2.2.1.1
theorem RowW.f10 (h : RowW σ) : rF σ ≤ 10 := h.2.2.2.2.2.2.1.2
theorem RowW.G (h : RowW σ) {r : Nat} (hr : r < rG σ) : RowG σ r := h.2.2.2.2.2.2.2.1 r hr
theorem RowW.K (h : RowW σ) {k : Nat} (hk : k < rK σ) : RowK σ k := h.2.2.2.2.2.2.2.2.1 k hk
theorem RowW.c (h : RowW σ) {c : Nat} (hc : c < 80) : σ (153 + 5 * c + 1) = nI (cGr σ c) := (h.2.2.2.2.2.2.2.2.2 c hc).1
theorem RowW.c9 (h : RowW σ) {c : Nat} (hc : c < 80) : cGr σ c ≤ 9 := (h.2.2.2.2.2.2.2.2.2 c hc).2
theorem gC_lt (hs : RowS σ) {r : Nat} (h : RowG σ r) : gC σ r < rC σ := by
  have h1 := h.1.2
  have h2 := h.2.2
  have : gY σ r * rW σ + rW σ ≤ rH σ * rW σ := by
    have := Nat.mul_le_mul_right (rW σ) h2
    rw [Nat.succ_mul] at this
    exact this
  unfold gC rC
  rw [Nat.mul_comm (rW σ) (rH σ)]
  omega
/-- cells by X and Y -/
theorem at_lt (hs : RowS σ) {x y : Nat} (h1 : x < rW σ) (h2 : y < rH σ) : y * rW σ + x < rC σ := by
  have : y * rW σ + rW σ ≤ rH σ * rW σ := by
    have := Nat.mul_le_mul_right (rW σ) h2
    rw [Nat.succ_mul] at this
    exact this
  unfold rC
  rw [Nat.mul_comm (rW σ) (rH σ)]
  omega
end
/-- whether a day is wet -/
def wetB (σ : Nat → Int32) (d : Nat) : Bool := decide (0 < rWt σ ∧ (d / 7 + 1) % rWt σ = 0)
abbrev wetD (σ : Nat → Int32) (d : Nat) : Prop := wetB σ d = true
/-- the cell next to one: 0 above, 1 right, 2 below, 3 left -/
def nb (W H c : Nat) (t : Nat) : Option Nat := match t with
  | 0 => if 1 ≤ c / W then some ((c / W - 1) * W + c % W) else none
  | 1 => if c % W + 1 < W then some (c / W * W + (c % W + 1)) else none
  | 2 => if c / W + 1 < H then some ((c / W + 1) * W + c % W) else none
  | _ => if 1 ≤ c % W then some (c / W * W + (c % W - 1)) else none
/-- none as -1 -/
def oI (o : Option Nat) : Int32 := match o with
  | some n => nI n
  | none => -1
theorem oI_none : oI none = -1 := rfl
theorem oI_some (n : Nat) : oI (some n) = nI n := rfl
theorem nI_m1 {n : Nat} (h : n < 2147483648) : ¬ nI n = -1 := by
  intro q
  have := congrArg Int32.toInt q
  rw [t_nI h] at this
  have h2 : (-1 : Int32).toInt = -1 := by decide +kernel
  omega
theorem nI_p1 {n : Nat} (h : 1 ≤ n) : nI n + (-1) = nI (n - 1) := by
  obtain ⟨m, rfl⟩ : ∃ m, n = m + 1 := ⟨n - 1, by omega⟩
  rw [pk_m1]; rfl
theorem t_p1 {n : Nat} (h : n < 2147483648) : (nI n + (-1)).toInt = (n : Int) - 1 := by
  rcases Nat.eq_zero_or_pos n with e | e
  · subst e
    decide +kernel
  · rw [nI_p1 e, t_nI (by omega)]; omega
theorem div_lt' {W H c : Nat} (hW : 0 < W) (h : c < W * H) : c / W < H := Nat.div_lt_of_lt_mul h
theorem nb_lt {W H c t n : Nat} (hW : 0 < W) (hc : c < W * H) (h : nb W H c t = some n) : n < W * H := by
  have h1 := Nat.mod_lt c hW
  have h2 := div_lt' hW hc
  have key : ∀ x y, x < W → y < H → y * W + x < W * H := by
    intro x y hx hy
    have : y * W + W ≤ H * W := by
      have := Nat.mul_le_mul_right W hy
      rw [Nat.succ_mul] at this
      exact this
    rw [Nat.mul_comm W H]; omega
  unfold nb at h
  split at h <;> split at h <;> first | (cases h; apply key <;> omega) | cases h
/-- what a cell costs a walker to enter; mode 0 as it is, 1 without fences, 2 by stones -/
def ecost (σ : Nat → Int32) (w m c : Nat) : Option Nat :=
  if σ (153 + 5 * c + 0) = 0 then
    (if m = 2 ∨ (m = 0 ∧ σ (153 + 5 * c + 2) = nI 1) then none
     else some (10 + (9 - wHs σ w) * cGr σ c + if wetD σ (rD σ) ∧ ¬ 2 < cGr σ c then 25 else 0))
  else some 10
/-- by one of the next cells -/
def cby (σ : Nat → Int32) (f : Nat → Nat) (w m c t : Nat) : Nat := match nb (rW σ) (rH σ) c t with
  | none => 1000000
  | some n => if 1000000 ≤ f n then 1000000 else match ecost σ w m n with
    | none => 1000000
    | some e => e + f n
theorem ecost_le {σ : Nat → Int32} (h : RowW σ) {w m c e : Nat} (hc : c < 80) (he : ecost σ w m c = some e) : 10 ≤ e ∧ e ≤ 116 := by
  have h9 := h.c9 hc
  have h8 : (9 - wHs σ w) * cGr σ c ≤ 9 * 9 := Nat.mul_le_mul (by omega) h9
  unfold ecost at he
  split at he
  · split at he
    · cases he
    · cases he
      split <;> omega
  · cases he; omega
