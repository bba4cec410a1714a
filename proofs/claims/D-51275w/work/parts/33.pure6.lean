/-! PURE: what is asked -/
set_option maxRecDepth 100000
def sinceR (σ : Rw) (c : Nat) : Int32 := if σ (153 + 5 * c + 4) = 0 then -1 else σ 3 - σ (153 + 5 * c + 4)
noncomputable def onR (σ : Rw) (c k : Nat) : Bool := onB (wy σ k) c (wl σ k + 1)
noncomputable def overR (σ : Rw) (c : Nat) : Nat := smN (fun k => b01 (onR σ c k)) (rK σ)
/-- the first one -/
def firstB (f : Nat → Bool) : Nat → Option Nat
  | 0 => none
  | n + 1 => match firstB f n with
    | some k => some k
    | none => if f n then some n else none
theorem firstB_some {f : Nat → Bool} {k : Nat} (h0 : firstB f k = none) (h : f k = true) : ∀ n, k < n → firstB f n = some k
  | 0, h1 => absurd h1 (Nat.not_lt_zero _)
  | n + 1, h1 => by
    by_cases q : k = n
    · subst q
      show (match firstB f k with | some k => some k | none => if f k then some k else none) = _
      rw [h0]
      exact if_pos h
    · show (match firstB f n with | some k => some k | none => if f n then some n else none) = _
      rw [firstB_some h0 h n (by omega)]
theorem firstB_none {f : Nat → Bool} {k : Nat} (h0 : firstB f k = none) (h : ¬ f k = true) : firstB f (k + 1) = none := by
  show (match firstB f k with | some k => some k | none => if f k then some k else none) = _
  rw [h0]
  exact if_neg h
noncomputable def lowR (σ : Rw) (c : Nat) : Option Nat := firstB (onR σ c) (rK σ)
noncomputable def cellA (σ : Rw) (c w : Nat) : Int32 := match w with
  | 1 => if σ (153 + 5 * c + 0) = 0 then σ (153 + 5 * c + 1) else -1
  | 4 => sinceR σ c
  | 5 => nI (overR σ c)
  | w => σ (153 + 5 * c + w)
theorem cellA_d {σ : Rw} {c w : Nat} (h1 : w ≠ 1) (h4 : w ≠ 4) (h5 : w ≠ 5) : cellA σ c w = σ (153 + 5 * c + w) := by
  unfold cellA
  split <;> first | rfl | omega
def withR (σ : Rw) (w r : Nat) : Nat := smN (fun k => b01 (decide (σ (75 + 13 * k + w) = nI r))) (rK σ)
def grassF (σ : Rw) (c : Nat) : Nat := if σ (153 + 5 * c + 0) = 0 then cGr σ c else 0
def allG (σ : Rw) : Nat := smN (grassF σ) (rC σ)
abbrev bare (σ : Rw) (c : Nat) : Prop := σ (153 + 5 * c + 0) = 0 ∧ σ (153 + 5 * c + 1) = 0
def bareR (σ : Rw) : Nat := smN (fun c => b01 (decide (bare σ c))) (rC σ)
theorem grassF_le {σ : Rw} (h : RowW σ) {c : Nat} (hc : c < 80) : grassF σ c ≤ 9 := by
  have := h.c9 hc
  unfold grassF
  split <;> omega
theorem allG_le {σ : Rw} (h : RowW σ) {n : Nat} (hn : n ≤ 80) : smN (grassF σ) n ≤ 720 := by
  have := smN_le (f := grassF σ) (b := 9) n (fun j hj => grassF_le h (by omega))
  omega
theorem smb_le {f : Nat → Bool} (n : Nat) : smN (fun c => b01 (f c)) n ≤ n := by
  have := smN_le (f := fun c => b01 (f c)) (b := 1) n (fun j _ => b01_le _)
  omega
def pick (d : Nat) (a b c : Int32) : Int32 := if d = 0 then a else if d = 1 then b else c
noncomputable abbrev gOn (σ : Rw) (w : Nat) : Nat := smN (fun i => b01 (decide (σ (153 + 5 * wy σ w i + 0) = 0))) (wl σ w + 1)
noncomputable abbrev costR (σ : Rw) (w m : Nat) : Nat := dist σ w m (gC σ (wFr σ w))
noncomputable def whyA (σ : Rw) (w d : Nat) : Int32 :=
  if costR σ w 0 ≤ costR σ w 1 then (if gOn σ w = 0 then pick d (nI 3) (nI (400 + (wl σ w + 1))) (nI 0)
    else pick d (nI 2) (nI (201 + gOn σ w)) (if costR σ w 2 < 1000000 then nI (301 + costR σ w 2) - nI (costR σ w 0) else nI 300))
  else pick d (nI 1) (nI (101 + costR σ w 0) - nI (costR σ w 1)) (nI 0)
noncomputable def keptA (σ : Rw) (c d : Nat) : Int32 :=
  if σ (153 + 5 * c + 0) = 0 then (match lowR σ c with
    | some k => pick d (nI 1) (nI (501 + k)) (nI (601 + overR σ c))
    | none => if sinceR σ c = -1 ∨ d = 2 then nI 0 else if d = 0 then nI 2 else nI 701 + sinceR σ c)
  else nI 0
noncomputable def fenB (σ : Rw) (w : Nat) : Nat → Bool
  | 0 => false
  | n + 1 => fenB σ w n || decide (fenced σ (wy σ w n))
noncomputable def brokB (σ : Rw) (w : Nat) : Bool := fenB σ w (wl σ w + 1)
def markR (σ : Rw) (c : Nat) : Int32 := if σ (153 + 5 * c + 0) = 0 then (if fenced σ c then nI 70 else nI 48 + σ (153 + 5 * c + 1)) else if σ (153 + 5 * c + 0) = nI 2 then nI 71 else nI 83
def sumI (f : Nat → Int32) : Nat → Int32
  | 0 => nI 0
  | n + 1 => sumI f n + f n
def absI (x : Int32) : Int32 := if 0 ≤ x then x else 0 - x
def gbalA (σ : Rw) : Int32 := σ 8 - σ (9 + 3) + σ (9 + 4) + σ (9 + 5) + σ (9 + 6) - σ (9 + 7) - nI (allG σ)
def wbalA (σ : Rw) : Int32 := absI (σ (9 + 0) - sumI (fun k => σ (75 + 13 * k + 11)) (rK σ)) + absI (σ (9 + 1) - sumI (fun k => σ (75 + 13 * k + 12)) (rK σ))
noncomputable def gapA (σ : Rw) : Nat := smN (fun k => b01 (brokB σ k)) (rK σ)
