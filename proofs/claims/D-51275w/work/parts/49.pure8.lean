/-! PURE: a text's tokens -/
set_option maxRecDepth 100000
/-- a byte of the text; none behind its end -/
def btO (B : Nat → Nat) (L k : Nat) : Option Nat := if k < L then some (B k) else none
theorem btO_lt {B : Nat → Nat} {L k : Nat} (h : k < L) : btO B L k = some (B k) := if_pos h
theorem btO_ge {B : Nat → Nat} {L k : Nat} (h : ¬ k < L) : btO B L k = none := if_neg h
/-- how many in a row from p on satisfy q; no more than n -/
def runF (B : Nat → Nat) (q : Nat → Bool) : Nat → Nat → Nat
  | 0, _ => 0
  | n + 1, p => if q (B p) then runF B q n (p + 1) + 1 else 0
theorem runF_le {B : Nat → Nat} {q : Nat → Bool} : ∀ n p, runF B q n p ≤ n
  | 0, _ => Nat.le_refl _
  | n + 1, p => by
    show (if q (B p) then runF B q n (p + 1) + 1 else 0) ≤ n + 1
    have := runF_le (B := B) (q := q) n (p + 1)
    split <;> omega
theorem runF_in {B : Nat → Nat} {q : Nat → Bool} : ∀ n p j, j < runF B q n p → q (B (p + j)) = true
  | 0, _, _, h => absurd h (Nat.not_lt_zero _)
  | n + 1, p, j, h => by
    have h : j < (if q (B p) then runF B q n (p + 1) + 1 else 0) := h
    split at h
    · rename_i h1
      cases j with
      | zero => exact h1
      | succ j =>
        have := runF_in (B := B) (q := q) n (p + 1) j (by omega)
        rw [show p + 1 + j = p + (j + 1) by omega] at this
        exact this
    · omega
theorem runF_out {B : Nat → Nat} {q : Nat → Bool} : ∀ n p, runF B q n p < n → ¬ q (B (p + runF B q n p)) = true
  | 0, _, h => absurd h (Nat.not_lt_zero _)
  | n + 1, p, h => by
    by_cases h1 : q (B p) = true
    · have e : runF B q (n + 1) p = runF B q n (p + 1) + 1 := if_pos h1
      rw [e] at h ⊢
      have := runF_out (B := B) (q := q) n (p + 1) (by omega)
      rw [show p + 1 + runF B q n (p + 1) = p + (runF B q n (p + 1) + 1) by omega] at this
      exact this
    · have e : runF B q (n + 1) p = 0 := if_neg h1
      rw [e]; exact h1
/-- the same number, by what it is -/
theorem runF_eq {B : Nat → Nat} {q : Nat → Bool} {n p j : Nat} (hj : j ≤ n) (h : ∀ i, i < j → q (B (p + i)) = true) (ho : j < n → ¬ q (B (p + j)) = true) : j = runF B q n p := by
  have h1 := runF_le (B := B) (q := q) n p
  rcases Nat.lt_trichotomy j (runF B q n p) with c | c | c
  · exact absurd (runF_in n p j c) (ho (by omega))
  · exact c
  · exact absurd (h _ c) (runF_out n p (by omega))
def isSp (b : Nat) : Bool := decide (b = 32)
def isLe (b : Nat) : Bool := decide (97 ≤ b ∧ b ≤ 122)
def isDi (b : Nat) : Bool := decide (48 ≤ b ∧ b ≤ 57)
/-- behind the spaces -/
def skp (B : Nat → Nat) (L a : Nat) : Nat := a + runF B isSp (L - a) a
/-- letters, digits from p on -/
def wln (B : Nat → Nat) (L p : Nat) : Nat := runF B isLe (L - p) p
def dln (B : Nat → Nat) (L p : Nat) : Nat := runF B isDi (L - p) p
/-- the number told by the first three of n digits -/
def valF (B : Nat → Nat) (p : Nat) : Nat → Nat
  | 0 => 0
  | n + 1 => if n < 3 then 10 * valF B p n + B (p + n) - 48 else valF B p n
theorem valF_le {B : Nat → Nat} {p : Nat} : ∀ n, (∀ i, i < n → isDi (B (p + i)) = true) → valF B p n < 10 ^ (if n < 3 then n else 3)
  | 0, _ => by show (0 : Nat) < 1; decide
  | n + 1, h => by
    have ih := valF_le n (fun i hi => h i (by omega))
    have hd := of_decide_eq_true (h n (by omega))
    show (if n < 3 then 10 * valF B p n + B (p + n) - 48 else valF B p n) < _
    by_cases q : n < 3
    · rw [if_pos q]
      rw [if_pos q] at ih
      rcases (show n = 0 ∨ n = 1 ∨ n = 2 by omega) with e | e | e <;> subst e
      · rw [if_pos (by omega)]; omega
      · rw [if_pos (by omega)]; omega
      · rw [if_neg (by omega)]; omega
    · rw [if_neg q, if_neg (by omega)]
      rw [if_neg q] at ih
      exact ih
theorem valF_1000 {B : Nat → Nat} {p n : Nat} (h : ∀ i, i < n → isDi (B (p + i)) = true) : valF B p n < 1000 := by
  have := valF_le n h
  refine Nat.lt_of_lt_of_le this ?_
  split
  · rcases (show n = 0 ∨ n = 1 ∨ n = 2 by omega) with e | e | e <;> subst e <;> decide
  · decide
/-- what a text's reading gives: an error and its place, or a thing and where it goes on -/
abbrev RdE := Nat × Nat
/-- a number -/
def numR (B : Nat → Nat) (L a lo hi : Nat) : RdE ⊕ (Nat × Nat) :=
  if dln B L (skp B L a) = 0 ∨ 3 < dln B L (skp B L a) then .inl (1, skp B L a)
  else if lo ≤ valF B (skp B L a) (dln B L (skp B L a)) ∧ valF B (skp B L a) (dln B L (skp B L a)) ≤ hi then .inr (valF B (skp B L a) (dln B L (skp B L a)), skp B L a + dln B L (skp B L a))
  else .inl (2, skp B L a)
/-- a sign -/
def sgnR (B : Nat → Nat) (L a c : Nat) : RdE ⊕ Nat := if btO B L (skp B L a) = some c then .inr (skp B L a + 1) else .inl (1, skp B L a)
/-- a name: where it begins -/
def namR (B : Nat → Nat) (L a : Nat) : RdE ⊕ Nat := if 1 ≤ wln B L (skp B L a) ∧ wln B L (skp B L a) ≤ 6 then .inr (skp B L a) else .inl (1, skp B L a)
theorem skp_ge {B : Nat → Nat} {L a : Nat} : a ≤ skp B L a := Nat.le_add_right _ _
theorem skp_le {B : Nat → Nat} {L a : Nat} (h : a ≤ L) : skp B L a ≤ L := by
  have := runF_le (B := B) (q := isSp) (L - a) a
  unfold skp; omega
theorem wln_le {B : Nat → Nat} {L p : Nat} : wln B L p ≤ L - p := runF_le _ _
theorem dln_le {B : Nat → Nat} {L p : Nat} : dln B L p ≤ L - p := runF_le _ _
