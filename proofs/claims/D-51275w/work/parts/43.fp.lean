/-! PURE: means are numbers -/
def okD (x y : Nat) : Bool := decide (FP.ddiv (FP.i2d (nI x)) (FP.i2d (nI y)) &&& 0x7fffffffffffffff ≤ 0x7ff0000000000000)
def okF (x y : Nat) : Bool := decide (FP.fdiv (FP.i2f (nI x)) (FP.i2f (nI y)) &&& 0x7fffffff ≤ 0x7f800000)
def allD (f : Nat → Bool) : Nat → Bool
  | 0 => true
  | n + 1 => allD f n && f n
theorem allD_k {f : Nat → Bool} {k : Nat} : ∀ n, allD f n = true → k < n → f k = true
  | 0, _, h => absurd h (Nat.not_lt_zero _)
  | n + 1, h, hk => by
    have h : (allD f n && f n) = true := h
    rw [Bool.and_eq_true] at h
    by_cases q : k = n
    · rw [q]; exact h.2
    · exact allD_k n h.1 (by omega)
set_option maxRecDepth 100000 in
theorem okD_all : allD (fun y => allD (fun x => okD x (y + 1)) (9 * y + 10)) 80 = true := by decide +kernel
set_option maxRecDepth 100000 in
theorem okF_all : allD (fun y => allD (fun x => okF x (y + 1)) (y + 2)) 80 = true := by decide +kernel
theorem nan64 {x y : Nat} (h0 : y ≠ 0) (h : y ≤ 80) (hx : x ≤ 9 * y) : vf_n64 (FP.ddiv (FP.i2d (nI x)) (FP.i2d (nI y))) := by
  have h1 := allD_k (k := y - 1) 80 okD_all (by omega)
  have h2 := allD_k (k := x) _ h1 (by omega)
  rw [show y - 1 + 1 = y by omega] at h2
  have h3 : decide (FP.ddiv (FP.i2d (nI x)) (FP.i2d (nI y)) &&& 0x7fffffffffffffff ≤ 0x7ff0000000000000) = true := h2
  have h4 := of_decide_eq_true h3
  exact h4
theorem nan32 {x y : Nat} (h0 : y ≠ 0) (h : y ≤ 80) (hx : x ≤ y) : vf_n32 (FP.fdiv (FP.i2f (nI x)) (FP.i2f (nI y))) := by
  have h1 := allD_k (k := y - 1) 80 okF_all (by omega)
  have h2 := allD_k (k := x) _ h1 (by omega)
  rw [show y - 1 + 1 = y by omega] at h2
  have h3 : decide (FP.fdiv (FP.i2f (nI x)) (FP.i2f (nI y)) &&& 0x7fffffff ≤ 0x7f800000) = true := h2
  have h4 := of_decide_eq_true h3
  exact h4
theorem smN_mul {f h : Nat → Nat} {m : Nat} : ∀ n, (∀ j, j < n → f j ≤ m * h j) → smN f n ≤ m * smN h n
  | 0, _ => Nat.zero_le _
  | n + 1, e => by
    have h1 := smN_mul n (fun j hj => e j (by omega))
    have h2 := e n (by omega)
    show smN f n + f n ≤ m * (smN h n + h n)
    rw [Nat.mul_add]; omega
theorem allG_many {σ : Rw} (h : RowW σ) : allG σ ≤ 9 * manyR σ 0 := by
  have hc80 := h.s.c80
  refine smN_mul _ (fun j hj => ?_)
  have := h.c9 (show j < 80 by omega)
  show grassF σ j ≤ 9 * b01 (decide (σ (153 + 5 * j + 0) = nI 0))
  unfold grassF
  by_cases q : σ (153 + 5 * j + 0) = 0
  · rw [if_pos q, b01_t (q.trans nI0.symm)]; omega
  · rw [if_neg q]; omega
theorem bare_many {σ : Rw} : bareR σ ≤ manyR σ 0 := by
  have := smN_mul (f := fun c => b01 (decide (bare σ c))) (h := fun c => b01 (decide (σ (153 + 5 * c + 0) = nI 0))) (m := 1) (rC σ) (fun j hj => by
    show b01 (decide (bare σ j)) ≤ 1 * b01 (decide (σ (153 + 5 * j + 0) = nI 0))
    by_cases q : bare σ j
    · rw [b01_t q, b01_t (q.1.trans nI0.symm)]; omega
    · rw [b01_f q]; omega)
  unfold bareR manyR; omega
def meanA (σ : Rw) : UInt64 := if manyR σ 0 = 0 then 0 else FP.ddiv (FP.i2d (nI (allG σ))) (FP.i2d (nI (manyR σ 0)))
def shareA (σ : Rw) : UInt32 := if manyR σ 0 = 0 then 0 else FP.fdiv (FP.i2f (nI (bareR σ))) (FP.i2f (nI (manyR σ 0)))
