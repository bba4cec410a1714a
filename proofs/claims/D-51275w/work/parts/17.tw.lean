/-! THE REFERENCE's OBJECT: its cells, and small words -/
set_option maxRecDepth 100000
def bI (p : Prop) [Decidable p] : Int32 := if p then 1 else 0
theorem bI_t {p : Prop} [Decidable p] (h : p) : bI p = 1 := if_pos h
theorem bI_f {p : Prop} [Decidable p] (h : ¬ p) : bI p = 0 := if_neg h
theorem bI_0 {p : Prop} [Decidable p] : bI p = 0 ↔ ¬ p := by
  by_cases h : p
  · rw [bI_t h]; exact ⟨fun q => absurd q (by decide), fun q => absurd h q⟩
  · rw [bI_f h]; exact ⟨fun _ => h, fun _ => rfl⟩
theorem bI_n {p : Prop} [Decidable p] : ¬ bI p = 0 ↔ p := by
  rw [bI_0]; exact Decidable.not_not
theorem nI1 : nI 1 = 1 := by decide +kernel
theorem nI0 : nI 0 = 0 := by decide +kernel
theorem bI_1 {p : Prop} [Decidable p] (h : p) : nI 1 = bI p := by rw [bI_t h]; exact nI1
theorem bI_00 {p : Prop} [Decidable p] (h : ¬ p) : nI 0 = bI p := by rw [bI_f h]; exact nI0
theorem nar_0 : narrow .boolean (.int (nI 0)) = .int (nI 0) := by decide +kernel
theorem nar_1 : narrow .boolean (.int (nI 1)) = .int (nI 1) := by decide +kernel
theorem nar_b (p : Prop) [Decidable p] : narrow .boolean (.int (bI p)) = .int (bI p) := by
  by_cases h : p
  · rw [bI_t h]; decide +kernel
  · rw [bI_f h]; decide +kernel
theorem fit_b (p : Prop) [Decidable p] : fits .boolean (.int (bI p)) = true := by
  by_cases h : p
  · rw [bI_t h]; decide +kernel
  · rw [bI_f h]; decide +kernel
theorem fit_0 : fits .boolean (.int (nI 0)) = true := by decide +kernel
theorem fit_1 : fits .boolean (.int (nI 1)) = true := by decide +kernel
theorem bI_b (p : Prop) [Decidable p] : bI p = nI (if p then 1 else 0) := by
  by_cases h : p
  · rw [bI_t h, if_pos h, nI1]
  · rw [bI_f h, if_neg h, nI0]
theorem bI_bI (p : Prop) [Decidable p] : bI (¬ bI p = 0) = bI p := by
  by_cases h : p
  · rw [bI_t (bI_n.mpr h), bI_t h]
  · rw [bI_f (fun q => h (bI_n.mp q)), bI_f h]
theorem bI_iff {p q : Prop} [Decidable p] [Decidable q] (h : p ↔ q) : bI p = bI q := by
  by_cases hp : p
  · rw [bI_t hp, bI_t (h.mp hp)]
  · rw [bI_f hp, bI_f (fun x => hp (h.mpr x))]
theorem lt_eq {a b c : Nat} (h : a < c) (e : b = c) : a < b := by omega
theorem nI_eq0 {a : Nat} (h : a < 2147483648) : nI a = 0 ↔ a = 0 := by
  rw [← nI0]; exact nI_eq (by simpa using h) (by decide)
theorem nI_eqI {a b : Nat} (ha : a < 2147483648) (hb : b < 2147483648) : nI a = nI b ↔ a = b := nI_eq (by simpa using ha) (by simpa using hb)
theorem nI_lt2 {a b : Nat} (ha : a < 2147483648) (hb : b < 2147483648) : nI a < nI b ↔ a < b := nI_ltI (by simpa using ha) (by simpa using hb)
theorem nI_le2 {a b : Nat} (ha : a < 2147483648) (hb : b < 2147483648) : nI a ≤ nI b ↔ a ≤ b := nI_leI (by simpa using ha) (by simpa using hb)
theorem nI_lt0 {a : Nat} (ha : a < 2147483648) : ¬ nI a < 0 := nI_pos (by simpa using ha)
theorem nI_0le {a : Nat} (ha : a < 2147483648) : 0 ≤ nI a := nI_pos' (by simpa using ha)
theorem nI_0lt {a : Nat} (ha : a < 2147483648) : 0 < nI a ↔ 0 < a := by rw [← nI0]; exact nI_lt2 (by decide) ha
theorem nI_le0 {a : Nat} (ha : a < 2147483648) : nI a ≤ 0 ↔ a = 0 := by rw [← nI0, nI_le2 ha (by decide)]; omega
theorem nI_div {a b : Nat} (ha : a < 2147483648) (h0 : 0 < b) (hb : b < 2147483648) : nI a / nI b = nI (a / b) := pk_div (by simpa using ha) h0 (by simpa using hb)
theorem nI_rem {a b : Nat} (ha : a < 2147483648) (h0 : 0 < b) (hb : b < 2147483648) : nI a - nI a / nI b * nI b = nI (a % b) := pk_rem (by simpa using ha) h0 (by simpa using hb)
theorem nI_nz {a : Nat} (h0 : 0 < a) (ha : a < 2147483648) : ¬ nI a = 0 := by rw [nI_eq0 ha]; omega
/-- ints as longs compare as ints -/
theorem i64_le (x y : Int32) : x.toInt64 ≤ y.toInt64 ↔ x ≤ y := by
  rw [Int64.le_iff_toInt_le, Int32.le_iff_toInt_le, Int32.toInt_toInt64, Int32.toInt_toInt64]
theorem lg_3 (x y : Int64) : (y < x ∧ lg_cmp x y = 1) ∨ (x < y ∧ lg_cmp x y = -1) ∨ (x = y ∧ lg_cmp x y = 0) := by
  unfold lg_cmp
  split <;> rename_i h
  · exact Or.inl ⟨h, rfl⟩
  · split <;> rename_i h2
    · exact Or.inr (Or.inr ⟨h2, rfl⟩)
    · refine Or.inr (Or.inl ⟨?_, rfl⟩)
      rw [gt_iff_lt, Int64.lt_iff_toInt_lt] at h
      rw [← Int64.toInt_inj] at h2
      rw [Int64.lt_iff_toInt_lt]
      omega
theorem l_nlt {x y : Int64} (h : x < y) : ¬ y ≤ x := by rw [Int64.lt_iff_toInt_lt] at h; rw [Int64.le_iff_toInt_le]; omega
theorem l_le {x y : Int64} (h : x < y) : x ≤ y := by rw [Int64.lt_iff_toInt_lt] at h; rw [Int64.le_iff_toInt_le]; omega
/-- lcmp, then a jump if below 0 (the jump taken: x < y) -/
theorem lg_lt0 (x y : Int64) : lg_cmp x y < 0 ↔ ¬ y ≤ x := by
  rcases lg_3 x y with ⟨h, e⟩ | ⟨h, e⟩ | ⟨h, e⟩ <;> rw [e]
  · exact ⟨fun q => absurd q (by decide), fun q => absurd (l_le h) q⟩
  · exact ⟨fun _ => l_nlt h, fun _ => by decide⟩
  · exact ⟨fun q => absurd q (by decide), fun q => absurd (by rw [h]; exact Int64.le_refl y) q⟩
theorem lg_gt0 (x y : Int64) : 0 < lg_cmp x y ↔ ¬ x ≤ y := by
  rcases lg_3 x y with ⟨h, e⟩ | ⟨h, e⟩ | ⟨h, e⟩ <;> rw [e]
  · exact ⟨fun _ => l_nlt h, fun _ => by decide⟩
  · exact ⟨fun q => absurd q (by decide), fun q => absurd (l_le h) q⟩
  · exact ⟨fun q => absurd q (by decide), fun q => absurd (by rw [h]; exact Int64.le_refl y) q⟩
theorem lg_eq0 (x y : Int64) : lg_cmp x y = 0 ↔ x = y := by
  rcases lg_3 x y with ⟨h, e⟩ | ⟨h, e⟩ | ⟨h, e⟩ <;> rw [e]
  · exact ⟨fun q => absurd q (by decide), fun q => absurd (by rw [q]; exact Int64.le_refl y) (l_nlt h)⟩
  · exact ⟨fun q => absurd q (by decide), fun q => absurd (by rw [q]; exact Int64.le_refl y) (l_nlt h)⟩
  · exact ⟨fun _ => h, fun _ => rfl⟩
def Tw0 (G : Nat → Nat × Nat) (R : Nat → Nat → Option Nat) (n : Nat → Nat) (t : Nat) : Prop :=
  (G t).1 = 6 ∧ (R t 0 = some (t + 1) ∧ (G (t + 1)).1 = 101 ∧ n (t + 1) = 553) ∧ (R t 1 = some (t + 2) ∧ (G (t + 2)).1 = 102 ∧ n (t + 2) = 553) ∧ (R t 2 = some (t + 3) ∧ (G (t + 3)).1 = 103 ∧ n (t + 3) = 553) ∧ (R t 3 = some (t + 4) ∧ (G (t + 4)).1 = 104 ∧ n (t + 4) = 553) ∧ (R t 4 = some (t + 5) ∧ (G (t + 5)).1 = 105 ∧ n (t + 5) = 4424) ∧
  (R t 8 = some (t + 6) ∧ (G (t + 6)).1 = 106 ∧ n (t + 6) = 80) ∧ (R t 9 = some (t + 7) ∧ (G (t + 7)).1 = 107 ∧ n (t + 7) = 80) ∧ (R t 11 = some (t + 8) ∧ (G (t + 8)).1 = 108 ∧ n (t + 8) = 900) ∧ (R t 21 = some (t + 9) ∧ (G (t + 9)).1 = 109 ∧ n (t + 9) = 90) ∧ (R t 23 = some (t + 10) ∧ (G (t + 10)).1 = 110 ∧ n (t + 10) = 120)
abbrev Tw (A : HA) (t : Nat) : Prop := Tw0 A.G A.R A.n t
section
variable {G : Nat → Nat × Nat} {R : Nat → Nat → Option Nat} {n : Nat → Nat} {t : Nat}
theorem tw_g (h : Tw0 G R n t) : (G t).1 = 6 := h.1
theorem tw_r1 (h : Tw0 G R n t) : R t 0 = some (t + 1) := h.2.1.1
theorem tw_g1 (h : Tw0 G R n t) : (G (t + 1)).1 = 101 := h.2.1.2.1
theorem tw_n1 (h : Tw0 G R n t) : n (t + 1) = 553 := h.2.1.2.2
theorem tw_r2 (h : Tw0 G R n t) : R t 1 = some (t + 2) := h.2.2.1.1
theorem tw_g2 (h : Tw0 G R n t) : (G (t + 2)).1 = 102 := h.2.2.1.2.1
theorem tw_n2 (h : Tw0 G R n t) : n (t + 2) = 553 := h.2.2.1.2.2
theorem tw_r3 (h : Tw0 G R n t) : R t 2 = some (t + 3) := h.2.2.2.1.1
theorem tw_g3 (h : Tw0 G R n t) : (G (t + 3)).1 = 103 := h.2.2.2.1.2.1
theorem tw_n3 (h : Tw0 G R n t) : n (t + 3) = 553 := h.2.2.2.1.2.2
theorem tw_r4 (h : Tw0 G R n t) : R t 3 = some (t + 4) := h.2.2.2.2.1.1
theorem tw_g4 (h : Tw0 G R n t) : (G (t + 4)).1 = 104 := h.2.2.2.2.1.2.1
theorem tw_n4 (h : Tw0 G R n t) : n (t + 4) = 553 := h.2.2.2.2.1.2.2
theorem tw_r5 (h : Tw0 G R n t) : R t 4 = some (t + 5) := h.2.2.2.2.2.1.1
theorem tw_g5 (h : Tw0 G R n t) : (G (t + 5)).1 = 105 := h.2.2.2.2.2.1.2.1
theorem tw_n5 (h : Tw0 G R n t) : n (t + 5) = 4424 := h.2.2.2.2.2.1.2.2
theorem tw_r6 (h : Tw0 G R n t) : R t 8 = some (t + 6) := h.2.2.2.2.2.2.1.1
theorem tw_g6 (h : Tw0 G R n t) : (G (t + 6)).1 = 106 := h.2.2.2.2.2.2.1.2.1
theorem tw_n6 (h : Tw0 G R n t) : n (t + 6) = 80 := h.2.2.2.2.2.2.1.2.2
theorem tw_r7 (h : Tw0 G R n t) : R t 9 = some (t + 7) := h.2.2.2.2.2.2.2.1.1
theorem tw_g7 (h : Tw0 G R n t) : (G (t + 7)).1 = 107 := h.2.2.2.2.2.2.2.1.2.1
theorem tw_n7 (h : Tw0 G R n t) : n (t + 7) = 80 := h.2.2.2.2.2.2.2.1.2.2
theorem tw_r8 (h : Tw0 G R n t) : R t 11 = some (t + 8) := h.2.2.2.2.2.2.2.2.1.1
theorem tw_g8 (h : Tw0 G R n t) : (G (t + 8)).1 = 108 := h.2.2.2.2.2.2.2.2.1.2.1
theorem tw_n8 (h : Tw0 G R n t) : n (t + 8) = 900 := h.2.2.2.2.2.2.2.2.1.2.2
theorem tw_r9 (h : Tw0 G R n t) : R t 21 = some (t + 9) := h.2.2.2.2.2.2.2.2.2.1.1
theorem tw_g9 (h : Tw0 G R n t) : (G (t + 9)).1 = 109 := h.2.2.2.2.2.2.2.2.2.1.2.1
theorem tw_n9 (h : Tw0 G R n t) : n (t + 9) = 90 := h.2.2.2.2.2.2.2.2.2.1.2.2
theorem tw_r10 (h : Tw0 G R n t) : R t 23 = some (t + 10) := h.2.2.2.2.2.2.2.2.2.2.1
theorem tw_g10 (h : Tw0 G R n t) : (G (t + 10)).1 = 110 := h.2.2.2.2.2.2.2.2.2.2.2.1
theorem tw_n10 (h : Tw0 G R n t) : n (t + 10) = 120 := h.2.2.2.2.2.2.2.2.2.2.2.2
end
theorem ci_m1 : Int32.ofInt (-1) = (-1) := by decide +kernel
theorem ci_0 : Int32.ofInt (0) = nI 0 := by decide +kernel
theorem ci_1 : Int32.ofInt (1) = nI 1 := by decide +kernel
theorem ci_2 : Int32.ofInt (2) = nI 2 := by decide +kernel
theorem ci_3 : Int32.ofInt (3) = nI 3 := by decide +kernel
theorem ci_4 : Int32.ofInt (4) = nI 4 := by decide +kernel
theorem ci_5 : Int32.ofInt (5) = nI 5 := by decide +kernel
theorem cb_m128 : (Int8.ofInt (-128)).toInt32 = (-128) := by decide +kernel
theorem cb_m100 : (Int8.ofInt (-100)).toInt32 = (-100) := by decide +kernel
theorem cb_m10 : (Int8.ofInt (-10)).toInt32 = (-10) := by decide +kernel
theorem cb_m9 : (Int8.ofInt (-9)).toInt32 = (-9) := by decide +kernel
theorem cb_m8 : (Int8.ofInt (-8)).toInt32 = (-8) := by decide +kernel
theorem cb_m7 : (Int8.ofInt (-7)).toInt32 = (-7) := by decide +kernel
theorem cb_m6 : (Int8.ofInt (-6)).toInt32 = (-6) := by decide +kernel
theorem cb_m5 : (Int8.ofInt (-5)).toInt32 = (-5) := by decide +kernel
theorem cb_m4 : (Int8.ofInt (-4)).toInt32 = (-4) := by decide +kernel
theorem cb_m3 : (Int8.ofInt (-3)).toInt32 = (-3) := by decide +kernel
theorem cb_m2 : (Int8.ofInt (-2)).toInt32 = (-2) := by decide +kernel
theorem cb_6 : (Int8.ofInt (6)).toInt32 = nI 6 := by decide +kernel
theorem cb_7 : (Int8.ofInt (7)).toInt32 = nI 7 := by decide +kernel
theorem cb_8 : (Int8.ofInt (8)).toInt32 = nI 8 := by decide +kernel
theorem cb_9 : (Int8.ofInt (9)).toInt32 = nI 9 := by decide +kernel
theorem cb_10 : (Int8.ofInt (10)).toInt32 = nI 10 := by decide +kernel
theorem cb_11 : (Int8.ofInt (11)).toInt32 = nI 11 := by decide +kernel
theorem cb_12 : (Int8.ofInt (12)).toInt32 = nI 12 := by decide +kernel
theorem cb_13 : (Int8.ofInt (13)).toInt32 = nI 13 := by decide +kernel
theorem cb_16 : (Int8.ofInt (16)).toInt32 = nI 16 := by decide +kernel
theorem cb_17 : (Int8.ofInt (17)).toInt32 = nI 17 := by decide +kernel
theorem cb_20 : (Int8.ofInt (20)).toInt32 = nI 20 := by decide +kernel
theorem cb_21 : (Int8.ofInt (21)).toInt32 = nI 21 := by decide +kernel
theorem cb_24 : (Int8.ofInt (24)).toInt32 = nI 24 := by decide +kernel
theorem cb_25 : (Int8.ofInt (25)).toInt32 = nI 25 := by decide +kernel
theorem cb_30 : (Int8.ofInt (30)).toInt32 = nI 30 := by decide +kernel
theorem cb_31 : (Int8.ofInt (31)).toInt32 = nI 31 := by decide +kernel
theorem cb_32 : (Int8.ofInt (32)).toInt32 = nI 32 := by decide +kernel
theorem cb_45 : (Int8.ofInt (45)).toInt32 = nI 45 := by decide +kernel
theorem cb_47 : (Int8.ofInt (47)).toInt32 = nI 47 := by decide +kernel
theorem cb_48 : (Int8.ofInt (48)).toInt32 = nI 48 := by decide +kernel
theorem cb_59 : (Int8.ofInt (59)).toInt32 = nI 59 := by decide +kernel
theorem cb_60 : (Int8.ofInt (60)).toInt32 = nI 60 := by decide +kernel
theorem cb_63 : (Int8.ofInt (63)).toInt32 = nI 63 := by decide +kernel
theorem cb_64 : (Int8.ofInt (64)).toInt32 = nI 64 := by decide +kernel
theorem cb_70 : (Int8.ofInt (70)).toInt32 = nI 70 := by decide +kernel
theorem cb_71 : (Int8.ofInt (71)).toInt32 = nI 71 := by decide +kernel
theorem cb_75 : (Int8.ofInt (75)).toInt32 = nI 75 := by decide +kernel
theorem cb_80 : (Int8.ofInt (80)).toInt32 = nI 80 := by decide +kernel
theorem cb_83 : (Int8.ofInt (83)).toInt32 = nI 83 := by decide +kernel
theorem cb_90 : (Int8.ofInt (90)).toInt32 = nI 90 := by decide +kernel
theorem cb_100 : (Int8.ofInt (100)).toInt32 = nI 100 := by decide +kernel
theorem cb_101 : (Int8.ofInt (101)).toInt32 = nI 101 := by decide +kernel
theorem cb_108 : (Int8.ofInt (108)).toInt32 = nI 108 := by decide +kernel
theorem cb_110 : (Int8.ofInt (110)).toInt32 = nI 110 := by decide +kernel
theorem cb_114 : (Int8.ofInt (114)).toInt32 = nI 114 := by decide +kernel
theorem cb_117 : (Int8.ofInt (117)).toInt32 = nI 117 := by decide +kernel
theorem cb_120 : (Int8.ofInt (120)).toInt32 = nI 120 := by decide +kernel
theorem cs_128 : (Int16.ofInt (128)).toInt32 = nI 128 := by decide +kernel
theorem cs_153 : (Int16.ofInt (153)).toInt32 = nI 153 := by decide +kernel
theorem cs_201 : (Int16.ofInt (201)).toInt32 = nI 201 := by decide +kernel
theorem cs_255 : (Int16.ofInt (255)).toInt32 = nI 255 := by decide +kernel
theorem cs_300 : (Int16.ofInt (300)).toInt32 = nI 300 := by decide +kernel
theorem cs_301 : (Int16.ofInt (301)).toInt32 = nI 301 := by decide +kernel
theorem cs_400 : (Int16.ofInt (400)).toInt32 = nI 400 := by decide +kernel
theorem cs_401 : (Int16.ofInt (401)).toInt32 = nI 401 := by decide +kernel
theorem cs_501 : (Int16.ofInt (501)).toInt32 = nI 501 := by decide +kernel
theorem cs_553 : (Int16.ofInt (553)).toInt32 = nI 553 := by decide +kernel
theorem cs_601 : (Int16.ofInt (601)).toInt32 = nI 601 := by decide +kernel
theorem cs_701 : (Int16.ofInt (701)).toInt32 = nI 701 := by decide +kernel
theorem cs_900 : (Int16.ofInt (900)).toInt32 = nI 900 := by decide +kernel
theorem cs_999 : (Int16.ofInt (999)).toInt32 = nI 999 := by decide +kernel
theorem cs_3871 : (Int16.ofInt (3871)).toInt32 = nI 3871 := by decide +kernel
theorem cs_4424 : (Int16.ofInt (4424)).toInt32 = nI 4424 := by decide +kernel
theorem cn_m8 : Int32.ofInt (-8) = (-8) := by decide +kernel
theorem cn_m1 : Int32.ofInt (-1) = (-1) := by decide +kernel
theorem cn_1 : Int32.ofInt (1) = nI 1 := by decide +kernel
theorem cn_6 : Int32.ofInt (6) = nI 6 := by decide +kernel
/-! Math.min, max, abs -/
section
variable {g : GZ} {z : ZX} {cc : ByteArray} {own : String} {nL d mc ms k n : Nat} {A : HA} {pc : Nat} {lv : List (Option Value)} {st : List Value}
theorem r_min (C : CX g z cc own nL d mc ms) {ix : Nat} {x y : Int32} (hlink : Cond.methodLink own ix Lib.Math.min.name ∈ lw_all) (hlen : lv.length = nL) (hsum : (st.map fun v => v.category).sum ≤ 8) (hdd : 1 ≤ d) (hk : k ≤ mc) (hs : n ≤ ms) (hd : decode cc pc = .ok (.invokestatic ix, 3)) (kk : wa g z k n A (pc + 3) lv (.int (if y < x then y else x) :: st)) : wa g z k n A pc lv (.int y :: .int x :: st) :=
  fun H locs ls hR hL hl => va_mmin C.x C.b (by rw [C.ml]; exact hlen.symm.trans hl.1.symm) C.o (C.w _ hlink) (C.w _ q442) (C.w _ q157) (C.w _ q443) (by rw [C.r]; exact hdd) (by rw [C.r]; simp only [fw_room]; omega) (by rw [C.r]; exact hk) (by rw [C.r]; exact hs) hd (kk H locs ls hR hL hl)
theorem r_max (C : CX g z cc own nL d mc ms) {ix : Nat} {x y : Int32} (hlink : Cond.methodLink own ix Lib.Math.max.name ∈ lw_all) (hlen : lv.length = nL) (hsum : (st.map fun v => v.category).sum ≤ 8) (hdd : 1 ≤ d) (hk : k ≤ mc) (hs : n ≤ ms) (hd : decode cc pc = .ok (.invokestatic ix, 3)) (kk : wa g z k n A (pc + 3) lv (.int (if x < y then y else x) :: st)) : wa g z k n A pc lv (.int y :: .int x :: st) :=
  fun H locs ls hR hL hl => va_mmax C.x C.b (by rw [C.ml]; exact hlen.symm.trans hl.1.symm) C.o (C.w _ hlink) (C.w _ q392) (C.w _ q157) (C.w _ q393) (by rw [C.r]; exact hdd) (by rw [C.r]; simp only [fw_room]; omega) (by rw [C.r]; exact hk) (by rw [C.r]; exact hs) hd (kk H locs ls hR hL hl)
theorem r_abs (C : CX g z cc own nL d mc ms) {ix : Nat} {x : Int32} (hlink : Cond.methodLink own ix Lib.Math.abs.name ∈ lw_all) (hlen : lv.length = nL) (hsum : (st.map fun v => v.category).sum ≤ 8) (hdd : 1 ≤ d) (hk : k ≤ mc) (hs : n ≤ ms) (hd : decode cc pc = .ok (.invokestatic ix, 3)) (kk : wa g z k n A (pc + 3) lv (.int (if 0 ≤ x then x else 0 - x) :: st)) : wa g z k n A pc lv (.int x :: st) :=
  fun H locs ls hR hL hl => va_mabs C.x C.b (by rw [C.ml]; exact hlen.symm.trans hl.1.symm) C.o (C.w _ hlink) (C.w _ q970) (C.w _ q157) (C.w _ q971) (by rw [C.r]; exact hdd) (by rw [C.r]; simp only [fw_room]; omega) (by rw [C.r]; exact hk) (by rw [C.r]; exact hs) hd (kk H locs ls hR hL hl)
end
theorem nI_min {a b : Nat} (ha : a < 2147483648) (hb : b < 2147483648) : (if nI b < nI a then nI b else nI a) = nI (if b < a then b else a) := by
  by_cases h : b < a
  · rw [if_pos ((nI_lt2 hb ha).mpr h), if_pos h]
  · rw [if_neg (fun q => h ((nI_lt2 hb ha).mp q)), if_neg h]
