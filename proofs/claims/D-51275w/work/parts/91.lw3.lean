/-! THE LAWN, 3: how far each cell is; THE direction -/
set_option maxRecDepth 100000
/-- a lawn's scratch arrays -/
def Sc (d : Nat → Nat) (x : Nat) : Prop := x = d 15 ∨ x = d 16 ∨ x = d 17 ∨ x = d 18
theorem lyK_sc (v : Nat) : lyK (fcL v) ≠ 126 ∧ lyK (fcL v) ≠ 127 ∧ lyK (fcL v) ≠ 322 ∧ lyK (fcL v) ≠ 323 := by
  unfold fcL
  split <;> decide
theorem Sc.k {G : Nat → Nat × Nat} {R : Nat → Nat → Option Nat} {n : Nat → Nat} {a : Nat} {d : Nat → Nat} {C K N x : Nat} (h : Ly0 G R n a d C K N) (hx : Sc d x) : (G x).1 = 126 ∨ (G x).1 = 127 ∨ (G x).1 = 322 ∨ (G x).1 = 323 := by
  rcases hx with q | q | q | q <;> rw [q]
  · exact Or.inl (ly_gf h 15 (by decide))
  · exact Or.inr (Or.inl (ly_gf h 16 (by decide)))
  · exact Or.inr (Or.inr (Or.inl (ly_gf h 17 (by decide))))
  · exact Or.inr (Or.inr (Or.inr (ly_gf h 18 (by decide))))
/-- the scratch arrays don't tell of the lawn -/
theorem Lv.sc {I J : Nat → Nat → Int32} {G : Nat → Nat × Nat} {R : Nat → Nat → Option Nat} {n : Nat → Nat} {a : Nat} {d : Nat → Nat} {σ : Rw} (hL : Ly0 G R n a d (rC σ) (rK σ) (rG σ)) (h : Lv I a d σ) (e : ∀ x, ¬ Sc d x → J x = I x) : Lv J a d σ := by
  have k : ∀ x, ((G x).1 = 2 ∨ (G x).1 = 13 ∨ (G x).1 = 4) → J x = I x := fun x hx => e x (fun q => by have := q.k hL; omega)
  have ka := k a (Or.inl (ly_g hL))
  refine ⟨⟨?_, ?_, ?_, ?_, ?_, ?_, ?_⟩, fun r hr => ?_, fun j hj => ?_⟩
  · rw [ka]; exact h.w
  · rw [ka]; exact h.h
  · rw [ka]; exact h.gr
  · rw [ka]; exact h.wt
  · rw [ka]; exact h.c
  · rw [k _ (Or.inr (Or.inl (ly_g20 hL)))]; exact h.nk
  · rw [k _ (Or.inr (Or.inl (ly_g22 hL)))]; exact h.ng
  · rw [k _ (Or.inr (Or.inr (ly_t hL hr).2))]; exact h.gate hr
  · have fk := lyK_sc ((j - 153) % 5)
    rw [e _ (fun q => ?_)]
    · exact h.2.2 j hj
    · have q := q.k hL
      rcases sA_g hL hj with ⟨-, -, g1⟩ | ⟨-, -, -, g1⟩ | ⟨-, -, -, g1⟩ | ⟨-, -, g1⟩ <;> rw [g1] at q <;> simp only at q <;> omega
/-- a lawn's heap by what is told of each cell, which ones are done with -/
def FH (A : HA) (d : Nat → Nat) (κ μ : Nat → Int32) : HA := (A.sI (d 15) κ).sI (d 17) μ
section
variable {A : HA} {a : Nat} {d : Nat → Nat} {C K N : Nat} {κ μ κ' μ' : Nat → Int32}
theorem ly_ne {f h : Nat} (hL : Ly0 A.G A.R A.n a d C K N) (hf : arrF f) (hh : arrF h) (hk : lyK f ≠ lyK h) : d f ≠ d h := fun e => hk (by rw [← ly_gf hL f hf, ← ly_gf hL h hh, e])
theorem FH_17 : (FH A d κ μ).I (d 17) = μ := sI_s _ _ _
theorem FH_15 (hL : Ly0 A.G A.R A.n a d C K N) : (FH A d κ μ).I (d 15) = κ := by unfold FH; rw [sI_o _ _ (ly_ne hL (by decide) (by decide) (by decide)), sI_s]
theorem FH_x {x : Nat} (h1 : x ≠ d 15) (h2 : x ≠ d 17) : (FH A d κ μ).I x = A.I x := by unfold FH; rw [sI_o _ _ h2, sI_o _ _ h1]
theorem FH_w17 (j : Nat) (x : Int32) : (FH A d κ μ).sI (d 17) (upd ((FH A d κ μ).I (d 17)) j x) = FH A d κ (upd μ j x) := by rw [FH_17]; unfold FH; rw [sI_sI]
theorem FH_w15 (hL : Ly0 A.G A.R A.n a d C K N) (j : Nat) (x : Int32) : (FH A d κ μ).sI (d 15) (upd ((FH A d κ μ).I (d 15)) j x) = FH A d (upd κ j x) μ := by
  rw [FH_15 hL]; unfold FH; rw [sI_comm _ _ _ (ly_ne hL (f := 17) (h := 15) (by decide) (by decide) (by decide)), sI_sI]
theorem FH_self (hL : Ly0 A.G A.R A.n a d C K N) : A = FH A d (A.I (d 15)) (A.I (d 17)) := by
  unfold FH
  rw [sI_self, sI_self]
theorem FH_FH (hL : Ly0 A.G A.R A.n a d C K N) : FH (FH A d κ μ) d κ' μ' = FH A d κ' μ' := by
  unfold FH
  rw [sI_comm _ _ _ (ly_ne hL (f := 17) (h := 15) (by decide) (by decide) (by decide)), sI_sI, sI_sI]
theorem lv_FH {σ : Rw} (hL : Ly A a d σ) (h : Lv A.I a d σ) : Lv (FH A d κ μ).I a d σ := h.sc hL (fun x hx => FH_x (fun e => hx (Or.inl e)) (fun e => hx (Or.inr (Or.inr (Or.inl e)))))
end
/-- the first of the least ones that aren't done with -/
def near (f : Nat → Nat) (b : Nat → Bool) : Nat → Option Nat
  | 0 => none
  | k + 1 => if b k = true ∨ ¬ f k < 1000000 then near f b k else match near f b k with
    | none => some k
    | some j => if f k < f j then some k else some j
section
variable {f : Nat → Nat} {b : Nat → Bool} {k j : Nat}
theorem near_skip (h : b k = true ∨ ¬ f k < 1000000) : near f b (k + 1) = near f b k := if_pos h
theorem near_first (h : near f b k = none) (h1 : ¬ b k = true) (h2 : f k < 1000000) : near f b (k + 1) = some k := by
  show (if b k = true ∨ ¬ f k < 1000000 then near f b k else match near f b k with
    | none => some k
    | some j => if f k < f j then some k else some j) = _
  rw [if_neg (fun q => q.elim h1 (fun q => q h2)), h]
theorem near_less (h : near f b k = some j) (h1 : ¬ b k = true) (h2 : f k < 1000000) (h3 : f k < f j) : near f b (k + 1) = some k := by
  show (if b k = true ∨ ¬ f k < 1000000 then near f b k else match near f b k with
    | none => some k
    | some j => if f k < f j then some k else some j) = _
  rw [if_neg (fun q => q.elim h1 (fun q => q h2)), h]
  exact if_pos h3
theorem near_keep (h : near f b k = some j) (h1 : ¬ b k = true) (h2 : f k < 1000000) (h3 : ¬ f k < f j) : near f b (k + 1) = some j := by
  show (if b k = true ∨ ¬ f k < 1000000 then near f b k else match near f b k with
    | none => some k
    | some j => if f k < f j then some k else some j) = _
  rw [if_neg (fun q => q.elim h1 (fun q => q h2)), h]
  exact if_neg h3
theorem near_spec : ∀ k, (near f b k = none → ∀ i, i < k → b i = true ∨ ¬ f i < 1000000) ∧ ∀ j, near f b k = some j → j < k ∧ ¬ b j = true ∧ f j < 1000000 ∧ ∀ i, i < k → ¬ b i = true → f j ≤ f i
  | 0 => ⟨fun _ i hi => absurd hi (Nat.not_lt_zero _), fun j h => by cases h⟩
  | k + 1 => by
    obtain ⟨h1, h2⟩ := near_spec k
    by_cases q : b k = true ∨ ¬ f k < 1000000
    · rw [near_skip q]
      refine ⟨fun h i hi => ?_, fun j h => ?_⟩
      · by_cases e : i = k
        · rw [e]; exact q
        · exact h1 h i (by omega)
      · obtain ⟨a1, a2, a3, a4⟩ := h2 j h
        refine ⟨by omega, a2, a3, fun i hi hb => ?_⟩
        by_cases e : i = k
        · rw [e] at hb ⊢
          rcases q with q | q
          · exact absurd q hb
          · omega
        · exact a4 i (by omega) hb
    · have q1 : ¬ b k = true := fun z => q (Or.inl z)
      have q2 : f k < 1000000 := Classical.byContradiction fun z => q (Or.inr z)
      cases hn : near f b k with
      | none =>
        rw [near_first hn q1 q2]
        refine ⟨fun h => (by cases h), fun j h => ?_⟩
        cases h
        refine ⟨by omega, q1, q2, fun i hi hb => ?_⟩
        by_cases e : i = k
        · rw [e]; exact Nat.le_refl _
        · rcases h1 hn i (by omega) with z | z
          · exact absurd z hb
          · omega
      | some m =>
        obtain ⟨a1, a2, a3, a4⟩ := h2 m hn
        by_cases z : f k < f m
        · rw [near_less hn q1 q2 z]
          refine ⟨fun h => (by cases h), fun j h => ?_⟩
          cases h
          refine ⟨by omega, q1, q2, fun i hi hb => ?_⟩
          by_cases e : i = k
          · rw [e]; exact Nat.le_refl _
          · have := a4 i (by omega) hb; omega
        · rw [near_keep hn q1 q2 z]
          refine ⟨fun h => (by cases h), fun j h => ?_⟩
          cases h
          refine ⟨by omega, a2, a3, fun i hi hb => ?_⟩
          by_cases e : i = k
          · rw [e]; omega
          · exact a4 i (by omega) hb
end
theorem if_min (a b : Nat) : (if b < a then b else a) = min a b := by split <;> omega
def mark (b : Nat → Bool) (k : Nat) : Nat → Bool := fun j => if j = k then true else b j
theorem mark_s (b : Nat → Bool) (k : Nat) : mark b k k = true := if_pos rfl
theorem mark_o (b : Nat → Bool) {k j : Nat} (h : j ≠ k) : mark b k j = b j := if_neg h
theorem mark_iff {b : Nat → Bool} {k j : Nat} : mark b k j = true ↔ (b j = true ∨ j = k) := by
  by_cases q : j = k
  · rw [q, mark_s]; exact ⟨fun _ => Or.inr rfl, fun _ => rfl⟩
  · rw [mark_o b q]; exact ⟨Or.inl, fun h => h.elim id (fun e => absurd e q)⟩
theorem mark_cnt {b : Nat → Bool} {k C : Nat} (hk : k < C) (hb : ¬ b k = true) : smN (fun c => b01 (!mark b k c)) C + 1 = smN (fun c => b01 (!b c)) C := by
  have h := smN_up (f := fun c => b01 (!b c)) (h := fun c => b01 (!mark b k c)) (c := k) (fun j hj => by show b01 (!mark b k j) = b01 (!b j); rw [mark_o b hj]) C hk
  have h0 : b k = false := by cases hbk : b k with
    | true => exact absurd hbk hb
    | false => rfl
  have e1 : b01 (!b k) = 1 := by rw [h0]; rfl
  have e2 : b01 (!mark b k k) = 0 := by rw [mark_s]; rfl
  omega
theorem up_lower {κ : Nat → Int32} {f : Nat → Nat} {C n v : Nat} (h : ∀ j, j < C → κ j = nI (f j)) : ∀ j, j < C → upd κ n (nI v) j = nI (lower f n v j) := fun j hj => by
  by_cases q : j = n
  · rw [q, pk_us, lower_s]
  · rw [pk_un q, lower_o _ _ q]; exact h j hj
theorem up_mark {μ : Nat → Int32} {b : Nat → Bool} {C k : Nat} (h : ∀ j, j < C → μ j = bI (b j = true)) : ∀ j, j < C → upd μ k (nI 1) j = bI (mark b k j = true) := fun j hj => by
  by_cases q : j = k
  · rw [q, pk_us]; exact bI_1 (mark_s b k)
  · rw [pk_un q, mark_o b q]; exact h j hj
section
variable {σ : Rw} {m cell v s n : Nat} {f : Nat → Nat}
theorem rlK_n (h : nb (rW σ) (rH σ) cell s = none) : rlK σ m cell v f (s + 1) = rlK σ m cell v f s := by
  show (match nb (rW σ) (rH σ) cell s with
    | none => rlK σ m cell v f s
    | some n => if opn σ m n then lower (rlK σ m cell v f s) n (min (rlK σ m cell v f s n) v) else rlK σ m cell v f s) = _
  rw [h]
theorem rlK_c (h : nb (rW σ) (rH σ) cell s = some n) (h2 : ¬ opn σ m n) : rlK σ m cell v f (s + 1) = rlK σ m cell v f s := by
  show (match nb (rW σ) (rH σ) cell s with
    | none => rlK σ m cell v f s
    | some n => if opn σ m n then lower (rlK σ m cell v f s) n (min (rlK σ m cell v f s n) v) else rlK σ m cell v f s) = _
  rw [h]
  exact if_neg h2
theorem rlK_o (h : nb (rW σ) (rH σ) cell s = some n) (h2 : opn σ m n) : rlK σ m cell v f (s + 1) = lower (rlK σ m cell v f s) n (min (rlK σ m cell v f s n) v) := by
  show (match nb (rW σ) (rH σ) cell s with
    | none => rlK σ m cell v f s
    | some n => if opn σ m n then lower (rlK σ m cell v f s) n (min (rlK σ m cell v f s n) v) else rlK σ m cell v f s) = _
  rw [h]
  exact if_pos h2
theorem rlK_le {t : Nat} (ht : t ≤ 4) {B : Nat} (h : ∀ c, c < 80 → f c ≤ B) {c : Nat} (hc : c < 80) : rlK σ m cell v f t c ≤ B := by
  rcases (rlK_spec (σ := σ) (m := m) (cell := cell) (v := v) (f := f) t ht).1 c with a | ⟨a1, a2, -⟩
  · rw [a]; exact h c hc
  · have := h c hc; omega
theorem DJ.mk {w : Nat} {b : Nat → Bool} {k : Nat} (h : DJ σ w m f (fun c => b c = true ∨ c = k)) : DJ σ w m f (fun c => mark b k c = true) := by
  have e : (fun c => mark b k c = true) = fun c => b c = true ∨ c = k := by
    funext c
    exact propext mark_iff
  rw [e]; exact h
end
theorem gk_opn {σ : Rw} {m r : Nat} (hm : m < 3) (hC : ∀ c, c < 80 → CelF σ c) (hK : GK σ) (hW : RowW σ) (hr : r < rG σ) : opn σ m (gC σ r) := by
  have hc : gC σ r < 80 := Nat.lt_of_lt_of_le (gC_lt hW.s (hW.G hr)) hW.s.c80
  have h2 := hK r hr
  have hn : ¬ σ (153 + 5 * gC σ r + 0) = 0 := by rw [h2]; decide +kernel
  have hf : ¬ fenced σ (gC σ r) := by
    rcases (hC _ hc).1 with q | ⟨-, q, -⟩
    · exact absurd q hn
    · unfold fenced; rw [q]; decide +kernel
  rcases (show m = 0 ∨ m = 1 ∨ m = 2 by omega) with e | e | e <;> subst e
  · show (!decide (fenced σ _)) = true
    rw [decide_eq_false hf]; rfl
  · rfl
  · show (!decide (σ (153 + 5 * gC σ r + 0) = 0)) = true
    rw [decide_eq_false hn]; rfl
theorem fc_opn {σ : Rw} {c : Nat} (h : ¬ fenced σ c) : opn σ 0 c := by show (!decide (fenced σ c)) = true; rw [decide_eq_false h]; rfl
theorem fc_cls {σ : Rw} {c : Nat} (h : fenced σ c) : ¬ opn σ 0 c := by show ¬ (!decide (fenced σ c)) = true; rw [decide_eq_true h]; decide
/-- costs by a next cell -/
theorem cby_dj {σ : Rw} {w c s n : Nat} (hf : fenced σ n → σ (153 + 5 * n + 0) = 0) (h : nb (rW σ) (rH σ) c s = some n) (ho : ¬ fenced σ n) (hd : dist σ w 0 n < 1000000) : cby σ (dist σ w 0) w 0 c s = gcost σ w n + dist σ w 0 n :=
  cby_of h hd (by rw [ec_opn (by omega) hf, if_pos (fc_opn ho)])
theorem cby_not {σ : Rw} {w c s : Nat} (hfe : ∀ n, nb (rW σ) (rH σ) c s = some n → fenced σ n → σ (153 + 5 * n + 0) = 0) (h : ∀ n, nb (rW σ) (rH σ) c s = some n → fenced σ n ∨ 1000000 ≤ dist σ w 0 n) : cby σ (dist σ w 0) w 0 c s = 1000000 := by
  rcases cby_cases σ (dist σ w 0) w 0 c s with q | ⟨n, e, h1, h2, h3, h4⟩
  · exact q
  · rcases h n h1 with z | z
    · rw [ec_opn (by omega) (hfe n h1), if_neg (fc_cls z)] at h3
      cases h3
    · omega
theorem cel_f {σ : Rw} {c : Nat} (h : CelF σ c) (hf : fenced σ c) : σ (153 + 5 * c + 0) = 0 := by
  rcases h.1 with q | ⟨-, q, -⟩
  · exact q
  · unfold fenced at hf; rw [q] at hf; exact absurd hf (by decide +kernel)
/-- Ground's constants, as they are found -/
def gName (m : Nat) : String := match m with
  | 0 => "AS_IT_IS" | 1 => "WITHOUT_FENCES" | _ => "HARD"
def GdK (g : GZ) : Prop := ∀ m, m < 3 → SZ g "LawnPaths$Ground" (gName m) "LLawnPaths$Ground;" (.ref (g.c (60 + m))) ∧ GO g (g.c (60 + m)) m
/-- what tellsFar leaves -/
def Fr (A : HA) (d : Nat → Nat) (σ : Rw) (w m : Nat) (A' : HA) : Prop := ∃ (f : Nat → Nat) (κ μ : Nat → Int32), A' = FH A d κ μ ∧ (∀ j, j < rC σ → κ j = nI (f j) ∧ f j ≤ 1000000) ∧ (∀ c, c < rC σ → opn σ m c → f c = dist σ w m c) ∧ ∀ c, c < rC σ → ¬ opn σ m c → f c = 1000000
set_option maxHeartbeats 4000000 in
theorem l_nearestUnmarked {g : GZ} {A : HA} {a : Nat} {d : Nat → Nat} {σ : Rw} (hL : Ly A a d σ) (hv : Lv A.I a d σ) (hW : RowW σ) {f : Nat → Nat} {b : Nat → Bool} (hf : ∀ j, j < rC σ → A.I (d 15) j = nI (f j) ∧ f j ≤ 1000000) (hb : ∀ j, j < rC σ → A.I (d 17) j = bI (b j = true)) : Ct g wI yX2_nearestUnmarked (.code yX2_nearestUnmarked cX2_nearestUnmarked 3 (Option.some Jvm.ClassFile.FieldType.int)) 1 0 0 [.ref a] (A) (fun u A' => u = oI (near f b (rC σ)) ∧ A' = A) fw_no := by
  refine Ct.of [some (.ref a), none, none] (by decide) rfl rfl fun z C hx hnm E => ?_
  have hS := hW.s
  have hw3 := hS.w3
  have hw10 := hS.w10
  have hh8 := hS.h8
  have hc80 := hS.c80
  have k6 := hW.k6
  have g6 := hW.g6
  refine r_iconst (pc := 0) C dX2_nearestUnmarked_0 ci_m1 ?_
  refine r_istore_1 (pc := 1) C dX2_nearestUnmarked_1 rfl ?_
  refine r_iconst (pc := 2) C dX2_nearestUnmarked_2 ci_0 ?_
  refine r_istore_2 (pc := 3) C dX2_nearestUnmarked_3 rfl ?_
  have lp4_1 : ∀ (fu : Nat) (c : Nat) (hc : c ≤ rC σ), rC σ - c < fu → wa g z 0 0 (A) 4 [some (.ref a), some (.int (oI (near f b c))), some (.int (nI (c)))] [] := by
    intro fu
    induction fu with
    | zero => intro c  hc hm4; exact absurd hm4 (Nat.not_lt_zero _)
    | succ fu ih4 =>
      intro c  hc hm4
      have hfc : c < rC σ → f c ≤ 1000000 := fun q => (hf c q).2
      refine r_iload_2 (pc := 4) C dX2_nearestUnmarked_4 ?_
      refine r_aload_0 (pc := 5) C dX2_nearestUnmarked_5 ?_
      refine r_getI (pc := 6) C fl_X2_14_2 (ly_g hL) rfl dX2_nearestUnmarked_6 ?_
      refine r_top hv.c ?_
      refine r_icmp_ge (pc := 9) (tgt := 60) C dX2_nearestUnmarked_9 (by decide) (fun b9 => ?_) (fun b9 => ?_)
      · skip
        have b9 := (nI_le2 (by omega) (by omega)).mp b9
        refine r_iload_1 (pc := 60) C dX2_nearestUnmarked_60 ?_
        refine r_iret (pc := 61) C E rfl (Nat.le_refl _) (Nat.le_refl _) dX2_nearestUnmarked_61 ?_
        have e9 : c = rC σ := by omega
        subst e9
        exact ⟨rfl, rfl⟩
      · skip
        have b9 := (not_congr (nI_le2 (by omega) (by omega))).mp b9
        have hfc := hfc (by omega)
        refine r_aload_0 (pc := 12) C dX2_nearestUnmarked_12 ?_
        refine r_getR (pc := 13) C fl_X2_72_2 (ly_g hL) rfl (ly_rf hL 17 (by decide)) dX2_nearestUnmarked_13 ?_
        refine r_iload_2 (pc := 16) C dX2_nearestUnmarked_16 ?_
        refine r_zald (pc := 17) C (ly_gf hL 17 (by decide)) rfl rfl (lt_eq (by omega) (ly_nf hL 17 (by decide) (by decide))) (by omega) dX2_nearestUnmarked_17 ?_
        refine r_top (hb c (by omega)) ?_
        refine r_if_ne (pc := 18) (tgt := 54) C dX2_nearestUnmarked_18 (by decide) (fun b18 => ?_) (fun b18 => ?_)
        · skip
          have b18 := bI_n.mp b18
          refine r_iinc_2 (pc := 54) C dX2_nearestUnmarked_54 (nI_inc _) rfl ?_
          refine r_goto (pc := 57) (tgt := 4) C dX2_nearestUnmarked_57 (by decide) ?_
          refine r_eqL (lv' := [some (.ref a), some (.int (oI (near f b (c + 1)))), some (.int (nI (c + 1)))]) (by first | rw [near_skip (Or.inl ‹_›)] | rw [near_skip (Or.inr (by omega))] | (rw [near_first hnr ‹_› (by omega)] <;> rfl) | (rw [near_less hnr ‹_› (by omega) (by omega)] <;> rfl) | (rw [near_keep hnr ‹_› (by omega) (by omega)] <;> rfl)) ?_
          exact ih4 (c + 1) (by omega) (by omega)
        · skip
          have b18 := bI_0.mp b18
          refine r_aload_0 (pc := 21) C dX2_nearestUnmarked_21 ?_
          refine r_getR (pc := 22) C fl_X2_66_2 (ly_g hL) rfl (ly_rf hL 15 (by decide)) dX2_nearestUnmarked_22 ?_
          refine r_iload_2 (pc := 25) C dX2_nearestUnmarked_25 ?_
          refine r_iald (pc := 26) C (ly_gf hL 15 (by decide)) rfl rfl (lt_eq (by omega) (ly_nf hL 15 (by decide) (by decide))) (by omega) dX2_nearestUnmarked_26 ?_
          refine r_top (hf c (by omega)).1 ?_
          refine r_ldc (pc := 27) (v := nI 1000000) C (by have h9 := q986; rwa [show (1000000 : Int32) = nI 1000000 by decide +kernel] at h9) dX2_nearestUnmarked_27 ?_
          refine r_icmp_ge (pc := 29) (tgt := 54) C dX2_nearestUnmarked_29 (by decide) (fun b29 => ?_) (fun b29 => ?_)
          · skip
            have b29 := (nI_le2 (by omega) (by omega)).mp b29
            refine r_iinc_2 (pc := 54) C dX2_nearestUnmarked_54 (nI_inc _) rfl ?_
            refine r_goto (pc := 57) (tgt := 4) C dX2_nearestUnmarked_57 (by decide) ?_
            refine r_eqL (lv' := [some (.ref a), some (.int (oI (near f b (c + 1)))), some (.int (nI (c + 1)))]) (by first | rw [near_skip (Or.inl ‹_›)] | rw [near_skip (Or.inr (by omega))] | (rw [near_first hnr ‹_› (by omega)] <;> rfl) | (rw [near_less hnr ‹_› (by omega) (by omega)] <;> rfl) | (rw [near_keep hnr ‹_› (by omega) (by omega)] <;> rfl)) ?_
            exact ih4 (c + 1) (by omega) (by omega)
          · skip
            have b29 := (not_congr (nI_le2 (by omega) (by omega))).mp b29
            rcases hnr : near f b c with _ | j
            · skip
              refine r_eqL (lv' := [some (.ref a), some (.int (-1)), some (.int (nI (c)))]) rfl ?_
              refine r_iload_1 (pc := 32) C dX2_nearestUnmarked_32 ?_
              refine r_iconst (pc := 33) C dX2_nearestUnmarked_33 ci_m1 ?_
              refine r_icmp_eq (pc := 34) (tgt := 52) C dX2_nearestUnmarked_34 (by decide) (fun b34 => ?_) (fun b34 => ?_)
              · skip
                refine r_iload_2 (pc := 52) C dX2_nearestUnmarked_52 ?_
                refine r_istore_1 (pc := 53) C dX2_nearestUnmarked_53 rfl ?_
                refine r_iinc_2 (pc := 54) C dX2_nearestUnmarked_54 (nI_inc _) rfl ?_
                refine r_goto (pc := 57) (tgt := 4) C dX2_nearestUnmarked_57 (by decide) ?_
                refine r_eqL (lv' := [some (.ref a), some (.int (oI (near f b (c + 1)))), some (.int (nI (c + 1)))]) (by first | rw [near_skip (Or.inl ‹_›)] | rw [near_skip (Or.inr (by omega))] | (rw [near_first hnr ‹_› (by omega)] <;> rfl) | (rw [near_less hnr ‹_› (by omega) (by omega)] <;> rfl) | (rw [near_keep hnr ‹_› (by omega) (by omega)] <;> rfl)) ?_
                exact ih4 (c + 1) (by omega) (by omega)
              · exact absurd b34 (by decide +kernel)
            · skip
              refine r_eqL (lv' := [some (.ref a), some (.int (nI j)), some (.int (nI (c)))]) rfl ?_
              have hjs := (near_spec c).2 j hnr
              have hjf := (hf j (by omega)).2
              refine r_iload_1 (pc := 32) C dX2_nearestUnmarked_32 ?_
              refine r_iconst (pc := 33) C dX2_nearestUnmarked_33 ci_m1 ?_
              refine r_icmp_eq (pc := 34) (tgt := 52) C dX2_nearestUnmarked_34 (by decide) (fun b34 => ?_) (fun b34 => ?_)
              · skip
                exact absurd b34 (nI_m1 (by omega))
              · skip
                refine r_aload_0 (pc := 37) C dX2_nearestUnmarked_37 ?_
                refine r_getR (pc := 38) C fl_X2_66_2 (ly_g hL) rfl (ly_rf hL 15 (by decide)) dX2_nearestUnmarked_38 ?_
                refine r_iload_2 (pc := 41) C dX2_nearestUnmarked_41 ?_
                refine r_iald (pc := 42) C (ly_gf hL 15 (by decide)) rfl rfl (lt_eq (by omega) (ly_nf hL 15 (by decide) (by decide))) (by omega) dX2_nearestUnmarked_42 ?_
                refine r_top (hf c (by omega)).1 ?_
                refine r_aload_0 (pc := 43) C dX2_nearestUnmarked_43 ?_
                refine r_getR (pc := 44) C fl_X2_66_2 (ly_g hL) rfl (ly_rf hL 15 (by decide)) dX2_nearestUnmarked_44 ?_
                refine r_iload_1 (pc := 47) C dX2_nearestUnmarked_47 ?_
                refine r_iald (pc := 48) C (ly_gf hL 15 (by decide)) rfl rfl (lt_eq (by omega) (ly_nf hL 15 (by decide) (by decide))) (by omega) dX2_nearestUnmarked_48 ?_
                refine r_top (hf j (by omega)).1 ?_
                refine r_icmp_ge (pc := 49) (tgt := 54) C dX2_nearestUnmarked_49 (by decide) (fun b49 => ?_) (fun b49 => ?_)
                · skip
                  have b49 := (nI_le2 (by omega) (by omega)).mp b49
                  refine r_iinc_2 (pc := 54) C dX2_nearestUnmarked_54 (nI_inc _) rfl ?_
                  refine r_goto (pc := 57) (tgt := 4) C dX2_nearestUnmarked_57 (by decide) ?_
                  refine r_eqL (lv' := [some (.ref a), some (.int (oI (near f b (c + 1)))), some (.int (nI (c + 1)))]) (by first | rw [near_skip (Or.inl ‹_›)] | rw [near_skip (Or.inr (by omega))] | (rw [near_first hnr ‹_› (by omega)] <;> rfl) | (rw [near_less hnr ‹_› (by omega) (by omega)] <;> rfl) | (rw [near_keep hnr ‹_› (by omega) (by omega)] <;> rfl)) ?_
                  exact ih4 (c + 1) (by omega) (by omega)
                · skip
                  have b49 := (not_congr (nI_le2 (by omega) (by omega))).mp b49
                  refine r_iload_2 (pc := 52) C dX2_nearestUnmarked_52 ?_
                  refine r_istore_1 (pc := 53) C dX2_nearestUnmarked_53 rfl ?_
                  refine r_iinc_2 (pc := 54) C dX2_nearestUnmarked_54 (nI_inc _) rfl ?_
                  refine r_goto (pc := 57) (tgt := 4) C dX2_nearestUnmarked_57 (by decide) ?_
                  refine r_eqL (lv' := [some (.ref a), some (.int (oI (near f b (c + 1)))), some (.int (nI (c + 1)))]) (by first | rw [near_skip (Or.inl ‹_›)] | rw [near_skip (Or.inr (by omega))] | (rw [near_first hnr ‹_› (by omega)] <;> rfl) | (rw [near_less hnr ‹_› (by omega) (by omega)] <;> rfl) | (rw [near_keep hnr ‹_› (by omega) (by omega)] <;> rfl)) ?_
                  exact ih4 (c + 1) (by omega) (by omega)
  exact lp4_1 _ 0 (by omega) (Nat.lt_succ_self _)
set_option maxHeartbeats 4000000 in
theorem l_tellsFar {g : GZ} {A : HA} {a : Nat} {d : Nat → Nat} {σ : Rw} (hL : Ly A a d σ) (hv : Lv A.I a d σ) (hW : RowW σ) (hC : ∀ c, c < 80 → CelF σ c) {k m q : Nat} (hK : GK σ) (hk : k < rK σ) (hm : m < 3) (hG : GO g q m) : Ct g wI yX2_tellsFar (.code yX2_tellsFar cX2_tellsFar 7 (Option.some Jvm.ClassFile.FieldType.int)) 7 0 0 [.ref a, .ref (d (30 + k)), .ref q] (A) (fun u A' => Fr A d σ k m A' ∧ u = nI (dist σ k m (gC σ (wFr σ k)))) fw_no := by
  refine Ct.of [some (.ref a), some (.ref (d (30 + k))), some (.ref q), none, none, none, none] (by decide) rfl rfl fun z C hx hnm E => ?_
  have hS := hW.s
  have hw3 := hS.w3
  have hw10 := hS.w10
  have hh8 := hS.h8
  have hc80 := hS.c80
  have k6 := hW.k6
  have g6 := hW.g6
  have hk6 := hW.K hk
  have hto := hk6.2.1
  have hfr := hk6.1
  have hgt := gC_lt hS (hW.G hto.2)
  have hgf := gC_lt hS (hW.G hfr.2)
  refine r_iconst (pc := 0) C dX2_tellsFar_0 ci_0 ?_
  refine r_istore_3 (pc := 1) C dX2_tellsFar_1 rfl ?_
  have lp2_1 : ∀ (fu : Nat) (c : Nat) (κ1 μ1 : Nat → Int32) (hc : c ≤ rC σ) (hz : ∀ j, j < c → κ1 j = nI 1000000 ∧ μ1 j = nI 0), rC σ - c < fu → wa g z 0 0 (FH A d κ1 μ1) 2 [some (.ref a), some (.ref (d (30 + k))), some (.ref q), some (.int (nI (c))), none, none, none] [] := by
    intro fu
    induction fu with
    | zero => intro c  κ1 μ1  hc hz hm2; exact absurd hm2 (Nat.not_lt_zero _)
    | succ fu ih2 =>
      intro c  κ1 μ1  hc hz hm2
      refine r_iload_3 (pc := 2) C dX2_tellsFar_2 ?_
      refine r_aload_0 (pc := 3) C dX2_tellsFar_3 ?_
      refine r_getI (pc := 4) C fl_X2_14_2 (ly_g hL) rfl dX2_tellsFar_4 ?_
      refine r_top (lv_FH hL hv).c ?_
      refine r_icmp_ge (pc := 7) (tgt := 31) C dX2_tellsFar_7 (by decide) (fun b7 => ?_) (fun b7 => ?_)
      · skip
        have b7 := (nI_le2 (by omega) (by omega)).mp b7
        refine r_aload_0 (pc := 31) C dX2_tellsFar_31 ?_
        refine r_getR (pc := 32) C fl_X2_66_2 (ly_g hL) rfl (ly_rf hL 15 (by decide)) dX2_tellsFar_32 ?_
        refine r_aload_0 (pc := 35) C dX2_tellsFar_35 ?_
        refine r_aload_1 (pc := 36) C dX2_tellsFar_36 ?_
        refine r_ngetI (pc := 37) C fn_X2_134_5 (ly_w hL hk).2 rfl dX2_tellsFar_37 ?_
        refine r_top (((lv_FH hL hv).wk (v := 8) (by omega) (by omega) hk (by omega)).trans (hW.K hk).2.1.1) ?_
        refine r_V1io (pc := 40) C (l_cellOf (by exact hL) (lv_FH hL hv) hW hto.2) vl_X2_137 (ly_g hL) (by decide) (Nat.le_refl _) (Nat.le_refl _) (Nat.le_of_ble_eq_true rfl) rfl dX2_tellsFar_40 (fun u2 A2 hc2 => ?_)
        refine r_top hc2.1 ?_
        refine r_eqA hc2.2 ?_
        clear hc2 A2 u2
        refine r_iconst (pc := 43) C dX2_tellsFar_43 ci_0 ?_
        refine r_iast (pc := 44) C (ly_gf hL 15 (by decide)) rfl rfl (lt_eq (by omega) (ly_nf hL 15 (by decide) (by decide))) (by omega) dX2_tellsFar_44 ?_
        refine r_eqA (FH_w15 hL _ _) ?_
        have e9 : c = rC σ := by omega
        subst e9
        have hf0 : ∀ j, j < rC σ → upd κ1 (gC σ (wTo σ k)) (nI 0) j = nI (lower (fun _ => 1000000) (gC σ (wTo σ k)) 0 j) := up_lower (fun j hj => (hz j hj).1)
        have hb0 : ∀ j, j < rC σ → μ1 j = bI ((fun _ => false) j = true) := fun j hj => (hz j hj).2.trans (bI_00 (fun q9 => Bool.noConfusion q9))
        have hD0 : DJ σ k m (lower (fun _ => 1000000) (gC σ (wTo σ k)) 0) (fun c => (fun _ => false) c = true) := by
          have hd9 := DJ.init (σ := σ) (w := k) (m := m) hgt
          have e8 : (fun c => (fun _ : Nat => false) c = true) = fun _ => False := by funext c; exact propext ⟨fun h => Bool.noConfusion h, fun h => h.elim⟩
          rw [e8]; exact hd9
        refine r_aload_0 (pc := 45) C dX2_tellsFar_45 ?_
        refine r_V0io (pc := 46) C (l_nearestUnmarked (by exact hL) (lv_FH hL hv) hW (f := lower (fun _ => 1000000) (gC σ (wTo σ k)) 0) (b := fun _ => false) (fun j hj => ⟨(congrFun (FH_15 hL) j).trans (hf0 j hj), hD0.2.1 j (by omega)⟩) (fun j hj => (congrFun FH_17 j).trans (hb0 j hj))) vl_X2_141 (ly_g hL) (by decide) (Nat.le_refl _) (Nat.le_refl _) (Nat.le_of_ble_eq_true rfl) rfl dX2_tellsFar_46 (fun u3 A3 hc3 => ?_)
        refine r_top hc3.1 ?_
        refine r_eqA hc3.2 ?_
        clear hc3 A3 u3
        refine r_istore_3 (pc := 49) C dX2_tellsFar_49 rfl ?_
        have lp50_4 : ∀ (fu : Nat) (f : Nat → Nat) (b : Nat → Bool) (κ1 μ1 : Nat → Int32) (hf1 : ∀ j, j < rC σ → κ1 j = nI (f j)) (hb1 : ∀ j, j < rC σ → μ1 j = bI (b j = true)) (hDJ : DJ σ k m f (fun c => b c = true)), smN (fun c => b01 (!b c)) (rC σ) < fu → wa g z 0 0 (FH A d κ1 μ1) 50 [some (.ref a), some (.ref (d (30 + k))), some (.ref q), some (.int (oI (near f b (rC σ)))), none, none, none] [] := by
          intro fu
          induction fu with
          | zero => intro f  b  κ1 μ1  hf1 hb1 hDJ hm50; exact absurd hm50 (Nat.not_lt_zero _)
          | succ fu ih50 =>
            intro f  b  κ1 μ1  hf1 hb1 hDJ hm50
            refine r_iload_3 (pc := 50) C dX2_tellsFar_50 ?_
            rcases hnr : near f b (rC σ) with _ | kk
            · skip
              refine r_top (rfl : oI none = -1) ?_
              refine r_eqL (lv' := [some (.ref a), some (.ref (d (30 + k))), some (.ref q), some (.int (-1)), none, none, none]) rfl ?_
              refine r_iconst (pc := 51) C dX2_tellsFar_51 ci_m1 ?_
              refine r_icmp_eq (pc := 52) (tgt := 144) C dX2_tellsFar_52 (by decide) (fun b52 => ?_) (fun b52 => ?_)
              · skip
                have hall : ∀ j, j < rC σ → ¬ b j = true → ¬ f j < 1000000 := fun j hj hbj => ((near_spec (rC σ)).1 hnr j hj).resolve_left hbj
                have hdn := DJ.done hW hm (fun c hc => cel_f (hC c hc)) hgt (gk_opn hm hC hK hW hto.2) hDJ hall
                refine r_aload_0 (pc := 144) C dX2_tellsFar_144 ?_
                refine r_getR (pc := 145) C fl_X2_66_2 (ly_g hL) rfl (ly_rf hL 15 (by decide)) dX2_tellsFar_145 ?_
                refine r_aload_0 (pc := 148) C dX2_tellsFar_148 ?_
                refine r_aload_1 (pc := 149) C dX2_tellsFar_149 ?_
                refine r_ngetI (pc := 150) C fn_X2_163_5 (ly_w hL hk).2 rfl dX2_tellsFar_150 ?_
                refine r_top (((lv_FH hL hv).wk (v := 7) (by omega) (by omega) hk (by omega)).trans (hW.K hk).1.1) ?_
                refine r_V1io (pc := 153) C (l_cellOf (by exact hL) (lv_FH hL hv) hW hfr.2) vl_X2_137 (ly_g hL) (by decide) (Nat.le_refl _) (Nat.le_refl _) (Nat.le_of_ble_eq_true rfl) rfl dX2_tellsFar_153 (fun u5 A5 hc5 => ?_)
                refine r_top hc5.1 ?_
                refine r_eqA hc5.2 ?_
                clear hc5 A5 u5
                refine r_iald (pc := 156) C (ly_gf hL 15 (by decide)) rfl rfl (lt_eq (by omega) (ly_nf hL 15 (by decide) (by decide))) (by omega) dX2_tellsFar_156 ?_
                refine r_top ((congrFun (FH_15 hL) _).trans (hf1 _ hgf)) ?_
                refine r_iret (pc := 157) C E rfl (Nat.le_refl _) (Nat.le_refl _) dX2_tellsFar_157 ?_
                exact ⟨⟨f, κ1, μ1, rfl, fun j hj => ⟨hf1 j hj, hDJ.2.1 j (by omega)⟩, hdn.1, hdn.2⟩, by rw [hdn.1 _ hgf (gk_opn hm hC hK hW hfr.2)]⟩
              · exact absurd b52 (by decide +kernel)
            · skip
              refine r_top (rfl : oI (some kk) = nI kk) ?_
              refine r_eqL (lv' := [some (.ref a), some (.ref (d (30 + k))), some (.ref q), some (.int (nI kk)), none, none, none]) rfl ?_
              have hks := (near_spec (rC σ)).2 kk hnr
              have hkC := hks.1
              have hkb := hks.2.1
              have hkf := hks.2.2.1
              have hmin := hks.2.2.2
              have hgc := gcost_le (w := k) hW (show kk < 80 by omega)
              refine r_iconst (pc := 51) C dX2_tellsFar_51 ci_m1 ?_
              refine r_icmp_eq (pc := 52) (tgt := 144) C dX2_tellsFar_52 (by decide) (fun b52 => ?_) (fun b52 => ?_)
              · skip
                exact absurd b52 (nI_m1 (by omega))
              · skip
                refine r_aload_0 (pc := 55) C dX2_tellsFar_55 ?_
                refine r_getR (pc := 56) C fl_X2_72_2 (ly_g hL) rfl (ly_rf hL 17 (by decide)) dX2_tellsFar_56 ?_
                refine r_iload_3 (pc := 59) C dX2_tellsFar_59 ?_
                refine r_iconst (pc := 60) C dX2_tellsFar_60 ci_1 ?_
                refine r_zast (pc := 61) C (ly_gf hL 17 (by decide)) rfl rfl (lt_eq (by omega) (ly_nf hL 17 (by decide) (by decide))) (by omega) nar_1 dX2_tellsFar_61 ?_
                refine r_eqA (FH_w17 _ _) ?_
                refine r_aload_0 (pc := 62) C dX2_tellsFar_62 ?_
                refine r_getR (pc := 63) C fl_X2_66_2 (ly_g hL) rfl (ly_rf hL 15 (by decide)) dX2_tellsFar_63 ?_
                refine r_iload_3 (pc := 66) C dX2_tellsFar_66 ?_
                refine r_iald (pc := 67) C (ly_gf hL 15 (by decide)) rfl rfl (lt_eq (by omega) (ly_nf hL 15 (by decide) (by decide))) (by omega) dX2_tellsFar_67 ?_
                refine r_top ((congrFun (FH_15 hL) _).trans (hf1 kk hkC)) ?_
                refine r_aload_0 (pc := 68) C dX2_tellsFar_68 ?_
                refine r_aload_1 (pc := 69) C dX2_tellsFar_69 ?_
                refine r_iload_3 (pc := 70) C dX2_tellsFar_70 ?_
                refine r_V2io (pc := 71) C (l_costOf (by exact hL) (lv_FH hL hv) hW hk hkC) vl_X2_144 (ly_g hL) (by decide) (Nat.le_refl _) (Nat.le_refl _) (Nat.le_of_ble_eq_true rfl) rfl dX2_tellsFar_71 (fun u6 A6 hc6 => ?_)
                refine r_top hc6.1 ?_
                refine r_eqA hc6.2 ?_
                clear hc6 A6 u6
                refine r_iadd (pc := 74) C dX2_tellsFar_74 ?_
                refine r_top (nI_add _ _) ?_
                refine r_istore_4 (pc := 75) C dX2_tellsFar_75 rfl ?_
                refine r_iconst (pc := 77) C dX2_tellsFar_77 ci_0 ?_
                refine r_istore_5 (pc := 78) C dX2_tellsFar_78 rfl ?_
                have lp80_7 : ∀ (fu : Nat) (s : Nat) (κ2 : Nat → Int32) (hs : s ≤ 4) (hκ : ∀ j, j < rC σ → κ2 j = nI (rlK σ m kk (f kk + gcost σ k kk) f s j)), 4 - s < fu → wa g z 0 0 (FH A d κ2 (upd μ1 kk (nI 1))) 80 [some (.ref a), some (.ref (d (30 + k))), some (.ref q), some (.int (nI (kk))), some (.int (nI (f kk + gcost σ k kk))), some (.int (nI (s))), none] [] := by
                  intro fu
                  induction fu with
                  | zero => intro s  κ2  hs hκ hm80; exact absurd hm80 (Nat.not_lt_zero _)
                  | succ fu ih80 =>
                    intro s  κ2  hs hκ hm80
                    refine r_iload_5 (pc := 80) C dX2_tellsFar_80 ?_
                    refine r_iconst (pc := 82) C dX2_tellsFar_82 ci_4 ?_
                    refine r_icmp_ge (pc := 83) (tgt := 136) C dX2_tellsFar_83 (by decide) (fun b83 => ?_) (fun b83 => ?_)
                    · skip
                      have b83 := (nI_le2 (by omega) (by omega)).mp b83
                      have e4 : s = 4 := by omega
                      subst e4
                      refine r_aload_0 (pc := 136) C dX2_tellsFar_136 ?_
                      refine r_V0io (pc := 137) C (l_nearestUnmarked (by exact hL) (lv_FH hL hv) hW (f := (rlK σ m kk (f kk + gcost σ k kk) f 4)) (b := mark b kk) (fun j hj => ⟨(congrFun (FH_15 hL) j).trans (hκ j hj), rlK_le (by omega) (fun c hc => hDJ.2.1 c hc) (by omega)⟩) (fun j hj => (congrFun FH_17 j).trans (up_mark hb1 j hj))) vl_X2_141 (ly_g hL) (by decide) (Nat.le_refl _) (Nat.le_refl _) (Nat.le_of_ble_eq_true rfl) rfl dX2_tellsFar_137 (fun u8 A8 hc8 => ?_)
                      refine r_top hc8.1 ?_
                      refine r_eqA hc8.2 ?_
                      clear hc8 A8 u8
                      refine r_istore_3 (pc := 140) C dX2_tellsFar_140 rfl ?_
                      refine r_goto (pc := 141) (tgt := 50) C dX2_tellsFar_141 (by decide) ?_
                      refine r_forget (lv' := [some _, some _, some _, some _, none, none, none]) ⟨rfl, rfl, rfl, rfl, trivial⟩ ?_
                      exact ih50 (rlK σ m kk (f kk + gcost σ k kk) f 4) (mark b kk) _ _ hκ (up_mark hb1) (DJ.mk (DJ.step hW hDJ (by omega) hkb hkf hmin)) (by have := mark_cnt (C := rC σ) hkC hkb; omega)
                    · skip
                      have b83 := (not_congr (nI_le2 (by omega) (by omega))).mp b83
                      refine r_aload_0 (pc := 86) C dX2_tellsFar_86 ?_
                      refine r_iload_3 (pc := 87) C dX2_tellsFar_87 ?_
                      refine r_iload_5 (pc := 88) C dX2_tellsFar_88 ?_
                      refine r_V2io (pc := 90) C (l_next (by exact hL) (lv_FH hL hv) hW hkC (by omega)) vl_X2_148 (ly_g hL) (by decide) (Nat.le_refl _) (Nat.le_refl _) (Nat.le_of_ble_eq_true rfl) rfl dX2_tellsFar_90 (fun u9 A9 hc9 => ?_)
                      refine r_top hc9.1 ?_
                      refine r_eqA hc9.2 ?_
                      clear hc9 A9 u9
                      refine r_istore_6 (pc := 93) C dX2_tellsFar_93 rfl ?_
                      rcases hnb : nb (rW σ) (rH σ) kk s with _ | n
                      · skip
                        refine r_eqL (lv' := [some (.ref a), some (.ref (d (30 + k))), some (.ref q), some (.int (nI kk)), some (.int (nI (f kk + gcost σ k kk))), some (.int (nI s)), some (.int (-1))]) rfl ?_
                        refine r_iload_6 (pc := 95) C dX2_tellsFar_95 ?_
                        refine r_iconst (pc := 97) C dX2_tellsFar_97 ci_m1 ?_
                        refine r_icmp_eq (pc := 98) (tgt := 130) C dX2_tellsFar_98 (by decide) (fun b98 => ?_) (fun b98 => ?_)
                        · skip
                          refine r_iinc_5 (pc := 130) C dX2_tellsFar_130 (nI_inc _) rfl ?_
                          refine r_goto (pc := 133) (tgt := 80) C dX2_tellsFar_133 (by decide) ?_
                          refine r_forget (lv' := [some _, some _, some _, some _, some _, some _, none]) ⟨rfl, rfl, rfl, rfl, rfl, rfl, trivial⟩ ?_
                          exact ih80 (s + 1) _ (by omega) (by first | (rw [rlK_n hnb]; exact hκ) | (rw [rlK_c hnb ‹_›]; exact hκ) | (rw [rlK_o hnb ‹_›]; exact up_lower hκ)) (by omega)
                        · exact absurd b98 (by decide +kernel)
                      · skip
                        refine r_eqL (lv' := [some (.ref a), some (.ref (d (30 + k))), some (.ref q), some (.int (nI kk)), some (.int (nI (f kk + gcost σ k kk))), some (.int (nI s)), some (.int (nI n))]) rfl ?_
                        have hn := nb_lt (show 0 < rW σ by omega) hkC hnb
                        have hn : n < rC σ := hn
                        refine r_iload_6 (pc := 95) C dX2_tellsFar_95 ?_
                        refine r_iconst (pc := 97) C dX2_tellsFar_97 ci_m1 ?_
                        refine r_icmp_eq (pc := 98) (tgt := 130) C dX2_tellsFar_98 (by decide) (fun b98 => ?_) (fun b98 => ?_)
                        · skip
                          exact absurd b98 (nI_m1 (by omega))
                        · skip
                          refine r_aload_2 (pc := 101) C dX2_tellsFar_101 ?_
                          refine r_aload_0 (pc := 102) C dX2_tellsFar_102 ?_
                          refine r_iload_6 (pc := 103) C dX2_tellsFar_103 ?_
                          refine r_isOpen (pc := 105) (d := d) C hG hm hL (lv_FH hL hv) hW hC hn (by decide) (Nat.le_refl _) (Nat.le_refl _) (Nat.le_of_ble_eq_true rfl) rfl dX2_tellsFar_105 ?_
                          refine r_if_eq (pc := 108) (tgt := 130) C dX2_tellsFar_108 (by decide) (fun b108 => ?_) (fun b108 => ?_)
                          · skip
                            have b108 := bI_0.mp b108
                            refine r_iinc_5 (pc := 130) C dX2_tellsFar_130 (nI_inc _) rfl ?_
                            refine r_goto (pc := 133) (tgt := 80) C dX2_tellsFar_133 (by decide) ?_
                            refine r_forget (lv' := [some _, some _, some _, some _, some _, some _, none]) ⟨rfl, rfl, rfl, rfl, rfl, rfl, trivial⟩ ?_
                            exact ih80 (s + 1) _ (by omega) (by first | (rw [rlK_n hnb]; exact hκ) | (rw [rlK_c hnb ‹_›]; exact hκ) | (rw [rlK_o hnb ‹_›]; exact up_lower hκ)) (by omega)
                          · skip
                            have b108 := bI_n.mp b108
                            refine r_aload_0 (pc := 111) C dX2_tellsFar_111 ?_
                            refine r_getR (pc := 112) C fl_X2_66_2 (ly_g hL) rfl (ly_rf hL 15 (by decide)) dX2_tellsFar_112 ?_
                            refine r_iload_6 (pc := 115) C dX2_tellsFar_115 ?_
                            refine r_aload_0 (pc := 117) C dX2_tellsFar_117 ?_
                            refine r_getR (pc := 118) C fl_X2_66_2 (ly_g hL) rfl (ly_rf hL 15 (by decide)) dX2_tellsFar_118 ?_
                            refine r_iload_6 (pc := 121) C dX2_tellsFar_121 ?_
                            refine r_iald (pc := 123) C (ly_gf hL 15 (by decide)) rfl rfl (lt_eq (by omega) (ly_nf hL 15 (by decide) (by decide))) (by omega) dX2_tellsFar_123 ?_
                            refine r_top ((congrFun (FH_15 hL) _).trans (hκ n hn)) ?_
                            refine r_iload_4 (pc := 124) C dX2_tellsFar_124 ?_
                            have hrl : rlK σ m kk (f kk + gcost σ k kk) f s n ≤ 1000000 := rlK_le hs (fun c hc => hDJ.2.1 c hc) (by omega)
                            refine r_min (pc := 126) C q1027 rfl (Nat.le_of_ble_eq_true rfl) (by decide) (Nat.le_refl _) (Nat.le_refl _) dX2_tellsFar_126 ?_
                            refine r_top (nI_min (by omega) (by omega)) ?_
                            refine r_top (congrArg nI (if_min _ _)) ?_
                            refine r_iast (pc := 129) C (ly_gf hL 15 (by decide)) rfl rfl (lt_eq (by omega) (ly_nf hL 15 (by decide) (by decide))) (by omega) dX2_tellsFar_129 ?_
                            refine r_eqA (FH_w15 hL _ _) ?_
                            refine r_iinc_5 (pc := 130) C dX2_tellsFar_130 (nI_inc _) rfl ?_
                            refine r_goto (pc := 133) (tgt := 80) C dX2_tellsFar_133 (by decide) ?_
                            refine r_forget (lv' := [some _, some _, some _, some _, some _, some _, none]) ⟨rfl, rfl, rfl, rfl, rfl, rfl, trivial⟩ ?_
                            exact ih80 (s + 1) _ (by omega) (by first | (rw [rlK_n hnb]; exact hκ) | (rw [rlK_c hnb ‹_›]; exact hκ) | (rw [rlK_o hnb ‹_›]; exact up_lower hκ)) (by omega)
                exact lp80_7 _ 0 _ (by omega) hf1 (Nat.lt_succ_self _)
        exact lp50_4 _ _ _ _ _ hf0 hb0 hD0 (Nat.lt_succ_self _)
      · skip
        have b7 := (not_congr (nI_le2 (by omega) (by omega))).mp b7
        refine r_aload_0 (pc := 10) C dX2_tellsFar_10 ?_
        refine r_getR (pc := 11) C fl_X2_66_2 (ly_g hL) rfl (ly_rf hL 15 (by decide)) dX2_tellsFar_11 ?_
        refine r_iload_3 (pc := 14) C dX2_tellsFar_14 ?_
        refine r_ldc (pc := 15) (v := nI 1000000) C (by have h9 := q986; rwa [show (1000000 : Int32) = nI 1000000 by decide +kernel] at h9) dX2_tellsFar_15 ?_
        refine r_iast (pc := 17) C (ly_gf hL 15 (by decide)) rfl rfl (lt_eq (by omega) (ly_nf hL 15 (by decide) (by decide))) (by omega) dX2_tellsFar_17 ?_
        refine r_eqA (FH_w15 hL _ _) ?_
        refine r_aload_0 (pc := 18) C dX2_tellsFar_18 ?_
        refine r_getR (pc := 19) C fl_X2_72_2 (ly_g hL) rfl (ly_rf hL 17 (by decide)) dX2_tellsFar_19 ?_
        refine r_iload_3 (pc := 22) C dX2_tellsFar_22 ?_
        refine r_iconst (pc := 23) C dX2_tellsFar_23 ci_0 ?_
        refine r_zast (pc := 24) C (ly_gf hL 17 (by decide)) rfl rfl (lt_eq (by omega) (ly_nf hL 17 (by decide) (by decide))) (by omega) nar_0 dX2_tellsFar_24 ?_
        refine r_eqA (FH_w17 _ _) ?_
        refine r_iinc_3 (pc := 25) C dX2_tellsFar_25 (nI_inc _) rfl ?_
        refine r_goto (pc := 28) (tgt := 2) C dX2_tellsFar_28 (by decide) ?_
        exact ih2 (c + 1) _ _ (by omega) (fun j hj => if q9 : j = c then by rw [q9, pk_us, pk_us]; exact ⟨rfl, rfl⟩ else by rw [pk_un q9, pk_un q9]; exact hz j (by omega)) (by omega)
  refine r_eqA (FH_self hL) ?_
  exact lp2_1 _ 0 _ _ (Nat.zero_le _) (fun j hj => absurd hj (Nat.not_lt_zero _)) (Nat.lt_succ_self _)
set_option maxHeartbeats 4000000 in
theorem l_goesOn {g : GZ} {A : HA} {a : Nat} {d : Nat → Nat} {σ : Rw} (hL : Ly A a d σ) (hv : Lv A.I a d σ) (hW : RowW σ) (hC : ∀ c, c < 80 → CelF σ c) {k c : Nat} {f : Nat → Nat} (hk : k < rK σ) (hc : c < rC σ) (hf : ∀ j, j < rC σ → A.I (d 15) j = nI (f j) ∧ f j ≤ 1000000) (ho : ∀ j, j < rC σ → opn σ 0 j → f j = dist σ k 0 j) (hcl : ∀ j, j < rC σ → ¬ opn σ 0 j → f j = 1000000) (hfc : ¬ fenced σ c) (hd : dist σ k 0 c < 1000000) (hg : c ≠ gC σ (wTo σ k)) : Ct g wI yX2_goesOn (.code yX2_goesOn cX2_goesOn 5 (Option.some Jvm.ClassFile.FieldType.int)) 3 0 0 [.ref a, .ref (d (30 + k)), .int (nI (c))] (A) (fun u A' => u = nI (dirT σ k c) ∧ A' = A) fw_no := by
  refine Ct.of [some (.ref a), some (.ref (d (30 + k))), some (.int (nI (c))), none, none] (by decide) rfl rfl fun z C hx hnm E => ?_
  have hS := hW.s
  have hw3 := hS.w3
  have hw10 := hS.w10
  have hh8 := hS.h8
  have hc80 := hS.c80
  have k6 := hW.k6
  have g6 := hW.g6
  have hfc9 := ho c hc (fc_opn hfc)
  have hnx := nxt_spec hW hc hd hg
  refine r_iconst (pc := 0) C dX2_goesOn_0 ci_0 ?_
  refine r_istore_3 (pc := 1) C dX2_goesOn_1 rfl ?_
  have lp2_1 : ∀ (fu : Nat) (s : Nat) (hs : s ≤ 4) (hno : ∀ j, j < s → cby σ (dist σ k 0) k 0 c j ≠ dist σ k 0 c), 4 - s < fu → wa g z 0 0 (A) 2 [some (.ref a), some (.ref (d (30 + k))), some (.int (nI (c))), some (.int (nI (s))), none] [] := by
    intro fu
    induction fu with
    | zero => intro s  hs hno hm2; exact absurd hm2 (Nat.not_lt_zero _)
    | succ fu ih2 =>
      intro s  hs hno hm2
      refine r_iload_3 (pc := 2) C dX2_goesOn_2 ?_
      refine r_iconst (pc := 3) C dX2_goesOn_3 ci_4 ?_
      refine r_icmp_ge (pc := 4) (tgt := 63) C dX2_goesOn_4 (by decide) (fun b4 => ?_) (fun b4 => ?_)
      · skip
        have b4 := (nI_le2 (by omega) (by omega)).mp b4
        refine r_iconst (pc := 63) C dX2_goesOn_63 ci_m1 ?_
        refine r_iret (pc := 64) C E rfl (Nat.le_refl _) (Nat.le_refl _) dX2_goesOn_64 ?_
        have e9 : s = 4 := by omega
        subst e9
        exact absurd hnx.2.2.1 (hno _ hnx.1)
      · skip
        have b4 := (not_congr (nI_le2 (by omega) (by omega))).mp b4
        refine r_aload_0 (pc := 7) C dX2_goesOn_7 ?_
        refine r_iload_2 (pc := 8) C dX2_goesOn_8 ?_
        refine r_iload_3 (pc := 9) C dX2_goesOn_9 ?_
        refine r_V2io (pc := 10) C (l_next hL hv hW hc (by omega)) vl_X2_148 (ly_g hL) (by decide) (Nat.le_refl _) (Nat.le_refl _) (Nat.le_of_ble_eq_true rfl) rfl dX2_goesOn_10 (fun u2 A2 hc2 => ?_)
        refine r_top hc2.1 ?_
        refine r_eqA hc2.2 ?_
        clear hc2 A2 u2
        refine r_istore_4 (pc := 13) C dX2_goesOn_13 rfl ?_
        rcases hnb : nb (rW σ) (rH σ) c s with _ | n
        · skip
          refine r_eqL (lv' := [some (.ref a), some (.ref (d (30 + k))), some (.int (nI c)), some (.int (nI s)), some (.int (-1))]) rfl ?_
          refine r_iload_4 (pc := 15) C dX2_goesOn_15 ?_
          refine r_iconst (pc := 17) C dX2_goesOn_17 ci_m1 ?_
          refine r_icmp_eq (pc := 18) (tgt := 57) C dX2_goesOn_18 (by decide) (fun b18 => ?_) (fun b18 => ?_)
          · skip
            refine r_iinc_3 (pc := 57) C dX2_goesOn_57 (nI_inc _) rfl ?_
            refine r_goto (pc := 60) (tgt := 2) C dX2_goesOn_60 (by decide) ?_
            have hno9 : cby σ (dist σ k 0) k 0 c s ≠ dist σ k 0 c := by rw [cby_not (fun n9 h => by rw [hnb] at h; cases h) (fun n9 h => by rw [hnb] at h; cases h)]; omega
            refine r_forget (lv' := [some _, some _, some _, some _, none]) ⟨rfl, rfl, rfl, rfl, trivial⟩ ?_
            exact ih2 (s + 1) (by omega) (fun j hj => if q9 : j = s then by rw [q9]; exact hno9 else hno j (by omega)) (by omega)
          · exact absurd b18 (by decide +kernel)
        · skip
          refine r_eqL (lv' := [some (.ref a), some (.ref (d (30 + k))), some (.int (nI c)), some (.int (nI s)), some (.int (nI n))]) rfl ?_
          have hn : n < rC σ := nb_lt (show 0 < rW σ by omega) hc hnb
          have hgc := gcost_le (w := k) hW (show n < 80 by omega)
          have hfn := (hf n hn).2
          have hfcc := (hf c hc).2
          refine r_iload_4 (pc := 15) C dX2_goesOn_15 ?_
          refine r_iconst (pc := 17) C dX2_goesOn_17 ci_m1 ?_
          refine r_icmp_eq (pc := 18) (tgt := 57) C dX2_goesOn_18 (by decide) (fun b18 => ?_) (fun b18 => ?_)
          · skip
            exact absurd b18 (nI_m1 (by omega))
          · skip
            refine r_aload_0 (pc := 21) C dX2_goesOn_21 ?_
            refine r_getR (pc := 22) C fl_X2_59_2 (ly_g hL) rfl (ly_rf hL 10 (by decide)) dX2_goesOn_22 ?_
            refine r_iload_4 (pc := 25) C dX2_goesOn_25 ?_
            refine r_zald (pc := 27) C (ly_gf hL 10 (by decide)) rfl rfl (lt_eq (by omega) (ly_nf hL 10 (by decide) (by decide))) (by omega) dX2_goesOn_27 ?_
            refine r_top ((hv.fence hn).trans (fen_bI (hC n (by omega)))) ?_
            refine r_if_ne (pc := 28) (tgt := 57) C dX2_goesOn_28 (by decide) (fun b28 => ?_) (fun b28 => ?_)
            · skip
              have b28 := bI_n.mp b28
              refine r_iinc_3 (pc := 57) C dX2_goesOn_57 (nI_inc _) rfl ?_
              refine r_goto (pc := 60) (tgt := 2) C dX2_goesOn_60 (by decide) ?_
              have hno9 : cby σ (dist σ k 0) k 0 c s ≠ dist σ k 0 c := by
                by_cases qf : fenced σ n
                · rw [cby_not (fun n9 h => by rw [hnb] at h; cases h; exact cel_f (hC n (by omega))) (fun n9 h => by rw [hnb] at h; cases h; exact Or.inl qf)]; omega
                · rcases Nat.lt_or_ge (dist σ k 0 n) 1000000 with q9 | q9
                  · rw [cby_dj (cel_f (hC n (by omega))) hnb qf q9]; have h9 := ho n hn (fc_opn qf); first | exact absurd ‹fenced σ n› qf | omega
                  · rw [cby_not (fun n9 h => by rw [hnb] at h; cases h; exact cel_f (hC n (by omega))) (fun n9 h => by rw [hnb] at h; cases h; exact Or.inr q9)]; omega
              refine r_forget (lv' := [some _, some _, some _, some _, none]) ⟨rfl, rfl, rfl, rfl, trivial⟩ ?_
              exact ih2 (s + 1) (by omega) (fun j hj => if q9 : j = s then by rw [q9]; exact hno9 else hno j (by omega)) (by omega)
            · skip
              have b28 := bI_0.mp b28
              refine r_aload_0 (pc := 31) C dX2_goesOn_31 ?_
              refine r_getR (pc := 32) C fl_X2_66_2 (ly_g hL) rfl (ly_rf hL 15 (by decide)) dX2_goesOn_32 ?_
              refine r_iload_4 (pc := 35) C dX2_goesOn_35 ?_
              refine r_iald (pc := 37) C (ly_gf hL 15 (by decide)) rfl rfl (lt_eq (by omega) (ly_nf hL 15 (by decide) (by decide))) (by omega) dX2_goesOn_37 ?_
              refine r_top (hf n hn).1 ?_
              refine r_aload_0 (pc := 38) C dX2_goesOn_38 ?_
              refine r_aload_1 (pc := 39) C dX2_goesOn_39 ?_
              refine r_iload_4 (pc := 40) C dX2_goesOn_40 ?_
              refine r_V2io (pc := 42) C (l_costOf hL hv hW hk hn) vl_X2_144 (ly_g hL) (by decide) (Nat.le_refl _) (Nat.le_refl _) (Nat.le_of_ble_eq_true rfl) rfl dX2_goesOn_42 (fun u3 A3 hc3 => ?_)
              refine r_top hc3.1 ?_
              refine r_eqA hc3.2 ?_
              clear hc3 A3 u3
              refine r_iadd (pc := 45) C dX2_goesOn_45 ?_
              refine r_top (nI_add _ _) ?_
              refine r_aload_0 (pc := 46) C dX2_goesOn_46 ?_
              refine r_getR (pc := 47) C fl_X2_66_2 (ly_g hL) rfl (ly_rf hL 15 (by decide)) dX2_goesOn_47 ?_
              refine r_iload_2 (pc := 50) C dX2_goesOn_50 ?_
              refine r_iald (pc := 51) C (ly_gf hL 15 (by decide)) rfl rfl (lt_eq (by omega) (ly_nf hL 15 (by decide) (by decide))) (by omega) dX2_goesOn_51 ?_
              refine r_top (hf c hc).1 ?_
              refine r_icmp_ne (pc := 52) (tgt := 57) C dX2_goesOn_52 (by decide) (fun b52 => ?_) (fun b52 => ?_)
              · skip
                have b52 := (not_congr (nI_eqI (by omega) (by omega))).mp b52
                refine r_iinc_3 (pc := 57) C dX2_goesOn_57 (nI_inc _) rfl ?_
                refine r_goto (pc := 60) (tgt := 2) C dX2_goesOn_60 (by decide) ?_
                have hno9 : cby σ (dist σ k 0) k 0 c s ≠ dist σ k 0 c := by
                  by_cases qf : fenced σ n
                  · rw [cby_not (fun n9 h => by rw [hnb] at h; cases h; exact cel_f (hC n (by omega))) (fun n9 h => by rw [hnb] at h; cases h; exact Or.inl qf)]; omega
                  · rcases Nat.lt_or_ge (dist σ k 0 n) 1000000 with q9 | q9
                    · rw [cby_dj (cel_f (hC n (by omega))) hnb qf q9]; have h9 := ho n hn (fc_opn qf); first | exact absurd ‹fenced σ n› qf | omega
                    · rw [cby_not (fun n9 h => by rw [hnb] at h; cases h; exact cel_f (hC n (by omega))) (fun n9 h => by rw [hnb] at h; cases h; exact Or.inr q9)]; omega
                refine r_forget (lv' := [some _, some _, some _, some _, none]) ⟨rfl, rfl, rfl, rfl, trivial⟩ ?_
                exact ih2 (s + 1) (by omega) (fun j hj => if q9 : j = s then by rw [q9]; exact hno9 else hno j (by omega)) (by omega)
              · skip
                have b52 := (nI_eqI (by omega) (by omega)).mp b52
                refine r_iload_3 (pc := 55) C dX2_goesOn_55 ?_
                refine r_iret (pc := 56) C E rfl (Nat.le_refl _) (Nat.le_refl _) dX2_goesOn_56 ?_
                refine ⟨?_, rfl⟩
                have h9 := ho n hn (fc_opn b28)
                have h8 := cby_dj (σ := σ) (w := k) (cel_f (hC n (by omega))) hnb b28 (by omega)
                exact congrArg nI (fstT_of (by omega) (by rw [h8]; omega) (fun j hj => hno j hj)).symm
  exact lp2_1 _ 0 (by omega) (fun j hj => absurd hj (Nat.not_lt_zero _)) (Nat.lt_succ_self _)
set_option maxHeartbeats 4000000 in
theorem l_hasWays {g : GZ} {A : HA} {a : Nat} {d : Nat → Nat} {σ : Rw} (hL : Ly A a d σ) (hv : Lv A.I a d σ) (hW : RowW σ) (hC : ∀ c, c < 80 → CelF σ c) (hK : GK σ) (hG : GdK g) : Ct g wI yX2_hasWays (.code yX2_hasWays cX2_hasWays 2 (Option.some Jvm.ClassFile.FieldType.boolean)) 8 0 0 [.ref a] (A) (fun u A' => (∃ κ μ, A' = FH A d κ μ) ∧ u = bI (ways σ)) fw_no := by
  refine Ct.of [some (.ref a), none] (by decide) rfl rfl fun z C hx hnm E => ?_
  have hS := hW.s
  have hw3 := hS.w3
  have hw10 := hS.w10
  have hh8 := hS.h8
  have hc80 := hS.c80
  have k6 := hW.k6
  have g6 := hW.g6
  refine r_iconst (pc := 0) C dX2_hasWays_0 ci_0 ?_
  refine r_istore_1 (pc := 1) C dX2_hasWays_1 rfl ?_
  have lp2_1 : ∀ (fu : Nat) (k : Nat) (κ1 μ1 : Nat → Int32) (hk : k ≤ rK σ) (hy : ∀ j, j < k → dist σ j 0 (gC σ (wFr σ j)) < 1000000), rK σ - k < fu → wa g z 0 0 (FH A d κ1 μ1) 2 [some (.ref a), some (.int (nI (k)))] [] := by
    intro fu
    induction fu with
    | zero => intro k  κ1 μ1  hk hy hm2; exact absurd hm2 (Nat.not_lt_zero _)
    | succ fu ih2 =>
      intro k  κ1 μ1  hk hy hm2
      refine r_iload_1 (pc := 2) C dX2_hasWays_2 ?_
      refine r_aload_0 (pc := 3) C dX2_hasWays_3 ?_
      refine r_getR (pc := 4) C fl_X2_31_2 (ly_g hL) rfl (ly_r12 hL) dX2_hasWays_4 ?_
      refine r_V0io (pc := 7) C (j_X3_size (ly_g12 hL) (ly_r20 hL) (ly_g20 hL) ((lv_FH hL hv).nk.trans hW.k)) vl_X2_85 (ly_g12 hL) (by decide) (Nat.le_refl _) (Nat.le_refl _) (Nat.le_of_ble_eq_true rfl) rfl dX2_hasWays_7 (fun u2 A2 hc2 => ?_)
      refine r_top hc2.1 ?_
      refine r_eqA hc2.2 ?_
      clear hc2 A2 u2
      refine r_icmp_ge (pc := 10) (tgt := 38) C dX2_hasWays_10 (by decide) (fun b10 => ?_) (fun b10 => ?_)
      · skip
        have b10 := (nI_le2 (by omega) (by omega)).mp b10
        refine r_iconst (pc := 38) C dX2_hasWays_38 ci_1 ?_
        refine r_iret (pc := 39) C E nar_1 (Nat.le_refl _) (Nat.le_refl _) dX2_hasWays_39 ?_
        have e9 : k = rK σ := by omega
        subst e9
        exact ⟨⟨_, _, rfl⟩, bI_1 hy⟩
      · skip
        have b10 := (not_congr (nI_le2 (by omega) (by omega))).mp b10
        refine r_aload_0 (pc := 13) C dX2_hasWays_13 ?_
        refine r_aload_0 (pc := 14) C dX2_hasWays_14 ?_
        refine r_iload_1 (pc := 15) C dX2_hasWays_15 ?_
        refine r_V1ro (pc := 16) C (l_walker (by exact hL) (lv_FH hL hv) hW (k := k) (by omega)) vl_X2_89 (ly_g hL) (by decide) (Nat.le_refl _) (Nat.le_refl _) (Nat.le_of_ble_eq_true rfl) rfl dX2_hasWays_16 (fun u3 A3 hc3 => ?_)
        refine r_topR hc3.1 ?_
        refine r_eqA hc3.2 ?_
        clear hc3 A3 u3
        refine r_getS (pc := 19) C (hG 0 (by omega)).1 q1033 dX2_hasWays_19 ?_
        refine r_V2io (pc := 22) C (l_tellsFar (by exact hL) (lv_FH hL hv) hW hC hK (by omega) (by omega) (hG 0 (by omega)).2) vl_X2_170 (ly_g hL) (by decide) (Nat.le_refl _) (Nat.le_refl _) (Nat.le_of_ble_eq_true rfl) rfl dX2_hasWays_22 (fun u4 A4 hc4 => ?_)
        obtain ⟨⟨fL4, κL4, μL4, eA4, hκ4, hfo4, hfc4⟩, eu4⟩ := hc4
        refine r_top eu4 ?_
        refine r_eqA (eA4.trans (FH_FH hL)) ?_
        clear eu4 eA4 A4 u4
        have hd9 : dist σ k 0 (gC σ (wFr σ k)) ≤ 1000000 := (dist_S hW).1 _ (Nat.lt_of_lt_of_le (gC_lt hS (hW.G (hW.K (show k < rK σ by omega)).1.2)) (by omega))
        refine r_ldc (pc := 25) (v := nI 1000000) C (by have h9 := q986; rwa [show (1000000 : Int32) = nI 1000000 by decide +kernel] at h9) dX2_hasWays_25 ?_
        refine r_icmp_lt (pc := 27) (tgt := 32) C dX2_hasWays_27 (by decide) (fun b27 => ?_) (fun b27 => ?_)
        · skip
          have b27 := (nI_lt2 (by omega) (by omega)).mp b27
          refine r_iinc_1 (pc := 32) C dX2_hasWays_32 (nI_inc _) rfl ?_
          refine r_goto (pc := 35) (tgt := 2) C dX2_hasWays_35 (by decide) ?_
          exact ih2 (k + 1) _ _ (by omega) (fun j hj => if q9 : j = k then by rw [q9]; omega else hy j (by omega)) (by omega)
        · skip
          have b27 := (not_congr (nI_lt2 (by omega) (by omega))).mp b27
          refine r_iconst (pc := 30) C dX2_hasWays_30 ci_0 ?_
          refine r_iret (pc := 31) C E nar_0 (Nat.le_refl _) (Nat.le_refl _) dX2_hasWays_31 ?_
          exact ⟨⟨_, _, rfl⟩, bI_00 (fun q => absurd (q k (by omega)) (by omega))⟩
  refine r_eqA (FH_self hL) ?_
  exact lp2_1 _ 0 _ _ (Nat.zero_le _) (fun j hj => absurd hj (Nat.not_lt_zero _)) (Nat.lt_succ_self _)
