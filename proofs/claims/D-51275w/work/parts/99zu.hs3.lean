/-! THE COMPONENT, 28: constants of the start; hashed strings; reading told by text states -/
set_option maxRecDepth 100000
section
variable {g : GZ} {z : ZX} {k n : Nat} {A : HA} {pc : Nat} {lv : List (Option Value)} {st : List Value}
theorem r_old (kk : fw_old g A → wa g z k n A pc lv st) : wa g z k n A pc lv st := fun H locs ls hR => kk hR.2.2.2.1 H locs ls hR
end
theorem StrV.old {g : GZ} {A : HA} {a v n : Nat} {f : Nat → Nat} (h : StrV g.A a v f n) (ha : a < g.b) (hv : v < g.b) (ho : fw_old g A) : StrV A a v f n := by
  obtain ⟨a1, a2, a3, a4, a5⟩ := ho a ha
  obtain ⟨b1, b2, b3, b4, b5⟩ := ho v hv
  unfold StrV at h ⊢
  rw [a1, a2, a3, b1, b2, b5]
  exact h
theorem HsS.old {g : GZ} {A : HA} {a n : Nat} {f : Nat → Nat} (h : HsS g g.A a f n) (ha : a < g.b) (ho : fw_old g A) : HsS g A a f n := by
  obtain ⟨a1, a2, a3, a4, a5⟩ := ho a ha
  unfold HsS at h ⊢
  rw [a2]
  exact h
theorem HsS.cong {g : GZ} {A : HA} {a n : Nat} {f l : Nat → Nat} (h : HsS g A a f n) (hf : ∀ i, i < n → f i = l i) : HsS g A a l n := by
  unfold HsS at h ⊢
  rw [← hsh_cong hf]
  exact h
/-- a string constant of a class, as it stands at the start -/
def WkG (g : GZ) (own : String) (ix : Nat) (tx : String) (l : List Nat) : Prop := ∃ q v, SK g own ix tx q ∧ StrV g.A q v (chs l) l.length ∧ q < g.b ∧ v < g.b
/-- the empty text at the start -/
def EmK (g : GZ) : Prop := ∃ v, StrV g.A (g.c 67) v (fun _ => 0) 0 ∧ g.c 67 < g.b ∧ v < g.b ∧ HsS g g.A (g.c 67) (fun _ => 0) 0
theorem EmK.rd {g : GZ} {A : HA} (h : EmK g) (ho : fw_old g A) : RdK g A := by
  obtain ⟨v, h1, h2, h3, h4⟩ := h
  exact ⟨v, h1.old h2 h3 ho⟩
theorem WkG.n {g : GZ} {A : HA} {own : String} {ix : Nat} {tx : String} {l : List Nat} (h : WkG g own ix tx l) (ho : fw_old g A) {w : Nat} (hw : g.b ≤ w) : wkN g A w own ix tx l := by
  obtain ⟨q, v, h1, h2, h3, h4⟩ := h
  exact ⟨q, v, h1, h2.old h3 h4 ho, by omega⟩
theorem WkG.m {g : GZ} {A : HA} {own : String} {ix : Nat} {tx : String} {l : List Nat} (h : WkG g own ix tx l) (he : EmK g) (hl : 0 < l.length) (ho : fw_old g A) : wkN g A (g.c 67) own ix tx l := by
  obtain ⟨q, v, h1, h2, h3, h4⟩ := h
  refine ⟨q, v, h1, h2.old h3 h4 ho, fun e => ?_⟩
  obtain ⟨u, k1, k2, k3, k4⟩ := he
  rw [e] at h2
  have e1 : v = u := Option.some.inj (h2.r.symm.trans k1.r)
  have e2 := h2.n'
  have e3 := k1.n'
  rw [e1] at e2
  omega
theorem WkG.w {g : GZ} {A : HA} {own : String} {ix : Nat} {tx : String} {l : List Nat} (h : WkG g own ix tx l) (he : EmK g) (hl : 0 < l.length) (ho : fw_old g A) {w : Nat} (hw : g.b ≤ w ∨ w = g.c 67) : wkN g A w own ix tx l := by
  rcases hw with q | q
  · exact h.n ho q
  · rw [q]; exact h.m he hl ho
/-- the constants of the orders' words -/
def RdC (g : GZ) : Prop := EmK g ∧ (WkG g "LawnPaths" 127 "run" wRun ∧ WkG g "LawnPaths" 133 "fence" wFence ∧ WkG g "LawnPaths" 135 "open" wOpen ∧ WkG g "LawnPaths" 137 "pave" wPave ∧ WkG g "LawnPaths" 139 "sow" wSow ∧ WkG g "LawnPaths" 141 "haste" wHaste ∧ WkG g "LawnPaths" 143 "turn" wTurn) ∧
  WkG g "LawnPaths$TextReader" 240 "run" wRun ∧ WkG g "LawnPaths$TextReader" 242 "haste" wHaste ∧ WkG g "LawnPaths$TextReader" 244 "turn" wTurn ∧ WkG g "LawnPaths$TextReader" 202 "fence" wFence ∧ WkG g "LawnPaths$TextReader" 273 "open" wOpen ∧ WkG g "LawnPaths$TextReader" 275 "pave" wPave
theorem RdC.act {g : GZ} {A : HA} (h : RdC g) (ho : fw_old g A) {w : Nat} (hw : g.b ≤ w ∨ w = g.c 67) : ActK g A w := by
  obtain ⟨he, ⟨h1, h2, h3, h4, h5, h6, h7⟩, -⟩ := h
  exact ⟨h1.w he (by decide) ho hw, h2.w he (by decide) ho hw, h3.w he (by decide) ho hw, h4.w he (by decide) ho hw, h5.w he (by decide) ho hw, h6.w he (by decide) ho hw, h7.w he (by decide) ho hw⟩
/-! a string whose hash was asked -/
section
variable {g : GZ} {A D : HA} {w v n : Nat} {f : Nat → Nat}
theorem StrV.zl (h : StrV A w v f n) (hz : Zk A) : w < A.z ∧ v < A.z := by
  refine ⟨hz.lt h.g rfl, ?_⟩
  rcases Nat.lt_or_ge v A.z with q | q
  · exact q
  · have h9 := hz v q
    have hk := h.k
    simp only [isBy, Bool.and_eq_true, decide_eq_true_eq] at hk
    omega
theorem StrV.hs (hA : StrV A w v f n) (hD : StrV D w v f n) (hG : Gw A D (fun y => y = w)) (hz : Zk A) {a u m : Nat} {l : Nat → Nat} (h : StrV A a u l m) : StrV D a u l m := by
  by_cases q : a = w
  · subst q
    have e : u = v := Option.some.inj (h.r.symm.trans hA.r)
    subst e
    have e2 : n = m := hA.n'.symm.trans h.n'
    have nv : u ≠ a := h.lv h.g
    refine ⟨hD.g, hD.r, hD.k, hD.n'.trans e2, h.l, fun k hk => ⟨?_, h.b hk⟩, hD.c⟩
    rw [((hG.2 u (h.zl hz).2).2.2 nv).2.1]
    exact h.i hk
  · exact h.gw hz hG q (h.lv hA.g)
theorem WrS.hs (hA : StrV A w v f n) (hD : StrV D w v f n) (hH : HsS g D w f n) (hG : Gw A D (fun y => y = w)) (hz : Zk A) {a u m : Nat} {l : Nat → Nat} (h : WrS g A a u l m) : WrS g D a u l m := by
  have hu := (h.1.zl hz).2
  have ha := (h.1.zl hz).1
  refine ⟨hA.hs hD hG hz h.1, h.2.1, by rw [(hG.2 u hu).1]; exact h.2.2.1, ?_⟩
  by_cases q : a = w
  · subst q
    have e : u = v := Option.some.inj (h.1.r.symm.trans hA.r)
    subst e
    have e2 : n = m := hA.n'.symm.trans h.1.n'
    subst e2
    refine hH.cong (fun i hi => ?_)
    have b1 := hA.b hi
    have b2 := h.1.b hi
    exact nI_inj (by omega) (by omega) ((hA.i hi).symm.trans (h.1.i hi))
  · have e := ((hG.2 a ha).2.2 q).2.1
    have h3 := h.2.2.2
    unfold HsS at h3 ⊢
    rw [e]
    exact h3
theorem NmS.hs (hA : StrV A w v f n) (hD : StrV D w v f n) (hG : Gw A D (fun y => y = w)) (hz : Zk A) {nm o : Nat} {σ : Rw} (h : NmS A nm σ o) : NmS D nm σ o := by
  obtain ⟨u, l, m, h1, h2, ⟨h3, h4, h5⟩, h6⟩ := h
  exact ⟨u, l, m, hA.hs hD hG hz h1, h2, ⟨h3, h4, by rw [(hG.2 u (h1.zl hz).2).1]; exact h5⟩, h6⟩
theorem NmK.hs (hA : StrV A w v f n) (hD : StrV D w v f n) (hG : Gw A D (fun y => y = w)) (hz : Zk A) {a : Nat} {d : Nat → Nat} {σ : Rw} (hL : Ly A a d σ) (h : NmK A d σ) : NmK D d σ := by
  have hR : ∀ y, Fp a d (rK σ) (rG σ) y → D.R y = A.R y := fun y hy => by
    refine ((hG.2 y (fp_lt hz hL hy)).2.2 (fun e => ?_)).2.2
    have h3 := fp_k hL hy
    have h4 := hA.g
    rw [← e] at h4
    omega
  refine ⟨fun k hk => ?_, fun r hr => ?_⟩
  · obtain ⟨nm, h1, h2⟩ := h.1 k hk
    exact ⟨nm, by rw [hR _ (Or.inr (Or.inr (Or.inr (Or.inl ⟨k, hk, rfl⟩))))]; exact h1, h2.hs hA hD hG hz⟩
  · obtain ⟨nm, h1, h2⟩ := h.2 r hr
    exact ⟨nm, by rw [hR _ (Or.inr (Or.inr (Or.inr (Or.inr ⟨r, hr, rfl⟩))))]; exact h1, h2.hs hA hD hG hz⟩
theorem RdT.hs {r c bf L a : Nat} {B : Nat → Nat} (h : RdT g A r c bf L B a) (hz : Zk A) (hA : StrV A w v f n) (hD : StrV D w v f n) (hH : HsS g D w f n) (hG : Gw A D (fun y => y = w)) : RdT g D r c bf L B a := by
  obtain ⟨x, y, hs, hx, hy⟩ := h
  have k1 := hA.g
  have n1 : ¬ r = w := fun e => by have h1 := hs.1.1; rw [e, k1] at h1; cases h1
  have n2 : ¬ c = w := fun e => by have h1 := hs.2.1.1; rw [e, k1] at h1; cases h1
  have n3 : ¬ bf = w := fun e => by have h1 := hs.2.1.2.2.1; rw [e, k1] at h1; cases h1
  refine ⟨x, y, hs.gw hz hG n1 n2 n3, hx, ?_⟩
  rcases hy with ⟨u, h9⟩ | h9
  · exact Or.inl ⟨u, WrS.hs hA hD hH hG hz h9⟩
  · exact Or.inr h9
/-- the reader's word -/
theorem RdT.wd {r c bf L a : Nat} {B : Nat → Nat} (h : RdT g A r c bf L B a) (hC : EmK g) (ho : fw_old g A) : ∃ w v f, A.R r 4 = some w ∧ StrV A w v f (wln B L (skp B L a)) ∧ (∀ i, i < wln B L (skp B L a) → f i = B (skp B L a + i)) ∧ HsS g A w f (wln B L (skp B L a)) ∧ (g.b ≤ w ∨ w = g.c 67) := by
  obtain ⟨x, y, hs, hx, hy⟩ := h
  rcases hy with ⟨u, h9⟩ | ⟨h9, h8⟩
  · exact ⟨y, u, _, hs.2.2.2.2.1, h9.1, fun _ _ => rfl, h9.2.2.2, Or.inl h9.2.1⟩
  · obtain ⟨u, k1, k2, k3, k4⟩ := hC
    rw [h9]
    exact ⟨y, u, fun _ => 0, hs.2.2.2.2.1, by rw [h8]; exact k1.old k2 k3 ho, fun i hi => absurd hi (Nat.not_lt_zero _), by rw [h8]; exact k4.old k2 ho, Or.inr h8⟩
end
/-! reading, told by text states -/
section
variable {B : Nat → Nat} {L a lo hi v e p a' k : Nat} {s : TS} {σ : Rw} {q : Prop} {but : Int32}
theorem num_p (h : numR B L a lo hi = .inr (v, a')) : a' = skp B L a + dln B L (skp B L a) := by
  unfold numR at h
  split at h
  · cases h
  · split at h
    · cases h; rfl
    · cases h
theorem num_q (h : numR B L a lo hi = .inl (e, p)) : 1 ≤ e := by
  unfold numR at h
  split at h
  · cases h; exact Nat.le_refl _
  · split at h
    · cases h
    · cases h; omega
theorem numS_r (h0 : s.e = 0) (h : numR B L s.a lo hi = .inr (v, a')) : (numS B L lo hi s).e = 0 ∧ (numS B L lo hi s).a = a' ∧ numN B L lo hi s = v := by
  unfold numS numN
  rw [if_pos h0, if_pos h0, h]
  exact ⟨rfl, (num_p h).symm, rfl⟩
theorem numS_l (h0 : s.e = 0) (h : numR B L s.a lo hi = .inl (e, p)) : (numS B L lo hi s).e = e ∧ (numS B L lo hi s).p = nI p ∧ ¬ e = 0 := by
  have h1 := num_q h
  unfold numS
  rw [if_pos h0, h]
  exact ⟨rfl, rfl, by omega⟩
theorem numS_k (h : ¬ s.e = 0) : numS B L lo hi s = s := if_neg h
theorem nam_r (h : namR B L a = .inr p) : p = skp B L a ∧ 1 ≤ wln B L (skp B L a) ∧ wln B L (skp B L a) ≤ 6 := by
  unfold namR at h
  split at h
  · rename_i h1; cases h; exact ⟨rfl, h1⟩
  · cases h
theorem nam_q (h : namR B L a = .inl (e, p)) : 1 ≤ e := by
  unfold namR at h
  split at h
  · cases h
  · cases h; exact Nat.le_refl _
theorem fnd_p [Decidable q] (h : fndR σ B L a q but = .inr (k, a')) : (1 ≤ wln B L (skp B L a) ∧ wln B L (skp B L a) ≤ 6) ∧ a' = skp B L a + wln B L (skp B L a) := by
  unfold fndR at h
  cases hn : namR B L a with
  | inl x => rw [hn] at h; cases h
  | inr p =>
    rw [hn] at h
    obtain ⟨e1, e2⟩ := nam_r hn
    dsimp only at h
    cases hh : hereR σ B q p (wln B L p) with
    | none => rw [hh] at h; cases h
    | some j =>
      rw [hh] at h
      dsimp only at h
      split at h
      · cases h
      · cases h
        rw [e1]
        exact ⟨e2, rfl⟩
theorem fnd_q [Decidable q] (h : fndR σ B L a q but = .inl (e, p)) : 1 ≤ e := by
  unfold fndR at h
  cases hn : namR B L a with
  | inl x =>
    rw [hn] at h
    obtain ⟨x1, x2⟩ := x
    have h1 := nam_q hn
    cases h
    exact h1
  | inr p =>
    rw [hn] at h
    dsimp only at h
    cases hh : hereR σ B q p (wln B L p) with
    | none => rw [hh] at h; cases h; omega
    | some j =>
      rw [hh] at h
      dsimp only at h
      split at h
      · cases h; omega
      · cases h
theorem fndS_r [Decidable q] (h0 : s.e = 0) (h : fndR σ B L s.a q but = .inr (k, a')) : (fndS σ B L q but s).e = 0 ∧ (fndS σ B L q but s).a = a' ∧ fndN σ B L q but s = k := by
  obtain ⟨h1, h2⟩ := fnd_p h
  unfold fndS fndN
  rw [if_pos h0, if_pos h0, if_pos h1, h]
  exact ⟨rfl, h2.symm, rfl⟩
theorem fndS_l [Decidable q] (h0 : s.e = 0) (h : fndR σ B L s.a q but = .inl (e, p)) : (fndS σ B L q but s).e = e ∧ (fndS σ B L q but s).p = nI p ∧ ¬ e = 0 := by
  have h1 := fnd_q h
  unfold fndS
  rw [if_pos h0, h]
  exact ⟨rfl, rfl, by omega⟩
theorem fndS_k [Decidable q] (h : ¬ s.e = 0) : fndS σ B L q but s = s := if_neg h
theorem new_p [Decidable q] (h : newR σ B L a q = .inr a') : (1 ≤ wln B L (skp B L a) ∧ wln B L (skp B L a) ≤ 6) ∧ a' = skp B L a + wln B L (skp B L a) := by
  unfold newR at h
  cases hn : namR B L a with
  | inl x => rw [hn] at h; cases h
  | inr p =>
    rw [hn] at h
    obtain ⟨e1, e2⟩ := nam_r hn
    dsimp only at h
    cases hh : hereR σ B q p (wln B L p) with
    | none =>
      rw [hh] at h
      cases h
      rw [e1]
      exact ⟨e2, rfl⟩
    | some j => rw [hh] at h; cases h
theorem new_q [Decidable q] (h : newR σ B L a q = .inl (e, p)) : 1 ≤ e := by
  unfold newR at h
  cases hn : namR B L a with
  | inl x =>
    rw [hn] at h
    obtain ⟨x1, x2⟩ := x
    have h1 := nam_q hn
    cases h
    exact h1
  | inr p =>
    rw [hn] at h
    dsimp only at h
    cases hh : hereR σ B q p (wln B L p) with
    | none => rw [hh] at h; cases h
    | some j => rw [hh] at h; cases h; omega
theorem newS_r [Decidable q] (h0 : s.e = 0) (h : newR σ B L s.a q = .inr a') : (newS σ B L q s).e = 0 ∧ (newS σ B L q s).a = a' := by
  unfold newS
  rw [if_pos h0, h]
  exact ⟨rfl, (new_p h).2.symm⟩
theorem newS_l [Decidable q] (h0 : s.e = 0) (h : newR σ B L s.a q = .inl (e, p)) : (newS σ B L q s).e = e ∧ (newS σ B L q s).p = nI p ∧ ¬ e = 0 := by
  have h1 := new_q h
  unfold newS
  rw [if_pos h0, h]
  exact ⟨rfl, rfl, by omega⟩
theorem newS_k [Decidable q] (h : ¬ s.e = 0) : newS σ B L q s = s := if_neg h
theorem sgn_p {c : Nat} (h : sgnR B L a c = .inr a') : a' = skp B L a + 1 := by
  unfold sgnR at h
  split at h
  · cases h; rfl
  · cases h
theorem sgnS_r {c : Nat} (h0 : s.e = 0) (h : sgnR B L s.a c = .inr a') : (signS B L c s).e = 0 ∧ (signS B L c s).a = a' := by
  unfold signS
  rw [if_pos h0, h]
  exact ⟨rfl, (sgn_p h).symm⟩
theorem sgnS_l {c : Nat} (h0 : s.e = 0) (h : sgnR B L s.a c = .inl (e, p)) : (signS B L c s).e = e ∧ (signS B L c s).p = nI p ∧ ¬ e = 0 := by
  have h1 : 1 ≤ e := by
    have h2 := h
    unfold sgnR at h2
    split at h2
    · cases h2
    · cases h2; exact Nat.le_refl _
  unfold signS
  rw [if_pos h0, h]
  exact ⟨rfl, rfl, by omega⟩
theorem sgnS_k {c : Nat} (h : ¬ s.e = 0) : signS B L c s = s := if_neg h
theorem must_n [Decidable q] {c : Nat} (h : ¬ q) (h0 : s.e = 0) : (mustS q c s).e = c ∧ (mustS q c s).p = nI s.g := by
  have e1 : mustS q c s = (s.a, s.g, s.w, c, nI s.g) := if_neg (fun w => w.elim h (fun w => w h0))
  rw [e1]
  exact ⟨rfl, rfl⟩
theorem must_k [Decidable q] {c : Nat} (h : ¬ s.e = 0) : mustS q c s = s := if_pos (Or.inr h)
theorem wln_tk {p : Nat} (h : 1 ≤ wln B L p) : tkN B L p = 1 ∧ tkE B L p = p + wln B L p := by
  have h1 : tkN B L p = 1 := Classical.byContradiction fun q => by
    have := (tk_w (B := B) (L := L) (p := p)).2 q
    omega
  exact ⟨h1, (tk_w.1 h1).2⟩
theorem goes_nx (h : 1 ≤ wln B L (skp B L s.a)) : (goesS (nextS B L s)).a = nxE B L s.a := (wln_tk h).2.symm
theorem nxE_skp : nxE B L (skp B L a) = nxE B L a := by unfold nxE; rw [skp_skp]
/-- an error of a part of a reading is the reading's -/
theorem num_x {A F D : HA} {X : Nat → Prop} {q : Nat} {S : TS} (h0 : s.e = 0) (hF : ¬ (numS B L lo hi s).e = 0 → S = numS B L lo hi s) (hp : ∃ e p, numR B L s.a lo hi = .inl (e, p) ∧ UnX F D Non q (nI e) (nI p)) (hG : Gw A F X) : ¬ S.e = 0 ∧ UnX A D X q (nI S.e) S.p := by
  obtain ⟨e, p, h1, h2⟩ := hp
  obtain ⟨q1, q2, q3⟩ := numS_l h0 h1
  rw [hF (by rw [q1]; exact q3), q1, q2]
  exact ⟨q3, h2.of hG (fun _ _ q => q.elim)⟩
theorem fnd_x [Decidable q] {A F D : HA} {X : Nat → Prop} {x : Nat} {S : TS} (h0 : s.e = 0) (hF : ¬ (fndS σ B L q but s).e = 0 → S = fndS σ B L q but s) (hp : ∃ e p, fndR σ B L s.a q but = .inl (e, p) ∧ UnX F D Non x (nI e) (nI p)) (hG : Gw A F X) : ¬ S.e = 0 ∧ UnX A D X x (nI S.e) S.p := by
  obtain ⟨e, p, h1, h2⟩ := hp
  obtain ⟨q1, q2, q3⟩ := fndS_l h0 h1
  rw [hF (by rw [q1]; exact q3), q1, q2]
  exact ⟨q3, h2.of hG (fun _ _ q => q.elim)⟩
theorem new_x [Decidable q] {A F D : HA} {X : Nat → Prop} {x : Nat} {S : TS} (h0 : s.e = 0) (hF : ¬ (newS σ B L q s).e = 0 → S = newS σ B L q s) (hp : ∃ e p, newR σ B L s.a q = .inl (e, p) ∧ UnX F D Non x (nI e) (nI p)) (hG : Gw A F X) : ¬ S.e = 0 ∧ UnX A D X x (nI S.e) S.p := by
  obtain ⟨e, p, h1, h2⟩ := hp
  obtain ⟨q1, q2, q3⟩ := newS_l h0 h1
  rw [hF (by rw [q1]; exact q3), q1, q2]
  exact ⟨q3, h2.of hG (fun _ _ q => q.elim)⟩
theorem sgn_x {A F D : HA} {X : Nat → Prop} {x c : Nat} {S : TS} (h0 : s.e = 0) (hF : ¬ (signS B L c s).e = 0 → S = signS B L c s) (hp : ∃ e p, sgnR B L s.a c = .inl (e, p) ∧ UnX F D Non x (nI e) (nI p)) (hG : Gw A F X) : ¬ S.e = 0 ∧ UnX A D X x (nI S.e) S.p := by
  obtain ⟨e, p, h1, h2⟩ := hp
  obtain ⟨q1, q2, q3⟩ := sgnS_l h0 h1
  rw [hF (by rw [q1]; exact q3), q1, q2]
  exact ⟨q3, h2.of hG (fun _ _ q => q.elim)⟩
end
/-! what an order changes, told by its kind and its two numbers -/
def chgO (σ : Rw) (k a b : Nat) : Chg := if k = 0 then (0, a, 0) else if k = 5 then (5, a, b) else if k = 6 then (6, a, 0) else if a < rW σ ∧ b < rH σ then (k, rW σ * b + a, 0) else (7, 0, 0)
def prtA (σ : Rw) (B : Nat → Nat) (L k : Nat) (s : TS) : Nat := if k = 0 then numN B L 1 60 s else if k = 5 then fndN σ B L False (-1) s else if k = 6 then fndN σ B L False (-1) s else numN B L 0 9 s
def prtB (σ : Rw) (B : Nat → Nat) (L k : Nat) (s : TS) : Nat := if k = 5 then numN B L 0 9 (fndS σ B L False (-1) s) else numN B L 0 7 (numS B L 0 9 s)
section
variable {B : Nat → Nat} {L k a b : Nat} {s : TS} {σ : Rw}
theorem chgO_0 : chgO σ 0 a b = (0, a, 0) := if_pos rfl
theorem chgO_5 : chgO σ 5 a b = (5, a, b) := (if_neg (by decide)).trans (if_pos rfl)
theorem chgO_6 : chgO σ 6 a b = (6, a, 0) := (if_neg (by decide)).trans ((if_neg (by decide)).trans (if_pos rfl))
theorem chgO_c (h : 1 ≤ k ∧ k ≤ 4) : chgO σ k a b = if a < rW σ ∧ b < rH σ then (k, rW σ * b + a, 0) else (7, 0, 0) := (if_neg (by omega)).trans ((if_neg (by omega)).trans (if_neg (by omega)))
theorem prtA_0 : prtA σ B L 0 s = numN B L 1 60 s := if_pos rfl
theorem prtA_5 : prtA σ B L 5 s = fndN σ B L False (-1) s := (if_neg (by decide)).trans (if_pos rfl)
theorem prtA_6 : prtA σ B L 6 s = fndN σ B L False (-1) s := (if_neg (by decide)).trans ((if_neg (by decide)).trans (if_pos rfl))
theorem prtA_c (h : 1 ≤ k ∧ k ≤ 4) : prtA σ B L k s = numN B L 0 9 s := (if_neg (by omega)).trans ((if_neg (by omega)).trans (if_neg (by omega)))
theorem prtB_5 : prtB σ B L 5 s = numN B L 0 9 (fndS σ B L False (-1) s) := if_pos rfl
theorem prtB_c (h : 1 ≤ k ∧ k ≤ 4) : prtB σ B L k s = numN B L 0 7 (numS B L 0 9 s) := if_neg (by omega)
theorem prtS_0 : prtS σ B L 0 s = numS B L 1 60 s := if_pos rfl
theorem prtS_5 : prtS σ B L 5 s = numS B L 0 9 (fndS σ B L False (-1) s) := (if_neg (by decide)).trans (if_pos rfl)
theorem prtS_6 : prtS σ B L 6 s = fndS σ B L False (-1) s := (if_neg (by decide)).trans ((if_neg (by decide)).trans (if_pos rfl))
theorem prtS_c (h : 1 ≤ k ∧ k ≤ 4) : prtS σ B L k s = numS B L 0 7 (numS B L 0 9 s) := (if_neg (by omega)).trans ((if_neg (by omega)).trans (if_neg (by omega)))
end
/-- where an order's last part ends, from behind its word on -/
def chE (B : Nat → Nat) (L a t : Nat) : Nat := if t = 0 ∨ t = 6 then nxE B L a else nxE B L (nxE B L a)
theorem chE_le {B : Nat → Nat} {L a t : Nat} (h : a ≤ L) : a ≤ chE B L a t ∧ chE B L a t ≤ L := by
  have h1 := nxE_le (B := B) h
  have h2 := nxE_le (B := B) h1.2
  unfold chE
  split <;> omega
/-- the orders' words, as kinds -/
abbrev WdC (f : Nat → Nat) (n t : Nat) : Prop := (t = 1 ∧ EqT f n (chs wFence) wFence.length) ∨ (t = 2 ∧ EqT f n (chs wOpen) wOpen.length) ∨ (t = 3 ∧ EqT f n (chs wPave) wPave.length) ∨ (t = 4 ∧ EqT f n (chs wSow) wSow.length)
abbrev WdO (f : Nat → Nat) (n t : Nat) : Prop := (t = 0 ∧ EqT f n (chs wRun) wRun.length) ∨ (t = 5 ∧ EqT f n (chs wHaste) wHaste.length) ∨ (t = 6 ∧ EqT f n (chs wTurn) wTurn.length) ∨ WdC f n t
theorem WdO.one {f : Nat → Nat} {n t : Nat} (h : WdO f n t) : 1 ≤ n := by
  rcases h with ⟨-, h, -⟩ | ⟨-, h, -⟩ | ⟨-, h, -⟩ | ⟨-, h, -⟩ | ⟨-, h, -⟩ | ⟨-, h, -⟩ | ⟨-, h, -⟩ <;> rw [h] <;> decide
theorem WdC.le {f : Nat → Nat} {n t : Nat} (h : WdC f n t) : 1 ≤ t ∧ t ≤ 4 := by
  rcases h with ⟨h, -⟩ | ⟨h, -⟩ | ⟨h, -⟩ | ⟨h, -⟩ <;> omega
theorem eqt_wd {B : Nat → Nat} {L p n : Nat} {l : Nat → Nat} (h : isWd B L p l n = true) : EqT (fun i => B (p + i)) (wln B L p) l n := by
  obtain ⟨h1, h2⟩ := isWd_iff.mp h
  exact ⟨h1, fun k hk => h2 k (by omega)⟩
theorem wd_eqt {B : Nat → Nat} {L p n : Nat} {l : Nat → Nat} (h : EqT (fun i => B (p + i)) (wln B L p) l n) : isWd B L p l n = true := isWd_iff.mpr ⟨h.1, fun k hk => h.2 k (by rw [h.1]; exact hk)⟩
theorem ordK_wd {B : Nat → Nat} {L : Nat} {s : TS} {k : Nat} (h : ordK B L s = some k) : WdO (fun i => B (skp B L s.a + i)) (wln B L (skp B L s.a)) k := by
  unfold ordK at h
  split at h
  · rename_i h1; cases h; exact Or.inl ⟨rfl, eqt_wd h1.2⟩
  · split at h
    · rename_i h1; cases h; exact Or.inr (Or.inl ⟨rfl, eqt_wd h1.2⟩)
    · split at h
      · rename_i h1; cases h; exact Or.inr (Or.inr (Or.inl ⟨rfl, eqt_wd h1.2⟩))
      · refine Or.inr (Or.inr (Or.inr ?_))
        split at h
        · rename_i h1; cases h; exact Or.inl ⟨rfl, eqt_wd h1.2⟩
        · split at h
          · rename_i h1; cases h; exact Or.inr (Or.inl ⟨rfl, eqt_wd h1.2⟩)
          · split at h
            · rename_i h1; cases h; exact Or.inr (Or.inr (Or.inl ⟨rfl, eqt_wd h1.2⟩))
            · split at h
              · rename_i h1; cases h; exact Or.inr (Or.inr (Or.inr ⟨rfl, eqt_wd h1.2⟩))
              · cases h
theorem ordK_act {B : Nat → Nat} {L : Nat} {s : TS} (h0 : s.e = 0) : ActP (fun i => B (skp B L s.a + i)) (wln B L (skp B L s.a)) ↔ ordK B L s ≠ none := by
  have y : ∀ l, EqT (fun i => B (skp B L s.a + i)) (wln B L (skp B L s.a)) (chs l) l.length → seesW B L l s := fun l h => ⟨h0, wd_eqt h⟩
  constructor
  · intro h e
    unfold ordK at e
    split at e
    · cases e
    · split at e
      · cases e
      · split at e
        · cases e
        · split at e
          · cases e
          · split at e
            · cases e
            · split at e
              · cases e
              · split at e
                · cases e
                · rename_i h1 h2 h3 h4 h5 h6 h7
                  rcases h with q | q | q | q | q | q | q
                  · exact h1 (y _ q)
                  · exact h4 (y _ q)
                  · exact h5 (y _ q)
                  · exact h6 (y _ q)
                  · exact h7 (y _ q)
                  · exact h2 (y _ q)
                  · exact h3 (y _ q)
  · intro h
    cases hk : ordK B L s with
    | none => exact absurd hk h
    | some k =>
      rcases ordK_wd hk with ⟨-, q⟩ | ⟨-, q⟩ | ⟨-, q⟩ | ⟨-, q⟩ | ⟨-, q⟩ | ⟨-, q⟩ | ⟨-, q⟩
      · exact Or.inl q
      · exact Or.inr (Or.inr (Or.inr (Or.inr (Or.inr (Or.inl q)))))
      · exact Or.inr (Or.inr (Or.inr (Or.inr (Or.inr (Or.inr q)))))
      · exact Or.inr (Or.inl q)
      · exact Or.inr (Or.inr (Or.inl q))
      · exact Or.inr (Or.inr (Or.inr (Or.inl q)))
      · exact Or.inr (Or.inr (Or.inr (Or.inr (Or.inl q))))
/-- the reader's cell and its word at the beginning -/
def GoX (A : HA) (r : Nat) (y : Nat) : Prop := y = r ∨ A.R r 4 = some y
theorem here_k {σ : Rw} {B : Nat → Nat} {p w k : Nat} (h : hereR σ B False p w = some k) : k < rK σ := by
  unfold hereR at h
  rw [if_neg (fun q => q)] at h
  unfold hereW at h
  exact (firstB_lt h).1
theorem ok_cell {σ : Rw} {t c : Nat} (h : 1 ≤ t ∧ t ≤ 4) (hc : c < rC σ) : Chg.ok σ (t, c, 0) := by
  rcases (show t = 1 ∨ t = 2 ∨ t = 3 ∨ t = 4 by omega) with e | e | e | e <;> subst e <;> exact hc
theorem chE_nx {B : Nat → Nat} {L a t : Nat} (h : a ≤ L) : nxE B L a ≤ chE B L a t := by
  have h1 := nxE_le (B := B) h
  have h2 := nxE_le (B := B) h1.2
  unfold chE
  split <;> omega
theorem RdT.r7 {g : GZ} {A : HA} {r c bf L a : Nat} {B : Nat → Nat} (h : RdT g A r c bf L B a) : (A.G r).1 = 7 := by
  obtain ⟨v, w, hs, -, -⟩ := h
  exact hs.1.1
/-- strings stay what they are -/
def StP (A D : HA) : Prop := ∀ a v n f, StrV A a v f n → StrV D a v f n
theorem StP.rf {A : HA} : StP A A := fun _ _ _ _ h => h
theorem StP.tr {A B D : HA} (h : StP A B) (h2 : StP B D) : StP A D := fun a v n f q => h2 a v n f (h a v n f q)
theorem StP.gw {A B : HA} {X : Nat → Prop} (hz : Zk A) (hw : Gw A B X) (hX : ∀ y, X y → (A.G y).1 ≠ 16 ∧ isBy (A.G y).1 = false) : StP A B := fun a v n f q => q.gw hz hw (fun x => (hX a x).1 q.g) (fun x => by have h1 := (hX v x).2; rw [q.k] at h1; cases h1)
theorem StP.no {A B : HA} (hz : Zk A) (hw : Gw A B Non) : StP A B := StP.gw hz hw (fun _ q => q.elim)
theorem StP.rd {A B : HA} {r : Nat} (hz : Zk A) (h7 : (A.G r).1 = 7) (hw : Gw A B (fun y => y = r)) : StP A B := StP.gw hz hw (fun y q => by rw [q, h7]; exact ⟨by decide, by decide⟩)
theorem NmK.sp {A D : HA} {a : Nat} {d : Nat → Nat} {σ : Rw} (hz : Zk A) (h : NmK A d σ) (hP : StP A D) (hG : ∀ y, y < A.z → D.G y = A.G y) (hR : ∀ y, Fp a d (rK σ) (rG σ) y → D.R y = A.R y) : NmK D d σ := by
  have s : ∀ nm o, NmS A nm σ o → NmS D nm σ o := fun nm o h => by
    obtain ⟨u, l, m, h1, h2, ⟨h3, h4, h5⟩, h6⟩ := h
    exact ⟨u, l, m, hP _ _ _ _ h1, h2, ⟨h3, h4, by rw [hG u (h1.zl hz).2]; exact h5⟩, h6⟩
  refine ⟨fun k hk => ?_, fun r hr => ?_⟩
  · obtain ⟨nm, h1, h2⟩ := h.1 k hk
    exact ⟨nm, by rw [hR _ (Or.inr (Or.inr (Or.inr (Or.inl ⟨k, hk, rfl⟩))))]; exact h1, s _ _ h2⟩
  · obtain ⟨nm, h1, h2⟩ := h.2 r hr
    exact ⟨nm, by rw [hR _ (Or.inr (Or.inr (Or.inr (Or.inr ⟨r, hr, rfl⟩))))]; exact h1, s _ _ h2⟩
/-- what is old is as it was: a change there is none -/
theorem gw_old {g : GZ} {A D : HA} {X : Nat → Prop} (h : Gw A D X) (hA : fw_old g A) (hD : fw_old g D) : Gw A D (fun y => X y ∧ g.b ≤ y) := by
  refine ⟨h.1, fun x hx => ⟨(h.2 x hx).1, (h.2 x hx).2.1, fun q => ?_⟩⟩
  by_cases hX : X x
  · have hb : x < g.b := Nat.lt_of_not_le (fun w => q ⟨hX, w⟩)
    obtain ⟨-, a2, a3, a4, -⟩ := hA x hb
    obtain ⟨-, d2, d3, d4, -⟩ := hD x hb
    exact ⟨d4.trans a4.symm, d2.trans a2.symm, d3.trans a3.symm⟩
  · exact (h.2 x hx).2.2 hX
