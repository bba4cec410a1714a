/-! PURE: a day on the row -/
set_option maxRecDepth 100000
/-- ways for all walkers -/
abbrev ways (σ : Nat → Int32) : Prop := ∀ k, k < rK σ → dist σ k 0 (gC σ (wFr σ k)) < 1000000
def lessN (σ : Nat → Int32) (c : Nat) : Nat := if (if wetD σ (rD σ) then 2 else 1) < cGr σ c then (if wetD σ (rD σ) then 2 else 1) else cGr σ c
theorem lessN_le (σ : Nat → Int32) (c : Nat) : lessN σ c ≤ cGr σ c ∧ lessN σ c ≤ 2 := by
  unfold lessN
  split <;> split at * <;> omega
def tr1 (σ : Nat → Int32) (c : Nat) : Nat → Int32 := upd σ (153 + 5 * c + 1) (nI (cGr σ c - lessN σ c))
def tr2 (σ : Nat → Int32) (c : Nat) : Nat → Int32 := upd (tr1 σ c) (153 + 5 * c + 3) (tr1 σ c (153 + 5 * c + 3) + nI 1)
def tr3 (σ : Nat → Int32) (c : Nat) : Nat → Int32 := upd (tr2 σ c) (153 + 5 * c + 4) (tr2 σ c 3 + nI 1)
def tr4 (σ : Nat → Int32) (c : Nat) : Nat → Int32 := upd (tr3 σ c) (9 + 2) (tr3 σ c (9 + 2) + nI 1)
def treadR (σ : Nat → Int32) (c : Nat) : Nat → Int32 := upd (tr4 σ c) (9 + 3) (tr4 σ c (9 + 3) + nI (lessN σ c))
/-- behind k cells of the way -/
noncomputable def trK (σ : Nat → Int32) (w : Nat) : Nat → Nat → Int32
  | 0 => σ
  | k + 1 => if trK σ w k (153 + 5 * wy σ w k + 0) = 0 then treadR (trK σ w k) (wy σ w k) else trK σ w k
noncomputable def wk0 (σ : Nat → Int32) (w : Nat) : Nat → Int32 := trK σ w (wl σ w + 1)
noncomputable def wk1 (σ : Nat → Int32) (w : Nat) : Nat → Int32 := upd (wk0 σ w) (75 + 13 * w + 11) (wk0 σ w (75 + 13 * w + 11) + nI 1)
noncomputable def wk2 (σ : Nat → Int32) (w : Nat) : Nat → Int32 := upd (wk1 σ w) (75 + 13 * w + 12) (wk1 σ w (75 + 13 * w + 12) + nI (wl σ w + 1) - nI 1)
noncomputable def wk3 (σ : Nat → Int32) (w : Nat) : Nat → Int32 := upd (wk2 σ w) (9 + 0) (wk2 σ w (9 + 0) + nI 1)
noncomputable def wk4 (σ : Nat → Int32) (w : Nat) : Nat → Int32 := upd (wk3 σ w) (9 + 1) (wk3 σ w (9 + 1) + (nI (wl σ w + 1) - nI 1))
noncomputable def walkR (σ : Nat → Int32) (w : Nat) : Nat → Int32 := upd (wk4 σ w) (9 + 11) (wk4 σ w (9 + 11) + nI (dist σ w 0 (gC σ (wFr σ w))))
/-- behind k walkers -/
noncomputable def wkK (σ : Nat → Int32) : Nat → Nat → Int32
  | 0 => σ
  | k + 1 => if rD σ % wPd σ k = 0 then walkR (wkK σ k) k else wkK σ k
abbrev fenced (σ : Nat → Int32) (c : Nat) : Prop := σ (153 + 5 * c + 2) = nI 1
abbrev does (σ : Nat → Int32) (c : Nat) (b : Prop) [Decidable b] : Prop := (fenced σ c ∨ (b ∧ ¬ σ (153 + 5 * c + 4) = σ 3 + nI 1)) ∧ ¬ σ (153 + 5 * c + 1) = nI 9
def gw1 (σ : Nat → Int32) (c : Nat) : Nat → Int32 := upd σ (153 + 5 * c + 1) (σ (153 + 5 * c + 1) + nI 1)
def growR (σ : Nat → Int32) (c : Nat) (b : Prop) [Decidable b] : Nat → Int32 :=
  if does σ c b then (if fenced σ c then upd (gw1 σ c) (9 + 5) (gw1 σ c (9 + 5) + nI 1) else upd (gw1 σ c) (9 + 4) (gw1 σ c (9 + 4) + nI 1)) else σ
/-- behind k cells -/
def grK (b : Prop) [Decidable b] (σ : Nat → Int32) : Nat → Nat → Int32
  | 0 => σ
  | k + 1 => if grK b σ k (153 + 5 * k + 0) = 0 then growR (grK b σ k) k b else grK b σ k
abbrev isDay (σ : Nat → Int32) : Prop := (rD σ + 1) % rGr σ = 0
noncomputable def dy1 (σ : Nat → Int32) : Nat → Int32 := wkK σ (rK σ)
noncomputable def dy2 (σ : Nat → Int32) : Nat → Int32 := grK (isDay σ) (dy1 σ) (rC σ)
noncomputable def dy3 (σ : Nat → Int32) : Nat → Int32 := upd (dy2 σ) (9 + 8) (dy2 σ (9 + 8) + bI (wetD σ (rD σ)))
noncomputable def dayR (σ : Nat → Int32) : Nat → Int32 := upd (dy3 σ) 3 (nI (rD σ + 1))
noncomputable def daysR (σ : Nat → Int32) : Nat → Nat → Int32
  | 0 => σ
  | n + 1 => dayR (daysR σ n)
/-- places that a day leaves as they are -/
def Stat (j : Nat) : Prop := j < 3 ∨ (4 ≤ j ∧ j ≤ 8) ∨ (21 ≤ j ∧ j < 75) ∨ (75 ≤ j ∧ j < 153 ∧ (j - 75) % 13 < 11) ∨ (153 ≤ j ∧ ((j - 153) % 5 = 0 ∨ (j - 153) % 5 = 2)) ∨ 553 ≤ j
def Same (σ τ : Nat → Int32) : Prop := ∀ j, Stat j → τ j = σ j
theorem Same.rf {σ : Nat → Int32} : Same σ σ := fun _ _ => rfl
theorem Same.tr {σ τ υ : Nat → Int32} (h : Same σ τ) (h2 : Same τ υ) : Same σ υ := fun j hj => (h2 j hj).trans (h j hj)
theorem Same.up {σ τ : Nat → Int32} (h : Same σ τ) {k : Nat} {v : Int32} (hk : ¬ Stat k) : Same σ (upd τ k v) := fun j hj => by
  rw [pk_un (fun e => hk (by rw [← e]; exact hj))]
  exact h j hj
theorem ns_a {k : Nat} (h : 9 ≤ k) (h2 : k < 21) : ¬ Stat k := by unfold Stat; omega
theorem ns_3 : ¬ Stat 3 := by unfold Stat; omega
theorem ns_c {c v : Nat} (hc : c < 80) (h : v = 1 ∨ v = 3 ∨ v = 4) : ¬ Stat (153 + 5 * c + v) := by unfold Stat; omega
theorem ns_w {k v : Nat} (hk : k < 6) (h : v = 11 ∨ v = 12) : ¬ Stat (75 + 13 * k + v) := by unfold Stat; omega
theorem st_g {r v : Nat} (hr : r < 6) (hv : v < 9) : Stat (21 + 9 * r + v) := by unfold Stat; omega
theorem st_w {k v : Nat} (hk : k < 6) (hv : v < 11) : Stat (75 + 13 * k + v) := by unfold Stat; omega
theorem st_c {c v : Nat} (hv : v = 0 ∨ v = 2) : Stat (153 + 5 * c + v) := by unfold Stat; omega
theorem st_0 {j : Nat} (h : j < 3 ∨ (4 ≤ j ∧ j ≤ 8)) : Stat j := by unfold Stat; omega
/-- the parts that move: the day, GRASS -/
def Mov (σ : Nat → Int32) : Prop := (σ 3 = nI (rD σ) ∧ rD σ ≤ 1200) ∧ ∀ c, c < 80 → σ (153 + 5 * c + 1) = nI (cGr σ c) ∧ cGr σ c ≤ 9
theorem Same.w {σ τ : Nat → Int32} (h : Same σ τ) : rW τ = rW σ := congrArg Int32.toNatClampNeg (h 4 (st_0 (by omega)))
theorem Same.h {σ τ : Nat → Int32} (h : Same σ τ) : rH τ = rH σ := congrArg Int32.toNatClampNeg (h 5 (st_0 (by omega)))
theorem Same.c {σ τ : Nat → Int32} (h : Same σ τ) : rC τ = rC σ := by unfold rC; rw [h.w, h.h]
theorem Same.g {σ τ : Nat → Int32} (h : Same σ τ) : rG τ = rG σ := congrArg Int32.toNatClampNeg (h 0 (st_0 (by omega)))
theorem Same.k {σ τ : Nat → Int32} (h : Same σ τ) : rK τ = rK σ := congrArg Int32.toNatClampNeg (h 1 (st_0 (by omega)))
theorem Same.f {σ τ : Nat → Int32} (h : Same σ τ) : rF τ = rF σ := congrArg Int32.toNatClampNeg (h 2 (st_0 (by omega)))
theorem Same.gr {σ τ : Nat → Int32} (h : Same σ τ) : rGr τ = rGr σ := congrArg Int32.toNatClampNeg (h 6 (st_0 (by omega)))
theorem Same.wt {σ τ : Nat → Int32} (h : Same σ τ) : rWt τ = rWt σ := congrArg Int32.toNatClampNeg (h 7 (st_0 (by omega)))
theorem Same.gx {σ τ : Nat → Int32} (h : Same σ τ) {r : Nat} (hr : r < 6) : gX τ r = gX σ r := congrArg Int32.toNatClampNeg (h (21 + 9 * r + 7) (st_g hr (by omega)))
theorem Same.gy {σ τ : Nat → Int32} (h : Same σ τ) {r : Nat} (hr : r < 6) : gY τ r = gY σ r := congrArg Int32.toNatClampNeg (h (21 + 9 * r + 8) (st_g hr (by omega)))
theorem Same.gc {σ τ : Nat → Int32} (h : Same σ τ) {r : Nat} (hr : r < 6) : gC τ r = gC σ r := by unfold gC; rw [h.gx hr, h.gy hr, h.w]
theorem Same.fr {σ τ : Nat → Int32} (h : Same σ τ) {k : Nat} (hk : k < 6) : wFr τ k = wFr σ k := congrArg Int32.toNatClampNeg (h (75 + 13 * k + 7) (st_w hk (by omega)))
theorem Same.to {σ τ : Nat → Int32} (h : Same σ τ) {k : Nat} (hk : k < 6) : wTo τ k = wTo σ k := congrArg Int32.toNatClampNeg (h (75 + 13 * k + 8) (st_w hk (by omega)))
theorem Same.hs {σ τ : Nat → Int32} (h : Same σ τ) {k : Nat} (hk : k < 6) : wHs τ k = wHs σ k := congrArg Int32.toNatClampNeg (h (75 + 13 * k + 9) (st_w hk (by omega)))
theorem Same.pd {σ τ : Nat → Int32} (h : Same σ τ) {k : Nat} (hk : k < 6) : wPd τ k = wPd σ k := congrArg Int32.toNatClampNeg (h (75 + 13 * k + 10) (st_w hk (by omega)))
theorem Same.kind {σ τ : Nat → Int32} (h : Same σ τ) (c : Nat) : τ (153 + 5 * c + 0) = σ (153 + 5 * c + 0) := h _ (st_c (by omega))
theorem Same.fence {σ τ : Nat → Int32} (h : Same σ τ) (c : Nat) : τ (153 + 5 * c + 2) = σ (153 + 5 * c + 2) := h _ (st_c (by omega))
theorem RowW.mov {σ : Nat → Int32} (h : RowW σ) : Mov σ := ⟨⟨h.d, h.d9⟩, fun c hc => ⟨h.c hc, h.c9 hc⟩⟩
theorem RowW.same {σ τ : Nat → Int32} (h : RowW σ) (hs : Same σ τ) (hm : Mov τ) : RowW τ := by
  have g6 := h.g6
  have k6 := h.k6
  refine ⟨⟨⟨by rw [hs.w, hs 4 (st_0 (by omega))]; exact h.s.w, by rw [hs.w]; exact h.s.w3, by rw [hs.w]; exact h.s.w10⟩, ⟨by rw [hs.h, hs 5 (st_0 (by omega))]; exact h.s.h, by rw [hs.h]; exact h.s.h3, by rw [hs.h]; exact h.s.h8⟩⟩,
    ⟨by rw [hs.g, hs 0 (st_0 (by omega))]; exact h.g, by rw [hs.g]; exact g6⟩, ⟨by rw [hs.k, hs 1 (st_0 (by omega))]; exact h.k, by rw [hs.k]; exact k6⟩, hm.1, ⟨by rw [hs.gr, hs 6 (st_0 (by omega))]; exact h.gr, by rw [hs.gr]; exact h.gr1, by rw [hs.gr]; exact h.gr9⟩,
    ⟨by rw [hs.wt, hs 7 (st_0 (by omega))]; exact h.wt, by rw [hs.wt]; exact h.wt9⟩, ⟨by rw [hs.f, hs 2 (st_0 (by omega))]; exact h.f, by rw [hs.f]; exact h.f10⟩, fun r hr => ?_, fun k hk => ?_, hm.2⟩
  · rw [hs.g] at hr
    have h1 := h.G hr
    have hr6 : r < 6 := by omega
    unfold RowG
    rw [hs.gx hr6, hs.gy hr6, hs.w, hs.h, hs (21 + 9 * r + 7) (st_g hr6 (by omega)), hs (21 + 9 * r + 8) (st_g hr6 (by omega))]
    exact h1
  · rw [hs.k] at hk
    have h1 := h.K hk
    have hk6 : k < 6 := by omega
    unfold RowK
    rw [hs.fr hk6, hs.to hk6, hs.hs hk6, hs.pd hk6, hs.g, hs (75 + 13 * k + 7) (st_w hk6 (by omega)), hs (75 + 13 * k + 8) (st_w hk6 (by omega)), hs (75 + 13 * k + 9) (st_w hk6 (by omega)), hs (75 + 13 * k + 10) (st_w hk6 (by omega))]
    exact h1
theorem Mov.up {σ : Nat → Int32} (h : Mov σ) {k : Nat} {v : Int32} (h3 : k ≠ 3) (hk : k < 153 ∨ (k - 153) % 5 ≠ 1) : Mov (upd σ k v) := by
  have e3 : rD (upd σ k v) = rD σ := by unfold rD; rw [pk_un (Ne.symm h3)]
  refine ⟨by rw [e3, pk_un (Ne.symm h3)]; exact h.1, fun c hc => ?_⟩
  have e1 : 153 + 5 * c + 1 ≠ k := by omega
  have e2 : cGr (upd σ k v) c = cGr σ c := by unfold cGr; rw [pk_un e1]
  rw [e2, pk_un e1]; exact h.2 c hc
theorem Mov.grass {σ : Nat → Int32} (h : Mov σ) {c v : Nat} (hv : v ≤ 9) : Mov (upd σ (153 + 5 * c + 1) (nI v)) := by
  have h3 : 153 + 5 * c + 1 ≠ 3 := by omega
  have e3 : rD (upd σ (153 + 5 * c + 1) (nI v)) = rD σ := by unfold rD; rw [pk_un (Ne.symm h3)]
  refine ⟨by rw [e3, pk_un (Ne.symm h3)]; exact h.1, fun j hj => ?_⟩
  by_cases q : j = c
  · subst q
    have : cGr (upd σ (153 + 5 * j + 1) (nI v)) j = v := by unfold cGr; rw [pk_us]; exact nI_nat (by omega)
    rw [this, pk_us]; exact ⟨rfl, hv⟩
  · have e1 : 153 + 5 * j + 1 ≠ 153 + 5 * c + 1 := by omega
    have e2 : cGr (upd σ (153 + 5 * c + 1) (nI v)) j = cGr σ j := by unfold cGr; rw [pk_un e1]
    rw [e2, pk_un e1]; exact h.2 j hj
theorem treadR_same {σ : Nat → Int32} {c : Nat} (hc : c < 80) : Same σ (treadR σ c) := by
  have h1 : Same σ (tr1 σ c) := Same.rf.up (ns_c hc (by omega))
  have h2 : Same σ (tr2 σ c) := h1.up (ns_c hc (by omega))
  have h3 : Same σ (tr3 σ c) := h2.up (ns_c hc (by omega))
  have h4 : Same σ (tr4 σ c) := h3.up (ns_a (by omega) (by omega))
  exact h4.up (ns_a (by omega) (by omega))
theorem treadR_mov {σ : Nat → Int32} {c : Nat} (h : Mov σ) (hc : c < 80) : Mov (treadR σ c) := by
  have h9 := (h.2 c hc).2
  have h1 : Mov (tr1 σ c) := h.grass (by omega)
  have h2 : Mov (tr2 σ c) := h1.up (by omega) (by omega)
  have h3 : Mov (tr3 σ c) := h2.up (by omega) (by omega)
  have h4 : Mov (tr4 σ c) := h3.up (by omega) (by omega)
  exact h4.up (by omega) (by omega)
theorem trK_keep {σ : Nat → Int32} {w : Nat} (hW : RowW σ) : ∀ k, (∀ i, i < k → wy σ w i < 80) → Same σ (trK σ w k) ∧ Mov (trK σ w k)
  | 0, _ => ⟨Same.rf, hW.mov⟩
  | k + 1, h => by
    obtain ⟨h1, h2⟩ := trK_keep hW k (fun i hi => h i (by omega))
    show Same σ (if _ then _ else _) ∧ Mov (if _ then _ else _)
    split
    · exact ⟨h1.tr (treadR_same (h k (by omega))), treadR_mov h2 (h k (by omega))⟩
    · exact ⟨h1, h2⟩
theorem wy_facts {σ : Nat → Int32} {w : Nat} (hW : RowW σ) (hw : w < rK σ) (hd : dist σ w 0 (gC σ (wFr σ w)) < 1000000) :
    (∀ i, i ≤ wl σ w → wy σ w i < rC σ) ∧ wy σ w (wl σ w) = gC σ (wTo σ w) ∧ (∀ i, i < wl σ w → wy σ w i ≠ gC σ (wTo σ w)) ∧ wl σ w + 1 ≤ rC σ := by
  have hc := gC_lt hW.s (hW.G (hW.K hw).1.2)
  obtain ⟨h1, h2⟩ := wlF_spec (w := w) hW _ _ hc hd (Nat.lt_succ_self _)
  exact ⟨fun i hi => (wyF_spec hW hc hd h2 i hi).1, h1, h2, wlF_lt hW hc hd h2⟩
theorem walkR_keep {σ : Nat → Int32} {w : Nat} (hW : RowW σ) (hw : w < rK σ) (hd : dist σ w 0 (gC σ (wFr σ w)) < 1000000) : Same σ (walkR σ w) ∧ Mov (walkR σ w) := by
  have h1 := wy_facts hW hw hd
  have hc80 := hW.s.c80
  have k6 := hW.k6
  obtain ⟨a1, a2⟩ := trK_keep (w := w) hW (wl σ w + 1) (fun i hi => by have := h1.1 i (by omega); omega)
  have a1 : Same σ (wk0 σ w) := a1
  have a2 : Mov (wk0 σ w) := a2
  have b1 : Same σ (wk1 σ w) := a1.up (ns_w (by omega) (by omega))
  have b2 : Same σ (wk2 σ w) := b1.up (ns_w (by omega) (by omega))
  have b3 : Same σ (wk3 σ w) := b2.up (ns_a (by omega) (by omega))
  have b4 : Same σ (wk4 σ w) := b3.up (ns_a (by omega) (by omega))
  have d1 : Mov (wk1 σ w) := a2.up (by omega) (by omega)
  have d2 : Mov (wk2 σ w) := d1.up (by omega) (by omega)
  have d3 : Mov (wk3 σ w) := d2.up (by omega) (by omega)
  have d4 : Mov (wk4 σ w) := d3.up (by omega) (by omega)
  exact ⟨b4.up (ns_a (by omega) (by omega)), d4.up (by omega) (by omega)⟩
theorem ecost_isSome {σ τ : Nat → Int32} (hs : Same σ τ) {w m c : Nat} : (ecost τ w m c).isSome = (ecost σ w m c).isSome := by
  unfold ecost
  rw [hs.kind, hs.fence]
  by_cases h1 : σ (153 + 5 * c + 0) = 0
  · rw [if_pos h1, if_pos h1]
    by_cases h2 : m = 2 ∨ (m = 0 ∧ σ (153 + 5 * c + 2) = nI 1)
    · rw [if_pos h2, if_pos h2]
    · rw [if_neg h2, if_neg h2, Option.isSome_some, Option.isSome_some]
  · rw [if_neg h1, if_neg h1]
theorem ways_same {σ τ : Nat → Int32} (hW : RowW σ) (hV : RowW τ) (hs : Same σ τ) {w : Nat} (hw : w < rK σ) (h : dist σ w 0 (gC σ (wFr σ w)) < 1000000) : dist τ w 0 (gC τ (wFr τ w)) < 1000000 := by
  have k6 := hW.k6
  have g6 := hW.g6
  have hto := (hW.K hw).2.1.2
  have hfr := (hW.K hw).1.2
  have hc := gC_lt hW.s (hW.G hfr)
  rw [hs.fr (by omega), hs.gc (by omega)]
  exact way_keep hW hV hs.w hs.h (by rw [hs.to (by omega), hs.gc (by omega)]) (fun c _ h => by rw [ecost_isSome hs]; exact h) _ _ (Nat.lt_succ_self _) hc h
theorem upd_rD {σ : Nat → Int32} {k : Nat} {v : Int32} (h : k ≠ 3) : rD (upd σ k v) = rD σ := by unfold rD; rw [pk_un (Ne.symm h)]
theorem treadR_day (σ : Nat → Int32) (c : Nat) : rD (treadR σ c) = rD σ := by
  unfold treadR tr4 tr3 tr2 tr1
  rw [upd_rD (by omega), upd_rD (by omega), upd_rD (by omega), upd_rD (by omega), upd_rD (by omega)]
theorem trK_day (σ : Nat → Int32) (w : Nat) : ∀ k, rD (trK σ w k) = rD σ
  | 0 => rfl
  | k + 1 => by
    show rD (if _ then _ else _) = _
    split
    · rw [treadR_day]; exact trK_day σ w k
    · exact trK_day σ w k
theorem walkR_day (σ : Nat → Int32) (w : Nat) : rD (walkR σ w) = rD σ := by
  unfold walkR wk4 wk3 wk2 wk1 wk0
  rw [upd_rD (by omega), upd_rD (by omega), upd_rD (by omega), upd_rD (by omega), upd_rD (by omega)]
  exact trK_day σ w _
theorem wkK_keep {σ : Nat → Int32} (hW : RowW σ) (hy : ways σ) : ∀ k, k ≤ rK σ → Same σ (wkK σ k) ∧ Mov (wkK σ k) ∧ rD (wkK σ k) = rD σ
  | 0, _ => ⟨Same.rf, hW.mov, rfl⟩
  | k + 1, h => by
    obtain ⟨h1, h2, h3⟩ := wkK_keep hW hy k (by omega)
    have hV := hW.same h1 h2
    show Same σ (if _ then _ else _) ∧ Mov (if _ then _ else _) ∧ rD (if _ then _ else _) = _
    split
    · obtain ⟨a1, a2⟩ := walkR_keep (w := k) hV (by rw [h1.k]; omega) (ways_same hW hV h1 (by omega) (hy k (by omega)))
      exact ⟨h1.tr a1, a2, by rw [walkR_day, h3]⟩
    · exact ⟨h1, h2, h3⟩
theorem growR_keep {σ : Nat → Int32} {c : Nat} {b : Prop} [Decidable b] (h : Mov σ) (hc : c < 80) : Same σ (growR σ c b) ∧ Mov (growR σ c b) ∧ rD (growR σ c b) = rD σ := by
  unfold growR
  by_cases h1 : does σ c b
  · rw [if_pos h1]
    have h9 := h.2 c hc
    have hlt : cGr σ c < 9 := by
      rcases Nat.lt_or_ge (cGr σ c) 9 with q | q
      · exact q
      · exact absurd (by rw [h9.1, show cGr σ c = 9 by omega]) h1.2
    have e : gw1 σ c = upd σ (153 + 5 * c + 1) (nI (cGr σ c + 1)) := by unfold gw1; rw [h9.1, nI_add]
    have hm : Mov (gw1 σ c) := by rw [e]; exact h.grass (by omega)
    have hs : Same σ (gw1 σ c) := Same.rf.up (ns_c hc (by omega))
    have hd : rD (gw1 σ c) = rD σ := upd_rD (by omega)
    by_cases h2 : fenced σ c
    · rw [if_pos h2]; exact ⟨hs.up (ns_a (by omega) (by omega)), hm.up (by omega) (by omega), by rw [upd_rD (by omega), hd]⟩
    · rw [if_neg h2]; exact ⟨hs.up (ns_a (by omega) (by omega)), hm.up (by omega) (by omega), by rw [upd_rD (by omega), hd]⟩
  · rw [if_neg h1]; exact ⟨Same.rf, h, rfl⟩
theorem grK_keep {b : Prop} [Decidable b] {σ : Nat → Int32} (h : Mov σ) : ∀ k, k ≤ 80 → Same σ (grK b σ k) ∧ Mov (grK b σ k) ∧ rD (grK b σ k) = rD σ
  | 0, _ => ⟨Same.rf, h, rfl⟩
  | k + 1, hk => by
    obtain ⟨h1, h2, h3⟩ := grK_keep (b := b) h k (by omega)
    show Same σ (if _ then _ else _) ∧ Mov (if _ then _ else _) ∧ rD (if _ then _ else _) = _
    split
    · obtain ⟨a1, a2, a3⟩ := growR_keep (c := k) (b := b) h2 (by omega)
      exact ⟨h1.tr a1, a2, a3.trans h3⟩
    · exact ⟨h1, h2, h3⟩
theorem Mov.day {σ : Nat → Int32} (h : Mov σ) {v : Nat} (hv : v ≤ 1200) : Mov (upd σ 3 (nI v)) := by
  have e : rD (upd σ 3 (nI v)) = v := by unfold rD; rw [pk_us]; exact nI_nat (by omega)
  refine ⟨by rw [e, pk_us]; exact ⟨rfl, hv⟩, fun c hc => ?_⟩
  have e1 : 153 + 5 * c + 1 ≠ 3 := by omega
  have e2 : cGr (upd σ 3 (nI v)) c = cGr σ c := by unfold cGr; rw [pk_un e1]
  rw [e2, pk_un e1]; exact h.2 c hc
theorem dayR_keep {σ : Nat → Int32} (hW : RowW σ) (hy : ways σ) (hd : rD σ < 1200) : Same σ (dayR σ) ∧ Mov (dayR σ) ∧ rD (dayR σ) = rD σ + 1 := by
  have hc80 := hW.s.c80
  obtain ⟨h1, h2, h3⟩ := wkK_keep hW hy (rK σ) (Nat.le_refl _)
  obtain ⟨a1, a2, a3⟩ := grK_keep (b := isDay σ) h2 (rC σ) (by omega)
  have a1 : Same (dy1 σ) (dy2 σ) := a1
  have a2 : Mov (dy2 σ) := a2
  have b3 : Same σ (dy3 σ) := (Same.tr h1 a1).up (ns_a (by omega) (by omega))
  have d3 : Mov (dy3 σ) := a2.up (by omega) (by omega)
  refine ⟨b3.up ns_3, d3.day (by omega), ?_⟩
  show (upd (dy3 σ) 3 (nI (rD σ + 1)) 3).toNatClampNeg = _
  rw [pk_us]; exact nI_nat (by omega)
theorem ways_all {σ τ : Nat → Int32} (hW : RowW σ) (hV : RowW τ) (hs : Same σ τ) (h : ways σ) : ways τ := fun k hk => ways_same hW hV hs (by rw [hs.k] at hk; exact hk) (h k (by rw [hs.k] at hk; exact hk))
theorem daysR_keep {σ : Nat → Int32} (hW : RowW σ) (hy : ways σ) : ∀ n, rD σ + n ≤ 1200 → Same σ (daysR σ n) ∧ Mov (daysR σ n) ∧ rD (daysR σ n) = rD σ + n
  | 0, _ => ⟨Same.rf, hW.mov, rfl⟩
  | n + 1, h => by
    obtain ⟨h1, h2, h3⟩ := daysR_keep hW hy n (by omega)
    have hV := hW.same h1 h2
    obtain ⟨a1, a2, a3⟩ := dayR_keep hV (ways_all hW hV h1 hy) (by omega)
    exact ⟨h1.tr a1, a2, by show rD (dayR _) = _; omega⟩
