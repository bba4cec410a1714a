/-! PURE: a day keeps the row as it must be -/
set_option maxRecDepth 100000
/-- a cell as it must be, up to a day and a bound -/
def CelD (d b : Nat) (σ : Rw) (c : Nat) : Prop := (σ (153 + 5 * c + 0) = 0 ∨ ((σ (153 + 5 * c + 0) = nI 1 ∨ σ (153 + 5 * c + 0) = nI 2) ∧ σ (153 + 5 * c + 2) = nI 0 ∧ cGr σ c = 0)) ∧ (σ (153 + 5 * c + 2) = nI 0 ∨ σ (153 + 5 * c + 2) = nI 1) ∧
  (σ (153 + 5 * c + 3) = nI (cTr σ c) ∧ cTr σ c ≤ b) ∧ (σ (153 + 5 * c + 4) = nI (cLt σ c) ∧ cLt σ c ≤ d) ∧ (cTr σ c = 0 ↔ cLt σ c = 0)
theorem CelD.up {d b d' b' : Nat} {σ : Rw} {c : Nat} (h : CelD d b σ c) (h1 : d ≤ d') (h2 : b ≤ b') : CelD d' b' σ c :=
  ⟨h.1, h.2.1, ⟨h.2.2.1.1, Nat.le_trans h.2.2.1.2 h2⟩, ⟨h.2.2.2.1.1, Nat.le_trans h.2.2.2.1.2 h1⟩, h.2.2.2.2⟩
theorem CelD.cong {d b : Nat} {σ τ : Rw} {c : Nat} (h : CelD d b σ c) (e : ∀ v, v < 5 → τ (153 + 5 * c + v) = σ (153 + 5 * c + v)) : CelD d b τ c := by
  have g : cGr τ c = cGr σ c := by unfold cGr; rw [e 1 (by omega)]
  have t : cTr τ c = cTr σ c := by unfold cTr; rw [e 3 (by omega)]
  have l : cLt τ c = cLt σ c := by unfold cLt; rw [e 4 (by omega)]
  unfold CelD
  rw [e 0 (by omega), e 2 (by omega), e 3 (by omega), e 4 (by omega), g, t, l]
  exact h
theorem treadR_o {σ : Rw} {c j : Nat} (h : j ≠ 153 + 5 * c + 1 ∧ j ≠ 153 + 5 * c + 3 ∧ j ≠ 153 + 5 * c + 4 ∧ j ≠ 11 ∧ j ≠ 12) : treadR σ c j = σ j := by
  unfold treadR tr4 tr3 tr2 tr1
  rw [pk_un (by omega), pk_un (by omega), pk_un (by omega), pk_un (by omega), pk_un (by omega)]
theorem treadR_1 {σ : Rw} {c : Nat} : treadR σ c (153 + 5 * c + 1) = nI (cGr σ c - lessN σ c) := by
  unfold treadR tr4 tr3 tr2 tr1
  rw [pk_un (by omega), pk_un (by omega), pk_un (by omega), pk_un (by omega), pk_us]
theorem treadR_3 {σ : Rw} {c : Nat} : treadR σ c (153 + 5 * c + 3) = σ (153 + 5 * c + 3) + nI 1 := by
  unfold treadR tr4 tr3 tr2 tr1
  rw [pk_un (by omega), pk_un (by omega), pk_un (by omega), pk_us, pk_un (by omega)]
theorem treadR_4 {σ : Rw} {c : Nat} : treadR σ c (153 + 5 * c + 4) = σ 3 + nI 1 := by
  unfold treadR tr4 tr3 tr2 tr1
  rw [pk_un (by omega), pk_un (by omega), pk_us, pk_un (by omega), pk_un (by omega)]
theorem treadR_cel {σ : Rw} {c0 d b : Nat} (h3 : σ 3 = nI d) (hd : d ≤ 1200) (hb : b ≤ 1000000) (hk : σ (153 + 5 * c0 + 0) = 0) {c : Nat} (h : CelD (d + 1) b σ c) : CelD (d + 1) (b + 1) (treadR σ c0) c := by
  by_cases q : c = c0
  · subst q
    obtain ⟨h1, h2, h4, h5, h6⟩ := h
    have e0 : treadR σ c (153 + 5 * c + 0) = σ (153 + 5 * c + 0) := treadR_o (by omega)
    have e2 : treadR σ c (153 + 5 * c + 2) = σ (153 + 5 * c + 2) := treadR_o (by omega)
    have e3 : treadR σ c (153 + 5 * c + 3) = nI (cTr σ c + 1) := by rw [treadR_3, h4.1, nI_add]
    have e4 : treadR σ c (153 + 5 * c + 4) = nI (d + 1) := by rw [treadR_4, h3, nI_add]
    have t : cTr (treadR σ c) c = cTr σ c + 1 := by unfold cTr; rw [e3]; exact nI_nat (by have := h4.2; unfold cTr at this; omega)
    have l : cLt (treadR σ c) c = d + 1 := by unfold cLt; rw [e4]; exact nI_nat (by omega)
    refine ⟨Or.inl (by rw [e0]; exact hk), by rw [e2]; exact h2, ⟨by rw [e3, t], by rw [t]; exact Nat.succ_le_succ h4.2⟩, ⟨by rw [e4, l], by rw [l]; exact Nat.le_refl _⟩, by rw [t, l]; omega⟩
  · exact (h.cong (fun v hv => treadR_o (by omega))).up (Nat.le_refl _) (Nat.le_succ _)
/-- the cells behind some steps of a walk -/
theorem trK_cel {σ : Rw} {w d b : Nat} (hW : RowW σ) (h3 : σ 3 = nI d) (hd : d ≤ 1200) (hb : b ≤ 900000) (h : ∀ c, c < 80 → CelD (d + 1) b σ c) : ∀ k, k ≤ 80 → (∀ i, i < k → wy σ w i < 80) → trK σ w k 3 = nI d ∧ ∀ c, c < 80 → CelD (d + 1) (b + k) (trK σ w k) c
  | 0, _, _ => ⟨h3, h⟩
  | k + 1, hk, hy => by
    obtain ⟨h1, h2⟩ := trK_cel hW h3 hd hb h k (by omega) (fun i hi => hy i (by omega))
    have e : trK σ w (k + 1) = if trK σ w k (153 + 5 * wy σ w k + 0) = 0 then treadR (trK σ w k) (wy σ w k) else trK σ w k := rfl
    rw [e]
    by_cases q : trK σ w k (153 + 5 * wy σ w k + 0) = 0
    · rw [if_pos q]
      exact ⟨(treadR_o (by omega)).trans h1, fun c hc => treadR_cel (b := b + k) h1 hd (by omega) q (h2 c hc)⟩
    · rw [if_neg q]
      exact ⟨h1, fun c hc => (h2 c hc).up (Nat.le_refl _) (by omega)⟩
theorem walkR_o {σ : Rw} {w j : Nat} (hw : w < 6) (h : j = 3 ∨ 153 ≤ j) : walkR σ w j = wk0 σ w j := by
  unfold walkR wk4 wk3 wk2 wk1
  rw [pk_un (by omega), pk_un (by omega), pk_un (by omega), pk_un (by omega), pk_un (by omega)]
theorem walkR_cel {σ : Rw} {w d b : Nat} (hW : RowW σ) (hw : w < rK σ) (hy : dist σ w 0 (gC σ (wFr σ w)) < 1000000) (h3 : σ 3 = nI d) (hd : d ≤ 1200) (hb : b ≤ 900000) (h : ∀ c, c < 80 → CelD (d + 1) b σ c) :
    walkR σ w 3 = nI d ∧ ∀ c, c < 80 → CelD (d + 1) (b + 80) (walkR σ w) c := by
  have hwf := wy_facts hW hw hy
  have hc80 := hW.s.c80
  have k6 := hW.k6
  obtain ⟨h1, h2⟩ := trK_cel (w := w) hW h3 hd hb h (wl σ w + 1) (by omega) (fun i hi => Nat.lt_of_lt_of_le (hwf.1 i (by omega)) hc80)
  exact ⟨(walkR_o (by omega) (Or.inl rfl)).trans h1, fun c hc => ((h2 c hc).cong (fun v hv => walkR_o (by omega) (Or.inr (by omega)))).up (Nat.le_refl _) (by omega)⟩
theorem wkK_cel {σ : Rw} {d b : Nat} (hW : RowW σ) (hy : ways σ) (h3 : σ 3 = nI d) (hd : d ≤ 1200) (hb : b ≤ 800000) (h : ∀ c, c < 80 → CelD (d + 1) b σ c) : ∀ k, k ≤ rK σ → wkK σ k 3 = nI d ∧ ∀ c, c < 80 → CelD (d + 1) (b + 80 * k) (wkK σ k) c
  | 0, _ => ⟨h3, h⟩
  | k + 1, hk => by
    have k6 := hW.k6
    obtain ⟨h1, h2⟩ := wkK_cel hW hy h3 hd hb h k (by omega)
    obtain ⟨a1, a2, -⟩ := wkK_keep hW hy k (by omega)
    have hV := hW.same a1 a2
    have e : wkK σ (k + 1) = if rD σ % wPd σ k = 0 then walkR (wkK σ k) k else wkK σ k := rfl
    rw [e]
    split
    · obtain ⟨b1, b2⟩ := walkR_cel (w := k) hV (by rw [a1.k]; omega) (ways_same hW hV a1 (by omega) (hy k (by omega))) h1 hd (by omega) h2
      exact ⟨b1, fun c hc => (b2 c hc).up (Nat.le_refl _) (by omega)⟩
    · exact ⟨h1, fun c hc => (h2 c hc).up (Nat.le_refl _) (by omega)⟩
theorem growR_o {σ : Rw} {c j : Nat} {p : Prop} [Decidable p] (h : j ≠ 153 + 5 * c + 1 ∧ ¬ (9 ≤ j ∧ j < 21)) : growR σ c p j = σ j := by
  unfold growR
  repeat' split
  all_goals first | rfl | (unfold gw1; rw [pk_un (by omega), pk_un (by omega)])
theorem grK_cel {σ : Rw} {d b : Nat} {p : Prop} [Decidable p] (h : ∀ c, c < 80 → CelD d b σ c) : ∀ k, k ≤ 80 → ∀ c, c < 80 → CelD d b (grK p σ k) c
  | 0, _ => h
  | k + 1, hk => by
    have ih := grK_cel (p := p) h k (by omega)
    intro c hc
    show CelD _ _ (if _ then _ else _ : Rw) c
    by_cases q : grK p σ k (153 + 5 * k + 0) = 0
    · rw [if_pos q]
      by_cases e : c = k
      · subst e
        obtain ⟨h1, h2, h4, h5, h6⟩ := ih c hc
        have e0 : growR (grK p σ c) c p (153 + 5 * c + 0) = grK p σ c (153 + 5 * c + 0) := growR_o (by omega)
        have e2 : growR (grK p σ c) c p (153 + 5 * c + 2) = grK p σ c (153 + 5 * c + 2) := growR_o (by omega)
        have e3 : growR (grK p σ c) c p (153 + 5 * c + 3) = grK p σ c (153 + 5 * c + 3) := growR_o (by omega)
        have e4 : growR (grK p σ c) c p (153 + 5 * c + 4) = grK p σ c (153 + 5 * c + 4) := growR_o (by omega)
        have t : cTr (growR (grK p σ c) c p) c = cTr (grK p σ c) c := by unfold cTr; rw [e3]
        have l : cLt (growR (grK p σ c) c p) c = cLt (grK p σ c) c := by unfold cLt; rw [e4]
        exact ⟨Or.inl (by rw [e0]; exact q), by rw [e2]; exact h2, by rw [e3, t]; exact h4, by rw [e4, l]; exact h5, by rw [t, l]; exact h6⟩
      · exact (ih c hc).cong (fun v hv => growR_o (by omega))
    · rw [if_neg q]; exact ih c hc
theorem CelI.d {σ : Rw} {c : Nat} (h : CelI σ c) : CelD (rD σ) (480 * rD σ) σ c := h
theorem day_cel {σ : Rw} (hW : RowW σ) (hy : ways σ) (hd : rD σ < 1200) (h : ∀ c, c < 80 → CelI σ c) : ∀ c, c < 80 → CelI (dayR σ) c := by
  have k6 := hW.k6
  have hc80 := hW.s.c80
  obtain ⟨-, h2⟩ := wkK_cel hW hy hW.d (by omega) (by omega) (fun c hc => (h c hc).d.up (Nat.le_succ _) (Nat.le_refl _)) (rK σ) (Nat.le_refl _)
  have h3 := grK_cel (p := isDay σ) h2 (rC σ) hc80
  have e := (dayR_keep hW hy hd).2.2
  intro c hc
  have h4 := ((h3 c hc).cong (τ := dayR σ) (fun v hv => by unfold dayR dy3; rw [pk_un (by omega), pk_un (by omega)]; rfl)).up (d' := rD (dayR σ)) (b' := 480 * rD (dayR σ)) (by omega) (by omega)
  exact h4
/-- what geometry rests on -/
def Geo (j : Nat) : Prop := j < 2 ∨ (4 ≤ j ∧ j < 8) ∨ (21 ≤ j ∧ j < 75) ∨ (75 ≤ j ∧ j < 153 ∧ (j - 75) % 13 < 9)
def SameG (σ τ : Rw) : Prop := ∀ j, Geo j → τ j = σ j
section
variable {σ τ : Rw}
theorem SameG.w (h : SameG σ τ) : rW τ = rW σ := congrArg Int32.toNatClampNeg (h 4 (by unfold Geo; omega))
theorem SameG.h (h : SameG σ τ) : rH τ = rH σ := congrArg Int32.toNatClampNeg (h 5 (by unfold Geo; omega))
theorem SameG.c (h : SameG σ τ) : rC τ = rC σ := by unfold rC; rw [h.w, h.h]
theorem SameG.g (h : SameG σ τ) : rG τ = rG σ := congrArg Int32.toNatClampNeg (h 0 (by unfold Geo; omega))
theorem SameG.k (h : SameG σ τ) : rK τ = rK σ := congrArg Int32.toNatClampNeg (h 1 (by unfold Geo; omega))
theorem SameG.gx (h : SameG σ τ) {r : Nat} (hr : r < 6) : gX τ r = gX σ r := congrArg Int32.toNatClampNeg (h (21 + 9 * r + 7) (by unfold Geo; omega))
theorem SameG.gy (h : SameG σ τ) {r : Nat} (hr : r < 6) : gY τ r = gY σ r := congrArg Int32.toNatClampNeg (h (21 + 9 * r + 8) (by unfold Geo; omega))
theorem SameG.gc (h : SameG σ τ) {r : Nat} (hr : r < 6) : gC τ r = gC σ r := by unfold gC; rw [h.gx hr, h.gy hr, h.w]
theorem SameG.fr (h : SameG σ τ) {k : Nat} (hk : k < 6) : wFr τ k = wFr σ k := congrArg Int32.toNatClampNeg (h (75 + 13 * k + 7) (by unfold Geo; omega))
theorem SameG.to (h : SameG σ τ) {k : Nat} (hk : k < 6) : wTo τ k = wTo σ k := congrArg Int32.toNatClampNeg (h (75 + 13 * k + 8) (by unfold Geo; omega))
end
/-- a cell that can't be entered -/
abbrev shut (σ : Rw) (c : Nat) : Prop := σ (153 + 5 * c + 0) = 0 ∧ fenced σ c
theorem ec_shut {σ : Rw} {w c : Nat} : (ecost σ w 0 c).isSome = true ↔ ¬ shut σ c := by
  unfold ecost
  by_cases h : σ (153 + 5 * c + 0) = 0
  · rw [if_pos h]
    by_cases q : fenced σ c
    · rw [if_pos (Or.inr ⟨rfl, q⟩)]
      exact ⟨fun z => (nomatch z), fun z => absurd ⟨h, q⟩ z⟩
    · rw [if_neg (fun z => z.elim (fun z => by omega) (fun z => q z.2))]
      exact ⟨fun _ z => q z.2, fun _ => rfl⟩
  · rw [if_neg h]
    exact ⟨fun _ z => h z.1, fun _ => rfl⟩
/-- ways stay ways where no cell is shut that was open -/
theorem ways_geo {σ τ : Rw} (hW : RowW σ) (hV : RowW τ) (hs : SameG σ τ) (e : ∀ c, c < 80 → shut τ c → shut σ c) (h : ways σ) : ways τ := by
  intro k hk
  rw [hs.k] at hk
  have k6 := hW.k6
  have g6 := hW.g6
  have hK := hW.K hk
  have e3 : gC τ (wTo τ k) = gC σ (wTo σ k) := by have := hK.2.1.2; rw [hs.to (by omega), hs.gc (by omega)]
  have e4 : gC τ (wFr τ k) = gC σ (wFr σ k) := by have := hK.1.2; rw [hs.fr (by omega), hs.gc (by omega)]
  rw [e4]
  exact way_keep hW hV hs.w hs.h e3 (fun c hc q => ec_shut.mpr (fun z => ec_shut.mp q (e c hc z))) _ _ (Nat.lt_succ_self _) (gC_lt hW.s (hW.G hK.1.2)) (h k hk)
/-- the gates are gates -/
def GK (σ : Rw) : Prop := ∀ r, r < rG σ → σ (153 + 5 * gC σ r + 0) = nI 2
/-- a row as it must be, gates and all -/
def RowJ (σ : Rw) : Prop := RowI σ ∧ GK σ
theorem RowJ.i {σ : Rw} (h : RowJ σ) : RowI σ := h.1
theorem RowJ.w {σ : Rw} (h : RowJ σ) : RowW σ := h.1.1
theorem RowJ.y {σ : Rw} (h : RowJ σ) : ways σ := h.1.2.1
theorem RowJ.c {σ : Rw} (h : RowJ σ) {c : Nat} (hc : c < 80) : CelI σ c := h.1.2.2.1 c hc
theorem RowJ.g {σ : Rw} (h : RowJ σ) : GK σ := h.2
theorem GK.geo {σ τ : Rw} (hW : RowW σ) (hs : SameG σ τ) (h : GK σ) (e : ∀ c, c < 80 → σ (153 + 5 * c + 0) = nI 2 → τ (153 + 5 * c + 0) = nI 2) : GK τ := by
  intro r hr
  rw [hs.g] at hr
  have g6 := hW.g6
  rw [hs.gc (by omega)]
  exact e _ (Nat.lt_of_lt_of_le (gC_lt hW.s (hW.G hr)) hW.s.c80) (h r hr)
theorem fcnt_c {σ τ : Rw} (hs : rC τ = rC σ) (e : ∀ c, c < rC σ → (fenced τ c ↔ fenced σ c)) : fcnt τ = fcnt σ := by
  unfold fcnt
  rw [hs]
  exact smN_c _ (fun c hc => congrArg b01 (decide_eq_decide.mpr (e c hc)))
theorem day_J {σ : Rw} (h : RowJ σ) (hd : rD σ < 1200) : RowJ (dayR σ) := by
  obtain ⟨h1, h2, h3⟩ := dayR_keep h.w h.y hd
  have hV := h.w.same h1 h2
  have hG : SameG σ (dayR σ) := fun j hj => h1 j (by unfold Geo at hj; unfold Stat; omega)
  refine ⟨⟨hV, ways_all h.w hV h1 h.y, day_cel h.w h.y hd h.1.2.2.1, ?_⟩, h.g.geo h.w hG (fun c _ q => by rw [h1.kind c]; exact q)⟩
  rw [h1.f, fcnt_c h1.c (fun c _ => by unfold fenced; rw [h1.fence c])]
  exact h.1.2.2.2
theorem days_J {σ : Rw} (h : RowJ σ) : ∀ n, rD σ + n ≤ 1200 → RowJ (daysR σ n) ∧ rD (daysR σ n) = rD σ + n
  | 0, _ => ⟨h, rfl⟩
  | n + 1, hn => by
    obtain ⟨h1, h2⟩ := days_J h n (by omega)
    exact ⟨day_J h1 (by omega), by
      show rD (dayR _) = _
      rw [(dayR_keep h1.w h1.y (by omega)).2.2, h2]; rfl⟩
