/-! PURE: each change keeps the row as it must be -/
set_option maxRecDepth 100000
theorem smN_up {f h : Nat → Nat} {c : Nat} (he : ∀ j, j ≠ c → h j = f j) : ∀ n, c < n → smN h n + f c = smN f n + h c
  | 0, hc => absurd hc (Nat.not_lt_zero _)
  | n + 1, hc => by
    show smN h n + h n + f c = smN f n + f n + h c
    by_cases q : c = n
    · subst q
      rw [smN_c c (fun j hj => he j (by omega))]
      omega
    · have := smN_up he n (by omega)
      rw [he n (fun z => q z.symm)]
      omega
theorem nI_inj {a b : Nat} (ha : a < 2147483648) (hb : b < 2147483648) (h : nI a = nI b) : a = b := (nI_eqI ha hb).mp h
theorem f01 {σ : Rw} {c : Nat} (h : CelI σ c) (hf : ¬ fenced σ c) : σ (153 + 5 * c + 2) = nI 0 := h.2.1.resolve_right hf
theorem CelI.cong {σ τ : Rw} {c : Nat} (h : CelI σ c) (e : ∀ v, v < 5 → τ (153 + 5 * c + v) = σ (153 + 5 * c + v)) (hd : rD τ = rD σ) : CelI τ c := by
  have h1 := CelD.cong (τ := τ) h.d e
  rw [← hd] at h1
  exact h1
/-- fences, one cell other -/
theorem fcnt_up {σ τ : Rw} {c : Nat} (hs : rC τ = rC σ) (hc : c < rC σ) (e : ∀ j, j ≠ c → (fenced τ j ↔ fenced σ j)) : fcnt τ + b01 (decide (fenced σ c)) = fcnt σ + b01 (decide (fenced τ c)) := by
  unfold fcnt
  rw [hs]
  exact smN_up (f := fun c => b01 (decide (fenced σ c))) (h := fun c => b01 (decide (fenced τ c))) (fun j hj => congrArg b01 (decide_eq_decide.mpr (e j hj))) _ hc
theorem fenceS_o {σ : Rw} {c j : Nat} (h : j ≠ 153 + 5 * c + 2 ∧ j ≠ 2 ∧ j ≠ 18) : fenceS σ c j = σ j := by
  unfold fenceS fen2 fenceOn
  rw [pk_un (by omega), pk_un (by omega), pk_un (by omega)]
theorem fenceS_f {σ : Rw} {c : Nat} : fenceS σ c (153 + 5 * c + 2) = nI 1 := by
  unfold fenceS fen2 fenceOn
  rw [pk_un (by omega), pk_un (by omega), pk_us]
theorem fenceS_2 {σ : Rw} (h : RowW σ) {c : Nat} : fenceS σ c 2 = nI (rF σ + 1) := by
  unfold fenceS fen2 fenceOn
  rw [pk_un (by omega), pk_us, pk_un (by omega), h.f, nI_add]
theorem fenceOn_o {σ : Rw} {c j : Nat} (h : j ≠ 153 + 5 * c + 2) : fenceOn σ c j = σ j := by
  unfold fenceOn
  rw [pk_un h]
theorem fenceS_J {σ : Rw} (h : RowJ σ) {c : Nat} (hc : c < rC σ) (hk : σ (153 + 5 * c + 0) = 0) (hf : ¬ fenced σ c) (h10 : ¬ rF σ = 10) (hy : ways (fenceOn σ c)) : RowJ (fenceS σ c) := by
  have hW := h.w
  have hc80 := hW.s.c80
  have hf10 := hW.f10
  have hV : RowW (fenceS σ c) := (fen2_w hW (by omega)).up (by unfold Plc; omega)
  have hd : rD (fenceS σ c) = rD σ := by unfold rD; rw [fenceS_o (by omega)]
  have hG : SameG σ (fenceS σ c) := fun j hj => fenceS_o (by unfold Geo at hj; omega)
  have hG2 : SameG (fenceOn σ c) (fenceS σ c) := fun j hj => by rw [hG j hj, fenceOn_o (by unfold Geo at hj; omega)]
  have eF : rF (fenceS σ c) = rF σ + 1 := by
    show (fenceS σ c 2).toNatClampNeg = _
    rw [fenceS_2 hW]; exact nI_nat (by omega)
  refine ⟨⟨hV, ways_geo hW.fenceOn hV hG2 (fun j hj q => ⟨by rw [fenceOn_o (by omega)]; have := q.1; rwa [fenceS_o (by omega)] at this, ?_⟩) hy, fun j hj => ?_, ?_⟩, h.g.geo hW hG (fun j hj q => by rw [fenceS_o (by omega)]; exact q)⟩
  · by_cases e : j = c
    · rw [e]; show fenceOn σ c (153 + 5 * c + 2) = nI 1; unfold fenceOn; rw [pk_us]
    · have := q.2
      show fenceOn σ c (153 + 5 * j + 2) = nI 1
      rw [fenceOn_o (by omega)]
      have z : fenceS σ c (153 + 5 * j + 2) = nI 1 := this
      rwa [fenceS_o (by omega)] at z
  · by_cases e : j = c
    · subst e
      obtain ⟨-, -, h4, h5, h6⟩ := h.c hj
      have t : cTr (fenceS σ j) j = cTr σ j := by unfold cTr; rw [fenceS_o (by omega)]
      have l : cLt (fenceS σ j) j = cLt σ j := by unfold cLt; rw [fenceS_o (by omega)]
      exact ⟨Or.inl (by rw [fenceS_o (by omega)]; exact hk), Or.inr fenceS_f, by rw [fenceS_o (by omega), t, hd]; exact h4, by rw [fenceS_o (by omega), l, hd]; exact h5, by rw [t, l]; exact h6⟩
    · exact (h.c hj).cong (fun v hv => fenceS_o (by omega)) hd
  · have h1 := fcnt_up (σ := σ) (τ := fenceS σ c) hG.c hc (fun j hj => by unfold fenced; rw [fenceS_o (by omega)])
    rw [decide_eq_false hf, decide_eq_true (show fenced (fenceS σ c) c from fenceS_f)] at h1
    have h2 := h.1.2.2.2
    have h3 : b01 true = 1 := rfl
    have h4 : b01 false = 0 := rfl
    omega
theorem openS_o {σ : Rw} {c j : Nat} (h : j ≠ 153 + 5 * c + 2 ∧ j ≠ 2 ∧ j ≠ 19) : openS σ c j = σ j := by
  unfold openS ope2 ope1
  rw [pk_un (by omega), pk_un (by omega), pk_un (by omega)]
theorem openS_f {σ : Rw} {c : Nat} : openS σ c (153 + 5 * c + 2) = nI 0 := by
  unfold openS ope2 ope1
  rw [pk_un (by omega), pk_un (by omega), pk_us]
theorem b01_sum {f : Nat → Nat} {c : Nat} : ∀ n, c < n → f c ≤ smN f n
  | 0, h => absurd h (Nat.not_lt_zero _)
  | n + 1, h => by
    show f c ≤ smN f n + f n
    by_cases q : c = n
    · rw [q]; omega
    · have := b01_sum (f := f) n (show c < n by omega); omega
theorem rF_pos {σ : Rw} (h : RowJ σ) {c : Nat} (hc : c < rC σ) (hf : fenced σ c) : 1 ≤ rF σ := by
  rw [h.1.2.2.2]
  have := b01_sum (f := fun c => b01 (decide (fenced σ c))) _ hc
  simp only [decide_eq_true hf] at this
  exact this
theorem openS_2 {σ : Rw} (h : RowW σ) {c : Nat} (h1 : 1 ≤ rF σ) : openS σ c 2 = nI (rF σ - 1) := by
  unfold openS ope2 ope1
  rw [pk_un (by omega), pk_us, pk_un (by omega), h.f]
  exact pk_sub h1
theorem openS_J {σ : Rw} (h : RowJ σ) {c : Nat} (hc : c < rC σ) (hf : fenced σ c) : RowJ (openS σ c) := by
  have hW := h.w
  have hc80 := hW.s.c80
  have hf10 := hW.f10
  have h1 := rF_pos h hc hf
  have e2 : ope1 σ c 2 - nI 1 = nI (rF σ - 1) := by
    unfold ope1
    rw [pk_un (by omega), hW.f]
    exact pk_sub h1
  have hV : RowW (openS σ c) := by
    unfold openS
    refine RowW.up ?_ (by unfold Plc; omega)
    unfold ope2
    rw [e2]
    exact (fence_w hW).f2 (by omega)
  have hd : rD (openS σ c) = rD σ := by unfold rD; rw [openS_o (by omega)]
  have hG : SameG σ (openS σ c) := fun j hj => openS_o (by unfold Geo at hj; omega)
  have eF : rF (openS σ c) = rF σ - 1 := by
    show (openS σ c 2).toNatClampNeg = _
    rw [openS_2 hW h1]; exact nI_nat (by omega)
  refine ⟨⟨hV, ways_geo hW hV hG (fun j hj q => ?_) h.y, fun j hj => ?_, ?_⟩, h.g.geo hW hG (fun j hj q => by rw [openS_o (by omega)]; exact q)⟩
  · obtain ⟨q1, q2⟩ := q
    rw [openS_o (by omega)] at q1
    refine ⟨q1, ?_⟩
    by_cases e : j = c
    · rw [e]; exact hf
    · have z : openS σ c (153 + 5 * j + 2) = nI 1 := q2
      rwa [openS_o (by omega)] at z
  · by_cases e : j = c
    · subst e
      obtain ⟨h2, -, h4, h5, h6⟩ := h.c hj
      have t : cTr (openS σ j) j = cTr σ j := by unfold cTr; rw [openS_o (by omega)]
      have l : cLt (openS σ j) j = cLt σ j := by unfold cLt; rw [openS_o (by omega)]
      have gg : cGr (openS σ j) j = cGr σ j := by unfold cGr; rw [openS_o (by omega)]
      refine ⟨?_, Or.inl openS_f, by rw [openS_o (by omega), t, hd]; exact h4, by rw [openS_o (by omega), l, hd]; exact h5, by rw [t, l]; exact h6⟩
      rw [openS_o (by omega), gg, openS_f]
      rcases h2 with h2 | ⟨h2, h3, h7⟩
      · exact Or.inl h2
      · exact Or.inr ⟨h2, rfl, h7⟩
    · exact (h.c hj).cong (fun v hv => openS_o (by omega)) hd
  · have h2 := fcnt_up (σ := σ) (τ := openS σ c) hG.c hc (fun j hj => by unfold fenced; rw [openS_o (by omega)])
    rw [decide_eq_true hf, decide_eq_false (show ¬ fenced (openS σ c) c from fun z => by have z : openS σ c (153 + 5 * c + 2) = nI 1 := z; rw [openS_f] at z; exact absurd z (by decide +kernel))] at h2
    have h3 := h.1.2.2.2
    have h4 : b01 true = 1 := rfl
    have h5 : b01 false = 0 := rfl
    omega
/-- what is changed in one cell and the accounts alone keeps the rest -/
theorem cell_J {σ τ : Rw} (h : RowJ σ) {c : Nat} (hc : c < rC σ) (ho : ∀ j, j ≠ 153 + 5 * c + 0 → j ≠ 153 + 5 * c + 1 → ¬ (9 ≤ j ∧ j < 21) → τ j = σ j) (hg : τ (153 + 5 * c + 1) = nI (cGr τ c) ∧ cGr τ c ≤ 9)
    (hk : τ (153 + 5 * c + 0) = σ (153 + 5 * c + 0) ∧ σ (153 + 5 * c + 0) = 0 ∨ (τ (153 + 5 * c + 0) = nI 1 ∧ cGr τ c = 0 ∧ ¬ fenced σ c ∧ σ (153 + 5 * c + 0) = 0)) : RowJ τ := by
  have hW := h.w
  have hc80 := hW.s.c80
  have hV : RowW τ := by
    refine hW.mk (fun j h1 h2 => ho j (by omega) (by omega) (by omega)) ?_ ?_ ?_ ?_ ?_ ?_
    · have e : rG τ = rG σ := by unfold rG; rw [ho 0 (by omega) (by omega) (by omega)]
      rw [e, ho 0 (by omega) (by omega) (by omega)]; exact ⟨hW.g, hW.g6⟩
    · have e : rK τ = rK σ := by unfold rK; rw [ho 1 (by omega) (by omega) (by omega)]
      rw [e, ho 1 (by omega) (by omega) (by omega)]; exact ⟨hW.k, hW.k6⟩
    · have e : rF τ = rF σ := by unfold rF; rw [ho 2 (by omega) (by omega) (by omega)]
      rw [e, ho 2 (by omega) (by omega) (by omega)]; exact ⟨hW.f, hW.f10⟩
    · intro r hr
      have e : rG τ = rG σ := by unfold rG; rw [ho 0 (by omega) (by omega) (by omega)]
      have g6 := hW.g6
      rw [e] at hr
      exact rowG_c (hW.G hr) (ho _ (by omega) (by omega) (by omega)) (ho _ (by omega) (by omega) (by omega)) (ho 4 (by omega) (by omega) (by omega)) (ho 5 (by omega) (by omega) (by omega))
    · intro k hk
      have e : rK τ = rK σ := by unfold rK; rw [ho 1 (by omega) (by omega) (by omega)]
      have e2 : rG τ = rG σ := by unfold rG; rw [ho 0 (by omega) (by omega) (by omega)]
      have k6 := hW.k6
      rw [e] at hk
      exact rowK_c (hW.K hk) (fun j h1 h2 => ho _ (by omega) (by omega) (by omega)) (by rw [e2]; exact Nat.le_refl _)
    · intro j hj
      by_cases e : j = c
      · rw [e]; exact hg
      · exact cel_c ⟨hW.c hj, hW.c9 hj⟩ (ho _ (by omega) (by omega) (by omega))
  have hd : rD τ = rD σ := by unfold rD; rw [ho 3 (by omega) (by omega) (by omega)]
  have hG : SameG σ τ := fun j hj => ho j (by unfold Geo at hj; omega) (by unfold Geo at hj; omega) (by unfold Geo at hj; omega)
  have hfe : ∀ j, τ (153 + 5 * j + 2) = σ (153 + 5 * j + 2) := fun j => ho _ (by omega) (by omega) (by omega)
  have hk0 : σ (153 + 5 * c + 0) = 0 := hk.elim (fun q => q.2) (fun q => q.2.2.2)
  refine ⟨⟨hV, ways_geo hW hV hG (fun j hj q => ?_) h.y, fun j hj => ?_, ?_⟩, h.g.geo hW hG (fun j hj q => ?_)⟩
  · obtain ⟨q1, q2⟩ := q
    have q3 : σ (153 + 5 * j + 2) = nI 1 := by rw [← hfe j]; exact q2
    by_cases e : j = c
    · rw [e]; rw [e] at q3; exact ⟨hk0, q3⟩
    · exact ⟨by rw [← ho (153 + 5 * j + 0) (by omega) (by omega) (by omega)]; exact q1, q3⟩
  · by_cases e : j = c
    · subst e
      obtain ⟨h2, h3, h4, h5, h6⟩ := h.c hj
      have t : cTr τ j = cTr σ j := by unfold cTr; rw [ho _ (by omega) (by omega) (by omega)]
      have l : cLt τ j = cLt σ j := by unfold cLt; rw [ho _ (by omega) (by omega) (by omega)]
      refine ⟨?_, by rw [hfe j]; exact h3, by rw [ho _ (by omega) (by omega) (by omega), t, hd]; exact h4, by rw [ho _ (by omega) (by omega) (by omega), l, hd]; exact h5, by rw [t, l]; exact h6⟩
      rcases hk with ⟨q1, q2⟩ | ⟨q1, q2, q3, -⟩
      · exact Or.inl (by rw [q1]; exact q2)
      · exact Or.inr ⟨Or.inl q1, by rw [hfe j]; exact h3.resolve_right q3, q2⟩
    · exact (h.c hj).cong (fun v hv => ho _ (by omega) (by omega) (by omega)) hd
  · have e : rF τ = rF σ := by unfold rF; rw [ho 2 (by omega) (by omega) (by omega)]
    rw [e, fcnt_c hG.c (fun j _ => by unfold fenced; rw [hfe j])]
    exact h.1.2.2.2
  · by_cases e : j = c
    · rw [e, hk0] at q
      exact absurd q (by decide +kernel)
    · rw [ho _ (by omega) (by omega) (by omega)]; exact q
theorem paveS_o {σ : Rw} {c j : Nat} (h : j ≠ 153 + 5 * c + 0 ∧ j ≠ 153 + 5 * c + 1 ∧ j ≠ 16) : paveS σ c j = σ j := by
  unfold paveS stoneR pav1
  rw [pk_un (by omega), pk_un (by omega), pk_un (by omega)]
theorem paveS_J {σ : Rw} (h : RowJ σ) {c : Nat} (hc : c < rC σ) (hk : σ (153 + 5 * c + 0) = 0) (hf : ¬ fenced σ c) : RowJ (paveS σ c) := by
  have e1 : paveS σ c (153 + 5 * c + 1) = nI 0 := by unfold paveS stoneR; rw [pk_us]
  have e0 : paveS σ c (153 + 5 * c + 0) = nI 1 := by unfold paveS stoneR; rw [pk_un (by omega), pk_us]
  have g : cGr (paveS σ c) c = 0 := by unfold cGr; rw [e1]; decide +kernel
  exact cell_J h hc (fun j h1 h2 h3 => paveS_o (by omega)) (by rw [g]; exact ⟨e1, by omega⟩) (Or.inr ⟨e0, g, hf, hk⟩)
theorem sowS_J {σ : Rw} (h : RowJ σ) {c : Nat} (hc : c < rC σ) (hk : σ (153 + 5 * c + 0) = 0) : RowJ (sowS σ c) := by
  have e1 : sowS σ c (153 + 5 * c + 1) = nI 9 := by unfold sowS sow1; rw [pk_un (by omega), pk_us]
  have g : cGr (sowS σ c) c = 9 := by unfold cGr; rw [e1]; decide +kernel
  refine cell_J h hc (fun j h1 h2 h3 => ?_) (by rw [g]; exact ⟨e1, by omega⟩) (Or.inl ⟨?_, hk⟩)
  · unfold sowS sow1; rw [pk_un (by omega), pk_un (by omega)]
  · unfold sowS sow1; rw [pk_un (by omega), pk_un (by omega)]
/-- what is changed in one walker alone -/
theorem walker_J {σ τ : Rw} (h : RowJ σ) {w : Nat} (ho : ∀ j, j ≠ 75 + 13 * w + 7 → j ≠ 75 + 13 * w + 8 → j ≠ 75 + 13 * w + 9 → τ j = σ j) (hw6 : w < 6) (hK : w < rK σ → RowK τ w) (hy : RowW τ → w < rK σ → dist τ w 0 (gC τ (wFr τ w)) < 1000000) : RowJ τ := by
  have hW := h.w
  have g6 := hW.g6
  have k6 := hW.k6
  have eG : rG τ = rG σ := by unfold rG; rw [ho 0 (by omega) (by omega) (by omega)]
  have eK : rK τ = rK σ := by unfold rK; rw [ho 1 (by omega) (by omega) (by omega)]
  have eF : rF τ = rF σ := by unfold rF; rw [ho 2 (by omega) (by omega) (by omega)]
  have eD : rD τ = rD σ := by unfold rD; rw [ho 3 (by omega) (by omega) (by omega)]
  have eW : rW τ = rW σ := by unfold rW; rw [ho 4 (by omega) (by omega) (by omega)]
  have eH : rH τ = rH σ := by unfold rH; rw [ho 5 (by omega) (by omega) (by omega)]
  have eC : rC τ = rC σ := by unfold rC; rw [eW, eH]
  have hcell : ∀ c v, c < 80 → v < 5 → τ (153 + 5 * c + v) = σ (153 + 5 * c + v) := fun c v _ _ => ho _ (by omega) (by omega) (by omega)
  have hV : RowW τ := by
    refine hW.mk (fun j h1 h2 => ho j (by omega) (by omega) (by omega)) ?_ ?_ ?_ ?_ ?_ ?_
    · rw [eG, ho 0 (by omega) (by omega) (by omega)]; exact ⟨hW.g, hW.g6⟩
    · rw [eK, ho 1 (by omega) (by omega) (by omega)]; exact ⟨hW.k, hW.k6⟩
    · rw [eF, ho 2 (by omega) (by omega) (by omega)]; exact ⟨hW.f, hW.f10⟩
    · intro r hr
      rw [eG] at hr
      exact rowG_c (hW.G hr) (ho _ (by omega) (by omega) (by omega)) (ho _ (by omega) (by omega) (by omega)) (ho 4 (by omega) (by omega) (by omega)) (ho 5 (by omega) (by omega) (by omega))
    · intro k hk
      rw [eK] at hk
      by_cases e : k = w
      · rw [e]; rw [e] at hk; exact hK hk
      · exact rowK_c (hW.K hk) (fun j h1 h2 => ho _ (by omega) (by omega) (by omega)) (by rw [eG]; exact Nat.le_refl _)
    · intro j hj
      exact cel_c ⟨hW.c hj, hW.c9 hj⟩ (hcell j 1 hj (by omega))
  have gc : ∀ r, r < 6 → gC τ r = gC σ r := fun r hr => by
    unfold gC gX gY
    rw [eW, ho _ (by omega) (by omega) (by omega), ho _ (by omega) (by omega) (by omega)]
  have ec : ∀ c, c < 80 → ∀ k, (ecost σ k 0 c).isSome = true → (ecost τ k 0 c).isSome = true := fun c hc k q => by
    rw [ec_shut] at q ⊢
    exact fun z => q ⟨by rw [← hcell c 0 hc (by omega)]; exact z.1, by have := z.2; unfold fenced at this; rwa [hcell c 2 hc (by omega)] at this⟩
  refine ⟨⟨hV, fun k hk => ?_, fun j hj => (h.c hj).cong (fun v hv => hcell j v hj hv) eD, ?_⟩, fun r hr => ?_⟩
  · rw [eK] at hk
    by_cases e : k = w
    · rw [e]; rw [e] at hk; exact hy hV hk
    · have ef : wFr τ k = wFr σ k := by unfold wFr; rw [ho _ (by omega) (by omega) (by omega)]
      have et : wTo τ k = wTo σ k := by unfold wTo; rw [ho _ (by omega) (by omega) (by omega)]
      have hKk := hW.K hk
      rw [ef, gc _ (by have := hKk.1.2; omega)]
      exact way_keep hW hV eW eH (by rw [et, gc _ (by have := hKk.2.1.2; omega)]) (fun c hc q => ec c hc k q) _ _ (Nat.lt_succ_self _) (gC_lt hW.s (hW.G hKk.1.2)) (h.y k hk)
  · rw [eF, fcnt_c eC (fun j hj => by unfold fenced; rw [hcell j 2 (by have := hW.s.c80; omega) (by omega)])]
    exact h.1.2.2.2
  · rw [eG] at hr
    rw [gc r (by omega)]
    have := h.g r hr
    rwa [hcell _ 0 (Nat.lt_of_lt_of_le (gC_lt hW.s (hW.G hr)) hW.s.c80) (by omega)]
theorem hasteS_J {σ : Rw} (h : RowJ σ) {w n : Nat} (hw6 : w < 6) (hn : n ≤ 9) : RowJ (upd σ (75 + 13 * w + 9) (nI n)) := by
  have ho : ∀ j, j ≠ 75 + 13 * w + 9 → upd σ (75 + 13 * w + 9) (nI n) j = σ j := fun j hj => pk_un hj
  refine walker_J h (fun j h1 h2 h3 => ho j h3) hw6 (fun hw => ?_) (fun hV hw => ?_)
  · obtain ⟨a1, a2, a3, a4⟩ := h.w.K hw
    have e9 : wHs (upd σ (75 + 13 * w + 9) (nI n)) w = n := by unfold wHs; rw [pk_us]; exact nI_nat (by omega)
    have e7 : wFr (upd σ (75 + 13 * w + 9) (nI n)) w = wFr σ w := by unfold wFr; rw [ho _ (by omega)]
    have e8 : wTo (upd σ (75 + 13 * w + 9) (nI n)) w = wTo σ w := by unfold wTo; rw [ho _ (by omega)]
    have e10 : wPd (upd σ (75 + 13 * w + 9) (nI n)) w = wPd σ w := by unfold wPd; rw [ho _ (by omega)]
    have eG : rG (upd σ (75 + 13 * w + 9) (nI n)) = rG σ := by unfold rG; rw [ho _ (by omega)]
    unfold RowK
    rw [e7, e8, e9, e10, eG, ho (75 + 13 * w + 7) (by omega), ho (75 + 13 * w + 8) (by omega), ho (75 + 13 * w + 10) (by omega), pk_us]
    exact ⟨a1, a2, ⟨rfl, hn⟩, a4⟩
  · have g6 := h.w.g6
    have hKk := h.w.K hw
    have hG : SameG σ (upd σ (75 + 13 * w + 9) (nI n)) := fun j hj => ho j (by unfold Geo at hj; omega)
    exact ways_geo h.w hV hG (fun c hc q => ⟨by rw [← ho _ (by omega)]; exact q.1, by have := q.2; unfold fenced at this; rwa [ho _ (by omega)] at this⟩) h.y w (by rw [hG.k]; exact hw)
theorem turnS_o {σ : Rw} {w j : Nat} (h1 : j ≠ 75 + 13 * w + 7) (h2 : j ≠ 75 + 13 * w + 8) : turnS σ w j = σ j := by
  unfold turnS
  rw [pk_un (by omega), pk_un (by omega)]
theorem turnS_7 {σ : Rw} {w : Nat} : turnS σ w (75 + 13 * w + 7) = σ (75 + 13 * w + 8) := by
  unfold turnS
  rw [pk_un (by omega), pk_us]
theorem turnS_8 {σ : Rw} {w : Nat} : turnS σ w (75 + 13 * w + 8) = σ (75 + 13 * w + 7) := by
  unfold turnS
  rw [pk_us]
theorem turnS_J {σ : Rw} (h : RowJ σ) {w : Nat} (hw6 : w < 6) : RowJ (turnS σ w) := by
  have e7 : wFr (turnS σ w) w = wTo σ w := by unfold wFr wTo; rw [turnS_7]
  have e8 : wTo (turnS σ w) w = wFr σ w := by unfold wFr wTo; rw [turnS_8]
  have eG : rG (turnS σ w) = rG σ := by unfold rG; rw [turnS_o (by omega) (by omega)]
  have eW : rW (turnS σ w) = rW σ := by unfold rW; rw [turnS_o (by omega) (by omega)]
  have eH : rH (turnS σ w) = rH σ := by unfold rH; rw [turnS_o (by omega) (by omega)]
  have g6 := h.w.g6
  have gc : ∀ r, r < 6 → gC (turnS σ w) r = gC σ r := fun r hr => by
    unfold gC gX gY
    rw [eW, turnS_o (by omega) (by omega), turnS_o (by omega) (by omega)]
  refine walker_J h (fun j h1 h2 _ => turnS_o h1 h2) hw6 (fun hw => ?_) (fun hV hw => ?_)
  · obtain ⟨a1, a2, a3, a4⟩ := h.w.K hw
    have e9 : wHs (turnS σ w) w = wHs σ w := by unfold wHs; rw [turnS_o (by omega) (by omega)]
    have e10 : wPd (turnS σ w) w = wPd σ w := by unfold wPd; rw [turnS_o (by omega) (by omega)]
    unfold RowK
    rw [e7, e8, e9, e10, eG, turnS_7, turnS_8, turnS_o (j := 75 + 13 * w + 9) (by omega) (by omega), turnS_o (j := 75 + 13 * w + 10) (by omega) (by omega)]
    exact ⟨a2, a1, a3, a4⟩
  · have hKk := h.w.K hw
    have hc80 := h.w.s.c80
    have hcell : ∀ c v, turnS σ w (153 + 5 * c + v) = σ (153 + 5 * c + v) := fun c v => turnS_o (by omega) (by omega)
    have ec : ∀ c, c < 80 → (ecost σ w 0 c).isSome = true → (ecost (turnS σ w) w 0 c).isSome = true := fun c hc q => by
      rw [ec_shut] at q ⊢
      exact fun z => q ⟨by rw [← hcell c 0]; exact z.1, by have := z.2; unfold fenced at this; rwa [hcell c 2] at this⟩
    rw [e7, gc _ (by have := hKk.2.1.2; omega)]
    refine way_back h.w hw hV eW eH (by rw [e8, gc _ (by have := hKk.1.2; omega)]) ?_ ec (h.y w hw)
    refine ec _ (Nat.lt_of_lt_of_le (gC_lt h.w.s (h.w.G hKk.1.2)) hc80) (ec_shut.mpr (fun z => ?_))
    have q := h.g _ hKk.1.2
    rw [z.1] at q
    exact absurd q (by decide +kernel)
/-- an order's change -/
noncomputable def ordD (σ : Rw) (k a b : Nat) : Int32 × Rw := if k = 0 then runC σ a else if k = 1 then inC σ a b (fenceC σ) else if k = 2 then inC σ a b (openC σ) else if k = 3 then inC σ a b (paveC σ) else if k = 4 then inC σ a b (sowC σ) else if k = 5 then hasteC σ a b else turnC σ a
def OrdV (k a b : Nat) : Prop := k < 7 ∧ (k = 0 → a ≤ 60) ∧ (1 ≤ k → k ≤ 4 → a < 10 ∧ b < 8) ∧ (k = 5 → a < 6 ∧ b ≤ 9) ∧ (k = 6 → a < 6)
abbrev RowN (σ : Rw) : Prop := RowJ σ ∧ rD σ ≤ 999
theorem fenceC_N {σ : Rw} (h : RowN σ) {c : Nat} (hc : c < rC σ) : RowN (fenceC σ c).2 := by
  unfold fenceC
  by_cases q : whyF σ c = nI 0
  · rw [if_pos q]
    unfold whyF at q
    by_cases q1 : σ (153 + 5 * c + 0) = 0
    · rw [if_pos q1] at q
      by_cases q2 : fenced σ c
      · rw [if_pos q2] at q; exact absurd q (by decide +kernel)
      · rw [if_neg q2] at q
        by_cases q3 : rF σ = 10
        · rw [if_pos q3] at q; exact absurd q (by decide +kernel)
        · rw [if_neg q3] at q
          by_cases q4 : ways (fenceOn σ c)
          · refine ⟨fenceS_J h.1 hc q1 q2 q3 q4, ?_⟩
            show rD (fenceS σ c) ≤ 999
            unfold rD
            rw [fenceS_o (by omega)]
            exact h.2
          · rw [if_neg q4] at q; exact absurd q (by decide +kernel)
    · rw [if_neg q1] at q; exact absurd q (by decide +kernel)
  · rw [if_neg q]; exact h
theorem openC_N {σ : Rw} (h : RowN σ) {c : Nat} (hc : c < rC σ) : RowN (openC σ c).2 := by
  unfold openC
  split
  · refine ⟨openS_J h.1 hc (by assumption), ?_⟩
    show rD (openS σ c) ≤ 999
    unfold rD
    rw [openS_o (by omega)]
    exact h.2
  · exact h
theorem paveC_N {σ : Rw} (h : RowN σ) {c : Nat} (hc : c < rC σ) : RowN (paveC σ c).2 := by
  unfold paveC
  split
  · split
    · exact h
    · refine ⟨paveS_J h.1 hc (by assumption) (by assumption), ?_⟩
      show rD (paveS σ c) ≤ 999
      unfold rD
      rw [paveS_o (by omega)]
      exact h.2
  · exact h
theorem sowC_N {σ : Rw} (h : RowN σ) {c : Nat} (hc : c < rC σ) : RowN (sowC σ c).2 := by
  unfold sowC
  split
  · split
    · exact h
    · refine ⟨sowS_J h.1 hc (by assumption), ?_⟩
      show rD (sowS σ c) ≤ 999
      unfold rD sowS sow1
      rw [pk_un (by omega), pk_un (by omega)]
      exact h.2
  · exact h
theorem hasteC_N {σ : Rw} (h : RowN σ) {w n : Nat} (hw : w < 6) (hn : n ≤ 9) : RowN (hasteC σ w n).2 := by
  unfold hasteC
  split
  · exact h
  · refine ⟨hasteS_J h.1 hw hn, ?_⟩
    show rD (upd σ (75 + 13 * w + 9) (nI n)) ≤ 999
    unfold rD
    rw [pk_un (by omega)]
    exact h.2
theorem turnC_N {σ : Rw} (h : RowN σ) {w : Nat} (hw : w < 6) : RowN (turnC σ w).2 := by
  refine ⟨turnS_J h.1 hw, ?_⟩
  show rD (turnS σ w) ≤ 999
  unfold rD
  rw [turnS_o (by omega) (by omega)]
  exact h.2
theorem runC_N {σ : Rw} (h : RowN σ) {n : Nat} : RowN (runC σ n).2 := by
  unfold runC
  split
  · obtain ⟨h1, h2⟩ := days_J h.1 n (by omega)
    refine ⟨h1, ?_⟩
    show rD (daysR σ n) ≤ 999
    omega
  · exact h
theorem inC_N {σ : Rw} (h : RowN σ) {a b : Nat} {f : Nat → Int32 × Rw} (hf : ∀ c, c < rC σ → RowN (f c).2) : RowN (inC σ a b f).2 := by
  unfold inC
  split
  · rename_i q
    exact hf _ (at_lt h.1.w.s q.1 q.2)
  · exact h
theorem ordD_N {σ : Rw} (h : RowN σ) {k a b : Nat} (hv : OrdV k a b) : RowN (ordD σ k a b).2 := by
  obtain ⟨h7, v0, v1, v5, v6⟩ := hv
  unfold ordD
  split
  · exact runC_N h
  · split
    · exact inC_N h (fun c hc => fenceC_N h hc)
    · split
      · exact inC_N h (fun c hc => openC_N h hc)
      · split
        · exact inC_N h (fun c hc => paveC_N h hc)
        · split
          · exact inC_N h (fun c hc => sowC_N h hc)
          · split
            · rename_i q; exact hasteC_N h (v5 q).1 (v5 q).2
            · exact turnC_N h (v6 (by omega))
