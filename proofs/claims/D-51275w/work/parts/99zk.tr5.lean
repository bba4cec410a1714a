/-! THE COMPONENT, 21: the script -/
set_option maxRecDepth 100000
theorem ng_lt {r : Nat} (h1 : 1 ≤ r) (h9 : r < 10) : -(nI r) < 0 := by
  have : ∀ r, r < 10 → 1 ≤ r → -(nI r) < 0 := by decide +kernel
  exact this r h9 h1
/-- what the script keeps: its lawn -/
def ScK (g : GZ) (A : HA) (s b : Nat) (db : Nat → Nat) (ρ : Rw) : Prop := ((A.G s).1 = 10 ∧ A.R s 0 = some b) ∧ Ly A b db ρ ∧ Lv A.I b db ρ ∧ DeK g A ∧ ∀ k, k < rK ρ → ∃ nm, A.R (db (30 + k)) 0 = some nm
set_option maxHeartbeats 4000000 in
theorem s_isDone {g : GZ} {A : HA} {s b : Nat} {db : Nat → Nat} {ρ : Rw} (hS : ScK g A s b db ρ) (hJ : RowJ ρ) (hG : GdK g) (hK : LamK g) {o : Nat} {x : Chg} (hI : LamIs A o x) (hok : x.ok ρ)  : Ct g wI yX10_isDone (.codeWith yX10_isDone cX10_isDone 4 (Option.some Jvm.ClassFile.FieldType.boolean) [(8, 19, 23, 42)]) 20 29 968 [.ref s, .ref o] (A) (fun u A' => (u = nI 1 ∧ 0 ≤ (x.C ρ).1 ∧ x.1 < 7 ∧ ∃ w B D d2, Cp A B w db d2 ρ ∧ Nx B D w d2 (x.C ρ).2 ∧ Gw A D Non ∧ A' = D.sR s (va_up (D.R s) 0 (some w))) ∨ (u = nI 0 ∧ (x.C ρ).1 < 0 ∧ Gw A A' Non)) fw_no := by
  refine Ct.ofH [some (.ref s), some (.ref o), none, none] (by decide) rfl rfl fun z C hx hnm E => ?_
  obtain ⟨⟨h10, hsl⟩, hL, hv, hDE, hnam⟩ := id hS
  refine r_Zo fun hZo => ?_
  refine r_Z fun hZ => ?_
  have ls := hZ.lt h10 rfl
  have hW := hJ.w
  have hC : ∀ c, c < 80 → CelF ρ c := fun c hc => (hJ.c hc).fe
  refine r_aload_0 (pc := 0) C dX10_isDone_0 ?_
  refine r_getR (pc := 1) C fl_X10_19_10 h10 rfl hsl dX10_isDone_1 ?_
  refine r_V0r (pc := 4) C (l_copy hL hv hW hC hDE hnam) vl_X10_30 (ly_g hL) (by decide) (by omega) (by omega) (Nat.le_of_ble_eq_true rfl) rfl dX10_isDone_4 (fun u1 A1 hc1 => ?_)
  obtain ⟨d2, hCp⟩ := hc1
  generalize A1 = B at hCp ⊢
  generalize u1 = w at hCp ⊢
  have hIB := hI.gw hZ hCp.2.2.2.1 (fun q => q)
  refine r_astore_2 (pc := 7) C dX10_isDone_7 rfl ?_
  refine r_aload_1 (pc := 8) C dX10_isDone_8 ?_
  refine r_aload_2 (pc := 9) C dX10_isDone_9 ?_
  refine r_does (pc := 10) C hK hIB hok hCp.2.1 hCp.2.2.1 hJ hG q1862 (by omega) (by omega) (by omega) (Nat.le_of_ble_eq_true rfl) rfl dX10_isDone_10 ?_ (fun u9 A9 hc9 => ?_)
  · intro q9 A9 hp9 hE9
    obtain ⟨r9, hr1, hr9, hC9, hU9⟩ := hp9
    refine r_catch C [] ⟨8, 19, 23, 42⟩ [] (hx.trans rfl) (fun _ h => nomatch h) (by decide) (by decide) q1859 q1752 ((congrArg fw_ex hU9.1).trans rfl) ?_
    refine r_astore_3 (pc := 23) C dX10_isDone_23 rfl ?_
    refine r_iconst (pc := 24) C dX10_isDone_24 ci_0 ?_
    refine r_iret (pc := 25) C E nar_0 (by omega) (by omega) dX10_isDone_25 ?_
    refine Or.inr ⟨rfl, by rw [hC9]; exact ng_lt hr1 hr9, hCp.2.2.2.1.tr2 hU9.2.2 (fun y hy z => cp_old hZo hCp y hy z)⟩
  rcases hc9 with ⟨h7, hN9, rfl, h09⟩ | ⟨e7, rfl, rfl⟩
  · skip
    generalize A9 = D at hN9 ⊢
    have hGD := cp_gw hZo hCp hN9
    have hsD : (D.G s).1 = 10 := by rw [(hGD.2 s ls).1]; exact hS.1.1
    refine r_if_ge (pc := 15) (tgt := 20) C dX10_isDone_15 (by decide) (fun b15 => ?_) (fun b15 => ?_)
    · skip
      refine r_goto (pc := 20) (tgt := 26) C dX10_isDone_20 (by decide) ?_
      refine r_aload_0 (pc := 26) C dX10_isDone_26 ?_
      refine r_aload_2 (pc := 27) C dX10_isDone_27 ?_
      refine r_putR (pc := 28) C fl_X10_19_10 hsD rfl (fun _ _ _ h => by cases h; exact Or.inl rfl) rfl dX10_isDone_28 ?_
      refine r_iconst (pc := 31) C dX10_isDone_31 ci_1 ?_
      refine r_iret (pc := 32) C E nar_1 (by omega) (by omega) dX10_isDone_32 ?_
      exact Or.inl ⟨rfl, h09, h7, w, B, D, d2, hCp, hN9, hGD, rfl⟩
    · skip
      exact absurd h09 b15
  · skip
    refine r_if_ge (pc := 15) (tgt := 20) C dX10_isDone_15 (by decide) (fun b15 => ?_) (fun b15 => ?_)
    · exact absurd b15 (by decide +kernel)
    · skip
      refine r_iconst (pc := 18) C dX10_isDone_18 ci_0 ?_
      refine r_iret (pc := 19) C E nar_0 (by omega) (by omega) dX10_isDone_19 ?_
      refine Or.inr ⟨rfl, by unfold Chg.C; rw [e7]; show (-1 : Int32) < 0; decide, hCp.2.2.2.1⟩
theorem chg_g {ρ : Rw} (h : RowN ρ) {x : Chg} {j : Nat} (hj : j = 0 ∨ j = 1 ∨ j = 4 ∨ j = 5) : (x.C ρ).2 j = ρ j := by
  unfold Chg.C
  split
  · unfold runC
    split
    · exact (daysR_keep h.1.w h.1.y _ (by omega)).1 j (by unfold Stat; omega)
    · rfl
  · unfold fenceC
    split
    · exact fenceS_o (by omega)
    · rfl
  · unfold openC
    split
    · exact openS_o (by omega)
    · rfl
  · unfold paveC
    split
    · split
      · rfl
      · exact paveS_o (by omega)
    · rfl
  · unfold sowC
    split
    · split
      · rfl
      · show sowS ρ x.2.1 j = ρ j
        unfold sowS sow1
        rw [pk_un (by omega), pk_un (by omega)]
    · rfl
  · unfold hasteC
    split
    · rfl
    · exact pk_un (by omega)
  · exact turnS_o (by omega) (by omega)
  · rfl
theorem chg_N {ρ : Rw} (h : RowN ρ) {x : Chg} (hok : x.ok ρ) : RowN (x.C ρ).2 := by
  have k6 := h.1.w.k6
  unfold Chg.ok at hok
  unfold Chg.C
  split
  · rename_i e
    rw [e] at hok
    exact runC_N h
  · rename_i e
    rw [e] at hok
    exact fenceC_N h hok
  · rename_i e
    rw [e] at hok
    exact openC_N h hok
  · rename_i e
    rw [e] at hok
    exact paveC_N h hok
  · rename_i e
    rw [e] at hok
    exact sowC_N h hok
  · rename_i e
    rw [e] at hok
    exact hasteC_N h (Nat.lt_of_lt_of_le hok.1 k6) hok.2
  · rename_i e
    rw [e] at hok
    exact turnC_N h (Nat.lt_of_lt_of_le hok k6)
  · exact h
theorem ok_st {σ τ : Rw} {x : Chg} (e : ∀ j, (j = 0 ∨ j = 1 ∨ j = 4 ∨ j = 5) → τ j = σ j) (h : x.ok σ) : x.ok τ := by
  have eC : rC τ = rC σ := by unfold rC rW rH; rw [e 4 (by omega), e 5 (by omega)]
  have eK : rK τ = rK σ := by unfold rK; rw [e 1 (by omega)]
  unfold Chg.ok at h ⊢
  rw [eC, eK]
  exact h
/-- orders done, one after the other, until one can't be done -/
noncomputable def doC (χ : Nat → Chg) : Nat → Nat → Rw → Nat × Rw
  | 0, d, σ => (d, σ)
  | n + 1, d, σ => if ((χ d).C σ).1 < 0 then (d, σ) else doC χ n (d + 1) ((χ d).C σ).2
