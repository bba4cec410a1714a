/-! THE COMPONENT, 14: restore -/
set_option maxRecDepth 100000
set_option maxHeartbeats 4000000 in
theorem c_restoreNo {g : GZ} {A : HA} {c a : Nat} {d : Nat → Nat} {σ : Rw} (hc : (A.G c).1 = 1) (hn : A.R c 0 = some a) (hL : Ly A a d σ) (hv : Lv A.I a d σ) (hJ : RowJ σ) (hk0 : A.R c 1 = none) : Ct g wI yX1_restore (.code yX1_restore cX1_restore 1 (Option.some Jvm.ClassFile.FieldType.int)) 8 1 6 [.ref c] (A) (fun u A' => False) (fun x A' => TX A A' Non 18 x) := by
  refine Ct.of [some (.ref c)] (by decide) rfl rfl fun z C hx hnm E => ?_
  have hW := hJ.w
  have hS := hW.s
  have hw3 := hS.w3
  have hw10 := hS.w10
  have hh8 := hS.h8
  have hc80 := hS.c80
  have k6 := hW.k6
  have g6 := hW.g6
  have hC : ∀ c, c < 80 → CelF σ c := fun c hc => (hJ.c hc).fe
  have d9 := hW.d9
  refine r_aload_0 (pc := 0) C dX1_restore_0 ?_
  refine r_getN (pc := 1) C fl_X1_489_1 (by exact hc) rfl (by exact hk0) dX1_restore_1 ?_
  refine r_ifnonnullN (pc := 4) C dX1_restore_4 ?_
  refine r_make18 (pc := 7) C dX1_restore_7 dX1_restore_10 dX1_restore_11 (by decide) (Nat.le_of_ble_eq_true rfl) rfl (by omega) (by omega) fun m hm => ?_
  refine r_athrow (pc := 14) C dX1_restore_14 ?_
  refine r_out C E (by rw [hx]; exact fun x h => nomatch h) (En := RJ17) ((congrArg fw_ex (tx_mz (X := Non) hm).1).trans rfl) (by omega) (by omega) (tx_mz hm)
set_option maxHeartbeats 4000000 in
theorem c_restore {g : GZ} {A : HA} {c a : Nat} {d : Nat → Nat} {σ : Rw} (hc : (A.G c).1 = 1) (hn : A.R c 0 = some a) (hL : Ly A a d σ) (hv : Lv A.I a d σ) (hJ : RowJ σ) {q e h m : Nat} {f : Nat → Nat} (hp : A.R c 2 = some q) (hs : DqV A q e h m f) {b : Nat} {db : Nat → Nat} {ρ : Rw} (hkb : A.R c 1 = some b) (hL2 : Ly A b db ρ) (hv2 : Lv A.I b db ρ) (hJ2 : RowJ ρ) (hDE : DeK g A) (hnam : ∀ k, k < rK ρ → ∃ nm, A.R (db (30 + k)) 0 = some nm) : Ct g wI yX1_restore (.code yX1_restore cX1_restore 1 (Option.some Jvm.ClassFile.FieldType.int)) 8 25 940 [.ref c] (A) (fun u A' => u = ρ 3 ∧ ∃ l B d2, (Zk B ∧ Cp A B l db d2 ρ) ∧ A'.R c = va_up (A.R c) 0 (some l) ∧ A'.I c = A.I c ∧ DqV A' q e 0 0 f ∧ Gw B A' (fun y => y = c ∨ y = q ∨ y = e) ∧ A'.z = B.z) fw_no := by
  refine Ct.of [some (.ref c)] (by decide) rfl rfl fun z C hx hnm E => ?_
  have hW := hJ.w
  have hS := hW.s
  have hw3 := hS.w3
  have hw10 := hS.w10
  have hh8 := hS.h8
  have hc80 := hS.c80
  have k6 := hW.k6
  have g6 := hW.g6
  have hC : ∀ c, c < 80 → CelF σ c := fun c hc => (hJ.c hc).fe
  have d9 := hW.d9
  refine r_Z fun hZ => ?_
  have lc := hZ.lt hc rfl
  have hlt := hs.lt hZ
  have lb := hZ.lt (ly_g hL2) rfl
  have n1 : c ≠ q := fun z => by have h9 := hs.g; rw [← z, hc] at h9; cases h9
  have n2 : c ≠ e := fun z => by have h9 := hs.k; rw [← z, hc] at h9; cases h9
  have hC2 : ∀ c, c < 80 → CelF ρ c := fun c hc => (hJ2.c hc).fe
  refine r_aload_0 (pc := 0) C dX1_restore_0 ?_
  refine r_getR (pc := 1) C fl_X1_489_1 (by exact hc) rfl (by exact hkb) dX1_restore_1 ?_
  refine r_ifnonnull (pc := 4) (tgt := 15) C dX1_restore_4 (by decide) ?_
  refine r_aload_0 (pc := 15) C dX1_restore_15 ?_
  refine r_aload_0 (pc := 16) C dX1_restore_16 ?_
  refine r_getR (pc := 17) C fl_X1_489_1 (by exact hc) rfl (by exact hkb) dX1_restore_17 ?_
  refine r_V0r (pc := 20) C (l_copy hL2 hv2 hJ2.w hC2 hDE hnam) vl_X1_187 (ly_g hL2) (by decide) (by omega) (by omega) (Nat.le_of_ble_eq_true rfl) rfl dX1_restore_20 (fun u1 A1 hc1 => ?_)
  obtain ⟨d2, hCp⟩ := hc1
  generalize A1 = B at hCp ⊢
  generalize u1 = l at hCp ⊢
  have hGB := hCp.2.2.2.1
  refine r_Z fun hZB => ?_
  have hcB : (B.G c).1 = 1 := by rw [(hGB.2 c lc).1]; exact hc
  have hpB : B.R c 2 = some q := by rw [((hGB.2 c lc).2.2 (fun z => z)).2.2]; exact hp
  have hsB := hs.gw hZ hGB (fun z => z) (fun z => z)
  have nlc : l ≠ c := fun z => by have h9 := ly_g hCp.2.1; rw [z, hcB] at h9; cases h9
  have hd9 := hCp.2.2.1.day
  refine r_putR (pc := 23) C fl_X1_24_1 (by exact hcB) rfl (fun _ _ _ h => by cases h; exact Or.inl rfl) rfl dX1_restore_23 ?_
  have hsC : DqV (B.sR c (va_up (B.R c) 0 (some l))) q e h m f := hsB.gw hZB (gw_sR (X := fun y => y = c) (fun _ => rfl)) (Ne.symm n1) (Ne.symm n2)
  refine r_aload_0 (pc := 26) C dX1_restore_26 ?_
  refine r_getR (pc := 27) C fl_X1_31_1 (by exact hcB) rfl (show (B.sR c (va_up (B.R c) 0 (some l))).R c 2 = some q by rw [sR_s]; simp [va_up]; exact hpB) dX1_restore_27 ?_
  refine r_V0vo (pc := 30) C (j_J7_clear hsC) vl_X1_171 hsC.g (by decide) (by omega) (by omega) (Nat.le_of_ble_eq_true rfl) rfl dX1_restore_30 (fun u2 A2 hc2 => ?_)
  obtain ⟨hs2, hG2, hz2⟩ := hc2
  generalize A2 = D2 at hs2 hG2 hz2 ⊢
  have hGE : Gw B D2 (fun y => y = c ∨ y = q ∨ y = e) := (gw_sR (A := B) (X := fun y => y = c ∨ y = q ∨ y = e) (fun _ => Or.inl rfl)).tr (hG2.mono (fun _ _ z => Or.inr z))
  have lcB := hZB.lt hcB rfl
  have hcE : (D2.G c).1 = 1 := by rw [(hGE.2 c lcB).1]; exact hcB
  have hRE : D2.R c = va_up (B.R c) 0 (some l) := by rw [((hG2.2 c lcB).2.2 (fun z => z.elim n1 n2)).2.2, sR_s]
  have llB := hZB.lt (ly_g hCp.2.1) rfl
  have hXl : ¬ (l = c ∨ l = q ∨ l = e) := fun z => by have h8 := ly_g hCp.2.1; rcases z with z | z | z; exact nlc z; (rw [z, hsB.g] at h8; cases h8); (rw [z, hsB.k] at h8; cases h8)
  have hlE : (D2.G l).1 = 2 := by rw [(hGE.2 l llB).1]; exact ly_g hCp.2.1
  have hdE : D2.I l 13 = ρ 3 := by rw [((hGE.2 l llB).2.2 hXl).2.1]; exact hd9
  refine r_aload_0 (pc := 33) C dX1_restore_33 ?_
  refine r_getR (pc := 34) C fl_X1_24_1 (by exact hcE) rfl (by rw [hRE]; rfl) dX1_restore_34 ?_
  refine r_ngetI (pc := 37) C fn_X1_203_2 (by exact hlE) rfl dX1_restore_37 ?_
  refine r_top hdE ?_
  refine r_iret (pc := 40) C E rfl (by omega) (by omega) dX1_restore_40 ?_
  refine ⟨rfl, l, B, d2, ⟨hZB, hCp⟩, ?_, ?_, hs2, hGE, hz2⟩
  · rw [hRE, ((hGB.2 c lc).2.2 (fun z => z)).2.2]
  · rw [((hG2.2 c lcB).2.2 (fun z => z.elim n1 n2)).2.1, ← ((hGB.2 c lc).2.2 (fun z => z)).2.1]; rfl
