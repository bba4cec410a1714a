/-! THE COMPONENT, 16: changes -/
set_option maxRecDepth 100000
/-- a change of the component: done, or refused -/
def ChP (A : HA) (c a pq pe m : Nat) (f : Nat → Nat) (d : Nat → Nat) (σ : Rw) (C : Int32 × Rw) (u : Int32) (A' : HA) : Prop :=
  u = C.1 ∧ ((0 ≤ C.1 ∧ ∃ w B D d2, Cp A B w d d2 σ ∧ Nx B D w d2 C.2 ∧ (Zk D ∧ Gw A D Non) ∧ A'.R c = va_up (A.R c) 0 (some w) ∧ A'.I c = A.I c ∧ (∃ h', DqV A' pq pe h' (pastM m) (pastF f m a)) ∧ Gw D A' (fun y => y = c ∨ y = pq ∨ y = pe) ∧ A'.z = D.z) ∨ ((∃ r : Nat, 1 ≤ r ∧ r < 10 ∧ C = (-(nI r), σ)) ∧ Gw A A' Non))
set_option maxHeartbeats 4000000 in
theorem c_changes {g : GZ} {A : HA} {c a : Nat} {d : Nat → Nat} {σ : Rw} (hc : (A.G c).1 = 1) (hn : A.R c 0 = some a) (hL : Ly A a d σ) (hv : Lv A.I a d σ) (hJ : RowJ σ) (hG : GdK g) (hDE : DeK g A) (hnam : ∀ k, k < rK σ → ∃ nm, A.R (d (30 + k)) 0 = some nm) (h999 : rD σ ≤ 999) {pq pe h m : Nat} {f : Nat → Nat} (hp : A.R c 2 = some pq) (hs : DqV A pq pe h m f) (h8 : m ≤ 8) (hfk : ∀ i, i < m → (A.G (f i)).1 = 2) (hK : LamK g) {o : Nat} {x : Chg} (hI : LamIs A o x) (hok : x.ok σ) (h6 : x.1 < 7) : Ct g wI yX1_changes (.codeWith yX1_changes cX1_changes 4 (Option.some Jvm.ClassFile.FieldType.int) [(8, 20, 21, 10)]) 20 29 968 [.ref c, .ref o] (A) (fun u A' => ChP A c a pq pe m f d σ (x.C σ) u A') fw_no := by
  refine Ct.ofH [some (.ref c), some (.ref o), none, none] (by decide) rfl rfl fun z C hx hnm E => ?_
  have hW := hJ.w
  have hS := hW.s
  have hw3 := hS.w3
  have hw10 := hS.w10
  have hh8 := hS.h8
  have hc80 := hS.c80
  have k6 := hW.k6
  have g6 := hW.g6
  have hC : ∀ c, c < 80 → CelF σ c := fun c hc => (hJ.c hc).fe
  have d9 := hW.d9
  refine r_Zo fun hZo => ?_
  refine r_Z fun hZ => ?_
  have lc := hZ.lt hc rfl
  refine r_aload_0 (pc := 0) C dX1_changes_0 ?_
  refine r_getR (pc := 1) C fl_X1_24_1 (by exact hc) rfl (by exact hn) dX1_changes_1 ?_
  refine r_V0r (pc := 4) C (l_copy hL hv hW hC hDE hnam) vl_X1_187 (ly_g hL) (by decide) (by omega) (by omega) (Nat.le_of_ble_eq_true rfl) rfl dX1_changes_4 (fun u1 A1 hc1 => ?_)
  obtain ⟨d2, hCp⟩ := hc1
  generalize A1 = B at hCp ⊢
  generalize u1 = w at hCp ⊢
  have hIB := hI.gw hZ hCp.2.2.2.1 (fun q => q)
  refine r_astore_2 (pc := 7) C dX1_changes_7 rfl ?_
  refine r_aload_0 (pc := 8) C dX1_changes_8 ?_
  refine r_aload_2 (pc := 9) C dX1_changes_9 ?_
  refine r_aload_1 (pc := 10) C dX1_changes_10 ?_
  refine r_aload_2 (pc := 11) C dX1_changes_11 ?_
  refine r_does (pc := 12) C hK hIB hok hCp.2.1 hCp.2.2.1 hJ hG q2171 (by omega) (by omega) (by omega) (Nat.le_of_ble_eq_true rfl) rfl dX1_changes_12 ?_ (fun u9 A9 hc9 => ?_)
  · intro q9 A9 hp9 hE9
    obtain ⟨r9, hr1, hr9, hC9, hU9⟩ := hp9
    refine r_catch C [] ⟨8, 20, 21, 10⟩ [] (hx.trans rfl) (fun _ h => nomatch h) (by decide) (by decide) q1750 q1752 ((congrArg fw_ex hU9.1).trans rfl) ?_
    refine r_astore_3 (pc := 21) C dX1_changes_21 rfl ?_
    refine r_aload_3 (pc := 22) C dX1_changes_22 ?_
    refine r_ngetI (pc := 23) C fn_X1_457_9 hU9.1 rfl dX1_changes_23 ?_
    refine r_top hU9.2.1 ?_
    refine r_ineg (pc := 26) C dX1_changes_26 ?_
    refine r_iret (pc := 27) C E rfl (by omega) (by omega) dX1_changes_27 ?_
    exact ⟨by rw [hC9], Or.inr ⟨⟨r9, hr1, hr9, hC9⟩, hCp.2.2.2.1.tr2 hU9.2.2 (fun y hy z => cp_old hZo hCp y hy z)⟩⟩
  rcases hc9 with ⟨-, hN9, rfl, h09⟩ | ⟨e7, -⟩
  · skip
    generalize A9 = D at hN9 ⊢
    have hGD := cp_gw hZo hCp hN9
    obtain ⟨hcD, hnD, hLD, hvD, hDED, hnamD⟩ := CW.gw (show CW g A c a d σ from ⟨hc, hn, hL, hv, hDE, hnam⟩) hZ hGD
    refine r_Z fun hZD => ?_
    have hpD : D.R c 2 = some pq := by rw [((hGD.2 c lc).2.2 (fun q => q)).2.2]; exact hp
    have hsD := hs.gw hZ hGD (fun q => q) (fun q => q)
    have hfD : ∀ i, i < m → (D.G (f i)).1 = 2 := fun i hi => by rw [(hGD.2 _ (hZ.lt (hfk i hi) rfl)).1]; exact hfk i hi
    refine r_V2io (pc := 17) C (c_becomes hcD hnD hLD hvD hJ hpD hsD h8 hfD) vl_X1_193 (by exact hcD) (by decide) (by omega) (by omega) (Nat.le_of_ble_eq_true rfl) rfl dX1_changes_17 (fun u2 A2 hc2 => ?_)
    obtain ⟨eu2, hR9, hI9, hD9, hG9, hz9⟩ := hc2
    refine r_top eu2 ?_
    clear eu2 u2
    refine r_iret (pc := 20) C E rfl (by omega) (by omega) dX1_changes_20 ?_
    refine ⟨rfl, Or.inl ⟨h09, w, B, D, d2, hCp, hN9, ⟨hZD, hGD⟩, ?_, ?_, hD9, hG9, hz9⟩⟩
    · rw [hR9, ((hGD.2 c lc).2.2 (fun q => q)).2.2]
    · rw [hI9, ((hGD.2 c lc).2.2 (fun q => q)).2.1]
  · omega
set_option maxHeartbeats 4000000 in
theorem c_run {g : GZ} {A : HA} {c a : Nat} {d : Nat → Nat} {σ : Rw} (hc : (A.G c).1 = 1) (hn : A.R c 0 = some a) (hL : Ly A a d σ) (hv : Lv A.I a d σ) (hJ : RowJ σ) (hG : GdK g) (hDE : DeK g A) (hnam : ∀ k, k < rK σ → ∃ nm, A.R (d (30 + k)) 0 = some nm) (h999 : rD σ ≤ 999) {pq pe h m : Nat} {f : Nat → Nat} (hp : A.R c 2 = some pq) (hs : DqV A pq pe h m f) (h8 : m ≤ 8) (hfk : ∀ i, i < m → (A.G (f i)).1 = 2) (hK : LamK g) {w : Int32} : Ct g wI yX1_run (.code yX1_run cX1_run 2 (Option.some Jvm.ClassFile.FieldType.int)) 60 33 990 [.ref c, .int w] (A) (fun u A' => inZ w 1 60 ∧ ∃ D, (Zk D ∧ Zo D) ∧ Gw A D Non ∧ ChP D c a pq pe m f d σ (runC σ (nt w)) u A') (fun q A' => ¬ inZ w 1 60 ∧ TX A A' Non 19 q) := by
  refine Ct.ofN [some (.ref c), some (.int w)] (by decide) rfl rfl fun z C hx hN E => ?_
  have hW := hJ.w
  have hS := hW.s
  have hw3 := hS.w3
  have hw10 := hS.w10
  have hh8 := hS.h8
  have hc80 := hS.c80
  have k6 := hW.k6
  have g6 := hW.g6
  have hC : ∀ c, c < 80 → CelF σ c := fun c hc => (hJ.c hc).fe
  have d9 := hW.d9
  refine r_Z fun hZ => ?_
  have lc := hZ.lt hc rfl
  refine r_iload_1 (pc := 0) C dX1_run_0 ?_
  refine r_i2l (pc := 1) C dX1_run_1 ?_
  refine r_lconst (pc := 2) (v := 1) C dX1_run_2 (by decide) ?_
  refine r_ldc2 (pc := 3) C q2104 dX1_run_3 ?_
  refine r_S3io (pc := 6) C (c_inZ (p := 1) (q := 60) (by decide) (by decide)) sl_X1_114 (by decide) (by omega) (by omega) (Nat.le_of_ble_eq_true rfl) rfl dX1_run_6 (fun u1 A1 hc1 => ?_)
  refine r_top hc1.1 ?_
  refine r_eqA hc1.2 ?_
  clear hc1 A1 u1
  refine r_S1vx (pc := 9) C (c_argument) sl_X1_118 (by decide) (by omega) (by omega) (Nat.le_of_ble_eq_true rfl) rfl dX1_run_9 (fun q A9 hp hE => r_out C E (by rw [hx]; exact fun x h => nomatch h) hE.choose_spec (by omega) (by omega) (hp)) (fun u2 A2 hc2 => ?_)
  obtain ⟨hp2, eA2⟩ := hc2
  refine r_eqA eA2 ?_
  clear eA2 A2 u2
  have b99 : inZ w 1 60 := by assumption
  obtain ⟨k, hk6, rfl⟩ := inZ_of2 (n := 60) rfl ⟨(by have := b99.1; omega), b99.2⟩ (by omega)
  refine r_aload_0 (pc := 12) C dX1_run_12 ?_
  refine r_iload_1 (pc := 13) C dX1_run_13 ?_
  refine r_indy (pc := 14) (V := (fun _ => nI k)) (st := [.ref c]) C hN hK.s88 rfl ⟨by decide, by decide⟩ lk88 ⟨by decide, by decide⟩ (by omega) (by omega) (by omega) (Nat.le_of_ble_eq_true rfl) rfl dX1_run_14 ?_
  have hGD : Gw A (lamH A 88 1 (fun _ => nI k)) Non := lamH_gw
  have hID : LamIs (lamH A 88 1 (fun _ => nI k)) A.z (0, k, 0) := (Or.inl ⟨rfl, Or.inr (by rw [lamH_G, if_pos rfl]), lamH_n _ _ _ _, by rw [lamH_I]⟩)
  generalize lamH A 88 1 (fun _ => nI k) = D at hGD hID ⊢
  obtain ⟨hcD, hnD, hLD, hvD, hDED, hnamD⟩ := CW.gw (show CW g A c a d σ from ⟨hc, hn, hL, hv, hDE, hnam⟩) hZ hGD
  have hpD : D.R c 2 = some pq := by rw [((hGD.2 c lc).2.2 (fun q => q)).2.2]; exact hp
  have hsD := hs.gw hZ hGD (fun q => q) (fun q => q)
  have hfD : ∀ i, i < m → (D.G (f i)).1 = 2 := fun i hi => by rw [(hGD.2 _ (hZ.lt (hfk i hi) rfl)).1]; exact hfk i hi
  refine r_Zo fun hZoD => ?_
  refine r_Z fun hZD => ?_
  refine r_VH1i (pc := 19) C (c_changes (x := (0, k, 0)) hcD hnD hLD hvD hJ hG hDED hnamD h999 hpD hsD h8 hfD hK hID (show k ≤ 100 by omega) (show 0 < 7 by decide)) vl_X1_463 (by exact hcD) (by decide) (by omega) (by omega) (Nat.le_of_ble_eq_true rfl) rfl dX1_run_19 (fun u3 A3 hc3 => ?_)
  refine r_iret (pc := 22) C E rfl (by omega) (by omega) dX1_run_22 ?_
  refine ⟨b99, D, ⟨hZD, hZoD⟩, hGD, ?_⟩
  rw [nt_n (by omega)]
  assumption
set_option maxHeartbeats 4000000 in
theorem c_setFence {g : GZ} {A : HA} {c a : Nat} {d : Nat → Nat} {σ : Rw} (hc : (A.G c).1 = 1) (hn : A.R c 0 = some a) (hL : Ly A a d σ) (hv : Lv A.I a d σ) (hJ : RowJ σ) (hG : GdK g) (hDE : DeK g A) (hnam : ∀ k, k < rK σ → ∃ nm, A.R (d (30 + k)) 0 = some nm) (h999 : rD σ ≤ 999) {pq pe h m : Nat} {f : Nat → Nat} (hp : A.R c 2 = some pq) (hs : DqV A pq pe h m f) (h8 : m ≤ 8) (hfk : ∀ i, i < m → (A.G (f i)).1 = 2) (hK : LamK g) {x y : Int32} : Ct g wI yX1_setFence (.code yX1_setFence cX1_setFence 4 (Option.some Jvm.ClassFile.FieldType.int)) 60 33 990 [.ref c, .int x, .int y] (A) (fun u A' => inC2 σ x y ∧ ∃ D, (Zk D ∧ Zo D) ∧ Gw A D Non ∧ ChP D c a pq pe m f d σ (fenceC σ (cat σ x y)) u A') (fun q A' => ¬ inC2 σ x y ∧ TX A A' Non 20 q) := by
  refine Ct.ofN [some (.ref c), some (.int x), some (.int y), none] (by decide) rfl rfl fun z C hx hN E => ?_
  have hW := hJ.w
  have hS := hW.s
  have hw3 := hS.w3
  have hw10 := hS.w10
  have hh8 := hS.h8
  have hc80 := hS.c80
  have k6 := hW.k6
  have g6 := hW.g6
  have hC : ∀ c, c < 80 → CelF σ c := fun c hc => (hJ.c hc).fe
  have d9 := hW.d9
  refine r_Z fun hZ => ?_
  have lc := hZ.lt hc rfl
  refine r_aload_0 (pc := 0) C dX1_setFence_0 ?_
  refine r_iload_1 (pc := 1) C dX1_setFence_1 ?_
  refine r_iload_2 (pc := 2) C dX1_setFence_2 ?_
  refine r_V2ix (pc := 3) C (c_at hc hn hL hv hJ) vl_X1_283 (by exact hc) (by decide) (by omega) (by omega) (Nat.le_of_ble_eq_true rfl) rfl dX1_setFence_3 (fun q A9 hp hE => r_out C E (by rw [hx]; exact fun x h => nomatch h) hE.choose_spec (by omega) (by omega) (hp)) (fun u1 A1 hc1 => ?_)
  obtain ⟨hi1, eu1, eA1⟩ := hc1
  refine r_top eu1 ?_
  refine r_eqA eA1 ?_
  clear eu1 eA1 A1 u1
  have b98 : inC2 σ x y := by assumption
  have hcc : cat σ x y < rC σ := by obtain ⟨i, hi, rfl⟩ := inZ_of b98.1 (by omega); obtain ⟨j, hj, rfl⟩ := inZ_of b98.2 (by omega); rw [cat_n (by omega) (by omega)]; exact at_lt hS hi hj
  refine r_istore_3 (pc := 6) C dX1_setFence_6 rfl ?_
  refine r_aload_0 (pc := 7) C dX1_setFence_7 ?_
  refine r_iload_3 (pc := 8) C dX1_setFence_8 ?_
  refine r_indy (pc := 9) (V := (fun _ => nI (cat σ x y))) (st := [.ref c]) C hN hK.s89 rfl ⟨by decide, by decide⟩ lk89 ⟨by decide, by decide⟩ (by omega) (by omega) (by omega) (Nat.le_of_ble_eq_true rfl) rfl dX1_setFence_9 ?_
  have hGD : Gw A (lamH A 89 1 (fun _ => nI (cat σ x y))) Non := lamH_gw
  have hID : LamIs (lamH A 89 1 (fun _ => nI (cat σ x y))) A.z (1, cat σ x y, 0) := (Or.inr (Or.inl ⟨rfl, Or.inr (by rw [lamH_G, if_pos rfl]), lamH_n _ _ _ _, by rw [lamH_I]⟩))
  generalize lamH A 89 1 (fun _ => nI (cat σ x y)) = D at hGD hID ⊢
  obtain ⟨hcD, hnD, hLD, hvD, hDED, hnamD⟩ := CW.gw (show CW g A c a d σ from ⟨hc, hn, hL, hv, hDE, hnam⟩) hZ hGD
  have hpD : D.R c 2 = some pq := by rw [((hGD.2 c lc).2.2 (fun q => q)).2.2]; exact hp
  have hsD := hs.gw hZ hGD (fun q => q) (fun q => q)
  have hfD : ∀ i, i < m → (D.G (f i)).1 = 2 := fun i hi => by rw [(hGD.2 _ (hZ.lt (hfk i hi) rfl)).1]; exact hfk i hi
  refine r_Zo fun hZoD => ?_
  refine r_Z fun hZD => ?_
  refine r_VH1i (pc := 14) C (c_changes (x := (1, cat σ x y, 0)) hcD hnD hLD hvD hJ hG hDED hnamD h999 hpD hsD h8 hfD hK hID hcc (show 1 < 7 by decide)) vl_X1_463 (by exact hcD) (by decide) (by omega) (by omega) (Nat.le_of_ble_eq_true rfl) rfl dX1_setFence_14 (fun u2 A2 hc2 => ?_)
  refine r_iret (pc := 17) C E rfl (by omega) (by omega) dX1_setFence_17 ?_
  exact ⟨b98, D, ⟨hZD, hZoD⟩, hGD, by assumption⟩
set_option maxHeartbeats 4000000 in
theorem c_dropFence {g : GZ} {A : HA} {c a : Nat} {d : Nat → Nat} {σ : Rw} (hc : (A.G c).1 = 1) (hn : A.R c 0 = some a) (hL : Ly A a d σ) (hv : Lv A.I a d σ) (hJ : RowJ σ) (hG : GdK g) (hDE : DeK g A) (hnam : ∀ k, k < rK σ → ∃ nm, A.R (d (30 + k)) 0 = some nm) (h999 : rD σ ≤ 999) {pq pe h m : Nat} {f : Nat → Nat} (hp : A.R c 2 = some pq) (hs : DqV A pq pe h m f) (h8 : m ≤ 8) (hfk : ∀ i, i < m → (A.G (f i)).1 = 2) (hK : LamK g) {x y : Int32} : Ct g wI yX1_dropFence (.code yX1_dropFence cX1_dropFence 4 (Option.some Jvm.ClassFile.FieldType.int)) 60 33 990 [.ref c, .int x, .int y] (A) (fun u A' => inC2 σ x y ∧ ∃ D, (Zk D ∧ Zo D) ∧ Gw A D Non ∧ ChP D c a pq pe m f d σ (openC σ (cat σ x y)) u A') (fun q A' => ¬ inC2 σ x y ∧ TX A A' Non 20 q) := by
  refine Ct.ofN [some (.ref c), some (.int x), some (.int y), none] (by decide) rfl rfl fun z C hx hN E => ?_
  have hW := hJ.w
  have hS := hW.s
  have hw3 := hS.w3
  have hw10 := hS.w10
  have hh8 := hS.h8
  have hc80 := hS.c80
  have k6 := hW.k6
  have g6 := hW.g6
  have hC : ∀ c, c < 80 → CelF σ c := fun c hc => (hJ.c hc).fe
  have d9 := hW.d9
  refine r_Z fun hZ => ?_
  have lc := hZ.lt hc rfl
  refine r_aload_0 (pc := 0) C dX1_dropFence_0 ?_
  refine r_iload_1 (pc := 1) C dX1_dropFence_1 ?_
  refine r_iload_2 (pc := 2) C dX1_dropFence_2 ?_
  refine r_V2ix (pc := 3) C (c_at hc hn hL hv hJ) vl_X1_283 (by exact hc) (by decide) (by omega) (by omega) (Nat.le_of_ble_eq_true rfl) rfl dX1_dropFence_3 (fun q A9 hp hE => r_out C E (by rw [hx]; exact fun x h => nomatch h) hE.choose_spec (by omega) (by omega) (hp)) (fun u1 A1 hc1 => ?_)
  obtain ⟨hi1, eu1, eA1⟩ := hc1
  refine r_top eu1 ?_
  refine r_eqA eA1 ?_
  clear eu1 eA1 A1 u1
  have b98 : inC2 σ x y := by assumption
  have hcc : cat σ x y < rC σ := by obtain ⟨i, hi, rfl⟩ := inZ_of b98.1 (by omega); obtain ⟨j, hj, rfl⟩ := inZ_of b98.2 (by omega); rw [cat_n (by omega) (by omega)]; exact at_lt hS hi hj
  refine r_istore_3 (pc := 6) C dX1_dropFence_6 rfl ?_
  refine r_aload_0 (pc := 7) C dX1_dropFence_7 ?_
  refine r_iload_3 (pc := 8) C dX1_dropFence_8 ?_
  refine r_indy (pc := 9) (V := (fun _ => nI (cat σ x y))) (st := [.ref c]) C hN hK.s90 rfl ⟨by decide, by decide⟩ lk90 ⟨by decide, by decide⟩ (by omega) (by omega) (by omega) (Nat.le_of_ble_eq_true rfl) rfl dX1_dropFence_9 ?_
  have hGD : Gw A (lamH A 90 1 (fun _ => nI (cat σ x y))) Non := lamH_gw
  have hID : LamIs (lamH A 90 1 (fun _ => nI (cat σ x y))) A.z (2, cat σ x y, 0) := (Or.inr (Or.inr (Or.inl ⟨rfl, Or.inr (by rw [lamH_G, if_pos rfl]), lamH_n _ _ _ _, by rw [lamH_I]⟩)))
  generalize lamH A 90 1 (fun _ => nI (cat σ x y)) = D at hGD hID ⊢
  obtain ⟨hcD, hnD, hLD, hvD, hDED, hnamD⟩ := CW.gw (show CW g A c a d σ from ⟨hc, hn, hL, hv, hDE, hnam⟩) hZ hGD
  have hpD : D.R c 2 = some pq := by rw [((hGD.2 c lc).2.2 (fun q => q)).2.2]; exact hp
  have hsD := hs.gw hZ hGD (fun q => q) (fun q => q)
  have hfD : ∀ i, i < m → (D.G (f i)).1 = 2 := fun i hi => by rw [(hGD.2 _ (hZ.lt (hfk i hi) rfl)).1]; exact hfk i hi
  refine r_Zo fun hZoD => ?_
  refine r_Z fun hZD => ?_
  refine r_VH1i (pc := 14) C (c_changes (x := (2, cat σ x y, 0)) hcD hnD hLD hvD hJ hG hDED hnamD h999 hpD hsD h8 hfD hK hID hcc (show 2 < 7 by decide)) vl_X1_463 (by exact hcD) (by decide) (by omega) (by omega) (Nat.le_of_ble_eq_true rfl) rfl dX1_dropFence_14 (fun u2 A2 hc2 => ?_)
  refine r_iret (pc := 17) C E rfl (by omega) (by omega) dX1_dropFence_17 ?_
  exact ⟨b98, D, ⟨hZD, hZoD⟩, hGD, by assumption⟩
set_option maxHeartbeats 4000000 in
theorem c_pave {g : GZ} {A : HA} {c a : Nat} {d : Nat → Nat} {σ : Rw} (hc : (A.G c).1 = 1) (hn : A.R c 0 = some a) (hL : Ly A a d σ) (hv : Lv A.I a d σ) (hJ : RowJ σ) (hG : GdK g) (hDE : DeK g A) (hnam : ∀ k, k < rK σ → ∃ nm, A.R (d (30 + k)) 0 = some nm) (h999 : rD σ ≤ 999) {pq pe h m : Nat} {f : Nat → Nat} (hp : A.R c 2 = some pq) (hs : DqV A pq pe h m f) (h8 : m ≤ 8) (hfk : ∀ i, i < m → (A.G (f i)).1 = 2) (hK : LamK g) {x y : Int32} : Ct g wI yX1_pave (.code yX1_pave cX1_pave 4 (Option.some Jvm.ClassFile.FieldType.int)) 60 33 990 [.ref c, .int x, .int y] (A) (fun u A' => inC2 σ x y ∧ ∃ D, (Zk D ∧ Zo D) ∧ Gw A D Non ∧ ChP D c a pq pe m f d σ (paveC σ (cat σ x y)) u A') (fun q A' => ¬ inC2 σ x y ∧ TX A A' Non 20 q) := by
  refine Ct.ofN [some (.ref c), some (.int x), some (.int y), none] (by decide) rfl rfl fun z C hx hN E => ?_
  have hW := hJ.w
  have hS := hW.s
  have hw3 := hS.w3
  have hw10 := hS.w10
  have hh8 := hS.h8
  have hc80 := hS.c80
  have k6 := hW.k6
  have g6 := hW.g6
  have hC : ∀ c, c < 80 → CelF σ c := fun c hc => (hJ.c hc).fe
  have d9 := hW.d9
  refine r_Z fun hZ => ?_
  have lc := hZ.lt hc rfl
  refine r_aload_0 (pc := 0) C dX1_pave_0 ?_
  refine r_iload_1 (pc := 1) C dX1_pave_1 ?_
  refine r_iload_2 (pc := 2) C dX1_pave_2 ?_
  refine r_V2ix (pc := 3) C (c_at hc hn hL hv hJ) vl_X1_283 (by exact hc) (by decide) (by omega) (by omega) (Nat.le_of_ble_eq_true rfl) rfl dX1_pave_3 (fun q A9 hp hE => r_out C E (by rw [hx]; exact fun x h => nomatch h) hE.choose_spec (by omega) (by omega) (hp)) (fun u1 A1 hc1 => ?_)
  obtain ⟨hi1, eu1, eA1⟩ := hc1
  refine r_top eu1 ?_
  refine r_eqA eA1 ?_
  clear eu1 eA1 A1 u1
  have b98 : inC2 σ x y := by assumption
  have hcc : cat σ x y < rC σ := by obtain ⟨i, hi, rfl⟩ := inZ_of b98.1 (by omega); obtain ⟨j, hj, rfl⟩ := inZ_of b98.2 (by omega); rw [cat_n (by omega) (by omega)]; exact at_lt hS hi hj
  refine r_istore_3 (pc := 6) C dX1_pave_6 rfl ?_
  refine r_aload_0 (pc := 7) C dX1_pave_7 ?_
  refine r_iload_3 (pc := 8) C dX1_pave_8 ?_
  refine r_indy (pc := 9) (V := (fun _ => nI (cat σ x y))) (st := [.ref c]) C hN hK.s91 rfl ⟨by decide, by decide⟩ lk91 ⟨by decide, by decide⟩ (by omega) (by omega) (by omega) (Nat.le_of_ble_eq_true rfl) rfl dX1_pave_9 ?_
  have hGD : Gw A (lamH A 91 1 (fun _ => nI (cat σ x y))) Non := lamH_gw
  have hID : LamIs (lamH A 91 1 (fun _ => nI (cat σ x y))) A.z (3, cat σ x y, 0) := (Or.inr (Or.inr (Or.inr (Or.inl ⟨rfl, Or.inr (by rw [lamH_G, if_pos rfl]), lamH_n _ _ _ _, by rw [lamH_I]⟩))))
  generalize lamH A 91 1 (fun _ => nI (cat σ x y)) = D at hGD hID ⊢
  obtain ⟨hcD, hnD, hLD, hvD, hDED, hnamD⟩ := CW.gw (show CW g A c a d σ from ⟨hc, hn, hL, hv, hDE, hnam⟩) hZ hGD
  have hpD : D.R c 2 = some pq := by rw [((hGD.2 c lc).2.2 (fun q => q)).2.2]; exact hp
  have hsD := hs.gw hZ hGD (fun q => q) (fun q => q)
  have hfD : ∀ i, i < m → (D.G (f i)).1 = 2 := fun i hi => by rw [(hGD.2 _ (hZ.lt (hfk i hi) rfl)).1]; exact hfk i hi
  refine r_Zo fun hZoD => ?_
  refine r_Z fun hZD => ?_
  refine r_VH1i (pc := 14) C (c_changes (x := (3, cat σ x y, 0)) hcD hnD hLD hvD hJ hG hDED hnamD h999 hpD hsD h8 hfD hK hID hcc (show 3 < 7 by decide)) vl_X1_463 (by exact hcD) (by decide) (by omega) (by omega) (Nat.le_of_ble_eq_true rfl) rfl dX1_pave_14 (fun u2 A2 hc2 => ?_)
  refine r_iret (pc := 17) C E rfl (by omega) (by omega) dX1_pave_17 ?_
  exact ⟨b98, D, ⟨hZD, hZoD⟩, hGD, by assumption⟩
set_option maxHeartbeats 4000000 in
theorem c_sow {g : GZ} {A : HA} {c a : Nat} {d : Nat → Nat} {σ : Rw} (hc : (A.G c).1 = 1) (hn : A.R c 0 = some a) (hL : Ly A a d σ) (hv : Lv A.I a d σ) (hJ : RowJ σ) (hG : GdK g) (hDE : DeK g A) (hnam : ∀ k, k < rK σ → ∃ nm, A.R (d (30 + k)) 0 = some nm) (h999 : rD σ ≤ 999) {pq pe h m : Nat} {f : Nat → Nat} (hp : A.R c 2 = some pq) (hs : DqV A pq pe h m f) (h8 : m ≤ 8) (hfk : ∀ i, i < m → (A.G (f i)).1 = 2) (hK : LamK g) {x y : Int32} : Ct g wI yX1_sow (.code yX1_sow cX1_sow 4 (Option.some Jvm.ClassFile.FieldType.int)) 60 33 990 [.ref c, .int x, .int y] (A) (fun u A' => inC2 σ x y ∧ ∃ D, (Zk D ∧ Zo D) ∧ Gw A D Non ∧ ChP D c a pq pe m f d σ (sowC σ (cat σ x y)) u A') (fun q A' => ¬ inC2 σ x y ∧ TX A A' Non 20 q) := by
  refine Ct.ofN [some (.ref c), some (.int x), some (.int y), none] (by decide) rfl rfl fun z C hx hN E => ?_
  have hW := hJ.w
  have hS := hW.s
  have hw3 := hS.w3
  have hw10 := hS.w10
  have hh8 := hS.h8
  have hc80 := hS.c80
  have k6 := hW.k6
  have g6 := hW.g6
  have hC : ∀ c, c < 80 → CelF σ c := fun c hc => (hJ.c hc).fe
  have d9 := hW.d9
  refine r_Z fun hZ => ?_
  have lc := hZ.lt hc rfl
  refine r_aload_0 (pc := 0) C dX1_sow_0 ?_
  refine r_iload_1 (pc := 1) C dX1_sow_1 ?_
  refine r_iload_2 (pc := 2) C dX1_sow_2 ?_
  refine r_V2ix (pc := 3) C (c_at hc hn hL hv hJ) vl_X1_283 (by exact hc) (by decide) (by omega) (by omega) (Nat.le_of_ble_eq_true rfl) rfl dX1_sow_3 (fun q A9 hp hE => r_out C E (by rw [hx]; exact fun x h => nomatch h) hE.choose_spec (by omega) (by omega) (hp)) (fun u1 A1 hc1 => ?_)
  obtain ⟨hi1, eu1, eA1⟩ := hc1
  refine r_top eu1 ?_
  refine r_eqA eA1 ?_
  clear eu1 eA1 A1 u1
  have b98 : inC2 σ x y := by assumption
  have hcc : cat σ x y < rC σ := by obtain ⟨i, hi, rfl⟩ := inZ_of b98.1 (by omega); obtain ⟨j, hj, rfl⟩ := inZ_of b98.2 (by omega); rw [cat_n (by omega) (by omega)]; exact at_lt hS hi hj
  refine r_istore_3 (pc := 6) C dX1_sow_6 rfl ?_
  refine r_aload_0 (pc := 7) C dX1_sow_7 ?_
  refine r_iload_3 (pc := 8) C dX1_sow_8 ?_
  refine r_indy (pc := 9) (V := (fun _ => nI (cat σ x y))) (st := [.ref c]) C hN hK.s92 rfl ⟨by decide, by decide⟩ lk92 ⟨by decide, by decide⟩ (by omega) (by omega) (by omega) (Nat.le_of_ble_eq_true rfl) rfl dX1_sow_9 ?_
  have hGD : Gw A (lamH A 92 1 (fun _ => nI (cat σ x y))) Non := lamH_gw
  have hID : LamIs (lamH A 92 1 (fun _ => nI (cat σ x y))) A.z (4, cat σ x y, 0) := (Or.inr (Or.inr (Or.inr (Or.inr (Or.inl ⟨rfl, Or.inr (by rw [lamH_G, if_pos rfl]), lamH_n _ _ _ _, by rw [lamH_I]⟩)))))
  generalize lamH A 92 1 (fun _ => nI (cat σ x y)) = D at hGD hID ⊢
  obtain ⟨hcD, hnD, hLD, hvD, hDED, hnamD⟩ := CW.gw (show CW g A c a d σ from ⟨hc, hn, hL, hv, hDE, hnam⟩) hZ hGD
  have hpD : D.R c 2 = some pq := by rw [((hGD.2 c lc).2.2 (fun q => q)).2.2]; exact hp
  have hsD := hs.gw hZ hGD (fun q => q) (fun q => q)
  have hfD : ∀ i, i < m → (D.G (f i)).1 = 2 := fun i hi => by rw [(hGD.2 _ (hZ.lt (hfk i hi) rfl)).1]; exact hfk i hi
  refine r_Zo fun hZoD => ?_
  refine r_Z fun hZD => ?_
  refine r_VH1i (pc := 14) C (c_changes (x := (4, cat σ x y, 0)) hcD hnD hLD hvD hJ hG hDED hnamD h999 hpD hsD h8 hfD hK hID hcc (show 4 < 7 by decide)) vl_X1_463 (by exact hcD) (by decide) (by omega) (by omega) (Nat.le_of_ble_eq_true rfl) rfl dX1_sow_14 (fun u2 A2 hc2 => ?_)
  refine r_iret (pc := 17) C E rfl (by omega) (by omega) dX1_sow_17 ?_
  exact ⟨b98, D, ⟨hZD, hZoD⟩, hGD, by assumption⟩
set_option maxHeartbeats 4000000 in
theorem c_setHaste {g : GZ} {A : HA} {c a : Nat} {d : Nat → Nat} {σ : Rw} (hc : (A.G c).1 = 1) (hn : A.R c 0 = some a) (hL : Ly A a d σ) (hv : Lv A.I a d σ) (hJ : RowJ σ) (hG : GdK g) (hDE : DeK g A) (hnam : ∀ k, k < rK σ → ∃ nm, A.R (d (30 + k)) 0 = some nm) (h999 : rD σ ≤ 999) {pq pe h m : Nat} {f : Nat → Nat} (hp : A.R c 2 = some pq) (hs : DqV A pq pe h m f) (h8 : m ≤ 8) (hfk : ∀ i, i < m → (A.G (f i)).1 = 2) (hK : LamK g) {x y : Int32} : Ct g wI yX1_setHaste (.code yX1_setHaste cX1_setHaste 4 (Option.some Jvm.ClassFile.FieldType.int)) 60 33 990 [.ref c, .int x, .int y] (A) (fun u A' => inW σ x ∧ inZ y 0 9 ∧ ∃ D, (Zk D ∧ Zo D) ∧ Gw A D Non ∧ ChP D c a pq pe m f d σ (hasteC σ (nt x) (nt y)) u A') (fun q A' => T2 A A' (inW σ x) (inZ y 0 9) q) := by
  refine Ct.ofN [some (.ref c), some (.int x), some (.int y), none] (by decide) rfl rfl fun z C hx hN E => ?_
  have hW := hJ.w
  have hS := hW.s
  have hw3 := hS.w3
  have hw10 := hS.w10
  have hh8 := hS.h8
  have hc80 := hS.c80
  have k6 := hW.k6
  have g6 := hW.g6
  have hC : ∀ c, c < 80 → CelF σ c := fun c hc => (hJ.c hc).fe
  have d9 := hW.d9
  refine r_Z fun hZ => ?_
  have lc := hZ.lt hc rfl
  refine r_aload_0 (pc := 0) C dX1_setHaste_0 ?_
  refine r_iload_1 (pc := 1) C dX1_setHaste_1 ?_
  refine r_V1rx (pc := 2) C (c_walkerAt hc hn hL hv hJ) vl_X1_330 (by exact hc) (by decide) (by omega) (by omega) (Nat.le_of_ble_eq_true rfl) rfl dX1_setHaste_2 (fun q A9 hp hE => r_out C E (by rw [hx]; exact fun x h => nomatch h) hE.choose_spec (by omega) (by omega) (Or.inl hp)) (fun u1 A1 hc1 => ?_)
  obtain ⟨hi1, eu1, eA1⟩ := hc1
  refine r_topR eu1 ?_
  refine r_eqA eA1 ?_
  clear eu1 eA1 A1 u1
  have b99 : inW σ x := by assumption
  have b97 := b99
  obtain ⟨k, hkx, rfl⟩ := inZ_of (n := rK σ) b97 (by omega)
  rw [show nt (nI k) = k from nt_n (by omega)]
  refine r_astore_3 (pc := 5) C dX1_setHaste_5 rfl ?_
  refine r_iload_2 (pc := 6) C dX1_setHaste_6 ?_
  refine r_i2l (pc := 7) C dX1_setHaste_7 ?_
  refine r_lconst (pc := 8) (v := 0) C dX1_setHaste_8 (by decide) ?_
  refine r_ldc2 (pc := 9) C q2155 dX1_setHaste_9 ?_
  refine r_S3io (pc := 12) C (c_inZ (p := 0) (q := 9) (by decide) (by decide)) sl_X1_114 (by decide) (by omega) (by omega) (Nat.le_of_ble_eq_true rfl) rfl dX1_setHaste_12 (fun u2 A2 hc2 => ?_)
  refine r_top hc2.1 ?_
  refine r_eqA hc2.2 ?_
  clear hc2 A2 u2
  refine r_S1vx (pc := 15) C (c_argument) sl_X1_118 (by decide) (by omega) (by omega) (Nat.le_of_ble_eq_true rfl) rfl dX1_setHaste_15 (fun q A9 hp hE => r_out C E (by rw [hx]; exact fun x h => nomatch h) hE.choose_spec (by omega) (by omega) (Or.inr ⟨b99, hp.1, hp.2⟩)) (fun u3 A3 hc3 => ?_)
  obtain ⟨hp3, eA3⟩ := hc3
  refine r_eqA eA3 ?_
  clear eA3 A3 u3
  have b98 : inZ y 0 9 := by assumption
  obtain ⟨i, hi9, rfl⟩ := inZ_of2 (n := 9) rfl b98 (by omega)
  refine r_aload_0 (pc := 18) C dX1_setHaste_18 ?_
  refine r_iload_1 (pc := 19) C dX1_setHaste_19 ?_
  refine r_iload_2 (pc := 20) C dX1_setHaste_20 ?_
  refine r_indy (pc := 21) (V := (fun j => if j = 0 then nI k else nI i)) (st := [.ref c]) C hN hK.s93 rfl ⟨by decide, by decide⟩ lk93 ⟨by decide, by decide⟩ (by omega) (by omega) (by omega) (Nat.le_of_ble_eq_true rfl) rfl dX1_setHaste_21 ?_
  have hGD : Gw A (lamH A 93 2 (fun j => if j = 0 then nI k else nI i)) Non := lamH_gw
  have hID : LamIs (lamH A 93 2 (fun j => if j = 0 then nI k else nI i)) A.z (5, k, i) := (Or.inr (Or.inr (Or.inr (Or.inr (Or.inr (Or.inl ⟨rfl, Or.inr (by rw [lamH_G, if_pos rfl]), lamH_n _ _ _ _, by rw [lamH_I]; rfl, by rw [lamH_I]; rfl⟩))))))
  generalize lamH A 93 2 (fun j => if j = 0 then nI k else nI i) = D at hGD hID ⊢
  obtain ⟨hcD, hnD, hLD, hvD, hDED, hnamD⟩ := CW.gw (show CW g A c a d σ from ⟨hc, hn, hL, hv, hDE, hnam⟩) hZ hGD
  have hpD : D.R c 2 = some pq := by rw [((hGD.2 c lc).2.2 (fun q => q)).2.2]; exact hp
  have hsD := hs.gw hZ hGD (fun q => q) (fun q => q)
  have hfD : ∀ i, i < m → (D.G (f i)).1 = 2 := fun i hi => by rw [(hGD.2 _ (hZ.lt (hfk i hi) rfl)).1]; exact hfk i hi
  refine r_Zo fun hZoD => ?_
  refine r_Z fun hZD => ?_
  refine r_VH1i (pc := 26) C (c_changes (x := (5, k, i)) hcD hnD hLD hvD hJ hG hDED hnamD h999 hpD hsD h8 hfD hK hID ⟨hkx, by omega⟩ (show 5 < 7 by decide)) vl_X1_463 (by exact hcD) (by decide) (by omega) (by omega) (Nat.le_of_ble_eq_true rfl) rfl dX1_setHaste_26 (fun u4 A4 hc4 => ?_)
  refine r_iret (pc := 29) C E rfl (by omega) (by omega) dX1_setHaste_29 ?_
  refine ⟨b99, b98, D, ⟨hZD, hZoD⟩, hGD, ?_⟩
  rw [nt_n (show k < 2147483648 by omega), nt_n (show i < 2147483648 by omega)]
  assumption
set_option maxHeartbeats 4000000 in
theorem c_turnRound {g : GZ} {A : HA} {c a : Nat} {d : Nat → Nat} {σ : Rw} (hc : (A.G c).1 = 1) (hn : A.R c 0 = some a) (hL : Ly A a d σ) (hv : Lv A.I a d σ) (hJ : RowJ σ) (hG : GdK g) (hDE : DeK g A) (hnam : ∀ k, k < rK σ → ∃ nm, A.R (d (30 + k)) 0 = some nm) (h999 : rD σ ≤ 999) {pq pe h m : Nat} {f : Nat → Nat} (hp : A.R c 2 = some pq) (hs : DqV A pq pe h m f) (h8 : m ≤ 8) (hfk : ∀ i, i < m → (A.G (f i)).1 = 2) (hK : LamK g) {x : Int32} : Ct g wI yX1_turnRound (.code yX1_turnRound cX1_turnRound 3 (Option.some Jvm.ClassFile.FieldType.int)) 60 33 990 [.ref c, .int x] (A) (fun u A' => inW σ x ∧ ∃ D, (Zk D ∧ Zo D) ∧ Gw A D Non ∧ ChP D c a pq pe m f d σ (turnC σ (nt x)) u A') (fun q A' => ¬ inW σ x ∧ TX A A' Non 20 q) := by
  refine Ct.ofN [some (.ref c), some (.int x), none] (by decide) rfl rfl fun z C hx hN E => ?_
  have hW := hJ.w
  have hS := hW.s
  have hw3 := hS.w3
  have hw10 := hS.w10
  have hh8 := hS.h8
  have hc80 := hS.c80
  have k6 := hW.k6
  have g6 := hW.g6
  have hC : ∀ c, c < 80 → CelF σ c := fun c hc => (hJ.c hc).fe
  have d9 := hW.d9
  refine r_Z fun hZ => ?_
  have lc := hZ.lt hc rfl
  refine r_aload_0 (pc := 0) C dX1_turnRound_0 ?_
  refine r_iload_1 (pc := 1) C dX1_turnRound_1 ?_
  refine r_V1rx (pc := 2) C (c_walkerAt hc hn hL hv hJ) vl_X1_330 (by exact hc) (by decide) (by omega) (by omega) (Nat.le_of_ble_eq_true rfl) rfl dX1_turnRound_2 (fun q A9 hp hE => r_out C E (by rw [hx]; exact fun x h => nomatch h) hE.choose_spec (by omega) (by omega) (hp)) (fun u1 A1 hc1 => ?_)
  obtain ⟨hi1, eu1, eA1⟩ := hc1
  refine r_topR eu1 ?_
  refine r_eqA eA1 ?_
  clear eu1 eA1 A1 u1
  have b99 : inW σ x := by assumption
  have b97 := b99
  obtain ⟨k, hkx, rfl⟩ := inZ_of (n := rK σ) b97 (by omega)
  rw [show nt (nI k) = k from nt_n (by omega)]
  refine r_astore_2 (pc := 5) C dX1_turnRound_5 rfl ?_
  refine r_aload_0 (pc := 6) C dX1_turnRound_6 ?_
  refine r_iload_1 (pc := 7) C dX1_turnRound_7 ?_
  refine r_indy (pc := 8) (V := (fun _ => nI k)) (st := [.ref c]) C hN hK.s94 rfl ⟨by decide, by decide⟩ lk94 ⟨by decide, by decide⟩ (by omega) (by omega) (by omega) (Nat.le_of_ble_eq_true rfl) rfl dX1_turnRound_8 ?_
  have hGD : Gw A (lamH A 94 1 (fun _ => nI k)) Non := lamH_gw
  have hID : LamIs (lamH A 94 1 (fun _ => nI k)) A.z (6, k, 0) := (Or.inr (Or.inr (Or.inr (Or.inr (Or.inr (Or.inr (Or.inl ⟨rfl, Or.inr (by rw [lamH_G, if_pos rfl]), lamH_n _ _ _ _, by rw [lamH_I]⟩)))))))
  generalize lamH A 94 1 (fun _ => nI k) = D at hGD hID ⊢
  obtain ⟨hcD, hnD, hLD, hvD, hDED, hnamD⟩ := CW.gw (show CW g A c a d σ from ⟨hc, hn, hL, hv, hDE, hnam⟩) hZ hGD
  have hpD : D.R c 2 = some pq := by rw [((hGD.2 c lc).2.2 (fun q => q)).2.2]; exact hp
  have hsD := hs.gw hZ hGD (fun q => q) (fun q => q)
  have hfD : ∀ i, i < m → (D.G (f i)).1 = 2 := fun i hi => by rw [(hGD.2 _ (hZ.lt (hfk i hi) rfl)).1]; exact hfk i hi
  refine r_Zo fun hZoD => ?_
  refine r_Z fun hZD => ?_
  refine r_VH1i (pc := 13) C (c_changes (x := (6, k, 0)) hcD hnD hLD hvD hJ hG hDED hnamD h999 hpD hsD h8 hfD hK hID hkx (show 6 < 7 by decide)) vl_X1_463 (by exact hcD) (by decide) (by omega) (by omega) (Nat.le_of_ble_eq_true rfl) rfl dX1_turnRound_13 (fun u2 A2 hc2 => ?_)
  refine r_iret (pc := 16) C E rfl (by omega) (by omega) dX1_turnRound_16 ?_
  refine ⟨b99, D, ⟨hZD, hZoD⟩, hGD, ?_⟩
  rw [nt_n (by omega)]
  assumption
