/-! THE COMPONENT, 41: made -/
set_option maxRecDepth 100000
/-- the component as it is made -/
def Mad (A' : HA) (c l pq pe bf sb v : Nat) (d f : Nat → Nat) : Prop := ((A'.G c).1 = 1 ∧ A'.R c 0 = some l ∧ A'.R c 1 = none ∧ A'.R c 2 = some pq ∧ A'.R c 3 = some bf ∧ A'.R c 7 = some sb) ∧ WLn A' l d (bs pW10) ∧ DqV A' pq pe 0 0 f ∧ ((A'.G bf).1 = 201 ∧ A'.n bf = 900) ∧ SbV A' sb v 16 f 0 ∧ A'.I c 4 = nI 0 ∧ A'.I c 5 = nI 0 ∧ A'.I c 6 = -1
theorem SbV.gwI {A B : HA} {b v m n : Nat} {f : Nat → Nat} {X : Nat → Prop} (s : SbV A b v m f n) (hz : Zk A) (hw : Gw A B X) (h1 : ¬ X b) (h2 : ¬ X v) : SbV B b v m f n := by
  obtain ⟨⟨a1, a2, a3, a4⟩, a5, ⟨a6, a7⟩, a8, a9⟩ := s
  have l1 := hz.lt a1 rfl
  have l2 := hz.lt a3 rfl
  have e1 := hw.2 b l1
  have e2 := hw.2 v l2
  have f1 := e1.2.2 h1
  have f2 := e2.2.2 h2
  refine ⟨⟨by rw [e1.1]; exact a1, by rw [f1.2.2]; exact a2, by rw [e2.1]; exact a3, by rw [e2.2.1]; exact a4⟩, a5, ⟨by rw [f1.2.1]; exact a6, by rw [f1.2.1]; exact a7⟩, fun k hk => by rw [f2.2.1]; exact a8 k hk, fun k hk => by rw [f2.2.1]; exact a9 k hk⟩
set_option maxHeartbeats 4000000 in
theorem c_init {g : GZ} {A : HA} {c : Nat} {f : Nat → Nat} (hc : (A.G c).1 = 1) (hk : A.R c 1 = none) (h4 : A.I c 4 = nI 0) (h5 : A.I c 5 = nI 0) (hz : zS g) (hDE : DeK g A) (hPl : PlC g)  : Ct g wV yX1_init (.code yX1_init cX1_init 1 (Option.none : Option Jvm.ClassFile.FieldType)) 14 50 2500 [.ref c] (A) (fun u A' => ∃ l d pq pe bf sb v, Mad A' c l pq pe bf sb v d f ∧ Gw A A' (fun y => y = c)) fw_no := by
  refine Ct.of [some (.ref c)] (by decide) rfl rfl fun z C hx hnm E => ?_
  refine r_Z fun hZ => ?_
  have lc := hZ.lt hc rfl
  refine r_aload_0 (pc := 0) C dX1_init_0 ?_
  refine r_objInit (pc := 1) C q198 q199 q200 rfl (Nat.le_of_ble_eq_true rfl) (by decide) dX1_init_1 ?_
  refine r_aload_0 (pc := 4) C dX1_init_4 ?_
  refine r_S0r (pc := 5) C (c_plain hDE hPl) sl_X1_18 (by decide) (by omega) (by omega) (Nat.le_of_ble_eq_true rfl) rfl dX1_init_5 (fun u1 A1 hc1 => ?_)
  obtain ⟨⟨d, hB⟩, hzl, hGF⟩ := hc1
  generalize A1 = F at hB hGF ⊢
  generalize u1 = l at hB hzl ⊢
  have hW := hB.wl
  obtain ⟨hcF, hIF, hRF⟩ := c_gw hZ hc hGF (fun q => q)
  refine r_Z (A := F) fun hZF => ?_
  have lcF := Nat.lt_of_lt_of_le lc hGF.1
  refine r_putR (pc := 8) C fl_X1_24_1 (by exact hcF) rfl (fun _ _ _ h => by cases h; exact Or.inl rfl) rfl dX1_init_8 ?_
  refine r_genA fun V hV => ?_
  have hFV : Gw F V (fun y => y = c) := by rw [hV]; exact gw_sR (fun _ => rfl)
  have hRV : V.R c = (va_up (A.R c) 0 (some l)) := by rw [hV, sR_s, hRF]
  have hIV : V.I c = A.I c := by rw [hV, ← hIF]; rfl
  clear hV
  have hcV : (V.G c).1 = 1 := by rw [(hFV.2 c lcF).1]; exact hcF
  have lcV := Nat.lt_of_lt_of_le lcF hFV.1
  have hWV := hW.gw hZF hFV (fun y _ q => by rw [q, hcF]; unfold OutK; omega) (StP.gw hZF hFV (fun y q => by rw [q, hcF]; exact ⟨by decide, by decide⟩))
  refine r_Z (A := V) fun hZV => ?_
  refine r_aload_0 (pc := 11) C dX1_init_11 ?_
  refine r_new (pc := 12) C (0) (Nat.zero_le _) nl_X1_28 NF14 (by omega) (by omega) dX1_init_12 ?_
  refine r_dup (pc := 15) C dX1_init_15 rfl ?_
  refine r_bipush (pc := 16) C dX1_init_16 cb_9 ?_
  refine r_I1v (pc := 18) C (j_J7_init (f := f) (by rw [mk_G, if_pos rfl]) (by rw [mk_I, if_pos rfl]; rfl) (by rw [mk_I, if_pos rfl]; rfl)) il_X1_30 (by decide) (by omega) (by omega) (Nat.le_of_ble_eq_true rfl) rfl dX1_init_18 (fun u2 A2 hc2 => ?_)
  obtain ⟨hD1, hGD1, -⟩ := hc2
  generalize hpe : (V.mk 14 0 0).z = pe at hD1
  generalize A2 = D at hD1 hGD1 ⊢
  have hVD : Gw V D Non := (gw_mk (A := V) (k := 14) (o := 0) (len := 0) (X := Non)).tr2 hGD1 (fun y hy q => by omega)
  obtain ⟨hcD, hID, hRD⟩ := c_gw hZV hcV hVD (fun q => q)
  have hWD := hWV.non hZV hVD
  have lcD := Nat.lt_of_lt_of_le lcV hVD.1
  refine r_Z (A := D) fun hZD => ?_
  refine r_putR (pc := 21) C fl_X1_31_1 (by exact hcD) rfl (fun _ _ _ h => by cases h; exact Or.inr ⟨rfl, hnm⟩) rfl dX1_init_21 ?_
  refine r_genA fun K9 hE9 => ?_
  have hDE9 : Gw D K9 (fun y => y = c) := by rw [hE9]; exact gw_sR (fun _ => rfl)
  have hRE : K9.R c = (va_up (va_up (A.R c) 0 (some l)) 2 (some V.z)) := by rw [hE9, sR_s, hRD, hRV]
  have hIE : K9.I c = A.I c := by rw [← hIV, ← hID, hE9]; rfl
  clear hE9
  have hcE : (K9.G c).1 = 1 := by rw [(hDE9.2 c lcD).1]; exact hcD
  have lcE := Nat.lt_of_lt_of_le lcD hDE9.1
  have hWE := hWD.gw hZD hDE9 (fun y _ q => by rw [q, hcD]; unfold OutK; omega) (StP.gw hZD hDE9 (fun y q => by rw [q, hcD]; exact ⟨by decide, by decide⟩))
  have hDqE := hD1.gw hZD hDE9 (fun e => by have h9 := hD1.g; rw [e, hcD] at h9; cases h9) (fun e => by have h9 := hD1.k; rw [e, hcD] at h9; cases h9)
  refine r_Z (A := K9) fun hZE => ?_
  refine r_aload_0 (pc := 24) C dX1_init_24 ?_
  refine r_sipush (pc := 25) C dX1_init_25 cs_900 ?_
  refine r_newB (pc := 28) C 201 (0) (Nat.zero_le _) rfl q361 rfl (by omega) (by omega) (by omega) dX1_init_28 ?_
  have hcM : ((K9.mk 201 0 900).G c).1 = 1 := by rw [mk_G, if_neg (Nat.ne_of_lt lcE)]; exact hcE
  refine r_putR (pc := 30) C fl_X1_35_1 (by exact hcM) rfl (fun _ _ _ h => by cases h; exact Or.inr ⟨rfl, hnm⟩) rfl dX1_init_30 ?_
  refine r_aload_0 (pc := 33) C dX1_init_33 ?_
  refine r_iconst (pc := 34) C dX1_init_34 ci_m1 ?_
  refine r_putI (pc := 35) C fl_X1_39_1 (by exact hcM) rfl (fun _ _ _ h => by cases h; exact Or.inl rfl) rfl rfl rfl dX1_init_35 ?_
  refine r_genA fun U hU9 => ?_
  have hEM : Gw K9 (K9.mk 201 0 900) Non := gw_mk
  have hMU : Gw (K9.mk 201 0 900) U (fun y => y = c) := by rw [hU9]; exact (gw_sR (X := fun y => y = c) (fun _ => rfl)).tr (gw_sI (X := fun y => y = c) (fun _ => rfl))
  have hEU : Gw K9 U (fun y => y = c) := (hEM.mono (fun _ _ q => q.elim)).tr hMU
  have hRU : U.R c = (va_up (va_up (va_up (A.R c) 0 (some l)) 2 (some V.z)) 3 (some K9.z)) := by rw [hU9]; show (HA.sR _ c _).R c = _; rw [sR_s, mk_R, if_neg (Nat.ne_of_lt lcE), hRE]
  have hIU : U.I c = upd (A.I c) 6 (-1) := by rw [hU9, sI_s]; show upd ((K9.mk 201 0 900).I c) 6 (-1) = _; rw [mk_I, if_neg (Nat.ne_of_lt lcE), hIE]
  have hbk : (U.G K9.z).1 = 201 := by rw [hU9]; show ((K9.mk 201 0 900).G K9.z).1 = _; rw [mk_G, if_pos rfl]
  have hbn : U.n K9.z = 900 := by rw [hU9]; show (K9.mk 201 0 900).n K9.z = _; rw [mk_n, if_pos rfl]
  clear hU9
  have hcU : (U.G c).1 = 1 := by rw [(hEU.2 c lcE).1]; exact hcE
  have lcU := Nat.lt_of_lt_of_le lcE hEU.1
  have hWU := hWE.gw hZE hEU (fun y _ q => by rw [q, hcE]; unfold OutK; omega) (StP.gw hZE hEU (fun y q => by rw [q, hcE]; exact ⟨by decide, by decide⟩))
  have hDU := hDqE.gw hZE hEU (fun e => by have h9 := hDqE.g; rw [e, hcE] at h9; cases h9) (fun e => by have h9 := hDqE.k; rw [e, hcE] at h9; cases h9)
  refine r_Z (A := U) fun hZU => ?_
  refine r_aload_0 (pc := 38) C dX1_init_38 ?_
  refine r_new (pc := 39) C (0) (Nat.zero_le _) nl_X1_43 NF15 (by omega) (by omega) dX1_init_39 ?_
  refine r_dup (pc := 42) C dX1_init_42 rfl ?_
  refine r_I0v (pc := 43) C (j_J9_init hz (f := f) (by rw [mk_G, if_pos rfl]) (by rw [mk_I, if_pos rfl]; rfl)) il_X1_45 (by decide) (by omega) (by omega) (Nat.le_of_ble_eq_true rfl) rfl dX1_init_43 (fun u3 A3 hc3 => ?_)
  obtain ⟨hS1, hGS1, -⟩ := hc3
  generalize hvz : (U.mk 15 0 0).z = sv at hS1
  generalize A3 = Y at hS1 hGS1 ⊢
  have hUY : Gw U Y Non := (gw_mk (A := U) (k := 15) (o := 0) (len := 0) (X := Non)).tr2 hGS1 (fun y hy q => by omega)
  obtain ⟨hcY, hIY, hRY⟩ := c_gw hZU hcU hUY (fun q => q)
  have hWY := hWU.non hZU hUY
  have hDY := hDU.gw hZU hUY (fun q => q) (fun q => q)
  have lcY := Nat.lt_of_lt_of_le lcU hUY.1
  have lbU := hZU.lt hbk rfl
  have hbY : (Y.G K9.z).1 = 201 ∧ Y.n K9.z = 900 := ⟨by rw [(hUY.2 _ lbU).1]; exact hbk, by rw [(hUY.2 _ lbU).2.1]; exact hbn⟩
  refine r_Z (A := Y) fun hZY => ?_
  refine r_putR (pc := 46) C fl_X1_46_1 (by exact hcY) rfl (fun _ _ _ h => by cases h; exact Or.inr ⟨rfl, hnm⟩) rfl dX1_init_46 ?_
  refine r_genA fun W hW9 => ?_
  have hYW : Gw Y W (fun y => y = c) := by rw [hW9]; exact gw_sR (fun _ => rfl)
  have hRW : W.R c = (va_up (va_up (va_up (va_up (A.R c) 0 (some l)) 2 (some V.z)) 3 (some K9.z)) 7 (some U.z)) := by rw [hW9, sR_s, hRY, hRU]
  have hIW : W.I c = upd (A.I c) 6 (-1) := by rw [← hIU, ← hIY, hW9]; rfl
  clear hW9
  have hcW : (W.G c).1 = 1 := by rw [(hYW.2 c lcY).1]; exact hcY
  have hWW := hWY.gw hZY hYW (fun y _ q => by rw [q, hcY]; unfold OutK; omega) (StP.gw hZY hYW (fun y q => by rw [q, hcY]; exact ⟨by decide, by decide⟩))
  have hDW := hDY.gw hZY hYW (fun e => by have h9 := hDY.g; rw [e, hcY] at h9; cases h9) (fun e => by have h9 := hDY.k; rw [e, hcY] at h9; cases h9)
  have hSW := hS1.gwI hZY hYW (fun e => by have h9 := hS1.1.1; rw [e, hcY] at h9; cases h9) (fun e => by have h9 := hS1.1.2.2.1; rw [e, hcY] at h9; cases h9)
  have lbY := hZY.lt hbY.1 rfl
  have hbW : (W.G K9.z).1 = 201 ∧ W.n K9.z = 900 := ⟨by rw [(hYW.2 _ lbY).1]; exact hbY.1, by rw [(hYW.2 _ lbY).2.1]; exact hbY.2⟩
  refine r_vret (pc := 49) C E (by omega) (by omega) dX1_init_49 ?_
  refine ⟨l, d, V.z, pe, K9.z, U.z, sv, ⟨⟨hcW, by rw [hRW]; rfl, by rw [hRW]; exact hk, by rw [hRW]; rfl, by rw [hRW]; rfl, by rw [hRW]; rfl⟩, hWW, hDW, hbW, hSW, by rw [hIW, pk_un (by decide)]; exact h4, by rw [hIW, pk_un (by decide)]; exact h5, by rw [hIW, pk_us]⟩, ?_⟩
  exact (((((hGF.mono (fun _ _ q => q.elim)).tr hFV).tr2 hVD (fun _ _ q => q.elim)).tr hDE9).tr hEU).tr2 hUY (fun _ _ q => q.elim) |>.tr hYW
