/-! THE COMPONENT, 38: orders are run -/
set_option maxRecDepth 100000
/-- the orders made -/
def OrK (A : HA) (al m : Nat) (χ : Nat → Chg) (oo : Nat → Nat) : Prop := (A.G al).1 = 640 ∧ A.n al = 31 ∧ (∀ j, j < m → A.R al j = some (oo j) ∧ LamIs A (oo j) (χ j)) ∧ A.R al m = none
theorem OrK.gw {A D : HA} {al m : Nat} {χ : Nat → Chg} {oo : Nat → Nat} {X : Nat → Prop} (h : OrK A al m χ oo) (hz : Zk A) (hw : Gw A D X) (hX : ∀ y, X y → (A.G y).1 < 20) : OrK D al m χ oo := by
  obtain ⟨h1, h2, h3, h4⟩ := h
  have la := hz.lt h1 rfl
  have v := hw.2 al la
  have nX : ¬ X al := fun q => by have := hX al q; omega
  have eR := (v.2.2 nX).2.2
  refine ⟨by rw [v.1]; exact h1, by rw [v.2.1]; exact h2, fun j hj => ⟨by rw [eR]; exact (h3 j hj).1, (h3 j hj).2.gw hz hw (fun q => ?_)⟩, by rw [eR]; exact h4⟩
  have a1 := hX _ q
  have a2 := (h3 j hj).2.k
  omega
theorem ScI.wl {g : GZ} {A F : HA} {s a n b : Nat} {d db : Nat → Nat} {σ ρ : Rw} (h : ScI g A F s a d σ n b db ρ) (hz : Zk A) (hW : WLn A a d σ) (h10 : (A.G s).1 = 10) (k6 : rK σ ≤ 6) (g6 : rG σ ≤ 6) (e : ∀ j, NmP j → ρ j = σ j) : WLn F b db ρ := by
  obtain ⟨i1, i2, i3, i4, i5, i6, i7, i8, i9⟩ := h
  have hP : StP A F := StP.gw hz i5 (fun y q => by rw [q, h10]; exact ⟨by decide, by decide⟩)
  have hWF := hW.gw hz i5 (fun y _ q => by rw [q, h10]; unfold OutK; omega) hP
  rcases Nat.eq_zero_or_pos n with q | q
  · obtain ⟨e1, e2, e3⟩ := i6 q
    rw [e1, e2, e3]
    exact hWF
  · have eG : rG ρ = rG σ := by unfold rG; rw [i4 0 (by omega)]
    have eK : rK ρ = rK σ := chg_rK i4
    have e23 : db 23 = d 23 := i8 23 (by omega)
    refine ⟨⟨i1.2.1, i1.2.2.1, nm_to hz hW.1.2.2 hP (fun y hy => (i5.2 y hy).1) i9 (fun r hr => ?_) eK eG k6 g6 e⟩, (i7 q).2, by rw [e23]; exact hWF.2.2⟩
    have hy : Fp a d (rK σ) (rG σ) (d (40 + r)) := Or.inr (Or.inr (Or.inr (Or.inr ⟨r, hr, rfl⟩)))
    rw [i8 _ (by omega)]
    refine congrFun ((i5.2 _ (fp_lt hz hW.1.1 hy)).2.2 (fun q => ?_)).2.2 0
    have h4 := (ly_t hW.1.1 hr).2
    rw [q, h10] at h4
    cases h4
theorem go_no {g : GZ} {A D F : HA} {r : Nat} (hE : EmK g) (hw9 : WdN g (A.mk 7 0 0) D A.z) (h0 : Gw A D Non) (h : Gw D F (GoX D A.z)) (hoD : fw_old g D) (hoF : fw_old g F) : Gw A F Non := by
  obtain ⟨v, -, hlt, -, -⟩ := hE
  obtain ⟨w, hw, hq⟩ := hw9
  refine h0.tr2 (gw_old h hoD hoF) (fun y hy q => ?_)
  rcases q with ⟨q1 | q1, q2⟩
  · omega
  · rw [hw] at q1
    cases q1
    rcases hq with e | e
    · omega
    · rw [mk_z] at e
      omega
set_option maxHeartbeats 4000000 in
theorem c_runOrders {g : GZ} {A : HA} {c bf L : Nat} {B : Nat → Nat} (hc : (A.G c).1 = 1) (hX : TxC A c bf L B) (hz : zS g) (hT : TkC g) (hC : RdC g) (hK : LamK g) (h83 : (g.A.G (g.c 83)).1 = 83 ∧ g.A.n (g.c 83) = 0 ∧ g.c 83 < g.b) (hG : GdK g) (hDE : DeK g A) {a : Nat} {d : Nat → Nat} {σ : Rw} (hn : A.R c 0 = some a) (hW : WLn A a d σ) (hN : RowN σ) {pq pe h m : Nat} {f : Nat → Nat} (hp : A.R c 2 = some pq) (hs : DqV A pq pe h m f) (h8 : m ≤ 8) (hfk : ∀ i, i < m → (A.G (f i)).1 = 2) {f0 : Rw} {w : Nat}  : Ct g wI yX1_runOrders (.codeWith yX1_runOrders cX1_runOrders 4 (Option.some Jvm.ClassFile.FieldType.int) [(0, 12, 20, 149), (0, 12, 27, 0), (20, 28, 27, 0)]) 66 (30 * L + 1300) (120 * L + 33500) [.ref c] (A) (fun u A' => (rdO σ B L (L + 2) f0 0 (0, 0, w, 0, -1)).2.2.e = 0 ∧ u = nI (doO (rdO σ B L (L + 2) f0 0 (0, 0, w, 0, -1)).1 (rdO σ B L (L + 2) f0 0 (0, 0, w, 0, -1)).2.1 0 σ).1 ∧ (∃ l d', A'.R c = va_up (A.R c) 0 (some l) ∧ WLn A' l d' (doO (rdO σ B L (L + 2) f0 0 (0, 0, w, 0, -1)).1 (rdO σ B L (L + 2) f0 0 (0, 0, w, 0, -1)).2.1 0 σ).2) ∧ A'.I c = upd (upd (upd (A.I c) 4 (nI 0)) 5 (nI 0)) 6 (-1) ∧ (∃ h', DqV A' pq pe h' (pastM m) (pastF f m a)) ∧ Gw A A' (fun y => y = c ∨ y = pq ∨ y = pe)) (fun q A' => ¬ (rdO σ B L (L + 2) f0 0 (0, 0, w, 0, -1)).2.2.e = 0 ∧ (A'.G q).1 = 19 ∧ A'.I c = upd (upd (upd (A.I c) 5 (nI (rdO σ B L (L + 2) f0 0 (0, 0, w, 0, -1)).2.2.e)) 6 (rdO σ B L (L + 2) f0 0 (0, 0, w, 0, -1)).2.2.p) 4 (nI 0) ∧ A'.R c = A.R c ∧ Gw A A' (fun y => y = c)) := by
  refine Ct.ofH [some (.ref c), none, none, none] (by decide) rfl rfl fun z C hx hnm E => ?_
  refine r_Z fun hZ => ?_
  have lc := hZ.lt hc rfl
  have hL9 := hX.2.2.2.2.2
  have hn0 := nxE_le (B := B) (L := L) (a := 0) (Nat.zero_le _)
  have hm9 : nxE B L (TS.a (0, 0, w, 0, -1)) = nxE B L 0 := rfl
  have lq := hZ.lt hs.g rfl
  have le := hZ.lt hs.k rfl
  have la := hZ.lt (ly_g hW.1.1) rfl
  have k6 := hN.1.w.k6
  have g6 := hN.1.w.g6
  have hnq : ¬ pq = c := fun e => by have h9 := hs.g; rw [e, hc] at h9; cases h9
  have hne : ¬ pe = c := fun e => by have h9 := hs.k; rw [e, hc] at h9; cases h9
  refine r_new (pc := 0) C (0) (Nat.zero_le _) nl_X1_156 NF7 (by omega) (by omega) dX1_runOrders_0 ?_
  have hU := rd_mk (A := A)
  obtain ⟨hcU, -, -⟩ := c_gw hZ hc hU.2.2 (fun q => q)
  have hXU := hX.gw hZ hc hU.2.2 (fun q => q) (fun q => q)
  refine r_dup (pc := 3) C dX1_runOrders_3 rfl ?_
  refine r_aload_0 (pc := 4) C dX1_runOrders_4 ?_
  refine r_IN1v (pc := 5) C (t_init hU.1 hU.2.1 hcU (hXU).1 hXU.2.1 hXU.2.2.1 hXU.2.2.2.1 hXU.2.2.2.2.1 hXU.2.2.2.2.2 hz hT) inl_X1_158 (by decide) (by omega) (by omega) (Nat.le_of_ble_eq_true rfl) rfl dX1_runOrders_5 (fun u1 A1 hc1 => ?_)
  obtain ⟨hR1, hG1, hw9⟩ := hc1
  generalize A1 = D at hR1 hG1 hw9 ⊢
  refine r_old (A := D) fun hoD => ?_
  have hG19 : Gw A D Non := hU.2.2.tr2 hG1 (fun y hy e => by omega)
  obtain ⟨hcD, hID, hRD⟩ := c_gw hZ hc hG19 (fun q => q)
  have hWD := hW.non hZ hG19
  refine r_V0rx (pc := 8) C (t_orders (s0 := (0, 0, w, 0, -1)) (f0 := f0) (fu0 := L + 2) rfl hR1 hT (Nat.zero_le _) hz (by rw [hRD]; exact hn) hWD.1.1 hWD.1.2.1 hN.1.w hWD.1.2.2 hC hK h83 (Nat.le_of_eq rfl)) vl_X1_175 hR1.r7 (by decide) (by omega) (by omega) (Nat.le_of_ble_eq_true rfl) rfl dX1_runOrders_8 ?_ (fun u2 A2 hc2 => ?_)
  · intro q9 A9 hp9 hE9
    obtain ⟨hE9, hU9⟩ := hp9
    refine r_catch C [] ⟨0, 12, 20, 149⟩ [⟨0, 12, 27, 0⟩, ⟨20, 28, 27, 0⟩] (hx.trans rfl) (fun _ h => nomatch h) (by decide) (by decide) q1460 q1531 ((congrArg fw_ex hU9.1).trans rfl) ?_
    refine r_old (A := A9) fun ho9 => ?_
    have hG9 := go_no (r := 0) hC.1 hw9 hG19 hU9.2.2.2 hoD ho9
    obtain ⟨hc9, hI9, hR9⟩ := c_gw hZ hc hG9 (fun q => q)
    have lc9 := Nat.lt_of_lt_of_le lc hG9.1
    refine r_astore_2 (pc := 20) C dX1_runOrders_20 rfl ?_
    refine r_aload_0 (pc := 21) C dX1_runOrders_21 ?_
    refine r_aload_2 (pc := 22) C dX1_runOrders_22 ?_
    refine r_V1r (pc := 23) C (c_failed hc9 hU9.1 hU9.2.1 hU9.2.2.1) vl_X1_164 (by exact hc9) (by decide) (by omega) (by omega) (Nat.le_of_ble_eq_true rfl) rfl dX1_runOrders_23 (fun u3 A3 hc3 => ?_)
    obtain ⟨-, g19, i19, r19, w19⟩ := hc3
    generalize A3 = Q at g19 i19 r19 w19 ⊢
    generalize u3 = qf at g19 ⊢
    have hcQ : (Q.G c).1 = 1 := by rw [(w19.2 c lc9).1]; exact hc9
    refine r_athrowC (pc := 26) C dX1_runOrders_26 [⟨0, 12, 20, 149⟩, ⟨0, 12, 27, 0⟩] ⟨20, 28, 27, 0⟩ [] (hx.trans rfl) (by decide) (by decide) rfl ((congrArg fw_ex g19).trans rfl) ?_
    refine r_astore_3 (pc := 27) C dX1_runOrders_27 rfl ?_
    refine r_aload_0 (pc := 28) C dX1_runOrders_28 ?_
    refine r_iconst (pc := 29) C dX1_runOrders_29 ci_0 ?_
    refine r_putI (pc := 30) C fl_X1_104_1 (by exact hcQ) rfl (fun _ _ _ h => by cases h; exact Or.inl rfl) rfl rfl rfl dX1_runOrders_30 ?_
    refine r_aload_3 (pc := 33) C dX1_runOrders_33 ?_
    refine r_athrow (pc := 34) C dX1_runOrders_34 ?_
    refine r_out C E (by rw [hx.trans rfl]; decide) (En := RJ18) ((congrArg fw_ex (show (Q.G qf).1 = 19 from g19)).trans rfl) (by omega) (by omega) ⟨hE9, g19, ?_, ?_, (hG9.mono (fun _ _ q => q.elim)).tr (w19.tr (gw_sI (fun _ => rfl)))⟩
    · rw [sI_s, i19, hI9]
    · exact r19.trans hR9
  obtain ⟨om, χ, oo, hE0, hom, hm30, -, k640, n31, hoo, hnone, hG2, -⟩ := hc2
  generalize A2 = F at k640 n31 hoo hnone hG2 ⊢
  generalize u2 = al at k640 n31 hoo hnone ⊢
  refine r_old (A := F) fun hoF => ?_
  have hGF := go_no (r := 0) hC.1 hw9 hG19 hG2 hoD hoF
  obtain ⟨hcF, hIF, hRF⟩ := c_gw hZ hc hGF (fun q => q)
  have hKF : OrK F al om χ oo := ⟨k640, n31, fun j hj => ⟨(hoo j hj).1, (hoo j hj).2.1⟩, hnone⟩
  have hOr := fun j hj => (hoo j hj).2.2
  clear hoo
  refine r_Z (A := F) fun hZF => ?_
  refine r_astore_1 (pc := 11) C dX1_runOrders_11 rfl ?_
  refine r_aload_0 (pc := 12) C dX1_runOrders_12 ?_
  refine r_iconst (pc := 13) C dX1_runOrders_13 ci_0 ?_
  refine r_putI (pc := 14) C fl_X1_104_1 (by exact hcF) rfl (fun _ _ _ h => by cases h; exact Or.inl rfl) rfl rfl rfl dX1_runOrders_14 ?_
  refine r_goto (pc := 17) (tgt := 35) C dX1_runOrders_17 (by decide) ?_
  refine r_aload_0 (pc := 35) C dX1_runOrders_35 ?_
  refine r_V0vo (pc := 36) C (c_noError (by exact hcF)) vl_X1_168 (by exact hcF) (by decide) (by omega) (by omega) (Nat.le_of_ble_eq_true rfl) rfl dX1_runOrders_36 (fun u4 A4 hc4 => ?_)
  refine r_eqA hc4 ?_
  clear hc4 A4 u4
  refine r_genA fun V hV => ?_
  have hGV : Gw F V (fun y => y = c) := by rw [hV]; exact (gw_sI (X := fun y => y = c) (fun _ => rfl)).tr (gw_sI (X := fun y => y = c) (fun _ => rfl))
  have hIV : V.I c = upd (upd (upd (A.I c) 4 (nI 0)) 5 (nI 0)) 6 (-1) := by rw [hV, ← hIF]; simp only [sI_s, sI_sI]
  have hRV : V.R c = A.R c := by rw [hV, ← hRF]; rfl
  clear hV
  have lcF := Nat.lt_of_lt_of_le lc hGF.1
  have hcV : (V.G c).1 = 1 := by rw [(hGV.2 c lcF).1]; exact hcF
  refine r_Z (A := V) fun hZV => ?_
  have hKV := hKF.gw hZF hGV (fun y q => by rw [q, hcF]; decide)
  have hAV : Gw A V (fun y => y = c) := (hGF.mono (fun _ _ q => q.elim)).tr hGV
  have hWV := hW.gw hZ hAV (fun y _ q => by rw [q, hc]; unfold OutK; omega) (StP.gw hZ hAV (fun y q => by rw [q, hc]; exact ⟨by decide, by decide⟩))
  have hDEV := hDE.gw hZ hAV
  refine r_new (pc := 39) C (0) (Nat.zero_le _) nl_X1_179 NF10 (by omega) (by omega) dX1_runOrders_39 ?_
  have hGM : Gw V (V.mk 10 0 0) Non := gw_mk
  obtain ⟨hcN, hIN, hRN⟩ := c_gw hZV hcV hGM (fun q => q)
  have hnN : (V.mk 10 0 0).R c 0 = some a := by rw [hRN, hRV]; exact hn
  have hWN := hWV.non hZV hGM
  have hKN := hKV.gw hZV hGM (fun _ q => q.elim)
  have hDEN := hDEV.gw hZV hGM
  have h10N : ((V.mk 10 0 0).G V.z).1 = 10 := by rw [mk_G, if_pos rfl]
  have hs1N : (V.mk 10 0 0).I V.z 1 = nI 0 := by rw [mk_I, if_pos rfl]; rfl
  have hzN : (V.mk 10 0 0).z = V.z + 1 := rfl
  refine r_Z (A := V.mk 10 0 0) fun hZN => ?_
  refine r_dup (pc := 42) C dX1_runOrders_42 rfl ?_
  refine r_aload_0 (pc := 43) C dX1_runOrders_43 ?_
  refine r_aload_1 (pc := 44) C dX1_runOrders_44 ?_
  refine r_I2v (pc := 45) C (s_init (m := om) (oo := oo) (χ := χ) h10N hs1N hcN hnN hWN.1.1 hWN.1.2.1 hN hDEN (fun k hk => by obtain ⟨nm, q1, -⟩ := hWN.1.2.2.1 k hk; exact ⟨nm, q1⟩) hG hK hKN.1 hKN.2.1 hm30 (fun j hj => ⟨(hKN.2.2.1 j hj).1, (hKN.2.2.1 j hj).2, (hOr j hj).1⟩) hKN.2.2.2) il_X1_181 (by decide) (by omega) (by omega) (Nat.le_of_ble_eq_true rfl) rfl dX1_runOrders_45 (fun u5 A5 hc5 => ?_)
  obtain ⟨n, b, db, ρ, hdo, hnm, hSI⟩ := hc5
  generalize A5 = H at hSI ⊢
  refine r_Z (A := H) fun hZH => ?_
  refine r_Zo (A := H) fun hZoH => ?_
  have hdo2 : doO (rdO σ B L (L + 2) f0 0 (0, 0, w, 0, -1)).1 om 0 σ = (n, ρ) := by rw [← hdo]; exact (do_eq om 0 σ hN (fun _ _ => rfl) (fun j _ hj => hOr j (by omega))).symm
  have hnmρ : ∀ j, NmP j → ρ j = σ j := fun j hj => by have h9 := doC_nm om 0 σ hN (fun _ _ => rfl) (fun j _ hj => (hOr j (by omega)).1) j hj; rw [hdo] at h9; exact h9
  have hWb := hSI.wl hZN hWN h10N k6 g6 hnmρ
  have hWaH := hWN.gw hZN hSI.2.2.2.2.1 (fun y _ q => by rw [q, h10N]; unfold OutK; omega) (StP.gw hZN hSI.2.2.2.2.1 (fun y q => by rw [q, h10N]; exact ⟨by decide, by decide⟩))
  obtain ⟨⟨⟨h10H, hbH⟩, -, -, hDEH, -⟩, hnH, hNρ, -, hGH, -, -, -, -⟩ := hSI
  have hAH : Gw A H (fun y => y = c) := (hAV.tr2 hGM (fun _ _ q => q.elim)).tr2 hGH (fun y hy q => by have := hAV.1; omega)
  have lcN := Nat.lt_of_lt_of_le lc hAV.1
  have hcH : (H.G c).1 = 1 := by rw [(hAH.2 c lc).1]; exact hc
  have eH := (hGH.2 c (by rw [hzN]; omega)).2.2 (fun q => by omega)
  have hIH : H.I c = upd (upd (upd (A.I c) 4 (nI 0)) 5 (nI 0)) 6 (-1) := by rw [eH.2.1, hIN, hIV]
  have hRH : H.R c = A.R c := by rw [eH.2.2, hRN, hRV]
  have hnaH : H.R c 0 = some a := by rw [hRH]; exact hn
  refine r_astore_2 (pc := 48) C dX1_runOrders_48 rfl ?_
  refine r_aload_0 (pc := 49) C dX1_runOrders_49 ?_
  refine r_aload_2 (pc := 50) C dX1_runOrders_50 ?_
  refine r_ngetR (pc := 51) C fn_X1_184_10 (by exact h10H) rfl (by exact hbH) dX1_runOrders_51 ?_
  refine r_aload_0 (pc := 54) C dX1_runOrders_54 ?_
  refine r_getR (pc := 55) C fl_X1_24_1 (by exact hcH) rfl hnaH dX1_runOrders_55 ?_
  refine r_acmp_ne (pc := 58) (tgt := 71) C dX1_runOrders_58 (by decide) (fun b58 => ?_) (fun b58 => ?_)
  · skip
    have hWT := hWb
    have hGHT : Gw H H Non := Gw.rf
    have hGT := hAH
    have hRT := hRH
    have hIT := hIH
    refine r_Z (A := H) fun hZT => ?_
    have hcT : (H.G c).1 = 1 := by rw [(hGT.2 c lc).1]; exact hc
    have hnT : H.R c 0 = some a := hRT ▸ hn
    have hpT : H.R c 2 = some pq := hRT ▸ hp
    have hsT := hs.gw hZ hGT hnq hne
    have hWaT := hWaH.non hZH hGHT
    have hfT : ∀ i, i < m → (H.G (f i)).1 = 2 := fun i hi => by rw [(hGT.2 _ (hZ.lt (hfk i hi) rfl)).1]; exact hfk i hi
    refine r_aload_2 (pc := 71) C dX1_runOrders_71 ?_
    refine r_ngetR (pc := 72) C fn_X1_184_10 (by exact h10H) rfl (by exact hbH) dX1_runOrders_72 ?_
    refine r_aload_2 (pc := 75) C dX1_runOrders_75 ?_
    refine r_ngetI (pc := 76) C fn_X1_190_10 (by exact h10H) rfl dX1_runOrders_76 ?_
    refine r_top (by exact hnH) ?_
    refine r_V2io (pc := 79) C (c_becomes hcT hnT hWaT.1.1 hWaT.1.2.1 hN.1 hpT hsT h8 hfT (v := nI n)) vl_X1_193 (by exact hcH) (by decide) (by omega) (by omega) (Nat.le_of_ble_eq_true rfl) rfl dX1_runOrders_79 (fun u6 A6 hc6 => ?_)
    obtain ⟨eu, eR, eI, hDq, hGq, -⟩ := hc6
    refine r_top eu ?_
    generalize A6 = Y at eR eI hDq hGq ⊢
    have hWY := hWT.gw hZT hGq (fun y _ e => by rcases e with e | e | e <;> rw [e]; (rw [hcT]; unfold OutK; omega); (rw [hsT.g]; unfold OutK; omega); (rw [hsT.k]; unfold OutK; omega)) (StP.gw hZT hGq (fun y e => by rcases e with e | e | e <;> rw [e]; (rw [hcT]; exact ⟨by decide, by decide⟩); (rw [hsT.g]; exact ⟨by decide, by decide⟩); (rw [hsT.k]; exact ⟨by decide, by decide⟩)))
    clear eu
    have hIY := eI
    have hRY := eR
    refine r_iret (pc := 82) C E rfl (by omega) (by omega) dX1_runOrders_82 ?_
    refine ⟨hE0, ?_⟩
    rw [hom, hdo2]
    rw [hRT] at eR
    exact ⟨rfl, ⟨_, _, eR, hWY⟩, eI.trans hIT, hDq, (hGT.mono (fun _ _ q => Or.inl q)).tr hGq⟩
  · skip
    have hWa : WLn H a db ρ := b58 ▸ hWb
    refine r_aload_0 (pc := 61) C dX1_runOrders_61 ?_
    refine r_getR (pc := 62) C fl_X1_24_1 (by exact hcH) rfl hnaH dX1_runOrders_62 ?_
    refine r_V0r (pc := 65) C (l_copy hWa.1.1 hWa.1.2.1 hNρ.1.w (fun c hc => (hNρ.1.c hc).fe) hDEH (fun k hk => by obtain ⟨nm, q1, -⟩ := hWa.1.2.2.1 k hk; exact ⟨nm, q1⟩)) vl_X1_187 (by exact ly_g hWaH.1.1) (by decide) (by omega) (by omega) (Nat.le_of_ble_eq_true rfl) rfl dX1_runOrders_65 (fun u7 A7 hc7 => ?_)
    obtain ⟨d2, hCp⟩ := hc7
    generalize A7 = T at hCp ⊢
    generalize u7 = q2 at hCp ⊢
    have hWT := hWa.cp hZH hZoH hCp (Nx.rf hCp.2.1 hCp.2.2.1) rfl rfl (by exact hNρ.1.w.k6) (by exact hNρ.1.w.g6) (fun _ _ => rfl)
    have hGHT : Gw H T Non := hCp.2.2.2.1
    have hGT : Gw A T (fun y => y = c) := hAH.tr2 hGHT (fun _ _ q => q.elim)
    have lcH := Nat.lt_of_lt_of_le lc hAH.1
    have hRT : T.R c = A.R c := by rw [((hGHT.2 c lcH).2.2 (fun q => q)).2.2]; exact hRH
    have hIT : T.I c = upd (upd (upd (A.I c) 4 (nI 0)) 5 (nI 0)) 6 (-1) := by rw [((hGHT.2 c lcH).2.2 (fun q => q)).2.1]; exact hIH
    have ls := hZH.lt h10H rfl
    have h10T : (T.G V.z).1 = 10 := by rw [(hGHT.2 _ ls).1]; exact h10H
    have hnT9 : T.I V.z 1 = nI n := by rw [((hGHT.2 _ ls).2.2 (fun q => q)).2.1]; exact hnH
    refine r_Z (A := T) fun hZT => ?_
    have hcT : (T.G c).1 = 1 := by rw [(hGT.2 c lc).1]; exact hc
    have hnT : T.R c 0 = some a := hRT ▸ hn
    have hpT : T.R c 2 = some pq := hRT ▸ hp
    have hsT := hs.gw hZ hGT hnq hne
    have hWaT := hWaH.non hZH hGHT
    have hfT : ∀ i, i < m → (T.G (f i)).1 = 2 := fun i hi => by rw [(hGT.2 _ (hZ.lt (hfk i hi) rfl)).1]; exact hfk i hi
    refine r_goto (pc := 68) (tgt := 75) C dX1_runOrders_68 (by decide) ?_
    refine r_aload_2 (pc := 75) C dX1_runOrders_75 ?_
    refine r_ngetI (pc := 76) C fn_X1_190_10 (by exact h10T) rfl dX1_runOrders_76 ?_
    refine r_top (by exact hnT9) ?_
    refine r_V2io (pc := 79) C (c_becomes hcT hnT hWaT.1.1 hWaT.1.2.1 hN.1 hpT hsT h8 hfT (v := nI n)) vl_X1_193 (by exact hcT) (by decide) (by omega) (by omega) (Nat.le_of_ble_eq_true rfl) rfl dX1_runOrders_79 (fun u8 A8 hc8 => ?_)
    obtain ⟨eu, eR, eI, hDq, hGq, -⟩ := hc8
    refine r_top eu ?_
    generalize A8 = Y at eR eI hDq hGq ⊢
    have hWY := hWT.gw hZT hGq (fun y _ e => by rcases e with e | e | e <;> rw [e]; (rw [hcT]; unfold OutK; omega); (rw [hsT.g]; unfold OutK; omega); (rw [hsT.k]; unfold OutK; omega)) (StP.gw hZT hGq (fun y e => by rcases e with e | e | e <;> rw [e]; (rw [hcT]; exact ⟨by decide, by decide⟩); (rw [hsT.g]; exact ⟨by decide, by decide⟩); (rw [hsT.k]; exact ⟨by decide, by decide⟩)))
    clear eu
    have hIY := eI
    have hRY := eR
    refine r_iret (pc := 82) C E rfl (by omega) (by omega) dX1_runOrders_82 ?_
    refine ⟨hE0, ?_⟩
    rw [hom, hdo2]
    rw [hRT] at eR
    exact ⟨rfl, ⟨_, _, eR, hWY⟩, eI.trans hIT, hDq, (hGT.mono (fun _ _ q => Or.inl q)).tr hGq⟩
