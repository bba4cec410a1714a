/-! THE COMPONENT, 4: more over ways -/
set_option maxRecDepth 100000
section
variable {g : GZ} {z : ZX} {cc : ByteArray} {own : String} {nL d mc ms k n : Nat} {A : HA} {pc : Nat} {lv : List (Option Value)} {st : List Value}
theorem r_ldcwI (C : CX g z cc own nL d mc ms) {ix : Nat} {v : Int32} (hw : Cond.constant own ix v ∈ lw_all) (hd : decode cc pc = .ok (.ldc_w ix, 3)) (kk : wa g z k n A (pc + 3) lv (.int v :: st)) : wa g z k n A pc lv st :=
  fun H locs ls hR hL hl => lv_ldcw C.x C.b C.o (C.w _ hw) hd (kk H locs ls hR hL hl)
end
theorem fenB_i {σ : Rw} {w : Nat} : ∀ {n}, fenB σ w n = true ↔ ∃ i, i < n ∧ fenced σ (wy σ w i)
  | 0 => ⟨fun h => (nomatch h), fun ⟨i, h, _⟩ => absurd h (Nat.not_lt_zero _)⟩
  | n + 1 => by
    show (fenB σ w n || decide (fenced σ (wy σ w n))) = true ↔ _
    rw [Bool.or_eq_true, fenB_i, decide_eq_true_iff]
    constructor
    · rintro (⟨i, h1, h2⟩ | h)
      · exact ⟨i, by omega, h2⟩
      · exact ⟨n, by omega, h⟩
    · rintro ⟨i, h1, h2⟩
      by_cases q : i = n
      · rw [q] at h2; exact Or.inr h2
      · exact Or.inl ⟨i, by omega, h2⟩
set_option maxHeartbeats 4000000 in
theorem c_grassOn {g : GZ} {A : HA} {c a : Nat} {d : Nat → Nat} {σ : Rw} (hc : (A.G c).1 = 1) (hn : A.R c 0 = some a) (hL : Ly A a d σ) (hv : Lv A.I a d σ) (hJ : RowJ σ) (hG : GdK g) (hIc : IcK g A) {k : Nat} (hk : k < rK σ) : Ct g wI yX1_grassOn (.code yX1_grassOn cX1_grassOn 5 (Option.some Jvm.ClassFile.FieldType.int)) 9 2 6 [.ref c, .ref (d (30 + k))] (A) (fun u A' => u = nI (gOn σ k) ∧ Gs A A' d) fw_no := by
  refine Ct.of [some (.ref c), some (.ref (d (30 + k))), none, none, none] (by decide) rfl rfl fun z C hx hnm E => ?_
  have hW := hJ.w
  have hS := hW.s
  have hw3 := hS.w3
  have hw10 := hS.w10
  have hh8 := hS.h8
  have hc80 := hS.c80
  have k6 := hW.k6
  have g6 := hW.g6
  have hC : ∀ c, c < 80 → CelF σ c := fun c hc => (hJ.c hc).fe
  have d9 := hW.d9
  refine r_Z fun hZ => ?_
  have hcz := hZ.lt hc rfl
  refine r_iconst (pc := 0) C dX1_grassOn_0 ci_0 ?_
  refine r_istore_2 (pc := 1) C dX1_grassOn_1 rfl ?_
  refine r_aload_0 (pc := 2) C dX1_grassOn_2 ?_
  refine r_getR (pc := 3) C fl_X1_24_1 (by exact hc) rfl (by exact hn) dX1_grassOn_3 ?_
  refine r_aload_1 (pc := 6) C dX1_grassOn_6 ?_
  refine r_V1r (pc := 7) C (l_way (k := k) hL hv hW hC hJ.g hG hk) vl_X1_247 (ly_g hL) (by decide) (by omega) (by omega) (Nat.le_of_ble_eq_true rfl) rfl dX1_grassOn_7 (fun u1 A1 hc1 => ?_)
  obtain ⟨hWi, hFar, hGs1⟩ := hc1
  generalize A1 = B at hWi hFar hGs1 ⊢
  generalize u1 = p at hWi ⊢
  refine r_Z fun hZB => ?_
  have hLB := hGs1.ly hZ hL
  have hvB := hGs1.lv hZ hL hv
  have hIB := hGs1.ic hZ hL hIc
  refine r_F0r (pc := 10) C (j_iterator hLB hvB hJ hk hWi) fi_X1_251_11 hWi.1 (by decide) (by omega) (by omega) (Nat.le_of_ble_eq_true rfl) rfl dX1_grassOn_10 (fun u2 A2 hc2 => ?_)
  obtain ⟨eu2, hIt0, hGn⟩ := hc2
  refine r_topR eu2 ?_
  clear eu2 u2
  generalize A2 = D at hIt0 hGn ⊢
  refine r_Z fun hZD => ?_
  have hLD := ly_gw hZB hLB hGn (fun _ _ q => q)
  have hvD := lv_gw hZB hLB hvB hGn (fun _ _ q => q)
  have hFD := hFar.gw hZB hLB hGn (fun q => q)
  have hID := hIB.gw hZB hGn (fun _ _ q => q.elim)
  have hG0 := hGs1.nx hGn (fun _ _ q => q)
  have hAB : A.z ≤ B.z := hGs1.1.1
  have hfs : ∀ y, Fp a d (rK σ) (rG σ) y → ¬ y = B.z := fun y hy e => by have h1 := fp_k hLD hy; rw [e, hIt0.1] at h1; omega
  have hwf := wy_facts hW hk (hJ.y _ hk)
  refine r_astore_3 (pc := 15) C dX1_grassOn_15 rfl ?_
  have lp16_3 : ∀ (fu : Nat) (i : Nat) (F : HA)  (hi : i ≤ wl σ k + 1) (hItE : It F (B.z) a d σ k i) (hGE : Gw D F (fun y => y = B.z)), wl σ k + 1 - i < fu → wa g z 2 6 (F) 16 [some (.ref c), some (.ref (d (30 + k))), some (.int (nI (smN (fun i => b01 (decide (σ (153 + 5 * wy σ k i + 0) = 0))) i))), some (.ref (B.z)), none] [] := by
    intro fu
    induction fu with
    | zero => intro i  F  hi hItE hGE hm16; exact absurd hm16 (Nat.not_lt_zero _)
    | succ fu ih16 =>
      intro i  F  hi hItE hGE hm16
      have hLE := ly_gw hZD hLD hGE hfs
      have hvE := lv_gw hZD hLD hvD hGE hfs
      have hFE := hFD.gw hZD hLD hGE (hfs _ (Or.inr (Or.inl ⟨15, by decide, rfl⟩)))
      have hIE := hID.gw hZD hGE (fun y _ e => by rw [e, hIt0.1]; omega)
      have hGsE : Gs A F d := hG0.nx hGE (fun y hy q => by omega)
      refine r_aload_3 (pc := 16) C dX1_grassOn_16 ?_
      refine r_F0io (pc := 17) C (j_hasNext hItE) fi_X1_257_12 hItE.1 (by decide) (by omega) (by omega) (Nat.le_of_ble_eq_true rfl) rfl dX1_grassOn_17 (fun u4 A4 hc4 => ?_)
      refine r_top hc4.1 ?_
      refine r_eqA hc4.2 ?_
      clear hc4 A4 u4
      refine r_if_eq (pc := 22) (tgt := 57) C dX1_grassOn_22 (by decide) (fun b22 => ?_) (fun b22 => ?_)
      · skip
        have b22 := bI_0.mp b22
        refine r_iload_2 (pc := 57) C dX1_grassOn_57 ?_
        refine r_iret (pc := 58) C E rfl (by omega) (by omega) dX1_grassOn_58 ?_
        have e9 : i = wl σ k + 1 := by omega
        subst e9
        exact ⟨rfl, hGsE⟩
      · skip
        have b22 := bI_n.mp b22
        refine r_aload_3 (pc := 25) C dX1_grassOn_25 ?_
        refine r_F0ro (pc := 26) C (j_next hLE hvE hJ hk hItE hIE hFE b22) fi_X1_263_12 hItE.1 (by decide) (by omega) (by omega) (Nat.le_of_ble_eq_true rfl) rfl dX1_grassOn_26 (fun u5 A5 hc5 => ?_)
        obtain ⟨hu1, hu2, hIt2, hGw2⟩ := hc5
        generalize A5 = E2 at hu1 hu2 hIt2 hGw2 ⊢
        generalize u5 = v at hu1 hu2 ⊢
        have hwi := hwf.1 i b22
        have hLE2 := ly_gw hZD hLD (hGE.tr hGw2) hfs
        have hvE2 := lv_gw hZD hLD hvD (hGE.tr hGw2) hfs
        have hGsE2 : Gs A E2 d := hG0.nx (hGE.tr hGw2) (fun y hy q => by omega)
        refine r_castS (pc := 31) C q1236 hu1 rfl rfl dX1_grassOn_31 ?_
        refine r_V0io (pc := 34) C (j_intValue hu1) vl_X1_268 hu1 (by decide) (by omega) (by omega) (Nat.le_of_ble_eq_true rfl) rfl dX1_grassOn_34 (fun u6 A6 hc6 => ?_)
        refine r_top (hc6.1.trans hu2) ?_
        refine r_eqA hc6.2 ?_
        clear hc6 A6 u6
        refine r_istore_4 (pc := 37) C dX1_grassOn_37 rfl ?_
        refine r_iload_2 (pc := 39) C dX1_grassOn_39 ?_
        refine r_aload_0 (pc := 40) C dX1_grassOn_40 ?_
        refine r_getR (pc := 41) C fl_X1_24_1 (by rw [(hGsE2.1.2 c hcz).1]; exact hc) rfl (by rw [hGsE2.2 c hcz]; exact hn) dX1_grassOn_41 ?_
        refine r_iload_4 (pc := 44) C dX1_grassOn_44 ?_
        refine r_V1io (pc := 46) C (l_isGrass hLE2 hvE2 hW (by omega)) vl_X1_290 (ly_g hLE2) (by decide) (by omega) (by omega) (Nat.le_of_ble_eq_true rfl) rfl dX1_grassOn_46 (fun u7 A7 hc7 => ?_)
        refine r_top hc7.1 ?_
        refine r_eqA hc7.2 ?_
        clear hc7 A7 u7
        refine r_S1io (pc := 49) C (l_bit) sl_X1_222 (by decide) (by omega) (by omega) (Nat.le_of_ble_eq_true rfl) rfl dX1_grassOn_49 (fun u8 A8 hc8 => ?_)
        refine r_top hc8.1 ?_
        refine r_eqA hc8.2 ?_
        clear hc8 A8 u8
        refine r_top (bI_b01 _) ?_
        refine r_iadd (pc := 52) C dX1_grassOn_52 ?_
        refine r_top (nI_add _ _) ?_
        refine r_istore_2 (pc := 53) C dX1_grassOn_53 rfl ?_
        refine r_goto (pc := 54) (tgt := 16) C dX1_grassOn_54 (by decide) ?_
        refine r_forget (lv' := [some _, some _, some _, some _, none]) ⟨rfl, rfl, rfl, rfl, trivial⟩ ?_
        exact ih16 (i + 1) _  (by omega) hIt2 (hGE.tr hGw2) (by omega)
  exact lp16_3 _ 0 D  (Nat.zero_le _) hIt0 Gw.rf (Nat.lt_succ_self _)
set_option maxHeartbeats 4000000 in
theorem c_isBroken {g : GZ} {A : HA} {c a : Nat} {d : Nat → Nat} {σ : Rw} (hc : (A.G c).1 = 1) (hn : A.R c 0 = some a) (hL : Ly A a d σ) (hv : Lv A.I a d σ) (hJ : RowJ σ) (hG : GdK g) (hIc : IcK g A) {k : Nat} (hk : k < rK σ) : Ct g wI yX1_isBroken (.code yX1_isBroken cX1_isBroken 4 (Option.some Jvm.ClassFile.FieldType.boolean)) 9 2 6 [.ref c, .ref (d (30 + k))] (A) (fun u A' => u = bI (brokB σ k = true) ∧ Gs A A' d) fw_no := by
  refine Ct.of [some (.ref c), some (.ref (d (30 + k))), none, none] (by decide) rfl rfl fun z C hx hnm E => ?_
  have hW := hJ.w
  have hS := hW.s
  have hw3 := hS.w3
  have hw10 := hS.w10
  have hh8 := hS.h8
  have hc80 := hS.c80
  have k6 := hW.k6
  have g6 := hW.g6
  have hC : ∀ c, c < 80 → CelF σ c := fun c hc => (hJ.c hc).fe
  have d9 := hW.d9
  refine r_Z fun hZ => ?_
  have hcz := hZ.lt hc rfl
  have hd := hJ.y k hk
  refine r_aload_0 (pc := 0) C dX1_isBroken_0 ?_
  refine r_getR (pc := 1) C fl_X1_24_1 (by exact hc) rfl (by exact hn) dX1_isBroken_1 ?_
  refine r_aload_1 (pc := 4) C dX1_isBroken_4 ?_
  refine r_getS (pc := 5) C (hG 0 (by omega)).1 q980 dX1_isBroken_5 ?_
  refine r_V2io (pc := 8) C (l_tellsFar hL hv hW hC hJ.g hk (by omega) (hG 0 (by omega)).2) vl_X1_381 (ly_g hL) (by decide) (by omega) (by omega) (Nat.le_of_ble_eq_true rfl) rfl dX1_isBroken_8 (fun u1 A1 hc1 => ?_)
  obtain ⟨⟨f0, κ0, μ0, eA1, -, -, -⟩, eu1⟩ := hc1
  refine r_top eu1 ?_
  have hGs0 : Gs A A1 d := by rw [eA1]; exact Gs.FH
  clear eu1 u1 eA1
  generalize A1 = B0 at hGs0 ⊢
  refine r_Z fun hZ0 => ?_
  have hL0 := hGs0.ly hZ hL
  have hv0 := hGs0.lv hZ hL hv
  have hI0 := hGs0.ic hZ hL hIc
  refine r_ldcwI (pc := 11) (v := nI 1000000) C (by have h9 := q1028; rwa [show (1000000 : Int32) = nI 1000000 by decide +kernel] at h9) dX1_isBroken_11 ?_
  refine r_icmp_lt (pc := 14) (tgt := 19) C dX1_isBroken_14 (by decide) (fun b14 => ?_) (fun b14 => ?_)
  · skip
    have b14 := (nI_lt2 (by omega) (by omega)).mp b14
    refine r_aload_0 (pc := 19) C dX1_isBroken_19 ?_
    refine r_getR (pc := 20) C fl_X1_24_1 (by rw [(hGs0.1.2 c hcz).1]; exact hc) rfl (by rw [hGs0.2 c hcz]; exact hn) dX1_isBroken_20 ?_
    refine r_aload_1 (pc := 23) C dX1_isBroken_23 ?_
    refine r_V1r (pc := 24) C (l_way (k := k) hL0 hv0 hW hC hJ.g hG hk) vl_X1_247 (ly_g hL0) (by decide) (by omega) (by omega) (Nat.le_of_ble_eq_true rfl) rfl dX1_isBroken_24 (fun u2 A2 hc2 => ?_)
    obtain ⟨hWi, hFar, hGs1⟩ := hc2
    generalize A2 = B at hWi hFar hGs1 ⊢
    generalize u2 = p at hWi ⊢
    refine r_Z fun hZB => ?_
    have hLB := hGs1.ly hZ0 hL0
    have hvB := hGs1.lv hZ0 hL0 hv0
    have hIB := hGs1.ic hZ0 hL0 hI0
    refine r_F0r (pc := 27) C (j_iterator hLB hvB hJ hk hWi) fi_X1_251_11 hWi.1 (by decide) (by omega) (by omega) (Nat.le_of_ble_eq_true rfl) rfl dX1_isBroken_27 (fun u3 A3 hc3 => ?_)
    obtain ⟨eu3, hIt0, hGn⟩ := hc3
    refine r_topR eu3 ?_
    clear eu3 u3
    generalize A3 = D at hIt0 hGn ⊢
    refine r_Z fun hZD => ?_
    have hLD := ly_gw hZB hLB hGn (fun _ _ q => q)
    have hvD := lv_gw hZB hLB hvB hGn (fun _ _ q => q)
    have hFD := hFar.gw hZB hLB hGn (fun q => q)
    have hID := hIB.gw hZB hGn (fun _ _ q => q.elim)
    have hG0 := (hGs0.tr hGs1).nx hGn (fun _ _ q => q)
    have hAB : A.z ≤ B.z := (hGs0.tr hGs1).1.1
    have hfs : ∀ y, Fp a d (rK σ) (rG σ) y → ¬ y = B.z := fun y hy e => by have h1 := fp_k hLD hy; rw [e, hIt0.1] at h1; omega
    have hwf := wy_facts hW hk (hJ.y _ hk)
    refine r_astore_2 (pc := 32) C dX1_isBroken_32 rfl ?_
    have lp33_4 : ∀ (fu : Nat) (i : Nat) (F : HA)  (hi : i ≤ wl σ k + 1) (hItE : It F (B.z) a d σ k i) (hGE : Gw D F (fun y => y = B.z)) (hno : ∀ j, j < i → ¬ fenced σ (wy σ k j)), wl σ k + 1 - i < fu → wa g z 2 6 (F) 33 [some (.ref c), some (.ref (d (30 + k))), some (.ref (B.z)), none] [] := by
      intro fu
      induction fu with
      | zero => intro i  F  hi hItE hGE hno hm33; exact absurd hm33 (Nat.not_lt_zero _)
      | succ fu ih33 =>
        intro i  F  hi hItE hGE hno hm33
        have hLE := ly_gw hZD hLD hGE hfs
        have hvE := lv_gw hZD hLD hvD hGE hfs
        have hFE := hFD.gw hZD hLD hGE (hfs _ (Or.inr (Or.inl ⟨15, by decide, rfl⟩)))
        have hIE := hID.gw hZD hGE (fun y _ e => by rw [e, hIt0.1]; omega)
        have hGsE : Gs A F d := hG0.nx hGE (fun y hy q => by omega)
        refine r_aload_2 (pc := 33) C dX1_isBroken_33 ?_
        refine r_F0io (pc := 34) C (j_hasNext hItE) fi_X1_257_12 hItE.1 (by decide) (by omega) (by omega) (Nat.le_of_ble_eq_true rfl) rfl dX1_isBroken_34 (fun u5 A5 hc5 => ?_)
        refine r_top hc5.1 ?_
        refine r_eqA hc5.2 ?_
        clear hc5 A5 u5
        refine r_if_eq (pc := 39) (tgt := 72) C dX1_isBroken_39 (by decide) (fun b39 => ?_) (fun b39 => ?_)
        · skip
          have b39 := bI_0.mp b39
          refine r_iconst (pc := 72) C dX1_isBroken_72 ci_0 ?_
          refine r_iret (pc := 73) C E nar_0 (by omega) (by omega) dX1_isBroken_73 ?_
          refine ⟨bI_00 (fun q => ?_), hGsE⟩
          obtain ⟨j, h1, h2⟩ := fenB_i.mp q
          exact hno j (by omega) h2
        · skip
          have b39 := bI_n.mp b39
          refine r_aload_2 (pc := 42) C dX1_isBroken_42 ?_
          refine r_F0ro (pc := 43) C (j_next hLE hvE hJ hk hItE hIE hFE b39) fi_X1_263_12 hItE.1 (by decide) (by omega) (by omega) (Nat.le_of_ble_eq_true rfl) rfl dX1_isBroken_43 (fun u6 A6 hc6 => ?_)
          obtain ⟨hu1, hu2, hIt2, hGw2⟩ := hc6
          generalize A6 = E2 at hu1 hu2 hIt2 hGw2 ⊢
          generalize u6 = v at hu1 hu2 ⊢
          have hwi := hwf.1 i b39
          have hLE2 := ly_gw hZD hLD (hGE.tr hGw2) hfs
          have hvE2 := lv_gw hZD hLD hvD (hGE.tr hGw2) hfs
          have hGsE2 : Gs A E2 d := hG0.nx (hGE.tr hGw2) (fun y hy q => by omega)
          refine r_castS (pc := 48) C q1236 hu1 rfl rfl dX1_isBroken_48 ?_
          refine r_V0io (pc := 51) C (j_intValue hu1) vl_X1_268 hu1 (by decide) (by omega) (by omega) (Nat.le_of_ble_eq_true rfl) rfl dX1_isBroken_51 (fun u7 A7 hc7 => ?_)
          refine r_top (hc7.1.trans hu2) ?_
          refine r_eqA hc7.2 ?_
          clear hc7 A7 u7
          refine r_istore_3 (pc := 54) C dX1_isBroken_54 rfl ?_
          refine r_aload_0 (pc := 55) C dX1_isBroken_55 ?_
          refine r_getR (pc := 56) C fl_X1_24_1 (by rw [(hGsE2.1.2 c hcz).1]; exact hc) rfl (by rw [hGsE2.2 c hcz]; exact hn) dX1_isBroken_56 ?_
          refine r_ngetR (pc := 59) C fn_X1_296_2 (ly_g hLE2) rfl (ly_rf hLE2 10 (by decide)) dX1_isBroken_59 ?_
          refine r_iload_3 (pc := 62) C dX1_isBroken_62 ?_
          refine r_zald (pc := 63) C (ly_gf hLE2 10 (by decide)) rfl rfl (lt_eq (by omega) (ly_nf hLE2 10 (by decide) (by decide))) (by omega) dX1_isBroken_63 ?_
          refine r_top ((hvE2.fence (by omega)).trans (fen_bI (hC _ (by omega)))) ?_
          refine r_if_eq (pc := 64) (tgt := 69) C dX1_isBroken_64 (by decide) (fun b64 => ?_) (fun b64 => ?_)
          · skip
            have b64 := bI_0.mp b64
            refine r_goto (pc := 69) (tgt := 33) C dX1_isBroken_69 (by decide) ?_
            refine r_forget (lv' := [some _, some _, some _, none]) ⟨rfl, rfl, rfl, trivial⟩ ?_
            exact ih33 (i + 1) _  (by omega) hIt2 (hGE.tr hGw2) (fun j hj => if q9 : j = i then by rw [q9]; assumption else hno j (by omega)) (by omega)
          · skip
            have b64 := bI_n.mp b64
            refine r_iconst (pc := 67) C dX1_isBroken_67 ci_1 ?_
            refine r_iret (pc := 68) C E nar_1 (by omega) (by omega) dX1_isBroken_68 ?_
            exact ⟨bI_1 (fenB_i.mpr ⟨i, by omega, by assumption⟩), hGsE2⟩
    exact lp33_4 _ 0 D  (Nat.zero_le _) hIt0 Gw.rf (fun j hj => absurd hj (Nat.not_lt_zero _)) (Nat.lt_succ_self _)
  · skip
    have b14 := (not_congr (nI_lt2 (by omega) (by omega))).mp b14
    exact absurd hd b14
set_option maxHeartbeats 4000000 in
theorem c_walkersOver {g : GZ} {A : HA} {c a : Nat} {d : Nat → Nat} {σ : Rw} (hc : (A.G c).1 = 1) (hn : A.R c 0 = some a) (hL : Ly A a d σ) (hv : Lv A.I a d σ) (hJ : RowJ σ) (hG : GdK g) (hIc : IcK g A) {e : Nat} (he : e < 1000) : Ct g wI yX1_walkersOver (.code yX1_walkersOver cX1_walkersOver 4 (Option.some Jvm.ClassFile.FieldType.int)) 10 12 36 [.ref c, .int (nI (e))] (A) (fun u A' => u = nI (overR σ e) ∧ Gs A A' d) fw_no := by
  refine Ct.of [some (.ref c), some (.int (nI (e))), none, none] (by decide) rfl rfl fun z C hx hnm E => ?_
  have hW := hJ.w
  have hS := hW.s
  have hw3 := hS.w3
  have hw10 := hS.w10
  have hh8 := hS.h8
  have hc80 := hS.c80
  have k6 := hW.k6
  have g6 := hW.g6
  have hC : ∀ c, c < 80 → CelF σ c := fun c hc => (hJ.c hc).fe
  have d9 := hW.d9
  refine r_Z fun hZ => ?_
  have hcz := hZ.lt hc rfl
  refine r_widen (k' := 2 * 0) (n' := 6 * 0) (by omega) (by omega) ?_
  refine r_iconst (pc := 0) C dX1_walkersOver_0 ci_0 ?_
  refine r_istore_2 (pc := 1) C dX1_walkersOver_1 rfl ?_
  refine r_iconst (pc := 2) C dX1_walkersOver_2 ci_0 ?_
  refine r_istore_3 (pc := 3) C dX1_walkersOver_3 rfl ?_
  have lp4_1 : ∀ (fu : Nat) (k : Nat) (F : HA) (hk : k ≤ rK σ) (hGsF : Gs A F d), rK σ - k < fu → wa g z (2 * k) (6 * k) (F) 4 [some (.ref c), some (.int (nI (e))), some (.int (nI (smN (fun k => b01 (onR σ e k)) k))), some (.int (nI (k)))] [] := by
    intro fu
    induction fu with
    | zero => intro k  F  hk hGsF hm4; exact absurd hm4 (Nat.not_lt_zero _)
    | succ fu ih4 =>
      intro k  F  hk hGsF hm4
      have hLF := hGsF.ly hZ hL
      have hvF := hGsF.lv hZ hL hv
      have hIF := hGsF.ic hZ hL hIc
      have hcF : (F.G c).1 = 1 := by rw [(hGsF.1.2 c hcz).1]; exact hc
      have hnF : F.R c 0 = some a := by rw [hGsF.2 c hcz]; exact hn
      refine r_iload_3 (pc := 4) C dX1_walkersOver_4 ?_
      refine r_aload_0 (pc := 5) C dX1_walkersOver_5 ?_
      refine r_getR (pc := 6) C fl_X1_24_1 (by rw [(hGsF.1.2 c hcz).1]; exact hc) rfl (by rw [hGsF.2 c hcz]; exact hn) dX1_walkersOver_6 ?_
      refine r_ngetR (pc := 9) C fn_X1_69_2 (ly_g hLF) rfl (ly_r12 hLF) dX1_walkersOver_9 ?_
      refine r_V0io (pc := 12) C (j_X3_size (ly_g12 hLF) (ly_r20 hLF) (ly_g20 hLF) (hvF.nk.trans hW.k)) vl_X1_174 (ly_g12 hLF) (by decide) (by omega) (by omega) (Nat.le_of_ble_eq_true rfl) rfl dX1_walkersOver_12 (fun u2 A2 hc2 => ?_)
      refine r_top hc2.1 ?_
      refine r_eqA hc2.2 ?_
      clear hc2 A2 u2
      refine r_icmp_ge (pc := 15) (tgt := 43) C dX1_walkersOver_15 (by decide) (fun b15 => ?_) (fun b15 => ?_)
      · skip
        have b15 := (nI_le2 (by omega) (by omega)).mp b15
        refine r_iload_2 (pc := 43) C dX1_walkersOver_43 ?_
        refine r_iret (pc := 44) C E rfl (by omega) (by omega) dX1_walkersOver_44 ?_
        have e9 : k = rK σ := by omega
        subst e9
        exact ⟨rfl, hGsF⟩
      · skip
        have b15 := (not_congr (nI_le2 (by omega) (by omega))).mp b15
        refine r_iload_2 (pc := 18) C dX1_walkersOver_18 ?_
        refine r_aload_0 (pc := 19) C dX1_walkersOver_19 ?_
        refine r_aload_0 (pc := 20) C dX1_walkersOver_20 ?_
        refine r_getR (pc := 21) C fl_X1_24_1 (by rw [(hGsF.1.2 c hcz).1]; exact hc) rfl (by rw [hGsF.2 c hcz]; exact hn) dX1_walkersOver_21 ?_
        refine r_iload_3 (pc := 24) C dX1_walkersOver_24 ?_
        refine r_V1ro (pc := 25) C (l_walker hLF hvF hW (k := k) (by omega)) vl_X1_271 (ly_g hLF) (by decide) (by omega) (by omega) (Nat.le_of_ble_eq_true rfl) rfl dX1_walkersOver_25 (fun u3 A3 hc3 => ?_)
        refine r_topR hc3.1 ?_
        refine r_eqA hc3.2 ?_
        clear hc3 A3 u3
        refine r_iload_1 (pc := 28) C dX1_walkersOver_28 ?_
        refine r_V2i (pc := 29) C (c_isOn hcF hnF hLF hvF hJ hG hIF (k := k) (e := e) (by omega) he) vl_X1_275 (by rw [(hGsF.1.2 c hcz).1]; exact hc) (by decide) (by omega) (by omega) (Nat.le_of_ble_eq_true rfl) rfl dX1_walkersOver_29 (fun u4 A4 hc4 => ?_)
        obtain ⟨eu4, hGs2⟩ := hc4
        refine r_top eu4 ?_
        have hGsT := hGsF.tr hGs2
        clear eu4 u4
        generalize A4 = F2 at hGsT ⊢
        refine r_S1io (pc := 32) C (l_bit) sl_X1_222 (by decide) (by omega) (by omega) (Nat.le_of_ble_eq_true rfl) rfl dX1_walkersOver_32 (fun u5 A5 hc5 => ?_)
        refine r_top hc5.1 ?_
        refine r_eqA hc5.2 ?_
        clear hc5 A5 u5
        refine r_top (show _ = nI (b01 (onR σ e k)) from (bI_b01 _).trans (by congr 1; cases onR σ e k <;> rfl)) ?_
        refine r_iadd (pc := 35) C dX1_walkersOver_35 ?_
        refine r_top (nI_add _ _) ?_
        refine r_istore_2 (pc := 36) C dX1_walkersOver_36 rfl ?_
        refine r_iinc_3 (pc := 37) C dX1_walkersOver_37 (nI_inc _) rfl ?_
        refine r_goto (pc := 40) (tgt := 4) C dX1_walkersOver_40 (by decide) ?_
        refine r_widen (k' := 2 * (k + 1)) (n' := 6 * (k + 1)) (by omega) (by omega) ?_
        exact ih4 (k + 1) _ (by omega) hGsT (by omega)
  exact lp4_1 _ 0 A (Nat.zero_le _) Gs.rf (Nat.lt_succ_self _)
set_option maxHeartbeats 4000000 in
theorem c_gap {g : GZ} {A : HA} {c a : Nat} {d : Nat → Nat} {σ : Rw} (hc : (A.G c).1 = 1) (hn : A.R c 0 = some a) (hL : Ly A a d σ) (hv : Lv A.I a d σ) (hJ : RowJ σ) (hG : GdK g) (hIc : IcK g A)  : Ct g wI yX1_gap (.code yX1_gap cX1_gap 3 (Option.some Jvm.ClassFile.FieldType.int)) 10 12 36 [.ref c] (A) (fun u A' => u = nI (gapA σ) ∧ Gs A A' d) fw_no := by
  refine Ct.of [some (.ref c), none, none] (by decide) rfl rfl fun z C hx hnm E => ?_
  have hW := hJ.w
  have hS := hW.s
  have hw3 := hS.w3
  have hw10 := hS.w10
  have hh8 := hS.h8
  have hc80 := hS.c80
  have k6 := hW.k6
  have g6 := hW.g6
  have hC : ∀ c, c < 80 → CelF σ c := fun c hc => (hJ.c hc).fe
  have d9 := hW.d9
  refine r_Z fun hZ => ?_
  have hcz := hZ.lt hc rfl
  refine r_widen (k' := 2 * 0) (n' := 6 * 0) (by omega) (by omega) ?_
  refine r_iconst (pc := 0) C dX1_gap_0 ci_0 ?_
  refine r_istore_1 (pc := 1) C dX1_gap_1 rfl ?_
  refine r_iconst (pc := 2) C dX1_gap_2 ci_0 ?_
  refine r_istore_2 (pc := 3) C dX1_gap_3 rfl ?_
  have lp4_1 : ∀ (fu : Nat) (k : Nat) (F : HA) (hk : k ≤ rK σ) (hGsF : Gs A F d), rK σ - k < fu → wa g z (2 * k) (6 * k) (F) 4 [some (.ref c), some (.int (nI (smN (fun k => b01 (brokB σ k)) k))), some (.int (nI (k)))] [] := by
    intro fu
    induction fu with
    | zero => intro k  F  hk hGsF hm4; exact absurd hm4 (Nat.not_lt_zero _)
    | succ fu ih4 =>
      intro k  F  hk hGsF hm4
      have hLF := hGsF.ly hZ hL
      have hvF := hGsF.lv hZ hL hv
      have hIF := hGsF.ic hZ hL hIc
      have hcF : (F.G c).1 = 1 := by rw [(hGsF.1.2 c hcz).1]; exact hc
      have hnF : F.R c 0 = some a := by rw [hGsF.2 c hcz]; exact hn
      refine r_iload_2 (pc := 4) C dX1_gap_4 ?_
      refine r_aload_0 (pc := 5) C dX1_gap_5 ?_
      refine r_getR (pc := 6) C fl_X1_24_1 (by rw [(hGsF.1.2 c hcz).1]; exact hc) rfl (by rw [hGsF.2 c hcz]; exact hn) dX1_gap_6 ?_
      refine r_ngetR (pc := 9) C fn_X1_69_2 (ly_g hLF) rfl (ly_r12 hLF) dX1_gap_9 ?_
      refine r_V0io (pc := 12) C (j_X3_size (ly_g12 hLF) (ly_r20 hLF) (ly_g20 hLF) (hvF.nk.trans hW.k)) vl_X1_174 (ly_g12 hLF) (by decide) (by omega) (by omega) (Nat.le_of_ble_eq_true rfl) rfl dX1_gap_12 (fun u2 A2 hc2 => ?_)
      refine r_top hc2.1 ?_
      refine r_eqA hc2.2 ?_
      clear hc2 A2 u2
      refine r_icmp_ge (pc := 15) (tgt := 42) C dX1_gap_15 (by decide) (fun b15 => ?_) (fun b15 => ?_)
      · skip
        have b15 := (nI_le2 (by omega) (by omega)).mp b15
        refine r_iload_1 (pc := 42) C dX1_gap_42 ?_
        refine r_iret (pc := 43) C E rfl (by omega) (by omega) dX1_gap_43 ?_
        have e9 : k = rK σ := by omega
        subst e9
        exact ⟨rfl, hGsF⟩
      · skip
        have b15 := (not_congr (nI_le2 (by omega) (by omega))).mp b15
        refine r_iload_1 (pc := 18) C dX1_gap_18 ?_
        refine r_aload_0 (pc := 19) C dX1_gap_19 ?_
        refine r_aload_0 (pc := 20) C dX1_gap_20 ?_
        refine r_getR (pc := 21) C fl_X1_24_1 (by rw [(hGsF.1.2 c hcz).1]; exact hc) rfl (by rw [hGsF.2 c hcz]; exact hn) dX1_gap_21 ?_
        refine r_iload_2 (pc := 24) C dX1_gap_24 ?_
        refine r_V1ro (pc := 25) C (l_walker hLF hvF hW (k := k) (by omega)) vl_X1_271 (ly_g hLF) (by decide) (by omega) (by omega) (Nat.le_of_ble_eq_true rfl) rfl dX1_gap_25 (fun u3 A3 hc3 => ?_)
        refine r_topR hc3.1 ?_
        refine r_eqA hc3.2 ?_
        clear hc3 A3 u3
        refine r_V1i (pc := 28) C (c_isBroken hcF hnF hLF hvF hJ hG hIF (k := k) (by omega)) vl_X1_424 (by rw [(hGsF.1.2 c hcz).1]; exact hc) (by decide) (by omega) (by omega) (Nat.le_of_ble_eq_true rfl) rfl dX1_gap_28 (fun u4 A4 hc4 => ?_)
        obtain ⟨eu4, hGs2⟩ := hc4
        refine r_top eu4 ?_
        have hGsT := hGsF.tr hGs2
        clear eu4 u4
        generalize A4 = F2 at hGsT ⊢
        refine r_S1io (pc := 31) C (l_bit) sl_X1_222 (by decide) (by omega) (by omega) (Nat.le_of_ble_eq_true rfl) rfl dX1_gap_31 (fun u5 A5 hc5 => ?_)
        refine r_top hc5.1 ?_
        refine r_eqA hc5.2 ?_
        clear hc5 A5 u5
        refine r_top (show _ = nI (b01 (brokB σ k)) from (bI_b01 _).trans (by congr 1; cases brokB σ k <;> rfl)) ?_
        refine r_iadd (pc := 34) C dX1_gap_34 ?_
        refine r_top (nI_add _ _) ?_
        refine r_istore_1 (pc := 35) C dX1_gap_35 rfl ?_
        refine r_iinc_2 (pc := 36) C dX1_gap_36 (nI_inc _) rfl ?_
        refine r_goto (pc := 39) (tgt := 4) C dX1_gap_39 (by decide) ?_
        refine r_widen (k' := 2 * (k + 1)) (n' := 6 * (k + 1)) (by omega) (by omega) ?_
        exact ih4 (k + 1) _ (by omega) hGsT (by omega)
  exact lp4_1 _ 0 A (Nat.zero_le _) Gs.rf (Nat.lt_succ_self _)
set_option maxHeartbeats 4000000 in
theorem c_because {g : GZ} {A : HA} {w : Nat} {r f s : Int32} (hw : w < 10) : Ct g wI yX1_because (.code yX1_because cX1_because 4 (Option.some Jvm.ClassFile.FieldType.int)) 1 0 0 [.int (nI (w)), .int r, .int f, .int s] (A) (fun u A' => u = pick w r f s ∧ A' = A) fw_no := by
  refine Ct.of [some (.int (nI (w))), some (.int r), some (.int f), some (.int s)] (by decide) rfl rfl fun z C hx hnm E => ?_
  refine r_iload_0 (pc := 0) C dX1_because_0 ?_
  refine r_if_ne (pc := 1) (tgt := 8) C dX1_because_1 (by decide) (fun b1 => ?_) (fun b1 => ?_)
  · skip
    have b1 := (not_congr (nI_eq0 (by omega))).mp b1
    refine r_iload_0 (pc := 8) C dX1_because_8 ?_
    refine r_iconst (pc := 9) C dX1_because_9 ci_1 ?_
    refine r_icmp_ne (pc := 10) (tgt := 17) C dX1_because_10 (by decide) (fun b10 => ?_) (fun b10 => ?_)
    · skip
      have b10 := (not_congr (nI_eqI (by omega) (by omega))).mp b10
      refine r_iload_3 (pc := 17) C dX1_because_17 ?_
      refine r_iret (pc := 18) C E rfl (Nat.le_refl _) (Nat.le_refl _) dX1_because_18 ?_
      refine ⟨?_, rfl⟩
      unfold pick
      first
        | rw [if_pos (by omega)]
        | rw [if_neg (by omega), if_pos (by omega)]
        | rw [if_neg (by omega), if_neg (by omega)]
    · skip
      have b10 := (nI_eqI (by omega) (by omega)).mp b10
      refine r_iload_2 (pc := 13) C dX1_because_13 ?_
      refine r_goto (pc := 14) (tgt := 18) C dX1_because_14 (by decide) ?_
      refine r_iret (pc := 18) C E rfl (Nat.le_refl _) (Nat.le_refl _) dX1_because_18 ?_
      refine ⟨?_, rfl⟩
      unfold pick
      first
        | rw [if_pos (by omega)]
        | rw [if_neg (by omega), if_pos (by omega)]
        | rw [if_neg (by omega), if_neg (by omega)]
  · skip
    have b1 := (nI_eq0 (by omega)).mp b1
    refine r_iload_1 (pc := 4) C dX1_because_4 ?_
    refine r_goto (pc := 5) (tgt := 18) C dX1_because_5 (by decide) ?_
    refine r_iret (pc := 18) C E rfl (Nat.le_refl _) (Nat.le_refl _) dX1_because_18 ?_
    refine ⟨?_, rfl⟩
    unfold pick
    first
      | rw [if_pos (by omega)]
      | rw [if_neg (by omega), if_pos (by omega)]
      | rw [if_neg (by omega), if_neg (by omega)]
