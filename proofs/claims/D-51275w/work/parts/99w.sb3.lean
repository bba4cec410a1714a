/-! THE JDK: equal strings; names found -/
set_option maxRecDepth 100000
section
variable {g : GZ} {z : ZX} {cc : ByteArray} {own : String} {nL d mc ms k n : Nat} {A : HA} {pc : Nat} {lv : List (Option Value)} {st : List Value}
theorem r_instS (C : CX g z cc own nL d mc ms) {ix a ki N : Nat} {Cn : String} {T : u_T} (hw : Cond.classLink own ix Cn ∈ lw_all) (h1 : (A.G a).1 = ki) (hki : (decide (1 ≤ ki) && decide (ki < 40)) = true) (hcl : fw_cl[ki]? = some (Cn, T, N)) (hd : decode cc pc = .ok (.instanceof ix, 3)) (kk : wa g z k n A (pc + 3) lv (.int (nI 1) :: st)) : wa g z k n A pc lv (.ref a :: st) := by
  intro H locs ls hR hL hl
  simp only [Bool.and_eq_true, decide_eq_true_eq] at hki
  rw [nI1] at kk
  exact va_instS C.x C.b C.o (C.w _ hw) (C.K.1 _ _ hcl).2 (fw_recv C hR h1 hki hcl) hd (kk H locs ls hR hL hl)
end
/-- two texts -/
abbrev EqT (f : Nat → Nat) (n : Nat) (l : Nat → Nat) (m : Nat) : Prop := n = m ∧ ∀ k, k < n → f k = l k
theorem eqt_same {A : HA} {s v w n m : Nat} {f l : Nat → Nat} (h : StrV A s v f n) (h2 : StrV A s w l m) : EqT f n l m := by
  have e : v = w := Option.some.inj (h.r.symm.trans h2.r)
  subst e
  have e : n = m := h.n'.symm.trans h2.n'
  subst e
  refine ⟨rfl, fun k hk => ?_⟩
  have h9 := (h.i hk).symm.trans (h2.i hk)
  have b1 := h.b hk
  have b2 := h2.b hk
  exact nI_inj (by omega) (by omega) h9
theorem nmB_i {A : HA} {σ : Rw} {nm v n f m : Nat} {l2 l : Nat → Nat} (hS : StrV A nm v l2 n) (hf : σ f = nI n) (hl : ∀ j, j < n → σ (f + 1 + j) = nI (l2 j) ∧ 97 ≤ l2 j ∧ l2 j ≤ 122) (h9 : m ≤ 1000) (hl9 : ∀ j, j < m → l j ≤ 255) : nmB σ l f 0 m = true ↔ EqT l2 n l m := by
  have hn9 := hS.l
  rw [nmB_iff, hf, nI_eqI (by omega) (by omega)]
  constructor
  · rintro ⟨rfl, h⟩
    refine ⟨rfl, fun k hk => ?_⟩
    have h1 := h k hk
    rw [(hl k hk).1, Nat.zero_add] at h1
    have b := hl9 k hk
    have b2 := (hl k hk).2.2
    exact nI_inj (by omega) (by omega) h1
  · rintro ⟨rfl, h⟩
    refine ⟨rfl, fun k hk => ?_⟩
    rw [(hl k hk).1, Nat.zero_add, h k hk]
def gK (n m : Nat) : Nat := if n < m then 0 else 1
def gM (n m : Nat) : Nat := if n < m then m else m + (m + 2)
def gS (n m : Nat) : Nat := if n < m then 0 else m + (m + 2)
theorem gKM (n m : Nat) : m + gK n m ≤ gM n m ∧ 2 * m + gS n m ≤ 2 * gM n m := by
  unfold gK gM gS
  split <;> omega
theorem gM_le {n m M : Nat} (hn : n ≤ m) (hm : m ≤ M) (h : 2 * n + 2 ≤ M) : gM n m ≤ M := by
  unfold gM
  split <;> omega
set_option maxHeartbeats 4000000 in
theorem j_J12_equals {g : GZ} {A : HA} {s x v w n m : Nat} {f l : Nat → Nat} (hs : StrV A s v f n) (hx2 : StrV A x w l m) : Ct g wI yJ12_equals (.code yJ12_equals cJ12_equals 3 (Option.some Jvm.ClassFile.FieldType.boolean)) 1 0 0 [.ref v, .ref w] (A) (fun u A' => u = bI (EqT f n l m) ∧ A' = A) fw_no := by
  refine Ct.of [some (.ref v), some (.ref w), none] (by decide) rfl rfl fun z C hx hnm E => ?_
  have h9 := hs.l
  have h8 := hx2.l
  refine r_aload_0 (pc := 0) C dJ12_equals_0 ?_
  refine r_alen (pc := 1) C rfl hs.k rfl dJ12_equals_1 ?_
  refine r_top (congrArg nI hs.n') ?_
  refine r_aload_1 (pc := 2) C dJ12_equals_2 ?_
  refine r_alen (pc := 3) C rfl hx2.k rfl dJ12_equals_3 ?_
  refine r_top (congrArg nI hx2.n') ?_
  refine r_icmp_ne (pc := 4) (tgt := 34) C dJ12_equals_4 (by decide) (fun b4 => ?_) (fun b4 => ?_)
  · skip
    have b4 := (not_congr (nI_eqI (by omega) (by omega))).mp b4
    refine r_iconst (pc := 34) C dJ12_equals_34 ci_0 ?_
    refine r_iret (pc := 35) C E nar_0 (by omega) (by omega) dJ12_equals_35 ?_
    exact ⟨bI_00 (fun q => b4 q.1), rfl⟩
  · skip
    have b4 := (nI_eqI (by omega) (by omega)).mp b4
    refine r_iconst (pc := 7) C dJ12_equals_7 ci_0 ?_
    refine r_istore_2 (pc := 8) C dJ12_equals_8 rfl ?_
    have lp9_1 : ∀ (fu : Nat) (i : Nat) (hi : i ≤ n) (hno : ∀ j, j < i → f j = l j), n - i < fu → wa g z 0 0 (A) 9 [some (.ref v), some (.ref w), some (.int (nI (i)))] [] := by
      intro fu
      induction fu with
      | zero => intro i  hi hno hm9; exact absurd hm9 (Nat.not_lt_zero _)
      | succ fu ih9 =>
        intro i  hi hno hm9
        refine r_iload_2 (pc := 9) C dJ12_equals_9 ?_
        refine r_aload_0 (pc := 10) C dJ12_equals_10 ?_
        refine r_alen (pc := 11) C rfl hs.k rfl dJ12_equals_11 ?_
        refine r_top (congrArg nI hs.n') ?_
        refine r_icmp_ge (pc := 12) (tgt := 32) C dJ12_equals_12 (by decide) (fun b12 => ?_) (fun b12 => ?_)
        · skip
          have b12 := (nI_le2 (by omega) (by omega)).mp b12
          refine r_iconst (pc := 32) C dJ12_equals_32 ci_1 ?_
          refine r_iret (pc := 33) C E nar_1 (by omega) (by omega) dJ12_equals_33 ?_
          exact ⟨bI_1 ⟨b4, fun k hk => hno k (by omega)⟩, rfl⟩
        · skip
          have b12 := (not_congr (nI_le2 (by omega) (by omega))).mp b12
          have hf9 := hs.b (show i < n by omega)
          have hl9 := hx2.b (show i < m by omega)
          refine r_aload_0 (pc := 15) C dJ12_equals_15 ?_
          refine r_iload_2 (pc := 16) C dJ12_equals_16 ?_
          refine r_bald (pc := 17) C rfl hs.k rfl (lt_eq (by omega) hs.n') (by omega) dJ12_equals_17 ?_
          refine r_top (hs.i (by omega)) ?_
          refine r_aload_1 (pc := 18) C dJ12_equals_18 ?_
          refine r_iload_2 (pc := 19) C dJ12_equals_19 ?_
          refine r_bald (pc := 20) C rfl hx2.k rfl (lt_eq (by omega) hx2.n') (by omega) dJ12_equals_20 ?_
          refine r_top (hx2.i (by omega)) ?_
          refine r_icmp_eq (pc := 21) (tgt := 26) C dJ12_equals_21 (by decide) (fun b21 => ?_) (fun b21 => ?_)
          · skip
            have b21 := (nI_eqI (by omega) (by omega)).mp b21
            refine r_iinc_2 (pc := 26) C dJ12_equals_26 (nI_inc _) rfl ?_
            refine r_goto (pc := 29) (tgt := 9) C dJ12_equals_29 (by decide) ?_
            exact ih9 (i + 1) (by omega) (fun j hj => if q9 : j = i then by rw [q9]; exact b21 else hno j (by omega)) (by omega)
          · skip
            have b21 := (not_congr (nI_eqI (by omega) (by omega))).mp b21
            refine r_iconst (pc := 24) C dJ12_equals_24 ci_0 ?_
            refine r_iret (pc := 25) C E nar_0 (by omega) (by omega) dJ12_equals_25 ?_
            exact ⟨bI_00 (fun q => b21 (q.2 i (by omega))), rfl⟩
    exact lp9_1 _ 0 (Nat.zero_le _) (fun j hj => absurd hj (Nat.not_lt_zero _)) (Nat.lt_succ_self _)
set_option maxHeartbeats 4000000 in
theorem j_J10_equals {g : GZ} {A : HA} (hz : zS g) {s x v w n m : Nat} {f l : Nat → Nat} (hs : StrV A s v f n) (hx2 : StrV A x w l m) : Ct g wI yJ10_equals (.code yJ10_equals cJ10_equals 3 (Option.some Jvm.ClassFile.FieldType.boolean)) 2 0 0 [.ref s, .ref x] (A) (fun u A' => u = bI (EqT f n l m) ∧ A' = A) fw_no := by
  refine Ct.of [some (.ref s), some (.ref x), none] (by decide) rfl rfl fun z C hx hnm E => ?_
  refine r_aload_0 (pc := 0) C dJ10_equals_0 ?_
  refine r_aload_1 (pc := 1) C dJ10_equals_1 ?_
  refine r_acmp_ne (pc := 2) (tgt := 7) C dJ10_equals_2 (by decide) (fun b2 => ?_) (fun b2 => ?_)
  · skip
    refine r_aload_1 (pc := 7) C dJ10_equals_7 ?_
    refine r_instS (pc := 8) C q946 hx2.g rfl rfl dJ10_equals_8 ?_
    refine r_if_eq (pc := 11) (tgt := 54) C dJ10_equals_11 (by decide) (fun b11 => ?_) (fun b11 => ?_)
    · exact absurd b11 (by decide +kernel)
    · skip
      refine r_aload_1 (pc := 14) C dJ10_equals_14 ?_
      refine r_castS (pc := 15) C q946 hx2.g rfl rfl dJ10_equals_15 ?_
      refine r_astore_2 (pc := 18) C dJ10_equals_18 rfl ?_
      refine r_getS (pc := 19) C hz.1 q819 dJ10_equals_19 ?_
      refine r_if_eq (pc := 22) (tgt := 36) C dJ10_equals_22 (by decide) (fun b22 => ?_) (fun b22 => ?_)
      · exact absurd b22 (by decide +kernel)
      · skip
        refine r_aload_0 (pc := 25) C dJ10_equals_25 ?_
        refine r_getI (pc := 26) C fl_J10_15_16 hs.g rfl dJ10_equals_26 ?_
        refine r_top hs.c ?_
        refine r_aload_2 (pc := 29) C dJ10_equals_29 ?_
        refine r_getI (pc := 30) C fl_J10_15_16 hx2.g rfl dJ10_equals_30 ?_
        refine r_top hx2.c ?_
        refine r_icmp_ne (pc := 33) (tgt := 54) C dJ10_equals_33 (by decide) (fun b33 => ?_) (fun b33 => ?_)
        · exact absurd b33 (by decide +kernel)
        · skip
          refine r_aload_0 (pc := 36) C dJ10_equals_36 ?_
          refine r_getR (pc := 37) C fl_J10_9_16 hs.g rfl hs.r dJ10_equals_37 ?_
          refine r_aload_2 (pc := 40) C dJ10_equals_40 ?_
          refine r_getR (pc := 41) C fl_J10_9_16 hx2.g rfl hx2.r dJ10_equals_41 ?_
          refine r_S2io (pc := 44) C (j_J12_equals hs hx2) sl_J10_541 (by decide) (by omega) (by omega) (Nat.le_of_ble_eq_true rfl) rfl dJ10_equals_44 (fun u1 A1 hc1 => ?_)
          refine r_top hc1.1 ?_
          refine r_eqA hc1.2 ?_
          clear hc1 A1 u1
          refine r_if_eq (pc := 47) (tgt := 54) C dJ10_equals_47 (by decide) (fun b47 => ?_) (fun b47 => ?_)
          · skip
            have b47 := bI_0.mp b47
            refine r_iconst (pc := 54) C dJ10_equals_54 ci_0 ?_
            refine r_iret (pc := 55) C E nar_0 (by omega) (by omega) dJ10_equals_55 ?_
            first
              | exact ⟨bI_1 b47, rfl⟩
              | exact ⟨bI_00 b47, rfl⟩
          · skip
            have b47 := bI_n.mp b47
            refine r_iconst (pc := 50) C dJ10_equals_50 ci_1 ?_
            refine r_goto (pc := 51) (tgt := 55) C dJ10_equals_51 (by decide) ?_
            refine r_iret (pc := 55) C E nar_1 (by omega) (by omega) dJ10_equals_55 ?_
            first
              | exact ⟨bI_1 b47, rfl⟩
              | exact ⟨bI_00 b47, rfl⟩
  · skip
    refine r_iconst (pc := 5) C dJ10_equals_5 ci_1 ?_
    refine r_iret (pc := 6) C E nar_1 (by omega) (by omega) dJ10_equals_6 ?_
    exact ⟨bI_1 (by subst b2; exact eqt_same hs hx2), rfl⟩
set_option maxHeartbeats 4000000 in
theorem c_namedW {g : GZ} {A : HA} {a : Nat} {d : Nat → Nat} {σ : Rw} (hL : Ly A a d σ) (hv : Lv A.I a d σ) (hWN : NumI σ) (hz : zS g) (hNm : NmK A d σ) {x w m : Nat} {l : Nat → Nat} (hT : StrV A x w l m) : Ct g wI yX3_named (.code yX3_named cX3_named 3 (Option.some Jvm.ClassFile.FieldType.int)) 6 0 0 [.ref (d 12), .ref x] (A) (fun u A' => u = oI (firstB (fun i => nmB σ l (75 + 13 * i) 0 m) (rK σ)) ∧ A' = A) fw_no := by
  refine Ct.of [some (.ref (d 12)), some (.ref x), none] (by decide) rfl rfl fun z C hx hnm E => ?_
  have k6 := hWN.2.2
  have g6 := hWN.1.2
  have h9 := hT.l
  refine r_iconst (pc := 0) C dX3_named_0 ci_0 ?_
  refine r_istore_2 (pc := 1) C dX3_named_1 rfl ?_
  have lp2_1 : ∀ (fu : Nat) (i : Nat) (hi : i ≤ rK σ) (hfb : firstB (fun i => nmB σ l (75 + 13 * i) 0 m) i = none), rK σ - i < fu → wa g z 0 0 (A) 2 [some (.ref (d 12)), some (.ref x), some (.int (nI (i)))] [] := by
    intro fu
    induction fu with
    | zero => intro i  hi hfb hm2; exact absurd hm2 (Nat.not_lt_zero _)
    | succ fu ih2 =>
      intro i  hi hfb hm2
      refine r_iload_2 (pc := 2) C dX3_named_2 ?_
      refine r_aload_0 (pc := 3) C dX3_named_3 ?_
      refine r_V0io (pc := 4) C (j_X3_size (ly_g12 hL) (ly_r20 hL) (ly_g20 hL) (hv.nk.trans hWN.2.1)) vl_X3_34 (ly_g12 hL) (by decide) (by omega) (by omega) (Nat.le_of_ble_eq_true rfl) rfl dX3_named_4 (fun u2 A2 hc2 => ?_)
      refine r_top hc2.1 ?_
      refine r_eqA hc2.2 ?_
      clear hc2 A2 u2
      refine r_icmp_ge (pc := 7) (tgt := 35) C dX3_named_7 (by decide) (fun b7 => ?_) (fun b7 => ?_)
      · skip
        have b7 := (nI_le2 (by omega) (by omega)).mp b7
        refine r_iconst (pc := 35) C dX3_named_35 ci_m1 ?_
        refine r_iret (pc := 36) C E rfl (by omega) (by omega) dX3_named_36 ?_
        have e9 : i = rK σ := by omega
        subst e9
        refine ⟨?_, rfl⟩
        rw [hfb]
        rfl
      · skip
        have b7 := (not_congr (nI_le2 (by omega) (by omega))).mp b7
        have hi2 : i < rK σ := by omega
        obtain ⟨nm, hnm8, v2, l2, n2, hSt, hfn, hn6, hl⟩ := hNm.1 i hi2
        have hnm9 := nmB_i (m := m) (l := l) hSt hfn hl h9 (fun j hj => by have := hT.b hj; omega)
        refine r_aload_0 (pc := 10) C dX3_named_10 ?_
        refine r_iload_2 (pc := 11) C dX3_named_11 ?_
        refine r_V1ro (pc := 12) C (j_X3_get5 (ly_g12 hL) (ly_r20 hL) (ly_g20 hL) (ly_r21 hL) (ly_g21 hL) (hv.nk.trans hWN.2.1) (ly_n21 hL) hi2 (by omega) (ly_w hL hi2).1 (ly_w hL hi2).2) vl_X3_35 (ly_g12 hL) (by decide) (by omega) (by omega) (Nat.le_of_ble_eq_true rfl) rfl dX3_named_12 (fun u3 A3 hc3 => ?_)
        refine r_topR hc3.1 ?_
        refine r_eqA hc3.2 ?_
        clear hc3 A3 u3
        refine r_F0ro (pc := 15) C (j_X5_name (ly_w hL hi2).2 hnm8) fi_X3_38_5 (ly_w hL hi2).2 (by decide) (by omega) (by omega) (Nat.le_of_ble_eq_true rfl) rfl dX3_named_15 (fun u4 A4 hc4 => ?_)
        refine r_topR hc4.1 ?_
        refine r_eqA hc4.2 ?_
        clear hc4 A4 u4
        refine r_aload_1 (pc := 20) C dX3_named_20 ?_
        refine r_V1io (pc := 21) C (j_J10_equals hz hSt hT) vl_X3_42 hSt.g (by decide) (by omega) (by omega) (Nat.le_of_ble_eq_true rfl) rfl dX3_named_21 (fun u5 A5 hc5 => ?_)
        refine r_top hc5.1 ?_
        refine r_eqA hc5.2 ?_
        clear hc5 A5 u5
        refine r_if_eq (pc := 24) (tgt := 29) C dX3_named_24 (by decide) (fun b24 => ?_) (fun b24 => ?_)
        · skip
          have b24 := bI_0.mp b24
          refine r_iinc_2 (pc := 29) C dX3_named_29 (nI_inc _) rfl ?_
          refine r_goto (pc := 32) (tgt := 2) C dX3_named_32 (by decide) ?_
          exact ih2 (i + 1) (by omega) (firstB_none hfb (fun q => b24 (hnm9.mp q))) (by omega)
        · skip
          have b24 := bI_n.mp b24
          refine r_iload_2 (pc := 27) C dX3_named_27 ?_
          refine r_iret (pc := 28) C E rfl (by omega) (by omega) dX3_named_28 ?_
          refine ⟨?_, rfl⟩
          rw [firstB_some hfb (hnm9.mpr b24) _ hi2]
          rfl
  exact lp2_1 _ 0 (Nat.zero_le _) rfl (Nat.lt_succ_self _)
set_option maxHeartbeats 4000000 in
theorem c_namedG {g : GZ} {A : HA} {a : Nat} {d : Nat → Nat} {σ : Rw} (hL : Ly A a d σ) (hv : Lv A.I a d σ) (hWN : NumI σ) (hz : zS g) (hNm : NmK A d σ) {x w m : Nat} {l : Nat → Nat} (hT : StrV A x w l m) : Ct g wI yX3_named (.code yX3_named cX3_named 3 (Option.some Jvm.ClassFile.FieldType.int)) 6 0 0 [.ref (d 11), .ref x] (A) (fun u A' => u = oI (firstB (fun i => nmB σ l (21 + 9 * i) 0 m) (rG σ)) ∧ A' = A) fw_no := by
  refine Ct.of [some (.ref (d 11)), some (.ref x), none] (by decide) rfl rfl fun z C hx hnm E => ?_
  have k6 := hWN.2.2
  have g6 := hWN.1.2
  have h9 := hT.l
  refine r_iconst (pc := 0) C dX3_named_0 ci_0 ?_
  refine r_istore_2 (pc := 1) C dX3_named_1 rfl ?_
  have lp2_1 : ∀ (fu : Nat) (i : Nat) (hi : i ≤ rG σ) (hfb : firstB (fun i => nmB σ l (21 + 9 * i) 0 m) i = none), rG σ - i < fu → wa g z 0 0 (A) 2 [some (.ref (d 11)), some (.ref x), some (.int (nI (i)))] [] := by
    intro fu
    induction fu with
    | zero => intro i  hi hfb hm2; exact absurd hm2 (Nat.not_lt_zero _)
    | succ fu ih2 =>
      intro i  hi hfb hm2
      refine r_iload_2 (pc := 2) C dX3_named_2 ?_
      refine r_aload_0 (pc := 3) C dX3_named_3 ?_
      refine r_V0io (pc := 4) C (j_X3_size (ly_g11 hL) (ly_r22 hL) (ly_g22 hL) (hv.ng.trans hWN.1.1)) vl_X3_34 (ly_g11 hL) (by decide) (by omega) (by omega) (Nat.le_of_ble_eq_true rfl) rfl dX3_named_4 (fun u2 A2 hc2 => ?_)
      refine r_top hc2.1 ?_
      refine r_eqA hc2.2 ?_
      clear hc2 A2 u2
      refine r_icmp_ge (pc := 7) (tgt := 35) C dX3_named_7 (by decide) (fun b7 => ?_) (fun b7 => ?_)
      · skip
        have b7 := (nI_le2 (by omega) (by omega)).mp b7
        refine r_iconst (pc := 35) C dX3_named_35 ci_m1 ?_
        refine r_iret (pc := 36) C E rfl (by omega) (by omega) dX3_named_36 ?_
        have e9 : i = rG σ := by omega
        subst e9
        refine ⟨?_, rfl⟩
        rw [hfb]
        rfl
      · skip
        have b7 := (not_congr (nI_le2 (by omega) (by omega))).mp b7
        have hi2 : i < rG σ := by omega
        obtain ⟨nm, hnm8, v2, l2, n2, hSt, hfn, hn6, hl⟩ := hNm.2 i hi2
        have hnm9 := nmB_i (m := m) (l := l) hSt hfn hl h9 (fun j hj => by have := hT.b hj; omega)
        refine r_aload_0 (pc := 10) C dX3_named_10 ?_
        refine r_iload_2 (pc := 11) C dX3_named_11 ?_
        refine r_V1ro (pc := 12) C (j_X3_get4 (ly_g11 hL) (ly_r22 hL) (ly_g22 hL) (ly_r23 hL) (ly_g23 hL) (hv.ng.trans hWN.1.1) (ly_n23 hL) hi2 (by omega) (ly_t hL hi2).1 (ly_t hL hi2).2) vl_X3_35 (ly_g11 hL) (by decide) (by omega) (by omega) (Nat.le_of_ble_eq_true rfl) rfl dX3_named_12 (fun u3 A3 hc3 => ?_)
        refine r_topR hc3.1 ?_
        refine r_eqA hc3.2 ?_
        clear hc3 A3 u3
        refine r_F0ro (pc := 15) C (j_X4_name (ly_t hL hi2).2 hnm8) fi_X3_38_4 (ly_t hL hi2).2 (by decide) (by omega) (by omega) (Nat.le_of_ble_eq_true rfl) rfl dX3_named_15 (fun u4 A4 hc4 => ?_)
        refine r_topR hc4.1 ?_
        refine r_eqA hc4.2 ?_
        clear hc4 A4 u4
        refine r_aload_1 (pc := 20) C dX3_named_20 ?_
        refine r_V1io (pc := 21) C (j_J10_equals hz hSt hT) vl_X3_42 hSt.g (by decide) (by omega) (by omega) (Nat.le_of_ble_eq_true rfl) rfl dX3_named_21 (fun u5 A5 hc5 => ?_)
        refine r_top hc5.1 ?_
        refine r_eqA hc5.2 ?_
        clear hc5 A5 u5
        refine r_if_eq (pc := 24) (tgt := 29) C dX3_named_24 (by decide) (fun b24 => ?_) (fun b24 => ?_)
        · skip
          have b24 := bI_0.mp b24
          refine r_iinc_2 (pc := 29) C dX3_named_29 (nI_inc _) rfl ?_
          refine r_goto (pc := 32) (tgt := 2) C dX3_named_32 (by decide) ?_
          exact ih2 (i + 1) (by omega) (firstB_none hfb (fun q => b24 (hnm9.mp q))) (by omega)
        · skip
          have b24 := bI_n.mp b24
          refine r_iload_2 (pc := 27) C dX3_named_27 ?_
          refine r_iret (pc := 28) C E rfl (by omega) (by omega) dX3_named_28 ?_
          refine ⟨?_, rfl⟩
          rw [firstB_some hfb (hnm9.mpr b24) _ hi2]
          rfl
  exact lp2_1 _ 0 (Nat.zero_le _) rfl (Nat.lt_succ_self _)
theorem j_apU {g : GZ} {A : HA} (hz : zS g) {s v m n : Nat} {f : Nat → Nat} (hs : SbV A s v m f n) {c : Nat} (hc : c ≤ 127) (h9 : m ≤ 5000) : Ct g wR yJ9_append (.code yJ9_append cJ9_append 2 (Option.some (Jvm.ClassFile.FieldType.object "java/lang/StringBuilder"))) 6 (gK n m) (gS n m) [.ref s, .int (nI (c))] A (fun u A' => u = s ∧ (∃ v1, SbV A' s v1 (gM n m) (lower f n c) (n + 1) ∧ (v1 = v ∨ A.z ≤ v1)) ∧ Gw A A' (fun y => y = s ∨ y = v)) fw_no := by
  have hnm := hs.nm
  by_cases h : n < m
  · have e1 : gK n m = 0 := if_pos h
    have e2 : gS n m = 0 := if_pos h
    have e3 : gM n m = m := if_pos h
    rw [e1, e2, e3]
    exact (j_ap9O hz hs hc h).mono (fun u A' q => ⟨q.1, ⟨v, q.2.1, Or.inl rfl⟩, q.2.2.1⟩) (fun _ _ q => q)
  · have e1 : gK n m = 1 := if_neg h
    have e2 : gS n m = m + (m + 2) := if_neg h
    have e3 : gM n m = m + (m + 2) := if_neg h
    rw [e1, e2, e3]
    exact (j_ap9G hz hs hc (by omega) h9).mono (fun u A' q => ⟨q.1, ⟨A.z, q.2.1, Or.inr (Nat.le_refl _)⟩, q.2.2.1.mono (fun y _ e => Or.inl e)⟩) (fun _ _ q => q)
