/-! THE REFERENCE, 18: public questions, 5 -/
set_option maxRecDepth 100000
theorem m_passesBoth1 {g : GZ} {A : HA} {t : Nat} (hT : Tw A t) {p : Prop} [Decidable p] : Ct g wI yX6_passesBoth (.code yX6_passesBoth cX6_passesBoth 3 (Option.some Jvm.ClassFile.FieldType.boolean)) 1 0 0 [.ref t, .int (bI p), .int (nI 1)] A (fun u A' => u = bI p ∧ A' = A.sI t (upd (A.I t) 6 (nI (if p then 0 else 1)))) fw_no := by
  have h := m_passesBoth (g := g) (A := A) (p := p) (q := True) hT
  rw [bI_t trivial, ← nI1] at h
  refine h.mono (fun u A' q => ⟨q.1.trans (bI_iff ⟨fun x => x.1, fun x => ⟨x, trivial⟩⟩), q.2.trans ?_⟩) (fun _ _ h => h)
  rw [if_pos trivial]
theorem m_passesBoth0 {g : GZ} {A : HA} {t : Nat} (hT : Tw A t) {p : Prop} [Decidable p] : Ct g wI yX6_passesBoth (.code yX6_passesBoth cX6_passesBoth 3 (Option.some Jvm.ClassFile.FieldType.boolean)) 1 0 0 [.ref t, .int (bI p), .int (nI 0)] A (fun u A' => u = nI 0 ∧ A' = A.sI t (upd (A.I t) 6 (nI (if p then 2 else 1)))) fw_no := by
  have h := m_passesBoth (g := g) (A := A) (p := p) (q := False) hT
  rw [bI_f id, ← nI0] at h
  refine h.mono (fun u A' q => ⟨q.1.trans ((bI_f (fun x => x.2)).trans nI0.symm), q.2.trans ?_⟩) (fun _ _ h => h)
  rw [if_neg id]
theorem QP.two' {A A' : HA} {t : Nat} {σ τ : Rw} {p q : Prop} [Decidable p] [Decidable q] {a u : Int32} (h : p) (h2 : q) (hu : u = a) (hA : Qo A t σ τ (nI (if p then 0 else 1)) A') : QP A t σ τ (qTwo p q a) u A' := by
  unfold qTwo
  rw [if_pos h] at hA ⊢
  rw [if_pos h2]
  exact ⟨hu, hA⟩
theorem QP.no2' {A A' : HA} {t : Nat} {σ τ : Rw} {p q : Prop} [Decidable p] [Decidable q] {a : Int32} (h : ¬ p) (hA : Qo A t σ τ (nI (if p then 0 else 1)) A') : QP A t σ τ (qTwo p q a) (nI 0) A' := by
  unfold qTwo
  rw [if_neg h] at hA ⊢
  exact ⟨rfl, hA⟩
theorem QP.no3' {A A' : HA} {t : Nat} {σ τ : Rw} {p q : Prop} [Decidable p] [Decidable q] {a : Int32} (h : ¬ q) (hA : Qo A t σ τ (nI (if p then 2 else 1)) A') : QP A t σ τ (qTwo p q a) (nI 0) A' := by
  unfold qTwo
  by_cases hp : p
  · rw [if_pos hp] at hA ⊢
    rw [if_neg h]
    exact ⟨rfl, hA⟩
  · rw [if_neg hp] at hA ⊢
    exact ⟨rfl, hA⟩
/-- how much more with a fence at a cell -/
noncomputable def ifFA (σ : Rw) (w c : Nat) : Int32 := if whyF σ c = nI 0 then nI (costR (fenceOn σ c) w 0) - nI (costR σ w 0) else -1
theorem fenceOn_s {σ : Rw} {c j : Nat} (h : j ≠ 153 + 5 * c + 2) : fenceOn σ c j = σ j := pk_un h
theorem fenceOn_gc {σ : Rw} {c r : Nat} (hr : r < 6) : gC (fenceOn σ c) r = gC σ r := by
  unfold gC gX gY rW
  rw [fenceOn_s (by omega), fenceOn_s (by omega), fenceOn_s (by omega)]
theorem fenceOn_fr {σ : Rw} {c k : Nat} (hk : k < 6) : wFr (fenceOn σ c) k = wFr σ k := by
  unfold wFr
  rw [fenceOn_s (by omega)]
theorem fenceOn_c {σ : Rw} {c : Nat} : rC (fenceOn σ c) = rC σ := by
  unfold rC rW rH
  rw [fenceOn_s (by omega), fenceOn_s (by omega)]
theorem fenceOn_k {σ : Rw} {c : Nat} : rK (fenceOn σ c) = rK σ := congrArg Int32.toNatClampNeg (fenceOn_s (by omega))
noncomputable def bestO (σ : Rw) (n : Nat) : Int32 := oS σ ((bestS σ n (rC σ)).map Prod.fst)
def oM (o : Option (Nat × Nat)) : Int32 := match o with
  | none => -1
  | some p => nI p.2
set_option maxHeartbeats 4000000 in
theorem m_ifFence {g : GZ} {A : HA} {t : Nat} {σ κ π τ : Nat → Int32} (hT : Tw A t) {z x y : Int32} (hW : RowW σ) (hC : ∀ c, c < 80 → CelI σ c) : Ct g wI yX6_ifFence (.code yX6_ifFence cX6_ifFence 7 (Option.some Jvm.ClassFile.FieldType.int)) 8 0 0 [.ref t, .int z, .int x, .int y] (S5 A t σ κ π τ) (fun u A' => QP A t σ τ (qOne (inW σ z ∧ inC2 σ x y) (ifFA σ (nt z) (cat σ x y))) u A') fw_no := by
  refine Ct.of [some (.ref t), some (.int z), some (.int x), some (.int y), none, none, none] (by decide) rfl rfl fun z C hx hnm E => ?_
  have hS := hW.s
  have hc80 := hS.c80
  have k6 := hW.k6
  have g6 := hW.g6
  have hc80 := hS.c80
  have hw10 := hS.w10
  have hh8 := hS.h8
  have hw3 := hS.w3
  refine r_aload_0 (pc := 0) C dX6_ifFence_0 ?_
  refine r_aload_0 (pc := 1) C dX6_ifFence_1 ?_
  refine r_iload_1 (pc := 2) C dX6_ifFence_2 ?_
  refine r_V1io (pc := 3) C (m_isWalker (by exact hT) (S5_1 _ _ _ _ _ _) hW.k k6) vl_X6_413 (tw_g hT) (by decide) (Nat.le_refl _) (Nat.le_refl _) (Nat.le_of_ble_eq_true rfl) rfl dX6_ifFence_3 (fun u1 A1 hc1 => ?_)
  refine r_top hc1.1 ?_
  refine r_eqA hc1.2 ?_
  clear hc1 A1 u1
  refine r_if_eq (pc := 6) (tgt := 22) C dX6_ifFence_6 (by decide) (fun b6 => ?_) (fun b6 => ?_)
  · skip
    have b6 := bI_0.mp b6
    refine r_iconst (pc := 22) C dX6_ifFence_22 ci_0 ?_
    refine r_V1io (pc := 23) C (m_passes0 (by exact hT)) vl_X6_186 (tw_g hT) (by decide) (Nat.le_refl _) (Nat.le_refl _) (Nat.le_of_ble_eq_true rfl) rfl dX6_ifFence_23 (fun u2 A2 hc2 => ?_)
    refine r_top hc2.1 ?_
    refine r_eqA (hc2.2.trans (by rw [S5_0, S5_w0])) ?_
    clear hc2 A2 u2
    refine r_if_ne (pc := 26) (tgt := 31) C dX6_ifFence_26 (by decide) (fun b26 => ?_) (fun b26 => ?_)
    · exact absurd b26 (by decide +kernel)
    · skip
      refine r_iconst (pc := 29) C dX6_ifFence_29 ci_0 ?_
      refine r_iret (pc := 30) C E rfl (Nat.le_refl _) (Nat.le_refl _) dX6_ifFence_30 ?_
      first
        | exact QP.no' (fun q => b6 q.1) (Qo.o rfl)
        | exact QP.no' (fun q => b15 q.2) (Qo.o rfl)
  · skip
    have b6 := bI_n.mp b6
    refine r_aload_0 (pc := 9) C dX6_ifFence_9 ?_
    refine r_iload_2 (pc := 10) C dX6_ifFence_10 ?_
    refine r_iload_3 (pc := 11) C dX6_ifFence_11 ?_
    refine r_V2io (pc := 12) C (m_isCell (by exact hT) (S5_1 _ _ _ _ _ _) hS) vl_X6_89 (tw_g hT) (by decide) (Nat.le_refl _) (Nat.le_refl _) (Nat.le_of_ble_eq_true rfl) rfl dX6_ifFence_12 (fun u3 A3 hc3 => ?_)
    refine r_top hc3.1 ?_
    refine r_eqA hc3.2 ?_
    clear hc3 A3 u3
    refine r_if_eq (pc := 15) (tgt := 22) C dX6_ifFence_15 (by decide) (fun b15 => ?_) (fun b15 => ?_)
    · skip
      have b15 := bI_0.mp b15
      refine r_iconst (pc := 22) C dX6_ifFence_22 ci_0 ?_
      refine r_V1io (pc := 23) C (m_passes0 (by exact hT)) vl_X6_186 (tw_g hT) (by decide) (Nat.le_refl _) (Nat.le_refl _) (Nat.le_of_ble_eq_true rfl) rfl dX6_ifFence_23 (fun u4 A4 hc4 => ?_)
      refine r_top hc4.1 ?_
      refine r_eqA (hc4.2.trans (by rw [S5_0, S5_w0])) ?_
      clear hc4 A4 u4
      refine r_if_ne (pc := 26) (tgt := 31) C dX6_ifFence_26 (by decide) (fun b26 => ?_) (fun b26 => ?_)
      · exact absurd b26 (by decide +kernel)
      · skip
        refine r_iconst (pc := 29) C dX6_ifFence_29 ci_0 ?_
        refine r_iret (pc := 30) C E rfl (Nat.le_refl _) (Nat.le_refl _) dX6_ifFence_30 ?_
        first
          | exact QP.no' (fun q => b6 q.1) (Qo.o rfl)
          | exact QP.no' (fun q => b15 q.2) (Qo.o rfl)
    · skip
      have b15 := bI_n.mp b15
      obtain ⟨k, hk, rfl⟩ := inZ_of b6 (by omega)
      obtain ⟨a, ha, rfl⟩ := inZ_of b15.1 (by omega)
      obtain ⟨b, hb, rfl⟩ := inZ_of b15.2 (by omega)
      have hcl := at_lt hS ha hb
      have hcat := cat_n (σ := σ) (show a < 1000 by omega) (show b < 1000 by omega)
      have hcf := gC_lt hS (hW.G (hW.K hk).1.2)
      have hfr6 := (hW.K hk).1.2
      have hcf2 : gC (fenceOn σ (b * rW σ + a)) (wFr (fenceOn σ (b * rW σ + a)) k) < rC (fenceOn σ (b * rW σ + a)) := by rw [fenceOn_c, fenceOn_fr (by omega), fenceOn_gc (by omega)]; exact hcf
      refine r_iconst (pc := 18) C dX6_ifFence_18 ci_1 ?_
      refine r_goto (pc := 19) (tgt := 23) C dX6_ifFence_19 (by decide) ?_
      refine r_V1io (pc := 23) C (m_passes1 (by exact hT)) vl_X6_186 (tw_g hT) (by decide) (Nat.le_refl _) (Nat.le_refl _) (Nat.le_of_ble_eq_true rfl) rfl dX6_ifFence_23 (fun u5 A5 hc5 => ?_)
      refine r_top hc5.1 ?_
      refine r_eqA (hc5.2.trans (by rw [S5_0, S5_w0])) ?_
      clear hc5 A5 u5
      refine r_if_ne (pc := 26) (tgt := 31) C dX6_ifFence_26 (by decide) (fun b26 => ?_) (fun b26 => ?_)
      · skip
        refine r_aload_0 (pc := 31) C dX6_ifFence_31 ?_
        refine r_iload_2 (pc := 32) C dX6_ifFence_32 ?_
        refine r_iload_3 (pc := 33) C dX6_ifFence_33 ?_
        refine r_V2io (pc := 34) C (m_at (by exact hT) (S5_1 _ _ _ _ _ _) hS) vl_X6_83 (tw_g hT) (by decide) (Nat.le_refl _) (Nat.le_refl _) (Nat.le_of_ble_eq_true rfl) rfl dX6_ifFence_34 (fun u6 A6 hc6 => ?_)
        refine r_top hc6.1 ?_
        refine r_eqA hc6.2 ?_
        clear hc6 A6 u6
        refine r_istore_4 (pc := 37) C dX6_ifFence_37 rfl ?_
        refine r_aload_0 (pc := 39) C dX6_ifFence_39 ?_
        refine r_iload_4 (pc := 40) C dX6_ifFence_40 ?_
        refine r_V1io (pc := 42) C (m_whyNoFence (by exact hT) hW (hC _ (by omega)) (by omega)) vl_X6_177 (tw_g hT) (by decide) (Nat.le_refl _) (Nat.le_refl _) (Nat.le_of_ble_eq_true rfl) rfl dX6_ifFence_42 (fun u7 A7 hc7 => ?_)
        obtain ⟨⟨κL, eA⟩, eu⟩ := hc7
        refine r_top eu ?_
        refine r_eqA eA ?_
        clear eu eA A7 u7
        refine r_if_ge (pc := 45) (tgt := 50) C dX6_ifFence_45 (by decide) (fun b45 => ?_) (fun b45 => ?_)
        · skip
          have hz := whyF_ge b45
          have hz2 := whyF_0 hz
          refine r_aload_0 (pc := 50) C dX6_ifFence_50 ?_
          refine r_iload_1 (pc := 51) C dX6_ifFence_51 ?_
          refine r_iconst (pc := 52) C dX6_ifFence_52 ci_0 ?_
          refine r_V2io (pc := 53) C (m_laysCosts  (by exact hT) (S5_1 _ _ _ _ _ _) hW hk (by omega)) vl_X6_124 (tw_g hT) (by decide) (Nat.le_refl _) (Nat.le_refl _) (Nat.le_of_ble_eq_true rfl) rfl dX6_ifFence_53 (fun u8 A8 hc8 => ?_)
          obtain ⟨fL, κL, eA, hκ, hSol, eu⟩ := hc8
          refine r_top eu ?_
          refine r_eqA (eA.trans (S5_w6 _ _ _ _ _ _ _)) ?_
          have h0m := dist_m hW hSol hcf (fun j hj => (hκ j hj).2)
          refine r_top h0m.1 ?_
          have h0m := h0m.2
          clear eu eA A8 u8 hSol hκ
          refine r_istore_5 (pc := 56) C dX6_ifFence_56 rfl ?_
          refine r_aload_0 (pc := 58) C dX6_ifFence_58 ?_
          refine r_iload_4 (pc := 59) C dX6_ifFence_59 ?_
          refine r_iconst (pc := 61) C dX6_ifFence_61 ci_2 ?_
          refine r_iconst (pc := 62) C dX6_ifFence_62 ci_1 ?_
          refine r_V3vo (pc := 63) C (m_putsCell (by exact hT) (S5_1 _ _ _ _ _ _)) vl_X6_139 (tw_g hT) (by decide) (Nat.le_refl _) (Nat.le_refl _) (Nat.le_of_ble_eq_true rfl) rfl dX6_ifFence_63 (fun u9 A9 hc9 => ?_)
          refine r_eqA hc9 ?_
          clear hc9 A9 u9
          refine r_eqA (S5_w1 _ _ _ _ _ _ _) ?_
          refine r_aload_0 (pc := 66) C dX6_ifFence_66 ?_
          refine r_iload_1 (pc := 67) C dX6_ifFence_67 ?_
          refine r_iconst (pc := 68) C dX6_ifFence_68 ci_0 ?_
          refine r_V2io (pc := 69) C (m_laysCosts (σ := fenceOn σ (b * rW σ + a)) (by exact hT) (S5_1 _ _ _ _ _ _) hW.fenceOn (by rw [fenceOn_k]; exact hk) (by omega)) vl_X6_124 (tw_g hT) (by decide) (Nat.le_refl _) (Nat.le_refl _) (Nat.le_of_ble_eq_true rfl) rfl dX6_ifFence_69 (fun u10 A10 hc10 => ?_)
          obtain ⟨fL, κL, eA, hκ, hSol, eu⟩ := hc10
          refine r_top eu ?_
          refine r_eqA (eA.trans (S5_w6 _ _ _ _ _ _ _)) ?_
          have h1m := dist_m hW.fenceOn hSol hcf2 (fun j hj => (hκ j hj).2)
          refine r_top h1m.1 ?_
          have h1m := h1m.2
          clear eu eA A10 u10 hSol hκ
          refine r_iload_5 (pc := 72) C dX6_ifFence_72 ?_
          refine r_isub (pc := 74) C dX6_ifFence_74 ?_
          refine r_istore_6 (pc := 75) C dX6_ifFence_75 rfl ?_
          refine r_aload_0 (pc := 77) C dX6_ifFence_77 ?_
          refine r_iload_4 (pc := 78) C dX6_ifFence_78 ?_
          refine r_iconst (pc := 80) C dX6_ifFence_80 ci_2 ?_
          refine r_iconst (pc := 81) C dX6_ifFence_81 ci_0 ?_
          refine r_V3vo (pc := 82) C (m_putsCell (by exact hT) (S5_1 _ _ _ _ _ _)) vl_X6_139 (tw_g hT) (by decide) (Nat.le_refl _) (Nat.le_refl _) (Nat.le_of_ble_eq_true rfl) rfl dX6_ifFence_82 (fun u11 A11 hc11 => ?_)
          refine r_eqA hc11 ?_
          clear hc11 A11 u11
          refine r_eqA (S5_w1 _ _ _ _ _ _ _) ?_
          refine r_eqA (congrArg (fun x => S5 A t x _ π _) (fence_0 (hC _ (by omega)) hz2.2.1)) ?_
          refine r_iload_6 (pc := 85) C dX6_ifFence_85 ?_
          refine r_iret (pc := 87) C E rfl (Nat.le_refl _) (Nat.le_refl _) dX6_ifFence_87 ?_
          exact QP.one' ⟨by assumption, by assumption⟩ (by rw [nt_n (by omega), hcat]; exact (if_pos hz).symm) (Qo.o rfl)
        · skip
          have hz := whyF_lt b45
          refine r_iconst (pc := 48) C dX6_ifFence_48 ci_m1 ?_
          refine r_iret (pc := 49) C E rfl (Nat.le_refl _) (Nat.le_refl _) dX6_ifFence_49 ?_
          exact QP.one' ⟨by assumption, by assumption⟩ (by rw [nt_n (by omega), hcat]; exact (if_neg hz).symm) (Qo.o rfl)
      · exact absurd b26 (by decide +kernel)
