/-! THE WAY, step by step: boxed numbers, iterators -/
set_option maxRecDepth 100000
/-- the cache of small Integers, as it is found -/
def IcK (g : GZ) (A : HA) : Prop := SZ g "java/lang/Integer$IntegerCache" "high" "I" (.int (nI 127)) ∧ SZ g "java/lang/Integer$IntegerCache" "cache" "[Ljava/lang/Integer;" (.ref (g.c 71)) ∧ (A.G (g.c 71)).1 = 700 ∧ A.n (g.c 71) = 256 ∧ ArrOfT g.s (g.dA 7) (.object "java/lang/Integer") ∧ ∀ j, j < 256 → ∃ q, A.R (g.c 71) j = some q ∧ (A.G q).1 = 17 ∧ A.I q 0 = nI j - nI 128
theorem IcK.gw {g : GZ} {A B : HA} {X : Nat → Prop} (h : IcK g A) (hz : Zk A) (hw : Gw A B X) (hX : ∀ y, y < A.z → X y → (A.G y).1 ≠ 700 ∧ (A.G y).1 ≠ 17) : IcK g B := by
  obtain ⟨h1, h2, h3, h4, h5, h6⟩ := h
  have hl := hz.lt h3 rfl
  have w := hw.2 _ hl
  have w2 := w.2.2 (fun q => (hX _ hl q).1 h3)
  refine ⟨h1, h2, by rw [w.1]; exact h3, by rw [w.2.1]; exact h4, h5, fun j hj => ?_⟩
  obtain ⟨q, q1, q2, q3⟩ := h6 j hj
  have hq := hz.lt q2 rfl
  have v := hw.2 _ hq
  exact ⟨q, by rw [w2.2.2]; exact q1, by rw [v.1]; exact q2, by rw [(v.2.2 (fun z => (hX _ hq z).2 q2)).2.1]; exact q3⟩
section
variable {g : GZ} {z : ZX} {cc : ByteArray} {own : String} {nL d mc ms k n : Nat} {A : HA} {pc : Nat} {lv : List (Option Value)} {st : List Value}
theorem r_cacheLd (C : CX g z cc own nL d mc ms) {a j x : Nat} {i : Int32} (h1 : (A.G a).1 = 700) (hA : ArrOfT g.s (g.dA 7) (.object "java/lang/Integer")) (hi : i = nI j) (hj : j < A.n a) (hj2 : j < 2147483648) (hx : A.R a j = some x) (hd : decode cc pc = .ok (.aaload, 1)) (kk : wa g z k n A (pc + 1) lv (.ref x :: st)) : wa g z k n A pc lv (.int i :: .ref a :: st) := by
  intro H locs ls hR hL hl
  subst hi
  obtain ⟨c, q1, q2, q3, q4, q5⟩ := (hR.cell a).2.2 (by rw [h1]; omega)
  rw [h1] at q2 q5
  have hAr : z.s.isArrayOf c (.object "java/lang/Integer") := by
    obtain ⟨-, k, hk, comp, hkind⟩ := (arrOfT_moved C.wm.alike hA) 0 (fun _ => .null)
    exact ⟨q3.st, k, by rw [show c.cls = g.dA 7 from q2]; exact hk, comp, hkind⟩
  have h5 : c.slots[j]? = some (.ref x) := by
    have h9 := q5 j hj
    rw [show fw_val (fw_at (700 / 100)) A a j = va_rf (A.R a j) from rfl, hx] at h9
    exact h9
  refine W.aald (v := .ref x) (ty := .object "java/lang/Integer") C.x C.b q1 hAr rfl q3.1.2 (by rw [q4]; exact vp_in_of2 hj hj2) ?_ rfl rfl hd (kk H locs ls hR hL hl)
  rw [nI_nat hj2]
  exact h5
end
theorem nI_lt128 {n : Nat} (h : n < 1000) : ¬ nI n < -128 := by
  intro q
  have q := Int32.lt_iff_toInt_lt.mp q
  rw [t_nI (by omega), show (-128 : Int32).toInt = -128 by decide +kernel] at q
  omega
theorem i_128 {n : Nat} : nI (n + 128) - nI 128 = nI n := by rw [← nI_add]; exact Int32.add_sub_cancel _ _
theorem NF11 : ∀ j, fw_ty 11 j ≠ .float ∧ fw_ty 11 j ≠ .double := by
  intro j
  show tyX11 j ≠ .float ∧ tyX11 j ≠ .double
  unfold tyX11
  split <;> exact ⟨fun h => (by cases h), fun h => (by cases h)⟩
theorem NF12 : ∀ j, fw_ty 12 j ≠ .float ∧ fw_ty 12 j ≠ .double := by
  intro j
  show tyX12 j ≠ .float ∧ tyX12 j ≠ .double
  unfold tyX12
  split <;> exact ⟨fun h => (by cases h), fun h => (by cases h)⟩
/-- how far all is, for the walker k, is told in the lawn's scratch -/
def Far (A : HA) (d : Nat → Nat) (σ : Rw) (k : Nat) : Prop := ∃ f : Nat → Nat, (∀ j, j < rC σ → A.I (d 15) j = nI (f j) ∧ f j ≤ 1000000) ∧ (∀ c, c < rC σ → opn σ 0 c → f c = dist σ k 0 c) ∧ ∀ c, c < rC σ → ¬ opn σ 0 c → f c = 1000000
theorem Far.gw {A B : HA} {X : Nat → Prop} {a : Nat} {d : Nat → Nat} {σ : Rw} {k : Nat} (h : Far A d σ k) (hz : Zk A) (hL : Ly A a d σ) (hw : Gw A B X) (hX : ¬ X (d 15)) : Far B d σ k := by
  obtain ⟨f, h1, h2⟩ := h
  refine ⟨f, fun j hj => ?_, h2⟩
  rw [((hw.2 (d 15) (fp_lt hz hL (Or.inr (Or.inl ⟨15, by decide, rfl⟩)))).2.2 hX).2.1]
  exact h1 j hj
/-- the iterator s, over the way of the walker k of the lawn at a: i cells are gone by -/
def It (A : HA) (s a : Nat) (d : Nat → Nat) (σ : Rw) (k i : Nat) : Prop := (A.G s).1 = 12 ∧ A.R s 0 = some (d (30 + k)) ∧ A.R s 3 = some a ∧ i ≤ wl σ k + 1 ∧ (i ≤ wl σ k → A.I s 1 = nI (wy σ k i)) ∧ A.I s 2 = bI (i = wl σ k + 1)
theorem It.gw {A B : HA} {X : Nat → Prop} {s a : Nat} {d : Nat → Nat} {σ : Rw} {k i : Nat} (h : It A s a d σ k i) (hz : Zk A) (hw : Gw A B X) (hX : ¬ X s) : It B s a d σ k i := by
  obtain ⟨h1, h2, h3, h4, h5, h6⟩ := h
  have v := hw.2 s (hz.lt h1 rfl)
  have u := v.2.2 hX
  exact ⟨by rw [v.1]; exact h1, by rw [u.2.2]; exact h2, by rw [u.2.2]; exact h3, h4, fun q => by rw [u.2.1]; exact h5 q, by rw [u.2.1]; exact h6⟩
theorem fp_k {A : HA} {a : Nat} {d : Nat → Nat} {C K N y : Nat} (hL : Ly0 A.G A.R A.n a d C K N) (h : Fp a d K N y) : (A.G y).1 = 2 ∨ (A.G y).1 = 3 ∨ (A.G y).1 = 4 ∨ (A.G y).1 = 5 ∨ (A.G y).1 = 13 ∨ 100 ≤ (A.G y).1 := by
  rcases h with q | ⟨f, hf, q⟩ | (q | q | q | q | q | q) | ⟨k, hk, q⟩ | ⟨r, hr, q⟩ <;> rw [q]
  · exact Or.inl (ly_g hL)
  · have h1 := ly_gf hL f hf
    have h2 : 100 ≤ lyK f := by unfold lyK; split <;> omega
    omega
  · have := ly_g11 hL; omega
  · have := ly_g12 hL; omega
  · have := ly_g20 hL; omega
  · have := isObA_k (ly_g21 hL); omega
  · have := ly_g22 hL; omega
  · have := isObA_k (ly_g23 hL); omega
  · have := (ly_w hL hk).2; omega
  · have := (ly_t hL hr).2; omega
set_option maxHeartbeats 4000000 in
theorem j_valueOf {g : GZ} {A : HA} {n : Nat} (hI : IcK g A) (hn : n < 100) : Ct g wR yJ20_valueOf (.code yJ20_valueOf cJ20_valueOf 1 (Option.some (Jvm.ClassFile.FieldType.object "java/lang/Integer"))) 2 0 0 [.int (nI (n))] (A) (fun u A' => (A.G u).1 = 17 ∧ A.I u 0 = nI n ∧ A' = A) fw_no := by
  refine Ct.of [some (.int (nI (n)))] (by decide) rfl rfl fun z C hx hnm E => ?_
  obtain ⟨q, hq1, hq2, hq3⟩ := hI.2.2.2.2.2 (n + 128) (by omega)
  refine r_iload_0 (pc := 0) C dJ20_valueOf_0 ?_
  refine r_bipush (pc := 1) C dJ20_valueOf_1 cb_m128 ?_
  refine r_icmp_lt (pc := 3) (tgt := 23) C dJ20_valueOf_3 (by decide) (fun b3 => ?_) (fun b3 => ?_)
  · skip
    exact absurd b3 (nI_lt128 (by omega))
  · skip
    refine r_iload_0 (pc := 6) C dJ20_valueOf_6 ?_
    refine r_getS (pc := 7) C hI.1 q1199 dJ20_valueOf_7 ?_
    refine r_icmp_gt (pc := 10) (tgt := 23) C dJ20_valueOf_10 (by decide) (fun b10 => ?_) (fun b10 => ?_)
    · skip
      have b10 := (nI_lt2 (by omega) (by omega)).mp b10
      exact absurd b10 (by omega)
    · skip
      have b10 := (not_congr (nI_lt2 (by omega) (by omega))).mp b10
      refine r_getS (pc := 13) C hI.2.1 q1201 dJ20_valueOf_13 ?_
      refine r_iload_0 (pc := 16) C dJ20_valueOf_16 ?_
      refine r_sipush (pc := 17) C dJ20_valueOf_17 cs_128 ?_
      refine r_iadd (pc := 20) C dJ20_valueOf_20 ?_
      refine r_top (nI_add _ _) ?_
      refine r_cacheLd (pc := 21) C hI.2.2.1 hI.2.2.2.2.1 rfl (by rw [hI.2.2.2.1]; omega) (by omega) hq1 dJ20_valueOf_21 ?_
      refine r_aret (pc := 22) C E rfl (Nat.le_refl _) (Nat.le_refl _) dJ20_valueOf_22 ?_
      exact ⟨hq2, hq3.trans i_128, rfl⟩
set_option maxHeartbeats 4000000 in
theorem j_intValue {g : GZ} {A : HA} {q : Nat} (hq : (A.G q).1 = 17) : Ct g wI yJ20_intValue (.code yJ20_intValue cJ20_intValue 1 (Option.some Jvm.ClassFile.FieldType.int)) 1 0 0 [.ref q] (A) (fun u A' => u = A.I q 0 ∧ A' = A) fw_no := by
  refine Ct.of [some (.ref q)] (by decide) rfl rfl fun z C hx hnm E => ?_
  refine r_aload_0 (pc := 0) C dJ20_intValue_0 ?_
  refine r_getI (pc := 1) C fl_J20_205_17 hq rfl dJ20_intValue_1 ?_
  refine r_iret (pc := 4) C E rfl (Nat.le_refl _) (Nat.le_refl _) dJ20_intValue_4 ?_
  exact ⟨rfl, rfl⟩
set_option maxHeartbeats 4000000 in
theorem j_hasNext {g : GZ} {A : HA} {s a : Nat} {d : Nat → Nat} {σ : Rw} {k i : Nat} (hIt : It A s a d σ k i) : Ct g wI yX12_hasNext (.code yX12_hasNext cX12_hasNext 1 (Option.some Jvm.ClassFile.FieldType.boolean)) 1 0 0 [.ref s] (A) (fun u A' => u = bI (i ≤ wl σ k) ∧ A' = A) fw_no := by
  refine Ct.of [some (.ref s)] (by decide) rfl rfl fun z C hx hnm E => ?_
  have h4 := hIt.2.2.2.1
  refine r_aload_0 (pc := 0) C dX12_hasNext_0 ?_
  refine r_getI (pc := 1) C fl_X12_32_12 hIt.1 rfl dX12_hasNext_1 ?_
  refine r_top hIt.2.2.2.2.2 ?_
  refine r_if_ne (pc := 4) (tgt := 11) C dX12_hasNext_4 (by decide) (fun b4 => ?_) (fun b4 => ?_)
  · skip
    have b4 := bI_n.mp b4
    refine r_iconst (pc := 11) C dX12_hasNext_11 ci_0 ?_
    refine r_iret (pc := 12) C E nar_0 (Nat.le_refl _) (Nat.le_refl _) dX12_hasNext_12 ?_
    first
      | exact ⟨bI_1 (by omega), rfl⟩
      | exact ⟨bI_00 (by omega), rfl⟩
  · skip
    have b4 := bI_0.mp b4
    refine r_iconst (pc := 7) C dX12_hasNext_7 ci_1 ?_
    refine r_goto (pc := 8) (tgt := 12) C dX12_hasNext_8 (by decide) ?_
    refine r_iret (pc := 12) C E nar_1 (Nat.le_refl _) (Nat.le_refl _) dX12_hasNext_12 ?_
    first
      | exact ⟨bI_1 (by omega), rfl⟩
      | exact ⟨bI_00 (by omega), rfl⟩
set_option maxHeartbeats 4000000 in
theorem j_next2 {g : GZ} {A : HA} {a : Nat} {d : Nat → Nat} {σ : Rw} (hL : Ly A a d σ) (hv : Lv A.I a d σ) (hJ : RowJ σ) {s k i : Nat} (hk : k < rK σ) (hIt : It A s a d σ k i) (hIc : IcK g A) (hF : Far A d σ k) (hi : i ≤ wl σ k) : Ct g wR yX12_next_2 (.code yX12_next_2 cX12_next_2 2 (Option.some (Jvm.ClassFile.FieldType.object "java/lang/Integer"))) 7 0 0 [.ref s] (A) (fun u A' => (A'.G u).1 = 17 ∧ A'.I u 0 = nI (wy σ k i) ∧ It A' s a d σ k (i + 1) ∧ Gw A A' (fun y => y = s)) fw_no := by
  refine Ct.of [some (.ref s), none] (by decide) rfl rfl fun z C hx hnm E => ?_
  have hW := hJ.w
  have hS := hW.s
  have hw3 := hS.w3
  have hw10 := hS.w10
  have hh8 := hS.h8
  have hc80 := hS.c80
  have k6 := hW.k6
  have g6 := hW.g6
  have hC : ∀ c, c < 80 → CelF σ c := fun c hc => (hJ.c hc).fe
  have hd := hJ.y k hk
  have hto := (hW.K hk).2.1
  have hwf := wy_facts hW hk hd
  have hwi := hwf.1 i hi
  have hgt := gC_lt hS (hW.G hto.2)
  refine r_Z fun hZ => ?_
  have hfs : ∀ y, Fp a d (rK σ) (rG σ) y → ¬ y = s := fun y hy e => by have h1 := fp_k hL hy; rw [e, hIt.1] at h1; omega
  have hgO : ∀ ι, Gw A (OB A s (A.R s) ι) (fun y => y = s) := fun ι => gw_OB _ _ _ _ (fun _ => rfl)
  have hvO : ∀ ι, Lv (OB A s (A.R s) ι).I a d σ := fun ι => lv_gw hZ hL hv (hgO ι) hfs
  have hLO : ∀ ι, Ly (OB A s (A.R s) ι) a d σ := fun ι => ly_gw hZ hL (hgO ι) hfs
  have hIO : ∀ ι, IcK g (OB A s (A.R s) ι) := fun ι => hIc.gw hZ (hgO ι) (fun y _ e => by rw [e, hIt.1]; omega)
  obtain ⟨f, hF1, hF2, hF3⟩ := hF
  have hs15 : d 15 ≠ s := hfs _ (Or.inr (Or.inl ⟨15, by decide, rfl⟩))
  refine r_aload_0 (pc := 0) C dX12_next_2_0 ?_
  refine r_getI (pc := 1) C fl_X12_32_12 hIt.1 rfl dX12_next_2_1 ?_
  refine r_top hIt.2.2.2.2.2 ?_
  refine r_if_eq (pc := 4) (tgt := 15) C dX12_next_2_4 (by decide) (fun b4 => ?_) (fun b4 => ?_)
  · skip
    have b4 := bI_0.mp b4
    refine r_aload_0 (pc := 15) C dX12_next_2_15 ?_
    refine r_getI (pc := 16) C fl_X12_29_12 hIt.1 rfl dX12_next_2_16 ?_
    refine r_top (hIt.2.2.2.2.1 hi) ?_
    refine r_istore_1 (pc := 19) C dX12_next_2_19 rfl ?_
    refine r_aload_0 (pc := 20) C dX12_next_2_20 ?_
    refine r_iload_1 (pc := 21) C dX12_next_2_21 ?_
    refine r_aload_0 (pc := 22) C dX12_next_2_22 ?_
    refine r_getR (pc := 23) C fl_X12_1_12 hIt.1 rfl hIt.2.2.1 dX12_next_2_23 ?_
    refine r_aload_0 (pc := 26) C dX12_next_2_26 ?_
    refine r_getR (pc := 27) C fl_X12_13_12 hIt.1 rfl hIt.2.1 dX12_next_2_27 ?_
    refine r_ngetI (pc := 30) C fn_X12_39_5 (ly_w hL hk).2 rfl dX12_next_2_30 ?_
    refine r_top ((hv.wk (v := 8) (by omega) (by omega) hk (by omega)).trans (hW.K hk).2.1.1) ?_
    refine r_V1io (pc := 33) C (l_cellOf hL hv hW hto.2) vl_X12_23 (ly_g hL) (by decide) (Nat.le_refl _) (Nat.le_refl _) (Nat.le_of_ble_eq_true rfl) rfl dX12_next_2_33 (fun u1 A1 hc1 => ?_)
    refine r_top hc1.1 ?_
    refine r_eqA hc1.2 ?_
    clear hc1 A1 u1
    refine r_icmp_ne (pc := 36) (tgt := 43) C dX12_next_2_36 (by decide) (fun b36 => ?_) (fun b36 => ?_)
    · skip
      have b36 := (not_congr (nI_eqI (by omega) (by omega))).mp b36
      have hil : i < wl σ k := by rcases Nat.lt_or_ge i (wl σ k) with q | q; exact q; exact absurd (by rw [show i = wl σ k by omega]; exact hwf.2.1) b36
      have hnb := wy_nb hW hk hd hil
      refine r_eqA (OB_self A s) ?_
      refine r_iconst (pc := 43) C dX12_next_2_43 ci_0 ?_
      refine r_putI (pc := 44) C fl_X12_32_12 (by exact hIt.1) rfl (fun _ _ _ h => by cases h; exact Or.inl rfl) rfl nar_0 fit_0 dX12_next_2_44 ?_
      refine r_eqA (OB_I _ _ _ _ _ _) ?_
      refine r_aload_0 (pc := 47) C dX12_next_2_47 ?_
      refine r_getI (pc := 48) C fl_X12_32_12 (by exact hIt.1) rfl dX12_next_2_48 ?_
      refine r_top ((congrFun (OB_i _ _ _ _) 2).trans pk_us) ?_
      refine r_if_ne (pc := 51) (tgt := 78) C dX12_next_2_51 (by decide) (fun b51 => ?_) (fun b51 => ?_)
      · exact absurd b51 (by decide +kernel)
      · skip
        refine r_aload_0 (pc := 54) C dX12_next_2_54 ?_
        refine r_aload_0 (pc := 55) C dX12_next_2_55 ?_
        refine r_getR (pc := 56) C fl_X12_1_12 (by exact hIt.1) rfl (by rw [OB_r]; exact hIt.2.2.1) dX12_next_2_56 ?_
        refine r_iload_1 (pc := 59) C dX12_next_2_59 ?_
        refine r_aload_0 (pc := 60) C dX12_next_2_60 ?_
        refine r_getR (pc := 61) C fl_X12_1_12 (by exact hIt.1) rfl (by rw [OB_r]; exact hIt.2.2.1) dX12_next_2_61 ?_
        refine r_aload_0 (pc := 64) C dX12_next_2_64 ?_
        refine r_getR (pc := 65) C fl_X12_13_12 (by exact hIt.1) rfl (by rw [OB_r]; exact hIt.2.1) dX12_next_2_65 ?_
        refine r_iload_1 (pc := 68) C dX12_next_2_68 ?_
        refine r_V2io (pc := 69) C (l_goesOn (hLO _) (hvO _) hW hC (f := f) hk hwi (fun j hj => by rw [OB_xI _ _ _ _ hs15]; exact hF1 j hj) hF2 hF3 (way_nf hW hC hJ.g hk hd hi) (wy_dist hW hk hd hi) b36) vl_X12_42 (ly_g (hLO _)) (by decide) (Nat.le_refl _) (Nat.le_refl _) (Nat.le_of_ble_eq_true rfl) rfl dX12_next_2_69 (fun u2 A2 hc2 => ?_)
        refine r_top hc2.1 ?_
        refine r_eqA hc2.2 ?_
        clear hc2 A2 u2
        refine r_V2io (pc := 72) C (l_next (hLO _) (hvO _) hW hwi hnb.1) vl_X12_46 (ly_g (hLO _)) (by decide) (Nat.le_refl _) (Nat.le_refl _) (Nat.le_of_ble_eq_true rfl) rfl dX12_next_2_72 (fun u3 A3 hc3 => ?_)
        refine r_top hc3.1 ?_
        refine r_eqA hc3.2 ?_
        clear hc3 A3 u3
        refine r_top ((congrArg oI hnb.2).trans rfl) ?_
        refine r_putI (pc := 75) C fl_X12_29_12 (by exact hIt.1) rfl (fun _ _ _ h => by cases h; exact Or.inl rfl) rfl rfl rfl dX12_next_2_75 ?_
        refine r_eqA (OB_I _ _ _ _ _ _) ?_
        refine r_iload_1 (pc := 78) C dX12_next_2_78 ?_
        refine r_S1ro (pc := 79) C (j_valueOf (hIO _) (by omega)) sl_X12_50 (by decide) (Nat.le_refl _) (Nat.le_refl _) (Nat.le_of_ble_eq_true rfl) rfl dX12_next_2_79 (fun u4 A4 hc4 => ?_)
        obtain ⟨hu1, hu2, eA4⟩ := hc4
        refine r_eqA eA4 ?_
        clear eA4 A4
        refine r_aret (pc := 82) C E rfl (Nat.le_refl _) (Nat.le_refl _) dX12_next_2_82 ?_
        refine ⟨hu1, hu2, ⟨hIt.1, by rw [OB_r]; exact hIt.2.1, by rw [OB_r]; exact hIt.2.2.1, by omega, fun hi2 => ?_, ?_⟩, hgO _⟩
        · first | (rw [OB_i, pk_us]; rfl) | (rw [OB_i, pk_us]) | (exfalso; omega)
        · first | (rw [OB_i, pk_un (by decide), pk_us]; exact bI_00 (by omega)) | (rw [OB_i, pk_us]; exact bI_1 (by omega))
    · skip
      have b36 := (nI_eqI (by omega) (by omega)).mp b36
      have hil : i = wl σ k := by rcases Nat.lt_or_ge i (wl σ k) with q | q; exact absurd b36 (hwf.2.2.1 i q); omega
      refine r_eqA (OB_self A s) ?_
      refine r_iconst (pc := 39) C dX12_next_2_39 ci_1 ?_
      refine r_goto (pc := 40) (tgt := 44) C dX12_next_2_40 (by decide) ?_
      refine r_putI (pc := 44) C fl_X12_32_12 (by exact hIt.1) rfl (fun _ _ _ h => by cases h; exact Or.inl rfl) rfl nar_1 fit_1 dX12_next_2_44 ?_
      refine r_eqA (OB_I _ _ _ _ _ _) ?_
      refine r_aload_0 (pc := 47) C dX12_next_2_47 ?_
      refine r_getI (pc := 48) C fl_X12_32_12 (by exact hIt.1) rfl dX12_next_2_48 ?_
      refine r_top ((congrFun (OB_i _ _ _ _) 2).trans pk_us) ?_
      refine r_if_ne (pc := 51) (tgt := 78) C dX12_next_2_51 (by decide) (fun b51 => ?_) (fun b51 => ?_)
      · skip
        refine r_iload_1 (pc := 78) C dX12_next_2_78 ?_
        refine r_S1ro (pc := 79) C (j_valueOf (hIO _) (by omega)) sl_X12_50 (by decide) (Nat.le_refl _) (Nat.le_refl _) (Nat.le_of_ble_eq_true rfl) rfl dX12_next_2_79 (fun u5 A5 hc5 => ?_)
        obtain ⟨hu1, hu2, eA5⟩ := hc5
        refine r_eqA eA5 ?_
        clear eA5 A5
        refine r_aret (pc := 82) C E rfl (Nat.le_refl _) (Nat.le_refl _) dX12_next_2_82 ?_
        refine ⟨hu1, hu2, ⟨hIt.1, by rw [OB_r]; exact hIt.2.1, by rw [OB_r]; exact hIt.2.2.1, by omega, fun hi2 => ?_, ?_⟩, hgO _⟩
        · first | (rw [OB_i, pk_us]; rfl) | (rw [OB_i, pk_us]) | (exfalso; omega)
        · first | (rw [OB_i, pk_un (by decide), pk_us]; exact bI_00 (by omega)) | (rw [OB_i, pk_us]; exact bI_1 (by omega))
      · exact absurd b51 (by decide +kernel)
  · skip
    have b4 := bI_n.mp b4
    exact absurd b4 (by omega)
set_option maxHeartbeats 4000000 in
theorem j_next {g : GZ} {A : HA} {a : Nat} {d : Nat → Nat} {σ : Rw} (hL : Ly A a d σ) (hv : Lv A.I a d σ) (hJ : RowJ σ) {s k i : Nat} (hk : k < rK σ) (hIt : It A s a d σ k i) (hIc : IcK g A) (hF : Far A d σ k) (hi : i ≤ wl σ k) : Ct g wR yX12_next (.code yX12_next cX12_next 1 (Option.some (Jvm.ClassFile.FieldType.object "java/lang/Object"))) 8 0 0 [.ref s] (A) (fun u A' => (A'.G u).1 = 17 ∧ A'.I u 0 = nI (wy σ k i) ∧ It A' s a d σ k (i + 1) ∧ Gw A A' (fun y => y = s)) fw_no := by
  refine Ct.of [some (.ref s)] (by decide) rfl rfl fun z C hx hnm E => ?_
  refine r_aload_0 (pc := 0) C dX12_next_0 ?_
  refine r_V0ro (pc := 1) C (j_next2 hL hv hJ hk hIt hIc hF hi) vl_X12_56 hIt.1 (by decide) (Nat.le_refl _) (Nat.le_refl _) (Nat.le_of_ble_eq_true rfl) rfl dX12_next_1 (fun u1 A1 hc1 => ?_)
  have hpost := hc1
  clear hc1
  generalize A1 = B at hpost ⊢
  generalize u1 = v at hpost ⊢
  refine r_aret (pc := 4) C E rfl (Nat.le_refl _) (Nat.le_refl _) dX12_next_4 ?_
  exact hpost
set_option maxHeartbeats 4000000 in
theorem j_X12_init {g : GZ} {A : HA} {a : Nat} {d : Nat → Nat} {σ : Rw} (hL : Ly A a d σ) (hv : Lv A.I a d σ) (hJ : RowJ σ) {s k : Nat} (hk : k < rK σ) (hs : (A.G s).1 = 12) (h0 : A.I s 2 = nI 0) : Ct g wV yX12_init (.code yX12_init cX12_init 3 (Option.none : Option Jvm.ClassFile.FieldType)) 7 0 0 [.ref s, .ref a, .ref (d (30 + k))] (A) (fun u A' => It A' s a d σ k 0 ∧ Gw A A' (fun y => y = s)) fw_no := by
  refine Ct.of [some (.ref s), some (.ref a), some (.ref (d (30 + k)))] (by decide) rfl rfl fun z C hx hnm E => ?_
  have hW := hJ.w
  have hS := hW.s
  have hw3 := hS.w3
  have hw10 := hS.w10
  have hh8 := hS.h8
  have hc80 := hS.c80
  have k6 := hW.k6
  have g6 := hW.g6
  have hfr := (hW.K hk).1
  refine r_Z fun hZ => ?_
  have hfs : ∀ y, Fp a d (rK σ) (rG σ) y → ¬ y = s := fun y hy e => by have h1 := fp_k hL hy; rw [e, hs] at h1; omega
  have hvO : ∀ ρ ι, Lv (OB A s ρ ι).I a d σ := fun ρ ι => lv_gw hZ hL hv (gw_OB _ _ _ _ (X := fun y => y = s) (fun _ => rfl)) hfs
  have hLO : ∀ ρ ι, Ly (OB A s ρ ι) a d σ := fun ρ ι => ly_gw hZ hL (gw_OB _ _ _ _ (X := fun y => y = s) (fun _ => rfl)) hfs
  refine r_aload_0 (pc := 0) C dX12_init_0 ?_
  refine r_aload_1 (pc := 1) C dX12_init_1 ?_
  refine r_eqA (OB_self A s) ?_
  refine r_putR (pc := 2) C fl_X12_1_12 (by exact hs) rfl (fun _ _ _ h => by cases h; exact Or.inr ⟨rfl, hnm⟩) rfl dX12_init_2 ?_
  refine r_eqA (OB_R _ _ _ _ _ _) ?_
  refine r_aload_0 (pc := 5) C dX12_init_5 ?_
  refine r_objInit (pc := 6) C q1063 q199 q200 rfl (Nat.le_of_ble_eq_true rfl) (by decide) dX12_init_6 ?_
  refine r_aload_0 (pc := 9) C dX12_init_9 ?_
  refine r_aload_2 (pc := 10) C dX12_init_10 ?_
  refine r_putR (pc := 11) C fl_X12_13_12 (by exact hs) rfl (fun _ _ _ h => by cases h; exact Or.inr ⟨rfl, hnm⟩) rfl dX12_init_11 ?_
  refine r_eqA (OB_R _ _ _ _ _ _) ?_
  refine r_aload_0 (pc := 14) C dX12_init_14 ?_
  refine r_aload_1 (pc := 15) C dX12_init_15 ?_
  refine r_aload_2 (pc := 16) C dX12_init_16 ?_
  refine r_ngetI (pc := 17) C fn_X12_17_5 (ly_w (hLO _ _) hk).2 rfl dX12_init_17 ?_
  refine r_top (((hvO _ _).wk (v := 7) (by omega) (by omega) hk (by omega)).trans (hW.K hk).1.1) ?_
  refine r_V1io (pc := 20) C (l_cellOf (hLO _ _) (hvO _ _) hW hfr.2) vl_X12_23 (ly_g (hLO _ _)) (by decide) (Nat.le_refl _) (Nat.le_refl _) (Nat.le_of_ble_eq_true rfl) rfl dX12_init_20 (fun u1 A1 hc1 => ?_)
  refine r_top hc1.1 ?_
  refine r_eqA hc1.2 ?_
  clear hc1 A1 u1
  refine r_putI (pc := 23) C fl_X12_29_12 (by exact hs) rfl (fun _ _ _ h => by cases h; exact Or.inl rfl) rfl rfl rfl dX12_init_23 ?_
  refine r_eqA (OB_I _ _ _ _ _ _) ?_
  refine r_vret (pc := 26) C E (Nat.le_refl _) (Nat.le_refl _) dX12_init_26 ?_
  refine ⟨⟨hs, by rw [OB_r]; rfl, by rw [OB_r]; rfl, Nat.zero_le _, fun _ => by rw [OB_i, pk_us]; rfl, ?_⟩, gw_OB _ _ _ _ (fun _ => rfl)⟩
  rw [OB_i, pk_un (by decide), h0]; exact bI_00 (by omega)
