/-! THE COMPONENT, 36: a text is read -/
set_option maxRecDepth 100000
/-- the component's text: its buffer -/
def TxC (A : HA) (c bf L : Nat) (B : Nat → Nat) : Prop := A.R c 3 = some bf ∧ (A.G bf).1 = 201 ∧ A.n bf = 900 ∧ A.I c 4 = nI L ∧ (∀ k, k < L → A.I bf k = sgB (B k) ∧ B k ≤ 255) ∧ L ≤ 900
theorem TxC.gw {A D : HA} {c bf L : Nat} {B : Nat → Nat} {X : Nat → Prop} (h : TxC A c bf L B) (hz : Zk A) (hc : (A.G c).1 = 1) (hw : Gw A D X) (h1 : ¬ X c) (h2 : ¬ X bf) : TxC D c bf L B := by
  obtain ⟨a1, a2, a3, a4, a5, a6⟩ := h
  have lc := hz.lt hc rfl
  have lb := hz.lt a2 rfl
  have ec := (hw.2 c lc).2.2 h1
  have eb := hw.2 bf lb
  have eb2 := eb.2.2 h2
  exact ⟨by rw [ec.2.2]; exact a1, by rw [eb.1]; exact a2, by rw [eb.2.1]; exact a3, by rw [ec.2.1]; exact a4, by rw [eb2.2.1]; exact a5, a6⟩
theorem rd_mk {A : HA} : ((A.mk 7 0 0).G A.z).1 = 7 ∧ (A.mk 7 0 0).I A.z 1 = nI 0 ∧ Gw A (A.mk 7 0 0) Non := ⟨by rw [mk_G, if_pos rfl], by rw [mk_I, if_pos rfl]; rfl, gw_mk⟩
theorem c_gw {A D : HA} {c : Nat} {X : Nat → Prop} (hz : Zk A) (hc : (A.G c).1 = 1) (hw : Gw A D X) (h : ¬ X c) : (D.G c).1 = 1 ∧ D.I c = A.I c ∧ D.R c = A.R c := by
  have lc := hz.lt hc rfl
  exact ⟨by rw [(hw.2 c lc).1]; exact hc, ((hw.2 c lc).2.2 h).2.1, ((hw.2 c lc).2.2 h).2.2⟩
theorem LwB.z0m {g : GZ} {A : HA} {z0 z1 l : Nat} {d : Nat → Nat} {σ : Rw} (h : LwB g A z1 l d σ) (e : z0 ≤ z1) : LwB g A z0 l d σ := ⟨h.1, h.2.1, fun y hy => (h.2.2 y hy).imp (fun q => Nat.le_trans e q) id⟩
theorem r_athrowC {g : GZ} {z : ZX} {cc : ByteArray} {own : String} {nL d mc ms k n : Nat} {A : HA} {pc : Nat} {lv : List (Option Value)} {st : List Value} (C : CX g z cc own nL d mc ms) {q : Nat} (hd : decode cc pc = .ok (.athrow, 1)) {En : String} (pre : List ExceptionTableEntry) (x : ExceptionTableEntry) (suf : List ExceptionTableEntry) (hsplit : z.c.exceptionTable.toList = pre ++ x :: suf) (hpass : ∀ y ∈ pre, covers y pc = false) (hx : covers x pc = true) (h0 : x.catchType = 0)
    (he : fw_ex (A.G q).1 = some En) (kk : wa g z k n A x.handlerPc lv [.ref q]) : wa g z k n A pc lv (.ref q :: st) := r_athrow C hd (r_catchAny C pre x suf hsplit hpass hx h0 he kk)
theorem NF7 : ∀ j, fw_ty 7 j ≠ .float ∧ fw_ty 7 j ≠ .double := by
  intro j
  show tyX7 j ≠ .float ∧ tyX7 j ≠ .double
  unfold tyX7
  split <;> exact ⟨fun h => (by cases h), fun h => (by cases h)⟩
theorem NF10 : ∀ j, fw_ty 10 j ≠ .float ∧ fw_ty 10 j ≠ .double := by
  intro j
  show tyX10 j ≠ .float ∧ tyX10 j ≠ .double
  unfold tyX10
  split <;> exact ⟨fun h => (by cases h), fun h => (by cases h)⟩
theorem c_qe {A D : HA} {c q e : Nat} (hw : Gw A D (fun y => y = q ∨ y = e)) (lc : c < A.z) (hc : (A.G c).1 = 1) (h1 : c ≠ q) (h2 : c ≠ e) : (D.G c).1 = 1 ∧ D.I c = A.I c ∧ D.R c = A.R c := by
  have h := (hw.2 c lc).2.2 (fun z => z.elim h1 h2)
  exact ⟨by rw [(hw.2 c lc).1]; exact hc, h.2.1, h.2.2⟩
theorem not_own {g : GZ} {A F : HA} {c q e h m z1 l y : Nat} {f d : Nat → Nat} {σ : Rw} {X : Nat → Prop} (hz : Zk A) (hDE : DeK g A) (hG : Gw A F X) (hB : LwB g F z1 l d σ) (h1 : A.z ≤ z1) (hc : (A.G c).1 = 1) (hs : DqV A q e h m f) (hy : Fp l d (rK σ) (rG σ) y) (hx : y = c ∨ y = q ∨ y = e) : False := by
  have lc := hz.lt hc rfl
  have lq := hz.lt hs.g rfl
  have le := hz.lt hs.k rfl
  have h70 := hDE.2.1
  rcases hB.2.2 y hy with p | p
  · omega
  · rcases hx with e1 | e1 | e1
    · rw [← p, e1, hc] at h70; cases h70
    · rw [← p, e1, hs.g] at h70; cases h70
    · rw [← p, e1, hs.k] at h70; cases h70
set_option maxHeartbeats 4000000 in
theorem c_readText {g : GZ} {A : HA} {c bf L : Nat} {B : Nat → Nat} (hc : (A.G c).1 = 1) (hX : TxC A c bf L B) (hz : zS g) (hT : TkC g) (hDs : DsC g) (hDE : DeK g A) {pq pe h m : Nat} {f : Nat → Nat} (hp : A.R c 2 = some pq) (hs : DqV A pq pe h m f) {σt : Rw} {w : Nat}  : Ct g wI yX1_readText (.codeWith yX1_readText cX1_readText 4 (Option.some Jvm.ClassFile.FieldType.int) [(0, 12, 20, 149), (0, 12, 27, 0), (20, 28, 27, 0)]) 26 (38 * L + 140) (170 * L + 1700) [.ref c] (A) (fun u A' => (rdT σt B L w).2.e = 0 ∧ (∃ l d', A'.R c = va_up (A.R c) 0 (some l) ∧ LwB g A' A.z l d' (rdT σt B L w).1 ∧ A.z ≤ l) ∧ Dj (rdT σt B L w).1 ∧ u = (rdT σt B L w).1 1 ∧ A'.I c = upd (upd (upd (A.I c) 4 (nI 0)) 5 (nI 0)) 6 (-1) ∧ DqV A' pq pe 0 0 f ∧ Gw A A' (fun y => y = c ∨ y = pq ∨ y = pe)) (fun q A' => ¬ (rdT σt B L w).2.e = 0 ∧ (A'.G q).1 = 19 ∧ A'.I c = upd (upd (upd (A.I c) 5 (nI (rdT σt B L w).2.e)) 6 (rdT σt B L w).2.p) 4 (nI 0) ∧ A'.R c = A.R c ∧ Gw A A' (fun y => y = c)) := by
  refine Ct.ofH [some (.ref c), none, none, none] (by decide) rfl rfl fun z C hx hnm E => ?_
  refine r_Z fun hZ => ?_
  have lc := hZ.lt hc rfl
  have hL9 := hX.2.2.2.2.2
  have hn0 := nxE_le (B := B) (L := L) (a := 0) (Nat.zero_le _)
  have hR0 : (rdT σt B L w) = rdL B L (L + 2) (lawnW (zeR σt 553) B L (0, 0, w, 0, -1)) (lawnS B L (0, 0, w, 0, -1)) true := rfl
  have hm9 : nxE B L (TS.a (0, 0, w, 0, -1)) = nxE B L 0 := rfl
  have lq := hZ.lt hs.g rfl
  have le := hZ.lt hs.k rfl
  refine r_new (pc := 0) C (0) (Nat.zero_le _) nl_X1_156 NF7 (by omega) (by omega) dX1_readText_0 ?_
  have hU := rd_mk (A := A)
  obtain ⟨hcU, -, -⟩ := c_gw hZ hc hU.2.2 (fun q => q)
  have hXU := hX.gw hZ hc hU.2.2 (fun q => q) (fun q => q)
  refine r_dup (pc := 3) C dX1_readText_3 rfl ?_
  refine r_aload_0 (pc := 4) C dX1_readText_4 ?_
  refine r_IN1v (pc := 5) C (t_init hU.1 hU.2.1 hcU (hXU).1 hXU.2.1 hXU.2.2.1 hXU.2.2.2.1 hXU.2.2.2.2.1 hXU.2.2.2.2.2 hz hT) inl_X1_158 (by decide) (by omega) (by omega) (Nat.le_of_ble_eq_true rfl) rfl dX1_readText_5 (fun u1 A1 hc1 => ?_)
  obtain ⟨hR1, hG1, -⟩ := hc1
  generalize A1 = D at hR1 hG1 ⊢
  have hG19 : Gw A D Non := hU.2.2.tr2 hG1 (fun y hy e => by omega)
  have hDED := hDE.gw hZ hG19
  refine r_V0rx (pc := 8) C (t_description (s0 := (0, 0, w, 0, -1)) rfl hR1 hT (Nat.zero_le _) hz hDs hDED (zeR_z σt) (fu0 := L + 2) (Nat.le_of_eq rfl)) vl_X1_161 hR1.r7 (by decide) (by omega) (by omega) (Nat.le_of_ble_eq_true rfl) rfl dX1_readText_8 ?_ (fun u2 A2 hc2 => ?_)
  · intro q9 A9 hp9 hE9
    obtain ⟨hE9, hU9⟩ := hp9
    rw [← hR0] at hE9 hU9
    have hG9 : Gw A A9 Non := hG19.tr2 hU9.2.2.2 (fun y hy e => by omega)
    obtain ⟨hc9, hI9, hR9⟩ := c_gw hZ hc hG9 (fun q => q)
    have lc9 := Nat.lt_of_lt_of_le lc hG9.1
    refine r_catch C [] ⟨0, 12, 20, 149⟩ [⟨0, 12, 27, 0⟩, ⟨20, 28, 27, 0⟩] (hx.trans rfl) (fun _ h => nomatch h) (by decide) (by decide) q1460 q1531 ((congrArg fw_ex hU9.1).trans rfl) ?_
    refine r_astore_2 (pc := 20) C dX1_readText_20 rfl ?_
    refine r_aload_0 (pc := 21) C dX1_readText_21 ?_
    refine r_aload_2 (pc := 22) C dX1_readText_22 ?_
    refine r_V1r (pc := 23) C (c_failed hc9 hU9.1 hU9.2.1 hU9.2.2.1) vl_X1_164 (by exact hc9) (by decide) (by omega) (by omega) (Nat.le_of_ble_eq_true rfl) rfl dX1_readText_23 (fun u3 A3 hc3 => ?_)
    obtain ⟨-, g19, i19, r19, w19⟩ := hc3
    generalize A3 = Q at g19 i19 r19 w19 ⊢
    generalize u3 = qf at g19 ⊢
    have hcQ : (Q.G c).1 = 1 := by rw [(w19.2 c lc9).1]; exact hc9
    refine r_athrowC (pc := 26) C dX1_readText_26 [⟨0, 12, 20, 149⟩, ⟨0, 12, 27, 0⟩] ⟨20, 28, 27, 0⟩ [] (hx.trans rfl) (by decide) (by decide) rfl ((congrArg fw_ex g19).trans rfl) ?_
    refine r_astore_3 (pc := 27) C dX1_readText_27 rfl ?_
    refine r_aload_0 (pc := 28) C dX1_readText_28 ?_
    refine r_iconst (pc := 29) C dX1_readText_29 ci_0 ?_
    refine r_putI (pc := 30) C fl_X1_104_1 (by exact hcQ) rfl (fun _ _ _ h => by cases h; exact Or.inl rfl) rfl rfl rfl dX1_readText_30 ?_
    refine r_aload_3 (pc := 33) C dX1_readText_33 ?_
    refine r_athrow (pc := 34) C dX1_readText_34 ?_
    refine r_out C E (by rw [hx.trans rfl]; decide) (En := RJ18) ((congrArg fw_ex (show (Q.G qf).1 = 19 from g19)).trans rfl) (by omega) (by omega) ⟨hE9, g19, ?_, ?_, (hG9.mono (fun _ _ q => q.elim)).tr (w19.tr (gw_sI (fun _ => rfl)))⟩
    · rw [sI_s, i19, hI9]
    · exact r19.trans hR9
  obtain ⟨hE0, ⟨d1, hB1⟩, hDj, hz1, hG2⟩ := hc2
  rw [← hR0] at hE0 hB1 hDj
  generalize A2 = F at hB1 hG2 ⊢
  generalize u2 = l at hB1 hz1 ⊢
  have hGF : Gw A F Non := hG19.tr2 hG2 (fun y hy e => by omega)
  obtain ⟨hcF, hIF, hRF⟩ := c_gw hZ hc hGF (fun q => q)
  have hsF := hs.gw hZ hGF (fun q => q) (fun q => q)
  have hpF : F.R c 2 = some pq := by rw [hRF]; exact hp
  refine r_Z (A := F) fun hZF => ?_
  refine r_astore_1 (pc := 11) C dX1_readText_11 rfl ?_
  refine r_aload_0 (pc := 12) C dX1_readText_12 ?_
  refine r_iconst (pc := 13) C dX1_readText_13 ci_0 ?_
  refine r_putI (pc := 14) C fl_X1_104_1 (by exact hcF) rfl (fun _ _ _ h => by cases h; exact Or.inl rfl) rfl rfl rfl dX1_readText_14 ?_
  refine r_goto (pc := 17) (tgt := 35) C dX1_readText_17 (by decide) ?_
  refine r_aload_0 (pc := 35) C dX1_readText_35 ?_
  refine r_V0vo (pc := 36) C (c_noError (by exact hcF)) vl_X1_168 (by exact hcF) (by decide) (by omega) (by omega) (Nat.le_of_ble_eq_true rfl) rfl dX1_readText_36 (fun u4 A4 hc4 => ?_)
  refine r_eqA hc4 ?_
  clear hc4 A4 u4
  refine r_aload_0 (pc := 39) C dX1_readText_39 ?_
  refine r_aload_1 (pc := 40) C dX1_readText_40 ?_
  refine r_putR (pc := 41) C fl_X1_24_1 (by exact hcF) rfl (fun _ _ _ h => by cases h; exact Or.inl rfl) rfl dX1_readText_41 ?_
  refine r_genA fun V hV => ?_
  have hGV : Gw F V (fun y => y = c) := by rw [hV]; exact ((gw_sI (X := fun y => y = c) (fun _ => rfl)).tr (gw_sI (X := fun y => y = c) (fun _ => rfl))).tr (gw_sR (X := fun y => y = c) (fun _ => rfl))
  have hIV : V.I c = upd (upd (upd (A.I c) 4 (nI 0)) 5 (nI 0)) 6 (-1) := by rw [hV, ← hIF]; simp only [sI_s, sI_sI]; show (HA.sI _ _ _).I c = _; rw [sI_s]
  have hRV : V.R c = va_up (A.R c) 0 (some l) := by rw [hV, ← hRF]; rw [sR_s]; rfl
  clear hV
  have hcV : (V.G c).1 = 1 := by rw [(hGV.2 c (Nat.lt_of_lt_of_le lc hGF.1)).1]; exact hcF
  have hsV := hsF.gw hZF hGV (fun e => by have h9 := hs.g; rw [e, hc] at h9; cases h9) (fun e => by have h9 := hs.k; rw [e, hc] at h9; cases h9)
  have hpV : V.R c 2 = some pq := by rw [hRV]; simp [va_up]; exact hp
  refine r_aload_0 (pc := 44) C dX1_readText_44 ?_
  refine r_getR (pc := 45) C fl_X1_31_1 (by exact hcV) rfl hpV dX1_readText_45 ?_
  refine r_V0vo (pc := 48) C (j_J7_clear hsV) vl_X1_171 hsV.g (by decide) (by omega) (by omega) (Nat.le_of_ble_eq_true rfl) rfl dX1_readText_48 (fun u5 A5 hc5 => ?_)
  obtain ⟨hsY, hGY, hzY⟩ := hc5
  generalize A5 = Y at hsY hGY hzY ⊢
  have hGY2 : Gw F Y (fun y => y = c ∨ y = pq ∨ y = pe) := (hGV.mono (fun _ _ q => Or.inl q)).tr (hGY.mono (fun _ _ q => Or.inr q))
  have hB2 := (hB1.z0m (Nat.le_trans hG19.1 (Nat.le_refl _))).mv hZF hGY2 (fun y hy e => not_own hZ hDE hGF hB1 hG19.1 hc hs hy e) (StP.gw hZF hGY2 (fun y e => by rcases e with e | e | e <;> rw [e]; (rw [hcF]; exact ⟨by decide, by decide⟩); (rw [hsF.g]; exact ⟨by decide, by decide⟩); (rw [hsF.k]; exact ⟨by decide, by decide⟩)))
  obtain ⟨hcY, hIY, hRY⟩ : (Y.G c).1 = 1 ∧ Y.I c = V.I c ∧ Y.R c = V.R c := c_qe hGY (Nat.lt_of_lt_of_le lc (Nat.le_trans hGF.1 hGV.1)) hcV (fun e => by have h9 := hs.g; rw [← e, hc] at h9; cases h9) (fun e => by have h9 := hs.k; rw [← e, hc] at h9; cases h9)
  refine r_aload_1 (pc := 51) C dX1_readText_51 ?_
  refine r_ngetR (pc := 52) C fn_X1_69_2 (by exact ly_g hB2.L) rfl (by exact ly_r12 hB2.L) dX1_readText_52 ?_
  refine r_V0io (pc := 55) C (j_X3_size (ly_g12 hB2.L) (ly_r20 hB2.L) (ly_g20 hB2.L) (hB2.v.nk.trans ((pk_un (by decide)).trans hDj.1.w.k))) vl_X1_174 (by exact ly_g12 hB2.L) (by decide) (by omega) (by omega) (Nat.le_of_ble_eq_true rfl) rfl dX1_readText_55 (fun u6 A6 hc6 => ?_)
  refine r_top hc6.1 ?_
  refine r_eqA hc6.2 ?_
  clear hc6 A6 u6
  refine r_iret (pc := 58) C E rfl (by omega) (by omega) dX1_readText_58 ?_
  refine ⟨hE0, ⟨l, d1, by rw [hRY]; exact hRV, hB2, Nat.le_trans hG19.1 hz1⟩, hDj, ?_, by rw [hIY]; exact hIV, hsY, (hGF.mono (fun _ _ q => q.elim)).tr hGY2⟩
  exact hDj.1.w.k.symm
