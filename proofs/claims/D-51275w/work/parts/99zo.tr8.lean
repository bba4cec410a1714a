/-! THE COMPONENT, 24: the reader, made -/
set_option maxRecDepth 100000
set_option maxHeartbeats 4000000 in
theorem t_init {g : GZ} {A : HA} {r c bf L : Nat} {B : Nat → Nat} (h7 : (A.G r).1 = 7) (h1 : A.I r 1 = nI 0) (hc : (A.G c).1 = 1) (hb : A.R c 3 = some bf) (hbk : (A.G bf).1 = 201) (hbn : A.n bf = 900) (hlL : A.I c 4 = nI L) (hB : ∀ k, k < L → A.I bf k = sgB (B k) ∧ B k ≤ 255) (h9 : L ≤ 900) (hz : zS g) (hT : TkC g)  : Ct g wV yX7_init (.code yX7_init cX7_init 2 (Option.none : Option Jvm.ClassFile.FieldType)) 12 (30 * nxE B L 0) (120 * nxE B L 0) [.ref r, .ref c] (A) (fun u A' => RdT g A' r c bf L B 0 ∧ Gw A A' (fun y => y = r) ∧ WdN g A A' r) fw_no := by
  refine Ct.of [some (.ref r), some (.ref c)] (by decide) rfl rfl fun z C hx hnm E => ?_
  have ncr : c ≠ r := fun e => by rw [e, h7] at hc; cases hc
  have nbr : bf ≠ r := fun e => by rw [e, h7] at hbk; cases hbk
  have hR1 : (A.sR r (va_up (A.R r) 6 (some c))).R r 6 = some c := by rw [sR_s]; rfl
  refine r_aload_0 (pc := 0) C dX7_init_0 ?_
  refine r_aload_1 (pc := 1) C dX7_init_1 ?_
  refine r_putR (pc := 2) C fl_X7_3_7 h7 rfl (fun _ _ _ h => by cases h; exact Or.inr ⟨rfl, hnm⟩) rfl dX7_init_2 ?_
  refine r_aload_0 (pc := 5) C dX7_init_5 ?_
  refine r_objInit (pc := 6) C q1466 q199 q200 rfl (Nat.le_of_ble_eq_true rfl) (by decide) dX7_init_6 ?_
  refine r_aload_0 (pc := 9) C dX7_init_9 ?_
  refine r_aload_0 (pc := 10) C dX7_init_10 ?_
  refine r_getR (pc := 11) C fl_X7_3_7 (by exact h7) rfl hR1 dX7_init_11 ?_
  refine r_ngetI (pc := 14) C fn_X7_15_1 (by exact hc) rfl dX7_init_14 ?_
  refine r_top hlL ?_
  refine r_putI (pc := 17) C fl_X7_19_7 (by exact h7) rfl (fun _ _ _ h => by cases h; exact Or.inr ⟨rfl, hnm⟩) rfl rfl rfl dX7_init_17 ?_
  refine r_aload_0 (pc := 20) C dX7_init_20 ?_
  refine r_ldcS (pc := 21) C hT.2.2 dX7_init_21 ?_
  refine r_putR (pc := 23) C fl_X7_24_7 (by exact h7) rfl (fun _ _ _ h => by cases h; exact Or.inl rfl) rfl dX7_init_23 ?_
  have hsF : RdS (((A.sR r (va_up (A.R r) 6 (some c))).sI r (upd ((A.sR r (va_up (A.R r) 6 (some c))).I r) 0 (nI L))).sR r (va_up (((A.sR r (va_up (A.R r) 6 (some c))).sI r (upd ((A.sR r (va_up (A.R r) 6 (some c))).I r) 0 (nI L))).R r) 4 (some (g.c 67)))) r c bf L B (nI 0) ((((A.sR r (va_up (A.R r) 6 (some c))).sI r (upd ((A.sR r (va_up (A.R r) 6 (some c))).I r) 0 (nI L))).sR r (va_up (((A.sR r (va_up (A.R r) 6 (some c))).sI r (upd ((A.sR r (va_up (A.R r) 6 (some c))).I r) 0 (nI L))).R r) 4 (some (g.c 67)))).I r 2) ((((A.sR r (va_up (A.R r) 6 (some c))).sI r (upd ((A.sR r (va_up (A.R r) 6 (some c))).I r) 0 (nI L))).sR r (va_up (((A.sR r (va_up (A.R r) 6 (some c))).sI r (upd ((A.sR r (va_up (A.R r) 6 (some c))).I r) 0 (nI L))).R r) 4 (some (g.c 67)))).I r 3) (some (g.c 67)) ((((A.sR r (va_up (A.R r) 6 (some c))).sI r (upd ((A.sR r (va_up (A.R r) 6 (some c))).I r) 0 (nI L))).sR r (va_up (((A.sR r (va_up (A.R r) 6 (some c))).sI r (upd ((A.sR r (va_up (A.R r) 6 (some c))).I r) 0 (nI L))).R r) 4 (some (g.c 67)))).R r 5) := ⟨⟨h7, by rw [sR_s]; exact hR1, by show ((A.sR r (va_up (A.R r) 6 (some c))).sI r (upd ((A.sR r (va_up (A.R r) 6 (some c))).I r) 0 (nI L))).I r 0 = _; rw [sI_s, pk_us]⟩, ⟨hc, by rw [sR_o _ _ ncr]; show (A.sR r (va_up (A.R r) 6 (some c))).R c 3 = _; rw [sR_o _ _ ncr]; exact hb, hbk, hbn⟩, ⟨h9, fun k hk => by show ((A.sR r (va_up (A.R r) 6 (some c))).sI r (upd ((A.sR r (va_up (A.R r) 6 (some c))).I r) 0 (nI L))).I bf k = _ ∧ _; rw [sI_o _ _ nbr]; exact hB k hk⟩, ⟨by show ((A.sR r (va_up (A.R r) 6 (some c))).sI r (upd ((A.sR r (va_up (A.R r) 6 (some c))).I r) 0 (nI L))).I r 1 = _; rw [sI_s, pk_un (by decide)]; exact h1, rfl, rfl⟩, by rw [sR_s]; rfl, rfl⟩
  have hGF : Gw A (((A.sR r (va_up (A.R r) 6 (some c))).sI r (upd ((A.sR r (va_up (A.R r) 6 (some c))).I r) 0 (nI L))).sR r (va_up (((A.sR r (va_up (A.R r) 6 (some c))).sI r (upd ((A.sR r (va_up (A.R r) 6 (some c))).I r) 0 (nI L))).R r) 4 (some (g.c 67)))) (fun y => y = r) := ((gw_sR (X := fun y => y = r) (fun _ => rfl)).tr (gw_sI (X := fun y => y = r) (fun _ => rfl))).tr (gw_sR (X := fun y => y = r) (fun _ => rfl))
  generalize (((A.sR r (va_up (A.R r) 6 (some c))).sI r (upd ((A.sR r (va_up (A.R r) 6 (some c))).I r) 0 (nI L))).sR r (va_up (((A.sR r (va_up (A.R r) 6 (some c))).sI r (upd ((A.sR r (va_up (A.R r) 6 (some c))).I r) 0 (nI L))).R r) 4 (some (g.c 67)))) = F at hsF hGF ⊢
  generalize F.I r 2 = i2 at hsF
  generalize F.I r 3 = i3 at hsF
  generalize F.R r 5 = r5 at hsF
  refine r_aload_0 (pc := 26) C dX7_init_26 ?_
  refine r_V0v (pc := 27) C (t_next (a := 0) hsF hz hT (Nat.zero_le _)) vl_X7_28 hsF.1.1 (by decide) (by first | omega | (show 0 + 30 * (tkE B L (skp B L 0) - 0) ≤ 30 * tkE B L (skp B L 0); omega)) (by first | omega | (show 0 + 120 * (tkE B L (skp B L 0) - 0) ≤ 120 * tkE B L (skp B L 0); omega)) (Nat.le_of_ble_eq_true rfl) rfl dX7_init_27 (fun u1 A1 hc1 => ?_)
  obtain ⟨hR2, hGw, w9, hw8, hw9⟩ := hc1
  refine r_vret (pc := 30) C E (by show 0 + 30 * (tkE B L (skp B L 0) - 0) ≤ 30 * tkE B L (skp B L 0); omega) (by show 0 + 120 * (tkE B L (skp B L 0) - 0) ≤ 120 * tkE B L (skp B L 0); omega) dX7_init_30 ?_
  exact ⟨hR2, hGF.tr hGw, w9, hw8, hw9.imp id (fun q => Nat.le_trans hGF.1 q)⟩
