/-! THE COMPONENT, 23: errors told -/
set_option maxRecDepth 100000
set_option maxHeartbeats 4000000 in
theorem c_noError {g : GZ} {A : HA} {c : Nat} (hc : (A.G c).1 = 1)  : Ct g wV yX1_noError (.code yX1_noError cX1_noError 1 (Option.none : Option Jvm.ClassFile.FieldType)) 1 0 0 [.ref c] (A) (fun u A' => A' = A.sI c (upd (upd (A.I c) 5 (nI 0)) 6 (-1))) fw_no := by
  refine Ct.of [some (.ref c)] (by decide) rfl rfl fun z C hx hnm E => ?_
  refine r_aload_0 (pc := 0) C dX1_noError_0 ?_
  refine r_iconst (pc := 1) C dX1_noError_1 ci_0 ?_
  refine r_putI (pc := 2) C fl_X1_145_1 (by exact hc) rfl (fun _ _ _ h => by cases h; exact Or.inl rfl) rfl rfl rfl dX1_noError_2 ?_
  refine r_aload_0 (pc := 5) C dX1_noError_5 ?_
  refine r_iconst (pc := 6) C dX1_noError_6 ci_m1 ?_
  refine r_putI (pc := 7) C fl_X1_39_1 (by exact hc) rfl (fun _ _ _ h => by cases h; exact Or.inl rfl) rfl rfl rfl dX1_noError_7 ?_
  refine r_eqA (show _ = A.sI c (upd (upd (A.I c) 5 (nI 0)) 6 (-1)) by rw [sI_sI, sI_s]) ?_
  refine r_vret (pc := 10) C E (by omega) (by omega) dX1_noError_10 ?_
  exact rfl
set_option maxHeartbeats 4000000 in
theorem c_failed {g : GZ} {A : HA} {c q : Nat} {e p : Int32} (hc : (A.G c).1 = 1) (hq : (A.G q).1 = 8) (h6 : A.I q 6 = e) (h7 : A.I q 7 = p)  : Ct g wR yX1_failed (.code yX1_failed cX1_failed 2 (Option.some (Jvm.ClassFile.FieldType.object "java/lang/IllegalArgumentException"))) 8 1 6 [.ref c, .ref q] (A) (fun u A' => u = A.z ∧ (A'.G u).1 = 19 ∧ A'.I c = upd (upd (A.I c) 5 e) 6 p ∧ A'.R c = A.R c ∧ Gw A A' (fun y => y = c)) fw_no := by
  refine Ct.of [some (.ref c), some (.ref q)] (by decide) rfl rfl fun z C hx hnm E => ?_
  refine r_Z fun hZ => ?_
  have lc := hZ.lt hc rfl
  have nqc : q ≠ c := fun e => by rw [e, hc] at hq; cases hq
  have hI7 : (A.sI c (upd (A.I c) 5 e)).I q 7 = p := by rw [sI_o _ _ nqc]; exact h7
  refine r_aload_0 (pc := 0) C dX1_failed_0 ?_
  refine r_aload_1 (pc := 1) C dX1_failed_1 ?_
  refine r_ngetI (pc := 2) C fn_X1_148_8 (by exact hq) rfl dX1_failed_2 ?_
  refine r_top h6 ?_
  refine r_putI (pc := 5) C fl_X1_145_1 (by exact hc) rfl (fun _ _ _ h => by cases h; exact Or.inl rfl) rfl rfl rfl dX1_failed_5 ?_
  refine r_aload_0 (pc := 8) C dX1_failed_8 ?_
  refine r_aload_1 (pc := 9) C dX1_failed_9 ?_
  refine r_ngetI (pc := 10) C fn_X1_153_8 (by exact hq) rfl dX1_failed_10 ?_
  refine r_top hI7 ?_
  refine r_putI (pc := 13) C fl_X1_39_1 (by exact hc) rfl (fun _ _ _ h => by cases h; exact Or.inl rfl) rfl rfl rfl dX1_failed_13 ?_
  have hGw : Gw A ((A.sI c (upd (A.I c) 5 e)).sI c (upd ((A.sI c (upd (A.I c) 5 e)).I c) 6 p)) (fun y => y = c) := (gw_sI (X := fun y => y = c) (fun _ => rfl)).tr (gw_sI (fun _ => rfl))
  have hIc : ((A.sI c (upd (A.I c) 5 e)).sI c (upd ((A.sI c (upd (A.I c) 5 e)).I c) 6 p)).I c = upd (upd (A.I c) 5 e) 6 p := by rw [sI_s, sI_s]
  have hRc : ((A.sI c (upd (A.I c) 5 e)).sI c (upd ((A.sI c (upd (A.I c) 5 e)).I c) 6 p)).R c = A.R c := rfl
  have hzc : ((A.sI c (upd (A.I c) 5 e)).sI c (upd ((A.sI c (upd (A.I c) 5 e)).I c) 6 p)).z = A.z := rfl
  generalize ((A.sI c (upd (A.I c) 5 e)).sI c (upd ((A.sI c (upd (A.I c) 5 e)).I c) 6 p)) = F at hGw hIc hRc hzc ⊢
  refine r_make19 (pc := 16) C dX1_failed_16 dX1_failed_19 dX1_failed_20 (by decide) (Nat.le_of_ble_eq_true rfl) rfl (by omega) (by omega) fun m hm => ?_
  refine r_aret (pc := 23) C E rfl (by omega) (by omega) dX1_failed_23 ?_
  have ht := tx_mz (A := F) (e := 19) (X := Non) hm
  have e9 := (ht.2.2 c (by omega)).2.2 (fun q => q)
  exact ⟨hzc, ht.1, e9.2.1.trans hIc, e9.2.2.trans hRc, hGw.tr2 ht.2 (fun _ _ q => q.elim)⟩
