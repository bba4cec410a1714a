/-! THE COMPONENT, 15: change objects -/
set_option maxRecDepth 100000
/-- what a change object does: 0 run n, 1 fence c, 2 drop c, 3 pave c, 4 sow c, 5 haste k n, 6 turn k, else: refused -/
def Chg : Type := Nat × Nat × Nat
noncomputable def Chg.C (σ : Rw) (x : Chg) : Int32 × Rw := match x.1 with
  | 0 => runC σ x.2.1 | 1 => fenceC σ x.2.1 | 2 => openC σ x.2.1 | 3 => paveC σ x.2.1 | 4 => sowC σ x.2.1 | 5 => hasteC σ x.2.1 x.2.2 | 6 => turnC σ x.2.1 | _ => (-1, σ)
def Chg.ok (σ : Rw) (x : Chg) : Prop := match x.1 with
  | 0 => x.2.1 ≤ 100 | 1 => x.2.1 < rC σ | 2 => x.2.1 < rC σ | 3 => x.2.1 < rC σ | 4 => x.2.1 < rC σ | 5 => x.2.1 < rK σ ∧ x.2.2 ≤ 9 | 6 => x.2.1 < rK σ | _ => True
def CgP (A : HA) (q : Nat) (d : Nat → Nat) (σ : Rw) (C : Int32 × Rw) (u : Int32) (A' : HA) : Prop := Nx A A' q d C.2 ∧ u = C.1 ∧ 0 ≤ C.1
theorem fb0 : FwB ⟨#[0x2b, 0xb8, 0x00, 0x11, 0xac]⟩ 0 (fun j => (([] : List Nat)[j]?).getD 0) 17 := ⟨fun j hj => absurd hj (Nat.not_lt_zero _), by decide +kernel, by decide +kernel, by decide +kernel⟩
theorem fb1 : FwB ⟨#[0x2a, 0xb4, 0x00, 0x0f, 0x2b, 0xb8, 0x00, 0x17, 0xac]⟩ 1 (fun j => ([15][j]?).getD 0) 23 := ⟨fun j hj => by rcases (show j = 0 ∨ j = 0 by omega) with e | e <;> subst e <;> exact ⟨by decide +kernel, by decide +kernel⟩, by decide +kernel, by decide +kernel, by decide +kernel⟩
theorem fb2 : FwB ⟨#[0x2a, 0xb4, 0x00, 0x10, 0x2a, 0xb4, 0x00, 0x12, 0x2b, 0xb8, 0x00, 0x1a, 0xac]⟩ 2 (fun j => ([16, 18][j]?).getD 0) 26 := ⟨fun j hj => by rcases (show j = 0 ∨ j = 1 by omega) with e | e <;> subst e <;> exact ⟨by decide +kernel, by decide +kernel⟩, by decide +kernel, by decide +kernel, by decide +kernel⟩
set_option maxHeartbeats 4000000 in
theorem b_80 {g : GZ} {A : HA} {q : Nat} {d : Nat → Nat} {σ : Rw} (hL : Ly A q d σ) (hv : Lv A.I q d σ) (hJ : RowJ σ) (hG : GdK g) {n : Nat} (hn : n ≤ 100)  : Ct g wI yX7_lambda_running_0 (.code yX7_lambda_running_0 cX7_lambda_running_0 2 (Option.some Jvm.ClassFile.FieldType.int)) 12 4 28 [.int (nI (n)), .ref q] (A) (fun u A' => CgP A q d σ (runC σ n) u A') (fun x A' => XX A q (runC σ n) σ x A') := by
  refine Ct.of [some (.int (nI (n))), some (.ref q)] (by decide) rfl rfl fun z C hx hnm E => ?_
  refine r_aload_1 (pc := 0) C dX7_lambda_running_0_0 ?_
  refine r_iload_0 (pc := 1) C dX7_lambda_running_0_1 ?_
  refine r_V1ix (pc := 2) C (l_runs hL hv hJ hG hn) vl_X7_299 (ly_g hL) (by decide) (by omega) (by omega) (Nat.le_of_ble_eq_true rfl) rfl dX7_lambda_running_0_2 (fun q A9 hp hE => r_out C E (by rw [hx]; exact fun x h => nomatch h) hE.choose_spec (by omega) (by omega) (hp)) (fun u1 A1 hc1 => ?_)
  obtain ⟨p1, p2, p3⟩ := hc1
  refine r_top p2 ?_
  generalize A1 = B at p1 ⊢
  refine r_iret (pc := 5) C E rfl (by omega) (by omega) dX7_lambda_running_0_5 ?_
  exact ⟨p1, rfl, p3⟩
set_option maxHeartbeats 4000000 in
theorem b_81 {g : GZ} {A : HA} {q : Nat} {d : Nat → Nat} {σ : Rw} (hL : Ly A q d σ) (hv : Lv A.I q d σ) (hJ : RowJ σ) (hG : GdK g) {k n : Nat} (hn : k < rK σ ∧ n ≤ 9)  : Ct g wI yX7_lambda_hastening_1 (.code yX7_lambda_hastening_1 cX7_lambda_hastening_1 3 (Option.some Jvm.ClassFile.FieldType.int)) 12 4 28 [.int (nI (k)), .int (nI (n)), .ref q] (A) (fun u A' => CgP A q d σ (hasteC σ k n) u A') (fun x A' => XX A q (hasteC σ k n) σ x A') := by
  refine Ct.of [some (.int (nI (k))), some (.int (nI (n))), some (.ref q)] (by decide) rfl rfl fun z C hx hnm E => ?_
  refine r_aload_2 (pc := 0) C dX7_lambda_hastening_1_0 ?_
  refine r_iload_0 (pc := 1) C dX7_lambda_hastening_1_1 ?_
  refine r_iload_1 (pc := 2) C dX7_lambda_hastening_1_2 ?_
  refine r_V2ix (pc := 3) C (l_hastens hL hv hJ hn.1 hn.2) vl_X7_296 (ly_g hL) (by decide) (by omega) (by omega) (Nat.le_of_ble_eq_true rfl) rfl dX7_lambda_hastening_1_3 (fun q A9 hp hE => r_out C E (by rw [hx]; exact fun x h => nomatch h) hE.choose_spec (by omega) (by omega) (hp)) (fun u1 A1 hc1 => ?_)
  obtain ⟨p1, p2, p3⟩ := hc1
  refine r_top p2 ?_
  generalize A1 = B at p1 ⊢
  refine r_iret (pc := 6) C E rfl (by omega) (by omega) dX7_lambda_hastening_1_6 ?_
  exact ⟨p1, rfl, p3⟩
set_option maxHeartbeats 4000000 in
theorem b_82 {g : GZ} {A : HA} {q : Nat} {d : Nat → Nat} {σ : Rw} (hL : Ly A q d σ) (hv : Lv A.I q d σ) (hJ : RowJ σ) (hG : GdK g) {k : Nat} (hn : k < rK σ)  : Ct g wI yX7_lambda_turning_2 (.code yX7_lambda_turning_2 cX7_lambda_turning_2 2 (Option.some Jvm.ClassFile.FieldType.int)) 12 4 28 [.int (nI (k)), .ref q] (A) (fun u A' => CgP A q d σ (turnC σ k) u A') (fun x A' => XX A q (turnC σ k) σ x A') := by
  refine Ct.of [some (.int (nI (k))), some (.ref q)] (by decide) rfl rfl fun z C hx hnm E => ?_
  refine r_aload_1 (pc := 0) C dX7_lambda_turning_2_0 ?_
  refine r_iload_0 (pc := 1) C dX7_lambda_turning_2_1 ?_
  refine r_V1i (pc := 2) C (l_turns hL hv hJ hn) vl_X7_293 (ly_g hL) (by decide) (by omega) (by omega) (Nat.le_of_ble_eq_true rfl) rfl dX7_lambda_turning_2_2 (fun u1 A1 hc1 => ?_)
  obtain ⟨p1, p2, p3⟩ := hc1
  refine r_top p2 ?_
  generalize A1 = B at p1 ⊢
  refine r_iret (pc := 5) C E rfl (by omega) (by omega) dX7_lambda_turning_2_5 ?_
  exact ⟨p1, rfl, p3⟩
set_option maxHeartbeats 4000000 in
theorem b_83 {g : GZ} {A : HA} {q : Nat} {d : Nat → Nat} {σ : Rw} (hL : Ly A q d σ) (hv : Lv A.I q d σ) (hJ : RowJ σ) (hG : GdK g)  : Ct g wI yX7_lambda_atCell_3 (.code yX7_lambda_atCell_3 cX7_lambda_atCell_3 1 (Option.some Jvm.ClassFile.FieldType.int)) 12 4 28 [.ref q] (A) (fun u A' => u = -1 ∧ A' = A) (fun x A' => XX A q ((-1, σ)) σ x A') := by
  refine Ct.of [some (.ref q)] (by decide) rfl rfl fun z C hx hnm E => ?_
  refine r_iconst (pc := 0) C dX7_lambda_atCell_3_0 ci_m1 ?_
  refine r_iret (pc := 1) C E rfl (by omega) (by omega) dX7_lambda_atCell_3_1 ?_
  exact ⟨rfl, rfl⟩
set_option maxHeartbeats 4000000 in
theorem b_84 {g : GZ} {A : HA} {q : Nat} {d : Nat → Nat} {σ : Rw} (hL : Ly A q d σ) (hv : Lv A.I q d σ) (hJ : RowJ σ) (hG : GdK g) {c : Nat} (hn : c < rC σ)  : Ct g wI yX7_lambda_atCell_4 (.code yX7_lambda_atCell_4 cX7_lambda_atCell_4 2 (Option.some Jvm.ClassFile.FieldType.int)) 12 4 28 [.int (nI (c)), .ref q] (A) (fun u A' => CgP A q d σ (fenceC σ c) u A') (fun x A' => XX A q (fenceC σ c) σ x A') := by
  refine Ct.of [some (.int (nI (c))), some (.ref q)] (by decide) rfl rfl fun z C hx hnm E => ?_
  refine r_aload_1 (pc := 0) C dX7_lambda_atCell_4_0 ?_
  refine r_iload_0 (pc := 1) C dX7_lambda_atCell_4_1 ?_
  refine r_V1ix (pc := 2) C (l_fenced hL hv hJ hG hn) vl_X7_290 (ly_g hL) (by decide) (by omega) (by omega) (Nat.le_of_ble_eq_true rfl) rfl dX7_lambda_atCell_4_2 (fun q A9 hp hE => r_out C E (by rw [hx]; exact fun x h => nomatch h) hE.choose_spec (by omega) (by omega) (hp)) (fun u1 A1 hc1 => ?_)
  obtain ⟨p1, p2, p3⟩ := hc1
  refine r_top p2 ?_
  generalize A1 = B at p1 ⊢
  refine r_iret (pc := 5) C E rfl (by omega) (by omega) dX7_lambda_atCell_4_5 ?_
  exact ⟨p1, rfl, p3⟩
set_option maxHeartbeats 4000000 in
theorem b_85 {g : GZ} {A : HA} {q : Nat} {d : Nat → Nat} {σ : Rw} (hL : Ly A q d σ) (hv : Lv A.I q d σ) (hJ : RowJ σ) (hG : GdK g) {c : Nat} (hn : c < rC σ)  : Ct g wI yX7_lambda_atCell_5 (.code yX7_lambda_atCell_5 cX7_lambda_atCell_5 2 (Option.some Jvm.ClassFile.FieldType.int)) 12 4 28 [.int (nI (c)), .ref q] (A) (fun u A' => CgP A q d σ (openC σ c) u A') (fun x A' => XX A q (openC σ c) σ x A') := by
  refine Ct.of [some (.int (nI (c))), some (.ref q)] (by decide) rfl rfl fun z C hx hnm E => ?_
  refine r_aload_1 (pc := 0) C dX7_lambda_atCell_5_0 ?_
  refine r_iload_0 (pc := 1) C dX7_lambda_atCell_5_1 ?_
  refine r_V1ix (pc := 2) C (l_opened hL hv hJ hn) vl_X7_287 (ly_g hL) (by decide) (by omega) (by omega) (Nat.le_of_ble_eq_true rfl) rfl dX7_lambda_atCell_5_2 (fun q A9 hp hE => r_out C E (by rw [hx]; exact fun x h => nomatch h) hE.choose_spec (by omega) (by omega) (hp)) (fun u1 A1 hc1 => ?_)
  obtain ⟨p1, p2, p3⟩ := hc1
  refine r_top p2 ?_
  generalize A1 = B at p1 ⊢
  refine r_iret (pc := 5) C E rfl (by omega) (by omega) dX7_lambda_atCell_5_5 ?_
  exact ⟨p1, rfl, p3⟩
set_option maxHeartbeats 4000000 in
theorem b_86 {g : GZ} {A : HA} {q : Nat} {d : Nat → Nat} {σ : Rw} (hL : Ly A q d σ) (hv : Lv A.I q d σ) (hJ : RowJ σ) (hG : GdK g) {c : Nat} (hn : c < rC σ)  : Ct g wI yX7_lambda_atCell_6 (.code yX7_lambda_atCell_6 cX7_lambda_atCell_6 2 (Option.some Jvm.ClassFile.FieldType.int)) 12 4 28 [.int (nI (c)), .ref q] (A) (fun u A' => CgP A q d σ (paveC σ c) u A') (fun x A' => XX A q (paveC σ c) σ x A') := by
  refine Ct.of [some (.int (nI (c))), some (.ref q)] (by decide) rfl rfl fun z C hx hnm E => ?_
  refine r_aload_1 (pc := 0) C dX7_lambda_atCell_6_0 ?_
  refine r_iload_0 (pc := 1) C dX7_lambda_atCell_6_1 ?_
  refine r_V1ix (pc := 2) C (l_paves hL hv hJ hn) vl_X7_284 (ly_g hL) (by decide) (by omega) (by omega) (Nat.le_of_ble_eq_true rfl) rfl dX7_lambda_atCell_6_2 (fun q A9 hp hE => r_out C E (by rw [hx]; exact fun x h => nomatch h) hE.choose_spec (by omega) (by omega) (hp)) (fun u1 A1 hc1 => ?_)
  obtain ⟨p1, p2, p3⟩ := hc1
  refine r_top p2 ?_
  generalize A1 = B at p1 ⊢
  refine r_iret (pc := 5) C E rfl (by omega) (by omega) dX7_lambda_atCell_6_5 ?_
  exact ⟨p1, rfl, p3⟩
set_option maxHeartbeats 4000000 in
theorem b_87 {g : GZ} {A : HA} {q : Nat} {d : Nat → Nat} {σ : Rw} (hL : Ly A q d σ) (hv : Lv A.I q d σ) (hJ : RowJ σ) (hG : GdK g) {c : Nat} (hn : c < rC σ)  : Ct g wI yX7_lambda_atCell_7 (.code yX7_lambda_atCell_7 cX7_lambda_atCell_7 2 (Option.some Jvm.ClassFile.FieldType.int)) 12 4 28 [.int (nI (c)), .ref q] (A) (fun u A' => CgP A q d σ (sowC σ c) u A') (fun x A' => XX A q (sowC σ c) σ x A') := by
  refine Ct.of [some (.int (nI (c))), some (.ref q)] (by decide) rfl rfl fun z C hx hnm E => ?_
  refine r_aload_1 (pc := 0) C dX7_lambda_atCell_7_0 ?_
  refine r_iload_0 (pc := 1) C dX7_lambda_atCell_7_1 ?_
  refine r_V1ix (pc := 2) C (l_sows hL hv hJ hn) vl_X7_281 (ly_g hL) (by decide) (by omega) (by omega) (Nat.le_of_ble_eq_true rfl) rfl dX7_lambda_atCell_7_2 (fun q A9 hp hE => r_out C E (by rw [hx]; exact fun x h => nomatch h) hE.choose_spec (by omega) (by omega) (hp)) (fun u1 A1 hc1 => ?_)
  obtain ⟨p1, p2, p3⟩ := hc1
  refine r_top p2 ?_
  generalize A1 = B at p1 ⊢
  refine r_iret (pc := 5) C E rfl (by omega) (by omega) dX7_lambda_atCell_7_5 ?_
  exact ⟨p1, rfl, p3⟩
set_option maxHeartbeats 4000000 in
theorem b_88 {g : GZ} {A : HA} {q : Nat} {d : Nat → Nat} {σ : Rw} (hL : Ly A q d σ) (hv : Lv A.I q d σ) (hJ : RowJ σ) (hG : GdK g) {n : Nat} (hn : n ≤ 100)  : Ct g wI yX1_lambda_run_0 (.code yX1_lambda_run_0 cX1_lambda_run_0 2 (Option.some Jvm.ClassFile.FieldType.int)) 12 4 28 [.int (nI (n)), .ref q] (A) (fun u A' => CgP A q d σ (runC σ n) u A') (fun x A' => XX A q (runC σ n) σ x A') := by
  refine Ct.of [some (.int (nI (n))), some (.ref q)] (by decide) rfl rfl fun z C hx hnm E => ?_
  refine r_aload_1 (pc := 0) C dX1_lambda_run_0_0 ?_
  refine r_iload_0 (pc := 1) C dX1_lambda_run_0_1 ?_
  refine r_V1ix (pc := 2) C (l_runs hL hv hJ hG hn) vl_X1_507 (ly_g hL) (by decide) (by omega) (by omega) (Nat.le_of_ble_eq_true rfl) rfl dX1_lambda_run_0_2 (fun q A9 hp hE => r_out C E (by rw [hx]; exact fun x h => nomatch h) hE.choose_spec (by omega) (by omega) (hp)) (fun u1 A1 hc1 => ?_)
  obtain ⟨p1, p2, p3⟩ := hc1
  refine r_top p2 ?_
  generalize A1 = B at p1 ⊢
  refine r_iret (pc := 5) C E rfl (by omega) (by omega) dX1_lambda_run_0_5 ?_
  exact ⟨p1, rfl, p3⟩
set_option maxHeartbeats 4000000 in
theorem b_89 {g : GZ} {A : HA} {q : Nat} {d : Nat → Nat} {σ : Rw} (hL : Ly A q d σ) (hv : Lv A.I q d σ) (hJ : RowJ σ) (hG : GdK g) {c : Nat} (hn : c < rC σ)  : Ct g wI yX1_lambda_setFence_1 (.code yX1_lambda_setFence_1 cX1_lambda_setFence_1 2 (Option.some Jvm.ClassFile.FieldType.int)) 12 4 28 [.int (nI (c)), .ref q] (A) (fun u A' => CgP A q d σ (fenceC σ c) u A') (fun x A' => XX A q (fenceC σ c) σ x A') := by
  refine Ct.of [some (.int (nI (c))), some (.ref q)] (by decide) rfl rfl fun z C hx hnm E => ?_
  refine r_aload_1 (pc := 0) C dX1_lambda_setFence_1_0 ?_
  refine r_iload_0 (pc := 1) C dX1_lambda_setFence_1_1 ?_
  refine r_V1ix (pc := 2) C (l_fenced hL hv hJ hG hn) vl_X1_438 (ly_g hL) (by decide) (by omega) (by omega) (Nat.le_of_ble_eq_true rfl) rfl dX1_lambda_setFence_1_2 (fun q A9 hp hE => r_out C E (by rw [hx]; exact fun x h => nomatch h) hE.choose_spec (by omega) (by omega) (hp)) (fun u1 A1 hc1 => ?_)
  obtain ⟨p1, p2, p3⟩ := hc1
  refine r_top p2 ?_
  generalize A1 = B at p1 ⊢
  refine r_iret (pc := 5) C E rfl (by omega) (by omega) dX1_lambda_setFence_1_5 ?_
  exact ⟨p1, rfl, p3⟩
set_option maxHeartbeats 4000000 in
theorem b_90 {g : GZ} {A : HA} {q : Nat} {d : Nat → Nat} {σ : Rw} (hL : Ly A q d σ) (hv : Lv A.I q d σ) (hJ : RowJ σ) (hG : GdK g) {c : Nat} (hn : c < rC σ)  : Ct g wI yX1_lambda_dropFence_2 (.code yX1_lambda_dropFence_2 cX1_lambda_dropFence_2 2 (Option.some Jvm.ClassFile.FieldType.int)) 12 4 28 [.int (nI (c)), .ref q] (A) (fun u A' => CgP A q d σ (openC σ c) u A') (fun x A' => XX A q (openC σ c) σ x A') := by
  refine Ct.of [some (.int (nI (c))), some (.ref q)] (by decide) rfl rfl fun z C hx hnm E => ?_
  refine r_aload_1 (pc := 0) C dX1_lambda_dropFence_2_0 ?_
  refine r_iload_0 (pc := 1) C dX1_lambda_dropFence_2_1 ?_
  refine r_V1ix (pc := 2) C (l_opened hL hv hJ hn) vl_X1_504 (ly_g hL) (by decide) (by omega) (by omega) (Nat.le_of_ble_eq_true rfl) rfl dX1_lambda_dropFence_2_2 (fun q A9 hp hE => r_out C E (by rw [hx]; exact fun x h => nomatch h) hE.choose_spec (by omega) (by omega) (hp)) (fun u1 A1 hc1 => ?_)
  obtain ⟨p1, p2, p3⟩ := hc1
  refine r_top p2 ?_
  generalize A1 = B at p1 ⊢
  refine r_iret (pc := 5) C E rfl (by omega) (by omega) dX1_lambda_dropFence_2_5 ?_
  exact ⟨p1, rfl, p3⟩
set_option maxHeartbeats 4000000 in
theorem b_91 {g : GZ} {A : HA} {q : Nat} {d : Nat → Nat} {σ : Rw} (hL : Ly A q d σ) (hv : Lv A.I q d σ) (hJ : RowJ σ) (hG : GdK g) {c : Nat} (hn : c < rC σ)  : Ct g wI yX1_lambda_pave_3 (.code yX1_lambda_pave_3 cX1_lambda_pave_3 2 (Option.some Jvm.ClassFile.FieldType.int)) 12 4 28 [.int (nI (c)), .ref q] (A) (fun u A' => CgP A q d σ (paveC σ c) u A') (fun x A' => XX A q (paveC σ c) σ x A') := by
  refine Ct.of [some (.int (nI (c))), some (.ref q)] (by decide) rfl rfl fun z C hx hnm E => ?_
  refine r_aload_1 (pc := 0) C dX1_lambda_pave_3_0 ?_
  refine r_iload_0 (pc := 1) C dX1_lambda_pave_3_1 ?_
  refine r_V1ix (pc := 2) C (l_paves hL hv hJ hn) vl_X1_501 (ly_g hL) (by decide) (by omega) (by omega) (Nat.le_of_ble_eq_true rfl) rfl dX1_lambda_pave_3_2 (fun q A9 hp hE => r_out C E (by rw [hx]; exact fun x h => nomatch h) hE.choose_spec (by omega) (by omega) (hp)) (fun u1 A1 hc1 => ?_)
  obtain ⟨p1, p2, p3⟩ := hc1
  refine r_top p2 ?_
  generalize A1 = B at p1 ⊢
  refine r_iret (pc := 5) C E rfl (by omega) (by omega) dX1_lambda_pave_3_5 ?_
  exact ⟨p1, rfl, p3⟩
set_option maxHeartbeats 4000000 in
theorem b_92 {g : GZ} {A : HA} {q : Nat} {d : Nat → Nat} {σ : Rw} (hL : Ly A q d σ) (hv : Lv A.I q d σ) (hJ : RowJ σ) (hG : GdK g) {c : Nat} (hn : c < rC σ)  : Ct g wI yX1_lambda_sow_4 (.code yX1_lambda_sow_4 cX1_lambda_sow_4 2 (Option.some Jvm.ClassFile.FieldType.int)) 12 4 28 [.int (nI (c)), .ref q] (A) (fun u A' => CgP A q d σ (sowC σ c) u A') (fun x A' => XX A q (sowC σ c) σ x A') := by
  refine Ct.of [some (.int (nI (c))), some (.ref q)] (by decide) rfl rfl fun z C hx hnm E => ?_
  refine r_aload_1 (pc := 0) C dX1_lambda_sow_4_0 ?_
  refine r_iload_0 (pc := 1) C dX1_lambda_sow_4_1 ?_
  refine r_V1ix (pc := 2) C (l_sows hL hv hJ hn) vl_X1_498 (ly_g hL) (by decide) (by omega) (by omega) (Nat.le_of_ble_eq_true rfl) rfl dX1_lambda_sow_4_2 (fun q A9 hp hE => r_out C E (by rw [hx]; exact fun x h => nomatch h) hE.choose_spec (by omega) (by omega) (hp)) (fun u1 A1 hc1 => ?_)
  obtain ⟨p1, p2, p3⟩ := hc1
  refine r_top p2 ?_
  generalize A1 = B at p1 ⊢
  refine r_iret (pc := 5) C E rfl (by omega) (by omega) dX1_lambda_sow_4_5 ?_
  exact ⟨p1, rfl, p3⟩
set_option maxHeartbeats 4000000 in
theorem b_93 {g : GZ} {A : HA} {q : Nat} {d : Nat → Nat} {σ : Rw} (hL : Ly A q d σ) (hv : Lv A.I q d σ) (hJ : RowJ σ) (hG : GdK g) {k n : Nat} (hn : k < rK σ ∧ n ≤ 9)  : Ct g wI yX1_lambda_setHaste_5 (.code yX1_lambda_setHaste_5 cX1_lambda_setHaste_5 3 (Option.some Jvm.ClassFile.FieldType.int)) 12 4 28 [.int (nI (k)), .int (nI (n)), .ref q] (A) (fun u A' => CgP A q d σ (hasteC σ k n) u A') (fun x A' => XX A q (hasteC σ k n) σ x A') := by
  refine Ct.of [some (.int (nI (k))), some (.int (nI (n))), some (.ref q)] (by decide) rfl rfl fun z C hx hnm E => ?_
  refine r_aload_2 (pc := 0) C dX1_lambda_setHaste_5_0 ?_
  refine r_iload_0 (pc := 1) C dX1_lambda_setHaste_5_1 ?_
  refine r_iload_1 (pc := 2) C dX1_lambda_setHaste_5_2 ?_
  refine r_V2ix (pc := 3) C (l_hastens hL hv hJ hn.1 hn.2) vl_X1_495 (ly_g hL) (by decide) (by omega) (by omega) (Nat.le_of_ble_eq_true rfl) rfl dX1_lambda_setHaste_5_3 (fun q A9 hp hE => r_out C E (by rw [hx]; exact fun x h => nomatch h) hE.choose_spec (by omega) (by omega) (hp)) (fun u1 A1 hc1 => ?_)
  obtain ⟨p1, p2, p3⟩ := hc1
  refine r_top p2 ?_
  generalize A1 = B at p1 ⊢
  refine r_iret (pc := 6) C E rfl (by omega) (by omega) dX1_lambda_setHaste_5_6 ?_
  exact ⟨p1, rfl, p3⟩
set_option maxHeartbeats 4000000 in
theorem b_94 {g : GZ} {A : HA} {q : Nat} {d : Nat → Nat} {σ : Rw} (hL : Ly A q d σ) (hv : Lv A.I q d σ) (hJ : RowJ σ) (hG : GdK g) {k : Nat} (hn : k < rK σ)  : Ct g wI yX1_lambda_turnRound_6 (.code yX1_lambda_turnRound_6 cX1_lambda_turnRound_6 2 (Option.some Jvm.ClassFile.FieldType.int)) 12 4 28 [.int (nI (k)), .ref q] (A) (fun u A' => CgP A q d σ (turnC σ k) u A') (fun x A' => XX A q (turnC σ k) σ x A') := by
  refine Ct.of [some (.int (nI (k))), some (.ref q)] (by decide) rfl rfl fun z C hx hnm E => ?_
  refine r_aload_1 (pc := 0) C dX1_lambda_turnRound_6_0 ?_
  refine r_iload_0 (pc := 1) C dX1_lambda_turnRound_6_1 ?_
  refine r_V1i (pc := 2) C (l_turns hL hv hJ hn) vl_X1_492 (ly_g hL) (by decide) (by omega) (by omega) (Nat.le_of_ble_eq_true rfl) rfl dX1_lambda_turnRound_6_2 (fun u1 A1 hc1 => ?_)
  obtain ⟨p1, p2, p3⟩ := hc1
  refine r_top p2 ?_
  generalize A1 = B at p1 ⊢
  refine r_iret (pc := 5) C E rfl (by omega) (by omega) dX1_lambda_turnRound_6_5 ?_
  exact ⟨p1, rfl, p3⟩
def sg80 : Lambda.Shape := lamS "LawnPaths$TextReader" "lambda$running$0" 1
theorem lk80 : lamOk yX7_running.cls sg80 1 [15] 23 19 22 18 yX7_lambda_running_0 ⟨#[0x2a, 0xb4, 0x00, 0x0f, 0x2b, 0xb8, 0x00, 0x17, 0xac]⟩ = true := by decide +kernel
def sg81 : Lambda.Shape := lamS "LawnPaths$TextReader" "lambda$hastening$1" 2
theorem lk81 : lamOk yX7_hastening.cls sg81 2 [16, 18] 26 22 25 21 yX7_lambda_hastening_1 ⟨#[0x2a, 0xb4, 0x00, 0x10, 0x2a, 0xb4, 0x00, 0x12, 0x2b, 0xb8, 0x00, 0x1a, 0xac]⟩ = true := by decide +kernel
def sg82 : Lambda.Shape := lamS "LawnPaths$TextReader" "lambda$turning$2" 1
theorem lk82 : lamOk yX7_turning.cls sg82 1 [15] 23 19 22 18 yX7_lambda_turning_2 ⟨#[0x2a, 0xb4, 0x00, 0x0f, 0x2b, 0xb8, 0x00, 0x17, 0xac]⟩ = true := by decide +kernel
def sg83 : Lambda.Shape := lamS "LawnPaths$TextReader" "lambda$atCell$3" 0
theorem lk83 : lamOk yX7_atCell.cls sg83 0 [] 17 14 16 13 yX7_lambda_atCell_3 ⟨#[0x2b, 0xb8, 0x00, 0x11, 0xac]⟩ = true := by decide +kernel
def sg84 : Lambda.Shape := lamS "LawnPaths$TextReader" "lambda$atCell$4" 1
theorem lk84 : lamOk yX7_atCell.cls sg84 1 [15] 23 19 22 18 yX7_lambda_atCell_4 ⟨#[0x2a, 0xb4, 0x00, 0x0f, 0x2b, 0xb8, 0x00, 0x17, 0xac]⟩ = true := by decide +kernel
def sg85 : Lambda.Shape := lamS "LawnPaths$TextReader" "lambda$atCell$5" 1
theorem lk85 : lamOk yX7_atCell.cls sg85 1 [15] 23 19 22 18 yX7_lambda_atCell_5 ⟨#[0x2a, 0xb4, 0x00, 0x0f, 0x2b, 0xb8, 0x00, 0x17, 0xac]⟩ = true := by decide +kernel
def sg86 : Lambda.Shape := lamS "LawnPaths$TextReader" "lambda$atCell$6" 1
theorem lk86 : lamOk yX7_atCell.cls sg86 1 [15] 23 19 22 18 yX7_lambda_atCell_6 ⟨#[0x2a, 0xb4, 0x00, 0x0f, 0x2b, 0xb8, 0x00, 0x17, 0xac]⟩ = true := by decide +kernel
def sg87 : Lambda.Shape := lamS "LawnPaths$TextReader" "lambda$atCell$7" 1
theorem lk87 : lamOk yX7_atCell.cls sg87 1 [15] 23 19 22 18 yX7_lambda_atCell_7 ⟨#[0x2a, 0xb4, 0x00, 0x0f, 0x2b, 0xb8, 0x00, 0x17, 0xac]⟩ = true := by decide +kernel
def sg88 : Lambda.Shape := lamS "LawnPaths" "lambda$run$0" 1
theorem lk88 : lamOk yX1_run.cls sg88 1 [15] 23 19 22 18 yX1_lambda_run_0 ⟨#[0x2a, 0xb4, 0x00, 0x0f, 0x2b, 0xb8, 0x00, 0x17, 0xac]⟩ = true := by decide +kernel
def sg89 : Lambda.Shape := lamS "LawnPaths" "lambda$setFence$1" 1
theorem lk89 : lamOk yX1_setFence.cls sg89 1 [15] 23 19 22 18 yX1_lambda_setFence_1 ⟨#[0x2a, 0xb4, 0x00, 0x0f, 0x2b, 0xb8, 0x00, 0x17, 0xac]⟩ = true := by decide +kernel
def sg90 : Lambda.Shape := lamS "LawnPaths" "lambda$dropFence$2" 1
theorem lk90 : lamOk yX1_dropFence.cls sg90 1 [15] 23 19 22 18 yX1_lambda_dropFence_2 ⟨#[0x2a, 0xb4, 0x00, 0x0f, 0x2b, 0xb8, 0x00, 0x17, 0xac]⟩ = true := by decide +kernel
def sg91 : Lambda.Shape := lamS "LawnPaths" "lambda$pave$3" 1
theorem lk91 : lamOk yX1_pave.cls sg91 1 [15] 23 19 22 18 yX1_lambda_pave_3 ⟨#[0x2a, 0xb4, 0x00, 0x0f, 0x2b, 0xb8, 0x00, 0x17, 0xac]⟩ = true := by decide +kernel
def sg92 : Lambda.Shape := lamS "LawnPaths" "lambda$sow$4" 1
theorem lk92 : lamOk yX1_sow.cls sg92 1 [15] 23 19 22 18 yX1_lambda_sow_4 ⟨#[0x2a, 0xb4, 0x00, 0x0f, 0x2b, 0xb8, 0x00, 0x17, 0xac]⟩ = true := by decide +kernel
def sg93 : Lambda.Shape := lamS "LawnPaths" "lambda$setHaste$5" 2
theorem lk93 : lamOk yX1_setHaste.cls sg93 2 [16, 18] 26 22 25 21 yX1_lambda_setHaste_5 ⟨#[0x2a, 0xb4, 0x00, 0x10, 0x2a, 0xb4, 0x00, 0x12, 0x2b, 0xb8, 0x00, 0x1a, 0xac]⟩ = true := by decide +kernel
def sg94 : Lambda.Shape := lamS "LawnPaths" "lambda$turnRound$6" 1
theorem lk94 : lamOk yX1_turnRound.cls sg94 1 [15] 23 19 22 18 yX1_lambda_turnRound_6 ⟨#[0x2a, 0xb4, 0x00, 0x0f, 0x2b, 0xb8, 0x00, 0x17, 0xac]⟩ = true := by decide +kernel
/-- the sites of the run are linked by the rule -/
def LamK (g : GZ) : Prop := Lms g 80 yX7_running 1 264 sg80 ∧ Lms g 81 yX7_hastening 10 267 sg81 ∧ Lms g 82 yX7_turning 1 270 sg82 ∧ Lms g 83 yX7_atCell 28 271 sg83 ∧ Lms g 84 yX7_atCell 174 277 sg84 ∧ Lms g 85 yX7_atCell 184 278 sg85 ∧ Lms g 86 yX7_atCell 194 279 sg86 ∧ Lms g 87 yX7_atCell 204 280 sg87 ∧ Lms g 88 yX1_run 14 460 sg88 ∧ Lms g 89 yX1_setFence 9 467 sg89 ∧ Lms g 90 yX1_dropFence 9 468 sg90 ∧ Lms g 91 yX1_pave 9 469 sg91 ∧ Lms g 92 yX1_sow 9 470 sg92 ∧ Lms g 93 yX1_setHaste 21 471 sg93 ∧ Lms g 94 yX1_turnRound 8 474 sg94
theorem LamK.s80 {g : GZ} (h : LamK g) : Lms g 80 yX7_running 1 264 sg80 := h.1
theorem LamK.s81 {g : GZ} (h : LamK g) : Lms g 81 yX7_hastening 10 267 sg81 := h.2.1
theorem LamK.s82 {g : GZ} (h : LamK g) : Lms g 82 yX7_turning 1 270 sg82 := h.2.2.1
theorem LamK.s83 {g : GZ} (h : LamK g) : Lms g 83 yX7_atCell 28 271 sg83 := h.2.2.2.1
theorem LamK.s84 {g : GZ} (h : LamK g) : Lms g 84 yX7_atCell 174 277 sg84 := h.2.2.2.2.1
theorem LamK.s85 {g : GZ} (h : LamK g) : Lms g 85 yX7_atCell 184 278 sg85 := h.2.2.2.2.2.1
theorem LamK.s86 {g : GZ} (h : LamK g) : Lms g 86 yX7_atCell 194 279 sg86 := h.2.2.2.2.2.2.1
theorem LamK.s87 {g : GZ} (h : LamK g) : Lms g 87 yX7_atCell 204 280 sg87 := h.2.2.2.2.2.2.2.1
theorem LamK.s88 {g : GZ} (h : LamK g) : Lms g 88 yX1_run 14 460 sg88 := h.2.2.2.2.2.2.2.2.1
theorem LamK.s89 {g : GZ} (h : LamK g) : Lms g 89 yX1_setFence 9 467 sg89 := h.2.2.2.2.2.2.2.2.2.1
theorem LamK.s90 {g : GZ} (h : LamK g) : Lms g 90 yX1_dropFence 9 468 sg90 := h.2.2.2.2.2.2.2.2.2.2.1
theorem LamK.s91 {g : GZ} (h : LamK g) : Lms g 91 yX1_pave 9 469 sg91 := h.2.2.2.2.2.2.2.2.2.2.2.1
theorem LamK.s92 {g : GZ} (h : LamK g) : Lms g 92 yX1_sow 9 470 sg92 := h.2.2.2.2.2.2.2.2.2.2.2.2.1
theorem LamK.s93 {g : GZ} (h : LamK g) : Lms g 93 yX1_setHaste 21 471 sg93 := h.2.2.2.2.2.2.2.2.2.2.2.2.2.1
theorem LamK.s94 {g : GZ} (h : LamK g) : Lms g 94 yX1_turnRound 8 474 sg94 := h.2.2.2.2.2.2.2.2.2.2.2.2.2.2
theorem fw80 {g : GZ} (hg : fw_ok g) (h : LamK g) : ∀ U : State, g.s.WarmedH U.vm → FwAt U (g.lm 80) ⟨#[0x2a, 0xb4, 0x00, 0x0f, 0x2b, 0xb8, 0x00, 0x17, 0xac]⟩ 1 (fun j => (([15] : List Nat)[j]?).getD 0) 23 yX7_lambda_running_0 := h.s80.fw hg lk80 ⟨rfl, rfl, by decide +kernel⟩ (by decide +kernel) ⟨by decide, by decide⟩ q1742 q1741 q174 (by decide +kernel)
theorem lc80 {g : GZ} {A : HA} (hK : LamK g) {o q : Nat} {d : Nat → Nat} {σ : Rw} (hL : Ly A q d σ) (hv : Lv A.I q d σ) (hJ : RowJ σ) (hG : GdK g) {n : Nat} (hn : n ≤ 100) (hk : (A.G o).1 = 80) (hn9 : A.n o = 1) (hI : A.I o 0 = nI n) : CtU g wI ⟨g.lm 80, 1⟩ 13 4 28 [.ref o, .ref q] A (fun u A' => CgP A q d σ (runC σ n) u A') (fun x A' => XX A q (runC σ n) σ x A') := fun hg => by
  refine fwd (V := (fun _ => nI n)) fb1 (fw80 hg hK) (b_80 hL hv hJ hG hn) (by decide) q1742 q174 (fun H hR => ?_) hg
  obtain ⟨c, c1, c2, c3, c4, c5⟩ := (hR.cell o).2.1 (by rw [hk]; decide) (by rw [hk]; decide)
  rw [hn9] at c5
  refine ⟨c, c1, c3, fun j hj => ?_⟩
  · have e : j = 0 := by omega
    subst e; rw [c5 0 (by omega), hI]
theorem fw81 {g : GZ} (hg : fw_ok g) (h : LamK g) : ∀ U : State, g.s.WarmedH U.vm → FwAt U (g.lm 81) ⟨#[0x2a, 0xb4, 0x00, 0x10, 0x2a, 0xb4, 0x00, 0x12, 0x2b, 0xb8, 0x00, 0x1a, 0xac]⟩ 2 (fun j => (([16, 18] : List Nat)[j]?).getD 0) 26 yX7_lambda_hastening_1 := h.s81.fw hg lk81 ⟨rfl, rfl, by decide +kernel⟩ (by decide +kernel) ⟨by decide, by decide⟩ q1799 q1798 q174 (by decide +kernel)
theorem lc81 {g : GZ} {A : HA} (hK : LamK g) {o q : Nat} {d : Nat → Nat} {σ : Rw} (hL : Ly A q d σ) (hv : Lv A.I q d σ) (hJ : RowJ σ) (hG : GdK g) {k n : Nat} (hn : k < rK σ ∧ n ≤ 9) (hk : (A.G o).1 = 81) (hn9 : A.n o = 2) (hI : A.I o 0 = nI k) (hI2 : A.I o 1 = nI n) : CtU g wI ⟨g.lm 81, 1⟩ 13 4 28 [.ref o, .ref q] A (fun u A' => CgP A q d σ (hasteC σ k n) u A') (fun x A' => XX A q (hasteC σ k n) σ x A') := fun hg => by
  refine fwd (V := (fun j => if j = 0 then nI k else nI n)) fb2 (fw81 hg hK) (b_81 hL hv hJ hG hn) (by decide) q1799 q174 (fun H hR => ?_) hg
  obtain ⟨c, c1, c2, c3, c4, c5⟩ := (hR.cell o).2.1 (by rw [hk]; decide) (by rw [hk]; decide)
  rw [hn9] at c5
  refine ⟨c, c1, c3, fun j hj => ?_⟩
  · rcases (show j = 0 ∨ j = 1 by omega) with e | e <;> subst e
    · rw [c5 0 (by omega), hI]; rfl
    · rw [c5 1 (by omega), hI2]; rfl
theorem fw82 {g : GZ} (hg : fw_ok g) (h : LamK g) : ∀ U : State, g.s.WarmedH U.vm → FwAt U (g.lm 82) ⟨#[0x2a, 0xb4, 0x00, 0x0f, 0x2b, 0xb8, 0x00, 0x17, 0xac]⟩ 1 (fun j => (([15] : List Nat)[j]?).getD 0) 23 yX7_lambda_turning_2 := h.s82.fw hg lk82 ⟨rfl, rfl, by decide +kernel⟩ (by decide +kernel) ⟨by decide, by decide⟩ q1809 q1808 q174 (by decide +kernel)
theorem lc82 {g : GZ} {A : HA} (hK : LamK g) {o q : Nat} {d : Nat → Nat} {σ : Rw} (hL : Ly A q d σ) (hv : Lv A.I q d σ) (hJ : RowJ σ) (hG : GdK g) {k : Nat} (hn : k < rK σ) (hk : (A.G o).1 = 82) (hn9 : A.n o = 1) (hI : A.I o 0 = nI k) : CtU g wI ⟨g.lm 82, 1⟩ 13 4 28 [.ref o, .ref q] A (fun u A' => CgP A q d σ (turnC σ k) u A') (fun x A' => XX A q (turnC σ k) σ x A') := fun hg => by
  refine fwd (V := (fun _ => nI k)) fb1 (fw82 hg hK) (b_82 hL hv hJ hG hn) (by decide) q1809 q174 (fun H hR => ?_) hg
  obtain ⟨c, c1, c2, c3, c4, c5⟩ := (hR.cell o).2.1 (by rw [hk]; decide) (by rw [hk]; decide)
  rw [hn9] at c5
  refine ⟨c, c1, c3, fun j hj => ?_⟩
  · have e : j = 0 := by omega
    subst e; rw [c5 0 (by omega), hI]
theorem fw83 {g : GZ} (hg : fw_ok g) (h : LamK g) : ∀ U : State, g.s.WarmedH U.vm → FwAt U (g.lm 83) ⟨#[0x2b, 0xb8, 0x00, 0x11, 0xac]⟩ 0 (fun j => (([] : List Nat)[j]?).getD 0) 17 yX7_lambda_atCell_3 := h.s83.fw hg lk83 ⟨rfl, rfl, by decide +kernel⟩ (by decide +kernel) ⟨by decide, by decide⟩ q1819 q1818 q174 (by decide +kernel)
theorem lc83 {g : GZ} {A : HA} (hK : LamK g) {o q : Nat} {d : Nat → Nat} {σ : Rw} (hL : Ly A q d σ) (hv : Lv A.I q d σ) (hJ : RowJ σ) (hG : GdK g) (hk : (A.G o).1 = 83) (hn9 : A.n o = 0) : CtU g wI ⟨g.lm 83, 1⟩ 13 4 28 [.ref o, .ref q] A (fun u A' => u = -1 ∧ A' = A) (fun x A' => XX A q ((-1, σ)) σ x A') := fun hg => by
  refine fwd (V := (fun _ => 0)) fb0 (fw83 hg hK) (b_83 hL hv hJ hG) (by decide) q1819 q174 (fun H hR => ?_) hg
  obtain ⟨c, c1, c2, c3, c4, c5⟩ := (hR.cell o).2.1 (by rw [hk]; decide) (by rw [hk]; decide)
  rw [hn9] at c5
  refine ⟨c, c1, c3, fun j hj => ?_⟩
  · exact absurd hj (Nat.not_lt_zero _)
theorem fw84 {g : GZ} (hg : fw_ok g) (h : LamK g) : ∀ U : State, g.s.WarmedH U.vm → FwAt U (g.lm 84) ⟨#[0x2a, 0xb4, 0x00, 0x0f, 0x2b, 0xb8, 0x00, 0x17, 0xac]⟩ 1 (fun j => (([15] : List Nat)[j]?).getD 0) 23 yX7_lambda_atCell_4 := h.s84.fw hg lk84 ⟨rfl, rfl, by decide +kernel⟩ (by decide +kernel) ⟨by decide, by decide⟩ q1823 q1822 q174 (by decide +kernel)
theorem lc84 {g : GZ} {A : HA} (hK : LamK g) {o q : Nat} {d : Nat → Nat} {σ : Rw} (hL : Ly A q d σ) (hv : Lv A.I q d σ) (hJ : RowJ σ) (hG : GdK g) {c : Nat} (hn : c < rC σ) (hk : (A.G o).1 = 84) (hn9 : A.n o = 1) (hI : A.I o 0 = nI c) : CtU g wI ⟨g.lm 84, 1⟩ 13 4 28 [.ref o, .ref q] A (fun u A' => CgP A q d σ (fenceC σ c) u A') (fun x A' => XX A q (fenceC σ c) σ x A') := fun hg => by
  refine fwd (V := (fun _ => nI c)) fb1 (fw84 hg hK) (b_84 hL hv hJ hG hn) (by decide) q1823 q174 (fun H hR => ?_) hg
  obtain ⟨c, c1, c2, c3, c4, c5⟩ := (hR.cell o).2.1 (by rw [hk]; decide) (by rw [hk]; decide)
  rw [hn9] at c5
  refine ⟨c, c1, c3, fun j hj => ?_⟩
  · have e : j = 0 := by omega
    subst e; rw [c5 0 (by omega), hI]
theorem fw85 {g : GZ} (hg : fw_ok g) (h : LamK g) : ∀ U : State, g.s.WarmedH U.vm → FwAt U (g.lm 85) ⟨#[0x2a, 0xb4, 0x00, 0x0f, 0x2b, 0xb8, 0x00, 0x17, 0xac]⟩ 1 (fun j => (([15] : List Nat)[j]?).getD 0) 23 yX7_lambda_atCell_5 := h.s85.fw hg lk85 ⟨rfl, rfl, by decide +kernel⟩ (by decide +kernel) ⟨by decide, by decide⟩ q1831 q1830 q174 (by decide +kernel)
theorem lc85 {g : GZ} {A : HA} (hK : LamK g) {o q : Nat} {d : Nat → Nat} {σ : Rw} (hL : Ly A q d σ) (hv : Lv A.I q d σ) (hJ : RowJ σ) (hG : GdK g) {c : Nat} (hn : c < rC σ) (hk : (A.G o).1 = 85) (hn9 : A.n o = 1) (hI : A.I o 0 = nI c) : CtU g wI ⟨g.lm 85, 1⟩ 13 4 28 [.ref o, .ref q] A (fun u A' => CgP A q d σ (openC σ c) u A') (fun x A' => XX A q (openC σ c) σ x A') := fun hg => by
  refine fwd (V := (fun _ => nI c)) fb1 (fw85 hg hK) (b_85 hL hv hJ hG hn) (by decide) q1831 q174 (fun H hR => ?_) hg
  obtain ⟨c, c1, c2, c3, c4, c5⟩ := (hR.cell o).2.1 (by rw [hk]; decide) (by rw [hk]; decide)
  rw [hn9] at c5
  refine ⟨c, c1, c3, fun j hj => ?_⟩
  · have e : j = 0 := by omega
    subst e; rw [c5 0 (by omega), hI]
theorem fw86 {g : GZ} (hg : fw_ok g) (h : LamK g) : ∀ U : State, g.s.WarmedH U.vm → FwAt U (g.lm 86) ⟨#[0x2a, 0xb4, 0x00, 0x0f, 0x2b, 0xb8, 0x00, 0x17, 0xac]⟩ 1 (fun j => (([15] : List Nat)[j]?).getD 0) 23 yX7_lambda_atCell_6 := h.s86.fw hg lk86 ⟨rfl, rfl, by decide +kernel⟩ (by decide +kernel) ⟨by decide, by decide⟩ q1837 q1836 q174 (by decide +kernel)
theorem lc86 {g : GZ} {A : HA} (hK : LamK g) {o q : Nat} {d : Nat → Nat} {σ : Rw} (hL : Ly A q d σ) (hv : Lv A.I q d σ) (hJ : RowJ σ) (hG : GdK g) {c : Nat} (hn : c < rC σ) (hk : (A.G o).1 = 86) (hn9 : A.n o = 1) (hI : A.I o 0 = nI c) : CtU g wI ⟨g.lm 86, 1⟩ 13 4 28 [.ref o, .ref q] A (fun u A' => CgP A q d σ (paveC σ c) u A') (fun x A' => XX A q (paveC σ c) σ x A') := fun hg => by
  refine fwd (V := (fun _ => nI c)) fb1 (fw86 hg hK) (b_86 hL hv hJ hG hn) (by decide) q1837 q174 (fun H hR => ?_) hg
  obtain ⟨c, c1, c2, c3, c4, c5⟩ := (hR.cell o).2.1 (by rw [hk]; decide) (by rw [hk]; decide)
  rw [hn9] at c5
  refine ⟨c, c1, c3, fun j hj => ?_⟩
  · have e : j = 0 := by omega
    subst e; rw [c5 0 (by omega), hI]
theorem fw87 {g : GZ} (hg : fw_ok g) (h : LamK g) : ∀ U : State, g.s.WarmedH U.vm → FwAt U (g.lm 87) ⟨#[0x2a, 0xb4, 0x00, 0x0f, 0x2b, 0xb8, 0x00, 0x17, 0xac]⟩ 1 (fun j => (([15] : List Nat)[j]?).getD 0) 23 yX7_lambda_atCell_7 := h.s87.fw hg lk87 ⟨rfl, rfl, by decide +kernel⟩ (by decide +kernel) ⟨by decide, by decide⟩ q1844 q1843 q174 (by decide +kernel)
theorem lc87 {g : GZ} {A : HA} (hK : LamK g) {o q : Nat} {d : Nat → Nat} {σ : Rw} (hL : Ly A q d σ) (hv : Lv A.I q d σ) (hJ : RowJ σ) (hG : GdK g) {c : Nat} (hn : c < rC σ) (hk : (A.G o).1 = 87) (hn9 : A.n o = 1) (hI : A.I o 0 = nI c) : CtU g wI ⟨g.lm 87, 1⟩ 13 4 28 [.ref o, .ref q] A (fun u A' => CgP A q d σ (sowC σ c) u A') (fun x A' => XX A q (sowC σ c) σ x A') := fun hg => by
  refine fwd (V := (fun _ => nI c)) fb1 (fw87 hg hK) (b_87 hL hv hJ hG hn) (by decide) q1844 q174 (fun H hR => ?_) hg
  obtain ⟨c, c1, c2, c3, c4, c5⟩ := (hR.cell o).2.1 (by rw [hk]; decide) (by rw [hk]; decide)
  rw [hn9] at c5
  refine ⟨c, c1, c3, fun j hj => ?_⟩
  · have e : j = 0 := by omega
    subst e; rw [c5 0 (by omega), hI]
theorem fw88 {g : GZ} (hg : fw_ok g) (h : LamK g) : ∀ U : State, g.s.WarmedH U.vm → FwAt U (g.lm 88) ⟨#[0x2a, 0xb4, 0x00, 0x0f, 0x2b, 0xb8, 0x00, 0x17, 0xac]⟩ 1 (fun j => (([15] : List Nat)[j]?).getD 0) 23 yX1_lambda_run_0 := h.s88.fw hg lk88 ⟨rfl, rfl, by decide +kernel⟩ (by decide +kernel) ⟨by decide, by decide⟩ q2164 q2163 q148 (by decide +kernel)
theorem lc88 {g : GZ} {A : HA} (hK : LamK g) {o q : Nat} {d : Nat → Nat} {σ : Rw} (hL : Ly A q d σ) (hv : Lv A.I q d σ) (hJ : RowJ σ) (hG : GdK g) {n : Nat} (hn : n ≤ 100) (hk : (A.G o).1 = 88) (hn9 : A.n o = 1) (hI : A.I o 0 = nI n) : CtU g wI ⟨g.lm 88, 1⟩ 13 4 28 [.ref o, .ref q] A (fun u A' => CgP A q d σ (runC σ n) u A') (fun x A' => XX A q (runC σ n) σ x A') := fun hg => by
  refine fwd (V := (fun _ => nI n)) fb1 (fw88 hg hK) (b_88 hL hv hJ hG hn) (by decide) q2164 q148 (fun H hR => ?_) hg
  obtain ⟨c, c1, c2, c3, c4, c5⟩ := (hR.cell o).2.1 (by rw [hk]; decide) (by rw [hk]; decide)
  rw [hn9] at c5
  refine ⟨c, c1, c3, fun j hj => ?_⟩
  · have e : j = 0 := by omega
    subst e; rw [c5 0 (by omega), hI]
theorem fw89 {g : GZ} (hg : fw_ok g) (h : LamK g) : ∀ U : State, g.s.WarmedH U.vm → FwAt U (g.lm 89) ⟨#[0x2a, 0xb4, 0x00, 0x0f, 0x2b, 0xb8, 0x00, 0x17, 0xac]⟩ 1 (fun j => (([15] : List Nat)[j]?).getD 0) 23 yX1_lambda_setFence_1 := h.s89.fw hg lk89 ⟨rfl, rfl, by decide +kernel⟩ (by decide +kernel) ⟨by decide, by decide⟩ q2180 q2179 q148 (by decide +kernel)
theorem lc89 {g : GZ} {A : HA} (hK : LamK g) {o q : Nat} {d : Nat → Nat} {σ : Rw} (hL : Ly A q d σ) (hv : Lv A.I q d σ) (hJ : RowJ σ) (hG : GdK g) {c : Nat} (hn : c < rC σ) (hk : (A.G o).1 = 89) (hn9 : A.n o = 1) (hI : A.I o 0 = nI c) : CtU g wI ⟨g.lm 89, 1⟩ 13 4 28 [.ref o, .ref q] A (fun u A' => CgP A q d σ (fenceC σ c) u A') (fun x A' => XX A q (fenceC σ c) σ x A') := fun hg => by
  refine fwd (V := (fun _ => nI c)) fb1 (fw89 hg hK) (b_89 hL hv hJ hG hn) (by decide) q2180 q148 (fun H hR => ?_) hg
  obtain ⟨c, c1, c2, c3, c4, c5⟩ := (hR.cell o).2.1 (by rw [hk]; decide) (by rw [hk]; decide)
  rw [hn9] at c5
  refine ⟨c, c1, c3, fun j hj => ?_⟩
  · have e : j = 0 := by omega
    subst e; rw [c5 0 (by omega), hI]
theorem fw90 {g : GZ} (hg : fw_ok g) (h : LamK g) : ∀ U : State, g.s.WarmedH U.vm → FwAt U (g.lm 90) ⟨#[0x2a, 0xb4, 0x00, 0x0f, 0x2b, 0xb8, 0x00, 0x17, 0xac]⟩ 1 (fun j => (([15] : List Nat)[j]?).getD 0) 23 yX1_lambda_dropFence_2 := h.s90.fw hg lk90 ⟨rfl, rfl, by decide +kernel⟩ (by decide +kernel) ⟨by decide, by decide⟩ q2189 q2188 q148 (by decide +kernel)
theorem lc90 {g : GZ} {A : HA} (hK : LamK g) {o q : Nat} {d : Nat → Nat} {σ : Rw} (hL : Ly A q d σ) (hv : Lv A.I q d σ) (hJ : RowJ σ) (hG : GdK g) {c : Nat} (hn : c < rC σ) (hk : (A.G o).1 = 90) (hn9 : A.n o = 1) (hI : A.I o 0 = nI c) : CtU g wI ⟨g.lm 90, 1⟩ 13 4 28 [.ref o, .ref q] A (fun u A' => CgP A q d σ (openC σ c) u A') (fun x A' => XX A q (openC σ c) σ x A') := fun hg => by
  refine fwd (V := (fun _ => nI c)) fb1 (fw90 hg hK) (b_90 hL hv hJ hG hn) (by decide) q2189 q148 (fun H hR => ?_) hg
  obtain ⟨c, c1, c2, c3, c4, c5⟩ := (hR.cell o).2.1 (by rw [hk]; decide) (by rw [hk]; decide)
  rw [hn9] at c5
  refine ⟨c, c1, c3, fun j hj => ?_⟩
  · have e : j = 0 := by omega
    subst e; rw [c5 0 (by omega), hI]
theorem fw91 {g : GZ} (hg : fw_ok g) (h : LamK g) : ∀ U : State, g.s.WarmedH U.vm → FwAt U (g.lm 91) ⟨#[0x2a, 0xb4, 0x00, 0x0f, 0x2b, 0xb8, 0x00, 0x17, 0xac]⟩ 1 (fun j => (([15] : List Nat)[j]?).getD 0) 23 yX1_lambda_pave_3 := h.s91.fw hg lk91 ⟨rfl, rfl, by decide +kernel⟩ (by decide +kernel) ⟨by decide, by decide⟩ q2199 q2198 q148 (by decide +kernel)
theorem lc91 {g : GZ} {A : HA} (hK : LamK g) {o q : Nat} {d : Nat → Nat} {σ : Rw} (hL : Ly A q d σ) (hv : Lv A.I q d σ) (hJ : RowJ σ) (hG : GdK g) {c : Nat} (hn : c < rC σ) (hk : (A.G o).1 = 91) (hn9 : A.n o = 1) (hI : A.I o 0 = nI c) : CtU g wI ⟨g.lm 91, 1⟩ 13 4 28 [.ref o, .ref q] A (fun u A' => CgP A q d σ (paveC σ c) u A') (fun x A' => XX A q (paveC σ c) σ x A') := fun hg => by
  refine fwd (V := (fun _ => nI c)) fb1 (fw91 hg hK) (b_91 hL hv hJ hG hn) (by decide) q2199 q148 (fun H hR => ?_) hg
  obtain ⟨c, c1, c2, c3, c4, c5⟩ := (hR.cell o).2.1 (by rw [hk]; decide) (by rw [hk]; decide)
  rw [hn9] at c5
  refine ⟨c, c1, c3, fun j hj => ?_⟩
  · have e : j = 0 := by omega
    subst e; rw [c5 0 (by omega), hI]
theorem fw92 {g : GZ} (hg : fw_ok g) (h : LamK g) : ∀ U : State, g.s.WarmedH U.vm → FwAt U (g.lm 92) ⟨#[0x2a, 0xb4, 0x00, 0x0f, 0x2b, 0xb8, 0x00, 0x17, 0xac]⟩ 1 (fun j => (([15] : List Nat)[j]?).getD 0) 23 yX1_lambda_sow_4 := h.s92.fw hg lk92 ⟨rfl, rfl, by decide +kernel⟩ (by decide +kernel) ⟨by decide, by decide⟩ q2209 q2208 q148 (by decide +kernel)
theorem lc92 {g : GZ} {A : HA} (hK : LamK g) {o q : Nat} {d : Nat → Nat} {σ : Rw} (hL : Ly A q d σ) (hv : Lv A.I q d σ) (hJ : RowJ σ) (hG : GdK g) {c : Nat} (hn : c < rC σ) (hk : (A.G o).1 = 92) (hn9 : A.n o = 1) (hI : A.I o 0 = nI c) : CtU g wI ⟨g.lm 92, 1⟩ 13 4 28 [.ref o, .ref q] A (fun u A' => CgP A q d σ (sowC σ c) u A') (fun x A' => XX A q (sowC σ c) σ x A') := fun hg => by
  refine fwd (V := (fun _ => nI c)) fb1 (fw92 hg hK) (b_92 hL hv hJ hG hn) (by decide) q2209 q148 (fun H hR => ?_) hg
  obtain ⟨c, c1, c2, c3, c4, c5⟩ := (hR.cell o).2.1 (by rw [hk]; decide) (by rw [hk]; decide)
  rw [hn9] at c5
  refine ⟨c, c1, c3, fun j hj => ?_⟩
  · have e : j = 0 := by omega
    subst e; rw [c5 0 (by omega), hI]
theorem fw93 {g : GZ} (hg : fw_ok g) (h : LamK g) : ∀ U : State, g.s.WarmedH U.vm → FwAt U (g.lm 93) ⟨#[0x2a, 0xb4, 0x00, 0x10, 0x2a, 0xb4, 0x00, 0x12, 0x2b, 0xb8, 0x00, 0x1a, 0xac]⟩ 2 (fun j => (([16, 18] : List Nat)[j]?).getD 0) 26 yX1_lambda_setHaste_5 := h.s93.fw hg lk93 ⟨rfl, rfl, by decide +kernel⟩ (by decide +kernel) ⟨by decide, by decide⟩ q2219 q2218 q148 (by decide +kernel)
theorem lc93 {g : GZ} {A : HA} (hK : LamK g) {o q : Nat} {d : Nat → Nat} {σ : Rw} (hL : Ly A q d σ) (hv : Lv A.I q d σ) (hJ : RowJ σ) (hG : GdK g) {k n : Nat} (hn : k < rK σ ∧ n ≤ 9) (hk : (A.G o).1 = 93) (hn9 : A.n o = 2) (hI : A.I o 0 = nI k) (hI2 : A.I o 1 = nI n) : CtU g wI ⟨g.lm 93, 1⟩ 13 4 28 [.ref o, .ref q] A (fun u A' => CgP A q d σ (hasteC σ k n) u A') (fun x A' => XX A q (hasteC σ k n) σ x A') := fun hg => by
  refine fwd (V := (fun j => if j = 0 then nI k else nI n)) fb2 (fw93 hg hK) (b_93 hL hv hJ hG hn) (by decide) q2219 q148 (fun H hR => ?_) hg
  obtain ⟨c, c1, c2, c3, c4, c5⟩ := (hR.cell o).2.1 (by rw [hk]; decide) (by rw [hk]; decide)
  rw [hn9] at c5
  refine ⟨c, c1, c3, fun j hj => ?_⟩
  · rcases (show j = 0 ∨ j = 1 by omega) with e | e <;> subst e
    · rw [c5 0 (by omega), hI]; rfl
    · rw [c5 1 (by omega), hI2]; rfl
theorem fw94 {g : GZ} (hg : fw_ok g) (h : LamK g) : ∀ U : State, g.s.WarmedH U.vm → FwAt U (g.lm 94) ⟨#[0x2a, 0xb4, 0x00, 0x0f, 0x2b, 0xb8, 0x00, 0x17, 0xac]⟩ 1 (fun j => (([15] : List Nat)[j]?).getD 0) 23 yX1_lambda_turnRound_6 := h.s94.fw hg lk94 ⟨rfl, rfl, by decide +kernel⟩ (by decide +kernel) ⟨by decide, by decide⟩ q2229 q2228 q148 (by decide +kernel)
theorem lc94 {g : GZ} {A : HA} (hK : LamK g) {o q : Nat} {d : Nat → Nat} {σ : Rw} (hL : Ly A q d σ) (hv : Lv A.I q d σ) (hJ : RowJ σ) (hG : GdK g) {k : Nat} (hn : k < rK σ) (hk : (A.G o).1 = 94) (hn9 : A.n o = 1) (hI : A.I o 0 = nI k) : CtU g wI ⟨g.lm 94, 1⟩ 13 4 28 [.ref o, .ref q] A (fun u A' => CgP A q d σ (turnC σ k) u A') (fun x A' => XX A q (turnC σ k) σ x A') := fun hg => by
  refine fwd (V := (fun _ => nI k)) fb1 (fw94 hg hK) (b_94 hL hv hJ hG hn) (by decide) q2229 q148 (fun H hR => ?_) hg
  obtain ⟨c, c1, c2, c3, c4, c5⟩ := (hR.cell o).2.1 (by rw [hk]; decide) (by rw [hk]; decide)
  rw [hn9] at c5
  refine ⟨c, c1, c3, fun j hj => ?_⟩
  · have e : j = 0 := by omega
    subst e; rw [c5 0 (by omega), hI]
/-- the object o is the change x -/
def LamIs (A : HA) (o : Nat) (x : Chg) : Prop := (x.1 = 0 ∧ ((A.G o).1 = 80 ∨ (A.G o).1 = 88) ∧ A.n o = 1 ∧ A.I o 0 = nI x.2.1) ∨ (x.1 = 1 ∧ ((A.G o).1 = 84 ∨ (A.G o).1 = 89) ∧ A.n o = 1 ∧ A.I o 0 = nI x.2.1) ∨ (x.1 = 2 ∧ ((A.G o).1 = 85 ∨ (A.G o).1 = 90) ∧ A.n o = 1 ∧ A.I o 0 = nI x.2.1) ∨ (x.1 = 3 ∧ ((A.G o).1 = 86 ∨ (A.G o).1 = 91) ∧ A.n o = 1 ∧ A.I o 0 = nI x.2.1) ∨ (x.1 = 4 ∧ ((A.G o).1 = 87 ∨ (A.G o).1 = 92) ∧ A.n o = 1 ∧ A.I o 0 = nI x.2.1) ∨ (x.1 = 5 ∧ ((A.G o).1 = 81 ∨ (A.G o).1 = 93) ∧ A.n o = 2 ∧ A.I o 0 = nI x.2.1 ∧ A.I o 1 = nI x.2.2) ∨ (x.1 = 6 ∧ ((A.G o).1 = 82 ∨ (A.G o).1 = 94) ∧ A.n o = 1 ∧ A.I o 0 = nI x.2.1) ∨ (x.1 = 7 ∧ ((A.G o).1 = 83) ∧ A.n o = 0)
theorem LamIs.k {A : HA} {o : Nat} {x : Chg} (h : LamIs A o x) : 80 ≤ (A.G o).1 ∧ (A.G o).1 < 100 := by
  unfold LamIs at h
  omega
theorem LamIs.gw {A B : HA} {X : Nat → Prop} {o : Nat} {x : Chg} (h : LamIs A o x) (hz : Zk A) (hw : Gw A B X) (hX : ¬ X o) : LamIs B o x := by
  have lo : o < A.z := by
    rcases Nat.lt_or_ge o A.z with q | q
    · exact q
    · have h9 := hz o q
      have := h.k
      omega
  obtain ⟨e1, e2, e3⟩ := hw.2 o lo
  unfold LamIs at h ⊢
  rw [e1, e2, (e3 hX).2.1]
  exact h
section
variable {g : GZ} {z : ZX} {cc : ByteArray} {own : String} {nL d mc ms k n : Nat} {A : HA} {pc : Nat} {lv : List (Option Value)} {st : List Value}
theorem r_does (C : CX g z cc own nL d mc ms) (hK : LamK g) {o q ix ct : Nat} {dq : Nat → Nat} {σ : Rw} {x : Chg} (hI : LamIs A o x) (hok : x.ok σ) (hL : Ly A q dq σ) (hv : Lv A.I q dq σ) (hJ : RowJ σ) (hG : GdK g) (hlink : Cond.methodLink own ix xDoes ∈ lw_all) (hdd : 13 < d) (hk : k + 4 ≤ mc) (hs : n + 28 ≤ ms) (hsum : (st.map fun v => v.category).sum ≤ 8) (hlen : lv.length = nL) (hd : decode cc pc = .ok (.invokeinterface ix ct, 5))
    (kx : ∀ e A', XX A q (x.C σ) σ e A' → (∃ E, fw_ex (A'.G e).1 = some E) → wx g z (k + 4) (n + 28) A' pc lv e) (kk : ∀ u A', ((x.1 < 7 ∧ CgP A q dq σ (x.C σ) u A') ∨ (x.1 = 7 ∧ u = -1 ∧ A' = A)) → wa g z (k + 4) (n + 28) A' (pc + 5) lv (.int u :: st)) : wa g z k n A pc lv (.ref q :: .ref o :: st) := by
  rcases hI with ⟨e, h1 | h1, h2, h3⟩ | ⟨e, h1 | h1, h2, h3⟩ | ⟨e, h1 | h1, h2, h3⟩ | ⟨e, h1 | h1, h2, h3⟩ | ⟨e, h1 | h1, h2, h3⟩ | ⟨e, h1 | h1, h2, h3, h4⟩ | ⟨e, h1 | h1, h2, h3⟩ | ⟨e, h1, h2⟩
  · have e9 : x.C σ = runC σ x.2.1 := by unfold Chg.C; rw [e]; rfl
    have ho := hok
    unfold Chg.ok at ho
    rw [e] at ho
    rw [e9] at kx kk
    exact r_callL C hK.s80 ⟨rfl, rfl, by decide +kernel⟩ (fw80 C.1 hK) (lc80 hK hL hv hJ hG (ho) h1 h2 h3) hlink ⟨by decide, by decide⟩ h1 hdd hk hs hsum hlen hd kx (fun u A9 hp => kk u A9 (Or.inl ⟨by omega, hp⟩))
  · have e9 : x.C σ = runC σ x.2.1 := by unfold Chg.C; rw [e]; rfl
    have ho := hok
    unfold Chg.ok at ho
    rw [e] at ho
    rw [e9] at kx kk
    exact r_callL C hK.s88 ⟨rfl, rfl, by decide +kernel⟩ (fw88 C.1 hK) (lc88 hK hL hv hJ hG (ho) h1 h2 h3) hlink ⟨by decide, by decide⟩ h1 hdd hk hs hsum hlen hd kx (fun u A9 hp => kk u A9 (Or.inl ⟨by omega, hp⟩))
  · have e9 : x.C σ = fenceC σ x.2.1 := by unfold Chg.C; rw [e]; rfl
    have ho := hok
    unfold Chg.ok at ho
    rw [e] at ho
    rw [e9] at kx kk
    exact r_callL C hK.s84 ⟨rfl, rfl, by decide +kernel⟩ (fw84 C.1 hK) (lc84 hK hL hv hJ hG (ho) h1 h2 h3) hlink ⟨by decide, by decide⟩ h1 hdd hk hs hsum hlen hd kx (fun u A9 hp => kk u A9 (Or.inl ⟨by omega, hp⟩))
  · have e9 : x.C σ = fenceC σ x.2.1 := by unfold Chg.C; rw [e]; rfl
    have ho := hok
    unfold Chg.ok at ho
    rw [e] at ho
    rw [e9] at kx kk
    exact r_callL C hK.s89 ⟨rfl, rfl, by decide +kernel⟩ (fw89 C.1 hK) (lc89 hK hL hv hJ hG (ho) h1 h2 h3) hlink ⟨by decide, by decide⟩ h1 hdd hk hs hsum hlen hd kx (fun u A9 hp => kk u A9 (Or.inl ⟨by omega, hp⟩))
  · have e9 : x.C σ = openC σ x.2.1 := by unfold Chg.C; rw [e]; rfl
    have ho := hok
    unfold Chg.ok at ho
    rw [e] at ho
    rw [e9] at kx kk
    exact r_callL C hK.s85 ⟨rfl, rfl, by decide +kernel⟩ (fw85 C.1 hK) (lc85 hK hL hv hJ hG (ho) h1 h2 h3) hlink ⟨by decide, by decide⟩ h1 hdd hk hs hsum hlen hd kx (fun u A9 hp => kk u A9 (Or.inl ⟨by omega, hp⟩))
  · have e9 : x.C σ = openC σ x.2.1 := by unfold Chg.C; rw [e]; rfl
    have ho := hok
    unfold Chg.ok at ho
    rw [e] at ho
    rw [e9] at kx kk
    exact r_callL C hK.s90 ⟨rfl, rfl, by decide +kernel⟩ (fw90 C.1 hK) (lc90 hK hL hv hJ hG (ho) h1 h2 h3) hlink ⟨by decide, by decide⟩ h1 hdd hk hs hsum hlen hd kx (fun u A9 hp => kk u A9 (Or.inl ⟨by omega, hp⟩))
  · have e9 : x.C σ = paveC σ x.2.1 := by unfold Chg.C; rw [e]; rfl
    have ho := hok
    unfold Chg.ok at ho
    rw [e] at ho
    rw [e9] at kx kk
    exact r_callL C hK.s86 ⟨rfl, rfl, by decide +kernel⟩ (fw86 C.1 hK) (lc86 hK hL hv hJ hG (ho) h1 h2 h3) hlink ⟨by decide, by decide⟩ h1 hdd hk hs hsum hlen hd kx (fun u A9 hp => kk u A9 (Or.inl ⟨by omega, hp⟩))
  · have e9 : x.C σ = paveC σ x.2.1 := by unfold Chg.C; rw [e]; rfl
    have ho := hok
    unfold Chg.ok at ho
    rw [e] at ho
    rw [e9] at kx kk
    exact r_callL C hK.s91 ⟨rfl, rfl, by decide +kernel⟩ (fw91 C.1 hK) (lc91 hK hL hv hJ hG (ho) h1 h2 h3) hlink ⟨by decide, by decide⟩ h1 hdd hk hs hsum hlen hd kx (fun u A9 hp => kk u A9 (Or.inl ⟨by omega, hp⟩))
  · have e9 : x.C σ = sowC σ x.2.1 := by unfold Chg.C; rw [e]; rfl
    have ho := hok
    unfold Chg.ok at ho
    rw [e] at ho
    rw [e9] at kx kk
    exact r_callL C hK.s87 ⟨rfl, rfl, by decide +kernel⟩ (fw87 C.1 hK) (lc87 hK hL hv hJ hG (ho) h1 h2 h3) hlink ⟨by decide, by decide⟩ h1 hdd hk hs hsum hlen hd kx (fun u A9 hp => kk u A9 (Or.inl ⟨by omega, hp⟩))
  · have e9 : x.C σ = sowC σ x.2.1 := by unfold Chg.C; rw [e]; rfl
    have ho := hok
    unfold Chg.ok at ho
    rw [e] at ho
    rw [e9] at kx kk
    exact r_callL C hK.s92 ⟨rfl, rfl, by decide +kernel⟩ (fw92 C.1 hK) (lc92 hK hL hv hJ hG (ho) h1 h2 h3) hlink ⟨by decide, by decide⟩ h1 hdd hk hs hsum hlen hd kx (fun u A9 hp => kk u A9 (Or.inl ⟨by omega, hp⟩))
  · have e9 : x.C σ = hasteC σ x.2.1 x.2.2 := by unfold Chg.C; rw [e]; rfl
    have ho := hok
    unfold Chg.ok at ho
    rw [e] at ho
    rw [e9] at kx kk
    exact r_callL C hK.s81 ⟨rfl, rfl, by decide +kernel⟩ (fw81 C.1 hK) (lc81 hK hL hv hJ hG (ho) h1 h2 h3 h4) hlink ⟨by decide, by decide⟩ h1 hdd hk hs hsum hlen hd kx (fun u A9 hp => kk u A9 (Or.inl ⟨by omega, hp⟩))
  · have e9 : x.C σ = hasteC σ x.2.1 x.2.2 := by unfold Chg.C; rw [e]; rfl
    have ho := hok
    unfold Chg.ok at ho
    rw [e] at ho
    rw [e9] at kx kk
    exact r_callL C hK.s93 ⟨rfl, rfl, by decide +kernel⟩ (fw93 C.1 hK) (lc93 hK hL hv hJ hG (ho) h1 h2 h3 h4) hlink ⟨by decide, by decide⟩ h1 hdd hk hs hsum hlen hd kx (fun u A9 hp => kk u A9 (Or.inl ⟨by omega, hp⟩))
  · have e9 : x.C σ = turnC σ x.2.1 := by unfold Chg.C; rw [e]; rfl
    have ho := hok
    unfold Chg.ok at ho
    rw [e] at ho
    rw [e9] at kx kk
    exact r_callL C hK.s82 ⟨rfl, rfl, by decide +kernel⟩ (fw82 C.1 hK) (lc82 hK hL hv hJ hG (ho) h1 h2 h3) hlink ⟨by decide, by decide⟩ h1 hdd hk hs hsum hlen hd kx (fun u A9 hp => kk u A9 (Or.inl ⟨by omega, hp⟩))
  · have e9 : x.C σ = turnC σ x.2.1 := by unfold Chg.C; rw [e]; rfl
    have ho := hok
    unfold Chg.ok at ho
    rw [e] at ho
    rw [e9] at kx kk
    exact r_callL C hK.s94 ⟨rfl, rfl, by decide +kernel⟩ (fw94 C.1 hK) (lc94 hK hL hv hJ hG (ho) h1 h2 h3) hlink ⟨by decide, by decide⟩ h1 hdd hk hs hsum hlen hd kx (fun u A9 hp => kk u A9 (Or.inl ⟨by omega, hp⟩))
  · have e9 : x.C σ = (-1, σ) := by unfold Chg.C; rw [e]; rfl
    have ho := hok
    unfold Chg.ok at ho
    rw [e] at ho
    rw [e9] at kx kk
    exact r_callL C hK.s83 ⟨rfl, rfl, by decide +kernel⟩ (fw83 C.1 hK) (lc83 hK hL hv hJ hG h1 h2) hlink ⟨by decide, by decide⟩ h1 hdd hk hs hsum hlen hd kx (fun u A9 hp => kk u A9 (Or.inr ⟨e, hp.1, hp.2⟩))
end
