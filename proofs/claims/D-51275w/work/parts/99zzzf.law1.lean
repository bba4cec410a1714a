/-! THE LAW, 1: its wrappers -/
set_option maxRecDepth 100000
set_option maxHeartbeats 4000000 in
theorem w_append {g : GZ} {A : HA} {c o mc ms : Nat} {x0 x1 x2 x3 x4 : Int32} {Po : Int32 → HA → Prop} {Px : Nat → HA → Prop} (hM : Ct g wI yX1_append (.code yX1_append cX1_append 6 (Option.some Jvm.ClassFile.FieldType.int)) 8 mc ms [.ref c, .int x0, .int x1, .int x2, .int x3, .int x4] A Po Px) (h1 : (A.G c).1 = 1) (hPo : ∀ v D, Po v D → (D.G o).1 = 401 ∧ D.n o = 1) (hPx : ∀ q D, Px q D → (D.G q).1 = 18)  : Ct g wI yX0_append (.codeWith yX0_append cX0_append 8 (Option.some Jvm.ClassFile.FieldType.int) [(0, 16, 19, 13)]) 67 mc ms [.ref c, .int (x0), .int (x1), .int (x2), .int (x3), .int (x4), .ref o] (A) (fun u B => (u = nI 0 ∧ ∃ v D, Po v D ∧ B = D.sL o (va_up (D.L o) 0 v.toInt64)) ∨ (∃ q, Px q B ∧ u = nI 1)) fw_no := by
  refine Ct.ofH [some (.ref c), some (.int (x0)), some (.int (x1)), some (.int (x2)), some (.int (x3)), some (.int (x4)), some (.ref o), none] (by decide) rfl rfl fun z C hx hnm E => ?_
  refine r_aload_6 (pc := 0) C dX0_append_0 ?_
  refine r_iconst (pc := 2) C dX0_append_2 ci_0 ?_
  refine r_aload_0 (pc := 3) C dX0_append_3 ?_
  refine r_iload_1 (pc := 4) C dX0_append_4 ?_
  refine r_iload_2 (pc := 5) C dX0_append_5 ?_
  refine r_iload_3 (pc := 6) C dX0_append_6 ?_
  refine r_iload_4 (pc := 7) C dX0_append_7 ?_
  refine r_iload_5 (pc := 9) C dX0_append_9 ?_
  refine r_V5ix (pc := 11) C hM vl_X0_7 h1 (by decide) (by omega) (by omega) (Nat.le_of_ble_eq_true rfl) rfl dX0_append_11 ?_ (fun u1 A1 hc1 => ?_)
  · intro q9 A9 hp9 hE9
    refine r_catch C [] ⟨0, 16, 19, 13⟩ [] (hx.trans rfl) (fun _ h => nomatch h) (by decide) (by decide) q1413 q1420 ((congrArg fw_ex (hPx q9 A9 hp9)).trans rfl) ?_
    refine r_astore_7 (pc := 19) C dX0_append_19 rfl ?_
    refine r_iconst (pc := 21) C dX0_append_21 ci_1 ?_
    refine r_iret (pc := 22) C E rfl (by omega) (by omega) dX0_append_22 ?_
    exact Or.inr ⟨q9, hp9, rfl⟩
  have hg9 := hPo _ _ hc1
  refine r_i2l (pc := 14) C dX0_append_14 ?_
  refine r_last (pc := 15) (j := 0) C hg9.1 rfl rfl (by rw [hg9.2]; exact Nat.one_pos) (by decide) dX0_append_15 ?_
  refine r_goto (pc := 16) (tgt := 23) C dX0_append_16 (by decide) ?_
  refine r_iconst (pc := 23) C dX0_append_23 ci_0 ?_
  refine r_iret (pc := 24) C E rfl (by omega) (by omega) dX0_append_24 ?_
  exact Or.inl ⟨rfl, u1, A1, hc1, rfl⟩
set_option maxHeartbeats 4000000 in
theorem w_truncate {g : GZ} {A : HA} {c o mc ms : Nat} {x0 : Int32} {Po : Int32 → HA → Prop} {Px : Nat → HA → Prop} (hM : Ct g wI yX1_truncate (.code yX1_truncate cX1_truncate 2 (Option.some Jvm.ClassFile.FieldType.int)) 8 mc ms [.ref c, .int x0] A Po Px) (h1 : (A.G c).1 = 1) (hPo : ∀ v D, Po v D → (D.G o).1 = 401 ∧ D.n o = 1) (hPx : ∀ q D, Px q D → (D.G q).1 = 19)  : Ct g wI yX0_truncate (.codeWith yX0_truncate cX0_truncate 4 (Option.some Jvm.ClassFile.FieldType.int) [(0, 9, 12, 19)]) 67 mc ms [.ref c, .int (x0), .ref o] (A) (fun u B => (u = nI 0 ∧ ∃ v D, Po v D ∧ B = D.sL o (va_up (D.L o) 0 v.toInt64)) ∨ (∃ q, Px q B ∧ u = nI 1)) fw_no := by
  refine Ct.ofH [some (.ref c), some (.int (x0)), some (.ref o), none] (by decide) rfl rfl fun z C hx hnm E => ?_
  refine r_aload_2 (pc := 0) C dX0_truncate_0 ?_
  refine r_iconst (pc := 1) C dX0_truncate_1 ci_0 ?_
  refine r_aload_0 (pc := 2) C dX0_truncate_2 ?_
  refine r_iload_1 (pc := 3) C dX0_truncate_3 ?_
  refine r_V1ix (pc := 4) C hM vl_X0_15 h1 (by decide) (by omega) (by omega) (Nat.le_of_ble_eq_true rfl) rfl dX0_truncate_4 ?_ (fun u1 A1 hc1 => ?_)
  · intro q9 A9 hp9 hE9
    refine r_catch C [] ⟨0, 9, 12, 19⟩ [] (hx.trans rfl) (fun _ h => nomatch h) (by decide) (by decide) q1440 q716 ((congrArg fw_ex (hPx q9 A9 hp9)).trans rfl) ?_
    refine r_astore_3 (pc := 12) C dX0_truncate_12 rfl ?_
    refine r_iconst (pc := 13) C dX0_truncate_13 ci_1 ?_
    refine r_iret (pc := 14) C E rfl (by omega) (by omega) dX0_truncate_14 ?_
    exact Or.inr ⟨q9, hp9, rfl⟩
  have hg9 := hPo _ _ hc1
  refine r_i2l (pc := 7) C dX0_truncate_7 ?_
  refine r_last (pc := 8) (j := 0) C hg9.1 rfl rfl (by rw [hg9.2]; exact Nat.one_pos) (by decide) dX0_truncate_8 ?_
  refine r_goto (pc := 9) (tgt := 15) C dX0_truncate_9 (by decide) ?_
  refine r_iconst (pc := 15) C dX0_truncate_15 ci_0 ?_
  refine r_iret (pc := 16) C E rfl (by omega) (by omega) dX0_truncate_16 ?_
  exact Or.inl ⟨rfl, u1, A1, hc1, rfl⟩
set_option maxHeartbeats 4000000 in
theorem w_readText {g : GZ} {A : HA} {c o mc ms : Nat} {Po : Int32 → HA → Prop} {Px : Nat → HA → Prop} (hM : Ct g wI yX1_readText (.codeWith yX1_readText cX1_readText 4 (Option.some Jvm.ClassFile.FieldType.int) [(0, 12, 20, 149), (0, 12, 27, 0), (20, 28, 27, 0)]) 26 mc ms [.ref c] A Po Px) (h1 : (A.G c).1 = 1) (hPo : ∀ v D, Po v D → (D.G o).1 = 401 ∧ D.n o = 1) (hPx : ∀ q D, Px q D → (D.G q).1 = 19)  : Ct g wI yX0_readText (.codeWith yX0_readText cX0_readText 3 (Option.some Jvm.ClassFile.FieldType.int) [(0, 8, 11, 19)]) 67 mc ms [.ref c, .ref o] (A) (fun u B => (u = nI 0 ∧ ∃ v D, Po v D ∧ B = D.sL o (va_up (D.L o) 0 v.toInt64)) ∨ (∃ q, Px q B ∧ u = nI 1)) fw_no := by
  refine Ct.ofH [some (.ref c), some (.ref o), none] (by decide) rfl rfl fun z C hx hnm E => ?_
  refine r_aload_1 (pc := 0) C dX0_readText_0 ?_
  refine r_iconst (pc := 1) C dX0_readText_1 ci_0 ?_
  refine r_aload_0 (pc := 2) C dX0_readText_2 ?_
  refine r_VH0ix (pc := 3) C hM vl_X0_21 h1 (by decide) (by omega) (by omega) (Nat.le_of_ble_eq_true rfl) rfl dX0_readText_3 ?_ (fun u1 A1 hc1 => ?_)
  · intro q9 A9 hp9 hE9
    refine r_catch C [] ⟨0, 8, 11, 19⟩ [] (hx.trans rfl) (fun _ h => nomatch h) (by decide) (by decide) q1440 q716 ((congrArg fw_ex (hPx q9 A9 hp9)).trans rfl) ?_
    refine r_astore_2 (pc := 11) C dX0_readText_11 rfl ?_
    refine r_iconst (pc := 12) C dX0_readText_12 ci_1 ?_
    refine r_iret (pc := 13) C E rfl (by omega) (by omega) dX0_readText_13 ?_
    exact Or.inr ⟨q9, hp9, rfl⟩
  have hg9 := hPo _ _ hc1
  refine r_i2l (pc := 6) C dX0_readText_6 ?_
  refine r_last (pc := 7) (j := 0) C hg9.1 rfl rfl (by rw [hg9.2]; exact Nat.one_pos) (by decide) dX0_readText_7 ?_
  refine r_goto (pc := 8) (tgt := 14) C dX0_readText_8 (by decide) ?_
  refine r_iconst (pc := 14) C dX0_readText_14 ci_0 ?_
  refine r_iret (pc := 15) C E rfl (by omega) (by omega) dX0_readText_15 ?_
  exact Or.inl ⟨rfl, u1, A1, hc1, rfl⟩
set_option maxHeartbeats 4000000 in
theorem w_runOrders {g : GZ} {A : HA} {c o mc ms : Nat} {Po : Int32 → HA → Prop} {Px : Nat → HA → Prop} (hM : Ct g wI yX1_runOrders (.codeWith yX1_runOrders cX1_runOrders 4 (Option.some Jvm.ClassFile.FieldType.int) [(0, 12, 20, 149), (0, 12, 27, 0), (20, 28, 27, 0)]) 66 mc ms [.ref c] A Po Px) (h1 : (A.G c).1 = 1) (hPo : ∀ v D, Po v D → (D.G o).1 = 401 ∧ D.n o = 1) (hPx : ∀ q D, Px q D → (D.G q).1 = 19)  : Ct g wI yX0_runOrders (.codeWith yX0_runOrders cX0_runOrders 3 (Option.some Jvm.ClassFile.FieldType.int) [(0, 8, 11, 19)]) 67 mc ms [.ref c, .ref o] (A) (fun u B => (u = nI 0 ∧ ∃ v D, Po v D ∧ B = D.sL o (va_up (D.L o) 0 v.toInt64)) ∨ (∃ q, Px q B ∧ u = nI 1)) fw_no := by
  refine Ct.ofH [some (.ref c), some (.ref o), none] (by decide) rfl rfl fun z C hx hnm E => ?_
  refine r_aload_1 (pc := 0) C dX0_runOrders_0 ?_
  refine r_iconst (pc := 1) C dX0_runOrders_1 ci_0 ?_
  refine r_aload_0 (pc := 2) C dX0_runOrders_2 ?_
  refine r_VH0ix (pc := 3) C hM vl_X0_25 h1 (by decide) (by omega) (by omega) (Nat.le_of_ble_eq_true rfl) rfl dX0_runOrders_3 ?_ (fun u1 A1 hc1 => ?_)
  · intro q9 A9 hp9 hE9
    refine r_catch C [] ⟨0, 8, 11, 19⟩ [] (hx.trans rfl) (fun _ h => nomatch h) (by decide) (by decide) q1440 q716 ((congrArg fw_ex (hPx q9 A9 hp9)).trans rfl) ?_
    refine r_astore_2 (pc := 11) C dX0_runOrders_11 rfl ?_
    refine r_iconst (pc := 12) C dX0_runOrders_12 ci_1 ?_
    refine r_iret (pc := 13) C E rfl (by omega) (by omega) dX0_runOrders_13 ?_
    exact Or.inr ⟨q9, hp9, rfl⟩
  have hg9 := hPo _ _ hc1
  refine r_i2l (pc := 6) C dX0_runOrders_6 ?_
  refine r_last (pc := 7) (j := 0) C hg9.1 rfl rfl (by rw [hg9.2]; exact Nat.one_pos) (by decide) dX0_runOrders_7 ?_
  refine r_goto (pc := 8) (tgt := 14) C dX0_runOrders_8 (by decide) ?_
  refine r_iconst (pc := 14) C dX0_runOrders_14 ci_0 ?_
  refine r_iret (pc := 15) C E rfl (by omega) (by omega) dX0_runOrders_15 ?_
  exact Or.inl ⟨rfl, u1, A1, hc1, rfl⟩
set_option maxHeartbeats 4000000 in
theorem w_size {g : GZ} {A : HA} {c o mc ms : Nat} {x0 : Int32} {Po : Int32 → HA → Prop} {Px : Nat → HA → Prop} (hM : Ct g wI yX1_size (.code yX1_size cX1_size 2 (Option.some Jvm.ClassFile.FieldType.int)) 8 mc ms [.ref c, .int x0] A Po Px) (h1 : (A.G c).1 = 1) (hPo : ∀ v D, Po v D → (D.G o).1 = 401 ∧ D.n o = 1) (hPx : ∀ q D, Px q D → (D.G q).1 = 19)  : Ct g wI yX0_size (.codeWith yX0_size cX0_size 4 (Option.some Jvm.ClassFile.FieldType.int) [(0, 9, 12, 19)]) 67 mc ms [.ref c, .int (x0), .ref o] (A) (fun u B => (u = nI 0 ∧ ∃ v D, Po v D ∧ B = D.sL o (va_up (D.L o) 0 v.toInt64)) ∨ (∃ q, Px q B ∧ u = nI 1)) fw_no := by
  refine Ct.ofH [some (.ref c), some (.int (x0)), some (.ref o), none] (by decide) rfl rfl fun z C hx hnm E => ?_
  refine r_aload_2 (pc := 0) C dX0_size_0 ?_
  refine r_iconst (pc := 1) C dX0_size_1 ci_0 ?_
  refine r_aload_0 (pc := 2) C dX0_size_2 ?_
  refine r_iload_1 (pc := 3) C dX0_size_3 ?_
  refine r_V1ix (pc := 4) C hM vl_X0_28 h1 (by decide) (by omega) (by omega) (Nat.le_of_ble_eq_true rfl) rfl dX0_size_4 ?_ (fun u1 A1 hc1 => ?_)
  · intro q9 A9 hp9 hE9
    refine r_catch C [] ⟨0, 9, 12, 19⟩ [] (hx.trans rfl) (fun _ h => nomatch h) (by decide) (by decide) q1440 q716 ((congrArg fw_ex (hPx q9 A9 hp9)).trans rfl) ?_
    refine r_astore_3 (pc := 12) C dX0_size_12 rfl ?_
    refine r_iconst (pc := 13) C dX0_size_13 ci_1 ?_
    refine r_iret (pc := 14) C E rfl (by omega) (by omega) dX0_size_14 ?_
    exact Or.inr ⟨q9, hp9, rfl⟩
  have hg9 := hPo _ _ hc1
  refine r_i2l (pc := 7) C dX0_size_7 ?_
  refine r_last (pc := 8) (j := 0) C hg9.1 rfl rfl (by rw [hg9.2]; exact Nat.one_pos) (by decide) dX0_size_8 ?_
  refine r_goto (pc := 9) (tgt := 15) C dX0_size_9 (by decide) ?_
  refine r_iconst (pc := 15) C dX0_size_15 ci_0 ?_
  refine r_iret (pc := 16) C E rfl (by omega) (by omega) dX0_size_16 ?_
  exact Or.inl ⟨rfl, u1, A1, hc1, rfl⟩
set_option maxHeartbeats 4000000 in
theorem w_cell {g : GZ} {A : HA} {c o mc ms : Nat} {x0 x1 x2 : Int32} {Po : Int32 → HA → Prop} {Px : Nat → HA → Prop} (hM : Ct g wI yX1_cell (.code yX1_cell cX1_cell 5 (Option.some Jvm.ClassFile.FieldType.int)) 11 mc ms [.ref c, .int x0, .int x1, .int x2] A Po Px) (h1 : (A.G c).1 = 1) (hPo : ∀ v D, Po v D → (D.G o).1 = 401 ∧ D.n o = 1) (hPx : ∀ q D, Px q D → (D.G q).1 = 20 ∨ (D.G q).1 = 19) (hNc : va_Nc RJ18 RJ22 g.s)  : Ct g wI yX0_cell (.codeWith yX0_cell cX0_cell 6 (Option.some Jvm.ClassFile.FieldType.int) [(0, 12, 15, 35), (0, 12, 19, 19)]) 67 mc ms [.ref c, .int (x0), .int (x1), .int (x2), .ref o] (A) (fun u B => (u = nI 0 ∧ ∃ v D, Po v D ∧ B = D.sL o (va_up (D.L o) 0 v.toInt64)) ∨ (∃ q, Px q B ∧ (((B.G q).1 = 20 ∧ u = nI 1) ∨ ((B.G q).1 = 19 ∧ u = nI 2)))) fw_no := by
  refine Ct.ofH [some (.ref c), some (.int (x0)), some (.int (x1)), some (.int (x2)), some (.ref o), none] (by decide) rfl rfl fun z C hx hnm E => ?_
  refine r_aload_4 (pc := 0) C dX0_cell_0 ?_
  refine r_iconst (pc := 2) C dX0_cell_2 ci_0 ?_
  refine r_aload_0 (pc := 3) C dX0_cell_3 ?_
  refine r_iload_1 (pc := 4) C dX0_cell_4 ?_
  refine r_iload_2 (pc := 5) C dX0_cell_5 ?_
  refine r_iload_3 (pc := 6) C dX0_cell_6 ?_
  refine r_V3ix (pc := 7) C hM vl_X0_31 h1 (by decide) (by omega) (by omega) (Nat.le_of_ble_eq_true rfl) rfl dX0_cell_7 ?_ (fun u1 A1 hc1 => ?_)
  · intro q9 A9 hp9 hE9
    rcases hPx q9 A9 hp9 with hk9 | hk9
    · skip
      refine r_catch C [] ⟨0, 12, 15, 35⟩ [⟨0, 12, 19, 19⟩] (hx.trans rfl) (fun _ h => nomatch h) (by decide) (by decide) q1923 q1939 ((congrArg fw_ex hk9).trans rfl) ?_
      refine r_astore_5 (pc := 15) C dX0_cell_15 rfl ?_
      refine r_iconst (pc := 17) C dX0_cell_17 ci_1 ?_
      refine r_iret (pc := 18) C E rfl (by omega) (by omega) dX0_cell_18 ?_
      exact Or.inr ⟨q9, hp9, Or.inl ⟨hk9, rfl⟩⟩
    · skip
      refine r_catch C [⟨0, 12, 15, 35⟩] ⟨0, 12, 19, 19⟩ [] (hx.trans rfl) (fun y hy => by cases hy with | head => exact Or.inr ⟨by decide, _, q1923, hNc⟩ | tail _ h => exact nomatch h) (by decide) (by decide) q1440 q716 ((congrArg fw_ex hk9).trans rfl) ?_
      refine r_astore_5 (pc := 19) C dX0_cell_19 rfl ?_
      refine r_iconst (pc := 21) C dX0_cell_21 ci_2 ?_
      refine r_iret (pc := 22) C E rfl (by omega) (by omega) dX0_cell_22 ?_
      exact Or.inr ⟨q9, hp9, Or.inr ⟨hk9, rfl⟩⟩
  have hg9 := hPo _ _ hc1
  refine r_i2l (pc := 10) C dX0_cell_10 ?_
  refine r_last (pc := 11) (j := 0) C hg9.1 rfl rfl (by rw [hg9.2]; exact Nat.one_pos) (by decide) dX0_cell_11 ?_
  refine r_goto (pc := 12) (tgt := 23) C dX0_cell_12 (by decide) ?_
  refine r_iconst (pc := 23) C dX0_cell_23 ci_0 ?_
  refine r_iret (pc := 24) C E rfl (by omega) (by omega) dX0_cell_24 ?_
  exact Or.inl ⟨rfl, u1, A1, hc1, rfl⟩
set_option maxHeartbeats 4000000 in
theorem w_gate {g : GZ} {A : HA} {c o mc ms : Nat} {x0 x1 : Int32} {Po : Int32 → HA → Prop} {Px : Nat → HA → Prop} (hM : Ct g wI yX1_gate (.code yX1_gate cX1_gate 4 (Option.some Jvm.ClassFile.FieldType.int)) 9 mc ms [.ref c, .int x0, .int x1] A Po Px) (h1 : (A.G c).1 = 1) (hPo : ∀ v D, Po v D → (D.G o).1 = 401 ∧ D.n o = 1) (hPx : ∀ q D, Px q D → (D.G q).1 = 20 ∨ (D.G q).1 = 19) (hNc : va_Nc RJ18 RJ22 g.s)  : Ct g wI yX0_gate (.codeWith yX0_gate cX0_gate 5 (Option.some Jvm.ClassFile.FieldType.int) [(0, 10, 13, 35), (0, 10, 17, 19)]) 67 mc ms [.ref c, .int (x0), .int (x1), .ref o] (A) (fun u B => (u = nI 0 ∧ ∃ v D, Po v D ∧ B = D.sL o (va_up (D.L o) 0 v.toInt64)) ∨ (∃ q, Px q B ∧ (((B.G q).1 = 20 ∧ u = nI 1) ∨ ((B.G q).1 = 19 ∧ u = nI 2)))) fw_no := by
  refine Ct.ofH [some (.ref c), some (.int (x0)), some (.int (x1)), some (.ref o), none] (by decide) rfl rfl fun z C hx hnm E => ?_
  refine r_aload_3 (pc := 0) C dX0_gate_0 ?_
  refine r_iconst (pc := 1) C dX0_gate_1 ci_0 ?_
  refine r_aload_0 (pc := 2) C dX0_gate_2 ?_
  refine r_iload_1 (pc := 3) C dX0_gate_3 ?_
  refine r_iload_2 (pc := 4) C dX0_gate_4 ?_
  refine r_V2ix (pc := 5) C hM vl_X0_37 h1 (by decide) (by omega) (by omega) (Nat.le_of_ble_eq_true rfl) rfl dX0_gate_5 ?_ (fun u1 A1 hc1 => ?_)
  · intro q9 A9 hp9 hE9
    rcases hPx q9 A9 hp9 with hk9 | hk9
    · skip
      refine r_catch C [] ⟨0, 10, 13, 35⟩ [⟨0, 10, 17, 19⟩] (hx.trans rfl) (fun _ h => nomatch h) (by decide) (by decide) q1923 q1939 ((congrArg fw_ex hk9).trans rfl) ?_
      refine r_astore_4 (pc := 13) C dX0_gate_13 rfl ?_
      refine r_iconst (pc := 15) C dX0_gate_15 ci_1 ?_
      refine r_iret (pc := 16) C E rfl (by omega) (by omega) dX0_gate_16 ?_
      exact Or.inr ⟨q9, hp9, Or.inl ⟨hk9, rfl⟩⟩
    · skip
      refine r_catch C [⟨0, 10, 13, 35⟩] ⟨0, 10, 17, 19⟩ [] (hx.trans rfl) (fun y hy => by cases hy with | head => exact Or.inr ⟨by decide, _, q1923, hNc⟩ | tail _ h => exact nomatch h) (by decide) (by decide) q1440 q716 ((congrArg fw_ex hk9).trans rfl) ?_
      refine r_astore_4 (pc := 17) C dX0_gate_17 rfl ?_
      refine r_iconst (pc := 19) C dX0_gate_19 ci_2 ?_
      refine r_iret (pc := 20) C E rfl (by omega) (by omega) dX0_gate_20 ?_
      exact Or.inr ⟨q9, hp9, Or.inr ⟨hk9, rfl⟩⟩
  have hg9 := hPo _ _ hc1
  refine r_i2l (pc := 8) C dX0_gate_8 ?_
  refine r_last (pc := 9) (j := 0) C hg9.1 rfl rfl (by rw [hg9.2]; exact Nat.one_pos) (by decide) dX0_gate_9 ?_
  refine r_goto (pc := 10) (tgt := 21) C dX0_gate_10 (by decide) ?_
  refine r_iconst (pc := 21) C dX0_gate_21 ci_0 ?_
  refine r_iret (pc := 22) C E rfl (by omega) (by omega) dX0_gate_22 ?_
  exact Or.inl ⟨rfl, u1, A1, hc1, rfl⟩
set_option maxHeartbeats 4000000 in
theorem w_walker {g : GZ} {A : HA} {c o mc ms : Nat} {x0 x1 : Int32} {Po : Int32 → HA → Prop} {Px : Nat → HA → Prop} (hM : Ct g wI yX1_walker (.code yX1_walker cX1_walker 4 (Option.some Jvm.ClassFile.FieldType.int)) 10 mc ms [.ref c, .int x0, .int x1] A Po Px) (h1 : (A.G c).1 = 1) (hPo : ∀ v D, Po v D → (D.G o).1 = 401 ∧ D.n o = 1) (hPx : ∀ q D, Px q D → (D.G q).1 = 20 ∨ (D.G q).1 = 19) (hNc : va_Nc RJ18 RJ22 g.s)  : Ct g wI yX0_walker (.codeWith yX0_walker cX0_walker 5 (Option.some Jvm.ClassFile.FieldType.int) [(0, 10, 13, 35), (0, 10, 17, 19)]) 67 mc ms [.ref c, .int (x0), .int (x1), .ref o] (A) (fun u B => (u = nI 0 ∧ ∃ v D, Po v D ∧ B = D.sL o (va_up (D.L o) 0 v.toInt64)) ∨ (∃ q, Px q B ∧ (((B.G q).1 = 20 ∧ u = nI 1) ∨ ((B.G q).1 = 19 ∧ u = nI 2)))) fw_no := by
  refine Ct.ofH [some (.ref c), some (.int (x0)), some (.int (x1)), some (.ref o), none] (by decide) rfl rfl fun z C hx hnm E => ?_
  refine r_aload_3 (pc := 0) C dX0_walker_0 ?_
  refine r_iconst (pc := 1) C dX0_walker_1 ci_0 ?_
  refine r_aload_0 (pc := 2) C dX0_walker_2 ?_
  refine r_iload_1 (pc := 3) C dX0_walker_3 ?_
  refine r_iload_2 (pc := 4) C dX0_walker_4 ?_
  refine r_V2ix (pc := 5) C hM vl_X0_41 h1 (by decide) (by omega) (by omega) (Nat.le_of_ble_eq_true rfl) rfl dX0_walker_5 ?_ (fun u1 A1 hc1 => ?_)
  · intro q9 A9 hp9 hE9
    rcases hPx q9 A9 hp9 with hk9 | hk9
    · skip
      refine r_catch C [] ⟨0, 10, 13, 35⟩ [⟨0, 10, 17, 19⟩] (hx.trans rfl) (fun _ h => nomatch h) (by decide) (by decide) q1923 q1939 ((congrArg fw_ex hk9).trans rfl) ?_
      refine r_astore_4 (pc := 13) C dX0_walker_13 rfl ?_
      refine r_iconst (pc := 15) C dX0_walker_15 ci_1 ?_
      refine r_iret (pc := 16) C E rfl (by omega) (by omega) dX0_walker_16 ?_
      exact Or.inr ⟨q9, hp9, Or.inl ⟨hk9, rfl⟩⟩
    · skip
      refine r_catch C [⟨0, 10, 13, 35⟩] ⟨0, 10, 17, 19⟩ [] (hx.trans rfl) (fun y hy => by cases hy with | head => exact Or.inr ⟨by decide, _, q1923, hNc⟩ | tail _ h => exact nomatch h) (by decide) (by decide) q1440 q716 ((congrArg fw_ex hk9).trans rfl) ?_
      refine r_astore_4 (pc := 17) C dX0_walker_17 rfl ?_
      refine r_iconst (pc := 19) C dX0_walker_19 ci_2 ?_
      refine r_iret (pc := 20) C E rfl (by omega) (by omega) dX0_walker_20 ?_
      exact Or.inr ⟨q9, hp9, Or.inr ⟨hk9, rfl⟩⟩
  have hg9 := hPo _ _ hc1
  refine r_i2l (pc := 8) C dX0_walker_8 ?_
  refine r_last (pc := 9) (j := 0) C hg9.1 rfl rfl (by rw [hg9.2]; exact Nat.one_pos) (by decide) dX0_walker_9 ?_
  refine r_goto (pc := 10) (tgt := 21) C dX0_walker_10 (by decide) ?_
  refine r_iconst (pc := 21) C dX0_walker_21 ci_0 ?_
  refine r_iret (pc := 22) C E rfl (by omega) (by omega) dX0_walker_22 ?_
  exact Or.inl ⟨rfl, u1, A1, hc1, rfl⟩
set_option maxHeartbeats 4000000 in
theorem w_nameByte {g : GZ} {A : HA} {c o mc ms : Nat} {x0 x1 x2 : Int32} {Po : Int32 → HA → Prop} {Px : Nat → HA → Prop} (hM : Ct g wI yX1_nameByte (.code yX1_nameByte cX1_nameByte 5 (Option.some Jvm.ClassFile.FieldType.int)) 10 mc ms [.ref c, .int x0, .int x1, .int x2] A Po Px) (h1 : (A.G c).1 = 1) (hPo : ∀ v D, Po v D → (D.G o).1 = 401 ∧ D.n o = 1) (hPx : ∀ q D, Px q D → (D.G q).1 = 20)  : Ct g wI yX0_nameByte (.codeWith yX0_nameByte cX0_nameByte 6 (Option.some Jvm.ClassFile.FieldType.int) [(0, 12, 15, 35)]) 67 mc ms [.ref c, .int (x0), .int (x1), .int (x2), .ref o] (A) (fun u B => (u = nI 0 ∧ ∃ v D, Po v D ∧ B = D.sL o (va_up (D.L o) 0 v.toInt64)) ∨ (∃ q, Px q B ∧ u = nI 1)) fw_no := by
  refine Ct.ofH [some (.ref c), some (.int (x0)), some (.int (x1)), some (.int (x2)), some (.ref o), none] (by decide) rfl rfl fun z C hx hnm E => ?_
  refine r_aload_4 (pc := 0) C dX0_nameByte_0 ?_
  refine r_iconst (pc := 2) C dX0_nameByte_2 ci_0 ?_
  refine r_aload_0 (pc := 3) C dX0_nameByte_3 ?_
  refine r_iload_1 (pc := 4) C dX0_nameByte_4 ?_
  refine r_iload_2 (pc := 5) C dX0_nameByte_5 ?_
  refine r_iload_3 (pc := 6) C dX0_nameByte_6 ?_
  refine r_V3ix (pc := 7) C hM vl_X0_44 h1 (by decide) (by omega) (by omega) (Nat.le_of_ble_eq_true rfl) rfl dX0_nameByte_7 ?_ (fun u1 A1 hc1 => ?_)
  · intro q9 A9 hp9 hE9
    refine r_catch C [] ⟨0, 12, 15, 35⟩ [] (hx.trans rfl) (fun _ h => nomatch h) (by decide) (by decide) q1923 q1939 ((congrArg fw_ex (hPx q9 A9 hp9)).trans rfl) ?_
    refine r_astore_5 (pc := 15) C dX0_nameByte_15 rfl ?_
    refine r_iconst (pc := 17) C dX0_nameByte_17 ci_1 ?_
    refine r_iret (pc := 18) C E rfl (by omega) (by omega) dX0_nameByte_18 ?_
    exact Or.inr ⟨q9, hp9, rfl⟩
  have hg9 := hPo _ _ hc1
  refine r_i2l (pc := 10) C dX0_nameByte_10 ?_
  refine r_last (pc := 11) (j := 0) C hg9.1 rfl rfl (by rw [hg9.2]; exact Nat.one_pos) (by decide) dX0_nameByte_11 ?_
  refine r_goto (pc := 12) (tgt := 19) C dX0_nameByte_12 (by decide) ?_
  refine r_iconst (pc := 19) C dX0_nameByte_19 ci_0 ?_
  refine r_iret (pc := 20) C E rfl (by omega) (by omega) dX0_nameByte_20 ?_
  exact Or.inl ⟨rfl, u1, A1, hc1, rfl⟩
set_option maxHeartbeats 4000000 in
theorem w_isWet {g : GZ} {A : HA} {c o mc ms : Nat} {x0 : Int32} {Po : Int32 → HA → Prop} {Px : Nat → HA → Prop} (hM : Ct g wI yX1_isWet (.code yX1_isWet cX1_isWet 2 (Option.some Jvm.ClassFile.FieldType.boolean)) 8 mc ms [.ref c, .int x0] A Po Px) (h1 : (A.G c).1 = 1) (hPo : ∀ v D, Po v D → (D.G o).1 = 401 ∧ D.n o = 1) (hPx : ∀ q D, Px q D → (D.G q).1 = 19)  : Ct g wI yX0_isWet (.codeWith yX0_isWet cX0_isWet 4 (Option.some Jvm.ClassFile.FieldType.int) [(0, 16, 19, 19)]) 67 mc ms [.ref c, .int (x0), .ref o] (A) (fun u B => (u = nI 0 ∧ ∃ v D, Po v D ∧ B = D.sL o (va_up (D.L o) 0 (if v = 0 then 0 else 1))) ∨ (∃ q, Px q B ∧ u = nI 1)) fw_no := by
  refine Ct.ofH [some (.ref c), some (.int (x0)), some (.ref o), none] (by decide) rfl rfl fun z C hx hnm E => ?_
  refine r_aload_2 (pc := 0) C dX0_isWet_0 ?_
  refine r_iconst (pc := 1) C dX0_isWet_1 ci_0 ?_
  refine r_aload_0 (pc := 2) C dX0_isWet_2 ?_
  refine r_iload_1 (pc := 3) C dX0_isWet_3 ?_
  refine r_V1ix (pc := 4) C hM vl_X0_48 h1 (by decide) (by omega) (by omega) (Nat.le_of_ble_eq_true rfl) rfl dX0_isWet_4 ?_ (fun u1 A1 hc1 => ?_)
  · intro q9 A9 hp9 hE9
    refine r_catch C [] ⟨0, 16, 19, 19⟩ [] (hx.trans rfl) (fun _ h => nomatch h) (by decide) (by decide) q1440 q716 ((congrArg fw_ex (hPx q9 A9 hp9)).trans rfl) ?_
    refine r_astore_3 (pc := 19) C dX0_isWet_19 rfl ?_
    refine r_iconst (pc := 20) C dX0_isWet_20 ci_1 ?_
    refine r_iret (pc := 21) C E rfl (by omega) (by omega) dX0_isWet_21 ?_
    exact Or.inr ⟨q9, hp9, rfl⟩
  have hg9 := hPo _ _ hc1
  refine r_if_eq (pc := 7) (tgt := 14) C dX0_isWet_7 (by decide) (fun b7 => ?_) (fun b7 => ?_)
  · skip
    refine r_lconst (pc := 14) (v := 0) C dX0_isWet_14 (by decide) ?_
    refine r_last (pc := 15) (j := 0) C hg9.1 rfl rfl (by rw [hg9.2]; exact Nat.one_pos) (by decide) dX0_isWet_15 ?_
    refine r_goto (pc := 16) (tgt := 22) C dX0_isWet_16 (by decide) ?_
    refine r_iconst (pc := 22) C dX0_isWet_22 ci_0 ?_
    refine r_iret (pc := 23) C E rfl (by omega) (by omega) dX0_isWet_23 ?_
    first
      | exact Or.inl ⟨rfl, u1, A1, hc1, by rw [if_pos ‹u1 = 0›]⟩
      | exact Or.inl ⟨rfl, u1, A1, hc1, by rw [if_neg ‹¬ u1 = 0›]⟩
  · skip
    refine r_lconst (pc := 10) (v := 1) C dX0_isWet_10 (by decide) ?_
    refine r_goto (pc := 11) (tgt := 15) C dX0_isWet_11 (by decide) ?_
    refine r_last (pc := 15) (j := 0) C hg9.1 rfl rfl (by rw [hg9.2]; exact Nat.one_pos) (by decide) dX0_isWet_15 ?_
    refine r_goto (pc := 16) (tgt := 22) C dX0_isWet_16 (by decide) ?_
    refine r_iconst (pc := 22) C dX0_isWet_22 ci_0 ?_
    refine r_iret (pc := 23) C E rfl (by omega) (by omega) dX0_isWet_23 ?_
    first
      | exact Or.inl ⟨rfl, u1, A1, hc1, by rw [if_pos ‹u1 = 0›]⟩
      | exact Or.inl ⟨rfl, u1, A1, hc1, by rw [if_neg ‹¬ u1 = 0›]⟩
set_option maxHeartbeats 4000000 in
theorem w_cost {g : GZ} {A : HA} {c o mc ms : Nat} {x0 x1 x2 : Int32} {Po : Int32 → HA → Prop} {Px : Nat → HA → Prop} (hM : Ct g wI yX1_cost (.code yX1_cost cX1_cost 6 (Option.some Jvm.ClassFile.FieldType.int)) 10 mc ms [.ref c, .int x0, .int x1, .int x2] A Po Px) (h1 : (A.G c).1 = 1) (hPo : ∀ v D, Po v D → (D.G o).1 = 401 ∧ D.n o = 1) (hPx : ∀ q D, Px q D → (D.G q).1 = 20)  : Ct g wI yX0_cost (.codeWith yX0_cost cX0_cost 6 (Option.some Jvm.ClassFile.FieldType.int) [(0, 12, 15, 35)]) 67 mc ms [.ref c, .int (x0), .int (x1), .int (x2), .ref o] (A) (fun u B => (u = nI 0 ∧ ∃ v D, Po v D ∧ B = D.sL o (va_up (D.L o) 0 v.toInt64)) ∨ (∃ q, Px q B ∧ u = nI 1)) fw_no := by
  refine Ct.ofH [some (.ref c), some (.int (x0)), some (.int (x1)), some (.int (x2)), some (.ref o), none] (by decide) rfl rfl fun z C hx hnm E => ?_
  refine r_aload_4 (pc := 0) C dX0_cost_0 ?_
  refine r_iconst (pc := 2) C dX0_cost_2 ci_0 ?_
  refine r_aload_0 (pc := 3) C dX0_cost_3 ?_
  refine r_iload_1 (pc := 4) C dX0_cost_4 ?_
  refine r_iload_2 (pc := 5) C dX0_cost_5 ?_
  refine r_iload_3 (pc := 6) C dX0_cost_6 ?_
  refine r_V3ix (pc := 7) C hM vl_X0_52 h1 (by decide) (by omega) (by omega) (Nat.le_of_ble_eq_true rfl) rfl dX0_cost_7 ?_ (fun u1 A1 hc1 => ?_)
  · intro q9 A9 hp9 hE9
    refine r_catch C [] ⟨0, 12, 15, 35⟩ [] (hx.trans rfl) (fun _ h => nomatch h) (by decide) (by decide) q1923 q1939 ((congrArg fw_ex (hPx q9 A9 hp9)).trans rfl) ?_
    refine r_astore_5 (pc := 15) C dX0_cost_15 rfl ?_
    refine r_iconst (pc := 17) C dX0_cost_17 ci_1 ?_
    refine r_iret (pc := 18) C E rfl (by omega) (by omega) dX0_cost_18 ?_
    exact Or.inr ⟨q9, hp9, rfl⟩
  have hg9 := hPo _ _ hc1
  refine r_i2l (pc := 10) C dX0_cost_10 ?_
  refine r_last (pc := 11) (j := 0) C hg9.1 rfl rfl (by rw [hg9.2]; exact Nat.one_pos) (by decide) dX0_cost_11 ?_
  refine r_goto (pc := 12) (tgt := 19) C dX0_cost_12 (by decide) ?_
  refine r_iconst (pc := 19) C dX0_cost_19 ci_0 ?_
  refine r_iret (pc := 20) C E rfl (by omega) (by omega) dX0_cost_20 ?_
  exact Or.inl ⟨rfl, u1, A1, hc1, rfl⟩
set_option maxHeartbeats 4000000 in
theorem w_wayCost {g : GZ} {A : HA} {c o mc ms : Nat} {x0 : Int32} {Po : Int32 → HA → Prop} {Px : Nat → HA → Prop} (hM : Ct g wI yX1_wayCost (.code yX1_wayCost cX1_wayCost 2 (Option.some Jvm.ClassFile.FieldType.int)) 10 mc ms [.ref c, .int x0] A Po Px) (h1 : (A.G c).1 = 1) (hPo : ∀ v D, Po v D → (D.G o).1 = 401 ∧ D.n o = 1) (hPx : ∀ q D, Px q D → (D.G q).1 = 20)  : Ct g wI yX0_wayCost (.codeWith yX0_wayCost cX0_wayCost 4 (Option.some Jvm.ClassFile.FieldType.int) [(0, 9, 12, 35)]) 67 mc ms [.ref c, .int (x0), .ref o] (A) (fun u B => (u = nI 0 ∧ ∃ v D, Po v D ∧ B = D.sL o (va_up (D.L o) 0 v.toInt64)) ∨ (∃ q, Px q B ∧ u = nI 1)) fw_no := by
  refine Ct.ofH [some (.ref c), some (.int (x0)), some (.ref o), none] (by decide) rfl rfl fun z C hx hnm E => ?_
  refine r_aload_2 (pc := 0) C dX0_wayCost_0 ?_
  refine r_iconst (pc := 1) C dX0_wayCost_1 ci_0 ?_
  refine r_aload_0 (pc := 2) C dX0_wayCost_2 ?_
  refine r_iload_1 (pc := 3) C dX0_wayCost_3 ?_
  refine r_V1ix (pc := 4) C hM vl_X0_55 h1 (by decide) (by omega) (by omega) (Nat.le_of_ble_eq_true rfl) rfl dX0_wayCost_4 ?_ (fun u1 A1 hc1 => ?_)
  · intro q9 A9 hp9 hE9
    refine r_catch C [] ⟨0, 9, 12, 35⟩ [] (hx.trans rfl) (fun _ h => nomatch h) (by decide) (by decide) q1923 q1939 ((congrArg fw_ex (hPx q9 A9 hp9)).trans rfl) ?_
    refine r_astore_3 (pc := 12) C dX0_wayCost_12 rfl ?_
    refine r_iconst (pc := 13) C dX0_wayCost_13 ci_1 ?_
    refine r_iret (pc := 14) C E rfl (by omega) (by omega) dX0_wayCost_14 ?_
    exact Or.inr ⟨q9, hp9, rfl⟩
  have hg9 := hPo _ _ hc1
  refine r_i2l (pc := 7) C dX0_wayCost_7 ?_
  refine r_last (pc := 8) (j := 0) C hg9.1 rfl rfl (by rw [hg9.2]; exact Nat.one_pos) (by decide) dX0_wayCost_8 ?_
  refine r_goto (pc := 9) (tgt := 15) C dX0_wayCost_9 (by decide) ?_
  refine r_iconst (pc := 15) C dX0_wayCost_15 ci_0 ?_
  refine r_iret (pc := 16) C E rfl (by omega) (by omega) dX0_wayCost_16 ?_
  exact Or.inl ⟨rfl, u1, A1, hc1, rfl⟩
set_option maxHeartbeats 4000000 in
theorem w_waySteps {g : GZ} {A : HA} {c o mc ms : Nat} {x0 : Int32} {Po : Int32 → HA → Prop} {Px : Nat → HA → Prop} (hM : Ct g wI yX1_waySteps (.code yX1_waySteps cX1_waySteps 2 (Option.some Jvm.ClassFile.FieldType.int)) 10 mc ms [.ref c, .int x0] A Po Px) (h1 : (A.G c).1 = 1) (hPo : ∀ v D, Po v D → (D.G o).1 = 401 ∧ D.n o = 1) (hPx : ∀ q D, Px q D → (D.G q).1 = 20)  : Ct g wI yX0_waySteps (.codeWith yX0_waySteps cX0_waySteps 4 (Option.some Jvm.ClassFile.FieldType.int) [(0, 9, 12, 35)]) 67 mc ms [.ref c, .int (x0), .ref o] (A) (fun u B => (u = nI 0 ∧ ∃ v D, Po v D ∧ B = D.sL o (va_up (D.L o) 0 v.toInt64)) ∨ (∃ q, Px q B ∧ u = nI 1)) fw_no := by
  refine Ct.ofH [some (.ref c), some (.int (x0)), some (.ref o), none] (by decide) rfl rfl fun z C hx hnm E => ?_
  refine r_aload_2 (pc := 0) C dX0_waySteps_0 ?_
  refine r_iconst (pc := 1) C dX0_waySteps_1 ci_0 ?_
  refine r_aload_0 (pc := 2) C dX0_waySteps_2 ?_
  refine r_iload_1 (pc := 3) C dX0_waySteps_3 ?_
  refine r_V1ix (pc := 4) C hM vl_X0_58 h1 (by decide) (by omega) (by omega) (Nat.le_of_ble_eq_true rfl) rfl dX0_waySteps_4 ?_ (fun u1 A1 hc1 => ?_)
  · intro q9 A9 hp9 hE9
    refine r_catch C [] ⟨0, 9, 12, 35⟩ [] (hx.trans rfl) (fun _ h => nomatch h) (by decide) (by decide) q1923 q1939 ((congrArg fw_ex (hPx q9 A9 hp9)).trans rfl) ?_
    refine r_astore_3 (pc := 12) C dX0_waySteps_12 rfl ?_
    refine r_iconst (pc := 13) C dX0_waySteps_13 ci_1 ?_
    refine r_iret (pc := 14) C E rfl (by omega) (by omega) dX0_waySteps_14 ?_
    exact Or.inr ⟨q9, hp9, rfl⟩
  have hg9 := hPo _ _ hc1
  refine r_i2l (pc := 7) C dX0_waySteps_7 ?_
  refine r_last (pc := 8) (j := 0) C hg9.1 rfl rfl (by rw [hg9.2]; exact Nat.one_pos) (by decide) dX0_waySteps_8 ?_
  refine r_goto (pc := 9) (tgt := 15) C dX0_waySteps_9 (by decide) ?_
  refine r_iconst (pc := 15) C dX0_waySteps_15 ci_0 ?_
  refine r_iret (pc := 16) C E rfl (by omega) (by omega) dX0_waySteps_16 ?_
  exact Or.inl ⟨rfl, u1, A1, hc1, rfl⟩
set_option maxHeartbeats 4000000 in
theorem w_wayCell {g : GZ} {A : HA} {c o mc ms : Nat} {x0 x1 : Int32} {Po : Int32 → HA → Prop} {Px : Nat → HA → Prop} (hM : Ct g wI yX1_wayCell (.code yX1_wayCell cX1_wayCell 6 (Option.some Jvm.ClassFile.FieldType.int)) 10 mc ms [.ref c, .int x0, .int x1] A Po Px) (h1 : (A.G c).1 = 1) (hPo : ∀ v D, Po v D → (D.G o).1 = 401 ∧ D.n o = 1) (hPx : ∀ q D, Px q D → (D.G q).1 = 20)  : Ct g wI yX0_wayCell (.codeWith yX0_wayCell cX0_wayCell 5 (Option.some Jvm.ClassFile.FieldType.int) [(0, 10, 13, 35)]) 67 mc ms [.ref c, .int (x0), .int (x1), .ref o] (A) (fun u B => (u = nI 0 ∧ ∃ v D, Po v D ∧ B = D.sL o (va_up (D.L o) 0 v.toInt64)) ∨ (∃ q, Px q B ∧ u = nI 1)) fw_no := by
  refine Ct.ofH [some (.ref c), some (.int (x0)), some (.int (x1)), some (.ref o), none] (by decide) rfl rfl fun z C hx hnm E => ?_
  refine r_aload_3 (pc := 0) C dX0_wayCell_0 ?_
  refine r_iconst (pc := 1) C dX0_wayCell_1 ci_0 ?_
  refine r_aload_0 (pc := 2) C dX0_wayCell_2 ?_
  refine r_iload_1 (pc := 3) C dX0_wayCell_3 ?_
  refine r_iload_2 (pc := 4) C dX0_wayCell_4 ?_
  refine r_V2ix (pc := 5) C hM vl_X0_61 h1 (by decide) (by omega) (by omega) (Nat.le_of_ble_eq_true rfl) rfl dX0_wayCell_5 ?_ (fun u1 A1 hc1 => ?_)
  · intro q9 A9 hp9 hE9
    refine r_catch C [] ⟨0, 10, 13, 35⟩ [] (hx.trans rfl) (fun _ h => nomatch h) (by decide) (by decide) q1923 q1939 ((congrArg fw_ex (hPx q9 A9 hp9)).trans rfl) ?_
    refine r_astore_4 (pc := 13) C dX0_wayCell_13 rfl ?_
    refine r_iconst (pc := 15) C dX0_wayCell_15 ci_1 ?_
    refine r_iret (pc := 16) C E rfl (by omega) (by omega) dX0_wayCell_16 ?_
    exact Or.inr ⟨q9, hp9, rfl⟩
  have hg9 := hPo _ _ hc1
  refine r_i2l (pc := 8) C dX0_wayCell_8 ?_
  refine r_last (pc := 9) (j := 0) C hg9.1 rfl rfl (by rw [hg9.2]; exact Nat.one_pos) (by decide) dX0_wayCell_9 ?_
  refine r_goto (pc := 10) (tgt := 17) C dX0_wayCell_10 (by decide) ?_
  refine r_iconst (pc := 17) C dX0_wayCell_17 ci_0 ?_
  refine r_iret (pc := 18) C E rfl (by omega) (by omega) dX0_wayCell_18 ?_
  exact Or.inl ⟨rfl, u1, A1, hc1, rfl⟩
set_option maxHeartbeats 4000000 in
theorem w_why {g : GZ} {A : HA} {c o mc ms : Nat} {x0 x1 : Int32} {Po : Int32 → HA → Prop} {Px : Nat → HA → Prop} (hM : Ct g wI yX1_why (.code yX1_why cX1_why 8 (Option.some Jvm.ClassFile.FieldType.int)) 10 mc ms [.ref c, .int x0, .int x1] A Po Px) (h1 : (A.G c).1 = 1) (hPo : ∀ v D, Po v D → (D.G o).1 = 401 ∧ D.n o = 1) (hPx : ∀ q D, Px q D → (D.G q).1 = 20 ∨ (D.G q).1 = 19) (hNc : va_Nc RJ18 RJ22 g.s)  : Ct g wI yX0_why (.codeWith yX0_why cX0_why 5 (Option.some Jvm.ClassFile.FieldType.int) [(0, 10, 13, 35), (0, 10, 17, 19)]) 67 mc ms [.ref c, .int (x0), .int (x1), .ref o] (A) (fun u B => (u = nI 0 ∧ ∃ v D, Po v D ∧ B = D.sL o (va_up (D.L o) 0 v.toInt64)) ∨ (∃ q, Px q B ∧ (((B.G q).1 = 20 ∧ u = nI 1) ∨ ((B.G q).1 = 19 ∧ u = nI 2)))) fw_no := by
  refine Ct.ofH [some (.ref c), some (.int (x0)), some (.int (x1)), some (.ref o), none] (by decide) rfl rfl fun z C hx hnm E => ?_
  refine r_aload_3 (pc := 0) C dX0_why_0 ?_
  refine r_iconst (pc := 1) C dX0_why_1 ci_0 ?_
  refine r_aload_0 (pc := 2) C dX0_why_2 ?_
  refine r_iload_1 (pc := 3) C dX0_why_3 ?_
  refine r_iload_2 (pc := 4) C dX0_why_4 ?_
  refine r_V2ix (pc := 5) C hM vl_X0_64 h1 (by decide) (by omega) (by omega) (Nat.le_of_ble_eq_true rfl) rfl dX0_why_5 ?_ (fun u1 A1 hc1 => ?_)
  · intro q9 A9 hp9 hE9
    rcases hPx q9 A9 hp9 with hk9 | hk9
    · skip
      refine r_catch C [] ⟨0, 10, 13, 35⟩ [⟨0, 10, 17, 19⟩] (hx.trans rfl) (fun _ h => nomatch h) (by decide) (by decide) q1923 q1939 ((congrArg fw_ex hk9).trans rfl) ?_
      refine r_astore_4 (pc := 13) C dX0_why_13 rfl ?_
      refine r_iconst (pc := 15) C dX0_why_15 ci_1 ?_
      refine r_iret (pc := 16) C E rfl (by omega) (by omega) dX0_why_16 ?_
      exact Or.inr ⟨q9, hp9, Or.inl ⟨hk9, rfl⟩⟩
    · skip
      refine r_catch C [⟨0, 10, 13, 35⟩] ⟨0, 10, 17, 19⟩ [] (hx.trans rfl) (fun y hy => by cases hy with | head => exact Or.inr ⟨by decide, _, q1923, hNc⟩ | tail _ h => exact nomatch h) (by decide) (by decide) q1440 q716 ((congrArg fw_ex hk9).trans rfl) ?_
      refine r_astore_4 (pc := 17) C dX0_why_17 rfl ?_
      refine r_iconst (pc := 19) C dX0_why_19 ci_2 ?_
      refine r_iret (pc := 20) C E rfl (by omega) (by omega) dX0_why_20 ?_
      exact Or.inr ⟨q9, hp9, Or.inr ⟨hk9, rfl⟩⟩
  have hg9 := hPo _ _ hc1
  refine r_i2l (pc := 8) C dX0_why_8 ?_
  refine r_last (pc := 9) (j := 0) C hg9.1 rfl rfl (by rw [hg9.2]; exact Nat.one_pos) (by decide) dX0_why_9 ?_
  refine r_goto (pc := 10) (tgt := 21) C dX0_why_10 (by decide) ?_
  refine r_iconst (pc := 21) C dX0_why_21 ci_0 ?_
  refine r_iret (pc := 22) C E rfl (by omega) (by omega) dX0_why_22 ?_
  exact Or.inl ⟨rfl, u1, A1, hc1, rfl⟩
set_option maxHeartbeats 4000000 in
theorem w_keptBy {g : GZ} {A : HA} {c o mc ms : Nat} {x0 x1 x2 : Int32} {Po : Int32 → HA → Prop} {Px : Nat → HA → Prop} (hM : Ct g wI yX1_keptBy (.code yX1_keptBy cX1_keptBy 7 (Option.some Jvm.ClassFile.FieldType.int)) 11 mc ms [.ref c, .int x0, .int x1, .int x2] A Po Px) (h1 : (A.G c).1 = 1) (hPo : ∀ v D, Po v D → (D.G o).1 = 401 ∧ D.n o = 1) (hPx : ∀ q D, Px q D → (D.G q).1 = 20 ∨ (D.G q).1 = 19) (hNc : va_Nc RJ18 RJ22 g.s)  : Ct g wI yX0_keptBy (.codeWith yX0_keptBy cX0_keptBy 6 (Option.some Jvm.ClassFile.FieldType.int) [(0, 12, 15, 35), (0, 12, 19, 19)]) 67 mc ms [.ref c, .int (x0), .int (x1), .int (x2), .ref o] (A) (fun u B => (u = nI 0 ∧ ∃ v D, Po v D ∧ B = D.sL o (va_up (D.L o) 0 v.toInt64)) ∨ (∃ q, Px q B ∧ (((B.G q).1 = 20 ∧ u = nI 1) ∨ ((B.G q).1 = 19 ∧ u = nI 2)))) fw_no := by
  refine Ct.ofH [some (.ref c), some (.int (x0)), some (.int (x1)), some (.int (x2)), some (.ref o), none] (by decide) rfl rfl fun z C hx hnm E => ?_
  refine r_aload_4 (pc := 0) C dX0_keptBy_0 ?_
  refine r_iconst (pc := 2) C dX0_keptBy_2 ci_0 ?_
  refine r_aload_0 (pc := 3) C dX0_keptBy_3 ?_
  refine r_iload_1 (pc := 4) C dX0_keptBy_4 ?_
  refine r_iload_2 (pc := 5) C dX0_keptBy_5 ?_
  refine r_iload_3 (pc := 6) C dX0_keptBy_6 ?_
  refine r_V3ix (pc := 7) C hM vl_X0_67 h1 (by decide) (by omega) (by omega) (Nat.le_of_ble_eq_true rfl) rfl dX0_keptBy_7 ?_ (fun u1 A1 hc1 => ?_)
  · intro q9 A9 hp9 hE9
    rcases hPx q9 A9 hp9 with hk9 | hk9
    · skip
      refine r_catch C [] ⟨0, 12, 15, 35⟩ [⟨0, 12, 19, 19⟩] (hx.trans rfl) (fun _ h => nomatch h) (by decide) (by decide) q1923 q1939 ((congrArg fw_ex hk9).trans rfl) ?_
      refine r_astore_5 (pc := 15) C dX0_keptBy_15 rfl ?_
      refine r_iconst (pc := 17) C dX0_keptBy_17 ci_1 ?_
      refine r_iret (pc := 18) C E rfl (by omega) (by omega) dX0_keptBy_18 ?_
      exact Or.inr ⟨q9, hp9, Or.inl ⟨hk9, rfl⟩⟩
    · skip
      refine r_catch C [⟨0, 12, 15, 35⟩] ⟨0, 12, 19, 19⟩ [] (hx.trans rfl) (fun y hy => by cases hy with | head => exact Or.inr ⟨by decide, _, q1923, hNc⟩ | tail _ h => exact nomatch h) (by decide) (by decide) q1440 q716 ((congrArg fw_ex hk9).trans rfl) ?_
      refine r_astore_5 (pc := 19) C dX0_keptBy_19 rfl ?_
      refine r_iconst (pc := 21) C dX0_keptBy_21 ci_2 ?_
      refine r_iret (pc := 22) C E rfl (by omega) (by omega) dX0_keptBy_22 ?_
      exact Or.inr ⟨q9, hp9, Or.inr ⟨hk9, rfl⟩⟩
  have hg9 := hPo _ _ hc1
  refine r_i2l (pc := 10) C dX0_keptBy_10 ?_
  refine r_last (pc := 11) (j := 0) C hg9.1 rfl rfl (by rw [hg9.2]; exact Nat.one_pos) (by decide) dX0_keptBy_11 ?_
  refine r_goto (pc := 12) (tgt := 23) C dX0_keptBy_12 (by decide) ?_
  refine r_iconst (pc := 23) C dX0_keptBy_23 ci_0 ?_
  refine r_iret (pc := 24) C E rfl (by omega) (by omega) dX0_keptBy_24 ?_
  exact Or.inl ⟨rfl, u1, A1, hc1, rfl⟩
set_option maxHeartbeats 4000000 in
theorem w_account {g : GZ} {A : HA} {c o mc ms : Nat} {x0 : Int32} {Po : Int32 → HA → Prop} {Px : Nat → HA → Prop} (hM : Ct g wI yX1_account (.code yX1_account cX1_account 2 (Option.some Jvm.ClassFile.FieldType.int)) 8 mc ms [.ref c, .int x0] A Po Px) (h1 : (A.G c).1 = 1) (hPo : ∀ v D, Po v D → (D.G o).1 = 401 ∧ D.n o = 1) (hPx : ∀ q D, Px q D → (D.G q).1 = 19)  : Ct g wI yX0_account (.codeWith yX0_account cX0_account 4 (Option.some Jvm.ClassFile.FieldType.int) [(0, 9, 12, 19)]) 67 mc ms [.ref c, .int (x0), .ref o] (A) (fun u B => (u = nI 0 ∧ ∃ v D, Po v D ∧ B = D.sL o (va_up (D.L o) 0 v.toInt64)) ∨ (∃ q, Px q B ∧ u = nI 1)) fw_no := by
  refine Ct.ofH [some (.ref c), some (.int (x0)), some (.ref o), none] (by decide) rfl rfl fun z C hx hnm E => ?_
  refine r_aload_2 (pc := 0) C dX0_account_0 ?_
  refine r_iconst (pc := 1) C dX0_account_1 ci_0 ?_
  refine r_aload_0 (pc := 2) C dX0_account_2 ?_
  refine r_iload_1 (pc := 3) C dX0_account_3 ?_
  refine r_V1ix (pc := 4) C hM vl_X0_70 h1 (by decide) (by omega) (by omega) (Nat.le_of_ble_eq_true rfl) rfl dX0_account_4 ?_ (fun u1 A1 hc1 => ?_)
  · intro q9 A9 hp9 hE9
    refine r_catch C [] ⟨0, 9, 12, 19⟩ [] (hx.trans rfl) (fun _ h => nomatch h) (by decide) (by decide) q1440 q716 ((congrArg fw_ex (hPx q9 A9 hp9)).trans rfl) ?_
    refine r_astore_3 (pc := 12) C dX0_account_12 rfl ?_
    refine r_iconst (pc := 13) C dX0_account_13 ci_1 ?_
    refine r_iret (pc := 14) C E rfl (by omega) (by omega) dX0_account_14 ?_
    exact Or.inr ⟨q9, hp9, rfl⟩
  have hg9 := hPo _ _ hc1
  refine r_i2l (pc := 7) C dX0_account_7 ?_
  refine r_last (pc := 8) (j := 0) C hg9.1 rfl rfl (by rw [hg9.2]; exact Nat.one_pos) (by decide) dX0_account_8 ?_
  refine r_goto (pc := 9) (tgt := 15) C dX0_account_9 (by decide) ?_
  refine r_iconst (pc := 15) C dX0_account_15 ci_0 ?_
  refine r_iret (pc := 16) C E rfl (by omega) (by omega) dX0_account_16 ?_
  exact Or.inl ⟨rfl, u1, A1, hc1, rfl⟩
set_option maxHeartbeats 4000000 in
theorem w_grassIn {g : GZ} {A : HA} {c o mc ms : Nat} {x0 x1 x2 : Int32} {Po : Int32 → HA → Prop} {Px : Nat → HA → Prop} (hM : Ct g wI yX1_grassIn (.code yX1_grassIn cX1_grassIn 6 (Option.some Jvm.ClassFile.FieldType.int)) 12 mc ms [.ref c, .int x0, .int x1, .int x2] A Po Px) (h1 : (A.G c).1 = 1) (hPo : ∀ v D, Po v D → (D.G o).1 = 401 ∧ D.n o = 1) (hPx : ∀ q D, Px q D → (D.G q).1 = 20 ∨ (D.G q).1 = 19) (hNc : va_Nc RJ18 RJ22 g.s)  : Ct g wI yX0_grassIn (.codeWith yX0_grassIn cX0_grassIn 6 (Option.some Jvm.ClassFile.FieldType.int) [(0, 12, 15, 35), (0, 12, 19, 19)]) 67 mc ms [.ref c, .int (x0), .int (x1), .int (x2), .ref o] (A) (fun u B => (u = nI 0 ∧ ∃ v D, Po v D ∧ B = D.sL o (va_up (D.L o) 0 v.toInt64)) ∨ (∃ q, Px q B ∧ (((B.G q).1 = 20 ∧ u = nI 1) ∨ ((B.G q).1 = 19 ∧ u = nI 2)))) fw_no := by
  refine Ct.ofH [some (.ref c), some (.int (x0)), some (.int (x1)), some (.int (x2)), some (.ref o), none] (by decide) rfl rfl fun z C hx hnm E => ?_
  refine r_aload_4 (pc := 0) C dX0_grassIn_0 ?_
  refine r_iconst (pc := 2) C dX0_grassIn_2 ci_0 ?_
  refine r_aload_0 (pc := 3) C dX0_grassIn_3 ?_
  refine r_iload_1 (pc := 4) C dX0_grassIn_4 ?_
  refine r_iload_2 (pc := 5) C dX0_grassIn_5 ?_
  refine r_iload_3 (pc := 6) C dX0_grassIn_6 ?_
  refine r_V3ix (pc := 7) C hM vl_X0_73 h1 (by decide) (by omega) (by omega) (Nat.le_of_ble_eq_true rfl) rfl dX0_grassIn_7 ?_ (fun u1 A1 hc1 => ?_)
  · intro q9 A9 hp9 hE9
    rcases hPx q9 A9 hp9 with hk9 | hk9
    · skip
      refine r_catch C [] ⟨0, 12, 15, 35⟩ [⟨0, 12, 19, 19⟩] (hx.trans rfl) (fun _ h => nomatch h) (by decide) (by decide) q1923 q1939 ((congrArg fw_ex hk9).trans rfl) ?_
      refine r_astore_5 (pc := 15) C dX0_grassIn_15 rfl ?_
      refine r_iconst (pc := 17) C dX0_grassIn_17 ci_1 ?_
      refine r_iret (pc := 18) C E rfl (by omega) (by omega) dX0_grassIn_18 ?_
      exact Or.inr ⟨q9, hp9, Or.inl ⟨hk9, rfl⟩⟩
    · skip
      refine r_catch C [⟨0, 12, 15, 35⟩] ⟨0, 12, 19, 19⟩ [] (hx.trans rfl) (fun y hy => by cases hy with | head => exact Or.inr ⟨by decide, _, q1923, hNc⟩ | tail _ h => exact nomatch h) (by decide) (by decide) q1440 q716 ((congrArg fw_ex hk9).trans rfl) ?_
      refine r_astore_5 (pc := 19) C dX0_grassIn_19 rfl ?_
      refine r_iconst (pc := 21) C dX0_grassIn_21 ci_2 ?_
      refine r_iret (pc := 22) C E rfl (by omega) (by omega) dX0_grassIn_22 ?_
      exact Or.inr ⟨q9, hp9, Or.inr ⟨hk9, rfl⟩⟩
  have hg9 := hPo _ _ hc1
  refine r_i2l (pc := 10) C dX0_grassIn_10 ?_
  refine r_last (pc := 11) (j := 0) C hg9.1 rfl rfl (by rw [hg9.2]; exact Nat.one_pos) (by decide) dX0_grassIn_11 ?_
  refine r_goto (pc := 12) (tgt := 23) C dX0_grassIn_12 (by decide) ?_
  refine r_iconst (pc := 23) C dX0_grassIn_23 ci_0 ?_
  refine r_iret (pc := 24) C E rfl (by omega) (by omega) dX0_grassIn_24 ?_
  exact Or.inl ⟨rfl, u1, A1, hc1, rfl⟩
set_option maxHeartbeats 4000000 in
theorem w_bareIn {g : GZ} {A : HA} {c o mc ms : Nat} {x0 : Int32} {Po : Int32 → HA → Prop} {Px : Nat → HA → Prop} (hM : Ct g wI yX1_bareIn (.code yX1_bareIn cX1_bareIn 2 (Option.some Jvm.ClassFile.FieldType.int)) 12 mc ms [.ref c, .int x0] A Po Px) (h1 : (A.G c).1 = 1) (hPo : ∀ v D, Po v D → (D.G o).1 = 401 ∧ D.n o = 1) (hPx : ∀ q D, Px q D → (D.G q).1 = 19)  : Ct g wI yX0_bareIn (.codeWith yX0_bareIn cX0_bareIn 4 (Option.some Jvm.ClassFile.FieldType.int) [(0, 9, 12, 19)]) 67 mc ms [.ref c, .int (x0), .ref o] (A) (fun u B => (u = nI 0 ∧ ∃ v D, Po v D ∧ B = D.sL o (va_up (D.L o) 0 v.toInt64)) ∨ (∃ q, Px q B ∧ u = nI 1)) fw_no := by
  refine Ct.ofH [some (.ref c), some (.int (x0)), some (.ref o), none] (by decide) rfl rfl fun z C hx hnm E => ?_
  refine r_aload_2 (pc := 0) C dX0_bareIn_0 ?_
  refine r_iconst (pc := 1) C dX0_bareIn_1 ci_0 ?_
  refine r_aload_0 (pc := 2) C dX0_bareIn_2 ?_
  refine r_iload_1 (pc := 3) C dX0_bareIn_3 ?_
  refine r_V1ix (pc := 4) C hM vl_X0_76 h1 (by decide) (by omega) (by omega) (Nat.le_of_ble_eq_true rfl) rfl dX0_bareIn_4 ?_ (fun u1 A1 hc1 => ?_)
  · intro q9 A9 hp9 hE9
    refine r_catch C [] ⟨0, 9, 12, 19⟩ [] (hx.trans rfl) (fun _ h => nomatch h) (by decide) (by decide) q1440 q716 ((congrArg fw_ex (hPx q9 A9 hp9)).trans rfl) ?_
    refine r_astore_3 (pc := 12) C dX0_bareIn_12 rfl ?_
    refine r_iconst (pc := 13) C dX0_bareIn_13 ci_1 ?_
    refine r_iret (pc := 14) C E rfl (by omega) (by omega) dX0_bareIn_14 ?_
    exact Or.inr ⟨q9, hp9, rfl⟩
  have hg9 := hPo _ _ hc1
  refine r_i2l (pc := 7) C dX0_bareIn_7 ?_
  refine r_last (pc := 8) (j := 0) C hg9.1 rfl rfl (by rw [hg9.2]; exact Nat.one_pos) (by decide) dX0_bareIn_8 ?_
  refine r_goto (pc := 9) (tgt := 15) C dX0_bareIn_9 (by decide) ?_
  refine r_iconst (pc := 15) C dX0_bareIn_15 ci_0 ?_
  refine r_iret (pc := 16) C E rfl (by omega) (by omega) dX0_bareIn_16 ?_
  exact Or.inl ⟨rfl, u1, A1, hc1, rfl⟩
set_option maxHeartbeats 4000000 in
theorem w_whenBare {g : GZ} {A : HA} {c o mc ms : Nat} {x0 x1 : Int32} {Po : Int32 → HA → Prop} {Px : Nat → HA → Prop} (hM : Ct g wI yX1_whenBare (.code yX1_whenBare cX1_whenBare 6 (Option.some Jvm.ClassFile.FieldType.int)) 10 mc ms [.ref c, .int x0, .int x1] A Po Px) (h1 : (A.G c).1 = 1) (hPo : ∀ v D, Po v D → (D.G o).1 = 401 ∧ D.n o = 1) (hPx : ∀ q D, Px q D → (D.G q).1 = 20)  : Ct g wI yX0_whenBare (.codeWith yX0_whenBare cX0_whenBare 5 (Option.some Jvm.ClassFile.FieldType.int) [(0, 10, 13, 35)]) 67 mc ms [.ref c, .int (x0), .int (x1), .ref o] (A) (fun u B => (u = nI 0 ∧ ∃ v D, Po v D ∧ B = D.sL o (va_up (D.L o) 0 v.toInt64)) ∨ (∃ q, Px q B ∧ u = nI 1)) fw_no := by
  refine Ct.ofH [some (.ref c), some (.int (x0)), some (.int (x1)), some (.ref o), none] (by decide) rfl rfl fun z C hx hnm E => ?_
  refine r_aload_3 (pc := 0) C dX0_whenBare_0 ?_
  refine r_iconst (pc := 1) C dX0_whenBare_1 ci_0 ?_
  refine r_aload_0 (pc := 2) C dX0_whenBare_2 ?_
  refine r_iload_1 (pc := 3) C dX0_whenBare_3 ?_
  refine r_iload_2 (pc := 4) C dX0_whenBare_4 ?_
  refine r_V2ix (pc := 5) C hM vl_X0_79 h1 (by decide) (by omega) (by omega) (Nat.le_of_ble_eq_true rfl) rfl dX0_whenBare_5 ?_ (fun u1 A1 hc1 => ?_)
  · intro q9 A9 hp9 hE9
    refine r_catch C [] ⟨0, 10, 13, 35⟩ [] (hx.trans rfl) (fun _ h => nomatch h) (by decide) (by decide) q1923 q1939 ((congrArg fw_ex (hPx q9 A9 hp9)).trans rfl) ?_
    refine r_astore_4 (pc := 13) C dX0_whenBare_13 rfl ?_
    refine r_iconst (pc := 15) C dX0_whenBare_15 ci_1 ?_
    refine r_iret (pc := 16) C E rfl (by omega) (by omega) dX0_whenBare_16 ?_
    exact Or.inr ⟨q9, hp9, rfl⟩
  have hg9 := hPo _ _ hc1
  refine r_i2l (pc := 8) C dX0_whenBare_8 ?_
  refine r_last (pc := 9) (j := 0) C hg9.1 rfl rfl (by rw [hg9.2]; exact Nat.one_pos) (by decide) dX0_whenBare_9 ?_
  refine r_goto (pc := 10) (tgt := 17) C dX0_whenBare_10 (by decide) ?_
  refine r_iconst (pc := 17) C dX0_whenBare_17 ci_0 ?_
  refine r_iret (pc := 18) C E rfl (by omega) (by omega) dX0_whenBare_18 ?_
  exact Or.inl ⟨rfl, u1, A1, hc1, rfl⟩
set_option maxHeartbeats 4000000 in
theorem w_ifFence {g : GZ} {A : HA} {c o mc ms : Nat} {x0 x1 x2 : Int32} {Po : Int32 → HA → Prop} {Px : Nat → HA → Prop} (hM : Ct g wI yX1_ifFence (.code yX1_ifFence cX1_ifFence 6 (Option.some Jvm.ClassFile.FieldType.int)) 11 mc ms [.ref c, .int x0, .int x1, .int x2] A Po Px) (h1 : (A.G c).1 = 1) (hPo : ∀ v D, Po v D → (D.G o).1 = 401 ∧ D.n o = 1) (hPx : ∀ q D, Px q D → (D.G q).1 = 20)  : Ct g wI yX0_ifFence (.codeWith yX0_ifFence cX0_ifFence 6 (Option.some Jvm.ClassFile.FieldType.int) [(0, 12, 15, 35)]) 67 mc ms [.ref c, .int (x0), .int (x1), .int (x2), .ref o] (A) (fun u B => (u = nI 0 ∧ ∃ v D, Po v D ∧ B = D.sL o (va_up (D.L o) 0 v.toInt64)) ∨ (∃ q, Px q B ∧ u = nI 1)) fw_no := by
  refine Ct.ofH [some (.ref c), some (.int (x0)), some (.int (x1)), some (.int (x2)), some (.ref o), none] (by decide) rfl rfl fun z C hx hnm E => ?_
  refine r_aload_4 (pc := 0) C dX0_ifFence_0 ?_
  refine r_iconst (pc := 2) C dX0_ifFence_2 ci_0 ?_
  refine r_aload_0 (pc := 3) C dX0_ifFence_3 ?_
  refine r_iload_1 (pc := 4) C dX0_ifFence_4 ?_
  refine r_iload_2 (pc := 5) C dX0_ifFence_5 ?_
  refine r_iload_3 (pc := 6) C dX0_ifFence_6 ?_
  refine r_V3ix (pc := 7) C hM vl_X0_82 h1 (by decide) (by omega) (by omega) (Nat.le_of_ble_eq_true rfl) rfl dX0_ifFence_7 ?_ (fun u1 A1 hc1 => ?_)
  · intro q9 A9 hp9 hE9
    refine r_catch C [] ⟨0, 12, 15, 35⟩ [] (hx.trans rfl) (fun _ h => nomatch h) (by decide) (by decide) q1923 q1939 ((congrArg fw_ex (hPx q9 A9 hp9)).trans rfl) ?_
    refine r_astore_5 (pc := 15) C dX0_ifFence_15 rfl ?_
    refine r_iconst (pc := 17) C dX0_ifFence_17 ci_1 ?_
    refine r_iret (pc := 18) C E rfl (by omega) (by omega) dX0_ifFence_18 ?_
    exact Or.inr ⟨q9, hp9, rfl⟩
  have hg9 := hPo _ _ hc1
  refine r_i2l (pc := 10) C dX0_ifFence_10 ?_
  refine r_last (pc := 11) (j := 0) C hg9.1 rfl rfl (by rw [hg9.2]; exact Nat.one_pos) (by decide) dX0_ifFence_11 ?_
  refine r_goto (pc := 12) (tgt := 19) C dX0_ifFence_12 (by decide) ?_
  refine r_iconst (pc := 19) C dX0_ifFence_19 ci_0 ?_
  refine r_iret (pc := 20) C E rfl (by omega) (by omega) dX0_ifFence_20 ?_
  exact Or.inl ⟨rfl, u1, A1, hc1, rfl⟩
set_option maxHeartbeats 4000000 in
theorem w_ifOpen {g : GZ} {A : HA} {c o mc ms : Nat} {x0 : Int32} {Po : Int32 → HA → Prop} {Px : Nat → HA → Prop} (hM : Ct g wI yX1_ifOpen (.code yX1_ifOpen cX1_ifOpen 2 (Option.some Jvm.ClassFile.FieldType.int)) 10 mc ms [.ref c, .int x0] A Po Px) (h1 : (A.G c).1 = 1) (hPo : ∀ v D, Po v D → (D.G o).1 = 401 ∧ D.n o = 1) (hPx : ∀ q D, Px q D → (D.G q).1 = 20)  : Ct g wI yX0_ifOpen (.codeWith yX0_ifOpen cX0_ifOpen 4 (Option.some Jvm.ClassFile.FieldType.int) [(0, 9, 12, 35)]) 67 mc ms [.ref c, .int (x0), .ref o] (A) (fun u B => (u = nI 0 ∧ ∃ v D, Po v D ∧ B = D.sL o (va_up (D.L o) 0 v.toInt64)) ∨ (∃ q, Px q B ∧ u = nI 1)) fw_no := by
  refine Ct.ofH [some (.ref c), some (.int (x0)), some (.ref o), none] (by decide) rfl rfl fun z C hx hnm E => ?_
  refine r_aload_2 (pc := 0) C dX0_ifOpen_0 ?_
  refine r_iconst (pc := 1) C dX0_ifOpen_1 ci_0 ?_
  refine r_aload_0 (pc := 2) C dX0_ifOpen_2 ?_
  refine r_iload_1 (pc := 3) C dX0_ifOpen_3 ?_
  refine r_V1ix (pc := 4) C hM vl_X0_85 h1 (by decide) (by omega) (by omega) (Nat.le_of_ble_eq_true rfl) rfl dX0_ifOpen_4 ?_ (fun u1 A1 hc1 => ?_)
  · intro q9 A9 hp9 hE9
    refine r_catch C [] ⟨0, 9, 12, 35⟩ [] (hx.trans rfl) (fun _ h => nomatch h) (by decide) (by decide) q1923 q1939 ((congrArg fw_ex (hPx q9 A9 hp9)).trans rfl) ?_
    refine r_astore_3 (pc := 12) C dX0_ifOpen_12 rfl ?_
    refine r_iconst (pc := 13) C dX0_ifOpen_13 ci_1 ?_
    refine r_iret (pc := 14) C E rfl (by omega) (by omega) dX0_ifOpen_14 ?_
    exact Or.inr ⟨q9, hp9, rfl⟩
  have hg9 := hPo _ _ hc1
  refine r_i2l (pc := 7) C dX0_ifOpen_7 ?_
  refine r_last (pc := 8) (j := 0) C hg9.1 rfl rfl (by rw [hg9.2]; exact Nat.one_pos) (by decide) dX0_ifOpen_8 ?_
  refine r_goto (pc := 9) (tgt := 15) C dX0_ifOpen_9 (by decide) ?_
  refine r_iconst (pc := 15) C dX0_ifOpen_15 ci_0 ?_
  refine r_iret (pc := 16) C E rfl (by omega) (by omega) dX0_ifOpen_16 ?_
  exact Or.inl ⟨rfl, u1, A1, hc1, rfl⟩
set_option maxHeartbeats 4000000 in
theorem w_bestFence {g : GZ} {A : HA} {c o mc ms : Nat} {x0 : Int32} {Po : Int32 → HA → Prop} {Px : Nat → HA → Prop} (hM : Ct g wI yX1_bestFence (.code yX1_bestFence cX1_bestFence 7 (Option.some Jvm.ClassFile.FieldType.int)) 11 mc ms [.ref c, .int x0] A Po Px) (h1 : (A.G c).1 = 1) (hPo : ∀ v D, Po v D → (D.G o).1 = 401 ∧ D.n o = 1) (hPx : ∀ q D, Px q D → (D.G q).1 = 19)  : Ct g wI yX0_bestFence (.codeWith yX0_bestFence cX0_bestFence 4 (Option.some Jvm.ClassFile.FieldType.int) [(0, 9, 12, 19)]) 67 mc ms [.ref c, .int (x0), .ref o] (A) (fun u B => (u = nI 0 ∧ ∃ v D, Po v D ∧ B = D.sL o (va_up (D.L o) 0 v.toInt64)) ∨ (∃ q, Px q B ∧ u = nI 1)) fw_no := by
  refine Ct.ofH [some (.ref c), some (.int (x0)), some (.ref o), none] (by decide) rfl rfl fun z C hx hnm E => ?_
  refine r_aload_2 (pc := 0) C dX0_bestFence_0 ?_
  refine r_iconst (pc := 1) C dX0_bestFence_1 ci_0 ?_
  refine r_aload_0 (pc := 2) C dX0_bestFence_2 ?_
  refine r_iload_1 (pc := 3) C dX0_bestFence_3 ?_
  refine r_V1ix (pc := 4) C hM vl_X0_88 h1 (by decide) (by omega) (by omega) (Nat.le_of_ble_eq_true rfl) rfl dX0_bestFence_4 ?_ (fun u1 A1 hc1 => ?_)
  · intro q9 A9 hp9 hE9
    refine r_catch C [] ⟨0, 9, 12, 19⟩ [] (hx.trans rfl) (fun _ h => nomatch h) (by decide) (by decide) q1440 q716 ((congrArg fw_ex (hPx q9 A9 hp9)).trans rfl) ?_
    refine r_astore_3 (pc := 12) C dX0_bestFence_12 rfl ?_
    refine r_iconst (pc := 13) C dX0_bestFence_13 ci_1 ?_
    refine r_iret (pc := 14) C E rfl (by omega) (by omega) dX0_bestFence_14 ?_
    exact Or.inr ⟨q9, hp9, rfl⟩
  have hg9 := hPo _ _ hc1
  refine r_i2l (pc := 7) C dX0_bestFence_7 ?_
  refine r_last (pc := 8) (j := 0) C hg9.1 rfl rfl (by rw [hg9.2]; exact Nat.one_pos) (by decide) dX0_bestFence_8 ?_
  refine r_goto (pc := 9) (tgt := 15) C dX0_bestFence_9 (by decide) ?_
  refine r_iconst (pc := 15) C dX0_bestFence_15 ci_0 ?_
  refine r_iret (pc := 16) C E rfl (by omega) (by omega) dX0_bestFence_16 ?_
  exact Or.inl ⟨rfl, u1, A1, hc1, rfl⟩
set_option maxHeartbeats 4000000 in
theorem w_ifHaste {g : GZ} {A : HA} {c o mc ms : Nat} {x0 x1 x2 : Int32} {Po : Int32 → HA → Prop} {Px : Nat → HA → Prop} (hM : Ct g wI yX1_ifHaste (.code yX1_ifHaste cX1_ifHaste 6 (Option.some Jvm.ClassFile.FieldType.int)) 12 mc ms [.ref c, .int x0, .int x1, .int x2] A Po Px) (h1 : (A.G c).1 = 1) (hPo : ∀ v D, Po v D → (D.G o).1 = 401 ∧ D.n o = 1) (hPx : ∀ q D, Px q D → (D.G q).1 = 20 ∨ (D.G q).1 = 19) (hNc : va_Nc RJ18 RJ22 g.s)  : Ct g wI yX0_ifHaste (.codeWith yX0_ifHaste cX0_ifHaste 6 (Option.some Jvm.ClassFile.FieldType.int) [(0, 12, 15, 35), (0, 12, 19, 19)]) 67 mc ms [.ref c, .int (x0), .int (x1), .int (x2), .ref o] (A) (fun u B => (u = nI 0 ∧ ∃ v D, Po v D ∧ B = D.sL o (va_up (D.L o) 0 v.toInt64)) ∨ (∃ q, Px q B ∧ (((B.G q).1 = 20 ∧ u = nI 1) ∨ ((B.G q).1 = 19 ∧ u = nI 2)))) fw_no := by
  refine Ct.ofH [some (.ref c), some (.int (x0)), some (.int (x1)), some (.int (x2)), some (.ref o), none] (by decide) rfl rfl fun z C hx hnm E => ?_
  refine r_aload_4 (pc := 0) C dX0_ifHaste_0 ?_
  refine r_iconst (pc := 2) C dX0_ifHaste_2 ci_0 ?_
  refine r_aload_0 (pc := 3) C dX0_ifHaste_3 ?_
  refine r_iload_1 (pc := 4) C dX0_ifHaste_4 ?_
  refine r_iload_2 (pc := 5) C dX0_ifHaste_5 ?_
  refine r_iload_3 (pc := 6) C dX0_ifHaste_6 ?_
  refine r_V3ix (pc := 7) C hM vl_X0_91 h1 (by decide) (by omega) (by omega) (Nat.le_of_ble_eq_true rfl) rfl dX0_ifHaste_7 ?_ (fun u1 A1 hc1 => ?_)
  · intro q9 A9 hp9 hE9
    rcases hPx q9 A9 hp9 with hk9 | hk9
    · skip
      refine r_catch C [] ⟨0, 12, 15, 35⟩ [⟨0, 12, 19, 19⟩] (hx.trans rfl) (fun _ h => nomatch h) (by decide) (by decide) q1923 q1939 ((congrArg fw_ex hk9).trans rfl) ?_
      refine r_astore_5 (pc := 15) C dX0_ifHaste_15 rfl ?_
      refine r_iconst (pc := 17) C dX0_ifHaste_17 ci_1 ?_
      refine r_iret (pc := 18) C E rfl (by omega) (by omega) dX0_ifHaste_18 ?_
      exact Or.inr ⟨q9, hp9, Or.inl ⟨hk9, rfl⟩⟩
    · skip
      refine r_catch C [⟨0, 12, 15, 35⟩] ⟨0, 12, 19, 19⟩ [] (hx.trans rfl) (fun y hy => by cases hy with | head => exact Or.inr ⟨by decide, _, q1923, hNc⟩ | tail _ h => exact nomatch h) (by decide) (by decide) q1440 q716 ((congrArg fw_ex hk9).trans rfl) ?_
      refine r_astore_5 (pc := 19) C dX0_ifHaste_19 rfl ?_
      refine r_iconst (pc := 21) C dX0_ifHaste_21 ci_2 ?_
      refine r_iret (pc := 22) C E rfl (by omega) (by omega) dX0_ifHaste_22 ?_
      exact Or.inr ⟨q9, hp9, Or.inr ⟨hk9, rfl⟩⟩
  have hg9 := hPo _ _ hc1
  refine r_i2l (pc := 10) C dX0_ifHaste_10 ?_
  refine r_last (pc := 11) (j := 0) C hg9.1 rfl rfl (by rw [hg9.2]; exact Nat.one_pos) (by decide) dX0_ifHaste_11 ?_
  refine r_goto (pc := 12) (tgt := 23) C dX0_ifHaste_12 (by decide) ?_
  refine r_iconst (pc := 23) C dX0_ifHaste_23 ci_0 ?_
  refine r_iret (pc := 24) C E rfl (by omega) (by omega) dX0_ifHaste_24 ?_
  exact Or.inl ⟨rfl, u1, A1, hc1, rfl⟩
set_option maxHeartbeats 4000000 in
theorem w_run {g : GZ} {A : HA} {c o mc ms : Nat} {x0 : Int32} {Po : Int32 → HA → Prop} {Px : Nat → HA → Prop} (hM : Ct g wI yX1_run (.code yX1_run cX1_run 2 (Option.some Jvm.ClassFile.FieldType.int)) 60 mc ms [.ref c, .int x0] A Po Px) (h1 : (A.G c).1 = 1) (hPo : ∀ v D, Po v D → (D.G o).1 = 401 ∧ D.n o = 1) (hPx : ∀ q D, Px q D → (D.G q).1 = 19)  : Ct g wI yX0_run (.codeWith yX0_run cX0_run 4 (Option.some Jvm.ClassFile.FieldType.int) [(0, 9, 12, 19)]) 67 mc ms [.ref c, .int (x0), .ref o] (A) (fun u B => (u = nI 0 ∧ ∃ v D, Po v D ∧ B = D.sL o (va_up (D.L o) 0 v.toInt64)) ∨ (∃ q, Px q B ∧ u = nI 1)) fw_no := by
  refine Ct.ofH [some (.ref c), some (.int (x0)), some (.ref o), none] (by decide) rfl rfl fun z C hx hnm E => ?_
  refine r_aload_2 (pc := 0) C dX0_run_0 ?_
  refine r_iconst (pc := 1) C dX0_run_1 ci_0 ?_
  refine r_aload_0 (pc := 2) C dX0_run_2 ?_
  refine r_iload_1 (pc := 3) C dX0_run_3 ?_
  refine r_V1ix (pc := 4) C hM vl_X0_94 h1 (by decide) (by omega) (by omega) (Nat.le_of_ble_eq_true rfl) rfl dX0_run_4 ?_ (fun u1 A1 hc1 => ?_)
  · intro q9 A9 hp9 hE9
    refine r_catch C [] ⟨0, 9, 12, 19⟩ [] (hx.trans rfl) (fun _ h => nomatch h) (by decide) (by decide) q1440 q716 ((congrArg fw_ex (hPx q9 A9 hp9)).trans rfl) ?_
    refine r_astore_3 (pc := 12) C dX0_run_12 rfl ?_
    refine r_iconst (pc := 13) C dX0_run_13 ci_1 ?_
    refine r_iret (pc := 14) C E rfl (by omega) (by omega) dX0_run_14 ?_
    exact Or.inr ⟨q9, hp9, rfl⟩
  have hg9 := hPo _ _ hc1
  refine r_i2l (pc := 7) C dX0_run_7 ?_
  refine r_last (pc := 8) (j := 0) C hg9.1 rfl rfl (by rw [hg9.2]; exact Nat.one_pos) (by decide) dX0_run_8 ?_
  refine r_goto (pc := 9) (tgt := 15) C dX0_run_9 (by decide) ?_
  refine r_iconst (pc := 15) C dX0_run_15 ci_0 ?_
  refine r_iret (pc := 16) C E rfl (by omega) (by omega) dX0_run_16 ?_
  exact Or.inl ⟨rfl, u1, A1, hc1, rfl⟩
set_option maxHeartbeats 4000000 in
theorem w_setFence {g : GZ} {A : HA} {c o mc ms : Nat} {x0 x1 : Int32} {Po : Int32 → HA → Prop} {Px : Nat → HA → Prop} (hM : Ct g wI yX1_setFence (.code yX1_setFence cX1_setFence 4 (Option.some Jvm.ClassFile.FieldType.int)) 60 mc ms [.ref c, .int x0, .int x1] A Po Px) (h1 : (A.G c).1 = 1) (hPo : ∀ v D, Po v D → (D.G o).1 = 401 ∧ D.n o = 1) (hPx : ∀ q D, Px q D → (D.G q).1 = 20)  : Ct g wI yX0_setFence (.codeWith yX0_setFence cX0_setFence 5 (Option.some Jvm.ClassFile.FieldType.int) [(0, 10, 13, 35)]) 67 mc ms [.ref c, .int (x0), .int (x1), .ref o] (A) (fun u B => (u = nI 0 ∧ ∃ v D, Po v D ∧ B = D.sL o (va_up (D.L o) 0 v.toInt64)) ∨ (∃ q, Px q B ∧ u = nI 1)) fw_no := by
  refine Ct.ofH [some (.ref c), some (.int (x0)), some (.int (x1)), some (.ref o), none] (by decide) rfl rfl fun z C hx hnm E => ?_
  refine r_aload_3 (pc := 0) C dX0_setFence_0 ?_
  refine r_iconst (pc := 1) C dX0_setFence_1 ci_0 ?_
  refine r_aload_0 (pc := 2) C dX0_setFence_2 ?_
  refine r_iload_1 (pc := 3) C dX0_setFence_3 ?_
  refine r_iload_2 (pc := 4) C dX0_setFence_4 ?_
  refine r_V2ix (pc := 5) C hM vl_X0_97 h1 (by decide) (by omega) (by omega) (Nat.le_of_ble_eq_true rfl) rfl dX0_setFence_5 ?_ (fun u1 A1 hc1 => ?_)
  · intro q9 A9 hp9 hE9
    refine r_catch C [] ⟨0, 10, 13, 35⟩ [] (hx.trans rfl) (fun _ h => nomatch h) (by decide) (by decide) q1923 q1939 ((congrArg fw_ex (hPx q9 A9 hp9)).trans rfl) ?_
    refine r_astore_4 (pc := 13) C dX0_setFence_13 rfl ?_
    refine r_iconst (pc := 15) C dX0_setFence_15 ci_1 ?_
    refine r_iret (pc := 16) C E rfl (by omega) (by omega) dX0_setFence_16 ?_
    exact Or.inr ⟨q9, hp9, rfl⟩
  have hg9 := hPo _ _ hc1
  refine r_i2l (pc := 8) C dX0_setFence_8 ?_
  refine r_last (pc := 9) (j := 0) C hg9.1 rfl rfl (by rw [hg9.2]; exact Nat.one_pos) (by decide) dX0_setFence_9 ?_
  refine r_goto (pc := 10) (tgt := 17) C dX0_setFence_10 (by decide) ?_
  refine r_iconst (pc := 17) C dX0_setFence_17 ci_0 ?_
  refine r_iret (pc := 18) C E rfl (by omega) (by omega) dX0_setFence_18 ?_
  exact Or.inl ⟨rfl, u1, A1, hc1, rfl⟩
set_option maxHeartbeats 4000000 in
theorem w_dropFence {g : GZ} {A : HA} {c o mc ms : Nat} {x0 x1 : Int32} {Po : Int32 → HA → Prop} {Px : Nat → HA → Prop} (hM : Ct g wI yX1_dropFence (.code yX1_dropFence cX1_dropFence 4 (Option.some Jvm.ClassFile.FieldType.int)) 60 mc ms [.ref c, .int x0, .int x1] A Po Px) (h1 : (A.G c).1 = 1) (hPo : ∀ v D, Po v D → (D.G o).1 = 401 ∧ D.n o = 1) (hPx : ∀ q D, Px q D → (D.G q).1 = 20)  : Ct g wI yX0_dropFence (.codeWith yX0_dropFence cX0_dropFence 5 (Option.some Jvm.ClassFile.FieldType.int) [(0, 10, 13, 35)]) 67 mc ms [.ref c, .int (x0), .int (x1), .ref o] (A) (fun u B => (u = nI 0 ∧ ∃ v D, Po v D ∧ B = D.sL o (va_up (D.L o) 0 v.toInt64)) ∨ (∃ q, Px q B ∧ u = nI 1)) fw_no := by
  refine Ct.ofH [some (.ref c), some (.int (x0)), some (.int (x1)), some (.ref o), none] (by decide) rfl rfl fun z C hx hnm E => ?_
  refine r_aload_3 (pc := 0) C dX0_dropFence_0 ?_
  refine r_iconst (pc := 1) C dX0_dropFence_1 ci_0 ?_
  refine r_aload_0 (pc := 2) C dX0_dropFence_2 ?_
  refine r_iload_1 (pc := 3) C dX0_dropFence_3 ?_
  refine r_iload_2 (pc := 4) C dX0_dropFence_4 ?_
  refine r_V2ix (pc := 5) C hM vl_X0_100 h1 (by decide) (by omega) (by omega) (Nat.le_of_ble_eq_true rfl) rfl dX0_dropFence_5 ?_ (fun u1 A1 hc1 => ?_)
  · intro q9 A9 hp9 hE9
    refine r_catch C [] ⟨0, 10, 13, 35⟩ [] (hx.trans rfl) (fun _ h => nomatch h) (by decide) (by decide) q1923 q1939 ((congrArg fw_ex (hPx q9 A9 hp9)).trans rfl) ?_
    refine r_astore_4 (pc := 13) C dX0_dropFence_13 rfl ?_
    refine r_iconst (pc := 15) C dX0_dropFence_15 ci_1 ?_
    refine r_iret (pc := 16) C E rfl (by omega) (by omega) dX0_dropFence_16 ?_
    exact Or.inr ⟨q9, hp9, rfl⟩
  have hg9 := hPo _ _ hc1
  refine r_i2l (pc := 8) C dX0_dropFence_8 ?_
  refine r_last (pc := 9) (j := 0) C hg9.1 rfl rfl (by rw [hg9.2]; exact Nat.one_pos) (by decide) dX0_dropFence_9 ?_
  refine r_goto (pc := 10) (tgt := 17) C dX0_dropFence_10 (by decide) ?_
  refine r_iconst (pc := 17) C dX0_dropFence_17 ci_0 ?_
  refine r_iret (pc := 18) C E rfl (by omega) (by omega) dX0_dropFence_18 ?_
  exact Or.inl ⟨rfl, u1, A1, hc1, rfl⟩
set_option maxHeartbeats 4000000 in
theorem w_pave {g : GZ} {A : HA} {c o mc ms : Nat} {x0 x1 : Int32} {Po : Int32 → HA → Prop} {Px : Nat → HA → Prop} (hM : Ct g wI yX1_pave (.code yX1_pave cX1_pave 4 (Option.some Jvm.ClassFile.FieldType.int)) 60 mc ms [.ref c, .int x0, .int x1] A Po Px) (h1 : (A.G c).1 = 1) (hPo : ∀ v D, Po v D → (D.G o).1 = 401 ∧ D.n o = 1) (hPx : ∀ q D, Px q D → (D.G q).1 = 20)  : Ct g wI yX0_pave (.codeWith yX0_pave cX0_pave 5 (Option.some Jvm.ClassFile.FieldType.int) [(0, 10, 13, 35)]) 67 mc ms [.ref c, .int (x0), .int (x1), .ref o] (A) (fun u B => (u = nI 0 ∧ ∃ v D, Po v D ∧ B = D.sL o (va_up (D.L o) 0 v.toInt64)) ∨ (∃ q, Px q B ∧ u = nI 1)) fw_no := by
  refine Ct.ofH [some (.ref c), some (.int (x0)), some (.int (x1)), some (.ref o), none] (by decide) rfl rfl fun z C hx hnm E => ?_
  refine r_aload_3 (pc := 0) C dX0_pave_0 ?_
  refine r_iconst (pc := 1) C dX0_pave_1 ci_0 ?_
  refine r_aload_0 (pc := 2) C dX0_pave_2 ?_
  refine r_iload_1 (pc := 3) C dX0_pave_3 ?_
  refine r_iload_2 (pc := 4) C dX0_pave_4 ?_
  refine r_V2ix (pc := 5) C hM vl_X0_103 h1 (by decide) (by omega) (by omega) (Nat.le_of_ble_eq_true rfl) rfl dX0_pave_5 ?_ (fun u1 A1 hc1 => ?_)
  · intro q9 A9 hp9 hE9
    refine r_catch C [] ⟨0, 10, 13, 35⟩ [] (hx.trans rfl) (fun _ h => nomatch h) (by decide) (by decide) q1923 q1939 ((congrArg fw_ex (hPx q9 A9 hp9)).trans rfl) ?_
    refine r_astore_4 (pc := 13) C dX0_pave_13 rfl ?_
    refine r_iconst (pc := 15) C dX0_pave_15 ci_1 ?_
    refine r_iret (pc := 16) C E rfl (by omega) (by omega) dX0_pave_16 ?_
    exact Or.inr ⟨q9, hp9, rfl⟩
  have hg9 := hPo _ _ hc1
  refine r_i2l (pc := 8) C dX0_pave_8 ?_
  refine r_last (pc := 9) (j := 0) C hg9.1 rfl rfl (by rw [hg9.2]; exact Nat.one_pos) (by decide) dX0_pave_9 ?_
  refine r_goto (pc := 10) (tgt := 17) C dX0_pave_10 (by decide) ?_
  refine r_iconst (pc := 17) C dX0_pave_17 ci_0 ?_
  refine r_iret (pc := 18) C E rfl (by omega) (by omega) dX0_pave_18 ?_
  exact Or.inl ⟨rfl, u1, A1, hc1, rfl⟩
set_option maxHeartbeats 4000000 in
theorem w_sow {g : GZ} {A : HA} {c o mc ms : Nat} {x0 x1 : Int32} {Po : Int32 → HA → Prop} {Px : Nat → HA → Prop} (hM : Ct g wI yX1_sow (.code yX1_sow cX1_sow 4 (Option.some Jvm.ClassFile.FieldType.int)) 60 mc ms [.ref c, .int x0, .int x1] A Po Px) (h1 : (A.G c).1 = 1) (hPo : ∀ v D, Po v D → (D.G o).1 = 401 ∧ D.n o = 1) (hPx : ∀ q D, Px q D → (D.G q).1 = 20)  : Ct g wI yX0_sow (.codeWith yX0_sow cX0_sow 5 (Option.some Jvm.ClassFile.FieldType.int) [(0, 10, 13, 35)]) 67 mc ms [.ref c, .int (x0), .int (x1), .ref o] (A) (fun u B => (u = nI 0 ∧ ∃ v D, Po v D ∧ B = D.sL o (va_up (D.L o) 0 v.toInt64)) ∨ (∃ q, Px q B ∧ u = nI 1)) fw_no := by
  refine Ct.ofH [some (.ref c), some (.int (x0)), some (.int (x1)), some (.ref o), none] (by decide) rfl rfl fun z C hx hnm E => ?_
  refine r_aload_3 (pc := 0) C dX0_sow_0 ?_
  refine r_iconst (pc := 1) C dX0_sow_1 ci_0 ?_
  refine r_aload_0 (pc := 2) C dX0_sow_2 ?_
  refine r_iload_1 (pc := 3) C dX0_sow_3 ?_
  refine r_iload_2 (pc := 4) C dX0_sow_4 ?_
  refine r_V2ix (pc := 5) C hM vl_X0_106 h1 (by decide) (by omega) (by omega) (Nat.le_of_ble_eq_true rfl) rfl dX0_sow_5 ?_ (fun u1 A1 hc1 => ?_)
  · intro q9 A9 hp9 hE9
    refine r_catch C [] ⟨0, 10, 13, 35⟩ [] (hx.trans rfl) (fun _ h => nomatch h) (by decide) (by decide) q1923 q1939 ((congrArg fw_ex (hPx q9 A9 hp9)).trans rfl) ?_
    refine r_astore_4 (pc := 13) C dX0_sow_13 rfl ?_
    refine r_iconst (pc := 15) C dX0_sow_15 ci_1 ?_
    refine r_iret (pc := 16) C E rfl (by omega) (by omega) dX0_sow_16 ?_
    exact Or.inr ⟨q9, hp9, rfl⟩
  have hg9 := hPo _ _ hc1
  refine r_i2l (pc := 8) C dX0_sow_8 ?_
  refine r_last (pc := 9) (j := 0) C hg9.1 rfl rfl (by rw [hg9.2]; exact Nat.one_pos) (by decide) dX0_sow_9 ?_
  refine r_goto (pc := 10) (tgt := 17) C dX0_sow_10 (by decide) ?_
  refine r_iconst (pc := 17) C dX0_sow_17 ci_0 ?_
  refine r_iret (pc := 18) C E rfl (by omega) (by omega) dX0_sow_18 ?_
  exact Or.inl ⟨rfl, u1, A1, hc1, rfl⟩
set_option maxHeartbeats 4000000 in
theorem w_setHaste {g : GZ} {A : HA} {c o mc ms : Nat} {x0 x1 : Int32} {Po : Int32 → HA → Prop} {Px : Nat → HA → Prop} (hM : Ct g wI yX1_setHaste (.code yX1_setHaste cX1_setHaste 4 (Option.some Jvm.ClassFile.FieldType.int)) 60 mc ms [.ref c, .int x0, .int x1] A Po Px) (h1 : (A.G c).1 = 1) (hPo : ∀ v D, Po v D → (D.G o).1 = 401 ∧ D.n o = 1) (hPx : ∀ q D, Px q D → (D.G q).1 = 20 ∨ (D.G q).1 = 19) (hNc : va_Nc RJ18 RJ22 g.s)  : Ct g wI yX0_setHaste (.codeWith yX0_setHaste cX0_setHaste 5 (Option.some Jvm.ClassFile.FieldType.int) [(0, 10, 13, 35), (0, 10, 17, 19)]) 67 mc ms [.ref c, .int (x0), .int (x1), .ref o] (A) (fun u B => (u = nI 0 ∧ ∃ v D, Po v D ∧ B = D.sL o (va_up (D.L o) 0 v.toInt64)) ∨ (∃ q, Px q B ∧ (((B.G q).1 = 20 ∧ u = nI 1) ∨ ((B.G q).1 = 19 ∧ u = nI 2)))) fw_no := by
  refine Ct.ofH [some (.ref c), some (.int (x0)), some (.int (x1)), some (.ref o), none] (by decide) rfl rfl fun z C hx hnm E => ?_
  refine r_aload_3 (pc := 0) C dX0_setHaste_0 ?_
  refine r_iconst (pc := 1) C dX0_setHaste_1 ci_0 ?_
  refine r_aload_0 (pc := 2) C dX0_setHaste_2 ?_
  refine r_iload_1 (pc := 3) C dX0_setHaste_3 ?_
  refine r_iload_2 (pc := 4) C dX0_setHaste_4 ?_
  refine r_V2ix (pc := 5) C hM vl_X0_109 h1 (by decide) (by omega) (by omega) (Nat.le_of_ble_eq_true rfl) rfl dX0_setHaste_5 ?_ (fun u1 A1 hc1 => ?_)
  · intro q9 A9 hp9 hE9
    rcases hPx q9 A9 hp9 with hk9 | hk9
    · skip
      refine r_catch C [] ⟨0, 10, 13, 35⟩ [⟨0, 10, 17, 19⟩] (hx.trans rfl) (fun _ h => nomatch h) (by decide) (by decide) q1923 q1939 ((congrArg fw_ex hk9).trans rfl) ?_
      refine r_astore_4 (pc := 13) C dX0_setHaste_13 rfl ?_
      refine r_iconst (pc := 15) C dX0_setHaste_15 ci_1 ?_
      refine r_iret (pc := 16) C E rfl (by omega) (by omega) dX0_setHaste_16 ?_
      exact Or.inr ⟨q9, hp9, Or.inl ⟨hk9, rfl⟩⟩
    · skip
      refine r_catch C [⟨0, 10, 13, 35⟩] ⟨0, 10, 17, 19⟩ [] (hx.trans rfl) (fun y hy => by cases hy with | head => exact Or.inr ⟨by decide, _, q1923, hNc⟩ | tail _ h => exact nomatch h) (by decide) (by decide) q1440 q716 ((congrArg fw_ex hk9).trans rfl) ?_
      refine r_astore_4 (pc := 17) C dX0_setHaste_17 rfl ?_
      refine r_iconst (pc := 19) C dX0_setHaste_19 ci_2 ?_
      refine r_iret (pc := 20) C E rfl (by omega) (by omega) dX0_setHaste_20 ?_
      exact Or.inr ⟨q9, hp9, Or.inr ⟨hk9, rfl⟩⟩
  have hg9 := hPo _ _ hc1
  refine r_i2l (pc := 8) C dX0_setHaste_8 ?_
  refine r_last (pc := 9) (j := 0) C hg9.1 rfl rfl (by rw [hg9.2]; exact Nat.one_pos) (by decide) dX0_setHaste_9 ?_
  refine r_goto (pc := 10) (tgt := 21) C dX0_setHaste_10 (by decide) ?_
  refine r_iconst (pc := 21) C dX0_setHaste_21 ci_0 ?_
  refine r_iret (pc := 22) C E rfl (by omega) (by omega) dX0_setHaste_22 ?_
  exact Or.inl ⟨rfl, u1, A1, hc1, rfl⟩
set_option maxHeartbeats 4000000 in
theorem w_turnRound {g : GZ} {A : HA} {c o mc ms : Nat} {x0 : Int32} {Po : Int32 → HA → Prop} {Px : Nat → HA → Prop} (hM : Ct g wI yX1_turnRound (.code yX1_turnRound cX1_turnRound 3 (Option.some Jvm.ClassFile.FieldType.int)) 60 mc ms [.ref c, .int x0] A Po Px) (h1 : (A.G c).1 = 1) (hPo : ∀ v D, Po v D → (D.G o).1 = 401 ∧ D.n o = 1) (hPx : ∀ q D, Px q D → (D.G q).1 = 20)  : Ct g wI yX0_turnRound (.codeWith yX0_turnRound cX0_turnRound 4 (Option.some Jvm.ClassFile.FieldType.int) [(0, 9, 12, 35)]) 67 mc ms [.ref c, .int (x0), .ref o] (A) (fun u B => (u = nI 0 ∧ ∃ v D, Po v D ∧ B = D.sL o (va_up (D.L o) 0 v.toInt64)) ∨ (∃ q, Px q B ∧ u = nI 1)) fw_no := by
  refine Ct.ofH [some (.ref c), some (.int (x0)), some (.ref o), none] (by decide) rfl rfl fun z C hx hnm E => ?_
  refine r_aload_2 (pc := 0) C dX0_turnRound_0 ?_
  refine r_iconst (pc := 1) C dX0_turnRound_1 ci_0 ?_
  refine r_aload_0 (pc := 2) C dX0_turnRound_2 ?_
  refine r_iload_1 (pc := 3) C dX0_turnRound_3 ?_
  refine r_V1ix (pc := 4) C hM vl_X0_112 h1 (by decide) (by omega) (by omega) (Nat.le_of_ble_eq_true rfl) rfl dX0_turnRound_4 ?_ (fun u1 A1 hc1 => ?_)
  · intro q9 A9 hp9 hE9
    refine r_catch C [] ⟨0, 9, 12, 35⟩ [] (hx.trans rfl) (fun _ h => nomatch h) (by decide) (by decide) q1923 q1939 ((congrArg fw_ex (hPx q9 A9 hp9)).trans rfl) ?_
    refine r_astore_3 (pc := 12) C dX0_turnRound_12 rfl ?_
    refine r_iconst (pc := 13) C dX0_turnRound_13 ci_1 ?_
    refine r_iret (pc := 14) C E rfl (by omega) (by omega) dX0_turnRound_14 ?_
    exact Or.inr ⟨q9, hp9, rfl⟩
  have hg9 := hPo _ _ hc1
  refine r_i2l (pc := 7) C dX0_turnRound_7 ?_
  refine r_last (pc := 8) (j := 0) C hg9.1 rfl rfl (by rw [hg9.2]; exact Nat.one_pos) (by decide) dX0_turnRound_8 ?_
  refine r_goto (pc := 9) (tgt := 15) C dX0_turnRound_9 (by decide) ?_
  refine r_iconst (pc := 15) C dX0_turnRound_15 ci_0 ?_
  refine r_iret (pc := 16) C E rfl (by omega) (by omega) dX0_turnRound_16 ?_
  exact Or.inl ⟨rfl, u1, A1, hc1, rfl⟩
set_option maxHeartbeats 4000000 in
theorem w_writeWay {g : GZ} {A : HA} {c o mc ms : Nat} {x0 : Int32} {Po : Int32 → HA → Prop} {Px : Nat → HA → Prop} (hM : Ct g wI yX1_writeWay (.code yX1_writeWay cX1_writeWay 6 (Option.some Jvm.ClassFile.FieldType.int)) 10 mc ms [.ref c, .int x0] A Po Px) (h1 : (A.G c).1 = 1) (hPo : ∀ v D, Po v D → (D.G o).1 = 401 ∧ D.n o = 1) (hPx : ∀ q D, Px q D → (D.G q).1 = 20)  : Ct g wI yX0_writeWay (.codeWith yX0_writeWay cX0_writeWay 4 (Option.some Jvm.ClassFile.FieldType.int) [(0, 9, 12, 35)]) 67 mc ms [.ref c, .int (x0), .ref o] (A) (fun u B => (u = nI 0 ∧ ∃ v D, Po v D ∧ B = D.sL o (va_up (D.L o) 0 v.toInt64)) ∨ (∃ q, Px q B ∧ u = nI 1)) fw_no := by
  refine Ct.ofH [some (.ref c), some (.int (x0)), some (.ref o), none] (by decide) rfl rfl fun z C hx hnm E => ?_
  refine r_aload_2 (pc := 0) C dX0_writeWay_0 ?_
  refine r_iconst (pc := 1) C dX0_writeWay_1 ci_0 ?_
  refine r_aload_0 (pc := 2) C dX0_writeWay_2 ?_
  refine r_iload_1 (pc := 3) C dX0_writeWay_3 ?_
  refine r_V1ix (pc := 4) C hM vl_X0_115 h1 (by decide) (by omega) (by omega) (Nat.le_of_ble_eq_true rfl) rfl dX0_writeWay_4 ?_ (fun u1 A1 hc1 => ?_)
  · intro q9 A9 hp9 hE9
    refine r_catch C [] ⟨0, 9, 12, 35⟩ [] (hx.trans rfl) (fun _ h => nomatch h) (by decide) (by decide) q1923 q1939 ((congrArg fw_ex (hPx q9 A9 hp9)).trans rfl) ?_
    refine r_astore_3 (pc := 12) C dX0_writeWay_12 rfl ?_
    refine r_iconst (pc := 13) C dX0_writeWay_13 ci_1 ?_
    refine r_iret (pc := 14) C E rfl (by omega) (by omega) dX0_writeWay_14 ?_
    exact Or.inr ⟨q9, hp9, rfl⟩
  have hg9 := hPo _ _ hc1
  refine r_i2l (pc := 7) C dX0_writeWay_7 ?_
  refine r_last (pc := 8) (j := 0) C hg9.1 rfl rfl (by rw [hg9.2]; exact Nat.one_pos) (by decide) dX0_writeWay_8 ?_
  refine r_goto (pc := 9) (tgt := 15) C dX0_writeWay_9 (by decide) ?_
  refine r_iconst (pc := 15) C dX0_writeWay_15 ci_0 ?_
  refine r_iret (pc := 16) C E rfl (by omega) (by omega) dX0_writeWay_16 ?_
  exact Or.inl ⟨rfl, u1, A1, hc1, rfl⟩
set_option maxHeartbeats 4000000 in
theorem w_restore {g : GZ} {A : HA} {c o mc ms : Nat} {Po : Int32 → HA → Prop} {Px : Nat → HA → Prop} (hM : Ct g wI yX1_restore (.code yX1_restore cX1_restore 1 (Option.some Jvm.ClassFile.FieldType.int)) 8 mc ms [.ref c] A Po Px) (h1 : (A.G c).1 = 1) (hPo : ∀ v D, Po v D → (D.G o).1 = 401 ∧ D.n o = 1) (hPx : ∀ q D, Px q D → (D.G q).1 = 18)  : Ct g wI yX0_restore (.codeWith yX0_restore cX0_restore 3 (Option.some Jvm.ClassFile.FieldType.int) [(0, 8, 11, 13)]) 67 mc ms [.ref c, .ref o] (A) (fun u B => (u = nI 0 ∧ ∃ v D, Po v D ∧ B = D.sL o (va_up (D.L o) 0 v.toInt64)) ∨ (∃ q, Px q B ∧ u = nI 1)) fw_no := by
  refine Ct.ofH [some (.ref c), some (.ref o), none] (by decide) rfl rfl fun z C hx hnm E => ?_
  refine r_aload_1 (pc := 0) C dX0_restore_0 ?_
  refine r_iconst (pc := 1) C dX0_restore_1 ci_0 ?_
  refine r_aload_0 (pc := 2) C dX0_restore_2 ?_
  refine r_V0ix (pc := 3) C hM vl_X0_118 h1 (by decide) (by omega) (by omega) (Nat.le_of_ble_eq_true rfl) rfl dX0_restore_3 ?_ (fun u1 A1 hc1 => ?_)
  · intro q9 A9 hp9 hE9
    refine r_catch C [] ⟨0, 8, 11, 13⟩ [] (hx.trans rfl) (fun _ h => nomatch h) (by decide) (by decide) q1413 q1420 ((congrArg fw_ex (hPx q9 A9 hp9)).trans rfl) ?_
    refine r_astore_2 (pc := 11) C dX0_restore_11 rfl ?_
    refine r_iconst (pc := 12) C dX0_restore_12 ci_1 ?_
    refine r_iret (pc := 13) C E rfl (by omega) (by omega) dX0_restore_13 ?_
    exact Or.inr ⟨q9, hp9, rfl⟩
  have hg9 := hPo _ _ hc1
  refine r_i2l (pc := 6) C dX0_restore_6 ?_
  refine r_last (pc := 7) (j := 0) C hg9.1 rfl rfl (by rw [hg9.2]; exact Nat.one_pos) (by decide) dX0_restore_7 ?_
  refine r_goto (pc := 8) (tgt := 14) C dX0_restore_8 (by decide) ?_
  refine r_iconst (pc := 14) C dX0_restore_14 ci_0 ?_
  refine r_iret (pc := 15) C E rfl (by omega) (by omega) dX0_restore_15 ?_
  exact Or.inl ⟨rfl, u1, A1, hc1, rfl⟩
