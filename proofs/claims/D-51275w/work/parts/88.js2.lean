/-! JDK: lists; rows of things with names -/
set_option maxRecDepth 100000
set_option maxHeartbeats 4000000 in
theorem j_J2_size {g : GZ} {A : HA} {s n : Nat} (hg : (A.G s).1 = 13) (hs : A.I s 2 = nI n) : Ct g wI yJ2_size (.code yJ2_size cJ2_size 1 (Option.some Jvm.ClassFile.FieldType.int)) 1 0 0 [.ref s] (A) (fun u A' => u = nI n ∧ A' = A) fw_no := by
  refine Ct.of [some (.ref s)] (by decide) rfl rfl fun z C hx hnm E => ?_
  refine r_aload_0 (pc := 0) C dJ2_size_0 ?_
  refine r_getI (pc := 1) C fl_J2_48_13 hg rfl dJ2_size_1 ?_
  refine r_top hs ?_
  refine r_iret (pc := 4) C E rfl (Nat.le_refl _) (Nat.le_refl _) dJ2_size_4 ?_
  exact ⟨rfl, rfl⟩
set_option maxHeartbeats 4000000 in
theorem j_J21_checkIndex {g : GZ} {A : HA} {k n : Nat} (hk : k < n) (h9 : n < 2147483648) : Ct g wI yJ21_checkIndex (.code yJ21_checkIndex cJ21_checkIndex 2 (Option.some Jvm.ClassFile.FieldType.int)) 3 0 0 [.int (nI (k)), .int (nI (n))] (A) (fun u A' => u = nI k ∧ A' = A) fw_no := by
  refine Ct.of [some (.int (nI (k))), some (.int (nI (n)))] (by decide) rfl rfl fun z C hx hnm E => ?_
  refine r_iload_0 (pc := 0) C dJ21_checkIndex_0 ?_
  refine r_iload_1 (pc := 1) C dJ21_checkIndex_1 ?_
  refine r_null (pc := 2) C dJ21_checkIndex_2 ?_
  refine r_S3io (pc := 3) C (j_ckIx_n hk h9) sl_J21_105 (by decide) (Nat.le_refl _) (Nat.le_refl _) (Nat.le_of_ble_eq_true rfl) rfl dJ21_checkIndex_3 (fun u1 A1 hc1 => ?_)
  refine r_top hc1.1 ?_
  refine r_eqA hc1.2 ?_
  clear hc1 A1 u1
  refine r_iret (pc := 6) C E rfl (Nat.le_refl _) (Nat.le_refl _) dJ21_checkIndex_6 ?_
  exact ⟨rfl, rfl⟩
set_option maxHeartbeats 4000000 in
theorem j_J2_elementData {g : GZ} {A : HA} {s e n k x : Nat} (hg : (A.G s).1 = 13) (he : A.R s 1 = some e) (hke : isObA (A.G e).1 = true) (hs : A.I s 2 = nI n) (hn : n ≤ A.n e) (hk : k < n) (h9 : n < 2147483648) (hxe : A.R e k = some x) : Ct g wR yJ2_elementData (.code yJ2_elementData cJ2_elementData 2 (Option.some (Jvm.ClassFile.FieldType.object "java/lang/Object"))) 1 0 0 [.ref s, .int (nI (k))] (A) (fun u A' => u = x ∧ A' = A) fw_no := by
  refine Ct.of [some (.ref s), some (.int (nI (k)))] (by decide) rfl rfl fun z C hx hnm E => ?_
  refine r_aload_0 (pc := 0) C dJ2_elementData_0 ?_
  refine r_getR (pc := 1) C fl_J2_9_13 hg rfl he dJ2_elementData_1 ?_
  refine r_iload_1 (pc := 4) C dJ2_elementData_4 ?_
  refine r_aaldR (pc := 5) C rfl hke rfl rfl (by omega) (by omega) hxe dJ2_elementData_5 ?_
  refine r_aret (pc := 6) C E rfl (Nat.le_refl _) (Nat.le_refl _) dJ2_elementData_6 ?_
  exact ⟨rfl, rfl⟩
set_option maxHeartbeats 4000000 in
theorem j_J2_get {g : GZ} {A : HA} {s e n k x : Nat} (hg : (A.G s).1 = 13) (he : A.R s 1 = some e) (hke : isObA (A.G e).1 = true) (hs : A.I s 2 = nI n) (hn : n ≤ A.n e) (hk : k < n) (h9 : n < 2147483648) (hxe : A.R e k = some x) : Ct g wR yJ2_get (.code yJ2_get cJ2_get 2 (Option.some (Jvm.ClassFile.FieldType.object "java/lang/Object"))) 4 0 0 [.ref s, .int (nI (k))] (A) (fun u A' => u = x ∧ A' = A) fw_no := by
  refine Ct.of [some (.ref s), some (.int (nI (k)))] (by decide) rfl rfl fun z C hx hnm E => ?_
  refine r_iload_1 (pc := 0) C dJ2_get_0 ?_
  refine r_aload_0 (pc := 1) C dJ2_get_1 ?_
  refine r_getI (pc := 2) C fl_J2_48_13 hg rfl dJ2_get_2 ?_
  refine r_top hs ?_
  refine r_S2io (pc := 5) C (j_J21_checkIndex hk h9) sl_J2_118 (by decide) (Nat.le_refl _) (Nat.le_refl _) (Nat.le_of_ble_eq_true rfl) rfl dJ2_get_5 (fun u1 A1 hc1 => ?_)
  refine r_top hc1.1 ?_
  refine r_eqA hc1.2 ?_
  clear hc1 A1 u1
  refine r_pop (pc := 8) C dJ2_get_8 rfl ?_
  refine r_aload_0 (pc := 9) C dJ2_get_9 ?_
  refine r_iload_1 (pc := 10) C dJ2_get_10 ?_
  refine r_V1ro (pc := 11) C (j_J2_elementData hg he hke hs hn hk h9 hxe) vl_J2_123 hg (by decide) (Nat.le_refl _) (Nat.le_refl _) (Nat.le_of_ble_eq_true rfl) rfl dJ2_get_11 (fun u2 A2 hc2 => ?_)
  refine r_topR hc2.1 ?_
  refine r_eqA hc2.2 ?_
  clear hc2 A2 u2
  refine r_aret (pc := 14) C E rfl (Nat.le_refl _) (Nat.le_refl _) dJ2_get_14 ?_
  exact ⟨rfl, rfl⟩
set_option maxHeartbeats 4000000 in
theorem j_X3_size {g : GZ} {A : HA} {rw l n : Nat} (hr : (A.G rw).1 = 3) (hl : A.R rw 0 = some l) (hg : (A.G l).1 = 13) (hs : A.I l 2 = nI n) : Ct g wI yX3_size (.code yX3_size cX3_size 1 (Option.some Jvm.ClassFile.FieldType.int)) 2 0 0 [.ref rw] (A) (fun u A' => u = nI n ∧ A' = A) fw_no := by
  refine Ct.of [some (.ref rw)] (by decide) rfl rfl fun z C hx hnm E => ?_
  refine r_aload_0 (pc := 0) C dX3_size_0 ?_
  refine r_getR (pc := 1) C fl_X3_12_3 hr rfl hl dX3_size_1 ?_
  refine r_F0io (pc := 4) C (j_J2_size hg hs) fi_X3_18_13 hg (by decide) (Nat.le_refl _) (Nat.le_refl _) (Nat.le_of_ble_eq_true rfl) rfl dX3_size_4 (fun u1 A1 hc1 => ?_)
  refine r_top hc1.1 ?_
  refine r_eqA hc1.2 ?_
  clear hc1 A1 u1
  refine r_iret (pc := 9) C E rfl (Nat.le_refl _) (Nat.le_refl _) dX3_size_9 ?_
  exact ⟨rfl, rfl⟩
set_option maxHeartbeats 4000000 in
theorem j_X3_get4 {g : GZ} {A : HA} {rw l e n k x : Nat} (hr : (A.G rw).1 = 3) (hl : A.R rw 0 = some l) (hg : (A.G l).1 = 13) (he : A.R l 1 = some e) (hke : isObA (A.G e).1 = true) (hs : A.I l 2 = nI n) (hn : n ≤ A.n e) (hk : k < n) (h9 : n < 2147483648) (hxe : A.R e k = some x) (hxk : (A.G x).1 = 4) : Ct g wR yX3_get (.code yX3_get cX3_get 2 (Option.some (Jvm.ClassFile.FieldType.object "LawnPaths$Named"))) 5 0 0 [.ref rw, .int (nI (k))] (A) (fun u A' => u = x ∧ A' = A) fw_no := by
  refine Ct.of [some (.ref rw), some (.int (nI (k)))] (by decide) rfl rfl fun z C hx hnm E => ?_
  refine r_aload_0 (pc := 0) C dX3_get_0 ?_
  refine r_getR (pc := 1) C fl_X3_12_3 hr rfl hl dX3_get_1 ?_
  refine r_iload_1 (pc := 4) C dX3_get_4 ?_
  refine r_F1ro (pc := 5) C (j_J2_get hg he hke hs hn hk h9 hxe) fi_X3_24_13 hg (by decide) (Nat.le_refl _) (Nat.le_refl _) (Nat.le_of_ble_eq_true rfl) rfl dX3_get_5 (fun u1 A1 hc1 => ?_)
  refine r_topR hc1.1 ?_
  refine r_eqA hc1.2 ?_
  clear hc1 A1 u1
  refine r_castY (pc := 10) C q925 q930 hxk rfl rfl dX3_get_10 ?_
  refine r_aret (pc := 13) C E rfl (Nat.le_refl _) (Nat.le_refl _) dX3_get_13 ?_
  exact ⟨rfl, rfl⟩
set_option maxHeartbeats 4000000 in
theorem j_X3_get5 {g : GZ} {A : HA} {rw l e n k x : Nat} (hr : (A.G rw).1 = 3) (hl : A.R rw 0 = some l) (hg : (A.G l).1 = 13) (he : A.R l 1 = some e) (hke : isObA (A.G e).1 = true) (hs : A.I l 2 = nI n) (hn : n ≤ A.n e) (hk : k < n) (h9 : n < 2147483648) (hxe : A.R e k = some x) (hxk : (A.G x).1 = 5) : Ct g wR yX3_get (.code yX3_get cX3_get 2 (Option.some (Jvm.ClassFile.FieldType.object "LawnPaths$Named"))) 5 0 0 [.ref rw, .int (nI (k))] (A) (fun u A' => u = x ∧ A' = A) fw_no := by
  refine Ct.of [some (.ref rw), some (.int (nI (k)))] (by decide) rfl rfl fun z C hx hnm E => ?_
  refine r_aload_0 (pc := 0) C dX3_get_0 ?_
  refine r_getR (pc := 1) C fl_X3_12_3 hr rfl hl dX3_get_1 ?_
  refine r_iload_1 (pc := 4) C dX3_get_4 ?_
  refine r_F1ro (pc := 5) C (j_J2_get hg he hke hs hn hk h9 hxe) fi_X3_24_13 hg (by decide) (Nat.le_refl _) (Nat.le_refl _) (Nat.le_of_ble_eq_true rfl) rfl dX3_get_5 (fun u1 A1 hc1 => ?_)
  refine r_topR hc1.1 ?_
  refine r_eqA hc1.2 ?_
  clear hc1 A1 u1
  refine r_castY (pc := 10) C q925 q936 hxk rfl rfl dX3_get_10 ?_
  refine r_aret (pc := 13) C E rfl (Nat.le_refl _) (Nat.le_refl _) dX3_get_13 ?_
  exact ⟨rfl, rfl⟩
set_option maxHeartbeats 4000000 in
theorem j_X4_cell {g : GZ} {A : HA} {s : Nat} (hg : (A.G s).1 = 4) : Ct g wI yX4_cell (.code yX4_cell cX4_cell 1 (Option.some Jvm.ClassFile.FieldType.int)) 1 0 0 [.ref s] (A) (fun u A' => u = A.I s 1 ∧ A' = A) fw_no := by
  refine Ct.of [some (.ref s)] (by decide) rfl rfl fun z C hx hnm E => ?_
  refine r_aload_0 (pc := 0) C dX4_cell_0 ?_
  refine r_getI (pc := 1) C fl_X4_13_4 hg rfl dX4_cell_1 ?_
  refine r_iret (pc := 4) C E rfl (Nat.le_refl _) (Nat.le_refl _) dX4_cell_4 ?_
  exact ⟨rfl, rfl⟩
set_option maxHeartbeats 4000000 in
theorem j_X4_name {g : GZ} {A : HA} {s x : Nat} (hg : (A.G s).1 = 4) (hxe : A.R s 0 = some x) : Ct g wR yX4_name (.code yX4_name cX4_name 1 (Option.some (Jvm.ClassFile.FieldType.object "java/lang/String"))) 1 0 0 [.ref s] (A) (fun u A' => u = x ∧ A' = A) fw_no := by
  refine Ct.of [some (.ref s)] (by decide) rfl rfl fun z C hx hnm E => ?_
  refine r_aload_0 (pc := 0) C dX4_name_0 ?_
  refine r_getR (pc := 1) C fl_X4_7_4 hg rfl hxe dX4_name_1 ?_
  refine r_aret (pc := 4) C E rfl (Nat.le_refl _) (Nat.le_refl _) dX4_name_4 ?_
  exact ⟨rfl, rfl⟩
set_option maxHeartbeats 4000000 in
theorem j_X5_name {g : GZ} {A : HA} {s x : Nat} (hg : (A.G s).1 = 5) (hxe : A.R s 0 = some x) : Ct g wR yX5_name (.code yX5_name cX5_name 1 (Option.some (Jvm.ClassFile.FieldType.object "java/lang/String"))) 1 0 0 [.ref s] (A) (fun u A' => u = x ∧ A' = A) fw_no := by
  refine Ct.of [some (.ref s)] (by decide) rfl rfl fun z C hx hnm E => ?_
  refine r_aload_0 (pc := 0) C dX5_name_0 ?_
  refine r_getR (pc := 1) C fl_X5_7_5 hg rfl hxe dX5_name_1 ?_
  refine r_aret (pc := 4) C E rfl (Nat.le_refl _) (Nat.le_refl _) dX5_name_4 ?_
  exact ⟨rfl, rfl⟩
set_option maxHeartbeats 4000000 in
theorem j_X5_walksOn {g : GZ} {A : HA} {s p D : Nat} (hg : (A.G s).1 = 5) (hp : A.I s 1 = nI p) (h1 : 1 ≤ p) (h9 : p ≤ 9) (hD : D < 1000000) : Ct g wI yX5_walksOn (.code yX5_walksOn cX5_walksOn 2 (Option.some Jvm.ClassFile.FieldType.boolean)) 1 0 0 [.ref s, .int (nI (D))] (A) (fun u A' => u = bI (D % p = 0) ∧ A' = A) fw_no := by
  refine Ct.of [some (.ref s), some (.int (nI (D)))] (by decide) rfl rfl fun z C hx hnm E => ?_
  refine r_iload_1 (pc := 0) C dX5_walksOn_0 ?_
  refine r_aload_0 (pc := 1) C dX5_walksOn_1 ?_
  refine r_getI (pc := 2) C fl_X5_23_5 hg rfl dX5_walksOn_2 ?_
  refine r_top hp ?_
  refine r_irem (pc := 5) C dX5_walksOn_5 (nI_nz (by omega) (by omega)) ?_
  refine r_top (nI_rem (by omega) (by omega) (by omega)) ?_
  have hpp : D % p < 2147483648 := by have := Nat.mod_lt D (show 0 < p by omega); omega
  refine r_if_ne (pc := 6) (tgt := 13) C dX5_walksOn_6 (by decide) (fun b6 => ?_) (fun b6 => ?_)
  · skip
    have b6 := (not_congr (nI_eq0 (by omega))).mp b6
    refine r_iconst (pc := 13) C dX5_walksOn_13 ci_0 ?_
    refine r_iret (pc := 14) C E nar_0 (Nat.le_refl _) (Nat.le_refl _) dX5_walksOn_14 ?_
    have hpp : D % p < 2147483648 := by have := Nat.mod_lt D (show 0 < p by omega); omega
    first
      | exact ⟨bI_1 b6, rfl⟩
      | exact ⟨bI_00 b6, rfl⟩
  · skip
    have b6 := (nI_eq0 (by omega)).mp b6
    refine r_iconst (pc := 9) C dX5_walksOn_9 ci_1 ?_
    refine r_goto (pc := 10) (tgt := 14) C dX5_walksOn_10 (by decide) ?_
    refine r_iret (pc := 14) C E nar_1 (Nat.le_refl _) (Nat.le_refl _) dX5_walksOn_14 ?_
    have hpp : D % p < 2147483648 := by have := Nat.mod_lt D (show 0 < p by omega); omega
    first
      | exact ⟨bI_1 b6, rfl⟩
      | exact ⟨bI_00 b6, rfl⟩
