set_option maxRecDepth 100000
def dkwX0_append_1 : List UInt8 := [172]
abbrev dktX0_append_1 : List UInt8 := dkwX0_append_1 ++ []
def dkwX0_append_0 : List UInt8 := [25, 6, 3, 42, 27, 28, 29, 21, 4, 21, 5, 182, 0, 7, 133, 80, 167, 0, 7, 58, 7, 4, 172, 3]
abbrev dktX0_append_0 : List UInt8 := dkwX0_append_0 ++ dktX0_append_1
theorem dksX0_append_0 : cX0_append.data.toList.drop 0 = dktX0_append_0 := by decide +kernel
theorem dksX0_append_1 : cX0_append.data.toList.drop 24 = dktX0_append_1 := dk_seg dksX0_append_0 24 rfl rfl
theorem dX0_append_0 : decode cX0_append 0 = .ok (.aload 6, 2) := dk_25 6 (dk_at dksX0_append_0 0 rfl rfl)
theorem dX0_append_2 : decode cX0_append 2 = .ok (.iconst 0, 1) := dk_3 (dk_at dksX0_append_0 2 rfl rfl)
theorem dX0_append_3 : decode cX0_append 3 = .ok (.aload_n 0, 1) := dk_42 (dk_at dksX0_append_0 3 rfl rfl)
theorem dX0_append_4 : decode cX0_append 4 = .ok (.iload_n 1, 1) := dk_27 (dk_at dksX0_append_0 4 rfl rfl)
theorem dX0_append_5 : decode cX0_append 5 = .ok (.iload_n 2, 1) := dk_28 (dk_at dksX0_append_0 5 rfl rfl)
theorem dX0_append_6 : decode cX0_append 6 = .ok (.iload_n 3, 1) := dk_29 (dk_at dksX0_append_0 6 rfl rfl)
theorem dX0_append_7 : decode cX0_append 7 = .ok (.iload 4, 2) := dk_21 4 (dk_at dksX0_append_0 7 rfl rfl)
theorem dX0_append_9 : decode cX0_append 9 = .ok (.iload 5, 2) := dk_21 5 (dk_at dksX0_append_0 9 rfl rfl)
theorem dX0_append_11 : decode cX0_append 11 = .ok (.invokevirtual 7, 3) := dk_182 0 7 (dk_at dksX0_append_0 11 rfl rfl)
theorem dX0_append_14 : decode cX0_append 14 = .ok (.i2l, 1) := dk_133 (dk_at dksX0_append_0 14 rfl rfl)
theorem dX0_append_15 : decode cX0_append 15 = .ok (.lastore, 1) := dk_80 (dk_at dksX0_append_0 15 rfl rfl)
theorem dX0_append_16 : decode cX0_append 16 = .ok (.goto 7, 3) := dk_167 0 7 (dk_at dksX0_append_0 16 rfl rfl)
theorem dX0_append_19 : decode cX0_append 19 = .ok (.astore 7, 2) := dk_58 7 (dk_at dksX0_append_0 19 rfl rfl)
theorem dX0_append_21 : decode cX0_append 21 = .ok (.iconst 1, 1) := dk_4 (dk_at dksX0_append_0 21 rfl rfl)
theorem dX0_append_22 : decode cX0_append 22 = .ok (.ireturn, 1) := dk_172 (dk_at dksX0_append_0 22 rfl rfl)
theorem dX0_append_23 : decode cX0_append 23 = .ok (.iconst 0, 1) := dk_3 (dk_at dksX0_append_0 23 rfl rfl)
theorem dX0_append_24 : decode cX0_append 24 = .ok (.ireturn, 1) := dk_172 (dk_at dksX0_append_1 0 rfl rfl)
def dkwX0_truncate_0 : List UInt8 := [44, 3, 42, 27, 182, 0, 15, 133, 80, 167, 0, 6, 78, 4, 172, 3, 172]
abbrev dktX0_truncate_0 : List UInt8 := dkwX0_truncate_0 ++ []
theorem dksX0_truncate_0 : cX0_truncate.data.toList.drop 0 = dktX0_truncate_0 := by decide +kernel
theorem dX0_truncate_0 : decode cX0_truncate 0 = .ok (.aload_n 2, 1) := dk_44 (dk_at dksX0_truncate_0 0 rfl rfl)
theorem dX0_truncate_1 : decode cX0_truncate 1 = .ok (.iconst 0, 1) := dk_3 (dk_at dksX0_truncate_0 1 rfl rfl)
theorem dX0_truncate_2 : decode cX0_truncate 2 = .ok (.aload_n 0, 1) := dk_42 (dk_at dksX0_truncate_0 2 rfl rfl)
theorem dX0_truncate_3 : decode cX0_truncate 3 = .ok (.iload_n 1, 1) := dk_27 (dk_at dksX0_truncate_0 3 rfl rfl)
theorem dX0_truncate_4 : decode cX0_truncate 4 = .ok (.invokevirtual 15, 3) := dk_182 0 15 (dk_at dksX0_truncate_0 4 rfl rfl)
theorem dX0_truncate_7 : decode cX0_truncate 7 = .ok (.i2l, 1) := dk_133 (dk_at dksX0_truncate_0 7 rfl rfl)
theorem dX0_truncate_8 : decode cX0_truncate 8 = .ok (.lastore, 1) := dk_80 (dk_at dksX0_truncate_0 8 rfl rfl)
theorem dX0_truncate_9 : decode cX0_truncate 9 = .ok (.goto 6, 3) := dk_167 0 6 (dk_at dksX0_truncate_0 9 rfl rfl)
theorem dX0_truncate_12 : decode cX0_truncate 12 = .ok (.astore_n 3, 1) := dk_78 (dk_at dksX0_truncate_0 12 rfl rfl)
theorem dX0_truncate_13 : decode cX0_truncate 13 = .ok (.iconst 1, 1) := dk_4 (dk_at dksX0_truncate_0 13 rfl rfl)
theorem dX0_truncate_14 : decode cX0_truncate 14 = .ok (.ireturn, 1) := dk_172 (dk_at dksX0_truncate_0 14 rfl rfl)
theorem dX0_truncate_15 : decode cX0_truncate 15 = .ok (.iconst 0, 1) := dk_3 (dk_at dksX0_truncate_0 15 rfl rfl)
theorem dX0_truncate_16 : decode cX0_truncate 16 = .ok (.ireturn, 1) := dk_172 (dk_at dksX0_truncate_0 16 rfl rfl)
def dkwX0_readText_0 : List UInt8 := [43, 3, 42, 182, 0, 21, 133, 80, 167, 0, 6, 77, 4, 172, 3, 172]
abbrev dktX0_readText_0 : List UInt8 := dkwX0_readText_0 ++ []
theorem dksX0_readText_0 : cX0_readText.data.toList.drop 0 = dktX0_readText_0 := by decide +kernel
theorem dX0_readText_0 : decode cX0_readText 0 = .ok (.aload_n 1, 1) := dk_43 (dk_at dksX0_readText_0 0 rfl rfl)
theorem dX0_readText_1 : decode cX0_readText 1 = .ok (.iconst 0, 1) := dk_3 (dk_at dksX0_readText_0 1 rfl rfl)
theorem dX0_readText_2 : decode cX0_readText 2 = .ok (.aload_n 0, 1) := dk_42 (dk_at dksX0_readText_0 2 rfl rfl)
theorem dX0_readText_3 : decode cX0_readText 3 = .ok (.invokevirtual 21, 3) := dk_182 0 21 (dk_at dksX0_readText_0 3 rfl rfl)
theorem dX0_readText_6 : decode cX0_readText 6 = .ok (.i2l, 1) := dk_133 (dk_at dksX0_readText_0 6 rfl rfl)
theorem dX0_readText_7 : decode cX0_readText 7 = .ok (.lastore, 1) := dk_80 (dk_at dksX0_readText_0 7 rfl rfl)
theorem dX0_readText_8 : decode cX0_readText 8 = .ok (.goto 6, 3) := dk_167 0 6 (dk_at dksX0_readText_0 8 rfl rfl)
theorem dX0_readText_11 : decode cX0_readText 11 = .ok (.astore_n 2, 1) := dk_77 (dk_at dksX0_readText_0 11 rfl rfl)
theorem dX0_readText_12 : decode cX0_readText 12 = .ok (.iconst 1, 1) := dk_4 (dk_at dksX0_readText_0 12 rfl rfl)
theorem dX0_readText_13 : decode cX0_readText 13 = .ok (.ireturn, 1) := dk_172 (dk_at dksX0_readText_0 13 rfl rfl)
theorem dX0_readText_14 : decode cX0_readText 14 = .ok (.iconst 0, 1) := dk_3 (dk_at dksX0_readText_0 14 rfl rfl)
theorem dX0_readText_15 : decode cX0_readText 15 = .ok (.ireturn, 1) := dk_172 (dk_at dksX0_readText_0 15 rfl rfl)
def dkwX0_runOrders_0 : List UInt8 := [43, 3, 42, 182, 0, 25, 133, 80, 167, 0, 6, 77, 4, 172, 3, 172]
abbrev dktX0_runOrders_0 : List UInt8 := dkwX0_runOrders_0 ++ []
theorem dksX0_runOrders_0 : cX0_runOrders.data.toList.drop 0 = dktX0_runOrders_0 := by decide +kernel
theorem dX0_runOrders_0 : decode cX0_runOrders 0 = .ok (.aload_n 1, 1) := dk_43 (dk_at dksX0_runOrders_0 0 rfl rfl)
theorem dX0_runOrders_1 : decode cX0_runOrders 1 = .ok (.iconst 0, 1) := dk_3 (dk_at dksX0_runOrders_0 1 rfl rfl)
theorem dX0_runOrders_2 : decode cX0_runOrders 2 = .ok (.aload_n 0, 1) := dk_42 (dk_at dksX0_runOrders_0 2 rfl rfl)
theorem dX0_runOrders_3 : decode cX0_runOrders 3 = .ok (.invokevirtual 25, 3) := dk_182 0 25 (dk_at dksX0_runOrders_0 3 rfl rfl)
theorem dX0_runOrders_6 : decode cX0_runOrders 6 = .ok (.i2l, 1) := dk_133 (dk_at dksX0_runOrders_0 6 rfl rfl)
theorem dX0_runOrders_7 : decode cX0_runOrders 7 = .ok (.lastore, 1) := dk_80 (dk_at dksX0_runOrders_0 7 rfl rfl)
theorem dX0_runOrders_8 : decode cX0_runOrders 8 = .ok (.goto 6, 3) := dk_167 0 6 (dk_at dksX0_runOrders_0 8 rfl rfl)
theorem dX0_runOrders_11 : decode cX0_runOrders 11 = .ok (.astore_n 2, 1) := dk_77 (dk_at dksX0_runOrders_0 11 rfl rfl)
theorem dX0_runOrders_12 : decode cX0_runOrders 12 = .ok (.iconst 1, 1) := dk_4 (dk_at dksX0_runOrders_0 12 rfl rfl)
theorem dX0_runOrders_13 : decode cX0_runOrders 13 = .ok (.ireturn, 1) := dk_172 (dk_at dksX0_runOrders_0 13 rfl rfl)
theorem dX0_runOrders_14 : decode cX0_runOrders 14 = .ok (.iconst 0, 1) := dk_3 (dk_at dksX0_runOrders_0 14 rfl rfl)
theorem dX0_runOrders_15 : decode cX0_runOrders 15 = .ok (.ireturn, 1) := dk_172 (dk_at dksX0_runOrders_0 15 rfl rfl)
def dkwX0_size_0 : List UInt8 := [44, 3, 42, 27, 182, 0, 28, 133, 80, 167, 0, 6, 78, 4, 172, 3, 172]
abbrev dktX0_size_0 : List UInt8 := dkwX0_size_0 ++ []
theorem dksX0_size_0 : cX0_size.data.toList.drop 0 = dktX0_size_0 := by decide +kernel
theorem dX0_size_0 : decode cX0_size 0 = .ok (.aload_n 2, 1) := dk_44 (dk_at dksX0_size_0 0 rfl rfl)
theorem dX0_size_1 : decode cX0_size 1 = .ok (.iconst 0, 1) := dk_3 (dk_at dksX0_size_0 1 rfl rfl)
theorem dX0_size_2 : decode cX0_size 2 = .ok (.aload_n 0, 1) := dk_42 (dk_at dksX0_size_0 2 rfl rfl)
theorem dX0_size_3 : decode cX0_size 3 = .ok (.iload_n 1, 1) := dk_27 (dk_at dksX0_size_0 3 rfl rfl)
theorem dX0_size_4 : decode cX0_size 4 = .ok (.invokevirtual 28, 3) := dk_182 0 28 (dk_at dksX0_size_0 4 rfl rfl)
theorem dX0_size_7 : decode cX0_size 7 = .ok (.i2l, 1) := dk_133 (dk_at dksX0_size_0 7 rfl rfl)
theorem dX0_size_8 : decode cX0_size 8 = .ok (.lastore, 1) := dk_80 (dk_at dksX0_size_0 8 rfl rfl)
theorem dX0_size_9 : decode cX0_size 9 = .ok (.goto 6, 3) := dk_167 0 6 (dk_at dksX0_size_0 9 rfl rfl)
theorem dX0_size_12 : decode cX0_size 12 = .ok (.astore_n 3, 1) := dk_78 (dk_at dksX0_size_0 12 rfl rfl)
theorem dX0_size_13 : decode cX0_size 13 = .ok (.iconst 1, 1) := dk_4 (dk_at dksX0_size_0 13 rfl rfl)
theorem dX0_size_14 : decode cX0_size 14 = .ok (.ireturn, 1) := dk_172 (dk_at dksX0_size_0 14 rfl rfl)
theorem dX0_size_15 : decode cX0_size 15 = .ok (.iconst 0, 1) := dk_3 (dk_at dksX0_size_0 15 rfl rfl)
theorem dX0_size_16 : decode cX0_size 16 = .ok (.ireturn, 1) := dk_172 (dk_at dksX0_size_0 16 rfl rfl)
def dkwX0_cell_1 : List UInt8 := [172]
abbrev dktX0_cell_1 : List UInt8 := dkwX0_cell_1 ++ []
def dkwX0_cell_0 : List UInt8 := [25, 4, 3, 42, 27, 28, 29, 182, 0, 31, 133, 80, 167, 0, 11, 58, 5, 4, 172, 58, 5, 5, 172, 3]
abbrev dktX0_cell_0 : List UInt8 := dkwX0_cell_0 ++ dktX0_cell_1
theorem dksX0_cell_0 : cX0_cell.data.toList.drop 0 = dktX0_cell_0 := by decide +kernel
theorem dksX0_cell_1 : cX0_cell.data.toList.drop 24 = dktX0_cell_1 := dk_seg dksX0_cell_0 24 rfl rfl
theorem dX0_cell_0 : decode cX0_cell 0 = .ok (.aload 4, 2) := dk_25 4 (dk_at dksX0_cell_0 0 rfl rfl)
theorem dX0_cell_2 : decode cX0_cell 2 = .ok (.iconst 0, 1) := dk_3 (dk_at dksX0_cell_0 2 rfl rfl)
theorem dX0_cell_3 : decode cX0_cell 3 = .ok (.aload_n 0, 1) := dk_42 (dk_at dksX0_cell_0 3 rfl rfl)
theorem dX0_cell_4 : decode cX0_cell 4 = .ok (.iload_n 1, 1) := dk_27 (dk_at dksX0_cell_0 4 rfl rfl)
theorem dX0_cell_5 : decode cX0_cell 5 = .ok (.iload_n 2, 1) := dk_28 (dk_at dksX0_cell_0 5 rfl rfl)
theorem dX0_cell_6 : decode cX0_cell 6 = .ok (.iload_n 3, 1) := dk_29 (dk_at dksX0_cell_0 6 rfl rfl)
theorem dX0_cell_7 : decode cX0_cell 7 = .ok (.invokevirtual 31, 3) := dk_182 0 31 (dk_at dksX0_cell_0 7 rfl rfl)
theorem dX0_cell_10 : decode cX0_cell 10 = .ok (.i2l, 1) := dk_133 (dk_at dksX0_cell_0 10 rfl rfl)
theorem dX0_cell_11 : decode cX0_cell 11 = .ok (.lastore, 1) := dk_80 (dk_at dksX0_cell_0 11 rfl rfl)
theorem dX0_cell_12 : decode cX0_cell 12 = .ok (.goto 11, 3) := dk_167 0 11 (dk_at dksX0_cell_0 12 rfl rfl)
theorem dX0_cell_15 : decode cX0_cell 15 = .ok (.astore 5, 2) := dk_58 5 (dk_at dksX0_cell_0 15 rfl rfl)
theorem dX0_cell_17 : decode cX0_cell 17 = .ok (.iconst 1, 1) := dk_4 (dk_at dksX0_cell_0 17 rfl rfl)
theorem dX0_cell_18 : decode cX0_cell 18 = .ok (.ireturn, 1) := dk_172 (dk_at dksX0_cell_0 18 rfl rfl)
theorem dX0_cell_19 : decode cX0_cell 19 = .ok (.astore 5, 2) := dk_58 5 (dk_at dksX0_cell_0 19 rfl rfl)
theorem dX0_cell_21 : decode cX0_cell 21 = .ok (.iconst 2, 1) := dk_5 (dk_at dksX0_cell_0 21 rfl rfl)
theorem dX0_cell_22 : decode cX0_cell 22 = .ok (.ireturn, 1) := dk_172 (dk_at dksX0_cell_0 22 rfl rfl)
theorem dX0_cell_23 : decode cX0_cell 23 = .ok (.iconst 0, 1) := dk_3 (dk_at dksX0_cell_0 23 rfl rfl)
theorem dX0_cell_24 : decode cX0_cell 24 = .ok (.ireturn, 1) := dk_172 (dk_at dksX0_cell_1 0 rfl rfl)
def dkwX0_gate_0 : List UInt8 := [45, 3, 42, 27, 28, 182, 0, 37, 133, 80, 167, 0, 11, 58, 4, 4, 172, 58, 4, 5, 172, 3, 172]
abbrev dktX0_gate_0 : List UInt8 := dkwX0_gate_0 ++ []
theorem dksX0_gate_0 : cX0_gate.data.toList.drop 0 = dktX0_gate_0 := by decide +kernel
theorem dX0_gate_0 : decode cX0_gate 0 = .ok (.aload_n 3, 1) := dk_45 (dk_at dksX0_gate_0 0 rfl rfl)
theorem dX0_gate_1 : decode cX0_gate 1 = .ok (.iconst 0, 1) := dk_3 (dk_at dksX0_gate_0 1 rfl rfl)
theorem dX0_gate_2 : decode cX0_gate 2 = .ok (.aload_n 0, 1) := dk_42 (dk_at dksX0_gate_0 2 rfl rfl)
theorem dX0_gate_3 : decode cX0_gate 3 = .ok (.iload_n 1, 1) := dk_27 (dk_at dksX0_gate_0 3 rfl rfl)
theorem dX0_gate_4 : decode cX0_gate 4 = .ok (.iload_n 2, 1) := dk_28 (dk_at dksX0_gate_0 4 rfl rfl)
theorem dX0_gate_5 : decode cX0_gate 5 = .ok (.invokevirtual 37, 3) := dk_182 0 37 (dk_at dksX0_gate_0 5 rfl rfl)
theorem dX0_gate_8 : decode cX0_gate 8 = .ok (.i2l, 1) := dk_133 (dk_at dksX0_gate_0 8 rfl rfl)
theorem dX0_gate_9 : decode cX0_gate 9 = .ok (.lastore, 1) := dk_80 (dk_at dksX0_gate_0 9 rfl rfl)
theorem dX0_gate_10 : decode cX0_gate 10 = .ok (.goto 11, 3) := dk_167 0 11 (dk_at dksX0_gate_0 10 rfl rfl)
theorem dX0_gate_13 : decode cX0_gate 13 = .ok (.astore 4, 2) := dk_58 4 (dk_at dksX0_gate_0 13 rfl rfl)
theorem dX0_gate_15 : decode cX0_gate 15 = .ok (.iconst 1, 1) := dk_4 (dk_at dksX0_gate_0 15 rfl rfl)
theorem dX0_gate_16 : decode cX0_gate 16 = .ok (.ireturn, 1) := dk_172 (dk_at dksX0_gate_0 16 rfl rfl)
theorem dX0_gate_17 : decode cX0_gate 17 = .ok (.astore 4, 2) := dk_58 4 (dk_at dksX0_gate_0 17 rfl rfl)
theorem dX0_gate_19 : decode cX0_gate 19 = .ok (.iconst 2, 1) := dk_5 (dk_at dksX0_gate_0 19 rfl rfl)
theorem dX0_gate_20 : decode cX0_gate 20 = .ok (.ireturn, 1) := dk_172 (dk_at dksX0_gate_0 20 rfl rfl)
theorem dX0_gate_21 : decode cX0_gate 21 = .ok (.iconst 0, 1) := dk_3 (dk_at dksX0_gate_0 21 rfl rfl)
theorem dX0_gate_22 : decode cX0_gate 22 = .ok (.ireturn, 1) := dk_172 (dk_at dksX0_gate_0 22 rfl rfl)
def dkwX0_walker_0 : List UInt8 := [45, 3, 42, 27, 28, 182, 0, 41, 133, 80, 167, 0, 11, 58, 4, 4, 172, 58, 4, 5, 172, 3, 172]
abbrev dktX0_walker_0 : List UInt8 := dkwX0_walker_0 ++ []
theorem dksX0_walker_0 : cX0_walker.data.toList.drop 0 = dktX0_walker_0 := by decide +kernel
theorem dX0_walker_0 : decode cX0_walker 0 = .ok (.aload_n 3, 1) := dk_45 (dk_at dksX0_walker_0 0 rfl rfl)
theorem dX0_walker_1 : decode cX0_walker 1 = .ok (.iconst 0, 1) := dk_3 (dk_at dksX0_walker_0 1 rfl rfl)
theorem dX0_walker_2 : decode cX0_walker 2 = .ok (.aload_n 0, 1) := dk_42 (dk_at dksX0_walker_0 2 rfl rfl)
theorem dX0_walker_3 : decode cX0_walker 3 = .ok (.iload_n 1, 1) := dk_27 (dk_at dksX0_walker_0 3 rfl rfl)
theorem dX0_walker_4 : decode cX0_walker 4 = .ok (.iload_n 2, 1) := dk_28 (dk_at dksX0_walker_0 4 rfl rfl)
theorem dX0_walker_5 : decode cX0_walker 5 = .ok (.invokevirtual 41, 3) := dk_182 0 41 (dk_at dksX0_walker_0 5 rfl rfl)
theorem dX0_walker_8 : decode cX0_walker 8 = .ok (.i2l, 1) := dk_133 (dk_at dksX0_walker_0 8 rfl rfl)
theorem dX0_walker_9 : decode cX0_walker 9 = .ok (.lastore, 1) := dk_80 (dk_at dksX0_walker_0 9 rfl rfl)
theorem dX0_walker_10 : decode cX0_walker 10 = .ok (.goto 11, 3) := dk_167 0 11 (dk_at dksX0_walker_0 10 rfl rfl)
theorem dX0_walker_13 : decode cX0_walker 13 = .ok (.astore 4, 2) := dk_58 4 (dk_at dksX0_walker_0 13 rfl rfl)
theorem dX0_walker_15 : decode cX0_walker 15 = .ok (.iconst 1, 1) := dk_4 (dk_at dksX0_walker_0 15 rfl rfl)
theorem dX0_walker_16 : decode cX0_walker 16 = .ok (.ireturn, 1) := dk_172 (dk_at dksX0_walker_0 16 rfl rfl)
theorem dX0_walker_17 : decode cX0_walker 17 = .ok (.astore 4, 2) := dk_58 4 (dk_at dksX0_walker_0 17 rfl rfl)
theorem dX0_walker_19 : decode cX0_walker 19 = .ok (.iconst 2, 1) := dk_5 (dk_at dksX0_walker_0 19 rfl rfl)
theorem dX0_walker_20 : decode cX0_walker 20 = .ok (.ireturn, 1) := dk_172 (dk_at dksX0_walker_0 20 rfl rfl)
theorem dX0_walker_21 : decode cX0_walker 21 = .ok (.iconst 0, 1) := dk_3 (dk_at dksX0_walker_0 21 rfl rfl)
theorem dX0_walker_22 : decode cX0_walker 22 = .ok (.ireturn, 1) := dk_172 (dk_at dksX0_walker_0 22 rfl rfl)
def dkwX0_nameByte_0 : List UInt8 := [25, 4, 3, 42, 27, 28, 29, 182, 0, 44, 133, 80, 167, 0, 7, 58, 5, 4, 172, 3, 172]
abbrev dktX0_nameByte_0 : List UInt8 := dkwX0_nameByte_0 ++ []
theorem dksX0_nameByte_0 : cX0_nameByte.data.toList.drop 0 = dktX0_nameByte_0 := by decide +kernel
theorem dX0_nameByte_0 : decode cX0_nameByte 0 = .ok (.aload 4, 2) := dk_25 4 (dk_at dksX0_nameByte_0 0 rfl rfl)
theorem dX0_nameByte_2 : decode cX0_nameByte 2 = .ok (.iconst 0, 1) := dk_3 (dk_at dksX0_nameByte_0 2 rfl rfl)
theorem dX0_nameByte_3 : decode cX0_nameByte 3 = .ok (.aload_n 0, 1) := dk_42 (dk_at dksX0_nameByte_0 3 rfl rfl)
theorem dX0_nameByte_4 : decode cX0_nameByte 4 = .ok (.iload_n 1, 1) := dk_27 (dk_at dksX0_nameByte_0 4 rfl rfl)
theorem dX0_nameByte_5 : decode cX0_nameByte 5 = .ok (.iload_n 2, 1) := dk_28 (dk_at dksX0_nameByte_0 5 rfl rfl)
theorem dX0_nameByte_6 : decode cX0_nameByte 6 = .ok (.iload_n 3, 1) := dk_29 (dk_at dksX0_nameByte_0 6 rfl rfl)
theorem dX0_nameByte_7 : decode cX0_nameByte 7 = .ok (.invokevirtual 44, 3) := dk_182 0 44 (dk_at dksX0_nameByte_0 7 rfl rfl)
theorem dX0_nameByte_10 : decode cX0_nameByte 10 = .ok (.i2l, 1) := dk_133 (dk_at dksX0_nameByte_0 10 rfl rfl)
theorem dX0_nameByte_11 : decode cX0_nameByte 11 = .ok (.lastore, 1) := dk_80 (dk_at dksX0_nameByte_0 11 rfl rfl)
theorem dX0_nameByte_12 : decode cX0_nameByte 12 = .ok (.goto 7, 3) := dk_167 0 7 (dk_at dksX0_nameByte_0 12 rfl rfl)
theorem dX0_nameByte_15 : decode cX0_nameByte 15 = .ok (.astore 5, 2) := dk_58 5 (dk_at dksX0_nameByte_0 15 rfl rfl)
theorem dX0_nameByte_17 : decode cX0_nameByte 17 = .ok (.iconst 1, 1) := dk_4 (dk_at dksX0_nameByte_0 17 rfl rfl)
theorem dX0_nameByte_18 : decode cX0_nameByte 18 = .ok (.ireturn, 1) := dk_172 (dk_at dksX0_nameByte_0 18 rfl rfl)
theorem dX0_nameByte_19 : decode cX0_nameByte 19 = .ok (.iconst 0, 1) := dk_3 (dk_at dksX0_nameByte_0 19 rfl rfl)
theorem dX0_nameByte_20 : decode cX0_nameByte 20 = .ok (.ireturn, 1) := dk_172 (dk_at dksX0_nameByte_0 20 rfl rfl)
def dkwX0_isWet_0 : List UInt8 := [44, 3, 42, 27, 182, 0, 48, 153, 0, 7, 10, 167, 0, 4, 9, 80, 167, 0, 6, 78, 4, 172, 3, 172]
abbrev dktX0_isWet_0 : List UInt8 := dkwX0_isWet_0 ++ []
theorem dksX0_isWet_0 : cX0_isWet.data.toList.drop 0 = dktX0_isWet_0 := by decide +kernel
theorem dX0_isWet_0 : decode cX0_isWet 0 = .ok (.aload_n 2, 1) := dk_44 (dk_at dksX0_isWet_0 0 rfl rfl)
theorem dX0_isWet_1 : decode cX0_isWet 1 = .ok (.iconst 0, 1) := dk_3 (dk_at dksX0_isWet_0 1 rfl rfl)
theorem dX0_isWet_2 : decode cX0_isWet 2 = .ok (.aload_n 0, 1) := dk_42 (dk_at dksX0_isWet_0 2 rfl rfl)
theorem dX0_isWet_3 : decode cX0_isWet 3 = .ok (.iload_n 1, 1) := dk_27 (dk_at dksX0_isWet_0 3 rfl rfl)
theorem dX0_isWet_4 : decode cX0_isWet 4 = .ok (.invokevirtual 48, 3) := dk_182 0 48 (dk_at dksX0_isWet_0 4 rfl rfl)
theorem dX0_isWet_7 : decode cX0_isWet 7 = .ok (.ifCond .eq 7, 3) := dk_153 0 7 (dk_at dksX0_isWet_0 7 rfl rfl)
theorem dX0_isWet_10 : decode cX0_isWet 10 = .ok (.lconst 1, 1) := dk_10 (dk_at dksX0_isWet_0 10 rfl rfl)
theorem dX0_isWet_11 : decode cX0_isWet 11 = .ok (.goto 4, 3) := dk_167 0 4 (dk_at dksX0_isWet_0 11 rfl rfl)
theorem dX0_isWet_14 : decode cX0_isWet 14 = .ok (.lconst 0, 1) := dk_9 (dk_at dksX0_isWet_0 14 rfl rfl)
theorem dX0_isWet_15 : decode cX0_isWet 15 = .ok (.lastore, 1) := dk_80 (dk_at dksX0_isWet_0 15 rfl rfl)
theorem dX0_isWet_16 : decode cX0_isWet 16 = .ok (.goto 6, 3) := dk_167 0 6 (dk_at dksX0_isWet_0 16 rfl rfl)
theorem dX0_isWet_19 : decode cX0_isWet 19 = .ok (.astore_n 3, 1) := dk_78 (dk_at dksX0_isWet_0 19 rfl rfl)
theorem dX0_isWet_20 : decode cX0_isWet 20 = .ok (.iconst 1, 1) := dk_4 (dk_at dksX0_isWet_0 20 rfl rfl)
theorem dX0_isWet_21 : decode cX0_isWet 21 = .ok (.ireturn, 1) := dk_172 (dk_at dksX0_isWet_0 21 rfl rfl)
theorem dX0_isWet_22 : decode cX0_isWet 22 = .ok (.iconst 0, 1) := dk_3 (dk_at dksX0_isWet_0 22 rfl rfl)
theorem dX0_isWet_23 : decode cX0_isWet 23 = .ok (.ireturn, 1) := dk_172 (dk_at dksX0_isWet_0 23 rfl rfl)
def dkwX0_cost_0 : List UInt8 := [25, 4, 3, 42, 27, 28, 29, 182, 0, 52, 133, 80, 167, 0, 7, 58, 5, 4, 172, 3, 172]
abbrev dktX0_cost_0 : List UInt8 := dkwX0_cost_0 ++ []
theorem dksX0_cost_0 : cX0_cost.data.toList.drop 0 = dktX0_cost_0 := by decide +kernel
theorem dX0_cost_0 : decode cX0_cost 0 = .ok (.aload 4, 2) := dk_25 4 (dk_at dksX0_cost_0 0 rfl rfl)
theorem dX0_cost_2 : decode cX0_cost 2 = .ok (.iconst 0, 1) := dk_3 (dk_at dksX0_cost_0 2 rfl rfl)
theorem dX0_cost_3 : decode cX0_cost 3 = .ok (.aload_n 0, 1) := dk_42 (dk_at dksX0_cost_0 3 rfl rfl)
theorem dX0_cost_4 : decode cX0_cost 4 = .ok (.iload_n 1, 1) := dk_27 (dk_at dksX0_cost_0 4 rfl rfl)
theorem dX0_cost_5 : decode cX0_cost 5 = .ok (.iload_n 2, 1) := dk_28 (dk_at dksX0_cost_0 5 rfl rfl)
theorem dX0_cost_6 : decode cX0_cost 6 = .ok (.iload_n 3, 1) := dk_29 (dk_at dksX0_cost_0 6 rfl rfl)
theorem dX0_cost_7 : decode cX0_cost 7 = .ok (.invokevirtual 52, 3) := dk_182 0 52 (dk_at dksX0_cost_0 7 rfl rfl)
theorem dX0_cost_10 : decode cX0_cost 10 = .ok (.i2l, 1) := dk_133 (dk_at dksX0_cost_0 10 rfl rfl)
theorem dX0_cost_11 : decode cX0_cost 11 = .ok (.lastore, 1) := dk_80 (dk_at dksX0_cost_0 11 rfl rfl)
theorem dX0_cost_12 : decode cX0_cost 12 = .ok (.goto 7, 3) := dk_167 0 7 (dk_at dksX0_cost_0 12 rfl rfl)
theorem dX0_cost_15 : decode cX0_cost 15 = .ok (.astore 5, 2) := dk_58 5 (dk_at dksX0_cost_0 15 rfl rfl)
theorem dX0_cost_17 : decode cX0_cost 17 = .ok (.iconst 1, 1) := dk_4 (dk_at dksX0_cost_0 17 rfl rfl)
theorem dX0_cost_18 : decode cX0_cost 18 = .ok (.ireturn, 1) := dk_172 (dk_at dksX0_cost_0 18 rfl rfl)
theorem dX0_cost_19 : decode cX0_cost 19 = .ok (.iconst 0, 1) := dk_3 (dk_at dksX0_cost_0 19 rfl rfl)
theorem dX0_cost_20 : decode cX0_cost 20 = .ok (.ireturn, 1) := dk_172 (dk_at dksX0_cost_0 20 rfl rfl)
def dkwX0_wayCost_0 : List UInt8 := [44, 3, 42, 27, 182, 0, 55, 133, 80, 167, 0, 6, 78, 4, 172, 3, 172]
abbrev dktX0_wayCost_0 : List UInt8 := dkwX0_wayCost_0 ++ []
theorem dksX0_wayCost_0 : cX0_wayCost.data.toList.drop 0 = dktX0_wayCost_0 := by decide +kernel
theorem dX0_wayCost_0 : decode cX0_wayCost 0 = .ok (.aload_n 2, 1) := dk_44 (dk_at dksX0_wayCost_0 0 rfl rfl)
theorem dX0_wayCost_1 : decode cX0_wayCost 1 = .ok (.iconst 0, 1) := dk_3 (dk_at dksX0_wayCost_0 1 rfl rfl)
theorem dX0_wayCost_2 : decode cX0_wayCost 2 = .ok (.aload_n 0, 1) := dk_42 (dk_at dksX0_wayCost_0 2 rfl rfl)
theorem dX0_wayCost_3 : decode cX0_wayCost 3 = .ok (.iload_n 1, 1) := dk_27 (dk_at dksX0_wayCost_0 3 rfl rfl)
theorem dX0_wayCost_4 : decode cX0_wayCost 4 = .ok (.invokevirtual 55, 3) := dk_182 0 55 (dk_at dksX0_wayCost_0 4 rfl rfl)
theorem dX0_wayCost_7 : decode cX0_wayCost 7 = .ok (.i2l, 1) := dk_133 (dk_at dksX0_wayCost_0 7 rfl rfl)
theorem dX0_wayCost_8 : decode cX0_wayCost 8 = .ok (.lastore, 1) := dk_80 (dk_at dksX0_wayCost_0 8 rfl rfl)
theorem dX0_wayCost_9 : decode cX0_wayCost 9 = .ok (.goto 6, 3) := dk_167 0 6 (dk_at dksX0_wayCost_0 9 rfl rfl)
theorem dX0_wayCost_12 : decode cX0_wayCost 12 = .ok (.astore_n 3, 1) := dk_78 (dk_at dksX0_wayCost_0 12 rfl rfl)
theorem dX0_wayCost_13 : decode cX0_wayCost 13 = .ok (.iconst 1, 1) := dk_4 (dk_at dksX0_wayCost_0 13 rfl rfl)
theorem dX0_wayCost_14 : decode cX0_wayCost 14 = .ok (.ireturn, 1) := dk_172 (dk_at dksX0_wayCost_0 14 rfl rfl)
theorem dX0_wayCost_15 : decode cX0_wayCost 15 = .ok (.iconst 0, 1) := dk_3 (dk_at dksX0_wayCost_0 15 rfl rfl)
theorem dX0_wayCost_16 : decode cX0_wayCost 16 = .ok (.ireturn, 1) := dk_172 (dk_at dksX0_wayCost_0 16 rfl rfl)
def dkwX0_waySteps_0 : List UInt8 := [44, 3, 42, 27, 182, 0, 58, 133, 80, 167, 0, 6, 78, 4, 172, 3, 172]
abbrev dktX0_waySteps_0 : List UInt8 := dkwX0_waySteps_0 ++ []
theorem dksX0_waySteps_0 : cX0_waySteps.data.toList.drop 0 = dktX0_waySteps_0 := by decide +kernel
theorem dX0_waySteps_0 : decode cX0_waySteps 0 = .ok (.aload_n 2, 1) := dk_44 (dk_at dksX0_waySteps_0 0 rfl rfl)
theorem dX0_waySteps_1 : decode cX0_waySteps 1 = .ok (.iconst 0, 1) := dk_3 (dk_at dksX0_waySteps_0 1 rfl rfl)
theorem dX0_waySteps_2 : decode cX0_waySteps 2 = .ok (.aload_n 0, 1) := dk_42 (dk_at dksX0_waySteps_0 2 rfl rfl)
theorem dX0_waySteps_3 : decode cX0_waySteps 3 = .ok (.iload_n 1, 1) := dk_27 (dk_at dksX0_waySteps_0 3 rfl rfl)
theorem dX0_waySteps_4 : decode cX0_waySteps 4 = .ok (.invokevirtual 58, 3) := dk_182 0 58 (dk_at dksX0_waySteps_0 4 rfl rfl)
theorem dX0_waySteps_7 : decode cX0_waySteps 7 = .ok (.i2l, 1) := dk_133 (dk_at dksX0_waySteps_0 7 rfl rfl)
theorem dX0_waySteps_8 : decode cX0_waySteps 8 = .ok (.lastore, 1) := dk_80 (dk_at dksX0_waySteps_0 8 rfl rfl)
theorem dX0_waySteps_9 : decode cX0_waySteps 9 = .ok (.goto 6, 3) := dk_167 0 6 (dk_at dksX0_waySteps_0 9 rfl rfl)
theorem dX0_waySteps_12 : decode cX0_waySteps 12 = .ok (.astore_n 3, 1) := dk_78 (dk_at dksX0_waySteps_0 12 rfl rfl)
theorem dX0_waySteps_13 : decode cX0_waySteps 13 = .ok (.iconst 1, 1) := dk_4 (dk_at dksX0_waySteps_0 13 rfl rfl)
theorem dX0_waySteps_14 : decode cX0_waySteps 14 = .ok (.ireturn, 1) := dk_172 (dk_at dksX0_waySteps_0 14 rfl rfl)
theorem dX0_waySteps_15 : decode cX0_waySteps 15 = .ok (.iconst 0, 1) := dk_3 (dk_at dksX0_waySteps_0 15 rfl rfl)
theorem dX0_waySteps_16 : decode cX0_waySteps 16 = .ok (.ireturn, 1) := dk_172 (dk_at dksX0_waySteps_0 16 rfl rfl)
def dkwX0_wayCell_0 : List UInt8 := [45, 3, 42, 27, 28, 182, 0, 61, 133, 80, 167, 0, 7, 58, 4, 4, 172, 3, 172]
abbrev dktX0_wayCell_0 : List UInt8 := dkwX0_wayCell_0 ++ []
theorem dksX0_wayCell_0 : cX0_wayCell.data.toList.drop 0 = dktX0_wayCell_0 := by decide +kernel
theorem dX0_wayCell_0 : decode cX0_wayCell 0 = .ok (.aload_n 3, 1) := dk_45 (dk_at dksX0_wayCell_0 0 rfl rfl)
theorem dX0_wayCell_1 : decode cX0_wayCell 1 = .ok (.iconst 0, 1) := dk_3 (dk_at dksX0_wayCell_0 1 rfl rfl)
theorem dX0_wayCell_2 : decode cX0_wayCell 2 = .ok (.aload_n 0, 1) := dk_42 (dk_at dksX0_wayCell_0 2 rfl rfl)
theorem dX0_wayCell_3 : decode cX0_wayCell 3 = .ok (.iload_n 1, 1) := dk_27 (dk_at dksX0_wayCell_0 3 rfl rfl)
theorem dX0_wayCell_4 : decode cX0_wayCell 4 = .ok (.iload_n 2, 1) := dk_28 (dk_at dksX0_wayCell_0 4 rfl rfl)
theorem dX0_wayCell_5 : decode cX0_wayCell 5 = .ok (.invokevirtual 61, 3) := dk_182 0 61 (dk_at dksX0_wayCell_0 5 rfl rfl)
theorem dX0_wayCell_8 : decode cX0_wayCell 8 = .ok (.i2l, 1) := dk_133 (dk_at dksX0_wayCell_0 8 rfl rfl)
theorem dX0_wayCell_9 : decode cX0_wayCell 9 = .ok (.lastore, 1) := dk_80 (dk_at dksX0_wayCell_0 9 rfl rfl)
theorem dX0_wayCell_10 : decode cX0_wayCell 10 = .ok (.goto 7, 3) := dk_167 0 7 (dk_at dksX0_wayCell_0 10 rfl rfl)
theorem dX0_wayCell_13 : decode cX0_wayCell 13 = .ok (.astore 4, 2) := dk_58 4 (dk_at dksX0_wayCell_0 13 rfl rfl)
theorem dX0_wayCell_15 : decode cX0_wayCell 15 = .ok (.iconst 1, 1) := dk_4 (dk_at dksX0_wayCell_0 15 rfl rfl)
theorem dX0_wayCell_16 : decode cX0_wayCell 16 = .ok (.ireturn, 1) := dk_172 (dk_at dksX0_wayCell_0 16 rfl rfl)
theorem dX0_wayCell_17 : decode cX0_wayCell 17 = .ok (.iconst 0, 1) := dk_3 (dk_at dksX0_wayCell_0 17 rfl rfl)
theorem dX0_wayCell_18 : decode cX0_wayCell 18 = .ok (.ireturn, 1) := dk_172 (dk_at dksX0_wayCell_0 18 rfl rfl)
def dkwX0_why_0 : List UInt8 := [45, 3, 42, 27, 28, 182, 0, 64, 133, 80, 167, 0, 11, 58, 4, 4, 172, 58, 4, 5, 172, 3, 172]
abbrev dktX0_why_0 : List UInt8 := dkwX0_why_0 ++ []
theorem dksX0_why_0 : cX0_why.data.toList.drop 0 = dktX0_why_0 := by decide +kernel
theorem dX0_why_0 : decode cX0_why 0 = .ok (.aload_n 3, 1) := dk_45 (dk_at dksX0_why_0 0 rfl rfl)
theorem dX0_why_1 : decode cX0_why 1 = .ok (.iconst 0, 1) := dk_3 (dk_at dksX0_why_0 1 rfl rfl)
theorem dX0_why_2 : decode cX0_why 2 = .ok (.aload_n 0, 1) := dk_42 (dk_at dksX0_why_0 2 rfl rfl)
theorem dX0_why_3 : decode cX0_why 3 = .ok (.iload_n 1, 1) := dk_27 (dk_at dksX0_why_0 3 rfl rfl)
theorem dX0_why_4 : decode cX0_why 4 = .ok (.iload_n 2, 1) := dk_28 (dk_at dksX0_why_0 4 rfl rfl)
theorem dX0_why_5 : decode cX0_why 5 = .ok (.invokevirtual 64, 3) := dk_182 0 64 (dk_at dksX0_why_0 5 rfl rfl)
theorem dX0_why_8 : decode cX0_why 8 = .ok (.i2l, 1) := dk_133 (dk_at dksX0_why_0 8 rfl rfl)
theorem dX0_why_9 : decode cX0_why 9 = .ok (.lastore, 1) := dk_80 (dk_at dksX0_why_0 9 rfl rfl)
theorem dX0_why_10 : decode cX0_why 10 = .ok (.goto 11, 3) := dk_167 0 11 (dk_at dksX0_why_0 10 rfl rfl)
theorem dX0_why_13 : decode cX0_why 13 = .ok (.astore 4, 2) := dk_58 4 (dk_at dksX0_why_0 13 rfl rfl)
theorem dX0_why_15 : decode cX0_why 15 = .ok (.iconst 1, 1) := dk_4 (dk_at dksX0_why_0 15 rfl rfl)
theorem dX0_why_16 : decode cX0_why 16 = .ok (.ireturn, 1) := dk_172 (dk_at dksX0_why_0 16 rfl rfl)
theorem dX0_why_17 : decode cX0_why 17 = .ok (.astore 4, 2) := dk_58 4 (dk_at dksX0_why_0 17 rfl rfl)
theorem dX0_why_19 : decode cX0_why 19 = .ok (.iconst 2, 1) := dk_5 (dk_at dksX0_why_0 19 rfl rfl)
theorem dX0_why_20 : decode cX0_why 20 = .ok (.ireturn, 1) := dk_172 (dk_at dksX0_why_0 20 rfl rfl)
theorem dX0_why_21 : decode cX0_why 21 = .ok (.iconst 0, 1) := dk_3 (dk_at dksX0_why_0 21 rfl rfl)
theorem dX0_why_22 : decode cX0_why 22 = .ok (.ireturn, 1) := dk_172 (dk_at dksX0_why_0 22 rfl rfl)
def dkwX0_keptBy_1 : List UInt8 := [172]
abbrev dktX0_keptBy_1 : List UInt8 := dkwX0_keptBy_1 ++ []
def dkwX0_keptBy_0 : List UInt8 := [25, 4, 3, 42, 27, 28, 29, 182, 0, 67, 133, 80, 167, 0, 11, 58, 5, 4, 172, 58, 5, 5, 172, 3]
abbrev dktX0_keptBy_0 : List UInt8 := dkwX0_keptBy_0 ++ dktX0_keptBy_1
theorem dksX0_keptBy_0 : cX0_keptBy.data.toList.drop 0 = dktX0_keptBy_0 := by decide +kernel
theorem dksX0_keptBy_1 : cX0_keptBy.data.toList.drop 24 = dktX0_keptBy_1 := dk_seg dksX0_keptBy_0 24 rfl rfl
theorem dX0_keptBy_0 : decode cX0_keptBy 0 = .ok (.aload 4, 2) := dk_25 4 (dk_at dksX0_keptBy_0 0 rfl rfl)
theorem dX0_keptBy_2 : decode cX0_keptBy 2 = .ok (.iconst 0, 1) := dk_3 (dk_at dksX0_keptBy_0 2 rfl rfl)
theorem dX0_keptBy_3 : decode cX0_keptBy 3 = .ok (.aload_n 0, 1) := dk_42 (dk_at dksX0_keptBy_0 3 rfl rfl)
theorem dX0_keptBy_4 : decode cX0_keptBy 4 = .ok (.iload_n 1, 1) := dk_27 (dk_at dksX0_keptBy_0 4 rfl rfl)
theorem dX0_keptBy_5 : decode cX0_keptBy 5 = .ok (.iload_n 2, 1) := dk_28 (dk_at dksX0_keptBy_0 5 rfl rfl)
theorem dX0_keptBy_6 : decode cX0_keptBy 6 = .ok (.iload_n 3, 1) := dk_29 (dk_at dksX0_keptBy_0 6 rfl rfl)
theorem dX0_keptBy_7 : decode cX0_keptBy 7 = .ok (.invokevirtual 67, 3) := dk_182 0 67 (dk_at dksX0_keptBy_0 7 rfl rfl)
theorem dX0_keptBy_10 : decode cX0_keptBy 10 = .ok (.i2l, 1) := dk_133 (dk_at dksX0_keptBy_0 10 rfl rfl)
theorem dX0_keptBy_11 : decode cX0_keptBy 11 = .ok (.lastore, 1) := dk_80 (dk_at dksX0_keptBy_0 11 rfl rfl)
theorem dX0_keptBy_12 : decode cX0_keptBy 12 = .ok (.goto 11, 3) := dk_167 0 11 (dk_at dksX0_keptBy_0 12 rfl rfl)
theorem dX0_keptBy_15 : decode cX0_keptBy 15 = .ok (.astore 5, 2) := dk_58 5 (dk_at dksX0_keptBy_0 15 rfl rfl)
theorem dX0_keptBy_17 : decode cX0_keptBy 17 = .ok (.iconst 1, 1) := dk_4 (dk_at dksX0_keptBy_0 17 rfl rfl)
theorem dX0_keptBy_18 : decode cX0_keptBy 18 = .ok (.ireturn, 1) := dk_172 (dk_at dksX0_keptBy_0 18 rfl rfl)
theorem dX0_keptBy_19 : decode cX0_keptBy 19 = .ok (.astore 5, 2) := dk_58 5 (dk_at dksX0_keptBy_0 19 rfl rfl)
theorem dX0_keptBy_21 : decode cX0_keptBy 21 = .ok (.iconst 2, 1) := dk_5 (dk_at dksX0_keptBy_0 21 rfl rfl)
theorem dX0_keptBy_22 : decode cX0_keptBy 22 = .ok (.ireturn, 1) := dk_172 (dk_at dksX0_keptBy_0 22 rfl rfl)
theorem dX0_keptBy_23 : decode cX0_keptBy 23 = .ok (.iconst 0, 1) := dk_3 (dk_at dksX0_keptBy_0 23 rfl rfl)
theorem dX0_keptBy_24 : decode cX0_keptBy 24 = .ok (.ireturn, 1) := dk_172 (dk_at dksX0_keptBy_1 0 rfl rfl)
def dkwX0_account_0 : List UInt8 := [44, 3, 42, 27, 182, 0, 70, 133, 80, 167, 0, 6, 78, 4, 172, 3, 172]
abbrev dktX0_account_0 : List UInt8 := dkwX0_account_0 ++ []
theorem dksX0_account_0 : cX0_account.data.toList.drop 0 = dktX0_account_0 := by decide +kernel
theorem dX0_account_0 : decode cX0_account 0 = .ok (.aload_n 2, 1) := dk_44 (dk_at dksX0_account_0 0 rfl rfl)
theorem dX0_account_1 : decode cX0_account 1 = .ok (.iconst 0, 1) := dk_3 (dk_at dksX0_account_0 1 rfl rfl)
theorem dX0_account_2 : decode cX0_account 2 = .ok (.aload_n 0, 1) := dk_42 (dk_at dksX0_account_0 2 rfl rfl)
theorem dX0_account_3 : decode cX0_account 3 = .ok (.iload_n 1, 1) := dk_27 (dk_at dksX0_account_0 3 rfl rfl)
theorem dX0_account_4 : decode cX0_account 4 = .ok (.invokevirtual 70, 3) := dk_182 0 70 (dk_at dksX0_account_0 4 rfl rfl)
theorem dX0_account_7 : decode cX0_account 7 = .ok (.i2l, 1) := dk_133 (dk_at dksX0_account_0 7 rfl rfl)
theorem dX0_account_8 : decode cX0_account 8 = .ok (.lastore, 1) := dk_80 (dk_at dksX0_account_0 8 rfl rfl)
theorem dX0_account_9 : decode cX0_account 9 = .ok (.goto 6, 3) := dk_167 0 6 (dk_at dksX0_account_0 9 rfl rfl)
theorem dX0_account_12 : decode cX0_account 12 = .ok (.astore_n 3, 1) := dk_78 (dk_at dksX0_account_0 12 rfl rfl)
theorem dX0_account_13 : decode cX0_account 13 = .ok (.iconst 1, 1) := dk_4 (dk_at dksX0_account_0 13 rfl rfl)
theorem dX0_account_14 : decode cX0_account 14 = .ok (.ireturn, 1) := dk_172 (dk_at dksX0_account_0 14 rfl rfl)
theorem dX0_account_15 : decode cX0_account 15 = .ok (.iconst 0, 1) := dk_3 (dk_at dksX0_account_0 15 rfl rfl)
theorem dX0_account_16 : decode cX0_account 16 = .ok (.ireturn, 1) := dk_172 (dk_at dksX0_account_0 16 rfl rfl)
def dkwX0_grassIn_1 : List UInt8 := [172]
abbrev dktX0_grassIn_1 : List UInt8 := dkwX0_grassIn_1 ++ []
def dkwX0_grassIn_0 : List UInt8 := [25, 4, 3, 42, 27, 28, 29, 182, 0, 73, 133, 80, 167, 0, 11, 58, 5, 4, 172, 58, 5, 5, 172, 3]
abbrev dktX0_grassIn_0 : List UInt8 := dkwX0_grassIn_0 ++ dktX0_grassIn_1
theorem dksX0_grassIn_0 : cX0_grassIn.data.toList.drop 0 = dktX0_grassIn_0 := by decide +kernel
theorem dksX0_grassIn_1 : cX0_grassIn.data.toList.drop 24 = dktX0_grassIn_1 := dk_seg dksX0_grassIn_0 24 rfl rfl
theorem dX0_grassIn_0 : decode cX0_grassIn 0 = .ok (.aload 4, 2) := dk_25 4 (dk_at dksX0_grassIn_0 0 rfl rfl)
theorem dX0_grassIn_2 : decode cX0_grassIn 2 = .ok (.iconst 0, 1) := dk_3 (dk_at dksX0_grassIn_0 2 rfl rfl)
theorem dX0_grassIn_3 : decode cX0_grassIn 3 = .ok (.aload_n 0, 1) := dk_42 (dk_at dksX0_grassIn_0 3 rfl rfl)
theorem dX0_grassIn_4 : decode cX0_grassIn 4 = .ok (.iload_n 1, 1) := dk_27 (dk_at dksX0_grassIn_0 4 rfl rfl)
theorem dX0_grassIn_5 : decode cX0_grassIn 5 = .ok (.iload_n 2, 1) := dk_28 (dk_at dksX0_grassIn_0 5 rfl rfl)
theorem dX0_grassIn_6 : decode cX0_grassIn 6 = .ok (.iload_n 3, 1) := dk_29 (dk_at dksX0_grassIn_0 6 rfl rfl)
theorem dX0_grassIn_7 : decode cX0_grassIn 7 = .ok (.invokevirtual 73, 3) := dk_182 0 73 (dk_at dksX0_grassIn_0 7 rfl rfl)
theorem dX0_grassIn_10 : decode cX0_grassIn 10 = .ok (.i2l, 1) := dk_133 (dk_at dksX0_grassIn_0 10 rfl rfl)
theorem dX0_grassIn_11 : decode cX0_grassIn 11 = .ok (.lastore, 1) := dk_80 (dk_at dksX0_grassIn_0 11 rfl rfl)
theorem dX0_grassIn_12 : decode cX0_grassIn 12 = .ok (.goto 11, 3) := dk_167 0 11 (dk_at dksX0_grassIn_0 12 rfl rfl)
theorem dX0_grassIn_15 : decode cX0_grassIn 15 = .ok (.astore 5, 2) := dk_58 5 (dk_at dksX0_grassIn_0 15 rfl rfl)
theorem dX0_grassIn_17 : decode cX0_grassIn 17 = .ok (.iconst 1, 1) := dk_4 (dk_at dksX0_grassIn_0 17 rfl rfl)
theorem dX0_grassIn_18 : decode cX0_grassIn 18 = .ok (.ireturn, 1) := dk_172 (dk_at dksX0_grassIn_0 18 rfl rfl)
theorem dX0_grassIn_19 : decode cX0_grassIn 19 = .ok (.astore 5, 2) := dk_58 5 (dk_at dksX0_grassIn_0 19 rfl rfl)
theorem dX0_grassIn_21 : decode cX0_grassIn 21 = .ok (.iconst 2, 1) := dk_5 (dk_at dksX0_grassIn_0 21 rfl rfl)
theorem dX0_grassIn_22 : decode cX0_grassIn 22 = .ok (.ireturn, 1) := dk_172 (dk_at dksX0_grassIn_0 22 rfl rfl)
theorem dX0_grassIn_23 : decode cX0_grassIn 23 = .ok (.iconst 0, 1) := dk_3 (dk_at dksX0_grassIn_0 23 rfl rfl)
theorem dX0_grassIn_24 : decode cX0_grassIn 24 = .ok (.ireturn, 1) := dk_172 (dk_at dksX0_grassIn_1 0 rfl rfl)
def dkwX0_bareIn_0 : List UInt8 := [44, 3, 42, 27, 182, 0, 76, 133, 80, 167, 0, 6, 78, 4, 172, 3, 172]
abbrev dktX0_bareIn_0 : List UInt8 := dkwX0_bareIn_0 ++ []
theorem dksX0_bareIn_0 : cX0_bareIn.data.toList.drop 0 = dktX0_bareIn_0 := by decide +kernel
theorem dX0_bareIn_0 : decode cX0_bareIn 0 = .ok (.aload_n 2, 1) := dk_44 (dk_at dksX0_bareIn_0 0 rfl rfl)
theorem dX0_bareIn_1 : decode cX0_bareIn 1 = .ok (.iconst 0, 1) := dk_3 (dk_at dksX0_bareIn_0 1 rfl rfl)
theorem dX0_bareIn_2 : decode cX0_bareIn 2 = .ok (.aload_n 0, 1) := dk_42 (dk_at dksX0_bareIn_0 2 rfl rfl)
theorem dX0_bareIn_3 : decode cX0_bareIn 3 = .ok (.iload_n 1, 1) := dk_27 (dk_at dksX0_bareIn_0 3 rfl rfl)
theorem dX0_bareIn_4 : decode cX0_bareIn 4 = .ok (.invokevirtual 76, 3) := dk_182 0 76 (dk_at dksX0_bareIn_0 4 rfl rfl)
theorem dX0_bareIn_7 : decode cX0_bareIn 7 = .ok (.i2l, 1) := dk_133 (dk_at dksX0_bareIn_0 7 rfl rfl)
theorem dX0_bareIn_8 : decode cX0_bareIn 8 = .ok (.lastore, 1) := dk_80 (dk_at dksX0_bareIn_0 8 rfl rfl)
theorem dX0_bareIn_9 : decode cX0_bareIn 9 = .ok (.goto 6, 3) := dk_167 0 6 (dk_at dksX0_bareIn_0 9 rfl rfl)
theorem dX0_bareIn_12 : decode cX0_bareIn 12 = .ok (.astore_n 3, 1) := dk_78 (dk_at dksX0_bareIn_0 12 rfl rfl)
theorem dX0_bareIn_13 : decode cX0_bareIn 13 = .ok (.iconst 1, 1) := dk_4 (dk_at dksX0_bareIn_0 13 rfl rfl)
theorem dX0_bareIn_14 : decode cX0_bareIn 14 = .ok (.ireturn, 1) := dk_172 (dk_at dksX0_bareIn_0 14 rfl rfl)
theorem dX0_bareIn_15 : decode cX0_bareIn 15 = .ok (.iconst 0, 1) := dk_3 (dk_at dksX0_bareIn_0 15 rfl rfl)
theorem dX0_bareIn_16 : decode cX0_bareIn 16 = .ok (.ireturn, 1) := dk_172 (dk_at dksX0_bareIn_0 16 rfl rfl)
def dkwX0_whenBare_0 : List UInt8 := [45, 3, 42, 27, 28, 182, 0, 79, 133, 80, 167, 0, 7, 58, 4, 4, 172, 3, 172]
abbrev dktX0_whenBare_0 : List UInt8 := dkwX0_whenBare_0 ++ []
theorem dksX0_whenBare_0 : cX0_whenBare.data.toList.drop 0 = dktX0_whenBare_0 := by decide +kernel
theorem dX0_whenBare_0 : decode cX0_whenBare 0 = .ok (.aload_n 3, 1) := dk_45 (dk_at dksX0_whenBare_0 0 rfl rfl)
theorem dX0_whenBare_1 : decode cX0_whenBare 1 = .ok (.iconst 0, 1) := dk_3 (dk_at dksX0_whenBare_0 1 rfl rfl)
theorem dX0_whenBare_2 : decode cX0_whenBare 2 = .ok (.aload_n 0, 1) := dk_42 (dk_at dksX0_whenBare_0 2 rfl rfl)
theorem dX0_whenBare_3 : decode cX0_whenBare 3 = .ok (.iload_n 1, 1) := dk_27 (dk_at dksX0_whenBare_0 3 rfl rfl)
theorem dX0_whenBare_4 : decode cX0_whenBare 4 = .ok (.iload_n 2, 1) := dk_28 (dk_at dksX0_whenBare_0 4 rfl rfl)
theorem dX0_whenBare_5 : decode cX0_whenBare 5 = .ok (.invokevirtual 79, 3) := dk_182 0 79 (dk_at dksX0_whenBare_0 5 rfl rfl)
theorem dX0_whenBare_8 : decode cX0_whenBare 8 = .ok (.i2l, 1) := dk_133 (dk_at dksX0_whenBare_0 8 rfl rfl)
theorem dX0_whenBare_9 : decode cX0_whenBare 9 = .ok (.lastore, 1) := dk_80 (dk_at dksX0_whenBare_0 9 rfl rfl)
theorem dX0_whenBare_10 : decode cX0_whenBare 10 = .ok (.goto 7, 3) := dk_167 0 7 (dk_at dksX0_whenBare_0 10 rfl rfl)
theorem dX0_whenBare_13 : decode cX0_whenBare 13 = .ok (.astore 4, 2) := dk_58 4 (dk_at dksX0_whenBare_0 13 rfl rfl)
theorem dX0_whenBare_15 : decode cX0_whenBare 15 = .ok (.iconst 1, 1) := dk_4 (dk_at dksX0_whenBare_0 15 rfl rfl)
theorem dX0_whenBare_16 : decode cX0_whenBare 16 = .ok (.ireturn, 1) := dk_172 (dk_at dksX0_whenBare_0 16 rfl rfl)
theorem dX0_whenBare_17 : decode cX0_whenBare 17 = .ok (.iconst 0, 1) := dk_3 (dk_at dksX0_whenBare_0 17 rfl rfl)
theorem dX0_whenBare_18 : decode cX0_whenBare 18 = .ok (.ireturn, 1) := dk_172 (dk_at dksX0_whenBare_0 18 rfl rfl)
def dkwX0_ifFence_0 : List UInt8 := [25, 4, 3, 42, 27, 28, 29, 182, 0, 82, 133, 80, 167, 0, 7, 58, 5, 4, 172, 3, 172]
abbrev dktX0_ifFence_0 : List UInt8 := dkwX0_ifFence_0 ++ []
theorem dksX0_ifFence_0 : cX0_ifFence.data.toList.drop 0 = dktX0_ifFence_0 := by decide +kernel
theorem dX0_ifFence_0 : decode cX0_ifFence 0 = .ok (.aload 4, 2) := dk_25 4 (dk_at dksX0_ifFence_0 0 rfl rfl)
theorem dX0_ifFence_2 : decode cX0_ifFence 2 = .ok (.iconst 0, 1) := dk_3 (dk_at dksX0_ifFence_0 2 rfl rfl)
theorem dX0_ifFence_3 : decode cX0_ifFence 3 = .ok (.aload_n 0, 1) := dk_42 (dk_at dksX0_ifFence_0 3 rfl rfl)
theorem dX0_ifFence_4 : decode cX0_ifFence 4 = .ok (.iload_n 1, 1) := dk_27 (dk_at dksX0_ifFence_0 4 rfl rfl)
theorem dX0_ifFence_5 : decode cX0_ifFence 5 = .ok (.iload_n 2, 1) := dk_28 (dk_at dksX0_ifFence_0 5 rfl rfl)
theorem dX0_ifFence_6 : decode cX0_ifFence 6 = .ok (.iload_n 3, 1) := dk_29 (dk_at dksX0_ifFence_0 6 rfl rfl)
theorem dX0_ifFence_7 : decode cX0_ifFence 7 = .ok (.invokevirtual 82, 3) := dk_182 0 82 (dk_at dksX0_ifFence_0 7 rfl rfl)
theorem dX0_ifFence_10 : decode cX0_ifFence 10 = .ok (.i2l, 1) := dk_133 (dk_at dksX0_ifFence_0 10 rfl rfl)
theorem dX0_ifFence_11 : decode cX0_ifFence 11 = .ok (.lastore, 1) := dk_80 (dk_at dksX0_ifFence_0 11 rfl rfl)
theorem dX0_ifFence_12 : decode cX0_ifFence 12 = .ok (.goto 7, 3) := dk_167 0 7 (dk_at dksX0_ifFence_0 12 rfl rfl)
theorem dX0_ifFence_15 : decode cX0_ifFence 15 = .ok (.astore 5, 2) := dk_58 5 (dk_at dksX0_ifFence_0 15 rfl rfl)
theorem dX0_ifFence_17 : decode cX0_ifFence 17 = .ok (.iconst 1, 1) := dk_4 (dk_at dksX0_ifFence_0 17 rfl rfl)
theorem dX0_ifFence_18 : decode cX0_ifFence 18 = .ok (.ireturn, 1) := dk_172 (dk_at dksX0_ifFence_0 18 rfl rfl)
theorem dX0_ifFence_19 : decode cX0_ifFence 19 = .ok (.iconst 0, 1) := dk_3 (dk_at dksX0_ifFence_0 19 rfl rfl)
theorem dX0_ifFence_20 : decode cX0_ifFence 20 = .ok (.ireturn, 1) := dk_172 (dk_at dksX0_ifFence_0 20 rfl rfl)
def dkwX0_ifOpen_0 : List UInt8 := [44, 3, 42, 27, 182, 0, 85, 133, 80, 167, 0, 6, 78, 4, 172, 3, 172]
abbrev dktX0_ifOpen_0 : List UInt8 := dkwX0_ifOpen_0 ++ []
theorem dksX0_ifOpen_0 : cX0_ifOpen.data.toList.drop 0 = dktX0_ifOpen_0 := by decide +kernel
theorem dX0_ifOpen_0 : decode cX0_ifOpen 0 = .ok (.aload_n 2, 1) := dk_44 (dk_at dksX0_ifOpen_0 0 rfl rfl)
theorem dX0_ifOpen_1 : decode cX0_ifOpen 1 = .ok (.iconst 0, 1) := dk_3 (dk_at dksX0_ifOpen_0 1 rfl rfl)
theorem dX0_ifOpen_2 : decode cX0_ifOpen 2 = .ok (.aload_n 0, 1) := dk_42 (dk_at dksX0_ifOpen_0 2 rfl rfl)
theorem dX0_ifOpen_3 : decode cX0_ifOpen 3 = .ok (.iload_n 1, 1) := dk_27 (dk_at dksX0_ifOpen_0 3 rfl rfl)
theorem dX0_ifOpen_4 : decode cX0_ifOpen 4 = .ok (.invokevirtual 85, 3) := dk_182 0 85 (dk_at dksX0_ifOpen_0 4 rfl rfl)
theorem dX0_ifOpen_7 : decode cX0_ifOpen 7 = .ok (.i2l, 1) := dk_133 (dk_at dksX0_ifOpen_0 7 rfl rfl)
theorem dX0_ifOpen_8 : decode cX0_ifOpen 8 = .ok (.lastore, 1) := dk_80 (dk_at dksX0_ifOpen_0 8 rfl rfl)
theorem dX0_ifOpen_9 : decode cX0_ifOpen 9 = .ok (.goto 6, 3) := dk_167 0 6 (dk_at dksX0_ifOpen_0 9 rfl rfl)
theorem dX0_ifOpen_12 : decode cX0_ifOpen 12 = .ok (.astore_n 3, 1) := dk_78 (dk_at dksX0_ifOpen_0 12 rfl rfl)
theorem dX0_ifOpen_13 : decode cX0_ifOpen 13 = .ok (.iconst 1, 1) := dk_4 (dk_at dksX0_ifOpen_0 13 rfl rfl)
theorem dX0_ifOpen_14 : decode cX0_ifOpen 14 = .ok (.ireturn, 1) := dk_172 (dk_at dksX0_ifOpen_0 14 rfl rfl)
theorem dX0_ifOpen_15 : decode cX0_ifOpen 15 = .ok (.iconst 0, 1) := dk_3 (dk_at dksX0_ifOpen_0 15 rfl rfl)
theorem dX0_ifOpen_16 : decode cX0_ifOpen 16 = .ok (.ireturn, 1) := dk_172 (dk_at dksX0_ifOpen_0 16 rfl rfl)
def dkwX0_bestFence_0 : List UInt8 := [44, 3, 42, 27, 182, 0, 88, 133, 80, 167, 0, 6, 78, 4, 172, 3, 172]
abbrev dktX0_bestFence_0 : List UInt8 := dkwX0_bestFence_0 ++ []
theorem dksX0_bestFence_0 : cX0_bestFence.data.toList.drop 0 = dktX0_bestFence_0 := by decide +kernel
theorem dX0_bestFence_0 : decode cX0_bestFence 0 = .ok (.aload_n 2, 1) := dk_44 (dk_at dksX0_bestFence_0 0 rfl rfl)
theorem dX0_bestFence_1 : decode cX0_bestFence 1 = .ok (.iconst 0, 1) := dk_3 (dk_at dksX0_bestFence_0 1 rfl rfl)
theorem dX0_bestFence_2 : decode cX0_bestFence 2 = .ok (.aload_n 0, 1) := dk_42 (dk_at dksX0_bestFence_0 2 rfl rfl)
theorem dX0_bestFence_3 : decode cX0_bestFence 3 = .ok (.iload_n 1, 1) := dk_27 (dk_at dksX0_bestFence_0 3 rfl rfl)
theorem dX0_bestFence_4 : decode cX0_bestFence 4 = .ok (.invokevirtual 88, 3) := dk_182 0 88 (dk_at dksX0_bestFence_0 4 rfl rfl)
theorem dX0_bestFence_7 : decode cX0_bestFence 7 = .ok (.i2l, 1) := dk_133 (dk_at dksX0_bestFence_0 7 rfl rfl)
theorem dX0_bestFence_8 : decode cX0_bestFence 8 = .ok (.lastore, 1) := dk_80 (dk_at dksX0_bestFence_0 8 rfl rfl)
theorem dX0_bestFence_9 : decode cX0_bestFence 9 = .ok (.goto 6, 3) := dk_167 0 6 (dk_at dksX0_bestFence_0 9 rfl rfl)
theorem dX0_bestFence_12 : decode cX0_bestFence 12 = .ok (.astore_n 3, 1) := dk_78 (dk_at dksX0_bestFence_0 12 rfl rfl)
theorem dX0_bestFence_13 : decode cX0_bestFence 13 = .ok (.iconst 1, 1) := dk_4 (dk_at dksX0_bestFence_0 13 rfl rfl)
theorem dX0_bestFence_14 : decode cX0_bestFence 14 = .ok (.ireturn, 1) := dk_172 (dk_at dksX0_bestFence_0 14 rfl rfl)
theorem dX0_bestFence_15 : decode cX0_bestFence 15 = .ok (.iconst 0, 1) := dk_3 (dk_at dksX0_bestFence_0 15 rfl rfl)
theorem dX0_bestFence_16 : decode cX0_bestFence 16 = .ok (.ireturn, 1) := dk_172 (dk_at dksX0_bestFence_0 16 rfl rfl)
def dkwX0_ifHaste_1 : List UInt8 := [172]
abbrev dktX0_ifHaste_1 : List UInt8 := dkwX0_ifHaste_1 ++ []
def dkwX0_ifHaste_0 : List UInt8 := [25, 4, 3, 42, 27, 28, 29, 182, 0, 91, 133, 80, 167, 0, 11, 58, 5, 4, 172, 58, 5, 5, 172, 3]
abbrev dktX0_ifHaste_0 : List UInt8 := dkwX0_ifHaste_0 ++ dktX0_ifHaste_1
theorem dksX0_ifHaste_0 : cX0_ifHaste.data.toList.drop 0 = dktX0_ifHaste_0 := by decide +kernel
theorem dksX0_ifHaste_1 : cX0_ifHaste.data.toList.drop 24 = dktX0_ifHaste_1 := dk_seg dksX0_ifHaste_0 24 rfl rfl
theorem dX0_ifHaste_0 : decode cX0_ifHaste 0 = .ok (.aload 4, 2) := dk_25 4 (dk_at dksX0_ifHaste_0 0 rfl rfl)
theorem dX0_ifHaste_2 : decode cX0_ifHaste 2 = .ok (.iconst 0, 1) := dk_3 (dk_at dksX0_ifHaste_0 2 rfl rfl)
theorem dX0_ifHaste_3 : decode cX0_ifHaste 3 = .ok (.aload_n 0, 1) := dk_42 (dk_at dksX0_ifHaste_0 3 rfl rfl)
theorem dX0_ifHaste_4 : decode cX0_ifHaste 4 = .ok (.iload_n 1, 1) := dk_27 (dk_at dksX0_ifHaste_0 4 rfl rfl)
theorem dX0_ifHaste_5 : decode cX0_ifHaste 5 = .ok (.iload_n 2, 1) := dk_28 (dk_at dksX0_ifHaste_0 5 rfl rfl)
theorem dX0_ifHaste_6 : decode cX0_ifHaste 6 = .ok (.iload_n 3, 1) := dk_29 (dk_at dksX0_ifHaste_0 6 rfl rfl)
theorem dX0_ifHaste_7 : decode cX0_ifHaste 7 = .ok (.invokevirtual 91, 3) := dk_182 0 91 (dk_at dksX0_ifHaste_0 7 rfl rfl)
theorem dX0_ifHaste_10 : decode cX0_ifHaste 10 = .ok (.i2l, 1) := dk_133 (dk_at dksX0_ifHaste_0 10 rfl rfl)
theorem dX0_ifHaste_11 : decode cX0_ifHaste 11 = .ok (.lastore, 1) := dk_80 (dk_at dksX0_ifHaste_0 11 rfl rfl)
theorem dX0_ifHaste_12 : decode cX0_ifHaste 12 = .ok (.goto 11, 3) := dk_167 0 11 (dk_at dksX0_ifHaste_0 12 rfl rfl)
theorem dX0_ifHaste_15 : decode cX0_ifHaste 15 = .ok (.astore 5, 2) := dk_58 5 (dk_at dksX0_ifHaste_0 15 rfl rfl)
theorem dX0_ifHaste_17 : decode cX0_ifHaste 17 = .ok (.iconst 1, 1) := dk_4 (dk_at dksX0_ifHaste_0 17 rfl rfl)
theorem dX0_ifHaste_18 : decode cX0_ifHaste 18 = .ok (.ireturn, 1) := dk_172 (dk_at dksX0_ifHaste_0 18 rfl rfl)
theorem dX0_ifHaste_19 : decode cX0_ifHaste 19 = .ok (.astore 5, 2) := dk_58 5 (dk_at dksX0_ifHaste_0 19 rfl rfl)
theorem dX0_ifHaste_21 : decode cX0_ifHaste 21 = .ok (.iconst 2, 1) := dk_5 (dk_at dksX0_ifHaste_0 21 rfl rfl)
theorem dX0_ifHaste_22 : decode cX0_ifHaste 22 = .ok (.ireturn, 1) := dk_172 (dk_at dksX0_ifHaste_0 22 rfl rfl)
theorem dX0_ifHaste_23 : decode cX0_ifHaste 23 = .ok (.iconst 0, 1) := dk_3 (dk_at dksX0_ifHaste_0 23 rfl rfl)
theorem dX0_ifHaste_24 : decode cX0_ifHaste 24 = .ok (.ireturn, 1) := dk_172 (dk_at dksX0_ifHaste_1 0 rfl rfl)
def dkwX0_run_0 : List UInt8 := [44, 3, 42, 27, 182, 0, 94, 133, 80, 167, 0, 6, 78, 4, 172, 3, 172]
abbrev dktX0_run_0 : List UInt8 := dkwX0_run_0 ++ []
theorem dksX0_run_0 : cX0_run.data.toList.drop 0 = dktX0_run_0 := by decide +kernel
theorem dX0_run_0 : decode cX0_run 0 = .ok (.aload_n 2, 1) := dk_44 (dk_at dksX0_run_0 0 rfl rfl)
theorem dX0_run_1 : decode cX0_run 1 = .ok (.iconst 0, 1) := dk_3 (dk_at dksX0_run_0 1 rfl rfl)
theorem dX0_run_2 : decode cX0_run 2 = .ok (.aload_n 0, 1) := dk_42 (dk_at dksX0_run_0 2 rfl rfl)
theorem dX0_run_3 : decode cX0_run 3 = .ok (.iload_n 1, 1) := dk_27 (dk_at dksX0_run_0 3 rfl rfl)
theorem dX0_run_4 : decode cX0_run 4 = .ok (.invokevirtual 94, 3) := dk_182 0 94 (dk_at dksX0_run_0 4 rfl rfl)
theorem dX0_run_7 : decode cX0_run 7 = .ok (.i2l, 1) := dk_133 (dk_at dksX0_run_0 7 rfl rfl)
theorem dX0_run_8 : decode cX0_run 8 = .ok (.lastore, 1) := dk_80 (dk_at dksX0_run_0 8 rfl rfl)
theorem dX0_run_9 : decode cX0_run 9 = .ok (.goto 6, 3) := dk_167 0 6 (dk_at dksX0_run_0 9 rfl rfl)
theorem dX0_run_12 : decode cX0_run 12 = .ok (.astore_n 3, 1) := dk_78 (dk_at dksX0_run_0 12 rfl rfl)
theorem dX0_run_13 : decode cX0_run 13 = .ok (.iconst 1, 1) := dk_4 (dk_at dksX0_run_0 13 rfl rfl)
theorem dX0_run_14 : decode cX0_run 14 = .ok (.ireturn, 1) := dk_172 (dk_at dksX0_run_0 14 rfl rfl)
theorem dX0_run_15 : decode cX0_run 15 = .ok (.iconst 0, 1) := dk_3 (dk_at dksX0_run_0 15 rfl rfl)
theorem dX0_run_16 : decode cX0_run 16 = .ok (.ireturn, 1) := dk_172 (dk_at dksX0_run_0 16 rfl rfl)
def dkwX0_setFence_0 : List UInt8 := [45, 3, 42, 27, 28, 182, 0, 97, 133, 80, 167, 0, 7, 58, 4, 4, 172, 3, 172]
abbrev dktX0_setFence_0 : List UInt8 := dkwX0_setFence_0 ++ []
theorem dksX0_setFence_0 : cX0_setFence.data.toList.drop 0 = dktX0_setFence_0 := by decide +kernel
theorem dX0_setFence_0 : decode cX0_setFence 0 = .ok (.aload_n 3, 1) := dk_45 (dk_at dksX0_setFence_0 0 rfl rfl)
theorem dX0_setFence_1 : decode cX0_setFence 1 = .ok (.iconst 0, 1) := dk_3 (dk_at dksX0_setFence_0 1 rfl rfl)
theorem dX0_setFence_2 : decode cX0_setFence 2 = .ok (.aload_n 0, 1) := dk_42 (dk_at dksX0_setFence_0 2 rfl rfl)
theorem dX0_setFence_3 : decode cX0_setFence 3 = .ok (.iload_n 1, 1) := dk_27 (dk_at dksX0_setFence_0 3 rfl rfl)
theorem dX0_setFence_4 : decode cX0_setFence 4 = .ok (.iload_n 2, 1) := dk_28 (dk_at dksX0_setFence_0 4 rfl rfl)
theorem dX0_setFence_5 : decode cX0_setFence 5 = .ok (.invokevirtual 97, 3) := dk_182 0 97 (dk_at dksX0_setFence_0 5 rfl rfl)
theorem dX0_setFence_8 : decode cX0_setFence 8 = .ok (.i2l, 1) := dk_133 (dk_at dksX0_setFence_0 8 rfl rfl)
theorem dX0_setFence_9 : decode cX0_setFence 9 = .ok (.lastore, 1) := dk_80 (dk_at dksX0_setFence_0 9 rfl rfl)
theorem dX0_setFence_10 : decode cX0_setFence 10 = .ok (.goto 7, 3) := dk_167 0 7 (dk_at dksX0_setFence_0 10 rfl rfl)
theorem dX0_setFence_13 : decode cX0_setFence 13 = .ok (.astore 4, 2) := dk_58 4 (dk_at dksX0_setFence_0 13 rfl rfl)
theorem dX0_setFence_15 : decode cX0_setFence 15 = .ok (.iconst 1, 1) := dk_4 (dk_at dksX0_setFence_0 15 rfl rfl)
theorem dX0_setFence_16 : decode cX0_setFence 16 = .ok (.ireturn, 1) := dk_172 (dk_at dksX0_setFence_0 16 rfl rfl)
theorem dX0_setFence_17 : decode cX0_setFence 17 = .ok (.iconst 0, 1) := dk_3 (dk_at dksX0_setFence_0 17 rfl rfl)
theorem dX0_setFence_18 : decode cX0_setFence 18 = .ok (.ireturn, 1) := dk_172 (dk_at dksX0_setFence_0 18 rfl rfl)
def dkwX0_dropFence_0 : List UInt8 := [45, 3, 42, 27, 28, 182, 0, 100, 133, 80, 167, 0, 7, 58, 4, 4, 172, 3, 172]
abbrev dktX0_dropFence_0 : List UInt8 := dkwX0_dropFence_0 ++ []
theorem dksX0_dropFence_0 : cX0_dropFence.data.toList.drop 0 = dktX0_dropFence_0 := by decide +kernel
theorem dX0_dropFence_0 : decode cX0_dropFence 0 = .ok (.aload_n 3, 1) := dk_45 (dk_at dksX0_dropFence_0 0 rfl rfl)
theorem dX0_dropFence_1 : decode cX0_dropFence 1 = .ok (.iconst 0, 1) := dk_3 (dk_at dksX0_dropFence_0 1 rfl rfl)
theorem dX0_dropFence_2 : decode cX0_dropFence 2 = .ok (.aload_n 0, 1) := dk_42 (dk_at dksX0_dropFence_0 2 rfl rfl)
theorem dX0_dropFence_3 : decode cX0_dropFence 3 = .ok (.iload_n 1, 1) := dk_27 (dk_at dksX0_dropFence_0 3 rfl rfl)
theorem dX0_dropFence_4 : decode cX0_dropFence 4 = .ok (.iload_n 2, 1) := dk_28 (dk_at dksX0_dropFence_0 4 rfl rfl)
theorem dX0_dropFence_5 : decode cX0_dropFence 5 = .ok (.invokevirtual 100, 3) := dk_182 0 100 (dk_at dksX0_dropFence_0 5 rfl rfl)
theorem dX0_dropFence_8 : decode cX0_dropFence 8 = .ok (.i2l, 1) := dk_133 (dk_at dksX0_dropFence_0 8 rfl rfl)
theorem dX0_dropFence_9 : decode cX0_dropFence 9 = .ok (.lastore, 1) := dk_80 (dk_at dksX0_dropFence_0 9 rfl rfl)
theorem dX0_dropFence_10 : decode cX0_dropFence 10 = .ok (.goto 7, 3) := dk_167 0 7 (dk_at dksX0_dropFence_0 10 rfl rfl)
theorem dX0_dropFence_13 : decode cX0_dropFence 13 = .ok (.astore 4, 2) := dk_58 4 (dk_at dksX0_dropFence_0 13 rfl rfl)
theorem dX0_dropFence_15 : decode cX0_dropFence 15 = .ok (.iconst 1, 1) := dk_4 (dk_at dksX0_dropFence_0 15 rfl rfl)
theorem dX0_dropFence_16 : decode cX0_dropFence 16 = .ok (.ireturn, 1) := dk_172 (dk_at dksX0_dropFence_0 16 rfl rfl)
theorem dX0_dropFence_17 : decode cX0_dropFence 17 = .ok (.iconst 0, 1) := dk_3 (dk_at dksX0_dropFence_0 17 rfl rfl)
theorem dX0_dropFence_18 : decode cX0_dropFence 18 = .ok (.ireturn, 1) := dk_172 (dk_at dksX0_dropFence_0 18 rfl rfl)
def dkwX0_pave_0 : List UInt8 := [45, 3, 42, 27, 28, 182, 0, 103, 133, 80, 167, 0, 7, 58, 4, 4, 172, 3, 172]
abbrev dktX0_pave_0 : List UInt8 := dkwX0_pave_0 ++ []
theorem dksX0_pave_0 : cX0_pave.data.toList.drop 0 = dktX0_pave_0 := by decide +kernel
theorem dX0_pave_0 : decode cX0_pave 0 = .ok (.aload_n 3, 1) := dk_45 (dk_at dksX0_pave_0 0 rfl rfl)
theorem dX0_pave_1 : decode cX0_pave 1 = .ok (.iconst 0, 1) := dk_3 (dk_at dksX0_pave_0 1 rfl rfl)
theorem dX0_pave_2 : decode cX0_pave 2 = .ok (.aload_n 0, 1) := dk_42 (dk_at dksX0_pave_0 2 rfl rfl)
theorem dX0_pave_3 : decode cX0_pave 3 = .ok (.iload_n 1, 1) := dk_27 (dk_at dksX0_pave_0 3 rfl rfl)
theorem dX0_pave_4 : decode cX0_pave 4 = .ok (.iload_n 2, 1) := dk_28 (dk_at dksX0_pave_0 4 rfl rfl)
theorem dX0_pave_5 : decode cX0_pave 5 = .ok (.invokevirtual 103, 3) := dk_182 0 103 (dk_at dksX0_pave_0 5 rfl rfl)
theorem dX0_pave_8 : decode cX0_pave 8 = .ok (.i2l, 1) := dk_133 (dk_at dksX0_pave_0 8 rfl rfl)
theorem dX0_pave_9 : decode cX0_pave 9 = .ok (.lastore, 1) := dk_80 (dk_at dksX0_pave_0 9 rfl rfl)
theorem dX0_pave_10 : decode cX0_pave 10 = .ok (.goto 7, 3) := dk_167 0 7 (dk_at dksX0_pave_0 10 rfl rfl)
theorem dX0_pave_13 : decode cX0_pave 13 = .ok (.astore 4, 2) := dk_58 4 (dk_at dksX0_pave_0 13 rfl rfl)
theorem dX0_pave_15 : decode cX0_pave 15 = .ok (.iconst 1, 1) := dk_4 (dk_at dksX0_pave_0 15 rfl rfl)
theorem dX0_pave_16 : decode cX0_pave 16 = .ok (.ireturn, 1) := dk_172 (dk_at dksX0_pave_0 16 rfl rfl)
theorem dX0_pave_17 : decode cX0_pave 17 = .ok (.iconst 0, 1) := dk_3 (dk_at dksX0_pave_0 17 rfl rfl)
theorem dX0_pave_18 : decode cX0_pave 18 = .ok (.ireturn, 1) := dk_172 (dk_at dksX0_pave_0 18 rfl rfl)
def dkwX0_sow_0 : List UInt8 := [45, 3, 42, 27, 28, 182, 0, 106, 133, 80, 167, 0, 7, 58, 4, 4, 172, 3, 172]
abbrev dktX0_sow_0 : List UInt8 := dkwX0_sow_0 ++ []
theorem dksX0_sow_0 : cX0_sow.data.toList.drop 0 = dktX0_sow_0 := by decide +kernel
theorem dX0_sow_0 : decode cX0_sow 0 = .ok (.aload_n 3, 1) := dk_45 (dk_at dksX0_sow_0 0 rfl rfl)
theorem dX0_sow_1 : decode cX0_sow 1 = .ok (.iconst 0, 1) := dk_3 (dk_at dksX0_sow_0 1 rfl rfl)
theorem dX0_sow_2 : decode cX0_sow 2 = .ok (.aload_n 0, 1) := dk_42 (dk_at dksX0_sow_0 2 rfl rfl)
theorem dX0_sow_3 : decode cX0_sow 3 = .ok (.iload_n 1, 1) := dk_27 (dk_at dksX0_sow_0 3 rfl rfl)
theorem dX0_sow_4 : decode cX0_sow 4 = .ok (.iload_n 2, 1) := dk_28 (dk_at dksX0_sow_0 4 rfl rfl)
theorem dX0_sow_5 : decode cX0_sow 5 = .ok (.invokevirtual 106, 3) := dk_182 0 106 (dk_at dksX0_sow_0 5 rfl rfl)
theorem dX0_sow_8 : decode cX0_sow 8 = .ok (.i2l, 1) := dk_133 (dk_at dksX0_sow_0 8 rfl rfl)
theorem dX0_sow_9 : decode cX0_sow 9 = .ok (.lastore, 1) := dk_80 (dk_at dksX0_sow_0 9 rfl rfl)
theorem dX0_sow_10 : decode cX0_sow 10 = .ok (.goto 7, 3) := dk_167 0 7 (dk_at dksX0_sow_0 10 rfl rfl)
theorem dX0_sow_13 : decode cX0_sow 13 = .ok (.astore 4, 2) := dk_58 4 (dk_at dksX0_sow_0 13 rfl rfl)
theorem dX0_sow_15 : decode cX0_sow 15 = .ok (.iconst 1, 1) := dk_4 (dk_at dksX0_sow_0 15 rfl rfl)
theorem dX0_sow_16 : decode cX0_sow 16 = .ok (.ireturn, 1) := dk_172 (dk_at dksX0_sow_0 16 rfl rfl)
theorem dX0_sow_17 : decode cX0_sow 17 = .ok (.iconst 0, 1) := dk_3 (dk_at dksX0_sow_0 17 rfl rfl)
theorem dX0_sow_18 : decode cX0_sow 18 = .ok (.ireturn, 1) := dk_172 (dk_at dksX0_sow_0 18 rfl rfl)
def dkwX0_setHaste_0 : List UInt8 := [45, 3, 42, 27, 28, 182, 0, 109, 133, 80, 167, 0, 11, 58, 4, 4, 172, 58, 4, 5, 172, 3, 172]
abbrev dktX0_setHaste_0 : List UInt8 := dkwX0_setHaste_0 ++ []
theorem dksX0_setHaste_0 : cX0_setHaste.data.toList.drop 0 = dktX0_setHaste_0 := by decide +kernel
theorem dX0_setHaste_0 : decode cX0_setHaste 0 = .ok (.aload_n 3, 1) := dk_45 (dk_at dksX0_setHaste_0 0 rfl rfl)
theorem dX0_setHaste_1 : decode cX0_setHaste 1 = .ok (.iconst 0, 1) := dk_3 (dk_at dksX0_setHaste_0 1 rfl rfl)
theorem dX0_setHaste_2 : decode cX0_setHaste 2 = .ok (.aload_n 0, 1) := dk_42 (dk_at dksX0_setHaste_0 2 rfl rfl)
theorem dX0_setHaste_3 : decode cX0_setHaste 3 = .ok (.iload_n 1, 1) := dk_27 (dk_at dksX0_setHaste_0 3 rfl rfl)
theorem dX0_setHaste_4 : decode cX0_setHaste 4 = .ok (.iload_n 2, 1) := dk_28 (dk_at dksX0_setHaste_0 4 rfl rfl)
theorem dX0_setHaste_5 : decode cX0_setHaste 5 = .ok (.invokevirtual 109, 3) := dk_182 0 109 (dk_at dksX0_setHaste_0 5 rfl rfl)
theorem dX0_setHaste_8 : decode cX0_setHaste 8 = .ok (.i2l, 1) := dk_133 (dk_at dksX0_setHaste_0 8 rfl rfl)
theorem dX0_setHaste_9 : decode cX0_setHaste 9 = .ok (.lastore, 1) := dk_80 (dk_at dksX0_setHaste_0 9 rfl rfl)
theorem dX0_setHaste_10 : decode cX0_setHaste 10 = .ok (.goto 11, 3) := dk_167 0 11 (dk_at dksX0_setHaste_0 10 rfl rfl)
theorem dX0_setHaste_13 : decode cX0_setHaste 13 = .ok (.astore 4, 2) := dk_58 4 (dk_at dksX0_setHaste_0 13 rfl rfl)
theorem dX0_setHaste_15 : decode cX0_setHaste 15 = .ok (.iconst 1, 1) := dk_4 (dk_at dksX0_setHaste_0 15 rfl rfl)
theorem dX0_setHaste_16 : decode cX0_setHaste 16 = .ok (.ireturn, 1) := dk_172 (dk_at dksX0_setHaste_0 16 rfl rfl)
theorem dX0_setHaste_17 : decode cX0_setHaste 17 = .ok (.astore 4, 2) := dk_58 4 (dk_at dksX0_setHaste_0 17 rfl rfl)
theorem dX0_setHaste_19 : decode cX0_setHaste 19 = .ok (.iconst 2, 1) := dk_5 (dk_at dksX0_setHaste_0 19 rfl rfl)
theorem dX0_setHaste_20 : decode cX0_setHaste 20 = .ok (.ireturn, 1) := dk_172 (dk_at dksX0_setHaste_0 20 rfl rfl)
theorem dX0_setHaste_21 : decode cX0_setHaste 21 = .ok (.iconst 0, 1) := dk_3 (dk_at dksX0_setHaste_0 21 rfl rfl)
theorem dX0_setHaste_22 : decode cX0_setHaste 22 = .ok (.ireturn, 1) := dk_172 (dk_at dksX0_setHaste_0 22 rfl rfl)
def dkwX0_turnRound_0 : List UInt8 := [44, 3, 42, 27, 182, 0, 112, 133, 80, 167, 0, 6, 78, 4, 172, 3, 172]
abbrev dktX0_turnRound_0 : List UInt8 := dkwX0_turnRound_0 ++ []
theorem dksX0_turnRound_0 : cX0_turnRound.data.toList.drop 0 = dktX0_turnRound_0 := by decide +kernel
theorem dX0_turnRound_0 : decode cX0_turnRound 0 = .ok (.aload_n 2, 1) := dk_44 (dk_at dksX0_turnRound_0 0 rfl rfl)
theorem dX0_turnRound_1 : decode cX0_turnRound 1 = .ok (.iconst 0, 1) := dk_3 (dk_at dksX0_turnRound_0 1 rfl rfl)
theorem dX0_turnRound_2 : decode cX0_turnRound 2 = .ok (.aload_n 0, 1) := dk_42 (dk_at dksX0_turnRound_0 2 rfl rfl)
theorem dX0_turnRound_3 : decode cX0_turnRound 3 = .ok (.iload_n 1, 1) := dk_27 (dk_at dksX0_turnRound_0 3 rfl rfl)
theorem dX0_turnRound_4 : decode cX0_turnRound 4 = .ok (.invokevirtual 112, 3) := dk_182 0 112 (dk_at dksX0_turnRound_0 4 rfl rfl)
theorem dX0_turnRound_7 : decode cX0_turnRound 7 = .ok (.i2l, 1) := dk_133 (dk_at dksX0_turnRound_0 7 rfl rfl)
theorem dX0_turnRound_8 : decode cX0_turnRound 8 = .ok (.lastore, 1) := dk_80 (dk_at dksX0_turnRound_0 8 rfl rfl)
theorem dX0_turnRound_9 : decode cX0_turnRound 9 = .ok (.goto 6, 3) := dk_167 0 6 (dk_at dksX0_turnRound_0 9 rfl rfl)
theorem dX0_turnRound_12 : decode cX0_turnRound 12 = .ok (.astore_n 3, 1) := dk_78 (dk_at dksX0_turnRound_0 12 rfl rfl)
theorem dX0_turnRound_13 : decode cX0_turnRound 13 = .ok (.iconst 1, 1) := dk_4 (dk_at dksX0_turnRound_0 13 rfl rfl)
theorem dX0_turnRound_14 : decode cX0_turnRound 14 = .ok (.ireturn, 1) := dk_172 (dk_at dksX0_turnRound_0 14 rfl rfl)
theorem dX0_turnRound_15 : decode cX0_turnRound 15 = .ok (.iconst 0, 1) := dk_3 (dk_at dksX0_turnRound_0 15 rfl rfl)
theorem dX0_turnRound_16 : decode cX0_turnRound 16 = .ok (.ireturn, 1) := dk_172 (dk_at dksX0_turnRound_0 16 rfl rfl)
def dkwX0_writeWay_0 : List UInt8 := [44, 3, 42, 27, 182, 0, 115, 133, 80, 167, 0, 6, 78, 4, 172, 3, 172]
abbrev dktX0_writeWay_0 : List UInt8 := dkwX0_writeWay_0 ++ []
theorem dksX0_writeWay_0 : cX0_writeWay.data.toList.drop 0 = dktX0_writeWay_0 := by decide +kernel
theorem dX0_writeWay_0 : decode cX0_writeWay 0 = .ok (.aload_n 2, 1) := dk_44 (dk_at dksX0_writeWay_0 0 rfl rfl)
theorem dX0_writeWay_1 : decode cX0_writeWay 1 = .ok (.iconst 0, 1) := dk_3 (dk_at dksX0_writeWay_0 1 rfl rfl)
theorem dX0_writeWay_2 : decode cX0_writeWay 2 = .ok (.aload_n 0, 1) := dk_42 (dk_at dksX0_writeWay_0 2 rfl rfl)
theorem dX0_writeWay_3 : decode cX0_writeWay 3 = .ok (.iload_n 1, 1) := dk_27 (dk_at dksX0_writeWay_0 3 rfl rfl)
theorem dX0_writeWay_4 : decode cX0_writeWay 4 = .ok (.invokevirtual 115, 3) := dk_182 0 115 (dk_at dksX0_writeWay_0 4 rfl rfl)
theorem dX0_writeWay_7 : decode cX0_writeWay 7 = .ok (.i2l, 1) := dk_133 (dk_at dksX0_writeWay_0 7 rfl rfl)
theorem dX0_writeWay_8 : decode cX0_writeWay 8 = .ok (.lastore, 1) := dk_80 (dk_at dksX0_writeWay_0 8 rfl rfl)
theorem dX0_writeWay_9 : decode cX0_writeWay 9 = .ok (.goto 6, 3) := dk_167 0 6 (dk_at dksX0_writeWay_0 9 rfl rfl)
theorem dX0_writeWay_12 : decode cX0_writeWay 12 = .ok (.astore_n 3, 1) := dk_78 (dk_at dksX0_writeWay_0 12 rfl rfl)
theorem dX0_writeWay_13 : decode cX0_writeWay 13 = .ok (.iconst 1, 1) := dk_4 (dk_at dksX0_writeWay_0 13 rfl rfl)
theorem dX0_writeWay_14 : decode cX0_writeWay 14 = .ok (.ireturn, 1) := dk_172 (dk_at dksX0_writeWay_0 14 rfl rfl)
theorem dX0_writeWay_15 : decode cX0_writeWay 15 = .ok (.iconst 0, 1) := dk_3 (dk_at dksX0_writeWay_0 15 rfl rfl)
theorem dX0_writeWay_16 : decode cX0_writeWay 16 = .ok (.ireturn, 1) := dk_172 (dk_at dksX0_writeWay_0 16 rfl rfl)
def dkwX0_restore_0 : List UInt8 := [43, 3, 42, 182, 0, 118, 133, 80, 167, 0, 6, 77, 4, 172, 3, 172]
abbrev dktX0_restore_0 : List UInt8 := dkwX0_restore_0 ++ []
theorem dksX0_restore_0 : cX0_restore.data.toList.drop 0 = dktX0_restore_0 := by decide +kernel
theorem dX0_restore_0 : decode cX0_restore 0 = .ok (.aload_n 1, 1) := dk_43 (dk_at dksX0_restore_0 0 rfl rfl)
theorem dX0_restore_1 : decode cX0_restore 1 = .ok (.iconst 0, 1) := dk_3 (dk_at dksX0_restore_0 1 rfl rfl)
theorem dX0_restore_2 : decode cX0_restore 2 = .ok (.aload_n 0, 1) := dk_42 (dk_at dksX0_restore_0 2 rfl rfl)
theorem dX0_restore_3 : decode cX0_restore 3 = .ok (.invokevirtual 118, 3) := dk_182 0 118 (dk_at dksX0_restore_0 3 rfl rfl)
theorem dX0_restore_6 : decode cX0_restore 6 = .ok (.i2l, 1) := dk_133 (dk_at dksX0_restore_0 6 rfl rfl)
theorem dX0_restore_7 : decode cX0_restore 7 = .ok (.lastore, 1) := dk_80 (dk_at dksX0_restore_0 7 rfl rfl)
theorem dX0_restore_8 : decode cX0_restore 8 = .ok (.goto 6, 3) := dk_167 0 6 (dk_at dksX0_restore_0 8 rfl rfl)
theorem dX0_restore_11 : decode cX0_restore 11 = .ok (.astore_n 2, 1) := dk_77 (dk_at dksX0_restore_0 11 rfl rfl)
theorem dX0_restore_12 : decode cX0_restore 12 = .ok (.iconst 1, 1) := dk_4 (dk_at dksX0_restore_0 12 rfl rfl)
theorem dX0_restore_13 : decode cX0_restore 13 = .ok (.ireturn, 1) := dk_172 (dk_at dksX0_restore_0 13 rfl rfl)
theorem dX0_restore_14 : decode cX0_restore 14 = .ok (.iconst 0, 1) := dk_3 (dk_at dksX0_restore_0 14 rfl rfl)
theorem dX0_restore_15 : decode cX0_restore 15 = .ok (.ireturn, 1) := dk_172 (dk_at dksX0_restore_0 15 rfl rfl)
def dkwX3_init_0 : List UInt8 := [42, 183, 0, 3, 42, 187, 0, 9, 89, 183, 0, 11, 181, 0, 12, 177]
abbrev dktX3_init_0 : List UInt8 := dkwX3_init_0 ++ []
theorem dksX3_init_0 : cX3_init.data.toList.drop 0 = dktX3_init_0 := by decide +kernel
theorem dX3_init_0 : decode cX3_init 0 = .ok (.aload_n 0, 1) := dk_42 (dk_at dksX3_init_0 0 rfl rfl)
theorem dX3_init_1 : decode cX3_init 1 = .ok (.invokespecial 3, 3) := dk_183 0 3 (dk_at dksX3_init_0 1 rfl rfl)
theorem dX3_init_4 : decode cX3_init 4 = .ok (.aload_n 0, 1) := dk_42 (dk_at dksX3_init_0 4 rfl rfl)
theorem dX3_init_5 : decode cX3_init 5 = .ok (.new 9, 3) := dk_187 0 9 (dk_at dksX3_init_0 5 rfl rfl)
theorem dX3_init_8 : decode cX3_init 8 = .ok (.dup, 1) := dk_89 (dk_at dksX3_init_0 8 rfl rfl)
theorem dX3_init_9 : decode cX3_init 9 = .ok (.invokespecial 11, 3) := dk_183 0 11 (dk_at dksX3_init_0 9 rfl rfl)
theorem dX3_init_12 : decode cX3_init 12 = .ok (.putfield 12, 3) := dk_181 0 12 (dk_at dksX3_init_0 12 rfl rfl)
theorem dX3_init_15 : decode cX3_init 15 = .ok (.return_, 1) := dk_177 (dk_at dksX3_init_0 15 rfl rfl)
def dkwX3_add_0 : List UInt8 := [42, 180, 0, 12, 43, 185, 0, 30, 2, 0, 87, 177]
abbrev dktX3_add_0 : List UInt8 := dkwX3_add_0 ++ []
theorem dksX3_add_0 : cX3_add.data.toList.drop 0 = dktX3_add_0 := by decide +kernel
theorem dX3_add_0 : decode cX3_add 0 = .ok (.aload_n 0, 1) := dk_42 (dk_at dksX3_add_0 0 rfl rfl)
theorem dX3_add_1 : decode cX3_add 1 = .ok (.getfield 12, 3) := dk_180 0 12 (dk_at dksX3_add_0 1 rfl rfl)
theorem dX3_add_4 : decode cX3_add 4 = .ok (.aload_n 1, 1) := dk_43 (dk_at dksX3_add_0 4 rfl rfl)
theorem dX3_add_5 : decode cX3_add 5 = .ok (.invokeinterface 30 2, 5) := by decide +kernel
theorem dX3_add_10 : decode cX3_add 10 = .ok (.pop, 1) := dk_87 (dk_at dksX3_add_0 10 rfl rfl)
theorem dX3_add_11 : decode cX3_add 11 = .ok (.return_, 1) := dk_177 (dk_at dksX3_add_0 11 rfl rfl)
def dkwX3_named_1 : List UInt8 := [153, 0, 5, 28, 172, 132, 2, 1, 167, 255, 226, 2, 172]
abbrev dktX3_named_1 : List UInt8 := dkwX3_named_1 ++ []
def dkwX3_named_0 : List UInt8 := [3, 61, 28, 42, 182, 0, 34, 162, 0, 28, 42, 28, 182, 0, 35, 185, 0, 38, 1, 0, 43, 182, 0, 42]
abbrev dktX3_named_0 : List UInt8 := dkwX3_named_0 ++ dktX3_named_1
theorem dksX3_named_0 : cX3_named.data.toList.drop 0 = dktX3_named_0 := by decide +kernel
theorem dksX3_named_1 : cX3_named.data.toList.drop 24 = dktX3_named_1 := dk_seg dksX3_named_0 24 rfl rfl
theorem dX3_named_0 : decode cX3_named 0 = .ok (.iconst 0, 1) := dk_3 (dk_at dksX3_named_0 0 rfl rfl)
theorem dX3_named_1 : decode cX3_named 1 = .ok (.istore_n 2, 1) := dk_61 (dk_at dksX3_named_0 1 rfl rfl)
theorem dX3_named_2 : decode cX3_named 2 = .ok (.iload_n 2, 1) := dk_28 (dk_at dksX3_named_0 2 rfl rfl)
theorem dX3_named_3 : decode cX3_named 3 = .ok (.aload_n 0, 1) := dk_42 (dk_at dksX3_named_0 3 rfl rfl)
theorem dX3_named_4 : decode cX3_named 4 = .ok (.invokevirtual 34, 3) := dk_182 0 34 (dk_at dksX3_named_0 4 rfl rfl)
theorem dX3_named_7 : decode cX3_named 7 = .ok (.if_icmp .ge 28, 3) := dk_162 0 28 (dk_at dksX3_named_0 7 rfl rfl)
theorem dX3_named_10 : decode cX3_named 10 = .ok (.aload_n 0, 1) := dk_42 (dk_at dksX3_named_0 10 rfl rfl)
theorem dX3_named_11 : decode cX3_named 11 = .ok (.iload_n 2, 1) := dk_28 (dk_at dksX3_named_0 11 rfl rfl)
theorem dX3_named_12 : decode cX3_named 12 = .ok (.invokevirtual 35, 3) := dk_182 0 35 (dk_at dksX3_named_0 12 rfl rfl)
theorem dX3_named_15 : decode cX3_named 15 = .ok (.invokeinterface 38 1, 5) := by decide +kernel
theorem dX3_named_20 : decode cX3_named 20 = .ok (.aload_n 1, 1) := dk_43 (dk_at dksX3_named_0 20 rfl rfl)
theorem dX3_named_21 : decode cX3_named 21 = .ok (.invokevirtual 42, 3) := dk_182 0 42 (dk_at dksX3_named_0 21 rfl rfl)
theorem dX3_named_24 : decode cX3_named 24 = .ok (.ifCond .eq 5, 3) := dk_153 0 5 (dk_at dksX3_named_1 0 rfl rfl)
theorem dX3_named_27 : decode cX3_named 27 = .ok (.iload_n 2, 1) := dk_28 (dk_at dksX3_named_1 3 rfl rfl)
theorem dX3_named_28 : decode cX3_named 28 = .ok (.ireturn, 1) := dk_172 (dk_at dksX3_named_1 4 rfl rfl)
theorem dX3_named_29 : decode cX3_named 29 = .ok (.iinc 2 1, 3) := dk_132 2 1 (dk_at dksX3_named_1 5 rfl rfl)
theorem dX3_named_32 : decode cX3_named 32 = .ok (.goto (-30), 3) := dk_167 255 226 (dk_at dksX3_named_1 8 rfl rfl)
theorem dX3_named_35 : decode cX3_named 35 = .ok (.iconst (-1), 1) := dk_2 (dk_at dksX3_named_1 11 rfl rfl)
theorem dX3_named_36 : decode cX3_named 36 = .ok (.ireturn, 1) := dk_172 (dk_at dksX3_named_1 12 rfl rfl)
def dkwX3_size_0 : List UInt8 := [42, 180, 0, 12, 185, 0, 18, 1, 0, 172]
abbrev dktX3_size_0 : List UInt8 := dkwX3_size_0 ++ []
theorem dksX3_size_0 : cX3_size.data.toList.drop 0 = dktX3_size_0 := by decide +kernel
theorem dX3_size_0 : decode cX3_size 0 = .ok (.aload_n 0, 1) := dk_42 (dk_at dksX3_size_0 0 rfl rfl)
theorem dX3_size_1 : decode cX3_size 1 = .ok (.getfield 12, 3) := dk_180 0 12 (dk_at dksX3_size_0 1 rfl rfl)
theorem dX3_size_4 : decode cX3_size 4 = .ok (.invokeinterface 18 1, 5) := by decide +kernel
theorem dX3_size_9 : decode cX3_size 9 = .ok (.ireturn, 1) := dk_172 (dk_at dksX3_size_0 9 rfl rfl)
def dkwX3_get_0 : List UInt8 := [42, 180, 0, 12, 27, 185, 0, 24, 2, 0, 192, 0, 28, 176]
abbrev dktX3_get_0 : List UInt8 := dkwX3_get_0 ++ []
theorem dksX3_get_0 : cX3_get.data.toList.drop 0 = dktX3_get_0 := by decide +kernel
theorem dX3_get_0 : decode cX3_get 0 = .ok (.aload_n 0, 1) := dk_42 (dk_at dksX3_get_0 0 rfl rfl)
theorem dX3_get_1 : decode cX3_get 1 = .ok (.getfield 12, 3) := dk_180 0 12 (dk_at dksX3_get_0 1 rfl rfl)
theorem dX3_get_4 : decode cX3_get 4 = .ok (.iload_n 1, 1) := dk_27 (dk_at dksX3_get_0 4 rfl rfl)
theorem dX3_get_5 : decode cX3_get 5 = .ok (.invokeinterface 24 2, 5) := by decide +kernel
theorem dX3_get_10 : decode cX3_get 10 = .ok (.checkcast 28, 3) := dk_192 0 28 (dk_at dksX3_get_0 10 rfl rfl)
theorem dX3_get_13 : decode cX3_get 13 = .ok (.areturn, 1) := dk_176 (dk_at dksX3_get_0 13 rfl rfl)
def dkwX4_init_0 : List UInt8 := [42, 183, 0, 1, 42, 43, 181, 0, 7, 42, 28, 181, 0, 13, 177]
abbrev dktX4_init_0 : List UInt8 := dkwX4_init_0 ++ []
theorem dksX4_init_0 : cX4_init.data.toList.drop 0 = dktX4_init_0 := by decide +kernel
theorem dX4_init_0 : decode cX4_init 0 = .ok (.aload_n 0, 1) := dk_42 (dk_at dksX4_init_0 0 rfl rfl)
theorem dX4_init_1 : decode cX4_init 1 = .ok (.invokespecial 1, 3) := dk_183 0 1 (dk_at dksX4_init_0 1 rfl rfl)
theorem dX4_init_4 : decode cX4_init 4 = .ok (.aload_n 0, 1) := dk_42 (dk_at dksX4_init_0 4 rfl rfl)
theorem dX4_init_5 : decode cX4_init 5 = .ok (.aload_n 1, 1) := dk_43 (dk_at dksX4_init_0 5 rfl rfl)
theorem dX4_init_6 : decode cX4_init 6 = .ok (.putfield 7, 3) := dk_181 0 7 (dk_at dksX4_init_0 6 rfl rfl)
theorem dX4_init_9 : decode cX4_init 9 = .ok (.aload_n 0, 1) := dk_42 (dk_at dksX4_init_0 9 rfl rfl)
theorem dX4_init_10 : decode cX4_init 10 = .ok (.iload_n 2, 1) := dk_28 (dk_at dksX4_init_0 10 rfl rfl)
theorem dX4_init_11 : decode cX4_init 11 = .ok (.putfield 13, 3) := dk_181 0 13 (dk_at dksX4_init_0 11 rfl rfl)
theorem dX4_init_14 : decode cX4_init 14 = .ok (.return_, 1) := dk_177 (dk_at dksX4_init_0 14 rfl rfl)
theorem dX4_name_0 : decode cX4_name 0 = .ok (.aload_n 0, 1) := by decide +kernel
theorem dX4_name_1 : decode cX4_name 1 = .ok (.getfield 7, 3) := by decide +kernel
theorem dX4_name_4 : decode cX4_name 4 = .ok (.areturn, 1) := by decide +kernel
theorem dX4_cell_0 : decode cX4_cell 0 = .ok (.aload_n 0, 1) := by decide +kernel
theorem dX4_cell_1 : decode cX4_cell 1 = .ok (.getfield 13, 3) := by decide +kernel
theorem dX4_cell_4 : decode cX4_cell 4 = .ok (.ireturn, 1) := by decide +kernel
def dkwX5_init_1 : List UInt8 := [181, 0, 20, 42, 21, 5, 181, 0, 23, 177]
abbrev dktX5_init_1 : List UInt8 := dkwX5_init_1 ++ []
def dkwX5_init_0 : List UInt8 := [42, 183, 0, 1, 42, 43, 181, 0, 7, 42, 28, 181, 0, 13, 42, 29, 181, 0, 17, 42, 21, 4]
abbrev dktX5_init_0 : List UInt8 := dkwX5_init_0 ++ dktX5_init_1
theorem dksX5_init_0 : cX5_init.data.toList.drop 0 = dktX5_init_0 := by decide +kernel
theorem dksX5_init_1 : cX5_init.data.toList.drop 22 = dktX5_init_1 := dk_seg dksX5_init_0 22 rfl rfl
theorem dX5_init_0 : decode cX5_init 0 = .ok (.aload_n 0, 1) := dk_42 (dk_at dksX5_init_0 0 rfl rfl)
theorem dX5_init_1 : decode cX5_init 1 = .ok (.invokespecial 1, 3) := dk_183 0 1 (dk_at dksX5_init_0 1 rfl rfl)
theorem dX5_init_4 : decode cX5_init 4 = .ok (.aload_n 0, 1) := dk_42 (dk_at dksX5_init_0 4 rfl rfl)
theorem dX5_init_5 : decode cX5_init 5 = .ok (.aload_n 1, 1) := dk_43 (dk_at dksX5_init_0 5 rfl rfl)
theorem dX5_init_6 : decode cX5_init 6 = .ok (.putfield 7, 3) := dk_181 0 7 (dk_at dksX5_init_0 6 rfl rfl)
theorem dX5_init_9 : decode cX5_init 9 = .ok (.aload_n 0, 1) := dk_42 (dk_at dksX5_init_0 9 rfl rfl)
theorem dX5_init_10 : decode cX5_init 10 = .ok (.iload_n 2, 1) := dk_28 (dk_at dksX5_init_0 10 rfl rfl)
theorem dX5_init_11 : decode cX5_init 11 = .ok (.putfield 13, 3) := dk_181 0 13 (dk_at dksX5_init_0 11 rfl rfl)
theorem dX5_init_14 : decode cX5_init 14 = .ok (.aload_n 0, 1) := dk_42 (dk_at dksX5_init_0 14 rfl rfl)
theorem dX5_init_15 : decode cX5_init 15 = .ok (.iload_n 3, 1) := dk_29 (dk_at dksX5_init_0 15 rfl rfl)
theorem dX5_init_16 : decode cX5_init 16 = .ok (.putfield 17, 3) := dk_181 0 17 (dk_at dksX5_init_0 16 rfl rfl)
theorem dX5_init_19 : decode cX5_init 19 = .ok (.aload_n 0, 1) := dk_42 (dk_at dksX5_init_0 19 rfl rfl)
theorem dX5_init_20 : decode cX5_init 20 = .ok (.iload 4, 2) := dk_21 4 (dk_at dksX5_init_0 20 rfl rfl)
theorem dX5_init_22 : decode cX5_init 22 = .ok (.putfield 20, 3) := dk_181 0 20 (dk_at dksX5_init_1 0 rfl rfl)
theorem dX5_init_25 : decode cX5_init 25 = .ok (.aload_n 0, 1) := dk_42 (dk_at dksX5_init_1 3 rfl rfl)
theorem dX5_init_26 : decode cX5_init 26 = .ok (.iload 5, 2) := dk_21 5 (dk_at dksX5_init_1 4 rfl rfl)
theorem dX5_init_28 : decode cX5_init 28 = .ok (.putfield 23, 3) := dk_181 0 23 (dk_at dksX5_init_1 6 rfl rfl)
theorem dX5_init_31 : decode cX5_init 31 = .ok (.return_, 1) := dk_177 (dk_at dksX5_init_1 9 rfl rfl)
theorem dX5_name_0 : decode cX5_name 0 = .ok (.aload_n 0, 1) := by decide +kernel
theorem dX5_name_1 : decode cX5_name 1 = .ok (.getfield 7, 3) := by decide +kernel
theorem dX5_name_4 : decode cX5_name 4 = .ok (.areturn, 1) := by decide +kernel
def dkwX5_copy_1 : List UInt8 := [183, 0, 26, 76, 43, 42, 180, 0, 29, 181, 0, 29, 43, 42, 180, 0, 32, 181, 0, 32, 43, 176]
abbrev dktX5_copy_1 : List UInt8 := dkwX5_copy_1 ++ []
def dkwX5_copy_0 : List UInt8 := [187, 0, 8, 89, 42, 180, 0, 7, 42, 180, 0, 13, 42, 180, 0, 17, 42, 180, 0, 20, 42, 180, 0, 23]
abbrev dktX5_copy_0 : List UInt8 := dkwX5_copy_0 ++ dktX5_copy_1
theorem dksX5_copy_0 : cX5_copy.data.toList.drop 0 = dktX5_copy_0 := by decide +kernel
theorem dksX5_copy_1 : cX5_copy.data.toList.drop 24 = dktX5_copy_1 := dk_seg dksX5_copy_0 24 rfl rfl
theorem dX5_copy_0 : decode cX5_copy 0 = .ok (.new 8, 3) := dk_187 0 8 (dk_at dksX5_copy_0 0 rfl rfl)
theorem dX5_copy_3 : decode cX5_copy 3 = .ok (.dup, 1) := dk_89 (dk_at dksX5_copy_0 3 rfl rfl)
theorem dX5_copy_4 : decode cX5_copy 4 = .ok (.aload_n 0, 1) := dk_42 (dk_at dksX5_copy_0 4 rfl rfl)
theorem dX5_copy_5 : decode cX5_copy 5 = .ok (.getfield 7, 3) := dk_180 0 7 (dk_at dksX5_copy_0 5 rfl rfl)
theorem dX5_copy_8 : decode cX5_copy 8 = .ok (.aload_n 0, 1) := dk_42 (dk_at dksX5_copy_0 8 rfl rfl)
theorem dX5_copy_9 : decode cX5_copy 9 = .ok (.getfield 13, 3) := dk_180 0 13 (dk_at dksX5_copy_0 9 rfl rfl)
theorem dX5_copy_12 : decode cX5_copy 12 = .ok (.aload_n 0, 1) := dk_42 (dk_at dksX5_copy_0 12 rfl rfl)
theorem dX5_copy_13 : decode cX5_copy 13 = .ok (.getfield 17, 3) := dk_180 0 17 (dk_at dksX5_copy_0 13 rfl rfl)
theorem dX5_copy_16 : decode cX5_copy 16 = .ok (.aload_n 0, 1) := dk_42 (dk_at dksX5_copy_0 16 rfl rfl)
theorem dX5_copy_17 : decode cX5_copy 17 = .ok (.getfield 20, 3) := dk_180 0 20 (dk_at dksX5_copy_0 17 rfl rfl)
theorem dX5_copy_20 : decode cX5_copy 20 = .ok (.aload_n 0, 1) := dk_42 (dk_at dksX5_copy_0 20 rfl rfl)
theorem dX5_copy_21 : decode cX5_copy 21 = .ok (.getfield 23, 3) := dk_180 0 23 (dk_at dksX5_copy_0 21 rfl rfl)
theorem dX5_copy_24 : decode cX5_copy 24 = .ok (.invokespecial 26, 3) := dk_183 0 26 (dk_at dksX5_copy_1 0 rfl rfl)
theorem dX5_copy_27 : decode cX5_copy 27 = .ok (.astore_n 1, 1) := dk_76 (dk_at dksX5_copy_1 3 rfl rfl)
theorem dX5_copy_28 : decode cX5_copy 28 = .ok (.aload_n 1, 1) := dk_43 (dk_at dksX5_copy_1 4 rfl rfl)
theorem dX5_copy_29 : decode cX5_copy 29 = .ok (.aload_n 0, 1) := dk_42 (dk_at dksX5_copy_1 5 rfl rfl)
theorem dX5_copy_30 : decode cX5_copy 30 = .ok (.getfield 29, 3) := dk_180 0 29 (dk_at dksX5_copy_1 6 rfl rfl)
theorem dX5_copy_33 : decode cX5_copy 33 = .ok (.putfield 29, 3) := dk_181 0 29 (dk_at dksX5_copy_1 9 rfl rfl)
theorem dX5_copy_36 : decode cX5_copy 36 = .ok (.aload_n 1, 1) := dk_43 (dk_at dksX5_copy_1 12 rfl rfl)
theorem dX5_copy_37 : decode cX5_copy 37 = .ok (.aload_n 0, 1) := dk_42 (dk_at dksX5_copy_1 13 rfl rfl)
theorem dX5_copy_38 : decode cX5_copy 38 = .ok (.getfield 32, 3) := dk_180 0 32 (dk_at dksX5_copy_1 14 rfl rfl)
theorem dX5_copy_41 : decode cX5_copy 41 = .ok (.putfield 32, 3) := dk_181 0 32 (dk_at dksX5_copy_1 17 rfl rfl)
theorem dX5_copy_44 : decode cX5_copy 44 = .ok (.aload_n 1, 1) := dk_43 (dk_at dksX5_copy_1 20 rfl rfl)
theorem dX5_copy_45 : decode cX5_copy 45 = .ok (.areturn, 1) := dk_176 (dk_at dksX5_copy_1 21 rfl rfl)
def dkwX5_walksOn_0 : List UInt8 := [27, 42, 180, 0, 23, 112, 154, 0, 7, 4, 167, 0, 4, 3, 172]
abbrev dktX5_walksOn_0 : List UInt8 := dkwX5_walksOn_0 ++ []
theorem dksX5_walksOn_0 : cX5_walksOn.data.toList.drop 0 = dktX5_walksOn_0 := by decide +kernel
theorem dX5_walksOn_0 : decode cX5_walksOn 0 = .ok (.iload_n 1, 1) := dk_27 (dk_at dksX5_walksOn_0 0 rfl rfl)
theorem dX5_walksOn_1 : decode cX5_walksOn 1 = .ok (.aload_n 0, 1) := dk_42 (dk_at dksX5_walksOn_0 1 rfl rfl)
theorem dX5_walksOn_2 : decode cX5_walksOn 2 = .ok (.getfield 23, 3) := dk_180 0 23 (dk_at dksX5_walksOn_0 2 rfl rfl)
theorem dX5_walksOn_5 : decode cX5_walksOn 5 = .ok (.irem, 1) := dk_112 (dk_at dksX5_walksOn_0 5 rfl rfl)
theorem dX5_walksOn_6 : decode cX5_walksOn 6 = .ok (.ifCond .ne 7, 3) := dk_154 0 7 (dk_at dksX5_walksOn_0 6 rfl rfl)
theorem dX5_walksOn_9 : decode cX5_walksOn 9 = .ok (.iconst 1, 1) := dk_4 (dk_at dksX5_walksOn_0 9 rfl rfl)
theorem dX5_walksOn_10 : decode cX5_walksOn 10 = .ok (.goto 4, 3) := dk_167 0 4 (dk_at dksX5_walksOn_0 10 rfl rfl)
theorem dX5_walksOn_13 : decode cX5_walksOn 13 = .ok (.iconst 0, 1) := dk_3 (dk_at dksX5_walksOn_0 13 rfl rfl)
theorem dX5_walksOn_14 : decode cX5_walksOn 14 = .ok (.ireturn, 1) := dk_172 (dk_at dksX5_walksOn_0 14 rfl rfl)
def dkwX7_init_1 : List UInt8 := [181, 0, 24, 42, 182, 0, 28, 177]
abbrev dktX7_init_1 : List UInt8 := dkwX7_init_1 ++ []
def dkwX7_init_0 : List UInt8 := [42, 43, 181, 0, 3, 42, 183, 0, 9, 42, 42, 180, 0, 3, 180, 0, 15, 181, 0, 19, 42, 18, 22]
abbrev dktX7_init_0 : List UInt8 := dkwX7_init_0 ++ dktX7_init_1
theorem dksX7_init_0 : cX7_init.data.toList.drop 0 = dktX7_init_0 := by decide +kernel
theorem dksX7_init_1 : cX7_init.data.toList.drop 23 = dktX7_init_1 := dk_seg dksX7_init_0 23 rfl rfl
theorem dX7_init_0 : decode cX7_init 0 = .ok (.aload_n 0, 1) := dk_42 (dk_at dksX7_init_0 0 rfl rfl)
theorem dX7_init_1 : decode cX7_init 1 = .ok (.aload_n 1, 1) := dk_43 (dk_at dksX7_init_0 1 rfl rfl)
theorem dX7_init_2 : decode cX7_init 2 = .ok (.putfield 3, 3) := dk_181 0 3 (dk_at dksX7_init_0 2 rfl rfl)
theorem dX7_init_5 : decode cX7_init 5 = .ok (.aload_n 0, 1) := dk_42 (dk_at dksX7_init_0 5 rfl rfl)
theorem dX7_init_6 : decode cX7_init 6 = .ok (.invokespecial 9, 3) := dk_183 0 9 (dk_at dksX7_init_0 6 rfl rfl)
theorem dX7_init_9 : decode cX7_init 9 = .ok (.aload_n 0, 1) := dk_42 (dk_at dksX7_init_0 9 rfl rfl)
theorem dX7_init_10 : decode cX7_init 10 = .ok (.aload_n 0, 1) := dk_42 (dk_at dksX7_init_0 10 rfl rfl)
theorem dX7_init_11 : decode cX7_init 11 = .ok (.getfield 3, 3) := dk_180 0 3 (dk_at dksX7_init_0 11 rfl rfl)
theorem dX7_init_14 : decode cX7_init 14 = .ok (.getfield 15, 3) := dk_180 0 15 (dk_at dksX7_init_0 14 rfl rfl)
theorem dX7_init_17 : decode cX7_init 17 = .ok (.putfield 19, 3) := dk_181 0 19 (dk_at dksX7_init_0 17 rfl rfl)
theorem dX7_init_20 : decode cX7_init 20 = .ok (.aload_n 0, 1) := dk_42 (dk_at dksX7_init_0 20 rfl rfl)
theorem dX7_init_21 : decode cX7_init 21 = .ok (.ldc 22, 2) := dk_18 22 (dk_at dksX7_init_0 21 rfl rfl)
theorem dX7_init_23 : decode cX7_init 23 = .ok (.putfield 24, 3) := dk_181 0 24 (dk_at dksX7_init_1 0 rfl rfl)
theorem dX7_init_26 : decode cX7_init 26 = .ok (.aload_n 0, 1) := dk_42 (dk_at dksX7_init_1 3 rfl rfl)
theorem dX7_init_27 : decode cX7_init 27 = .ok (.invokevirtual 28, 3) := dk_182 0 28 (dk_at dksX7_init_1 4 rfl rfl)
theorem dX7_init_30 : decode cX7_init 30 = .ok (.return_, 1) := dk_177 (dk_at dksX7_init_1 7 rfl rfl)
def dkwX7_next_11 : List UInt8 := [178, 0, 39, 181, 0, 35, 42, 89, 180, 0, 51, 4, 96, 181, 0, 51, 177]
abbrev dktX7_next_11 : List UInt8 := dkwX7_next_11 ++ []
def dkwX7_next_10 : List UInt8 := [167, 0, 7, 42, 180, 0, 86, 181, 0, 86, 42, 89, 180, 0, 51, 4, 96, 181, 0, 51, 167, 255, 182, 42]
abbrev dktX7_next_10 : List UInt8 := dkwX7_next_10 ++ dktX7_next_11
def dkwX7_next_9 : List UInt8 := [162, 0, 25, 16, 10, 42, 180, 0, 86, 104, 42, 42, 180, 0, 51, 182, 0, 47, 96, 16, 48, 100]
abbrev dktX7_next_9 : List UInt8 := dkwX7_next_9 ++ dktX7_next_10
def dkwX7_next_8 : List UInt8 := [20, 0, 79, 20, 0, 81, 184, 0, 61, 153, 0, 76, 42, 42, 180, 0, 51, 42, 180, 0, 44, 100, 6]
abbrev dktX7_next_8 : List UInt8 := dkwX7_next_8 ++ dktX7_next_9
def dkwX7_next_7 : List UInt8 := [153, 0, 92, 42, 178, 0, 83, 181, 0, 35, 42, 3, 181, 0, 86, 42, 42, 180, 0, 51, 182, 0, 47, 133]
abbrev dktX7_next_7 : List UInt8 := dkwX7_next_7 ++ dktX7_next_8
def dkwX7_next_6 : List UInt8 := [42, 44, 182, 0, 75, 181, 0, 24, 167, 0, 123, 27, 133, 20, 0, 79, 20, 0, 81, 184, 0, 61]
abbrev dktX7_next_6 : List UInt8 := dkwX7_next_6 ++ dktX7_next_7
def dkwX7_next_5 : List UInt8 := [180, 0, 51, 182, 0, 47, 146, 182, 0, 71, 87, 42, 89, 180, 0, 51, 4, 96, 181, 0, 51, 167, 255, 211]
abbrev dktX7_next_5 : List UInt8 := dkwX7_next_5 ++ dktX7_next_6
def dkwX7_next_4 : List UInt8 := [42, 42, 180, 0, 51, 182, 0, 47, 133, 20, 0, 57, 20, 0, 59, 184, 0, 61, 153, 0, 30, 44, 42, 42]
abbrev dktX7_next_4 : List UInt8 := dkwX7_next_4 ++ dktX7_next_5
def dkwX7_next_3 : List UInt8 := [20, 0, 59, 184, 0, 61, 153, 0, 77, 42, 178, 0, 65, 181, 0, 35, 187, 0, 68, 89, 183, 0, 70, 77]
abbrev dktX7_next_3 : List UInt8 := dkwX7_next_3 ++ dktX7_next_4
def dkwX7_next_2 : List UInt8 := [182, 0, 47, 60, 27, 2, 160, 0, 13, 42, 178, 0, 54, 181, 0, 35, 167, 0, 211, 27, 133, 20, 0, 57]
abbrev dktX7_next_2 : List UInt8 := dkwX7_next_2 ++ dktX7_next_3
def dkwX7_next_1 : List UInt8 := [167, 255, 233, 42, 42, 180, 0, 51, 181, 0, 44, 42, 18, 22, 181, 0, 24, 42, 42, 180, 0, 51]
abbrev dktX7_next_1 : List UInt8 := dkwX7_next_1 ++ dktX7_next_2
def dkwX7_next_0 : List UInt8 := [42, 42, 180, 0, 51, 182, 0, 47, 16, 32, 160, 0, 16, 42, 89, 180, 0, 51, 4, 96, 181, 0, 51]
abbrev dktX7_next_0 : List UInt8 := dkwX7_next_0 ++ dktX7_next_1
theorem dksX7_next_0 : cX7_next.data.toList.drop 0 = dktX7_next_0 := by decide +kernel
theorem dksX7_next_1 : cX7_next.data.toList.drop 23 = dktX7_next_1 := dk_seg dksX7_next_0 23 rfl rfl
theorem dksX7_next_2 : cX7_next.data.toList.drop 45 = dktX7_next_2 := dk_seg dksX7_next_1 22 rfl rfl
theorem dksX7_next_3 : cX7_next.data.toList.drop 69 = dktX7_next_3 := dk_seg dksX7_next_2 24 rfl rfl
theorem dksX7_next_4 : cX7_next.data.toList.drop 93 = dktX7_next_4 := dk_seg dksX7_next_3 24 rfl rfl
theorem dksX7_next_5 : cX7_next.data.toList.drop 117 = dktX7_next_5 := dk_seg dksX7_next_4 24 rfl rfl
theorem dksX7_next_6 : cX7_next.data.toList.drop 141 = dktX7_next_6 := dk_seg dksX7_next_5 24 rfl rfl
theorem dksX7_next_7 : cX7_next.data.toList.drop 163 = dktX7_next_7 := dk_seg dksX7_next_6 22 rfl rfl
theorem dksX7_next_8 : cX7_next.data.toList.drop 187 = dktX7_next_8 := dk_seg dksX7_next_7 24 rfl rfl
theorem dksX7_next_9 : cX7_next.data.toList.drop 210 = dktX7_next_9 := dk_seg dksX7_next_8 23 rfl rfl
theorem dksX7_next_10 : cX7_next.data.toList.drop 232 = dktX7_next_10 := dk_seg dksX7_next_9 22 rfl rfl
theorem dksX7_next_11 : cX7_next.data.toList.drop 256 = dktX7_next_11 := dk_seg dksX7_next_10 24 rfl rfl
theorem dX7_next_0 : decode cX7_next 0 = .ok (.aload_n 0, 1) := dk_42 (dk_at dksX7_next_0 0 rfl rfl)
theorem dX7_next_1 : decode cX7_next 1 = .ok (.aload_n 0, 1) := dk_42 (dk_at dksX7_next_0 1 rfl rfl)
theorem dX7_next_2 : decode cX7_next 2 = .ok (.getfield 51, 3) := dk_180 0 51 (dk_at dksX7_next_0 2 rfl rfl)
theorem dX7_next_5 : decode cX7_next 5 = .ok (.invokevirtual 47, 3) := dk_182 0 47 (dk_at dksX7_next_0 5 rfl rfl)
theorem dX7_next_8 : decode cX7_next 8 = .ok (.bipush 32, 2) := dk_16 32 (dk_at dksX7_next_0 8 rfl rfl)
theorem dX7_next_10 : decode cX7_next 10 = .ok (.if_icmp .ne 16, 3) := dk_160 0 16 (dk_at dksX7_next_0 10 rfl rfl)
theorem dX7_next_13 : decode cX7_next 13 = .ok (.aload_n 0, 1) := dk_42 (dk_at dksX7_next_0 13 rfl rfl)
theorem dX7_next_14 : decode cX7_next 14 = .ok (.dup, 1) := dk_89 (dk_at dksX7_next_0 14 rfl rfl)
theorem dX7_next_15 : decode cX7_next 15 = .ok (.getfield 51, 3) := dk_180 0 51 (dk_at dksX7_next_0 15 rfl rfl)
theorem dX7_next_18 : decode cX7_next 18 = .ok (.iconst 1, 1) := dk_4 (dk_at dksX7_next_0 18 rfl rfl)
theorem dX7_next_19 : decode cX7_next 19 = .ok (.iadd, 1) := dk_96 (dk_at dksX7_next_0 19 rfl rfl)
theorem dX7_next_20 : decode cX7_next 20 = .ok (.putfield 51, 3) := dk_181 0 51 (dk_at dksX7_next_0 20 rfl rfl)
theorem dX7_next_23 : decode cX7_next 23 = .ok (.goto (-23), 3) := dk_167 255 233 (dk_at dksX7_next_1 0 rfl rfl)
theorem dX7_next_26 : decode cX7_next 26 = .ok (.aload_n 0, 1) := dk_42 (dk_at dksX7_next_1 3 rfl rfl)
theorem dX7_next_27 : decode cX7_next 27 = .ok (.aload_n 0, 1) := dk_42 (dk_at dksX7_next_1 4 rfl rfl)
theorem dX7_next_28 : decode cX7_next 28 = .ok (.getfield 51, 3) := dk_180 0 51 (dk_at dksX7_next_1 5 rfl rfl)
theorem dX7_next_31 : decode cX7_next 31 = .ok (.putfield 44, 3) := dk_181 0 44 (dk_at dksX7_next_1 8 rfl rfl)
theorem dX7_next_34 : decode cX7_next 34 = .ok (.aload_n 0, 1) := dk_42 (dk_at dksX7_next_1 11 rfl rfl)
theorem dX7_next_35 : decode cX7_next 35 = .ok (.ldc 22, 2) := dk_18 22 (dk_at dksX7_next_1 12 rfl rfl)
theorem dX7_next_37 : decode cX7_next 37 = .ok (.putfield 24, 3) := dk_181 0 24 (dk_at dksX7_next_1 14 rfl rfl)
theorem dX7_next_40 : decode cX7_next 40 = .ok (.aload_n 0, 1) := dk_42 (dk_at dksX7_next_1 17 rfl rfl)
theorem dX7_next_41 : decode cX7_next 41 = .ok (.aload_n 0, 1) := dk_42 (dk_at dksX7_next_1 18 rfl rfl)
theorem dX7_next_42 : decode cX7_next 42 = .ok (.getfield 51, 3) := dk_180 0 51 (dk_at dksX7_next_1 19 rfl rfl)
theorem dX7_next_45 : decode cX7_next 45 = .ok (.invokevirtual 47, 3) := dk_182 0 47 (dk_at dksX7_next_2 0 rfl rfl)
theorem dX7_next_48 : decode cX7_next 48 = .ok (.istore_n 1, 1) := dk_60 (dk_at dksX7_next_2 3 rfl rfl)
theorem dX7_next_49 : decode cX7_next 49 = .ok (.iload_n 1, 1) := dk_27 (dk_at dksX7_next_2 4 rfl rfl)
theorem dX7_next_50 : decode cX7_next 50 = .ok (.iconst (-1), 1) := dk_2 (dk_at dksX7_next_2 5 rfl rfl)
theorem dX7_next_51 : decode cX7_next 51 = .ok (.if_icmp .ne 13, 3) := dk_160 0 13 (dk_at dksX7_next_2 6 rfl rfl)
theorem dX7_next_54 : decode cX7_next 54 = .ok (.aload_n 0, 1) := dk_42 (dk_at dksX7_next_2 9 rfl rfl)
theorem dX7_next_55 : decode cX7_next 55 = .ok (.getstatic 54, 3) := dk_178 0 54 (dk_at dksX7_next_2 10 rfl rfl)
theorem dX7_next_58 : decode cX7_next 58 = .ok (.putfield 35, 3) := dk_181 0 35 (dk_at dksX7_next_2 13 rfl rfl)
theorem dX7_next_61 : decode cX7_next 61 = .ok (.goto 211, 3) := dk_167 0 211 (dk_at dksX7_next_2 16 rfl rfl)
theorem dX7_next_64 : decode cX7_next 64 = .ok (.iload_n 1, 1) := dk_27 (dk_at dksX7_next_2 19 rfl rfl)
theorem dX7_next_65 : decode cX7_next 65 = .ok (.i2l, 1) := dk_133 (dk_at dksX7_next_2 20 rfl rfl)
theorem dX7_next_66 : decode cX7_next 66 = .ok (.ldc2_w 57, 3) := dk_20 0 57 (dk_at dksX7_next_2 21 rfl rfl)
theorem dX7_next_69 : decode cX7_next 69 = .ok (.ldc2_w 59, 3) := dk_20 0 59 (dk_at dksX7_next_3 0 rfl rfl)
theorem dX7_next_72 : decode cX7_next 72 = .ok (.invokestatic 61, 3) := dk_184 0 61 (dk_at dksX7_next_3 3 rfl rfl)
theorem dX7_next_75 : decode cX7_next 75 = .ok (.ifCond .eq 77, 3) := dk_153 0 77 (dk_at dksX7_next_3 6 rfl rfl)
theorem dX7_next_78 : decode cX7_next 78 = .ok (.aload_n 0, 1) := dk_42 (dk_at dksX7_next_3 9 rfl rfl)
theorem dX7_next_79 : decode cX7_next 79 = .ok (.getstatic 65, 3) := dk_178 0 65 (dk_at dksX7_next_3 10 rfl rfl)
theorem dX7_next_82 : decode cX7_next 82 = .ok (.putfield 35, 3) := dk_181 0 35 (dk_at dksX7_next_3 13 rfl rfl)
theorem dX7_next_85 : decode cX7_next 85 = .ok (.new 68, 3) := dk_187 0 68 (dk_at dksX7_next_3 16 rfl rfl)
theorem dX7_next_88 : decode cX7_next 88 = .ok (.dup, 1) := dk_89 (dk_at dksX7_next_3 19 rfl rfl)
theorem dX7_next_89 : decode cX7_next 89 = .ok (.invokespecial 70, 3) := dk_183 0 70 (dk_at dksX7_next_3 20 rfl rfl)
theorem dX7_next_92 : decode cX7_next 92 = .ok (.astore_n 2, 1) := dk_77 (dk_at dksX7_next_3 23 rfl rfl)
theorem dX7_next_93 : decode cX7_next 93 = .ok (.aload_n 0, 1) := dk_42 (dk_at dksX7_next_4 0 rfl rfl)
theorem dX7_next_94 : decode cX7_next 94 = .ok (.aload_n 0, 1) := dk_42 (dk_at dksX7_next_4 1 rfl rfl)
theorem dX7_next_95 : decode cX7_next 95 = .ok (.getfield 51, 3) := dk_180 0 51 (dk_at dksX7_next_4 2 rfl rfl)
theorem dX7_next_98 : decode cX7_next 98 = .ok (.invokevirtual 47, 3) := dk_182 0 47 (dk_at dksX7_next_4 5 rfl rfl)
theorem dX7_next_101 : decode cX7_next 101 = .ok (.i2l, 1) := dk_133 (dk_at dksX7_next_4 8 rfl rfl)
theorem dX7_next_102 : decode cX7_next 102 = .ok (.ldc2_w 57, 3) := dk_20 0 57 (dk_at dksX7_next_4 9 rfl rfl)
theorem dX7_next_105 : decode cX7_next 105 = .ok (.ldc2_w 59, 3) := dk_20 0 59 (dk_at dksX7_next_4 12 rfl rfl)
theorem dX7_next_108 : decode cX7_next 108 = .ok (.invokestatic 61, 3) := dk_184 0 61 (dk_at dksX7_next_4 15 rfl rfl)
theorem dX7_next_111 : decode cX7_next 111 = .ok (.ifCond .eq 30, 3) := dk_153 0 30 (dk_at dksX7_next_4 18 rfl rfl)
theorem dX7_next_114 : decode cX7_next 114 = .ok (.aload_n 2, 1) := dk_44 (dk_at dksX7_next_4 21 rfl rfl)
theorem dX7_next_115 : decode cX7_next 115 = .ok (.aload_n 0, 1) := dk_42 (dk_at dksX7_next_4 22 rfl rfl)
theorem dX7_next_116 : decode cX7_next 116 = .ok (.aload_n 0, 1) := dk_42 (dk_at dksX7_next_4 23 rfl rfl)
theorem dX7_next_117 : decode cX7_next 117 = .ok (.getfield 51, 3) := dk_180 0 51 (dk_at dksX7_next_5 0 rfl rfl)
theorem dX7_next_120 : decode cX7_next 120 = .ok (.invokevirtual 47, 3) := dk_182 0 47 (dk_at dksX7_next_5 3 rfl rfl)
theorem dX7_next_123 : decode cX7_next 123 = .ok (.i2c, 1) := dk_146 (dk_at dksX7_next_5 6 rfl rfl)
theorem dX7_next_124 : decode cX7_next 124 = .ok (.invokevirtual 71, 3) := dk_182 0 71 (dk_at dksX7_next_5 7 rfl rfl)
theorem dX7_next_127 : decode cX7_next 127 = .ok (.pop, 1) := dk_87 (dk_at dksX7_next_5 10 rfl rfl)
theorem dX7_next_128 : decode cX7_next 128 = .ok (.aload_n 0, 1) := dk_42 (dk_at dksX7_next_5 11 rfl rfl)
theorem dX7_next_129 : decode cX7_next 129 = .ok (.dup, 1) := dk_89 (dk_at dksX7_next_5 12 rfl rfl)
theorem dX7_next_130 : decode cX7_next 130 = .ok (.getfield 51, 3) := dk_180 0 51 (dk_at dksX7_next_5 13 rfl rfl)
theorem dX7_next_133 : decode cX7_next 133 = .ok (.iconst 1, 1) := dk_4 (dk_at dksX7_next_5 16 rfl rfl)
theorem dX7_next_134 : decode cX7_next 134 = .ok (.iadd, 1) := dk_96 (dk_at dksX7_next_5 17 rfl rfl)
theorem dX7_next_135 : decode cX7_next 135 = .ok (.putfield 51, 3) := dk_181 0 51 (dk_at dksX7_next_5 18 rfl rfl)
theorem dX7_next_138 : decode cX7_next 138 = .ok (.goto (-45), 3) := dk_167 255 211 (dk_at dksX7_next_5 21 rfl rfl)
theorem dX7_next_141 : decode cX7_next 141 = .ok (.aload_n 0, 1) := dk_42 (dk_at dksX7_next_6 0 rfl rfl)
theorem dX7_next_142 : decode cX7_next 142 = .ok (.aload_n 2, 1) := dk_44 (dk_at dksX7_next_6 1 rfl rfl)
theorem dX7_next_143 : decode cX7_next 143 = .ok (.invokevirtual 75, 3) := dk_182 0 75 (dk_at dksX7_next_6 2 rfl rfl)
theorem dX7_next_146 : decode cX7_next 146 = .ok (.putfield 24, 3) := dk_181 0 24 (dk_at dksX7_next_6 5 rfl rfl)
theorem dX7_next_149 : decode cX7_next 149 = .ok (.goto 123, 3) := dk_167 0 123 (dk_at dksX7_next_6 8 rfl rfl)
theorem dX7_next_152 : decode cX7_next 152 = .ok (.iload_n 1, 1) := dk_27 (dk_at dksX7_next_6 11 rfl rfl)
theorem dX7_next_153 : decode cX7_next 153 = .ok (.i2l, 1) := dk_133 (dk_at dksX7_next_6 12 rfl rfl)
theorem dX7_next_154 : decode cX7_next 154 = .ok (.ldc2_w 79, 3) := dk_20 0 79 (dk_at dksX7_next_6 13 rfl rfl)
theorem dX7_next_157 : decode cX7_next 157 = .ok (.ldc2_w 81, 3) := dk_20 0 81 (dk_at dksX7_next_6 16 rfl rfl)
theorem dX7_next_160 : decode cX7_next 160 = .ok (.invokestatic 61, 3) := dk_184 0 61 (dk_at dksX7_next_6 19 rfl rfl)
theorem dX7_next_163 : decode cX7_next 163 = .ok (.ifCond .eq 92, 3) := dk_153 0 92 (dk_at dksX7_next_7 0 rfl rfl)
theorem dX7_next_166 : decode cX7_next 166 = .ok (.aload_n 0, 1) := dk_42 (dk_at dksX7_next_7 3 rfl rfl)
theorem dX7_next_167 : decode cX7_next 167 = .ok (.getstatic 83, 3) := dk_178 0 83 (dk_at dksX7_next_7 4 rfl rfl)
theorem dX7_next_170 : decode cX7_next 170 = .ok (.putfield 35, 3) := dk_181 0 35 (dk_at dksX7_next_7 7 rfl rfl)
theorem dX7_next_173 : decode cX7_next 173 = .ok (.aload_n 0, 1) := dk_42 (dk_at dksX7_next_7 10 rfl rfl)
theorem dX7_next_174 : decode cX7_next 174 = .ok (.iconst 0, 1) := dk_3 (dk_at dksX7_next_7 11 rfl rfl)
theorem dX7_next_175 : decode cX7_next 175 = .ok (.putfield 86, 3) := dk_181 0 86 (dk_at dksX7_next_7 12 rfl rfl)
theorem dX7_next_178 : decode cX7_next 178 = .ok (.aload_n 0, 1) := dk_42 (dk_at dksX7_next_7 15 rfl rfl)
theorem dX7_next_179 : decode cX7_next 179 = .ok (.aload_n 0, 1) := dk_42 (dk_at dksX7_next_7 16 rfl rfl)
theorem dX7_next_180 : decode cX7_next 180 = .ok (.getfield 51, 3) := dk_180 0 51 (dk_at dksX7_next_7 17 rfl rfl)
theorem dX7_next_183 : decode cX7_next 183 = .ok (.invokevirtual 47, 3) := dk_182 0 47 (dk_at dksX7_next_7 20 rfl rfl)
theorem dX7_next_186 : decode cX7_next 186 = .ok (.i2l, 1) := dk_133 (dk_at dksX7_next_7 23 rfl rfl)
theorem dX7_next_187 : decode cX7_next 187 = .ok (.ldc2_w 79, 3) := dk_20 0 79 (dk_at dksX7_next_8 0 rfl rfl)
theorem dX7_next_190 : decode cX7_next 190 = .ok (.ldc2_w 81, 3) := dk_20 0 81 (dk_at dksX7_next_8 3 rfl rfl)
theorem dX7_next_193 : decode cX7_next 193 = .ok (.invokestatic 61, 3) := dk_184 0 61 (dk_at dksX7_next_8 6 rfl rfl)
theorem dX7_next_196 : decode cX7_next 196 = .ok (.ifCond .eq 76, 3) := dk_153 0 76 (dk_at dksX7_next_8 9 rfl rfl)
theorem dX7_next_199 : decode cX7_next 199 = .ok (.aload_n 0, 1) := dk_42 (dk_at dksX7_next_8 12 rfl rfl)
theorem dX7_next_200 : decode cX7_next 200 = .ok (.aload_n 0, 1) := dk_42 (dk_at dksX7_next_8 13 rfl rfl)
theorem dX7_next_201 : decode cX7_next 201 = .ok (.getfield 51, 3) := dk_180 0 51 (dk_at dksX7_next_8 14 rfl rfl)
theorem dX7_next_204 : decode cX7_next 204 = .ok (.aload_n 0, 1) := dk_42 (dk_at dksX7_next_8 17 rfl rfl)
theorem dX7_next_205 : decode cX7_next 205 = .ok (.getfield 44, 3) := dk_180 0 44 (dk_at dksX7_next_8 18 rfl rfl)
theorem dX7_next_208 : decode cX7_next 208 = .ok (.isub, 1) := dk_100 (dk_at dksX7_next_8 21 rfl rfl)
theorem dX7_next_209 : decode cX7_next 209 = .ok (.iconst 3, 1) := dk_6 (dk_at dksX7_next_8 22 rfl rfl)
theorem dX7_next_210 : decode cX7_next 210 = .ok (.if_icmp .ge 25, 3) := dk_162 0 25 (dk_at dksX7_next_9 0 rfl rfl)
theorem dX7_next_213 : decode cX7_next 213 = .ok (.bipush 10, 2) := dk_16 10 (dk_at dksX7_next_9 3 rfl rfl)
theorem dX7_next_215 : decode cX7_next 215 = .ok (.aload_n 0, 1) := dk_42 (dk_at dksX7_next_9 5 rfl rfl)
theorem dX7_next_216 : decode cX7_next 216 = .ok (.getfield 86, 3) := dk_180 0 86 (dk_at dksX7_next_9 6 rfl rfl)
theorem dX7_next_219 : decode cX7_next 219 = .ok (.imul, 1) := dk_104 (dk_at dksX7_next_9 9 rfl rfl)
theorem dX7_next_220 : decode cX7_next 220 = .ok (.aload_n 0, 1) := dk_42 (dk_at dksX7_next_9 10 rfl rfl)
theorem dX7_next_221 : decode cX7_next 221 = .ok (.aload_n 0, 1) := dk_42 (dk_at dksX7_next_9 11 rfl rfl)
theorem dX7_next_222 : decode cX7_next 222 = .ok (.getfield 51, 3) := dk_180 0 51 (dk_at dksX7_next_9 12 rfl rfl)
theorem dX7_next_225 : decode cX7_next 225 = .ok (.invokevirtual 47, 3) := dk_182 0 47 (dk_at dksX7_next_9 15 rfl rfl)
theorem dX7_next_228 : decode cX7_next 228 = .ok (.iadd, 1) := dk_96 (dk_at dksX7_next_9 18 rfl rfl)
theorem dX7_next_229 : decode cX7_next 229 = .ok (.bipush 48, 2) := dk_16 48 (dk_at dksX7_next_9 19 rfl rfl)
theorem dX7_next_231 : decode cX7_next 231 = .ok (.isub, 1) := dk_100 (dk_at dksX7_next_9 21 rfl rfl)
theorem dX7_next_232 : decode cX7_next 232 = .ok (.goto 7, 3) := dk_167 0 7 (dk_at dksX7_next_10 0 rfl rfl)
theorem dX7_next_235 : decode cX7_next 235 = .ok (.aload_n 0, 1) := dk_42 (dk_at dksX7_next_10 3 rfl rfl)
theorem dX7_next_236 : decode cX7_next 236 = .ok (.getfield 86, 3) := dk_180 0 86 (dk_at dksX7_next_10 4 rfl rfl)
theorem dX7_next_239 : decode cX7_next 239 = .ok (.putfield 86, 3) := dk_181 0 86 (dk_at dksX7_next_10 7 rfl rfl)
theorem dX7_next_242 : decode cX7_next 242 = .ok (.aload_n 0, 1) := dk_42 (dk_at dksX7_next_10 10 rfl rfl)
theorem dX7_next_243 : decode cX7_next 243 = .ok (.dup, 1) := dk_89 (dk_at dksX7_next_10 11 rfl rfl)
theorem dX7_next_244 : decode cX7_next 244 = .ok (.getfield 51, 3) := dk_180 0 51 (dk_at dksX7_next_10 12 rfl rfl)
theorem dX7_next_247 : decode cX7_next 247 = .ok (.iconst 1, 1) := dk_4 (dk_at dksX7_next_10 15 rfl rfl)
theorem dX7_next_248 : decode cX7_next 248 = .ok (.iadd, 1) := dk_96 (dk_at dksX7_next_10 16 rfl rfl)
theorem dX7_next_249 : decode cX7_next 249 = .ok (.putfield 51, 3) := dk_181 0 51 (dk_at dksX7_next_10 17 rfl rfl)
theorem dX7_next_252 : decode cX7_next 252 = .ok (.goto (-74), 3) := dk_167 255 182 (dk_at dksX7_next_10 20 rfl rfl)
theorem dX7_next_255 : decode cX7_next 255 = .ok (.aload_n 0, 1) := dk_42 (dk_at dksX7_next_10 23 rfl rfl)
theorem dX7_next_256 : decode cX7_next 256 = .ok (.getstatic 39, 3) := dk_178 0 39 (dk_at dksX7_next_11 0 rfl rfl)
theorem dX7_next_259 : decode cX7_next 259 = .ok (.putfield 35, 3) := dk_181 0 35 (dk_at dksX7_next_11 3 rfl rfl)
theorem dX7_next_262 : decode cX7_next 262 = .ok (.aload_n 0, 1) := dk_42 (dk_at dksX7_next_11 6 rfl rfl)
theorem dX7_next_263 : decode cX7_next 263 = .ok (.dup, 1) := dk_89 (dk_at dksX7_next_11 7 rfl rfl)
theorem dX7_next_264 : decode cX7_next 264 = .ok (.getfield 51, 3) := dk_180 0 51 (dk_at dksX7_next_11 8 rfl rfl)
theorem dX7_next_267 : decode cX7_next 267 = .ok (.iconst 1, 1) := dk_4 (dk_at dksX7_next_11 11 rfl rfl)
theorem dX7_next_268 : decode cX7_next 268 = .ok (.iadd, 1) := dk_96 (dk_at dksX7_next_11 12 rfl rfl)
theorem dX7_next_269 : decode cX7_next 269 = .ok (.putfield 51, 3) := dk_181 0 51 (dk_at dksX7_next_11 13 rfl rfl)
theorem dX7_next_272 : decode cX7_next 272 = .ok (.return_, 1) := dk_177 (dk_at dksX7_next_11 16 rfl rfl)
def dkwX7_see_1 : List UInt8 := [2, 172]
abbrev dktX7_see_1 : List UInt8 := dkwX7_see_1 ++ []
def dkwX7_see_0 : List UInt8 := [27, 42, 180, 0, 19, 162, 0, 19, 42, 180, 0, 3, 180, 0, 31, 27, 51, 17, 0, 255, 126, 167, 0, 4]
abbrev dktX7_see_0 : List UInt8 := dkwX7_see_0 ++ dktX7_see_1
theorem dksX7_see_0 : cX7_see.data.toList.drop 0 = dktX7_see_0 := by decide +kernel
theorem dksX7_see_1 : cX7_see.data.toList.drop 24 = dktX7_see_1 := dk_seg dksX7_see_0 24 rfl rfl
theorem dX7_see_0 : decode cX7_see 0 = .ok (.iload_n 1, 1) := dk_27 (dk_at dksX7_see_0 0 rfl rfl)
theorem dX7_see_1 : decode cX7_see 1 = .ok (.aload_n 0, 1) := dk_42 (dk_at dksX7_see_0 1 rfl rfl)
theorem dX7_see_2 : decode cX7_see 2 = .ok (.getfield 19, 3) := dk_180 0 19 (dk_at dksX7_see_0 2 rfl rfl)
theorem dX7_see_5 : decode cX7_see 5 = .ok (.if_icmp .ge 19, 3) := dk_162 0 19 (dk_at dksX7_see_0 5 rfl rfl)
theorem dX7_see_8 : decode cX7_see 8 = .ok (.aload_n 0, 1) := dk_42 (dk_at dksX7_see_0 8 rfl rfl)
theorem dX7_see_9 : decode cX7_see 9 = .ok (.getfield 3, 3) := dk_180 0 3 (dk_at dksX7_see_0 9 rfl rfl)
theorem dX7_see_12 : decode cX7_see 12 = .ok (.getfield 31, 3) := dk_180 0 31 (dk_at dksX7_see_0 12 rfl rfl)
theorem dX7_see_15 : decode cX7_see 15 = .ok (.iload_n 1, 1) := dk_27 (dk_at dksX7_see_0 15 rfl rfl)
theorem dX7_see_16 : decode cX7_see 16 = .ok (.baload, 1) := dk_51 (dk_at dksX7_see_0 16 rfl rfl)
theorem dX7_see_17 : decode cX7_see 17 = .ok (.sipush 255, 3) := dk_17 0 255 (dk_at dksX7_see_0 17 rfl rfl)
theorem dX7_see_20 : decode cX7_see 20 = .ok (.iand, 1) := dk_126 (dk_at dksX7_see_0 20 rfl rfl)
theorem dX7_see_21 : decode cX7_see 21 = .ok (.goto 4, 3) := dk_167 0 4 (dk_at dksX7_see_0 21 rfl rfl)
theorem dX7_see_24 : decode cX7_see 24 = .ok (.iconst (-1), 1) := dk_2 (dk_at dksX7_see_1 0 rfl rfl)
theorem dX7_see_25 : decode cX7_see 25 = .ok (.ireturn, 1) := dk_172 (dk_at dksX7_see_1 1 rfl rfl)
def dkwX7_description_7 : List UInt8 := [182, 0, 94, 25, 4, 176]
abbrev dktX7_description_7 : List UInt8 := dkwX7_description_7 ++ []
def dkwX7_description_6 : List UInt8 := [54, 5, 167, 255, 239, 42, 42, 180, 0, 35, 178, 0, 54, 166, 0, 7, 4, 167, 0, 4, 3, 4]
abbrev dktX7_description_6 : List UInt8 := dkwX7_description_6 ++ dktX7_description_7
def dkwX7_description_5 : List UInt8 := [182, 0, 106, 54, 5, 167, 255, 227, 21, 5, 153, 0, 18, 42, 25, 4, 182, 0, 156, 42, 182, 0, 106]
abbrev dktX7_description_5 : List UInt8 := dkwX7_description_5 ++ dktX7_description_6
def dkwX7_description_4 : List UInt8 := [21, 5, 153, 0, 30, 42, 180, 0, 24, 18, 154, 182, 0, 124, 153, 0, 18, 42, 25, 4, 182, 0, 151, 42]
abbrev dktX7_description_4 : List UInt8 := dkwX7_description_4 ++ dktX7_description_5
def dkwX7_description_3 : List UInt8 := [180, 0, 24, 18, 149, 182, 0, 124, 154, 255, 241, 42, 25, 4, 182, 0, 151, 42, 182, 0, 106, 54, 5]
abbrev dktX7_description_3 : List UInt8 := dkwX7_description_3 ++ dktX7_description_4
def dkwX7_description_2 : List UInt8 := [183, 0, 139, 58, 4, 42, 182, 0, 142, 42, 25, 4, 182, 0, 145, 42, 25, 4, 182, 0, 145, 42]
abbrev dktX7_description_2 : List UInt8 := dkwX7_description_2 ++ dktX7_description_3
def dkwX7_description_1 : List UInt8 := [42, 4, 16, 9, 182, 0, 134, 62, 187, 0, 137, 89, 27, 28, 29, 42, 3, 16, 9, 182, 0, 134]
abbrev dktX7_description_1 : List UInt8 := dkwX7_description_1 ++ dktX7_description_2
def dkwX7_description_0 : List UInt8 := [42, 18, 128, 3, 4, 182, 0, 130, 42, 6, 16, 10, 182, 0, 134, 60, 42, 6, 16, 8, 182, 0, 134, 61]
abbrev dktX7_description_0 : List UInt8 := dkwX7_description_0 ++ dktX7_description_1
theorem dksX7_description_0 : cX7_description.data.toList.drop 0 = dktX7_description_0 := by decide +kernel
theorem dksX7_description_1 : cX7_description.data.toList.drop 24 = dktX7_description_1 := dk_seg dksX7_description_0 24 rfl rfl
theorem dksX7_description_2 : cX7_description.data.toList.drop 46 = dktX7_description_2 := dk_seg dksX7_description_1 22 rfl rfl
theorem dksX7_description_3 : cX7_description.data.toList.drop 68 = dktX7_description_3 := dk_seg dksX7_description_2 22 rfl rfl
theorem dksX7_description_4 : cX7_description.data.toList.drop 91 = dktX7_description_4 := dk_seg dksX7_description_3 23 rfl rfl
theorem dksX7_description_5 : cX7_description.data.toList.drop 115 = dktX7_description_5 := dk_seg dksX7_description_4 24 rfl rfl
theorem dksX7_description_6 : cX7_description.data.toList.drop 138 = dktX7_description_6 := dk_seg dksX7_description_5 23 rfl rfl
theorem dksX7_description_7 : cX7_description.data.toList.drop 160 = dktX7_description_7 := dk_seg dksX7_description_6 22 rfl rfl
theorem dX7_description_0 : decode cX7_description 0 = .ok (.aload_n 0, 1) := dk_42 (dk_at dksX7_description_0 0 rfl rfl)
theorem dX7_description_1 : decode cX7_description 1 = .ok (.ldc 128, 2) := dk_18 128 (dk_at dksX7_description_0 1 rfl rfl)
theorem dX7_description_3 : decode cX7_description 3 = .ok (.iconst 0, 1) := dk_3 (dk_at dksX7_description_0 3 rfl rfl)
theorem dX7_description_4 : decode cX7_description 4 = .ok (.iconst 1, 1) := dk_4 (dk_at dksX7_description_0 4 rfl rfl)
theorem dX7_description_5 : decode cX7_description 5 = .ok (.invokevirtual 130, 3) := dk_182 0 130 (dk_at dksX7_description_0 5 rfl rfl)
theorem dX7_description_8 : decode cX7_description 8 = .ok (.aload_n 0, 1) := dk_42 (dk_at dksX7_description_0 8 rfl rfl)
theorem dX7_description_9 : decode cX7_description 9 = .ok (.iconst 3, 1) := dk_6 (dk_at dksX7_description_0 9 rfl rfl)
theorem dX7_description_10 : decode cX7_description 10 = .ok (.bipush 10, 2) := dk_16 10 (dk_at dksX7_description_0 10 rfl rfl)
theorem dX7_description_12 : decode cX7_description 12 = .ok (.invokevirtual 134, 3) := dk_182 0 134 (dk_at dksX7_description_0 12 rfl rfl)
theorem dX7_description_15 : decode cX7_description 15 = .ok (.istore_n 1, 1) := dk_60 (dk_at dksX7_description_0 15 rfl rfl)
theorem dX7_description_16 : decode cX7_description 16 = .ok (.aload_n 0, 1) := dk_42 (dk_at dksX7_description_0 16 rfl rfl)
theorem dX7_description_17 : decode cX7_description 17 = .ok (.iconst 3, 1) := dk_6 (dk_at dksX7_description_0 17 rfl rfl)
theorem dX7_description_18 : decode cX7_description 18 = .ok (.bipush 8, 2) := dk_16 8 (dk_at dksX7_description_0 18 rfl rfl)
theorem dX7_description_20 : decode cX7_description 20 = .ok (.invokevirtual 134, 3) := dk_182 0 134 (dk_at dksX7_description_0 20 rfl rfl)
theorem dX7_description_23 : decode cX7_description 23 = .ok (.istore_n 2, 1) := dk_61 (dk_at dksX7_description_0 23 rfl rfl)
theorem dX7_description_24 : decode cX7_description 24 = .ok (.aload_n 0, 1) := dk_42 (dk_at dksX7_description_1 0 rfl rfl)
theorem dX7_description_25 : decode cX7_description 25 = .ok (.iconst 1, 1) := dk_4 (dk_at dksX7_description_1 1 rfl rfl)
theorem dX7_description_26 : decode cX7_description 26 = .ok (.bipush 9, 2) := dk_16 9 (dk_at dksX7_description_1 2 rfl rfl)
theorem dX7_description_28 : decode cX7_description 28 = .ok (.invokevirtual 134, 3) := dk_182 0 134 (dk_at dksX7_description_1 4 rfl rfl)
theorem dX7_description_31 : decode cX7_description 31 = .ok (.istore_n 3, 1) := dk_62 (dk_at dksX7_description_1 7 rfl rfl)
theorem dX7_description_32 : decode cX7_description 32 = .ok (.new 137, 3) := dk_187 0 137 (dk_at dksX7_description_1 8 rfl rfl)
theorem dX7_description_35 : decode cX7_description 35 = .ok (.dup, 1) := dk_89 (dk_at dksX7_description_1 11 rfl rfl)
theorem dX7_description_36 : decode cX7_description 36 = .ok (.iload_n 1, 1) := dk_27 (dk_at dksX7_description_1 12 rfl rfl)
theorem dX7_description_37 : decode cX7_description 37 = .ok (.iload_n 2, 1) := dk_28 (dk_at dksX7_description_1 13 rfl rfl)
theorem dX7_description_38 : decode cX7_description 38 = .ok (.iload_n 3, 1) := dk_29 (dk_at dksX7_description_1 14 rfl rfl)
theorem dX7_description_39 : decode cX7_description 39 = .ok (.aload_n 0, 1) := dk_42 (dk_at dksX7_description_1 15 rfl rfl)
theorem dX7_description_40 : decode cX7_description 40 = .ok (.iconst 0, 1) := dk_3 (dk_at dksX7_description_1 16 rfl rfl)
theorem dX7_description_41 : decode cX7_description 41 = .ok (.bipush 9, 2) := dk_16 9 (dk_at dksX7_description_1 17 rfl rfl)
theorem dX7_description_43 : decode cX7_description 43 = .ok (.invokevirtual 134, 3) := dk_182 0 134 (dk_at dksX7_description_1 19 rfl rfl)
theorem dX7_description_46 : decode cX7_description 46 = .ok (.invokespecial 139, 3) := dk_183 0 139 (dk_at dksX7_description_2 0 rfl rfl)
theorem dX7_description_49 : decode cX7_description 49 = .ok (.astore 4, 2) := dk_58 4 (dk_at dksX7_description_2 3 rfl rfl)
theorem dX7_description_51 : decode cX7_description 51 = .ok (.aload_n 0, 1) := dk_42 (dk_at dksX7_description_2 5 rfl rfl)
theorem dX7_description_52 : decode cX7_description 52 = .ok (.invokevirtual 142, 3) := dk_182 0 142 (dk_at dksX7_description_2 6 rfl rfl)
theorem dX7_description_55 : decode cX7_description 55 = .ok (.aload_n 0, 1) := dk_42 (dk_at dksX7_description_2 9 rfl rfl)
theorem dX7_description_56 : decode cX7_description 56 = .ok (.aload 4, 2) := dk_25 4 (dk_at dksX7_description_2 10 rfl rfl)
theorem dX7_description_58 : decode cX7_description 58 = .ok (.invokevirtual 145, 3) := dk_182 0 145 (dk_at dksX7_description_2 12 rfl rfl)
theorem dX7_description_61 : decode cX7_description 61 = .ok (.aload_n 0, 1) := dk_42 (dk_at dksX7_description_2 15 rfl rfl)
theorem dX7_description_62 : decode cX7_description 62 = .ok (.aload 4, 2) := dk_25 4 (dk_at dksX7_description_2 16 rfl rfl)
theorem dX7_description_64 : decode cX7_description 64 = .ok (.invokevirtual 145, 3) := dk_182 0 145 (dk_at dksX7_description_2 18 rfl rfl)
theorem dX7_description_67 : decode cX7_description 67 = .ok (.aload_n 0, 1) := dk_42 (dk_at dksX7_description_2 21 rfl rfl)
theorem dX7_description_68 : decode cX7_description 68 = .ok (.getfield 24, 3) := dk_180 0 24 (dk_at dksX7_description_3 0 rfl rfl)
theorem dX7_description_71 : decode cX7_description 71 = .ok (.ldc 149, 2) := dk_18 149 (dk_at dksX7_description_3 3 rfl rfl)
theorem dX7_description_73 : decode cX7_description 73 = .ok (.invokevirtual 124, 3) := dk_182 0 124 (dk_at dksX7_description_3 5 rfl rfl)
theorem dX7_description_76 : decode cX7_description 76 = .ok (.ifCond .ne (-15), 3) := dk_154 255 241 (dk_at dksX7_description_3 8 rfl rfl)
theorem dX7_description_79 : decode cX7_description 79 = .ok (.aload_n 0, 1) := dk_42 (dk_at dksX7_description_3 11 rfl rfl)
theorem dX7_description_80 : decode cX7_description 80 = .ok (.aload 4, 2) := dk_25 4 (dk_at dksX7_description_3 12 rfl rfl)
theorem dX7_description_82 : decode cX7_description 82 = .ok (.invokevirtual 151, 3) := dk_182 0 151 (dk_at dksX7_description_3 14 rfl rfl)
theorem dX7_description_85 : decode cX7_description 85 = .ok (.aload_n 0, 1) := dk_42 (dk_at dksX7_description_3 17 rfl rfl)
theorem dX7_description_86 : decode cX7_description 86 = .ok (.invokevirtual 106, 3) := dk_182 0 106 (dk_at dksX7_description_3 18 rfl rfl)
theorem dX7_description_89 : decode cX7_description 89 = .ok (.istore 5, 2) := dk_54 5 (dk_at dksX7_description_3 21 rfl rfl)
theorem dX7_description_91 : decode cX7_description 91 = .ok (.iload 5, 2) := dk_21 5 (dk_at dksX7_description_4 0 rfl rfl)
theorem dX7_description_93 : decode cX7_description 93 = .ok (.ifCond .eq 30, 3) := dk_153 0 30 (dk_at dksX7_description_4 2 rfl rfl)
theorem dX7_description_96 : decode cX7_description 96 = .ok (.aload_n 0, 1) := dk_42 (dk_at dksX7_description_4 5 rfl rfl)
theorem dX7_description_97 : decode cX7_description 97 = .ok (.getfield 24, 3) := dk_180 0 24 (dk_at dksX7_description_4 6 rfl rfl)
theorem dX7_description_100 : decode cX7_description 100 = .ok (.ldc 154, 2) := dk_18 154 (dk_at dksX7_description_4 9 rfl rfl)
theorem dX7_description_102 : decode cX7_description 102 = .ok (.invokevirtual 124, 3) := dk_182 0 124 (dk_at dksX7_description_4 11 rfl rfl)
theorem dX7_description_105 : decode cX7_description 105 = .ok (.ifCond .eq 18, 3) := dk_153 0 18 (dk_at dksX7_description_4 14 rfl rfl)
theorem dX7_description_108 : decode cX7_description 108 = .ok (.aload_n 0, 1) := dk_42 (dk_at dksX7_description_4 17 rfl rfl)
theorem dX7_description_109 : decode cX7_description 109 = .ok (.aload 4, 2) := dk_25 4 (dk_at dksX7_description_4 18 rfl rfl)
theorem dX7_description_111 : decode cX7_description 111 = .ok (.invokevirtual 151, 3) := dk_182 0 151 (dk_at dksX7_description_4 20 rfl rfl)
theorem dX7_description_114 : decode cX7_description 114 = .ok (.aload_n 0, 1) := dk_42 (dk_at dksX7_description_4 23 rfl rfl)
theorem dX7_description_115 : decode cX7_description 115 = .ok (.invokevirtual 106, 3) := dk_182 0 106 (dk_at dksX7_description_5 0 rfl rfl)
theorem dX7_description_118 : decode cX7_description 118 = .ok (.istore 5, 2) := dk_54 5 (dk_at dksX7_description_5 3 rfl rfl)
theorem dX7_description_120 : decode cX7_description 120 = .ok (.goto (-29), 3) := dk_167 255 227 (dk_at dksX7_description_5 5 rfl rfl)
theorem dX7_description_123 : decode cX7_description 123 = .ok (.iload 5, 2) := dk_21 5 (dk_at dksX7_description_5 8 rfl rfl)
theorem dX7_description_125 : decode cX7_description 125 = .ok (.ifCond .eq 18, 3) := dk_153 0 18 (dk_at dksX7_description_5 10 rfl rfl)
theorem dX7_description_128 : decode cX7_description 128 = .ok (.aload_n 0, 1) := dk_42 (dk_at dksX7_description_5 13 rfl rfl)
theorem dX7_description_129 : decode cX7_description 129 = .ok (.aload 4, 2) := dk_25 4 (dk_at dksX7_description_5 14 rfl rfl)
theorem dX7_description_131 : decode cX7_description 131 = .ok (.invokevirtual 156, 3) := dk_182 0 156 (dk_at dksX7_description_5 16 rfl rfl)
theorem dX7_description_134 : decode cX7_description 134 = .ok (.aload_n 0, 1) := dk_42 (dk_at dksX7_description_5 19 rfl rfl)
theorem dX7_description_135 : decode cX7_description 135 = .ok (.invokevirtual 106, 3) := dk_182 0 106 (dk_at dksX7_description_5 20 rfl rfl)
theorem dX7_description_138 : decode cX7_description 138 = .ok (.istore 5, 2) := dk_54 5 (dk_at dksX7_description_6 0 rfl rfl)
theorem dX7_description_140 : decode cX7_description 140 = .ok (.goto (-17), 3) := dk_167 255 239 (dk_at dksX7_description_6 2 rfl rfl)
theorem dX7_description_143 : decode cX7_description 143 = .ok (.aload_n 0, 1) := dk_42 (dk_at dksX7_description_6 5 rfl rfl)
theorem dX7_description_144 : decode cX7_description 144 = .ok (.aload_n 0, 1) := dk_42 (dk_at dksX7_description_6 6 rfl rfl)
theorem dX7_description_145 : decode cX7_description 145 = .ok (.getfield 35, 3) := dk_180 0 35 (dk_at dksX7_description_6 7 rfl rfl)
theorem dX7_description_148 : decode cX7_description 148 = .ok (.getstatic 54, 3) := dk_178 0 54 (dk_at dksX7_description_6 10 rfl rfl)
theorem dX7_description_151 : decode cX7_description 151 = .ok (.if_acmp .ne 7, 3) := dk_166 0 7 (dk_at dksX7_description_6 13 rfl rfl)
theorem dX7_description_154 : decode cX7_description 154 = .ok (.iconst 1, 1) := dk_4 (dk_at dksX7_description_6 16 rfl rfl)
theorem dX7_description_155 : decode cX7_description 155 = .ok (.goto 4, 3) := dk_167 0 4 (dk_at dksX7_description_6 17 rfl rfl)
theorem dX7_description_158 : decode cX7_description 158 = .ok (.iconst 0, 1) := dk_3 (dk_at dksX7_description_6 20 rfl rfl)
theorem dX7_description_159 : decode cX7_description 159 = .ok (.iconst 1, 1) := dk_4 (dk_at dksX7_description_6 21 rfl rfl)
theorem dX7_description_160 : decode cX7_description 160 = .ok (.invokevirtual 94, 3) := dk_182 0 94 (dk_at dksX7_description_7 0 rfl rfl)
theorem dX7_description_163 : decode cX7_description 163 = .ok (.aload 4, 2) := dk_25 4 (dk_at dksX7_description_7 3 rfl rfl)
theorem dX7_description_165 : decode cX7_description 165 = .ok (.areturn, 1) := dk_176 (dk_at dksX7_description_7 5 rfl rfl)
def dkwX7_opens_1 : List UInt8 := [7, 182, 0, 94, 42, 182, 0, 28, 177]
abbrev dktX7_opens_1 : List UInt8 := dkwX7_opens_1 ++ []
def dkwX7_opens_0 : List UInt8 := [42, 42, 180, 0, 24, 43, 182, 0, 124, 4, 182, 0, 94, 42, 28, 29, 162, 0, 7, 4, 167, 0, 4, 3]
abbrev dktX7_opens_0 : List UInt8 := dkwX7_opens_0 ++ dktX7_opens_1
theorem dksX7_opens_0 : cX7_opens.data.toList.drop 0 = dktX7_opens_0 := by decide +kernel
theorem dksX7_opens_1 : cX7_opens.data.toList.drop 24 = dktX7_opens_1 := dk_seg dksX7_opens_0 24 rfl rfl
theorem dX7_opens_0 : decode cX7_opens 0 = .ok (.aload_n 0, 1) := dk_42 (dk_at dksX7_opens_0 0 rfl rfl)
theorem dX7_opens_1 : decode cX7_opens 1 = .ok (.aload_n 0, 1) := dk_42 (dk_at dksX7_opens_0 1 rfl rfl)
theorem dX7_opens_2 : decode cX7_opens 2 = .ok (.getfield 24, 3) := dk_180 0 24 (dk_at dksX7_opens_0 2 rfl rfl)
theorem dX7_opens_5 : decode cX7_opens 5 = .ok (.aload_n 1, 1) := dk_43 (dk_at dksX7_opens_0 5 rfl rfl)
theorem dX7_opens_6 : decode cX7_opens 6 = .ok (.invokevirtual 124, 3) := dk_182 0 124 (dk_at dksX7_opens_0 6 rfl rfl)
theorem dX7_opens_9 : decode cX7_opens 9 = .ok (.iconst 1, 1) := dk_4 (dk_at dksX7_opens_0 9 rfl rfl)
theorem dX7_opens_10 : decode cX7_opens 10 = .ok (.invokevirtual 94, 3) := dk_182 0 94 (dk_at dksX7_opens_0 10 rfl rfl)
theorem dX7_opens_13 : decode cX7_opens 13 = .ok (.aload_n 0, 1) := dk_42 (dk_at dksX7_opens_0 13 rfl rfl)
theorem dX7_opens_14 : decode cX7_opens 14 = .ok (.iload_n 2, 1) := dk_28 (dk_at dksX7_opens_0 14 rfl rfl)
theorem dX7_opens_15 : decode cX7_opens 15 = .ok (.iload_n 3, 1) := dk_29 (dk_at dksX7_opens_0 15 rfl rfl)
theorem dX7_opens_16 : decode cX7_opens 16 = .ok (.if_icmp .ge 7, 3) := dk_162 0 7 (dk_at dksX7_opens_0 16 rfl rfl)
theorem dX7_opens_19 : decode cX7_opens 19 = .ok (.iconst 1, 1) := dk_4 (dk_at dksX7_opens_0 19 rfl rfl)
theorem dX7_opens_20 : decode cX7_opens 20 = .ok (.goto 4, 3) := dk_167 0 4 (dk_at dksX7_opens_0 20 rfl rfl)
theorem dX7_opens_23 : decode cX7_opens 23 = .ok (.iconst 0, 1) := dk_3 (dk_at dksX7_opens_0 23 rfl rfl)
theorem dX7_opens_24 : decode cX7_opens 24 = .ok (.iconst 4, 1) := dk_7 (dk_at dksX7_opens_1 0 rfl rfl)
theorem dX7_opens_25 : decode cX7_opens 25 = .ok (.invokevirtual 94, 3) := dk_182 0 94 (dk_at dksX7_opens_1 1 rfl rfl)
theorem dX7_opens_28 : decode cX7_opens 28 = .ok (.aload_n 0, 1) := dk_42 (dk_at dksX7_opens_1 4 rfl rfl)
theorem dX7_opens_29 : decode cX7_opens 29 = .ok (.invokevirtual 28, 3) := dk_182 0 28 (dk_at dksX7_opens_1 5 rfl rfl)
theorem dX7_opens_32 : decode cX7_opens 32 = .ok (.return_, 1) := dk_177 (dk_at dksX7_opens_1 8 rfl rfl)
def dkwX7_need_0 : List UInt8 := [27, 154, 0, 16, 187, 0, 89, 89, 28, 42, 180, 0, 44, 183, 0, 91, 191, 177]
abbrev dktX7_need_0 : List UInt8 := dkwX7_need_0 ++ []
theorem dksX7_need_0 : cX7_need.data.toList.drop 0 = dktX7_need_0 := by decide +kernel
theorem dX7_need_0 : decode cX7_need 0 = .ok (.iload_n 1, 1) := dk_27 (dk_at dksX7_need_0 0 rfl rfl)
theorem dX7_need_1 : decode cX7_need 1 = .ok (.ifCond .ne 16, 3) := dk_154 0 16 (dk_at dksX7_need_0 1 rfl rfl)
theorem dX7_need_4 : decode cX7_need 4 = .ok (.new 89, 3) := dk_187 0 89 (dk_at dksX7_need_0 4 rfl rfl)
theorem dX7_need_7 : decode cX7_need 7 = .ok (.dup, 1) := dk_89 (dk_at dksX7_need_0 7 rfl rfl)
theorem dX7_need_8 : decode cX7_need 8 = .ok (.iload_n 2, 1) := dk_28 (dk_at dksX7_need_0 8 rfl rfl)
theorem dX7_need_9 : decode cX7_need 9 = .ok (.aload_n 0, 1) := dk_42 (dk_at dksX7_need_0 9 rfl rfl)
theorem dX7_need_10 : decode cX7_need 10 = .ok (.getfield 44, 3) := dk_180 0 44 (dk_at dksX7_need_0 10 rfl rfl)
theorem dX7_need_13 : decode cX7_need 13 = .ok (.invokespecial 91, 3) := dk_183 0 91 (dk_at dksX7_need_0 13 rfl rfl)
theorem dX7_need_16 : decode cX7_need 16 = .ok (.athrow, 1) := dk_191 (dk_at dksX7_need_0 16 rfl rfl)
theorem dX7_need_17 : decode cX7_need 17 = .ok (.return_, 1) := dk_177 (dk_at dksX7_need_0 17 rfl rfl)
def dkwX7_number_0 : List UInt8 := [42, 27, 28, 182, 0, 98, 62, 42, 182, 0, 28, 29, 172]
abbrev dktX7_number_0 : List UInt8 := dkwX7_number_0 ++ []
theorem dksX7_number_0 : cX7_number.data.toList.drop 0 = dktX7_number_0 := by decide +kernel
theorem dX7_number_0 : decode cX7_number 0 = .ok (.aload_n 0, 1) := dk_42 (dk_at dksX7_number_0 0 rfl rfl)
theorem dX7_number_1 : decode cX7_number 1 = .ok (.iload_n 1, 1) := dk_27 (dk_at dksX7_number_0 1 rfl rfl)
theorem dX7_number_2 : decode cX7_number 2 = .ok (.iload_n 2, 1) := dk_28 (dk_at dksX7_number_0 2 rfl rfl)
theorem dX7_number_3 : decode cX7_number 3 = .ok (.invokevirtual 98, 3) := dk_182 0 98 (dk_at dksX7_number_0 3 rfl rfl)
theorem dX7_number_6 : decode cX7_number 6 = .ok (.istore_n 3, 1) := dk_62 (dk_at dksX7_number_0 6 rfl rfl)
theorem dX7_number_7 : decode cX7_number 7 = .ok (.aload_n 0, 1) := dk_42 (dk_at dksX7_number_0 7 rfl rfl)
theorem dX7_number_8 : decode cX7_number 8 = .ok (.invokevirtual 28, 3) := dk_182 0 28 (dk_at dksX7_number_0 8 rfl rfl)
theorem dX7_number_11 : decode cX7_number 11 = .ok (.iload_n 3, 1) := dk_29 (dk_at dksX7_number_0 11 rfl rfl)
theorem dX7_number_12 : decode cX7_number 12 = .ok (.ireturn, 1) := dk_172 (dk_at dksX7_number_0 12 rfl rfl)
def dkwX7_seen_2 : List UInt8 := [182, 0, 94, 42, 180, 0, 86, 172]
abbrev dktX7_seen_2 : List UInt8 := dkwX7_seen_2 ++ []
def dkwX7_seen_1 : List UInt8 := [4, 167, 0, 4, 3, 4, 182, 0, 94, 42, 42, 180, 0, 86, 133, 27, 133, 28, 133, 184, 0, 61, 5]
abbrev dktX7_seen_1 : List UInt8 := dkwX7_seen_1 ++ dktX7_seen_2
def dkwX7_seen_0 : List UInt8 := [42, 42, 180, 0, 35, 178, 0, 83, 166, 0, 20, 42, 180, 0, 51, 42, 180, 0, 44, 100, 6, 163, 0, 7]
abbrev dktX7_seen_0 : List UInt8 := dkwX7_seen_0 ++ dktX7_seen_1
theorem dksX7_seen_0 : cX7_seen.data.toList.drop 0 = dktX7_seen_0 := by decide +kernel
theorem dksX7_seen_1 : cX7_seen.data.toList.drop 24 = dktX7_seen_1 := dk_seg dksX7_seen_0 24 rfl rfl
theorem dksX7_seen_2 : cX7_seen.data.toList.drop 47 = dktX7_seen_2 := dk_seg dksX7_seen_1 23 rfl rfl
theorem dX7_seen_0 : decode cX7_seen 0 = .ok (.aload_n 0, 1) := dk_42 (dk_at dksX7_seen_0 0 rfl rfl)
theorem dX7_seen_1 : decode cX7_seen 1 = .ok (.aload_n 0, 1) := dk_42 (dk_at dksX7_seen_0 1 rfl rfl)
theorem dX7_seen_2 : decode cX7_seen 2 = .ok (.getfield 35, 3) := dk_180 0 35 (dk_at dksX7_seen_0 2 rfl rfl)
theorem dX7_seen_5 : decode cX7_seen 5 = .ok (.getstatic 83, 3) := dk_178 0 83 (dk_at dksX7_seen_0 5 rfl rfl)
theorem dX7_seen_8 : decode cX7_seen 8 = .ok (.if_acmp .ne 20, 3) := dk_166 0 20 (dk_at dksX7_seen_0 8 rfl rfl)
theorem dX7_seen_11 : decode cX7_seen 11 = .ok (.aload_n 0, 1) := dk_42 (dk_at dksX7_seen_0 11 rfl rfl)
theorem dX7_seen_12 : decode cX7_seen 12 = .ok (.getfield 51, 3) := dk_180 0 51 (dk_at dksX7_seen_0 12 rfl rfl)
theorem dX7_seen_15 : decode cX7_seen 15 = .ok (.aload_n 0, 1) := dk_42 (dk_at dksX7_seen_0 15 rfl rfl)
theorem dX7_seen_16 : decode cX7_seen 16 = .ok (.getfield 44, 3) := dk_180 0 44 (dk_at dksX7_seen_0 16 rfl rfl)
theorem dX7_seen_19 : decode cX7_seen 19 = .ok (.isub, 1) := dk_100 (dk_at dksX7_seen_0 19 rfl rfl)
theorem dX7_seen_20 : decode cX7_seen 20 = .ok (.iconst 3, 1) := dk_6 (dk_at dksX7_seen_0 20 rfl rfl)
theorem dX7_seen_21 : decode cX7_seen 21 = .ok (.if_icmp .gt 7, 3) := dk_163 0 7 (dk_at dksX7_seen_0 21 rfl rfl)
theorem dX7_seen_24 : decode cX7_seen 24 = .ok (.iconst 1, 1) := dk_4 (dk_at dksX7_seen_1 0 rfl rfl)
theorem dX7_seen_25 : decode cX7_seen 25 = .ok (.goto 4, 3) := dk_167 0 4 (dk_at dksX7_seen_1 1 rfl rfl)
theorem dX7_seen_28 : decode cX7_seen 28 = .ok (.iconst 0, 1) := dk_3 (dk_at dksX7_seen_1 4 rfl rfl)
theorem dX7_seen_29 : decode cX7_seen 29 = .ok (.iconst 1, 1) := dk_4 (dk_at dksX7_seen_1 5 rfl rfl)
theorem dX7_seen_30 : decode cX7_seen 30 = .ok (.invokevirtual 94, 3) := dk_182 0 94 (dk_at dksX7_seen_1 6 rfl rfl)
theorem dX7_seen_33 : decode cX7_seen 33 = .ok (.aload_n 0, 1) := dk_42 (dk_at dksX7_seen_1 9 rfl rfl)
theorem dX7_seen_34 : decode cX7_seen 34 = .ok (.aload_n 0, 1) := dk_42 (dk_at dksX7_seen_1 10 rfl rfl)
theorem dX7_seen_35 : decode cX7_seen 35 = .ok (.getfield 86, 3) := dk_180 0 86 (dk_at dksX7_seen_1 11 rfl rfl)
theorem dX7_seen_38 : decode cX7_seen 38 = .ok (.i2l, 1) := dk_133 (dk_at dksX7_seen_1 14 rfl rfl)
theorem dX7_seen_39 : decode cX7_seen 39 = .ok (.iload_n 1, 1) := dk_27 (dk_at dksX7_seen_1 15 rfl rfl)
theorem dX7_seen_40 : decode cX7_seen 40 = .ok (.i2l, 1) := dk_133 (dk_at dksX7_seen_1 16 rfl rfl)
theorem dX7_seen_41 : decode cX7_seen 41 = .ok (.iload_n 2, 1) := dk_28 (dk_at dksX7_seen_1 17 rfl rfl)
theorem dX7_seen_42 : decode cX7_seen 42 = .ok (.i2l, 1) := dk_133 (dk_at dksX7_seen_1 18 rfl rfl)
theorem dX7_seen_43 : decode cX7_seen 43 = .ok (.invokestatic 61, 3) := dk_184 0 61 (dk_at dksX7_seen_1 19 rfl rfl)
theorem dX7_seen_46 : decode cX7_seen 46 = .ok (.iconst 2, 1) := dk_5 (dk_at dksX7_seen_1 22 rfl rfl)
theorem dX7_seen_47 : decode cX7_seen 47 = .ok (.invokevirtual 94, 3) := dk_182 0 94 (dk_at dksX7_seen_2 0 rfl rfl)
theorem dX7_seen_50 : decode cX7_seen 50 = .ok (.aload_n 0, 1) := dk_42 (dk_at dksX7_seen_2 3 rfl rfl)
theorem dX7_seen_51 : decode cX7_seen 51 = .ok (.getfield 86, 3) := dk_180 0 86 (dk_at dksX7_seen_2 4 rfl rfl)
theorem dX7_seen_54 : decode cX7_seen 54 = .ok (.ireturn, 1) := dk_172 (dk_at dksX7_seen_2 7 rfl rfl)
def dkwX7_sign_0 : List UInt8 := [42, 42, 182, 0, 106, 4, 182, 0, 94, 177]
abbrev dktX7_sign_0 : List UInt8 := dkwX7_sign_0 ++ []
theorem dksX7_sign_0 : cX7_sign.data.toList.drop 0 = dktX7_sign_0 := by decide +kernel
theorem dX7_sign_0 : decode cX7_sign 0 = .ok (.aload_n 0, 1) := dk_42 (dk_at dksX7_sign_0 0 rfl rfl)
theorem dX7_sign_1 : decode cX7_sign 1 = .ok (.aload_n 0, 1) := dk_42 (dk_at dksX7_sign_0 1 rfl rfl)
theorem dX7_sign_2 : decode cX7_sign 2 = .ok (.invokevirtual 106, 3) := dk_182 0 106 (dk_at dksX7_sign_0 2 rfl rfl)
theorem dX7_sign_5 : decode cX7_sign 5 = .ok (.iconst 1, 1) := dk_4 (dk_at dksX7_sign_0 5 rfl rfl)
theorem dX7_sign_6 : decode cX7_sign 6 = .ok (.invokevirtual 94, 3) := dk_182 0 94 (dk_at dksX7_sign_0 6 rfl rfl)
theorem dX7_sign_9 : decode cX7_sign 9 = .ok (.return_, 1) := dk_177 (dk_at dksX7_sign_0 9 rfl rfl)
def dkwX7_goesOn_0 : List UInt8 := [42, 16, 59, 182, 0, 102, 60, 27, 153, 0, 7, 42, 182, 0, 28, 27, 172]
abbrev dktX7_goesOn_0 : List UInt8 := dkwX7_goesOn_0 ++ []
theorem dksX7_goesOn_0 : cX7_goesOn.data.toList.drop 0 = dktX7_goesOn_0 := by decide +kernel
theorem dX7_goesOn_0 : decode cX7_goesOn 0 = .ok (.aload_n 0, 1) := dk_42 (dk_at dksX7_goesOn_0 0 rfl rfl)
theorem dX7_goesOn_1 : decode cX7_goesOn 1 = .ok (.bipush 59, 2) := dk_16 59 (dk_at dksX7_goesOn_0 1 rfl rfl)
theorem dX7_goesOn_3 : decode cX7_goesOn 3 = .ok (.invokevirtual 102, 3) := dk_182 0 102 (dk_at dksX7_goesOn_0 3 rfl rfl)
theorem dX7_goesOn_6 : decode cX7_goesOn 6 = .ok (.istore_n 1, 1) := dk_60 (dk_at dksX7_goesOn_0 6 rfl rfl)
theorem dX7_goesOn_7 : decode cX7_goesOn 7 = .ok (.iload_n 1, 1) := dk_27 (dk_at dksX7_goesOn_0 7 rfl rfl)
theorem dX7_goesOn_8 : decode cX7_goesOn 8 = .ok (.ifCond .eq 7, 3) := dk_153 0 7 (dk_at dksX7_goesOn_0 8 rfl rfl)
theorem dX7_goesOn_11 : decode cX7_goesOn 11 = .ok (.aload_n 0, 1) := dk_42 (dk_at dksX7_goesOn_0 11 rfl rfl)
theorem dX7_goesOn_12 : decode cX7_goesOn 12 = .ok (.invokevirtual 28, 3) := dk_182 0 28 (dk_at dksX7_goesOn_0 12 rfl rfl)
theorem dX7_goesOn_15 : decode cX7_goesOn 15 = .ok (.iload_n 1, 1) := dk_27 (dk_at dksX7_goesOn_0 15 rfl rfl)
theorem dX7_goesOn_16 : decode cX7_goesOn 16 = .ok (.ireturn, 1) := dk_172 (dk_at dksX7_goesOn_0 16 rfl rfl)
def dkwX7_isSign_1 : List UInt8 := [167, 0, 4, 3, 172]
abbrev dktX7_isSign_1 : List UInt8 := dkwX7_isSign_1 ++ []
def dkwX7_isSign_0 : List UInt8 := [42, 180, 0, 35, 178, 0, 39, 166, 0, 19, 42, 42, 180, 0, 44, 182, 0, 47, 27, 160, 0, 7, 4]
abbrev dktX7_isSign_0 : List UInt8 := dkwX7_isSign_0 ++ dktX7_isSign_1
theorem dksX7_isSign_0 : cX7_isSign.data.toList.drop 0 = dktX7_isSign_0 := by decide +kernel
theorem dksX7_isSign_1 : cX7_isSign.data.toList.drop 23 = dktX7_isSign_1 := dk_seg dksX7_isSign_0 23 rfl rfl
theorem dX7_isSign_0 : decode cX7_isSign 0 = .ok (.aload_n 0, 1) := dk_42 (dk_at dksX7_isSign_0 0 rfl rfl)
theorem dX7_isSign_1 : decode cX7_isSign 1 = .ok (.getfield 35, 3) := dk_180 0 35 (dk_at dksX7_isSign_0 1 rfl rfl)
theorem dX7_isSign_4 : decode cX7_isSign 4 = .ok (.getstatic 39, 3) := dk_178 0 39 (dk_at dksX7_isSign_0 4 rfl rfl)
theorem dX7_isSign_7 : decode cX7_isSign 7 = .ok (.if_acmp .ne 19, 3) := dk_166 0 19 (dk_at dksX7_isSign_0 7 rfl rfl)
theorem dX7_isSign_10 : decode cX7_isSign 10 = .ok (.aload_n 0, 1) := dk_42 (dk_at dksX7_isSign_0 10 rfl rfl)
theorem dX7_isSign_11 : decode cX7_isSign 11 = .ok (.aload_n 0, 1) := dk_42 (dk_at dksX7_isSign_0 11 rfl rfl)
theorem dX7_isSign_12 : decode cX7_isSign 12 = .ok (.getfield 44, 3) := dk_180 0 44 (dk_at dksX7_isSign_0 12 rfl rfl)
theorem dX7_isSign_15 : decode cX7_isSign 15 = .ok (.invokevirtual 47, 3) := dk_182 0 47 (dk_at dksX7_isSign_0 15 rfl rfl)
theorem dX7_isSign_18 : decode cX7_isSign 18 = .ok (.iload_n 1, 1) := dk_27 (dk_at dksX7_isSign_0 18 rfl rfl)
theorem dX7_isSign_19 : decode cX7_isSign 19 = .ok (.if_icmp .ne 7, 3) := dk_160 0 7 (dk_at dksX7_isSign_0 19 rfl rfl)
theorem dX7_isSign_22 : decode cX7_isSign 22 = .ok (.iconst 1, 1) := dk_4 (dk_at dksX7_isSign_0 22 rfl rfl)
theorem dX7_isSign_23 : decode cX7_isSign 23 = .ok (.goto 4, 3) := dk_167 0 4 (dk_at dksX7_isSign_1 0 rfl rfl)
theorem dX7_isSign_26 : decode cX7_isSign 26 = .ok (.iconst 0, 1) := dk_3 (dk_at dksX7_isSign_1 3 rfl rfl)
theorem dX7_isSign_27 : decode cX7_isSign 27 = .ok (.ireturn, 1) := dk_172 (dk_at dksX7_isSign_1 4 rfl rfl)
def dkwX7_newGate_2 : List UInt8 := [182, 0, 182, 42, 182, 0, 142, 177]
abbrev dktX7_newGate_2 : List UInt8 := dkwX7_newGate_2 ++ []
def dkwX7_newGate_1 : List UInt8 := [42, 43, 182, 0, 175, 62, 42, 43, 29, 182, 0, 179, 6, 182, 0, 94, 42, 182, 0, 28, 43, 44, 29]
abbrev dktX7_newGate_1 : List UInt8 := dkwX7_newGate_1 ++ dktX7_newGate_2
def dkwX7_newGate_0 : List UInt8 := [42, 18, 149, 43, 180, 0, 165, 182, 0, 169, 16, 6, 182, 0, 130, 42, 43, 180, 0, 165, 182, 0, 171, 77]
abbrev dktX7_newGate_0 : List UInt8 := dkwX7_newGate_0 ++ dktX7_newGate_1
theorem dksX7_newGate_0 : cX7_newGate.data.toList.drop 0 = dktX7_newGate_0 := by decide +kernel
theorem dksX7_newGate_1 : cX7_newGate.data.toList.drop 24 = dktX7_newGate_1 := dk_seg dksX7_newGate_0 24 rfl rfl
theorem dksX7_newGate_2 : cX7_newGate.data.toList.drop 47 = dktX7_newGate_2 := dk_seg dksX7_newGate_1 23 rfl rfl
theorem dX7_newGate_0 : decode cX7_newGate 0 = .ok (.aload_n 0, 1) := dk_42 (dk_at dksX7_newGate_0 0 rfl rfl)
theorem dX7_newGate_1 : decode cX7_newGate 1 = .ok (.ldc 149, 2) := dk_18 149 (dk_at dksX7_newGate_0 1 rfl rfl)
theorem dX7_newGate_3 : decode cX7_newGate 3 = .ok (.aload_n 1, 1) := dk_43 (dk_at dksX7_newGate_0 3 rfl rfl)
theorem dX7_newGate_4 : decode cX7_newGate 4 = .ok (.getfield 165, 3) := dk_180 0 165 (dk_at dksX7_newGate_0 4 rfl rfl)
theorem dX7_newGate_7 : decode cX7_newGate 7 = .ok (.invokevirtual 169, 3) := dk_182 0 169 (dk_at dksX7_newGate_0 7 rfl rfl)
theorem dX7_newGate_10 : decode cX7_newGate 10 = .ok (.bipush 6, 2) := dk_16 6 (dk_at dksX7_newGate_0 10 rfl rfl)
theorem dX7_newGate_12 : decode cX7_newGate 12 = .ok (.invokevirtual 130, 3) := dk_182 0 130 (dk_at dksX7_newGate_0 12 rfl rfl)
theorem dX7_newGate_15 : decode cX7_newGate 15 = .ok (.aload_n 0, 1) := dk_42 (dk_at dksX7_newGate_0 15 rfl rfl)
theorem dX7_newGate_16 : decode cX7_newGate 16 = .ok (.aload_n 1, 1) := dk_43 (dk_at dksX7_newGate_0 16 rfl rfl)
theorem dX7_newGate_17 : decode cX7_newGate 17 = .ok (.getfield 165, 3) := dk_180 0 165 (dk_at dksX7_newGate_0 17 rfl rfl)
theorem dX7_newGate_20 : decode cX7_newGate 20 = .ok (.invokevirtual 171, 3) := dk_182 0 171 (dk_at dksX7_newGate_0 20 rfl rfl)
theorem dX7_newGate_23 : decode cX7_newGate 23 = .ok (.astore_n 2, 1) := dk_77 (dk_at dksX7_newGate_0 23 rfl rfl)
theorem dX7_newGate_24 : decode cX7_newGate 24 = .ok (.aload_n 0, 1) := dk_42 (dk_at dksX7_newGate_1 0 rfl rfl)
theorem dX7_newGate_25 : decode cX7_newGate 25 = .ok (.aload_n 1, 1) := dk_43 (dk_at dksX7_newGate_1 1 rfl rfl)
theorem dX7_newGate_26 : decode cX7_newGate 26 = .ok (.invokevirtual 175, 3) := dk_182 0 175 (dk_at dksX7_newGate_1 2 rfl rfl)
theorem dX7_newGate_29 : decode cX7_newGate 29 = .ok (.istore_n 3, 1) := dk_62 (dk_at dksX7_newGate_1 5 rfl rfl)
theorem dX7_newGate_30 : decode cX7_newGate 30 = .ok (.aload_n 0, 1) := dk_42 (dk_at dksX7_newGate_1 6 rfl rfl)
theorem dX7_newGate_31 : decode cX7_newGate 31 = .ok (.aload_n 1, 1) := dk_43 (dk_at dksX7_newGate_1 7 rfl rfl)
theorem dX7_newGate_32 : decode cX7_newGate 32 = .ok (.iload_n 3, 1) := dk_29 (dk_at dksX7_newGate_1 8 rfl rfl)
theorem dX7_newGate_33 : decode cX7_newGate 33 = .ok (.invokevirtual 179, 3) := dk_182 0 179 (dk_at dksX7_newGate_1 9 rfl rfl)
theorem dX7_newGate_36 : decode cX7_newGate 36 = .ok (.iconst 3, 1) := dk_6 (dk_at dksX7_newGate_1 12 rfl rfl)
theorem dX7_newGate_37 : decode cX7_newGate 37 = .ok (.invokevirtual 94, 3) := dk_182 0 94 (dk_at dksX7_newGate_1 13 rfl rfl)
theorem dX7_newGate_40 : decode cX7_newGate 40 = .ok (.aload_n 0, 1) := dk_42 (dk_at dksX7_newGate_1 16 rfl rfl)
theorem dX7_newGate_41 : decode cX7_newGate 41 = .ok (.invokevirtual 28, 3) := dk_182 0 28 (dk_at dksX7_newGate_1 17 rfl rfl)
theorem dX7_newGate_44 : decode cX7_newGate 44 = .ok (.aload_n 1, 1) := dk_43 (dk_at dksX7_newGate_1 20 rfl rfl)
theorem dX7_newGate_45 : decode cX7_newGate 45 = .ok (.aload_n 2, 1) := dk_44 (dk_at dksX7_newGate_1 21 rfl rfl)
theorem dX7_newGate_46 : decode cX7_newGate 46 = .ok (.iload_n 3, 1) := dk_29 (dk_at dksX7_newGate_1 22 rfl rfl)
theorem dX7_newGate_47 : decode cX7_newGate 47 = .ok (.invokevirtual 182, 3) := dk_182 0 182 (dk_at dksX7_newGate_2 0 rfl rfl)
theorem dX7_newGate_50 : decode cX7_newGate 50 = .ok (.aload_n 0, 1) := dk_42 (dk_at dksX7_newGate_2 3 rfl rfl)
theorem dX7_newGate_51 : decode cX7_newGate 51 = .ok (.invokevirtual 142, 3) := dk_182 0 142 (dk_at dksX7_newGate_2 4 rfl rfl)
theorem dX7_newGate_54 : decode cX7_newGate 54 = .ok (.return_, 1) := dk_177 (dk_at dksX7_newGate_2 7 rfl rfl)
def dkwX7_newName_1 : List UInt8 := [42, 182, 0, 28, 44, 176]
abbrev dktX7_newName_1 : List UInt8 := dkwX7_newName_1 ++ []
def dkwX7_newName_0 : List UInt8 := [42, 182, 0, 115, 77, 42, 43, 44, 182, 0, 118, 2, 160, 0, 7, 4, 167, 0, 4, 3, 6, 182, 0, 94]
abbrev dktX7_newName_0 : List UInt8 := dkwX7_newName_0 ++ dktX7_newName_1
theorem dksX7_newName_0 : cX7_newName.data.toList.drop 0 = dktX7_newName_0 := by decide +kernel
theorem dksX7_newName_1 : cX7_newName.data.toList.drop 24 = dktX7_newName_1 := dk_seg dksX7_newName_0 24 rfl rfl
theorem dX7_newName_0 : decode cX7_newName 0 = .ok (.aload_n 0, 1) := dk_42 (dk_at dksX7_newName_0 0 rfl rfl)
theorem dX7_newName_1 : decode cX7_newName 1 = .ok (.invokevirtual 115, 3) := dk_182 0 115 (dk_at dksX7_newName_0 1 rfl rfl)
theorem dX7_newName_4 : decode cX7_newName 4 = .ok (.astore_n 2, 1) := dk_77 (dk_at dksX7_newName_0 4 rfl rfl)
theorem dX7_newName_5 : decode cX7_newName 5 = .ok (.aload_n 0, 1) := dk_42 (dk_at dksX7_newName_0 5 rfl rfl)
theorem dX7_newName_6 : decode cX7_newName 6 = .ok (.aload_n 1, 1) := dk_43 (dk_at dksX7_newName_0 6 rfl rfl)
theorem dX7_newName_7 : decode cX7_newName 7 = .ok (.aload_n 2, 1) := dk_44 (dk_at dksX7_newName_0 7 rfl rfl)
theorem dX7_newName_8 : decode cX7_newName 8 = .ok (.invokevirtual 118, 3) := dk_182 0 118 (dk_at dksX7_newName_0 8 rfl rfl)
theorem dX7_newName_11 : decode cX7_newName 11 = .ok (.iconst (-1), 1) := dk_2 (dk_at dksX7_newName_0 11 rfl rfl)
theorem dX7_newName_12 : decode cX7_newName 12 = .ok (.if_icmp .ne 7, 3) := dk_160 0 7 (dk_at dksX7_newName_0 12 rfl rfl)
theorem dX7_newName_15 : decode cX7_newName 15 = .ok (.iconst 1, 1) := dk_4 (dk_at dksX7_newName_0 15 rfl rfl)
theorem dX7_newName_16 : decode cX7_newName 16 = .ok (.goto 4, 3) := dk_167 0 4 (dk_at dksX7_newName_0 16 rfl rfl)
theorem dX7_newName_19 : decode cX7_newName 19 = .ok (.iconst 0, 1) := dk_3 (dk_at dksX7_newName_0 19 rfl rfl)
theorem dX7_newName_20 : decode cX7_newName 20 = .ok (.iconst 3, 1) := dk_6 (dk_at dksX7_newName_0 20 rfl rfl)
theorem dX7_newName_21 : decode cX7_newName 21 = .ok (.invokevirtual 94, 3) := dk_182 0 94 (dk_at dksX7_newName_0 21 rfl rfl)
theorem dX7_newName_24 : decode cX7_newName 24 = .ok (.aload_n 0, 1) := dk_42 (dk_at dksX7_newName_1 0 rfl rfl)
theorem dX7_newName_25 : decode cX7_newName 25 = .ok (.invokevirtual 28, 3) := dk_182 0 28 (dk_at dksX7_newName_1 1 rfl rfl)
theorem dX7_newName_28 : decode cX7_newName 28 = .ok (.aload_n 2, 1) := dk_44 (dk_at dksX7_newName_1 4 rfl rfl)
theorem dX7_newName_29 : decode cX7_newName 29 = .ok (.areturn, 1) := dk_176 (dk_at dksX7_newName_1 5 rfl rfl)
def dkwX7_nameSeen_1 : List UInt8 := [167, 0, 4, 3, 4, 182, 0, 94, 42, 180, 0, 24, 176]
abbrev dktX7_nameSeen_1 : List UInt8 := dkwX7_nameSeen_1 ++ []
def dkwX7_nameSeen_0 : List UInt8 := [42, 42, 180, 0, 35, 178, 0, 65, 166, 0, 19, 42, 180, 0, 24, 182, 0, 110, 16, 6, 163, 0, 7, 4]
abbrev dktX7_nameSeen_0 : List UInt8 := dkwX7_nameSeen_0 ++ dktX7_nameSeen_1
theorem dksX7_nameSeen_0 : cX7_nameSeen.data.toList.drop 0 = dktX7_nameSeen_0 := by decide +kernel
theorem dksX7_nameSeen_1 : cX7_nameSeen.data.toList.drop 24 = dktX7_nameSeen_1 := dk_seg dksX7_nameSeen_0 24 rfl rfl
theorem dX7_nameSeen_0 : decode cX7_nameSeen 0 = .ok (.aload_n 0, 1) := dk_42 (dk_at dksX7_nameSeen_0 0 rfl rfl)
theorem dX7_nameSeen_1 : decode cX7_nameSeen 1 = .ok (.aload_n 0, 1) := dk_42 (dk_at dksX7_nameSeen_0 1 rfl rfl)
theorem dX7_nameSeen_2 : decode cX7_nameSeen 2 = .ok (.getfield 35, 3) := dk_180 0 35 (dk_at dksX7_nameSeen_0 2 rfl rfl)
theorem dX7_nameSeen_5 : decode cX7_nameSeen 5 = .ok (.getstatic 65, 3) := dk_178 0 65 (dk_at dksX7_nameSeen_0 5 rfl rfl)
theorem dX7_nameSeen_8 : decode cX7_nameSeen 8 = .ok (.if_acmp .ne 19, 3) := dk_166 0 19 (dk_at dksX7_nameSeen_0 8 rfl rfl)
theorem dX7_nameSeen_11 : decode cX7_nameSeen 11 = .ok (.aload_n 0, 1) := dk_42 (dk_at dksX7_nameSeen_0 11 rfl rfl)
theorem dX7_nameSeen_12 : decode cX7_nameSeen 12 = .ok (.getfield 24, 3) := dk_180 0 24 (dk_at dksX7_nameSeen_0 12 rfl rfl)
theorem dX7_nameSeen_15 : decode cX7_nameSeen 15 = .ok (.invokevirtual 110, 3) := dk_182 0 110 (dk_at dksX7_nameSeen_0 15 rfl rfl)
theorem dX7_nameSeen_18 : decode cX7_nameSeen 18 = .ok (.bipush 6, 2) := dk_16 6 (dk_at dksX7_nameSeen_0 18 rfl rfl)
theorem dX7_nameSeen_20 : decode cX7_nameSeen 20 = .ok (.if_icmp .gt 7, 3) := dk_163 0 7 (dk_at dksX7_nameSeen_0 20 rfl rfl)
theorem dX7_nameSeen_23 : decode cX7_nameSeen 23 = .ok (.iconst 1, 1) := dk_4 (dk_at dksX7_nameSeen_0 23 rfl rfl)
theorem dX7_nameSeen_24 : decode cX7_nameSeen 24 = .ok (.goto 4, 3) := dk_167 0 4 (dk_at dksX7_nameSeen_1 0 rfl rfl)
theorem dX7_nameSeen_27 : decode cX7_nameSeen 27 = .ok (.iconst 0, 1) := dk_3 (dk_at dksX7_nameSeen_1 3 rfl rfl)
theorem dX7_nameSeen_28 : decode cX7_nameSeen 28 = .ok (.iconst 1, 1) := dk_4 (dk_at dksX7_nameSeen_1 4 rfl rfl)
theorem dX7_nameSeen_29 : decode cX7_nameSeen 29 = .ok (.invokevirtual 94, 3) := dk_182 0 94 (dk_at dksX7_nameSeen_1 5 rfl rfl)
theorem dX7_nameSeen_32 : decode cX7_nameSeen 32 = .ok (.aload_n 0, 1) := dk_42 (dk_at dksX7_nameSeen_1 8 rfl rfl)
theorem dX7_nameSeen_33 : decode cX7_nameSeen 33 = .ok (.getfield 24, 3) := dk_180 0 24 (dk_at dksX7_nameSeen_1 9 rfl rfl)
theorem dX7_nameSeen_36 : decode cX7_nameSeen 36 = .ok (.areturn, 1) := dk_176 (dk_at dksX7_nameSeen_1 12 rfl rfl)
def dkwX7_cell_1 : List UInt8 := [182, 0, 98, 104, 28, 96, 172]
abbrev dktX7_cell_1 : List UInt8 := dkwX7_cell_1 ++ []
def dkwX7_cell_0 : List UInt8 := [42, 3, 43, 180, 0, 159, 4, 100, 182, 0, 134, 61, 43, 180, 0, 159, 42, 3, 43, 180, 0, 162, 4, 100]
abbrev dktX7_cell_0 : List UInt8 := dkwX7_cell_0 ++ dktX7_cell_1
theorem dksX7_cell_0 : cX7_cell.data.toList.drop 0 = dktX7_cell_0 := by decide +kernel
theorem dksX7_cell_1 : cX7_cell.data.toList.drop 24 = dktX7_cell_1 := dk_seg dksX7_cell_0 24 rfl rfl
theorem dX7_cell_0 : decode cX7_cell 0 = .ok (.aload_n 0, 1) := dk_42 (dk_at dksX7_cell_0 0 rfl rfl)
theorem dX7_cell_1 : decode cX7_cell 1 = .ok (.iconst 0, 1) := dk_3 (dk_at dksX7_cell_0 1 rfl rfl)
theorem dX7_cell_2 : decode cX7_cell 2 = .ok (.aload_n 1, 1) := dk_43 (dk_at dksX7_cell_0 2 rfl rfl)
theorem dX7_cell_3 : decode cX7_cell 3 = .ok (.getfield 159, 3) := dk_180 0 159 (dk_at dksX7_cell_0 3 rfl rfl)
theorem dX7_cell_6 : decode cX7_cell 6 = .ok (.iconst 1, 1) := dk_4 (dk_at dksX7_cell_0 6 rfl rfl)
theorem dX7_cell_7 : decode cX7_cell 7 = .ok (.isub, 1) := dk_100 (dk_at dksX7_cell_0 7 rfl rfl)
theorem dX7_cell_8 : decode cX7_cell 8 = .ok (.invokevirtual 134, 3) := dk_182 0 134 (dk_at dksX7_cell_0 8 rfl rfl)
theorem dX7_cell_11 : decode cX7_cell 11 = .ok (.istore_n 2, 1) := dk_61 (dk_at dksX7_cell_0 11 rfl rfl)
theorem dX7_cell_12 : decode cX7_cell 12 = .ok (.aload_n 1, 1) := dk_43 (dk_at dksX7_cell_0 12 rfl rfl)
theorem dX7_cell_13 : decode cX7_cell 13 = .ok (.getfield 159, 3) := dk_180 0 159 (dk_at dksX7_cell_0 13 rfl rfl)
theorem dX7_cell_16 : decode cX7_cell 16 = .ok (.aload_n 0, 1) := dk_42 (dk_at dksX7_cell_0 16 rfl rfl)
theorem dX7_cell_17 : decode cX7_cell 17 = .ok (.iconst 0, 1) := dk_3 (dk_at dksX7_cell_0 17 rfl rfl)
theorem dX7_cell_18 : decode cX7_cell 18 = .ok (.aload_n 1, 1) := dk_43 (dk_at dksX7_cell_0 18 rfl rfl)
theorem dX7_cell_19 : decode cX7_cell 19 = .ok (.getfield 162, 3) := dk_180 0 162 (dk_at dksX7_cell_0 19 rfl rfl)
theorem dX7_cell_22 : decode cX7_cell 22 = .ok (.iconst 1, 1) := dk_4 (dk_at dksX7_cell_0 22 rfl rfl)
theorem dX7_cell_23 : decode cX7_cell 23 = .ok (.isub, 1) := dk_100 (dk_at dksX7_cell_0 23 rfl rfl)
theorem dX7_cell_24 : decode cX7_cell 24 = .ok (.invokevirtual 98, 3) := dk_182 0 98 (dk_at dksX7_cell_1 0 rfl rfl)
theorem dX7_cell_27 : decode cX7_cell 27 = .ok (.imul, 1) := dk_104 (dk_at dksX7_cell_1 3 rfl rfl)
theorem dX7_cell_28 : decode cX7_cell 28 = .ok (.iload_n 2, 1) := dk_28 (dk_at dksX7_cell_1 4 rfl rfl)
theorem dX7_cell_29 : decode cX7_cell 29 = .ok (.iadd, 1) := dk_96 (dk_at dksX7_cell_1 5 rfl rfl)
theorem dX7_cell_30 : decode cX7_cell 30 = .ok (.ireturn, 1) := dk_172 (dk_at dksX7_cell_1 6 rfl rfl)
def dkwX7_newWalker_3 : List UInt8 := [16, 9, 182, 0, 134, 183, 0, 195, 182, 0, 198, 177]
abbrev dktX7_newWalker_3 : List UInt8 := dkwX7_newWalker_3 ++ []
def dkwX7_newWalker_2 : List UInt8 := [16, 9, 182, 0, 134, 54, 5, 43, 180, 0, 186, 187, 0, 193, 89, 44, 29, 21, 4, 21, 5, 42, 4]
abbrev dktX7_newWalker_2 : List UInt8 := dkwX7_newWalker_2 ++ dktX7_newWalker_3
def dkwX7_newWalker_1 : List UInt8 := [42, 43, 180, 0, 165, 2, 182, 0, 189, 62, 42, 43, 180, 0, 165, 29, 182, 0, 189, 54, 4, 42, 3]
abbrev dktX7_newWalker_1 : List UInt8 := dkwX7_newWalker_1 ++ dktX7_newWalker_2
def dkwX7_newWalker_0 : List UInt8 := [42, 18, 154, 43, 180, 0, 186, 182, 0, 169, 16, 6, 182, 0, 130, 42, 43, 180, 0, 186, 182, 0, 171, 77]
abbrev dktX7_newWalker_0 : List UInt8 := dkwX7_newWalker_0 ++ dktX7_newWalker_1
theorem dksX7_newWalker_0 : cX7_newWalker.data.toList.drop 0 = dktX7_newWalker_0 := by decide +kernel
theorem dksX7_newWalker_1 : cX7_newWalker.data.toList.drop 24 = dktX7_newWalker_1 := dk_seg dksX7_newWalker_0 24 rfl rfl
theorem dksX7_newWalker_2 : cX7_newWalker.data.toList.drop 47 = dktX7_newWalker_2 := dk_seg dksX7_newWalker_1 23 rfl rfl
theorem dksX7_newWalker_3 : cX7_newWalker.data.toList.drop 70 = dktX7_newWalker_3 := dk_seg dksX7_newWalker_2 23 rfl rfl
theorem dX7_newWalker_0 : decode cX7_newWalker 0 = .ok (.aload_n 0, 1) := dk_42 (dk_at dksX7_newWalker_0 0 rfl rfl)
theorem dX7_newWalker_1 : decode cX7_newWalker 1 = .ok (.ldc 154, 2) := dk_18 154 (dk_at dksX7_newWalker_0 1 rfl rfl)
theorem dX7_newWalker_3 : decode cX7_newWalker 3 = .ok (.aload_n 1, 1) := dk_43 (dk_at dksX7_newWalker_0 3 rfl rfl)
theorem dX7_newWalker_4 : decode cX7_newWalker 4 = .ok (.getfield 186, 3) := dk_180 0 186 (dk_at dksX7_newWalker_0 4 rfl rfl)
theorem dX7_newWalker_7 : decode cX7_newWalker 7 = .ok (.invokevirtual 169, 3) := dk_182 0 169 (dk_at dksX7_newWalker_0 7 rfl rfl)
theorem dX7_newWalker_10 : decode cX7_newWalker 10 = .ok (.bipush 6, 2) := dk_16 6 (dk_at dksX7_newWalker_0 10 rfl rfl)
theorem dX7_newWalker_12 : decode cX7_newWalker 12 = .ok (.invokevirtual 130, 3) := dk_182 0 130 (dk_at dksX7_newWalker_0 12 rfl rfl)
theorem dX7_newWalker_15 : decode cX7_newWalker 15 = .ok (.aload_n 0, 1) := dk_42 (dk_at dksX7_newWalker_0 15 rfl rfl)
theorem dX7_newWalker_16 : decode cX7_newWalker 16 = .ok (.aload_n 1, 1) := dk_43 (dk_at dksX7_newWalker_0 16 rfl rfl)
theorem dX7_newWalker_17 : decode cX7_newWalker 17 = .ok (.getfield 186, 3) := dk_180 0 186 (dk_at dksX7_newWalker_0 17 rfl rfl)
theorem dX7_newWalker_20 : decode cX7_newWalker 20 = .ok (.invokevirtual 171, 3) := dk_182 0 171 (dk_at dksX7_newWalker_0 20 rfl rfl)
theorem dX7_newWalker_23 : decode cX7_newWalker 23 = .ok (.astore_n 2, 1) := dk_77 (dk_at dksX7_newWalker_0 23 rfl rfl)
theorem dX7_newWalker_24 : decode cX7_newWalker 24 = .ok (.aload_n 0, 1) := dk_42 (dk_at dksX7_newWalker_1 0 rfl rfl)
theorem dX7_newWalker_25 : decode cX7_newWalker 25 = .ok (.aload_n 1, 1) := dk_43 (dk_at dksX7_newWalker_1 1 rfl rfl)
theorem dX7_newWalker_26 : decode cX7_newWalker 26 = .ok (.getfield 165, 3) := dk_180 0 165 (dk_at dksX7_newWalker_1 2 rfl rfl)
theorem dX7_newWalker_29 : decode cX7_newWalker 29 = .ok (.iconst (-1), 1) := dk_2 (dk_at dksX7_newWalker_1 5 rfl rfl)
theorem dX7_newWalker_30 : decode cX7_newWalker 30 = .ok (.invokevirtual 189, 3) := dk_182 0 189 (dk_at dksX7_newWalker_1 6 rfl rfl)
theorem dX7_newWalker_33 : decode cX7_newWalker 33 = .ok (.istore_n 3, 1) := dk_62 (dk_at dksX7_newWalker_1 9 rfl rfl)
theorem dX7_newWalker_34 : decode cX7_newWalker 34 = .ok (.aload_n 0, 1) := dk_42 (dk_at dksX7_newWalker_1 10 rfl rfl)
theorem dX7_newWalker_35 : decode cX7_newWalker 35 = .ok (.aload_n 1, 1) := dk_43 (dk_at dksX7_newWalker_1 11 rfl rfl)
theorem dX7_newWalker_36 : decode cX7_newWalker 36 = .ok (.getfield 165, 3) := dk_180 0 165 (dk_at dksX7_newWalker_1 12 rfl rfl)
theorem dX7_newWalker_39 : decode cX7_newWalker 39 = .ok (.iload_n 3, 1) := dk_29 (dk_at dksX7_newWalker_1 15 rfl rfl)
theorem dX7_newWalker_40 : decode cX7_newWalker 40 = .ok (.invokevirtual 189, 3) := dk_182 0 189 (dk_at dksX7_newWalker_1 16 rfl rfl)
theorem dX7_newWalker_43 : decode cX7_newWalker 43 = .ok (.istore 4, 2) := dk_54 4 (dk_at dksX7_newWalker_1 19 rfl rfl)
theorem dX7_newWalker_45 : decode cX7_newWalker 45 = .ok (.aload_n 0, 1) := dk_42 (dk_at dksX7_newWalker_1 21 rfl rfl)
theorem dX7_newWalker_46 : decode cX7_newWalker 46 = .ok (.iconst 0, 1) := dk_3 (dk_at dksX7_newWalker_1 22 rfl rfl)
theorem dX7_newWalker_47 : decode cX7_newWalker 47 = .ok (.bipush 9, 2) := dk_16 9 (dk_at dksX7_newWalker_2 0 rfl rfl)
theorem dX7_newWalker_49 : decode cX7_newWalker 49 = .ok (.invokevirtual 134, 3) := dk_182 0 134 (dk_at dksX7_newWalker_2 2 rfl rfl)
theorem dX7_newWalker_52 : decode cX7_newWalker 52 = .ok (.istore 5, 2) := dk_54 5 (dk_at dksX7_newWalker_2 5 rfl rfl)
theorem dX7_newWalker_54 : decode cX7_newWalker 54 = .ok (.aload_n 1, 1) := dk_43 (dk_at dksX7_newWalker_2 7 rfl rfl)
theorem dX7_newWalker_55 : decode cX7_newWalker 55 = .ok (.getfield 186, 3) := dk_180 0 186 (dk_at dksX7_newWalker_2 8 rfl rfl)
theorem dX7_newWalker_58 : decode cX7_newWalker 58 = .ok (.new 193, 3) := dk_187 0 193 (dk_at dksX7_newWalker_2 11 rfl rfl)
theorem dX7_newWalker_61 : decode cX7_newWalker 61 = .ok (.dup, 1) := dk_89 (dk_at dksX7_newWalker_2 14 rfl rfl)
theorem dX7_newWalker_62 : decode cX7_newWalker 62 = .ok (.aload_n 2, 1) := dk_44 (dk_at dksX7_newWalker_2 15 rfl rfl)
theorem dX7_newWalker_63 : decode cX7_newWalker 63 = .ok (.iload_n 3, 1) := dk_29 (dk_at dksX7_newWalker_2 16 rfl rfl)
theorem dX7_newWalker_64 : decode cX7_newWalker 64 = .ok (.iload 4, 2) := dk_21 4 (dk_at dksX7_newWalker_2 17 rfl rfl)
theorem dX7_newWalker_66 : decode cX7_newWalker 66 = .ok (.iload 5, 2) := dk_21 5 (dk_at dksX7_newWalker_2 19 rfl rfl)
theorem dX7_newWalker_68 : decode cX7_newWalker 68 = .ok (.aload_n 0, 1) := dk_42 (dk_at dksX7_newWalker_2 21 rfl rfl)
theorem dX7_newWalker_69 : decode cX7_newWalker 69 = .ok (.iconst 1, 1) := dk_4 (dk_at dksX7_newWalker_2 22 rfl rfl)
theorem dX7_newWalker_70 : decode cX7_newWalker 70 = .ok (.bipush 9, 2) := dk_16 9 (dk_at dksX7_newWalker_3 0 rfl rfl)
theorem dX7_newWalker_72 : decode cX7_newWalker 72 = .ok (.invokevirtual 134, 3) := dk_182 0 134 (dk_at dksX7_newWalker_3 2 rfl rfl)
theorem dX7_newWalker_75 : decode cX7_newWalker 75 = .ok (.invokespecial 195, 3) := dk_183 0 195 (dk_at dksX7_newWalker_3 5 rfl rfl)
theorem dX7_newWalker_78 : decode cX7_newWalker 78 = .ok (.invokevirtual 198, 3) := dk_182 0 198 (dk_at dksX7_newWalker_3 8 rfl rfl)
theorem dX7_newWalker_81 : decode cX7_newWalker 81 = .ok (.return_, 1) := dk_177 (dk_at dksX7_newWalker_3 11 rfl rfl)
def dkwX7_found_1 : List UInt8 := [3, 6, 182, 0, 94, 42, 182, 0, 28, 29, 172]
abbrev dktX7_found_1 : List UInt8 := dkwX7_found_1 ++ []
def dkwX7_found_0 : List UInt8 := [43, 42, 182, 0, 115, 182, 0, 118, 62, 42, 29, 2, 159, 0, 12, 29, 28, 159, 0, 7, 4, 167, 0, 4]
abbrev dktX7_found_0 : List UInt8 := dkwX7_found_0 ++ dktX7_found_1
theorem dksX7_found_0 : cX7_found.data.toList.drop 0 = dktX7_found_0 := by decide +kernel
theorem dksX7_found_1 : cX7_found.data.toList.drop 24 = dktX7_found_1 := dk_seg dksX7_found_0 24 rfl rfl
theorem dX7_found_0 : decode cX7_found 0 = .ok (.aload_n 1, 1) := dk_43 (dk_at dksX7_found_0 0 rfl rfl)
theorem dX7_found_1 : decode cX7_found 1 = .ok (.aload_n 0, 1) := dk_42 (dk_at dksX7_found_0 1 rfl rfl)
theorem dX7_found_2 : decode cX7_found 2 = .ok (.invokevirtual 115, 3) := dk_182 0 115 (dk_at dksX7_found_0 2 rfl rfl)
theorem dX7_found_5 : decode cX7_found 5 = .ok (.invokevirtual 118, 3) := dk_182 0 118 (dk_at dksX7_found_0 5 rfl rfl)
theorem dX7_found_8 : decode cX7_found 8 = .ok (.istore_n 3, 1) := dk_62 (dk_at dksX7_found_0 8 rfl rfl)
theorem dX7_found_9 : decode cX7_found 9 = .ok (.aload_n 0, 1) := dk_42 (dk_at dksX7_found_0 9 rfl rfl)
theorem dX7_found_10 : decode cX7_found 10 = .ok (.iload_n 3, 1) := dk_29 (dk_at dksX7_found_0 10 rfl rfl)
theorem dX7_found_11 : decode cX7_found 11 = .ok (.iconst (-1), 1) := dk_2 (dk_at dksX7_found_0 11 rfl rfl)
theorem dX7_found_12 : decode cX7_found 12 = .ok (.if_icmp .eq 12, 3) := dk_159 0 12 (dk_at dksX7_found_0 12 rfl rfl)
theorem dX7_found_15 : decode cX7_found 15 = .ok (.iload_n 3, 1) := dk_29 (dk_at dksX7_found_0 15 rfl rfl)
theorem dX7_found_16 : decode cX7_found 16 = .ok (.iload_n 2, 1) := dk_28 (dk_at dksX7_found_0 16 rfl rfl)
theorem dX7_found_17 : decode cX7_found 17 = .ok (.if_icmp .eq 7, 3) := dk_159 0 7 (dk_at dksX7_found_0 17 rfl rfl)
theorem dX7_found_20 : decode cX7_found 20 = .ok (.iconst 1, 1) := dk_4 (dk_at dksX7_found_0 20 rfl rfl)
theorem dX7_found_21 : decode cX7_found 21 = .ok (.goto 4, 3) := dk_167 0 4 (dk_at dksX7_found_0 21 rfl rfl)
theorem dX7_found_24 : decode cX7_found 24 = .ok (.iconst 0, 1) := dk_3 (dk_at dksX7_found_1 0 rfl rfl)
theorem dX7_found_25 : decode cX7_found 25 = .ok (.iconst 3, 1) := dk_6 (dk_at dksX7_found_1 1 rfl rfl)
theorem dX7_found_26 : decode cX7_found 26 = .ok (.invokevirtual 94, 3) := dk_182 0 94 (dk_at dksX7_found_1 2 rfl rfl)
theorem dX7_found_29 : decode cX7_found 29 = .ok (.aload_n 0, 1) := dk_42 (dk_at dksX7_found_1 5 rfl rfl)
theorem dX7_found_30 : decode cX7_found 30 = .ok (.invokevirtual 28, 3) := dk_182 0 28 (dk_at dksX7_found_1 6 rfl rfl)
theorem dX7_found_33 : decode cX7_found 33 = .ok (.iload_n 3, 1) := dk_29 (dk_at dksX7_found_1 9 rfl rfl)
theorem dX7_found_34 : decode cX7_found 34 = .ok (.ireturn, 1) := dk_172 (dk_at dksX7_found_1 10 rfl rfl)
def dkwX7_newThing_8 : List UInt8 := [180, 0, 224, 21, 4, 21, 5, 79, 177]
abbrev dktX7_newThing_8 : List UInt8 := dkwX7_newThing_8 ++ []
def dkwX7_newThing_7 : List UInt8 := [54, 5, 43, 89, 180, 0, 221, 21, 5, 43, 180, 0, 224, 21, 4, 46, 100, 96, 181, 0, 221, 43]
abbrev dktX7_newThing_7 : List UInt8 := dkwX7_newThing_7 ++ dktX7_newThing_8
def dkwX7_newThing_6 : List UInt8 := [43, 21, 4, 4, 182, 0, 218, 28, 154, 0, 7, 29, 153, 0, 4, 177, 42, 3, 16, 9, 182, 0, 134]
abbrev dktX7_newThing_6 : List UInt8 := dkwX7_newThing_6 ++ dktX7_newThing_7
def dkwX7_newThing_5 : List UInt8 := [180, 0, 211, 21, 4, 4, 84, 42, 43, 182, 0, 215, 6, 182, 0, 94, 42, 182, 0, 28, 29, 153, 0, 10]
abbrev dktX7_newThing_5 : List UInt8 := dkwX7_newThing_5 ++ dktX7_newThing_6
def dkwX7_newThing_4 : List UInt8 := [43, 180, 0, 211, 21, 4, 51, 154, 0, 7, 4, 167, 0, 4, 3, 6, 182, 0, 94, 28, 153, 0, 20, 43]
abbrev dktX7_newThing_4 : List UInt8 := dkwX7_newThing_4 ++ dktX7_newThing_5
def dkwX7_newThing_3 : List UInt8 := [182, 0, 94, 42, 182, 0, 28, 42, 43, 182, 0, 175, 54, 4, 42, 43, 21, 4, 182, 0, 179, 153, 0, 17]
abbrev dktX7_newThing_3 : List UInt8 := dkwX7_newThing_3 ++ dktX7_newThing_4
def dkwX7_newThing_2 : List UInt8 := [4, 182, 0, 94, 42, 28, 153, 0, 12, 43, 182, 0, 208, 16, 10, 162, 0, 7, 4, 167, 0, 4, 3, 7]
abbrev dktX7_newThing_2 : List UInt8 := dkwX7_newThing_2 ++ dktX7_newThing_3
def dkwX7_newThing_1 : List UInt8 := [154, 0, 19, 29, 154, 0, 15, 42, 180, 0, 24, 18, 206, 182, 0, 124, 153, 0, 7, 4, 167, 0, 4, 3]
abbrev dktX7_newThing_1 : List UInt8 := dkwX7_newThing_1 ++ dktX7_newThing_2
def dkwX7_newThing_0 : List UInt8 := [42, 180, 0, 24, 18, 202, 182, 0, 124, 61, 42, 180, 0, 24, 18, 204, 182, 0, 124, 62, 42, 28]
abbrev dktX7_newThing_0 : List UInt8 := dkwX7_newThing_0 ++ dktX7_newThing_1
theorem dksX7_newThing_0 : cX7_newThing.data.toList.drop 0 = dktX7_newThing_0 := by decide +kernel
theorem dksX7_newThing_1 : cX7_newThing.data.toList.drop 22 = dktX7_newThing_1 := dk_seg dksX7_newThing_0 22 rfl rfl
theorem dksX7_newThing_2 : cX7_newThing.data.toList.drop 46 = dktX7_newThing_2 := dk_seg dksX7_newThing_1 24 rfl rfl
theorem dksX7_newThing_3 : cX7_newThing.data.toList.drop 70 = dktX7_newThing_3 := dk_seg dksX7_newThing_2 24 rfl rfl
theorem dksX7_newThing_4 : cX7_newThing.data.toList.drop 94 = dktX7_newThing_4 := dk_seg dksX7_newThing_3 24 rfl rfl
theorem dksX7_newThing_5 : cX7_newThing.data.toList.drop 118 = dktX7_newThing_5 := dk_seg dksX7_newThing_4 24 rfl rfl
theorem dksX7_newThing_6 : cX7_newThing.data.toList.drop 142 = dktX7_newThing_6 := dk_seg dksX7_newThing_5 24 rfl rfl
theorem dksX7_newThing_7 : cX7_newThing.data.toList.drop 165 = dktX7_newThing_7 := dk_seg dksX7_newThing_6 23 rfl rfl
theorem dksX7_newThing_8 : cX7_newThing.data.toList.drop 187 = dktX7_newThing_8 := dk_seg dksX7_newThing_7 22 rfl rfl
theorem dX7_newThing_0 : decode cX7_newThing 0 = .ok (.aload_n 0, 1) := dk_42 (dk_at dksX7_newThing_0 0 rfl rfl)
theorem dX7_newThing_1 : decode cX7_newThing 1 = .ok (.getfield 24, 3) := dk_180 0 24 (dk_at dksX7_newThing_0 1 rfl rfl)
theorem dX7_newThing_4 : decode cX7_newThing 4 = .ok (.ldc 202, 2) := dk_18 202 (dk_at dksX7_newThing_0 4 rfl rfl)
theorem dX7_newThing_6 : decode cX7_newThing 6 = .ok (.invokevirtual 124, 3) := dk_182 0 124 (dk_at dksX7_newThing_0 6 rfl rfl)
theorem dX7_newThing_9 : decode cX7_newThing 9 = .ok (.istore_n 2, 1) := dk_61 (dk_at dksX7_newThing_0 9 rfl rfl)
theorem dX7_newThing_10 : decode cX7_newThing 10 = .ok (.aload_n 0, 1) := dk_42 (dk_at dksX7_newThing_0 10 rfl rfl)
theorem dX7_newThing_11 : decode cX7_newThing 11 = .ok (.getfield 24, 3) := dk_180 0 24 (dk_at dksX7_newThing_0 11 rfl rfl)
theorem dX7_newThing_14 : decode cX7_newThing 14 = .ok (.ldc 204, 2) := dk_18 204 (dk_at dksX7_newThing_0 14 rfl rfl)
theorem dX7_newThing_16 : decode cX7_newThing 16 = .ok (.invokevirtual 124, 3) := dk_182 0 124 (dk_at dksX7_newThing_0 16 rfl rfl)
theorem dX7_newThing_19 : decode cX7_newThing 19 = .ok (.istore_n 3, 1) := dk_62 (dk_at dksX7_newThing_0 19 rfl rfl)
theorem dX7_newThing_20 : decode cX7_newThing 20 = .ok (.aload_n 0, 1) := dk_42 (dk_at dksX7_newThing_0 20 rfl rfl)
theorem dX7_newThing_21 : decode cX7_newThing 21 = .ok (.iload_n 2, 1) := dk_28 (dk_at dksX7_newThing_0 21 rfl rfl)
theorem dX7_newThing_22 : decode cX7_newThing 22 = .ok (.ifCond .ne 19, 3) := dk_154 0 19 (dk_at dksX7_newThing_1 0 rfl rfl)
theorem dX7_newThing_25 : decode cX7_newThing 25 = .ok (.iload_n 3, 1) := dk_29 (dk_at dksX7_newThing_1 3 rfl rfl)
theorem dX7_newThing_26 : decode cX7_newThing 26 = .ok (.ifCond .ne 15, 3) := dk_154 0 15 (dk_at dksX7_newThing_1 4 rfl rfl)
theorem dX7_newThing_29 : decode cX7_newThing 29 = .ok (.aload_n 0, 1) := dk_42 (dk_at dksX7_newThing_1 7 rfl rfl)
theorem dX7_newThing_30 : decode cX7_newThing 30 = .ok (.getfield 24, 3) := dk_180 0 24 (dk_at dksX7_newThing_1 8 rfl rfl)
theorem dX7_newThing_33 : decode cX7_newThing 33 = .ok (.ldc 206, 2) := dk_18 206 (dk_at dksX7_newThing_1 11 rfl rfl)
theorem dX7_newThing_35 : decode cX7_newThing 35 = .ok (.invokevirtual 124, 3) := dk_182 0 124 (dk_at dksX7_newThing_1 13 rfl rfl)
theorem dX7_newThing_38 : decode cX7_newThing 38 = .ok (.ifCond .eq 7, 3) := dk_153 0 7 (dk_at dksX7_newThing_1 16 rfl rfl)
theorem dX7_newThing_41 : decode cX7_newThing 41 = .ok (.iconst 1, 1) := dk_4 (dk_at dksX7_newThing_1 19 rfl rfl)
theorem dX7_newThing_42 : decode cX7_newThing 42 = .ok (.goto 4, 3) := dk_167 0 4 (dk_at dksX7_newThing_1 20 rfl rfl)
theorem dX7_newThing_45 : decode cX7_newThing 45 = .ok (.iconst 0, 1) := dk_3 (dk_at dksX7_newThing_1 23 rfl rfl)
theorem dX7_newThing_46 : decode cX7_newThing 46 = .ok (.iconst 1, 1) := dk_4 (dk_at dksX7_newThing_2 0 rfl rfl)
theorem dX7_newThing_47 : decode cX7_newThing 47 = .ok (.invokevirtual 94, 3) := dk_182 0 94 (dk_at dksX7_newThing_2 1 rfl rfl)
theorem dX7_newThing_50 : decode cX7_newThing 50 = .ok (.aload_n 0, 1) := dk_42 (dk_at dksX7_newThing_2 4 rfl rfl)
theorem dX7_newThing_51 : decode cX7_newThing 51 = .ok (.iload_n 2, 1) := dk_28 (dk_at dksX7_newThing_2 5 rfl rfl)
theorem dX7_newThing_52 : decode cX7_newThing 52 = .ok (.ifCond .eq 12, 3) := dk_153 0 12 (dk_at dksX7_newThing_2 6 rfl rfl)
theorem dX7_newThing_55 : decode cX7_newThing 55 = .ok (.aload_n 1, 1) := dk_43 (dk_at dksX7_newThing_2 9 rfl rfl)
theorem dX7_newThing_56 : decode cX7_newThing 56 = .ok (.invokevirtual 208, 3) := dk_182 0 208 (dk_at dksX7_newThing_2 10 rfl rfl)
theorem dX7_newThing_59 : decode cX7_newThing 59 = .ok (.bipush 10, 2) := dk_16 10 (dk_at dksX7_newThing_2 13 rfl rfl)
theorem dX7_newThing_61 : decode cX7_newThing 61 = .ok (.if_icmp .ge 7, 3) := dk_162 0 7 (dk_at dksX7_newThing_2 15 rfl rfl)
theorem dX7_newThing_64 : decode cX7_newThing 64 = .ok (.iconst 1, 1) := dk_4 (dk_at dksX7_newThing_2 18 rfl rfl)
theorem dX7_newThing_65 : decode cX7_newThing 65 = .ok (.goto 4, 3) := dk_167 0 4 (dk_at dksX7_newThing_2 19 rfl rfl)
theorem dX7_newThing_68 : decode cX7_newThing 68 = .ok (.iconst 0, 1) := dk_3 (dk_at dksX7_newThing_2 22 rfl rfl)
theorem dX7_newThing_69 : decode cX7_newThing 69 = .ok (.iconst 4, 1) := dk_7 (dk_at dksX7_newThing_2 23 rfl rfl)
theorem dX7_newThing_70 : decode cX7_newThing 70 = .ok (.invokevirtual 94, 3) := dk_182 0 94 (dk_at dksX7_newThing_3 0 rfl rfl)
theorem dX7_newThing_73 : decode cX7_newThing 73 = .ok (.aload_n 0, 1) := dk_42 (dk_at dksX7_newThing_3 3 rfl rfl)
theorem dX7_newThing_74 : decode cX7_newThing 74 = .ok (.invokevirtual 28, 3) := dk_182 0 28 (dk_at dksX7_newThing_3 4 rfl rfl)
theorem dX7_newThing_77 : decode cX7_newThing 77 = .ok (.aload_n 0, 1) := dk_42 (dk_at dksX7_newThing_3 7 rfl rfl)
theorem dX7_newThing_78 : decode cX7_newThing 78 = .ok (.aload_n 1, 1) := dk_43 (dk_at dksX7_newThing_3 8 rfl rfl)
theorem dX7_newThing_79 : decode cX7_newThing 79 = .ok (.invokevirtual 175, 3) := dk_182 0 175 (dk_at dksX7_newThing_3 9 rfl rfl)
theorem dX7_newThing_82 : decode cX7_newThing 82 = .ok (.istore 4, 2) := dk_54 4 (dk_at dksX7_newThing_3 12 rfl rfl)
theorem dX7_newThing_84 : decode cX7_newThing 84 = .ok (.aload_n 0, 1) := dk_42 (dk_at dksX7_newThing_3 14 rfl rfl)
theorem dX7_newThing_85 : decode cX7_newThing 85 = .ok (.aload_n 1, 1) := dk_43 (dk_at dksX7_newThing_3 15 rfl rfl)
theorem dX7_newThing_86 : decode cX7_newThing 86 = .ok (.iload 4, 2) := dk_21 4 (dk_at dksX7_newThing_3 16 rfl rfl)
theorem dX7_newThing_88 : decode cX7_newThing 88 = .ok (.invokevirtual 179, 3) := dk_182 0 179 (dk_at dksX7_newThing_3 18 rfl rfl)
theorem dX7_newThing_91 : decode cX7_newThing 91 = .ok (.ifCond .eq 17, 3) := dk_153 0 17 (dk_at dksX7_newThing_3 21 rfl rfl)
theorem dX7_newThing_94 : decode cX7_newThing 94 = .ok (.aload_n 1, 1) := dk_43 (dk_at dksX7_newThing_4 0 rfl rfl)
theorem dX7_newThing_95 : decode cX7_newThing 95 = .ok (.getfield 211, 3) := dk_180 0 211 (dk_at dksX7_newThing_4 1 rfl rfl)
theorem dX7_newThing_98 : decode cX7_newThing 98 = .ok (.iload 4, 2) := dk_21 4 (dk_at dksX7_newThing_4 4 rfl rfl)
theorem dX7_newThing_100 : decode cX7_newThing 100 = .ok (.baload, 1) := dk_51 (dk_at dksX7_newThing_4 6 rfl rfl)
theorem dX7_newThing_101 : decode cX7_newThing 101 = .ok (.ifCond .ne 7, 3) := dk_154 0 7 (dk_at dksX7_newThing_4 7 rfl rfl)
theorem dX7_newThing_104 : decode cX7_newThing 104 = .ok (.iconst 1, 1) := dk_4 (dk_at dksX7_newThing_4 10 rfl rfl)
theorem dX7_newThing_105 : decode cX7_newThing 105 = .ok (.goto 4, 3) := dk_167 0 4 (dk_at dksX7_newThing_4 11 rfl rfl)
theorem dX7_newThing_108 : decode cX7_newThing 108 = .ok (.iconst 0, 1) := dk_3 (dk_at dksX7_newThing_4 14 rfl rfl)
theorem dX7_newThing_109 : decode cX7_newThing 109 = .ok (.iconst 3, 1) := dk_6 (dk_at dksX7_newThing_4 15 rfl rfl)
theorem dX7_newThing_110 : decode cX7_newThing 110 = .ok (.invokevirtual 94, 3) := dk_182 0 94 (dk_at dksX7_newThing_4 16 rfl rfl)
theorem dX7_newThing_113 : decode cX7_newThing 113 = .ok (.iload_n 2, 1) := dk_28 (dk_at dksX7_newThing_4 19 rfl rfl)
theorem dX7_newThing_114 : decode cX7_newThing 114 = .ok (.ifCond .eq 20, 3) := dk_153 0 20 (dk_at dksX7_newThing_4 20 rfl rfl)
theorem dX7_newThing_117 : decode cX7_newThing 117 = .ok (.aload_n 1, 1) := dk_43 (dk_at dksX7_newThing_4 23 rfl rfl)
theorem dX7_newThing_118 : decode cX7_newThing 118 = .ok (.getfield 211, 3) := dk_180 0 211 (dk_at dksX7_newThing_5 0 rfl rfl)
theorem dX7_newThing_121 : decode cX7_newThing 121 = .ok (.iload 4, 2) := dk_21 4 (dk_at dksX7_newThing_5 3 rfl rfl)
theorem dX7_newThing_123 : decode cX7_newThing 123 = .ok (.iconst 1, 1) := dk_4 (dk_at dksX7_newThing_5 5 rfl rfl)
theorem dX7_newThing_124 : decode cX7_newThing 124 = .ok (.bastore, 1) := dk_84 (dk_at dksX7_newThing_5 6 rfl rfl)
theorem dX7_newThing_125 : decode cX7_newThing 125 = .ok (.aload_n 0, 1) := dk_42 (dk_at dksX7_newThing_5 7 rfl rfl)
theorem dX7_newThing_126 : decode cX7_newThing 126 = .ok (.aload_n 1, 1) := dk_43 (dk_at dksX7_newThing_5 8 rfl rfl)
theorem dX7_newThing_127 : decode cX7_newThing 127 = .ok (.invokevirtual 215, 3) := dk_182 0 215 (dk_at dksX7_newThing_5 9 rfl rfl)
theorem dX7_newThing_130 : decode cX7_newThing 130 = .ok (.iconst 3, 1) := dk_6 (dk_at dksX7_newThing_5 12 rfl rfl)
theorem dX7_newThing_131 : decode cX7_newThing 131 = .ok (.invokevirtual 94, 3) := dk_182 0 94 (dk_at dksX7_newThing_5 13 rfl rfl)
theorem dX7_newThing_134 : decode cX7_newThing 134 = .ok (.aload_n 0, 1) := dk_42 (dk_at dksX7_newThing_5 16 rfl rfl)
theorem dX7_newThing_135 : decode cX7_newThing 135 = .ok (.invokevirtual 28, 3) := dk_182 0 28 (dk_at dksX7_newThing_5 17 rfl rfl)
theorem dX7_newThing_138 : decode cX7_newThing 138 = .ok (.iload_n 3, 1) := dk_29 (dk_at dksX7_newThing_5 20 rfl rfl)
theorem dX7_newThing_139 : decode cX7_newThing 139 = .ok (.ifCond .eq 10, 3) := dk_153 0 10 (dk_at dksX7_newThing_5 21 rfl rfl)
theorem dX7_newThing_142 : decode cX7_newThing 142 = .ok (.aload_n 1, 1) := dk_43 (dk_at dksX7_newThing_6 0 rfl rfl)
theorem dX7_newThing_143 : decode cX7_newThing 143 = .ok (.iload 4, 2) := dk_21 4 (dk_at dksX7_newThing_6 1 rfl rfl)
theorem dX7_newThing_145 : decode cX7_newThing 145 = .ok (.iconst 1, 1) := dk_4 (dk_at dksX7_newThing_6 3 rfl rfl)
theorem dX7_newThing_146 : decode cX7_newThing 146 = .ok (.invokevirtual 218, 3) := dk_182 0 218 (dk_at dksX7_newThing_6 4 rfl rfl)
theorem dX7_newThing_149 : decode cX7_newThing 149 = .ok (.iload_n 2, 1) := dk_28 (dk_at dksX7_newThing_6 7 rfl rfl)
theorem dX7_newThing_150 : decode cX7_newThing 150 = .ok (.ifCond .ne 7, 3) := dk_154 0 7 (dk_at dksX7_newThing_6 8 rfl rfl)
theorem dX7_newThing_153 : decode cX7_newThing 153 = .ok (.iload_n 3, 1) := dk_29 (dk_at dksX7_newThing_6 11 rfl rfl)
theorem dX7_newThing_154 : decode cX7_newThing 154 = .ok (.ifCond .eq 4, 3) := dk_153 0 4 (dk_at dksX7_newThing_6 12 rfl rfl)
theorem dX7_newThing_157 : decode cX7_newThing 157 = .ok (.return_, 1) := dk_177 (dk_at dksX7_newThing_6 15 rfl rfl)
theorem dX7_newThing_158 : decode cX7_newThing 158 = .ok (.aload_n 0, 1) := dk_42 (dk_at dksX7_newThing_6 16 rfl rfl)
theorem dX7_newThing_159 : decode cX7_newThing 159 = .ok (.iconst 0, 1) := dk_3 (dk_at dksX7_newThing_6 17 rfl rfl)
theorem dX7_newThing_160 : decode cX7_newThing 160 = .ok (.bipush 9, 2) := dk_16 9 (dk_at dksX7_newThing_6 18 rfl rfl)
theorem dX7_newThing_162 : decode cX7_newThing 162 = .ok (.invokevirtual 134, 3) := dk_182 0 134 (dk_at dksX7_newThing_6 20 rfl rfl)
theorem dX7_newThing_165 : decode cX7_newThing 165 = .ok (.istore 5, 2) := dk_54 5 (dk_at dksX7_newThing_7 0 rfl rfl)
theorem dX7_newThing_167 : decode cX7_newThing 167 = .ok (.aload_n 1, 1) := dk_43 (dk_at dksX7_newThing_7 2 rfl rfl)
theorem dX7_newThing_168 : decode cX7_newThing 168 = .ok (.dup, 1) := dk_89 (dk_at dksX7_newThing_7 3 rfl rfl)
theorem dX7_newThing_169 : decode cX7_newThing 169 = .ok (.getfield 221, 3) := dk_180 0 221 (dk_at dksX7_newThing_7 4 rfl rfl)
theorem dX7_newThing_172 : decode cX7_newThing 172 = .ok (.iload 5, 2) := dk_21 5 (dk_at dksX7_newThing_7 7 rfl rfl)
theorem dX7_newThing_174 : decode cX7_newThing 174 = .ok (.aload_n 1, 1) := dk_43 (dk_at dksX7_newThing_7 9 rfl rfl)
theorem dX7_newThing_175 : decode cX7_newThing 175 = .ok (.getfield 224, 3) := dk_180 0 224 (dk_at dksX7_newThing_7 10 rfl rfl)
theorem dX7_newThing_178 : decode cX7_newThing 178 = .ok (.iload 4, 2) := dk_21 4 (dk_at dksX7_newThing_7 13 rfl rfl)
theorem dX7_newThing_180 : decode cX7_newThing 180 = .ok (.iaload, 1) := dk_46 (dk_at dksX7_newThing_7 15 rfl rfl)
theorem dX7_newThing_181 : decode cX7_newThing 181 = .ok (.isub, 1) := dk_100 (dk_at dksX7_newThing_7 16 rfl rfl)
theorem dX7_newThing_182 : decode cX7_newThing 182 = .ok (.iadd, 1) := dk_96 (dk_at dksX7_newThing_7 17 rfl rfl)
theorem dX7_newThing_183 : decode cX7_newThing 183 = .ok (.putfield 221, 3) := dk_181 0 221 (dk_at dksX7_newThing_7 18 rfl rfl)
theorem dX7_newThing_186 : decode cX7_newThing 186 = .ok (.aload_n 1, 1) := dk_43 (dk_at dksX7_newThing_7 21 rfl rfl)
theorem dX7_newThing_187 : decode cX7_newThing 187 = .ok (.getfield 224, 3) := dk_180 0 224 (dk_at dksX7_newThing_8 0 rfl rfl)
theorem dX7_newThing_190 : decode cX7_newThing 190 = .ok (.iload 4, 2) := dk_21 4 (dk_at dksX7_newThing_8 3 rfl rfl)
theorem dX7_newThing_192 : decode cX7_newThing 192 = .ok (.iload 5, 2) := dk_21 5 (dk_at dksX7_newThing_8 5 rfl rfl)
theorem dX7_newThing_194 : decode cX7_newThing 194 = .ok (.iastore, 1) := dk_79 (dk_at dksX7_newThing_8 7 rfl rfl)
theorem dX7_newThing_195 : decode cX7_newThing 195 = .ok (.return_, 1) := dk_177 (dk_at dksX7_newThing_8 8 rfl rfl)
def dkwX7_orders_2 : List UInt8 := [28, 42, 182, 0, 233, 83, 42, 182, 0, 142, 132, 2, 1, 167, 255, 204, 43, 176]
abbrev dktX7_orders_2 : List UInt8 := dkwX7_orders_2 ++ []
def dkwX7_orders_1 : List UInt8 := [184, 0, 229, 4, 182, 0, 94, 42, 28, 16, 30, 162, 0, 7, 4, 167, 0, 4, 3, 7, 182, 0, 94, 43]
abbrev dktX7_orders_1 : List UInt8 := dkwX7_orders_1 ++ dktX7_orders_2
def dkwX7_orders_0 : List UInt8 := [16, 31, 189, 0, 227, 76, 3, 61, 42, 180, 0, 35, 178, 0, 54, 165, 0, 48, 42, 42, 180, 0, 24]
abbrev dktX7_orders_0 : List UInt8 := dkwX7_orders_0 ++ dktX7_orders_1
theorem dksX7_orders_0 : cX7_orders.data.toList.drop 0 = dktX7_orders_0 := by decide +kernel
theorem dksX7_orders_1 : cX7_orders.data.toList.drop 23 = dktX7_orders_1 := dk_seg dksX7_orders_0 23 rfl rfl
theorem dksX7_orders_2 : cX7_orders.data.toList.drop 47 = dktX7_orders_2 := dk_seg dksX7_orders_1 24 rfl rfl
theorem dX7_orders_0 : decode cX7_orders 0 = .ok (.bipush 31, 2) := dk_16 31 (dk_at dksX7_orders_0 0 rfl rfl)
theorem dX7_orders_2 : decode cX7_orders 2 = .ok (.anewarray 227, 3) := dk_189 0 227 (dk_at dksX7_orders_0 2 rfl rfl)
theorem dX7_orders_5 : decode cX7_orders 5 = .ok (.astore_n 1, 1) := dk_76 (dk_at dksX7_orders_0 5 rfl rfl)
theorem dX7_orders_6 : decode cX7_orders 6 = .ok (.iconst 0, 1) := dk_3 (dk_at dksX7_orders_0 6 rfl rfl)
theorem dX7_orders_7 : decode cX7_orders 7 = .ok (.istore_n 2, 1) := dk_61 (dk_at dksX7_orders_0 7 rfl rfl)
theorem dX7_orders_8 : decode cX7_orders 8 = .ok (.aload_n 0, 1) := dk_42 (dk_at dksX7_orders_0 8 rfl rfl)
theorem dX7_orders_9 : decode cX7_orders 9 = .ok (.getfield 35, 3) := dk_180 0 35 (dk_at dksX7_orders_0 9 rfl rfl)
theorem dX7_orders_12 : decode cX7_orders 12 = .ok (.getstatic 54, 3) := dk_178 0 54 (dk_at dksX7_orders_0 12 rfl rfl)
theorem dX7_orders_15 : decode cX7_orders 15 = .ok (.if_acmp .eq 48, 3) := dk_165 0 48 (dk_at dksX7_orders_0 15 rfl rfl)
theorem dX7_orders_18 : decode cX7_orders 18 = .ok (.aload_n 0, 1) := dk_42 (dk_at dksX7_orders_0 18 rfl rfl)
theorem dX7_orders_19 : decode cX7_orders 19 = .ok (.aload_n 0, 1) := dk_42 (dk_at dksX7_orders_0 19 rfl rfl)
theorem dX7_orders_20 : decode cX7_orders 20 = .ok (.getfield 24, 3) := dk_180 0 24 (dk_at dksX7_orders_0 20 rfl rfl)
theorem dX7_orders_23 : decode cX7_orders 23 = .ok (.invokestatic 229, 3) := dk_184 0 229 (dk_at dksX7_orders_1 0 rfl rfl)
theorem dX7_orders_26 : decode cX7_orders 26 = .ok (.iconst 1, 1) := dk_4 (dk_at dksX7_orders_1 3 rfl rfl)
theorem dX7_orders_27 : decode cX7_orders 27 = .ok (.invokevirtual 94, 3) := dk_182 0 94 (dk_at dksX7_orders_1 4 rfl rfl)
theorem dX7_orders_30 : decode cX7_orders 30 = .ok (.aload_n 0, 1) := dk_42 (dk_at dksX7_orders_1 7 rfl rfl)
theorem dX7_orders_31 : decode cX7_orders 31 = .ok (.iload_n 2, 1) := dk_28 (dk_at dksX7_orders_1 8 rfl rfl)
theorem dX7_orders_32 : decode cX7_orders 32 = .ok (.bipush 30, 2) := dk_16 30 (dk_at dksX7_orders_1 9 rfl rfl)
theorem dX7_orders_34 : decode cX7_orders 34 = .ok (.if_icmp .ge 7, 3) := dk_162 0 7 (dk_at dksX7_orders_1 11 rfl rfl)
theorem dX7_orders_37 : decode cX7_orders 37 = .ok (.iconst 1, 1) := dk_4 (dk_at dksX7_orders_1 14 rfl rfl)
theorem dX7_orders_38 : decode cX7_orders 38 = .ok (.goto 4, 3) := dk_167 0 4 (dk_at dksX7_orders_1 15 rfl rfl)
theorem dX7_orders_41 : decode cX7_orders 41 = .ok (.iconst 0, 1) := dk_3 (dk_at dksX7_orders_1 18 rfl rfl)
theorem dX7_orders_42 : decode cX7_orders 42 = .ok (.iconst 4, 1) := dk_7 (dk_at dksX7_orders_1 19 rfl rfl)
theorem dX7_orders_43 : decode cX7_orders 43 = .ok (.invokevirtual 94, 3) := dk_182 0 94 (dk_at dksX7_orders_1 20 rfl rfl)
theorem dX7_orders_46 : decode cX7_orders 46 = .ok (.aload_n 1, 1) := dk_43 (dk_at dksX7_orders_1 23 rfl rfl)
theorem dX7_orders_47 : decode cX7_orders 47 = .ok (.iload_n 2, 1) := dk_28 (dk_at dksX7_orders_2 0 rfl rfl)
theorem dX7_orders_48 : decode cX7_orders 48 = .ok (.aload_n 0, 1) := dk_42 (dk_at dksX7_orders_2 1 rfl rfl)
theorem dX7_orders_49 : decode cX7_orders 49 = .ok (.invokevirtual 233, 3) := dk_182 0 233 (dk_at dksX7_orders_2 2 rfl rfl)
theorem dX7_orders_52 : decode cX7_orders 52 = .ok (.aastore, 1) := dk_83 (dk_at dksX7_orders_2 5 rfl rfl)
theorem dX7_orders_53 : decode cX7_orders 53 = .ok (.aload_n 0, 1) := dk_42 (dk_at dksX7_orders_2 6 rfl rfl)
theorem dX7_orders_54 : decode cX7_orders 54 = .ok (.invokevirtual 142, 3) := dk_182 0 142 (dk_at dksX7_orders_2 7 rfl rfl)
theorem dX7_orders_57 : decode cX7_orders 57 = .ok (.iinc 2 1, 3) := dk_132 2 1 (dk_at dksX7_orders_2 10 rfl rfl)
theorem dX7_orders_60 : decode cX7_orders 60 = .ok (.goto (-52), 3) := dk_167 255 204 (dk_at dksX7_orders_2 13 rfl rfl)
theorem dX7_orders_63 : decode cX7_orders 63 = .ok (.aload_n 1, 1) := dk_43 (dk_at dksX7_orders_2 16 rfl rfl)
theorem dX7_orders_64 : decode cX7_orders 64 = .ok (.areturn, 1) := dk_176 (dk_at dksX7_orders_2 17 rfl rfl)
def dkwX7_change_8 : List UInt8 := [16, 7, 182, 0, 134, 182, 1, 4, 176]
abbrev dktX7_change_8 : List UInt8 := dkwX7_change_8 ++ []
def dkwX7_change_7 : List UInt8 := [180, 0, 186, 2, 182, 0, 189, 182, 1, 1, 167, 0, 22, 42, 43, 42, 3, 16, 9, 182, 0, 134, 42, 3]
abbrev dktX7_change_7 : List UInt8 := dkwX7_change_7 ++ dktX7_change_8
def dkwX7_change_6 : List UInt8 := [180, 0, 186, 2, 182, 0, 189, 182, 0, 254, 167, 0, 44, 42, 42, 42, 180, 0, 3, 180, 0, 250]
abbrev dktX7_change_6 : List UInt8 := dkwX7_change_6 ++ dktX7_change_7
def dkwX7_change_5 : List UInt8 := [42, 42, 4, 16, 60, 182, 0, 134, 182, 0, 246, 167, 0, 66, 42, 42, 42, 180, 0, 3, 180, 0, 250]
abbrev dktX7_change_5 : List UInt8 := dkwX7_change_5 ++ dktX7_change_6
def dkwX7_change_4 : List UInt8 := [170, 0, 0, 0, 0, 0, 0, 86, 0, 0, 0, 0, 0, 0, 0, 2, 0, 0, 0, 28, 0, 0, 0, 42, 0, 0, 0, 64]
abbrev dktX7_change_4 : List UInt8 := dkwX7_change_4 ++ dktX7_change_5
def dkwX7_change_3 : List UInt8 := [62, 167, 0, 14, 44, 18, 244, 182, 0, 124, 153, 0, 5, 5, 62, 29]
abbrev dktX7_change_3 : List UInt8 := dkwX7_change_3 ++ dktX7_change_4
def dkwX7_change_2 : List UInt8 := [44, 18, 240, 182, 0, 124, 153, 0, 33, 3, 62, 167, 0, 28, 44, 18, 242, 182, 0, 124, 153, 0, 19, 4]
abbrev dktX7_change_2 : List UInt8 := dkwX7_change_2 ++ dktX7_change_3
def dkwX7_change_1 : List UInt8 := [171, 0, 0, 0, 0, 0, 74, 0, 0, 0, 3, 0, 1, 186, 139, 0, 0, 0, 35, 0, 54, 128, 125, 0, 0, 0, 63, 5, 231, 98, 139, 0, 0, 0, 49]
abbrev dktX7_change_1 : List UInt8 := dkwX7_change_1 ++ dktX7_change_2
def dkwX7_change_0 : List UInt8 := [42, 180, 0, 24, 76, 42, 182, 0, 28, 43, 77, 2, 62, 44, 182, 0, 237]
abbrev dktX7_change_0 : List UInt8 := dkwX7_change_0 ++ dktX7_change_1
theorem dksX7_change_0 : cX7_change.data.toList.drop 0 = dktX7_change_0 := by decide +kernel
theorem dksX7_change_1 : cX7_change.data.toList.drop 17 = dktX7_change_1 := dk_seg dksX7_change_0 17 rfl rfl
theorem dksX7_change_2 : cX7_change.data.toList.drop 52 = dktX7_change_2 := dk_seg dksX7_change_1 35 rfl rfl
theorem dksX7_change_3 : cX7_change.data.toList.drop 76 = dktX7_change_3 := dk_seg dksX7_change_2 24 rfl rfl
theorem dksX7_change_4 : cX7_change.data.toList.drop 92 = dktX7_change_4 := dk_seg dksX7_change_3 16 rfl rfl
theorem dksX7_change_5 : cX7_change.data.toList.drop 120 = dktX7_change_5 := dk_seg dksX7_change_4 28 rfl rfl
theorem dksX7_change_6 : cX7_change.data.toList.drop 143 = dktX7_change_6 := dk_seg dksX7_change_5 23 rfl rfl
theorem dksX7_change_7 : cX7_change.data.toList.drop 165 = dktX7_change_7 := dk_seg dksX7_change_6 22 rfl rfl
theorem dksX7_change_8 : cX7_change.data.toList.drop 189 = dktX7_change_8 := dk_seg dksX7_change_7 24 rfl rfl
theorem dX7_change_0 : decode cX7_change 0 = .ok (.aload_n 0, 1) := dk_42 (dk_at dksX7_change_0 0 rfl rfl)
theorem dX7_change_1 : decode cX7_change 1 = .ok (.getfield 24, 3) := dk_180 0 24 (dk_at dksX7_change_0 1 rfl rfl)
theorem dX7_change_4 : decode cX7_change 4 = .ok (.astore_n 1, 1) := dk_76 (dk_at dksX7_change_0 4 rfl rfl)
theorem dX7_change_5 : decode cX7_change 5 = .ok (.aload_n 0, 1) := dk_42 (dk_at dksX7_change_0 5 rfl rfl)
theorem dX7_change_6 : decode cX7_change 6 = .ok (.invokevirtual 28, 3) := dk_182 0 28 (dk_at dksX7_change_0 6 rfl rfl)
theorem dX7_change_9 : decode cX7_change 9 = .ok (.aload_n 1, 1) := dk_43 (dk_at dksX7_change_0 9 rfl rfl)
theorem dX7_change_10 : decode cX7_change 10 = .ok (.astore_n 2, 1) := dk_77 (dk_at dksX7_change_0 10 rfl rfl)
theorem dX7_change_11 : decode cX7_change 11 = .ok (.iconst (-1), 1) := dk_2 (dk_at dksX7_change_0 11 rfl rfl)
theorem dX7_change_12 : decode cX7_change 12 = .ok (.istore_n 3, 1) := dk_62 (dk_at dksX7_change_0 12 rfl rfl)
theorem dX7_change_13 : decode cX7_change 13 = .ok (.aload_n 2, 1) := dk_44 (dk_at dksX7_change_0 13 rfl rfl)
theorem dX7_change_14 : decode cX7_change 14 = .ok (.invokevirtual 237, 3) := dk_182 0 237 (dk_at dksX7_change_0 14 rfl rfl)
theorem dX7_change_17 : decode cX7_change 17 = .ok (.lookupswitch 74 #[(113291, 35), (3571837, 63), (99050123, 49)], 35) := by decide +kernel
theorem dX7_change_52 : decode cX7_change 52 = .ok (.aload_n 2, 1) := dk_44 (dk_at dksX7_change_2 0 rfl rfl)
theorem dX7_change_53 : decode cX7_change 53 = .ok (.ldc 240, 2) := dk_18 240 (dk_at dksX7_change_2 1 rfl rfl)
theorem dX7_change_55 : decode cX7_change 55 = .ok (.invokevirtual 124, 3) := dk_182 0 124 (dk_at dksX7_change_2 3 rfl rfl)
theorem dX7_change_58 : decode cX7_change 58 = .ok (.ifCond .eq 33, 3) := dk_153 0 33 (dk_at dksX7_change_2 6 rfl rfl)
theorem dX7_change_61 : decode cX7_change 61 = .ok (.iconst 0, 1) := dk_3 (dk_at dksX7_change_2 9 rfl rfl)
theorem dX7_change_62 : decode cX7_change 62 = .ok (.istore_n 3, 1) := dk_62 (dk_at dksX7_change_2 10 rfl rfl)
theorem dX7_change_63 : decode cX7_change 63 = .ok (.goto 28, 3) := dk_167 0 28 (dk_at dksX7_change_2 11 rfl rfl)
theorem dX7_change_66 : decode cX7_change 66 = .ok (.aload_n 2, 1) := dk_44 (dk_at dksX7_change_2 14 rfl rfl)
theorem dX7_change_67 : decode cX7_change 67 = .ok (.ldc 242, 2) := dk_18 242 (dk_at dksX7_change_2 15 rfl rfl)
theorem dX7_change_69 : decode cX7_change 69 = .ok (.invokevirtual 124, 3) := dk_182 0 124 (dk_at dksX7_change_2 17 rfl rfl)
theorem dX7_change_72 : decode cX7_change 72 = .ok (.ifCond .eq 19, 3) := dk_153 0 19 (dk_at dksX7_change_2 20 rfl rfl)
theorem dX7_change_75 : decode cX7_change 75 = .ok (.iconst 1, 1) := dk_4 (dk_at dksX7_change_2 23 rfl rfl)
theorem dX7_change_76 : decode cX7_change 76 = .ok (.istore_n 3, 1) := dk_62 (dk_at dksX7_change_3 0 rfl rfl)
theorem dX7_change_77 : decode cX7_change 77 = .ok (.goto 14, 3) := dk_167 0 14 (dk_at dksX7_change_3 1 rfl rfl)
theorem dX7_change_80 : decode cX7_change 80 = .ok (.aload_n 2, 1) := dk_44 (dk_at dksX7_change_3 4 rfl rfl)
theorem dX7_change_81 : decode cX7_change 81 = .ok (.ldc 244, 2) := dk_18 244 (dk_at dksX7_change_3 5 rfl rfl)
theorem dX7_change_83 : decode cX7_change 83 = .ok (.invokevirtual 124, 3) := dk_182 0 124 (dk_at dksX7_change_3 7 rfl rfl)
theorem dX7_change_86 : decode cX7_change 86 = .ok (.ifCond .eq 5, 3) := dk_153 0 5 (dk_at dksX7_change_3 10 rfl rfl)
theorem dX7_change_89 : decode cX7_change 89 = .ok (.iconst 2, 1) := dk_5 (dk_at dksX7_change_3 13 rfl rfl)
theorem dX7_change_90 : decode cX7_change 90 = .ok (.istore_n 3, 1) := dk_62 (dk_at dksX7_change_3 14 rfl rfl)
theorem dX7_change_91 : decode cX7_change 91 = .ok (.iload_n 3, 1) := dk_29 (dk_at dksX7_change_3 15 rfl rfl)
theorem dX7_change_92 : decode cX7_change 92 = .ok (.tableswitch 86 0 2 #[28, 42, 64], 28) := by decide +kernel
theorem dX7_change_120 : decode cX7_change 120 = .ok (.aload_n 0, 1) := dk_42 (dk_at dksX7_change_5 0 rfl rfl)
theorem dX7_change_121 : decode cX7_change 121 = .ok (.aload_n 0, 1) := dk_42 (dk_at dksX7_change_5 1 rfl rfl)
theorem dX7_change_122 : decode cX7_change 122 = .ok (.iconst 1, 1) := dk_4 (dk_at dksX7_change_5 2 rfl rfl)
theorem dX7_change_123 : decode cX7_change 123 = .ok (.bipush 60, 2) := dk_16 60 (dk_at dksX7_change_5 3 rfl rfl)
theorem dX7_change_125 : decode cX7_change 125 = .ok (.invokevirtual 134, 3) := dk_182 0 134 (dk_at dksX7_change_5 5 rfl rfl)
theorem dX7_change_128 : decode cX7_change 128 = .ok (.invokevirtual 246, 3) := dk_182 0 246 (dk_at dksX7_change_5 8 rfl rfl)
theorem dX7_change_131 : decode cX7_change 131 = .ok (.goto 66, 3) := dk_167 0 66 (dk_at dksX7_change_5 11 rfl rfl)
theorem dX7_change_134 : decode cX7_change 134 = .ok (.aload_n 0, 1) := dk_42 (dk_at dksX7_change_5 14 rfl rfl)
theorem dX7_change_135 : decode cX7_change 135 = .ok (.aload_n 0, 1) := dk_42 (dk_at dksX7_change_5 15 rfl rfl)
theorem dX7_change_136 : decode cX7_change 136 = .ok (.aload_n 0, 1) := dk_42 (dk_at dksX7_change_5 16 rfl rfl)
theorem dX7_change_137 : decode cX7_change 137 = .ok (.getfield 3, 3) := dk_180 0 3 (dk_at dksX7_change_5 17 rfl rfl)
theorem dX7_change_140 : decode cX7_change 140 = .ok (.getfield 250, 3) := dk_180 0 250 (dk_at dksX7_change_5 20 rfl rfl)
theorem dX7_change_143 : decode cX7_change 143 = .ok (.getfield 186, 3) := dk_180 0 186 (dk_at dksX7_change_6 0 rfl rfl)
theorem dX7_change_146 : decode cX7_change 146 = .ok (.iconst (-1), 1) := dk_2 (dk_at dksX7_change_6 3 rfl rfl)
theorem dX7_change_147 : decode cX7_change 147 = .ok (.invokevirtual 189, 3) := dk_182 0 189 (dk_at dksX7_change_6 4 rfl rfl)
theorem dX7_change_150 : decode cX7_change 150 = .ok (.invokevirtual 254, 3) := dk_182 0 254 (dk_at dksX7_change_6 7 rfl rfl)
theorem dX7_change_153 : decode cX7_change 153 = .ok (.goto 44, 3) := dk_167 0 44 (dk_at dksX7_change_6 10 rfl rfl)
theorem dX7_change_156 : decode cX7_change 156 = .ok (.aload_n 0, 1) := dk_42 (dk_at dksX7_change_6 13 rfl rfl)
theorem dX7_change_157 : decode cX7_change 157 = .ok (.aload_n 0, 1) := dk_42 (dk_at dksX7_change_6 14 rfl rfl)
theorem dX7_change_158 : decode cX7_change 158 = .ok (.aload_n 0, 1) := dk_42 (dk_at dksX7_change_6 15 rfl rfl)
theorem dX7_change_159 : decode cX7_change 159 = .ok (.getfield 3, 3) := dk_180 0 3 (dk_at dksX7_change_6 16 rfl rfl)
theorem dX7_change_162 : decode cX7_change 162 = .ok (.getfield 250, 3) := dk_180 0 250 (dk_at dksX7_change_6 19 rfl rfl)
theorem dX7_change_165 : decode cX7_change 165 = .ok (.getfield 186, 3) := dk_180 0 186 (dk_at dksX7_change_7 0 rfl rfl)
theorem dX7_change_168 : decode cX7_change 168 = .ok (.iconst (-1), 1) := dk_2 (dk_at dksX7_change_7 3 rfl rfl)
theorem dX7_change_169 : decode cX7_change 169 = .ok (.invokevirtual 189, 3) := dk_182 0 189 (dk_at dksX7_change_7 4 rfl rfl)
theorem dX7_change_172 : decode cX7_change 172 = .ok (.invokevirtual 257, 3) := dk_182 1 1 (dk_at dksX7_change_7 7 rfl rfl)
theorem dX7_change_175 : decode cX7_change 175 = .ok (.goto 22, 3) := dk_167 0 22 (dk_at dksX7_change_7 10 rfl rfl)
theorem dX7_change_178 : decode cX7_change 178 = .ok (.aload_n 0, 1) := dk_42 (dk_at dksX7_change_7 13 rfl rfl)
theorem dX7_change_179 : decode cX7_change 179 = .ok (.aload_n 1, 1) := dk_43 (dk_at dksX7_change_7 14 rfl rfl)
theorem dX7_change_180 : decode cX7_change 180 = .ok (.aload_n 0, 1) := dk_42 (dk_at dksX7_change_7 15 rfl rfl)
theorem dX7_change_181 : decode cX7_change 181 = .ok (.iconst 0, 1) := dk_3 (dk_at dksX7_change_7 16 rfl rfl)
theorem dX7_change_182 : decode cX7_change 182 = .ok (.bipush 9, 2) := dk_16 9 (dk_at dksX7_change_7 17 rfl rfl)
theorem dX7_change_184 : decode cX7_change 184 = .ok (.invokevirtual 134, 3) := dk_182 0 134 (dk_at dksX7_change_7 19 rfl rfl)
theorem dX7_change_187 : decode cX7_change 187 = .ok (.aload_n 0, 1) := dk_42 (dk_at dksX7_change_7 22 rfl rfl)
theorem dX7_change_188 : decode cX7_change 188 = .ok (.iconst 0, 1) := dk_3 (dk_at dksX7_change_7 23 rfl rfl)
theorem dX7_change_189 : decode cX7_change 189 = .ok (.bipush 7, 2) := dk_16 7 (dk_at dksX7_change_8 0 rfl rfl)
theorem dX7_change_191 : decode cX7_change 191 = .ok (.invokevirtual 134, 3) := dk_182 0 134 (dk_at dksX7_change_8 2 rfl rfl)
theorem dX7_change_194 : decode cX7_change 194 = .ok (.invokevirtual 260, 3) := dk_182 1 4 (dk_at dksX7_change_8 5 rfl rfl)
theorem dX7_change_197 : decode cX7_change 197 = .ok (.areturn, 1) := dk_176 (dk_at dksX7_change_8 8 rfl rfl)
theorem dX7_running_0 : decode cX7_running 0 = .ok (.iload_n 1, 1) := by decide +kernel
theorem dX7_running_1 : decode cX7_running 1 = .ok (.invokedynamic 264, 5) := by decide +kernel
theorem dX7_running_6 : decode cX7_running 6 = .ok (.areturn, 1) := by decide +kernel
def dkwX7_lambda_running_0_0 : List UInt8 := [43, 26, 182, 1, 43, 172]
abbrev dktX7_lambda_running_0_0 : List UInt8 := dkwX7_lambda_running_0_0 ++ []
theorem dksX7_lambda_running_0_0 : cX7_lambda_running_0.data.toList.drop 0 = dktX7_lambda_running_0_0 := by decide +kernel
theorem dX7_lambda_running_0_0 : decode cX7_lambda_running_0 0 = .ok (.aload_n 1, 1) := dk_43 (dk_at dksX7_lambda_running_0_0 0 rfl rfl)
theorem dX7_lambda_running_0_1 : decode cX7_lambda_running_0 1 = .ok (.iload_n 0, 1) := dk_26 (dk_at dksX7_lambda_running_0_0 1 rfl rfl)
theorem dX7_lambda_running_0_2 : decode cX7_lambda_running_0 2 = .ok (.invokevirtual 299, 3) := dk_182 1 43 (dk_at dksX7_lambda_running_0_0 2 rfl rfl)
theorem dX7_lambda_running_0_5 : decode cX7_lambda_running_0 5 = .ok (.ireturn, 1) := dk_172 (dk_at dksX7_lambda_running_0_0 5 rfl rfl)
def dkwX7_hastening_0 : List UInt8 := [42, 3, 16, 9, 182, 0, 134, 61, 27, 28, 186, 1, 11, 0, 0, 176]
abbrev dktX7_hastening_0 : List UInt8 := dkwX7_hastening_0 ++ []
theorem dksX7_hastening_0 : cX7_hastening.data.toList.drop 0 = dktX7_hastening_0 := by decide +kernel
theorem dX7_hastening_0 : decode cX7_hastening 0 = .ok (.aload_n 0, 1) := dk_42 (dk_at dksX7_hastening_0 0 rfl rfl)
theorem dX7_hastening_1 : decode cX7_hastening 1 = .ok (.iconst 0, 1) := dk_3 (dk_at dksX7_hastening_0 1 rfl rfl)
theorem dX7_hastening_2 : decode cX7_hastening 2 = .ok (.bipush 9, 2) := dk_16 9 (dk_at dksX7_hastening_0 2 rfl rfl)
theorem dX7_hastening_4 : decode cX7_hastening 4 = .ok (.invokevirtual 134, 3) := dk_182 0 134 (dk_at dksX7_hastening_0 4 rfl rfl)
theorem dX7_hastening_7 : decode cX7_hastening 7 = .ok (.istore_n 2, 1) := dk_61 (dk_at dksX7_hastening_0 7 rfl rfl)
theorem dX7_hastening_8 : decode cX7_hastening 8 = .ok (.iload_n 1, 1) := dk_27 (dk_at dksX7_hastening_0 8 rfl rfl)
theorem dX7_hastening_9 : decode cX7_hastening 9 = .ok (.iload_n 2, 1) := dk_28 (dk_at dksX7_hastening_0 9 rfl rfl)
theorem dX7_hastening_10 : decode cX7_hastening 10 = .ok (.invokedynamic 267, 5) := by decide +kernel
theorem dX7_hastening_15 : decode cX7_hastening 15 = .ok (.areturn, 1) := dk_176 (dk_at dksX7_hastening_0 15 rfl rfl)
def dkwX7_lambda_hastening_1_0 : List UInt8 := [44, 26, 27, 182, 1, 40, 172]
abbrev dktX7_lambda_hastening_1_0 : List UInt8 := dkwX7_lambda_hastening_1_0 ++ []
theorem dksX7_lambda_hastening_1_0 : cX7_lambda_hastening_1.data.toList.drop 0 = dktX7_lambda_hastening_1_0 := by decide +kernel
theorem dX7_lambda_hastening_1_0 : decode cX7_lambda_hastening_1 0 = .ok (.aload_n 2, 1) := dk_44 (dk_at dksX7_lambda_hastening_1_0 0 rfl rfl)
theorem dX7_lambda_hastening_1_1 : decode cX7_lambda_hastening_1 1 = .ok (.iload_n 0, 1) := dk_26 (dk_at dksX7_lambda_hastening_1_0 1 rfl rfl)
theorem dX7_lambda_hastening_1_2 : decode cX7_lambda_hastening_1 2 = .ok (.iload_n 1, 1) := dk_27 (dk_at dksX7_lambda_hastening_1_0 2 rfl rfl)
theorem dX7_lambda_hastening_1_3 : decode cX7_lambda_hastening_1 3 = .ok (.invokevirtual 296, 3) := dk_182 1 40 (dk_at dksX7_lambda_hastening_1_0 3 rfl rfl)
theorem dX7_lambda_hastening_1_6 : decode cX7_lambda_hastening_1 6 = .ok (.ireturn, 1) := dk_172 (dk_at dksX7_lambda_hastening_1_0 6 rfl rfl)
theorem dX7_turning_0 : decode cX7_turning 0 = .ok (.iload_n 1, 1) := by decide +kernel
theorem dX7_turning_1 : decode cX7_turning 1 = .ok (.invokedynamic 270, 5) := by decide +kernel
theorem dX7_turning_6 : decode cX7_turning 6 = .ok (.areturn, 1) := by decide +kernel
def dkwX7_lambda_turning_2_0 : List UInt8 := [43, 26, 182, 1, 37, 172]
abbrev dktX7_lambda_turning_2_0 : List UInt8 := dkwX7_lambda_turning_2_0 ++ []
theorem dksX7_lambda_turning_2_0 : cX7_lambda_turning_2.data.toList.drop 0 = dktX7_lambda_turning_2_0 := by decide +kernel
theorem dX7_lambda_turning_2_0 : decode cX7_lambda_turning_2 0 = .ok (.aload_n 1, 1) := dk_43 (dk_at dksX7_lambda_turning_2_0 0 rfl rfl)
theorem dX7_lambda_turning_2_1 : decode cX7_lambda_turning_2 1 = .ok (.iload_n 0, 1) := dk_26 (dk_at dksX7_lambda_turning_2_0 1 rfl rfl)
theorem dX7_lambda_turning_2_2 : decode cX7_lambda_turning_2 2 = .ok (.invokevirtual 293, 3) := dk_182 1 37 (dk_at dksX7_lambda_turning_2_0 2 rfl rfl)
theorem dX7_lambda_turning_2_5 : decode cX7_lambda_turning_2 5 = .ok (.ireturn, 1) := dk_172 (dk_at dksX7_lambda_turning_2_0 5 rfl rfl)
def dkwX7_atCell_9 : List UInt8 := [186, 1, 23, 0, 0, 167, 0, 10, 21, 4, 186, 1, 24, 0, 0, 176]
abbrev dktX7_atCell_9 : List UInt8 := dkwX7_atCell_9 ++ []
def dkwX7_atCell_8 : List UInt8 := [21, 4, 186, 1, 21, 0, 0, 167, 0, 30, 21, 4, 186, 1, 22, 0, 0, 167, 0, 20, 21, 4]
abbrev dktX7_atCell_8 : List UInt8 := dkwX7_atCell_8 ++ dktX7_atCell_9
def dkwX7_atCell_7 : List UInt8 := [170, 0, 0, 0, 0, 0, 57, 0, 0, 0, 0, 0, 0, 0, 2, 0, 0, 0, 27, 0, 0, 0, 37, 0, 0, 0, 47]
abbrev dktX7_atCell_7 : List UInt8 := dkwX7_atCell_7 ++ dktX7_atCell_8
def dkwX7_atCell_6 : List UInt8 := [21, 6]
abbrev dktX7_atCell_6 : List UInt8 := dkwX7_atCell_6 ++ dktX7_atCell_7
def dkwX7_atCell_5 : List UInt8 := [153, 0, 23, 4, 54, 6, 167, 0, 17, 25, 5, 19, 1, 19, 182, 0, 124, 153, 0, 6, 5, 54, 6]
abbrev dktX7_atCell_5 : List UInt8 := dkwX7_atCell_5 ++ dktX7_atCell_6
def dkwX7_atCell_4 : List UInt8 := [25, 5, 18, 202, 182, 0, 124, 153, 0, 40, 3, 54, 6, 167, 0, 34, 25, 5, 19, 1, 17, 182, 0, 124]
abbrev dktX7_atCell_4 : List UInt8 := dkwX7_atCell_4 ++ dktX7_atCell_5
def dkwX7_atCell_3 : List UInt8 := [171, 0, 0, 0, 0, 0, 82, 0, 0, 0, 3, 0, 52, 38, 74, 0, 0, 0, 51, 0, 52, 100, 96, 0, 0, 0, 68, 5, 204, 240, 49, 0, 0, 0, 35]
abbrev dktX7_atCell_3 : List UInt8 := dkwX7_atCell_3 ++ dktX7_atCell_4
def dkwX7_atCell_2 : List UInt8 := [28, 96, 54, 4, 43, 58, 5, 2, 54, 6, 25, 5, 182, 0, 237]
abbrev dktX7_atCell_2 : List UInt8 := dkwX7_atCell_2 ++ dktX7_atCell_3
def dkwX7_atCell_1 : List UInt8 := [180, 0, 162, 161, 0, 9, 186, 1, 15, 0, 0, 176, 42, 180, 0, 3, 180, 0, 250, 180, 0, 159, 29, 104]
abbrev dktX7_atCell_1 : List UInt8 := dkwX7_atCell_1 ++ dktX7_atCell_2
def dkwX7_atCell_0 : List UInt8 := [28, 42, 180, 0, 3, 180, 0, 250, 180, 0, 159, 162, 0, 17, 29, 42, 180, 0, 3, 180, 0, 250]
abbrev dktX7_atCell_0 : List UInt8 := dkwX7_atCell_0 ++ dktX7_atCell_1
theorem dksX7_atCell_0 : cX7_atCell.data.toList.drop 0 = dktX7_atCell_0 := by decide +kernel
theorem dksX7_atCell_1 : cX7_atCell.data.toList.drop 22 = dktX7_atCell_1 := dk_seg dksX7_atCell_0 22 rfl rfl
theorem dksX7_atCell_2 : cX7_atCell.data.toList.drop 46 = dktX7_atCell_2 := dk_seg dksX7_atCell_1 24 rfl rfl
theorem dksX7_atCell_3 : cX7_atCell.data.toList.drop 61 = dktX7_atCell_3 := dk_seg dksX7_atCell_2 15 rfl rfl
theorem dksX7_atCell_4 : cX7_atCell.data.toList.drop 96 = dktX7_atCell_4 := dk_seg dksX7_atCell_3 35 rfl rfl
theorem dksX7_atCell_5 : cX7_atCell.data.toList.drop 120 = dktX7_atCell_5 := dk_seg dksX7_atCell_4 24 rfl rfl
theorem dksX7_atCell_6 : cX7_atCell.data.toList.drop 143 = dktX7_atCell_6 := dk_seg dksX7_atCell_5 23 rfl rfl
theorem dksX7_atCell_7 : cX7_atCell.data.toList.drop 145 = dktX7_atCell_7 := dk_seg dksX7_atCell_6 2 rfl rfl
theorem dksX7_atCell_8 : cX7_atCell.data.toList.drop 172 = dktX7_atCell_8 := dk_seg dksX7_atCell_7 27 rfl rfl
theorem dksX7_atCell_9 : cX7_atCell.data.toList.drop 194 = dktX7_atCell_9 := dk_seg dksX7_atCell_8 22 rfl rfl
theorem dX7_atCell_0 : decode cX7_atCell 0 = .ok (.iload_n 2, 1) := dk_28 (dk_at dksX7_atCell_0 0 rfl rfl)
theorem dX7_atCell_1 : decode cX7_atCell 1 = .ok (.aload_n 0, 1) := dk_42 (dk_at dksX7_atCell_0 1 rfl rfl)
theorem dX7_atCell_2 : decode cX7_atCell 2 = .ok (.getfield 3, 3) := dk_180 0 3 (dk_at dksX7_atCell_0 2 rfl rfl)
theorem dX7_atCell_5 : decode cX7_atCell 5 = .ok (.getfield 250, 3) := dk_180 0 250 (dk_at dksX7_atCell_0 5 rfl rfl)
theorem dX7_atCell_8 : decode cX7_atCell 8 = .ok (.getfield 159, 3) := dk_180 0 159 (dk_at dksX7_atCell_0 8 rfl rfl)
theorem dX7_atCell_11 : decode cX7_atCell 11 = .ok (.if_icmp .ge 17, 3) := dk_162 0 17 (dk_at dksX7_atCell_0 11 rfl rfl)
theorem dX7_atCell_14 : decode cX7_atCell 14 = .ok (.iload_n 3, 1) := dk_29 (dk_at dksX7_atCell_0 14 rfl rfl)
theorem dX7_atCell_15 : decode cX7_atCell 15 = .ok (.aload_n 0, 1) := dk_42 (dk_at dksX7_atCell_0 15 rfl rfl)
theorem dX7_atCell_16 : decode cX7_atCell 16 = .ok (.getfield 3, 3) := dk_180 0 3 (dk_at dksX7_atCell_0 16 rfl rfl)
theorem dX7_atCell_19 : decode cX7_atCell 19 = .ok (.getfield 250, 3) := dk_180 0 250 (dk_at dksX7_atCell_0 19 rfl rfl)
theorem dX7_atCell_22 : decode cX7_atCell 22 = .ok (.getfield 162, 3) := dk_180 0 162 (dk_at dksX7_atCell_1 0 rfl rfl)
theorem dX7_atCell_25 : decode cX7_atCell 25 = .ok (.if_icmp .lt 9, 3) := dk_161 0 9 (dk_at dksX7_atCell_1 3 rfl rfl)
theorem dX7_atCell_28 : decode cX7_atCell 28 = .ok (.invokedynamic 271, 5) := by decide +kernel
theorem dX7_atCell_33 : decode cX7_atCell 33 = .ok (.areturn, 1) := dk_176 (dk_at dksX7_atCell_1 11 rfl rfl)
theorem dX7_atCell_34 : decode cX7_atCell 34 = .ok (.aload_n 0, 1) := dk_42 (dk_at dksX7_atCell_1 12 rfl rfl)
theorem dX7_atCell_35 : decode cX7_atCell 35 = .ok (.getfield 3, 3) := dk_180 0 3 (dk_at dksX7_atCell_1 13 rfl rfl)
theorem dX7_atCell_38 : decode cX7_atCell 38 = .ok (.getfield 250, 3) := dk_180 0 250 (dk_at dksX7_atCell_1 16 rfl rfl)
theorem dX7_atCell_41 : decode cX7_atCell 41 = .ok (.getfield 159, 3) := dk_180 0 159 (dk_at dksX7_atCell_1 19 rfl rfl)
theorem dX7_atCell_44 : decode cX7_atCell 44 = .ok (.iload_n 3, 1) := dk_29 (dk_at dksX7_atCell_1 22 rfl rfl)
theorem dX7_atCell_45 : decode cX7_atCell 45 = .ok (.imul, 1) := dk_104 (dk_at dksX7_atCell_1 23 rfl rfl)
theorem dX7_atCell_46 : decode cX7_atCell 46 = .ok (.iload_n 2, 1) := dk_28 (dk_at dksX7_atCell_2 0 rfl rfl)
theorem dX7_atCell_47 : decode cX7_atCell 47 = .ok (.iadd, 1) := dk_96 (dk_at dksX7_atCell_2 1 rfl rfl)
theorem dX7_atCell_48 : decode cX7_atCell 48 = .ok (.istore 4, 2) := dk_54 4 (dk_at dksX7_atCell_2 2 rfl rfl)
theorem dX7_atCell_50 : decode cX7_atCell 50 = .ok (.aload_n 1, 1) := dk_43 (dk_at dksX7_atCell_2 4 rfl rfl)
theorem dX7_atCell_51 : decode cX7_atCell 51 = .ok (.astore 5, 2) := dk_58 5 (dk_at dksX7_atCell_2 5 rfl rfl)
theorem dX7_atCell_53 : decode cX7_atCell 53 = .ok (.iconst (-1), 1) := dk_2 (dk_at dksX7_atCell_2 7 rfl rfl)
theorem dX7_atCell_54 : decode cX7_atCell 54 = .ok (.istore 6, 2) := dk_54 6 (dk_at dksX7_atCell_2 8 rfl rfl)
theorem dX7_atCell_56 : decode cX7_atCell 56 = .ok (.aload 5, 2) := dk_25 5 (dk_at dksX7_atCell_2 10 rfl rfl)
theorem dX7_atCell_58 : decode cX7_atCell 58 = .ok (.invokevirtual 237, 3) := dk_182 0 237 (dk_at dksX7_atCell_2 12 rfl rfl)
theorem dX7_atCell_61 : decode cX7_atCell 61 = .ok (.lookupswitch 82 #[(3417674, 51), (3433568, 68), (97316913, 35)], 35) := by decide +kernel
theorem dX7_atCell_96 : decode cX7_atCell 96 = .ok (.aload 5, 2) := dk_25 5 (dk_at dksX7_atCell_4 0 rfl rfl)
theorem dX7_atCell_98 : decode cX7_atCell 98 = .ok (.ldc 202, 2) := dk_18 202 (dk_at dksX7_atCell_4 2 rfl rfl)
theorem dX7_atCell_100 : decode cX7_atCell 100 = .ok (.invokevirtual 124, 3) := dk_182 0 124 (dk_at dksX7_atCell_4 4 rfl rfl)
theorem dX7_atCell_103 : decode cX7_atCell 103 = .ok (.ifCond .eq 40, 3) := dk_153 0 40 (dk_at dksX7_atCell_4 7 rfl rfl)
theorem dX7_atCell_106 : decode cX7_atCell 106 = .ok (.iconst 0, 1) := dk_3 (dk_at dksX7_atCell_4 10 rfl rfl)
theorem dX7_atCell_107 : decode cX7_atCell 107 = .ok (.istore 6, 2) := dk_54 6 (dk_at dksX7_atCell_4 11 rfl rfl)
theorem dX7_atCell_109 : decode cX7_atCell 109 = .ok (.goto 34, 3) := dk_167 0 34 (dk_at dksX7_atCell_4 13 rfl rfl)
theorem dX7_atCell_112 : decode cX7_atCell 112 = .ok (.aload 5, 2) := dk_25 5 (dk_at dksX7_atCell_4 16 rfl rfl)
theorem dX7_atCell_114 : decode cX7_atCell 114 = .ok (.ldc_w 273, 3) := dk_19 1 17 (dk_at dksX7_atCell_4 18 rfl rfl)
theorem dX7_atCell_117 : decode cX7_atCell 117 = .ok (.invokevirtual 124, 3) := dk_182 0 124 (dk_at dksX7_atCell_4 21 rfl rfl)
theorem dX7_atCell_120 : decode cX7_atCell 120 = .ok (.ifCond .eq 23, 3) := dk_153 0 23 (dk_at dksX7_atCell_5 0 rfl rfl)
theorem dX7_atCell_123 : decode cX7_atCell 123 = .ok (.iconst 1, 1) := dk_4 (dk_at dksX7_atCell_5 3 rfl rfl)
theorem dX7_atCell_124 : decode cX7_atCell 124 = .ok (.istore 6, 2) := dk_54 6 (dk_at dksX7_atCell_5 4 rfl rfl)
theorem dX7_atCell_126 : decode cX7_atCell 126 = .ok (.goto 17, 3) := dk_167 0 17 (dk_at dksX7_atCell_5 6 rfl rfl)
theorem dX7_atCell_129 : decode cX7_atCell 129 = .ok (.aload 5, 2) := dk_25 5 (dk_at dksX7_atCell_5 9 rfl rfl)
theorem dX7_atCell_131 : decode cX7_atCell 131 = .ok (.ldc_w 275, 3) := dk_19 1 19 (dk_at dksX7_atCell_5 11 rfl rfl)
theorem dX7_atCell_134 : decode cX7_atCell 134 = .ok (.invokevirtual 124, 3) := dk_182 0 124 (dk_at dksX7_atCell_5 14 rfl rfl)
theorem dX7_atCell_137 : decode cX7_atCell 137 = .ok (.ifCond .eq 6, 3) := dk_153 0 6 (dk_at dksX7_atCell_5 17 rfl rfl)
theorem dX7_atCell_140 : decode cX7_atCell 140 = .ok (.iconst 2, 1) := dk_5 (dk_at dksX7_atCell_5 20 rfl rfl)
theorem dX7_atCell_141 : decode cX7_atCell 141 = .ok (.istore 6, 2) := dk_54 6 (dk_at dksX7_atCell_5 21 rfl rfl)
theorem dX7_atCell_143 : decode cX7_atCell 143 = .ok (.iload 6, 2) := dk_21 6 (dk_at dksX7_atCell_6 0 rfl rfl)
theorem dX7_atCell_145 : decode cX7_atCell 145 = .ok (.tableswitch 57 0 2 #[27, 37, 47], 27) := by decide +kernel
theorem dX7_atCell_172 : decode cX7_atCell 172 = .ok (.iload 4, 2) := dk_21 4 (dk_at dksX7_atCell_8 0 rfl rfl)
theorem dX7_atCell_174 : decode cX7_atCell 174 = .ok (.invokedynamic 277, 5) := by decide +kernel
theorem dX7_atCell_179 : decode cX7_atCell 179 = .ok (.goto 30, 3) := dk_167 0 30 (dk_at dksX7_atCell_8 7 rfl rfl)
theorem dX7_atCell_182 : decode cX7_atCell 182 = .ok (.iload 4, 2) := dk_21 4 (dk_at dksX7_atCell_8 10 rfl rfl)
theorem dX7_atCell_184 : decode cX7_atCell 184 = .ok (.invokedynamic 278, 5) := by decide +kernel
theorem dX7_atCell_189 : decode cX7_atCell 189 = .ok (.goto 20, 3) := dk_167 0 20 (dk_at dksX7_atCell_8 17 rfl rfl)
theorem dX7_atCell_192 : decode cX7_atCell 192 = .ok (.iload 4, 2) := dk_21 4 (dk_at dksX7_atCell_8 20 rfl rfl)
theorem dX7_atCell_194 : decode cX7_atCell 194 = .ok (.invokedynamic 279, 5) := by decide +kernel
theorem dX7_atCell_199 : decode cX7_atCell 199 = .ok (.goto 10, 3) := dk_167 0 10 (dk_at dksX7_atCell_9 5 rfl rfl)
theorem dX7_atCell_202 : decode cX7_atCell 202 = .ok (.iload 4, 2) := dk_21 4 (dk_at dksX7_atCell_9 8 rfl rfl)
theorem dX7_atCell_204 : decode cX7_atCell 204 = .ok (.invokedynamic 280, 5) := by decide +kernel
theorem dX7_atCell_209 : decode cX7_atCell 209 = .ok (.areturn, 1) := dk_176 (dk_at dksX7_atCell_9 15 rfl rfl)
theorem dX7_lambda_atCell_3_0 : decode cX7_lambda_atCell_3 0 = .ok (.iconst (-1), 1) := by decide +kernel
theorem dX7_lambda_atCell_3_1 : decode cX7_lambda_atCell_3 1 = .ok (.ireturn, 1) := by decide +kernel
def dkwX7_lambda_atCell_4_0 : List UInt8 := [43, 26, 182, 1, 34, 172]
abbrev dktX7_lambda_atCell_4_0 : List UInt8 := dkwX7_lambda_atCell_4_0 ++ []
theorem dksX7_lambda_atCell_4_0 : cX7_lambda_atCell_4.data.toList.drop 0 = dktX7_lambda_atCell_4_0 := by decide +kernel
theorem dX7_lambda_atCell_4_0 : decode cX7_lambda_atCell_4 0 = .ok (.aload_n 1, 1) := dk_43 (dk_at dksX7_lambda_atCell_4_0 0 rfl rfl)
theorem dX7_lambda_atCell_4_1 : decode cX7_lambda_atCell_4 1 = .ok (.iload_n 0, 1) := dk_26 (dk_at dksX7_lambda_atCell_4_0 1 rfl rfl)
theorem dX7_lambda_atCell_4_2 : decode cX7_lambda_atCell_4 2 = .ok (.invokevirtual 290, 3) := dk_182 1 34 (dk_at dksX7_lambda_atCell_4_0 2 rfl rfl)
theorem dX7_lambda_atCell_4_5 : decode cX7_lambda_atCell_4 5 = .ok (.ireturn, 1) := dk_172 (dk_at dksX7_lambda_atCell_4_0 5 rfl rfl)
def dkwX7_lambda_atCell_5_0 : List UInt8 := [43, 26, 182, 1, 31, 172]
abbrev dktX7_lambda_atCell_5_0 : List UInt8 := dkwX7_lambda_atCell_5_0 ++ []
theorem dksX7_lambda_atCell_5_0 : cX7_lambda_atCell_5.data.toList.drop 0 = dktX7_lambda_atCell_5_0 := by decide +kernel
theorem dX7_lambda_atCell_5_0 : decode cX7_lambda_atCell_5 0 = .ok (.aload_n 1, 1) := dk_43 (dk_at dksX7_lambda_atCell_5_0 0 rfl rfl)
theorem dX7_lambda_atCell_5_1 : decode cX7_lambda_atCell_5 1 = .ok (.iload_n 0, 1) := dk_26 (dk_at dksX7_lambda_atCell_5_0 1 rfl rfl)
theorem dX7_lambda_atCell_5_2 : decode cX7_lambda_atCell_5 2 = .ok (.invokevirtual 287, 3) := dk_182 1 31 (dk_at dksX7_lambda_atCell_5_0 2 rfl rfl)
theorem dX7_lambda_atCell_5_5 : decode cX7_lambda_atCell_5 5 = .ok (.ireturn, 1) := dk_172 (dk_at dksX7_lambda_atCell_5_0 5 rfl rfl)
def dkwX7_lambda_atCell_6_0 : List UInt8 := [43, 26, 182, 1, 28, 172]
abbrev dktX7_lambda_atCell_6_0 : List UInt8 := dkwX7_lambda_atCell_6_0 ++ []
theorem dksX7_lambda_atCell_6_0 : cX7_lambda_atCell_6.data.toList.drop 0 = dktX7_lambda_atCell_6_0 := by decide +kernel
theorem dX7_lambda_atCell_6_0 : decode cX7_lambda_atCell_6 0 = .ok (.aload_n 1, 1) := dk_43 (dk_at dksX7_lambda_atCell_6_0 0 rfl rfl)
theorem dX7_lambda_atCell_6_1 : decode cX7_lambda_atCell_6 1 = .ok (.iload_n 0, 1) := dk_26 (dk_at dksX7_lambda_atCell_6_0 1 rfl rfl)
theorem dX7_lambda_atCell_6_2 : decode cX7_lambda_atCell_6 2 = .ok (.invokevirtual 284, 3) := dk_182 1 28 (dk_at dksX7_lambda_atCell_6_0 2 rfl rfl)
theorem dX7_lambda_atCell_6_5 : decode cX7_lambda_atCell_6 5 = .ok (.ireturn, 1) := dk_172 (dk_at dksX7_lambda_atCell_6_0 5 rfl rfl)
def dkwX7_lambda_atCell_7_0 : List UInt8 := [43, 26, 182, 1, 25, 172]
abbrev dktX7_lambda_atCell_7_0 : List UInt8 := dkwX7_lambda_atCell_7_0 ++ []
theorem dksX7_lambda_atCell_7_0 : cX7_lambda_atCell_7.data.toList.drop 0 = dktX7_lambda_atCell_7_0 := by decide +kernel
theorem dX7_lambda_atCell_7_0 : decode cX7_lambda_atCell_7 0 = .ok (.aload_n 1, 1) := dk_43 (dk_at dksX7_lambda_atCell_7_0 0 rfl rfl)
theorem dX7_lambda_atCell_7_1 : decode cX7_lambda_atCell_7 1 = .ok (.iload_n 0, 1) := dk_26 (dk_at dksX7_lambda_atCell_7_0 1 rfl rfl)
theorem dX7_lambda_atCell_7_2 : decode cX7_lambda_atCell_7 2 = .ok (.invokevirtual 281, 3) := dk_182 1 25 (dk_at dksX7_lambda_atCell_7_0 2 rfl rfl)
theorem dX7_lambda_atCell_7_5 : decode cX7_lambda_atCell_7 5 = .ok (.ireturn, 1) := dk_172 (dk_at dksX7_lambda_atCell_7_0 5 rfl rfl)
def dkwX8_init_0 : List UInt8 := [42, 1, 1, 3, 3, 183, 0, 1, 42, 27, 181, 0, 7, 42, 28, 181, 0, 13, 177]
abbrev dktX8_init_0 : List UInt8 := dkwX8_init_0 ++ []
theorem dksX8_init_0 : cX8_init.data.toList.drop 0 = dktX8_init_0 := by decide +kernel
theorem dX8_init_0 : decode cX8_init 0 = .ok (.aload_n 0, 1) := dk_42 (dk_at dksX8_init_0 0 rfl rfl)
theorem dX8_init_1 : decode cX8_init 1 = .ok (.aconst_null, 1) := dk_1 (dk_at dksX8_init_0 1 rfl rfl)
theorem dX8_init_2 : decode cX8_init 2 = .ok (.aconst_null, 1) := dk_1 (dk_at dksX8_init_0 2 rfl rfl)
theorem dX8_init_3 : decode cX8_init 3 = .ok (.iconst 0, 1) := dk_3 (dk_at dksX8_init_0 3 rfl rfl)
theorem dX8_init_4 : decode cX8_init 4 = .ok (.iconst 0, 1) := dk_3 (dk_at dksX8_init_0 4 rfl rfl)
theorem dX8_init_5 : decode cX8_init 5 = .ok (.invokespecial 1, 3) := dk_183 0 1 (dk_at dksX8_init_0 5 rfl rfl)
theorem dX8_init_8 : decode cX8_init 8 = .ok (.aload_n 0, 1) := dk_42 (dk_at dksX8_init_0 8 rfl rfl)
theorem dX8_init_9 : decode cX8_init 9 = .ok (.iload_n 1, 1) := dk_27 (dk_at dksX8_init_0 9 rfl rfl)
theorem dX8_init_10 : decode cX8_init 10 = .ok (.putfield 7, 3) := dk_181 0 7 (dk_at dksX8_init_0 10 rfl rfl)
theorem dX8_init_13 : decode cX8_init 13 = .ok (.aload_n 0, 1) := dk_42 (dk_at dksX8_init_0 13 rfl rfl)
theorem dX8_init_14 : decode cX8_init 14 = .ok (.iload_n 2, 1) := dk_28 (dk_at dksX8_init_0 14 rfl rfl)
theorem dX8_init_15 : decode cX8_init 15 = .ok (.putfield 13, 3) := dk_181 0 13 (dk_at dksX8_init_0 15 rfl rfl)
theorem dX8_init_18 : decode cX8_init 18 = .ok (.return_, 1) := dk_177 (dk_at dksX8_init_0 18 rfl rfl)
def dkwX9_init_0 : List UInt8 := [42, 1, 1, 3, 3, 183, 0, 1, 42, 27, 181, 0, 7, 177]
abbrev dktX9_init_0 : List UInt8 := dkwX9_init_0 ++ []
theorem dksX9_init_0 : cX9_init.data.toList.drop 0 = dktX9_init_0 := by decide +kernel
theorem dX9_init_0 : decode cX9_init 0 = .ok (.aload_n 0, 1) := dk_42 (dk_at dksX9_init_0 0 rfl rfl)
theorem dX9_init_1 : decode cX9_init 1 = .ok (.aconst_null, 1) := dk_1 (dk_at dksX9_init_0 1 rfl rfl)
theorem dX9_init_2 : decode cX9_init 2 = .ok (.aconst_null, 1) := dk_1 (dk_at dksX9_init_0 2 rfl rfl)
theorem dX9_init_3 : decode cX9_init 3 = .ok (.iconst 0, 1) := dk_3 (dk_at dksX9_init_0 3 rfl rfl)
theorem dX9_init_4 : decode cX9_init 4 = .ok (.iconst 0, 1) := dk_3 (dk_at dksX9_init_0 4 rfl rfl)
theorem dX9_init_5 : decode cX9_init 5 = .ok (.invokespecial 1, 3) := dk_183 0 1 (dk_at dksX9_init_0 5 rfl rfl)
theorem dX9_init_8 : decode cX9_init 8 = .ok (.aload_n 0, 1) := dk_42 (dk_at dksX9_init_0 8 rfl rfl)
theorem dX9_init_9 : decode cX9_init 9 = .ok (.iload_n 1, 1) := dk_27 (dk_at dksX9_init_0 9 rfl rfl)
theorem dX9_init_10 : decode cX9_init 10 = .ok (.putfield 7, 3) := dk_181 0 7 (dk_at dksX9_init_0 10 rfl rfl)
theorem dX9_init_13 : decode cX9_init 13 = .ok (.return_, 1) := dk_177 (dk_at dksX9_init_0 13 rfl rfl)
def dkwX10_init_2 : List UInt8 := [180, 0, 22, 4, 96, 181, 0, 22, 167, 255, 224, 177]
abbrev dktX10_init_2 : List UInt8 := dkwX10_init_2 ++ []
def dkwX10_init_1 : List UInt8 := [180, 0, 22, 50, 198, 0, 29, 42, 44, 42, 180, 0, 22, 50, 182, 0, 26, 153, 0, 16, 42, 89]
abbrev dktX10_init_1 : List UInt8 := dkwX10_init_1 ++ dktX10_init_2
def dkwX10_init_0 : List UInt8 := [42, 43, 181, 0, 1, 42, 183, 0, 7, 42, 42, 180, 0, 1, 180, 0, 13, 181, 0, 19, 44, 42]
abbrev dktX10_init_0 : List UInt8 := dkwX10_init_0 ++ dktX10_init_1
theorem dksX10_init_0 : cX10_init.data.toList.drop 0 = dktX10_init_0 := by decide +kernel
theorem dksX10_init_1 : cX10_init.data.toList.drop 22 = dktX10_init_1 := dk_seg dksX10_init_0 22 rfl rfl
theorem dksX10_init_2 : cX10_init.data.toList.drop 44 = dktX10_init_2 := dk_seg dksX10_init_1 22 rfl rfl
theorem dX10_init_0 : decode cX10_init 0 = .ok (.aload_n 0, 1) := dk_42 (dk_at dksX10_init_0 0 rfl rfl)
theorem dX10_init_1 : decode cX10_init 1 = .ok (.aload_n 1, 1) := dk_43 (dk_at dksX10_init_0 1 rfl rfl)
theorem dX10_init_2 : decode cX10_init 2 = .ok (.putfield 1, 3) := dk_181 0 1 (dk_at dksX10_init_0 2 rfl rfl)
theorem dX10_init_5 : decode cX10_init 5 = .ok (.aload_n 0, 1) := dk_42 (dk_at dksX10_init_0 5 rfl rfl)
theorem dX10_init_6 : decode cX10_init 6 = .ok (.invokespecial 7, 3) := dk_183 0 7 (dk_at dksX10_init_0 6 rfl rfl)
theorem dX10_init_9 : decode cX10_init 9 = .ok (.aload_n 0, 1) := dk_42 (dk_at dksX10_init_0 9 rfl rfl)
theorem dX10_init_10 : decode cX10_init 10 = .ok (.aload_n 0, 1) := dk_42 (dk_at dksX10_init_0 10 rfl rfl)
theorem dX10_init_11 : decode cX10_init 11 = .ok (.getfield 1, 3) := dk_180 0 1 (dk_at dksX10_init_0 11 rfl rfl)
theorem dX10_init_14 : decode cX10_init 14 = .ok (.getfield 13, 3) := dk_180 0 13 (dk_at dksX10_init_0 14 rfl rfl)
theorem dX10_init_17 : decode cX10_init 17 = .ok (.putfield 19, 3) := dk_181 0 19 (dk_at dksX10_init_0 17 rfl rfl)
theorem dX10_init_20 : decode cX10_init 20 = .ok (.aload_n 2, 1) := dk_44 (dk_at dksX10_init_0 20 rfl rfl)
theorem dX10_init_21 : decode cX10_init 21 = .ok (.aload_n 0, 1) := dk_42 (dk_at dksX10_init_0 21 rfl rfl)
theorem dX10_init_22 : decode cX10_init 22 = .ok (.getfield 22, 3) := dk_180 0 22 (dk_at dksX10_init_1 0 rfl rfl)
theorem dX10_init_25 : decode cX10_init 25 = .ok (.aaload, 1) := dk_50 (dk_at dksX10_init_1 3 rfl rfl)
theorem dX10_init_26 : decode cX10_init 26 = .ok (.ifnull 29, 3) := dk_198 0 29 (dk_at dksX10_init_1 4 rfl rfl)
theorem dX10_init_29 : decode cX10_init 29 = .ok (.aload_n 0, 1) := dk_42 (dk_at dksX10_init_1 7 rfl rfl)
theorem dX10_init_30 : decode cX10_init 30 = .ok (.aload_n 2, 1) := dk_44 (dk_at dksX10_init_1 8 rfl rfl)
theorem dX10_init_31 : decode cX10_init 31 = .ok (.aload_n 0, 1) := dk_42 (dk_at dksX10_init_1 9 rfl rfl)
theorem dX10_init_32 : decode cX10_init 32 = .ok (.getfield 22, 3) := dk_180 0 22 (dk_at dksX10_init_1 10 rfl rfl)
theorem dX10_init_35 : decode cX10_init 35 = .ok (.aaload, 1) := dk_50 (dk_at dksX10_init_1 13 rfl rfl)
theorem dX10_init_36 : decode cX10_init 36 = .ok (.invokevirtual 26, 3) := dk_182 0 26 (dk_at dksX10_init_1 14 rfl rfl)
theorem dX10_init_39 : decode cX10_init 39 = .ok (.ifCond .eq 16, 3) := dk_153 0 16 (dk_at dksX10_init_1 17 rfl rfl)
theorem dX10_init_42 : decode cX10_init 42 = .ok (.aload_n 0, 1) := dk_42 (dk_at dksX10_init_1 20 rfl rfl)
theorem dX10_init_43 : decode cX10_init 43 = .ok (.dup, 1) := dk_89 (dk_at dksX10_init_1 21 rfl rfl)
theorem dX10_init_44 : decode cX10_init 44 = .ok (.getfield 22, 3) := dk_180 0 22 (dk_at dksX10_init_2 0 rfl rfl)
theorem dX10_init_47 : decode cX10_init 47 = .ok (.iconst 1, 1) := dk_4 (dk_at dksX10_init_2 3 rfl rfl)
theorem dX10_init_48 : decode cX10_init 48 = .ok (.iadd, 1) := dk_96 (dk_at dksX10_init_2 4 rfl rfl)
theorem dX10_init_49 : decode cX10_init 49 = .ok (.putfield 22, 3) := dk_181 0 22 (dk_at dksX10_init_2 5 rfl rfl)
theorem dX10_init_52 : decode cX10_init 52 = .ok (.goto (-32), 3) := dk_167 255 224 (dk_at dksX10_init_2 8 rfl rfl)
theorem dX10_init_55 : decode cX10_init 55 = .ok (.return_, 1) := dk_177 (dk_at dksX10_init_2 11 rfl rfl)
def dkwX10_isDone_1 : List UInt8 := [3, 172, 42, 44, 181, 0, 19, 4, 172]
abbrev dktX10_isDone_1 : List UInt8 := dkwX10_isDone_1 ++ []
def dkwX10_isDone_0 : List UInt8 := [42, 180, 0, 19, 182, 0, 30, 77, 43, 44, 185, 0, 36, 2, 0, 156, 0, 5, 3, 172, 167, 0, 6, 78]
abbrev dktX10_isDone_0 : List UInt8 := dkwX10_isDone_0 ++ dktX10_isDone_1
theorem dksX10_isDone_0 : cX10_isDone.data.toList.drop 0 = dktX10_isDone_0 := by decide +kernel
theorem dksX10_isDone_1 : cX10_isDone.data.toList.drop 24 = dktX10_isDone_1 := dk_seg dksX10_isDone_0 24 rfl rfl
theorem dX10_isDone_0 : decode cX10_isDone 0 = .ok (.aload_n 0, 1) := dk_42 (dk_at dksX10_isDone_0 0 rfl rfl)
theorem dX10_isDone_1 : decode cX10_isDone 1 = .ok (.getfield 19, 3) := dk_180 0 19 (dk_at dksX10_isDone_0 1 rfl rfl)
theorem dX10_isDone_4 : decode cX10_isDone 4 = .ok (.invokevirtual 30, 3) := dk_182 0 30 (dk_at dksX10_isDone_0 4 rfl rfl)
theorem dX10_isDone_7 : decode cX10_isDone 7 = .ok (.astore_n 2, 1) := dk_77 (dk_at dksX10_isDone_0 7 rfl rfl)
theorem dX10_isDone_8 : decode cX10_isDone 8 = .ok (.aload_n 1, 1) := dk_43 (dk_at dksX10_isDone_0 8 rfl rfl)
theorem dX10_isDone_9 : decode cX10_isDone 9 = .ok (.aload_n 2, 1) := dk_44 (dk_at dksX10_isDone_0 9 rfl rfl)
theorem dX10_isDone_10 : decode cX10_isDone 10 = .ok (.invokeinterface 36 2, 5) := by decide +kernel
theorem dX10_isDone_15 : decode cX10_isDone 15 = .ok (.ifCond .ge 5, 3) := dk_156 0 5 (dk_at dksX10_isDone_0 15 rfl rfl)
theorem dX10_isDone_18 : decode cX10_isDone 18 = .ok (.iconst 0, 1) := dk_3 (dk_at dksX10_isDone_0 18 rfl rfl)
theorem dX10_isDone_19 : decode cX10_isDone 19 = .ok (.ireturn, 1) := dk_172 (dk_at dksX10_isDone_0 19 rfl rfl)
theorem dX10_isDone_20 : decode cX10_isDone 20 = .ok (.goto 6, 3) := dk_167 0 6 (dk_at dksX10_isDone_0 20 rfl rfl)
theorem dX10_isDone_23 : decode cX10_isDone 23 = .ok (.astore_n 3, 1) := dk_78 (dk_at dksX10_isDone_0 23 rfl rfl)
theorem dX10_isDone_24 : decode cX10_isDone 24 = .ok (.iconst 0, 1) := dk_3 (dk_at dksX10_isDone_1 0 rfl rfl)
theorem dX10_isDone_25 : decode cX10_isDone 25 = .ok (.ireturn, 1) := dk_172 (dk_at dksX10_isDone_1 1 rfl rfl)
theorem dX10_isDone_26 : decode cX10_isDone 26 = .ok (.aload_n 0, 1) := dk_42 (dk_at dksX10_isDone_1 2 rfl rfl)
theorem dX10_isDone_27 : decode cX10_isDone 27 = .ok (.aload_n 2, 1) := dk_44 (dk_at dksX10_isDone_1 3 rfl rfl)
theorem dX10_isDone_28 : decode cX10_isDone 28 = .ok (.putfield 19, 3) := dk_181 0 19 (dk_at dksX10_isDone_1 4 rfl rfl)
theorem dX10_isDone_31 : decode cX10_isDone 31 = .ok (.iconst 1, 1) := dk_4 (dk_at dksX10_isDone_1 7 rfl rfl)
theorem dX10_isDone_32 : decode cX10_isDone 32 = .ok (.ireturn, 1) := dk_172 (dk_at dksX10_isDone_1 8 rfl rfl)
def dkwX11_init_0 : List UInt8 := [42, 43, 181, 0, 1, 42, 44, 181, 0, 7, 42, 183, 0, 11, 177]
abbrev dktX11_init_0 : List UInt8 := dkwX11_init_0 ++ []
theorem dksX11_init_0 : cX11_init.data.toList.drop 0 = dktX11_init_0 := by decide +kernel
theorem dX11_init_0 : decode cX11_init 0 = .ok (.aload_n 0, 1) := dk_42 (dk_at dksX11_init_0 0 rfl rfl)
theorem dX11_init_1 : decode cX11_init 1 = .ok (.aload_n 1, 1) := dk_43 (dk_at dksX11_init_0 1 rfl rfl)
theorem dX11_init_2 : decode cX11_init 2 = .ok (.putfield 1, 3) := dk_181 0 1 (dk_at dksX11_init_0 2 rfl rfl)
theorem dX11_init_5 : decode cX11_init 5 = .ok (.aload_n 0, 1) := dk_42 (dk_at dksX11_init_0 5 rfl rfl)
theorem dX11_init_6 : decode cX11_init 6 = .ok (.aload_n 2, 1) := dk_44 (dk_at dksX11_init_0 6 rfl rfl)
theorem dX11_init_7 : decode cX11_init 7 = .ok (.putfield 7, 3) := dk_181 0 7 (dk_at dksX11_init_0 7 rfl rfl)
theorem dX11_init_10 : decode cX11_init 10 = .ok (.aload_n 0, 1) := dk_42 (dk_at dksX11_init_0 10 rfl rfl)
theorem dX11_init_11 : decode cX11_init 11 = .ok (.invokespecial 11, 3) := dk_183 0 11 (dk_at dksX11_init_0 11 rfl rfl)
theorem dX11_init_14 : decode cX11_init 14 = .ok (.return_, 1) := dk_177 (dk_at dksX11_init_0 14 rfl rfl)
def dkwX11_iterator_0 : List UInt8 := [187, 0, 17, 89, 42, 180, 0, 1, 42, 180, 0, 7, 183, 0, 19, 176]
abbrev dktX11_iterator_0 : List UInt8 := dkwX11_iterator_0 ++ []
theorem dksX11_iterator_0 : cX11_iterator.data.toList.drop 0 = dktX11_iterator_0 := by decide +kernel
theorem dX11_iterator_0 : decode cX11_iterator 0 = .ok (.new 17, 3) := dk_187 0 17 (dk_at dksX11_iterator_0 0 rfl rfl)
theorem dX11_iterator_3 : decode cX11_iterator 3 = .ok (.dup, 1) := dk_89 (dk_at dksX11_iterator_0 3 rfl rfl)
theorem dX11_iterator_4 : decode cX11_iterator 4 = .ok (.aload_n 0, 1) := dk_42 (dk_at dksX11_iterator_0 4 rfl rfl)
theorem dX11_iterator_5 : decode cX11_iterator 5 = .ok (.getfield 1, 3) := dk_180 0 1 (dk_at dksX11_iterator_0 5 rfl rfl)
theorem dX11_iterator_8 : decode cX11_iterator 8 = .ok (.aload_n 0, 1) := dk_42 (dk_at dksX11_iterator_0 8 rfl rfl)
theorem dX11_iterator_9 : decode cX11_iterator 9 = .ok (.getfield 7, 3) := dk_180 0 7 (dk_at dksX11_iterator_0 9 rfl rfl)
theorem dX11_iterator_12 : decode cX11_iterator 12 = .ok (.invokespecial 19, 3) := dk_183 0 19 (dk_at dksX11_iterator_0 12 rfl rfl)
theorem dX11_iterator_15 : decode cX11_iterator 15 = .ok (.areturn, 1) := dk_176 (dk_at dksX11_iterator_0 15 rfl rfl)
def dkwX12_init_1 : List UInt8 := [181, 0, 29, 177]
abbrev dktX12_init_1 : List UInt8 := dkwX12_init_1 ++ []
def dkwX12_init_0 : List UInt8 := [42, 43, 181, 0, 1, 42, 183, 0, 7, 42, 44, 181, 0, 13, 42, 43, 44, 180, 0, 17, 182, 0, 23]
abbrev dktX12_init_0 : List UInt8 := dkwX12_init_0 ++ dktX12_init_1
theorem dksX12_init_0 : cX12_init.data.toList.drop 0 = dktX12_init_0 := by decide +kernel
theorem dksX12_init_1 : cX12_init.data.toList.drop 23 = dktX12_init_1 := dk_seg dksX12_init_0 23 rfl rfl
theorem dX12_init_0 : decode cX12_init 0 = .ok (.aload_n 0, 1) := dk_42 (dk_at dksX12_init_0 0 rfl rfl)
theorem dX12_init_1 : decode cX12_init 1 = .ok (.aload_n 1, 1) := dk_43 (dk_at dksX12_init_0 1 rfl rfl)
theorem dX12_init_2 : decode cX12_init 2 = .ok (.putfield 1, 3) := dk_181 0 1 (dk_at dksX12_init_0 2 rfl rfl)
theorem dX12_init_5 : decode cX12_init 5 = .ok (.aload_n 0, 1) := dk_42 (dk_at dksX12_init_0 5 rfl rfl)
theorem dX12_init_6 : decode cX12_init 6 = .ok (.invokespecial 7, 3) := dk_183 0 7 (dk_at dksX12_init_0 6 rfl rfl)
theorem dX12_init_9 : decode cX12_init 9 = .ok (.aload_n 0, 1) := dk_42 (dk_at dksX12_init_0 9 rfl rfl)
theorem dX12_init_10 : decode cX12_init 10 = .ok (.aload_n 2, 1) := dk_44 (dk_at dksX12_init_0 10 rfl rfl)
theorem dX12_init_11 : decode cX12_init 11 = .ok (.putfield 13, 3) := dk_181 0 13 (dk_at dksX12_init_0 11 rfl rfl)
theorem dX12_init_14 : decode cX12_init 14 = .ok (.aload_n 0, 1) := dk_42 (dk_at dksX12_init_0 14 rfl rfl)
theorem dX12_init_15 : decode cX12_init 15 = .ok (.aload_n 1, 1) := dk_43 (dk_at dksX12_init_0 15 rfl rfl)
theorem dX12_init_16 : decode cX12_init 16 = .ok (.aload_n 2, 1) := dk_44 (dk_at dksX12_init_0 16 rfl rfl)
theorem dX12_init_17 : decode cX12_init 17 = .ok (.getfield 17, 3) := dk_180 0 17 (dk_at dksX12_init_0 17 rfl rfl)
theorem dX12_init_20 : decode cX12_init 20 = .ok (.invokevirtual 23, 3) := dk_182 0 23 (dk_at dksX12_init_0 20 rfl rfl)
theorem dX12_init_23 : decode cX12_init 23 = .ok (.putfield 29, 3) := dk_181 0 29 (dk_at dksX12_init_1 0 rfl rfl)
theorem dX12_init_26 : decode cX12_init 26 = .ok (.return_, 1) := dk_177 (dk_at dksX12_init_1 3 rfl rfl)
def dkwX12_hasNext_0 : List UInt8 := [42, 180, 0, 32, 154, 0, 7, 4, 167, 0, 4, 3, 172]
abbrev dktX12_hasNext_0 : List UInt8 := dkwX12_hasNext_0 ++ []
theorem dksX12_hasNext_0 : cX12_hasNext.data.toList.drop 0 = dktX12_hasNext_0 := by decide +kernel
theorem dX12_hasNext_0 : decode cX12_hasNext 0 = .ok (.aload_n 0, 1) := dk_42 (dk_at dksX12_hasNext_0 0 rfl rfl)
theorem dX12_hasNext_1 : decode cX12_hasNext 1 = .ok (.getfield 32, 3) := dk_180 0 32 (dk_at dksX12_hasNext_0 1 rfl rfl)
theorem dX12_hasNext_4 : decode cX12_hasNext 4 = .ok (.ifCond .ne 7, 3) := dk_154 0 7 (dk_at dksX12_hasNext_0 4 rfl rfl)
theorem dX12_hasNext_7 : decode cX12_hasNext 7 = .ok (.iconst 1, 1) := dk_4 (dk_at dksX12_hasNext_0 7 rfl rfl)
theorem dX12_hasNext_8 : decode cX12_hasNext 8 = .ok (.goto 4, 3) := dk_167 0 4 (dk_at dksX12_hasNext_0 8 rfl rfl)
theorem dX12_hasNext_11 : decode cX12_hasNext 11 = .ok (.iconst 0, 1) := dk_3 (dk_at dksX12_hasNext_0 11 rfl rfl)
theorem dX12_hasNext_12 : decode cX12_hasNext 12 = .ok (.ireturn, 1) := dk_172 (dk_at dksX12_hasNext_0 12 rfl rfl)
theorem dX12_next_0 : decode cX12_next 0 = .ok (.aload_n 0, 1) := by decide +kernel
theorem dX12_next_1 : decode cX12_next 1 = .ok (.invokevirtual 56, 3) := by decide +kernel
theorem dX12_next_4 : decode cX12_next 4 = .ok (.areturn, 1) := by decide +kernel
def dkwX12_next_2_3 : List UInt8 := [182, 0, 42, 182, 0, 46, 181, 0, 29, 27, 184, 0, 50, 176]
abbrev dktX12_next_2_3 : List UInt8 := dkwX12_next_2_3 ++ []
def dkwX12_next_2_2 : List UInt8 := [42, 180, 0, 32, 154, 0, 27, 42, 42, 180, 0, 1, 27, 42, 180, 0, 1, 42, 180, 0, 13, 27]
abbrev dktX12_next_2_2 : List UInt8 := dkwX12_next_2_2 ++ dktX12_next_2_3
def dkwX12_next_2_1 : List UInt8 := [180, 0, 1, 42, 180, 0, 13, 180, 0, 39, 182, 0, 23, 160, 0, 7, 4, 167, 0, 4, 3, 181, 0, 32]
abbrev dktX12_next_2_1 : List UInt8 := dkwX12_next_2_1 ++ dktX12_next_2_2
def dkwX12_next_2_0 : List UInt8 := [42, 180, 0, 32, 153, 0, 11, 187, 0, 36, 89, 183, 0, 38, 191, 42, 180, 0, 29, 60, 42, 27, 42]
abbrev dktX12_next_2_0 : List UInt8 := dkwX12_next_2_0 ++ dktX12_next_2_1
theorem dksX12_next_2_0 : cX12_next_2.data.toList.drop 0 = dktX12_next_2_0 := by decide +kernel
theorem dksX12_next_2_1 : cX12_next_2.data.toList.drop 23 = dktX12_next_2_1 := dk_seg dksX12_next_2_0 23 rfl rfl
theorem dksX12_next_2_2 : cX12_next_2.data.toList.drop 47 = dktX12_next_2_2 := dk_seg dksX12_next_2_1 24 rfl rfl
theorem dksX12_next_2_3 : cX12_next_2.data.toList.drop 69 = dktX12_next_2_3 := dk_seg dksX12_next_2_2 22 rfl rfl
theorem dX12_next_2_0 : decode cX12_next_2 0 = .ok (.aload_n 0, 1) := dk_42 (dk_at dksX12_next_2_0 0 rfl rfl)
theorem dX12_next_2_1 : decode cX12_next_2 1 = .ok (.getfield 32, 3) := dk_180 0 32 (dk_at dksX12_next_2_0 1 rfl rfl)
theorem dX12_next_2_4 : decode cX12_next_2 4 = .ok (.ifCond .eq 11, 3) := dk_153 0 11 (dk_at dksX12_next_2_0 4 rfl rfl)
theorem dX12_next_2_7 : decode cX12_next_2 7 = .ok (.new 36, 3) := dk_187 0 36 (dk_at dksX12_next_2_0 7 rfl rfl)
theorem dX12_next_2_10 : decode cX12_next_2 10 = .ok (.dup, 1) := dk_89 (dk_at dksX12_next_2_0 10 rfl rfl)
theorem dX12_next_2_11 : decode cX12_next_2 11 = .ok (.invokespecial 38, 3) := dk_183 0 38 (dk_at dksX12_next_2_0 11 rfl rfl)
theorem dX12_next_2_14 : decode cX12_next_2 14 = .ok (.athrow, 1) := dk_191 (dk_at dksX12_next_2_0 14 rfl rfl)
theorem dX12_next_2_15 : decode cX12_next_2 15 = .ok (.aload_n 0, 1) := dk_42 (dk_at dksX12_next_2_0 15 rfl rfl)
theorem dX12_next_2_16 : decode cX12_next_2 16 = .ok (.getfield 29, 3) := dk_180 0 29 (dk_at dksX12_next_2_0 16 rfl rfl)
theorem dX12_next_2_19 : decode cX12_next_2 19 = .ok (.istore_n 1, 1) := dk_60 (dk_at dksX12_next_2_0 19 rfl rfl)
theorem dX12_next_2_20 : decode cX12_next_2 20 = .ok (.aload_n 0, 1) := dk_42 (dk_at dksX12_next_2_0 20 rfl rfl)
theorem dX12_next_2_21 : decode cX12_next_2 21 = .ok (.iload_n 1, 1) := dk_27 (dk_at dksX12_next_2_0 21 rfl rfl)
theorem dX12_next_2_22 : decode cX12_next_2 22 = .ok (.aload_n 0, 1) := dk_42 (dk_at dksX12_next_2_0 22 rfl rfl)
theorem dX12_next_2_23 : decode cX12_next_2 23 = .ok (.getfield 1, 3) := dk_180 0 1 (dk_at dksX12_next_2_1 0 rfl rfl)
theorem dX12_next_2_26 : decode cX12_next_2 26 = .ok (.aload_n 0, 1) := dk_42 (dk_at dksX12_next_2_1 3 rfl rfl)
theorem dX12_next_2_27 : decode cX12_next_2 27 = .ok (.getfield 13, 3) := dk_180 0 13 (dk_at dksX12_next_2_1 4 rfl rfl)
theorem dX12_next_2_30 : decode cX12_next_2 30 = .ok (.getfield 39, 3) := dk_180 0 39 (dk_at dksX12_next_2_1 7 rfl rfl)
theorem dX12_next_2_33 : decode cX12_next_2 33 = .ok (.invokevirtual 23, 3) := dk_182 0 23 (dk_at dksX12_next_2_1 10 rfl rfl)
theorem dX12_next_2_36 : decode cX12_next_2 36 = .ok (.if_icmp .ne 7, 3) := dk_160 0 7 (dk_at dksX12_next_2_1 13 rfl rfl)
theorem dX12_next_2_39 : decode cX12_next_2 39 = .ok (.iconst 1, 1) := dk_4 (dk_at dksX12_next_2_1 16 rfl rfl)
theorem dX12_next_2_40 : decode cX12_next_2 40 = .ok (.goto 4, 3) := dk_167 0 4 (dk_at dksX12_next_2_1 17 rfl rfl)
theorem dX12_next_2_43 : decode cX12_next_2 43 = .ok (.iconst 0, 1) := dk_3 (dk_at dksX12_next_2_1 20 rfl rfl)
theorem dX12_next_2_44 : decode cX12_next_2 44 = .ok (.putfield 32, 3) := dk_181 0 32 (dk_at dksX12_next_2_1 21 rfl rfl)
theorem dX12_next_2_47 : decode cX12_next_2 47 = .ok (.aload_n 0, 1) := dk_42 (dk_at dksX12_next_2_2 0 rfl rfl)
theorem dX12_next_2_48 : decode cX12_next_2 48 = .ok (.getfield 32, 3) := dk_180 0 32 (dk_at dksX12_next_2_2 1 rfl rfl)
theorem dX12_next_2_51 : decode cX12_next_2 51 = .ok (.ifCond .ne 27, 3) := dk_154 0 27 (dk_at dksX12_next_2_2 4 rfl rfl)
theorem dX12_next_2_54 : decode cX12_next_2 54 = .ok (.aload_n 0, 1) := dk_42 (dk_at dksX12_next_2_2 7 rfl rfl)
theorem dX12_next_2_55 : decode cX12_next_2 55 = .ok (.aload_n 0, 1) := dk_42 (dk_at dksX12_next_2_2 8 rfl rfl)
theorem dX12_next_2_56 : decode cX12_next_2 56 = .ok (.getfield 1, 3) := dk_180 0 1 (dk_at dksX12_next_2_2 9 rfl rfl)
theorem dX12_next_2_59 : decode cX12_next_2 59 = .ok (.iload_n 1, 1) := dk_27 (dk_at dksX12_next_2_2 12 rfl rfl)
theorem dX12_next_2_60 : decode cX12_next_2 60 = .ok (.aload_n 0, 1) := dk_42 (dk_at dksX12_next_2_2 13 rfl rfl)
theorem dX12_next_2_61 : decode cX12_next_2 61 = .ok (.getfield 1, 3) := dk_180 0 1 (dk_at dksX12_next_2_2 14 rfl rfl)
theorem dX12_next_2_64 : decode cX12_next_2 64 = .ok (.aload_n 0, 1) := dk_42 (dk_at dksX12_next_2_2 17 rfl rfl)
theorem dX12_next_2_65 : decode cX12_next_2 65 = .ok (.getfield 13, 3) := dk_180 0 13 (dk_at dksX12_next_2_2 18 rfl rfl)
theorem dX12_next_2_68 : decode cX12_next_2 68 = .ok (.iload_n 1, 1) := dk_27 (dk_at dksX12_next_2_2 21 rfl rfl)
theorem dX12_next_2_69 : decode cX12_next_2 69 = .ok (.invokevirtual 42, 3) := dk_182 0 42 (dk_at dksX12_next_2_3 0 rfl rfl)
theorem dX12_next_2_72 : decode cX12_next_2 72 = .ok (.invokevirtual 46, 3) := dk_182 0 46 (dk_at dksX12_next_2_3 3 rfl rfl)
theorem dX12_next_2_75 : decode cX12_next_2 75 = .ok (.putfield 29, 3) := dk_181 0 29 (dk_at dksX12_next_2_3 6 rfl rfl)
theorem dX12_next_2_78 : decode cX12_next_2 78 = .ok (.iload_n 1, 1) := dk_27 (dk_at dksX12_next_2_3 9 rfl rfl)
theorem dX12_next_2_79 : decode cX12_next_2 79 = .ok (.invokestatic 50, 3) := dk_184 0 50 (dk_at dksX12_next_2_3 10 rfl rfl)
theorem dX12_next_2_82 : decode cX12_next_2 82 = .ok (.areturn, 1) := dk_176 (dk_at dksX12_next_2_3 13 rfl rfl)
def dkwX13_isOpen_0 : List UInt8 := [43, 180, 0, 9, 28, 46, 153, 0, 7, 4, 167, 0, 4, 3, 172]
abbrev dktX13_isOpen_0 : List UInt8 := dkwX13_isOpen_0 ++ []
theorem dksX13_isOpen_0 : cX13_isOpen.data.toList.drop 0 = dktX13_isOpen_0 := by decide +kernel
theorem dX13_isOpen_0 : decode cX13_isOpen 0 = .ok (.aload_n 1, 1) := dk_43 (dk_at dksX13_isOpen_0 0 rfl rfl)
theorem dX13_isOpen_1 : decode cX13_isOpen 1 = .ok (.getfield 9, 3) := dk_180 0 9 (dk_at dksX13_isOpen_0 1 rfl rfl)
theorem dX13_isOpen_4 : decode cX13_isOpen 4 = .ok (.iload_n 2, 1) := dk_28 (dk_at dksX13_isOpen_0 4 rfl rfl)
theorem dX13_isOpen_5 : decode cX13_isOpen 5 = .ok (.iaload, 1) := dk_46 (dk_at dksX13_isOpen_0 5 rfl rfl)
theorem dX13_isOpen_6 : decode cX13_isOpen 6 = .ok (.ifCond .eq 7, 3) := dk_153 0 7 (dk_at dksX13_isOpen_0 6 rfl rfl)
theorem dX13_isOpen_9 : decode cX13_isOpen 9 = .ok (.iconst 1, 1) := dk_4 (dk_at dksX13_isOpen_0 9 rfl rfl)
theorem dX13_isOpen_10 : decode cX13_isOpen 10 = .ok (.goto 4, 3) := dk_167 0 4 (dk_at dksX13_isOpen_0 10 rfl rfl)
theorem dX13_isOpen_13 : decode cX13_isOpen 13 = .ok (.iconst 0, 1) := dk_3 (dk_at dksX13_isOpen_0 13 rfl rfl)
theorem dX13_isOpen_14 : decode cX13_isOpen 14 = .ok (.ireturn, 1) := dk_172 (dk_at dksX13_isOpen_0 14 rfl rfl)
def dkwX14_isOpen_0 : List UInt8 := [43, 180, 0, 7, 28, 51, 154, 0, 7, 4, 167, 0, 4, 3, 172]
abbrev dktX14_isOpen_0 : List UInt8 := dkwX14_isOpen_0 ++ []
theorem dksX14_isOpen_0 : cX14_isOpen.data.toList.drop 0 = dktX14_isOpen_0 := by decide +kernel
theorem dX14_isOpen_0 : decode cX14_isOpen 0 = .ok (.aload_n 1, 1) := dk_43 (dk_at dksX14_isOpen_0 0 rfl rfl)
theorem dX14_isOpen_1 : decode cX14_isOpen 1 = .ok (.getfield 7, 3) := dk_180 0 7 (dk_at dksX14_isOpen_0 1 rfl rfl)
theorem dX14_isOpen_4 : decode cX14_isOpen 4 = .ok (.iload_n 2, 1) := dk_28 (dk_at dksX14_isOpen_0 4 rfl rfl)
theorem dX14_isOpen_5 : decode cX14_isOpen 5 = .ok (.baload, 1) := dk_51 (dk_at dksX14_isOpen_0 5 rfl rfl)
theorem dX14_isOpen_6 : decode cX14_isOpen 6 = .ok (.ifCond .ne 7, 3) := dk_154 0 7 (dk_at dksX14_isOpen_0 6 rfl rfl)
theorem dX14_isOpen_9 : decode cX14_isOpen 9 = .ok (.iconst 1, 1) := dk_4 (dk_at dksX14_isOpen_0 9 rfl rfl)
theorem dX14_isOpen_10 : decode cX14_isOpen 10 = .ok (.goto 4, 3) := dk_167 0 4 (dk_at dksX14_isOpen_0 10 rfl rfl)
theorem dX14_isOpen_13 : decode cX14_isOpen 13 = .ok (.iconst 0, 1) := dk_3 (dk_at dksX14_isOpen_0 13 rfl rfl)
theorem dX14_isOpen_14 : decode cX14_isOpen 14 = .ok (.ireturn, 1) := dk_172 (dk_at dksX14_isOpen_0 14 rfl rfl)
theorem dX15_isOpen_0 : decode cX15_isOpen 0 = .ok (.iconst 1, 1) := by decide +kernel
theorem dX15_isOpen_1 : decode cX15_isOpen 1 = .ok (.ireturn, 1) := by decide +kernel
