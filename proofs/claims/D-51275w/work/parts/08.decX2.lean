set_option maxRecDepth 100000
def dkwX2_init_3 : List UInt8 := [2, 79, 132, 5, 1, 167, 255, 227, 42, 16, 9, 42, 180, 0, 14, 104, 181, 0, 25, 177]
abbrev dktX2_init_3 : List UInt8 := dkwX2_init_3 ++ []
def dkwX2_init_2 : List UInt8 := [21, 5, 42, 180, 0, 14, 162, 0, 26, 42, 180, 0, 18, 21, 5, 16, 9, 79, 42, 180, 0, 22, 21, 5]
abbrev dktX2_init_2 : List UInt8 := dkwX2_init_2 ++ dktX2_init_3
def dkwX2_init_1 : List UInt8 := [28, 104, 188, 10, 27, 28, 104, 188, 10, 27, 28, 104, 188, 4, 16, 12, 188, 10, 183, 0, 9, 3, 54, 5]
abbrev dktX2_init_1 : List UInt8 := dkwX2_init_1 ++ dktX2_init_2
def dkwX2_init_0 : List UInt8 := [42, 27, 28, 29, 21, 4, 187, 0, 3, 89, 183, 0, 5, 27, 28, 104, 188, 10, 27, 28, 104, 188, 10, 27]
abbrev dktX2_init_0 : List UInt8 := dkwX2_init_0 ++ dktX2_init_1
theorem dksX2_init_0 : cX2_init.data.toList.drop 0 = dktX2_init_0 := by decide +kernel
theorem dksX2_init_1 : cX2_init.data.toList.drop 24 = dktX2_init_1 := dk_seg dksX2_init_0 24 rfl rfl
theorem dksX2_init_2 : cX2_init.data.toList.drop 48 = dktX2_init_2 := dk_seg dksX2_init_1 24 rfl rfl
theorem dksX2_init_3 : cX2_init.data.toList.drop 72 = dktX2_init_3 := dk_seg dksX2_init_2 24 rfl rfl
theorem dX2_init_0 : decode cX2_init 0 = .ok (.aload_n 0, 1) := dk_42 (dk_at dksX2_init_0 0 rfl rfl)
theorem dX2_init_1 : decode cX2_init 1 = .ok (.iload_n 1, 1) := dk_27 (dk_at dksX2_init_0 1 rfl rfl)
theorem dX2_init_2 : decode cX2_init 2 = .ok (.iload_n 2, 1) := dk_28 (dk_at dksX2_init_0 2 rfl rfl)
theorem dX2_init_3 : decode cX2_init 3 = .ok (.iload_n 3, 1) := dk_29 (dk_at dksX2_init_0 3 rfl rfl)
theorem dX2_init_4 : decode cX2_init 4 = .ok (.iload 4, 2) := dk_21 4 (dk_at dksX2_init_0 4 rfl rfl)
theorem dX2_init_6 : decode cX2_init 6 = .ok (.new 3, 3) := dk_187 0 3 (dk_at dksX2_init_0 6 rfl rfl)
theorem dX2_init_9 : decode cX2_init 9 = .ok (.dup, 1) := dk_89 (dk_at dksX2_init_0 9 rfl rfl)
theorem dX2_init_10 : decode cX2_init 10 = .ok (.invokespecial 5, 3) := dk_183 0 5 (dk_at dksX2_init_0 10 rfl rfl)
theorem dX2_init_13 : decode cX2_init 13 = .ok (.iload_n 1, 1) := dk_27 (dk_at dksX2_init_0 13 rfl rfl)
theorem dX2_init_14 : decode cX2_init 14 = .ok (.iload_n 2, 1) := dk_28 (dk_at dksX2_init_0 14 rfl rfl)
theorem dX2_init_15 : decode cX2_init 15 = .ok (.imul, 1) := dk_104 (dk_at dksX2_init_0 15 rfl rfl)
theorem dX2_init_16 : decode cX2_init 16 = .ok (.newarray .int, 2) := dk_188_10 (dk_at dksX2_init_0 16 rfl rfl)
theorem dX2_init_18 : decode cX2_init 18 = .ok (.iload_n 1, 1) := dk_27 (dk_at dksX2_init_0 18 rfl rfl)
theorem dX2_init_19 : decode cX2_init 19 = .ok (.iload_n 2, 1) := dk_28 (dk_at dksX2_init_0 19 rfl rfl)
theorem dX2_init_20 : decode cX2_init 20 = .ok (.imul, 1) := dk_104 (dk_at dksX2_init_0 20 rfl rfl)
theorem dX2_init_21 : decode cX2_init 21 = .ok (.newarray .int, 2) := dk_188_10 (dk_at dksX2_init_0 21 rfl rfl)
theorem dX2_init_23 : decode cX2_init 23 = .ok (.iload_n 1, 1) := dk_27 (dk_at dksX2_init_0 23 rfl rfl)
theorem dX2_init_24 : decode cX2_init 24 = .ok (.iload_n 2, 1) := dk_28 (dk_at dksX2_init_1 0 rfl rfl)
theorem dX2_init_25 : decode cX2_init 25 = .ok (.imul, 1) := dk_104 (dk_at dksX2_init_1 1 rfl rfl)
theorem dX2_init_26 : decode cX2_init 26 = .ok (.newarray .int, 2) := dk_188_10 (dk_at dksX2_init_1 2 rfl rfl)
theorem dX2_init_28 : decode cX2_init 28 = .ok (.iload_n 1, 1) := dk_27 (dk_at dksX2_init_1 4 rfl rfl)
theorem dX2_init_29 : decode cX2_init 29 = .ok (.iload_n 2, 1) := dk_28 (dk_at dksX2_init_1 5 rfl rfl)
theorem dX2_init_30 : decode cX2_init 30 = .ok (.imul, 1) := dk_104 (dk_at dksX2_init_1 6 rfl rfl)
theorem dX2_init_31 : decode cX2_init 31 = .ok (.newarray .int, 2) := dk_188_10 (dk_at dksX2_init_1 7 rfl rfl)
theorem dX2_init_33 : decode cX2_init 33 = .ok (.iload_n 1, 1) := dk_27 (dk_at dksX2_init_1 9 rfl rfl)
theorem dX2_init_34 : decode cX2_init 34 = .ok (.iload_n 2, 1) := dk_28 (dk_at dksX2_init_1 10 rfl rfl)
theorem dX2_init_35 : decode cX2_init 35 = .ok (.imul, 1) := dk_104 (dk_at dksX2_init_1 11 rfl rfl)
theorem dX2_init_36 : decode cX2_init 36 = .ok (.newarray .boolean, 2) := dk_188_4 (dk_at dksX2_init_1 12 rfl rfl)
theorem dX2_init_38 : decode cX2_init 38 = .ok (.bipush 12, 2) := dk_16 12 (dk_at dksX2_init_1 14 rfl rfl)
theorem dX2_init_40 : decode cX2_init 40 = .ok (.newarray .int, 2) := dk_188_10 (dk_at dksX2_init_1 16 rfl rfl)
theorem dX2_init_42 : decode cX2_init 42 = .ok (.invokespecial 9, 3) := dk_183 0 9 (dk_at dksX2_init_1 18 rfl rfl)
theorem dX2_init_45 : decode cX2_init 45 = .ok (.iconst 0, 1) := dk_3 (dk_at dksX2_init_1 21 rfl rfl)
theorem dX2_init_46 : decode cX2_init 46 = .ok (.istore 5, 2) := dk_54 5 (dk_at dksX2_init_1 22 rfl rfl)
theorem dX2_init_48 : decode cX2_init 48 = .ok (.iload 5, 2) := dk_21 5 (dk_at dksX2_init_2 0 rfl rfl)
theorem dX2_init_50 : decode cX2_init 50 = .ok (.aload_n 0, 1) := dk_42 (dk_at dksX2_init_2 2 rfl rfl)
theorem dX2_init_51 : decode cX2_init 51 = .ok (.getfield 14, 3) := dk_180 0 14 (dk_at dksX2_init_2 3 rfl rfl)
theorem dX2_init_54 : decode cX2_init 54 = .ok (.if_icmp .ge 26, 3) := dk_162 0 26 (dk_at dksX2_init_2 6 rfl rfl)
theorem dX2_init_57 : decode cX2_init 57 = .ok (.aload_n 0, 1) := dk_42 (dk_at dksX2_init_2 9 rfl rfl)
theorem dX2_init_58 : decode cX2_init 58 = .ok (.getfield 18, 3) := dk_180 0 18 (dk_at dksX2_init_2 10 rfl rfl)
theorem dX2_init_61 : decode cX2_init 61 = .ok (.iload 5, 2) := dk_21 5 (dk_at dksX2_init_2 13 rfl rfl)
theorem dX2_init_63 : decode cX2_init 63 = .ok (.bipush 9, 2) := dk_16 9 (dk_at dksX2_init_2 15 rfl rfl)
theorem dX2_init_65 : decode cX2_init 65 = .ok (.iastore, 1) := dk_79 (dk_at dksX2_init_2 17 rfl rfl)
theorem dX2_init_66 : decode cX2_init 66 = .ok (.aload_n 0, 1) := dk_42 (dk_at dksX2_init_2 18 rfl rfl)
theorem dX2_init_67 : decode cX2_init 67 = .ok (.getfield 22, 3) := dk_180 0 22 (dk_at dksX2_init_2 19 rfl rfl)
theorem dX2_init_70 : decode cX2_init 70 = .ok (.iload 5, 2) := dk_21 5 (dk_at dksX2_init_2 22 rfl rfl)
theorem dX2_init_72 : decode cX2_init 72 = .ok (.iconst (-1), 1) := dk_2 (dk_at dksX2_init_3 0 rfl rfl)
theorem dX2_init_73 : decode cX2_init 73 = .ok (.iastore, 1) := dk_79 (dk_at dksX2_init_3 1 rfl rfl)
theorem dX2_init_74 : decode cX2_init 74 = .ok (.iinc 5 1, 3) := dk_132 5 1 (dk_at dksX2_init_3 2 rfl rfl)
theorem dX2_init_77 : decode cX2_init 77 = .ok (.goto (-29), 3) := dk_167 255 227 (dk_at dksX2_init_3 5 rfl rfl)
theorem dX2_init_80 : decode cX2_init 80 = .ok (.aload_n 0, 1) := dk_42 (dk_at dksX2_init_3 8 rfl rfl)
theorem dX2_init_81 : decode cX2_init 81 = .ok (.bipush 9, 2) := dk_16 9 (dk_at dksX2_init_3 9 rfl rfl)
theorem dX2_init_83 : decode cX2_init 83 = .ok (.aload_n 0, 1) := dk_42 (dk_at dksX2_init_3 11 rfl rfl)
theorem dX2_init_84 : decode cX2_init 84 = .ok (.getfield 14, 3) := dk_180 0 14 (dk_at dksX2_init_3 12 rfl rfl)
theorem dX2_init_87 : decode cX2_init 87 = .ok (.imul, 1) := dk_104 (dk_at dksX2_init_3 15 rfl rfl)
theorem dX2_init_88 : decode cX2_init 88 = .ok (.putfield 25, 3) := dk_181 0 25 (dk_at dksX2_init_3 16 rfl rfl)
theorem dX2_init_91 : decode cX2_init 91 = .ok (.return_, 1) := dk_177 (dk_at dksX2_init_3 19 rfl rfl)
def dkwX2_init_2_5 : List UInt8 := [42, 180, 0, 14, 188, 4, 181, 0, 72, 42, 42, 180, 0, 14, 188, 4, 181, 0, 75, 177]
abbrev dktX2_init_2_5 : List UInt8 := dkwX2_init_2_5 ++ []
def dkwX2_init_2_4 : List UInt8 := [181, 0, 14, 42, 42, 180, 0, 14, 188, 10, 181, 0, 66, 42, 42, 180, 0, 14, 188, 10, 181, 0, 69, 42]
abbrev dktX2_init_2_4 : List UInt8 := dkwX2_init_2_4 ++ dktX2_init_2_5
def dkwX2_init_2_3 : List UInt8 := [42, 25, 9, 181, 0, 22, 42, 25, 10, 181, 0, 59, 42, 25, 11, 181, 0, 63, 42, 27, 28, 104]
abbrev dktX2_init_2_3 : List UInt8 := dkwX2_init_2_3 ++ dktX2_init_2_4
def dkwX2_init_2_2 : List UInt8 := [42, 25, 5, 181, 0, 50, 42, 25, 6, 181, 0, 53, 42, 25, 7, 181, 0, 18, 42, 25, 8, 181, 0, 56]
abbrev dktX2_init_2_2 : List UInt8 := dkwX2_init_2_2 ++ dktX2_init_2_3
def dkwX2_init_2_1 : List UInt8 := [181, 0, 25, 42, 27, 181, 0, 38, 42, 28, 181, 0, 41, 42, 29, 181, 0, 44, 42, 21, 4, 181, 0, 47]
abbrev dktX2_init_2_1 : List UInt8 := dkwX2_init_2_1 ++ dktX2_init_2_2
def dkwX2_init_2_0 : List UInt8 := [42, 183, 0, 28, 42, 187, 0, 3, 89, 183, 0, 5, 181, 0, 31, 42, 3, 181, 0, 35, 42, 3]
abbrev dktX2_init_2_0 : List UInt8 := dkwX2_init_2_0 ++ dktX2_init_2_1
theorem dksX2_init_2_0 : cX2_init_2.data.toList.drop 0 = dktX2_init_2_0 := by decide +kernel
theorem dksX2_init_2_1 : cX2_init_2.data.toList.drop 22 = dktX2_init_2_1 := dk_seg dksX2_init_2_0 22 rfl rfl
theorem dksX2_init_2_2 : cX2_init_2.data.toList.drop 46 = dktX2_init_2_2 := dk_seg dksX2_init_2_1 24 rfl rfl
theorem dksX2_init_2_3 : cX2_init_2.data.toList.drop 70 = dktX2_init_2_3 := dk_seg dksX2_init_2_2 24 rfl rfl
theorem dksX2_init_2_4 : cX2_init_2.data.toList.drop 92 = dktX2_init_2_4 := dk_seg dksX2_init_2_3 22 rfl rfl
theorem dksX2_init_2_5 : cX2_init_2.data.toList.drop 116 = dktX2_init_2_5 := dk_seg dksX2_init_2_4 24 rfl rfl
theorem dX2_init_2_0 : decode cX2_init_2 0 = .ok (.aload_n 0, 1) := dk_42 (dk_at dksX2_init_2_0 0 rfl rfl)
theorem dX2_init_2_1 : decode cX2_init_2 1 = .ok (.invokespecial 28, 3) := dk_183 0 28 (dk_at dksX2_init_2_0 1 rfl rfl)
theorem dX2_init_2_4 : decode cX2_init_2 4 = .ok (.aload_n 0, 1) := dk_42 (dk_at dksX2_init_2_0 4 rfl rfl)
theorem dX2_init_2_5 : decode cX2_init_2 5 = .ok (.new 3, 3) := dk_187 0 3 (dk_at dksX2_init_2_0 5 rfl rfl)
theorem dX2_init_2_8 : decode cX2_init_2 8 = .ok (.dup, 1) := dk_89 (dk_at dksX2_init_2_0 8 rfl rfl)
theorem dX2_init_2_9 : decode cX2_init_2 9 = .ok (.invokespecial 5, 3) := dk_183 0 5 (dk_at dksX2_init_2_0 9 rfl rfl)
theorem dX2_init_2_12 : decode cX2_init_2 12 = .ok (.putfield 31, 3) := dk_181 0 31 (dk_at dksX2_init_2_0 12 rfl rfl)
theorem dX2_init_2_15 : decode cX2_init_2 15 = .ok (.aload_n 0, 1) := dk_42 (dk_at dksX2_init_2_0 15 rfl rfl)
theorem dX2_init_2_16 : decode cX2_init_2 16 = .ok (.iconst 0, 1) := dk_3 (dk_at dksX2_init_2_0 16 rfl rfl)
theorem dX2_init_2_17 : decode cX2_init_2 17 = .ok (.putfield 35, 3) := dk_181 0 35 (dk_at dksX2_init_2_0 17 rfl rfl)
theorem dX2_init_2_20 : decode cX2_init_2 20 = .ok (.aload_n 0, 1) := dk_42 (dk_at dksX2_init_2_0 20 rfl rfl)
theorem dX2_init_2_21 : decode cX2_init_2 21 = .ok (.iconst 0, 1) := dk_3 (dk_at dksX2_init_2_0 21 rfl rfl)
theorem dX2_init_2_22 : decode cX2_init_2 22 = .ok (.putfield 25, 3) := dk_181 0 25 (dk_at dksX2_init_2_1 0 rfl rfl)
theorem dX2_init_2_25 : decode cX2_init_2 25 = .ok (.aload_n 0, 1) := dk_42 (dk_at dksX2_init_2_1 3 rfl rfl)
theorem dX2_init_2_26 : decode cX2_init_2 26 = .ok (.iload_n 1, 1) := dk_27 (dk_at dksX2_init_2_1 4 rfl rfl)
theorem dX2_init_2_27 : decode cX2_init_2 27 = .ok (.putfield 38, 3) := dk_181 0 38 (dk_at dksX2_init_2_1 5 rfl rfl)
theorem dX2_init_2_30 : decode cX2_init_2 30 = .ok (.aload_n 0, 1) := dk_42 (dk_at dksX2_init_2_1 8 rfl rfl)
theorem dX2_init_2_31 : decode cX2_init_2 31 = .ok (.iload_n 2, 1) := dk_28 (dk_at dksX2_init_2_1 9 rfl rfl)
theorem dX2_init_2_32 : decode cX2_init_2 32 = .ok (.putfield 41, 3) := dk_181 0 41 (dk_at dksX2_init_2_1 10 rfl rfl)
theorem dX2_init_2_35 : decode cX2_init_2 35 = .ok (.aload_n 0, 1) := dk_42 (dk_at dksX2_init_2_1 13 rfl rfl)
theorem dX2_init_2_36 : decode cX2_init_2 36 = .ok (.iload_n 3, 1) := dk_29 (dk_at dksX2_init_2_1 14 rfl rfl)
theorem dX2_init_2_37 : decode cX2_init_2 37 = .ok (.putfield 44, 3) := dk_181 0 44 (dk_at dksX2_init_2_1 15 rfl rfl)
theorem dX2_init_2_40 : decode cX2_init_2 40 = .ok (.aload_n 0, 1) := dk_42 (dk_at dksX2_init_2_1 18 rfl rfl)
theorem dX2_init_2_41 : decode cX2_init_2 41 = .ok (.iload 4, 2) := dk_21 4 (dk_at dksX2_init_2_1 19 rfl rfl)
theorem dX2_init_2_43 : decode cX2_init_2 43 = .ok (.putfield 47, 3) := dk_181 0 47 (dk_at dksX2_init_2_1 21 rfl rfl)
theorem dX2_init_2_46 : decode cX2_init_2 46 = .ok (.aload_n 0, 1) := dk_42 (dk_at dksX2_init_2_2 0 rfl rfl)
theorem dX2_init_2_47 : decode cX2_init_2 47 = .ok (.aload 5, 2) := dk_25 5 (dk_at dksX2_init_2_2 1 rfl rfl)
theorem dX2_init_2_49 : decode cX2_init_2 49 = .ok (.putfield 50, 3) := dk_181 0 50 (dk_at dksX2_init_2_2 3 rfl rfl)
theorem dX2_init_2_52 : decode cX2_init_2 52 = .ok (.aload_n 0, 1) := dk_42 (dk_at dksX2_init_2_2 6 rfl rfl)
theorem dX2_init_2_53 : decode cX2_init_2 53 = .ok (.aload 6, 2) := dk_25 6 (dk_at dksX2_init_2_2 7 rfl rfl)
theorem dX2_init_2_55 : decode cX2_init_2 55 = .ok (.putfield 53, 3) := dk_181 0 53 (dk_at dksX2_init_2_2 9 rfl rfl)
theorem dX2_init_2_58 : decode cX2_init_2 58 = .ok (.aload_n 0, 1) := dk_42 (dk_at dksX2_init_2_2 12 rfl rfl)
theorem dX2_init_2_59 : decode cX2_init_2 59 = .ok (.aload 7, 2) := dk_25 7 (dk_at dksX2_init_2_2 13 rfl rfl)
theorem dX2_init_2_61 : decode cX2_init_2 61 = .ok (.putfield 18, 3) := dk_181 0 18 (dk_at dksX2_init_2_2 15 rfl rfl)
theorem dX2_init_2_64 : decode cX2_init_2 64 = .ok (.aload_n 0, 1) := dk_42 (dk_at dksX2_init_2_2 18 rfl rfl)
theorem dX2_init_2_65 : decode cX2_init_2 65 = .ok (.aload 8, 2) := dk_25 8 (dk_at dksX2_init_2_2 19 rfl rfl)
theorem dX2_init_2_67 : decode cX2_init_2 67 = .ok (.putfield 56, 3) := dk_181 0 56 (dk_at dksX2_init_2_2 21 rfl rfl)
theorem dX2_init_2_70 : decode cX2_init_2 70 = .ok (.aload_n 0, 1) := dk_42 (dk_at dksX2_init_2_3 0 rfl rfl)
theorem dX2_init_2_71 : decode cX2_init_2 71 = .ok (.aload 9, 2) := dk_25 9 (dk_at dksX2_init_2_3 1 rfl rfl)
theorem dX2_init_2_73 : decode cX2_init_2 73 = .ok (.putfield 22, 3) := dk_181 0 22 (dk_at dksX2_init_2_3 3 rfl rfl)
theorem dX2_init_2_76 : decode cX2_init_2 76 = .ok (.aload_n 0, 1) := dk_42 (dk_at dksX2_init_2_3 6 rfl rfl)
theorem dX2_init_2_77 : decode cX2_init_2 77 = .ok (.aload 10, 2) := dk_25 10 (dk_at dksX2_init_2_3 7 rfl rfl)
theorem dX2_init_2_79 : decode cX2_init_2 79 = .ok (.putfield 59, 3) := dk_181 0 59 (dk_at dksX2_init_2_3 9 rfl rfl)
theorem dX2_init_2_82 : decode cX2_init_2 82 = .ok (.aload_n 0, 1) := dk_42 (dk_at dksX2_init_2_3 12 rfl rfl)
theorem dX2_init_2_83 : decode cX2_init_2 83 = .ok (.aload 11, 2) := dk_25 11 (dk_at dksX2_init_2_3 13 rfl rfl)
theorem dX2_init_2_85 : decode cX2_init_2 85 = .ok (.putfield 63, 3) := dk_181 0 63 (dk_at dksX2_init_2_3 15 rfl rfl)
theorem dX2_init_2_88 : decode cX2_init_2 88 = .ok (.aload_n 0, 1) := dk_42 (dk_at dksX2_init_2_3 18 rfl rfl)
theorem dX2_init_2_89 : decode cX2_init_2 89 = .ok (.iload_n 1, 1) := dk_27 (dk_at dksX2_init_2_3 19 rfl rfl)
theorem dX2_init_2_90 : decode cX2_init_2 90 = .ok (.iload_n 2, 1) := dk_28 (dk_at dksX2_init_2_3 20 rfl rfl)
theorem dX2_init_2_91 : decode cX2_init_2 91 = .ok (.imul, 1) := dk_104 (dk_at dksX2_init_2_3 21 rfl rfl)
theorem dX2_init_2_92 : decode cX2_init_2 92 = .ok (.putfield 14, 3) := dk_181 0 14 (dk_at dksX2_init_2_4 0 rfl rfl)
theorem dX2_init_2_95 : decode cX2_init_2 95 = .ok (.aload_n 0, 1) := dk_42 (dk_at dksX2_init_2_4 3 rfl rfl)
theorem dX2_init_2_96 : decode cX2_init_2 96 = .ok (.aload_n 0, 1) := dk_42 (dk_at dksX2_init_2_4 4 rfl rfl)
theorem dX2_init_2_97 : decode cX2_init_2 97 = .ok (.getfield 14, 3) := dk_180 0 14 (dk_at dksX2_init_2_4 5 rfl rfl)
theorem dX2_init_2_100 : decode cX2_init_2 100 = .ok (.newarray .int, 2) := dk_188_10 (dk_at dksX2_init_2_4 8 rfl rfl)
theorem dX2_init_2_102 : decode cX2_init_2 102 = .ok (.putfield 66, 3) := dk_181 0 66 (dk_at dksX2_init_2_4 10 rfl rfl)
theorem dX2_init_2_105 : decode cX2_init_2 105 = .ok (.aload_n 0, 1) := dk_42 (dk_at dksX2_init_2_4 13 rfl rfl)
theorem dX2_init_2_106 : decode cX2_init_2 106 = .ok (.aload_n 0, 1) := dk_42 (dk_at dksX2_init_2_4 14 rfl rfl)
theorem dX2_init_2_107 : decode cX2_init_2 107 = .ok (.getfield 14, 3) := dk_180 0 14 (dk_at dksX2_init_2_4 15 rfl rfl)
theorem dX2_init_2_110 : decode cX2_init_2 110 = .ok (.newarray .int, 2) := dk_188_10 (dk_at dksX2_init_2_4 18 rfl rfl)
theorem dX2_init_2_112 : decode cX2_init_2 112 = .ok (.putfield 69, 3) := dk_181 0 69 (dk_at dksX2_init_2_4 20 rfl rfl)
theorem dX2_init_2_115 : decode cX2_init_2 115 = .ok (.aload_n 0, 1) := dk_42 (dk_at dksX2_init_2_4 23 rfl rfl)
theorem dX2_init_2_116 : decode cX2_init_2 116 = .ok (.aload_n 0, 1) := dk_42 (dk_at dksX2_init_2_5 0 rfl rfl)
theorem dX2_init_2_117 : decode cX2_init_2 117 = .ok (.getfield 14, 3) := dk_180 0 14 (dk_at dksX2_init_2_5 1 rfl rfl)
theorem dX2_init_2_120 : decode cX2_init_2 120 = .ok (.newarray .boolean, 2) := dk_188_4 (dk_at dksX2_init_2_5 4 rfl rfl)
theorem dX2_init_2_122 : decode cX2_init_2 122 = .ok (.putfield 72, 3) := dk_181 0 72 (dk_at dksX2_init_2_5 6 rfl rfl)
theorem dX2_init_2_125 : decode cX2_init_2 125 = .ok (.aload_n 0, 1) := dk_42 (dk_at dksX2_init_2_5 9 rfl rfl)
theorem dX2_init_2_126 : decode cX2_init_2 126 = .ok (.aload_n 0, 1) := dk_42 (dk_at dksX2_init_2_5 10 rfl rfl)
theorem dX2_init_2_127 : decode cX2_init_2 127 = .ok (.getfield 14, 3) := dk_180 0 14 (dk_at dksX2_init_2_5 11 rfl rfl)
theorem dX2_init_2_130 : decode cX2_init_2 130 = .ok (.newarray .boolean, 2) := dk_188_4 (dk_at dksX2_init_2_5 14 rfl rfl)
theorem dX2_init_2_132 : decode cX2_init_2 132 = .ok (.putfield 75, 3) := dk_181 0 75 (dk_at dksX2_init_2_5 16 rfl rfl)
theorem dX2_init_2_135 : decode cX2_init_2 135 = .ok (.return_, 1) := dk_177 (dk_at dksX2_init_2_5 19 rfl rfl)
def dkwX2_addsGate_0 : List UInt8 := [42, 28, 5, 182, 0, 112, 42, 180, 0, 50, 187, 0, 107, 89, 43, 28, 183, 0, 116, 182, 0, 99, 177]
abbrev dktX2_addsGate_0 : List UInt8 := dkwX2_addsGate_0 ++ []
theorem dksX2_addsGate_0 : cX2_addsGate.data.toList.drop 0 = dktX2_addsGate_0 := by decide +kernel
theorem dX2_addsGate_0 : decode cX2_addsGate 0 = .ok (.aload_n 0, 1) := dk_42 (dk_at dksX2_addsGate_0 0 rfl rfl)
theorem dX2_addsGate_1 : decode cX2_addsGate 1 = .ok (.iload_n 2, 1) := dk_28 (dk_at dksX2_addsGate_0 1 rfl rfl)
theorem dX2_addsGate_2 : decode cX2_addsGate 2 = .ok (.iconst 2, 1) := dk_5 (dk_at dksX2_addsGate_0 2 rfl rfl)
theorem dX2_addsGate_3 : decode cX2_addsGate 3 = .ok (.invokevirtual 112, 3) := dk_182 0 112 (dk_at dksX2_addsGate_0 3 rfl rfl)
theorem dX2_addsGate_6 : decode cX2_addsGate 6 = .ok (.aload_n 0, 1) := dk_42 (dk_at dksX2_addsGate_0 6 rfl rfl)
theorem dX2_addsGate_7 : decode cX2_addsGate 7 = .ok (.getfield 50, 3) := dk_180 0 50 (dk_at dksX2_addsGate_0 7 rfl rfl)
theorem dX2_addsGate_10 : decode cX2_addsGate 10 = .ok (.new 107, 3) := dk_187 0 107 (dk_at dksX2_addsGate_0 10 rfl rfl)
theorem dX2_addsGate_13 : decode cX2_addsGate 13 = .ok (.dup, 1) := dk_89 (dk_at dksX2_addsGate_0 13 rfl rfl)
theorem dX2_addsGate_14 : decode cX2_addsGate 14 = .ok (.aload_n 1, 1) := dk_43 (dk_at dksX2_addsGate_0 14 rfl rfl)
theorem dX2_addsGate_15 : decode cX2_addsGate 15 = .ok (.iload_n 2, 1) := dk_28 (dk_at dksX2_addsGate_0 15 rfl rfl)
theorem dX2_addsGate_16 : decode cX2_addsGate 16 = .ok (.invokespecial 116, 3) := dk_183 0 116 (dk_at dksX2_addsGate_0 16 rfl rfl)
theorem dX2_addsGate_19 : decode cX2_addsGate 19 = .ok (.invokevirtual 99, 3) := dk_182 0 99 (dk_at dksX2_addsGate_0 19 rfl rfl)
theorem dX2_addsGate_22 : decode cX2_addsGate 22 = .ok (.return_, 1) := dk_177 (dk_at dksX2_addsGate_0 22 rfl rfl)
def dkwX2_hardens_1 : List UInt8 := [180, 0, 18, 27, 3, 79, 177]
abbrev dktX2_hardens_1 : List UInt8 := dkwX2_hardens_1 ++ []
def dkwX2_hardens_0 : List UInt8 := [42, 180, 0, 53, 27, 28, 79, 42, 89, 180, 0, 25, 42, 180, 0, 18, 27, 46, 100, 181, 0, 25, 42]
abbrev dktX2_hardens_0 : List UInt8 := dkwX2_hardens_0 ++ dktX2_hardens_1
theorem dksX2_hardens_0 : cX2_hardens.data.toList.drop 0 = dktX2_hardens_0 := by decide +kernel
theorem dksX2_hardens_1 : cX2_hardens.data.toList.drop 23 = dktX2_hardens_1 := dk_seg dksX2_hardens_0 23 rfl rfl
theorem dX2_hardens_0 : decode cX2_hardens 0 = .ok (.aload_n 0, 1) := dk_42 (dk_at dksX2_hardens_0 0 rfl rfl)
theorem dX2_hardens_1 : decode cX2_hardens 1 = .ok (.getfield 53, 3) := dk_180 0 53 (dk_at dksX2_hardens_0 1 rfl rfl)
theorem dX2_hardens_4 : decode cX2_hardens 4 = .ok (.iload_n 1, 1) := dk_27 (dk_at dksX2_hardens_0 4 rfl rfl)
theorem dX2_hardens_5 : decode cX2_hardens 5 = .ok (.iload_n 2, 1) := dk_28 (dk_at dksX2_hardens_0 5 rfl rfl)
theorem dX2_hardens_6 : decode cX2_hardens 6 = .ok (.iastore, 1) := dk_79 (dk_at dksX2_hardens_0 6 rfl rfl)
theorem dX2_hardens_7 : decode cX2_hardens 7 = .ok (.aload_n 0, 1) := dk_42 (dk_at dksX2_hardens_0 7 rfl rfl)
theorem dX2_hardens_8 : decode cX2_hardens 8 = .ok (.dup, 1) := dk_89 (dk_at dksX2_hardens_0 8 rfl rfl)
theorem dX2_hardens_9 : decode cX2_hardens 9 = .ok (.getfield 25, 3) := dk_180 0 25 (dk_at dksX2_hardens_0 9 rfl rfl)
theorem dX2_hardens_12 : decode cX2_hardens 12 = .ok (.aload_n 0, 1) := dk_42 (dk_at dksX2_hardens_0 12 rfl rfl)
theorem dX2_hardens_13 : decode cX2_hardens 13 = .ok (.getfield 18, 3) := dk_180 0 18 (dk_at dksX2_hardens_0 13 rfl rfl)
theorem dX2_hardens_16 : decode cX2_hardens 16 = .ok (.iload_n 1, 1) := dk_27 (dk_at dksX2_hardens_0 16 rfl rfl)
theorem dX2_hardens_17 : decode cX2_hardens 17 = .ok (.iaload, 1) := dk_46 (dk_at dksX2_hardens_0 17 rfl rfl)
theorem dX2_hardens_18 : decode cX2_hardens 18 = .ok (.isub, 1) := dk_100 (dk_at dksX2_hardens_0 18 rfl rfl)
theorem dX2_hardens_19 : decode cX2_hardens 19 = .ok (.putfield 25, 3) := dk_181 0 25 (dk_at dksX2_hardens_0 19 rfl rfl)
theorem dX2_hardens_22 : decode cX2_hardens 22 = .ok (.aload_n 0, 1) := dk_42 (dk_at dksX2_hardens_0 22 rfl rfl)
theorem dX2_hardens_23 : decode cX2_hardens 23 = .ok (.getfield 18, 3) := dk_180 0 18 (dk_at dksX2_hardens_1 0 rfl rfl)
theorem dX2_hardens_26 : decode cX2_hardens 26 = .ok (.iload_n 1, 1) := dk_27 (dk_at dksX2_hardens_1 3 rfl rfl)
theorem dX2_hardens_27 : decode cX2_hardens 27 = .ok (.iconst 0, 1) := dk_3 (dk_at dksX2_hardens_1 4 rfl rfl)
theorem dX2_hardens_28 : decode cX2_hardens 28 = .ok (.iastore, 1) := dk_79 (dk_at dksX2_hardens_1 5 rfl rfl)
theorem dX2_hardens_29 : decode cX2_hardens 29 = .ok (.return_, 1) := dk_177 (dk_at dksX2_hardens_1 6 rfl rfl)
def dkwX2_grassAll_1 : List UInt8 := [167, 255, 236, 27, 172]
abbrev dktX2_grassAll_1 : List UInt8 := dkwX2_grassAll_1 ++ []
def dkwX2_grassAll_0 : List UInt8 := [3, 60, 3, 61, 28, 42, 180, 0, 14, 162, 0, 18, 27, 42, 180, 0, 18, 28, 46, 96, 60, 132, 2, 1]
abbrev dktX2_grassAll_0 : List UInt8 := dkwX2_grassAll_0 ++ dktX2_grassAll_1
theorem dksX2_grassAll_0 : cX2_grassAll.data.toList.drop 0 = dktX2_grassAll_0 := by decide +kernel
theorem dksX2_grassAll_1 : cX2_grassAll.data.toList.drop 24 = dktX2_grassAll_1 := dk_seg dksX2_grassAll_0 24 rfl rfl
theorem dX2_grassAll_0 : decode cX2_grassAll 0 = .ok (.iconst 0, 1) := dk_3 (dk_at dksX2_grassAll_0 0 rfl rfl)
theorem dX2_grassAll_1 : decode cX2_grassAll 1 = .ok (.istore_n 1, 1) := dk_60 (dk_at dksX2_grassAll_0 1 rfl rfl)
theorem dX2_grassAll_2 : decode cX2_grassAll 2 = .ok (.iconst 0, 1) := dk_3 (dk_at dksX2_grassAll_0 2 rfl rfl)
theorem dX2_grassAll_3 : decode cX2_grassAll 3 = .ok (.istore_n 2, 1) := dk_61 (dk_at dksX2_grassAll_0 3 rfl rfl)
theorem dX2_grassAll_4 : decode cX2_grassAll 4 = .ok (.iload_n 2, 1) := dk_28 (dk_at dksX2_grassAll_0 4 rfl rfl)
theorem dX2_grassAll_5 : decode cX2_grassAll 5 = .ok (.aload_n 0, 1) := dk_42 (dk_at dksX2_grassAll_0 5 rfl rfl)
theorem dX2_grassAll_6 : decode cX2_grassAll 6 = .ok (.getfield 14, 3) := dk_180 0 14 (dk_at dksX2_grassAll_0 6 rfl rfl)
theorem dX2_grassAll_9 : decode cX2_grassAll 9 = .ok (.if_icmp .ge 18, 3) := dk_162 0 18 (dk_at dksX2_grassAll_0 9 rfl rfl)
theorem dX2_grassAll_12 : decode cX2_grassAll 12 = .ok (.iload_n 1, 1) := dk_27 (dk_at dksX2_grassAll_0 12 rfl rfl)
theorem dX2_grassAll_13 : decode cX2_grassAll 13 = .ok (.aload_n 0, 1) := dk_42 (dk_at dksX2_grassAll_0 13 rfl rfl)
theorem dX2_grassAll_14 : decode cX2_grassAll 14 = .ok (.getfield 18, 3) := dk_180 0 18 (dk_at dksX2_grassAll_0 14 rfl rfl)
theorem dX2_grassAll_17 : decode cX2_grassAll 17 = .ok (.iload_n 2, 1) := dk_28 (dk_at dksX2_grassAll_0 17 rfl rfl)
theorem dX2_grassAll_18 : decode cX2_grassAll 18 = .ok (.iaload, 1) := dk_46 (dk_at dksX2_grassAll_0 18 rfl rfl)
theorem dX2_grassAll_19 : decode cX2_grassAll 19 = .ok (.iadd, 1) := dk_96 (dk_at dksX2_grassAll_0 19 rfl rfl)
theorem dX2_grassAll_20 : decode cX2_grassAll 20 = .ok (.istore_n 1, 1) := dk_60 (dk_at dksX2_grassAll_0 20 rfl rfl)
theorem dX2_grassAll_21 : decode cX2_grassAll 21 = .ok (.iinc 2 1, 3) := dk_132 2 1 (dk_at dksX2_grassAll_0 21 rfl rfl)
theorem dX2_grassAll_24 : decode cX2_grassAll 24 = .ok (.goto (-20), 3) := dk_167 255 236 (dk_at dksX2_grassAll_1 0 rfl rfl)
theorem dX2_grassAll_27 : decode cX2_grassAll 27 = .ok (.iload_n 1, 1) := dk_27 (dk_at dksX2_grassAll_1 3 rfl rfl)
theorem dX2_grassAll_28 : decode cX2_grassAll 28 = .ok (.ireturn, 1) := dk_172 (dk_at dksX2_grassAll_1 4 rfl rfl)
def dkwX2_walker_0 : List UInt8 := [42, 180, 0, 31, 27, 182, 0, 103, 192, 0, 94, 176]
abbrev dktX2_walker_0 : List UInt8 := dkwX2_walker_0 ++ []
theorem dksX2_walker_0 : cX2_walker.data.toList.drop 0 = dktX2_walker_0 := by decide +kernel
theorem dX2_walker_0 : decode cX2_walker 0 = .ok (.aload_n 0, 1) := dk_42 (dk_at dksX2_walker_0 0 rfl rfl)
theorem dX2_walker_1 : decode cX2_walker 1 = .ok (.getfield 31, 3) := dk_180 0 31 (dk_at dksX2_walker_0 1 rfl rfl)
theorem dX2_walker_4 : decode cX2_walker 4 = .ok (.iload_n 1, 1) := dk_27 (dk_at dksX2_walker_0 4 rfl rfl)
theorem dX2_walker_5 : decode cX2_walker 5 = .ok (.invokevirtual 103, 3) := dk_182 0 103 (dk_at dksX2_walker_0 5 rfl rfl)
theorem dX2_walker_8 : decode cX2_walker 8 = .ok (.checkcast 94, 3) := dk_192 0 94 (dk_at dksX2_walker_0 8 rfl rfl)
theorem dX2_walker_11 : decode cX2_walker 11 = .ok (.areturn, 1) := dk_176 (dk_at dksX2_walker_0 11 rfl rfl)
def dkwX2_tellsFar_6 : List UInt8 := [167, 255, 165, 42, 180, 0, 66, 42, 43, 180, 0, 163, 182, 0, 137, 46, 172]
abbrev dktX2_tellsFar_6 : List UInt8 := dkwX2_tellsFar_6 ++ []
def dkwX2_tellsFar_5 : List UInt8 := [42, 180, 0, 66, 21, 6, 46, 21, 4, 184, 0, 158, 79, 132, 5, 1, 167, 255, 203, 42, 182, 0, 141, 62]
abbrev dktX2_tellsFar_5 : List UInt8 := dkwX2_tellsFar_5 ++ dktX2_tellsFar_6
def dkwX2_tellsFar_4 : List UInt8 := [54, 6, 21, 6, 2, 159, 0, 32, 44, 42, 21, 6, 182, 0, 152, 153, 0, 22, 42, 180, 0, 66, 21, 6]
abbrev dktX2_tellsFar_4 : List UInt8 := dkwX2_tellsFar_4 ++ dktX2_tellsFar_5
def dkwX2_tellsFar_3 : List UInt8 := [29, 182, 0, 144, 96, 54, 4, 3, 54, 5, 21, 5, 7, 162, 0, 53, 42, 29, 21, 5, 182, 0, 148]
abbrev dktX2_tellsFar_3 : List UInt8 := dkwX2_tellsFar_3 ++ dktX2_tellsFar_4
def dkwX2_tellsFar_2 : List UInt8 := [182, 0, 141, 62, 29, 2, 159, 0, 92, 42, 180, 0, 72, 29, 4, 84, 42, 180, 0, 66, 29, 46, 42, 43]
abbrev dktX2_tellsFar_2 : List UInt8 := dkwX2_tellsFar_2 ++ dktX2_tellsFar_3
def dkwX2_tellsFar_1 : List UInt8 := [84, 132, 3, 1, 167, 255, 230, 42, 180, 0, 66, 42, 43, 180, 0, 134, 182, 0, 137, 3, 79, 42]
abbrev dktX2_tellsFar_1 : List UInt8 := dkwX2_tellsFar_1 ++ dktX2_tellsFar_2
def dkwX2_tellsFar_0 : List UInt8 := [3, 62, 29, 42, 180, 0, 14, 162, 0, 24, 42, 180, 0, 66, 29, 18, 133, 79, 42, 180, 0, 72, 29, 3]
abbrev dktX2_tellsFar_0 : List UInt8 := dkwX2_tellsFar_0 ++ dktX2_tellsFar_1
theorem dksX2_tellsFar_0 : cX2_tellsFar.data.toList.drop 0 = dktX2_tellsFar_0 := by decide +kernel
theorem dksX2_tellsFar_1 : cX2_tellsFar.data.toList.drop 24 = dktX2_tellsFar_1 := dk_seg dksX2_tellsFar_0 24 rfl rfl
theorem dksX2_tellsFar_2 : cX2_tellsFar.data.toList.drop 46 = dktX2_tellsFar_2 := dk_seg dksX2_tellsFar_1 22 rfl rfl
theorem dksX2_tellsFar_3 : cX2_tellsFar.data.toList.drop 70 = dktX2_tellsFar_3 := dk_seg dksX2_tellsFar_2 24 rfl rfl
theorem dksX2_tellsFar_4 : cX2_tellsFar.data.toList.drop 93 = dktX2_tellsFar_4 := dk_seg dksX2_tellsFar_3 23 rfl rfl
theorem dksX2_tellsFar_5 : cX2_tellsFar.data.toList.drop 117 = dktX2_tellsFar_5 := dk_seg dksX2_tellsFar_4 24 rfl rfl
theorem dksX2_tellsFar_6 : cX2_tellsFar.data.toList.drop 141 = dktX2_tellsFar_6 := dk_seg dksX2_tellsFar_5 24 rfl rfl
theorem dX2_tellsFar_0 : decode cX2_tellsFar 0 = .ok (.iconst 0, 1) := dk_3 (dk_at dksX2_tellsFar_0 0 rfl rfl)
theorem dX2_tellsFar_1 : decode cX2_tellsFar 1 = .ok (.istore_n 3, 1) := dk_62 (dk_at dksX2_tellsFar_0 1 rfl rfl)
theorem dX2_tellsFar_2 : decode cX2_tellsFar 2 = .ok (.iload_n 3, 1) := dk_29 (dk_at dksX2_tellsFar_0 2 rfl rfl)
theorem dX2_tellsFar_3 : decode cX2_tellsFar 3 = .ok (.aload_n 0, 1) := dk_42 (dk_at dksX2_tellsFar_0 3 rfl rfl)
theorem dX2_tellsFar_4 : decode cX2_tellsFar 4 = .ok (.getfield 14, 3) := dk_180 0 14 (dk_at dksX2_tellsFar_0 4 rfl rfl)
theorem dX2_tellsFar_7 : decode cX2_tellsFar 7 = .ok (.if_icmp .ge 24, 3) := dk_162 0 24 (dk_at dksX2_tellsFar_0 7 rfl rfl)
theorem dX2_tellsFar_10 : decode cX2_tellsFar 10 = .ok (.aload_n 0, 1) := dk_42 (dk_at dksX2_tellsFar_0 10 rfl rfl)
theorem dX2_tellsFar_11 : decode cX2_tellsFar 11 = .ok (.getfield 66, 3) := dk_180 0 66 (dk_at dksX2_tellsFar_0 11 rfl rfl)
theorem dX2_tellsFar_14 : decode cX2_tellsFar 14 = .ok (.iload_n 3, 1) := dk_29 (dk_at dksX2_tellsFar_0 14 rfl rfl)
theorem dX2_tellsFar_15 : decode cX2_tellsFar 15 = .ok (.ldc 133, 2) := dk_18 133 (dk_at dksX2_tellsFar_0 15 rfl rfl)
theorem dX2_tellsFar_17 : decode cX2_tellsFar 17 = .ok (.iastore, 1) := dk_79 (dk_at dksX2_tellsFar_0 17 rfl rfl)
theorem dX2_tellsFar_18 : decode cX2_tellsFar 18 = .ok (.aload_n 0, 1) := dk_42 (dk_at dksX2_tellsFar_0 18 rfl rfl)
theorem dX2_tellsFar_19 : decode cX2_tellsFar 19 = .ok (.getfield 72, 3) := dk_180 0 72 (dk_at dksX2_tellsFar_0 19 rfl rfl)
theorem dX2_tellsFar_22 : decode cX2_tellsFar 22 = .ok (.iload_n 3, 1) := dk_29 (dk_at dksX2_tellsFar_0 22 rfl rfl)
theorem dX2_tellsFar_23 : decode cX2_tellsFar 23 = .ok (.iconst 0, 1) := dk_3 (dk_at dksX2_tellsFar_0 23 rfl rfl)
theorem dX2_tellsFar_24 : decode cX2_tellsFar 24 = .ok (.bastore, 1) := dk_84 (dk_at dksX2_tellsFar_1 0 rfl rfl)
theorem dX2_tellsFar_25 : decode cX2_tellsFar 25 = .ok (.iinc 3 1, 3) := dk_132 3 1 (dk_at dksX2_tellsFar_1 1 rfl rfl)
theorem dX2_tellsFar_28 : decode cX2_tellsFar 28 = .ok (.goto (-26), 3) := dk_167 255 230 (dk_at dksX2_tellsFar_1 4 rfl rfl)
theorem dX2_tellsFar_31 : decode cX2_tellsFar 31 = .ok (.aload_n 0, 1) := dk_42 (dk_at dksX2_tellsFar_1 7 rfl rfl)
theorem dX2_tellsFar_32 : decode cX2_tellsFar 32 = .ok (.getfield 66, 3) := dk_180 0 66 (dk_at dksX2_tellsFar_1 8 rfl rfl)
theorem dX2_tellsFar_35 : decode cX2_tellsFar 35 = .ok (.aload_n 0, 1) := dk_42 (dk_at dksX2_tellsFar_1 11 rfl rfl)
theorem dX2_tellsFar_36 : decode cX2_tellsFar 36 = .ok (.aload_n 1, 1) := dk_43 (dk_at dksX2_tellsFar_1 12 rfl rfl)
theorem dX2_tellsFar_37 : decode cX2_tellsFar 37 = .ok (.getfield 134, 3) := dk_180 0 134 (dk_at dksX2_tellsFar_1 13 rfl rfl)
theorem dX2_tellsFar_40 : decode cX2_tellsFar 40 = .ok (.invokevirtual 137, 3) := dk_182 0 137 (dk_at dksX2_tellsFar_1 16 rfl rfl)
theorem dX2_tellsFar_43 : decode cX2_tellsFar 43 = .ok (.iconst 0, 1) := dk_3 (dk_at dksX2_tellsFar_1 19 rfl rfl)
theorem dX2_tellsFar_44 : decode cX2_tellsFar 44 = .ok (.iastore, 1) := dk_79 (dk_at dksX2_tellsFar_1 20 rfl rfl)
theorem dX2_tellsFar_45 : decode cX2_tellsFar 45 = .ok (.aload_n 0, 1) := dk_42 (dk_at dksX2_tellsFar_1 21 rfl rfl)
theorem dX2_tellsFar_46 : decode cX2_tellsFar 46 = .ok (.invokevirtual 141, 3) := dk_182 0 141 (dk_at dksX2_tellsFar_2 0 rfl rfl)
theorem dX2_tellsFar_49 : decode cX2_tellsFar 49 = .ok (.istore_n 3, 1) := dk_62 (dk_at dksX2_tellsFar_2 3 rfl rfl)
theorem dX2_tellsFar_50 : decode cX2_tellsFar 50 = .ok (.iload_n 3, 1) := dk_29 (dk_at dksX2_tellsFar_2 4 rfl rfl)
theorem dX2_tellsFar_51 : decode cX2_tellsFar 51 = .ok (.iconst (-1), 1) := dk_2 (dk_at dksX2_tellsFar_2 5 rfl rfl)
theorem dX2_tellsFar_52 : decode cX2_tellsFar 52 = .ok (.if_icmp .eq 92, 3) := dk_159 0 92 (dk_at dksX2_tellsFar_2 6 rfl rfl)
theorem dX2_tellsFar_55 : decode cX2_tellsFar 55 = .ok (.aload_n 0, 1) := dk_42 (dk_at dksX2_tellsFar_2 9 rfl rfl)
theorem dX2_tellsFar_56 : decode cX2_tellsFar 56 = .ok (.getfield 72, 3) := dk_180 0 72 (dk_at dksX2_tellsFar_2 10 rfl rfl)
theorem dX2_tellsFar_59 : decode cX2_tellsFar 59 = .ok (.iload_n 3, 1) := dk_29 (dk_at dksX2_tellsFar_2 13 rfl rfl)
theorem dX2_tellsFar_60 : decode cX2_tellsFar 60 = .ok (.iconst 1, 1) := dk_4 (dk_at dksX2_tellsFar_2 14 rfl rfl)
theorem dX2_tellsFar_61 : decode cX2_tellsFar 61 = .ok (.bastore, 1) := dk_84 (dk_at dksX2_tellsFar_2 15 rfl rfl)
theorem dX2_tellsFar_62 : decode cX2_tellsFar 62 = .ok (.aload_n 0, 1) := dk_42 (dk_at dksX2_tellsFar_2 16 rfl rfl)
theorem dX2_tellsFar_63 : decode cX2_tellsFar 63 = .ok (.getfield 66, 3) := dk_180 0 66 (dk_at dksX2_tellsFar_2 17 rfl rfl)
theorem dX2_tellsFar_66 : decode cX2_tellsFar 66 = .ok (.iload_n 3, 1) := dk_29 (dk_at dksX2_tellsFar_2 20 rfl rfl)
theorem dX2_tellsFar_67 : decode cX2_tellsFar 67 = .ok (.iaload, 1) := dk_46 (dk_at dksX2_tellsFar_2 21 rfl rfl)
theorem dX2_tellsFar_68 : decode cX2_tellsFar 68 = .ok (.aload_n 0, 1) := dk_42 (dk_at dksX2_tellsFar_2 22 rfl rfl)
theorem dX2_tellsFar_69 : decode cX2_tellsFar 69 = .ok (.aload_n 1, 1) := dk_43 (dk_at dksX2_tellsFar_2 23 rfl rfl)
theorem dX2_tellsFar_70 : decode cX2_tellsFar 70 = .ok (.iload_n 3, 1) := dk_29 (dk_at dksX2_tellsFar_3 0 rfl rfl)
theorem dX2_tellsFar_71 : decode cX2_tellsFar 71 = .ok (.invokevirtual 144, 3) := dk_182 0 144 (dk_at dksX2_tellsFar_3 1 rfl rfl)
theorem dX2_tellsFar_74 : decode cX2_tellsFar 74 = .ok (.iadd, 1) := dk_96 (dk_at dksX2_tellsFar_3 4 rfl rfl)
theorem dX2_tellsFar_75 : decode cX2_tellsFar 75 = .ok (.istore 4, 2) := dk_54 4 (dk_at dksX2_tellsFar_3 5 rfl rfl)
theorem dX2_tellsFar_77 : decode cX2_tellsFar 77 = .ok (.iconst 0, 1) := dk_3 (dk_at dksX2_tellsFar_3 7 rfl rfl)
theorem dX2_tellsFar_78 : decode cX2_tellsFar 78 = .ok (.istore 5, 2) := dk_54 5 (dk_at dksX2_tellsFar_3 8 rfl rfl)
theorem dX2_tellsFar_80 : decode cX2_tellsFar 80 = .ok (.iload 5, 2) := dk_21 5 (dk_at dksX2_tellsFar_3 10 rfl rfl)
theorem dX2_tellsFar_82 : decode cX2_tellsFar 82 = .ok (.iconst 4, 1) := dk_7 (dk_at dksX2_tellsFar_3 12 rfl rfl)
theorem dX2_tellsFar_83 : decode cX2_tellsFar 83 = .ok (.if_icmp .ge 53, 3) := dk_162 0 53 (dk_at dksX2_tellsFar_3 13 rfl rfl)
theorem dX2_tellsFar_86 : decode cX2_tellsFar 86 = .ok (.aload_n 0, 1) := dk_42 (dk_at dksX2_tellsFar_3 16 rfl rfl)
theorem dX2_tellsFar_87 : decode cX2_tellsFar 87 = .ok (.iload_n 3, 1) := dk_29 (dk_at dksX2_tellsFar_3 17 rfl rfl)
theorem dX2_tellsFar_88 : decode cX2_tellsFar 88 = .ok (.iload 5, 2) := dk_21 5 (dk_at dksX2_tellsFar_3 18 rfl rfl)
theorem dX2_tellsFar_90 : decode cX2_tellsFar 90 = .ok (.invokevirtual 148, 3) := dk_182 0 148 (dk_at dksX2_tellsFar_3 20 rfl rfl)
theorem dX2_tellsFar_93 : decode cX2_tellsFar 93 = .ok (.istore 6, 2) := dk_54 6 (dk_at dksX2_tellsFar_4 0 rfl rfl)
theorem dX2_tellsFar_95 : decode cX2_tellsFar 95 = .ok (.iload 6, 2) := dk_21 6 (dk_at dksX2_tellsFar_4 2 rfl rfl)
theorem dX2_tellsFar_97 : decode cX2_tellsFar 97 = .ok (.iconst (-1), 1) := dk_2 (dk_at dksX2_tellsFar_4 4 rfl rfl)
theorem dX2_tellsFar_98 : decode cX2_tellsFar 98 = .ok (.if_icmp .eq 32, 3) := dk_159 0 32 (dk_at dksX2_tellsFar_4 5 rfl rfl)
theorem dX2_tellsFar_101 : decode cX2_tellsFar 101 = .ok (.aload_n 2, 1) := dk_44 (dk_at dksX2_tellsFar_4 8 rfl rfl)
theorem dX2_tellsFar_102 : decode cX2_tellsFar 102 = .ok (.aload_n 0, 1) := dk_42 (dk_at dksX2_tellsFar_4 9 rfl rfl)
theorem dX2_tellsFar_103 : decode cX2_tellsFar 103 = .ok (.iload 6, 2) := dk_21 6 (dk_at dksX2_tellsFar_4 10 rfl rfl)
theorem dX2_tellsFar_105 : decode cX2_tellsFar 105 = .ok (.invokevirtual 152, 3) := dk_182 0 152 (dk_at dksX2_tellsFar_4 12 rfl rfl)
theorem dX2_tellsFar_108 : decode cX2_tellsFar 108 = .ok (.ifCond .eq 22, 3) := dk_153 0 22 (dk_at dksX2_tellsFar_4 15 rfl rfl)
theorem dX2_tellsFar_111 : decode cX2_tellsFar 111 = .ok (.aload_n 0, 1) := dk_42 (dk_at dksX2_tellsFar_4 18 rfl rfl)
theorem dX2_tellsFar_112 : decode cX2_tellsFar 112 = .ok (.getfield 66, 3) := dk_180 0 66 (dk_at dksX2_tellsFar_4 19 rfl rfl)
theorem dX2_tellsFar_115 : decode cX2_tellsFar 115 = .ok (.iload 6, 2) := dk_21 6 (dk_at dksX2_tellsFar_4 22 rfl rfl)
theorem dX2_tellsFar_117 : decode cX2_tellsFar 117 = .ok (.aload_n 0, 1) := dk_42 (dk_at dksX2_tellsFar_5 0 rfl rfl)
theorem dX2_tellsFar_118 : decode cX2_tellsFar 118 = .ok (.getfield 66, 3) := dk_180 0 66 (dk_at dksX2_tellsFar_5 1 rfl rfl)
theorem dX2_tellsFar_121 : decode cX2_tellsFar 121 = .ok (.iload 6, 2) := dk_21 6 (dk_at dksX2_tellsFar_5 4 rfl rfl)
theorem dX2_tellsFar_123 : decode cX2_tellsFar 123 = .ok (.iaload, 1) := dk_46 (dk_at dksX2_tellsFar_5 6 rfl rfl)
theorem dX2_tellsFar_124 : decode cX2_tellsFar 124 = .ok (.iload 4, 2) := dk_21 4 (dk_at dksX2_tellsFar_5 7 rfl rfl)
theorem dX2_tellsFar_126 : decode cX2_tellsFar 126 = .ok (.invokestatic 158, 3) := dk_184 0 158 (dk_at dksX2_tellsFar_5 9 rfl rfl)
theorem dX2_tellsFar_129 : decode cX2_tellsFar 129 = .ok (.iastore, 1) := dk_79 (dk_at dksX2_tellsFar_5 12 rfl rfl)
theorem dX2_tellsFar_130 : decode cX2_tellsFar 130 = .ok (.iinc 5 1, 3) := dk_132 5 1 (dk_at dksX2_tellsFar_5 13 rfl rfl)
theorem dX2_tellsFar_133 : decode cX2_tellsFar 133 = .ok (.goto (-53), 3) := dk_167 255 203 (dk_at dksX2_tellsFar_5 16 rfl rfl)
theorem dX2_tellsFar_136 : decode cX2_tellsFar 136 = .ok (.aload_n 0, 1) := dk_42 (dk_at dksX2_tellsFar_5 19 rfl rfl)
theorem dX2_tellsFar_137 : decode cX2_tellsFar 137 = .ok (.invokevirtual 141, 3) := dk_182 0 141 (dk_at dksX2_tellsFar_5 20 rfl rfl)
theorem dX2_tellsFar_140 : decode cX2_tellsFar 140 = .ok (.istore_n 3, 1) := dk_62 (dk_at dksX2_tellsFar_5 23 rfl rfl)
theorem dX2_tellsFar_141 : decode cX2_tellsFar 141 = .ok (.goto (-91), 3) := dk_167 255 165 (dk_at dksX2_tellsFar_6 0 rfl rfl)
theorem dX2_tellsFar_144 : decode cX2_tellsFar 144 = .ok (.aload_n 0, 1) := dk_42 (dk_at dksX2_tellsFar_6 3 rfl rfl)
theorem dX2_tellsFar_145 : decode cX2_tellsFar 145 = .ok (.getfield 66, 3) := dk_180 0 66 (dk_at dksX2_tellsFar_6 4 rfl rfl)
theorem dX2_tellsFar_148 : decode cX2_tellsFar 148 = .ok (.aload_n 0, 1) := dk_42 (dk_at dksX2_tellsFar_6 7 rfl rfl)
theorem dX2_tellsFar_149 : decode cX2_tellsFar 149 = .ok (.aload_n 1, 1) := dk_43 (dk_at dksX2_tellsFar_6 8 rfl rfl)
theorem dX2_tellsFar_150 : decode cX2_tellsFar 150 = .ok (.getfield 163, 3) := dk_180 0 163 (dk_at dksX2_tellsFar_6 9 rfl rfl)
theorem dX2_tellsFar_153 : decode cX2_tellsFar 153 = .ok (.invokevirtual 137, 3) := dk_182 0 137 (dk_at dksX2_tellsFar_6 12 rfl rfl)
theorem dX2_tellsFar_156 : decode cX2_tellsFar 156 = .ok (.iaload, 1) := dk_46 (dk_at dksX2_tellsFar_6 15 rfl rfl)
theorem dX2_tellsFar_157 : decode cX2_tellsFar 157 = .ok (.ireturn, 1) := dk_172 (dk_at dksX2_tellsFar_6 16 rfl rfl)
def dkwX2_cellOf_0 : List UInt8 := [42, 180, 0, 50, 27, 182, 0, 103, 192, 0, 107, 182, 0, 109, 172]
abbrev dktX2_cellOf_0 : List UInt8 := dkwX2_cellOf_0 ++ []
theorem dksX2_cellOf_0 : cX2_cellOf.data.toList.drop 0 = dktX2_cellOf_0 := by decide +kernel
theorem dX2_cellOf_0 : decode cX2_cellOf 0 = .ok (.aload_n 0, 1) := dk_42 (dk_at dksX2_cellOf_0 0 rfl rfl)
theorem dX2_cellOf_1 : decode cX2_cellOf 1 = .ok (.getfield 50, 3) := dk_180 0 50 (dk_at dksX2_cellOf_0 1 rfl rfl)
theorem dX2_cellOf_4 : decode cX2_cellOf 4 = .ok (.iload_n 1, 1) := dk_27 (dk_at dksX2_cellOf_0 4 rfl rfl)
theorem dX2_cellOf_5 : decode cX2_cellOf 5 = .ok (.invokevirtual 103, 3) := dk_182 0 103 (dk_at dksX2_cellOf_0 5 rfl rfl)
theorem dX2_cellOf_8 : decode cX2_cellOf 8 = .ok (.checkcast 107, 3) := dk_192 0 107 (dk_at dksX2_cellOf_0 8 rfl rfl)
theorem dX2_cellOf_11 : decode cX2_cellOf 11 = .ok (.invokevirtual 109, 3) := dk_182 0 109 (dk_at dksX2_cellOf_0 11 rfl rfl)
theorem dX2_cellOf_14 : decode cX2_cellOf 14 = .ok (.ireturn, 1) := dk_172 (dk_at dksX2_cellOf_0 14 rfl rfl)
def dkwX2_nearestUnmarked_2 : List UInt8 := [180, 0, 66, 27, 46, 162, 0, 5, 28, 60, 132, 2, 1, 167, 255, 203, 27, 172]
abbrev dktX2_nearestUnmarked_2 : List UInt8 := dkwX2_nearestUnmarked_2 ++ []
def dkwX2_nearestUnmarked_1 : List UInt8 := [180, 0, 66, 28, 46, 18, 133, 162, 0, 25, 27, 2, 159, 0, 18, 42, 180, 0, 66, 28, 46, 42]
abbrev dktX2_nearestUnmarked_1 : List UInt8 := dkwX2_nearestUnmarked_1 ++ dktX2_nearestUnmarked_2
def dkwX2_nearestUnmarked_0 : List UInt8 := [2, 60, 3, 61, 28, 42, 180, 0, 14, 162, 0, 51, 42, 180, 0, 72, 28, 51, 154, 0, 36, 42]
abbrev dktX2_nearestUnmarked_0 : List UInt8 := dkwX2_nearestUnmarked_0 ++ dktX2_nearestUnmarked_1
theorem dksX2_nearestUnmarked_0 : cX2_nearestUnmarked.data.toList.drop 0 = dktX2_nearestUnmarked_0 := by decide +kernel
theorem dksX2_nearestUnmarked_1 : cX2_nearestUnmarked.data.toList.drop 22 = dktX2_nearestUnmarked_1 := dk_seg dksX2_nearestUnmarked_0 22 rfl rfl
theorem dksX2_nearestUnmarked_2 : cX2_nearestUnmarked.data.toList.drop 44 = dktX2_nearestUnmarked_2 := dk_seg dksX2_nearestUnmarked_1 22 rfl rfl
theorem dX2_nearestUnmarked_0 : decode cX2_nearestUnmarked 0 = .ok (.iconst (-1), 1) := dk_2 (dk_at dksX2_nearestUnmarked_0 0 rfl rfl)
theorem dX2_nearestUnmarked_1 : decode cX2_nearestUnmarked 1 = .ok (.istore_n 1, 1) := dk_60 (dk_at dksX2_nearestUnmarked_0 1 rfl rfl)
theorem dX2_nearestUnmarked_2 : decode cX2_nearestUnmarked 2 = .ok (.iconst 0, 1) := dk_3 (dk_at dksX2_nearestUnmarked_0 2 rfl rfl)
theorem dX2_nearestUnmarked_3 : decode cX2_nearestUnmarked 3 = .ok (.istore_n 2, 1) := dk_61 (dk_at dksX2_nearestUnmarked_0 3 rfl rfl)
theorem dX2_nearestUnmarked_4 : decode cX2_nearestUnmarked 4 = .ok (.iload_n 2, 1) := dk_28 (dk_at dksX2_nearestUnmarked_0 4 rfl rfl)
theorem dX2_nearestUnmarked_5 : decode cX2_nearestUnmarked 5 = .ok (.aload_n 0, 1) := dk_42 (dk_at dksX2_nearestUnmarked_0 5 rfl rfl)
theorem dX2_nearestUnmarked_6 : decode cX2_nearestUnmarked 6 = .ok (.getfield 14, 3) := dk_180 0 14 (dk_at dksX2_nearestUnmarked_0 6 rfl rfl)
theorem dX2_nearestUnmarked_9 : decode cX2_nearestUnmarked 9 = .ok (.if_icmp .ge 51, 3) := dk_162 0 51 (dk_at dksX2_nearestUnmarked_0 9 rfl rfl)
theorem dX2_nearestUnmarked_12 : decode cX2_nearestUnmarked 12 = .ok (.aload_n 0, 1) := dk_42 (dk_at dksX2_nearestUnmarked_0 12 rfl rfl)
theorem dX2_nearestUnmarked_13 : decode cX2_nearestUnmarked 13 = .ok (.getfield 72, 3) := dk_180 0 72 (dk_at dksX2_nearestUnmarked_0 13 rfl rfl)
theorem dX2_nearestUnmarked_16 : decode cX2_nearestUnmarked 16 = .ok (.iload_n 2, 1) := dk_28 (dk_at dksX2_nearestUnmarked_0 16 rfl rfl)
theorem dX2_nearestUnmarked_17 : decode cX2_nearestUnmarked 17 = .ok (.baload, 1) := dk_51 (dk_at dksX2_nearestUnmarked_0 17 rfl rfl)
theorem dX2_nearestUnmarked_18 : decode cX2_nearestUnmarked 18 = .ok (.ifCond .ne 36, 3) := dk_154 0 36 (dk_at dksX2_nearestUnmarked_0 18 rfl rfl)
theorem dX2_nearestUnmarked_21 : decode cX2_nearestUnmarked 21 = .ok (.aload_n 0, 1) := dk_42 (dk_at dksX2_nearestUnmarked_0 21 rfl rfl)
theorem dX2_nearestUnmarked_22 : decode cX2_nearestUnmarked 22 = .ok (.getfield 66, 3) := dk_180 0 66 (dk_at dksX2_nearestUnmarked_1 0 rfl rfl)
theorem dX2_nearestUnmarked_25 : decode cX2_nearestUnmarked 25 = .ok (.iload_n 2, 1) := dk_28 (dk_at dksX2_nearestUnmarked_1 3 rfl rfl)
theorem dX2_nearestUnmarked_26 : decode cX2_nearestUnmarked 26 = .ok (.iaload, 1) := dk_46 (dk_at dksX2_nearestUnmarked_1 4 rfl rfl)
theorem dX2_nearestUnmarked_27 : decode cX2_nearestUnmarked 27 = .ok (.ldc 133, 2) := dk_18 133 (dk_at dksX2_nearestUnmarked_1 5 rfl rfl)
theorem dX2_nearestUnmarked_29 : decode cX2_nearestUnmarked 29 = .ok (.if_icmp .ge 25, 3) := dk_162 0 25 (dk_at dksX2_nearestUnmarked_1 7 rfl rfl)
theorem dX2_nearestUnmarked_32 : decode cX2_nearestUnmarked 32 = .ok (.iload_n 1, 1) := dk_27 (dk_at dksX2_nearestUnmarked_1 10 rfl rfl)
theorem dX2_nearestUnmarked_33 : decode cX2_nearestUnmarked 33 = .ok (.iconst (-1), 1) := dk_2 (dk_at dksX2_nearestUnmarked_1 11 rfl rfl)
theorem dX2_nearestUnmarked_34 : decode cX2_nearestUnmarked 34 = .ok (.if_icmp .eq 18, 3) := dk_159 0 18 (dk_at dksX2_nearestUnmarked_1 12 rfl rfl)
theorem dX2_nearestUnmarked_37 : decode cX2_nearestUnmarked 37 = .ok (.aload_n 0, 1) := dk_42 (dk_at dksX2_nearestUnmarked_1 15 rfl rfl)
theorem dX2_nearestUnmarked_38 : decode cX2_nearestUnmarked 38 = .ok (.getfield 66, 3) := dk_180 0 66 (dk_at dksX2_nearestUnmarked_1 16 rfl rfl)
theorem dX2_nearestUnmarked_41 : decode cX2_nearestUnmarked 41 = .ok (.iload_n 2, 1) := dk_28 (dk_at dksX2_nearestUnmarked_1 19 rfl rfl)
theorem dX2_nearestUnmarked_42 : decode cX2_nearestUnmarked 42 = .ok (.iaload, 1) := dk_46 (dk_at dksX2_nearestUnmarked_1 20 rfl rfl)
theorem dX2_nearestUnmarked_43 : decode cX2_nearestUnmarked 43 = .ok (.aload_n 0, 1) := dk_42 (dk_at dksX2_nearestUnmarked_1 21 rfl rfl)
theorem dX2_nearestUnmarked_44 : decode cX2_nearestUnmarked 44 = .ok (.getfield 66, 3) := dk_180 0 66 (dk_at dksX2_nearestUnmarked_2 0 rfl rfl)
theorem dX2_nearestUnmarked_47 : decode cX2_nearestUnmarked 47 = .ok (.iload_n 1, 1) := dk_27 (dk_at dksX2_nearestUnmarked_2 3 rfl rfl)
theorem dX2_nearestUnmarked_48 : decode cX2_nearestUnmarked 48 = .ok (.iaload, 1) := dk_46 (dk_at dksX2_nearestUnmarked_2 4 rfl rfl)
theorem dX2_nearestUnmarked_49 : decode cX2_nearestUnmarked 49 = .ok (.if_icmp .ge 5, 3) := dk_162 0 5 (dk_at dksX2_nearestUnmarked_2 5 rfl rfl)
theorem dX2_nearestUnmarked_52 : decode cX2_nearestUnmarked 52 = .ok (.iload_n 2, 1) := dk_28 (dk_at dksX2_nearestUnmarked_2 8 rfl rfl)
theorem dX2_nearestUnmarked_53 : decode cX2_nearestUnmarked 53 = .ok (.istore_n 1, 1) := dk_60 (dk_at dksX2_nearestUnmarked_2 9 rfl rfl)
theorem dX2_nearestUnmarked_54 : decode cX2_nearestUnmarked 54 = .ok (.iinc 2 1, 3) := dk_132 2 1 (dk_at dksX2_nearestUnmarked_2 10 rfl rfl)
theorem dX2_nearestUnmarked_57 : decode cX2_nearestUnmarked 57 = .ok (.goto (-53), 3) := dk_167 255 203 (dk_at dksX2_nearestUnmarked_2 13 rfl rfl)
theorem dX2_nearestUnmarked_60 : decode cX2_nearestUnmarked 60 = .ok (.iload_n 1, 1) := dk_27 (dk_at dksX2_nearestUnmarked_2 16 rfl rfl)
theorem dX2_nearestUnmarked_61 : decode cX2_nearestUnmarked 61 = .ok (.ireturn, 1) := dk_172 (dk_at dksX2_nearestUnmarked_2 17 rfl rfl)
def dkwX2_costOf_2 : List UInt8 := [163, 0, 8, 16, 25, 167, 0, 4, 3, 96, 172]
abbrev dktX2_costOf_2 : List UInt8 := dkwX2_costOf_2 ++ []
def dkwX2_costOf_1 : List UInt8 := [28, 46, 104, 96, 42, 42, 180, 0, 35, 182, 0, 130, 153, 0, 18, 42, 180, 0, 18, 28, 46, 5]
abbrev dktX2_costOf_1 : List UInt8 := dkwX2_costOf_1 ++ dktX2_costOf_2
def dkwX2_costOf_0 : List UInt8 := [42, 28, 182, 0, 123, 154, 0, 6, 16, 10, 172, 16, 10, 16, 9, 43, 180, 0, 127, 100, 42, 180, 0, 18]
abbrev dktX2_costOf_0 : List UInt8 := dkwX2_costOf_0 ++ dktX2_costOf_1
theorem dksX2_costOf_0 : cX2_costOf.data.toList.drop 0 = dktX2_costOf_0 := by decide +kernel
theorem dksX2_costOf_1 : cX2_costOf.data.toList.drop 24 = dktX2_costOf_1 := dk_seg dksX2_costOf_0 24 rfl rfl
theorem dksX2_costOf_2 : cX2_costOf.data.toList.drop 46 = dktX2_costOf_2 := dk_seg dksX2_costOf_1 22 rfl rfl
theorem dX2_costOf_0 : decode cX2_costOf 0 = .ok (.aload_n 0, 1) := dk_42 (dk_at dksX2_costOf_0 0 rfl rfl)
theorem dX2_costOf_1 : decode cX2_costOf 1 = .ok (.iload_n 2, 1) := dk_28 (dk_at dksX2_costOf_0 1 rfl rfl)
theorem dX2_costOf_2 : decode cX2_costOf 2 = .ok (.invokevirtual 123, 3) := dk_182 0 123 (dk_at dksX2_costOf_0 2 rfl rfl)
theorem dX2_costOf_5 : decode cX2_costOf 5 = .ok (.ifCond .ne 6, 3) := dk_154 0 6 (dk_at dksX2_costOf_0 5 rfl rfl)
theorem dX2_costOf_8 : decode cX2_costOf 8 = .ok (.bipush 10, 2) := dk_16 10 (dk_at dksX2_costOf_0 8 rfl rfl)
theorem dX2_costOf_10 : decode cX2_costOf 10 = .ok (.ireturn, 1) := dk_172 (dk_at dksX2_costOf_0 10 rfl rfl)
theorem dX2_costOf_11 : decode cX2_costOf 11 = .ok (.bipush 10, 2) := dk_16 10 (dk_at dksX2_costOf_0 11 rfl rfl)
theorem dX2_costOf_13 : decode cX2_costOf 13 = .ok (.bipush 9, 2) := dk_16 9 (dk_at dksX2_costOf_0 13 rfl rfl)
theorem dX2_costOf_15 : decode cX2_costOf 15 = .ok (.aload_n 1, 1) := dk_43 (dk_at dksX2_costOf_0 15 rfl rfl)
theorem dX2_costOf_16 : decode cX2_costOf 16 = .ok (.getfield 127, 3) := dk_180 0 127 (dk_at dksX2_costOf_0 16 rfl rfl)
theorem dX2_costOf_19 : decode cX2_costOf 19 = .ok (.isub, 1) := dk_100 (dk_at dksX2_costOf_0 19 rfl rfl)
theorem dX2_costOf_20 : decode cX2_costOf 20 = .ok (.aload_n 0, 1) := dk_42 (dk_at dksX2_costOf_0 20 rfl rfl)
theorem dX2_costOf_21 : decode cX2_costOf 21 = .ok (.getfield 18, 3) := dk_180 0 18 (dk_at dksX2_costOf_0 21 rfl rfl)
theorem dX2_costOf_24 : decode cX2_costOf 24 = .ok (.iload_n 2, 1) := dk_28 (dk_at dksX2_costOf_1 0 rfl rfl)
theorem dX2_costOf_25 : decode cX2_costOf 25 = .ok (.iaload, 1) := dk_46 (dk_at dksX2_costOf_1 1 rfl rfl)
theorem dX2_costOf_26 : decode cX2_costOf 26 = .ok (.imul, 1) := dk_104 (dk_at dksX2_costOf_1 2 rfl rfl)
theorem dX2_costOf_27 : decode cX2_costOf 27 = .ok (.iadd, 1) := dk_96 (dk_at dksX2_costOf_1 3 rfl rfl)
theorem dX2_costOf_28 : decode cX2_costOf 28 = .ok (.aload_n 0, 1) := dk_42 (dk_at dksX2_costOf_1 4 rfl rfl)
theorem dX2_costOf_29 : decode cX2_costOf 29 = .ok (.aload_n 0, 1) := dk_42 (dk_at dksX2_costOf_1 5 rfl rfl)
theorem dX2_costOf_30 : decode cX2_costOf 30 = .ok (.getfield 35, 3) := dk_180 0 35 (dk_at dksX2_costOf_1 6 rfl rfl)
theorem dX2_costOf_33 : decode cX2_costOf 33 = .ok (.invokevirtual 130, 3) := dk_182 0 130 (dk_at dksX2_costOf_1 9 rfl rfl)
theorem dX2_costOf_36 : decode cX2_costOf 36 = .ok (.ifCond .eq 18, 3) := dk_153 0 18 (dk_at dksX2_costOf_1 12 rfl rfl)
theorem dX2_costOf_39 : decode cX2_costOf 39 = .ok (.aload_n 0, 1) := dk_42 (dk_at dksX2_costOf_1 15 rfl rfl)
theorem dX2_costOf_40 : decode cX2_costOf 40 = .ok (.getfield 18, 3) := dk_180 0 18 (dk_at dksX2_costOf_1 16 rfl rfl)
theorem dX2_costOf_43 : decode cX2_costOf 43 = .ok (.iload_n 2, 1) := dk_28 (dk_at dksX2_costOf_1 19 rfl rfl)
theorem dX2_costOf_44 : decode cX2_costOf 44 = .ok (.iaload, 1) := dk_46 (dk_at dksX2_costOf_1 20 rfl rfl)
theorem dX2_costOf_45 : decode cX2_costOf 45 = .ok (.iconst 2, 1) := dk_5 (dk_at dksX2_costOf_1 21 rfl rfl)
theorem dX2_costOf_46 : decode cX2_costOf 46 = .ok (.if_icmp .gt 8, 3) := dk_163 0 8 (dk_at dksX2_costOf_2 0 rfl rfl)
theorem dX2_costOf_49 : decode cX2_costOf 49 = .ok (.bipush 25, 2) := dk_16 25 (dk_at dksX2_costOf_2 3 rfl rfl)
theorem dX2_costOf_51 : decode cX2_costOf 51 = .ok (.goto 4, 3) := dk_167 0 4 (dk_at dksX2_costOf_2 5 rfl rfl)
theorem dX2_costOf_54 : decode cX2_costOf 54 = .ok (.iconst 0, 1) := dk_3 (dk_at dksX2_costOf_2 8 rfl rfl)
theorem dX2_costOf_55 : decode cX2_costOf 55 = .ok (.iadd, 1) := dk_96 (dk_at dksX2_costOf_2 9 rfl rfl)
theorem dX2_costOf_56 : decode cX2_costOf 56 = .ok (.ireturn, 1) := dk_172 (dk_at dksX2_costOf_2 10 rfl rfl)
def dkwX2_isGrass_0 : List UInt8 := [42, 180, 0, 53, 27, 46, 154, 0, 7, 4, 167, 0, 4, 3, 172]
abbrev dktX2_isGrass_0 : List UInt8 := dkwX2_isGrass_0 ++ []
theorem dksX2_isGrass_0 : cX2_isGrass.data.toList.drop 0 = dktX2_isGrass_0 := by decide +kernel
theorem dX2_isGrass_0 : decode cX2_isGrass 0 = .ok (.aload_n 0, 1) := dk_42 (dk_at dksX2_isGrass_0 0 rfl rfl)
theorem dX2_isGrass_1 : decode cX2_isGrass 1 = .ok (.getfield 53, 3) := dk_180 0 53 (dk_at dksX2_isGrass_0 1 rfl rfl)
theorem dX2_isGrass_4 : decode cX2_isGrass 4 = .ok (.iload_n 1, 1) := dk_27 (dk_at dksX2_isGrass_0 4 rfl rfl)
theorem dX2_isGrass_5 : decode cX2_isGrass 5 = .ok (.iaload, 1) := dk_46 (dk_at dksX2_isGrass_0 5 rfl rfl)
theorem dX2_isGrass_6 : decode cX2_isGrass 6 = .ok (.ifCond .ne 7, 3) := dk_154 0 7 (dk_at dksX2_isGrass_0 6 rfl rfl)
theorem dX2_isGrass_9 : decode cX2_isGrass 9 = .ok (.iconst 1, 1) := dk_4 (dk_at dksX2_isGrass_0 9 rfl rfl)
theorem dX2_isGrass_10 : decode cX2_isGrass 10 = .ok (.goto 4, 3) := dk_167 0 4 (dk_at dksX2_isGrass_0 10 rfl rfl)
theorem dX2_isGrass_13 : decode cX2_isGrass 13 = .ok (.iconst 0, 1) := dk_3 (dk_at dksX2_isGrass_0 13 rfl rfl)
theorem dX2_isGrass_14 : decode cX2_isGrass 14 = .ok (.ireturn, 1) := dk_172 (dk_at dksX2_isGrass_0 14 rfl rfl)
def dkwX2_isWet_1 : List UInt8 := [167, 0, 4, 3, 172]
abbrev dktX2_isWet_1 : List UInt8 := dkwX2_isWet_1 ++ []
def dkwX2_isWet_0 : List UInt8 := [42, 180, 0, 47, 158, 0, 21, 27, 16, 7, 108, 4, 96, 42, 180, 0, 47, 112, 154, 0, 7, 4]
abbrev dktX2_isWet_0 : List UInt8 := dkwX2_isWet_0 ++ dktX2_isWet_1
theorem dksX2_isWet_0 : cX2_isWet.data.toList.drop 0 = dktX2_isWet_0 := by decide +kernel
theorem dksX2_isWet_1 : cX2_isWet.data.toList.drop 22 = dktX2_isWet_1 := dk_seg dksX2_isWet_0 22 rfl rfl
theorem dX2_isWet_0 : decode cX2_isWet 0 = .ok (.aload_n 0, 1) := dk_42 (dk_at dksX2_isWet_0 0 rfl rfl)
theorem dX2_isWet_1 : decode cX2_isWet 1 = .ok (.getfield 47, 3) := dk_180 0 47 (dk_at dksX2_isWet_0 1 rfl rfl)
theorem dX2_isWet_4 : decode cX2_isWet 4 = .ok (.ifCond .le 21, 3) := dk_158 0 21 (dk_at dksX2_isWet_0 4 rfl rfl)
theorem dX2_isWet_7 : decode cX2_isWet 7 = .ok (.iload_n 1, 1) := dk_27 (dk_at dksX2_isWet_0 7 rfl rfl)
theorem dX2_isWet_8 : decode cX2_isWet 8 = .ok (.bipush 7, 2) := dk_16 7 (dk_at dksX2_isWet_0 8 rfl rfl)
theorem dX2_isWet_10 : decode cX2_isWet 10 = .ok (.idiv, 1) := dk_108 (dk_at dksX2_isWet_0 10 rfl rfl)
theorem dX2_isWet_11 : decode cX2_isWet 11 = .ok (.iconst 1, 1) := dk_4 (dk_at dksX2_isWet_0 11 rfl rfl)
theorem dX2_isWet_12 : decode cX2_isWet 12 = .ok (.iadd, 1) := dk_96 (dk_at dksX2_isWet_0 12 rfl rfl)
theorem dX2_isWet_13 : decode cX2_isWet 13 = .ok (.aload_n 0, 1) := dk_42 (dk_at dksX2_isWet_0 13 rfl rfl)
theorem dX2_isWet_14 : decode cX2_isWet 14 = .ok (.getfield 47, 3) := dk_180 0 47 (dk_at dksX2_isWet_0 14 rfl rfl)
theorem dX2_isWet_17 : decode cX2_isWet 17 = .ok (.irem, 1) := dk_112 (dk_at dksX2_isWet_0 17 rfl rfl)
theorem dX2_isWet_18 : decode cX2_isWet 18 = .ok (.ifCond .ne 7, 3) := dk_154 0 7 (dk_at dksX2_isWet_0 18 rfl rfl)
theorem dX2_isWet_21 : decode cX2_isWet 21 = .ok (.iconst 1, 1) := dk_4 (dk_at dksX2_isWet_0 21 rfl rfl)
theorem dX2_isWet_22 : decode cX2_isWet 22 = .ok (.goto 4, 3) := dk_167 0 4 (dk_at dksX2_isWet_1 0 rfl rfl)
theorem dX2_isWet_25 : decode cX2_isWet 25 = .ok (.iconst 0, 1) := dk_3 (dk_at dksX2_isWet_1 3 rfl rfl)
theorem dX2_isWet_26 : decode cX2_isWet 26 = .ok (.ireturn, 1) := dk_172 (dk_at dksX2_isWet_1 4 rfl rfl)
def dkwX2_next_5 : List UInt8 := [27, 4, 100, 167, 0, 4, 2, 172]
abbrev dktX2_next_5 : List UInt8 := dkwX2_next_5 ++ []
def dkwX2_next_4 : List UInt8 := [42, 180, 0, 14, 162, 0, 12, 27, 42, 180, 0, 38, 96, 167, 0, 18, 2, 167, 0, 14, 29, 158, 0, 9]
abbrev dktX2_next_4 : List UInt8 := dkwX2_next_4 ++ dktX2_next_5
def dkwX2_next_3 : List UInt8 := [180, 0, 38, 4, 100, 162, 0, 9, 27, 4, 96, 167, 0, 44, 2, 167, 0, 40, 27, 42, 180, 0, 38, 96]
abbrev dktX2_next_3 : List UInt8 := dkwX2_next_3 ++ dktX2_next_4
def dkwX2_next_2 : List UInt8 := [27, 42, 180, 0, 38, 161, 0, 12, 27, 42, 180, 0, 38, 100, 167, 0, 64, 2, 167, 0, 60, 29, 42]
abbrev dktX2_next_2 : List UInt8 := dkwX2_next_2 ++ dktX2_next_3
def dkwX2_next_1 : List UInt8 := [170, 0, 0, 0, 0, 0, 0, 95, 0, 0, 0, 0, 0, 0, 0, 2, 0, 0, 0, 28, 0, 0, 0, 49, 0, 0, 0, 69]
abbrev dktX2_next_1 : List UInt8 := dkwX2_next_1 ++ dktX2_next_2
def dkwX2_next_0 : List UInt8 := [27, 42, 180, 0, 38, 112, 62, 28]
abbrev dktX2_next_0 : List UInt8 := dkwX2_next_0 ++ dktX2_next_1
theorem dksX2_next_0 : cX2_next.data.toList.drop 0 = dktX2_next_0 := by decide +kernel
theorem dksX2_next_1 : cX2_next.data.toList.drop 8 = dktX2_next_1 := dk_seg dksX2_next_0 8 rfl rfl
theorem dksX2_next_2 : cX2_next.data.toList.drop 36 = dktX2_next_2 := dk_seg dksX2_next_1 28 rfl rfl
theorem dksX2_next_3 : cX2_next.data.toList.drop 59 = dktX2_next_3 := dk_seg dksX2_next_2 23 rfl rfl
theorem dksX2_next_4 : cX2_next.data.toList.drop 83 = dktX2_next_4 := dk_seg dksX2_next_3 24 rfl rfl
theorem dksX2_next_5 : cX2_next.data.toList.drop 107 = dktX2_next_5 := dk_seg dksX2_next_4 24 rfl rfl
theorem dX2_next_0 : decode cX2_next 0 = .ok (.iload_n 1, 1) := dk_27 (dk_at dksX2_next_0 0 rfl rfl)
theorem dX2_next_1 : decode cX2_next 1 = .ok (.aload_n 0, 1) := dk_42 (dk_at dksX2_next_0 1 rfl rfl)
theorem dX2_next_2 : decode cX2_next 2 = .ok (.getfield 38, 3) := dk_180 0 38 (dk_at dksX2_next_0 2 rfl rfl)
theorem dX2_next_5 : decode cX2_next 5 = .ok (.irem, 1) := dk_112 (dk_at dksX2_next_0 5 rfl rfl)
theorem dX2_next_6 : decode cX2_next 6 = .ok (.istore_n 3, 1) := dk_62 (dk_at dksX2_next_0 6 rfl rfl)
theorem dX2_next_7 : decode cX2_next 7 = .ok (.iload_n 2, 1) := dk_28 (dk_at dksX2_next_0 7 rfl rfl)
theorem dX2_next_8 : decode cX2_next 8 = .ok (.tableswitch 95 0 2 #[28, 49, 69], 28) := by decide +kernel
theorem dX2_next_36 : decode cX2_next 36 = .ok (.iload_n 1, 1) := dk_27 (dk_at dksX2_next_2 0 rfl rfl)
theorem dX2_next_37 : decode cX2_next 37 = .ok (.aload_n 0, 1) := dk_42 (dk_at dksX2_next_2 1 rfl rfl)
theorem dX2_next_38 : decode cX2_next 38 = .ok (.getfield 38, 3) := dk_180 0 38 (dk_at dksX2_next_2 2 rfl rfl)
theorem dX2_next_41 : decode cX2_next 41 = .ok (.if_icmp .lt 12, 3) := dk_161 0 12 (dk_at dksX2_next_2 5 rfl rfl)
theorem dX2_next_44 : decode cX2_next 44 = .ok (.iload_n 1, 1) := dk_27 (dk_at dksX2_next_2 8 rfl rfl)
theorem dX2_next_45 : decode cX2_next 45 = .ok (.aload_n 0, 1) := dk_42 (dk_at dksX2_next_2 9 rfl rfl)
theorem dX2_next_46 : decode cX2_next 46 = .ok (.getfield 38, 3) := dk_180 0 38 (dk_at dksX2_next_2 10 rfl rfl)
theorem dX2_next_49 : decode cX2_next 49 = .ok (.isub, 1) := dk_100 (dk_at dksX2_next_2 13 rfl rfl)
theorem dX2_next_50 : decode cX2_next 50 = .ok (.goto 64, 3) := dk_167 0 64 (dk_at dksX2_next_2 14 rfl rfl)
theorem dX2_next_53 : decode cX2_next 53 = .ok (.iconst (-1), 1) := dk_2 (dk_at dksX2_next_2 17 rfl rfl)
theorem dX2_next_54 : decode cX2_next 54 = .ok (.goto 60, 3) := dk_167 0 60 (dk_at dksX2_next_2 18 rfl rfl)
theorem dX2_next_57 : decode cX2_next 57 = .ok (.iload_n 3, 1) := dk_29 (dk_at dksX2_next_2 21 rfl rfl)
theorem dX2_next_58 : decode cX2_next 58 = .ok (.aload_n 0, 1) := dk_42 (dk_at dksX2_next_2 22 rfl rfl)
theorem dX2_next_59 : decode cX2_next 59 = .ok (.getfield 38, 3) := dk_180 0 38 (dk_at dksX2_next_3 0 rfl rfl)
theorem dX2_next_62 : decode cX2_next 62 = .ok (.iconst 1, 1) := dk_4 (dk_at dksX2_next_3 3 rfl rfl)
theorem dX2_next_63 : decode cX2_next 63 = .ok (.isub, 1) := dk_100 (dk_at dksX2_next_3 4 rfl rfl)
theorem dX2_next_64 : decode cX2_next 64 = .ok (.if_icmp .ge 9, 3) := dk_162 0 9 (dk_at dksX2_next_3 5 rfl rfl)
theorem dX2_next_67 : decode cX2_next 67 = .ok (.iload_n 1, 1) := dk_27 (dk_at dksX2_next_3 8 rfl rfl)
theorem dX2_next_68 : decode cX2_next 68 = .ok (.iconst 1, 1) := dk_4 (dk_at dksX2_next_3 9 rfl rfl)
theorem dX2_next_69 : decode cX2_next 69 = .ok (.iadd, 1) := dk_96 (dk_at dksX2_next_3 10 rfl rfl)
theorem dX2_next_70 : decode cX2_next 70 = .ok (.goto 44, 3) := dk_167 0 44 (dk_at dksX2_next_3 11 rfl rfl)
theorem dX2_next_73 : decode cX2_next 73 = .ok (.iconst (-1), 1) := dk_2 (dk_at dksX2_next_3 14 rfl rfl)
theorem dX2_next_74 : decode cX2_next 74 = .ok (.goto 40, 3) := dk_167 0 40 (dk_at dksX2_next_3 15 rfl rfl)
theorem dX2_next_77 : decode cX2_next 77 = .ok (.iload_n 1, 1) := dk_27 (dk_at dksX2_next_3 18 rfl rfl)
theorem dX2_next_78 : decode cX2_next 78 = .ok (.aload_n 0, 1) := dk_42 (dk_at dksX2_next_3 19 rfl rfl)
theorem dX2_next_79 : decode cX2_next 79 = .ok (.getfield 38, 3) := dk_180 0 38 (dk_at dksX2_next_3 20 rfl rfl)
theorem dX2_next_82 : decode cX2_next 82 = .ok (.iadd, 1) := dk_96 (dk_at dksX2_next_3 23 rfl rfl)
theorem dX2_next_83 : decode cX2_next 83 = .ok (.aload_n 0, 1) := dk_42 (dk_at dksX2_next_4 0 rfl rfl)
theorem dX2_next_84 : decode cX2_next 84 = .ok (.getfield 14, 3) := dk_180 0 14 (dk_at dksX2_next_4 1 rfl rfl)
theorem dX2_next_87 : decode cX2_next 87 = .ok (.if_icmp .ge 12, 3) := dk_162 0 12 (dk_at dksX2_next_4 4 rfl rfl)
theorem dX2_next_90 : decode cX2_next 90 = .ok (.iload_n 1, 1) := dk_27 (dk_at dksX2_next_4 7 rfl rfl)
theorem dX2_next_91 : decode cX2_next 91 = .ok (.aload_n 0, 1) := dk_42 (dk_at dksX2_next_4 8 rfl rfl)
theorem dX2_next_92 : decode cX2_next 92 = .ok (.getfield 38, 3) := dk_180 0 38 (dk_at dksX2_next_4 9 rfl rfl)
theorem dX2_next_95 : decode cX2_next 95 = .ok (.iadd, 1) := dk_96 (dk_at dksX2_next_4 12 rfl rfl)
theorem dX2_next_96 : decode cX2_next 96 = .ok (.goto 18, 3) := dk_167 0 18 (dk_at dksX2_next_4 13 rfl rfl)
theorem dX2_next_99 : decode cX2_next 99 = .ok (.iconst (-1), 1) := dk_2 (dk_at dksX2_next_4 16 rfl rfl)
theorem dX2_next_100 : decode cX2_next 100 = .ok (.goto 14, 3) := dk_167 0 14 (dk_at dksX2_next_4 17 rfl rfl)
theorem dX2_next_103 : decode cX2_next 103 = .ok (.iload_n 3, 1) := dk_29 (dk_at dksX2_next_4 20 rfl rfl)
theorem dX2_next_104 : decode cX2_next 104 = .ok (.ifCond .le 9, 3) := dk_158 0 9 (dk_at dksX2_next_4 21 rfl rfl)
theorem dX2_next_107 : decode cX2_next 107 = .ok (.iload_n 1, 1) := dk_27 (dk_at dksX2_next_5 0 rfl rfl)
theorem dX2_next_108 : decode cX2_next 108 = .ok (.iconst 1, 1) := dk_4 (dk_at dksX2_next_5 1 rfl rfl)
theorem dX2_next_109 : decode cX2_next 109 = .ok (.isub, 1) := dk_100 (dk_at dksX2_next_5 2 rfl rfl)
theorem dX2_next_110 : decode cX2_next 110 = .ok (.goto 4, 3) := dk_167 0 4 (dk_at dksX2_next_5 3 rfl rfl)
theorem dX2_next_113 : decode cX2_next 113 = .ok (.iconst (-1), 1) := dk_2 (dk_at dksX2_next_5 6 rfl rfl)
theorem dX2_next_114 : decode cX2_next 114 = .ok (.ireturn, 1) := dk_172 (dk_at dksX2_next_5 7 rfl rfl)
def dkwX2_way_0 : List UInt8 := [42, 43, 178, 0, 166, 182, 0, 170, 61, 187, 0, 174, 89, 42, 43, 183, 0, 176, 176]
abbrev dktX2_way_0 : List UInt8 := dkwX2_way_0 ++ []
theorem dksX2_way_0 : cX2_way.data.toList.drop 0 = dktX2_way_0 := by decide +kernel
theorem dX2_way_0 : decode cX2_way 0 = .ok (.aload_n 0, 1) := dk_42 (dk_at dksX2_way_0 0 rfl rfl)
theorem dX2_way_1 : decode cX2_way 1 = .ok (.aload_n 1, 1) := dk_43 (dk_at dksX2_way_0 1 rfl rfl)
theorem dX2_way_2 : decode cX2_way 2 = .ok (.getstatic 166, 3) := dk_178 0 166 (dk_at dksX2_way_0 2 rfl rfl)
theorem dX2_way_5 : decode cX2_way 5 = .ok (.invokevirtual 170, 3) := dk_182 0 170 (dk_at dksX2_way_0 5 rfl rfl)
theorem dX2_way_8 : decode cX2_way 8 = .ok (.istore_n 2, 1) := dk_61 (dk_at dksX2_way_0 8 rfl rfl)
theorem dX2_way_9 : decode cX2_way 9 = .ok (.new 174, 3) := dk_187 0 174 (dk_at dksX2_way_0 9 rfl rfl)
theorem dX2_way_12 : decode cX2_way 12 = .ok (.dup, 1) := dk_89 (dk_at dksX2_way_0 12 rfl rfl)
theorem dX2_way_13 : decode cX2_way 13 = .ok (.aload_n 0, 1) := dk_42 (dk_at dksX2_way_0 13 rfl rfl)
theorem dX2_way_14 : decode cX2_way 14 = .ok (.aload_n 1, 1) := dk_43 (dk_at dksX2_way_0 14 rfl rfl)
theorem dX2_way_15 : decode cX2_way 15 = .ok (.invokespecial 176, 3) := dk_183 0 176 (dk_at dksX2_way_0 15 rfl rfl)
theorem dX2_way_18 : decode cX2_way 18 = .ok (.areturn, 1) := dk_176 (dk_at dksX2_way_0 18 rfl rfl)
def dkwX2_goesOn_2 : List UInt8 := [42, 180, 0, 66, 28, 46, 160, 0, 5, 29, 172, 132, 3, 1, 167, 255, 198, 2, 172]
abbrev dktX2_goesOn_2 : List UInt8 := dkwX2_goesOn_2 ++ []
def dkwX2_goesOn_1 : List UInt8 := [180, 0, 59, 21, 4, 51, 154, 0, 29, 42, 180, 0, 66, 21, 4, 46, 42, 43, 21, 4, 182, 0, 144, 96]
abbrev dktX2_goesOn_1 : List UInt8 := dkwX2_goesOn_1 ++ dktX2_goesOn_2
def dkwX2_goesOn_0 : List UInt8 := [3, 62, 29, 7, 162, 0, 59, 42, 28, 29, 182, 0, 148, 54, 4, 21, 4, 2, 159, 0, 39, 42]
abbrev dktX2_goesOn_0 : List UInt8 := dkwX2_goesOn_0 ++ dktX2_goesOn_1
theorem dksX2_goesOn_0 : cX2_goesOn.data.toList.drop 0 = dktX2_goesOn_0 := by decide +kernel
theorem dksX2_goesOn_1 : cX2_goesOn.data.toList.drop 22 = dktX2_goesOn_1 := dk_seg dksX2_goesOn_0 22 rfl rfl
theorem dksX2_goesOn_2 : cX2_goesOn.data.toList.drop 46 = dktX2_goesOn_2 := dk_seg dksX2_goesOn_1 24 rfl rfl
theorem dX2_goesOn_0 : decode cX2_goesOn 0 = .ok (.iconst 0, 1) := dk_3 (dk_at dksX2_goesOn_0 0 rfl rfl)
theorem dX2_goesOn_1 : decode cX2_goesOn 1 = .ok (.istore_n 3, 1) := dk_62 (dk_at dksX2_goesOn_0 1 rfl rfl)
theorem dX2_goesOn_2 : decode cX2_goesOn 2 = .ok (.iload_n 3, 1) := dk_29 (dk_at dksX2_goesOn_0 2 rfl rfl)
theorem dX2_goesOn_3 : decode cX2_goesOn 3 = .ok (.iconst 4, 1) := dk_7 (dk_at dksX2_goesOn_0 3 rfl rfl)
theorem dX2_goesOn_4 : decode cX2_goesOn 4 = .ok (.if_icmp .ge 59, 3) := dk_162 0 59 (dk_at dksX2_goesOn_0 4 rfl rfl)
theorem dX2_goesOn_7 : decode cX2_goesOn 7 = .ok (.aload_n 0, 1) := dk_42 (dk_at dksX2_goesOn_0 7 rfl rfl)
theorem dX2_goesOn_8 : decode cX2_goesOn 8 = .ok (.iload_n 2, 1) := dk_28 (dk_at dksX2_goesOn_0 8 rfl rfl)
theorem dX2_goesOn_9 : decode cX2_goesOn 9 = .ok (.iload_n 3, 1) := dk_29 (dk_at dksX2_goesOn_0 9 rfl rfl)
theorem dX2_goesOn_10 : decode cX2_goesOn 10 = .ok (.invokevirtual 148, 3) := dk_182 0 148 (dk_at dksX2_goesOn_0 10 rfl rfl)
theorem dX2_goesOn_13 : decode cX2_goesOn 13 = .ok (.istore 4, 2) := dk_54 4 (dk_at dksX2_goesOn_0 13 rfl rfl)
theorem dX2_goesOn_15 : decode cX2_goesOn 15 = .ok (.iload 4, 2) := dk_21 4 (dk_at dksX2_goesOn_0 15 rfl rfl)
theorem dX2_goesOn_17 : decode cX2_goesOn 17 = .ok (.iconst (-1), 1) := dk_2 (dk_at dksX2_goesOn_0 17 rfl rfl)
theorem dX2_goesOn_18 : decode cX2_goesOn 18 = .ok (.if_icmp .eq 39, 3) := dk_159 0 39 (dk_at dksX2_goesOn_0 18 rfl rfl)
theorem dX2_goesOn_21 : decode cX2_goesOn 21 = .ok (.aload_n 0, 1) := dk_42 (dk_at dksX2_goesOn_0 21 rfl rfl)
theorem dX2_goesOn_22 : decode cX2_goesOn 22 = .ok (.getfield 59, 3) := dk_180 0 59 (dk_at dksX2_goesOn_1 0 rfl rfl)
theorem dX2_goesOn_25 : decode cX2_goesOn 25 = .ok (.iload 4, 2) := dk_21 4 (dk_at dksX2_goesOn_1 3 rfl rfl)
theorem dX2_goesOn_27 : decode cX2_goesOn 27 = .ok (.baload, 1) := dk_51 (dk_at dksX2_goesOn_1 5 rfl rfl)
theorem dX2_goesOn_28 : decode cX2_goesOn 28 = .ok (.ifCond .ne 29, 3) := dk_154 0 29 (dk_at dksX2_goesOn_1 6 rfl rfl)
theorem dX2_goesOn_31 : decode cX2_goesOn 31 = .ok (.aload_n 0, 1) := dk_42 (dk_at dksX2_goesOn_1 9 rfl rfl)
theorem dX2_goesOn_32 : decode cX2_goesOn 32 = .ok (.getfield 66, 3) := dk_180 0 66 (dk_at dksX2_goesOn_1 10 rfl rfl)
theorem dX2_goesOn_35 : decode cX2_goesOn 35 = .ok (.iload 4, 2) := dk_21 4 (dk_at dksX2_goesOn_1 13 rfl rfl)
theorem dX2_goesOn_37 : decode cX2_goesOn 37 = .ok (.iaload, 1) := dk_46 (dk_at dksX2_goesOn_1 15 rfl rfl)
theorem dX2_goesOn_38 : decode cX2_goesOn 38 = .ok (.aload_n 0, 1) := dk_42 (dk_at dksX2_goesOn_1 16 rfl rfl)
theorem dX2_goesOn_39 : decode cX2_goesOn 39 = .ok (.aload_n 1, 1) := dk_43 (dk_at dksX2_goesOn_1 17 rfl rfl)
theorem dX2_goesOn_40 : decode cX2_goesOn 40 = .ok (.iload 4, 2) := dk_21 4 (dk_at dksX2_goesOn_1 18 rfl rfl)
theorem dX2_goesOn_42 : decode cX2_goesOn 42 = .ok (.invokevirtual 144, 3) := dk_182 0 144 (dk_at dksX2_goesOn_1 20 rfl rfl)
theorem dX2_goesOn_45 : decode cX2_goesOn 45 = .ok (.iadd, 1) := dk_96 (dk_at dksX2_goesOn_1 23 rfl rfl)
theorem dX2_goesOn_46 : decode cX2_goesOn 46 = .ok (.aload_n 0, 1) := dk_42 (dk_at dksX2_goesOn_2 0 rfl rfl)
theorem dX2_goesOn_47 : decode cX2_goesOn 47 = .ok (.getfield 66, 3) := dk_180 0 66 (dk_at dksX2_goesOn_2 1 rfl rfl)
theorem dX2_goesOn_50 : decode cX2_goesOn 50 = .ok (.iload_n 2, 1) := dk_28 (dk_at dksX2_goesOn_2 4 rfl rfl)
theorem dX2_goesOn_51 : decode cX2_goesOn 51 = .ok (.iaload, 1) := dk_46 (dk_at dksX2_goesOn_2 5 rfl rfl)
theorem dX2_goesOn_52 : decode cX2_goesOn 52 = .ok (.if_icmp .ne 5, 3) := dk_160 0 5 (dk_at dksX2_goesOn_2 6 rfl rfl)
theorem dX2_goesOn_55 : decode cX2_goesOn 55 = .ok (.iload_n 3, 1) := dk_29 (dk_at dksX2_goesOn_2 9 rfl rfl)
theorem dX2_goesOn_56 : decode cX2_goesOn 56 = .ok (.ireturn, 1) := dk_172 (dk_at dksX2_goesOn_2 10 rfl rfl)
theorem dX2_goesOn_57 : decode cX2_goesOn 57 = .ok (.iinc 3 1, 3) := dk_132 3 1 (dk_at dksX2_goesOn_2 11 rfl rfl)
theorem dX2_goesOn_60 : decode cX2_goesOn 60 = .ok (.goto (-58), 3) := dk_167 255 198 (dk_at dksX2_goesOn_2 14 rfl rfl)
theorem dX2_goesOn_63 : decode cX2_goesOn 63 = .ok (.iconst (-1), 1) := dk_2 (dk_at dksX2_goesOn_2 17 rfl rfl)
theorem dX2_goesOn_64 : decode cX2_goesOn 64 = .ok (.ireturn, 1) := dk_172 (dk_at dksX2_goesOn_2 18 rfl rfl)
def dkwX2_cellsOf_1 : List UInt8 := [167, 0, 4, 3, 184, 0, 119, 96, 61, 132, 3, 1, 167, 255, 224, 28, 172]
abbrev dktX2_cellsOf_1 : List UInt8 := dkwX2_cellsOf_1 ++ []
def dkwX2_cellsOf_0 : List UInt8 := [3, 61, 3, 62, 29, 42, 180, 0, 14, 162, 0, 30, 28, 42, 180, 0, 53, 29, 46, 27, 160, 0, 7, 4]
abbrev dktX2_cellsOf_0 : List UInt8 := dkwX2_cellsOf_0 ++ dktX2_cellsOf_1
theorem dksX2_cellsOf_0 : cX2_cellsOf.data.toList.drop 0 = dktX2_cellsOf_0 := by decide +kernel
theorem dksX2_cellsOf_1 : cX2_cellsOf.data.toList.drop 24 = dktX2_cellsOf_1 := dk_seg dksX2_cellsOf_0 24 rfl rfl
theorem dX2_cellsOf_0 : decode cX2_cellsOf 0 = .ok (.iconst 0, 1) := dk_3 (dk_at dksX2_cellsOf_0 0 rfl rfl)
theorem dX2_cellsOf_1 : decode cX2_cellsOf 1 = .ok (.istore_n 2, 1) := dk_61 (dk_at dksX2_cellsOf_0 1 rfl rfl)
theorem dX2_cellsOf_2 : decode cX2_cellsOf 2 = .ok (.iconst 0, 1) := dk_3 (dk_at dksX2_cellsOf_0 2 rfl rfl)
theorem dX2_cellsOf_3 : decode cX2_cellsOf 3 = .ok (.istore_n 3, 1) := dk_62 (dk_at dksX2_cellsOf_0 3 rfl rfl)
theorem dX2_cellsOf_4 : decode cX2_cellsOf 4 = .ok (.iload_n 3, 1) := dk_29 (dk_at dksX2_cellsOf_0 4 rfl rfl)
theorem dX2_cellsOf_5 : decode cX2_cellsOf 5 = .ok (.aload_n 0, 1) := dk_42 (dk_at dksX2_cellsOf_0 5 rfl rfl)
theorem dX2_cellsOf_6 : decode cX2_cellsOf 6 = .ok (.getfield 14, 3) := dk_180 0 14 (dk_at dksX2_cellsOf_0 6 rfl rfl)
theorem dX2_cellsOf_9 : decode cX2_cellsOf 9 = .ok (.if_icmp .ge 30, 3) := dk_162 0 30 (dk_at dksX2_cellsOf_0 9 rfl rfl)
theorem dX2_cellsOf_12 : decode cX2_cellsOf 12 = .ok (.iload_n 2, 1) := dk_28 (dk_at dksX2_cellsOf_0 12 rfl rfl)
theorem dX2_cellsOf_13 : decode cX2_cellsOf 13 = .ok (.aload_n 0, 1) := dk_42 (dk_at dksX2_cellsOf_0 13 rfl rfl)
theorem dX2_cellsOf_14 : decode cX2_cellsOf 14 = .ok (.getfield 53, 3) := dk_180 0 53 (dk_at dksX2_cellsOf_0 14 rfl rfl)
theorem dX2_cellsOf_17 : decode cX2_cellsOf 17 = .ok (.iload_n 3, 1) := dk_29 (dk_at dksX2_cellsOf_0 17 rfl rfl)
theorem dX2_cellsOf_18 : decode cX2_cellsOf 18 = .ok (.iaload, 1) := dk_46 (dk_at dksX2_cellsOf_0 18 rfl rfl)
theorem dX2_cellsOf_19 : decode cX2_cellsOf 19 = .ok (.iload_n 1, 1) := dk_27 (dk_at dksX2_cellsOf_0 19 rfl rfl)
theorem dX2_cellsOf_20 : decode cX2_cellsOf 20 = .ok (.if_icmp .ne 7, 3) := dk_160 0 7 (dk_at dksX2_cellsOf_0 20 rfl rfl)
theorem dX2_cellsOf_23 : decode cX2_cellsOf 23 = .ok (.iconst 1, 1) := dk_4 (dk_at dksX2_cellsOf_0 23 rfl rfl)
theorem dX2_cellsOf_24 : decode cX2_cellsOf 24 = .ok (.goto 4, 3) := dk_167 0 4 (dk_at dksX2_cellsOf_1 0 rfl rfl)
theorem dX2_cellsOf_27 : decode cX2_cellsOf 27 = .ok (.iconst 0, 1) := dk_3 (dk_at dksX2_cellsOf_1 3 rfl rfl)
theorem dX2_cellsOf_28 : decode cX2_cellsOf 28 = .ok (.invokestatic 119, 3) := dk_184 0 119 (dk_at dksX2_cellsOf_1 4 rfl rfl)
theorem dX2_cellsOf_31 : decode cX2_cellsOf 31 = .ok (.iadd, 1) := dk_96 (dk_at dksX2_cellsOf_1 7 rfl rfl)
theorem dX2_cellsOf_32 : decode cX2_cellsOf 32 = .ok (.istore_n 2, 1) := dk_61 (dk_at dksX2_cellsOf_1 8 rfl rfl)
theorem dX2_cellsOf_33 : decode cX2_cellsOf 33 = .ok (.iinc 3 1, 3) := dk_132 3 1 (dk_at dksX2_cellsOf_1 9 rfl rfl)
theorem dX2_cellsOf_36 : decode cX2_cellsOf 36 = .ok (.goto (-32), 3) := dk_167 255 224 (dk_at dksX2_cellsOf_1 12 rfl rfl)
theorem dX2_cellsOf_39 : decode cX2_cellsOf 39 = .ok (.iload_n 2, 1) := dk_28 (dk_at dksX2_cellsOf_1 15 rfl rfl)
theorem dX2_cellsOf_40 : decode cX2_cellsOf 40 = .ok (.ireturn, 1) := dk_172 (dk_at dksX2_cellsOf_1 16 rfl rfl)
def dkwX2_bareAll_2 : List UInt8 := [27, 172]
abbrev dktX2_bareAll_2 : List UInt8 := dkwX2_bareAll_2 ++ []
def dkwX2_bareAll_1 : List UInt8 := [180, 0, 18, 28, 46, 154, 0, 7, 4, 167, 0, 4, 3, 184, 0, 119, 96, 60, 132, 2, 1, 167, 255, 217]
abbrev dktX2_bareAll_1 : List UInt8 := dkwX2_bareAll_1 ++ dktX2_bareAll_2
def dkwX2_bareAll_0 : List UInt8 := [3, 60, 3, 61, 28, 42, 180, 0, 14, 162, 0, 37, 27, 42, 28, 182, 0, 123, 153, 0, 16, 42]
abbrev dktX2_bareAll_0 : List UInt8 := dkwX2_bareAll_0 ++ dktX2_bareAll_1
theorem dksX2_bareAll_0 : cX2_bareAll.data.toList.drop 0 = dktX2_bareAll_0 := by decide +kernel
theorem dksX2_bareAll_1 : cX2_bareAll.data.toList.drop 22 = dktX2_bareAll_1 := dk_seg dksX2_bareAll_0 22 rfl rfl
theorem dksX2_bareAll_2 : cX2_bareAll.data.toList.drop 46 = dktX2_bareAll_2 := dk_seg dksX2_bareAll_1 24 rfl rfl
theorem dX2_bareAll_0 : decode cX2_bareAll 0 = .ok (.iconst 0, 1) := dk_3 (dk_at dksX2_bareAll_0 0 rfl rfl)
theorem dX2_bareAll_1 : decode cX2_bareAll 1 = .ok (.istore_n 1, 1) := dk_60 (dk_at dksX2_bareAll_0 1 rfl rfl)
theorem dX2_bareAll_2 : decode cX2_bareAll 2 = .ok (.iconst 0, 1) := dk_3 (dk_at dksX2_bareAll_0 2 rfl rfl)
theorem dX2_bareAll_3 : decode cX2_bareAll 3 = .ok (.istore_n 2, 1) := dk_61 (dk_at dksX2_bareAll_0 3 rfl rfl)
theorem dX2_bareAll_4 : decode cX2_bareAll 4 = .ok (.iload_n 2, 1) := dk_28 (dk_at dksX2_bareAll_0 4 rfl rfl)
theorem dX2_bareAll_5 : decode cX2_bareAll 5 = .ok (.aload_n 0, 1) := dk_42 (dk_at dksX2_bareAll_0 5 rfl rfl)
theorem dX2_bareAll_6 : decode cX2_bareAll 6 = .ok (.getfield 14, 3) := dk_180 0 14 (dk_at dksX2_bareAll_0 6 rfl rfl)
theorem dX2_bareAll_9 : decode cX2_bareAll 9 = .ok (.if_icmp .ge 37, 3) := dk_162 0 37 (dk_at dksX2_bareAll_0 9 rfl rfl)
theorem dX2_bareAll_12 : decode cX2_bareAll 12 = .ok (.iload_n 1, 1) := dk_27 (dk_at dksX2_bareAll_0 12 rfl rfl)
theorem dX2_bareAll_13 : decode cX2_bareAll 13 = .ok (.aload_n 0, 1) := dk_42 (dk_at dksX2_bareAll_0 13 rfl rfl)
theorem dX2_bareAll_14 : decode cX2_bareAll 14 = .ok (.iload_n 2, 1) := dk_28 (dk_at dksX2_bareAll_0 14 rfl rfl)
theorem dX2_bareAll_15 : decode cX2_bareAll 15 = .ok (.invokevirtual 123, 3) := dk_182 0 123 (dk_at dksX2_bareAll_0 15 rfl rfl)
theorem dX2_bareAll_18 : decode cX2_bareAll 18 = .ok (.ifCond .eq 16, 3) := dk_153 0 16 (dk_at dksX2_bareAll_0 18 rfl rfl)
theorem dX2_bareAll_21 : decode cX2_bareAll 21 = .ok (.aload_n 0, 1) := dk_42 (dk_at dksX2_bareAll_0 21 rfl rfl)
theorem dX2_bareAll_22 : decode cX2_bareAll 22 = .ok (.getfield 18, 3) := dk_180 0 18 (dk_at dksX2_bareAll_1 0 rfl rfl)
theorem dX2_bareAll_25 : decode cX2_bareAll 25 = .ok (.iload_n 2, 1) := dk_28 (dk_at dksX2_bareAll_1 3 rfl rfl)
theorem dX2_bareAll_26 : decode cX2_bareAll 26 = .ok (.iaload, 1) := dk_46 (dk_at dksX2_bareAll_1 4 rfl rfl)
theorem dX2_bareAll_27 : decode cX2_bareAll 27 = .ok (.ifCond .ne 7, 3) := dk_154 0 7 (dk_at dksX2_bareAll_1 5 rfl rfl)
theorem dX2_bareAll_30 : decode cX2_bareAll 30 = .ok (.iconst 1, 1) := dk_4 (dk_at dksX2_bareAll_1 8 rfl rfl)
theorem dX2_bareAll_31 : decode cX2_bareAll 31 = .ok (.goto 4, 3) := dk_167 0 4 (dk_at dksX2_bareAll_1 9 rfl rfl)
theorem dX2_bareAll_34 : decode cX2_bareAll 34 = .ok (.iconst 0, 1) := dk_3 (dk_at dksX2_bareAll_1 12 rfl rfl)
theorem dX2_bareAll_35 : decode cX2_bareAll 35 = .ok (.invokestatic 119, 3) := dk_184 0 119 (dk_at dksX2_bareAll_1 13 rfl rfl)
theorem dX2_bareAll_38 : decode cX2_bareAll 38 = .ok (.iadd, 1) := dk_96 (dk_at dksX2_bareAll_1 16 rfl rfl)
theorem dX2_bareAll_39 : decode cX2_bareAll 39 = .ok (.istore_n 1, 1) := dk_60 (dk_at dksX2_bareAll_1 17 rfl rfl)
theorem dX2_bareAll_40 : decode cX2_bareAll 40 = .ok (.iinc 2 1, 3) := dk_132 2 1 (dk_at dksX2_bareAll_1 18 rfl rfl)
theorem dX2_bareAll_43 : decode cX2_bareAll 43 = .ok (.goto (-39), 3) := dk_167 255 217 (dk_at dksX2_bareAll_1 21 rfl rfl)
theorem dX2_bareAll_46 : decode cX2_bareAll 46 = .ok (.iload_n 1, 1) := dk_27 (dk_at dksX2_bareAll_2 0 rfl rfl)
theorem dX2_bareAll_47 : decode cX2_bareAll 47 = .ok (.ireturn, 1) := dk_172 (dk_at dksX2_bareAll_2 1 rfl rfl)
def dkwX2_copy_5 : List UInt8 := [167, 255, 227, 43, 42, 180, 0, 35, 181, 0, 35, 43, 42, 180, 0, 25, 181, 0, 25, 43, 176]
abbrev dktX2_copy_5 : List UInt8 := dkwX2_copy_5 ++ []
def dkwX2_copy_4 : List UInt8 := [182, 0, 85, 162, 0, 24, 43, 180, 0, 31, 42, 28, 182, 0, 89, 182, 0, 93, 182, 0, 99, 132, 2, 1]
abbrev dktX2_copy_4 : List UInt8 := dkwX2_copy_4 ++ dktX2_copy_5
def dkwX2_copy_3 : List UInt8 := [192, 0, 84, 42, 180, 0, 63, 182, 0, 78, 192, 0, 79, 183, 0, 9, 76, 3, 61, 28, 42, 180, 0, 31]
abbrev dktX2_copy_3 : List UInt8 := dkwX2_copy_3 ++ dktX2_copy_4
def dkwX2_copy_2 : List UInt8 := [182, 0, 78, 192, 0, 79, 42, 180, 0, 22, 182, 0, 78, 192, 0, 79, 42, 180, 0, 59, 182, 0, 83]
abbrev dktX2_copy_2 : List UInt8 := dkwX2_copy_2 ++ dktX2_copy_3
def dkwX2_copy_1 : List UInt8 := [42, 180, 0, 53, 182, 0, 78, 192, 0, 79, 42, 180, 0, 18, 182, 0, 78, 192, 0, 79, 42, 180, 0, 56]
abbrev dktX2_copy_1 : List UInt8 := dkwX2_copy_1 ++ dktX2_copy_2
def dkwX2_copy_0 : List UInt8 := [187, 0, 10, 89, 42, 180, 0, 38, 42, 180, 0, 41, 42, 180, 0, 44, 42, 180, 0, 47, 42, 180, 0, 50]
abbrev dktX2_copy_0 : List UInt8 := dkwX2_copy_0 ++ dktX2_copy_1
theorem dksX2_copy_0 : cX2_copy.data.toList.drop 0 = dktX2_copy_0 := by decide +kernel
theorem dksX2_copy_1 : cX2_copy.data.toList.drop 24 = dktX2_copy_1 := dk_seg dksX2_copy_0 24 rfl rfl
theorem dksX2_copy_2 : cX2_copy.data.toList.drop 48 = dktX2_copy_2 := dk_seg dksX2_copy_1 24 rfl rfl
theorem dksX2_copy_3 : cX2_copy.data.toList.drop 71 = dktX2_copy_3 := dk_seg dksX2_copy_2 23 rfl rfl
theorem dksX2_copy_4 : cX2_copy.data.toList.drop 95 = dktX2_copy_4 := dk_seg dksX2_copy_3 24 rfl rfl
theorem dksX2_copy_5 : cX2_copy.data.toList.drop 119 = dktX2_copy_5 := dk_seg dksX2_copy_4 24 rfl rfl
theorem dX2_copy_0 : decode cX2_copy 0 = .ok (.new 10, 3) := dk_187 0 10 (dk_at dksX2_copy_0 0 rfl rfl)
theorem dX2_copy_3 : decode cX2_copy 3 = .ok (.dup, 1) := dk_89 (dk_at dksX2_copy_0 3 rfl rfl)
theorem dX2_copy_4 : decode cX2_copy 4 = .ok (.aload_n 0, 1) := dk_42 (dk_at dksX2_copy_0 4 rfl rfl)
theorem dX2_copy_5 : decode cX2_copy 5 = .ok (.getfield 38, 3) := dk_180 0 38 (dk_at dksX2_copy_0 5 rfl rfl)
theorem dX2_copy_8 : decode cX2_copy 8 = .ok (.aload_n 0, 1) := dk_42 (dk_at dksX2_copy_0 8 rfl rfl)
theorem dX2_copy_9 : decode cX2_copy 9 = .ok (.getfield 41, 3) := dk_180 0 41 (dk_at dksX2_copy_0 9 rfl rfl)
theorem dX2_copy_12 : decode cX2_copy 12 = .ok (.aload_n 0, 1) := dk_42 (dk_at dksX2_copy_0 12 rfl rfl)
theorem dX2_copy_13 : decode cX2_copy 13 = .ok (.getfield 44, 3) := dk_180 0 44 (dk_at dksX2_copy_0 13 rfl rfl)
theorem dX2_copy_16 : decode cX2_copy 16 = .ok (.aload_n 0, 1) := dk_42 (dk_at dksX2_copy_0 16 rfl rfl)
theorem dX2_copy_17 : decode cX2_copy 17 = .ok (.getfield 47, 3) := dk_180 0 47 (dk_at dksX2_copy_0 17 rfl rfl)
theorem dX2_copy_20 : decode cX2_copy 20 = .ok (.aload_n 0, 1) := dk_42 (dk_at dksX2_copy_0 20 rfl rfl)
theorem dX2_copy_21 : decode cX2_copy 21 = .ok (.getfield 50, 3) := dk_180 0 50 (dk_at dksX2_copy_0 21 rfl rfl)
theorem dX2_copy_24 : decode cX2_copy 24 = .ok (.aload_n 0, 1) := dk_42 (dk_at dksX2_copy_1 0 rfl rfl)
theorem dX2_copy_25 : decode cX2_copy 25 = .ok (.getfield 53, 3) := dk_180 0 53 (dk_at dksX2_copy_1 1 rfl rfl)
theorem dX2_copy_28 : decode cX2_copy 28 = .ok (.invokevirtual 78, 3) := dk_182 0 78 (dk_at dksX2_copy_1 4 rfl rfl)
theorem dX2_copy_31 : decode cX2_copy 31 = .ok (.checkcast 79, 3) := dk_192 0 79 (dk_at dksX2_copy_1 7 rfl rfl)
theorem dX2_copy_34 : decode cX2_copy 34 = .ok (.aload_n 0, 1) := dk_42 (dk_at dksX2_copy_1 10 rfl rfl)
theorem dX2_copy_35 : decode cX2_copy 35 = .ok (.getfield 18, 3) := dk_180 0 18 (dk_at dksX2_copy_1 11 rfl rfl)
theorem dX2_copy_38 : decode cX2_copy 38 = .ok (.invokevirtual 78, 3) := dk_182 0 78 (dk_at dksX2_copy_1 14 rfl rfl)
theorem dX2_copy_41 : decode cX2_copy 41 = .ok (.checkcast 79, 3) := dk_192 0 79 (dk_at dksX2_copy_1 17 rfl rfl)
theorem dX2_copy_44 : decode cX2_copy 44 = .ok (.aload_n 0, 1) := dk_42 (dk_at dksX2_copy_1 20 rfl rfl)
theorem dX2_copy_45 : decode cX2_copy 45 = .ok (.getfield 56, 3) := dk_180 0 56 (dk_at dksX2_copy_1 21 rfl rfl)
theorem dX2_copy_48 : decode cX2_copy 48 = .ok (.invokevirtual 78, 3) := dk_182 0 78 (dk_at dksX2_copy_2 0 rfl rfl)
theorem dX2_copy_51 : decode cX2_copy 51 = .ok (.checkcast 79, 3) := dk_192 0 79 (dk_at dksX2_copy_2 3 rfl rfl)
theorem dX2_copy_54 : decode cX2_copy 54 = .ok (.aload_n 0, 1) := dk_42 (dk_at dksX2_copy_2 6 rfl rfl)
theorem dX2_copy_55 : decode cX2_copy 55 = .ok (.getfield 22, 3) := dk_180 0 22 (dk_at dksX2_copy_2 7 rfl rfl)
theorem dX2_copy_58 : decode cX2_copy 58 = .ok (.invokevirtual 78, 3) := dk_182 0 78 (dk_at dksX2_copy_2 10 rfl rfl)
theorem dX2_copy_61 : decode cX2_copy 61 = .ok (.checkcast 79, 3) := dk_192 0 79 (dk_at dksX2_copy_2 13 rfl rfl)
theorem dX2_copy_64 : decode cX2_copy 64 = .ok (.aload_n 0, 1) := dk_42 (dk_at dksX2_copy_2 16 rfl rfl)
theorem dX2_copy_65 : decode cX2_copy 65 = .ok (.getfield 59, 3) := dk_180 0 59 (dk_at dksX2_copy_2 17 rfl rfl)
theorem dX2_copy_68 : decode cX2_copy 68 = .ok (.invokevirtual 83, 3) := dk_182 0 83 (dk_at dksX2_copy_2 20 rfl rfl)
theorem dX2_copy_71 : decode cX2_copy 71 = .ok (.checkcast 84, 3) := dk_192 0 84 (dk_at dksX2_copy_3 0 rfl rfl)
theorem dX2_copy_74 : decode cX2_copy 74 = .ok (.aload_n 0, 1) := dk_42 (dk_at dksX2_copy_3 3 rfl rfl)
theorem dX2_copy_75 : decode cX2_copy 75 = .ok (.getfield 63, 3) := dk_180 0 63 (dk_at dksX2_copy_3 4 rfl rfl)
theorem dX2_copy_78 : decode cX2_copy 78 = .ok (.invokevirtual 78, 3) := dk_182 0 78 (dk_at dksX2_copy_3 7 rfl rfl)
theorem dX2_copy_81 : decode cX2_copy 81 = .ok (.checkcast 79, 3) := dk_192 0 79 (dk_at dksX2_copy_3 10 rfl rfl)
theorem dX2_copy_84 : decode cX2_copy 84 = .ok (.invokespecial 9, 3) := dk_183 0 9 (dk_at dksX2_copy_3 13 rfl rfl)
theorem dX2_copy_87 : decode cX2_copy 87 = .ok (.astore_n 1, 1) := dk_76 (dk_at dksX2_copy_3 16 rfl rfl)
theorem dX2_copy_88 : decode cX2_copy 88 = .ok (.iconst 0, 1) := dk_3 (dk_at dksX2_copy_3 17 rfl rfl)
theorem dX2_copy_89 : decode cX2_copy 89 = .ok (.istore_n 2, 1) := dk_61 (dk_at dksX2_copy_3 18 rfl rfl)
theorem dX2_copy_90 : decode cX2_copy 90 = .ok (.iload_n 2, 1) := dk_28 (dk_at dksX2_copy_3 19 rfl rfl)
theorem dX2_copy_91 : decode cX2_copy 91 = .ok (.aload_n 0, 1) := dk_42 (dk_at dksX2_copy_3 20 rfl rfl)
theorem dX2_copy_92 : decode cX2_copy 92 = .ok (.getfield 31, 3) := dk_180 0 31 (dk_at dksX2_copy_3 21 rfl rfl)
theorem dX2_copy_95 : decode cX2_copy 95 = .ok (.invokevirtual 85, 3) := dk_182 0 85 (dk_at dksX2_copy_4 0 rfl rfl)
theorem dX2_copy_98 : decode cX2_copy 98 = .ok (.if_icmp .ge 24, 3) := dk_162 0 24 (dk_at dksX2_copy_4 3 rfl rfl)
theorem dX2_copy_101 : decode cX2_copy 101 = .ok (.aload_n 1, 1) := dk_43 (dk_at dksX2_copy_4 6 rfl rfl)
theorem dX2_copy_102 : decode cX2_copy 102 = .ok (.getfield 31, 3) := dk_180 0 31 (dk_at dksX2_copy_4 7 rfl rfl)
theorem dX2_copy_105 : decode cX2_copy 105 = .ok (.aload_n 0, 1) := dk_42 (dk_at dksX2_copy_4 10 rfl rfl)
theorem dX2_copy_106 : decode cX2_copy 106 = .ok (.iload_n 2, 1) := dk_28 (dk_at dksX2_copy_4 11 rfl rfl)
theorem dX2_copy_107 : decode cX2_copy 107 = .ok (.invokevirtual 89, 3) := dk_182 0 89 (dk_at dksX2_copy_4 12 rfl rfl)
theorem dX2_copy_110 : decode cX2_copy 110 = .ok (.invokevirtual 93, 3) := dk_182 0 93 (dk_at dksX2_copy_4 15 rfl rfl)
theorem dX2_copy_113 : decode cX2_copy 113 = .ok (.invokevirtual 99, 3) := dk_182 0 99 (dk_at dksX2_copy_4 18 rfl rfl)
theorem dX2_copy_116 : decode cX2_copy 116 = .ok (.iinc 2 1, 3) := dk_132 2 1 (dk_at dksX2_copy_4 21 rfl rfl)
theorem dX2_copy_119 : decode cX2_copy 119 = .ok (.goto (-29), 3) := dk_167 255 227 (dk_at dksX2_copy_5 0 rfl rfl)
theorem dX2_copy_122 : decode cX2_copy 122 = .ok (.aload_n 1, 1) := dk_43 (dk_at dksX2_copy_5 3 rfl rfl)
theorem dX2_copy_123 : decode cX2_copy 123 = .ok (.aload_n 0, 1) := dk_42 (dk_at dksX2_copy_5 4 rfl rfl)
theorem dX2_copy_124 : decode cX2_copy 124 = .ok (.getfield 35, 3) := dk_180 0 35 (dk_at dksX2_copy_5 5 rfl rfl)
theorem dX2_copy_127 : decode cX2_copy 127 = .ok (.putfield 35, 3) := dk_181 0 35 (dk_at dksX2_copy_5 8 rfl rfl)
theorem dX2_copy_130 : decode cX2_copy 130 = .ok (.aload_n 1, 1) := dk_43 (dk_at dksX2_copy_5 11 rfl rfl)
theorem dX2_copy_131 : decode cX2_copy 131 = .ok (.aload_n 0, 1) := dk_42 (dk_at dksX2_copy_5 12 rfl rfl)
theorem dX2_copy_132 : decode cX2_copy 132 = .ok (.getfield 25, 3) := dk_180 0 25 (dk_at dksX2_copy_5 13 rfl rfl)
theorem dX2_copy_135 : decode cX2_copy 135 = .ok (.putfield 25, 3) := dk_181 0 25 (dk_at dksX2_copy_5 16 rfl rfl)
theorem dX2_copy_138 : decode cX2_copy 138 = .ok (.aload_n 1, 1) := dk_43 (dk_at dksX2_copy_5 19 rfl rfl)
theorem dX2_copy_139 : decode cX2_copy 139 = .ok (.areturn, 1) := dk_176 (dk_at dksX2_copy_5 20 rfl rfl)
def dkwX2_fencesAll_1 : List UInt8 := [132, 2, 1, 167, 255, 233, 27, 172]
abbrev dktX2_fencesAll_1 : List UInt8 := dkwX2_fencesAll_1 ++ []
def dkwX2_fencesAll_0 : List UInt8 := [3, 60, 3, 61, 28, 42, 180, 0, 14, 162, 0, 21, 27, 42, 180, 0, 59, 28, 51, 184, 0, 119, 96, 60]
abbrev dktX2_fencesAll_0 : List UInt8 := dkwX2_fencesAll_0 ++ dktX2_fencesAll_1
theorem dksX2_fencesAll_0 : cX2_fencesAll.data.toList.drop 0 = dktX2_fencesAll_0 := by decide +kernel
theorem dksX2_fencesAll_1 : cX2_fencesAll.data.toList.drop 24 = dktX2_fencesAll_1 := dk_seg dksX2_fencesAll_0 24 rfl rfl
theorem dX2_fencesAll_0 : decode cX2_fencesAll 0 = .ok (.iconst 0, 1) := dk_3 (dk_at dksX2_fencesAll_0 0 rfl rfl)
theorem dX2_fencesAll_1 : decode cX2_fencesAll 1 = .ok (.istore_n 1, 1) := dk_60 (dk_at dksX2_fencesAll_0 1 rfl rfl)
theorem dX2_fencesAll_2 : decode cX2_fencesAll 2 = .ok (.iconst 0, 1) := dk_3 (dk_at dksX2_fencesAll_0 2 rfl rfl)
theorem dX2_fencesAll_3 : decode cX2_fencesAll 3 = .ok (.istore_n 2, 1) := dk_61 (dk_at dksX2_fencesAll_0 3 rfl rfl)
theorem dX2_fencesAll_4 : decode cX2_fencesAll 4 = .ok (.iload_n 2, 1) := dk_28 (dk_at dksX2_fencesAll_0 4 rfl rfl)
theorem dX2_fencesAll_5 : decode cX2_fencesAll 5 = .ok (.aload_n 0, 1) := dk_42 (dk_at dksX2_fencesAll_0 5 rfl rfl)
theorem dX2_fencesAll_6 : decode cX2_fencesAll 6 = .ok (.getfield 14, 3) := dk_180 0 14 (dk_at dksX2_fencesAll_0 6 rfl rfl)
theorem dX2_fencesAll_9 : decode cX2_fencesAll 9 = .ok (.if_icmp .ge 21, 3) := dk_162 0 21 (dk_at dksX2_fencesAll_0 9 rfl rfl)
theorem dX2_fencesAll_12 : decode cX2_fencesAll 12 = .ok (.iload_n 1, 1) := dk_27 (dk_at dksX2_fencesAll_0 12 rfl rfl)
theorem dX2_fencesAll_13 : decode cX2_fencesAll 13 = .ok (.aload_n 0, 1) := dk_42 (dk_at dksX2_fencesAll_0 13 rfl rfl)
theorem dX2_fencesAll_14 : decode cX2_fencesAll 14 = .ok (.getfield 59, 3) := dk_180 0 59 (dk_at dksX2_fencesAll_0 14 rfl rfl)
theorem dX2_fencesAll_17 : decode cX2_fencesAll 17 = .ok (.iload_n 2, 1) := dk_28 (dk_at dksX2_fencesAll_0 17 rfl rfl)
theorem dX2_fencesAll_18 : decode cX2_fencesAll 18 = .ok (.baload, 1) := dk_51 (dk_at dksX2_fencesAll_0 18 rfl rfl)
theorem dX2_fencesAll_19 : decode cX2_fencesAll 19 = .ok (.invokestatic 119, 3) := dk_184 0 119 (dk_at dksX2_fencesAll_0 19 rfl rfl)
theorem dX2_fencesAll_22 : decode cX2_fencesAll 22 = .ok (.iadd, 1) := dk_96 (dk_at dksX2_fencesAll_0 22 rfl rfl)
theorem dX2_fencesAll_23 : decode cX2_fencesAll 23 = .ok (.istore_n 1, 1) := dk_60 (dk_at dksX2_fencesAll_0 23 rfl rfl)
theorem dX2_fencesAll_24 : decode cX2_fencesAll 24 = .ok (.iinc 2 1, 3) := dk_132 2 1 (dk_at dksX2_fencesAll_1 0 rfl rfl)
theorem dX2_fencesAll_27 : decode cX2_fencesAll 27 = .ok (.goto (-23), 3) := dk_167 255 233 (dk_at dksX2_fencesAll_1 3 rfl rfl)
theorem dX2_fencesAll_30 : decode cX2_fencesAll 30 = .ok (.iload_n 1, 1) := dk_27 (dk_at dksX2_fencesAll_1 6 rfl rfl)
theorem dX2_fencesAll_31 : decode cX2_fencesAll 31 = .ok (.ireturn, 1) := dk_172 (dk_at dksX2_fencesAll_1 7 rfl rfl)
def dkwX2_hasWays_1 : List UInt8 := [182, 0, 170, 18, 133, 161, 0, 5, 3, 172, 132, 1, 1, 167, 255, 223, 4, 172]
abbrev dktX2_hasWays_1 : List UInt8 := dkwX2_hasWays_1 ++ []
def dkwX2_hasWays_0 : List UInt8 := [3, 60, 27, 42, 180, 0, 31, 182, 0, 85, 162, 0, 28, 42, 42, 27, 182, 0, 89, 178, 0, 166]
abbrev dktX2_hasWays_0 : List UInt8 := dkwX2_hasWays_0 ++ dktX2_hasWays_1
theorem dksX2_hasWays_0 : cX2_hasWays.data.toList.drop 0 = dktX2_hasWays_0 := by decide +kernel
theorem dksX2_hasWays_1 : cX2_hasWays.data.toList.drop 22 = dktX2_hasWays_1 := dk_seg dksX2_hasWays_0 22 rfl rfl
theorem dX2_hasWays_0 : decode cX2_hasWays 0 = .ok (.iconst 0, 1) := dk_3 (dk_at dksX2_hasWays_0 0 rfl rfl)
theorem dX2_hasWays_1 : decode cX2_hasWays 1 = .ok (.istore_n 1, 1) := dk_60 (dk_at dksX2_hasWays_0 1 rfl rfl)
theorem dX2_hasWays_2 : decode cX2_hasWays 2 = .ok (.iload_n 1, 1) := dk_27 (dk_at dksX2_hasWays_0 2 rfl rfl)
theorem dX2_hasWays_3 : decode cX2_hasWays 3 = .ok (.aload_n 0, 1) := dk_42 (dk_at dksX2_hasWays_0 3 rfl rfl)
theorem dX2_hasWays_4 : decode cX2_hasWays 4 = .ok (.getfield 31, 3) := dk_180 0 31 (dk_at dksX2_hasWays_0 4 rfl rfl)
theorem dX2_hasWays_7 : decode cX2_hasWays 7 = .ok (.invokevirtual 85, 3) := dk_182 0 85 (dk_at dksX2_hasWays_0 7 rfl rfl)
theorem dX2_hasWays_10 : decode cX2_hasWays 10 = .ok (.if_icmp .ge 28, 3) := dk_162 0 28 (dk_at dksX2_hasWays_0 10 rfl rfl)
theorem dX2_hasWays_13 : decode cX2_hasWays 13 = .ok (.aload_n 0, 1) := dk_42 (dk_at dksX2_hasWays_0 13 rfl rfl)
theorem dX2_hasWays_14 : decode cX2_hasWays 14 = .ok (.aload_n 0, 1) := dk_42 (dk_at dksX2_hasWays_0 14 rfl rfl)
theorem dX2_hasWays_15 : decode cX2_hasWays 15 = .ok (.iload_n 1, 1) := dk_27 (dk_at dksX2_hasWays_0 15 rfl rfl)
theorem dX2_hasWays_16 : decode cX2_hasWays 16 = .ok (.invokevirtual 89, 3) := dk_182 0 89 (dk_at dksX2_hasWays_0 16 rfl rfl)
theorem dX2_hasWays_19 : decode cX2_hasWays 19 = .ok (.getstatic 166, 3) := dk_178 0 166 (dk_at dksX2_hasWays_0 19 rfl rfl)
theorem dX2_hasWays_22 : decode cX2_hasWays 22 = .ok (.invokevirtual 170, 3) := dk_182 0 170 (dk_at dksX2_hasWays_1 0 rfl rfl)
theorem dX2_hasWays_25 : decode cX2_hasWays 25 = .ok (.ldc 133, 2) := dk_18 133 (dk_at dksX2_hasWays_1 3 rfl rfl)
theorem dX2_hasWays_27 : decode cX2_hasWays 27 = .ok (.if_icmp .lt 5, 3) := dk_161 0 5 (dk_at dksX2_hasWays_1 5 rfl rfl)
theorem dX2_hasWays_30 : decode cX2_hasWays 30 = .ok (.iconst 0, 1) := dk_3 (dk_at dksX2_hasWays_1 8 rfl rfl)
theorem dX2_hasWays_31 : decode cX2_hasWays 31 = .ok (.ireturn, 1) := dk_172 (dk_at dksX2_hasWays_1 9 rfl rfl)
theorem dX2_hasWays_32 : decode cX2_hasWays 32 = .ok (.iinc 1 1, 3) := dk_132 1 1 (dk_at dksX2_hasWays_1 10 rfl rfl)
theorem dX2_hasWays_35 : decode cX2_hasWays 35 = .ok (.goto (-33), 3) := dk_167 255 223 (dk_at dksX2_hasWays_1 13 rfl rfl)
theorem dX2_hasWays_38 : decode cX2_hasWays 38 = .ok (.iconst 1, 1) := dk_4 (dk_at dksX2_hasWays_1 16 rfl rfl)
theorem dX2_hasWays_39 : decode cX2_hasWays 39 = .ok (.ireturn, 1) := dk_172 (dk_at dksX2_hasWays_1 17 rfl rfl)
def dkwX2_runs_1 : List UInt8 := [180, 0, 63, 3, 46, 61, 42, 27, 182, 0, 208, 180, 0, 63, 3, 46, 28, 100, 172]
abbrev dktX2_runs_1 : List UInt8 := dkwX2_runs_1 ++ []
def dkwX2_runs_0 : List UInt8 := [42, 180, 0, 35, 27, 96, 17, 3, 231, 163, 0, 7, 4, 167, 0, 4, 3, 16, 7, 184, 0, 204, 42]
abbrev dktX2_runs_0 : List UInt8 := dkwX2_runs_0 ++ dktX2_runs_1
theorem dksX2_runs_0 : cX2_runs.data.toList.drop 0 = dktX2_runs_0 := by decide +kernel
theorem dksX2_runs_1 : cX2_runs.data.toList.drop 23 = dktX2_runs_1 := dk_seg dksX2_runs_0 23 rfl rfl
theorem dX2_runs_0 : decode cX2_runs 0 = .ok (.aload_n 0, 1) := dk_42 (dk_at dksX2_runs_0 0 rfl rfl)
theorem dX2_runs_1 : decode cX2_runs 1 = .ok (.getfield 35, 3) := dk_180 0 35 (dk_at dksX2_runs_0 1 rfl rfl)
theorem dX2_runs_4 : decode cX2_runs 4 = .ok (.iload_n 1, 1) := dk_27 (dk_at dksX2_runs_0 4 rfl rfl)
theorem dX2_runs_5 : decode cX2_runs 5 = .ok (.iadd, 1) := dk_96 (dk_at dksX2_runs_0 5 rfl rfl)
theorem dX2_runs_6 : decode cX2_runs 6 = .ok (.sipush 999, 3) := dk_17 3 231 (dk_at dksX2_runs_0 6 rfl rfl)
theorem dX2_runs_9 : decode cX2_runs 9 = .ok (.if_icmp .gt 7, 3) := dk_163 0 7 (dk_at dksX2_runs_0 9 rfl rfl)
theorem dX2_runs_12 : decode cX2_runs 12 = .ok (.iconst 1, 1) := dk_4 (dk_at dksX2_runs_0 12 rfl rfl)
theorem dX2_runs_13 : decode cX2_runs 13 = .ok (.goto 4, 3) := dk_167 0 4 (dk_at dksX2_runs_0 13 rfl rfl)
theorem dX2_runs_16 : decode cX2_runs 16 = .ok (.iconst 0, 1) := dk_3 (dk_at dksX2_runs_0 16 rfl rfl)
theorem dX2_runs_17 : decode cX2_runs 17 = .ok (.bipush 7, 2) := dk_16 7 (dk_at dksX2_runs_0 17 rfl rfl)
theorem dX2_runs_19 : decode cX2_runs 19 = .ok (.invokestatic 204, 3) := dk_184 0 204 (dk_at dksX2_runs_0 19 rfl rfl)
theorem dX2_runs_22 : decode cX2_runs 22 = .ok (.aload_n 0, 1) := dk_42 (dk_at dksX2_runs_0 22 rfl rfl)
theorem dX2_runs_23 : decode cX2_runs 23 = .ok (.getfield 63, 3) := dk_180 0 63 (dk_at dksX2_runs_1 0 rfl rfl)
theorem dX2_runs_26 : decode cX2_runs 26 = .ok (.iconst 0, 1) := dk_3 (dk_at dksX2_runs_1 3 rfl rfl)
theorem dX2_runs_27 : decode cX2_runs 27 = .ok (.iaload, 1) := dk_46 (dk_at dksX2_runs_1 4 rfl rfl)
theorem dX2_runs_28 : decode cX2_runs 28 = .ok (.istore_n 2, 1) := dk_61 (dk_at dksX2_runs_1 5 rfl rfl)
theorem dX2_runs_29 : decode cX2_runs 29 = .ok (.aload_n 0, 1) := dk_42 (dk_at dksX2_runs_1 6 rfl rfl)
theorem dX2_runs_30 : decode cX2_runs 30 = .ok (.iload_n 1, 1) := dk_27 (dk_at dksX2_runs_1 7 rfl rfl)
theorem dX2_runs_31 : decode cX2_runs 31 = .ok (.invokevirtual 208, 3) := dk_182 0 208 (dk_at dksX2_runs_1 8 rfl rfl)
theorem dX2_runs_34 : decode cX2_runs 34 = .ok (.getfield 63, 3) := dk_180 0 63 (dk_at dksX2_runs_1 11 rfl rfl)
theorem dX2_runs_37 : decode cX2_runs 37 = .ok (.iconst 0, 1) := dk_3 (dk_at dksX2_runs_1 14 rfl rfl)
theorem dX2_runs_38 : decode cX2_runs 38 = .ok (.iaload, 1) := dk_46 (dk_at dksX2_runs_1 15 rfl rfl)
theorem dX2_runs_39 : decode cX2_runs 39 = .ok (.iload_n 2, 1) := dk_28 (dk_at dksX2_runs_1 16 rfl rfl)
theorem dX2_runs_40 : decode cX2_runs 40 = .ok (.isub, 1) := dk_100 (dk_at dksX2_runs_1 17 rfl rfl)
theorem dX2_runs_41 : decode cX2_runs 41 = .ok (.ireturn, 1) := dk_172 (dk_at dksX2_runs_1 18 rfl rfl)
def dkwX2_behind_0 : List UInt8 := [3, 61, 28, 27, 162, 0, 13, 42, 182, 0, 201, 132, 2, 1, 167, 255, 244, 42, 176]
abbrev dktX2_behind_0 : List UInt8 := dkwX2_behind_0 ++ []
theorem dksX2_behind_0 : cX2_behind.data.toList.drop 0 = dktX2_behind_0 := by decide +kernel
theorem dX2_behind_0 : decode cX2_behind 0 = .ok (.iconst 0, 1) := dk_3 (dk_at dksX2_behind_0 0 rfl rfl)
theorem dX2_behind_1 : decode cX2_behind 1 = .ok (.istore_n 2, 1) := dk_61 (dk_at dksX2_behind_0 1 rfl rfl)
theorem dX2_behind_2 : decode cX2_behind 2 = .ok (.iload_n 2, 1) := dk_28 (dk_at dksX2_behind_0 2 rfl rfl)
theorem dX2_behind_3 : decode cX2_behind 3 = .ok (.iload_n 1, 1) := dk_27 (dk_at dksX2_behind_0 3 rfl rfl)
theorem dX2_behind_4 : decode cX2_behind 4 = .ok (.if_icmp .ge 13, 3) := dk_162 0 13 (dk_at dksX2_behind_0 4 rfl rfl)
theorem dX2_behind_7 : decode cX2_behind 7 = .ok (.aload_n 0, 1) := dk_42 (dk_at dksX2_behind_0 7 rfl rfl)
theorem dX2_behind_8 : decode cX2_behind 8 = .ok (.invokevirtual 201, 3) := dk_182 0 201 (dk_at dksX2_behind_0 8 rfl rfl)
theorem dX2_behind_11 : decode cX2_behind 11 = .ok (.iinc 2 1, 3) := dk_132 2 1 (dk_at dksX2_behind_0 11 rfl rfl)
theorem dX2_behind_14 : decode cX2_behind 14 = .ok (.goto (-12), 3) := dk_167 255 244 (dk_at dksX2_behind_0 14 rfl rfl)
theorem dX2_behind_17 : decode cX2_behind 17 = .ok (.aload_n 0, 1) := dk_42 (dk_at dksX2_behind_0 17 rfl rfl)
theorem dX2_behind_18 : decode cX2_behind 18 = .ok (.areturn, 1) := dk_176 (dk_at dksX2_behind_0 18 rfl rfl)
def dkwX2_passes_7 : List UInt8 := [182, 0, 198, 132, 2, 1, 167, 255, 197, 42, 89, 180, 0, 35, 4, 96, 181, 0, 35, 177]
abbrev dktX2_passes_7 : List UInt8 := dkwX2_passes_7 ++ []
def dkwX2_passes_6 : List UInt8 := [182, 0, 198, 167, 0, 22, 27, 153, 0, 18, 42, 180, 0, 75, 28, 51, 154, 0, 9, 42, 28, 7]
abbrev dktX2_passes_6 : List UInt8 := dkwX2_passes_6 ++ dktX2_passes_7
def dkwX2_passes_5 : List UInt8 := [28, 182, 0, 123, 154, 0, 6, 167, 0, 40, 42, 180, 0, 59, 28, 51, 153, 0, 12, 42, 28, 8]
abbrev dktX2_passes_5 : List UInt8 := dkwX2_passes_5 ++ dktX2_passes_6
def dkwX2_passes_4 : List UInt8 := [180, 0, 44, 112, 154, 0, 7, 4, 167, 0, 4, 3, 60, 3, 61, 28, 42, 180, 0, 14, 162, 0, 57, 42]
abbrev dktX2_passes_4 : List UInt8 := dkwX2_passes_4 ++ dktX2_passes_5
def dkwX2_passes_3 : List UInt8 := [92, 46, 42, 42, 180, 0, 35, 182, 0, 130, 184, 0, 119, 96, 79, 42, 180, 0, 35, 4, 96, 42]
abbrev dktX2_passes_3 : List UInt8 := dkwX2_passes_3 ++ dktX2_passes_4
def dkwX2_passes_2 : List UInt8 := [153, 0, 12, 42, 42, 27, 182, 0, 89, 182, 0, 195, 132, 1, 1, 167, 255, 218, 42, 180, 0, 63, 16, 8]
abbrev dktX2_passes_2 : List UInt8 := dkwX2_passes_2 ++ dktX2_passes_3
def dkwX2_passes_1 : List UInt8 := [60, 27, 42, 180, 0, 31, 182, 0, 85, 162, 0, 33, 42, 27, 182, 0, 89, 42, 180, 0, 35, 182, 0, 192]
abbrev dktX2_passes_1 : List UInt8 := dkwX2_passes_1 ++ dktX2_passes_2
def dkwX2_passes_0 : List UInt8 := [3, 60, 27, 42, 180, 0, 14, 162, 0, 16, 42, 180, 0, 75, 27, 3, 84, 132, 1, 1, 167, 255, 238, 3]
abbrev dktX2_passes_0 : List UInt8 := dkwX2_passes_0 ++ dktX2_passes_1
theorem dksX2_passes_0 : cX2_passes.data.toList.drop 0 = dktX2_passes_0 := by decide +kernel
theorem dksX2_passes_1 : cX2_passes.data.toList.drop 24 = dktX2_passes_1 := dk_seg dksX2_passes_0 24 rfl rfl
theorem dksX2_passes_2 : cX2_passes.data.toList.drop 48 = dktX2_passes_2 := dk_seg dksX2_passes_1 24 rfl rfl
theorem dksX2_passes_3 : cX2_passes.data.toList.drop 72 = dktX2_passes_3 := dk_seg dksX2_passes_2 24 rfl rfl
theorem dksX2_passes_4 : cX2_passes.data.toList.drop 94 = dktX2_passes_4 := dk_seg dksX2_passes_3 22 rfl rfl
theorem dksX2_passes_5 : cX2_passes.data.toList.drop 118 = dktX2_passes_5 := dk_seg dksX2_passes_4 24 rfl rfl
theorem dksX2_passes_6 : cX2_passes.data.toList.drop 140 = dktX2_passes_6 := dk_seg dksX2_passes_5 22 rfl rfl
theorem dksX2_passes_7 : cX2_passes.data.toList.drop 162 = dktX2_passes_7 := dk_seg dksX2_passes_6 22 rfl rfl
theorem dX2_passes_0 : decode cX2_passes 0 = .ok (.iconst 0, 1) := dk_3 (dk_at dksX2_passes_0 0 rfl rfl)
theorem dX2_passes_1 : decode cX2_passes 1 = .ok (.istore_n 1, 1) := dk_60 (dk_at dksX2_passes_0 1 rfl rfl)
theorem dX2_passes_2 : decode cX2_passes 2 = .ok (.iload_n 1, 1) := dk_27 (dk_at dksX2_passes_0 2 rfl rfl)
theorem dX2_passes_3 : decode cX2_passes 3 = .ok (.aload_n 0, 1) := dk_42 (dk_at dksX2_passes_0 3 rfl rfl)
theorem dX2_passes_4 : decode cX2_passes 4 = .ok (.getfield 14, 3) := dk_180 0 14 (dk_at dksX2_passes_0 4 rfl rfl)
theorem dX2_passes_7 : decode cX2_passes 7 = .ok (.if_icmp .ge 16, 3) := dk_162 0 16 (dk_at dksX2_passes_0 7 rfl rfl)
theorem dX2_passes_10 : decode cX2_passes 10 = .ok (.aload_n 0, 1) := dk_42 (dk_at dksX2_passes_0 10 rfl rfl)
theorem dX2_passes_11 : decode cX2_passes 11 = .ok (.getfield 75, 3) := dk_180 0 75 (dk_at dksX2_passes_0 11 rfl rfl)
theorem dX2_passes_14 : decode cX2_passes 14 = .ok (.iload_n 1, 1) := dk_27 (dk_at dksX2_passes_0 14 rfl rfl)
theorem dX2_passes_15 : decode cX2_passes 15 = .ok (.iconst 0, 1) := dk_3 (dk_at dksX2_passes_0 15 rfl rfl)
theorem dX2_passes_16 : decode cX2_passes 16 = .ok (.bastore, 1) := dk_84 (dk_at dksX2_passes_0 16 rfl rfl)
theorem dX2_passes_17 : decode cX2_passes 17 = .ok (.iinc 1 1, 3) := dk_132 1 1 (dk_at dksX2_passes_0 17 rfl rfl)
theorem dX2_passes_20 : decode cX2_passes 20 = .ok (.goto (-18), 3) := dk_167 255 238 (dk_at dksX2_passes_0 20 rfl rfl)
theorem dX2_passes_23 : decode cX2_passes 23 = .ok (.iconst 0, 1) := dk_3 (dk_at dksX2_passes_0 23 rfl rfl)
theorem dX2_passes_24 : decode cX2_passes 24 = .ok (.istore_n 1, 1) := dk_60 (dk_at dksX2_passes_1 0 rfl rfl)
theorem dX2_passes_25 : decode cX2_passes 25 = .ok (.iload_n 1, 1) := dk_27 (dk_at dksX2_passes_1 1 rfl rfl)
theorem dX2_passes_26 : decode cX2_passes 26 = .ok (.aload_n 0, 1) := dk_42 (dk_at dksX2_passes_1 2 rfl rfl)
theorem dX2_passes_27 : decode cX2_passes 27 = .ok (.getfield 31, 3) := dk_180 0 31 (dk_at dksX2_passes_1 3 rfl rfl)
theorem dX2_passes_30 : decode cX2_passes 30 = .ok (.invokevirtual 85, 3) := dk_182 0 85 (dk_at dksX2_passes_1 6 rfl rfl)
theorem dX2_passes_33 : decode cX2_passes 33 = .ok (.if_icmp .ge 33, 3) := dk_162 0 33 (dk_at dksX2_passes_1 9 rfl rfl)
theorem dX2_passes_36 : decode cX2_passes 36 = .ok (.aload_n 0, 1) := dk_42 (dk_at dksX2_passes_1 12 rfl rfl)
theorem dX2_passes_37 : decode cX2_passes 37 = .ok (.iload_n 1, 1) := dk_27 (dk_at dksX2_passes_1 13 rfl rfl)
theorem dX2_passes_38 : decode cX2_passes 38 = .ok (.invokevirtual 89, 3) := dk_182 0 89 (dk_at dksX2_passes_1 14 rfl rfl)
theorem dX2_passes_41 : decode cX2_passes 41 = .ok (.aload_n 0, 1) := dk_42 (dk_at dksX2_passes_1 17 rfl rfl)
theorem dX2_passes_42 : decode cX2_passes 42 = .ok (.getfield 35, 3) := dk_180 0 35 (dk_at dksX2_passes_1 18 rfl rfl)
theorem dX2_passes_45 : decode cX2_passes 45 = .ok (.invokevirtual 192, 3) := dk_182 0 192 (dk_at dksX2_passes_1 21 rfl rfl)
theorem dX2_passes_48 : decode cX2_passes 48 = .ok (.ifCond .eq 12, 3) := dk_153 0 12 (dk_at dksX2_passes_2 0 rfl rfl)
theorem dX2_passes_51 : decode cX2_passes 51 = .ok (.aload_n 0, 1) := dk_42 (dk_at dksX2_passes_2 3 rfl rfl)
theorem dX2_passes_52 : decode cX2_passes 52 = .ok (.aload_n 0, 1) := dk_42 (dk_at dksX2_passes_2 4 rfl rfl)
theorem dX2_passes_53 : decode cX2_passes 53 = .ok (.iload_n 1, 1) := dk_27 (dk_at dksX2_passes_2 5 rfl rfl)
theorem dX2_passes_54 : decode cX2_passes 54 = .ok (.invokevirtual 89, 3) := dk_182 0 89 (dk_at dksX2_passes_2 6 rfl rfl)
theorem dX2_passes_57 : decode cX2_passes 57 = .ok (.invokevirtual 195, 3) := dk_182 0 195 (dk_at dksX2_passes_2 9 rfl rfl)
theorem dX2_passes_60 : decode cX2_passes 60 = .ok (.iinc 1 1, 3) := dk_132 1 1 (dk_at dksX2_passes_2 12 rfl rfl)
theorem dX2_passes_63 : decode cX2_passes 63 = .ok (.goto (-38), 3) := dk_167 255 218 (dk_at dksX2_passes_2 15 rfl rfl)
theorem dX2_passes_66 : decode cX2_passes 66 = .ok (.aload_n 0, 1) := dk_42 (dk_at dksX2_passes_2 18 rfl rfl)
theorem dX2_passes_67 : decode cX2_passes 67 = .ok (.getfield 63, 3) := dk_180 0 63 (dk_at dksX2_passes_2 19 rfl rfl)
theorem dX2_passes_70 : decode cX2_passes 70 = .ok (.bipush 8, 2) := dk_16 8 (dk_at dksX2_passes_2 22 rfl rfl)
theorem dX2_passes_72 : decode cX2_passes 72 = .ok (.dup2, 1) := dk_92 (dk_at dksX2_passes_3 0 rfl rfl)
theorem dX2_passes_73 : decode cX2_passes 73 = .ok (.iaload, 1) := dk_46 (dk_at dksX2_passes_3 1 rfl rfl)
theorem dX2_passes_74 : decode cX2_passes 74 = .ok (.aload_n 0, 1) := dk_42 (dk_at dksX2_passes_3 2 rfl rfl)
theorem dX2_passes_75 : decode cX2_passes 75 = .ok (.aload_n 0, 1) := dk_42 (dk_at dksX2_passes_3 3 rfl rfl)
theorem dX2_passes_76 : decode cX2_passes 76 = .ok (.getfield 35, 3) := dk_180 0 35 (dk_at dksX2_passes_3 4 rfl rfl)
theorem dX2_passes_79 : decode cX2_passes 79 = .ok (.invokevirtual 130, 3) := dk_182 0 130 (dk_at dksX2_passes_3 7 rfl rfl)
theorem dX2_passes_82 : decode cX2_passes 82 = .ok (.invokestatic 119, 3) := dk_184 0 119 (dk_at dksX2_passes_3 10 rfl rfl)
theorem dX2_passes_85 : decode cX2_passes 85 = .ok (.iadd, 1) := dk_96 (dk_at dksX2_passes_3 13 rfl rfl)
theorem dX2_passes_86 : decode cX2_passes 86 = .ok (.iastore, 1) := dk_79 (dk_at dksX2_passes_3 14 rfl rfl)
theorem dX2_passes_87 : decode cX2_passes 87 = .ok (.aload_n 0, 1) := dk_42 (dk_at dksX2_passes_3 15 rfl rfl)
theorem dX2_passes_88 : decode cX2_passes 88 = .ok (.getfield 35, 3) := dk_180 0 35 (dk_at dksX2_passes_3 16 rfl rfl)
theorem dX2_passes_91 : decode cX2_passes 91 = .ok (.iconst 1, 1) := dk_4 (dk_at dksX2_passes_3 19 rfl rfl)
theorem dX2_passes_92 : decode cX2_passes 92 = .ok (.iadd, 1) := dk_96 (dk_at dksX2_passes_3 20 rfl rfl)
theorem dX2_passes_93 : decode cX2_passes 93 = .ok (.aload_n 0, 1) := dk_42 (dk_at dksX2_passes_3 21 rfl rfl)
theorem dX2_passes_94 : decode cX2_passes 94 = .ok (.getfield 44, 3) := dk_180 0 44 (dk_at dksX2_passes_4 0 rfl rfl)
theorem dX2_passes_97 : decode cX2_passes 97 = .ok (.irem, 1) := dk_112 (dk_at dksX2_passes_4 3 rfl rfl)
theorem dX2_passes_98 : decode cX2_passes 98 = .ok (.ifCond .ne 7, 3) := dk_154 0 7 (dk_at dksX2_passes_4 4 rfl rfl)
theorem dX2_passes_101 : decode cX2_passes 101 = .ok (.iconst 1, 1) := dk_4 (dk_at dksX2_passes_4 7 rfl rfl)
theorem dX2_passes_102 : decode cX2_passes 102 = .ok (.goto 4, 3) := dk_167 0 4 (dk_at dksX2_passes_4 8 rfl rfl)
theorem dX2_passes_105 : decode cX2_passes 105 = .ok (.iconst 0, 1) := dk_3 (dk_at dksX2_passes_4 11 rfl rfl)
theorem dX2_passes_106 : decode cX2_passes 106 = .ok (.istore_n 1, 1) := dk_60 (dk_at dksX2_passes_4 12 rfl rfl)
theorem dX2_passes_107 : decode cX2_passes 107 = .ok (.iconst 0, 1) := dk_3 (dk_at dksX2_passes_4 13 rfl rfl)
theorem dX2_passes_108 : decode cX2_passes 108 = .ok (.istore_n 2, 1) := dk_61 (dk_at dksX2_passes_4 14 rfl rfl)
theorem dX2_passes_109 : decode cX2_passes 109 = .ok (.iload_n 2, 1) := dk_28 (dk_at dksX2_passes_4 15 rfl rfl)
theorem dX2_passes_110 : decode cX2_passes 110 = .ok (.aload_n 0, 1) := dk_42 (dk_at dksX2_passes_4 16 rfl rfl)
theorem dX2_passes_111 : decode cX2_passes 111 = .ok (.getfield 14, 3) := dk_180 0 14 (dk_at dksX2_passes_4 17 rfl rfl)
theorem dX2_passes_114 : decode cX2_passes 114 = .ok (.if_icmp .ge 57, 3) := dk_162 0 57 (dk_at dksX2_passes_4 20 rfl rfl)
theorem dX2_passes_117 : decode cX2_passes 117 = .ok (.aload_n 0, 1) := dk_42 (dk_at dksX2_passes_4 23 rfl rfl)
theorem dX2_passes_118 : decode cX2_passes 118 = .ok (.iload_n 2, 1) := dk_28 (dk_at dksX2_passes_5 0 rfl rfl)
theorem dX2_passes_119 : decode cX2_passes 119 = .ok (.invokevirtual 123, 3) := dk_182 0 123 (dk_at dksX2_passes_5 1 rfl rfl)
theorem dX2_passes_122 : decode cX2_passes 122 = .ok (.ifCond .ne 6, 3) := dk_154 0 6 (dk_at dksX2_passes_5 4 rfl rfl)
theorem dX2_passes_125 : decode cX2_passes 125 = .ok (.goto 40, 3) := dk_167 0 40 (dk_at dksX2_passes_5 7 rfl rfl)
theorem dX2_passes_128 : decode cX2_passes 128 = .ok (.aload_n 0, 1) := dk_42 (dk_at dksX2_passes_5 10 rfl rfl)
theorem dX2_passes_129 : decode cX2_passes 129 = .ok (.getfield 59, 3) := dk_180 0 59 (dk_at dksX2_passes_5 11 rfl rfl)
theorem dX2_passes_132 : decode cX2_passes 132 = .ok (.iload_n 2, 1) := dk_28 (dk_at dksX2_passes_5 14 rfl rfl)
theorem dX2_passes_133 : decode cX2_passes 133 = .ok (.baload, 1) := dk_51 (dk_at dksX2_passes_5 15 rfl rfl)
theorem dX2_passes_134 : decode cX2_passes 134 = .ok (.ifCond .eq 12, 3) := dk_153 0 12 (dk_at dksX2_passes_5 16 rfl rfl)
theorem dX2_passes_137 : decode cX2_passes 137 = .ok (.aload_n 0, 1) := dk_42 (dk_at dksX2_passes_5 19 rfl rfl)
theorem dX2_passes_138 : decode cX2_passes 138 = .ok (.iload_n 2, 1) := dk_28 (dk_at dksX2_passes_5 20 rfl rfl)
theorem dX2_passes_139 : decode cX2_passes 139 = .ok (.iconst 5, 1) := dk_8 (dk_at dksX2_passes_5 21 rfl rfl)
theorem dX2_passes_140 : decode cX2_passes 140 = .ok (.invokevirtual 198, 3) := dk_182 0 198 (dk_at dksX2_passes_6 0 rfl rfl)
theorem dX2_passes_143 : decode cX2_passes 143 = .ok (.goto 22, 3) := dk_167 0 22 (dk_at dksX2_passes_6 3 rfl rfl)
theorem dX2_passes_146 : decode cX2_passes 146 = .ok (.iload_n 1, 1) := dk_27 (dk_at dksX2_passes_6 6 rfl rfl)
theorem dX2_passes_147 : decode cX2_passes 147 = .ok (.ifCond .eq 18, 3) := dk_153 0 18 (dk_at dksX2_passes_6 7 rfl rfl)
theorem dX2_passes_150 : decode cX2_passes 150 = .ok (.aload_n 0, 1) := dk_42 (dk_at dksX2_passes_6 10 rfl rfl)
theorem dX2_passes_151 : decode cX2_passes 151 = .ok (.getfield 75, 3) := dk_180 0 75 (dk_at dksX2_passes_6 11 rfl rfl)
theorem dX2_passes_154 : decode cX2_passes 154 = .ok (.iload_n 2, 1) := dk_28 (dk_at dksX2_passes_6 14 rfl rfl)
theorem dX2_passes_155 : decode cX2_passes 155 = .ok (.baload, 1) := dk_51 (dk_at dksX2_passes_6 15 rfl rfl)
theorem dX2_passes_156 : decode cX2_passes 156 = .ok (.ifCond .ne 9, 3) := dk_154 0 9 (dk_at dksX2_passes_6 16 rfl rfl)
theorem dX2_passes_159 : decode cX2_passes 159 = .ok (.aload_n 0, 1) := dk_42 (dk_at dksX2_passes_6 19 rfl rfl)
theorem dX2_passes_160 : decode cX2_passes 160 = .ok (.iload_n 2, 1) := dk_28 (dk_at dksX2_passes_6 20 rfl rfl)
theorem dX2_passes_161 : decode cX2_passes 161 = .ok (.iconst 4, 1) := dk_7 (dk_at dksX2_passes_6 21 rfl rfl)
theorem dX2_passes_162 : decode cX2_passes 162 = .ok (.invokevirtual 198, 3) := dk_182 0 198 (dk_at dksX2_passes_7 0 rfl rfl)
theorem dX2_passes_165 : decode cX2_passes 165 = .ok (.iinc 2 1, 3) := dk_132 2 1 (dk_at dksX2_passes_7 3 rfl rfl)
theorem dX2_passes_168 : decode cX2_passes 168 = .ok (.goto (-59), 3) := dk_167 255 197 (dk_at dksX2_passes_7 6 rfl rfl)
theorem dX2_passes_171 : decode cX2_passes 171 = .ok (.aload_n 0, 1) := dk_42 (dk_at dksX2_passes_7 9 rfl rfl)
theorem dX2_passes_172 : decode cX2_passes 172 = .ok (.dup, 1) := dk_89 (dk_at dksX2_passes_7 10 rfl rfl)
theorem dX2_passes_173 : decode cX2_passes 173 = .ok (.getfield 35, 3) := dk_180 0 35 (dk_at dksX2_passes_7 11 rfl rfl)
theorem dX2_passes_176 : decode cX2_passes 176 = .ok (.iconst 1, 1) := dk_4 (dk_at dksX2_passes_7 14 rfl rfl)
theorem dX2_passes_177 : decode cX2_passes 177 = .ok (.iadd, 1) := dk_96 (dk_at dksX2_passes_7 15 rfl rfl)
theorem dX2_passes_178 : decode cX2_passes 178 = .ok (.putfield 35, 3) := dk_181 0 35 (dk_at dksX2_passes_7 16 rfl rfl)
theorem dX2_passes_181 : decode cX2_passes 181 = .ok (.return_, 1) := dk_177 (dk_at dksX2_passes_7 19 rfl rfl)
def dkwX2_walks_6 : List UInt8 := [180, 0, 63, 4, 92, 46, 29, 96, 79, 42, 180, 0, 63, 16, 11, 92, 46, 28, 96, 79, 177]
abbrev dktX2_walks_6 : List UInt8 := dkwX2_walks_6 ++ []
def dkwX2_walks_5 : List UInt8 := [181, 0, 186, 43, 89, 180, 0, 189, 29, 96, 181, 0, 189, 42, 180, 0, 63, 3, 92, 46, 4, 96, 79, 42]
abbrev dktX2_walks_5 : List UInt8 := dkwX2_walks_5 ++ dktX2_walks_6
def dkwX2_walks_4 : List UInt8 := [180, 0, 69, 21, 5, 46, 182, 0, 182, 132, 5, 1, 167, 255, 222, 43, 89, 180, 0, 186, 4, 96]
abbrev dktX2_walks_4 : List UInt8 := dkwX2_walks_4 ++ dktX2_walks_5
def dkwX2_walks_3 : List UInt8 := [54, 5, 21, 5, 29, 162, 0, 34, 42, 42, 180, 0, 69, 21, 5, 46, 182, 0, 123, 153, 0, 14, 42, 42]
abbrev dktX2_walks_3 : List UInt8 := dkwX2_walks_3 ++ dktX2_walks_4
def dkwX2_walks_2 : List UInt8 := [182, 0, 179, 182, 0, 148, 54, 5, 42, 180, 0, 69, 29, 21, 5, 79, 132, 3, 1, 167, 255, 223, 3]
abbrev dktX2_walks_2 : List UInt8 := dkwX2_walks_2 ++ dktX2_walks_3
def dkwX2_walks_1 : List UInt8 := [180, 0, 163, 182, 0, 137, 54, 5, 21, 5, 21, 4, 159, 0, 32, 42, 21, 5, 42, 43, 21, 5]
abbrev dktX2_walks_1 : List UInt8 := dkwX2_walks_1 ++ dktX2_walks_2
def dkwX2_walks_0 : List UInt8 := [42, 43, 178, 0, 166, 182, 0, 170, 61, 3, 62, 42, 43, 180, 0, 134, 182, 0, 137, 54, 4, 42, 43]
abbrev dktX2_walks_0 : List UInt8 := dkwX2_walks_0 ++ dktX2_walks_1
theorem dksX2_walks_0 : cX2_walks.data.toList.drop 0 = dktX2_walks_0 := by decide +kernel
theorem dksX2_walks_1 : cX2_walks.data.toList.drop 23 = dktX2_walks_1 := dk_seg dksX2_walks_0 23 rfl rfl
theorem dksX2_walks_2 : cX2_walks.data.toList.drop 45 = dktX2_walks_2 := dk_seg dksX2_walks_1 22 rfl rfl
theorem dksX2_walks_3 : cX2_walks.data.toList.drop 68 = dktX2_walks_3 := dk_seg dksX2_walks_2 23 rfl rfl
theorem dksX2_walks_4 : cX2_walks.data.toList.drop 92 = dktX2_walks_4 := dk_seg dksX2_walks_3 24 rfl rfl
theorem dksX2_walks_5 : cX2_walks.data.toList.drop 114 = dktX2_walks_5 := dk_seg dksX2_walks_4 22 rfl rfl
theorem dksX2_walks_6 : cX2_walks.data.toList.drop 138 = dktX2_walks_6 := dk_seg dksX2_walks_5 24 rfl rfl
theorem dX2_walks_0 : decode cX2_walks 0 = .ok (.aload_n 0, 1) := dk_42 (dk_at dksX2_walks_0 0 rfl rfl)
theorem dX2_walks_1 : decode cX2_walks 1 = .ok (.aload_n 1, 1) := dk_43 (dk_at dksX2_walks_0 1 rfl rfl)
theorem dX2_walks_2 : decode cX2_walks 2 = .ok (.getstatic 166, 3) := dk_178 0 166 (dk_at dksX2_walks_0 2 rfl rfl)
theorem dX2_walks_5 : decode cX2_walks 5 = .ok (.invokevirtual 170, 3) := dk_182 0 170 (dk_at dksX2_walks_0 5 rfl rfl)
theorem dX2_walks_8 : decode cX2_walks 8 = .ok (.istore_n 2, 1) := dk_61 (dk_at dksX2_walks_0 8 rfl rfl)
theorem dX2_walks_9 : decode cX2_walks 9 = .ok (.iconst 0, 1) := dk_3 (dk_at dksX2_walks_0 9 rfl rfl)
theorem dX2_walks_10 : decode cX2_walks 10 = .ok (.istore_n 3, 1) := dk_62 (dk_at dksX2_walks_0 10 rfl rfl)
theorem dX2_walks_11 : decode cX2_walks 11 = .ok (.aload_n 0, 1) := dk_42 (dk_at dksX2_walks_0 11 rfl rfl)
theorem dX2_walks_12 : decode cX2_walks 12 = .ok (.aload_n 1, 1) := dk_43 (dk_at dksX2_walks_0 12 rfl rfl)
theorem dX2_walks_13 : decode cX2_walks 13 = .ok (.getfield 134, 3) := dk_180 0 134 (dk_at dksX2_walks_0 13 rfl rfl)
theorem dX2_walks_16 : decode cX2_walks 16 = .ok (.invokevirtual 137, 3) := dk_182 0 137 (dk_at dksX2_walks_0 16 rfl rfl)
theorem dX2_walks_19 : decode cX2_walks 19 = .ok (.istore 4, 2) := dk_54 4 (dk_at dksX2_walks_0 19 rfl rfl)
theorem dX2_walks_21 : decode cX2_walks 21 = .ok (.aload_n 0, 1) := dk_42 (dk_at dksX2_walks_0 21 rfl rfl)
theorem dX2_walks_22 : decode cX2_walks 22 = .ok (.aload_n 1, 1) := dk_43 (dk_at dksX2_walks_0 22 rfl rfl)
theorem dX2_walks_23 : decode cX2_walks 23 = .ok (.getfield 163, 3) := dk_180 0 163 (dk_at dksX2_walks_1 0 rfl rfl)
theorem dX2_walks_26 : decode cX2_walks 26 = .ok (.invokevirtual 137, 3) := dk_182 0 137 (dk_at dksX2_walks_1 3 rfl rfl)
theorem dX2_walks_29 : decode cX2_walks 29 = .ok (.istore 5, 2) := dk_54 5 (dk_at dksX2_walks_1 6 rfl rfl)
theorem dX2_walks_31 : decode cX2_walks 31 = .ok (.iload 5, 2) := dk_21 5 (dk_at dksX2_walks_1 8 rfl rfl)
theorem dX2_walks_33 : decode cX2_walks 33 = .ok (.iload 4, 2) := dk_21 4 (dk_at dksX2_walks_1 10 rfl rfl)
theorem dX2_walks_35 : decode cX2_walks 35 = .ok (.if_icmp .eq 32, 3) := dk_159 0 32 (dk_at dksX2_walks_1 12 rfl rfl)
theorem dX2_walks_38 : decode cX2_walks 38 = .ok (.aload_n 0, 1) := dk_42 (dk_at dksX2_walks_1 15 rfl rfl)
theorem dX2_walks_39 : decode cX2_walks 39 = .ok (.iload 5, 2) := dk_21 5 (dk_at dksX2_walks_1 16 rfl rfl)
theorem dX2_walks_41 : decode cX2_walks 41 = .ok (.aload_n 0, 1) := dk_42 (dk_at dksX2_walks_1 18 rfl rfl)
theorem dX2_walks_42 : decode cX2_walks 42 = .ok (.aload_n 1, 1) := dk_43 (dk_at dksX2_walks_1 19 rfl rfl)
theorem dX2_walks_43 : decode cX2_walks 43 = .ok (.iload 5, 2) := dk_21 5 (dk_at dksX2_walks_1 20 rfl rfl)
theorem dX2_walks_45 : decode cX2_walks 45 = .ok (.invokevirtual 179, 3) := dk_182 0 179 (dk_at dksX2_walks_2 0 rfl rfl)
theorem dX2_walks_48 : decode cX2_walks 48 = .ok (.invokevirtual 148, 3) := dk_182 0 148 (dk_at dksX2_walks_2 3 rfl rfl)
theorem dX2_walks_51 : decode cX2_walks 51 = .ok (.istore 5, 2) := dk_54 5 (dk_at dksX2_walks_2 6 rfl rfl)
theorem dX2_walks_53 : decode cX2_walks 53 = .ok (.aload_n 0, 1) := dk_42 (dk_at dksX2_walks_2 8 rfl rfl)
theorem dX2_walks_54 : decode cX2_walks 54 = .ok (.getfield 69, 3) := dk_180 0 69 (dk_at dksX2_walks_2 9 rfl rfl)
theorem dX2_walks_57 : decode cX2_walks 57 = .ok (.iload_n 3, 1) := dk_29 (dk_at dksX2_walks_2 12 rfl rfl)
theorem dX2_walks_58 : decode cX2_walks 58 = .ok (.iload 5, 2) := dk_21 5 (dk_at dksX2_walks_2 13 rfl rfl)
theorem dX2_walks_60 : decode cX2_walks 60 = .ok (.iastore, 1) := dk_79 (dk_at dksX2_walks_2 15 rfl rfl)
theorem dX2_walks_61 : decode cX2_walks 61 = .ok (.iinc 3 1, 3) := dk_132 3 1 (dk_at dksX2_walks_2 16 rfl rfl)
theorem dX2_walks_64 : decode cX2_walks 64 = .ok (.goto (-33), 3) := dk_167 255 223 (dk_at dksX2_walks_2 19 rfl rfl)
theorem dX2_walks_67 : decode cX2_walks 67 = .ok (.iconst 0, 1) := dk_3 (dk_at dksX2_walks_2 22 rfl rfl)
theorem dX2_walks_68 : decode cX2_walks 68 = .ok (.istore 5, 2) := dk_54 5 (dk_at dksX2_walks_3 0 rfl rfl)
theorem dX2_walks_70 : decode cX2_walks 70 = .ok (.iload 5, 2) := dk_21 5 (dk_at dksX2_walks_3 2 rfl rfl)
theorem dX2_walks_72 : decode cX2_walks 72 = .ok (.iload_n 3, 1) := dk_29 (dk_at dksX2_walks_3 4 rfl rfl)
theorem dX2_walks_73 : decode cX2_walks 73 = .ok (.if_icmp .ge 34, 3) := dk_162 0 34 (dk_at dksX2_walks_3 5 rfl rfl)
theorem dX2_walks_76 : decode cX2_walks 76 = .ok (.aload_n 0, 1) := dk_42 (dk_at dksX2_walks_3 8 rfl rfl)
theorem dX2_walks_77 : decode cX2_walks 77 = .ok (.aload_n 0, 1) := dk_42 (dk_at dksX2_walks_3 9 rfl rfl)
theorem dX2_walks_78 : decode cX2_walks 78 = .ok (.getfield 69, 3) := dk_180 0 69 (dk_at dksX2_walks_3 10 rfl rfl)
theorem dX2_walks_81 : decode cX2_walks 81 = .ok (.iload 5, 2) := dk_21 5 (dk_at dksX2_walks_3 13 rfl rfl)
theorem dX2_walks_83 : decode cX2_walks 83 = .ok (.iaload, 1) := dk_46 (dk_at dksX2_walks_3 15 rfl rfl)
theorem dX2_walks_84 : decode cX2_walks 84 = .ok (.invokevirtual 123, 3) := dk_182 0 123 (dk_at dksX2_walks_3 16 rfl rfl)
theorem dX2_walks_87 : decode cX2_walks 87 = .ok (.ifCond .eq 14, 3) := dk_153 0 14 (dk_at dksX2_walks_3 19 rfl rfl)
theorem dX2_walks_90 : decode cX2_walks 90 = .ok (.aload_n 0, 1) := dk_42 (dk_at dksX2_walks_3 22 rfl rfl)
theorem dX2_walks_91 : decode cX2_walks 91 = .ok (.aload_n 0, 1) := dk_42 (dk_at dksX2_walks_3 23 rfl rfl)
theorem dX2_walks_92 : decode cX2_walks 92 = .ok (.getfield 69, 3) := dk_180 0 69 (dk_at dksX2_walks_4 0 rfl rfl)
theorem dX2_walks_95 : decode cX2_walks 95 = .ok (.iload 5, 2) := dk_21 5 (dk_at dksX2_walks_4 3 rfl rfl)
theorem dX2_walks_97 : decode cX2_walks 97 = .ok (.iaload, 1) := dk_46 (dk_at dksX2_walks_4 5 rfl rfl)
theorem dX2_walks_98 : decode cX2_walks 98 = .ok (.invokevirtual 182, 3) := dk_182 0 182 (dk_at dksX2_walks_4 6 rfl rfl)
theorem dX2_walks_101 : decode cX2_walks 101 = .ok (.iinc 5 1, 3) := dk_132 5 1 (dk_at dksX2_walks_4 9 rfl rfl)
theorem dX2_walks_104 : decode cX2_walks 104 = .ok (.goto (-34), 3) := dk_167 255 222 (dk_at dksX2_walks_4 12 rfl rfl)
theorem dX2_walks_107 : decode cX2_walks 107 = .ok (.aload_n 1, 1) := dk_43 (dk_at dksX2_walks_4 15 rfl rfl)
theorem dX2_walks_108 : decode cX2_walks 108 = .ok (.dup, 1) := dk_89 (dk_at dksX2_walks_4 16 rfl rfl)
theorem dX2_walks_109 : decode cX2_walks 109 = .ok (.getfield 186, 3) := dk_180 0 186 (dk_at dksX2_walks_4 17 rfl rfl)
theorem dX2_walks_112 : decode cX2_walks 112 = .ok (.iconst 1, 1) := dk_4 (dk_at dksX2_walks_4 20 rfl rfl)
theorem dX2_walks_113 : decode cX2_walks 113 = .ok (.iadd, 1) := dk_96 (dk_at dksX2_walks_4 21 rfl rfl)
theorem dX2_walks_114 : decode cX2_walks 114 = .ok (.putfield 186, 3) := dk_181 0 186 (dk_at dksX2_walks_5 0 rfl rfl)
theorem dX2_walks_117 : decode cX2_walks 117 = .ok (.aload_n 1, 1) := dk_43 (dk_at dksX2_walks_5 3 rfl rfl)
theorem dX2_walks_118 : decode cX2_walks 118 = .ok (.dup, 1) := dk_89 (dk_at dksX2_walks_5 4 rfl rfl)
theorem dX2_walks_119 : decode cX2_walks 119 = .ok (.getfield 189, 3) := dk_180 0 189 (dk_at dksX2_walks_5 5 rfl rfl)
theorem dX2_walks_122 : decode cX2_walks 122 = .ok (.iload_n 3, 1) := dk_29 (dk_at dksX2_walks_5 8 rfl rfl)
theorem dX2_walks_123 : decode cX2_walks 123 = .ok (.iadd, 1) := dk_96 (dk_at dksX2_walks_5 9 rfl rfl)
theorem dX2_walks_124 : decode cX2_walks 124 = .ok (.putfield 189, 3) := dk_181 0 189 (dk_at dksX2_walks_5 10 rfl rfl)
theorem dX2_walks_127 : decode cX2_walks 127 = .ok (.aload_n 0, 1) := dk_42 (dk_at dksX2_walks_5 13 rfl rfl)
theorem dX2_walks_128 : decode cX2_walks 128 = .ok (.getfield 63, 3) := dk_180 0 63 (dk_at dksX2_walks_5 14 rfl rfl)
theorem dX2_walks_131 : decode cX2_walks 131 = .ok (.iconst 0, 1) := dk_3 (dk_at dksX2_walks_5 17 rfl rfl)
theorem dX2_walks_132 : decode cX2_walks 132 = .ok (.dup2, 1) := dk_92 (dk_at dksX2_walks_5 18 rfl rfl)
theorem dX2_walks_133 : decode cX2_walks 133 = .ok (.iaload, 1) := dk_46 (dk_at dksX2_walks_5 19 rfl rfl)
theorem dX2_walks_134 : decode cX2_walks 134 = .ok (.iconst 1, 1) := dk_4 (dk_at dksX2_walks_5 20 rfl rfl)
theorem dX2_walks_135 : decode cX2_walks 135 = .ok (.iadd, 1) := dk_96 (dk_at dksX2_walks_5 21 rfl rfl)
theorem dX2_walks_136 : decode cX2_walks 136 = .ok (.iastore, 1) := dk_79 (dk_at dksX2_walks_5 22 rfl rfl)
theorem dX2_walks_137 : decode cX2_walks 137 = .ok (.aload_n 0, 1) := dk_42 (dk_at dksX2_walks_5 23 rfl rfl)
theorem dX2_walks_138 : decode cX2_walks 138 = .ok (.getfield 63, 3) := dk_180 0 63 (dk_at dksX2_walks_6 0 rfl rfl)
theorem dX2_walks_141 : decode cX2_walks 141 = .ok (.iconst 1, 1) := dk_4 (dk_at dksX2_walks_6 3 rfl rfl)
theorem dX2_walks_142 : decode cX2_walks 142 = .ok (.dup2, 1) := dk_92 (dk_at dksX2_walks_6 4 rfl rfl)
theorem dX2_walks_143 : decode cX2_walks 143 = .ok (.iaload, 1) := dk_46 (dk_at dksX2_walks_6 5 rfl rfl)
theorem dX2_walks_144 : decode cX2_walks 144 = .ok (.iload_n 3, 1) := dk_29 (dk_at dksX2_walks_6 6 rfl rfl)
theorem dX2_walks_145 : decode cX2_walks 145 = .ok (.iadd, 1) := dk_96 (dk_at dksX2_walks_6 7 rfl rfl)
theorem dX2_walks_146 : decode cX2_walks 146 = .ok (.iastore, 1) := dk_79 (dk_at dksX2_walks_6 8 rfl rfl)
theorem dX2_walks_147 : decode cX2_walks 147 = .ok (.aload_n 0, 1) := dk_42 (dk_at dksX2_walks_6 9 rfl rfl)
theorem dX2_walks_148 : decode cX2_walks 148 = .ok (.getfield 63, 3) := dk_180 0 63 (dk_at dksX2_walks_6 10 rfl rfl)
theorem dX2_walks_151 : decode cX2_walks 151 = .ok (.bipush 11, 2) := dk_16 11 (dk_at dksX2_walks_6 13 rfl rfl)
theorem dX2_walks_153 : decode cX2_walks 153 = .ok (.dup2, 1) := dk_92 (dk_at dksX2_walks_6 15 rfl rfl)
theorem dX2_walks_154 : decode cX2_walks 154 = .ok (.iaload, 1) := dk_46 (dk_at dksX2_walks_6 16 rfl rfl)
theorem dX2_walks_155 : decode cX2_walks 155 = .ok (.iload_n 2, 1) := dk_28 (dk_at dksX2_walks_6 17 rfl rfl)
theorem dX2_walks_156 : decode cX2_walks 156 = .ok (.iadd, 1) := dk_96 (dk_at dksX2_walks_6 18 rfl rfl)
theorem dX2_walks_157 : decode cX2_walks 157 = .ok (.iastore, 1) := dk_79 (dk_at dksX2_walks_6 19 rfl rfl)
theorem dX2_walks_158 : decode cX2_walks 158 = .ok (.return_, 1) := dk_177 (dk_at dksX2_walks_6 20 rfl rfl)
def dkwX2_treads_3 : List UInt8 := [79, 42, 180, 0, 63, 6, 92, 46, 28, 96, 79, 177]
abbrev dktX2_treads_3 : List UInt8 := dkwX2_treads_3 ++ []
def dkwX2_treads_2 : List UInt8 := [92, 46, 4, 96, 79, 42, 180, 0, 22, 27, 42, 180, 0, 35, 79, 42, 180, 0, 63, 5, 92, 46, 4, 96]
abbrev dktX2_treads_2 : List UInt8 := dkwX2_treads_2 ++ dktX2_treads_3
def dkwX2_treads_1 : List UInt8 := [5, 167, 0, 4, 4, 184, 0, 158, 61, 42, 180, 0, 18, 27, 92, 46, 28, 100, 79, 42, 180, 0, 56, 27]
abbrev dktX2_treads_1 : List UInt8 := dkwX2_treads_1 ++ dktX2_treads_2
def dkwX2_treads_0 : List UInt8 := [42, 180, 0, 75, 27, 4, 84, 42, 180, 0, 18, 27, 46, 42, 42, 180, 0, 35, 182, 0, 130, 153, 0, 7]
abbrev dktX2_treads_0 : List UInt8 := dkwX2_treads_0 ++ dktX2_treads_1
theorem dksX2_treads_0 : cX2_treads.data.toList.drop 0 = dktX2_treads_0 := by decide +kernel
theorem dksX2_treads_1 : cX2_treads.data.toList.drop 24 = dktX2_treads_1 := dk_seg dksX2_treads_0 24 rfl rfl
theorem dksX2_treads_2 : cX2_treads.data.toList.drop 48 = dktX2_treads_2 := dk_seg dksX2_treads_1 24 rfl rfl
theorem dksX2_treads_3 : cX2_treads.data.toList.drop 72 = dktX2_treads_3 := dk_seg dksX2_treads_2 24 rfl rfl
theorem dX2_treads_0 : decode cX2_treads 0 = .ok (.aload_n 0, 1) := dk_42 (dk_at dksX2_treads_0 0 rfl rfl)
theorem dX2_treads_1 : decode cX2_treads 1 = .ok (.getfield 75, 3) := dk_180 0 75 (dk_at dksX2_treads_0 1 rfl rfl)
theorem dX2_treads_4 : decode cX2_treads 4 = .ok (.iload_n 1, 1) := dk_27 (dk_at dksX2_treads_0 4 rfl rfl)
theorem dX2_treads_5 : decode cX2_treads 5 = .ok (.iconst 1, 1) := dk_4 (dk_at dksX2_treads_0 5 rfl rfl)
theorem dX2_treads_6 : decode cX2_treads 6 = .ok (.bastore, 1) := dk_84 (dk_at dksX2_treads_0 6 rfl rfl)
theorem dX2_treads_7 : decode cX2_treads 7 = .ok (.aload_n 0, 1) := dk_42 (dk_at dksX2_treads_0 7 rfl rfl)
theorem dX2_treads_8 : decode cX2_treads 8 = .ok (.getfield 18, 3) := dk_180 0 18 (dk_at dksX2_treads_0 8 rfl rfl)
theorem dX2_treads_11 : decode cX2_treads 11 = .ok (.iload_n 1, 1) := dk_27 (dk_at dksX2_treads_0 11 rfl rfl)
theorem dX2_treads_12 : decode cX2_treads 12 = .ok (.iaload, 1) := dk_46 (dk_at dksX2_treads_0 12 rfl rfl)
theorem dX2_treads_13 : decode cX2_treads 13 = .ok (.aload_n 0, 1) := dk_42 (dk_at dksX2_treads_0 13 rfl rfl)
theorem dX2_treads_14 : decode cX2_treads 14 = .ok (.aload_n 0, 1) := dk_42 (dk_at dksX2_treads_0 14 rfl rfl)
theorem dX2_treads_15 : decode cX2_treads 15 = .ok (.getfield 35, 3) := dk_180 0 35 (dk_at dksX2_treads_0 15 rfl rfl)
theorem dX2_treads_18 : decode cX2_treads 18 = .ok (.invokevirtual 130, 3) := dk_182 0 130 (dk_at dksX2_treads_0 18 rfl rfl)
theorem dX2_treads_21 : decode cX2_treads 21 = .ok (.ifCond .eq 7, 3) := dk_153 0 7 (dk_at dksX2_treads_0 21 rfl rfl)
theorem dX2_treads_24 : decode cX2_treads 24 = .ok (.iconst 2, 1) := dk_5 (dk_at dksX2_treads_1 0 rfl rfl)
theorem dX2_treads_25 : decode cX2_treads 25 = .ok (.goto 4, 3) := dk_167 0 4 (dk_at dksX2_treads_1 1 rfl rfl)
theorem dX2_treads_28 : decode cX2_treads 28 = .ok (.iconst 1, 1) := dk_4 (dk_at dksX2_treads_1 4 rfl rfl)
theorem dX2_treads_29 : decode cX2_treads 29 = .ok (.invokestatic 158, 3) := dk_184 0 158 (dk_at dksX2_treads_1 5 rfl rfl)
theorem dX2_treads_32 : decode cX2_treads 32 = .ok (.istore_n 2, 1) := dk_61 (dk_at dksX2_treads_1 8 rfl rfl)
theorem dX2_treads_33 : decode cX2_treads 33 = .ok (.aload_n 0, 1) := dk_42 (dk_at dksX2_treads_1 9 rfl rfl)
theorem dX2_treads_34 : decode cX2_treads 34 = .ok (.getfield 18, 3) := dk_180 0 18 (dk_at dksX2_treads_1 10 rfl rfl)
theorem dX2_treads_37 : decode cX2_treads 37 = .ok (.iload_n 1, 1) := dk_27 (dk_at dksX2_treads_1 13 rfl rfl)
theorem dX2_treads_38 : decode cX2_treads 38 = .ok (.dup2, 1) := dk_92 (dk_at dksX2_treads_1 14 rfl rfl)
theorem dX2_treads_39 : decode cX2_treads 39 = .ok (.iaload, 1) := dk_46 (dk_at dksX2_treads_1 15 rfl rfl)
theorem dX2_treads_40 : decode cX2_treads 40 = .ok (.iload_n 2, 1) := dk_28 (dk_at dksX2_treads_1 16 rfl rfl)
theorem dX2_treads_41 : decode cX2_treads 41 = .ok (.isub, 1) := dk_100 (dk_at dksX2_treads_1 17 rfl rfl)
theorem dX2_treads_42 : decode cX2_treads 42 = .ok (.iastore, 1) := dk_79 (dk_at dksX2_treads_1 18 rfl rfl)
theorem dX2_treads_43 : decode cX2_treads 43 = .ok (.aload_n 0, 1) := dk_42 (dk_at dksX2_treads_1 19 rfl rfl)
theorem dX2_treads_44 : decode cX2_treads 44 = .ok (.getfield 56, 3) := dk_180 0 56 (dk_at dksX2_treads_1 20 rfl rfl)
theorem dX2_treads_47 : decode cX2_treads 47 = .ok (.iload_n 1, 1) := dk_27 (dk_at dksX2_treads_1 23 rfl rfl)
theorem dX2_treads_48 : decode cX2_treads 48 = .ok (.dup2, 1) := dk_92 (dk_at dksX2_treads_2 0 rfl rfl)
theorem dX2_treads_49 : decode cX2_treads 49 = .ok (.iaload, 1) := dk_46 (dk_at dksX2_treads_2 1 rfl rfl)
theorem dX2_treads_50 : decode cX2_treads 50 = .ok (.iconst 1, 1) := dk_4 (dk_at dksX2_treads_2 2 rfl rfl)
theorem dX2_treads_51 : decode cX2_treads 51 = .ok (.iadd, 1) := dk_96 (dk_at dksX2_treads_2 3 rfl rfl)
theorem dX2_treads_52 : decode cX2_treads 52 = .ok (.iastore, 1) := dk_79 (dk_at dksX2_treads_2 4 rfl rfl)
theorem dX2_treads_53 : decode cX2_treads 53 = .ok (.aload_n 0, 1) := dk_42 (dk_at dksX2_treads_2 5 rfl rfl)
theorem dX2_treads_54 : decode cX2_treads 54 = .ok (.getfield 22, 3) := dk_180 0 22 (dk_at dksX2_treads_2 6 rfl rfl)
theorem dX2_treads_57 : decode cX2_treads 57 = .ok (.iload_n 1, 1) := dk_27 (dk_at dksX2_treads_2 9 rfl rfl)
theorem dX2_treads_58 : decode cX2_treads 58 = .ok (.aload_n 0, 1) := dk_42 (dk_at dksX2_treads_2 10 rfl rfl)
theorem dX2_treads_59 : decode cX2_treads 59 = .ok (.getfield 35, 3) := dk_180 0 35 (dk_at dksX2_treads_2 11 rfl rfl)
theorem dX2_treads_62 : decode cX2_treads 62 = .ok (.iastore, 1) := dk_79 (dk_at dksX2_treads_2 14 rfl rfl)
theorem dX2_treads_63 : decode cX2_treads 63 = .ok (.aload_n 0, 1) := dk_42 (dk_at dksX2_treads_2 15 rfl rfl)
theorem dX2_treads_64 : decode cX2_treads 64 = .ok (.getfield 63, 3) := dk_180 0 63 (dk_at dksX2_treads_2 16 rfl rfl)
theorem dX2_treads_67 : decode cX2_treads 67 = .ok (.iconst 2, 1) := dk_5 (dk_at dksX2_treads_2 19 rfl rfl)
theorem dX2_treads_68 : decode cX2_treads 68 = .ok (.dup2, 1) := dk_92 (dk_at dksX2_treads_2 20 rfl rfl)
theorem dX2_treads_69 : decode cX2_treads 69 = .ok (.iaload, 1) := dk_46 (dk_at dksX2_treads_2 21 rfl rfl)
theorem dX2_treads_70 : decode cX2_treads 70 = .ok (.iconst 1, 1) := dk_4 (dk_at dksX2_treads_2 22 rfl rfl)
theorem dX2_treads_71 : decode cX2_treads 71 = .ok (.iadd, 1) := dk_96 (dk_at dksX2_treads_2 23 rfl rfl)
theorem dX2_treads_72 : decode cX2_treads 72 = .ok (.iastore, 1) := dk_79 (dk_at dksX2_treads_3 0 rfl rfl)
theorem dX2_treads_73 : decode cX2_treads 73 = .ok (.aload_n 0, 1) := dk_42 (dk_at dksX2_treads_3 1 rfl rfl)
theorem dX2_treads_74 : decode cX2_treads 74 = .ok (.getfield 63, 3) := dk_180 0 63 (dk_at dksX2_treads_3 2 rfl rfl)
theorem dX2_treads_77 : decode cX2_treads 77 = .ok (.iconst 3, 1) := dk_6 (dk_at dksX2_treads_3 5 rfl rfl)
theorem dX2_treads_78 : decode cX2_treads 78 = .ok (.dup2, 1) := dk_92 (dk_at dksX2_treads_3 6 rfl rfl)
theorem dX2_treads_79 : decode cX2_treads 79 = .ok (.iaload, 1) := dk_46 (dk_at dksX2_treads_3 7 rfl rfl)
theorem dX2_treads_80 : decode cX2_treads 80 = .ok (.iload_n 2, 1) := dk_28 (dk_at dksX2_treads_3 8 rfl rfl)
theorem dX2_treads_81 : decode cX2_treads 81 = .ok (.iadd, 1) := dk_96 (dk_at dksX2_treads_3 9 rfl rfl)
theorem dX2_treads_82 : decode cX2_treads 82 = .ok (.iastore, 1) := dk_79 (dk_at dksX2_treads_3 10 rfl rfl)
theorem dX2_treads_83 : decode cX2_treads 83 = .ok (.return_, 1) := dk_177 (dk_at dksX2_treads_3 11 rfl rfl)
def dkwX2_grows_1 : List UInt8 := [27, 92, 46, 29, 96, 79, 42, 180, 0, 63, 28, 92, 46, 29, 96, 79, 177]
abbrev dktX2_grows_1 : List UInt8 := dkwX2_grows_1 ++ []
def dkwX2_grows_0 : List UInt8 := [42, 180, 0, 18, 27, 46, 16, 9, 162, 0, 7, 4, 167, 0, 4, 3, 184, 0, 119, 62, 42, 180, 0, 18]
abbrev dktX2_grows_0 : List UInt8 := dkwX2_grows_0 ++ dktX2_grows_1
theorem dksX2_grows_0 : cX2_grows.data.toList.drop 0 = dktX2_grows_0 := by decide +kernel
theorem dksX2_grows_1 : cX2_grows.data.toList.drop 24 = dktX2_grows_1 := dk_seg dksX2_grows_0 24 rfl rfl
theorem dX2_grows_0 : decode cX2_grows 0 = .ok (.aload_n 0, 1) := dk_42 (dk_at dksX2_grows_0 0 rfl rfl)
theorem dX2_grows_1 : decode cX2_grows 1 = .ok (.getfield 18, 3) := dk_180 0 18 (dk_at dksX2_grows_0 1 rfl rfl)
theorem dX2_grows_4 : decode cX2_grows 4 = .ok (.iload_n 1, 1) := dk_27 (dk_at dksX2_grows_0 4 rfl rfl)
theorem dX2_grows_5 : decode cX2_grows 5 = .ok (.iaload, 1) := dk_46 (dk_at dksX2_grows_0 5 rfl rfl)
theorem dX2_grows_6 : decode cX2_grows 6 = .ok (.bipush 9, 2) := dk_16 9 (dk_at dksX2_grows_0 6 rfl rfl)
theorem dX2_grows_8 : decode cX2_grows 8 = .ok (.if_icmp .ge 7, 3) := dk_162 0 7 (dk_at dksX2_grows_0 8 rfl rfl)
theorem dX2_grows_11 : decode cX2_grows 11 = .ok (.iconst 1, 1) := dk_4 (dk_at dksX2_grows_0 11 rfl rfl)
theorem dX2_grows_12 : decode cX2_grows 12 = .ok (.goto 4, 3) := dk_167 0 4 (dk_at dksX2_grows_0 12 rfl rfl)
theorem dX2_grows_15 : decode cX2_grows 15 = .ok (.iconst 0, 1) := dk_3 (dk_at dksX2_grows_0 15 rfl rfl)
theorem dX2_grows_16 : decode cX2_grows 16 = .ok (.invokestatic 119, 3) := dk_184 0 119 (dk_at dksX2_grows_0 16 rfl rfl)
theorem dX2_grows_19 : decode cX2_grows 19 = .ok (.istore_n 3, 1) := dk_62 (dk_at dksX2_grows_0 19 rfl rfl)
theorem dX2_grows_20 : decode cX2_grows 20 = .ok (.aload_n 0, 1) := dk_42 (dk_at dksX2_grows_0 20 rfl rfl)
theorem dX2_grows_21 : decode cX2_grows 21 = .ok (.getfield 18, 3) := dk_180 0 18 (dk_at dksX2_grows_0 21 rfl rfl)
theorem dX2_grows_24 : decode cX2_grows 24 = .ok (.iload_n 1, 1) := dk_27 (dk_at dksX2_grows_1 0 rfl rfl)
theorem dX2_grows_25 : decode cX2_grows 25 = .ok (.dup2, 1) := dk_92 (dk_at dksX2_grows_1 1 rfl rfl)
theorem dX2_grows_26 : decode cX2_grows 26 = .ok (.iaload, 1) := dk_46 (dk_at dksX2_grows_1 2 rfl rfl)
theorem dX2_grows_27 : decode cX2_grows 27 = .ok (.iload_n 3, 1) := dk_29 (dk_at dksX2_grows_1 3 rfl rfl)
theorem dX2_grows_28 : decode cX2_grows 28 = .ok (.iadd, 1) := dk_96 (dk_at dksX2_grows_1 4 rfl rfl)
theorem dX2_grows_29 : decode cX2_grows 29 = .ok (.iastore, 1) := dk_79 (dk_at dksX2_grows_1 5 rfl rfl)
theorem dX2_grows_30 : decode cX2_grows 30 = .ok (.aload_n 0, 1) := dk_42 (dk_at dksX2_grows_1 6 rfl rfl)
theorem dX2_grows_31 : decode cX2_grows 31 = .ok (.getfield 63, 3) := dk_180 0 63 (dk_at dksX2_grows_1 7 rfl rfl)
theorem dX2_grows_34 : decode cX2_grows 34 = .ok (.iload_n 2, 1) := dk_28 (dk_at dksX2_grows_1 10 rfl rfl)
theorem dX2_grows_35 : decode cX2_grows 35 = .ok (.dup2, 1) := dk_92 (dk_at dksX2_grows_1 11 rfl rfl)
theorem dX2_grows_36 : decode cX2_grows 36 = .ok (.iaload, 1) := dk_46 (dk_at dksX2_grows_1 12 rfl rfl)
theorem dX2_grows_37 : decode cX2_grows 37 = .ok (.iload_n 3, 1) := dk_29 (dk_at dksX2_grows_1 13 rfl rfl)
theorem dX2_grows_38 : decode cX2_grows 38 = .ok (.iadd, 1) := dk_96 (dk_at dksX2_grows_1 14 rfl rfl)
theorem dX2_grows_39 : decode cX2_grows 39 = .ok (.iastore, 1) := dk_79 (dk_at dksX2_grows_1 15 rfl rfl)
theorem dX2_grows_40 : decode cX2_grows 40 = .ok (.return_, 1) := dk_177 (dk_at dksX2_grows_1 16 rfl rfl)
def dkwX2_hastens_1 : List UInt8 := [16, 6, 184, 0, 204, 45, 28, 181, 0, 127, 21, 4, 172]
abbrev dktX2_hastens_1 : List UInt8 := dkwX2_hastens_1 ++ []
def dkwX2_hastens_0 : List UInt8 := [42, 27, 182, 0, 89, 78, 45, 180, 0, 127, 54, 4, 21, 4, 28, 159, 0, 7, 4, 167, 0, 4, 3]
abbrev dktX2_hastens_0 : List UInt8 := dkwX2_hastens_0 ++ dktX2_hastens_1
theorem dksX2_hastens_0 : cX2_hastens.data.toList.drop 0 = dktX2_hastens_0 := by decide +kernel
theorem dksX2_hastens_1 : cX2_hastens.data.toList.drop 23 = dktX2_hastens_1 := dk_seg dksX2_hastens_0 23 rfl rfl
theorem dX2_hastens_0 : decode cX2_hastens 0 = .ok (.aload_n 0, 1) := dk_42 (dk_at dksX2_hastens_0 0 rfl rfl)
theorem dX2_hastens_1 : decode cX2_hastens 1 = .ok (.iload_n 1, 1) := dk_27 (dk_at dksX2_hastens_0 1 rfl rfl)
theorem dX2_hastens_2 : decode cX2_hastens 2 = .ok (.invokevirtual 89, 3) := dk_182 0 89 (dk_at dksX2_hastens_0 2 rfl rfl)
theorem dX2_hastens_5 : decode cX2_hastens 5 = .ok (.astore_n 3, 1) := dk_78 (dk_at dksX2_hastens_0 5 rfl rfl)
theorem dX2_hastens_6 : decode cX2_hastens 6 = .ok (.aload_n 3, 1) := dk_45 (dk_at dksX2_hastens_0 6 rfl rfl)
theorem dX2_hastens_7 : decode cX2_hastens 7 = .ok (.getfield 127, 3) := dk_180 0 127 (dk_at dksX2_hastens_0 7 rfl rfl)
theorem dX2_hastens_10 : decode cX2_hastens 10 = .ok (.istore 4, 2) := dk_54 4 (dk_at dksX2_hastens_0 10 rfl rfl)
theorem dX2_hastens_12 : decode cX2_hastens 12 = .ok (.iload 4, 2) := dk_21 4 (dk_at dksX2_hastens_0 12 rfl rfl)
theorem dX2_hastens_14 : decode cX2_hastens 14 = .ok (.iload_n 2, 1) := dk_28 (dk_at dksX2_hastens_0 14 rfl rfl)
theorem dX2_hastens_15 : decode cX2_hastens 15 = .ok (.if_icmp .eq 7, 3) := dk_159 0 7 (dk_at dksX2_hastens_0 15 rfl rfl)
theorem dX2_hastens_18 : decode cX2_hastens 18 = .ok (.iconst 1, 1) := dk_4 (dk_at dksX2_hastens_0 18 rfl rfl)
theorem dX2_hastens_19 : decode cX2_hastens 19 = .ok (.goto 4, 3) := dk_167 0 4 (dk_at dksX2_hastens_0 19 rfl rfl)
theorem dX2_hastens_22 : decode cX2_hastens 22 = .ok (.iconst 0, 1) := dk_3 (dk_at dksX2_hastens_0 22 rfl rfl)
theorem dX2_hastens_23 : decode cX2_hastens 23 = .ok (.bipush 6, 2) := dk_16 6 (dk_at dksX2_hastens_1 0 rfl rfl)
theorem dX2_hastens_25 : decode cX2_hastens 25 = .ok (.invokestatic 204, 3) := dk_184 0 204 (dk_at dksX2_hastens_1 2 rfl rfl)
theorem dX2_hastens_28 : decode cX2_hastens 28 = .ok (.aload_n 3, 1) := dk_45 (dk_at dksX2_hastens_1 5 rfl rfl)
theorem dX2_hastens_29 : decode cX2_hastens 29 = .ok (.iload_n 2, 1) := dk_28 (dk_at dksX2_hastens_1 6 rfl rfl)
theorem dX2_hastens_30 : decode cX2_hastens 30 = .ok (.putfield 127, 3) := dk_181 0 127 (dk_at dksX2_hastens_1 7 rfl rfl)
theorem dX2_hastens_33 : decode cX2_hastens 33 = .ok (.iload 4, 2) := dk_21 4 (dk_at dksX2_hastens_1 10 rfl rfl)
theorem dX2_hastens_35 : decode cX2_hastens 35 = .ok (.ireturn, 1) := dk_172 (dk_at dksX2_hastens_1 12 rfl rfl)
def dkwX2_turns_1 : List UInt8 := [44, 180, 0, 163, 172]
abbrev dktX2_turns_1 : List UInt8 := dkwX2_turns_1 ++ []
def dkwX2_turns_0 : List UInt8 := [42, 27, 182, 0, 89, 77, 44, 180, 0, 163, 62, 44, 44, 180, 0, 134, 181, 0, 163, 44, 29, 181, 0, 134]
abbrev dktX2_turns_0 : List UInt8 := dkwX2_turns_0 ++ dktX2_turns_1
theorem dksX2_turns_0 : cX2_turns.data.toList.drop 0 = dktX2_turns_0 := by decide +kernel
theorem dksX2_turns_1 : cX2_turns.data.toList.drop 24 = dktX2_turns_1 := dk_seg dksX2_turns_0 24 rfl rfl
theorem dX2_turns_0 : decode cX2_turns 0 = .ok (.aload_n 0, 1) := dk_42 (dk_at dksX2_turns_0 0 rfl rfl)
theorem dX2_turns_1 : decode cX2_turns 1 = .ok (.iload_n 1, 1) := dk_27 (dk_at dksX2_turns_0 1 rfl rfl)
theorem dX2_turns_2 : decode cX2_turns 2 = .ok (.invokevirtual 89, 3) := dk_182 0 89 (dk_at dksX2_turns_0 2 rfl rfl)
theorem dX2_turns_5 : decode cX2_turns 5 = .ok (.astore_n 2, 1) := dk_77 (dk_at dksX2_turns_0 5 rfl rfl)
theorem dX2_turns_6 : decode cX2_turns 6 = .ok (.aload_n 2, 1) := dk_44 (dk_at dksX2_turns_0 6 rfl rfl)
theorem dX2_turns_7 : decode cX2_turns 7 = .ok (.getfield 163, 3) := dk_180 0 163 (dk_at dksX2_turns_0 7 rfl rfl)
theorem dX2_turns_10 : decode cX2_turns 10 = .ok (.istore_n 3, 1) := dk_62 (dk_at dksX2_turns_0 10 rfl rfl)
theorem dX2_turns_11 : decode cX2_turns 11 = .ok (.aload_n 2, 1) := dk_44 (dk_at dksX2_turns_0 11 rfl rfl)
theorem dX2_turns_12 : decode cX2_turns 12 = .ok (.aload_n 2, 1) := dk_44 (dk_at dksX2_turns_0 12 rfl rfl)
theorem dX2_turns_13 : decode cX2_turns 13 = .ok (.getfield 134, 3) := dk_180 0 134 (dk_at dksX2_turns_0 13 rfl rfl)
theorem dX2_turns_16 : decode cX2_turns 16 = .ok (.putfield 163, 3) := dk_181 0 163 (dk_at dksX2_turns_0 16 rfl rfl)
theorem dX2_turns_19 : decode cX2_turns 19 = .ok (.aload_n 2, 1) := dk_44 (dk_at dksX2_turns_0 19 rfl rfl)
theorem dX2_turns_20 : decode cX2_turns 20 = .ok (.iload_n 3, 1) := dk_29 (dk_at dksX2_turns_0 20 rfl rfl)
theorem dX2_turns_21 : decode cX2_turns 21 = .ok (.putfield 134, 3) := dk_181 0 134 (dk_at dksX2_turns_0 21 rfl rfl)
theorem dX2_turns_24 : decode cX2_turns 24 = .ok (.aload_n 2, 1) := dk_44 (dk_at dksX2_turns_1 0 rfl rfl)
theorem dX2_turns_25 : decode cX2_turns 25 = .ok (.getfield 163, 3) := dk_180 0 163 (dk_at dksX2_turns_1 1 rfl rfl)
theorem dX2_turns_28 : decode cX2_turns 28 = .ok (.ireturn, 1) := dk_172 (dk_at dksX2_turns_1 4 rfl rfl)
def dkwX2_fenced_3 : List UInt8 := [79, 42, 182, 0, 212, 172]
abbrev dktX2_fenced_3 : List UInt8 := dkwX2_fenced_3 ++ []
def dkwX2_fenced_2 : List UInt8 := [180, 0, 59, 27, 4, 84, 42, 182, 0, 215, 8, 184, 0, 204, 42, 180, 0, 63, 16, 9, 92, 46, 4, 96]
abbrev dktX2_fenced_2 : List UInt8 := dkwX2_fenced_2 ++ dktX2_fenced_3
def dkwX2_fenced_1 : List UInt8 := [184, 0, 204, 42, 182, 0, 212, 16, 10, 162, 0, 7, 4, 167, 0, 4, 3, 7, 184, 0, 204, 42]
abbrev dktX2_fenced_1 : List UInt8 := dkwX2_fenced_1 ++ dktX2_fenced_2
def dkwX2_fenced_0 : List UInt8 := [42, 27, 182, 0, 123, 4, 184, 0, 204, 42, 180, 0, 59, 27, 51, 154, 0, 7, 4, 167, 0, 4, 3, 5]
abbrev dktX2_fenced_0 : List UInt8 := dkwX2_fenced_0 ++ dktX2_fenced_1
theorem dksX2_fenced_0 : cX2_fenced.data.toList.drop 0 = dktX2_fenced_0 := by decide +kernel
theorem dksX2_fenced_1 : cX2_fenced.data.toList.drop 24 = dktX2_fenced_1 := dk_seg dksX2_fenced_0 24 rfl rfl
theorem dksX2_fenced_2 : cX2_fenced.data.toList.drop 46 = dktX2_fenced_2 := dk_seg dksX2_fenced_1 22 rfl rfl
theorem dksX2_fenced_3 : cX2_fenced.data.toList.drop 70 = dktX2_fenced_3 := dk_seg dksX2_fenced_2 24 rfl rfl
theorem dX2_fenced_0 : decode cX2_fenced 0 = .ok (.aload_n 0, 1) := dk_42 (dk_at dksX2_fenced_0 0 rfl rfl)
theorem dX2_fenced_1 : decode cX2_fenced 1 = .ok (.iload_n 1, 1) := dk_27 (dk_at dksX2_fenced_0 1 rfl rfl)
theorem dX2_fenced_2 : decode cX2_fenced 2 = .ok (.invokevirtual 123, 3) := dk_182 0 123 (dk_at dksX2_fenced_0 2 rfl rfl)
theorem dX2_fenced_5 : decode cX2_fenced 5 = .ok (.iconst 1, 1) := dk_4 (dk_at dksX2_fenced_0 5 rfl rfl)
theorem dX2_fenced_6 : decode cX2_fenced 6 = .ok (.invokestatic 204, 3) := dk_184 0 204 (dk_at dksX2_fenced_0 6 rfl rfl)
theorem dX2_fenced_9 : decode cX2_fenced 9 = .ok (.aload_n 0, 1) := dk_42 (dk_at dksX2_fenced_0 9 rfl rfl)
theorem dX2_fenced_10 : decode cX2_fenced 10 = .ok (.getfield 59, 3) := dk_180 0 59 (dk_at dksX2_fenced_0 10 rfl rfl)
theorem dX2_fenced_13 : decode cX2_fenced 13 = .ok (.iload_n 1, 1) := dk_27 (dk_at dksX2_fenced_0 13 rfl rfl)
theorem dX2_fenced_14 : decode cX2_fenced 14 = .ok (.baload, 1) := dk_51 (dk_at dksX2_fenced_0 14 rfl rfl)
theorem dX2_fenced_15 : decode cX2_fenced 15 = .ok (.ifCond .ne 7, 3) := dk_154 0 7 (dk_at dksX2_fenced_0 15 rfl rfl)
theorem dX2_fenced_18 : decode cX2_fenced 18 = .ok (.iconst 1, 1) := dk_4 (dk_at dksX2_fenced_0 18 rfl rfl)
theorem dX2_fenced_19 : decode cX2_fenced 19 = .ok (.goto 4, 3) := dk_167 0 4 (dk_at dksX2_fenced_0 19 rfl rfl)
theorem dX2_fenced_22 : decode cX2_fenced 22 = .ok (.iconst 0, 1) := dk_3 (dk_at dksX2_fenced_0 22 rfl rfl)
theorem dX2_fenced_23 : decode cX2_fenced 23 = .ok (.iconst 2, 1) := dk_5 (dk_at dksX2_fenced_0 23 rfl rfl)
theorem dX2_fenced_24 : decode cX2_fenced 24 = .ok (.invokestatic 204, 3) := dk_184 0 204 (dk_at dksX2_fenced_1 0 rfl rfl)
theorem dX2_fenced_27 : decode cX2_fenced 27 = .ok (.aload_n 0, 1) := dk_42 (dk_at dksX2_fenced_1 3 rfl rfl)
theorem dX2_fenced_28 : decode cX2_fenced 28 = .ok (.invokevirtual 212, 3) := dk_182 0 212 (dk_at dksX2_fenced_1 4 rfl rfl)
theorem dX2_fenced_31 : decode cX2_fenced 31 = .ok (.bipush 10, 2) := dk_16 10 (dk_at dksX2_fenced_1 7 rfl rfl)
theorem dX2_fenced_33 : decode cX2_fenced 33 = .ok (.if_icmp .ge 7, 3) := dk_162 0 7 (dk_at dksX2_fenced_1 9 rfl rfl)
theorem dX2_fenced_36 : decode cX2_fenced 36 = .ok (.iconst 1, 1) := dk_4 (dk_at dksX2_fenced_1 12 rfl rfl)
theorem dX2_fenced_37 : decode cX2_fenced 37 = .ok (.goto 4, 3) := dk_167 0 4 (dk_at dksX2_fenced_1 13 rfl rfl)
theorem dX2_fenced_40 : decode cX2_fenced 40 = .ok (.iconst 0, 1) := dk_3 (dk_at dksX2_fenced_1 16 rfl rfl)
theorem dX2_fenced_41 : decode cX2_fenced 41 = .ok (.iconst 4, 1) := dk_7 (dk_at dksX2_fenced_1 17 rfl rfl)
theorem dX2_fenced_42 : decode cX2_fenced 42 = .ok (.invokestatic 204, 3) := dk_184 0 204 (dk_at dksX2_fenced_1 18 rfl rfl)
theorem dX2_fenced_45 : decode cX2_fenced 45 = .ok (.aload_n 0, 1) := dk_42 (dk_at dksX2_fenced_1 21 rfl rfl)
theorem dX2_fenced_46 : decode cX2_fenced 46 = .ok (.getfield 59, 3) := dk_180 0 59 (dk_at dksX2_fenced_2 0 rfl rfl)
theorem dX2_fenced_49 : decode cX2_fenced 49 = .ok (.iload_n 1, 1) := dk_27 (dk_at dksX2_fenced_2 3 rfl rfl)
theorem dX2_fenced_50 : decode cX2_fenced 50 = .ok (.iconst 1, 1) := dk_4 (dk_at dksX2_fenced_2 4 rfl rfl)
theorem dX2_fenced_51 : decode cX2_fenced 51 = .ok (.bastore, 1) := dk_84 (dk_at dksX2_fenced_2 5 rfl rfl)
theorem dX2_fenced_52 : decode cX2_fenced 52 = .ok (.aload_n 0, 1) := dk_42 (dk_at dksX2_fenced_2 6 rfl rfl)
theorem dX2_fenced_53 : decode cX2_fenced 53 = .ok (.invokevirtual 215, 3) := dk_182 0 215 (dk_at dksX2_fenced_2 7 rfl rfl)
theorem dX2_fenced_56 : decode cX2_fenced 56 = .ok (.iconst 5, 1) := dk_8 (dk_at dksX2_fenced_2 10 rfl rfl)
theorem dX2_fenced_57 : decode cX2_fenced 57 = .ok (.invokestatic 204, 3) := dk_184 0 204 (dk_at dksX2_fenced_2 11 rfl rfl)
theorem dX2_fenced_60 : decode cX2_fenced 60 = .ok (.aload_n 0, 1) := dk_42 (dk_at dksX2_fenced_2 14 rfl rfl)
theorem dX2_fenced_61 : decode cX2_fenced 61 = .ok (.getfield 63, 3) := dk_180 0 63 (dk_at dksX2_fenced_2 15 rfl rfl)
theorem dX2_fenced_64 : decode cX2_fenced 64 = .ok (.bipush 9, 2) := dk_16 9 (dk_at dksX2_fenced_2 18 rfl rfl)
theorem dX2_fenced_66 : decode cX2_fenced 66 = .ok (.dup2, 1) := dk_92 (dk_at dksX2_fenced_2 20 rfl rfl)
theorem dX2_fenced_67 : decode cX2_fenced 67 = .ok (.iaload, 1) := dk_46 (dk_at dksX2_fenced_2 21 rfl rfl)
theorem dX2_fenced_68 : decode cX2_fenced 68 = .ok (.iconst 1, 1) := dk_4 (dk_at dksX2_fenced_2 22 rfl rfl)
theorem dX2_fenced_69 : decode cX2_fenced 69 = .ok (.iadd, 1) := dk_96 (dk_at dksX2_fenced_2 23 rfl rfl)
theorem dX2_fenced_70 : decode cX2_fenced 70 = .ok (.iastore, 1) := dk_79 (dk_at dksX2_fenced_3 0 rfl rfl)
theorem dX2_fenced_71 : decode cX2_fenced 71 = .ok (.aload_n 0, 1) := dk_42 (dk_at dksX2_fenced_3 1 rfl rfl)
theorem dX2_fenced_72 : decode cX2_fenced 72 = .ok (.invokevirtual 212, 3) := dk_182 0 212 (dk_at dksX2_fenced_3 2 rfl rfl)
theorem dX2_fenced_75 : decode cX2_fenced 75 = .ok (.ireturn, 1) := dk_172 (dk_at dksX2_fenced_3 5 rfl rfl)
def dkwX2_opened_1 : List UInt8 := [46, 4, 96, 79, 42, 182, 0, 212, 172]
abbrev dktX2_opened_1 : List UInt8 := dkwX2_opened_1 ++ []
def dkwX2_opened_0 : List UInt8 := [42, 180, 0, 59, 27, 51, 6, 184, 0, 204, 42, 180, 0, 59, 27, 3, 84, 42, 180, 0, 63, 16, 10, 92]
abbrev dktX2_opened_0 : List UInt8 := dkwX2_opened_0 ++ dktX2_opened_1
theorem dksX2_opened_0 : cX2_opened.data.toList.drop 0 = dktX2_opened_0 := by decide +kernel
theorem dksX2_opened_1 : cX2_opened.data.toList.drop 24 = dktX2_opened_1 := dk_seg dksX2_opened_0 24 rfl rfl
theorem dX2_opened_0 : decode cX2_opened 0 = .ok (.aload_n 0, 1) := dk_42 (dk_at dksX2_opened_0 0 rfl rfl)
theorem dX2_opened_1 : decode cX2_opened 1 = .ok (.getfield 59, 3) := dk_180 0 59 (dk_at dksX2_opened_0 1 rfl rfl)
theorem dX2_opened_4 : decode cX2_opened 4 = .ok (.iload_n 1, 1) := dk_27 (dk_at dksX2_opened_0 4 rfl rfl)
theorem dX2_opened_5 : decode cX2_opened 5 = .ok (.baload, 1) := dk_51 (dk_at dksX2_opened_0 5 rfl rfl)
theorem dX2_opened_6 : decode cX2_opened 6 = .ok (.iconst 3, 1) := dk_6 (dk_at dksX2_opened_0 6 rfl rfl)
theorem dX2_opened_7 : decode cX2_opened 7 = .ok (.invokestatic 204, 3) := dk_184 0 204 (dk_at dksX2_opened_0 7 rfl rfl)
theorem dX2_opened_10 : decode cX2_opened 10 = .ok (.aload_n 0, 1) := dk_42 (dk_at dksX2_opened_0 10 rfl rfl)
theorem dX2_opened_11 : decode cX2_opened 11 = .ok (.getfield 59, 3) := dk_180 0 59 (dk_at dksX2_opened_0 11 rfl rfl)
theorem dX2_opened_14 : decode cX2_opened 14 = .ok (.iload_n 1, 1) := dk_27 (dk_at dksX2_opened_0 14 rfl rfl)
theorem dX2_opened_15 : decode cX2_opened 15 = .ok (.iconst 0, 1) := dk_3 (dk_at dksX2_opened_0 15 rfl rfl)
theorem dX2_opened_16 : decode cX2_opened 16 = .ok (.bastore, 1) := dk_84 (dk_at dksX2_opened_0 16 rfl rfl)
theorem dX2_opened_17 : decode cX2_opened 17 = .ok (.aload_n 0, 1) := dk_42 (dk_at dksX2_opened_0 17 rfl rfl)
theorem dX2_opened_18 : decode cX2_opened 18 = .ok (.getfield 63, 3) := dk_180 0 63 (dk_at dksX2_opened_0 18 rfl rfl)
theorem dX2_opened_21 : decode cX2_opened 21 = .ok (.bipush 10, 2) := dk_16 10 (dk_at dksX2_opened_0 21 rfl rfl)
theorem dX2_opened_23 : decode cX2_opened 23 = .ok (.dup2, 1) := dk_92 (dk_at dksX2_opened_0 23 rfl rfl)
theorem dX2_opened_24 : decode cX2_opened 24 = .ok (.iaload, 1) := dk_46 (dk_at dksX2_opened_1 0 rfl rfl)
theorem dX2_opened_25 : decode cX2_opened 25 = .ok (.iconst 1, 1) := dk_4 (dk_at dksX2_opened_1 1 rfl rfl)
theorem dX2_opened_26 : decode cX2_opened 26 = .ok (.iadd, 1) := dk_96 (dk_at dksX2_opened_1 2 rfl rfl)
theorem dX2_opened_27 : decode cX2_opened 27 = .ok (.iastore, 1) := dk_79 (dk_at dksX2_opened_1 3 rfl rfl)
theorem dX2_opened_28 : decode cX2_opened 28 = .ok (.aload_n 0, 1) := dk_42 (dk_at dksX2_opened_1 4 rfl rfl)
theorem dX2_opened_29 : decode cX2_opened 29 = .ok (.invokevirtual 212, 3) := dk_182 0 212 (dk_at dksX2_opened_1 5 rfl rfl)
theorem dX2_opened_32 : decode cX2_opened 32 = .ok (.ireturn, 1) := dk_172 (dk_at dksX2_opened_1 8 rfl rfl)
def dkwX2_paves_2 : List UInt8 := [4, 79, 42, 180, 0, 18, 27, 3, 79, 42, 4, 182, 0, 219, 172]
abbrev dktX2_paves_2 : List UInt8 := dkwX2_paves_2 ++ []
def dkwX2_paves_1 : List UInt8 := [184, 0, 204, 42, 180, 0, 63, 16, 7, 92, 46, 42, 180, 0, 18, 27, 46, 96, 79, 42, 180, 0, 53, 27]
abbrev dktX2_paves_1 : List UInt8 := dkwX2_paves_1 ++ dktX2_paves_2
def dkwX2_paves_0 : List UInt8 := [42, 27, 182, 0, 123, 4, 184, 0, 204, 42, 180, 0, 59, 27, 51, 154, 0, 7, 4, 167, 0, 4, 3, 5]
abbrev dktX2_paves_0 : List UInt8 := dkwX2_paves_0 ++ dktX2_paves_1
theorem dksX2_paves_0 : cX2_paves.data.toList.drop 0 = dktX2_paves_0 := by decide +kernel
theorem dksX2_paves_1 : cX2_paves.data.toList.drop 24 = dktX2_paves_1 := dk_seg dksX2_paves_0 24 rfl rfl
theorem dksX2_paves_2 : cX2_paves.data.toList.drop 48 = dktX2_paves_2 := dk_seg dksX2_paves_1 24 rfl rfl
theorem dX2_paves_0 : decode cX2_paves 0 = .ok (.aload_n 0, 1) := dk_42 (dk_at dksX2_paves_0 0 rfl rfl)
theorem dX2_paves_1 : decode cX2_paves 1 = .ok (.iload_n 1, 1) := dk_27 (dk_at dksX2_paves_0 1 rfl rfl)
theorem dX2_paves_2 : decode cX2_paves 2 = .ok (.invokevirtual 123, 3) := dk_182 0 123 (dk_at dksX2_paves_0 2 rfl rfl)
theorem dX2_paves_5 : decode cX2_paves 5 = .ok (.iconst 1, 1) := dk_4 (dk_at dksX2_paves_0 5 rfl rfl)
theorem dX2_paves_6 : decode cX2_paves 6 = .ok (.invokestatic 204, 3) := dk_184 0 204 (dk_at dksX2_paves_0 6 rfl rfl)
theorem dX2_paves_9 : decode cX2_paves 9 = .ok (.aload_n 0, 1) := dk_42 (dk_at dksX2_paves_0 9 rfl rfl)
theorem dX2_paves_10 : decode cX2_paves 10 = .ok (.getfield 59, 3) := dk_180 0 59 (dk_at dksX2_paves_0 10 rfl rfl)
theorem dX2_paves_13 : decode cX2_paves 13 = .ok (.iload_n 1, 1) := dk_27 (dk_at dksX2_paves_0 13 rfl rfl)
theorem dX2_paves_14 : decode cX2_paves 14 = .ok (.baload, 1) := dk_51 (dk_at dksX2_paves_0 14 rfl rfl)
theorem dX2_paves_15 : decode cX2_paves 15 = .ok (.ifCond .ne 7, 3) := dk_154 0 7 (dk_at dksX2_paves_0 15 rfl rfl)
theorem dX2_paves_18 : decode cX2_paves 18 = .ok (.iconst 1, 1) := dk_4 (dk_at dksX2_paves_0 18 rfl rfl)
theorem dX2_paves_19 : decode cX2_paves 19 = .ok (.goto 4, 3) := dk_167 0 4 (dk_at dksX2_paves_0 19 rfl rfl)
theorem dX2_paves_22 : decode cX2_paves 22 = .ok (.iconst 0, 1) := dk_3 (dk_at dksX2_paves_0 22 rfl rfl)
theorem dX2_paves_23 : decode cX2_paves 23 = .ok (.iconst 2, 1) := dk_5 (dk_at dksX2_paves_0 23 rfl rfl)
theorem dX2_paves_24 : decode cX2_paves 24 = .ok (.invokestatic 204, 3) := dk_184 0 204 (dk_at dksX2_paves_1 0 rfl rfl)
theorem dX2_paves_27 : decode cX2_paves 27 = .ok (.aload_n 0, 1) := dk_42 (dk_at dksX2_paves_1 3 rfl rfl)
theorem dX2_paves_28 : decode cX2_paves 28 = .ok (.getfield 63, 3) := dk_180 0 63 (dk_at dksX2_paves_1 4 rfl rfl)
theorem dX2_paves_31 : decode cX2_paves 31 = .ok (.bipush 7, 2) := dk_16 7 (dk_at dksX2_paves_1 7 rfl rfl)
theorem dX2_paves_33 : decode cX2_paves 33 = .ok (.dup2, 1) := dk_92 (dk_at dksX2_paves_1 9 rfl rfl)
theorem dX2_paves_34 : decode cX2_paves 34 = .ok (.iaload, 1) := dk_46 (dk_at dksX2_paves_1 10 rfl rfl)
theorem dX2_paves_35 : decode cX2_paves 35 = .ok (.aload_n 0, 1) := dk_42 (dk_at dksX2_paves_1 11 rfl rfl)
theorem dX2_paves_36 : decode cX2_paves 36 = .ok (.getfield 18, 3) := dk_180 0 18 (dk_at dksX2_paves_1 12 rfl rfl)
theorem dX2_paves_39 : decode cX2_paves 39 = .ok (.iload_n 1, 1) := dk_27 (dk_at dksX2_paves_1 15 rfl rfl)
theorem dX2_paves_40 : decode cX2_paves 40 = .ok (.iaload, 1) := dk_46 (dk_at dksX2_paves_1 16 rfl rfl)
theorem dX2_paves_41 : decode cX2_paves 41 = .ok (.iadd, 1) := dk_96 (dk_at dksX2_paves_1 17 rfl rfl)
theorem dX2_paves_42 : decode cX2_paves 42 = .ok (.iastore, 1) := dk_79 (dk_at dksX2_paves_1 18 rfl rfl)
theorem dX2_paves_43 : decode cX2_paves 43 = .ok (.aload_n 0, 1) := dk_42 (dk_at dksX2_paves_1 19 rfl rfl)
theorem dX2_paves_44 : decode cX2_paves 44 = .ok (.getfield 53, 3) := dk_180 0 53 (dk_at dksX2_paves_1 20 rfl rfl)
theorem dX2_paves_47 : decode cX2_paves 47 = .ok (.iload_n 1, 1) := dk_27 (dk_at dksX2_paves_1 23 rfl rfl)
theorem dX2_paves_48 : decode cX2_paves 48 = .ok (.iconst 1, 1) := dk_4 (dk_at dksX2_paves_2 0 rfl rfl)
theorem dX2_paves_49 : decode cX2_paves 49 = .ok (.iastore, 1) := dk_79 (dk_at dksX2_paves_2 1 rfl rfl)
theorem dX2_paves_50 : decode cX2_paves 50 = .ok (.aload_n 0, 1) := dk_42 (dk_at dksX2_paves_2 2 rfl rfl)
theorem dX2_paves_51 : decode cX2_paves 51 = .ok (.getfield 18, 3) := dk_180 0 18 (dk_at dksX2_paves_2 3 rfl rfl)
theorem dX2_paves_54 : decode cX2_paves 54 = .ok (.iload_n 1, 1) := dk_27 (dk_at dksX2_paves_2 6 rfl rfl)
theorem dX2_paves_55 : decode cX2_paves 55 = .ok (.iconst 0, 1) := dk_3 (dk_at dksX2_paves_2 7 rfl rfl)
theorem dX2_paves_56 : decode cX2_paves 56 = .ok (.iastore, 1) := dk_79 (dk_at dksX2_paves_2 8 rfl rfl)
theorem dX2_paves_57 : decode cX2_paves 57 = .ok (.aload_n 0, 1) := dk_42 (dk_at dksX2_paves_2 9 rfl rfl)
theorem dX2_paves_58 : decode cX2_paves 58 = .ok (.iconst 1, 1) := dk_4 (dk_at dksX2_paves_2 10 rfl rfl)
theorem dX2_paves_59 : decode cX2_paves 59 = .ok (.invokevirtual 219, 3) := dk_182 0 219 (dk_at dksX2_paves_2 11 rfl rfl)
theorem dX2_paves_62 : decode cX2_paves 62 = .ok (.ireturn, 1) := dk_172 (dk_at dksX2_paves_2 14 rfl rfl)
def dkwX2_sows_2 : List UInt8 := [180, 0, 18, 27, 16, 9, 79, 28, 172]
abbrev dktX2_sows_2 : List UInt8 := dkwX2_sows_2 ++ []
def dkwX2_sows_1 : List UInt8 := [167, 0, 4, 3, 16, 6, 184, 0, 204, 42, 180, 0, 63, 16, 6, 92, 46, 16, 9, 28, 100, 96, 79, 42]
abbrev dktX2_sows_1 : List UInt8 := dkwX2_sows_1 ++ dktX2_sows_2
def dkwX2_sows_0 : List UInt8 := [42, 27, 182, 0, 123, 4, 184, 0, 204, 42, 180, 0, 18, 27, 46, 61, 28, 16, 9, 162, 0, 7, 4]
abbrev dktX2_sows_0 : List UInt8 := dkwX2_sows_0 ++ dktX2_sows_1
theorem dksX2_sows_0 : cX2_sows.data.toList.drop 0 = dktX2_sows_0 := by decide +kernel
theorem dksX2_sows_1 : cX2_sows.data.toList.drop 23 = dktX2_sows_1 := dk_seg dksX2_sows_0 23 rfl rfl
theorem dksX2_sows_2 : cX2_sows.data.toList.drop 47 = dktX2_sows_2 := dk_seg dksX2_sows_1 24 rfl rfl
theorem dX2_sows_0 : decode cX2_sows 0 = .ok (.aload_n 0, 1) := dk_42 (dk_at dksX2_sows_0 0 rfl rfl)
theorem dX2_sows_1 : decode cX2_sows 1 = .ok (.iload_n 1, 1) := dk_27 (dk_at dksX2_sows_0 1 rfl rfl)
theorem dX2_sows_2 : decode cX2_sows 2 = .ok (.invokevirtual 123, 3) := dk_182 0 123 (dk_at dksX2_sows_0 2 rfl rfl)
theorem dX2_sows_5 : decode cX2_sows 5 = .ok (.iconst 1, 1) := dk_4 (dk_at dksX2_sows_0 5 rfl rfl)
theorem dX2_sows_6 : decode cX2_sows 6 = .ok (.invokestatic 204, 3) := dk_184 0 204 (dk_at dksX2_sows_0 6 rfl rfl)
theorem dX2_sows_9 : decode cX2_sows 9 = .ok (.aload_n 0, 1) := dk_42 (dk_at dksX2_sows_0 9 rfl rfl)
theorem dX2_sows_10 : decode cX2_sows 10 = .ok (.getfield 18, 3) := dk_180 0 18 (dk_at dksX2_sows_0 10 rfl rfl)
theorem dX2_sows_13 : decode cX2_sows 13 = .ok (.iload_n 1, 1) := dk_27 (dk_at dksX2_sows_0 13 rfl rfl)
theorem dX2_sows_14 : decode cX2_sows 14 = .ok (.iaload, 1) := dk_46 (dk_at dksX2_sows_0 14 rfl rfl)
theorem dX2_sows_15 : decode cX2_sows 15 = .ok (.istore_n 2, 1) := dk_61 (dk_at dksX2_sows_0 15 rfl rfl)
theorem dX2_sows_16 : decode cX2_sows 16 = .ok (.iload_n 2, 1) := dk_28 (dk_at dksX2_sows_0 16 rfl rfl)
theorem dX2_sows_17 : decode cX2_sows 17 = .ok (.bipush 9, 2) := dk_16 9 (dk_at dksX2_sows_0 17 rfl rfl)
theorem dX2_sows_19 : decode cX2_sows 19 = .ok (.if_icmp .ge 7, 3) := dk_162 0 7 (dk_at dksX2_sows_0 19 rfl rfl)
theorem dX2_sows_22 : decode cX2_sows 22 = .ok (.iconst 1, 1) := dk_4 (dk_at dksX2_sows_0 22 rfl rfl)
theorem dX2_sows_23 : decode cX2_sows 23 = .ok (.goto 4, 3) := dk_167 0 4 (dk_at dksX2_sows_1 0 rfl rfl)
theorem dX2_sows_26 : decode cX2_sows 26 = .ok (.iconst 0, 1) := dk_3 (dk_at dksX2_sows_1 3 rfl rfl)
theorem dX2_sows_27 : decode cX2_sows 27 = .ok (.bipush 6, 2) := dk_16 6 (dk_at dksX2_sows_1 4 rfl rfl)
theorem dX2_sows_29 : decode cX2_sows 29 = .ok (.invokestatic 204, 3) := dk_184 0 204 (dk_at dksX2_sows_1 6 rfl rfl)
theorem dX2_sows_32 : decode cX2_sows 32 = .ok (.aload_n 0, 1) := dk_42 (dk_at dksX2_sows_1 9 rfl rfl)
theorem dX2_sows_33 : decode cX2_sows 33 = .ok (.getfield 63, 3) := dk_180 0 63 (dk_at dksX2_sows_1 10 rfl rfl)
theorem dX2_sows_36 : decode cX2_sows 36 = .ok (.bipush 6, 2) := dk_16 6 (dk_at dksX2_sows_1 13 rfl rfl)
theorem dX2_sows_38 : decode cX2_sows 38 = .ok (.dup2, 1) := dk_92 (dk_at dksX2_sows_1 15 rfl rfl)
theorem dX2_sows_39 : decode cX2_sows 39 = .ok (.iaload, 1) := dk_46 (dk_at dksX2_sows_1 16 rfl rfl)
theorem dX2_sows_40 : decode cX2_sows 40 = .ok (.bipush 9, 2) := dk_16 9 (dk_at dksX2_sows_1 17 rfl rfl)
theorem dX2_sows_42 : decode cX2_sows 42 = .ok (.iload_n 2, 1) := dk_28 (dk_at dksX2_sows_1 19 rfl rfl)
theorem dX2_sows_43 : decode cX2_sows 43 = .ok (.isub, 1) := dk_100 (dk_at dksX2_sows_1 20 rfl rfl)
theorem dX2_sows_44 : decode cX2_sows 44 = .ok (.iadd, 1) := dk_96 (dk_at dksX2_sows_1 21 rfl rfl)
theorem dX2_sows_45 : decode cX2_sows 45 = .ok (.iastore, 1) := dk_79 (dk_at dksX2_sows_1 22 rfl rfl)
theorem dX2_sows_46 : decode cX2_sows 46 = .ok (.aload_n 0, 1) := dk_42 (dk_at dksX2_sows_1 23 rfl rfl)
theorem dX2_sows_47 : decode cX2_sows 47 = .ok (.getfield 18, 3) := dk_180 0 18 (dk_at dksX2_sows_2 0 rfl rfl)
theorem dX2_sows_50 : decode cX2_sows 50 = .ok (.iload_n 1, 1) := dk_27 (dk_at dksX2_sows_2 3 rfl rfl)
theorem dX2_sows_51 : decode cX2_sows 51 = .ok (.bipush 9, 2) := dk_16 9 (dk_at dksX2_sows_2 4 rfl rfl)
theorem dX2_sows_53 : decode cX2_sows 53 = .ok (.iastore, 1) := dk_79 (dk_at dksX2_sows_2 6 rfl rfl)
theorem dX2_sows_54 : decode cX2_sows 54 = .ok (.iload_n 2, 1) := dk_28 (dk_at dksX2_sows_2 7 rfl rfl)
theorem dX2_sows_55 : decode cX2_sows 55 = .ok (.ireturn, 1) := dk_172 (dk_at dksX2_sows_2 8 rfl rfl)
