set_option maxRecDepth 100000
def dkwX1_init_2 : List UInt8 := [181, 0, 46, 177]
abbrev dktX1_init_2 : List UInt8 := dkwX1_init_2 ++ []
def dkwX1_init_1 : List UInt8 := [42, 17, 3, 132, 188, 8, 181, 0, 35, 42, 2, 181, 0, 39, 42, 187, 0, 43, 89, 183, 0, 45]
abbrev dktX1_init_1 : List UInt8 := dkwX1_init_1 ++ dktX1_init_2
def dkwX1_init_0 : List UInt8 := [42, 183, 0, 15, 42, 184, 0, 18, 181, 0, 24, 42, 187, 0, 28, 89, 16, 9, 183, 0, 30, 181, 0, 31]
abbrev dktX1_init_0 : List UInt8 := dkwX1_init_0 ++ dktX1_init_1
theorem dksX1_init_0 : cX1_init.data.toList.drop 0 = dktX1_init_0 := by decide +kernel
theorem dksX1_init_1 : cX1_init.data.toList.drop 24 = dktX1_init_1 := dk_seg dksX1_init_0 24 rfl rfl
theorem dksX1_init_2 : cX1_init.data.toList.drop 46 = dktX1_init_2 := dk_seg dksX1_init_1 22 rfl rfl
theorem dX1_init_0 : decode cX1_init 0 = .ok (.aload_n 0, 1) := dk_42 (dk_at dksX1_init_0 0 rfl rfl)
theorem dX1_init_1 : decode cX1_init 1 = .ok (.invokespecial 15, 3) := dk_183 0 15 (dk_at dksX1_init_0 1 rfl rfl)
theorem dX1_init_4 : decode cX1_init 4 = .ok (.aload_n 0, 1) := dk_42 (dk_at dksX1_init_0 4 rfl rfl)
theorem dX1_init_5 : decode cX1_init 5 = .ok (.invokestatic 18, 3) := dk_184 0 18 (dk_at dksX1_init_0 5 rfl rfl)
theorem dX1_init_8 : decode cX1_init 8 = .ok (.putfield 24, 3) := dk_181 0 24 (dk_at dksX1_init_0 8 rfl rfl)
theorem dX1_init_11 : decode cX1_init 11 = .ok (.aload_n 0, 1) := dk_42 (dk_at dksX1_init_0 11 rfl rfl)
theorem dX1_init_12 : decode cX1_init 12 = .ok (.new 28, 3) := dk_187 0 28 (dk_at dksX1_init_0 12 rfl rfl)
theorem dX1_init_15 : decode cX1_init 15 = .ok (.dup, 1) := dk_89 (dk_at dksX1_init_0 15 rfl rfl)
theorem dX1_init_16 : decode cX1_init 16 = .ok (.bipush 9, 2) := dk_16 9 (dk_at dksX1_init_0 16 rfl rfl)
theorem dX1_init_18 : decode cX1_init 18 = .ok (.invokespecial 30, 3) := dk_183 0 30 (dk_at dksX1_init_0 18 rfl rfl)
theorem dX1_init_21 : decode cX1_init 21 = .ok (.putfield 31, 3) := dk_181 0 31 (dk_at dksX1_init_0 21 rfl rfl)
theorem dX1_init_24 : decode cX1_init 24 = .ok (.aload_n 0, 1) := dk_42 (dk_at dksX1_init_1 0 rfl rfl)
theorem dX1_init_25 : decode cX1_init 25 = .ok (.sipush 900, 3) := dk_17 3 132 (dk_at dksX1_init_1 1 rfl rfl)
theorem dX1_init_28 : decode cX1_init 28 = .ok (.newarray .byte, 2) := dk_188_8 (dk_at dksX1_init_1 4 rfl rfl)
theorem dX1_init_30 : decode cX1_init 30 = .ok (.putfield 35, 3) := dk_181 0 35 (dk_at dksX1_init_1 6 rfl rfl)
theorem dX1_init_33 : decode cX1_init 33 = .ok (.aload_n 0, 1) := dk_42 (dk_at dksX1_init_1 9 rfl rfl)
theorem dX1_init_34 : decode cX1_init 34 = .ok (.iconst (-1), 1) := dk_2 (dk_at dksX1_init_1 10 rfl rfl)
theorem dX1_init_35 : decode cX1_init 35 = .ok (.putfield 39, 3) := dk_181 0 39 (dk_at dksX1_init_1 11 rfl rfl)
theorem dX1_init_38 : decode cX1_init 38 = .ok (.aload_n 0, 1) := dk_42 (dk_at dksX1_init_1 14 rfl rfl)
theorem dX1_init_39 : decode cX1_init 39 = .ok (.new 43, 3) := dk_187 0 43 (dk_at dksX1_init_1 15 rfl rfl)
theorem dX1_init_42 : decode cX1_init 42 = .ok (.dup, 1) := dk_89 (dk_at dksX1_init_1 18 rfl rfl)
theorem dX1_init_43 : decode cX1_init 43 = .ok (.invokespecial 45, 3) := dk_183 0 45 (dk_at dksX1_init_1 19 rfl rfl)
theorem dX1_init_46 : decode cX1_init 46 = .ok (.putfield 46, 3) := dk_181 0 46 (dk_at dksX1_init_2 0 rfl rfl)
theorem dX1_init_49 : decode cX1_init 49 = .ok (.return_, 1) := dk_177 (dk_at dksX1_init_2 3 rfl rfl)
def dkwX1_plain_4 : List UInt8 := [89, 7, 7, 79, 184, 0, 88, 42, 176]
abbrev dktX1_plain_4 : List UInt8 := dkwX1_plain_4 ++ []
def dkwX1_plain_3 : List UInt8 := [182, 0, 80, 42, 8, 188, 10, 89, 3, 16, 6, 79, 89, 4, 4, 79, 89, 5, 5, 79, 89, 6, 6, 79]
abbrev dktX1_plain_3 : List UInt8 := dkwX1_plain_3 ++ dktX1_plain_4
def dkwX1_plain_2 : List UInt8 := [4, 183, 0, 77, 182, 0, 80, 42, 180, 0, 69, 187, 0, 73, 89, 18, 86, 4, 5, 3, 5, 183, 0, 77]
abbrev dktX1_plain_2 : List UInt8 := dkwX1_plain_2 ++ dktX1_plain_3
def dkwX1_plain_1 : List UInt8 := [182, 0, 61, 42, 18, 67, 16, 17, 182, 0, 61, 42, 180, 0, 69, 187, 0, 73, 89, 18, 75, 3, 4, 8]
abbrev dktX1_plain_1 : List UInt8 := dkwX1_plain_1 ++ dktX1_plain_2
def dkwX1_plain_0 : List UInt8 := [187, 0, 51, 89, 8, 7, 6, 5, 183, 0, 56, 75, 42, 18, 59, 8, 182, 0, 61, 42, 18, 65, 16, 9]
abbrev dktX1_plain_0 : List UInt8 := dkwX1_plain_0 ++ dktX1_plain_1
theorem dksX1_plain_0 : cX1_plain.data.toList.drop 0 = dktX1_plain_0 := by decide +kernel
theorem dksX1_plain_1 : cX1_plain.data.toList.drop 24 = dktX1_plain_1 := dk_seg dksX1_plain_0 24 rfl rfl
theorem dksX1_plain_2 : cX1_plain.data.toList.drop 48 = dktX1_plain_2 := dk_seg dksX1_plain_1 24 rfl rfl
theorem dksX1_plain_3 : cX1_plain.data.toList.drop 72 = dktX1_plain_3 := dk_seg dksX1_plain_2 24 rfl rfl
theorem dksX1_plain_4 : cX1_plain.data.toList.drop 96 = dktX1_plain_4 := dk_seg dksX1_plain_3 24 rfl rfl
theorem dX1_plain_0 : decode cX1_plain 0 = .ok (.new 51, 3) := dk_187 0 51 (dk_at dksX1_plain_0 0 rfl rfl)
theorem dX1_plain_3 : decode cX1_plain 3 = .ok (.dup, 1) := dk_89 (dk_at dksX1_plain_0 3 rfl rfl)
theorem dX1_plain_4 : decode cX1_plain 4 = .ok (.iconst 5, 1) := dk_8 (dk_at dksX1_plain_0 4 rfl rfl)
theorem dX1_plain_5 : decode cX1_plain 5 = .ok (.iconst 4, 1) := dk_7 (dk_at dksX1_plain_0 5 rfl rfl)
theorem dX1_plain_6 : decode cX1_plain 6 = .ok (.iconst 3, 1) := dk_6 (dk_at dksX1_plain_0 6 rfl rfl)
theorem dX1_plain_7 : decode cX1_plain 7 = .ok (.iconst 2, 1) := dk_5 (dk_at dksX1_plain_0 7 rfl rfl)
theorem dX1_plain_8 : decode cX1_plain 8 = .ok (.invokespecial 56, 3) := dk_183 0 56 (dk_at dksX1_plain_0 8 rfl rfl)
theorem dX1_plain_11 : decode cX1_plain 11 = .ok (.astore_n 0, 1) := dk_75 (dk_at dksX1_plain_0 11 rfl rfl)
theorem dX1_plain_12 : decode cX1_plain 12 = .ok (.aload_n 0, 1) := dk_42 (dk_at dksX1_plain_0 12 rfl rfl)
theorem dX1_plain_13 : decode cX1_plain 13 = .ok (.ldc 59, 2) := dk_18 59 (dk_at dksX1_plain_0 13 rfl rfl)
theorem dX1_plain_15 : decode cX1_plain 15 = .ok (.iconst 5, 1) := dk_8 (dk_at dksX1_plain_0 15 rfl rfl)
theorem dX1_plain_16 : decode cX1_plain 16 = .ok (.invokevirtual 61, 3) := dk_182 0 61 (dk_at dksX1_plain_0 16 rfl rfl)
theorem dX1_plain_19 : decode cX1_plain 19 = .ok (.aload_n 0, 1) := dk_42 (dk_at dksX1_plain_0 19 rfl rfl)
theorem dX1_plain_20 : decode cX1_plain 20 = .ok (.ldc 65, 2) := dk_18 65 (dk_at dksX1_plain_0 20 rfl rfl)
theorem dX1_plain_22 : decode cX1_plain 22 = .ok (.bipush 9, 2) := dk_16 9 (dk_at dksX1_plain_0 22 rfl rfl)
theorem dX1_plain_24 : decode cX1_plain 24 = .ok (.invokevirtual 61, 3) := dk_182 0 61 (dk_at dksX1_plain_1 0 rfl rfl)
theorem dX1_plain_27 : decode cX1_plain 27 = .ok (.aload_n 0, 1) := dk_42 (dk_at dksX1_plain_1 3 rfl rfl)
theorem dX1_plain_28 : decode cX1_plain 28 = .ok (.ldc 67, 2) := dk_18 67 (dk_at dksX1_plain_1 4 rfl rfl)
theorem dX1_plain_30 : decode cX1_plain 30 = .ok (.bipush 17, 2) := dk_16 17 (dk_at dksX1_plain_1 6 rfl rfl)
theorem dX1_plain_32 : decode cX1_plain 32 = .ok (.invokevirtual 61, 3) := dk_182 0 61 (dk_at dksX1_plain_1 8 rfl rfl)
theorem dX1_plain_35 : decode cX1_plain 35 = .ok (.aload_n 0, 1) := dk_42 (dk_at dksX1_plain_1 11 rfl rfl)
theorem dX1_plain_36 : decode cX1_plain 36 = .ok (.getfield 69, 3) := dk_180 0 69 (dk_at dksX1_plain_1 12 rfl rfl)
theorem dX1_plain_39 : decode cX1_plain 39 = .ok (.new 73, 3) := dk_187 0 73 (dk_at dksX1_plain_1 15 rfl rfl)
theorem dX1_plain_42 : decode cX1_plain 42 = .ok (.dup, 1) := dk_89 (dk_at dksX1_plain_1 18 rfl rfl)
theorem dX1_plain_43 : decode cX1_plain 43 = .ok (.ldc 75, 2) := dk_18 75 (dk_at dksX1_plain_1 19 rfl rfl)
theorem dX1_plain_45 : decode cX1_plain 45 = .ok (.iconst 0, 1) := dk_3 (dk_at dksX1_plain_1 21 rfl rfl)
theorem dX1_plain_46 : decode cX1_plain 46 = .ok (.iconst 1, 1) := dk_4 (dk_at dksX1_plain_1 22 rfl rfl)
theorem dX1_plain_47 : decode cX1_plain 47 = .ok (.iconst 5, 1) := dk_8 (dk_at dksX1_plain_1 23 rfl rfl)
theorem dX1_plain_48 : decode cX1_plain 48 = .ok (.iconst 1, 1) := dk_4 (dk_at dksX1_plain_2 0 rfl rfl)
theorem dX1_plain_49 : decode cX1_plain 49 = .ok (.invokespecial 77, 3) := dk_183 0 77 (dk_at dksX1_plain_2 1 rfl rfl)
theorem dX1_plain_52 : decode cX1_plain 52 = .ok (.invokevirtual 80, 3) := dk_182 0 80 (dk_at dksX1_plain_2 4 rfl rfl)
theorem dX1_plain_55 : decode cX1_plain 55 = .ok (.aload_n 0, 1) := dk_42 (dk_at dksX1_plain_2 7 rfl rfl)
theorem dX1_plain_56 : decode cX1_plain 56 = .ok (.getfield 69, 3) := dk_180 0 69 (dk_at dksX1_plain_2 8 rfl rfl)
theorem dX1_plain_59 : decode cX1_plain 59 = .ok (.new 73, 3) := dk_187 0 73 (dk_at dksX1_plain_2 11 rfl rfl)
theorem dX1_plain_62 : decode cX1_plain 62 = .ok (.dup, 1) := dk_89 (dk_at dksX1_plain_2 14 rfl rfl)
theorem dX1_plain_63 : decode cX1_plain 63 = .ok (.ldc 86, 2) := dk_18 86 (dk_at dksX1_plain_2 15 rfl rfl)
theorem dX1_plain_65 : decode cX1_plain 65 = .ok (.iconst 1, 1) := dk_4 (dk_at dksX1_plain_2 17 rfl rfl)
theorem dX1_plain_66 : decode cX1_plain 66 = .ok (.iconst 2, 1) := dk_5 (dk_at dksX1_plain_2 18 rfl rfl)
theorem dX1_plain_67 : decode cX1_plain 67 = .ok (.iconst 0, 1) := dk_3 (dk_at dksX1_plain_2 19 rfl rfl)
theorem dX1_plain_68 : decode cX1_plain 68 = .ok (.iconst 2, 1) := dk_5 (dk_at dksX1_plain_2 20 rfl rfl)
theorem dX1_plain_69 : decode cX1_plain 69 = .ok (.invokespecial 77, 3) := dk_183 0 77 (dk_at dksX1_plain_2 21 rfl rfl)
theorem dX1_plain_72 : decode cX1_plain 72 = .ok (.invokevirtual 80, 3) := dk_182 0 80 (dk_at dksX1_plain_3 0 rfl rfl)
theorem dX1_plain_75 : decode cX1_plain 75 = .ok (.aload_n 0, 1) := dk_42 (dk_at dksX1_plain_3 3 rfl rfl)
theorem dX1_plain_76 : decode cX1_plain 76 = .ok (.iconst 5, 1) := dk_8 (dk_at dksX1_plain_3 4 rfl rfl)
theorem dX1_plain_77 : decode cX1_plain 77 = .ok (.newarray .int, 2) := dk_188_10 (dk_at dksX1_plain_3 5 rfl rfl)
theorem dX1_plain_79 : decode cX1_plain 79 = .ok (.dup, 1) := dk_89 (dk_at dksX1_plain_3 7 rfl rfl)
theorem dX1_plain_80 : decode cX1_plain 80 = .ok (.iconst 0, 1) := dk_3 (dk_at dksX1_plain_3 8 rfl rfl)
theorem dX1_plain_81 : decode cX1_plain 81 = .ok (.bipush 6, 2) := dk_16 6 (dk_at dksX1_plain_3 9 rfl rfl)
theorem dX1_plain_83 : decode cX1_plain 83 = .ok (.iastore, 1) := dk_79 (dk_at dksX1_plain_3 11 rfl rfl)
theorem dX1_plain_84 : decode cX1_plain 84 = .ok (.dup, 1) := dk_89 (dk_at dksX1_plain_3 12 rfl rfl)
theorem dX1_plain_85 : decode cX1_plain 85 = .ok (.iconst 1, 1) := dk_4 (dk_at dksX1_plain_3 13 rfl rfl)
theorem dX1_plain_86 : decode cX1_plain 86 = .ok (.iconst 1, 1) := dk_4 (dk_at dksX1_plain_3 14 rfl rfl)
theorem dX1_plain_87 : decode cX1_plain 87 = .ok (.iastore, 1) := dk_79 (dk_at dksX1_plain_3 15 rfl rfl)
theorem dX1_plain_88 : decode cX1_plain 88 = .ok (.dup, 1) := dk_89 (dk_at dksX1_plain_3 16 rfl rfl)
theorem dX1_plain_89 : decode cX1_plain 89 = .ok (.iconst 2, 1) := dk_5 (dk_at dksX1_plain_3 17 rfl rfl)
theorem dX1_plain_90 : decode cX1_plain 90 = .ok (.iconst 2, 1) := dk_5 (dk_at dksX1_plain_3 18 rfl rfl)
theorem dX1_plain_91 : decode cX1_plain 91 = .ok (.iastore, 1) := dk_79 (dk_at dksX1_plain_3 19 rfl rfl)
theorem dX1_plain_92 : decode cX1_plain 92 = .ok (.dup, 1) := dk_89 (dk_at dksX1_plain_3 20 rfl rfl)
theorem dX1_plain_93 : decode cX1_plain 93 = .ok (.iconst 3, 1) := dk_6 (dk_at dksX1_plain_3 21 rfl rfl)
theorem dX1_plain_94 : decode cX1_plain 94 = .ok (.iconst 3, 1) := dk_6 (dk_at dksX1_plain_3 22 rfl rfl)
theorem dX1_plain_95 : decode cX1_plain 95 = .ok (.iastore, 1) := dk_79 (dk_at dksX1_plain_3 23 rfl rfl)
theorem dX1_plain_96 : decode cX1_plain 96 = .ok (.dup, 1) := dk_89 (dk_at dksX1_plain_4 0 rfl rfl)
theorem dX1_plain_97 : decode cX1_plain 97 = .ok (.iconst 4, 1) := dk_7 (dk_at dksX1_plain_4 1 rfl rfl)
theorem dX1_plain_98 : decode cX1_plain 98 = .ok (.iconst 4, 1) := dk_7 (dk_at dksX1_plain_4 2 rfl rfl)
theorem dX1_plain_99 : decode cX1_plain 99 = .ok (.iastore, 1) := dk_79 (dk_at dksX1_plain_4 3 rfl rfl)
theorem dX1_plain_100 : decode cX1_plain 100 = .ok (.invokestatic 88, 3) := dk_184 0 88 (dk_at dksX1_plain_4 4 rfl rfl)
theorem dX1_plain_103 : decode cX1_plain 103 = .ok (.aload_n 0, 1) := dk_42 (dk_at dksX1_plain_4 7 rfl rfl)
theorem dX1_plain_104 : decode cX1_plain 104 = .ok (.areturn, 1) := dk_176 (dk_at dksX1_plain_4 8 rfl rfl)
def dkwX1_stones_1 : List UInt8 := [182, 0, 50, 132, 4, 1, 167, 255, 234, 177]
abbrev dktX1_stones_1 : List UInt8 := dkwX1_stones_1 ++ []
def dkwX1_stones_0 : List UInt8 := [43, 77, 44, 190, 62, 3, 54, 4, 21, 4, 29, 162, 0, 22, 44, 21, 4, 46, 54, 5, 42, 21, 5, 4]
abbrev dktX1_stones_0 : List UInt8 := dkwX1_stones_0 ++ dktX1_stones_1
theorem dksX1_stones_0 : cX1_stones.data.toList.drop 0 = dktX1_stones_0 := by decide +kernel
theorem dksX1_stones_1 : cX1_stones.data.toList.drop 24 = dktX1_stones_1 := dk_seg dksX1_stones_0 24 rfl rfl
theorem dX1_stones_0 : decode cX1_stones 0 = .ok (.aload_n 1, 1) := dk_43 (dk_at dksX1_stones_0 0 rfl rfl)
theorem dX1_stones_1 : decode cX1_stones 1 = .ok (.astore_n 2, 1) := dk_77 (dk_at dksX1_stones_0 1 rfl rfl)
theorem dX1_stones_2 : decode cX1_stones 2 = .ok (.aload_n 2, 1) := dk_44 (dk_at dksX1_stones_0 2 rfl rfl)
theorem dX1_stones_3 : decode cX1_stones 3 = .ok (.arraylength, 1) := dk_190 (dk_at dksX1_stones_0 3 rfl rfl)
theorem dX1_stones_4 : decode cX1_stones 4 = .ok (.istore_n 3, 1) := dk_62 (dk_at dksX1_stones_0 4 rfl rfl)
theorem dX1_stones_5 : decode cX1_stones 5 = .ok (.iconst 0, 1) := dk_3 (dk_at dksX1_stones_0 5 rfl rfl)
theorem dX1_stones_6 : decode cX1_stones 6 = .ok (.istore 4, 2) := dk_54 4 (dk_at dksX1_stones_0 6 rfl rfl)
theorem dX1_stones_8 : decode cX1_stones 8 = .ok (.iload 4, 2) := dk_21 4 (dk_at dksX1_stones_0 8 rfl rfl)
theorem dX1_stones_10 : decode cX1_stones 10 = .ok (.iload_n 3, 1) := dk_29 (dk_at dksX1_stones_0 10 rfl rfl)
theorem dX1_stones_11 : decode cX1_stones 11 = .ok (.if_icmp .ge 22, 3) := dk_162 0 22 (dk_at dksX1_stones_0 11 rfl rfl)
theorem dX1_stones_14 : decode cX1_stones 14 = .ok (.aload_n 2, 1) := dk_44 (dk_at dksX1_stones_0 14 rfl rfl)
theorem dX1_stones_15 : decode cX1_stones 15 = .ok (.iload 4, 2) := dk_21 4 (dk_at dksX1_stones_0 15 rfl rfl)
theorem dX1_stones_17 : decode cX1_stones 17 = .ok (.iaload, 1) := dk_46 (dk_at dksX1_stones_0 17 rfl rfl)
theorem dX1_stones_18 : decode cX1_stones 18 = .ok (.istore 5, 2) := dk_54 5 (dk_at dksX1_stones_0 18 rfl rfl)
theorem dX1_stones_20 : decode cX1_stones 20 = .ok (.aload_n 0, 1) := dk_42 (dk_at dksX1_stones_0 20 rfl rfl)
theorem dX1_stones_21 : decode cX1_stones 21 = .ok (.iload 5, 2) := dk_21 5 (dk_at dksX1_stones_0 21 rfl rfl)
theorem dX1_stones_23 : decode cX1_stones 23 = .ok (.iconst 1, 1) := dk_4 (dk_at dksX1_stones_0 23 rfl rfl)
theorem dX1_stones_24 : decode cX1_stones 24 = .ok (.invokevirtual 50, 3) := dk_182 0 50 (dk_at dksX1_stones_1 0 rfl rfl)
theorem dX1_stones_27 : decode cX1_stones 27 = .ok (.iinc 4 1, 3) := dk_132 4 1 (dk_at dksX1_stones_1 3 rfl rfl)
theorem dX1_stones_30 : decode cX1_stones 30 = .ok (.goto (-22), 3) := dk_167 255 234 (dk_at dksX1_stones_1 6 rfl rfl)
theorem dX1_stones_33 : decode cX1_stones 33 = .ok (.return_, 1) := dk_177 (dk_at dksX1_stones_1 9 rfl rfl)
theorem dX1_errorCode_0 : decode cX1_errorCode 0 = .ok (.aload_n 0, 1) := by decide +kernel
theorem dX1_errorCode_1 : decode cX1_errorCode 1 = .ok (.getfield 145, 3) := by decide +kernel
theorem dX1_errorCode_4 : decode cX1_errorCode 4 = .ok (.ireturn, 1) := by decide +kernel
theorem dX1_errorPosition_0 : decode cX1_errorPosition 0 = .ok (.aload_n 0, 1) := by decide +kernel
theorem dX1_errorPosition_1 : decode cX1_errorPosition 1 = .ok (.getfield 39, 3) := by decide +kernel
theorem dX1_errorPosition_4 : decode cX1_errorPosition 4 = .ok (.ireturn, 1) := by decide +kernel
def dkwX1_find_4 : List UInt8 := [182, 1, 109, 172]
abbrev dktX1_find_4 : List UInt8 := dkwX1_find_4 ++ []
def dkwX1_find_3 : List UInt8 := [180, 0, 197, 44, 182, 1, 106, 182, 1, 109, 167, 0, 17, 42, 180, 0, 24, 180, 0, 69, 44, 182, 1, 106]
abbrev dktX1_find_3 : List UInt8 := dkwX1_find_3 ++ dktX1_find_4
def dkwX1_find_2 : List UInt8 := [180, 0, 35, 29, 51, 146, 182, 1, 102, 87, 132, 3, 1, 167, 255, 206, 27, 153, 0, 20, 42, 180, 0, 24]
abbrev dktX1_find_2 : List UInt8 := dkwX1_find_2 ++ dktX1_find_3
def dkwX1_find_1 : List UInt8 := [42, 180, 0, 35, 29, 51, 133, 20, 1, 98, 20, 1, 100, 184, 0, 114, 154, 0, 5, 2, 172, 44, 42]
abbrev dktX1_find_1 : List UInt8 := dkwX1_find_1 ++ dktX1_find_2
def dkwX1_find_0 : List UInt8 := [187, 0, 43, 89, 183, 0, 45, 77, 3, 62, 29, 42, 180, 0, 104, 162, 0, 48, 29, 16, 6, 163, 0, 42]
abbrev dktX1_find_0 : List UInt8 := dkwX1_find_0 ++ dktX1_find_1
theorem dksX1_find_0 : cX1_find.data.toList.drop 0 = dktX1_find_0 := by decide +kernel
theorem dksX1_find_1 : cX1_find.data.toList.drop 24 = dktX1_find_1 := dk_seg dksX1_find_0 24 rfl rfl
theorem dksX1_find_2 : cX1_find.data.toList.drop 47 = dktX1_find_2 := dk_seg dksX1_find_1 23 rfl rfl
theorem dksX1_find_3 : cX1_find.data.toList.drop 71 = dktX1_find_3 := dk_seg dksX1_find_2 24 rfl rfl
theorem dksX1_find_4 : cX1_find.data.toList.drop 95 = dktX1_find_4 := dk_seg dksX1_find_3 24 rfl rfl
theorem dX1_find_0 : decode cX1_find 0 = .ok (.new 43, 3) := dk_187 0 43 (dk_at dksX1_find_0 0 rfl rfl)
theorem dX1_find_3 : decode cX1_find 3 = .ok (.dup, 1) := dk_89 (dk_at dksX1_find_0 3 rfl rfl)
theorem dX1_find_4 : decode cX1_find 4 = .ok (.invokespecial 45, 3) := dk_183 0 45 (dk_at dksX1_find_0 4 rfl rfl)
theorem dX1_find_7 : decode cX1_find 7 = .ok (.astore_n 2, 1) := dk_77 (dk_at dksX1_find_0 7 rfl rfl)
theorem dX1_find_8 : decode cX1_find 8 = .ok (.iconst 0, 1) := dk_3 (dk_at dksX1_find_0 8 rfl rfl)
theorem dX1_find_9 : decode cX1_find 9 = .ok (.istore_n 3, 1) := dk_62 (dk_at dksX1_find_0 9 rfl rfl)
theorem dX1_find_10 : decode cX1_find 10 = .ok (.iload_n 3, 1) := dk_29 (dk_at dksX1_find_0 10 rfl rfl)
theorem dX1_find_11 : decode cX1_find 11 = .ok (.aload_n 0, 1) := dk_42 (dk_at dksX1_find_0 11 rfl rfl)
theorem dX1_find_12 : decode cX1_find 12 = .ok (.getfield 104, 3) := dk_180 0 104 (dk_at dksX1_find_0 12 rfl rfl)
theorem dX1_find_15 : decode cX1_find 15 = .ok (.if_icmp .ge 48, 3) := dk_162 0 48 (dk_at dksX1_find_0 15 rfl rfl)
theorem dX1_find_18 : decode cX1_find 18 = .ok (.iload_n 3, 1) := dk_29 (dk_at dksX1_find_0 18 rfl rfl)
theorem dX1_find_19 : decode cX1_find 19 = .ok (.bipush 6, 2) := dk_16 6 (dk_at dksX1_find_0 19 rfl rfl)
theorem dX1_find_21 : decode cX1_find 21 = .ok (.if_icmp .gt 42, 3) := dk_163 0 42 (dk_at dksX1_find_0 21 rfl rfl)
theorem dX1_find_24 : decode cX1_find 24 = .ok (.aload_n 0, 1) := dk_42 (dk_at dksX1_find_1 0 rfl rfl)
theorem dX1_find_25 : decode cX1_find 25 = .ok (.getfield 35, 3) := dk_180 0 35 (dk_at dksX1_find_1 1 rfl rfl)
theorem dX1_find_28 : decode cX1_find 28 = .ok (.iload_n 3, 1) := dk_29 (dk_at dksX1_find_1 4 rfl rfl)
theorem dX1_find_29 : decode cX1_find 29 = .ok (.baload, 1) := dk_51 (dk_at dksX1_find_1 5 rfl rfl)
theorem dX1_find_30 : decode cX1_find 30 = .ok (.i2l, 1) := dk_133 (dk_at dksX1_find_1 6 rfl rfl)
theorem dX1_find_31 : decode cX1_find 31 = .ok (.ldc2_w 354, 3) := dk_20 1 98 (dk_at dksX1_find_1 7 rfl rfl)
theorem dX1_find_34 : decode cX1_find 34 = .ok (.ldc2_w 356, 3) := dk_20 1 100 (dk_at dksX1_find_1 10 rfl rfl)
theorem dX1_find_37 : decode cX1_find 37 = .ok (.invokestatic 114, 3) := dk_184 0 114 (dk_at dksX1_find_1 13 rfl rfl)
theorem dX1_find_40 : decode cX1_find 40 = .ok (.ifCond .ne 5, 3) := dk_154 0 5 (dk_at dksX1_find_1 16 rfl rfl)
theorem dX1_find_43 : decode cX1_find 43 = .ok (.iconst (-1), 1) := dk_2 (dk_at dksX1_find_1 19 rfl rfl)
theorem dX1_find_44 : decode cX1_find 44 = .ok (.ireturn, 1) := dk_172 (dk_at dksX1_find_1 20 rfl rfl)
theorem dX1_find_45 : decode cX1_find 45 = .ok (.aload_n 2, 1) := dk_44 (dk_at dksX1_find_1 21 rfl rfl)
theorem dX1_find_46 : decode cX1_find 46 = .ok (.aload_n 0, 1) := dk_42 (dk_at dksX1_find_1 22 rfl rfl)
theorem dX1_find_47 : decode cX1_find 47 = .ok (.getfield 35, 3) := dk_180 0 35 (dk_at dksX1_find_2 0 rfl rfl)
theorem dX1_find_50 : decode cX1_find 50 = .ok (.iload_n 3, 1) := dk_29 (dk_at dksX1_find_2 3 rfl rfl)
theorem dX1_find_51 : decode cX1_find 51 = .ok (.baload, 1) := dk_51 (dk_at dksX1_find_2 4 rfl rfl)
theorem dX1_find_52 : decode cX1_find 52 = .ok (.i2c, 1) := dk_146 (dk_at dksX1_find_2 5 rfl rfl)
theorem dX1_find_53 : decode cX1_find 53 = .ok (.invokevirtual 358, 3) := dk_182 1 102 (dk_at dksX1_find_2 6 rfl rfl)
theorem dX1_find_56 : decode cX1_find 56 = .ok (.pop, 1) := dk_87 (dk_at dksX1_find_2 9 rfl rfl)
theorem dX1_find_57 : decode cX1_find 57 = .ok (.iinc 3 1, 3) := dk_132 3 1 (dk_at dksX1_find_2 10 rfl rfl)
theorem dX1_find_60 : decode cX1_find 60 = .ok (.goto (-50), 3) := dk_167 255 206 (dk_at dksX1_find_2 13 rfl rfl)
theorem dX1_find_63 : decode cX1_find 63 = .ok (.iload_n 1, 1) := dk_27 (dk_at dksX1_find_2 16 rfl rfl)
theorem dX1_find_64 : decode cX1_find 64 = .ok (.ifCond .eq 20, 3) := dk_153 0 20 (dk_at dksX1_find_2 17 rfl rfl)
theorem dX1_find_67 : decode cX1_find 67 = .ok (.aload_n 0, 1) := dk_42 (dk_at dksX1_find_2 20 rfl rfl)
theorem dX1_find_68 : decode cX1_find 68 = .ok (.getfield 24, 3) := dk_180 0 24 (dk_at dksX1_find_2 21 rfl rfl)
theorem dX1_find_71 : decode cX1_find 71 = .ok (.getfield 197, 3) := dk_180 0 197 (dk_at dksX1_find_3 0 rfl rfl)
theorem dX1_find_74 : decode cX1_find 74 = .ok (.aload_n 2, 1) := dk_44 (dk_at dksX1_find_3 3 rfl rfl)
theorem dX1_find_75 : decode cX1_find 75 = .ok (.invokevirtual 362, 3) := dk_182 1 106 (dk_at dksX1_find_3 4 rfl rfl)
theorem dX1_find_78 : decode cX1_find 78 = .ok (.invokevirtual 365, 3) := dk_182 1 109 (dk_at dksX1_find_3 7 rfl rfl)
theorem dX1_find_81 : decode cX1_find 81 = .ok (.goto 17, 3) := dk_167 0 17 (dk_at dksX1_find_3 10 rfl rfl)
theorem dX1_find_84 : decode cX1_find 84 = .ok (.aload_n 0, 1) := dk_42 (dk_at dksX1_find_3 13 rfl rfl)
theorem dX1_find_85 : decode cX1_find 85 = .ok (.getfield 24, 3) := dk_180 0 24 (dk_at dksX1_find_3 14 rfl rfl)
theorem dX1_find_88 : decode cX1_find 88 = .ok (.getfield 69, 3) := dk_180 0 69 (dk_at dksX1_find_3 17 rfl rfl)
theorem dX1_find_91 : decode cX1_find 91 = .ok (.aload_n 2, 1) := dk_44 (dk_at dksX1_find_3 20 rfl rfl)
theorem dX1_find_92 : decode cX1_find 92 = .ok (.invokevirtual 362, 3) := dk_182 1 106 (dk_at dksX1_find_3 21 rfl rfl)
theorem dX1_find_95 : decode cX1_find 95 = .ok (.invokevirtual 365, 3) := dk_182 1 109 (dk_at dksX1_find_4 0 rfl rfl)
theorem dX1_find_98 : decode cX1_find 98 = .ok (.ireturn, 1) := dk_172 (dk_at dksX1_find_4 3 rfl rfl)
def dkwX1_in_0 : List UInt8 := [30, 32, 148, 155, 0, 14, 30, 22, 4, 148, 157, 0, 7, 4, 167, 0, 4, 3, 172]
abbrev dktX1_in_0 : List UInt8 := dkwX1_in_0 ++ []
theorem dksX1_in_0 : cX1_in.data.toList.drop 0 = dktX1_in_0 := by decide +kernel
theorem dX1_in_0 : decode cX1_in 0 = .ok (.lload_n 0, 1) := dk_30 (dk_at dksX1_in_0 0 rfl rfl)
theorem dX1_in_1 : decode cX1_in 1 = .ok (.lload_n 2, 1) := dk_32 (dk_at dksX1_in_0 1 rfl rfl)
theorem dX1_in_2 : decode cX1_in 2 = .ok (.lcmp, 1) := dk_148 (dk_at dksX1_in_0 2 rfl rfl)
theorem dX1_in_3 : decode cX1_in 3 = .ok (.ifCond .lt 14, 3) := dk_155 0 14 (dk_at dksX1_in_0 3 rfl rfl)
theorem dX1_in_6 : decode cX1_in 6 = .ok (.lload_n 0, 1) := dk_30 (dk_at dksX1_in_0 6 rfl rfl)
theorem dX1_in_7 : decode cX1_in 7 = .ok (.lload 4, 2) := dk_22 4 (dk_at dksX1_in_0 7 rfl rfl)
theorem dX1_in_9 : decode cX1_in 9 = .ok (.lcmp, 1) := dk_148 (dk_at dksX1_in_0 9 rfl rfl)
theorem dX1_in_10 : decode cX1_in 10 = .ok (.ifCond .gt 7, 3) := dk_157 0 7 (dk_at dksX1_in_0 10 rfl rfl)
theorem dX1_in_13 : decode cX1_in 13 = .ok (.iconst 1, 1) := dk_4 (dk_at dksX1_in_0 13 rfl rfl)
theorem dX1_in_14 : decode cX1_in 14 = .ok (.goto 4, 3) := dk_167 0 4 (dk_at dksX1_in_0 14 rfl rfl)
theorem dX1_in_17 : decode cX1_in 17 = .ok (.iconst 0, 1) := dk_3 (dk_at dksX1_in_0 17 rfl rfl)
theorem dX1_in_18 : decode cX1_in 18 = .ok (.ireturn, 1) := dk_172 (dk_at dksX1_in_0 18 rfl rfl)
def dkwX1_grassBalance_1 : List UInt8 := [8, 46, 96, 43, 16, 6, 46, 96, 43, 16, 7, 46, 100, 42, 180, 0, 24, 182, 0, 233, 100, 172]
abbrev dktX1_grassBalance_1 : List UInt8 := dkwX1_grassBalance_1 ++ []
def dkwX1_grassBalance_0 : List UInt8 := [42, 180, 0, 24, 180, 1, 157, 76, 42, 180, 0, 24, 180, 1, 160, 43, 6, 46, 100, 43, 7, 46, 96, 43]
abbrev dktX1_grassBalance_0 : List UInt8 := dkwX1_grassBalance_0 ++ dktX1_grassBalance_1
theorem dksX1_grassBalance_0 : cX1_grassBalance.data.toList.drop 0 = dktX1_grassBalance_0 := by decide +kernel
theorem dksX1_grassBalance_1 : cX1_grassBalance.data.toList.drop 24 = dktX1_grassBalance_1 := dk_seg dksX1_grassBalance_0 24 rfl rfl
theorem dX1_grassBalance_0 : decode cX1_grassBalance 0 = .ok (.aload_n 0, 1) := dk_42 (dk_at dksX1_grassBalance_0 0 rfl rfl)
theorem dX1_grassBalance_1 : decode cX1_grassBalance 1 = .ok (.getfield 24, 3) := dk_180 0 24 (dk_at dksX1_grassBalance_0 1 rfl rfl)
theorem dX1_grassBalance_4 : decode cX1_grassBalance 4 = .ok (.getfield 413, 3) := dk_180 1 157 (dk_at dksX1_grassBalance_0 4 rfl rfl)
theorem dX1_grassBalance_7 : decode cX1_grassBalance 7 = .ok (.astore_n 1, 1) := dk_76 (dk_at dksX1_grassBalance_0 7 rfl rfl)
theorem dX1_grassBalance_8 : decode cX1_grassBalance 8 = .ok (.aload_n 0, 1) := dk_42 (dk_at dksX1_grassBalance_0 8 rfl rfl)
theorem dX1_grassBalance_9 : decode cX1_grassBalance 9 = .ok (.getfield 24, 3) := dk_180 0 24 (dk_at dksX1_grassBalance_0 9 rfl rfl)
theorem dX1_grassBalance_12 : decode cX1_grassBalance 12 = .ok (.getfield 416, 3) := dk_180 1 160 (dk_at dksX1_grassBalance_0 12 rfl rfl)
theorem dX1_grassBalance_15 : decode cX1_grassBalance 15 = .ok (.aload_n 1, 1) := dk_43 (dk_at dksX1_grassBalance_0 15 rfl rfl)
theorem dX1_grassBalance_16 : decode cX1_grassBalance 16 = .ok (.iconst 3, 1) := dk_6 (dk_at dksX1_grassBalance_0 16 rfl rfl)
theorem dX1_grassBalance_17 : decode cX1_grassBalance 17 = .ok (.iaload, 1) := dk_46 (dk_at dksX1_grassBalance_0 17 rfl rfl)
theorem dX1_grassBalance_18 : decode cX1_grassBalance 18 = .ok (.isub, 1) := dk_100 (dk_at dksX1_grassBalance_0 18 rfl rfl)
theorem dX1_grassBalance_19 : decode cX1_grassBalance 19 = .ok (.aload_n 1, 1) := dk_43 (dk_at dksX1_grassBalance_0 19 rfl rfl)
theorem dX1_grassBalance_20 : decode cX1_grassBalance 20 = .ok (.iconst 4, 1) := dk_7 (dk_at dksX1_grassBalance_0 20 rfl rfl)
theorem dX1_grassBalance_21 : decode cX1_grassBalance 21 = .ok (.iaload, 1) := dk_46 (dk_at dksX1_grassBalance_0 21 rfl rfl)
theorem dX1_grassBalance_22 : decode cX1_grassBalance 22 = .ok (.iadd, 1) := dk_96 (dk_at dksX1_grassBalance_0 22 rfl rfl)
theorem dX1_grassBalance_23 : decode cX1_grassBalance 23 = .ok (.aload_n 1, 1) := dk_43 (dk_at dksX1_grassBalance_0 23 rfl rfl)
theorem dX1_grassBalance_24 : decode cX1_grassBalance 24 = .ok (.iconst 5, 1) := dk_8 (dk_at dksX1_grassBalance_1 0 rfl rfl)
theorem dX1_grassBalance_25 : decode cX1_grassBalance 25 = .ok (.iaload, 1) := dk_46 (dk_at dksX1_grassBalance_1 1 rfl rfl)
theorem dX1_grassBalance_26 : decode cX1_grassBalance 26 = .ok (.iadd, 1) := dk_96 (dk_at dksX1_grassBalance_1 2 rfl rfl)
theorem dX1_grassBalance_27 : decode cX1_grassBalance 27 = .ok (.aload_n 1, 1) := dk_43 (dk_at dksX1_grassBalance_1 3 rfl rfl)
theorem dX1_grassBalance_28 : decode cX1_grassBalance 28 = .ok (.bipush 6, 2) := dk_16 6 (dk_at dksX1_grassBalance_1 4 rfl rfl)
theorem dX1_grassBalance_30 : decode cX1_grassBalance 30 = .ok (.iaload, 1) := dk_46 (dk_at dksX1_grassBalance_1 6 rfl rfl)
theorem dX1_grassBalance_31 : decode cX1_grassBalance 31 = .ok (.iadd, 1) := dk_96 (dk_at dksX1_grassBalance_1 7 rfl rfl)
theorem dX1_grassBalance_32 : decode cX1_grassBalance 32 = .ok (.aload_n 1, 1) := dk_43 (dk_at dksX1_grassBalance_1 8 rfl rfl)
theorem dX1_grassBalance_33 : decode cX1_grassBalance 33 = .ok (.bipush 7, 2) := dk_16 7 (dk_at dksX1_grassBalance_1 9 rfl rfl)
theorem dX1_grassBalance_35 : decode cX1_grassBalance 35 = .ok (.iaload, 1) := dk_46 (dk_at dksX1_grassBalance_1 11 rfl rfl)
theorem dX1_grassBalance_36 : decode cX1_grassBalance 36 = .ok (.isub, 1) := dk_100 (dk_at dksX1_grassBalance_1 12 rfl rfl)
theorem dX1_grassBalance_37 : decode cX1_grassBalance 37 = .ok (.aload_n 0, 1) := dk_42 (dk_at dksX1_grassBalance_1 13 rfl rfl)
theorem dX1_grassBalance_38 : decode cX1_grassBalance 38 = .ok (.getfield 24, 3) := dk_180 0 24 (dk_at dksX1_grassBalance_1 14 rfl rfl)
theorem dX1_grassBalance_41 : decode cX1_grassBalance 41 = .ok (.invokevirtual 233, 3) := dk_182 0 233 (dk_at dksX1_grassBalance_1 17 rfl rfl)
theorem dX1_grassBalance_44 : decode cX1_grassBalance 44 = .ok (.isub, 1) := dk_100 (dk_at dksX1_grassBalance_1 20 rfl rfl)
theorem dX1_grassBalance_45 : decode cX1_grassBalance 45 = .ok (.ireturn, 1) := dk_172 (dk_at dksX1_grassBalance_1 21 rfl rfl)
def dkwX1_walkBalance_3 : List UInt8 := [184, 1, 163, 28, 184, 1, 163, 96, 172]
abbrev dktX1_walkBalance_3 : List UInt8 := dkwX1_walkBalance_3 ++ []
def dkwX1_walkBalance_2 : List UInt8 := [100, 60, 28, 42, 180, 0, 24, 29, 182, 1, 15, 180, 1, 85, 100, 61, 132, 3, 1, 167, 255, 211, 27]
abbrev dktX1_walkBalance_2 : List UInt8 := dkwX1_walkBalance_2 ++ dktX1_walkBalance_3
def dkwX1_walkBalance_1 : List UInt8 := [180, 0, 24, 180, 0, 69, 182, 0, 174, 162, 0, 37, 27, 42, 180, 0, 24, 29, 182, 1, 15, 180, 1, 82]
abbrev dktX1_walkBalance_1 : List UInt8 := dkwX1_walkBalance_1 ++ dktX1_walkBalance_2
def dkwX1_walkBalance_0 : List UInt8 := [42, 180, 0, 24, 180, 1, 157, 3, 46, 60, 42, 180, 0, 24, 180, 1, 157, 4, 46, 61, 3, 62, 29, 42]
abbrev dktX1_walkBalance_0 : List UInt8 := dkwX1_walkBalance_0 ++ dktX1_walkBalance_1
theorem dksX1_walkBalance_0 : cX1_walkBalance.data.toList.drop 0 = dktX1_walkBalance_0 := by decide +kernel
theorem dksX1_walkBalance_1 : cX1_walkBalance.data.toList.drop 24 = dktX1_walkBalance_1 := dk_seg dksX1_walkBalance_0 24 rfl rfl
theorem dksX1_walkBalance_2 : cX1_walkBalance.data.toList.drop 48 = dktX1_walkBalance_2 := dk_seg dksX1_walkBalance_1 24 rfl rfl
theorem dksX1_walkBalance_3 : cX1_walkBalance.data.toList.drop 71 = dktX1_walkBalance_3 := dk_seg dksX1_walkBalance_2 23 rfl rfl
theorem dX1_walkBalance_0 : decode cX1_walkBalance 0 = .ok (.aload_n 0, 1) := dk_42 (dk_at dksX1_walkBalance_0 0 rfl rfl)
theorem dX1_walkBalance_1 : decode cX1_walkBalance 1 = .ok (.getfield 24, 3) := dk_180 0 24 (dk_at dksX1_walkBalance_0 1 rfl rfl)
theorem dX1_walkBalance_4 : decode cX1_walkBalance 4 = .ok (.getfield 413, 3) := dk_180 1 157 (dk_at dksX1_walkBalance_0 4 rfl rfl)
theorem dX1_walkBalance_7 : decode cX1_walkBalance 7 = .ok (.iconst 0, 1) := dk_3 (dk_at dksX1_walkBalance_0 7 rfl rfl)
theorem dX1_walkBalance_8 : decode cX1_walkBalance 8 = .ok (.iaload, 1) := dk_46 (dk_at dksX1_walkBalance_0 8 rfl rfl)
theorem dX1_walkBalance_9 : decode cX1_walkBalance 9 = .ok (.istore_n 1, 1) := dk_60 (dk_at dksX1_walkBalance_0 9 rfl rfl)
theorem dX1_walkBalance_10 : decode cX1_walkBalance 10 = .ok (.aload_n 0, 1) := dk_42 (dk_at dksX1_walkBalance_0 10 rfl rfl)
theorem dX1_walkBalance_11 : decode cX1_walkBalance 11 = .ok (.getfield 24, 3) := dk_180 0 24 (dk_at dksX1_walkBalance_0 11 rfl rfl)
theorem dX1_walkBalance_14 : decode cX1_walkBalance 14 = .ok (.getfield 413, 3) := dk_180 1 157 (dk_at dksX1_walkBalance_0 14 rfl rfl)
theorem dX1_walkBalance_17 : decode cX1_walkBalance 17 = .ok (.iconst 1, 1) := dk_4 (dk_at dksX1_walkBalance_0 17 rfl rfl)
theorem dX1_walkBalance_18 : decode cX1_walkBalance 18 = .ok (.iaload, 1) := dk_46 (dk_at dksX1_walkBalance_0 18 rfl rfl)
theorem dX1_walkBalance_19 : decode cX1_walkBalance 19 = .ok (.istore_n 2, 1) := dk_61 (dk_at dksX1_walkBalance_0 19 rfl rfl)
theorem dX1_walkBalance_20 : decode cX1_walkBalance 20 = .ok (.iconst 0, 1) := dk_3 (dk_at dksX1_walkBalance_0 20 rfl rfl)
theorem dX1_walkBalance_21 : decode cX1_walkBalance 21 = .ok (.istore_n 3, 1) := dk_62 (dk_at dksX1_walkBalance_0 21 rfl rfl)
theorem dX1_walkBalance_22 : decode cX1_walkBalance 22 = .ok (.iload_n 3, 1) := dk_29 (dk_at dksX1_walkBalance_0 22 rfl rfl)
theorem dX1_walkBalance_23 : decode cX1_walkBalance 23 = .ok (.aload_n 0, 1) := dk_42 (dk_at dksX1_walkBalance_0 23 rfl rfl)
theorem dX1_walkBalance_24 : decode cX1_walkBalance 24 = .ok (.getfield 24, 3) := dk_180 0 24 (dk_at dksX1_walkBalance_1 0 rfl rfl)
theorem dX1_walkBalance_27 : decode cX1_walkBalance 27 = .ok (.getfield 69, 3) := dk_180 0 69 (dk_at dksX1_walkBalance_1 3 rfl rfl)
theorem dX1_walkBalance_30 : decode cX1_walkBalance 30 = .ok (.invokevirtual 174, 3) := dk_182 0 174 (dk_at dksX1_walkBalance_1 6 rfl rfl)
theorem dX1_walkBalance_33 : decode cX1_walkBalance 33 = .ok (.if_icmp .ge 37, 3) := dk_162 0 37 (dk_at dksX1_walkBalance_1 9 rfl rfl)
theorem dX1_walkBalance_36 : decode cX1_walkBalance 36 = .ok (.iload_n 1, 1) := dk_27 (dk_at dksX1_walkBalance_1 12 rfl rfl)
theorem dX1_walkBalance_37 : decode cX1_walkBalance 37 = .ok (.aload_n 0, 1) := dk_42 (dk_at dksX1_walkBalance_1 13 rfl rfl)
theorem dX1_walkBalance_38 : decode cX1_walkBalance 38 = .ok (.getfield 24, 3) := dk_180 0 24 (dk_at dksX1_walkBalance_1 14 rfl rfl)
theorem dX1_walkBalance_41 : decode cX1_walkBalance 41 = .ok (.iload_n 3, 1) := dk_29 (dk_at dksX1_walkBalance_1 17 rfl rfl)
theorem dX1_walkBalance_42 : decode cX1_walkBalance 42 = .ok (.invokevirtual 271, 3) := dk_182 1 15 (dk_at dksX1_walkBalance_1 18 rfl rfl)
theorem dX1_walkBalance_45 : decode cX1_walkBalance 45 = .ok (.getfield 338, 3) := dk_180 1 82 (dk_at dksX1_walkBalance_1 21 rfl rfl)
theorem dX1_walkBalance_48 : decode cX1_walkBalance 48 = .ok (.isub, 1) := dk_100 (dk_at dksX1_walkBalance_2 0 rfl rfl)
theorem dX1_walkBalance_49 : decode cX1_walkBalance 49 = .ok (.istore_n 1, 1) := dk_60 (dk_at dksX1_walkBalance_2 1 rfl rfl)
theorem dX1_walkBalance_50 : decode cX1_walkBalance 50 = .ok (.iload_n 2, 1) := dk_28 (dk_at dksX1_walkBalance_2 2 rfl rfl)
theorem dX1_walkBalance_51 : decode cX1_walkBalance 51 = .ok (.aload_n 0, 1) := dk_42 (dk_at dksX1_walkBalance_2 3 rfl rfl)
theorem dX1_walkBalance_52 : decode cX1_walkBalance 52 = .ok (.getfield 24, 3) := dk_180 0 24 (dk_at dksX1_walkBalance_2 4 rfl rfl)
theorem dX1_walkBalance_55 : decode cX1_walkBalance 55 = .ok (.iload_n 3, 1) := dk_29 (dk_at dksX1_walkBalance_2 7 rfl rfl)
theorem dX1_walkBalance_56 : decode cX1_walkBalance 56 = .ok (.invokevirtual 271, 3) := dk_182 1 15 (dk_at dksX1_walkBalance_2 8 rfl rfl)
theorem dX1_walkBalance_59 : decode cX1_walkBalance 59 = .ok (.getfield 341, 3) := dk_180 1 85 (dk_at dksX1_walkBalance_2 11 rfl rfl)
theorem dX1_walkBalance_62 : decode cX1_walkBalance 62 = .ok (.isub, 1) := dk_100 (dk_at dksX1_walkBalance_2 14 rfl rfl)
theorem dX1_walkBalance_63 : decode cX1_walkBalance 63 = .ok (.istore_n 2, 1) := dk_61 (dk_at dksX1_walkBalance_2 15 rfl rfl)
theorem dX1_walkBalance_64 : decode cX1_walkBalance 64 = .ok (.iinc 3 1, 3) := dk_132 3 1 (dk_at dksX1_walkBalance_2 16 rfl rfl)
theorem dX1_walkBalance_67 : decode cX1_walkBalance 67 = .ok (.goto (-45), 3) := dk_167 255 211 (dk_at dksX1_walkBalance_2 19 rfl rfl)
theorem dX1_walkBalance_70 : decode cX1_walkBalance 70 = .ok (.iload_n 1, 1) := dk_27 (dk_at dksX1_walkBalance_2 22 rfl rfl)
theorem dX1_walkBalance_71 : decode cX1_walkBalance 71 = .ok (.invokestatic 419, 3) := dk_184 1 163 (dk_at dksX1_walkBalance_3 0 rfl rfl)
theorem dX1_walkBalance_74 : decode cX1_walkBalance 74 = .ok (.iload_n 2, 1) := dk_28 (dk_at dksX1_walkBalance_3 3 rfl rfl)
theorem dX1_walkBalance_75 : decode cX1_walkBalance 75 = .ok (.invokestatic 419, 3) := dk_184 1 163 (dk_at dksX1_walkBalance_3 4 rfl rfl)
theorem dX1_walkBalance_78 : decode cX1_walkBalance 78 = .ok (.iadd, 1) := dk_96 (dk_at dksX1_walkBalance_3 7 rfl rfl)
theorem dX1_walkBalance_79 : decode cX1_walkBalance 79 = .ok (.ireturn, 1) := dk_172 (dk_at dksX1_walkBalance_3 8 rfl rfl)
def dkwX1_gap_1 : List UInt8 := [28, 182, 1, 15, 182, 1, 168, 184, 0, 222, 96, 60, 132, 2, 1, 167, 255, 221, 27, 172]
abbrev dktX1_gap_1 : List UInt8 := dkwX1_gap_1 ++ []
def dkwX1_gap_0 : List UInt8 := [3, 60, 3, 61, 28, 42, 180, 0, 24, 180, 0, 69, 182, 0, 174, 162, 0, 27, 27, 42, 42, 180, 0, 24]
abbrev dktX1_gap_0 : List UInt8 := dkwX1_gap_0 ++ dktX1_gap_1
theorem dksX1_gap_0 : cX1_gap.data.toList.drop 0 = dktX1_gap_0 := by decide +kernel
theorem dksX1_gap_1 : cX1_gap.data.toList.drop 24 = dktX1_gap_1 := dk_seg dksX1_gap_0 24 rfl rfl
theorem dX1_gap_0 : decode cX1_gap 0 = .ok (.iconst 0, 1) := dk_3 (dk_at dksX1_gap_0 0 rfl rfl)
theorem dX1_gap_1 : decode cX1_gap 1 = .ok (.istore_n 1, 1) := dk_60 (dk_at dksX1_gap_0 1 rfl rfl)
theorem dX1_gap_2 : decode cX1_gap 2 = .ok (.iconst 0, 1) := dk_3 (dk_at dksX1_gap_0 2 rfl rfl)
theorem dX1_gap_3 : decode cX1_gap 3 = .ok (.istore_n 2, 1) := dk_61 (dk_at dksX1_gap_0 3 rfl rfl)
theorem dX1_gap_4 : decode cX1_gap 4 = .ok (.iload_n 2, 1) := dk_28 (dk_at dksX1_gap_0 4 rfl rfl)
theorem dX1_gap_5 : decode cX1_gap 5 = .ok (.aload_n 0, 1) := dk_42 (dk_at dksX1_gap_0 5 rfl rfl)
theorem dX1_gap_6 : decode cX1_gap 6 = .ok (.getfield 24, 3) := dk_180 0 24 (dk_at dksX1_gap_0 6 rfl rfl)
theorem dX1_gap_9 : decode cX1_gap 9 = .ok (.getfield 69, 3) := dk_180 0 69 (dk_at dksX1_gap_0 9 rfl rfl)
theorem dX1_gap_12 : decode cX1_gap 12 = .ok (.invokevirtual 174, 3) := dk_182 0 174 (dk_at dksX1_gap_0 12 rfl rfl)
theorem dX1_gap_15 : decode cX1_gap 15 = .ok (.if_icmp .ge 27, 3) := dk_162 0 27 (dk_at dksX1_gap_0 15 rfl rfl)
theorem dX1_gap_18 : decode cX1_gap 18 = .ok (.iload_n 1, 1) := dk_27 (dk_at dksX1_gap_0 18 rfl rfl)
theorem dX1_gap_19 : decode cX1_gap 19 = .ok (.aload_n 0, 1) := dk_42 (dk_at dksX1_gap_0 19 rfl rfl)
theorem dX1_gap_20 : decode cX1_gap 20 = .ok (.aload_n 0, 1) := dk_42 (dk_at dksX1_gap_0 20 rfl rfl)
theorem dX1_gap_21 : decode cX1_gap 21 = .ok (.getfield 24, 3) := dk_180 0 24 (dk_at dksX1_gap_0 21 rfl rfl)
theorem dX1_gap_24 : decode cX1_gap 24 = .ok (.iload_n 2, 1) := dk_28 (dk_at dksX1_gap_1 0 rfl rfl)
theorem dX1_gap_25 : decode cX1_gap 25 = .ok (.invokevirtual 271, 3) := dk_182 1 15 (dk_at dksX1_gap_1 1 rfl rfl)
theorem dX1_gap_28 : decode cX1_gap 28 = .ok (.invokevirtual 424, 3) := dk_182 1 168 (dk_at dksX1_gap_1 4 rfl rfl)
theorem dX1_gap_31 : decode cX1_gap 31 = .ok (.invokestatic 222, 3) := dk_184 0 222 (dk_at dksX1_gap_1 7 rfl rfl)
theorem dX1_gap_34 : decode cX1_gap 34 = .ok (.iadd, 1) := dk_96 (dk_at dksX1_gap_1 10 rfl rfl)
theorem dX1_gap_35 : decode cX1_gap 35 = .ok (.istore_n 1, 1) := dk_60 (dk_at dksX1_gap_1 11 rfl rfl)
theorem dX1_gap_36 : decode cX1_gap 36 = .ok (.iinc 2 1, 3) := dk_132 2 1 (dk_at dksX1_gap_1 12 rfl rfl)
theorem dX1_gap_39 : decode cX1_gap 39 = .ok (.goto (-35), 3) := dk_167 255 221 (dk_at dksX1_gap_1 15 rfl rfl)
theorem dX1_gap_42 : decode cX1_gap 42 = .ok (.iload_n 1, 1) := dk_27 (dk_at dksX1_gap_1 18 rfl rfl)
theorem dX1_gap_43 : decode cX1_gap 43 = .ok (.ireturn, 1) := dk_172 (dk_at dksX1_gap_1 19 rfl rfl)
def dkwX1_isBroken_3 : List UInt8 := [3, 172]
abbrev dktX1_isBroken_3 : List UInt8 := dkwX1_isBroken_3 ++ []
def dkwX1_isBroken_2 : List UInt8 := [192, 1, 10, 182, 1, 12, 62, 42, 180, 0, 24, 180, 1, 40, 29, 51, 153, 0, 5, 4, 172, 167, 255, 220]
abbrev dktX1_isBroken_2 : List UInt8 := dkwX1_isBroken_2 ++ dktX1_isBroken_3
def dkwX1_isBroken_1 : List UInt8 := [182, 0, 247, 185, 0, 251, 1, 0, 77, 44, 185, 1, 1, 1, 0, 153, 0, 33, 44, 185, 1, 7, 1, 0]
abbrev dktX1_isBroken_1 : List UInt8 := dkwX1_isBroken_1 ++ dktX1_isBroken_2
def dkwX1_isBroken_0 : List UInt8 := [42, 180, 0, 24, 43, 178, 1, 119, 182, 1, 125, 19, 1, 154, 161, 0, 5, 4, 172, 42, 180, 0, 24, 43]
abbrev dktX1_isBroken_0 : List UInt8 := dkwX1_isBroken_0 ++ dktX1_isBroken_1
theorem dksX1_isBroken_0 : cX1_isBroken.data.toList.drop 0 = dktX1_isBroken_0 := by decide +kernel
theorem dksX1_isBroken_1 : cX1_isBroken.data.toList.drop 24 = dktX1_isBroken_1 := dk_seg dksX1_isBroken_0 24 rfl rfl
theorem dksX1_isBroken_2 : cX1_isBroken.data.toList.drop 48 = dktX1_isBroken_2 := dk_seg dksX1_isBroken_1 24 rfl rfl
theorem dksX1_isBroken_3 : cX1_isBroken.data.toList.drop 72 = dktX1_isBroken_3 := dk_seg dksX1_isBroken_2 24 rfl rfl
theorem dX1_isBroken_0 : decode cX1_isBroken 0 = .ok (.aload_n 0, 1) := dk_42 (dk_at dksX1_isBroken_0 0 rfl rfl)
theorem dX1_isBroken_1 : decode cX1_isBroken 1 = .ok (.getfield 24, 3) := dk_180 0 24 (dk_at dksX1_isBroken_0 1 rfl rfl)
theorem dX1_isBroken_4 : decode cX1_isBroken 4 = .ok (.aload_n 1, 1) := dk_43 (dk_at dksX1_isBroken_0 4 rfl rfl)
theorem dX1_isBroken_5 : decode cX1_isBroken 5 = .ok (.getstatic 375, 3) := dk_178 1 119 (dk_at dksX1_isBroken_0 5 rfl rfl)
theorem dX1_isBroken_8 : decode cX1_isBroken 8 = .ok (.invokevirtual 381, 3) := dk_182 1 125 (dk_at dksX1_isBroken_0 8 rfl rfl)
theorem dX1_isBroken_11 : decode cX1_isBroken 11 = .ok (.ldc_w 410, 3) := dk_19 1 154 (dk_at dksX1_isBroken_0 11 rfl rfl)
theorem dX1_isBroken_14 : decode cX1_isBroken 14 = .ok (.if_icmp .lt 5, 3) := dk_161 0 5 (dk_at dksX1_isBroken_0 14 rfl rfl)
theorem dX1_isBroken_17 : decode cX1_isBroken 17 = .ok (.iconst 1, 1) := dk_4 (dk_at dksX1_isBroken_0 17 rfl rfl)
theorem dX1_isBroken_18 : decode cX1_isBroken 18 = .ok (.ireturn, 1) := dk_172 (dk_at dksX1_isBroken_0 18 rfl rfl)
theorem dX1_isBroken_19 : decode cX1_isBroken 19 = .ok (.aload_n 0, 1) := dk_42 (dk_at dksX1_isBroken_0 19 rfl rfl)
theorem dX1_isBroken_20 : decode cX1_isBroken 20 = .ok (.getfield 24, 3) := dk_180 0 24 (dk_at dksX1_isBroken_0 20 rfl rfl)
theorem dX1_isBroken_23 : decode cX1_isBroken 23 = .ok (.aload_n 1, 1) := dk_43 (dk_at dksX1_isBroken_0 23 rfl rfl)
theorem dX1_isBroken_24 : decode cX1_isBroken 24 = .ok (.invokevirtual 247, 3) := dk_182 0 247 (dk_at dksX1_isBroken_1 0 rfl rfl)
theorem dX1_isBroken_27 : decode cX1_isBroken 27 = .ok (.invokeinterface 251 1, 5) := by decide +kernel
theorem dX1_isBroken_32 : decode cX1_isBroken 32 = .ok (.astore_n 2, 1) := dk_77 (dk_at dksX1_isBroken_1 8 rfl rfl)
theorem dX1_isBroken_33 : decode cX1_isBroken 33 = .ok (.aload_n 2, 1) := dk_44 (dk_at dksX1_isBroken_1 9 rfl rfl)
theorem dX1_isBroken_34 : decode cX1_isBroken 34 = .ok (.invokeinterface 257 1, 5) := by decide +kernel
theorem dX1_isBroken_39 : decode cX1_isBroken 39 = .ok (.ifCond .eq 33, 3) := dk_153 0 33 (dk_at dksX1_isBroken_1 15 rfl rfl)
theorem dX1_isBroken_42 : decode cX1_isBroken 42 = .ok (.aload_n 2, 1) := dk_44 (dk_at dksX1_isBroken_1 18 rfl rfl)
theorem dX1_isBroken_43 : decode cX1_isBroken 43 = .ok (.invokeinterface 263 1, 5) := by decide +kernel
theorem dX1_isBroken_48 : decode cX1_isBroken 48 = .ok (.checkcast 266, 3) := dk_192 1 10 (dk_at dksX1_isBroken_2 0 rfl rfl)
theorem dX1_isBroken_51 : decode cX1_isBroken 51 = .ok (.invokevirtual 268, 3) := dk_182 1 12 (dk_at dksX1_isBroken_2 3 rfl rfl)
theorem dX1_isBroken_54 : decode cX1_isBroken 54 = .ok (.istore_n 3, 1) := dk_62 (dk_at dksX1_isBroken_2 6 rfl rfl)
theorem dX1_isBroken_55 : decode cX1_isBroken 55 = .ok (.aload_n 0, 1) := dk_42 (dk_at dksX1_isBroken_2 7 rfl rfl)
theorem dX1_isBroken_56 : decode cX1_isBroken 56 = .ok (.getfield 24, 3) := dk_180 0 24 (dk_at dksX1_isBroken_2 8 rfl rfl)
theorem dX1_isBroken_59 : decode cX1_isBroken 59 = .ok (.getfield 296, 3) := dk_180 1 40 (dk_at dksX1_isBroken_2 11 rfl rfl)
theorem dX1_isBroken_62 : decode cX1_isBroken 62 = .ok (.iload_n 3, 1) := dk_29 (dk_at dksX1_isBroken_2 14 rfl rfl)
theorem dX1_isBroken_63 : decode cX1_isBroken 63 = .ok (.baload, 1) := dk_51 (dk_at dksX1_isBroken_2 15 rfl rfl)
theorem dX1_isBroken_64 : decode cX1_isBroken 64 = .ok (.ifCond .eq 5, 3) := dk_153 0 5 (dk_at dksX1_isBroken_2 16 rfl rfl)
theorem dX1_isBroken_67 : decode cX1_isBroken 67 = .ok (.iconst 1, 1) := dk_4 (dk_at dksX1_isBroken_2 19 rfl rfl)
theorem dX1_isBroken_68 : decode cX1_isBroken 68 = .ok (.ireturn, 1) := dk_172 (dk_at dksX1_isBroken_2 20 rfl rfl)
theorem dX1_isBroken_69 : decode cX1_isBroken 69 = .ok (.goto (-36), 3) := dk_167 255 220 (dk_at dksX1_isBroken_2 21 rfl rfl)
theorem dX1_isBroken_72 : decode cX1_isBroken 72 = .ok (.iconst 0, 1) := dk_3 (dk_at dksX1_isBroken_3 0 rfl rfl)
theorem dX1_isBroken_73 : decode cX1_isBroken 73 = .ok (.ireturn, 1) := dk_172 (dk_at dksX1_isBroken_3 1 rfl rfl)
def dkwX1_bit_0 : List UInt8 := [26, 153, 0, 7, 4, 167, 0, 4, 3, 172]
abbrev dktX1_bit_0 : List UInt8 := dkwX1_bit_0 ++ []
theorem dksX1_bit_0 : cX1_bit.data.toList.drop 0 = dktX1_bit_0 := by decide +kernel
theorem dX1_bit_0 : decode cX1_bit 0 = .ok (.iload_n 0, 1) := dk_26 (dk_at dksX1_bit_0 0 rfl rfl)
theorem dX1_bit_1 : decode cX1_bit 1 = .ok (.ifCond .eq 7, 3) := dk_153 0 7 (dk_at dksX1_bit_0 1 rfl rfl)
theorem dX1_bit_4 : decode cX1_bit 4 = .ok (.iconst 1, 1) := dk_4 (dk_at dksX1_bit_0 4 rfl rfl)
theorem dX1_bit_5 : decode cX1_bit 5 = .ok (.goto 4, 3) := dk_167 0 4 (dk_at dksX1_bit_0 5 rfl rfl)
theorem dX1_bit_8 : decode cX1_bit 8 = .ok (.iconst 0, 1) := dk_3 (dk_at dksX1_bit_0 8 rfl rfl)
theorem dX1_bit_9 : decode cX1_bit 9 = .ok (.ireturn, 1) := dk_172 (dk_at dksX1_bit_0 9 rfl rfl)
def dkwX1_busiest_3 : List UInt8 := [182, 1, 133, 172]
abbrev dktX1_busiest_3 : List UInt8 := dkwX1_busiest_3 ++ []
def dkwX1_busiest_2 : List UInt8 := [27, 46, 164, 0, 5, 28, 60, 132, 2, 1, 167, 255, 202, 27, 2, 160, 0, 7, 2, 167, 0, 8, 42, 27]
abbrev dktX1_busiest_2 : List UInt8 := dkwX1_busiest_2 ++ dktX1_busiest_3
def dkwX1_busiest_1 : List UInt8 := [158, 0, 31, 27, 2, 159, 0, 24, 42, 180, 0, 24, 180, 1, 44, 28, 46, 42, 180, 0, 24, 180, 1, 44]
abbrev dktX1_busiest_1 : List UInt8 := dkwX1_busiest_1 ++ dktX1_busiest_2
def dkwX1_busiest_0 : List UInt8 := [2, 60, 3, 61, 28, 42, 180, 0, 24, 180, 1, 190, 162, 0, 49, 42, 180, 0, 24, 180, 1, 44, 28, 46]
abbrev dktX1_busiest_0 : List UInt8 := dkwX1_busiest_0 ++ dktX1_busiest_1
theorem dksX1_busiest_0 : cX1_busiest.data.toList.drop 0 = dktX1_busiest_0 := by decide +kernel
theorem dksX1_busiest_1 : cX1_busiest.data.toList.drop 24 = dktX1_busiest_1 := dk_seg dksX1_busiest_0 24 rfl rfl
theorem dksX1_busiest_2 : cX1_busiest.data.toList.drop 48 = dktX1_busiest_2 := dk_seg dksX1_busiest_1 24 rfl rfl
theorem dksX1_busiest_3 : cX1_busiest.data.toList.drop 72 = dktX1_busiest_3 := dk_seg dksX1_busiest_2 24 rfl rfl
theorem dX1_busiest_0 : decode cX1_busiest 0 = .ok (.iconst (-1), 1) := dk_2 (dk_at dksX1_busiest_0 0 rfl rfl)
theorem dX1_busiest_1 : decode cX1_busiest 1 = .ok (.istore_n 1, 1) := dk_60 (dk_at dksX1_busiest_0 1 rfl rfl)
theorem dX1_busiest_2 : decode cX1_busiest 2 = .ok (.iconst 0, 1) := dk_3 (dk_at dksX1_busiest_0 2 rfl rfl)
theorem dX1_busiest_3 : decode cX1_busiest 3 = .ok (.istore_n 2, 1) := dk_61 (dk_at dksX1_busiest_0 3 rfl rfl)
theorem dX1_busiest_4 : decode cX1_busiest 4 = .ok (.iload_n 2, 1) := dk_28 (dk_at dksX1_busiest_0 4 rfl rfl)
theorem dX1_busiest_5 : decode cX1_busiest 5 = .ok (.aload_n 0, 1) := dk_42 (dk_at dksX1_busiest_0 5 rfl rfl)
theorem dX1_busiest_6 : decode cX1_busiest 6 = .ok (.getfield 24, 3) := dk_180 0 24 (dk_at dksX1_busiest_0 6 rfl rfl)
theorem dX1_busiest_9 : decode cX1_busiest 9 = .ok (.getfield 446, 3) := dk_180 1 190 (dk_at dksX1_busiest_0 9 rfl rfl)
theorem dX1_busiest_12 : decode cX1_busiest 12 = .ok (.if_icmp .ge 49, 3) := dk_162 0 49 (dk_at dksX1_busiest_0 12 rfl rfl)
theorem dX1_busiest_15 : decode cX1_busiest 15 = .ok (.aload_n 0, 1) := dk_42 (dk_at dksX1_busiest_0 15 rfl rfl)
theorem dX1_busiest_16 : decode cX1_busiest 16 = .ok (.getfield 24, 3) := dk_180 0 24 (dk_at dksX1_busiest_0 16 rfl rfl)
theorem dX1_busiest_19 : decode cX1_busiest 19 = .ok (.getfield 300, 3) := dk_180 1 44 (dk_at dksX1_busiest_0 19 rfl rfl)
theorem dX1_busiest_22 : decode cX1_busiest 22 = .ok (.iload_n 2, 1) := dk_28 (dk_at dksX1_busiest_0 22 rfl rfl)
theorem dX1_busiest_23 : decode cX1_busiest 23 = .ok (.iaload, 1) := dk_46 (dk_at dksX1_busiest_0 23 rfl rfl)
theorem dX1_busiest_24 : decode cX1_busiest 24 = .ok (.ifCond .le 31, 3) := dk_158 0 31 (dk_at dksX1_busiest_1 0 rfl rfl)
theorem dX1_busiest_27 : decode cX1_busiest 27 = .ok (.iload_n 1, 1) := dk_27 (dk_at dksX1_busiest_1 3 rfl rfl)
theorem dX1_busiest_28 : decode cX1_busiest 28 = .ok (.iconst (-1), 1) := dk_2 (dk_at dksX1_busiest_1 4 rfl rfl)
theorem dX1_busiest_29 : decode cX1_busiest 29 = .ok (.if_icmp .eq 24, 3) := dk_159 0 24 (dk_at dksX1_busiest_1 5 rfl rfl)
theorem dX1_busiest_32 : decode cX1_busiest 32 = .ok (.aload_n 0, 1) := dk_42 (dk_at dksX1_busiest_1 8 rfl rfl)
theorem dX1_busiest_33 : decode cX1_busiest 33 = .ok (.getfield 24, 3) := dk_180 0 24 (dk_at dksX1_busiest_1 9 rfl rfl)
theorem dX1_busiest_36 : decode cX1_busiest 36 = .ok (.getfield 300, 3) := dk_180 1 44 (dk_at dksX1_busiest_1 12 rfl rfl)
theorem dX1_busiest_39 : decode cX1_busiest 39 = .ok (.iload_n 2, 1) := dk_28 (dk_at dksX1_busiest_1 15 rfl rfl)
theorem dX1_busiest_40 : decode cX1_busiest 40 = .ok (.iaload, 1) := dk_46 (dk_at dksX1_busiest_1 16 rfl rfl)
theorem dX1_busiest_41 : decode cX1_busiest 41 = .ok (.aload_n 0, 1) := dk_42 (dk_at dksX1_busiest_1 17 rfl rfl)
theorem dX1_busiest_42 : decode cX1_busiest 42 = .ok (.getfield 24, 3) := dk_180 0 24 (dk_at dksX1_busiest_1 18 rfl rfl)
theorem dX1_busiest_45 : decode cX1_busiest 45 = .ok (.getfield 300, 3) := dk_180 1 44 (dk_at dksX1_busiest_1 21 rfl rfl)
theorem dX1_busiest_48 : decode cX1_busiest 48 = .ok (.iload_n 1, 1) := dk_27 (dk_at dksX1_busiest_2 0 rfl rfl)
theorem dX1_busiest_49 : decode cX1_busiest 49 = .ok (.iaload, 1) := dk_46 (dk_at dksX1_busiest_2 1 rfl rfl)
theorem dX1_busiest_50 : decode cX1_busiest 50 = .ok (.if_icmp .le 5, 3) := dk_164 0 5 (dk_at dksX1_busiest_2 2 rfl rfl)
theorem dX1_busiest_53 : decode cX1_busiest 53 = .ok (.iload_n 2, 1) := dk_28 (dk_at dksX1_busiest_2 5 rfl rfl)
theorem dX1_busiest_54 : decode cX1_busiest 54 = .ok (.istore_n 1, 1) := dk_60 (dk_at dksX1_busiest_2 6 rfl rfl)
theorem dX1_busiest_55 : decode cX1_busiest 55 = .ok (.iinc 2 1, 3) := dk_132 2 1 (dk_at dksX1_busiest_2 7 rfl rfl)
theorem dX1_busiest_58 : decode cX1_busiest 58 = .ok (.goto (-54), 3) := dk_167 255 202 (dk_at dksX1_busiest_2 10 rfl rfl)
theorem dX1_busiest_61 : decode cX1_busiest 61 = .ok (.iload_n 1, 1) := dk_27 (dk_at dksX1_busiest_2 13 rfl rfl)
theorem dX1_busiest_62 : decode cX1_busiest 62 = .ok (.iconst (-1), 1) := dk_2 (dk_at dksX1_busiest_2 14 rfl rfl)
theorem dX1_busiest_63 : decode cX1_busiest 63 = .ok (.if_icmp .ne 7, 3) := dk_160 0 7 (dk_at dksX1_busiest_2 15 rfl rfl)
theorem dX1_busiest_66 : decode cX1_busiest 66 = .ok (.iconst (-1), 1) := dk_2 (dk_at dksX1_busiest_2 18 rfl rfl)
theorem dX1_busiest_67 : decode cX1_busiest 67 = .ok (.goto 8, 3) := dk_167 0 8 (dk_at dksX1_busiest_2 19 rfl rfl)
theorem dX1_busiest_70 : decode cX1_busiest 70 = .ok (.aload_n 0, 1) := dk_42 (dk_at dksX1_busiest_2 22 rfl rfl)
theorem dX1_busiest_71 : decode cX1_busiest 71 = .ok (.iload_n 1, 1) := dk_27 (dk_at dksX1_busiest_2 23 rfl rfl)
theorem dX1_busiest_72 : decode cX1_busiest 72 = .ok (.invokevirtual 389, 3) := dk_182 1 133 (dk_at dksX1_busiest_3 0 rfl rfl)
theorem dX1_busiest_75 : decode cX1_busiest 75 = .ok (.ireturn, 1) := dk_172 (dk_at dksX1_busiest_3 3 rfl rfl)
def dkwX1_told_0 : List UInt8 := [16, 10, 27, 42, 180, 0, 24, 180, 0, 206, 108, 104, 27, 42, 180, 0, 24, 180, 0, 206, 112, 96, 172]
abbrev dktX1_told_0 : List UInt8 := dkwX1_told_0 ++ []
theorem dksX1_told_0 : cX1_told.data.toList.drop 0 = dktX1_told_0 := by decide +kernel
theorem dX1_told_0 : decode cX1_told 0 = .ok (.bipush 10, 2) := dk_16 10 (dk_at dksX1_told_0 0 rfl rfl)
theorem dX1_told_2 : decode cX1_told 2 = .ok (.iload_n 1, 1) := dk_27 (dk_at dksX1_told_0 2 rfl rfl)
theorem dX1_told_3 : decode cX1_told 3 = .ok (.aload_n 0, 1) := dk_42 (dk_at dksX1_told_0 3 rfl rfl)
theorem dX1_told_4 : decode cX1_told 4 = .ok (.getfield 24, 3) := dk_180 0 24 (dk_at dksX1_told_0 4 rfl rfl)
theorem dX1_told_7 : decode cX1_told 7 = .ok (.getfield 206, 3) := dk_180 0 206 (dk_at dksX1_told_0 7 rfl rfl)
theorem dX1_told_10 : decode cX1_told 10 = .ok (.idiv, 1) := dk_108 (dk_at dksX1_told_0 10 rfl rfl)
theorem dX1_told_11 : decode cX1_told 11 = .ok (.imul, 1) := dk_104 (dk_at dksX1_told_0 11 rfl rfl)
theorem dX1_told_12 : decode cX1_told 12 = .ok (.iload_n 1, 1) := dk_27 (dk_at dksX1_told_0 12 rfl rfl)
theorem dX1_told_13 : decode cX1_told 13 = .ok (.aload_n 0, 1) := dk_42 (dk_at dksX1_told_0 13 rfl rfl)
theorem dX1_told_14 : decode cX1_told 14 = .ok (.getfield 24, 3) := dk_180 0 24 (dk_at dksX1_told_0 14 rfl rfl)
theorem dX1_told_17 : decode cX1_told 17 = .ok (.getfield 206, 3) := dk_180 0 206 (dk_at dksX1_told_0 17 rfl rfl)
theorem dX1_told_20 : decode cX1_told 20 = .ok (.irem, 1) := dk_112 (dk_at dksX1_told_0 20 rfl rfl)
theorem dX1_told_21 : decode cX1_told 21 = .ok (.iadd, 1) := dk_96 (dk_at dksX1_told_0 21 rfl rfl)
theorem dX1_told_22 : decode cX1_told 22 = .ok (.ireturn, 1) := dk_172 (dk_at dksX1_told_0 22 rfl rfl)
def dkwX1_meanGrass_1 : List UInt8 := [135, 27, 135, 111, 175]
abbrev dktX1_meanGrass_1 : List UInt8 := dkwX1_meanGrass_1 ++ []
def dkwX1_meanGrass_0 : List UInt8 := [42, 180, 0, 24, 3, 182, 0, 226, 60, 27, 154, 0, 7, 14, 167, 0, 14, 42, 180, 0, 24, 182, 0, 233]
abbrev dktX1_meanGrass_0 : List UInt8 := dkwX1_meanGrass_0 ++ dktX1_meanGrass_1
theorem dksX1_meanGrass_0 : cX1_meanGrass.data.toList.drop 0 = dktX1_meanGrass_0 := by decide +kernel
theorem dksX1_meanGrass_1 : cX1_meanGrass.data.toList.drop 24 = dktX1_meanGrass_1 := dk_seg dksX1_meanGrass_0 24 rfl rfl
theorem dX1_meanGrass_0 : decode cX1_meanGrass 0 = .ok (.aload_n 0, 1) := dk_42 (dk_at dksX1_meanGrass_0 0 rfl rfl)
theorem dX1_meanGrass_1 : decode cX1_meanGrass 1 = .ok (.getfield 24, 3) := dk_180 0 24 (dk_at dksX1_meanGrass_0 1 rfl rfl)
theorem dX1_meanGrass_4 : decode cX1_meanGrass 4 = .ok (.iconst 0, 1) := dk_3 (dk_at dksX1_meanGrass_0 4 rfl rfl)
theorem dX1_meanGrass_5 : decode cX1_meanGrass 5 = .ok (.invokevirtual 226, 3) := dk_182 0 226 (dk_at dksX1_meanGrass_0 5 rfl rfl)
theorem dX1_meanGrass_8 : decode cX1_meanGrass 8 = .ok (.istore_n 1, 1) := dk_60 (dk_at dksX1_meanGrass_0 8 rfl rfl)
theorem dX1_meanGrass_9 : decode cX1_meanGrass 9 = .ok (.iload_n 1, 1) := dk_27 (dk_at dksX1_meanGrass_0 9 rfl rfl)
theorem dX1_meanGrass_10 : decode cX1_meanGrass 10 = .ok (.ifCond .ne 7, 3) := dk_154 0 7 (dk_at dksX1_meanGrass_0 10 rfl rfl)
theorem dX1_meanGrass_13 : decode cX1_meanGrass 13 = .ok (.dconst 0, 1) := dk_14 (dk_at dksX1_meanGrass_0 13 rfl rfl)
theorem dX1_meanGrass_14 : decode cX1_meanGrass 14 = .ok (.goto 14, 3) := dk_167 0 14 (dk_at dksX1_meanGrass_0 14 rfl rfl)
theorem dX1_meanGrass_17 : decode cX1_meanGrass 17 = .ok (.aload_n 0, 1) := dk_42 (dk_at dksX1_meanGrass_0 17 rfl rfl)
theorem dX1_meanGrass_18 : decode cX1_meanGrass 18 = .ok (.getfield 24, 3) := dk_180 0 24 (dk_at dksX1_meanGrass_0 18 rfl rfl)
theorem dX1_meanGrass_21 : decode cX1_meanGrass 21 = .ok (.invokevirtual 233, 3) := dk_182 0 233 (dk_at dksX1_meanGrass_0 21 rfl rfl)
theorem dX1_meanGrass_24 : decode cX1_meanGrass 24 = .ok (.i2d, 1) := dk_135 (dk_at dksX1_meanGrass_1 0 rfl rfl)
theorem dX1_meanGrass_25 : decode cX1_meanGrass 25 = .ok (.iload_n 1, 1) := dk_27 (dk_at dksX1_meanGrass_1 1 rfl rfl)
theorem dX1_meanGrass_26 : decode cX1_meanGrass 26 = .ok (.i2d, 1) := dk_135 (dk_at dksX1_meanGrass_1 2 rfl rfl)
theorem dX1_meanGrass_27 : decode cX1_meanGrass 27 = .ok (.ddiv, 1) := dk_111 (dk_at dksX1_meanGrass_1 3 rfl rfl)
theorem dX1_meanGrass_28 : decode cX1_meanGrass 28 = .ok (.dreturn, 1) := dk_175 (dk_at dksX1_meanGrass_1 4 rfl rfl)
def dkwX1_bareShare_1 : List UInt8 := [134, 27, 134, 110, 174]
abbrev dktX1_bareShare_1 : List UInt8 := dkwX1_bareShare_1 ++ []
def dkwX1_bareShare_0 : List UInt8 := [42, 180, 0, 24, 3, 182, 0, 226, 60, 27, 154, 0, 7, 11, 167, 0, 14, 42, 180, 0, 24, 182, 0, 230]
abbrev dktX1_bareShare_0 : List UInt8 := dkwX1_bareShare_0 ++ dktX1_bareShare_1
theorem dksX1_bareShare_0 : cX1_bareShare.data.toList.drop 0 = dktX1_bareShare_0 := by decide +kernel
theorem dksX1_bareShare_1 : cX1_bareShare.data.toList.drop 24 = dktX1_bareShare_1 := dk_seg dksX1_bareShare_0 24 rfl rfl
theorem dX1_bareShare_0 : decode cX1_bareShare 0 = .ok (.aload_n 0, 1) := dk_42 (dk_at dksX1_bareShare_0 0 rfl rfl)
theorem dX1_bareShare_1 : decode cX1_bareShare 1 = .ok (.getfield 24, 3) := dk_180 0 24 (dk_at dksX1_bareShare_0 1 rfl rfl)
theorem dX1_bareShare_4 : decode cX1_bareShare 4 = .ok (.iconst 0, 1) := dk_3 (dk_at dksX1_bareShare_0 4 rfl rfl)
theorem dX1_bareShare_5 : decode cX1_bareShare 5 = .ok (.invokevirtual 226, 3) := dk_182 0 226 (dk_at dksX1_bareShare_0 5 rfl rfl)
theorem dX1_bareShare_8 : decode cX1_bareShare 8 = .ok (.istore_n 1, 1) := dk_60 (dk_at dksX1_bareShare_0 8 rfl rfl)
theorem dX1_bareShare_9 : decode cX1_bareShare 9 = .ok (.iload_n 1, 1) := dk_27 (dk_at dksX1_bareShare_0 9 rfl rfl)
theorem dX1_bareShare_10 : decode cX1_bareShare 10 = .ok (.ifCond .ne 7, 3) := dk_154 0 7 (dk_at dksX1_bareShare_0 10 rfl rfl)
theorem dX1_bareShare_13 : decode cX1_bareShare 13 = .ok (.fconst 0, 1) := dk_11 (dk_at dksX1_bareShare_0 13 rfl rfl)
theorem dX1_bareShare_14 : decode cX1_bareShare 14 = .ok (.goto 14, 3) := dk_167 0 14 (dk_at dksX1_bareShare_0 14 rfl rfl)
theorem dX1_bareShare_17 : decode cX1_bareShare 17 = .ok (.aload_n 0, 1) := dk_42 (dk_at dksX1_bareShare_0 17 rfl rfl)
theorem dX1_bareShare_18 : decode cX1_bareShare 18 = .ok (.getfield 24, 3) := dk_180 0 24 (dk_at dksX1_bareShare_0 18 rfl rfl)
theorem dX1_bareShare_21 : decode cX1_bareShare 21 = .ok (.invokevirtual 230, 3) := dk_182 0 230 (dk_at dksX1_bareShare_0 21 rfl rfl)
theorem dX1_bareShare_24 : decode cX1_bareShare 24 = .ok (.i2f, 1) := dk_134 (dk_at dksX1_bareShare_1 0 rfl rfl)
theorem dX1_bareShare_25 : decode cX1_bareShare 25 = .ok (.iload_n 1, 1) := dk_27 (dk_at dksX1_bareShare_1 1 rfl rfl)
theorem dX1_bareShare_26 : decode cX1_bareShare 26 = .ok (.i2f, 1) := dk_134 (dk_at dksX1_bareShare_1 2 rfl rfl)
theorem dX1_bareShare_27 : decode cX1_bareShare 27 = .ok (.fdiv, 1) := dk_110 (dk_at dksX1_bareShare_1 3 rfl rfl)
theorem dX1_bareShare_28 : decode cX1_bareShare 28 = .ok (.freturn, 1) := dk_174 (dk_at dksX1_bareShare_1 4 rfl rfl)
def dkwX1_writeLawn_3 : List UInt8 := [182, 1, 225, 172]
abbrev dktX1_writeLawn_3 : List UInt8 := dkwX1_writeLawn_3 ++ []
def dkwX1_writeLawn_2 : List UInt8 := [87, 42, 180, 0, 46, 42, 27, 182, 1, 222, 182, 1, 102, 87, 132, 1, 1, 167, 255, 203, 42, 180, 0, 46]
abbrev dktX1_writeLawn_2 : List UInt8 := dkwX1_writeLawn_2 ++ dktX1_writeLawn_3
def dkwX1_writeLawn_1 : List UInt8 := [158, 0, 25, 27, 42, 180, 0, 24, 180, 0, 206, 112, 154, 0, 13, 42, 180, 0, 46, 16, 47, 182, 1, 102]
abbrev dktX1_writeLawn_1 : List UInt8 := dkwX1_writeLawn_1 ++ dktX1_writeLawn_2
def dkwX1_writeLawn_0 : List UInt8 := [42, 180, 0, 46, 3, 182, 1, 219, 3, 60, 27, 42, 180, 0, 24, 180, 1, 190, 162, 0, 48, 27]
abbrev dktX1_writeLawn_0 : List UInt8 := dkwX1_writeLawn_0 ++ dktX1_writeLawn_1
theorem dksX1_writeLawn_0 : cX1_writeLawn.data.toList.drop 0 = dktX1_writeLawn_0 := by decide +kernel
theorem dksX1_writeLawn_1 : cX1_writeLawn.data.toList.drop 22 = dktX1_writeLawn_1 := dk_seg dksX1_writeLawn_0 22 rfl rfl
theorem dksX1_writeLawn_2 : cX1_writeLawn.data.toList.drop 46 = dktX1_writeLawn_2 := dk_seg dksX1_writeLawn_1 24 rfl rfl
theorem dksX1_writeLawn_3 : cX1_writeLawn.data.toList.drop 70 = dktX1_writeLawn_3 := dk_seg dksX1_writeLawn_2 24 rfl rfl
theorem dX1_writeLawn_0 : decode cX1_writeLawn 0 = .ok (.aload_n 0, 1) := dk_42 (dk_at dksX1_writeLawn_0 0 rfl rfl)
theorem dX1_writeLawn_1 : decode cX1_writeLawn 1 = .ok (.getfield 46, 3) := dk_180 0 46 (dk_at dksX1_writeLawn_0 1 rfl rfl)
theorem dX1_writeLawn_4 : decode cX1_writeLawn 4 = .ok (.iconst 0, 1) := dk_3 (dk_at dksX1_writeLawn_0 4 rfl rfl)
theorem dX1_writeLawn_5 : decode cX1_writeLawn 5 = .ok (.invokevirtual 475, 3) := dk_182 1 219 (dk_at dksX1_writeLawn_0 5 rfl rfl)
theorem dX1_writeLawn_8 : decode cX1_writeLawn 8 = .ok (.iconst 0, 1) := dk_3 (dk_at dksX1_writeLawn_0 8 rfl rfl)
theorem dX1_writeLawn_9 : decode cX1_writeLawn 9 = .ok (.istore_n 1, 1) := dk_60 (dk_at dksX1_writeLawn_0 9 rfl rfl)
theorem dX1_writeLawn_10 : decode cX1_writeLawn 10 = .ok (.iload_n 1, 1) := dk_27 (dk_at dksX1_writeLawn_0 10 rfl rfl)
theorem dX1_writeLawn_11 : decode cX1_writeLawn 11 = .ok (.aload_n 0, 1) := dk_42 (dk_at dksX1_writeLawn_0 11 rfl rfl)
theorem dX1_writeLawn_12 : decode cX1_writeLawn 12 = .ok (.getfield 24, 3) := dk_180 0 24 (dk_at dksX1_writeLawn_0 12 rfl rfl)
theorem dX1_writeLawn_15 : decode cX1_writeLawn 15 = .ok (.getfield 446, 3) := dk_180 1 190 (dk_at dksX1_writeLawn_0 15 rfl rfl)
theorem dX1_writeLawn_18 : decode cX1_writeLawn 18 = .ok (.if_icmp .ge 48, 3) := dk_162 0 48 (dk_at dksX1_writeLawn_0 18 rfl rfl)
theorem dX1_writeLawn_21 : decode cX1_writeLawn 21 = .ok (.iload_n 1, 1) := dk_27 (dk_at dksX1_writeLawn_0 21 rfl rfl)
theorem dX1_writeLawn_22 : decode cX1_writeLawn 22 = .ok (.ifCond .le 25, 3) := dk_158 0 25 (dk_at dksX1_writeLawn_1 0 rfl rfl)
theorem dX1_writeLawn_25 : decode cX1_writeLawn 25 = .ok (.iload_n 1, 1) := dk_27 (dk_at dksX1_writeLawn_1 3 rfl rfl)
theorem dX1_writeLawn_26 : decode cX1_writeLawn 26 = .ok (.aload_n 0, 1) := dk_42 (dk_at dksX1_writeLawn_1 4 rfl rfl)
theorem dX1_writeLawn_27 : decode cX1_writeLawn 27 = .ok (.getfield 24, 3) := dk_180 0 24 (dk_at dksX1_writeLawn_1 5 rfl rfl)
theorem dX1_writeLawn_30 : decode cX1_writeLawn 30 = .ok (.getfield 206, 3) := dk_180 0 206 (dk_at dksX1_writeLawn_1 8 rfl rfl)
theorem dX1_writeLawn_33 : decode cX1_writeLawn 33 = .ok (.irem, 1) := dk_112 (dk_at dksX1_writeLawn_1 11 rfl rfl)
theorem dX1_writeLawn_34 : decode cX1_writeLawn 34 = .ok (.ifCond .ne 13, 3) := dk_154 0 13 (dk_at dksX1_writeLawn_1 12 rfl rfl)
theorem dX1_writeLawn_37 : decode cX1_writeLawn 37 = .ok (.aload_n 0, 1) := dk_42 (dk_at dksX1_writeLawn_1 15 rfl rfl)
theorem dX1_writeLawn_38 : decode cX1_writeLawn 38 = .ok (.getfield 46, 3) := dk_180 0 46 (dk_at dksX1_writeLawn_1 16 rfl rfl)
theorem dX1_writeLawn_41 : decode cX1_writeLawn 41 = .ok (.bipush 47, 2) := dk_16 47 (dk_at dksX1_writeLawn_1 19 rfl rfl)
theorem dX1_writeLawn_43 : decode cX1_writeLawn 43 = .ok (.invokevirtual 358, 3) := dk_182 1 102 (dk_at dksX1_writeLawn_1 21 rfl rfl)
theorem dX1_writeLawn_46 : decode cX1_writeLawn 46 = .ok (.pop, 1) := dk_87 (dk_at dksX1_writeLawn_2 0 rfl rfl)
theorem dX1_writeLawn_47 : decode cX1_writeLawn 47 = .ok (.aload_n 0, 1) := dk_42 (dk_at dksX1_writeLawn_2 1 rfl rfl)
theorem dX1_writeLawn_48 : decode cX1_writeLawn 48 = .ok (.getfield 46, 3) := dk_180 0 46 (dk_at dksX1_writeLawn_2 2 rfl rfl)
theorem dX1_writeLawn_51 : decode cX1_writeLawn 51 = .ok (.aload_n 0, 1) := dk_42 (dk_at dksX1_writeLawn_2 5 rfl rfl)
theorem dX1_writeLawn_52 : decode cX1_writeLawn 52 = .ok (.iload_n 1, 1) := dk_27 (dk_at dksX1_writeLawn_2 6 rfl rfl)
theorem dX1_writeLawn_53 : decode cX1_writeLawn 53 = .ok (.invokevirtual 478, 3) := dk_182 1 222 (dk_at dksX1_writeLawn_2 7 rfl rfl)
theorem dX1_writeLawn_56 : decode cX1_writeLawn 56 = .ok (.invokevirtual 358, 3) := dk_182 1 102 (dk_at dksX1_writeLawn_2 10 rfl rfl)
theorem dX1_writeLawn_59 : decode cX1_writeLawn 59 = .ok (.pop, 1) := dk_87 (dk_at dksX1_writeLawn_2 13 rfl rfl)
theorem dX1_writeLawn_60 : decode cX1_writeLawn 60 = .ok (.iinc 1 1, 3) := dk_132 1 1 (dk_at dksX1_writeLawn_2 14 rfl rfl)
theorem dX1_writeLawn_63 : decode cX1_writeLawn 63 = .ok (.goto (-53), 3) := dk_167 255 203 (dk_at dksX1_writeLawn_2 17 rfl rfl)
theorem dX1_writeLawn_66 : decode cX1_writeLawn 66 = .ok (.aload_n 0, 1) := dk_42 (dk_at dksX1_writeLawn_2 20 rfl rfl)
theorem dX1_writeLawn_67 : decode cX1_writeLawn 67 = .ok (.getfield 46, 3) := dk_180 0 46 (dk_at dksX1_writeLawn_2 21 rfl rfl)
theorem dX1_writeLawn_70 : decode cX1_writeLawn 70 = .ok (.invokevirtual 481, 3) := dk_182 1 225 (dk_at dksX1_writeLawn_3 0 rfl rfl)
theorem dX1_writeLawn_73 : decode cX1_writeLawn 73 = .ok (.ireturn, 1) := dk_172 (dk_at dksX1_writeLawn_3 3 rfl rfl)
def dkwX1_sign_3 : List UInt8 := [167, 0, 16, 16, 48, 42, 180, 0, 24, 180, 1, 37, 27, 46, 96, 146, 172]
abbrev dktX1_sign_3 : List UInt8 := dkwX1_sign_3 ++ []
def dkwX1_sign_2 : List UInt8 := [16, 71, 167, 0, 38, 16, 83, 167, 0, 33, 42, 180, 0, 24, 180, 1, 40, 27, 51, 153, 0, 8, 16, 70]
abbrev dktX1_sign_2 : List UInt8 := dkwX1_sign_2 ++ dktX1_sign_3
def dkwX1_sign_1 : List UInt8 := [171, 0, 0, 0, 0, 0, 37, 0, 0, 0, 2, 0, 0, 0, 1, 0, 0, 0, 32, 0, 0, 0, 2, 0, 0, 0, 27]
abbrev dktX1_sign_1 : List UInt8 := dkwX1_sign_1 ++ dktX1_sign_2
def dkwX1_sign_0 : List UInt8 := [42, 180, 0, 24, 180, 1, 31, 27, 46]
abbrev dktX1_sign_0 : List UInt8 := dkwX1_sign_0 ++ dktX1_sign_1
theorem dksX1_sign_0 : cX1_sign.data.toList.drop 0 = dktX1_sign_0 := by decide +kernel
theorem dksX1_sign_1 : cX1_sign.data.toList.drop 9 = dktX1_sign_1 := dk_seg dksX1_sign_0 9 rfl rfl
theorem dksX1_sign_2 : cX1_sign.data.toList.drop 36 = dktX1_sign_2 := dk_seg dksX1_sign_1 27 rfl rfl
theorem dksX1_sign_3 : cX1_sign.data.toList.drop 60 = dktX1_sign_3 := dk_seg dksX1_sign_2 24 rfl rfl
theorem dX1_sign_0 : decode cX1_sign 0 = .ok (.aload_n 0, 1) := dk_42 (dk_at dksX1_sign_0 0 rfl rfl)
theorem dX1_sign_1 : decode cX1_sign 1 = .ok (.getfield 24, 3) := dk_180 0 24 (dk_at dksX1_sign_0 1 rfl rfl)
theorem dX1_sign_4 : decode cX1_sign 4 = .ok (.getfield 287, 3) := dk_180 1 31 (dk_at dksX1_sign_0 4 rfl rfl)
theorem dX1_sign_7 : decode cX1_sign 7 = .ok (.iload_n 1, 1) := dk_27 (dk_at dksX1_sign_0 7 rfl rfl)
theorem dX1_sign_8 : decode cX1_sign 8 = .ok (.iaload, 1) := dk_46 (dk_at dksX1_sign_0 8 rfl rfl)
theorem dX1_sign_9 : decode cX1_sign 9 = .ok (.lookupswitch 37 #[(1, 32), (2, 27)], 27) := by decide +kernel
theorem dX1_sign_36 : decode cX1_sign 36 = .ok (.bipush 71, 2) := dk_16 71 (dk_at dksX1_sign_2 0 rfl rfl)
theorem dX1_sign_38 : decode cX1_sign 38 = .ok (.goto 38, 3) := dk_167 0 38 (dk_at dksX1_sign_2 2 rfl rfl)
theorem dX1_sign_41 : decode cX1_sign 41 = .ok (.bipush 83, 2) := dk_16 83 (dk_at dksX1_sign_2 5 rfl rfl)
theorem dX1_sign_43 : decode cX1_sign 43 = .ok (.goto 33, 3) := dk_167 0 33 (dk_at dksX1_sign_2 7 rfl rfl)
theorem dX1_sign_46 : decode cX1_sign 46 = .ok (.aload_n 0, 1) := dk_42 (dk_at dksX1_sign_2 10 rfl rfl)
theorem dX1_sign_47 : decode cX1_sign 47 = .ok (.getfield 24, 3) := dk_180 0 24 (dk_at dksX1_sign_2 11 rfl rfl)
theorem dX1_sign_50 : decode cX1_sign 50 = .ok (.getfield 296, 3) := dk_180 1 40 (dk_at dksX1_sign_2 14 rfl rfl)
theorem dX1_sign_53 : decode cX1_sign 53 = .ok (.iload_n 1, 1) := dk_27 (dk_at dksX1_sign_2 17 rfl rfl)
theorem dX1_sign_54 : decode cX1_sign 54 = .ok (.baload, 1) := dk_51 (dk_at dksX1_sign_2 18 rfl rfl)
theorem dX1_sign_55 : decode cX1_sign 55 = .ok (.ifCond .eq 8, 3) := dk_153 0 8 (dk_at dksX1_sign_2 19 rfl rfl)
theorem dX1_sign_58 : decode cX1_sign 58 = .ok (.bipush 70, 2) := dk_16 70 (dk_at dksX1_sign_2 22 rfl rfl)
theorem dX1_sign_60 : decode cX1_sign 60 = .ok (.goto 16, 3) := dk_167 0 16 (dk_at dksX1_sign_3 0 rfl rfl)
theorem dX1_sign_63 : decode cX1_sign 63 = .ok (.bipush 48, 2) := dk_16 48 (dk_at dksX1_sign_3 3 rfl rfl)
theorem dX1_sign_65 : decode cX1_sign 65 = .ok (.aload_n 0, 1) := dk_42 (dk_at dksX1_sign_3 5 rfl rfl)
theorem dX1_sign_66 : decode cX1_sign 66 = .ok (.getfield 24, 3) := dk_180 0 24 (dk_at dksX1_sign_3 6 rfl rfl)
theorem dX1_sign_69 : decode cX1_sign 69 = .ok (.getfield 293, 3) := dk_180 1 37 (dk_at dksX1_sign_3 9 rfl rfl)
theorem dX1_sign_72 : decode cX1_sign 72 = .ok (.iload_n 1, 1) := dk_27 (dk_at dksX1_sign_3 12 rfl rfl)
theorem dX1_sign_73 : decode cX1_sign 73 = .ok (.iaload, 1) := dk_46 (dk_at dksX1_sign_3 13 rfl rfl)
theorem dX1_sign_74 : decode cX1_sign 74 = .ok (.iadd, 1) := dk_96 (dk_at dksX1_sign_3 14 rfl rfl)
theorem dX1_sign_75 : decode cX1_sign 75 = .ok (.i2c, 1) := dk_146 (dk_at dksX1_sign_3 15 rfl rfl)
theorem dX1_sign_76 : decode cX1_sign 76 = .ok (.ireturn, 1) := dk_172 (dk_at dksX1_sign_3 16 rfl rfl)
def dkwX1_outputByte_1 : List UInt8 := [182, 1, 226, 167, 0, 4, 2, 172]
abbrev dktX1_outputByte_1 : List UInt8 := dkwX1_outputByte_1 ++ []
def dkwX1_outputByte_0 : List UInt8 := [27, 133, 9, 42, 180, 0, 46, 182, 1, 225, 4, 100, 133, 184, 0, 114, 153, 0, 14, 42, 180, 0, 46, 27]
abbrev dktX1_outputByte_0 : List UInt8 := dkwX1_outputByte_0 ++ dktX1_outputByte_1
theorem dksX1_outputByte_0 : cX1_outputByte.data.toList.drop 0 = dktX1_outputByte_0 := by decide +kernel
theorem dksX1_outputByte_1 : cX1_outputByte.data.toList.drop 24 = dktX1_outputByte_1 := dk_seg dksX1_outputByte_0 24 rfl rfl
theorem dX1_outputByte_0 : decode cX1_outputByte 0 = .ok (.iload_n 1, 1) := dk_27 (dk_at dksX1_outputByte_0 0 rfl rfl)
theorem dX1_outputByte_1 : decode cX1_outputByte 1 = .ok (.i2l, 1) := dk_133 (dk_at dksX1_outputByte_0 1 rfl rfl)
theorem dX1_outputByte_2 : decode cX1_outputByte 2 = .ok (.lconst 0, 1) := dk_9 (dk_at dksX1_outputByte_0 2 rfl rfl)
theorem dX1_outputByte_3 : decode cX1_outputByte 3 = .ok (.aload_n 0, 1) := dk_42 (dk_at dksX1_outputByte_0 3 rfl rfl)
theorem dX1_outputByte_4 : decode cX1_outputByte 4 = .ok (.getfield 46, 3) := dk_180 0 46 (dk_at dksX1_outputByte_0 4 rfl rfl)
theorem dX1_outputByte_7 : decode cX1_outputByte 7 = .ok (.invokevirtual 481, 3) := dk_182 1 225 (dk_at dksX1_outputByte_0 7 rfl rfl)
theorem dX1_outputByte_10 : decode cX1_outputByte 10 = .ok (.iconst 1, 1) := dk_4 (dk_at dksX1_outputByte_0 10 rfl rfl)
theorem dX1_outputByte_11 : decode cX1_outputByte 11 = .ok (.isub, 1) := dk_100 (dk_at dksX1_outputByte_0 11 rfl rfl)
theorem dX1_outputByte_12 : decode cX1_outputByte 12 = .ok (.i2l, 1) := dk_133 (dk_at dksX1_outputByte_0 12 rfl rfl)
theorem dX1_outputByte_13 : decode cX1_outputByte 13 = .ok (.invokestatic 114, 3) := dk_184 0 114 (dk_at dksX1_outputByte_0 13 rfl rfl)
theorem dX1_outputByte_16 : decode cX1_outputByte 16 = .ok (.ifCond .eq 14, 3) := dk_153 0 14 (dk_at dksX1_outputByte_0 16 rfl rfl)
theorem dX1_outputByte_19 : decode cX1_outputByte 19 = .ok (.aload_n 0, 1) := dk_42 (dk_at dksX1_outputByte_0 19 rfl rfl)
theorem dX1_outputByte_20 : decode cX1_outputByte 20 = .ok (.getfield 46, 3) := dk_180 0 46 (dk_at dksX1_outputByte_0 20 rfl rfl)
theorem dX1_outputByte_23 : decode cX1_outputByte 23 = .ok (.iload_n 1, 1) := dk_27 (dk_at dksX1_outputByte_0 23 rfl rfl)
theorem dX1_outputByte_24 : decode cX1_outputByte 24 = .ok (.invokevirtual 482, 3) := dk_182 1 226 (dk_at dksX1_outputByte_1 0 rfl rfl)
theorem dX1_outputByte_27 : decode cX1_outputByte 27 = .ok (.goto 4, 3) := dk_167 0 4 (dk_at dksX1_outputByte_1 3 rfl rfl)
theorem dX1_outputByte_30 : decode cX1_outputByte 30 = .ok (.iconst (-1), 1) := dk_2 (dk_at dksX1_outputByte_1 6 rfl rfl)
theorem dX1_outputByte_31 : decode cX1_outputByte 31 = .ok (.ireturn, 1) := dk_172 (dk_at dksX1_outputByte_1 7 rfl rfl)
def dkwX1_undo_1 : List UInt8 := [181, 0, 24, 42, 180, 0, 31, 182, 0, 92, 172]
abbrev dktX1_undo_1 : List UInt8 := dkwX1_undo_1 ++ []
def dkwX1_undo_0 : List UInt8 := [42, 180, 0, 31, 182, 1, 227, 153, 0, 5, 2, 172, 42, 42, 180, 0, 31, 182, 1, 230, 192, 0, 51]
abbrev dktX1_undo_0 : List UInt8 := dkwX1_undo_0 ++ dktX1_undo_1
theorem dksX1_undo_0 : cX1_undo.data.toList.drop 0 = dktX1_undo_0 := by decide +kernel
theorem dksX1_undo_1 : cX1_undo.data.toList.drop 23 = dktX1_undo_1 := dk_seg dksX1_undo_0 23 rfl rfl
theorem dX1_undo_0 : decode cX1_undo 0 = .ok (.aload_n 0, 1) := dk_42 (dk_at dksX1_undo_0 0 rfl rfl)
theorem dX1_undo_1 : decode cX1_undo 1 = .ok (.getfield 31, 3) := dk_180 0 31 (dk_at dksX1_undo_0 1 rfl rfl)
theorem dX1_undo_4 : decode cX1_undo 4 = .ok (.invokevirtual 483, 3) := dk_182 1 227 (dk_at dksX1_undo_0 4 rfl rfl)
theorem dX1_undo_7 : decode cX1_undo 7 = .ok (.ifCond .eq 5, 3) := dk_153 0 5 (dk_at dksX1_undo_0 7 rfl rfl)
theorem dX1_undo_10 : decode cX1_undo 10 = .ok (.iconst (-1), 1) := dk_2 (dk_at dksX1_undo_0 10 rfl rfl)
theorem dX1_undo_11 : decode cX1_undo 11 = .ok (.ireturn, 1) := dk_172 (dk_at dksX1_undo_0 11 rfl rfl)
theorem dX1_undo_12 : decode cX1_undo 12 = .ok (.aload_n 0, 1) := dk_42 (dk_at dksX1_undo_0 12 rfl rfl)
theorem dX1_undo_13 : decode cX1_undo 13 = .ok (.aload_n 0, 1) := dk_42 (dk_at dksX1_undo_0 13 rfl rfl)
theorem dX1_undo_14 : decode cX1_undo 14 = .ok (.getfield 31, 3) := dk_180 0 31 (dk_at dksX1_undo_0 14 rfl rfl)
theorem dX1_undo_17 : decode cX1_undo 17 = .ok (.invokevirtual 486, 3) := dk_182 1 230 (dk_at dksX1_undo_0 17 rfl rfl)
theorem dX1_undo_20 : decode cX1_undo 20 = .ok (.checkcast 51, 3) := dk_192 0 51 (dk_at dksX1_undo_0 20 rfl rfl)
theorem dX1_undo_23 : decode cX1_undo 23 = .ok (.putfield 24, 3) := dk_181 0 24 (dk_at dksX1_undo_1 0 rfl rfl)
theorem dX1_undo_26 : decode cX1_undo 26 = .ok (.aload_n 0, 1) := dk_42 (dk_at dksX1_undo_1 3 rfl rfl)
theorem dX1_undo_27 : decode cX1_undo 27 = .ok (.getfield 31, 3) := dk_180 0 31 (dk_at dksX1_undo_1 4 rfl rfl)
theorem dX1_undo_30 : decode cX1_undo 30 = .ok (.invokevirtual 92, 3) := dk_182 0 92 (dk_at dksX1_undo_1 7 rfl rfl)
theorem dX1_undo_33 : decode cX1_undo 33 = .ok (.ireturn, 1) := dk_172 (dk_at dksX1_undo_1 10 rfl rfl)
def dkwX1_save_0 : List UInt8 := [42, 42, 180, 0, 24, 182, 0, 187, 181, 1, 233, 42, 180, 0, 24, 180, 0, 203, 172]
abbrev dktX1_save_0 : List UInt8 := dkwX1_save_0 ++ []
theorem dksX1_save_0 : cX1_save.data.toList.drop 0 = dktX1_save_0 := by decide +kernel
theorem dX1_save_0 : decode cX1_save 0 = .ok (.aload_n 0, 1) := dk_42 (dk_at dksX1_save_0 0 rfl rfl)
theorem dX1_save_1 : decode cX1_save 1 = .ok (.aload_n 0, 1) := dk_42 (dk_at dksX1_save_0 1 rfl rfl)
theorem dX1_save_2 : decode cX1_save 2 = .ok (.getfield 24, 3) := dk_180 0 24 (dk_at dksX1_save_0 2 rfl rfl)
theorem dX1_save_5 : decode cX1_save 5 = .ok (.invokevirtual 187, 3) := dk_182 0 187 (dk_at dksX1_save_0 5 rfl rfl)
theorem dX1_save_8 : decode cX1_save 8 = .ok (.putfield 489, 3) := dk_181 1 233 (dk_at dksX1_save_0 8 rfl rfl)
theorem dX1_save_11 : decode cX1_save 11 = .ok (.aload_n 0, 1) := dk_42 (dk_at dksX1_save_0 11 rfl rfl)
theorem dX1_save_12 : decode cX1_save 12 = .ok (.getfield 24, 3) := dk_180 0 24 (dk_at dksX1_save_0 12 rfl rfl)
theorem dX1_save_15 : decode cX1_save 15 = .ok (.getfield 203, 3) := dk_180 0 203 (dk_at dksX1_save_0 15 rfl rfl)
theorem dX1_save_18 : decode cX1_save 18 = .ok (.ireturn, 1) := dk_172 (dk_at dksX1_save_0 18 rfl rfl)
def dkwX1_append_2 : List UInt8 := [182, 0, 110, 42, 180, 0, 104, 172]
abbrev dktX1_append_2 : List UInt8 := dkwX1_append_2 ++ []
def dkwX1_append_1 : List UInt8 := [188, 10, 89, 3, 27, 79, 89, 4, 28, 79, 89, 5, 29, 79, 89, 6, 21, 4, 79, 89, 7, 21, 5, 79]
abbrev dktX1_append_1 : List UInt8 := dkwX1_append_1 ++ dktX1_append_2
def dkwX1_append_0 : List UInt8 := [42, 180, 0, 104, 16, 20, 96, 17, 3, 132, 164, 0, 11, 187, 0, 107, 89, 183, 0, 109, 191, 42, 8]
abbrev dktX1_append_0 : List UInt8 := dkwX1_append_0 ++ dktX1_append_1
theorem dksX1_append_0 : cX1_append.data.toList.drop 0 = dktX1_append_0 := by decide +kernel
theorem dksX1_append_1 : cX1_append.data.toList.drop 23 = dktX1_append_1 := dk_seg dksX1_append_0 23 rfl rfl
theorem dksX1_append_2 : cX1_append.data.toList.drop 47 = dktX1_append_2 := dk_seg dksX1_append_1 24 rfl rfl
theorem dX1_append_0 : decode cX1_append 0 = .ok (.aload_n 0, 1) := dk_42 (dk_at dksX1_append_0 0 rfl rfl)
theorem dX1_append_1 : decode cX1_append 1 = .ok (.getfield 104, 3) := dk_180 0 104 (dk_at dksX1_append_0 1 rfl rfl)
theorem dX1_append_4 : decode cX1_append 4 = .ok (.bipush 20, 2) := dk_16 20 (dk_at dksX1_append_0 4 rfl rfl)
theorem dX1_append_6 : decode cX1_append 6 = .ok (.iadd, 1) := dk_96 (dk_at dksX1_append_0 6 rfl rfl)
theorem dX1_append_7 : decode cX1_append 7 = .ok (.sipush 900, 3) := dk_17 3 132 (dk_at dksX1_append_0 7 rfl rfl)
theorem dX1_append_10 : decode cX1_append 10 = .ok (.if_icmp .le 11, 3) := dk_164 0 11 (dk_at dksX1_append_0 10 rfl rfl)
theorem dX1_append_13 : decode cX1_append 13 = .ok (.new 107, 3) := dk_187 0 107 (dk_at dksX1_append_0 13 rfl rfl)
theorem dX1_append_16 : decode cX1_append 16 = .ok (.dup, 1) := dk_89 (dk_at dksX1_append_0 16 rfl rfl)
theorem dX1_append_17 : decode cX1_append 17 = .ok (.invokespecial 109, 3) := dk_183 0 109 (dk_at dksX1_append_0 17 rfl rfl)
theorem dX1_append_20 : decode cX1_append 20 = .ok (.athrow, 1) := dk_191 (dk_at dksX1_append_0 20 rfl rfl)
theorem dX1_append_21 : decode cX1_append 21 = .ok (.aload_n 0, 1) := dk_42 (dk_at dksX1_append_0 21 rfl rfl)
theorem dX1_append_22 : decode cX1_append 22 = .ok (.iconst 5, 1) := dk_8 (dk_at dksX1_append_0 22 rfl rfl)
theorem dX1_append_23 : decode cX1_append 23 = .ok (.newarray .int, 2) := dk_188_10 (dk_at dksX1_append_1 0 rfl rfl)
theorem dX1_append_25 : decode cX1_append 25 = .ok (.dup, 1) := dk_89 (dk_at dksX1_append_1 2 rfl rfl)
theorem dX1_append_26 : decode cX1_append 26 = .ok (.iconst 0, 1) := dk_3 (dk_at dksX1_append_1 3 rfl rfl)
theorem dX1_append_27 : decode cX1_append 27 = .ok (.iload_n 1, 1) := dk_27 (dk_at dksX1_append_1 4 rfl rfl)
theorem dX1_append_28 : decode cX1_append 28 = .ok (.iastore, 1) := dk_79 (dk_at dksX1_append_1 5 rfl rfl)
theorem dX1_append_29 : decode cX1_append 29 = .ok (.dup, 1) := dk_89 (dk_at dksX1_append_1 6 rfl rfl)
theorem dX1_append_30 : decode cX1_append 30 = .ok (.iconst 1, 1) := dk_4 (dk_at dksX1_append_1 7 rfl rfl)
theorem dX1_append_31 : decode cX1_append 31 = .ok (.iload_n 2, 1) := dk_28 (dk_at dksX1_append_1 8 rfl rfl)
theorem dX1_append_32 : decode cX1_append 32 = .ok (.iastore, 1) := dk_79 (dk_at dksX1_append_1 9 rfl rfl)
theorem dX1_append_33 : decode cX1_append 33 = .ok (.dup, 1) := dk_89 (dk_at dksX1_append_1 10 rfl rfl)
theorem dX1_append_34 : decode cX1_append 34 = .ok (.iconst 2, 1) := dk_5 (dk_at dksX1_append_1 11 rfl rfl)
theorem dX1_append_35 : decode cX1_append 35 = .ok (.iload_n 3, 1) := dk_29 (dk_at dksX1_append_1 12 rfl rfl)
theorem dX1_append_36 : decode cX1_append 36 = .ok (.iastore, 1) := dk_79 (dk_at dksX1_append_1 13 rfl rfl)
theorem dX1_append_37 : decode cX1_append 37 = .ok (.dup, 1) := dk_89 (dk_at dksX1_append_1 14 rfl rfl)
theorem dX1_append_38 : decode cX1_append 38 = .ok (.iconst 3, 1) := dk_6 (dk_at dksX1_append_1 15 rfl rfl)
theorem dX1_append_39 : decode cX1_append 39 = .ok (.iload 4, 2) := dk_21 4 (dk_at dksX1_append_1 16 rfl rfl)
theorem dX1_append_41 : decode cX1_append 41 = .ok (.iastore, 1) := dk_79 (dk_at dksX1_append_1 18 rfl rfl)
theorem dX1_append_42 : decode cX1_append 42 = .ok (.dup, 1) := dk_89 (dk_at dksX1_append_1 19 rfl rfl)
theorem dX1_append_43 : decode cX1_append 43 = .ok (.iconst 4, 1) := dk_7 (dk_at dksX1_append_1 20 rfl rfl)
theorem dX1_append_44 : decode cX1_append 44 = .ok (.iload 5, 2) := dk_21 5 (dk_at dksX1_append_1 21 rfl rfl)
theorem dX1_append_46 : decode cX1_append 46 = .ok (.iastore, 1) := dk_79 (dk_at dksX1_append_1 23 rfl rfl)
theorem dX1_append_47 : decode cX1_append 47 = .ok (.invokevirtual 110, 3) := dk_182 0 110 (dk_at dksX1_append_2 0 rfl rfl)
theorem dX1_append_50 : decode cX1_append 50 = .ok (.aload_n 0, 1) := dk_42 (dk_at dksX1_append_2 3 rfl rfl)
theorem dX1_append_51 : decode cX1_append 51 = .ok (.getfield 104, 3) := dk_180 0 104 (dk_at dksX1_append_2 4 rfl rfl)
theorem dX1_append_54 : decode cX1_append 54 = .ok (.ireturn, 1) := dk_172 (dk_at dksX1_append_2 7 rfl rfl)
def dkwX1_fours_2 : List UInt8 := [180, 0, 104, 4, 96, 181, 0, 104, 132, 6, 248, 167, 255, 223, 132, 4, 1, 167, 255, 201, 177]
abbrev dktX1_fours_2 : List UInt8 := dkwX1_fours_2 ++ []
def dkwX1_fours_1 : List UInt8 := [21, 6, 155, 0, 34, 42, 180, 0, 35, 42, 180, 0, 104, 21, 5, 21, 6, 122, 145, 84, 42, 89]
abbrev dktX1_fours_1 : List UInt8 := dkwX1_fours_1 ++ dktX1_fours_2
def dkwX1_fours_0 : List UInt8 := [43, 77, 44, 190, 62, 3, 54, 4, 21, 4, 29, 162, 0, 55, 44, 21, 4, 46, 54, 5, 16, 24, 54, 6]
abbrev dktX1_fours_0 : List UInt8 := dkwX1_fours_0 ++ dktX1_fours_1
theorem dksX1_fours_0 : cX1_fours.data.toList.drop 0 = dktX1_fours_0 := by decide +kernel
theorem dksX1_fours_1 : cX1_fours.data.toList.drop 24 = dktX1_fours_1 := dk_seg dksX1_fours_0 24 rfl rfl
theorem dksX1_fours_2 : cX1_fours.data.toList.drop 46 = dktX1_fours_2 := dk_seg dksX1_fours_1 22 rfl rfl
theorem dX1_fours_0 : decode cX1_fours 0 = .ok (.aload_n 1, 1) := dk_43 (dk_at dksX1_fours_0 0 rfl rfl)
theorem dX1_fours_1 : decode cX1_fours 1 = .ok (.astore_n 2, 1) := dk_77 (dk_at dksX1_fours_0 1 rfl rfl)
theorem dX1_fours_2 : decode cX1_fours 2 = .ok (.aload_n 2, 1) := dk_44 (dk_at dksX1_fours_0 2 rfl rfl)
theorem dX1_fours_3 : decode cX1_fours 3 = .ok (.arraylength, 1) := dk_190 (dk_at dksX1_fours_0 3 rfl rfl)
theorem dX1_fours_4 : decode cX1_fours 4 = .ok (.istore_n 3, 1) := dk_62 (dk_at dksX1_fours_0 4 rfl rfl)
theorem dX1_fours_5 : decode cX1_fours 5 = .ok (.iconst 0, 1) := dk_3 (dk_at dksX1_fours_0 5 rfl rfl)
theorem dX1_fours_6 : decode cX1_fours 6 = .ok (.istore 4, 2) := dk_54 4 (dk_at dksX1_fours_0 6 rfl rfl)
theorem dX1_fours_8 : decode cX1_fours 8 = .ok (.iload 4, 2) := dk_21 4 (dk_at dksX1_fours_0 8 rfl rfl)
theorem dX1_fours_10 : decode cX1_fours 10 = .ok (.iload_n 3, 1) := dk_29 (dk_at dksX1_fours_0 10 rfl rfl)
theorem dX1_fours_11 : decode cX1_fours 11 = .ok (.if_icmp .ge 55, 3) := dk_162 0 55 (dk_at dksX1_fours_0 11 rfl rfl)
theorem dX1_fours_14 : decode cX1_fours 14 = .ok (.aload_n 2, 1) := dk_44 (dk_at dksX1_fours_0 14 rfl rfl)
theorem dX1_fours_15 : decode cX1_fours 15 = .ok (.iload 4, 2) := dk_21 4 (dk_at dksX1_fours_0 15 rfl rfl)
theorem dX1_fours_17 : decode cX1_fours 17 = .ok (.iaload, 1) := dk_46 (dk_at dksX1_fours_0 17 rfl rfl)
theorem dX1_fours_18 : decode cX1_fours 18 = .ok (.istore 5, 2) := dk_54 5 (dk_at dksX1_fours_0 18 rfl rfl)
theorem dX1_fours_20 : decode cX1_fours 20 = .ok (.bipush 24, 2) := dk_16 24 (dk_at dksX1_fours_0 20 rfl rfl)
theorem dX1_fours_22 : decode cX1_fours 22 = .ok (.istore 6, 2) := dk_54 6 (dk_at dksX1_fours_0 22 rfl rfl)
theorem dX1_fours_24 : decode cX1_fours 24 = .ok (.iload 6, 2) := dk_21 6 (dk_at dksX1_fours_1 0 rfl rfl)
theorem dX1_fours_26 : decode cX1_fours 26 = .ok (.ifCond .lt 34, 3) := dk_155 0 34 (dk_at dksX1_fours_1 2 rfl rfl)
theorem dX1_fours_29 : decode cX1_fours 29 = .ok (.aload_n 0, 1) := dk_42 (dk_at dksX1_fours_1 5 rfl rfl)
theorem dX1_fours_30 : decode cX1_fours 30 = .ok (.getfield 35, 3) := dk_180 0 35 (dk_at dksX1_fours_1 6 rfl rfl)
theorem dX1_fours_33 : decode cX1_fours 33 = .ok (.aload_n 0, 1) := dk_42 (dk_at dksX1_fours_1 9 rfl rfl)
theorem dX1_fours_34 : decode cX1_fours 34 = .ok (.getfield 104, 3) := dk_180 0 104 (dk_at dksX1_fours_1 10 rfl rfl)
theorem dX1_fours_37 : decode cX1_fours 37 = .ok (.iload 5, 2) := dk_21 5 (dk_at dksX1_fours_1 13 rfl rfl)
theorem dX1_fours_39 : decode cX1_fours 39 = .ok (.iload 6, 2) := dk_21 6 (dk_at dksX1_fours_1 15 rfl rfl)
theorem dX1_fours_41 : decode cX1_fours 41 = .ok (.ishr, 1) := dk_122 (dk_at dksX1_fours_1 17 rfl rfl)
theorem dX1_fours_42 : decode cX1_fours 42 = .ok (.i2b, 1) := dk_145 (dk_at dksX1_fours_1 18 rfl rfl)
theorem dX1_fours_43 : decode cX1_fours 43 = .ok (.bastore, 1) := dk_84 (dk_at dksX1_fours_1 19 rfl rfl)
theorem dX1_fours_44 : decode cX1_fours 44 = .ok (.aload_n 0, 1) := dk_42 (dk_at dksX1_fours_1 20 rfl rfl)
theorem dX1_fours_45 : decode cX1_fours 45 = .ok (.dup, 1) := dk_89 (dk_at dksX1_fours_1 21 rfl rfl)
theorem dX1_fours_46 : decode cX1_fours 46 = .ok (.getfield 104, 3) := dk_180 0 104 (dk_at dksX1_fours_2 0 rfl rfl)
theorem dX1_fours_49 : decode cX1_fours 49 = .ok (.iconst 1, 1) := dk_4 (dk_at dksX1_fours_2 3 rfl rfl)
theorem dX1_fours_50 : decode cX1_fours 50 = .ok (.iadd, 1) := dk_96 (dk_at dksX1_fours_2 4 rfl rfl)
theorem dX1_fours_51 : decode cX1_fours 51 = .ok (.putfield 104, 3) := dk_181 0 104 (dk_at dksX1_fours_2 5 rfl rfl)
theorem dX1_fours_54 : decode cX1_fours 54 = .ok (.iinc 6 (-8), 3) := dk_132 6 248 (dk_at dksX1_fours_2 8 rfl rfl)
theorem dX1_fours_57 : decode cX1_fours 57 = .ok (.goto (-33), 3) := dk_167 255 223 (dk_at dksX1_fours_2 11 rfl rfl)
theorem dX1_fours_60 : decode cX1_fours 60 = .ok (.iinc 4 1, 3) := dk_132 4 1 (dk_at dksX1_fours_2 14 rfl rfl)
theorem dX1_fours_63 : decode cX1_fours 63 = .ok (.goto (-55), 3) := dk_167 255 201 (dk_at dksX1_fours_2 17 rfl rfl)
theorem dX1_fours_66 : decode cX1_fours 66 = .ok (.return_, 1) := dk_177 (dk_at dksX1_fours_2 20 rfl rfl)
def dkwX1_truncate_0 : List UInt8 := [27, 133, 9, 42, 180, 0, 104, 133, 184, 0, 114, 184, 0, 118, 42, 27, 181, 0, 104, 27, 172]
abbrev dktX1_truncate_0 : List UInt8 := dkwX1_truncate_0 ++ []
theorem dksX1_truncate_0 : cX1_truncate.data.toList.drop 0 = dktX1_truncate_0 := by decide +kernel
theorem dX1_truncate_0 : decode cX1_truncate 0 = .ok (.iload_n 1, 1) := dk_27 (dk_at dksX1_truncate_0 0 rfl rfl)
theorem dX1_truncate_1 : decode cX1_truncate 1 = .ok (.i2l, 1) := dk_133 (dk_at dksX1_truncate_0 1 rfl rfl)
theorem dX1_truncate_2 : decode cX1_truncate 2 = .ok (.lconst 0, 1) := dk_9 (dk_at dksX1_truncate_0 2 rfl rfl)
theorem dX1_truncate_3 : decode cX1_truncate 3 = .ok (.aload_n 0, 1) := dk_42 (dk_at dksX1_truncate_0 3 rfl rfl)
theorem dX1_truncate_4 : decode cX1_truncate 4 = .ok (.getfield 104, 3) := dk_180 0 104 (dk_at dksX1_truncate_0 4 rfl rfl)
theorem dX1_truncate_7 : decode cX1_truncate 7 = .ok (.i2l, 1) := dk_133 (dk_at dksX1_truncate_0 7 rfl rfl)
theorem dX1_truncate_8 : decode cX1_truncate 8 = .ok (.invokestatic 114, 3) := dk_184 0 114 (dk_at dksX1_truncate_0 8 rfl rfl)
theorem dX1_truncate_11 : decode cX1_truncate 11 = .ok (.invokestatic 118, 3) := dk_184 0 118 (dk_at dksX1_truncate_0 11 rfl rfl)
theorem dX1_truncate_14 : decode cX1_truncate 14 = .ok (.aload_n 0, 1) := dk_42 (dk_at dksX1_truncate_0 14 rfl rfl)
theorem dX1_truncate_15 : decode cX1_truncate 15 = .ok (.iload_n 1, 1) := dk_27 (dk_at dksX1_truncate_0 15 rfl rfl)
theorem dX1_truncate_16 : decode cX1_truncate 16 = .ok (.putfield 104, 3) := dk_181 0 104 (dk_at dksX1_truncate_0 16 rfl rfl)
theorem dX1_truncate_19 : decode cX1_truncate 19 = .ok (.iload_n 1, 1) := dk_27 (dk_at dksX1_truncate_0 19 rfl rfl)
theorem dX1_truncate_20 : decode cX1_truncate 20 = .ok (.ireturn, 1) := dk_172 (dk_at dksX1_truncate_0 20 rfl rfl)
def dkwX1_argument_0 : List UInt8 := [26, 154, 0, 11, 187, 0, 7, 89, 183, 0, 9, 191, 177]
abbrev dktX1_argument_0 : List UInt8 := dkwX1_argument_0 ++ []
theorem dksX1_argument_0 : cX1_argument.data.toList.drop 0 = dktX1_argument_0 := by decide +kernel
theorem dX1_argument_0 : decode cX1_argument 0 = .ok (.iload_n 0, 1) := dk_26 (dk_at dksX1_argument_0 0 rfl rfl)
theorem dX1_argument_1 : decode cX1_argument 1 = .ok (.ifCond .ne 11, 3) := dk_154 0 11 (dk_at dksX1_argument_0 1 rfl rfl)
theorem dX1_argument_4 : decode cX1_argument 4 = .ok (.new 7, 3) := dk_187 0 7 (dk_at dksX1_argument_0 4 rfl rfl)
theorem dX1_argument_7 : decode cX1_argument 7 = .ok (.dup, 1) := dk_89 (dk_at dksX1_argument_0 7 rfl rfl)
theorem dX1_argument_8 : decode cX1_argument 8 = .ok (.invokespecial 9, 3) := dk_183 0 9 (dk_at dksX1_argument_0 8 rfl rfl)
theorem dX1_argument_11 : decode cX1_argument 11 = .ok (.athrow, 1) := dk_191 (dk_at dksX1_argument_0 11 rfl rfl)
theorem dX1_argument_12 : decode cX1_argument 12 = .ok (.return_, 1) := dk_177 (dk_at dksX1_argument_0 12 rfl rfl)
def dkwX1_readText_2 : List UInt8 := [180, 0, 31, 182, 0, 171, 43, 180, 0, 69, 182, 0, 174, 172]
abbrev dktX1_readText_2 : List UInt8 := dkwX1_readText_2 ++ []
def dkwX1_readText_1 : List UInt8 := [182, 0, 164, 191, 78, 42, 3, 181, 0, 104, 45, 191, 42, 182, 0, 168, 42, 43, 181, 0, 24, 42]
abbrev dktX1_readText_1 : List UInt8 := dkwX1_readText_1 ++ dktX1_readText_2
def dkwX1_readText_0 : List UInt8 := [187, 0, 156, 89, 42, 183, 0, 158, 182, 0, 161, 76, 42, 3, 181, 0, 104, 167, 0, 18, 77, 42, 44]
abbrev dktX1_readText_0 : List UInt8 := dkwX1_readText_0 ++ dktX1_readText_1
theorem dksX1_readText_0 : cX1_readText.data.toList.drop 0 = dktX1_readText_0 := by decide +kernel
theorem dksX1_readText_1 : cX1_readText.data.toList.drop 23 = dktX1_readText_1 := dk_seg dksX1_readText_0 23 rfl rfl
theorem dksX1_readText_2 : cX1_readText.data.toList.drop 45 = dktX1_readText_2 := dk_seg dksX1_readText_1 22 rfl rfl
theorem dX1_readText_0 : decode cX1_readText 0 = .ok (.new 156, 3) := dk_187 0 156 (dk_at dksX1_readText_0 0 rfl rfl)
theorem dX1_readText_3 : decode cX1_readText 3 = .ok (.dup, 1) := dk_89 (dk_at dksX1_readText_0 3 rfl rfl)
theorem dX1_readText_4 : decode cX1_readText 4 = .ok (.aload_n 0, 1) := dk_42 (dk_at dksX1_readText_0 4 rfl rfl)
theorem dX1_readText_5 : decode cX1_readText 5 = .ok (.invokespecial 158, 3) := dk_183 0 158 (dk_at dksX1_readText_0 5 rfl rfl)
theorem dX1_readText_8 : decode cX1_readText 8 = .ok (.invokevirtual 161, 3) := dk_182 0 161 (dk_at dksX1_readText_0 8 rfl rfl)
theorem dX1_readText_11 : decode cX1_readText 11 = .ok (.astore_n 1, 1) := dk_76 (dk_at dksX1_readText_0 11 rfl rfl)
theorem dX1_readText_12 : decode cX1_readText 12 = .ok (.aload_n 0, 1) := dk_42 (dk_at dksX1_readText_0 12 rfl rfl)
theorem dX1_readText_13 : decode cX1_readText 13 = .ok (.iconst 0, 1) := dk_3 (dk_at dksX1_readText_0 13 rfl rfl)
theorem dX1_readText_14 : decode cX1_readText 14 = .ok (.putfield 104, 3) := dk_181 0 104 (dk_at dksX1_readText_0 14 rfl rfl)
theorem dX1_readText_17 : decode cX1_readText 17 = .ok (.goto 18, 3) := dk_167 0 18 (dk_at dksX1_readText_0 17 rfl rfl)
theorem dX1_readText_20 : decode cX1_readText 20 = .ok (.astore_n 2, 1) := dk_77 (dk_at dksX1_readText_0 20 rfl rfl)
theorem dX1_readText_21 : decode cX1_readText 21 = .ok (.aload_n 0, 1) := dk_42 (dk_at dksX1_readText_0 21 rfl rfl)
theorem dX1_readText_22 : decode cX1_readText 22 = .ok (.aload_n 2, 1) := dk_44 (dk_at dksX1_readText_0 22 rfl rfl)
theorem dX1_readText_23 : decode cX1_readText 23 = .ok (.invokevirtual 164, 3) := dk_182 0 164 (dk_at dksX1_readText_1 0 rfl rfl)
theorem dX1_readText_26 : decode cX1_readText 26 = .ok (.athrow, 1) := dk_191 (dk_at dksX1_readText_1 3 rfl rfl)
theorem dX1_readText_27 : decode cX1_readText 27 = .ok (.astore_n 3, 1) := dk_78 (dk_at dksX1_readText_1 4 rfl rfl)
theorem dX1_readText_28 : decode cX1_readText 28 = .ok (.aload_n 0, 1) := dk_42 (dk_at dksX1_readText_1 5 rfl rfl)
theorem dX1_readText_29 : decode cX1_readText 29 = .ok (.iconst 0, 1) := dk_3 (dk_at dksX1_readText_1 6 rfl rfl)
theorem dX1_readText_30 : decode cX1_readText 30 = .ok (.putfield 104, 3) := dk_181 0 104 (dk_at dksX1_readText_1 7 rfl rfl)
theorem dX1_readText_33 : decode cX1_readText 33 = .ok (.aload_n 3, 1) := dk_45 (dk_at dksX1_readText_1 10 rfl rfl)
theorem dX1_readText_34 : decode cX1_readText 34 = .ok (.athrow, 1) := dk_191 (dk_at dksX1_readText_1 11 rfl rfl)
theorem dX1_readText_35 : decode cX1_readText 35 = .ok (.aload_n 0, 1) := dk_42 (dk_at dksX1_readText_1 12 rfl rfl)
theorem dX1_readText_36 : decode cX1_readText 36 = .ok (.invokevirtual 168, 3) := dk_182 0 168 (dk_at dksX1_readText_1 13 rfl rfl)
theorem dX1_readText_39 : decode cX1_readText 39 = .ok (.aload_n 0, 1) := dk_42 (dk_at dksX1_readText_1 16 rfl rfl)
theorem dX1_readText_40 : decode cX1_readText 40 = .ok (.aload_n 1, 1) := dk_43 (dk_at dksX1_readText_1 17 rfl rfl)
theorem dX1_readText_41 : decode cX1_readText 41 = .ok (.putfield 24, 3) := dk_181 0 24 (dk_at dksX1_readText_1 18 rfl rfl)
theorem dX1_readText_44 : decode cX1_readText 44 = .ok (.aload_n 0, 1) := dk_42 (dk_at dksX1_readText_1 21 rfl rfl)
theorem dX1_readText_45 : decode cX1_readText 45 = .ok (.getfield 31, 3) := dk_180 0 31 (dk_at dksX1_readText_2 0 rfl rfl)
theorem dX1_readText_48 : decode cX1_readText 48 = .ok (.invokevirtual 171, 3) := dk_182 0 171 (dk_at dksX1_readText_2 3 rfl rfl)
theorem dX1_readText_51 : decode cX1_readText 51 = .ok (.aload_n 1, 1) := dk_43 (dk_at dksX1_readText_2 6 rfl rfl)
theorem dX1_readText_52 : decode cX1_readText 52 = .ok (.getfield 69, 3) := dk_180 0 69 (dk_at dksX1_readText_2 7 rfl rfl)
theorem dX1_readText_55 : decode cX1_readText 55 = .ok (.invokevirtual 174, 3) := dk_182 0 174 (dk_at dksX1_readText_2 10 rfl rfl)
theorem dX1_readText_58 : decode cX1_readText 58 = .ok (.ireturn, 1) := dk_172 (dk_at dksX1_readText_2 13 rfl rfl)
def dkwX1_failed_0 : List UInt8 := [42, 43, 180, 0, 148, 181, 0, 145, 42, 43, 180, 0, 153, 181, 0, 39, 187, 0, 7, 89, 183, 0, 9, 176]
abbrev dktX1_failed_0 : List UInt8 := dkwX1_failed_0 ++ []
theorem dksX1_failed_0 : cX1_failed.data.toList.drop 0 = dktX1_failed_0 := by decide +kernel
theorem dX1_failed_0 : decode cX1_failed 0 = .ok (.aload_n 0, 1) := dk_42 (dk_at dksX1_failed_0 0 rfl rfl)
theorem dX1_failed_1 : decode cX1_failed 1 = .ok (.aload_n 1, 1) := dk_43 (dk_at dksX1_failed_0 1 rfl rfl)
theorem dX1_failed_2 : decode cX1_failed 2 = .ok (.getfield 148, 3) := dk_180 0 148 (dk_at dksX1_failed_0 2 rfl rfl)
theorem dX1_failed_5 : decode cX1_failed 5 = .ok (.putfield 145, 3) := dk_181 0 145 (dk_at dksX1_failed_0 5 rfl rfl)
theorem dX1_failed_8 : decode cX1_failed 8 = .ok (.aload_n 0, 1) := dk_42 (dk_at dksX1_failed_0 8 rfl rfl)
theorem dX1_failed_9 : decode cX1_failed 9 = .ok (.aload_n 1, 1) := dk_43 (dk_at dksX1_failed_0 9 rfl rfl)
theorem dX1_failed_10 : decode cX1_failed 10 = .ok (.getfield 153, 3) := dk_180 0 153 (dk_at dksX1_failed_0 10 rfl rfl)
theorem dX1_failed_13 : decode cX1_failed 13 = .ok (.putfield 39, 3) := dk_181 0 39 (dk_at dksX1_failed_0 13 rfl rfl)
theorem dX1_failed_16 : decode cX1_failed 16 = .ok (.new 7, 3) := dk_187 0 7 (dk_at dksX1_failed_0 16 rfl rfl)
theorem dX1_failed_19 : decode cX1_failed 19 = .ok (.dup, 1) := dk_89 (dk_at dksX1_failed_0 19 rfl rfl)
theorem dX1_failed_20 : decode cX1_failed 20 = .ok (.invokespecial 9, 3) := dk_183 0 9 (dk_at dksX1_failed_0 20 rfl rfl)
theorem dX1_failed_23 : decode cX1_failed 23 = .ok (.areturn, 1) := dk_176 (dk_at dksX1_failed_0 23 rfl rfl)
def dkwX1_noError_0 : List UInt8 := [42, 3, 181, 0, 145, 42, 2, 181, 0, 39, 177]
abbrev dktX1_noError_0 : List UInt8 := dkwX1_noError_0 ++ []
theorem dksX1_noError_0 : cX1_noError.data.toList.drop 0 = dktX1_noError_0 := by decide +kernel
theorem dX1_noError_0 : decode cX1_noError 0 = .ok (.aload_n 0, 1) := dk_42 (dk_at dksX1_noError_0 0 rfl rfl)
theorem dX1_noError_1 : decode cX1_noError 1 = .ok (.iconst 0, 1) := dk_3 (dk_at dksX1_noError_0 1 rfl rfl)
theorem dX1_noError_2 : decode cX1_noError 2 = .ok (.putfield 145, 3) := dk_181 0 145 (dk_at dksX1_noError_0 2 rfl rfl)
theorem dX1_noError_5 : decode cX1_noError 5 = .ok (.aload_n 0, 1) := dk_42 (dk_at dksX1_noError_0 5 rfl rfl)
theorem dX1_noError_6 : decode cX1_noError 6 = .ok (.iconst (-1), 1) := dk_2 (dk_at dksX1_noError_0 6 rfl rfl)
theorem dX1_noError_7 : decode cX1_noError 7 = .ok (.putfield 39, 3) := dk_181 0 39 (dk_at dksX1_noError_0 7 rfl rfl)
theorem dX1_noError_10 : decode cX1_noError 10 = .ok (.return_, 1) := dk_177 (dk_at dksX1_noError_0 10 rfl rfl)
def dkwX1_runOrders_3 : List UInt8 := [167, 0, 7, 44, 180, 0, 184, 44, 180, 0, 190, 182, 0, 193, 172]
abbrev dktX1_runOrders_3 : List UInt8 := dkwX1_runOrders_3 ++ []
def dkwX1_runOrders_2 : List UInt8 := [183, 0, 181, 77, 42, 44, 180, 0, 184, 42, 180, 0, 24, 166, 0, 13, 42, 180, 0, 24, 182, 0, 187]
abbrev dktX1_runOrders_2 : List UInt8 := dkwX1_runOrders_2 ++ dktX1_runOrders_3
def dkwX1_runOrders_1 : List UInt8 := [182, 0, 164, 191, 78, 42, 3, 181, 0, 104, 45, 191, 42, 182, 0, 168, 187, 0, 179, 89, 42, 43]
abbrev dktX1_runOrders_1 : List UInt8 := dkwX1_runOrders_1 ++ dktX1_runOrders_2
def dkwX1_runOrders_0 : List UInt8 := [187, 0, 156, 89, 42, 183, 0, 158, 182, 0, 175, 76, 42, 3, 181, 0, 104, 167, 0, 18, 77, 42, 44]
abbrev dktX1_runOrders_0 : List UInt8 := dkwX1_runOrders_0 ++ dktX1_runOrders_1
theorem dksX1_runOrders_0 : cX1_runOrders.data.toList.drop 0 = dktX1_runOrders_0 := by decide +kernel
theorem dksX1_runOrders_1 : cX1_runOrders.data.toList.drop 23 = dktX1_runOrders_1 := dk_seg dksX1_runOrders_0 23 rfl rfl
theorem dksX1_runOrders_2 : cX1_runOrders.data.toList.drop 45 = dktX1_runOrders_2 := dk_seg dksX1_runOrders_1 22 rfl rfl
theorem dksX1_runOrders_3 : cX1_runOrders.data.toList.drop 68 = dktX1_runOrders_3 := dk_seg dksX1_runOrders_2 23 rfl rfl
theorem dX1_runOrders_0 : decode cX1_runOrders 0 = .ok (.new 156, 3) := dk_187 0 156 (dk_at dksX1_runOrders_0 0 rfl rfl)
theorem dX1_runOrders_3 : decode cX1_runOrders 3 = .ok (.dup, 1) := dk_89 (dk_at dksX1_runOrders_0 3 rfl rfl)
theorem dX1_runOrders_4 : decode cX1_runOrders 4 = .ok (.aload_n 0, 1) := dk_42 (dk_at dksX1_runOrders_0 4 rfl rfl)
theorem dX1_runOrders_5 : decode cX1_runOrders 5 = .ok (.invokespecial 158, 3) := dk_183 0 158 (dk_at dksX1_runOrders_0 5 rfl rfl)
theorem dX1_runOrders_8 : decode cX1_runOrders 8 = .ok (.invokevirtual 175, 3) := dk_182 0 175 (dk_at dksX1_runOrders_0 8 rfl rfl)
theorem dX1_runOrders_11 : decode cX1_runOrders 11 = .ok (.astore_n 1, 1) := dk_76 (dk_at dksX1_runOrders_0 11 rfl rfl)
theorem dX1_runOrders_12 : decode cX1_runOrders 12 = .ok (.aload_n 0, 1) := dk_42 (dk_at dksX1_runOrders_0 12 rfl rfl)
theorem dX1_runOrders_13 : decode cX1_runOrders 13 = .ok (.iconst 0, 1) := dk_3 (dk_at dksX1_runOrders_0 13 rfl rfl)
theorem dX1_runOrders_14 : decode cX1_runOrders 14 = .ok (.putfield 104, 3) := dk_181 0 104 (dk_at dksX1_runOrders_0 14 rfl rfl)
theorem dX1_runOrders_17 : decode cX1_runOrders 17 = .ok (.goto 18, 3) := dk_167 0 18 (dk_at dksX1_runOrders_0 17 rfl rfl)
theorem dX1_runOrders_20 : decode cX1_runOrders 20 = .ok (.astore_n 2, 1) := dk_77 (dk_at dksX1_runOrders_0 20 rfl rfl)
theorem dX1_runOrders_21 : decode cX1_runOrders 21 = .ok (.aload_n 0, 1) := dk_42 (dk_at dksX1_runOrders_0 21 rfl rfl)
theorem dX1_runOrders_22 : decode cX1_runOrders 22 = .ok (.aload_n 2, 1) := dk_44 (dk_at dksX1_runOrders_0 22 rfl rfl)
theorem dX1_runOrders_23 : decode cX1_runOrders 23 = .ok (.invokevirtual 164, 3) := dk_182 0 164 (dk_at dksX1_runOrders_1 0 rfl rfl)
theorem dX1_runOrders_26 : decode cX1_runOrders 26 = .ok (.athrow, 1) := dk_191 (dk_at dksX1_runOrders_1 3 rfl rfl)
theorem dX1_runOrders_27 : decode cX1_runOrders 27 = .ok (.astore_n 3, 1) := dk_78 (dk_at dksX1_runOrders_1 4 rfl rfl)
theorem dX1_runOrders_28 : decode cX1_runOrders 28 = .ok (.aload_n 0, 1) := dk_42 (dk_at dksX1_runOrders_1 5 rfl rfl)
theorem dX1_runOrders_29 : decode cX1_runOrders 29 = .ok (.iconst 0, 1) := dk_3 (dk_at dksX1_runOrders_1 6 rfl rfl)
theorem dX1_runOrders_30 : decode cX1_runOrders 30 = .ok (.putfield 104, 3) := dk_181 0 104 (dk_at dksX1_runOrders_1 7 rfl rfl)
theorem dX1_runOrders_33 : decode cX1_runOrders 33 = .ok (.aload_n 3, 1) := dk_45 (dk_at dksX1_runOrders_1 10 rfl rfl)
theorem dX1_runOrders_34 : decode cX1_runOrders 34 = .ok (.athrow, 1) := dk_191 (dk_at dksX1_runOrders_1 11 rfl rfl)
theorem dX1_runOrders_35 : decode cX1_runOrders 35 = .ok (.aload_n 0, 1) := dk_42 (dk_at dksX1_runOrders_1 12 rfl rfl)
theorem dX1_runOrders_36 : decode cX1_runOrders 36 = .ok (.invokevirtual 168, 3) := dk_182 0 168 (dk_at dksX1_runOrders_1 13 rfl rfl)
theorem dX1_runOrders_39 : decode cX1_runOrders 39 = .ok (.new 179, 3) := dk_187 0 179 (dk_at dksX1_runOrders_1 16 rfl rfl)
theorem dX1_runOrders_42 : decode cX1_runOrders 42 = .ok (.dup, 1) := dk_89 (dk_at dksX1_runOrders_1 19 rfl rfl)
theorem dX1_runOrders_43 : decode cX1_runOrders 43 = .ok (.aload_n 0, 1) := dk_42 (dk_at dksX1_runOrders_1 20 rfl rfl)
theorem dX1_runOrders_44 : decode cX1_runOrders 44 = .ok (.aload_n 1, 1) := dk_43 (dk_at dksX1_runOrders_1 21 rfl rfl)
theorem dX1_runOrders_45 : decode cX1_runOrders 45 = .ok (.invokespecial 181, 3) := dk_183 0 181 (dk_at dksX1_runOrders_2 0 rfl rfl)
theorem dX1_runOrders_48 : decode cX1_runOrders 48 = .ok (.astore_n 2, 1) := dk_77 (dk_at dksX1_runOrders_2 3 rfl rfl)
theorem dX1_runOrders_49 : decode cX1_runOrders 49 = .ok (.aload_n 0, 1) := dk_42 (dk_at dksX1_runOrders_2 4 rfl rfl)
theorem dX1_runOrders_50 : decode cX1_runOrders 50 = .ok (.aload_n 2, 1) := dk_44 (dk_at dksX1_runOrders_2 5 rfl rfl)
theorem dX1_runOrders_51 : decode cX1_runOrders 51 = .ok (.getfield 184, 3) := dk_180 0 184 (dk_at dksX1_runOrders_2 6 rfl rfl)
theorem dX1_runOrders_54 : decode cX1_runOrders 54 = .ok (.aload_n 0, 1) := dk_42 (dk_at dksX1_runOrders_2 9 rfl rfl)
theorem dX1_runOrders_55 : decode cX1_runOrders 55 = .ok (.getfield 24, 3) := dk_180 0 24 (dk_at dksX1_runOrders_2 10 rfl rfl)
theorem dX1_runOrders_58 : decode cX1_runOrders 58 = .ok (.if_acmp .ne 13, 3) := dk_166 0 13 (dk_at dksX1_runOrders_2 13 rfl rfl)
theorem dX1_runOrders_61 : decode cX1_runOrders 61 = .ok (.aload_n 0, 1) := dk_42 (dk_at dksX1_runOrders_2 16 rfl rfl)
theorem dX1_runOrders_62 : decode cX1_runOrders 62 = .ok (.getfield 24, 3) := dk_180 0 24 (dk_at dksX1_runOrders_2 17 rfl rfl)
theorem dX1_runOrders_65 : decode cX1_runOrders 65 = .ok (.invokevirtual 187, 3) := dk_182 0 187 (dk_at dksX1_runOrders_2 20 rfl rfl)
theorem dX1_runOrders_68 : decode cX1_runOrders 68 = .ok (.goto 7, 3) := dk_167 0 7 (dk_at dksX1_runOrders_3 0 rfl rfl)
theorem dX1_runOrders_71 : decode cX1_runOrders 71 = .ok (.aload_n 2, 1) := dk_44 (dk_at dksX1_runOrders_3 3 rfl rfl)
theorem dX1_runOrders_72 : decode cX1_runOrders 72 = .ok (.getfield 184, 3) := dk_180 0 184 (dk_at dksX1_runOrders_3 4 rfl rfl)
theorem dX1_runOrders_75 : decode cX1_runOrders 75 = .ok (.aload_n 2, 1) := dk_44 (dk_at dksX1_runOrders_3 7 rfl rfl)
theorem dX1_runOrders_76 : decode cX1_runOrders 76 = .ok (.getfield 190, 3) := dk_180 0 190 (dk_at dksX1_runOrders_3 8 rfl rfl)
theorem dX1_runOrders_79 : decode cX1_runOrders 79 = .ok (.invokevirtual 193, 3) := dk_182 0 193 (dk_at dksX1_runOrders_3 11 rfl rfl)
theorem dX1_runOrders_82 : decode cX1_runOrders 82 = .ok (.ireturn, 1) := dk_172 (dk_at dksX1_runOrders_3 14 rfl rfl)
def dkwX1_isAct_8 : List UInt8 := [4, 167, 0, 4, 3, 172]
abbrev dktX1_isAct_8 : List UInt8 := dkwX1_isAct_8 ++ []
def dkwX1_isAct_7 : List UInt8 := [170, 0, 0, 0, 0, 0, 47, 0, 0, 0, 0, 0, 0, 0, 6, 0, 0, 0, 43, 0, 0, 0, 43, 0, 0, 0, 43, 0, 0, 0, 43, 0, 0, 0, 43, 0, 0, 0, 43, 0, 0, 0, 43]
abbrev dktX1_isAct_7 : List UInt8 := dkwX1_isAct_7 ++ dktX1_isAct_8
def dkwX1_isAct_6 : List UInt8 := [61, 28]
abbrev dktX1_isAct_6 : List UInt8 := dkwX1_isAct_6 ++ dktX1_isAct_7
def dkwX1_isAct_5 : List UInt8 := [18, 141, 182, 0, 129, 153, 0, 20, 8, 61, 167, 0, 15, 43, 18, 143, 182, 0, 129, 153, 0, 6, 16, 6]
abbrev dktX1_isAct_5 : List UInt8 := dkwX1_isAct_5 ++ dktX1_isAct_6
def dkwX1_isAct_4 : List UInt8 := [153, 0, 48, 6, 61, 167, 0, 43, 43, 18, 139, 182, 0, 129, 153, 0, 34, 7, 61, 167, 0, 29, 43]
abbrev dktX1_isAct_4 : List UInt8 := dkwX1_isAct_4 ++ dktX1_isAct_5
def dkwX1_isAct_3 : List UInt8 := [61, 167, 0, 71, 43, 18, 135, 182, 0, 129, 153, 0, 62, 5, 61, 167, 0, 57, 43, 18, 137, 182, 0, 129]
abbrev dktX1_isAct_3 : List UInt8 := dkwX1_isAct_3 ++ dktX1_isAct_4
def dkwX1_isAct_2 : List UInt8 := [43, 18, 127, 182, 0, 129, 153, 0, 90, 3, 61, 167, 0, 85, 43, 18, 133, 182, 0, 129, 153, 0, 76, 4]
abbrev dktX1_isAct_2 : List UInt8 := dkwX1_isAct_2 ++ dktX1_isAct_3
def dkwX1_isAct_1 : List UInt8 := [171, 0, 0, 0, 0, 0, 0, 164, 0, 0, 0, 7, 0, 1, 186, 139, 0, 0, 0, 68, 0, 1, 189, 155, 0, 0, 0, 124, 0, 52, 38, 74, 0, 0, 0, 96, 0, 52, 100, 96, 0, 0, 0, 110, 0, 54, 128, 125, 0, 0, 0, 152, 5, 204, 240, 49, 0, 0, 0, 82, 5, 231, 98, 139, 0, 0, 0, 138]
abbrev dktX1_isAct_1 : List UInt8 := dkwX1_isAct_1 ++ dktX1_isAct_2
def dkwX1_isAct_0 : List UInt8 := [42, 76, 2, 61, 43, 182, 0, 122]
abbrev dktX1_isAct_0 : List UInt8 := dkwX1_isAct_0 ++ dktX1_isAct_1
theorem dksX1_isAct_0 : cX1_isAct.data.toList.drop 0 = dktX1_isAct_0 := by decide +kernel
theorem dksX1_isAct_1 : cX1_isAct.data.toList.drop 8 = dktX1_isAct_1 := dk_seg dksX1_isAct_0 8 rfl rfl
theorem dksX1_isAct_2 : cX1_isAct.data.toList.drop 76 = dktX1_isAct_2 := dk_seg dksX1_isAct_1 68 rfl rfl
theorem dksX1_isAct_3 : cX1_isAct.data.toList.drop 100 = dktX1_isAct_3 := dk_seg dksX1_isAct_2 24 rfl rfl
theorem dksX1_isAct_4 : cX1_isAct.data.toList.drop 124 = dktX1_isAct_4 := dk_seg dksX1_isAct_3 24 rfl rfl
theorem dksX1_isAct_5 : cX1_isAct.data.toList.drop 147 = dktX1_isAct_5 := dk_seg dksX1_isAct_4 23 rfl rfl
theorem dksX1_isAct_6 : cX1_isAct.data.toList.drop 171 = dktX1_isAct_6 := dk_seg dksX1_isAct_5 24 rfl rfl
theorem dksX1_isAct_7 : cX1_isAct.data.toList.drop 173 = dktX1_isAct_7 := dk_seg dksX1_isAct_6 2 rfl rfl
theorem dksX1_isAct_8 : cX1_isAct.data.toList.drop 216 = dktX1_isAct_8 := dk_seg dksX1_isAct_7 43 rfl rfl
theorem dX1_isAct_0 : decode cX1_isAct 0 = .ok (.aload_n 0, 1) := dk_42 (dk_at dksX1_isAct_0 0 rfl rfl)
theorem dX1_isAct_1 : decode cX1_isAct 1 = .ok (.astore_n 1, 1) := dk_76 (dk_at dksX1_isAct_0 1 rfl rfl)
theorem dX1_isAct_2 : decode cX1_isAct 2 = .ok (.iconst (-1), 1) := dk_2 (dk_at dksX1_isAct_0 2 rfl rfl)
theorem dX1_isAct_3 : decode cX1_isAct 3 = .ok (.istore_n 2, 1) := dk_61 (dk_at dksX1_isAct_0 3 rfl rfl)
theorem dX1_isAct_4 : decode cX1_isAct 4 = .ok (.aload_n 1, 1) := dk_43 (dk_at dksX1_isAct_0 4 rfl rfl)
theorem dX1_isAct_5 : decode cX1_isAct 5 = .ok (.invokevirtual 122, 3) := dk_182 0 122 (dk_at dksX1_isAct_0 5 rfl rfl)
theorem dX1_isAct_8 : decode cX1_isAct 8 = .ok (.lookupswitch 164 #[(113291, 68), (114075, 124), (3417674, 96), (3433568, 110), (3571837, 152), (97316913, 82), (99050123, 138)], 68) := by decide +kernel
theorem dX1_isAct_76 : decode cX1_isAct 76 = .ok (.aload_n 1, 1) := dk_43 (dk_at dksX1_isAct_2 0 rfl rfl)
theorem dX1_isAct_77 : decode cX1_isAct 77 = .ok (.ldc 127, 2) := dk_18 127 (dk_at dksX1_isAct_2 1 rfl rfl)
theorem dX1_isAct_79 : decode cX1_isAct 79 = .ok (.invokevirtual 129, 3) := dk_182 0 129 (dk_at dksX1_isAct_2 3 rfl rfl)
theorem dX1_isAct_82 : decode cX1_isAct 82 = .ok (.ifCond .eq 90, 3) := dk_153 0 90 (dk_at dksX1_isAct_2 6 rfl rfl)
theorem dX1_isAct_85 : decode cX1_isAct 85 = .ok (.iconst 0, 1) := dk_3 (dk_at dksX1_isAct_2 9 rfl rfl)
theorem dX1_isAct_86 : decode cX1_isAct 86 = .ok (.istore_n 2, 1) := dk_61 (dk_at dksX1_isAct_2 10 rfl rfl)
theorem dX1_isAct_87 : decode cX1_isAct 87 = .ok (.goto 85, 3) := dk_167 0 85 (dk_at dksX1_isAct_2 11 rfl rfl)
theorem dX1_isAct_90 : decode cX1_isAct 90 = .ok (.aload_n 1, 1) := dk_43 (dk_at dksX1_isAct_2 14 rfl rfl)
theorem dX1_isAct_91 : decode cX1_isAct 91 = .ok (.ldc 133, 2) := dk_18 133 (dk_at dksX1_isAct_2 15 rfl rfl)
theorem dX1_isAct_93 : decode cX1_isAct 93 = .ok (.invokevirtual 129, 3) := dk_182 0 129 (dk_at dksX1_isAct_2 17 rfl rfl)
theorem dX1_isAct_96 : decode cX1_isAct 96 = .ok (.ifCond .eq 76, 3) := dk_153 0 76 (dk_at dksX1_isAct_2 20 rfl rfl)
theorem dX1_isAct_99 : decode cX1_isAct 99 = .ok (.iconst 1, 1) := dk_4 (dk_at dksX1_isAct_2 23 rfl rfl)
theorem dX1_isAct_100 : decode cX1_isAct 100 = .ok (.istore_n 2, 1) := dk_61 (dk_at dksX1_isAct_3 0 rfl rfl)
theorem dX1_isAct_101 : decode cX1_isAct 101 = .ok (.goto 71, 3) := dk_167 0 71 (dk_at dksX1_isAct_3 1 rfl rfl)
theorem dX1_isAct_104 : decode cX1_isAct 104 = .ok (.aload_n 1, 1) := dk_43 (dk_at dksX1_isAct_3 4 rfl rfl)
theorem dX1_isAct_105 : decode cX1_isAct 105 = .ok (.ldc 135, 2) := dk_18 135 (dk_at dksX1_isAct_3 5 rfl rfl)
theorem dX1_isAct_107 : decode cX1_isAct 107 = .ok (.invokevirtual 129, 3) := dk_182 0 129 (dk_at dksX1_isAct_3 7 rfl rfl)
theorem dX1_isAct_110 : decode cX1_isAct 110 = .ok (.ifCond .eq 62, 3) := dk_153 0 62 (dk_at dksX1_isAct_3 10 rfl rfl)
theorem dX1_isAct_113 : decode cX1_isAct 113 = .ok (.iconst 2, 1) := dk_5 (dk_at dksX1_isAct_3 13 rfl rfl)
theorem dX1_isAct_114 : decode cX1_isAct 114 = .ok (.istore_n 2, 1) := dk_61 (dk_at dksX1_isAct_3 14 rfl rfl)
theorem dX1_isAct_115 : decode cX1_isAct 115 = .ok (.goto 57, 3) := dk_167 0 57 (dk_at dksX1_isAct_3 15 rfl rfl)
theorem dX1_isAct_118 : decode cX1_isAct 118 = .ok (.aload_n 1, 1) := dk_43 (dk_at dksX1_isAct_3 18 rfl rfl)
theorem dX1_isAct_119 : decode cX1_isAct 119 = .ok (.ldc 137, 2) := dk_18 137 (dk_at dksX1_isAct_3 19 rfl rfl)
theorem dX1_isAct_121 : decode cX1_isAct 121 = .ok (.invokevirtual 129, 3) := dk_182 0 129 (dk_at dksX1_isAct_3 21 rfl rfl)
theorem dX1_isAct_124 : decode cX1_isAct 124 = .ok (.ifCond .eq 48, 3) := dk_153 0 48 (dk_at dksX1_isAct_4 0 rfl rfl)
theorem dX1_isAct_127 : decode cX1_isAct 127 = .ok (.iconst 3, 1) := dk_6 (dk_at dksX1_isAct_4 3 rfl rfl)
theorem dX1_isAct_128 : decode cX1_isAct 128 = .ok (.istore_n 2, 1) := dk_61 (dk_at dksX1_isAct_4 4 rfl rfl)
theorem dX1_isAct_129 : decode cX1_isAct 129 = .ok (.goto 43, 3) := dk_167 0 43 (dk_at dksX1_isAct_4 5 rfl rfl)
theorem dX1_isAct_132 : decode cX1_isAct 132 = .ok (.aload_n 1, 1) := dk_43 (dk_at dksX1_isAct_4 8 rfl rfl)
theorem dX1_isAct_133 : decode cX1_isAct 133 = .ok (.ldc 139, 2) := dk_18 139 (dk_at dksX1_isAct_4 9 rfl rfl)
theorem dX1_isAct_135 : decode cX1_isAct 135 = .ok (.invokevirtual 129, 3) := dk_182 0 129 (dk_at dksX1_isAct_4 11 rfl rfl)
theorem dX1_isAct_138 : decode cX1_isAct 138 = .ok (.ifCond .eq 34, 3) := dk_153 0 34 (dk_at dksX1_isAct_4 14 rfl rfl)
theorem dX1_isAct_141 : decode cX1_isAct 141 = .ok (.iconst 4, 1) := dk_7 (dk_at dksX1_isAct_4 17 rfl rfl)
theorem dX1_isAct_142 : decode cX1_isAct 142 = .ok (.istore_n 2, 1) := dk_61 (dk_at dksX1_isAct_4 18 rfl rfl)
theorem dX1_isAct_143 : decode cX1_isAct 143 = .ok (.goto 29, 3) := dk_167 0 29 (dk_at dksX1_isAct_4 19 rfl rfl)
theorem dX1_isAct_146 : decode cX1_isAct 146 = .ok (.aload_n 1, 1) := dk_43 (dk_at dksX1_isAct_4 22 rfl rfl)
theorem dX1_isAct_147 : decode cX1_isAct 147 = .ok (.ldc 141, 2) := dk_18 141 (dk_at dksX1_isAct_5 0 rfl rfl)
theorem dX1_isAct_149 : decode cX1_isAct 149 = .ok (.invokevirtual 129, 3) := dk_182 0 129 (dk_at dksX1_isAct_5 2 rfl rfl)
theorem dX1_isAct_152 : decode cX1_isAct 152 = .ok (.ifCond .eq 20, 3) := dk_153 0 20 (dk_at dksX1_isAct_5 5 rfl rfl)
theorem dX1_isAct_155 : decode cX1_isAct 155 = .ok (.iconst 5, 1) := dk_8 (dk_at dksX1_isAct_5 8 rfl rfl)
theorem dX1_isAct_156 : decode cX1_isAct 156 = .ok (.istore_n 2, 1) := dk_61 (dk_at dksX1_isAct_5 9 rfl rfl)
theorem dX1_isAct_157 : decode cX1_isAct 157 = .ok (.goto 15, 3) := dk_167 0 15 (dk_at dksX1_isAct_5 10 rfl rfl)
theorem dX1_isAct_160 : decode cX1_isAct 160 = .ok (.aload_n 1, 1) := dk_43 (dk_at dksX1_isAct_5 13 rfl rfl)
theorem dX1_isAct_161 : decode cX1_isAct 161 = .ok (.ldc 143, 2) := dk_18 143 (dk_at dksX1_isAct_5 14 rfl rfl)
theorem dX1_isAct_163 : decode cX1_isAct 163 = .ok (.invokevirtual 129, 3) := dk_182 0 129 (dk_at dksX1_isAct_5 16 rfl rfl)
theorem dX1_isAct_166 : decode cX1_isAct 166 = .ok (.ifCond .eq 6, 3) := dk_153 0 6 (dk_at dksX1_isAct_5 19 rfl rfl)
theorem dX1_isAct_169 : decode cX1_isAct 169 = .ok (.bipush 6, 2) := dk_16 6 (dk_at dksX1_isAct_5 22 rfl rfl)
theorem dX1_isAct_171 : decode cX1_isAct 171 = .ok (.istore_n 2, 1) := dk_61 (dk_at dksX1_isAct_6 0 rfl rfl)
theorem dX1_isAct_172 : decode cX1_isAct 172 = .ok (.iload_n 2, 1) := dk_28 (dk_at dksX1_isAct_6 1 rfl rfl)
theorem dX1_isAct_173 : decode cX1_isAct 173 = .ok (.tableswitch 47 0 6 #[43, 43, 43, 43, 43, 43, 43], 43) := by decide +kernel
theorem dX1_isAct_216 : decode cX1_isAct 216 = .ok (.iconst 1, 1) := dk_4 (dk_at dksX1_isAct_8 0 rfl rfl)
theorem dX1_isAct_217 : decode cX1_isAct 217 = .ok (.goto 4, 3) := dk_167 0 4 (dk_at dksX1_isAct_8 1 rfl rfl)
theorem dX1_isAct_220 : decode cX1_isAct 220 = .ok (.iconst 0, 1) := dk_3 (dk_at dksX1_isAct_8 4 rfl rfl)
theorem dX1_isAct_221 : decode cX1_isAct 221 = .ok (.ireturn, 1) := dk_172 (dk_at dksX1_isAct_8 5 rfl rfl)
def dkwX1_must_0 : List UInt8 := [26, 154, 0, 12, 187, 0, 10, 89, 27, 183, 0, 12, 191, 177]
abbrev dktX1_must_0 : List UInt8 := dkwX1_must_0 ++ []
theorem dksX1_must_0 : cX1_must.data.toList.drop 0 = dktX1_must_0 := by decide +kernel
theorem dX1_must_0 : decode cX1_must 0 = .ok (.iload_n 0, 1) := dk_26 (dk_at dksX1_must_0 0 rfl rfl)
theorem dX1_must_1 : decode cX1_must 1 = .ok (.ifCond .ne 12, 3) := dk_154 0 12 (dk_at dksX1_must_0 1 rfl rfl)
theorem dX1_must_4 : decode cX1_must 4 = .ok (.new 10, 3) := dk_187 0 10 (dk_at dksX1_must_0 4 rfl rfl)
theorem dX1_must_7 : decode cX1_must 7 = .ok (.dup, 1) := dk_89 (dk_at dksX1_must_0 7 rfl rfl)
theorem dX1_must_8 : decode cX1_must 8 = .ok (.iload_n 1, 1) := dk_27 (dk_at dksX1_must_0 8 rfl rfl)
theorem dX1_must_9 : decode cX1_must 9 = .ok (.invokespecial 12, 3) := dk_183 0 12 (dk_at dksX1_must_0 9 rfl rfl)
theorem dX1_must_12 : decode cX1_must 12 = .ok (.athrow, 1) := dk_191 (dk_at dksX1_must_0 12 rfl rfl)
theorem dX1_must_13 : decode cX1_must 13 = .ok (.return_, 1) := dk_177 (dk_at dksX1_must_0 13 rfl rfl)
def dkwX1_becomes_1 : List UInt8 := [180, 0, 31, 42, 180, 0, 24, 182, 0, 100, 42, 43, 181, 0, 24, 28, 172]
abbrev dktX1_becomes_1 : List UInt8 := dkwX1_becomes_1 ++ []
def dkwX1_becomes_0 : List UInt8 := [42, 180, 0, 31, 182, 0, 92, 16, 8, 160, 0, 14, 42, 180, 0, 31, 182, 0, 96, 192, 0, 51, 78, 42]
abbrev dktX1_becomes_0 : List UInt8 := dkwX1_becomes_0 ++ dktX1_becomes_1
theorem dksX1_becomes_0 : cX1_becomes.data.toList.drop 0 = dktX1_becomes_0 := by decide +kernel
theorem dksX1_becomes_1 : cX1_becomes.data.toList.drop 24 = dktX1_becomes_1 := dk_seg dksX1_becomes_0 24 rfl rfl
theorem dX1_becomes_0 : decode cX1_becomes 0 = .ok (.aload_n 0, 1) := dk_42 (dk_at dksX1_becomes_0 0 rfl rfl)
theorem dX1_becomes_1 : decode cX1_becomes 1 = .ok (.getfield 31, 3) := dk_180 0 31 (dk_at dksX1_becomes_0 1 rfl rfl)
theorem dX1_becomes_4 : decode cX1_becomes 4 = .ok (.invokevirtual 92, 3) := dk_182 0 92 (dk_at dksX1_becomes_0 4 rfl rfl)
theorem dX1_becomes_7 : decode cX1_becomes 7 = .ok (.bipush 8, 2) := dk_16 8 (dk_at dksX1_becomes_0 7 rfl rfl)
theorem dX1_becomes_9 : decode cX1_becomes 9 = .ok (.if_icmp .ne 14, 3) := dk_160 0 14 (dk_at dksX1_becomes_0 9 rfl rfl)
theorem dX1_becomes_12 : decode cX1_becomes 12 = .ok (.aload_n 0, 1) := dk_42 (dk_at dksX1_becomes_0 12 rfl rfl)
theorem dX1_becomes_13 : decode cX1_becomes 13 = .ok (.getfield 31, 3) := dk_180 0 31 (dk_at dksX1_becomes_0 13 rfl rfl)
theorem dX1_becomes_16 : decode cX1_becomes 16 = .ok (.invokevirtual 96, 3) := dk_182 0 96 (dk_at dksX1_becomes_0 16 rfl rfl)
theorem dX1_becomes_19 : decode cX1_becomes 19 = .ok (.checkcast 51, 3) := dk_192 0 51 (dk_at dksX1_becomes_0 19 rfl rfl)
theorem dX1_becomes_22 : decode cX1_becomes 22 = .ok (.astore_n 3, 1) := dk_78 (dk_at dksX1_becomes_0 22 rfl rfl)
theorem dX1_becomes_23 : decode cX1_becomes 23 = .ok (.aload_n 0, 1) := dk_42 (dk_at dksX1_becomes_0 23 rfl rfl)
theorem dX1_becomes_24 : decode cX1_becomes 24 = .ok (.getfield 31, 3) := dk_180 0 31 (dk_at dksX1_becomes_1 0 rfl rfl)
theorem dX1_becomes_27 : decode cX1_becomes 27 = .ok (.aload_n 0, 1) := dk_42 (dk_at dksX1_becomes_1 3 rfl rfl)
theorem dX1_becomes_28 : decode cX1_becomes 28 = .ok (.getfield 24, 3) := dk_180 0 24 (dk_at dksX1_becomes_1 4 rfl rfl)
theorem dX1_becomes_31 : decode cX1_becomes 31 = .ok (.invokevirtual 100, 3) := dk_182 0 100 (dk_at dksX1_becomes_1 7 rfl rfl)
theorem dX1_becomes_34 : decode cX1_becomes 34 = .ok (.aload_n 0, 1) := dk_42 (dk_at dksX1_becomes_1 10 rfl rfl)
theorem dX1_becomes_35 : decode cX1_becomes 35 = .ok (.aload_n 1, 1) := dk_43 (dk_at dksX1_becomes_1 11 rfl rfl)
theorem dX1_becomes_36 : decode cX1_becomes 36 = .ok (.putfield 24, 3) := dk_181 0 24 (dk_at dksX1_becomes_1 12 rfl rfl)
theorem dX1_becomes_39 : decode cX1_becomes 39 = .ok (.iload_n 2, 1) := dk_28 (dk_at dksX1_becomes_1 15 rfl rfl)
theorem dX1_becomes_40 : decode cX1_becomes 40 = .ok (.ireturn, 1) := dk_172 (dk_at dksX1_becomes_1 16 rfl rfl)
def dkwX1_size_9 : List UInt8 := [172]
abbrev dktX1_size_9 : List UInt8 := dkwX1_size_9 ++ []
def dkwX1_size_8 : List UInt8 := [182, 0, 226, 167, 0, 21, 42, 180, 0, 31, 182, 0, 92, 167, 0, 11, 187, 0, 7, 89, 183, 0, 9, 191]
abbrev dktX1_size_8 : List UInt8 := dkwX1_size_8 ++ dktX1_size_9
def dkwX1_size_7 : List UInt8 := [180, 0, 24, 182, 0, 230, 167, 0, 42, 42, 180, 0, 24, 182, 0, 233, 167, 0, 32, 42, 180, 0, 24, 4]
abbrev dktX1_size_7 : List UInt8 := dkwX1_size_7 ++ dktX1_size_8
def dkwX1_size_6 : List UInt8 := [180, 0, 203, 182, 0, 218, 184, 0, 222, 167, 0, 63, 42, 180, 0, 24, 3, 182, 0, 226, 167, 0, 52, 42]
abbrev dktX1_size_6 : List UInt8 := dkwX1_size_6 ++ dktX1_size_7
def dkwX1_size_5 : List UInt8 := [180, 0, 212, 167, 0, 93, 42, 180, 0, 24, 180, 0, 215, 167, 0, 83, 42, 180, 0, 24, 42, 180, 0, 24]
abbrev dktX1_size_5 : List UInt8 := dkwX1_size_5 ++ dktX1_size_6
def dkwX1_size_4 : List UInt8 := [180, 0, 24, 180, 0, 206, 167, 0, 113, 42, 180, 0, 24, 180, 0, 209, 167, 0, 103, 42, 180, 0, 24]
abbrev dktX1_size_4 : List UInt8 := dkwX1_size_4 ++ dktX1_size_5
def dkwX1_size_3 : List UInt8 := [167, 0, 143, 42, 180, 0, 24, 182, 0, 200, 167, 0, 133, 42, 180, 0, 24, 180, 0, 203, 167, 0, 123, 42]
abbrev dktX1_size_3 : List UInt8 := dkwX1_size_3 ++ dktX1_size_4
def dkwX1_size_2 : List UInt8 := [42, 180, 0, 24, 180, 0, 197, 182, 0, 174, 167, 0, 156, 42, 180, 0, 24, 180, 0, 69, 182, 0, 174]
abbrev dktX1_size_2 : List UInt8 := dkwX1_size_2 ++ dktX1_size_3
def dkwX1_size_1 : List UInt8 := [170, 0, 0, 0, 0, 0, 229, 0, 0, 0, 0, 0, 0, 0, 13, 0, 0, 0, 71, 0, 0, 0, 84, 0, 0, 0, 97, 0, 0, 0, 107, 0, 0, 0, 117, 0, 0, 0, 127, 0, 0, 0, 137, 0, 0, 0, 147, 0, 0, 0, 157, 0, 0, 0, 177, 0, 0, 0, 188, 0, 0, 0, 198, 0, 0, 0, 208, 0, 0, 0, 219]
abbrev dktX1_size_1 : List UInt8 := dkwX1_size_1 ++ dktX1_size_2
def dkwX1_size_0 : List UInt8 := [27]
abbrev dktX1_size_0 : List UInt8 := dkwX1_size_0 ++ dktX1_size_1
theorem dksX1_size_0 : cX1_size.data.toList.drop 0 = dktX1_size_0 := by decide +kernel
theorem dksX1_size_1 : cX1_size.data.toList.drop 1 = dktX1_size_1 := dk_seg dksX1_size_0 1 rfl rfl
theorem dksX1_size_2 : cX1_size.data.toList.drop 72 = dktX1_size_2 := dk_seg dksX1_size_1 71 rfl rfl
theorem dksX1_size_3 : cX1_size.data.toList.drop 95 = dktX1_size_3 := dk_seg dksX1_size_2 23 rfl rfl
theorem dksX1_size_4 : cX1_size.data.toList.drop 119 = dktX1_size_4 := dk_seg dksX1_size_3 24 rfl rfl
theorem dksX1_size_5 : cX1_size.data.toList.drop 142 = dktX1_size_5 := dk_seg dksX1_size_4 23 rfl rfl
theorem dksX1_size_6 : cX1_size.data.toList.drop 166 = dktX1_size_6 := dk_seg dksX1_size_5 24 rfl rfl
theorem dksX1_size_7 : cX1_size.data.toList.drop 190 = dktX1_size_7 := dk_seg dksX1_size_6 24 rfl rfl
theorem dksX1_size_8 : cX1_size.data.toList.drop 214 = dktX1_size_8 := dk_seg dksX1_size_7 24 rfl rfl
theorem dksX1_size_9 : cX1_size.data.toList.drop 238 = dktX1_size_9 := dk_seg dksX1_size_8 24 rfl rfl
theorem dX1_size_0 : decode cX1_size 0 = .ok (.iload_n 1, 1) := dk_27 (dk_at dksX1_size_0 0 rfl rfl)
theorem dX1_size_1 : decode cX1_size 1 = .ok (.tableswitch 229 0 13 #[71, 84, 97, 107, 117, 127, 137, 147, 157, 177, 188, 198, 208, 219], 71) := by decide +kernel
theorem dX1_size_72 : decode cX1_size 72 = .ok (.aload_n 0, 1) := dk_42 (dk_at dksX1_size_2 0 rfl rfl)
theorem dX1_size_73 : decode cX1_size 73 = .ok (.getfield 24, 3) := dk_180 0 24 (dk_at dksX1_size_2 1 rfl rfl)
theorem dX1_size_76 : decode cX1_size 76 = .ok (.getfield 197, 3) := dk_180 0 197 (dk_at dksX1_size_2 4 rfl rfl)
theorem dX1_size_79 : decode cX1_size 79 = .ok (.invokevirtual 174, 3) := dk_182 0 174 (dk_at dksX1_size_2 7 rfl rfl)
theorem dX1_size_82 : decode cX1_size 82 = .ok (.goto 156, 3) := dk_167 0 156 (dk_at dksX1_size_2 10 rfl rfl)
theorem dX1_size_85 : decode cX1_size 85 = .ok (.aload_n 0, 1) := dk_42 (dk_at dksX1_size_2 13 rfl rfl)
theorem dX1_size_86 : decode cX1_size 86 = .ok (.getfield 24, 3) := dk_180 0 24 (dk_at dksX1_size_2 14 rfl rfl)
theorem dX1_size_89 : decode cX1_size 89 = .ok (.getfield 69, 3) := dk_180 0 69 (dk_at dksX1_size_2 17 rfl rfl)
theorem dX1_size_92 : decode cX1_size 92 = .ok (.invokevirtual 174, 3) := dk_182 0 174 (dk_at dksX1_size_2 20 rfl rfl)
theorem dX1_size_95 : decode cX1_size 95 = .ok (.goto 143, 3) := dk_167 0 143 (dk_at dksX1_size_3 0 rfl rfl)
theorem dX1_size_98 : decode cX1_size 98 = .ok (.aload_n 0, 1) := dk_42 (dk_at dksX1_size_3 3 rfl rfl)
theorem dX1_size_99 : decode cX1_size 99 = .ok (.getfield 24, 3) := dk_180 0 24 (dk_at dksX1_size_3 4 rfl rfl)
theorem dX1_size_102 : decode cX1_size 102 = .ok (.invokevirtual 200, 3) := dk_182 0 200 (dk_at dksX1_size_3 7 rfl rfl)
theorem dX1_size_105 : decode cX1_size 105 = .ok (.goto 133, 3) := dk_167 0 133 (dk_at dksX1_size_3 10 rfl rfl)
theorem dX1_size_108 : decode cX1_size 108 = .ok (.aload_n 0, 1) := dk_42 (dk_at dksX1_size_3 13 rfl rfl)
theorem dX1_size_109 : decode cX1_size 109 = .ok (.getfield 24, 3) := dk_180 0 24 (dk_at dksX1_size_3 14 rfl rfl)
theorem dX1_size_112 : decode cX1_size 112 = .ok (.getfield 203, 3) := dk_180 0 203 (dk_at dksX1_size_3 17 rfl rfl)
theorem dX1_size_115 : decode cX1_size 115 = .ok (.goto 123, 3) := dk_167 0 123 (dk_at dksX1_size_3 20 rfl rfl)
theorem dX1_size_118 : decode cX1_size 118 = .ok (.aload_n 0, 1) := dk_42 (dk_at dksX1_size_3 23 rfl rfl)
theorem dX1_size_119 : decode cX1_size 119 = .ok (.getfield 24, 3) := dk_180 0 24 (dk_at dksX1_size_4 0 rfl rfl)
theorem dX1_size_122 : decode cX1_size 122 = .ok (.getfield 206, 3) := dk_180 0 206 (dk_at dksX1_size_4 3 rfl rfl)
theorem dX1_size_125 : decode cX1_size 125 = .ok (.goto 113, 3) := dk_167 0 113 (dk_at dksX1_size_4 6 rfl rfl)
theorem dX1_size_128 : decode cX1_size 128 = .ok (.aload_n 0, 1) := dk_42 (dk_at dksX1_size_4 9 rfl rfl)
theorem dX1_size_129 : decode cX1_size 129 = .ok (.getfield 24, 3) := dk_180 0 24 (dk_at dksX1_size_4 10 rfl rfl)
theorem dX1_size_132 : decode cX1_size 132 = .ok (.getfield 209, 3) := dk_180 0 209 (dk_at dksX1_size_4 13 rfl rfl)
theorem dX1_size_135 : decode cX1_size 135 = .ok (.goto 103, 3) := dk_167 0 103 (dk_at dksX1_size_4 16 rfl rfl)
theorem dX1_size_138 : decode cX1_size 138 = .ok (.aload_n 0, 1) := dk_42 (dk_at dksX1_size_4 19 rfl rfl)
theorem dX1_size_139 : decode cX1_size 139 = .ok (.getfield 24, 3) := dk_180 0 24 (dk_at dksX1_size_4 20 rfl rfl)
theorem dX1_size_142 : decode cX1_size 142 = .ok (.getfield 212, 3) := dk_180 0 212 (dk_at dksX1_size_5 0 rfl rfl)
theorem dX1_size_145 : decode cX1_size 145 = .ok (.goto 93, 3) := dk_167 0 93 (dk_at dksX1_size_5 3 rfl rfl)
theorem dX1_size_148 : decode cX1_size 148 = .ok (.aload_n 0, 1) := dk_42 (dk_at dksX1_size_5 6 rfl rfl)
theorem dX1_size_149 : decode cX1_size 149 = .ok (.getfield 24, 3) := dk_180 0 24 (dk_at dksX1_size_5 7 rfl rfl)
theorem dX1_size_152 : decode cX1_size 152 = .ok (.getfield 215, 3) := dk_180 0 215 (dk_at dksX1_size_5 10 rfl rfl)
theorem dX1_size_155 : decode cX1_size 155 = .ok (.goto 83, 3) := dk_167 0 83 (dk_at dksX1_size_5 13 rfl rfl)
theorem dX1_size_158 : decode cX1_size 158 = .ok (.aload_n 0, 1) := dk_42 (dk_at dksX1_size_5 16 rfl rfl)
theorem dX1_size_159 : decode cX1_size 159 = .ok (.getfield 24, 3) := dk_180 0 24 (dk_at dksX1_size_5 17 rfl rfl)
theorem dX1_size_162 : decode cX1_size 162 = .ok (.aload_n 0, 1) := dk_42 (dk_at dksX1_size_5 20 rfl rfl)
theorem dX1_size_163 : decode cX1_size 163 = .ok (.getfield 24, 3) := dk_180 0 24 (dk_at dksX1_size_5 21 rfl rfl)
theorem dX1_size_166 : decode cX1_size 166 = .ok (.getfield 203, 3) := dk_180 0 203 (dk_at dksX1_size_6 0 rfl rfl)
theorem dX1_size_169 : decode cX1_size 169 = .ok (.invokevirtual 218, 3) := dk_182 0 218 (dk_at dksX1_size_6 3 rfl rfl)
theorem dX1_size_172 : decode cX1_size 172 = .ok (.invokestatic 222, 3) := dk_184 0 222 (dk_at dksX1_size_6 6 rfl rfl)
theorem dX1_size_175 : decode cX1_size 175 = .ok (.goto 63, 3) := dk_167 0 63 (dk_at dksX1_size_6 9 rfl rfl)
theorem dX1_size_178 : decode cX1_size 178 = .ok (.aload_n 0, 1) := dk_42 (dk_at dksX1_size_6 12 rfl rfl)
theorem dX1_size_179 : decode cX1_size 179 = .ok (.getfield 24, 3) := dk_180 0 24 (dk_at dksX1_size_6 13 rfl rfl)
theorem dX1_size_182 : decode cX1_size 182 = .ok (.iconst 0, 1) := dk_3 (dk_at dksX1_size_6 16 rfl rfl)
theorem dX1_size_183 : decode cX1_size 183 = .ok (.invokevirtual 226, 3) := dk_182 0 226 (dk_at dksX1_size_6 17 rfl rfl)
theorem dX1_size_186 : decode cX1_size 186 = .ok (.goto 52, 3) := dk_167 0 52 (dk_at dksX1_size_6 20 rfl rfl)
theorem dX1_size_189 : decode cX1_size 189 = .ok (.aload_n 0, 1) := dk_42 (dk_at dksX1_size_6 23 rfl rfl)
theorem dX1_size_190 : decode cX1_size 190 = .ok (.getfield 24, 3) := dk_180 0 24 (dk_at dksX1_size_7 0 rfl rfl)
theorem dX1_size_193 : decode cX1_size 193 = .ok (.invokevirtual 230, 3) := dk_182 0 230 (dk_at dksX1_size_7 3 rfl rfl)
theorem dX1_size_196 : decode cX1_size 196 = .ok (.goto 42, 3) := dk_167 0 42 (dk_at dksX1_size_7 6 rfl rfl)
theorem dX1_size_199 : decode cX1_size 199 = .ok (.aload_n 0, 1) := dk_42 (dk_at dksX1_size_7 9 rfl rfl)
theorem dX1_size_200 : decode cX1_size 200 = .ok (.getfield 24, 3) := dk_180 0 24 (dk_at dksX1_size_7 10 rfl rfl)
theorem dX1_size_203 : decode cX1_size 203 = .ok (.invokevirtual 233, 3) := dk_182 0 233 (dk_at dksX1_size_7 13 rfl rfl)
theorem dX1_size_206 : decode cX1_size 206 = .ok (.goto 32, 3) := dk_167 0 32 (dk_at dksX1_size_7 16 rfl rfl)
theorem dX1_size_209 : decode cX1_size 209 = .ok (.aload_n 0, 1) := dk_42 (dk_at dksX1_size_7 19 rfl rfl)
theorem dX1_size_210 : decode cX1_size 210 = .ok (.getfield 24, 3) := dk_180 0 24 (dk_at dksX1_size_7 20 rfl rfl)
theorem dX1_size_213 : decode cX1_size 213 = .ok (.iconst 1, 1) := dk_4 (dk_at dksX1_size_7 23 rfl rfl)
theorem dX1_size_214 : decode cX1_size 214 = .ok (.invokevirtual 226, 3) := dk_182 0 226 (dk_at dksX1_size_8 0 rfl rfl)
theorem dX1_size_217 : decode cX1_size 217 = .ok (.goto 21, 3) := dk_167 0 21 (dk_at dksX1_size_8 3 rfl rfl)
theorem dX1_size_220 : decode cX1_size 220 = .ok (.aload_n 0, 1) := dk_42 (dk_at dksX1_size_8 6 rfl rfl)
theorem dX1_size_221 : decode cX1_size 221 = .ok (.getfield 31, 3) := dk_180 0 31 (dk_at dksX1_size_8 7 rfl rfl)
theorem dX1_size_224 : decode cX1_size 224 = .ok (.invokevirtual 92, 3) := dk_182 0 92 (dk_at dksX1_size_8 10 rfl rfl)
theorem dX1_size_227 : decode cX1_size 227 = .ok (.goto 11, 3) := dk_167 0 11 (dk_at dksX1_size_8 13 rfl rfl)
theorem dX1_size_230 : decode cX1_size 230 = .ok (.new 7, 3) := dk_187 0 7 (dk_at dksX1_size_8 16 rfl rfl)
theorem dX1_size_233 : decode cX1_size 233 = .ok (.dup, 1) := dk_89 (dk_at dksX1_size_8 19 rfl rfl)
theorem dX1_size_234 : decode cX1_size 234 = .ok (.invokespecial 9, 3) := dk_183 0 9 (dk_at dksX1_size_8 20 rfl rfl)
theorem dX1_size_237 : decode cX1_size 237 = .ok (.athrow, 1) := dk_191 (dk_at dksX1_size_8 23 rfl rfl)
theorem dX1_size_238 : decode cX1_size 238 = .ok (.ireturn, 1) := dk_172 (dk_at dksX1_size_9 0 rfl rfl)
def dkwX1_cell_6 : List UInt8 := [89, 183, 0, 9, 191, 172]
abbrev dktX1_cell_6 : List UInt8 := dkwX1_cell_6 ++ []
def dkwX1_cell_5 : List UInt8 := [167, 0, 29, 42, 21, 4, 182, 1, 47, 167, 0, 20, 42, 21, 4, 182, 1, 50, 167, 0, 11, 187, 0, 7]
abbrev dktX1_cell_5 : List UInt8 := dkwX1_cell_5 ++ dktX1_cell_6
def dkwX1_cell_4 : List UInt8 := [180, 1, 40, 21, 4, 51, 184, 0, 222, 167, 0, 42, 42, 180, 0, 24, 180, 1, 44, 21, 4, 46]
abbrev dktX1_cell_4 : List UInt8 := dkwX1_cell_4 ++ dktX1_cell_5
def dkwX1_cell_3 : List UInt8 := [153, 0, 16, 42, 180, 0, 24, 180, 1, 37, 21, 4, 46, 167, 0, 62, 2, 167, 0, 58, 42, 180, 0, 24]
abbrev dktX1_cell_3 : List UInt8 := dkwX1_cell_3 ++ dktX1_cell_4
def dkwX1_cell_2 : List UInt8 := [42, 180, 0, 24, 180, 1, 31, 21, 4, 46, 167, 0, 87, 42, 180, 0, 24, 21, 4, 182, 1, 34]
abbrev dktX1_cell_2 : List UInt8 := dkwX1_cell_2 ++ dktX1_cell_3
def dkwX1_cell_1 : List UInt8 := [170, 0, 0, 0, 0, 0, 128, 0, 0, 0, 0, 0, 0, 0, 5, 0, 0, 0, 39, 0, 0, 0, 52, 0, 0, 0, 81, 0, 0, 0, 97, 0, 0, 0, 110, 0, 0, 0, 119]
abbrev dktX1_cell_1 : List UInt8 := dkwX1_cell_1 ++ dktX1_cell_2
def dkwX1_cell_0 : List UInt8 := [42, 27, 28, 182, 1, 27, 54, 4, 29]
abbrev dktX1_cell_0 : List UInt8 := dkwX1_cell_0 ++ dktX1_cell_1
theorem dksX1_cell_0 : cX1_cell.data.toList.drop 0 = dktX1_cell_0 := by decide +kernel
theorem dksX1_cell_1 : cX1_cell.data.toList.drop 9 = dktX1_cell_1 := dk_seg dksX1_cell_0 9 rfl rfl
theorem dksX1_cell_2 : cX1_cell.data.toList.drop 48 = dktX1_cell_2 := dk_seg dksX1_cell_1 39 rfl rfl
theorem dksX1_cell_3 : cX1_cell.data.toList.drop 70 = dktX1_cell_3 := dk_seg dksX1_cell_2 22 rfl rfl
theorem dksX1_cell_4 : cX1_cell.data.toList.drop 94 = dktX1_cell_4 := dk_seg dksX1_cell_3 24 rfl rfl
theorem dksX1_cell_5 : cX1_cell.data.toList.drop 116 = dktX1_cell_5 := dk_seg dksX1_cell_4 22 rfl rfl
theorem dksX1_cell_6 : cX1_cell.data.toList.drop 140 = dktX1_cell_6 := dk_seg dksX1_cell_5 24 rfl rfl
theorem dX1_cell_0 : decode cX1_cell 0 = .ok (.aload_n 0, 1) := dk_42 (dk_at dksX1_cell_0 0 rfl rfl)
theorem dX1_cell_1 : decode cX1_cell 1 = .ok (.iload_n 1, 1) := dk_27 (dk_at dksX1_cell_0 1 rfl rfl)
theorem dX1_cell_2 : decode cX1_cell 2 = .ok (.iload_n 2, 1) := dk_28 (dk_at dksX1_cell_0 2 rfl rfl)
theorem dX1_cell_3 : decode cX1_cell 3 = .ok (.invokevirtual 283, 3) := dk_182 1 27 (dk_at dksX1_cell_0 3 rfl rfl)
theorem dX1_cell_6 : decode cX1_cell 6 = .ok (.istore 4, 2) := dk_54 4 (dk_at dksX1_cell_0 6 rfl rfl)
theorem dX1_cell_8 : decode cX1_cell 8 = .ok (.iload_n 3, 1) := dk_29 (dk_at dksX1_cell_0 8 rfl rfl)
theorem dX1_cell_9 : decode cX1_cell 9 = .ok (.tableswitch 128 0 5 #[39, 52, 81, 97, 110, 119], 39) := by decide +kernel
theorem dX1_cell_48 : decode cX1_cell 48 = .ok (.aload_n 0, 1) := dk_42 (dk_at dksX1_cell_2 0 rfl rfl)
theorem dX1_cell_49 : decode cX1_cell 49 = .ok (.getfield 24, 3) := dk_180 0 24 (dk_at dksX1_cell_2 1 rfl rfl)
theorem dX1_cell_52 : decode cX1_cell 52 = .ok (.getfield 287, 3) := dk_180 1 31 (dk_at dksX1_cell_2 4 rfl rfl)
theorem dX1_cell_55 : decode cX1_cell 55 = .ok (.iload 4, 2) := dk_21 4 (dk_at dksX1_cell_2 7 rfl rfl)
theorem dX1_cell_57 : decode cX1_cell 57 = .ok (.iaload, 1) := dk_46 (dk_at dksX1_cell_2 9 rfl rfl)
theorem dX1_cell_58 : decode cX1_cell 58 = .ok (.goto 87, 3) := dk_167 0 87 (dk_at dksX1_cell_2 10 rfl rfl)
theorem dX1_cell_61 : decode cX1_cell 61 = .ok (.aload_n 0, 1) := dk_42 (dk_at dksX1_cell_2 13 rfl rfl)
theorem dX1_cell_62 : decode cX1_cell 62 = .ok (.getfield 24, 3) := dk_180 0 24 (dk_at dksX1_cell_2 14 rfl rfl)
theorem dX1_cell_65 : decode cX1_cell 65 = .ok (.iload 4, 2) := dk_21 4 (dk_at dksX1_cell_2 17 rfl rfl)
theorem dX1_cell_67 : decode cX1_cell 67 = .ok (.invokevirtual 290, 3) := dk_182 1 34 (dk_at dksX1_cell_2 19 rfl rfl)
theorem dX1_cell_70 : decode cX1_cell 70 = .ok (.ifCond .eq 16, 3) := dk_153 0 16 (dk_at dksX1_cell_3 0 rfl rfl)
theorem dX1_cell_73 : decode cX1_cell 73 = .ok (.aload_n 0, 1) := dk_42 (dk_at dksX1_cell_3 3 rfl rfl)
theorem dX1_cell_74 : decode cX1_cell 74 = .ok (.getfield 24, 3) := dk_180 0 24 (dk_at dksX1_cell_3 4 rfl rfl)
theorem dX1_cell_77 : decode cX1_cell 77 = .ok (.getfield 293, 3) := dk_180 1 37 (dk_at dksX1_cell_3 7 rfl rfl)
theorem dX1_cell_80 : decode cX1_cell 80 = .ok (.iload 4, 2) := dk_21 4 (dk_at dksX1_cell_3 10 rfl rfl)
theorem dX1_cell_82 : decode cX1_cell 82 = .ok (.iaload, 1) := dk_46 (dk_at dksX1_cell_3 12 rfl rfl)
theorem dX1_cell_83 : decode cX1_cell 83 = .ok (.goto 62, 3) := dk_167 0 62 (dk_at dksX1_cell_3 13 rfl rfl)
theorem dX1_cell_86 : decode cX1_cell 86 = .ok (.iconst (-1), 1) := dk_2 (dk_at dksX1_cell_3 16 rfl rfl)
theorem dX1_cell_87 : decode cX1_cell 87 = .ok (.goto 58, 3) := dk_167 0 58 (dk_at dksX1_cell_3 17 rfl rfl)
theorem dX1_cell_90 : decode cX1_cell 90 = .ok (.aload_n 0, 1) := dk_42 (dk_at dksX1_cell_3 20 rfl rfl)
theorem dX1_cell_91 : decode cX1_cell 91 = .ok (.getfield 24, 3) := dk_180 0 24 (dk_at dksX1_cell_3 21 rfl rfl)
theorem dX1_cell_94 : decode cX1_cell 94 = .ok (.getfield 296, 3) := dk_180 1 40 (dk_at dksX1_cell_4 0 rfl rfl)
theorem dX1_cell_97 : decode cX1_cell 97 = .ok (.iload 4, 2) := dk_21 4 (dk_at dksX1_cell_4 3 rfl rfl)
theorem dX1_cell_99 : decode cX1_cell 99 = .ok (.baload, 1) := dk_51 (dk_at dksX1_cell_4 5 rfl rfl)
theorem dX1_cell_100 : decode cX1_cell 100 = .ok (.invokestatic 222, 3) := dk_184 0 222 (dk_at dksX1_cell_4 6 rfl rfl)
theorem dX1_cell_103 : decode cX1_cell 103 = .ok (.goto 42, 3) := dk_167 0 42 (dk_at dksX1_cell_4 9 rfl rfl)
theorem dX1_cell_106 : decode cX1_cell 106 = .ok (.aload_n 0, 1) := dk_42 (dk_at dksX1_cell_4 12 rfl rfl)
theorem dX1_cell_107 : decode cX1_cell 107 = .ok (.getfield 24, 3) := dk_180 0 24 (dk_at dksX1_cell_4 13 rfl rfl)
theorem dX1_cell_110 : decode cX1_cell 110 = .ok (.getfield 300, 3) := dk_180 1 44 (dk_at dksX1_cell_4 16 rfl rfl)
theorem dX1_cell_113 : decode cX1_cell 113 = .ok (.iload 4, 2) := dk_21 4 (dk_at dksX1_cell_4 19 rfl rfl)
theorem dX1_cell_115 : decode cX1_cell 115 = .ok (.iaload, 1) := dk_46 (dk_at dksX1_cell_4 21 rfl rfl)
theorem dX1_cell_116 : decode cX1_cell 116 = .ok (.goto 29, 3) := dk_167 0 29 (dk_at dksX1_cell_5 0 rfl rfl)
theorem dX1_cell_119 : decode cX1_cell 119 = .ok (.aload_n 0, 1) := dk_42 (dk_at dksX1_cell_5 3 rfl rfl)
theorem dX1_cell_120 : decode cX1_cell 120 = .ok (.iload 4, 2) := dk_21 4 (dk_at dksX1_cell_5 4 rfl rfl)
theorem dX1_cell_122 : decode cX1_cell 122 = .ok (.invokevirtual 303, 3) := dk_182 1 47 (dk_at dksX1_cell_5 6 rfl rfl)
theorem dX1_cell_125 : decode cX1_cell 125 = .ok (.goto 20, 3) := dk_167 0 20 (dk_at dksX1_cell_5 9 rfl rfl)
theorem dX1_cell_128 : decode cX1_cell 128 = .ok (.aload_n 0, 1) := dk_42 (dk_at dksX1_cell_5 12 rfl rfl)
theorem dX1_cell_129 : decode cX1_cell 129 = .ok (.iload 4, 2) := dk_21 4 (dk_at dksX1_cell_5 13 rfl rfl)
theorem dX1_cell_131 : decode cX1_cell 131 = .ok (.invokevirtual 306, 3) := dk_182 1 50 (dk_at dksX1_cell_5 15 rfl rfl)
theorem dX1_cell_134 : decode cX1_cell 134 = .ok (.goto 11, 3) := dk_167 0 11 (dk_at dksX1_cell_5 18 rfl rfl)
theorem dX1_cell_137 : decode cX1_cell 137 = .ok (.new 7, 3) := dk_187 0 7 (dk_at dksX1_cell_5 21 rfl rfl)
theorem dX1_cell_140 : decode cX1_cell 140 = .ok (.dup, 1) := dk_89 (dk_at dksX1_cell_6 0 rfl rfl)
theorem dX1_cell_141 : decode cX1_cell 141 = .ok (.invokespecial 9, 3) := dk_183 0 9 (dk_at dksX1_cell_6 1 rfl rfl)
theorem dX1_cell_144 : decode cX1_cell 144 = .ok (.athrow, 1) := dk_191 (dk_at dksX1_cell_6 4 rfl rfl)
theorem dX1_cell_145 : decode cX1_cell 145 = .ok (.ireturn, 1) := dk_172 (dk_at dksX1_cell_6 5 rfl rfl)
def dkwX1_at_2 : List UInt8 := [180, 0, 24, 180, 0, 206, 28, 104, 27, 96, 172]
abbrev dktX1_at_2 : List UInt8 := dkwX1_at_2 ++ []
def dkwX1_at_1 : List UInt8 := [180, 0, 24, 180, 0, 209, 4, 100, 133, 184, 0, 114, 153, 0, 7, 4, 167, 0, 4, 3, 184, 0, 236, 42]
abbrev dktX1_at_1 : List UInt8 := dkwX1_at_1 ++ dktX1_at_2
def dkwX1_at_0 : List UInt8 := [27, 133, 9, 42, 180, 0, 24, 180, 0, 206, 4, 100, 133, 184, 0, 114, 153, 0, 26, 28, 133, 9, 42]
abbrev dktX1_at_0 : List UInt8 := dkwX1_at_0 ++ dktX1_at_1
theorem dksX1_at_0 : cX1_at.data.toList.drop 0 = dktX1_at_0 := by decide +kernel
theorem dksX1_at_1 : cX1_at.data.toList.drop 23 = dktX1_at_1 := dk_seg dksX1_at_0 23 rfl rfl
theorem dksX1_at_2 : cX1_at.data.toList.drop 47 = dktX1_at_2 := dk_seg dksX1_at_1 24 rfl rfl
theorem dX1_at_0 : decode cX1_at 0 = .ok (.iload_n 1, 1) := dk_27 (dk_at dksX1_at_0 0 rfl rfl)
theorem dX1_at_1 : decode cX1_at 1 = .ok (.i2l, 1) := dk_133 (dk_at dksX1_at_0 1 rfl rfl)
theorem dX1_at_2 : decode cX1_at 2 = .ok (.lconst 0, 1) := dk_9 (dk_at dksX1_at_0 2 rfl rfl)
theorem dX1_at_3 : decode cX1_at 3 = .ok (.aload_n 0, 1) := dk_42 (dk_at dksX1_at_0 3 rfl rfl)
theorem dX1_at_4 : decode cX1_at 4 = .ok (.getfield 24, 3) := dk_180 0 24 (dk_at dksX1_at_0 4 rfl rfl)
theorem dX1_at_7 : decode cX1_at 7 = .ok (.getfield 206, 3) := dk_180 0 206 (dk_at dksX1_at_0 7 rfl rfl)
theorem dX1_at_10 : decode cX1_at 10 = .ok (.iconst 1, 1) := dk_4 (dk_at dksX1_at_0 10 rfl rfl)
theorem dX1_at_11 : decode cX1_at 11 = .ok (.isub, 1) := dk_100 (dk_at dksX1_at_0 11 rfl rfl)
theorem dX1_at_12 : decode cX1_at 12 = .ok (.i2l, 1) := dk_133 (dk_at dksX1_at_0 12 rfl rfl)
theorem dX1_at_13 : decode cX1_at 13 = .ok (.invokestatic 114, 3) := dk_184 0 114 (dk_at dksX1_at_0 13 rfl rfl)
theorem dX1_at_16 : decode cX1_at 16 = .ok (.ifCond .eq 26, 3) := dk_153 0 26 (dk_at dksX1_at_0 16 rfl rfl)
theorem dX1_at_19 : decode cX1_at 19 = .ok (.iload_n 2, 1) := dk_28 (dk_at dksX1_at_0 19 rfl rfl)
theorem dX1_at_20 : decode cX1_at 20 = .ok (.i2l, 1) := dk_133 (dk_at dksX1_at_0 20 rfl rfl)
theorem dX1_at_21 : decode cX1_at 21 = .ok (.lconst 0, 1) := dk_9 (dk_at dksX1_at_0 21 rfl rfl)
theorem dX1_at_22 : decode cX1_at 22 = .ok (.aload_n 0, 1) := dk_42 (dk_at dksX1_at_0 22 rfl rfl)
theorem dX1_at_23 : decode cX1_at 23 = .ok (.getfield 24, 3) := dk_180 0 24 (dk_at dksX1_at_1 0 rfl rfl)
theorem dX1_at_26 : decode cX1_at 26 = .ok (.getfield 209, 3) := dk_180 0 209 (dk_at dksX1_at_1 3 rfl rfl)
theorem dX1_at_29 : decode cX1_at 29 = .ok (.iconst 1, 1) := dk_4 (dk_at dksX1_at_1 6 rfl rfl)
theorem dX1_at_30 : decode cX1_at 30 = .ok (.isub, 1) := dk_100 (dk_at dksX1_at_1 7 rfl rfl)
theorem dX1_at_31 : decode cX1_at 31 = .ok (.i2l, 1) := dk_133 (dk_at dksX1_at_1 8 rfl rfl)
theorem dX1_at_32 : decode cX1_at 32 = .ok (.invokestatic 114, 3) := dk_184 0 114 (dk_at dksX1_at_1 9 rfl rfl)
theorem dX1_at_35 : decode cX1_at 35 = .ok (.ifCond .eq 7, 3) := dk_153 0 7 (dk_at dksX1_at_1 12 rfl rfl)
theorem dX1_at_38 : decode cX1_at 38 = .ok (.iconst 1, 1) := dk_4 (dk_at dksX1_at_1 15 rfl rfl)
theorem dX1_at_39 : decode cX1_at 39 = .ok (.goto 4, 3) := dk_167 0 4 (dk_at dksX1_at_1 16 rfl rfl)
theorem dX1_at_42 : decode cX1_at 42 = .ok (.iconst 0, 1) := dk_3 (dk_at dksX1_at_1 19 rfl rfl)
theorem dX1_at_43 : decode cX1_at 43 = .ok (.invokestatic 236, 3) := dk_184 0 236 (dk_at dksX1_at_1 20 rfl rfl)
theorem dX1_at_46 : decode cX1_at 46 = .ok (.aload_n 0, 1) := dk_42 (dk_at dksX1_at_1 23 rfl rfl)
theorem dX1_at_47 : decode cX1_at 47 = .ok (.getfield 24, 3) := dk_180 0 24 (dk_at dksX1_at_2 0 rfl rfl)
theorem dX1_at_50 : decode cX1_at 50 = .ok (.getfield 206, 3) := dk_180 0 206 (dk_at dksX1_at_2 3 rfl rfl)
theorem dX1_at_53 : decode cX1_at 53 = .ok (.iload_n 2, 1) := dk_28 (dk_at dksX1_at_2 6 rfl rfl)
theorem dX1_at_54 : decode cX1_at 54 = .ok (.imul, 1) := dk_104 (dk_at dksX1_at_2 7 rfl rfl)
theorem dX1_at_55 : decode cX1_at 55 = .ok (.iload_n 1, 1) := dk_27 (dk_at dksX1_at_2 8 rfl rfl)
theorem dX1_at_56 : decode cX1_at 56 = .ok (.iadd, 1) := dk_96 (dk_at dksX1_at_2 9 rfl rfl)
theorem dX1_at_57 : decode cX1_at 57 = .ok (.ireturn, 1) := dk_172 (dk_at dksX1_at_2 10 rfl rfl)
def dkwX1_index_0 : List UInt8 := [26, 154, 0, 11, 187, 0, 1, 89, 183, 0, 3, 191, 177]
abbrev dktX1_index_0 : List UInt8 := dkwX1_index_0 ++ []
theorem dksX1_index_0 : cX1_index.data.toList.drop 0 = dktX1_index_0 := by decide +kernel
theorem dX1_index_0 : decode cX1_index 0 = .ok (.iload_n 0, 1) := dk_26 (dk_at dksX1_index_0 0 rfl rfl)
theorem dX1_index_1 : decode cX1_index 1 = .ok (.ifCond .ne 11, 3) := dk_154 0 11 (dk_at dksX1_index_0 1 rfl rfl)
theorem dX1_index_4 : decode cX1_index 4 = .ok (.new 1, 3) := dk_187 0 1 (dk_at dksX1_index_0 4 rfl rfl)
theorem dX1_index_7 : decode cX1_index 7 = .ok (.dup, 1) := dk_89 (dk_at dksX1_index_0 7 rfl rfl)
theorem dX1_index_8 : decode cX1_index 8 = .ok (.invokespecial 3, 3) := dk_183 0 3 (dk_at dksX1_index_0 8 rfl rfl)
theorem dX1_index_11 : decode cX1_index 11 = .ok (.athrow, 1) := dk_191 (dk_at dksX1_index_0 11 rfl rfl)
theorem dX1_index_12 : decode cX1_index 12 = .ok (.return_, 1) := dk_177 (dk_at dksX1_index_0 12 rfl rfl)
def dkwX1_since_1 : List UInt8 := [4, 100, 42, 180, 0, 24, 180, 1, 23, 27, 46, 100, 172]
abbrev dktX1_since_1 : List UInt8 := dkwX1_since_1 ++ []
def dkwX1_since_0 : List UInt8 := [42, 180, 0, 24, 180, 1, 23, 27, 46, 2, 160, 0, 7, 2, 167, 0, 22, 42, 180, 0, 24, 180, 0, 203]
abbrev dktX1_since_0 : List UInt8 := dkwX1_since_0 ++ dktX1_since_1
theorem dksX1_since_0 : cX1_since.data.toList.drop 0 = dktX1_since_0 := by decide +kernel
theorem dksX1_since_1 : cX1_since.data.toList.drop 24 = dktX1_since_1 := dk_seg dksX1_since_0 24 rfl rfl
theorem dX1_since_0 : decode cX1_since 0 = .ok (.aload_n 0, 1) := dk_42 (dk_at dksX1_since_0 0 rfl rfl)
theorem dX1_since_1 : decode cX1_since 1 = .ok (.getfield 24, 3) := dk_180 0 24 (dk_at dksX1_since_0 1 rfl rfl)
theorem dX1_since_4 : decode cX1_since 4 = .ok (.getfield 279, 3) := dk_180 1 23 (dk_at dksX1_since_0 4 rfl rfl)
theorem dX1_since_7 : decode cX1_since 7 = .ok (.iload_n 1, 1) := dk_27 (dk_at dksX1_since_0 7 rfl rfl)
theorem dX1_since_8 : decode cX1_since 8 = .ok (.iaload, 1) := dk_46 (dk_at dksX1_since_0 8 rfl rfl)
theorem dX1_since_9 : decode cX1_since 9 = .ok (.iconst (-1), 1) := dk_2 (dk_at dksX1_since_0 9 rfl rfl)
theorem dX1_since_10 : decode cX1_since 10 = .ok (.if_icmp .ne 7, 3) := dk_160 0 7 (dk_at dksX1_since_0 10 rfl rfl)
theorem dX1_since_13 : decode cX1_since 13 = .ok (.iconst (-1), 1) := dk_2 (dk_at dksX1_since_0 13 rfl rfl)
theorem dX1_since_14 : decode cX1_since 14 = .ok (.goto 22, 3) := dk_167 0 22 (dk_at dksX1_since_0 14 rfl rfl)
theorem dX1_since_17 : decode cX1_since 17 = .ok (.aload_n 0, 1) := dk_42 (dk_at dksX1_since_0 17 rfl rfl)
theorem dX1_since_18 : decode cX1_since 18 = .ok (.getfield 24, 3) := dk_180 0 24 (dk_at dksX1_since_0 18 rfl rfl)
theorem dX1_since_21 : decode cX1_since 21 = .ok (.getfield 203, 3) := dk_180 0 203 (dk_at dksX1_since_0 21 rfl rfl)
theorem dX1_since_24 : decode cX1_since 24 = .ok (.iconst 1, 1) := dk_4 (dk_at dksX1_since_1 0 rfl rfl)
theorem dX1_since_25 : decode cX1_since 25 = .ok (.isub, 1) := dk_100 (dk_at dksX1_since_1 1 rfl rfl)
theorem dX1_since_26 : decode cX1_since 26 = .ok (.aload_n 0, 1) := dk_42 (dk_at dksX1_since_1 2 rfl rfl)
theorem dX1_since_27 : decode cX1_since 27 = .ok (.getfield 24, 3) := dk_180 0 24 (dk_at dksX1_since_1 3 rfl rfl)
theorem dX1_since_30 : decode cX1_since 30 = .ok (.getfield 279, 3) := dk_180 1 23 (dk_at dksX1_since_1 6 rfl rfl)
theorem dX1_since_33 : decode cX1_since 33 = .ok (.iload_n 1, 1) := dk_27 (dk_at dksX1_since_1 9 rfl rfl)
theorem dX1_since_34 : decode cX1_since 34 = .ok (.iaload, 1) := dk_46 (dk_at dksX1_since_1 10 rfl rfl)
theorem dX1_since_35 : decode cX1_since 35 = .ok (.isub, 1) := dk_100 (dk_at dksX1_since_1 11 rfl rfl)
theorem dX1_since_36 : decode cX1_since 36 = .ok (.ireturn, 1) := dk_172 (dk_at dksX1_since_1 12 rfl rfl)
def dkwX1_walkersOver_1 : List UInt8 := [29, 182, 1, 15, 27, 182, 1, 19, 184, 0, 222, 96, 61, 132, 3, 1, 167, 255, 220, 28, 172]
abbrev dktX1_walkersOver_1 : List UInt8 := dkwX1_walkersOver_1 ++ []
def dkwX1_walkersOver_0 : List UInt8 := [3, 61, 3, 62, 29, 42, 180, 0, 24, 180, 0, 69, 182, 0, 174, 162, 0, 28, 28, 42, 42, 180, 0, 24]
abbrev dktX1_walkersOver_0 : List UInt8 := dkwX1_walkersOver_0 ++ dktX1_walkersOver_1
theorem dksX1_walkersOver_0 : cX1_walkersOver.data.toList.drop 0 = dktX1_walkersOver_0 := by decide +kernel
theorem dksX1_walkersOver_1 : cX1_walkersOver.data.toList.drop 24 = dktX1_walkersOver_1 := dk_seg dksX1_walkersOver_0 24 rfl rfl
theorem dX1_walkersOver_0 : decode cX1_walkersOver 0 = .ok (.iconst 0, 1) := dk_3 (dk_at dksX1_walkersOver_0 0 rfl rfl)
theorem dX1_walkersOver_1 : decode cX1_walkersOver 1 = .ok (.istore_n 2, 1) := dk_61 (dk_at dksX1_walkersOver_0 1 rfl rfl)
theorem dX1_walkersOver_2 : decode cX1_walkersOver 2 = .ok (.iconst 0, 1) := dk_3 (dk_at dksX1_walkersOver_0 2 rfl rfl)
theorem dX1_walkersOver_3 : decode cX1_walkersOver 3 = .ok (.istore_n 3, 1) := dk_62 (dk_at dksX1_walkersOver_0 3 rfl rfl)
theorem dX1_walkersOver_4 : decode cX1_walkersOver 4 = .ok (.iload_n 3, 1) := dk_29 (dk_at dksX1_walkersOver_0 4 rfl rfl)
theorem dX1_walkersOver_5 : decode cX1_walkersOver 5 = .ok (.aload_n 0, 1) := dk_42 (dk_at dksX1_walkersOver_0 5 rfl rfl)
theorem dX1_walkersOver_6 : decode cX1_walkersOver 6 = .ok (.getfield 24, 3) := dk_180 0 24 (dk_at dksX1_walkersOver_0 6 rfl rfl)
theorem dX1_walkersOver_9 : decode cX1_walkersOver 9 = .ok (.getfield 69, 3) := dk_180 0 69 (dk_at dksX1_walkersOver_0 9 rfl rfl)
theorem dX1_walkersOver_12 : decode cX1_walkersOver 12 = .ok (.invokevirtual 174, 3) := dk_182 0 174 (dk_at dksX1_walkersOver_0 12 rfl rfl)
theorem dX1_walkersOver_15 : decode cX1_walkersOver 15 = .ok (.if_icmp .ge 28, 3) := dk_162 0 28 (dk_at dksX1_walkersOver_0 15 rfl rfl)
theorem dX1_walkersOver_18 : decode cX1_walkersOver 18 = .ok (.iload_n 2, 1) := dk_28 (dk_at dksX1_walkersOver_0 18 rfl rfl)
theorem dX1_walkersOver_19 : decode cX1_walkersOver 19 = .ok (.aload_n 0, 1) := dk_42 (dk_at dksX1_walkersOver_0 19 rfl rfl)
theorem dX1_walkersOver_20 : decode cX1_walkersOver 20 = .ok (.aload_n 0, 1) := dk_42 (dk_at dksX1_walkersOver_0 20 rfl rfl)
theorem dX1_walkersOver_21 : decode cX1_walkersOver 21 = .ok (.getfield 24, 3) := dk_180 0 24 (dk_at dksX1_walkersOver_0 21 rfl rfl)
theorem dX1_walkersOver_24 : decode cX1_walkersOver 24 = .ok (.iload_n 3, 1) := dk_29 (dk_at dksX1_walkersOver_1 0 rfl rfl)
theorem dX1_walkersOver_25 : decode cX1_walkersOver 25 = .ok (.invokevirtual 271, 3) := dk_182 1 15 (dk_at dksX1_walkersOver_1 1 rfl rfl)
theorem dX1_walkersOver_28 : decode cX1_walkersOver 28 = .ok (.iload_n 1, 1) := dk_27 (dk_at dksX1_walkersOver_1 4 rfl rfl)
theorem dX1_walkersOver_29 : decode cX1_walkersOver 29 = .ok (.invokevirtual 275, 3) := dk_182 1 19 (dk_at dksX1_walkersOver_1 5 rfl rfl)
theorem dX1_walkersOver_32 : decode cX1_walkersOver 32 = .ok (.invokestatic 222, 3) := dk_184 0 222 (dk_at dksX1_walkersOver_1 8 rfl rfl)
theorem dX1_walkersOver_35 : decode cX1_walkersOver 35 = .ok (.iadd, 1) := dk_96 (dk_at dksX1_walkersOver_1 11 rfl rfl)
theorem dX1_walkersOver_36 : decode cX1_walkersOver 36 = .ok (.istore_n 2, 1) := dk_61 (dk_at dksX1_walkersOver_1 12 rfl rfl)
theorem dX1_walkersOver_37 : decode cX1_walkersOver 37 = .ok (.iinc 3 1, 3) := dk_132 3 1 (dk_at dksX1_walkersOver_1 13 rfl rfl)
theorem dX1_walkersOver_40 : decode cX1_walkersOver 40 = .ok (.goto (-36), 3) := dk_167 255 220 (dk_at dksX1_walkersOver_1 16 rfl rfl)
theorem dX1_walkersOver_43 : decode cX1_walkersOver 43 = .ok (.iload_n 2, 1) := dk_28 (dk_at dksX1_walkersOver_1 19 rfl rfl)
theorem dX1_walkersOver_44 : decode cX1_walkersOver 44 = .ok (.ireturn, 1) := dk_172 (dk_at dksX1_walkersOver_1 20 rfl rfl)
def dkwX1_isOn_2 : List UInt8 := [3, 172]
abbrev dktX1_isOn_2 : List UInt8 := dkwX1_isOn_2 ++ []
def dkwX1_isOn_1 : List UInt8 := [185, 1, 7, 1, 0, 192, 1, 10, 182, 1, 12, 54, 4, 21, 4, 28, 160, 0, 5, 4, 172, 167, 255, 225]
abbrev dktX1_isOn_1 : List UInt8 := dkwX1_isOn_1 ++ dktX1_isOn_2
def dkwX1_isOn_0 : List UInt8 := [42, 180, 0, 24, 43, 182, 0, 247, 185, 0, 251, 1, 0, 78, 45, 185, 1, 1, 1, 0, 153, 0, 28, 45]
abbrev dktX1_isOn_0 : List UInt8 := dkwX1_isOn_0 ++ dktX1_isOn_1
theorem dksX1_isOn_0 : cX1_isOn.data.toList.drop 0 = dktX1_isOn_0 := by decide +kernel
theorem dksX1_isOn_1 : cX1_isOn.data.toList.drop 24 = dktX1_isOn_1 := dk_seg dksX1_isOn_0 24 rfl rfl
theorem dksX1_isOn_2 : cX1_isOn.data.toList.drop 48 = dktX1_isOn_2 := dk_seg dksX1_isOn_1 24 rfl rfl
theorem dX1_isOn_0 : decode cX1_isOn 0 = .ok (.aload_n 0, 1) := dk_42 (dk_at dksX1_isOn_0 0 rfl rfl)
theorem dX1_isOn_1 : decode cX1_isOn 1 = .ok (.getfield 24, 3) := dk_180 0 24 (dk_at dksX1_isOn_0 1 rfl rfl)
theorem dX1_isOn_4 : decode cX1_isOn 4 = .ok (.aload_n 1, 1) := dk_43 (dk_at dksX1_isOn_0 4 rfl rfl)
theorem dX1_isOn_5 : decode cX1_isOn 5 = .ok (.invokevirtual 247, 3) := dk_182 0 247 (dk_at dksX1_isOn_0 5 rfl rfl)
theorem dX1_isOn_8 : decode cX1_isOn 8 = .ok (.invokeinterface 251 1, 5) := by decide +kernel
theorem dX1_isOn_13 : decode cX1_isOn 13 = .ok (.astore_n 3, 1) := dk_78 (dk_at dksX1_isOn_0 13 rfl rfl)
theorem dX1_isOn_14 : decode cX1_isOn 14 = .ok (.aload_n 3, 1) := dk_45 (dk_at dksX1_isOn_0 14 rfl rfl)
theorem dX1_isOn_15 : decode cX1_isOn 15 = .ok (.invokeinterface 257 1, 5) := by decide +kernel
theorem dX1_isOn_20 : decode cX1_isOn 20 = .ok (.ifCond .eq 28, 3) := dk_153 0 28 (dk_at dksX1_isOn_0 20 rfl rfl)
theorem dX1_isOn_23 : decode cX1_isOn 23 = .ok (.aload_n 3, 1) := dk_45 (dk_at dksX1_isOn_0 23 rfl rfl)
theorem dX1_isOn_24 : decode cX1_isOn 24 = .ok (.invokeinterface 263 1, 5) := by decide +kernel
theorem dX1_isOn_29 : decode cX1_isOn 29 = .ok (.checkcast 266, 3) := dk_192 1 10 (dk_at dksX1_isOn_1 5 rfl rfl)
theorem dX1_isOn_32 : decode cX1_isOn 32 = .ok (.invokevirtual 268, 3) := dk_182 1 12 (dk_at dksX1_isOn_1 8 rfl rfl)
theorem dX1_isOn_35 : decode cX1_isOn 35 = .ok (.istore 4, 2) := dk_54 4 (dk_at dksX1_isOn_1 11 rfl rfl)
theorem dX1_isOn_37 : decode cX1_isOn 37 = .ok (.iload 4, 2) := dk_21 4 (dk_at dksX1_isOn_1 13 rfl rfl)
theorem dX1_isOn_39 : decode cX1_isOn 39 = .ok (.iload_n 2, 1) := dk_28 (dk_at dksX1_isOn_1 15 rfl rfl)
theorem dX1_isOn_40 : decode cX1_isOn 40 = .ok (.if_icmp .ne 5, 3) := dk_160 0 5 (dk_at dksX1_isOn_1 16 rfl rfl)
theorem dX1_isOn_43 : decode cX1_isOn 43 = .ok (.iconst 1, 1) := dk_4 (dk_at dksX1_isOn_1 19 rfl rfl)
theorem dX1_isOn_44 : decode cX1_isOn 44 = .ok (.ireturn, 1) := dk_172 (dk_at dksX1_isOn_1 20 rfl rfl)
theorem dX1_isOn_45 : decode cX1_isOn 45 = .ok (.goto (-31), 3) := dk_167 255 225 (dk_at dksX1_isOn_1 21 rfl rfl)
theorem dX1_isOn_48 : decode cX1_isOn 48 = .ok (.iconst 0, 1) := dk_3 (dk_at dksX1_isOn_2 0 rfl rfl)
theorem dX1_isOn_49 : decode cX1_isOn 49 = .ok (.ireturn, 1) := dk_172 (dk_at dksX1_isOn_2 1 rfl rfl)
def dkwX1_gate_4 : List UInt8 := [167, 0, 21, 45, 182, 1, 68, 182, 1, 72, 167, 0, 11, 187, 0, 7, 89, 183, 0, 9, 191, 172]
abbrev dktX1_gate_4 : List UInt8 := dkwX1_gate_4 ++ []
def dkwX1_gate_3 : List UInt8 := [180, 0, 206, 108, 167, 0, 39, 42, 27, 4, 182, 1, 64, 167, 0, 30, 42, 27, 3, 182, 1, 64]
abbrev dktX1_gate_3 : List UInt8 := dkwX1_gate_3 ++ dktX1_gate_4
def dkwX1_gate_2 : List UInt8 := [45, 182, 1, 61, 42, 180, 0, 24, 180, 0, 206, 112, 167, 0, 54, 45, 182, 1, 61, 42, 180, 0, 24]
abbrev dktX1_gate_2 : List UInt8 := dkwX1_gate_2 ++ dktX1_gate_3
def dkwX1_gate_1 : List UInt8 := [170, 0, 0, 0, 0, 0, 0, 94, 0, 0, 0, 0, 0, 0, 0, 4, 0, 0, 0, 36, 0, 0, 0, 51, 0, 0, 0, 66, 0, 0, 0, 75, 0, 0, 0, 84]
abbrev dktX1_gate_1 : List UInt8 := dkwX1_gate_1 ++ dktX1_gate_2
def dkwX1_gate_0 : List UInt8 := [42, 180, 0, 24, 180, 0, 197, 27, 184, 0, 243, 192, 1, 59, 78, 28]
abbrev dktX1_gate_0 : List UInt8 := dkwX1_gate_0 ++ dktX1_gate_1
theorem dksX1_gate_0 : cX1_gate.data.toList.drop 0 = dktX1_gate_0 := by decide +kernel
theorem dksX1_gate_1 : cX1_gate.data.toList.drop 16 = dktX1_gate_1 := dk_seg dksX1_gate_0 16 rfl rfl
theorem dksX1_gate_2 : cX1_gate.data.toList.drop 52 = dktX1_gate_2 := dk_seg dksX1_gate_1 36 rfl rfl
theorem dksX1_gate_3 : cX1_gate.data.toList.drop 75 = dktX1_gate_3 := dk_seg dksX1_gate_2 23 rfl rfl
theorem dksX1_gate_4 : cX1_gate.data.toList.drop 97 = dktX1_gate_4 := dk_seg dksX1_gate_3 22 rfl rfl
theorem dX1_gate_0 : decode cX1_gate 0 = .ok (.aload_n 0, 1) := dk_42 (dk_at dksX1_gate_0 0 rfl rfl)
theorem dX1_gate_1 : decode cX1_gate 1 = .ok (.getfield 24, 3) := dk_180 0 24 (dk_at dksX1_gate_0 1 rfl rfl)
theorem dX1_gate_4 : decode cX1_gate 4 = .ok (.getfield 197, 3) := dk_180 0 197 (dk_at dksX1_gate_0 4 rfl rfl)
theorem dX1_gate_7 : decode cX1_gate 7 = .ok (.iload_n 1, 1) := dk_27 (dk_at dksX1_gate_0 7 rfl rfl)
theorem dX1_gate_8 : decode cX1_gate 8 = .ok (.invokestatic 243, 3) := dk_184 0 243 (dk_at dksX1_gate_0 8 rfl rfl)
theorem dX1_gate_11 : decode cX1_gate 11 = .ok (.checkcast 315, 3) := dk_192 1 59 (dk_at dksX1_gate_0 11 rfl rfl)
theorem dX1_gate_14 : decode cX1_gate 14 = .ok (.astore_n 3, 1) := dk_78 (dk_at dksX1_gate_0 14 rfl rfl)
theorem dX1_gate_15 : decode cX1_gate 15 = .ok (.iload_n 2, 1) := dk_28 (dk_at dksX1_gate_0 15 rfl rfl)
theorem dX1_gate_16 : decode cX1_gate 16 = .ok (.tableswitch 94 0 4 #[36, 51, 66, 75, 84], 36) := by decide +kernel
theorem dX1_gate_52 : decode cX1_gate 52 = .ok (.aload_n 3, 1) := dk_45 (dk_at dksX1_gate_2 0 rfl rfl)
theorem dX1_gate_53 : decode cX1_gate 53 = .ok (.invokevirtual 317, 3) := dk_182 1 61 (dk_at dksX1_gate_2 1 rfl rfl)
theorem dX1_gate_56 : decode cX1_gate 56 = .ok (.aload_n 0, 1) := dk_42 (dk_at dksX1_gate_2 4 rfl rfl)
theorem dX1_gate_57 : decode cX1_gate 57 = .ok (.getfield 24, 3) := dk_180 0 24 (dk_at dksX1_gate_2 5 rfl rfl)
theorem dX1_gate_60 : decode cX1_gate 60 = .ok (.getfield 206, 3) := dk_180 0 206 (dk_at dksX1_gate_2 8 rfl rfl)
theorem dX1_gate_63 : decode cX1_gate 63 = .ok (.irem, 1) := dk_112 (dk_at dksX1_gate_2 11 rfl rfl)
theorem dX1_gate_64 : decode cX1_gate 64 = .ok (.goto 54, 3) := dk_167 0 54 (dk_at dksX1_gate_2 12 rfl rfl)
theorem dX1_gate_67 : decode cX1_gate 67 = .ok (.aload_n 3, 1) := dk_45 (dk_at dksX1_gate_2 15 rfl rfl)
theorem dX1_gate_68 : decode cX1_gate 68 = .ok (.invokevirtual 317, 3) := dk_182 1 61 (dk_at dksX1_gate_2 16 rfl rfl)
theorem dX1_gate_71 : decode cX1_gate 71 = .ok (.aload_n 0, 1) := dk_42 (dk_at dksX1_gate_2 19 rfl rfl)
theorem dX1_gate_72 : decode cX1_gate 72 = .ok (.getfield 24, 3) := dk_180 0 24 (dk_at dksX1_gate_2 20 rfl rfl)
theorem dX1_gate_75 : decode cX1_gate 75 = .ok (.getfield 206, 3) := dk_180 0 206 (dk_at dksX1_gate_3 0 rfl rfl)
theorem dX1_gate_78 : decode cX1_gate 78 = .ok (.idiv, 1) := dk_108 (dk_at dksX1_gate_3 3 rfl rfl)
theorem dX1_gate_79 : decode cX1_gate 79 = .ok (.goto 39, 3) := dk_167 0 39 (dk_at dksX1_gate_3 4 rfl rfl)
theorem dX1_gate_82 : decode cX1_gate 82 = .ok (.aload_n 0, 1) := dk_42 (dk_at dksX1_gate_3 7 rfl rfl)
theorem dX1_gate_83 : decode cX1_gate 83 = .ok (.iload_n 1, 1) := dk_27 (dk_at dksX1_gate_3 8 rfl rfl)
theorem dX1_gate_84 : decode cX1_gate 84 = .ok (.iconst 1, 1) := dk_4 (dk_at dksX1_gate_3 9 rfl rfl)
theorem dX1_gate_85 : decode cX1_gate 85 = .ok (.invokevirtual 320, 3) := dk_182 1 64 (dk_at dksX1_gate_3 10 rfl rfl)
theorem dX1_gate_88 : decode cX1_gate 88 = .ok (.goto 30, 3) := dk_167 0 30 (dk_at dksX1_gate_3 13 rfl rfl)
theorem dX1_gate_91 : decode cX1_gate 91 = .ok (.aload_n 0, 1) := dk_42 (dk_at dksX1_gate_3 16 rfl rfl)
theorem dX1_gate_92 : decode cX1_gate 92 = .ok (.iload_n 1, 1) := dk_27 (dk_at dksX1_gate_3 17 rfl rfl)
theorem dX1_gate_93 : decode cX1_gate 93 = .ok (.iconst 0, 1) := dk_3 (dk_at dksX1_gate_3 18 rfl rfl)
theorem dX1_gate_94 : decode cX1_gate 94 = .ok (.invokevirtual 320, 3) := dk_182 1 64 (dk_at dksX1_gate_3 19 rfl rfl)
theorem dX1_gate_97 : decode cX1_gate 97 = .ok (.goto 21, 3) := dk_167 0 21 (dk_at dksX1_gate_4 0 rfl rfl)
theorem dX1_gate_100 : decode cX1_gate 100 = .ok (.aload_n 3, 1) := dk_45 (dk_at dksX1_gate_4 3 rfl rfl)
theorem dX1_gate_101 : decode cX1_gate 101 = .ok (.invokevirtual 324, 3) := dk_182 1 68 (dk_at dksX1_gate_4 4 rfl rfl)
theorem dX1_gate_104 : decode cX1_gate 104 = .ok (.invokevirtual 328, 3) := dk_182 1 72 (dk_at dksX1_gate_4 7 rfl rfl)
theorem dX1_gate_107 : decode cX1_gate 107 = .ok (.goto 11, 3) := dk_167 0 11 (dk_at dksX1_gate_4 10 rfl rfl)
theorem dX1_gate_110 : decode cX1_gate 110 = .ok (.new 7, 3) := dk_187 0 7 (dk_at dksX1_gate_4 13 rfl rfl)
theorem dX1_gate_113 : decode cX1_gate 113 = .ok (.dup, 1) := dk_89 (dk_at dksX1_gate_4 16 rfl rfl)
theorem dX1_gate_114 : decode cX1_gate 114 = .ok (.invokespecial 9, 3) := dk_183 0 9 (dk_at dksX1_gate_4 17 rfl rfl)
theorem dX1_gate_117 : decode cX1_gate 117 = .ok (.athrow, 1) := dk_191 (dk_at dksX1_gate_4 20 rfl rfl)
theorem dX1_gate_118 : decode cX1_gate 118 = .ok (.ireturn, 1) := dk_172 (dk_at dksX1_gate_4 21 rfl rfl)
def dkwX1_thing_0 : List UInt8 := [27, 133, 9, 42, 182, 0, 174, 4, 100, 133, 184, 0, 114, 184, 0, 236, 42, 27, 182, 0, 239, 176]
abbrev dktX1_thing_0 : List UInt8 := dkwX1_thing_0 ++ []
theorem dksX1_thing_0 : cX1_thing.data.toList.drop 0 = dktX1_thing_0 := by decide +kernel
theorem dX1_thing_0 : decode cX1_thing 0 = .ok (.iload_n 1, 1) := dk_27 (dk_at dksX1_thing_0 0 rfl rfl)
theorem dX1_thing_1 : decode cX1_thing 1 = .ok (.i2l, 1) := dk_133 (dk_at dksX1_thing_0 1 rfl rfl)
theorem dX1_thing_2 : decode cX1_thing 2 = .ok (.lconst 0, 1) := dk_9 (dk_at dksX1_thing_0 2 rfl rfl)
theorem dX1_thing_3 : decode cX1_thing 3 = .ok (.aload_n 0, 1) := dk_42 (dk_at dksX1_thing_0 3 rfl rfl)
theorem dX1_thing_4 : decode cX1_thing 4 = .ok (.invokevirtual 174, 3) := dk_182 0 174 (dk_at dksX1_thing_0 4 rfl rfl)
theorem dX1_thing_7 : decode cX1_thing 7 = .ok (.iconst 1, 1) := dk_4 (dk_at dksX1_thing_0 7 rfl rfl)
theorem dX1_thing_8 : decode cX1_thing 8 = .ok (.isub, 1) := dk_100 (dk_at dksX1_thing_0 8 rfl rfl)
theorem dX1_thing_9 : decode cX1_thing 9 = .ok (.i2l, 1) := dk_133 (dk_at dksX1_thing_0 9 rfl rfl)
theorem dX1_thing_10 : decode cX1_thing 10 = .ok (.invokestatic 114, 3) := dk_184 0 114 (dk_at dksX1_thing_0 10 rfl rfl)
theorem dX1_thing_13 : decode cX1_thing 13 = .ok (.invokestatic 236, 3) := dk_184 0 236 (dk_at dksX1_thing_0 13 rfl rfl)
theorem dX1_thing_16 : decode cX1_thing 16 = .ok (.aload_n 0, 1) := dk_42 (dk_at dksX1_thing_0 16 rfl rfl)
theorem dX1_thing_17 : decode cX1_thing 17 = .ok (.iload_n 1, 1) := dk_27 (dk_at dksX1_thing_0 17 rfl rfl)
theorem dX1_thing_18 : decode cX1_thing 18 = .ok (.invokevirtual 239, 3) := dk_182 0 239 (dk_at dksX1_thing_0 18 rfl rfl)
theorem dX1_thing_21 : decode cX1_thing 21 = .ok (.areturn, 1) := dk_176 (dk_at dksX1_thing_0 21 rfl rfl)
def dkwX1_walkersAt_3 : List UInt8 := [167, 255, 192, 29, 172]
abbrev dktX1_walkersAt_3 : List UInt8 := dkwX1_walkersAt_3 ++ []
def dkwX1_walkersAt_2 : List UInt8 := [182, 1, 15, 180, 1, 56, 27, 160, 0, 7, 4, 167, 0, 4, 3, 184, 0, 222, 96, 62, 132, 4, 1]
abbrev dktX1_walkersAt_2 : List UInt8 := dkwX1_walkersAt_2 ++ dktX1_walkersAt_3
def dkwX1_walkersAt_1 : List UInt8 := [153, 0, 18, 42, 180, 0, 24, 21, 4, 182, 1, 15, 180, 1, 53, 167, 0, 15, 42, 180, 0, 24, 21, 4]
abbrev dktX1_walkersAt_1 : List UInt8 := dkwX1_walkersAt_1 ++ dktX1_walkersAt_2
def dkwX1_walkersAt_0 : List UInt8 := [3, 62, 3, 54, 4, 21, 4, 42, 180, 0, 24, 180, 0, 69, 182, 0, 174, 162, 0, 55, 29, 28]
abbrev dktX1_walkersAt_0 : List UInt8 := dkwX1_walkersAt_0 ++ dktX1_walkersAt_1
theorem dksX1_walkersAt_0 : cX1_walkersAt.data.toList.drop 0 = dktX1_walkersAt_0 := by decide +kernel
theorem dksX1_walkersAt_1 : cX1_walkersAt.data.toList.drop 22 = dktX1_walkersAt_1 := dk_seg dksX1_walkersAt_0 22 rfl rfl
theorem dksX1_walkersAt_2 : cX1_walkersAt.data.toList.drop 46 = dktX1_walkersAt_2 := dk_seg dksX1_walkersAt_1 24 rfl rfl
theorem dksX1_walkersAt_3 : cX1_walkersAt.data.toList.drop 69 = dktX1_walkersAt_3 := dk_seg dksX1_walkersAt_2 23 rfl rfl
theorem dX1_walkersAt_0 : decode cX1_walkersAt 0 = .ok (.iconst 0, 1) := dk_3 (dk_at dksX1_walkersAt_0 0 rfl rfl)
theorem dX1_walkersAt_1 : decode cX1_walkersAt 1 = .ok (.istore_n 3, 1) := dk_62 (dk_at dksX1_walkersAt_0 1 rfl rfl)
theorem dX1_walkersAt_2 : decode cX1_walkersAt 2 = .ok (.iconst 0, 1) := dk_3 (dk_at dksX1_walkersAt_0 2 rfl rfl)
theorem dX1_walkersAt_3 : decode cX1_walkersAt 3 = .ok (.istore 4, 2) := dk_54 4 (dk_at dksX1_walkersAt_0 3 rfl rfl)
theorem dX1_walkersAt_5 : decode cX1_walkersAt 5 = .ok (.iload 4, 2) := dk_21 4 (dk_at dksX1_walkersAt_0 5 rfl rfl)
theorem dX1_walkersAt_7 : decode cX1_walkersAt 7 = .ok (.aload_n 0, 1) := dk_42 (dk_at dksX1_walkersAt_0 7 rfl rfl)
theorem dX1_walkersAt_8 : decode cX1_walkersAt 8 = .ok (.getfield 24, 3) := dk_180 0 24 (dk_at dksX1_walkersAt_0 8 rfl rfl)
theorem dX1_walkersAt_11 : decode cX1_walkersAt 11 = .ok (.getfield 69, 3) := dk_180 0 69 (dk_at dksX1_walkersAt_0 11 rfl rfl)
theorem dX1_walkersAt_14 : decode cX1_walkersAt 14 = .ok (.invokevirtual 174, 3) := dk_182 0 174 (dk_at dksX1_walkersAt_0 14 rfl rfl)
theorem dX1_walkersAt_17 : decode cX1_walkersAt 17 = .ok (.if_icmp .ge 55, 3) := dk_162 0 55 (dk_at dksX1_walkersAt_0 17 rfl rfl)
theorem dX1_walkersAt_20 : decode cX1_walkersAt 20 = .ok (.iload_n 3, 1) := dk_29 (dk_at dksX1_walkersAt_0 20 rfl rfl)
theorem dX1_walkersAt_21 : decode cX1_walkersAt 21 = .ok (.iload_n 2, 1) := dk_28 (dk_at dksX1_walkersAt_0 21 rfl rfl)
theorem dX1_walkersAt_22 : decode cX1_walkersAt 22 = .ok (.ifCond .eq 18, 3) := dk_153 0 18 (dk_at dksX1_walkersAt_1 0 rfl rfl)
theorem dX1_walkersAt_25 : decode cX1_walkersAt 25 = .ok (.aload_n 0, 1) := dk_42 (dk_at dksX1_walkersAt_1 3 rfl rfl)
theorem dX1_walkersAt_26 : decode cX1_walkersAt 26 = .ok (.getfield 24, 3) := dk_180 0 24 (dk_at dksX1_walkersAt_1 4 rfl rfl)
theorem dX1_walkersAt_29 : decode cX1_walkersAt 29 = .ok (.iload 4, 2) := dk_21 4 (dk_at dksX1_walkersAt_1 7 rfl rfl)
theorem dX1_walkersAt_31 : decode cX1_walkersAt 31 = .ok (.invokevirtual 271, 3) := dk_182 1 15 (dk_at dksX1_walkersAt_1 9 rfl rfl)
theorem dX1_walkersAt_34 : decode cX1_walkersAt 34 = .ok (.getfield 309, 3) := dk_180 1 53 (dk_at dksX1_walkersAt_1 12 rfl rfl)
theorem dX1_walkersAt_37 : decode cX1_walkersAt 37 = .ok (.goto 15, 3) := dk_167 0 15 (dk_at dksX1_walkersAt_1 15 rfl rfl)
theorem dX1_walkersAt_40 : decode cX1_walkersAt 40 = .ok (.aload_n 0, 1) := dk_42 (dk_at dksX1_walkersAt_1 18 rfl rfl)
theorem dX1_walkersAt_41 : decode cX1_walkersAt 41 = .ok (.getfield 24, 3) := dk_180 0 24 (dk_at dksX1_walkersAt_1 19 rfl rfl)
theorem dX1_walkersAt_44 : decode cX1_walkersAt 44 = .ok (.iload 4, 2) := dk_21 4 (dk_at dksX1_walkersAt_1 22 rfl rfl)
theorem dX1_walkersAt_46 : decode cX1_walkersAt 46 = .ok (.invokevirtual 271, 3) := dk_182 1 15 (dk_at dksX1_walkersAt_2 0 rfl rfl)
theorem dX1_walkersAt_49 : decode cX1_walkersAt 49 = .ok (.getfield 312, 3) := dk_180 1 56 (dk_at dksX1_walkersAt_2 3 rfl rfl)
theorem dX1_walkersAt_52 : decode cX1_walkersAt 52 = .ok (.iload_n 1, 1) := dk_27 (dk_at dksX1_walkersAt_2 6 rfl rfl)
theorem dX1_walkersAt_53 : decode cX1_walkersAt 53 = .ok (.if_icmp .ne 7, 3) := dk_160 0 7 (dk_at dksX1_walkersAt_2 7 rfl rfl)
theorem dX1_walkersAt_56 : decode cX1_walkersAt 56 = .ok (.iconst 1, 1) := dk_4 (dk_at dksX1_walkersAt_2 10 rfl rfl)
theorem dX1_walkersAt_57 : decode cX1_walkersAt 57 = .ok (.goto 4, 3) := dk_167 0 4 (dk_at dksX1_walkersAt_2 11 rfl rfl)
theorem dX1_walkersAt_60 : decode cX1_walkersAt 60 = .ok (.iconst 0, 1) := dk_3 (dk_at dksX1_walkersAt_2 14 rfl rfl)
theorem dX1_walkersAt_61 : decode cX1_walkersAt 61 = .ok (.invokestatic 222, 3) := dk_184 0 222 (dk_at dksX1_walkersAt_2 15 rfl rfl)
theorem dX1_walkersAt_64 : decode cX1_walkersAt 64 = .ok (.iadd, 1) := dk_96 (dk_at dksX1_walkersAt_2 18 rfl rfl)
theorem dX1_walkersAt_65 : decode cX1_walkersAt 65 = .ok (.istore_n 3, 1) := dk_62 (dk_at dksX1_walkersAt_2 19 rfl rfl)
theorem dX1_walkersAt_66 : decode cX1_walkersAt 66 = .ok (.iinc 4 1, 3) := dk_132 4 1 (dk_at dksX1_walkersAt_2 20 rfl rfl)
theorem dX1_walkersAt_69 : decode cX1_walkersAt 69 = .ok (.goto (-64), 3) := dk_167 255 192 (dk_at dksX1_walkersAt_3 0 rfl rfl)
theorem dX1_walkersAt_72 : decode cX1_walkersAt 72 = .ok (.iload_n 3, 1) := dk_29 (dk_at dksX1_walkersAt_3 3 rfl rfl)
theorem dX1_walkersAt_73 : decode cX1_walkersAt 73 = .ok (.ireturn, 1) := dk_172 (dk_at dksX1_walkersAt_3 4 rfl rfl)
def dkwX1_walker_5 : List UInt8 := [167, 0, 11, 187, 0, 7, 89, 183, 0, 9, 191, 172]
abbrev dktX1_walker_5 : List UInt8 := dkwX1_walker_5 ++ []
def dkwX1_walker_4 : List UInt8 := [180, 0, 24, 180, 0, 203, 182, 1, 88, 184, 0, 222, 167, 0, 21, 45, 180, 1, 91, 182, 1, 72]
abbrev dktX1_walker_4 : List UInt8 := dkwX1_walker_4 ++ dktX1_walker_5
def dkwX1_walker_3 : List UInt8 := [180, 1, 79, 167, 0, 52, 45, 180, 1, 82, 167, 0, 45, 45, 180, 1, 85, 167, 0, 38, 45, 42]
abbrev dktX1_walker_3 : List UInt8 := dkwX1_walker_3 ++ dktX1_walker_4
def dkwX1_walker_2 : List UInt8 := [45, 180, 1, 53, 167, 0, 73, 45, 180, 1, 56, 167, 0, 66, 45, 180, 1, 77, 167, 0, 59, 45]
abbrev dktX1_walker_2 : List UInt8 := dkwX1_walker_2 ++ dktX1_walker_3
def dkwX1_walker_1 : List UInt8 := [170, 0, 0, 0, 114, 0, 0, 0, 0, 0, 0, 0, 7, 0, 0, 0, 45, 0, 0, 0, 52, 0, 0, 0, 59, 0, 0, 0, 66, 0, 0, 0, 73, 0, 0, 0, 80, 0, 0, 0, 87, 0, 0, 0, 104]
abbrev dktX1_walker_1 : List UInt8 := dkwX1_walker_1 ++ dktX1_walker_2
def dkwX1_walker_0 : List UInt8 := [42, 27, 182, 1, 74, 78, 28]
abbrev dktX1_walker_0 : List UInt8 := dkwX1_walker_0 ++ dktX1_walker_1
theorem dksX1_walker_0 : cX1_walker.data.toList.drop 0 = dktX1_walker_0 := by decide +kernel
theorem dksX1_walker_1 : cX1_walker.data.toList.drop 7 = dktX1_walker_1 := dk_seg dksX1_walker_0 7 rfl rfl
theorem dksX1_walker_2 : cX1_walker.data.toList.drop 52 = dktX1_walker_2 := dk_seg dksX1_walker_1 45 rfl rfl
theorem dksX1_walker_3 : cX1_walker.data.toList.drop 74 = dktX1_walker_3 := dk_seg dksX1_walker_2 22 rfl rfl
theorem dksX1_walker_4 : cX1_walker.data.toList.drop 96 = dktX1_walker_4 := dk_seg dksX1_walker_3 22 rfl rfl
theorem dksX1_walker_5 : cX1_walker.data.toList.drop 118 = dktX1_walker_5 := dk_seg dksX1_walker_4 22 rfl rfl
theorem dX1_walker_0 : decode cX1_walker 0 = .ok (.aload_n 0, 1) := dk_42 (dk_at dksX1_walker_0 0 rfl rfl)
theorem dX1_walker_1 : decode cX1_walker 1 = .ok (.iload_n 1, 1) := dk_27 (dk_at dksX1_walker_0 1 rfl rfl)
theorem dX1_walker_2 : decode cX1_walker 2 = .ok (.invokevirtual 330, 3) := dk_182 1 74 (dk_at dksX1_walker_0 2 rfl rfl)
theorem dX1_walker_5 : decode cX1_walker 5 = .ok (.astore_n 3, 1) := dk_78 (dk_at dksX1_walker_0 5 rfl rfl)
theorem dX1_walker_6 : decode cX1_walker 6 = .ok (.iload_n 2, 1) := dk_28 (dk_at dksX1_walker_0 6 rfl rfl)
theorem dX1_walker_7 : decode cX1_walker 7 = .ok (.tableswitch 114 0 7 #[45, 52, 59, 66, 73, 80, 87, 104], 45) := by decide +kernel
theorem dX1_walker_52 : decode cX1_walker 52 = .ok (.aload_n 3, 1) := dk_45 (dk_at dksX1_walker_2 0 rfl rfl)
theorem dX1_walker_53 : decode cX1_walker 53 = .ok (.getfield 309, 3) := dk_180 1 53 (dk_at dksX1_walker_2 1 rfl rfl)
theorem dX1_walker_56 : decode cX1_walker 56 = .ok (.goto 73, 3) := dk_167 0 73 (dk_at dksX1_walker_2 4 rfl rfl)
theorem dX1_walker_59 : decode cX1_walker 59 = .ok (.aload_n 3, 1) := dk_45 (dk_at dksX1_walker_2 7 rfl rfl)
theorem dX1_walker_60 : decode cX1_walker 60 = .ok (.getfield 312, 3) := dk_180 1 56 (dk_at dksX1_walker_2 8 rfl rfl)
theorem dX1_walker_63 : decode cX1_walker 63 = .ok (.goto 66, 3) := dk_167 0 66 (dk_at dksX1_walker_2 11 rfl rfl)
theorem dX1_walker_66 : decode cX1_walker 66 = .ok (.aload_n 3, 1) := dk_45 (dk_at dksX1_walker_2 14 rfl rfl)
theorem dX1_walker_67 : decode cX1_walker 67 = .ok (.getfield 333, 3) := dk_180 1 77 (dk_at dksX1_walker_2 15 rfl rfl)
theorem dX1_walker_70 : decode cX1_walker 70 = .ok (.goto 59, 3) := dk_167 0 59 (dk_at dksX1_walker_2 18 rfl rfl)
theorem dX1_walker_73 : decode cX1_walker 73 = .ok (.aload_n 3, 1) := dk_45 (dk_at dksX1_walker_2 21 rfl rfl)
theorem dX1_walker_74 : decode cX1_walker 74 = .ok (.getfield 335, 3) := dk_180 1 79 (dk_at dksX1_walker_3 0 rfl rfl)
theorem dX1_walker_77 : decode cX1_walker 77 = .ok (.goto 52, 3) := dk_167 0 52 (dk_at dksX1_walker_3 3 rfl rfl)
theorem dX1_walker_80 : decode cX1_walker 80 = .ok (.aload_n 3, 1) := dk_45 (dk_at dksX1_walker_3 6 rfl rfl)
theorem dX1_walker_81 : decode cX1_walker 81 = .ok (.getfield 338, 3) := dk_180 1 82 (dk_at dksX1_walker_3 7 rfl rfl)
theorem dX1_walker_84 : decode cX1_walker 84 = .ok (.goto 45, 3) := dk_167 0 45 (dk_at dksX1_walker_3 10 rfl rfl)
theorem dX1_walker_87 : decode cX1_walker 87 = .ok (.aload_n 3, 1) := dk_45 (dk_at dksX1_walker_3 13 rfl rfl)
theorem dX1_walker_88 : decode cX1_walker 88 = .ok (.getfield 341, 3) := dk_180 1 85 (dk_at dksX1_walker_3 14 rfl rfl)
theorem dX1_walker_91 : decode cX1_walker 91 = .ok (.goto 38, 3) := dk_167 0 38 (dk_at dksX1_walker_3 17 rfl rfl)
theorem dX1_walker_94 : decode cX1_walker 94 = .ok (.aload_n 3, 1) := dk_45 (dk_at dksX1_walker_3 20 rfl rfl)
theorem dX1_walker_95 : decode cX1_walker 95 = .ok (.aload_n 0, 1) := dk_42 (dk_at dksX1_walker_3 21 rfl rfl)
theorem dX1_walker_96 : decode cX1_walker 96 = .ok (.getfield 24, 3) := dk_180 0 24 (dk_at dksX1_walker_4 0 rfl rfl)
theorem dX1_walker_99 : decode cX1_walker 99 = .ok (.getfield 203, 3) := dk_180 0 203 (dk_at dksX1_walker_4 3 rfl rfl)
theorem dX1_walker_102 : decode cX1_walker 102 = .ok (.invokevirtual 344, 3) := dk_182 1 88 (dk_at dksX1_walker_4 6 rfl rfl)
theorem dX1_walker_105 : decode cX1_walker 105 = .ok (.invokestatic 222, 3) := dk_184 0 222 (dk_at dksX1_walker_4 9 rfl rfl)
theorem dX1_walker_108 : decode cX1_walker 108 = .ok (.goto 21, 3) := dk_167 0 21 (dk_at dksX1_walker_4 12 rfl rfl)
theorem dX1_walker_111 : decode cX1_walker 111 = .ok (.aload_n 3, 1) := dk_45 (dk_at dksX1_walker_4 15 rfl rfl)
theorem dX1_walker_112 : decode cX1_walker 112 = .ok (.getfield 347, 3) := dk_180 1 91 (dk_at dksX1_walker_4 16 rfl rfl)
theorem dX1_walker_115 : decode cX1_walker 115 = .ok (.invokevirtual 328, 3) := dk_182 1 72 (dk_at dksX1_walker_4 19 rfl rfl)
theorem dX1_walker_118 : decode cX1_walker 118 = .ok (.goto 11, 3) := dk_167 0 11 (dk_at dksX1_walker_5 0 rfl rfl)
theorem dX1_walker_121 : decode cX1_walker 121 = .ok (.new 7, 3) := dk_187 0 7 (dk_at dksX1_walker_5 3 rfl rfl)
theorem dX1_walker_124 : decode cX1_walker 124 = .ok (.dup, 1) := dk_89 (dk_at dksX1_walker_5 6 rfl rfl)
theorem dX1_walker_125 : decode cX1_walker 125 = .ok (.invokespecial 9, 3) := dk_183 0 9 (dk_at dksX1_walker_5 7 rfl rfl)
theorem dX1_walker_128 : decode cX1_walker 128 = .ok (.athrow, 1) := dk_191 (dk_at dksX1_walker_5 10 rfl rfl)
theorem dX1_walker_129 : decode cX1_walker 129 = .ok (.ireturn, 1) := dk_172 (dk_at dksX1_walker_5 11 rfl rfl)
def dkwX1_walkerAt_0 : List UInt8 := [42, 180, 0, 24, 180, 0, 69, 27, 184, 0, 243, 192, 0, 73, 176]
abbrev dktX1_walkerAt_0 : List UInt8 := dkwX1_walkerAt_0 ++ []
theorem dksX1_walkerAt_0 : cX1_walkerAt.data.toList.drop 0 = dktX1_walkerAt_0 := by decide +kernel
theorem dX1_walkerAt_0 : decode cX1_walkerAt 0 = .ok (.aload_n 0, 1) := dk_42 (dk_at dksX1_walkerAt_0 0 rfl rfl)
theorem dX1_walkerAt_1 : decode cX1_walkerAt 1 = .ok (.getfield 24, 3) := dk_180 0 24 (dk_at dksX1_walkerAt_0 1 rfl rfl)
theorem dX1_walkerAt_4 : decode cX1_walkerAt 4 = .ok (.getfield 69, 3) := dk_180 0 69 (dk_at dksX1_walkerAt_0 4 rfl rfl)
theorem dX1_walkerAt_7 : decode cX1_walkerAt 7 = .ok (.iload_n 1, 1) := dk_27 (dk_at dksX1_walkerAt_0 7 rfl rfl)
theorem dX1_walkerAt_8 : decode cX1_walkerAt 8 = .ok (.invokestatic 243, 3) := dk_184 0 243 (dk_at dksX1_walkerAt_0 8 rfl rfl)
theorem dX1_walkerAt_11 : decode cX1_walkerAt 11 = .ok (.checkcast 73, 3) := dk_192 0 73 (dk_at dksX1_walkerAt_0 11 rfl rfl)
theorem dX1_walkerAt_14 : decode cX1_walkerAt 14 = .ok (.areturn, 1) := dk_176 (dk_at dksX1_walkerAt_0 14 rfl rfl)
def dkwX1_nameByte_2 : List UInt8 := [153, 0, 12, 25, 4, 29, 182, 1, 94, 167, 0, 4, 2, 172]
abbrev dktX1_nameByte_2 : List UInt8 := dkwX1_nameByte_2 ++ []
def dkwX1_nameByte_1 : List UInt8 := [42, 27, 182, 1, 74, 180, 1, 91, 58, 4, 29, 133, 9, 25, 4, 182, 1, 72, 4, 100, 133, 184, 0, 114]
abbrev dktX1_nameByte_1 : List UInt8 := dkwX1_nameByte_1 ++ dktX1_nameByte_2
def dkwX1_nameByte_0 : List UInt8 := [28, 153, 0, 23, 42, 180, 0, 24, 180, 0, 197, 27, 184, 0, 243, 192, 1, 59, 182, 1, 68, 167, 0, 11]
abbrev dktX1_nameByte_0 : List UInt8 := dkwX1_nameByte_0 ++ dktX1_nameByte_1
theorem dksX1_nameByte_0 : cX1_nameByte.data.toList.drop 0 = dktX1_nameByte_0 := by decide +kernel
theorem dksX1_nameByte_1 : cX1_nameByte.data.toList.drop 24 = dktX1_nameByte_1 := dk_seg dksX1_nameByte_0 24 rfl rfl
theorem dksX1_nameByte_2 : cX1_nameByte.data.toList.drop 48 = dktX1_nameByte_2 := dk_seg dksX1_nameByte_1 24 rfl rfl
theorem dX1_nameByte_0 : decode cX1_nameByte 0 = .ok (.iload_n 2, 1) := dk_28 (dk_at dksX1_nameByte_0 0 rfl rfl)
theorem dX1_nameByte_1 : decode cX1_nameByte 1 = .ok (.ifCond .eq 23, 3) := dk_153 0 23 (dk_at dksX1_nameByte_0 1 rfl rfl)
theorem dX1_nameByte_4 : decode cX1_nameByte 4 = .ok (.aload_n 0, 1) := dk_42 (dk_at dksX1_nameByte_0 4 rfl rfl)
theorem dX1_nameByte_5 : decode cX1_nameByte 5 = .ok (.getfield 24, 3) := dk_180 0 24 (dk_at dksX1_nameByte_0 5 rfl rfl)
theorem dX1_nameByte_8 : decode cX1_nameByte 8 = .ok (.getfield 197, 3) := dk_180 0 197 (dk_at dksX1_nameByte_0 8 rfl rfl)
theorem dX1_nameByte_11 : decode cX1_nameByte 11 = .ok (.iload_n 1, 1) := dk_27 (dk_at dksX1_nameByte_0 11 rfl rfl)
theorem dX1_nameByte_12 : decode cX1_nameByte 12 = .ok (.invokestatic 243, 3) := dk_184 0 243 (dk_at dksX1_nameByte_0 12 rfl rfl)
theorem dX1_nameByte_15 : decode cX1_nameByte 15 = .ok (.checkcast 315, 3) := dk_192 1 59 (dk_at dksX1_nameByte_0 15 rfl rfl)
theorem dX1_nameByte_18 : decode cX1_nameByte 18 = .ok (.invokevirtual 324, 3) := dk_182 1 68 (dk_at dksX1_nameByte_0 18 rfl rfl)
theorem dX1_nameByte_21 : decode cX1_nameByte 21 = .ok (.goto 11, 3) := dk_167 0 11 (dk_at dksX1_nameByte_0 21 rfl rfl)
theorem dX1_nameByte_24 : decode cX1_nameByte 24 = .ok (.aload_n 0, 1) := dk_42 (dk_at dksX1_nameByte_1 0 rfl rfl)
theorem dX1_nameByte_25 : decode cX1_nameByte 25 = .ok (.iload_n 1, 1) := dk_27 (dk_at dksX1_nameByte_1 1 rfl rfl)
theorem dX1_nameByte_26 : decode cX1_nameByte 26 = .ok (.invokevirtual 330, 3) := dk_182 1 74 (dk_at dksX1_nameByte_1 2 rfl rfl)
theorem dX1_nameByte_29 : decode cX1_nameByte 29 = .ok (.getfield 347, 3) := dk_180 1 91 (dk_at dksX1_nameByte_1 5 rfl rfl)
theorem dX1_nameByte_32 : decode cX1_nameByte 32 = .ok (.astore 4, 2) := dk_58 4 (dk_at dksX1_nameByte_1 8 rfl rfl)
theorem dX1_nameByte_34 : decode cX1_nameByte 34 = .ok (.iload_n 3, 1) := dk_29 (dk_at dksX1_nameByte_1 10 rfl rfl)
theorem dX1_nameByte_35 : decode cX1_nameByte 35 = .ok (.i2l, 1) := dk_133 (dk_at dksX1_nameByte_1 11 rfl rfl)
theorem dX1_nameByte_36 : decode cX1_nameByte 36 = .ok (.lconst 0, 1) := dk_9 (dk_at dksX1_nameByte_1 12 rfl rfl)
theorem dX1_nameByte_37 : decode cX1_nameByte 37 = .ok (.aload 4, 2) := dk_25 4 (dk_at dksX1_nameByte_1 13 rfl rfl)
theorem dX1_nameByte_39 : decode cX1_nameByte 39 = .ok (.invokevirtual 328, 3) := dk_182 1 72 (dk_at dksX1_nameByte_1 15 rfl rfl)
theorem dX1_nameByte_42 : decode cX1_nameByte 42 = .ok (.iconst 1, 1) := dk_4 (dk_at dksX1_nameByte_1 18 rfl rfl)
theorem dX1_nameByte_43 : decode cX1_nameByte 43 = .ok (.isub, 1) := dk_100 (dk_at dksX1_nameByte_1 19 rfl rfl)
theorem dX1_nameByte_44 : decode cX1_nameByte 44 = .ok (.i2l, 1) := dk_133 (dk_at dksX1_nameByte_1 20 rfl rfl)
theorem dX1_nameByte_45 : decode cX1_nameByte 45 = .ok (.invokestatic 114, 3) := dk_184 0 114 (dk_at dksX1_nameByte_1 21 rfl rfl)
theorem dX1_nameByte_48 : decode cX1_nameByte 48 = .ok (.ifCond .eq 12, 3) := dk_153 0 12 (dk_at dksX1_nameByte_2 0 rfl rfl)
theorem dX1_nameByte_51 : decode cX1_nameByte 51 = .ok (.aload 4, 2) := dk_25 4 (dk_at dksX1_nameByte_2 3 rfl rfl)
theorem dX1_nameByte_53 : decode cX1_nameByte 53 = .ok (.iload_n 3, 1) := dk_29 (dk_at dksX1_nameByte_2 5 rfl rfl)
theorem dX1_nameByte_54 : decode cX1_nameByte 54 = .ok (.invokevirtual 350, 3) := dk_182 1 94 (dk_at dksX1_nameByte_2 6 rfl rfl)
theorem dX1_nameByte_57 : decode cX1_nameByte 57 = .ok (.goto 4, 3) := dk_167 0 4 (dk_at dksX1_nameByte_2 9 rfl rfl)
theorem dX1_nameByte_60 : decode cX1_nameByte 60 = .ok (.iconst (-1), 1) := dk_2 (dk_at dksX1_nameByte_2 12 rfl rfl)
theorem dX1_nameByte_61 : decode cX1_nameByte 61 = .ok (.ireturn, 1) := dk_172 (dk_at dksX1_nameByte_2 13 rfl rfl)
def dkwX1_isWet_0 : List UInt8 := [27, 133, 9, 20, 1, 113, 184, 0, 114, 184, 0, 118, 42, 180, 0, 24, 27, 182, 0, 218, 172]
abbrev dktX1_isWet_0 : List UInt8 := dkwX1_isWet_0 ++ []
theorem dksX1_isWet_0 : cX1_isWet.data.toList.drop 0 = dktX1_isWet_0 := by decide +kernel
theorem dX1_isWet_0 : decode cX1_isWet 0 = .ok (.iload_n 1, 1) := dk_27 (dk_at dksX1_isWet_0 0 rfl rfl)
theorem dX1_isWet_1 : decode cX1_isWet 1 = .ok (.i2l, 1) := dk_133 (dk_at dksX1_isWet_0 1 rfl rfl)
theorem dX1_isWet_2 : decode cX1_isWet 2 = .ok (.lconst 0, 1) := dk_9 (dk_at dksX1_isWet_0 2 rfl rfl)
theorem dX1_isWet_3 : decode cX1_isWet 3 = .ok (.ldc2_w 369, 3) := dk_20 1 113 (dk_at dksX1_isWet_0 3 rfl rfl)
theorem dX1_isWet_6 : decode cX1_isWet 6 = .ok (.invokestatic 114, 3) := dk_184 0 114 (dk_at dksX1_isWet_0 6 rfl rfl)
theorem dX1_isWet_9 : decode cX1_isWet 9 = .ok (.invokestatic 118, 3) := dk_184 0 118 (dk_at dksX1_isWet_0 9 rfl rfl)
theorem dX1_isWet_12 : decode cX1_isWet 12 = .ok (.aload_n 0, 1) := dk_42 (dk_at dksX1_isWet_0 12 rfl rfl)
theorem dX1_isWet_13 : decode cX1_isWet 13 = .ok (.getfield 24, 3) := dk_180 0 24 (dk_at dksX1_isWet_0 13 rfl rfl)
theorem dX1_isWet_16 : decode cX1_isWet 16 = .ok (.iload_n 1, 1) := dk_27 (dk_at dksX1_isWet_0 16 rfl rfl)
theorem dX1_isWet_17 : decode cX1_isWet 17 = .ok (.invokevirtual 218, 3) := dk_182 0 218 (dk_at dksX1_isWet_0 17 rfl rfl)
theorem dX1_isWet_20 : decode cX1_isWet 20 = .ok (.ireturn, 1) := dk_172 (dk_at dksX1_isWet_0 20 rfl rfl)
def dkwX1_cost_1 : List UInt8 := [51, 153, 0, 7, 2, 167, 0, 14, 42, 180, 0, 24, 25, 4, 21, 5, 182, 1, 115, 172]
abbrev dktX1_cost_1 : List UInt8 := dkwX1_cost_1 ++ []
def dkwX1_cost_0 : List UInt8 := [42, 27, 182, 1, 74, 58, 4, 42, 28, 29, 182, 1, 27, 54, 5, 42, 180, 0, 24, 180, 1, 40, 21, 5]
abbrev dktX1_cost_0 : List UInt8 := dkwX1_cost_0 ++ dktX1_cost_1
theorem dksX1_cost_0 : cX1_cost.data.toList.drop 0 = dktX1_cost_0 := by decide +kernel
theorem dksX1_cost_1 : cX1_cost.data.toList.drop 24 = dktX1_cost_1 := dk_seg dksX1_cost_0 24 rfl rfl
theorem dX1_cost_0 : decode cX1_cost 0 = .ok (.aload_n 0, 1) := dk_42 (dk_at dksX1_cost_0 0 rfl rfl)
theorem dX1_cost_1 : decode cX1_cost 1 = .ok (.iload_n 1, 1) := dk_27 (dk_at dksX1_cost_0 1 rfl rfl)
theorem dX1_cost_2 : decode cX1_cost 2 = .ok (.invokevirtual 330, 3) := dk_182 1 74 (dk_at dksX1_cost_0 2 rfl rfl)
theorem dX1_cost_5 : decode cX1_cost 5 = .ok (.astore 4, 2) := dk_58 4 (dk_at dksX1_cost_0 5 rfl rfl)
theorem dX1_cost_7 : decode cX1_cost 7 = .ok (.aload_n 0, 1) := dk_42 (dk_at dksX1_cost_0 7 rfl rfl)
theorem dX1_cost_8 : decode cX1_cost 8 = .ok (.iload_n 2, 1) := dk_28 (dk_at dksX1_cost_0 8 rfl rfl)
theorem dX1_cost_9 : decode cX1_cost 9 = .ok (.iload_n 3, 1) := dk_29 (dk_at dksX1_cost_0 9 rfl rfl)
theorem dX1_cost_10 : decode cX1_cost 10 = .ok (.invokevirtual 283, 3) := dk_182 1 27 (dk_at dksX1_cost_0 10 rfl rfl)
theorem dX1_cost_13 : decode cX1_cost 13 = .ok (.istore 5, 2) := dk_54 5 (dk_at dksX1_cost_0 13 rfl rfl)
theorem dX1_cost_15 : decode cX1_cost 15 = .ok (.aload_n 0, 1) := dk_42 (dk_at dksX1_cost_0 15 rfl rfl)
theorem dX1_cost_16 : decode cX1_cost 16 = .ok (.getfield 24, 3) := dk_180 0 24 (dk_at dksX1_cost_0 16 rfl rfl)
theorem dX1_cost_19 : decode cX1_cost 19 = .ok (.getfield 296, 3) := dk_180 1 40 (dk_at dksX1_cost_0 19 rfl rfl)
theorem dX1_cost_22 : decode cX1_cost 22 = .ok (.iload 5, 2) := dk_21 5 (dk_at dksX1_cost_0 22 rfl rfl)
theorem dX1_cost_24 : decode cX1_cost 24 = .ok (.baload, 1) := dk_51 (dk_at dksX1_cost_1 0 rfl rfl)
theorem dX1_cost_25 : decode cX1_cost 25 = .ok (.ifCond .eq 7, 3) := dk_153 0 7 (dk_at dksX1_cost_1 1 rfl rfl)
theorem dX1_cost_28 : decode cX1_cost 28 = .ok (.iconst (-1), 1) := dk_2 (dk_at dksX1_cost_1 4 rfl rfl)
theorem dX1_cost_29 : decode cX1_cost 29 = .ok (.goto 14, 3) := dk_167 0 14 (dk_at dksX1_cost_1 5 rfl rfl)
theorem dX1_cost_32 : decode cX1_cost 32 = .ok (.aload_n 0, 1) := dk_42 (dk_at dksX1_cost_1 8 rfl rfl)
theorem dX1_cost_33 : decode cX1_cost 33 = .ok (.getfield 24, 3) := dk_180 0 24 (dk_at dksX1_cost_1 9 rfl rfl)
theorem dX1_cost_36 : decode cX1_cost 36 = .ok (.aload 4, 2) := dk_25 4 (dk_at dksX1_cost_1 12 rfl rfl)
theorem dX1_cost_38 : decode cX1_cost 38 = .ok (.iload 5, 2) := dk_21 5 (dk_at dksX1_cost_1 14 rfl rfl)
theorem dX1_cost_40 : decode cX1_cost 40 = .ok (.invokevirtual 371, 3) := dk_182 1 115 (dk_at dksX1_cost_1 16 rfl rfl)
theorem dX1_cost_43 : decode cX1_cost 43 = .ok (.ireturn, 1) := dk_172 (dk_at dksX1_cost_1 19 rfl rfl)
def dkwX1_wayCost_0 : List UInt8 := [42, 180, 0, 24, 42, 27, 182, 1, 74, 178, 1, 119, 182, 1, 125, 172]
abbrev dktX1_wayCost_0 : List UInt8 := dkwX1_wayCost_0 ++ []
theorem dksX1_wayCost_0 : cX1_wayCost.data.toList.drop 0 = dktX1_wayCost_0 := by decide +kernel
theorem dX1_wayCost_0 : decode cX1_wayCost 0 = .ok (.aload_n 0, 1) := dk_42 (dk_at dksX1_wayCost_0 0 rfl rfl)
theorem dX1_wayCost_1 : decode cX1_wayCost 1 = .ok (.getfield 24, 3) := dk_180 0 24 (dk_at dksX1_wayCost_0 1 rfl rfl)
theorem dX1_wayCost_4 : decode cX1_wayCost 4 = .ok (.aload_n 0, 1) := dk_42 (dk_at dksX1_wayCost_0 4 rfl rfl)
theorem dX1_wayCost_5 : decode cX1_wayCost 5 = .ok (.iload_n 1, 1) := dk_27 (dk_at dksX1_wayCost_0 5 rfl rfl)
theorem dX1_wayCost_6 : decode cX1_wayCost 6 = .ok (.invokevirtual 330, 3) := dk_182 1 74 (dk_at dksX1_wayCost_0 6 rfl rfl)
theorem dX1_wayCost_9 : decode cX1_wayCost 9 = .ok (.getstatic 375, 3) := dk_178 1 119 (dk_at dksX1_wayCost_0 9 rfl rfl)
theorem dX1_wayCost_12 : decode cX1_wayCost 12 = .ok (.invokevirtual 381, 3) := dk_182 1 125 (dk_at dksX1_wayCost_0 12 rfl rfl)
theorem dX1_wayCost_15 : decode cX1_wayCost 15 = .ok (.ireturn, 1) := dk_172 (dk_at dksX1_wayCost_0 15 rfl rfl)
def dkwX1_waySteps_0 : List UInt8 := [42, 42, 27, 182, 1, 74, 182, 1, 129, 172]
abbrev dktX1_waySteps_0 : List UInt8 := dkwX1_waySteps_0 ++ []
theorem dksX1_waySteps_0 : cX1_waySteps.data.toList.drop 0 = dktX1_waySteps_0 := by decide +kernel
theorem dX1_waySteps_0 : decode cX1_waySteps 0 = .ok (.aload_n 0, 1) := dk_42 (dk_at dksX1_waySteps_0 0 rfl rfl)
theorem dX1_waySteps_1 : decode cX1_waySteps 1 = .ok (.aload_n 0, 1) := dk_42 (dk_at dksX1_waySteps_0 1 rfl rfl)
theorem dX1_waySteps_2 : decode cX1_waySteps 2 = .ok (.iload_n 1, 1) := dk_27 (dk_at dksX1_waySteps_0 2 rfl rfl)
theorem dX1_waySteps_3 : decode cX1_waySteps 3 = .ok (.invokevirtual 330, 3) := dk_182 1 74 (dk_at dksX1_waySteps_0 3 rfl rfl)
theorem dX1_waySteps_6 : decode cX1_waySteps 6 = .ok (.invokevirtual 385, 3) := dk_182 1 129 (dk_at dksX1_waySteps_0 6 rfl rfl)
theorem dX1_waySteps_9 : decode cX1_waySteps 9 = .ok (.ireturn, 1) := dk_172 (dk_at dksX1_waySteps_0 9 rfl rfl)
def dkwX1_stepsOf_2 : List UInt8 := [4, 100, 172]
abbrev dktX1_stepsOf_2 : List UInt8 := dkwX1_stepsOf_2 ++ []
def dkwX1_stepsOf_1 : List UInt8 := [153, 0, 23, 45, 185, 1, 7, 1, 0, 192, 1, 10, 182, 1, 12, 54, 4, 132, 2, 1, 167, 255, 230, 28]
abbrev dktX1_stepsOf_1 : List UInt8 := dkwX1_stepsOf_1 ++ dktX1_stepsOf_2
def dkwX1_stepsOf_0 : List UInt8 := [3, 61, 42, 180, 0, 24, 43, 182, 0, 247, 185, 0, 251, 1, 0, 78, 45, 185, 1, 1, 1, 0]
abbrev dktX1_stepsOf_0 : List UInt8 := dkwX1_stepsOf_0 ++ dktX1_stepsOf_1
theorem dksX1_stepsOf_0 : cX1_stepsOf.data.toList.drop 0 = dktX1_stepsOf_0 := by decide +kernel
theorem dksX1_stepsOf_1 : cX1_stepsOf.data.toList.drop 22 = dktX1_stepsOf_1 := dk_seg dksX1_stepsOf_0 22 rfl rfl
theorem dksX1_stepsOf_2 : cX1_stepsOf.data.toList.drop 46 = dktX1_stepsOf_2 := dk_seg dksX1_stepsOf_1 24 rfl rfl
theorem dX1_stepsOf_0 : decode cX1_stepsOf 0 = .ok (.iconst 0, 1) := dk_3 (dk_at dksX1_stepsOf_0 0 rfl rfl)
theorem dX1_stepsOf_1 : decode cX1_stepsOf 1 = .ok (.istore_n 2, 1) := dk_61 (dk_at dksX1_stepsOf_0 1 rfl rfl)
theorem dX1_stepsOf_2 : decode cX1_stepsOf 2 = .ok (.aload_n 0, 1) := dk_42 (dk_at dksX1_stepsOf_0 2 rfl rfl)
theorem dX1_stepsOf_3 : decode cX1_stepsOf 3 = .ok (.getfield 24, 3) := dk_180 0 24 (dk_at dksX1_stepsOf_0 3 rfl rfl)
theorem dX1_stepsOf_6 : decode cX1_stepsOf 6 = .ok (.aload_n 1, 1) := dk_43 (dk_at dksX1_stepsOf_0 6 rfl rfl)
theorem dX1_stepsOf_7 : decode cX1_stepsOf 7 = .ok (.invokevirtual 247, 3) := dk_182 0 247 (dk_at dksX1_stepsOf_0 7 rfl rfl)
theorem dX1_stepsOf_10 : decode cX1_stepsOf 10 = .ok (.invokeinterface 251 1, 5) := by decide +kernel
theorem dX1_stepsOf_15 : decode cX1_stepsOf 15 = .ok (.astore_n 3, 1) := dk_78 (dk_at dksX1_stepsOf_0 15 rfl rfl)
theorem dX1_stepsOf_16 : decode cX1_stepsOf 16 = .ok (.aload_n 3, 1) := dk_45 (dk_at dksX1_stepsOf_0 16 rfl rfl)
theorem dX1_stepsOf_17 : decode cX1_stepsOf 17 = .ok (.invokeinterface 257 1, 5) := by decide +kernel
theorem dX1_stepsOf_22 : decode cX1_stepsOf 22 = .ok (.ifCond .eq 23, 3) := dk_153 0 23 (dk_at dksX1_stepsOf_1 0 rfl rfl)
theorem dX1_stepsOf_25 : decode cX1_stepsOf 25 = .ok (.aload_n 3, 1) := dk_45 (dk_at dksX1_stepsOf_1 3 rfl rfl)
theorem dX1_stepsOf_26 : decode cX1_stepsOf 26 = .ok (.invokeinterface 263 1, 5) := by decide +kernel
theorem dX1_stepsOf_31 : decode cX1_stepsOf 31 = .ok (.checkcast 266, 3) := dk_192 1 10 (dk_at dksX1_stepsOf_1 9 rfl rfl)
theorem dX1_stepsOf_34 : decode cX1_stepsOf 34 = .ok (.invokevirtual 268, 3) := dk_182 1 12 (dk_at dksX1_stepsOf_1 12 rfl rfl)
theorem dX1_stepsOf_37 : decode cX1_stepsOf 37 = .ok (.istore 4, 2) := dk_54 4 (dk_at dksX1_stepsOf_1 15 rfl rfl)
theorem dX1_stepsOf_39 : decode cX1_stepsOf 39 = .ok (.iinc 2 1, 3) := dk_132 2 1 (dk_at dksX1_stepsOf_1 17 rfl rfl)
theorem dX1_stepsOf_42 : decode cX1_stepsOf 42 = .ok (.goto (-26), 3) := dk_167 255 230 (dk_at dksX1_stepsOf_1 20 rfl rfl)
theorem dX1_stepsOf_45 : decode cX1_stepsOf 45 = .ok (.iload_n 2, 1) := dk_28 (dk_at dksX1_stepsOf_1 23 rfl rfl)
theorem dX1_stepsOf_46 : decode cX1_stepsOf 46 = .ok (.iconst 1, 1) := dk_4 (dk_at dksX1_stepsOf_2 0 rfl rfl)
theorem dX1_stepsOf_47 : decode cX1_stepsOf 47 = .ok (.isub, 1) := dk_100 (dk_at dksX1_stepsOf_2 1 rfl rfl)
theorem dX1_stepsOf_48 : decode cX1_stepsOf 48 = .ok (.ireturn, 1) := dk_172 (dk_at dksX1_stepsOf_2 2 rfl rfl)
def dkwX1_wayCell_2 : List UInt8 := [154, 0, 10, 42, 21, 5, 182, 1, 133, 172, 132, 3, 255, 167, 255, 217, 2, 172]
abbrev dktX1_wayCell_2 : List UInt8 := dkwX1_wayCell_2 ++ []
def dkwX1_wayCell_1 : List UInt8 := [185, 1, 1, 1, 0, 153, 0, 35, 25, 4, 185, 1, 7, 1, 0, 192, 1, 10, 182, 1, 12, 54, 5, 29]
abbrev dktX1_wayCell_1 : List UInt8 := dkwX1_wayCell_1 ++ dktX1_wayCell_2
def dkwX1_wayCell_0 : List UInt8 := [28, 62, 42, 180, 0, 24, 42, 27, 182, 1, 74, 182, 0, 247, 185, 0, 251, 1, 0, 58, 4, 25, 4]
abbrev dktX1_wayCell_0 : List UInt8 := dkwX1_wayCell_0 ++ dktX1_wayCell_1
theorem dksX1_wayCell_0 : cX1_wayCell.data.toList.drop 0 = dktX1_wayCell_0 := by decide +kernel
theorem dksX1_wayCell_1 : cX1_wayCell.data.toList.drop 23 = dktX1_wayCell_1 := dk_seg dksX1_wayCell_0 23 rfl rfl
theorem dksX1_wayCell_2 : cX1_wayCell.data.toList.drop 47 = dktX1_wayCell_2 := dk_seg dksX1_wayCell_1 24 rfl rfl
theorem dX1_wayCell_0 : decode cX1_wayCell 0 = .ok (.iload_n 2, 1) := dk_28 (dk_at dksX1_wayCell_0 0 rfl rfl)
theorem dX1_wayCell_1 : decode cX1_wayCell 1 = .ok (.istore_n 3, 1) := dk_62 (dk_at dksX1_wayCell_0 1 rfl rfl)
theorem dX1_wayCell_2 : decode cX1_wayCell 2 = .ok (.aload_n 0, 1) := dk_42 (dk_at dksX1_wayCell_0 2 rfl rfl)
theorem dX1_wayCell_3 : decode cX1_wayCell 3 = .ok (.getfield 24, 3) := dk_180 0 24 (dk_at dksX1_wayCell_0 3 rfl rfl)
theorem dX1_wayCell_6 : decode cX1_wayCell 6 = .ok (.aload_n 0, 1) := dk_42 (dk_at dksX1_wayCell_0 6 rfl rfl)
theorem dX1_wayCell_7 : decode cX1_wayCell 7 = .ok (.iload_n 1, 1) := dk_27 (dk_at dksX1_wayCell_0 7 rfl rfl)
theorem dX1_wayCell_8 : decode cX1_wayCell 8 = .ok (.invokevirtual 330, 3) := dk_182 1 74 (dk_at dksX1_wayCell_0 8 rfl rfl)
theorem dX1_wayCell_11 : decode cX1_wayCell 11 = .ok (.invokevirtual 247, 3) := dk_182 0 247 (dk_at dksX1_wayCell_0 11 rfl rfl)
theorem dX1_wayCell_14 : decode cX1_wayCell 14 = .ok (.invokeinterface 251 1, 5) := by decide +kernel
theorem dX1_wayCell_19 : decode cX1_wayCell 19 = .ok (.astore 4, 2) := dk_58 4 (dk_at dksX1_wayCell_0 19 rfl rfl)
theorem dX1_wayCell_21 : decode cX1_wayCell 21 = .ok (.aload 4, 2) := dk_25 4 (dk_at dksX1_wayCell_0 21 rfl rfl)
theorem dX1_wayCell_23 : decode cX1_wayCell 23 = .ok (.invokeinterface 257 1, 5) := by decide +kernel
theorem dX1_wayCell_28 : decode cX1_wayCell 28 = .ok (.ifCond .eq 35, 3) := dk_153 0 35 (dk_at dksX1_wayCell_1 5 rfl rfl)
theorem dX1_wayCell_31 : decode cX1_wayCell 31 = .ok (.aload 4, 2) := dk_25 4 (dk_at dksX1_wayCell_1 8 rfl rfl)
theorem dX1_wayCell_33 : decode cX1_wayCell 33 = .ok (.invokeinterface 263 1, 5) := by decide +kernel
theorem dX1_wayCell_38 : decode cX1_wayCell 38 = .ok (.checkcast 266, 3) := dk_192 1 10 (dk_at dksX1_wayCell_1 15 rfl rfl)
theorem dX1_wayCell_41 : decode cX1_wayCell 41 = .ok (.invokevirtual 268, 3) := dk_182 1 12 (dk_at dksX1_wayCell_1 18 rfl rfl)
theorem dX1_wayCell_44 : decode cX1_wayCell 44 = .ok (.istore 5, 2) := dk_54 5 (dk_at dksX1_wayCell_1 21 rfl rfl)
theorem dX1_wayCell_46 : decode cX1_wayCell 46 = .ok (.iload_n 3, 1) := dk_29 (dk_at dksX1_wayCell_1 23 rfl rfl)
theorem dX1_wayCell_47 : decode cX1_wayCell 47 = .ok (.ifCond .ne 10, 3) := dk_154 0 10 (dk_at dksX1_wayCell_2 0 rfl rfl)
theorem dX1_wayCell_50 : decode cX1_wayCell 50 = .ok (.aload_n 0, 1) := dk_42 (dk_at dksX1_wayCell_2 3 rfl rfl)
theorem dX1_wayCell_51 : decode cX1_wayCell 51 = .ok (.iload 5, 2) := dk_21 5 (dk_at dksX1_wayCell_2 4 rfl rfl)
theorem dX1_wayCell_53 : decode cX1_wayCell 53 = .ok (.invokevirtual 389, 3) := dk_182 1 133 (dk_at dksX1_wayCell_2 6 rfl rfl)
theorem dX1_wayCell_56 : decode cX1_wayCell 56 = .ok (.ireturn, 1) := dk_172 (dk_at dksX1_wayCell_2 9 rfl rfl)
theorem dX1_wayCell_57 : decode cX1_wayCell 57 = .ok (.iinc 3 (-1), 3) := dk_132 3 255 (dk_at dksX1_wayCell_2 10 rfl rfl)
theorem dX1_wayCell_60 : decode cX1_wayCell 60 = .ok (.goto (-39), 3) := dk_167 255 217 (dk_at dksX1_wayCell_2 13 rfl rfl)
theorem dX1_wayCell_63 : decode cX1_wayCell 63 = .ok (.iconst (-1), 1) := dk_2 (dk_at dksX1_wayCell_2 16 rfl rfl)
theorem dX1_wayCell_64 : decode cX1_wayCell 64 = .ok (.ireturn, 1) := dk_172 (dk_at dksX1_wayCell_2 17 rfl rfl)
def dkwX1_why_5 : List UInt8 := [17, 1, 45, 21, 7, 96, 21, 6, 100, 184, 1, 144, 172]
abbrev dktX1_why_5 : List UInt8 := dkwX1_why_5 ++ []
def dkwX1_why_4 : List UInt8 := [54, 7, 28, 5, 17, 0, 201, 21, 5, 96, 21, 7, 19, 1, 154, 161, 0, 9, 17, 1, 44, 167, 0, 12]
abbrev dktX1_why_4 : List UInt8 := dkwX1_why_4 ++ dktX1_why_5
def dkwX1_why_3 : List UInt8 := [180, 0, 24, 45, 178, 1, 119, 182, 1, 125, 54, 6, 42, 180, 0, 24, 45, 178, 1, 151, 182, 1, 125]
abbrev dktX1_why_3 : List UInt8 := dkwX1_why_3 ++ dktX1_why_4
def dkwX1_why_2 : List UInt8 := [54, 5, 21, 5, 154, 0, 19, 28, 6, 17, 1, 145, 42, 45, 182, 1, 129, 96, 3, 184, 1, 144, 172, 42]
abbrev dktX1_why_2 : List UInt8 := dkwX1_why_2 ++ dktX1_why_3
def dkwX1_why_1 : List UInt8 := [54, 4, 21, 4, 158, 0, 15, 28, 4, 16, 101, 21, 4, 96, 3, 184, 1, 144, 172, 42, 45, 182, 1, 148]
abbrev dktX1_why_1 : List UInt8 := dkwX1_why_1 ++ dktX1_why_2
def dkwX1_why_0 : List UInt8 := [42, 27, 182, 1, 74, 78, 28, 133, 9, 20, 1, 139, 184, 0, 114, 184, 0, 118, 42, 45, 182, 1, 141]
abbrev dktX1_why_0 : List UInt8 := dkwX1_why_0 ++ dktX1_why_1
theorem dksX1_why_0 : cX1_why.data.toList.drop 0 = dktX1_why_0 := by decide +kernel
theorem dksX1_why_1 : cX1_why.data.toList.drop 23 = dktX1_why_1 := dk_seg dksX1_why_0 23 rfl rfl
theorem dksX1_why_2 : cX1_why.data.toList.drop 47 = dktX1_why_2 := dk_seg dksX1_why_1 24 rfl rfl
theorem dksX1_why_3 : cX1_why.data.toList.drop 71 = dktX1_why_3 := dk_seg dksX1_why_2 24 rfl rfl
theorem dksX1_why_4 : cX1_why.data.toList.drop 94 = dktX1_why_4 := dk_seg dksX1_why_3 23 rfl rfl
theorem dksX1_why_5 : cX1_why.data.toList.drop 118 = dktX1_why_5 := dk_seg dksX1_why_4 24 rfl rfl
theorem dX1_why_0 : decode cX1_why 0 = .ok (.aload_n 0, 1) := dk_42 (dk_at dksX1_why_0 0 rfl rfl)
theorem dX1_why_1 : decode cX1_why 1 = .ok (.iload_n 1, 1) := dk_27 (dk_at dksX1_why_0 1 rfl rfl)
theorem dX1_why_2 : decode cX1_why 2 = .ok (.invokevirtual 330, 3) := dk_182 1 74 (dk_at dksX1_why_0 2 rfl rfl)
theorem dX1_why_5 : decode cX1_why 5 = .ok (.astore_n 3, 1) := dk_78 (dk_at dksX1_why_0 5 rfl rfl)
theorem dX1_why_6 : decode cX1_why 6 = .ok (.iload_n 2, 1) := dk_28 (dk_at dksX1_why_0 6 rfl rfl)
theorem dX1_why_7 : decode cX1_why 7 = .ok (.i2l, 1) := dk_133 (dk_at dksX1_why_0 7 rfl rfl)
theorem dX1_why_8 : decode cX1_why 8 = .ok (.lconst 0, 1) := dk_9 (dk_at dksX1_why_0 8 rfl rfl)
theorem dX1_why_9 : decode cX1_why 9 = .ok (.ldc2_w 395, 3) := dk_20 1 139 (dk_at dksX1_why_0 9 rfl rfl)
theorem dX1_why_12 : decode cX1_why 12 = .ok (.invokestatic 114, 3) := dk_184 0 114 (dk_at dksX1_why_0 12 rfl rfl)
theorem dX1_why_15 : decode cX1_why 15 = .ok (.invokestatic 118, 3) := dk_184 0 118 (dk_at dksX1_why_0 15 rfl rfl)
theorem dX1_why_18 : decode cX1_why 18 = .ok (.aload_n 0, 1) := dk_42 (dk_at dksX1_why_0 18 rfl rfl)
theorem dX1_why_19 : decode cX1_why 19 = .ok (.aload_n 3, 1) := dk_45 (dk_at dksX1_why_0 19 rfl rfl)
theorem dX1_why_20 : decode cX1_why 20 = .ok (.invokevirtual 397, 3) := dk_182 1 141 (dk_at dksX1_why_0 20 rfl rfl)
theorem dX1_why_23 : decode cX1_why 23 = .ok (.istore 4, 2) := dk_54 4 (dk_at dksX1_why_1 0 rfl rfl)
theorem dX1_why_25 : decode cX1_why 25 = .ok (.iload 4, 2) := dk_21 4 (dk_at dksX1_why_1 2 rfl rfl)
theorem dX1_why_27 : decode cX1_why 27 = .ok (.ifCond .le 15, 3) := dk_158 0 15 (dk_at dksX1_why_1 4 rfl rfl)
theorem dX1_why_30 : decode cX1_why 30 = .ok (.iload_n 2, 1) := dk_28 (dk_at dksX1_why_1 7 rfl rfl)
theorem dX1_why_31 : decode cX1_why 31 = .ok (.iconst 1, 1) := dk_4 (dk_at dksX1_why_1 8 rfl rfl)
theorem dX1_why_32 : decode cX1_why 32 = .ok (.bipush 101, 2) := dk_16 101 (dk_at dksX1_why_1 9 rfl rfl)
theorem dX1_why_34 : decode cX1_why 34 = .ok (.iload 4, 2) := dk_21 4 (dk_at dksX1_why_1 11 rfl rfl)
theorem dX1_why_36 : decode cX1_why 36 = .ok (.iadd, 1) := dk_96 (dk_at dksX1_why_1 13 rfl rfl)
theorem dX1_why_37 : decode cX1_why 37 = .ok (.iconst 0, 1) := dk_3 (dk_at dksX1_why_1 14 rfl rfl)
theorem dX1_why_38 : decode cX1_why 38 = .ok (.invokestatic 400, 3) := dk_184 1 144 (dk_at dksX1_why_1 15 rfl rfl)
theorem dX1_why_41 : decode cX1_why 41 = .ok (.ireturn, 1) := dk_172 (dk_at dksX1_why_1 18 rfl rfl)
theorem dX1_why_42 : decode cX1_why 42 = .ok (.aload_n 0, 1) := dk_42 (dk_at dksX1_why_1 19 rfl rfl)
theorem dX1_why_43 : decode cX1_why 43 = .ok (.aload_n 3, 1) := dk_45 (dk_at dksX1_why_1 20 rfl rfl)
theorem dX1_why_44 : decode cX1_why 44 = .ok (.invokevirtual 404, 3) := dk_182 1 148 (dk_at dksX1_why_1 21 rfl rfl)
theorem dX1_why_47 : decode cX1_why 47 = .ok (.istore 5, 2) := dk_54 5 (dk_at dksX1_why_2 0 rfl rfl)
theorem dX1_why_49 : decode cX1_why 49 = .ok (.iload 5, 2) := dk_21 5 (dk_at dksX1_why_2 2 rfl rfl)
theorem dX1_why_51 : decode cX1_why 51 = .ok (.ifCond .ne 19, 3) := dk_154 0 19 (dk_at dksX1_why_2 4 rfl rfl)
theorem dX1_why_54 : decode cX1_why 54 = .ok (.iload_n 2, 1) := dk_28 (dk_at dksX1_why_2 7 rfl rfl)
theorem dX1_why_55 : decode cX1_why 55 = .ok (.iconst 3, 1) := dk_6 (dk_at dksX1_why_2 8 rfl rfl)
theorem dX1_why_56 : decode cX1_why 56 = .ok (.sipush 401, 3) := dk_17 1 145 (dk_at dksX1_why_2 9 rfl rfl)
theorem dX1_why_59 : decode cX1_why 59 = .ok (.aload_n 0, 1) := dk_42 (dk_at dksX1_why_2 12 rfl rfl)
theorem dX1_why_60 : decode cX1_why 60 = .ok (.aload_n 3, 1) := dk_45 (dk_at dksX1_why_2 13 rfl rfl)
theorem dX1_why_61 : decode cX1_why 61 = .ok (.invokevirtual 385, 3) := dk_182 1 129 (dk_at dksX1_why_2 14 rfl rfl)
theorem dX1_why_64 : decode cX1_why 64 = .ok (.iadd, 1) := dk_96 (dk_at dksX1_why_2 17 rfl rfl)
theorem dX1_why_65 : decode cX1_why 65 = .ok (.iconst 0, 1) := dk_3 (dk_at dksX1_why_2 18 rfl rfl)
theorem dX1_why_66 : decode cX1_why 66 = .ok (.invokestatic 400, 3) := dk_184 1 144 (dk_at dksX1_why_2 19 rfl rfl)
theorem dX1_why_69 : decode cX1_why 69 = .ok (.ireturn, 1) := dk_172 (dk_at dksX1_why_2 22 rfl rfl)
theorem dX1_why_70 : decode cX1_why 70 = .ok (.aload_n 0, 1) := dk_42 (dk_at dksX1_why_2 23 rfl rfl)
theorem dX1_why_71 : decode cX1_why 71 = .ok (.getfield 24, 3) := dk_180 0 24 (dk_at dksX1_why_3 0 rfl rfl)
theorem dX1_why_74 : decode cX1_why 74 = .ok (.aload_n 3, 1) := dk_45 (dk_at dksX1_why_3 3 rfl rfl)
theorem dX1_why_75 : decode cX1_why 75 = .ok (.getstatic 375, 3) := dk_178 1 119 (dk_at dksX1_why_3 4 rfl rfl)
theorem dX1_why_78 : decode cX1_why 78 = .ok (.invokevirtual 381, 3) := dk_182 1 125 (dk_at dksX1_why_3 7 rfl rfl)
theorem dX1_why_81 : decode cX1_why 81 = .ok (.istore 6, 2) := dk_54 6 (dk_at dksX1_why_3 10 rfl rfl)
theorem dX1_why_83 : decode cX1_why 83 = .ok (.aload_n 0, 1) := dk_42 (dk_at dksX1_why_3 12 rfl rfl)
theorem dX1_why_84 : decode cX1_why 84 = .ok (.getfield 24, 3) := dk_180 0 24 (dk_at dksX1_why_3 13 rfl rfl)
theorem dX1_why_87 : decode cX1_why 87 = .ok (.aload_n 3, 1) := dk_45 (dk_at dksX1_why_3 16 rfl rfl)
theorem dX1_why_88 : decode cX1_why 88 = .ok (.getstatic 407, 3) := dk_178 1 151 (dk_at dksX1_why_3 17 rfl rfl)
theorem dX1_why_91 : decode cX1_why 91 = .ok (.invokevirtual 381, 3) := dk_182 1 125 (dk_at dksX1_why_3 20 rfl rfl)
theorem dX1_why_94 : decode cX1_why 94 = .ok (.istore 7, 2) := dk_54 7 (dk_at dksX1_why_4 0 rfl rfl)
theorem dX1_why_96 : decode cX1_why 96 = .ok (.iload_n 2, 1) := dk_28 (dk_at dksX1_why_4 2 rfl rfl)
theorem dX1_why_97 : decode cX1_why 97 = .ok (.iconst 2, 1) := dk_5 (dk_at dksX1_why_4 3 rfl rfl)
theorem dX1_why_98 : decode cX1_why 98 = .ok (.sipush 201, 3) := dk_17 0 201 (dk_at dksX1_why_4 4 rfl rfl)
theorem dX1_why_101 : decode cX1_why 101 = .ok (.iload 5, 2) := dk_21 5 (dk_at dksX1_why_4 7 rfl rfl)
theorem dX1_why_103 : decode cX1_why 103 = .ok (.iadd, 1) := dk_96 (dk_at dksX1_why_4 9 rfl rfl)
theorem dX1_why_104 : decode cX1_why 104 = .ok (.iload 7, 2) := dk_21 7 (dk_at dksX1_why_4 10 rfl rfl)
theorem dX1_why_106 : decode cX1_why 106 = .ok (.ldc_w 410, 3) := dk_19 1 154 (dk_at dksX1_why_4 12 rfl rfl)
theorem dX1_why_109 : decode cX1_why 109 = .ok (.if_icmp .lt 9, 3) := dk_161 0 9 (dk_at dksX1_why_4 15 rfl rfl)
theorem dX1_why_112 : decode cX1_why 112 = .ok (.sipush 300, 3) := dk_17 1 44 (dk_at dksX1_why_4 18 rfl rfl)
theorem dX1_why_115 : decode cX1_why 115 = .ok (.goto 12, 3) := dk_167 0 12 (dk_at dksX1_why_4 21 rfl rfl)
theorem dX1_why_118 : decode cX1_why 118 = .ok (.sipush 301, 3) := dk_17 1 45 (dk_at dksX1_why_5 0 rfl rfl)
theorem dX1_why_121 : decode cX1_why 121 = .ok (.iload 7, 2) := dk_21 7 (dk_at dksX1_why_5 3 rfl rfl)
theorem dX1_why_123 : decode cX1_why 123 = .ok (.iadd, 1) := dk_96 (dk_at dksX1_why_5 5 rfl rfl)
theorem dX1_why_124 : decode cX1_why 124 = .ok (.iload 6, 2) := dk_21 6 (dk_at dksX1_why_5 6 rfl rfl)
theorem dX1_why_126 : decode cX1_why 126 = .ok (.isub, 1) := dk_100 (dk_at dksX1_why_5 8 rfl rfl)
theorem dX1_why_127 : decode cX1_why 127 = .ok (.invokestatic 400, 3) := dk_184 1 144 (dk_at dksX1_why_5 9 rfl rfl)
theorem dX1_why_130 : decode cX1_why 130 = .ok (.ireturn, 1) := dk_172 (dk_at dksX1_why_5 12 rfl rfl)
def dkwX1_dearer_1 : List UInt8 := [100, 172]
abbrev dktX1_dearer_1 : List UInt8 := dkwX1_dearer_1 ++ []
def dkwX1_dearer_0 : List UInt8 := [42, 180, 0, 24, 43, 178, 1, 119, 182, 1, 125, 61, 28, 42, 180, 0, 24, 43, 178, 1, 136, 182, 1, 125]
abbrev dktX1_dearer_0 : List UInt8 := dkwX1_dearer_0 ++ dktX1_dearer_1
theorem dksX1_dearer_0 : cX1_dearer.data.toList.drop 0 = dktX1_dearer_0 := by decide +kernel
theorem dksX1_dearer_1 : cX1_dearer.data.toList.drop 24 = dktX1_dearer_1 := dk_seg dksX1_dearer_0 24 rfl rfl
theorem dX1_dearer_0 : decode cX1_dearer 0 = .ok (.aload_n 0, 1) := dk_42 (dk_at dksX1_dearer_0 0 rfl rfl)
theorem dX1_dearer_1 : decode cX1_dearer 1 = .ok (.getfield 24, 3) := dk_180 0 24 (dk_at dksX1_dearer_0 1 rfl rfl)
theorem dX1_dearer_4 : decode cX1_dearer 4 = .ok (.aload_n 1, 1) := dk_43 (dk_at dksX1_dearer_0 4 rfl rfl)
theorem dX1_dearer_5 : decode cX1_dearer 5 = .ok (.getstatic 375, 3) := dk_178 1 119 (dk_at dksX1_dearer_0 5 rfl rfl)
theorem dX1_dearer_8 : decode cX1_dearer 8 = .ok (.invokevirtual 381, 3) := dk_182 1 125 (dk_at dksX1_dearer_0 8 rfl rfl)
theorem dX1_dearer_11 : decode cX1_dearer 11 = .ok (.istore_n 2, 1) := dk_61 (dk_at dksX1_dearer_0 11 rfl rfl)
theorem dX1_dearer_12 : decode cX1_dearer 12 = .ok (.iload_n 2, 1) := dk_28 (dk_at dksX1_dearer_0 12 rfl rfl)
theorem dX1_dearer_13 : decode cX1_dearer 13 = .ok (.aload_n 0, 1) := dk_42 (dk_at dksX1_dearer_0 13 rfl rfl)
theorem dX1_dearer_14 : decode cX1_dearer 14 = .ok (.getfield 24, 3) := dk_180 0 24 (dk_at dksX1_dearer_0 14 rfl rfl)
theorem dX1_dearer_17 : decode cX1_dearer 17 = .ok (.aload_n 1, 1) := dk_43 (dk_at dksX1_dearer_0 17 rfl rfl)
theorem dX1_dearer_18 : decode cX1_dearer 18 = .ok (.getstatic 392, 3) := dk_178 1 136 (dk_at dksX1_dearer_0 18 rfl rfl)
theorem dX1_dearer_21 : decode cX1_dearer 21 = .ok (.invokevirtual 381, 3) := dk_182 1 125 (dk_at dksX1_dearer_0 21 rfl rfl)
theorem dX1_dearer_24 : decode cX1_dearer 24 = .ok (.isub, 1) := dk_100 (dk_at dksX1_dearer_1 0 rfl rfl)
theorem dX1_dearer_25 : decode cX1_dearer 25 = .ok (.ireturn, 1) := dk_172 (dk_at dksX1_dearer_1 1 rfl rfl)
def dkwX1_because_0 : List UInt8 := [26, 154, 0, 7, 27, 167, 0, 13, 26, 4, 160, 0, 7, 28, 167, 0, 4, 29, 172]
abbrev dktX1_because_0 : List UInt8 := dkwX1_because_0 ++ []
theorem dksX1_because_0 : cX1_because.data.toList.drop 0 = dktX1_because_0 := by decide +kernel
theorem dX1_because_0 : decode cX1_because 0 = .ok (.iload_n 0, 1) := dk_26 (dk_at dksX1_because_0 0 rfl rfl)
theorem dX1_because_1 : decode cX1_because 1 = .ok (.ifCond .ne 7, 3) := dk_154 0 7 (dk_at dksX1_because_0 1 rfl rfl)
theorem dX1_because_4 : decode cX1_because 4 = .ok (.iload_n 1, 1) := dk_27 (dk_at dksX1_because_0 4 rfl rfl)
theorem dX1_because_5 : decode cX1_because 5 = .ok (.goto 13, 3) := dk_167 0 13 (dk_at dksX1_because_0 5 rfl rfl)
theorem dX1_because_8 : decode cX1_because 8 = .ok (.iload_n 0, 1) := dk_26 (dk_at dksX1_because_0 8 rfl rfl)
theorem dX1_because_9 : decode cX1_because 9 = .ok (.iconst 1, 1) := dk_4 (dk_at dksX1_because_0 9 rfl rfl)
theorem dX1_because_10 : decode cX1_because 10 = .ok (.if_icmp .ne 7, 3) := dk_160 0 7 (dk_at dksX1_because_0 10 rfl rfl)
theorem dX1_because_13 : decode cX1_because 13 = .ok (.iload_n 2, 1) := dk_28 (dk_at dksX1_because_0 13 rfl rfl)
theorem dX1_because_14 : decode cX1_because 14 = .ok (.goto 4, 3) := dk_167 0 4 (dk_at dksX1_because_0 14 rfl rfl)
theorem dX1_because_17 : decode cX1_because 17 = .ok (.iload_n 3, 1) := dk_29 (dk_at dksX1_because_0 17 rfl rfl)
theorem dX1_because_18 : decode cX1_because 18 = .ok (.ireturn, 1) := dk_172 (dk_at dksX1_because_0 18 rfl rfl)
def dkwX1_grassOn_2 : List UInt8 := [182, 1, 34, 184, 0, 222, 96, 61, 167, 255, 218, 28, 172]
abbrev dktX1_grassOn_2 : List UInt8 := dkwX1_grassOn_2 ++ []
def dkwX1_grassOn_1 : List UInt8 := [153, 0, 35, 45, 185, 1, 7, 1, 0, 192, 1, 10, 182, 1, 12, 54, 4, 28, 42, 180, 0, 24, 21, 4]
abbrev dktX1_grassOn_1 : List UInt8 := dkwX1_grassOn_1 ++ dktX1_grassOn_2
def dkwX1_grassOn_0 : List UInt8 := [3, 61, 42, 180, 0, 24, 43, 182, 0, 247, 185, 0, 251, 1, 0, 78, 45, 185, 1, 1, 1, 0]
abbrev dktX1_grassOn_0 : List UInt8 := dkwX1_grassOn_0 ++ dktX1_grassOn_1
theorem dksX1_grassOn_0 : cX1_grassOn.data.toList.drop 0 = dktX1_grassOn_0 := by decide +kernel
theorem dksX1_grassOn_1 : cX1_grassOn.data.toList.drop 22 = dktX1_grassOn_1 := dk_seg dksX1_grassOn_0 22 rfl rfl
theorem dksX1_grassOn_2 : cX1_grassOn.data.toList.drop 46 = dktX1_grassOn_2 := dk_seg dksX1_grassOn_1 24 rfl rfl
theorem dX1_grassOn_0 : decode cX1_grassOn 0 = .ok (.iconst 0, 1) := dk_3 (dk_at dksX1_grassOn_0 0 rfl rfl)
theorem dX1_grassOn_1 : decode cX1_grassOn 1 = .ok (.istore_n 2, 1) := dk_61 (dk_at dksX1_grassOn_0 1 rfl rfl)
theorem dX1_grassOn_2 : decode cX1_grassOn 2 = .ok (.aload_n 0, 1) := dk_42 (dk_at dksX1_grassOn_0 2 rfl rfl)
theorem dX1_grassOn_3 : decode cX1_grassOn 3 = .ok (.getfield 24, 3) := dk_180 0 24 (dk_at dksX1_grassOn_0 3 rfl rfl)
theorem dX1_grassOn_6 : decode cX1_grassOn 6 = .ok (.aload_n 1, 1) := dk_43 (dk_at dksX1_grassOn_0 6 rfl rfl)
theorem dX1_grassOn_7 : decode cX1_grassOn 7 = .ok (.invokevirtual 247, 3) := dk_182 0 247 (dk_at dksX1_grassOn_0 7 rfl rfl)
theorem dX1_grassOn_10 : decode cX1_grassOn 10 = .ok (.invokeinterface 251 1, 5) := by decide +kernel
theorem dX1_grassOn_15 : decode cX1_grassOn 15 = .ok (.astore_n 3, 1) := dk_78 (dk_at dksX1_grassOn_0 15 rfl rfl)
theorem dX1_grassOn_16 : decode cX1_grassOn 16 = .ok (.aload_n 3, 1) := dk_45 (dk_at dksX1_grassOn_0 16 rfl rfl)
theorem dX1_grassOn_17 : decode cX1_grassOn 17 = .ok (.invokeinterface 257 1, 5) := by decide +kernel
theorem dX1_grassOn_22 : decode cX1_grassOn 22 = .ok (.ifCond .eq 35, 3) := dk_153 0 35 (dk_at dksX1_grassOn_1 0 rfl rfl)
theorem dX1_grassOn_25 : decode cX1_grassOn 25 = .ok (.aload_n 3, 1) := dk_45 (dk_at dksX1_grassOn_1 3 rfl rfl)
theorem dX1_grassOn_26 : decode cX1_grassOn 26 = .ok (.invokeinterface 263 1, 5) := by decide +kernel
theorem dX1_grassOn_31 : decode cX1_grassOn 31 = .ok (.checkcast 266, 3) := dk_192 1 10 (dk_at dksX1_grassOn_1 9 rfl rfl)
theorem dX1_grassOn_34 : decode cX1_grassOn 34 = .ok (.invokevirtual 268, 3) := dk_182 1 12 (dk_at dksX1_grassOn_1 12 rfl rfl)
theorem dX1_grassOn_37 : decode cX1_grassOn 37 = .ok (.istore 4, 2) := dk_54 4 (dk_at dksX1_grassOn_1 15 rfl rfl)
theorem dX1_grassOn_39 : decode cX1_grassOn 39 = .ok (.iload_n 2, 1) := dk_28 (dk_at dksX1_grassOn_1 17 rfl rfl)
theorem dX1_grassOn_40 : decode cX1_grassOn 40 = .ok (.aload_n 0, 1) := dk_42 (dk_at dksX1_grassOn_1 18 rfl rfl)
theorem dX1_grassOn_41 : decode cX1_grassOn 41 = .ok (.getfield 24, 3) := dk_180 0 24 (dk_at dksX1_grassOn_1 19 rfl rfl)
theorem dX1_grassOn_44 : decode cX1_grassOn 44 = .ok (.iload 4, 2) := dk_21 4 (dk_at dksX1_grassOn_1 22 rfl rfl)
theorem dX1_grassOn_46 : decode cX1_grassOn 46 = .ok (.invokevirtual 290, 3) := dk_182 1 34 (dk_at dksX1_grassOn_2 0 rfl rfl)
theorem dX1_grassOn_49 : decode cX1_grassOn 49 = .ok (.invokestatic 222, 3) := dk_184 0 222 (dk_at dksX1_grassOn_2 3 rfl rfl)
theorem dX1_grassOn_52 : decode cX1_grassOn 52 = .ok (.iadd, 1) := dk_96 (dk_at dksX1_grassOn_2 6 rfl rfl)
theorem dX1_grassOn_53 : decode cX1_grassOn 53 = .ok (.istore_n 2, 1) := dk_61 (dk_at dksX1_grassOn_2 7 rfl rfl)
theorem dX1_grassOn_54 : decode cX1_grassOn 54 = .ok (.goto (-38), 3) := dk_167 255 218 (dk_at dksX1_grassOn_2 8 rfl rfl)
theorem dX1_grassOn_57 : decode cX1_grassOn 57 = .ok (.iload_n 2, 1) := dk_28 (dk_at dksX1_grassOn_2 11 rfl rfl)
theorem dX1_grassOn_58 : decode cX1_grassOn 58 = .ok (.ireturn, 1) := dk_172 (dk_at dksX1_grassOn_2 12 rfl rfl)
def dkwX1_keptBy_5 : List UInt8 := [21, 5, 96, 184, 1, 144, 172]
abbrev dktX1_keptBy_5 : List UInt8 := dkwX1_keptBy_5 ++ []
def dkwX1_keptBy_4 : List UInt8 := [182, 1, 19, 154, 0, 9, 132, 6, 1, 167, 255, 235, 29, 4, 17, 1, 245, 21, 6, 96, 17, 2, 89]
abbrev dktX1_keptBy_4 : List UInt8 := dkwX1_keptBy_4 ++ dktX1_keptBy_5
def dkwX1_keptBy_3 : List UInt8 := [182, 1, 47, 96, 3, 184, 1, 144, 172, 3, 54, 6, 42, 42, 180, 0, 24, 21, 6, 182, 1, 15, 21, 4]
abbrev dktX1_keptBy_3 : List UInt8 := dkwX1_keptBy_3 ++ dktX1_keptBy_4
def dkwX1_keptBy_2 : List UInt8 := [180, 0, 24, 180, 1, 44, 21, 4, 46, 154, 0, 7, 3, 167, 0, 19, 29, 5, 17, 2, 189, 42, 21, 4]
abbrev dktX1_keptBy_2 : List UInt8 := dkwX1_keptBy_2 ++ dktX1_keptBy_3
def dkwX1_keptBy_1 : List UInt8 := [21, 4, 182, 1, 34, 154, 0, 5, 3, 172, 42, 21, 4, 182, 1, 50, 54, 5, 21, 5, 154, 0, 37, 42]
abbrev dktX1_keptBy_1 : List UInt8 := dkwX1_keptBy_1 ++ dktX1_keptBy_2
def dkwX1_keptBy_0 : List UInt8 := [42, 27, 28, 182, 1, 27, 54, 4, 29, 133, 9, 20, 1, 139, 184, 0, 114, 184, 0, 118, 42, 180, 0, 24]
abbrev dktX1_keptBy_0 : List UInt8 := dkwX1_keptBy_0 ++ dktX1_keptBy_1
theorem dksX1_keptBy_0 : cX1_keptBy.data.toList.drop 0 = dktX1_keptBy_0 := by decide +kernel
theorem dksX1_keptBy_1 : cX1_keptBy.data.toList.drop 24 = dktX1_keptBy_1 := dk_seg dksX1_keptBy_0 24 rfl rfl
theorem dksX1_keptBy_2 : cX1_keptBy.data.toList.drop 48 = dktX1_keptBy_2 := dk_seg dksX1_keptBy_1 24 rfl rfl
theorem dksX1_keptBy_3 : cX1_keptBy.data.toList.drop 72 = dktX1_keptBy_3 := dk_seg dksX1_keptBy_2 24 rfl rfl
theorem dksX1_keptBy_4 : cX1_keptBy.data.toList.drop 96 = dktX1_keptBy_4 := dk_seg dksX1_keptBy_3 24 rfl rfl
theorem dksX1_keptBy_5 : cX1_keptBy.data.toList.drop 119 = dktX1_keptBy_5 := dk_seg dksX1_keptBy_4 23 rfl rfl
theorem dX1_keptBy_0 : decode cX1_keptBy 0 = .ok (.aload_n 0, 1) := dk_42 (dk_at dksX1_keptBy_0 0 rfl rfl)
theorem dX1_keptBy_1 : decode cX1_keptBy 1 = .ok (.iload_n 1, 1) := dk_27 (dk_at dksX1_keptBy_0 1 rfl rfl)
theorem dX1_keptBy_2 : decode cX1_keptBy 2 = .ok (.iload_n 2, 1) := dk_28 (dk_at dksX1_keptBy_0 2 rfl rfl)
theorem dX1_keptBy_3 : decode cX1_keptBy 3 = .ok (.invokevirtual 283, 3) := dk_182 1 27 (dk_at dksX1_keptBy_0 3 rfl rfl)
theorem dX1_keptBy_6 : decode cX1_keptBy 6 = .ok (.istore 4, 2) := dk_54 4 (dk_at dksX1_keptBy_0 6 rfl rfl)
theorem dX1_keptBy_8 : decode cX1_keptBy 8 = .ok (.iload_n 3, 1) := dk_29 (dk_at dksX1_keptBy_0 8 rfl rfl)
theorem dX1_keptBy_9 : decode cX1_keptBy 9 = .ok (.i2l, 1) := dk_133 (dk_at dksX1_keptBy_0 9 rfl rfl)
theorem dX1_keptBy_10 : decode cX1_keptBy 10 = .ok (.lconst 0, 1) := dk_9 (dk_at dksX1_keptBy_0 10 rfl rfl)
theorem dX1_keptBy_11 : decode cX1_keptBy 11 = .ok (.ldc2_w 395, 3) := dk_20 1 139 (dk_at dksX1_keptBy_0 11 rfl rfl)
theorem dX1_keptBy_14 : decode cX1_keptBy 14 = .ok (.invokestatic 114, 3) := dk_184 0 114 (dk_at dksX1_keptBy_0 14 rfl rfl)
theorem dX1_keptBy_17 : decode cX1_keptBy 17 = .ok (.invokestatic 118, 3) := dk_184 0 118 (dk_at dksX1_keptBy_0 17 rfl rfl)
theorem dX1_keptBy_20 : decode cX1_keptBy 20 = .ok (.aload_n 0, 1) := dk_42 (dk_at dksX1_keptBy_0 20 rfl rfl)
theorem dX1_keptBy_21 : decode cX1_keptBy 21 = .ok (.getfield 24, 3) := dk_180 0 24 (dk_at dksX1_keptBy_0 21 rfl rfl)
theorem dX1_keptBy_24 : decode cX1_keptBy 24 = .ok (.iload 4, 2) := dk_21 4 (dk_at dksX1_keptBy_1 0 rfl rfl)
theorem dX1_keptBy_26 : decode cX1_keptBy 26 = .ok (.invokevirtual 290, 3) := dk_182 1 34 (dk_at dksX1_keptBy_1 2 rfl rfl)
theorem dX1_keptBy_29 : decode cX1_keptBy 29 = .ok (.ifCond .ne 5, 3) := dk_154 0 5 (dk_at dksX1_keptBy_1 5 rfl rfl)
theorem dX1_keptBy_32 : decode cX1_keptBy 32 = .ok (.iconst 0, 1) := dk_3 (dk_at dksX1_keptBy_1 8 rfl rfl)
theorem dX1_keptBy_33 : decode cX1_keptBy 33 = .ok (.ireturn, 1) := dk_172 (dk_at dksX1_keptBy_1 9 rfl rfl)
theorem dX1_keptBy_34 : decode cX1_keptBy 34 = .ok (.aload_n 0, 1) := dk_42 (dk_at dksX1_keptBy_1 10 rfl rfl)
theorem dX1_keptBy_35 : decode cX1_keptBy 35 = .ok (.iload 4, 2) := dk_21 4 (dk_at dksX1_keptBy_1 11 rfl rfl)
theorem dX1_keptBy_37 : decode cX1_keptBy 37 = .ok (.invokevirtual 306, 3) := dk_182 1 50 (dk_at dksX1_keptBy_1 13 rfl rfl)
theorem dX1_keptBy_40 : decode cX1_keptBy 40 = .ok (.istore 5, 2) := dk_54 5 (dk_at dksX1_keptBy_1 16 rfl rfl)
theorem dX1_keptBy_42 : decode cX1_keptBy 42 = .ok (.iload 5, 2) := dk_21 5 (dk_at dksX1_keptBy_1 18 rfl rfl)
theorem dX1_keptBy_44 : decode cX1_keptBy 44 = .ok (.ifCond .ne 37, 3) := dk_154 0 37 (dk_at dksX1_keptBy_1 20 rfl rfl)
theorem dX1_keptBy_47 : decode cX1_keptBy 47 = .ok (.aload_n 0, 1) := dk_42 (dk_at dksX1_keptBy_1 23 rfl rfl)
theorem dX1_keptBy_48 : decode cX1_keptBy 48 = .ok (.getfield 24, 3) := dk_180 0 24 (dk_at dksX1_keptBy_2 0 rfl rfl)
theorem dX1_keptBy_51 : decode cX1_keptBy 51 = .ok (.getfield 300, 3) := dk_180 1 44 (dk_at dksX1_keptBy_2 3 rfl rfl)
theorem dX1_keptBy_54 : decode cX1_keptBy 54 = .ok (.iload 4, 2) := dk_21 4 (dk_at dksX1_keptBy_2 6 rfl rfl)
theorem dX1_keptBy_56 : decode cX1_keptBy 56 = .ok (.iaload, 1) := dk_46 (dk_at dksX1_keptBy_2 8 rfl rfl)
theorem dX1_keptBy_57 : decode cX1_keptBy 57 = .ok (.ifCond .ne 7, 3) := dk_154 0 7 (dk_at dksX1_keptBy_2 9 rfl rfl)
theorem dX1_keptBy_60 : decode cX1_keptBy 60 = .ok (.iconst 0, 1) := dk_3 (dk_at dksX1_keptBy_2 12 rfl rfl)
theorem dX1_keptBy_61 : decode cX1_keptBy 61 = .ok (.goto 19, 3) := dk_167 0 19 (dk_at dksX1_keptBy_2 13 rfl rfl)
theorem dX1_keptBy_64 : decode cX1_keptBy 64 = .ok (.iload_n 3, 1) := dk_29 (dk_at dksX1_keptBy_2 16 rfl rfl)
theorem dX1_keptBy_65 : decode cX1_keptBy 65 = .ok (.iconst 2, 1) := dk_5 (dk_at dksX1_keptBy_2 17 rfl rfl)
theorem dX1_keptBy_66 : decode cX1_keptBy 66 = .ok (.sipush 701, 3) := dk_17 2 189 (dk_at dksX1_keptBy_2 18 rfl rfl)
theorem dX1_keptBy_69 : decode cX1_keptBy 69 = .ok (.aload_n 0, 1) := dk_42 (dk_at dksX1_keptBy_2 21 rfl rfl)
theorem dX1_keptBy_70 : decode cX1_keptBy 70 = .ok (.iload 4, 2) := dk_21 4 (dk_at dksX1_keptBy_2 22 rfl rfl)
theorem dX1_keptBy_72 : decode cX1_keptBy 72 = .ok (.invokevirtual 303, 3) := dk_182 1 47 (dk_at dksX1_keptBy_3 0 rfl rfl)
theorem dX1_keptBy_75 : decode cX1_keptBy 75 = .ok (.iadd, 1) := dk_96 (dk_at dksX1_keptBy_3 3 rfl rfl)
theorem dX1_keptBy_76 : decode cX1_keptBy 76 = .ok (.iconst 0, 1) := dk_3 (dk_at dksX1_keptBy_3 4 rfl rfl)
theorem dX1_keptBy_77 : decode cX1_keptBy 77 = .ok (.invokestatic 400, 3) := dk_184 1 144 (dk_at dksX1_keptBy_3 5 rfl rfl)
theorem dX1_keptBy_80 : decode cX1_keptBy 80 = .ok (.ireturn, 1) := dk_172 (dk_at dksX1_keptBy_3 8 rfl rfl)
theorem dX1_keptBy_81 : decode cX1_keptBy 81 = .ok (.iconst 0, 1) := dk_3 (dk_at dksX1_keptBy_3 9 rfl rfl)
theorem dX1_keptBy_82 : decode cX1_keptBy 82 = .ok (.istore 6, 2) := dk_54 6 (dk_at dksX1_keptBy_3 10 rfl rfl)
theorem dX1_keptBy_84 : decode cX1_keptBy 84 = .ok (.aload_n 0, 1) := dk_42 (dk_at dksX1_keptBy_3 12 rfl rfl)
theorem dX1_keptBy_85 : decode cX1_keptBy 85 = .ok (.aload_n 0, 1) := dk_42 (dk_at dksX1_keptBy_3 13 rfl rfl)
theorem dX1_keptBy_86 : decode cX1_keptBy 86 = .ok (.getfield 24, 3) := dk_180 0 24 (dk_at dksX1_keptBy_3 14 rfl rfl)
theorem dX1_keptBy_89 : decode cX1_keptBy 89 = .ok (.iload 6, 2) := dk_21 6 (dk_at dksX1_keptBy_3 17 rfl rfl)
theorem dX1_keptBy_91 : decode cX1_keptBy 91 = .ok (.invokevirtual 271, 3) := dk_182 1 15 (dk_at dksX1_keptBy_3 19 rfl rfl)
theorem dX1_keptBy_94 : decode cX1_keptBy 94 = .ok (.iload 4, 2) := dk_21 4 (dk_at dksX1_keptBy_3 22 rfl rfl)
theorem dX1_keptBy_96 : decode cX1_keptBy 96 = .ok (.invokevirtual 275, 3) := dk_182 1 19 (dk_at dksX1_keptBy_4 0 rfl rfl)
theorem dX1_keptBy_99 : decode cX1_keptBy 99 = .ok (.ifCond .ne 9, 3) := dk_154 0 9 (dk_at dksX1_keptBy_4 3 rfl rfl)
theorem dX1_keptBy_102 : decode cX1_keptBy 102 = .ok (.iinc 6 1, 3) := dk_132 6 1 (dk_at dksX1_keptBy_4 6 rfl rfl)
theorem dX1_keptBy_105 : decode cX1_keptBy 105 = .ok (.goto (-21), 3) := dk_167 255 235 (dk_at dksX1_keptBy_4 9 rfl rfl)
theorem dX1_keptBy_108 : decode cX1_keptBy 108 = .ok (.iload_n 3, 1) := dk_29 (dk_at dksX1_keptBy_4 12 rfl rfl)
theorem dX1_keptBy_109 : decode cX1_keptBy 109 = .ok (.iconst 1, 1) := dk_4 (dk_at dksX1_keptBy_4 13 rfl rfl)
theorem dX1_keptBy_110 : decode cX1_keptBy 110 = .ok (.sipush 501, 3) := dk_17 1 245 (dk_at dksX1_keptBy_4 14 rfl rfl)
theorem dX1_keptBy_113 : decode cX1_keptBy 113 = .ok (.iload 6, 2) := dk_21 6 (dk_at dksX1_keptBy_4 17 rfl rfl)
theorem dX1_keptBy_115 : decode cX1_keptBy 115 = .ok (.iadd, 1) := dk_96 (dk_at dksX1_keptBy_4 19 rfl rfl)
theorem dX1_keptBy_116 : decode cX1_keptBy 116 = .ok (.sipush 601, 3) := dk_17 2 89 (dk_at dksX1_keptBy_4 20 rfl rfl)
theorem dX1_keptBy_119 : decode cX1_keptBy 119 = .ok (.iload 5, 2) := dk_21 5 (dk_at dksX1_keptBy_5 0 rfl rfl)
theorem dX1_keptBy_121 : decode cX1_keptBy 121 = .ok (.iadd, 1) := dk_96 (dk_at dksX1_keptBy_5 2 rfl rfl)
theorem dX1_keptBy_122 : decode cX1_keptBy 122 = .ok (.invokestatic 400, 3) := dk_184 1 144 (dk_at dksX1_keptBy_5 3 rfl rfl)
theorem dX1_keptBy_125 : decode cX1_keptBy 125 = .ok (.ireturn, 1) := dk_172 (dk_at dksX1_keptBy_5 6 rfl rfl)
def dkwX1_account_0 : List UInt8 := [27, 133, 9, 20, 1, 155, 184, 0, 114, 184, 0, 118, 42, 180, 0, 24, 180, 1, 157, 27, 46, 172]
abbrev dktX1_account_0 : List UInt8 := dkwX1_account_0 ++ []
theorem dksX1_account_0 : cX1_account.data.toList.drop 0 = dktX1_account_0 := by decide +kernel
theorem dX1_account_0 : decode cX1_account 0 = .ok (.iload_n 1, 1) := dk_27 (dk_at dksX1_account_0 0 rfl rfl)
theorem dX1_account_1 : decode cX1_account 1 = .ok (.i2l, 1) := dk_133 (dk_at dksX1_account_0 1 rfl rfl)
theorem dX1_account_2 : decode cX1_account 2 = .ok (.lconst 0, 1) := dk_9 (dk_at dksX1_account_0 2 rfl rfl)
theorem dX1_account_3 : decode cX1_account 3 = .ok (.ldc2_w 411, 3) := dk_20 1 155 (dk_at dksX1_account_0 3 rfl rfl)
theorem dX1_account_6 : decode cX1_account 6 = .ok (.invokestatic 114, 3) := dk_184 0 114 (dk_at dksX1_account_0 6 rfl rfl)
theorem dX1_account_9 : decode cX1_account 9 = .ok (.invokestatic 118, 3) := dk_184 0 118 (dk_at dksX1_account_0 9 rfl rfl)
theorem dX1_account_12 : decode cX1_account 12 = .ok (.aload_n 0, 1) := dk_42 (dk_at dksX1_account_0 12 rfl rfl)
theorem dX1_account_13 : decode cX1_account 13 = .ok (.getfield 24, 3) := dk_180 0 24 (dk_at dksX1_account_0 13 rfl rfl)
theorem dX1_account_16 : decode cX1_account 16 = .ok (.getfield 413, 3) := dk_180 1 157 (dk_at dksX1_account_0 16 rfl rfl)
theorem dX1_account_19 : decode cX1_account 19 = .ok (.iload_n 1, 1) := dk_27 (dk_at dksX1_account_0 19 rfl rfl)
theorem dX1_account_20 : decode cX1_account 20 = .ok (.iaload, 1) := dk_46 (dk_at dksX1_account_0 20 rfl rfl)
theorem dX1_account_21 : decode cX1_account 21 = .ok (.ireturn, 1) := dk_172 (dk_at dksX1_account_0 21 rfl rfl)
def dkwX1_grassIn_1 : List UInt8 := [153, 0, 14, 25, 5, 180, 1, 37, 21, 4, 46, 167, 0, 4, 2, 172]
abbrev dktX1_grassIn_1 : List UInt8 := dkwX1_grassIn_1 ++ []
def dkwX1_grassIn_0 : List UInt8 := [42, 27, 28, 182, 1, 27, 54, 4, 42, 29, 182, 1, 178, 58, 5, 25, 5, 21, 4, 182, 1, 34]
abbrev dktX1_grassIn_0 : List UInt8 := dkwX1_grassIn_0 ++ dktX1_grassIn_1
theorem dksX1_grassIn_0 : cX1_grassIn.data.toList.drop 0 = dktX1_grassIn_0 := by decide +kernel
theorem dksX1_grassIn_1 : cX1_grassIn.data.toList.drop 22 = dktX1_grassIn_1 := dk_seg dksX1_grassIn_0 22 rfl rfl
theorem dX1_grassIn_0 : decode cX1_grassIn 0 = .ok (.aload_n 0, 1) := dk_42 (dk_at dksX1_grassIn_0 0 rfl rfl)
theorem dX1_grassIn_1 : decode cX1_grassIn 1 = .ok (.iload_n 1, 1) := dk_27 (dk_at dksX1_grassIn_0 1 rfl rfl)
theorem dX1_grassIn_2 : decode cX1_grassIn 2 = .ok (.iload_n 2, 1) := dk_28 (dk_at dksX1_grassIn_0 2 rfl rfl)
theorem dX1_grassIn_3 : decode cX1_grassIn 3 = .ok (.invokevirtual 283, 3) := dk_182 1 27 (dk_at dksX1_grassIn_0 3 rfl rfl)
theorem dX1_grassIn_6 : decode cX1_grassIn 6 = .ok (.istore 4, 2) := dk_54 4 (dk_at dksX1_grassIn_0 6 rfl rfl)
theorem dX1_grassIn_8 : decode cX1_grassIn 8 = .ok (.aload_n 0, 1) := dk_42 (dk_at dksX1_grassIn_0 8 rfl rfl)
theorem dX1_grassIn_9 : decode cX1_grassIn 9 = .ok (.iload_n 3, 1) := dk_29 (dk_at dksX1_grassIn_0 9 rfl rfl)
theorem dX1_grassIn_10 : decode cX1_grassIn 10 = .ok (.invokevirtual 434, 3) := dk_182 1 178 (dk_at dksX1_grassIn_0 10 rfl rfl)
theorem dX1_grassIn_13 : decode cX1_grassIn 13 = .ok (.astore 5, 2) := dk_58 5 (dk_at dksX1_grassIn_0 13 rfl rfl)
theorem dX1_grassIn_15 : decode cX1_grassIn 15 = .ok (.aload 5, 2) := dk_25 5 (dk_at dksX1_grassIn_0 15 rfl rfl)
theorem dX1_grassIn_17 : decode cX1_grassIn 17 = .ok (.iload 4, 2) := dk_21 4 (dk_at dksX1_grassIn_0 17 rfl rfl)
theorem dX1_grassIn_19 : decode cX1_grassIn 19 = .ok (.invokevirtual 290, 3) := dk_182 1 34 (dk_at dksX1_grassIn_0 19 rfl rfl)
theorem dX1_grassIn_22 : decode cX1_grassIn 22 = .ok (.ifCond .eq 14, 3) := dk_153 0 14 (dk_at dksX1_grassIn_1 0 rfl rfl)
theorem dX1_grassIn_25 : decode cX1_grassIn 25 = .ok (.aload 5, 2) := dk_25 5 (dk_at dksX1_grassIn_1 3 rfl rfl)
theorem dX1_grassIn_27 : decode cX1_grassIn 27 = .ok (.getfield 293, 3) := dk_180 1 37 (dk_at dksX1_grassIn_1 5 rfl rfl)
theorem dX1_grassIn_30 : decode cX1_grassIn 30 = .ok (.iload 4, 2) := dk_21 4 (dk_at dksX1_grassIn_1 8 rfl rfl)
theorem dX1_grassIn_32 : decode cX1_grassIn 32 = .ok (.iaload, 1) := dk_46 (dk_at dksX1_grassIn_1 10 rfl rfl)
theorem dX1_grassIn_33 : decode cX1_grassIn 33 = .ok (.goto 4, 3) := dk_167 0 4 (dk_at dksX1_grassIn_1 11 rfl rfl)
theorem dX1_grassIn_36 : decode cX1_grassIn 36 = .ok (.iconst (-1), 1) := dk_2 (dk_at dksX1_grassIn_1 14 rfl rfl)
theorem dX1_grassIn_37 : decode cX1_grassIn 37 = .ok (.ireturn, 1) := dk_172 (dk_at dksX1_grassIn_1 15 rfl rfl)
def dkwX1_behind_0 : List UInt8 := [27, 133, 9, 20, 1, 172, 184, 0, 114, 184, 0, 118, 42, 180, 0, 24, 182, 0, 187, 27, 182, 1, 174, 176]
abbrev dktX1_behind_0 : List UInt8 := dkwX1_behind_0 ++ []
theorem dksX1_behind_0 : cX1_behind.data.toList.drop 0 = dktX1_behind_0 := by decide +kernel
theorem dX1_behind_0 : decode cX1_behind 0 = .ok (.iload_n 1, 1) := dk_27 (dk_at dksX1_behind_0 0 rfl rfl)
theorem dX1_behind_1 : decode cX1_behind 1 = .ok (.i2l, 1) := dk_133 (dk_at dksX1_behind_0 1 rfl rfl)
theorem dX1_behind_2 : decode cX1_behind 2 = .ok (.lconst 0, 1) := dk_9 (dk_at dksX1_behind_0 2 rfl rfl)
theorem dX1_behind_3 : decode cX1_behind 3 = .ok (.ldc2_w 428, 3) := dk_20 1 172 (dk_at dksX1_behind_0 3 rfl rfl)
theorem dX1_behind_6 : decode cX1_behind 6 = .ok (.invokestatic 114, 3) := dk_184 0 114 (dk_at dksX1_behind_0 6 rfl rfl)
theorem dX1_behind_9 : decode cX1_behind 9 = .ok (.invokestatic 118, 3) := dk_184 0 118 (dk_at dksX1_behind_0 9 rfl rfl)
theorem dX1_behind_12 : decode cX1_behind 12 = .ok (.aload_n 0, 1) := dk_42 (dk_at dksX1_behind_0 12 rfl rfl)
theorem dX1_behind_13 : decode cX1_behind 13 = .ok (.getfield 24, 3) := dk_180 0 24 (dk_at dksX1_behind_0 13 rfl rfl)
theorem dX1_behind_16 : decode cX1_behind 16 = .ok (.invokevirtual 187, 3) := dk_182 0 187 (dk_at dksX1_behind_0 16 rfl rfl)
theorem dX1_behind_19 : decode cX1_behind 19 = .ok (.iload_n 1, 1) := dk_27 (dk_at dksX1_behind_0 19 rfl rfl)
theorem dX1_behind_20 : decode cX1_behind 20 = .ok (.invokevirtual 430, 3) := dk_182 1 174 (dk_at dksX1_behind_0 20 rfl rfl)
theorem dX1_behind_23 : decode cX1_behind 23 = .ok (.areturn, 1) := dk_176 (dk_at dksX1_behind_0 23 rfl rfl)
def dkwX1_bareIn_0 : List UInt8 := [42, 27, 182, 1, 178, 182, 0, 230, 172]
abbrev dktX1_bareIn_0 : List UInt8 := dkwX1_bareIn_0 ++ []
theorem dksX1_bareIn_0 : cX1_bareIn.data.toList.drop 0 = dktX1_bareIn_0 := by decide +kernel
theorem dX1_bareIn_0 : decode cX1_bareIn 0 = .ok (.aload_n 0, 1) := dk_42 (dk_at dksX1_bareIn_0 0 rfl rfl)
theorem dX1_bareIn_1 : decode cX1_bareIn 1 = .ok (.iload_n 1, 1) := dk_27 (dk_at dksX1_bareIn_0 1 rfl rfl)
theorem dX1_bareIn_2 : decode cX1_bareIn 2 = .ok (.invokevirtual 434, 3) := dk_182 1 178 (dk_at dksX1_bareIn_0 2 rfl rfl)
theorem dX1_bareIn_5 : decode cX1_bareIn 5 = .ok (.invokevirtual 230, 3) := dk_182 0 230 (dk_at dksX1_bareIn_0 5 rfl rfl)
theorem dX1_bareIn_8 : decode cX1_bareIn 8 = .ok (.ireturn, 1) := dk_172 (dk_at dksX1_bareIn_0 8 rfl rfl)
def dkwX1_whenBare_2 : List UInt8 := [154, 0, 6, 21, 5, 172, 25, 4, 182, 1, 179, 132, 5, 1, 167, 255, 228, 2, 172]
abbrev dktX1_whenBare_2 : List UInt8 := dkwX1_whenBare_2 ++ []
def dkwX1_whenBare_1 : List UInt8 := [182, 0, 187, 58, 4, 3, 54, 5, 21, 5, 16, 100, 163, 0, 27, 25, 4, 180, 1, 37, 29, 46]
abbrev dktX1_whenBare_1 : List UInt8 := dkwX1_whenBare_1 ++ dktX1_whenBare_2
def dkwX1_whenBare_0 : List UInt8 := [42, 27, 28, 182, 1, 27, 62, 42, 180, 0, 24, 29, 182, 1, 34, 154, 0, 5, 2, 172, 42, 180, 0, 24]
abbrev dktX1_whenBare_0 : List UInt8 := dkwX1_whenBare_0 ++ dktX1_whenBare_1
theorem dksX1_whenBare_0 : cX1_whenBare.data.toList.drop 0 = dktX1_whenBare_0 := by decide +kernel
theorem dksX1_whenBare_1 : cX1_whenBare.data.toList.drop 24 = dktX1_whenBare_1 := dk_seg dksX1_whenBare_0 24 rfl rfl
theorem dksX1_whenBare_2 : cX1_whenBare.data.toList.drop 46 = dktX1_whenBare_2 := dk_seg dksX1_whenBare_1 22 rfl rfl
theorem dX1_whenBare_0 : decode cX1_whenBare 0 = .ok (.aload_n 0, 1) := dk_42 (dk_at dksX1_whenBare_0 0 rfl rfl)
theorem dX1_whenBare_1 : decode cX1_whenBare 1 = .ok (.iload_n 1, 1) := dk_27 (dk_at dksX1_whenBare_0 1 rfl rfl)
theorem dX1_whenBare_2 : decode cX1_whenBare 2 = .ok (.iload_n 2, 1) := dk_28 (dk_at dksX1_whenBare_0 2 rfl rfl)
theorem dX1_whenBare_3 : decode cX1_whenBare 3 = .ok (.invokevirtual 283, 3) := dk_182 1 27 (dk_at dksX1_whenBare_0 3 rfl rfl)
theorem dX1_whenBare_6 : decode cX1_whenBare 6 = .ok (.istore_n 3, 1) := dk_62 (dk_at dksX1_whenBare_0 6 rfl rfl)
theorem dX1_whenBare_7 : decode cX1_whenBare 7 = .ok (.aload_n 0, 1) := dk_42 (dk_at dksX1_whenBare_0 7 rfl rfl)
theorem dX1_whenBare_8 : decode cX1_whenBare 8 = .ok (.getfield 24, 3) := dk_180 0 24 (dk_at dksX1_whenBare_0 8 rfl rfl)
theorem dX1_whenBare_11 : decode cX1_whenBare 11 = .ok (.iload_n 3, 1) := dk_29 (dk_at dksX1_whenBare_0 11 rfl rfl)
theorem dX1_whenBare_12 : decode cX1_whenBare 12 = .ok (.invokevirtual 290, 3) := dk_182 1 34 (dk_at dksX1_whenBare_0 12 rfl rfl)
theorem dX1_whenBare_15 : decode cX1_whenBare 15 = .ok (.ifCond .ne 5, 3) := dk_154 0 5 (dk_at dksX1_whenBare_0 15 rfl rfl)
theorem dX1_whenBare_18 : decode cX1_whenBare 18 = .ok (.iconst (-1), 1) := dk_2 (dk_at dksX1_whenBare_0 18 rfl rfl)
theorem dX1_whenBare_19 : decode cX1_whenBare 19 = .ok (.ireturn, 1) := dk_172 (dk_at dksX1_whenBare_0 19 rfl rfl)
theorem dX1_whenBare_20 : decode cX1_whenBare 20 = .ok (.aload_n 0, 1) := dk_42 (dk_at dksX1_whenBare_0 20 rfl rfl)
theorem dX1_whenBare_21 : decode cX1_whenBare 21 = .ok (.getfield 24, 3) := dk_180 0 24 (dk_at dksX1_whenBare_0 21 rfl rfl)
theorem dX1_whenBare_24 : decode cX1_whenBare 24 = .ok (.invokevirtual 187, 3) := dk_182 0 187 (dk_at dksX1_whenBare_1 0 rfl rfl)
theorem dX1_whenBare_27 : decode cX1_whenBare 27 = .ok (.astore 4, 2) := dk_58 4 (dk_at dksX1_whenBare_1 3 rfl rfl)
theorem dX1_whenBare_29 : decode cX1_whenBare 29 = .ok (.iconst 0, 1) := dk_3 (dk_at dksX1_whenBare_1 5 rfl rfl)
theorem dX1_whenBare_30 : decode cX1_whenBare 30 = .ok (.istore 5, 2) := dk_54 5 (dk_at dksX1_whenBare_1 6 rfl rfl)
theorem dX1_whenBare_32 : decode cX1_whenBare 32 = .ok (.iload 5, 2) := dk_21 5 (dk_at dksX1_whenBare_1 8 rfl rfl)
theorem dX1_whenBare_34 : decode cX1_whenBare 34 = .ok (.bipush 100, 2) := dk_16 100 (dk_at dksX1_whenBare_1 10 rfl rfl)
theorem dX1_whenBare_36 : decode cX1_whenBare 36 = .ok (.if_icmp .gt 27, 3) := dk_163 0 27 (dk_at dksX1_whenBare_1 12 rfl rfl)
theorem dX1_whenBare_39 : decode cX1_whenBare 39 = .ok (.aload 4, 2) := dk_25 4 (dk_at dksX1_whenBare_1 15 rfl rfl)
theorem dX1_whenBare_41 : decode cX1_whenBare 41 = .ok (.getfield 293, 3) := dk_180 1 37 (dk_at dksX1_whenBare_1 17 rfl rfl)
theorem dX1_whenBare_44 : decode cX1_whenBare 44 = .ok (.iload_n 3, 1) := dk_29 (dk_at dksX1_whenBare_1 20 rfl rfl)
theorem dX1_whenBare_45 : decode cX1_whenBare 45 = .ok (.iaload, 1) := dk_46 (dk_at dksX1_whenBare_1 21 rfl rfl)
theorem dX1_whenBare_46 : decode cX1_whenBare 46 = .ok (.ifCond .ne 6, 3) := dk_154 0 6 (dk_at dksX1_whenBare_2 0 rfl rfl)
theorem dX1_whenBare_49 : decode cX1_whenBare 49 = .ok (.iload 5, 2) := dk_21 5 (dk_at dksX1_whenBare_2 3 rfl rfl)
theorem dX1_whenBare_51 : decode cX1_whenBare 51 = .ok (.ireturn, 1) := dk_172 (dk_at dksX1_whenBare_2 5 rfl rfl)
theorem dX1_whenBare_52 : decode cX1_whenBare 52 = .ok (.aload 4, 2) := dk_25 4 (dk_at dksX1_whenBare_2 6 rfl rfl)
theorem dX1_whenBare_54 : decode cX1_whenBare 54 = .ok (.invokevirtual 435, 3) := dk_182 1 179 (dk_at dksX1_whenBare_2 8 rfl rfl)
theorem dX1_whenBare_57 : decode cX1_whenBare 57 = .ok (.iinc 5 1, 3) := dk_132 5 1 (dk_at dksX1_whenBare_2 11 rfl rfl)
theorem dX1_whenBare_60 : decode cX1_whenBare 60 = .ok (.goto (-28), 3) := dk_167 255 228 (dk_at dksX1_whenBare_2 14 rfl rfl)
theorem dX1_whenBare_63 : decode cX1_whenBare 63 = .ok (.iconst (-1), 1) := dk_2 (dk_at dksX1_whenBare_2 17 rfl rfl)
theorem dX1_whenBare_64 : decode cX1_whenBare 64 = .ok (.ireturn, 1) := dk_172 (dk_at dksX1_whenBare_2 18 rfl rfl)
def dkwX1_ifFence_2 : List UInt8 := [178, 1, 119, 182, 1, 125, 100, 172]
abbrev dktX1_ifFence_2 : List UInt8 := dkwX1_ifFence_2 ++ []
def dkwX1_ifFence_1 : List UInt8 := [2, 167, 0, 30, 25, 5, 25, 5, 27, 182, 1, 15, 178, 1, 119, 182, 1, 125, 42, 180, 0, 24, 25, 4]
abbrev dktX1_ifFence_1 : List UInt8 := dkwX1_ifFence_1 ++ dktX1_ifFence_2
def dkwX1_ifFence_0 : List UInt8 := [42, 27, 182, 1, 74, 58, 4, 42, 42, 28, 29, 182, 1, 27, 182, 1, 185, 58, 5, 25, 5, 199, 0, 7]
abbrev dktX1_ifFence_0 : List UInt8 := dkwX1_ifFence_0 ++ dktX1_ifFence_1
theorem dksX1_ifFence_0 : cX1_ifFence.data.toList.drop 0 = dktX1_ifFence_0 := by decide +kernel
theorem dksX1_ifFence_1 : cX1_ifFence.data.toList.drop 24 = dktX1_ifFence_1 := dk_seg dksX1_ifFence_0 24 rfl rfl
theorem dksX1_ifFence_2 : cX1_ifFence.data.toList.drop 48 = dktX1_ifFence_2 := dk_seg dksX1_ifFence_1 24 rfl rfl
theorem dX1_ifFence_0 : decode cX1_ifFence 0 = .ok (.aload_n 0, 1) := dk_42 (dk_at dksX1_ifFence_0 0 rfl rfl)
theorem dX1_ifFence_1 : decode cX1_ifFence 1 = .ok (.iload_n 1, 1) := dk_27 (dk_at dksX1_ifFence_0 1 rfl rfl)
theorem dX1_ifFence_2 : decode cX1_ifFence 2 = .ok (.invokevirtual 330, 3) := dk_182 1 74 (dk_at dksX1_ifFence_0 2 rfl rfl)
theorem dX1_ifFence_5 : decode cX1_ifFence 5 = .ok (.astore 4, 2) := dk_58 4 (dk_at dksX1_ifFence_0 5 rfl rfl)
theorem dX1_ifFence_7 : decode cX1_ifFence 7 = .ok (.aload_n 0, 1) := dk_42 (dk_at dksX1_ifFence_0 7 rfl rfl)
theorem dX1_ifFence_8 : decode cX1_ifFence 8 = .ok (.aload_n 0, 1) := dk_42 (dk_at dksX1_ifFence_0 8 rfl rfl)
theorem dX1_ifFence_9 : decode cX1_ifFence 9 = .ok (.iload_n 2, 1) := dk_28 (dk_at dksX1_ifFence_0 9 rfl rfl)
theorem dX1_ifFence_10 : decode cX1_ifFence 10 = .ok (.iload_n 3, 1) := dk_29 (dk_at dksX1_ifFence_0 10 rfl rfl)
theorem dX1_ifFence_11 : decode cX1_ifFence 11 = .ok (.invokevirtual 283, 3) := dk_182 1 27 (dk_at dksX1_ifFence_0 11 rfl rfl)
theorem dX1_ifFence_14 : decode cX1_ifFence 14 = .ok (.invokevirtual 441, 3) := dk_182 1 185 (dk_at dksX1_ifFence_0 14 rfl rfl)
theorem dX1_ifFence_17 : decode cX1_ifFence 17 = .ok (.astore 5, 2) := dk_58 5 (dk_at dksX1_ifFence_0 17 rfl rfl)
theorem dX1_ifFence_19 : decode cX1_ifFence 19 = .ok (.aload 5, 2) := dk_25 5 (dk_at dksX1_ifFence_0 19 rfl rfl)
theorem dX1_ifFence_21 : decode cX1_ifFence 21 = .ok (.ifnonnull 7, 3) := dk_199 0 7 (dk_at dksX1_ifFence_0 21 rfl rfl)
theorem dX1_ifFence_24 : decode cX1_ifFence 24 = .ok (.iconst (-1), 1) := dk_2 (dk_at dksX1_ifFence_1 0 rfl rfl)
theorem dX1_ifFence_25 : decode cX1_ifFence 25 = .ok (.goto 30, 3) := dk_167 0 30 (dk_at dksX1_ifFence_1 1 rfl rfl)
theorem dX1_ifFence_28 : decode cX1_ifFence 28 = .ok (.aload 5, 2) := dk_25 5 (dk_at dksX1_ifFence_1 4 rfl rfl)
theorem dX1_ifFence_30 : decode cX1_ifFence 30 = .ok (.aload 5, 2) := dk_25 5 (dk_at dksX1_ifFence_1 6 rfl rfl)
theorem dX1_ifFence_32 : decode cX1_ifFence 32 = .ok (.iload_n 1, 1) := dk_27 (dk_at dksX1_ifFence_1 8 rfl rfl)
theorem dX1_ifFence_33 : decode cX1_ifFence 33 = .ok (.invokevirtual 271, 3) := dk_182 1 15 (dk_at dksX1_ifFence_1 9 rfl rfl)
theorem dX1_ifFence_36 : decode cX1_ifFence 36 = .ok (.getstatic 375, 3) := dk_178 1 119 (dk_at dksX1_ifFence_1 12 rfl rfl)
theorem dX1_ifFence_39 : decode cX1_ifFence 39 = .ok (.invokevirtual 381, 3) := dk_182 1 125 (dk_at dksX1_ifFence_1 15 rfl rfl)
theorem dX1_ifFence_42 : decode cX1_ifFence 42 = .ok (.aload_n 0, 1) := dk_42 (dk_at dksX1_ifFence_1 18 rfl rfl)
theorem dX1_ifFence_43 : decode cX1_ifFence 43 = .ok (.getfield 24, 3) := dk_180 0 24 (dk_at dksX1_ifFence_1 19 rfl rfl)
theorem dX1_ifFence_46 : decode cX1_ifFence 46 = .ok (.aload 4, 2) := dk_25 4 (dk_at dksX1_ifFence_1 22 rfl rfl)
theorem dX1_ifFence_48 : decode cX1_ifFence 48 = .ok (.getstatic 375, 3) := dk_178 1 119 (dk_at dksX1_ifFence_2 0 rfl rfl)
theorem dX1_ifFence_51 : decode cX1_ifFence 51 = .ok (.invokevirtual 381, 3) := dk_182 1 125 (dk_at dksX1_ifFence_2 3 rfl rfl)
theorem dX1_ifFence_54 : decode cX1_ifFence 54 = .ok (.isub, 1) := dk_100 (dk_at dksX1_ifFence_2 6 rfl rfl)
theorem dX1_ifFence_55 : decode cX1_ifFence 55 = .ok (.ireturn, 1) := dk_172 (dk_at dksX1_ifFence_2 7 rfl rfl)
def dkwX1_fencedAt_0 : List UInt8 := [42, 180, 0, 24, 182, 0, 187, 77, 44, 27, 182, 1, 182, 62, 167, 0, 6, 78, 1, 176, 44, 176]
abbrev dktX1_fencedAt_0 : List UInt8 := dkwX1_fencedAt_0 ++ []
theorem dksX1_fencedAt_0 : cX1_fencedAt.data.toList.drop 0 = dktX1_fencedAt_0 := by decide +kernel
theorem dX1_fencedAt_0 : decode cX1_fencedAt 0 = .ok (.aload_n 0, 1) := dk_42 (dk_at dksX1_fencedAt_0 0 rfl rfl)
theorem dX1_fencedAt_1 : decode cX1_fencedAt 1 = .ok (.getfield 24, 3) := dk_180 0 24 (dk_at dksX1_fencedAt_0 1 rfl rfl)
theorem dX1_fencedAt_4 : decode cX1_fencedAt 4 = .ok (.invokevirtual 187, 3) := dk_182 0 187 (dk_at dksX1_fencedAt_0 4 rfl rfl)
theorem dX1_fencedAt_7 : decode cX1_fencedAt 7 = .ok (.astore_n 2, 1) := dk_77 (dk_at dksX1_fencedAt_0 7 rfl rfl)
theorem dX1_fencedAt_8 : decode cX1_fencedAt 8 = .ok (.aload_n 2, 1) := dk_44 (dk_at dksX1_fencedAt_0 8 rfl rfl)
theorem dX1_fencedAt_9 : decode cX1_fencedAt 9 = .ok (.iload_n 1, 1) := dk_27 (dk_at dksX1_fencedAt_0 9 rfl rfl)
theorem dX1_fencedAt_10 : decode cX1_fencedAt 10 = .ok (.invokevirtual 438, 3) := dk_182 1 182 (dk_at dksX1_fencedAt_0 10 rfl rfl)
theorem dX1_fencedAt_13 : decode cX1_fencedAt 13 = .ok (.istore_n 3, 1) := dk_62 (dk_at dksX1_fencedAt_0 13 rfl rfl)
theorem dX1_fencedAt_14 : decode cX1_fencedAt 14 = .ok (.goto 6, 3) := dk_167 0 6 (dk_at dksX1_fencedAt_0 14 rfl rfl)
theorem dX1_fencedAt_17 : decode cX1_fencedAt 17 = .ok (.astore_n 3, 1) := dk_78 (dk_at dksX1_fencedAt_0 17 rfl rfl)
theorem dX1_fencedAt_18 : decode cX1_fencedAt 18 = .ok (.aconst_null, 1) := dk_1 (dk_at dksX1_fencedAt_0 18 rfl rfl)
theorem dX1_fencedAt_19 : decode cX1_fencedAt 19 = .ok (.areturn, 1) := dk_176 (dk_at dksX1_fencedAt_0 19 rfl rfl)
theorem dX1_fencedAt_20 : decode cX1_fencedAt 20 = .ok (.aload_n 2, 1) := dk_44 (dk_at dksX1_fencedAt_0 20 rfl rfl)
theorem dX1_fencedAt_21 : decode cX1_fencedAt 21 = .ok (.areturn, 1) := dk_176 (dk_at dksX1_fencedAt_0 21 rfl rfl)
def dkwX1_ifOpen_0 : List UInt8 := [42, 42, 27, 182, 1, 74, 182, 1, 141, 172]
abbrev dktX1_ifOpen_0 : List UInt8 := dkwX1_ifOpen_0 ++ []
theorem dksX1_ifOpen_0 : cX1_ifOpen.data.toList.drop 0 = dktX1_ifOpen_0 := by decide +kernel
theorem dX1_ifOpen_0 : decode cX1_ifOpen 0 = .ok (.aload_n 0, 1) := dk_42 (dk_at dksX1_ifOpen_0 0 rfl rfl)
theorem dX1_ifOpen_1 : decode cX1_ifOpen 1 = .ok (.aload_n 0, 1) := dk_42 (dk_at dksX1_ifOpen_0 1 rfl rfl)
theorem dX1_ifOpen_2 : decode cX1_ifOpen 2 = .ok (.iload_n 1, 1) := dk_27 (dk_at dksX1_ifOpen_0 2 rfl rfl)
theorem dX1_ifOpen_3 : decode cX1_ifOpen 3 = .ok (.invokevirtual 330, 3) := dk_182 1 74 (dk_at dksX1_ifOpen_0 3 rfl rfl)
theorem dX1_ifOpen_6 : decode cX1_ifOpen 6 = .ok (.invokevirtual 397, 3) := dk_182 1 141 (dk_at dksX1_ifOpen_0 6 rfl rfl)
theorem dX1_ifOpen_9 : decode cX1_ifOpen 9 = .ok (.ireturn, 1) := dk_172 (dk_at dksX1_ifOpen_0 9 rfl rfl)
def dkwX1_bestFence_3 : List UInt8 := [21, 4, 182, 1, 133, 61, 21, 6, 62, 132, 4, 1, 167, 255, 195, 28, 172]
abbrev dktX1_bestFence_3 : List UInt8 := dkwX1_bestFence_3 ++ []
def dkwX1_bestFence_2 : List UInt8 := [167, 0, 33, 25, 5, 27, 182, 1, 174, 182, 0, 233, 54, 6, 21, 6, 29, 163, 0, 6, 167, 0, 13, 42]
abbrev dktX1_bestFence_2 : List UInt8 := dkwX1_bestFence_2 ++ dktX1_bestFence_3
def dkwX1_bestFence_1 : List UInt8 := [180, 0, 24, 180, 1, 190, 162, 0, 55, 42, 21, 4, 182, 1, 185, 58, 5, 25, 5, 199, 0, 6]
abbrev dktX1_bestFence_1 : List UInt8 := dkwX1_bestFence_1 ++ dktX1_bestFence_2
def dkwX1_bestFence_0 : List UInt8 := [27, 133, 10, 20, 1, 188, 184, 0, 114, 184, 0, 118, 2, 61, 2, 62, 3, 54, 4, 21, 4, 42]
abbrev dktX1_bestFence_0 : List UInt8 := dkwX1_bestFence_0 ++ dktX1_bestFence_1
theorem dksX1_bestFence_0 : cX1_bestFence.data.toList.drop 0 = dktX1_bestFence_0 := by decide +kernel
theorem dksX1_bestFence_1 : cX1_bestFence.data.toList.drop 22 = dktX1_bestFence_1 := dk_seg dksX1_bestFence_0 22 rfl rfl
theorem dksX1_bestFence_2 : cX1_bestFence.data.toList.drop 44 = dktX1_bestFence_2 := dk_seg dksX1_bestFence_1 22 rfl rfl
theorem dksX1_bestFence_3 : cX1_bestFence.data.toList.drop 68 = dktX1_bestFence_3 := dk_seg dksX1_bestFence_2 24 rfl rfl
theorem dX1_bestFence_0 : decode cX1_bestFence 0 = .ok (.iload_n 1, 1) := dk_27 (dk_at dksX1_bestFence_0 0 rfl rfl)
theorem dX1_bestFence_1 : decode cX1_bestFence 1 = .ok (.i2l, 1) := dk_133 (dk_at dksX1_bestFence_0 1 rfl rfl)
theorem dX1_bestFence_2 : decode cX1_bestFence 2 = .ok (.lconst 1, 1) := dk_10 (dk_at dksX1_bestFence_0 2 rfl rfl)
theorem dX1_bestFence_3 : decode cX1_bestFence 3 = .ok (.ldc2_w 444, 3) := dk_20 1 188 (dk_at dksX1_bestFence_0 3 rfl rfl)
theorem dX1_bestFence_6 : decode cX1_bestFence 6 = .ok (.invokestatic 114, 3) := dk_184 0 114 (dk_at dksX1_bestFence_0 6 rfl rfl)
theorem dX1_bestFence_9 : decode cX1_bestFence 9 = .ok (.invokestatic 118, 3) := dk_184 0 118 (dk_at dksX1_bestFence_0 9 rfl rfl)
theorem dX1_bestFence_12 : decode cX1_bestFence 12 = .ok (.iconst (-1), 1) := dk_2 (dk_at dksX1_bestFence_0 12 rfl rfl)
theorem dX1_bestFence_13 : decode cX1_bestFence 13 = .ok (.istore_n 2, 1) := dk_61 (dk_at dksX1_bestFence_0 13 rfl rfl)
theorem dX1_bestFence_14 : decode cX1_bestFence 14 = .ok (.iconst (-1), 1) := dk_2 (dk_at dksX1_bestFence_0 14 rfl rfl)
theorem dX1_bestFence_15 : decode cX1_bestFence 15 = .ok (.istore_n 3, 1) := dk_62 (dk_at dksX1_bestFence_0 15 rfl rfl)
theorem dX1_bestFence_16 : decode cX1_bestFence 16 = .ok (.iconst 0, 1) := dk_3 (dk_at dksX1_bestFence_0 16 rfl rfl)
theorem dX1_bestFence_17 : decode cX1_bestFence 17 = .ok (.istore 4, 2) := dk_54 4 (dk_at dksX1_bestFence_0 17 rfl rfl)
theorem dX1_bestFence_19 : decode cX1_bestFence 19 = .ok (.iload 4, 2) := dk_21 4 (dk_at dksX1_bestFence_0 19 rfl rfl)
theorem dX1_bestFence_21 : decode cX1_bestFence 21 = .ok (.aload_n 0, 1) := dk_42 (dk_at dksX1_bestFence_0 21 rfl rfl)
theorem dX1_bestFence_22 : decode cX1_bestFence 22 = .ok (.getfield 24, 3) := dk_180 0 24 (dk_at dksX1_bestFence_1 0 rfl rfl)
theorem dX1_bestFence_25 : decode cX1_bestFence 25 = .ok (.getfield 446, 3) := dk_180 1 190 (dk_at dksX1_bestFence_1 3 rfl rfl)
theorem dX1_bestFence_28 : decode cX1_bestFence 28 = .ok (.if_icmp .ge 55, 3) := dk_162 0 55 (dk_at dksX1_bestFence_1 6 rfl rfl)
theorem dX1_bestFence_31 : decode cX1_bestFence 31 = .ok (.aload_n 0, 1) := dk_42 (dk_at dksX1_bestFence_1 9 rfl rfl)
theorem dX1_bestFence_32 : decode cX1_bestFence 32 = .ok (.iload 4, 2) := dk_21 4 (dk_at dksX1_bestFence_1 10 rfl rfl)
theorem dX1_bestFence_34 : decode cX1_bestFence 34 = .ok (.invokevirtual 441, 3) := dk_182 1 185 (dk_at dksX1_bestFence_1 12 rfl rfl)
theorem dX1_bestFence_37 : decode cX1_bestFence 37 = .ok (.astore 5, 2) := dk_58 5 (dk_at dksX1_bestFence_1 15 rfl rfl)
theorem dX1_bestFence_39 : decode cX1_bestFence 39 = .ok (.aload 5, 2) := dk_25 5 (dk_at dksX1_bestFence_1 17 rfl rfl)
theorem dX1_bestFence_41 : decode cX1_bestFence 41 = .ok (.ifnonnull 6, 3) := dk_199 0 6 (dk_at dksX1_bestFence_1 19 rfl rfl)
theorem dX1_bestFence_44 : decode cX1_bestFence 44 = .ok (.goto 33, 3) := dk_167 0 33 (dk_at dksX1_bestFence_2 0 rfl rfl)
theorem dX1_bestFence_47 : decode cX1_bestFence 47 = .ok (.aload 5, 2) := dk_25 5 (dk_at dksX1_bestFence_2 3 rfl rfl)
theorem dX1_bestFence_49 : decode cX1_bestFence 49 = .ok (.iload_n 1, 1) := dk_27 (dk_at dksX1_bestFence_2 5 rfl rfl)
theorem dX1_bestFence_50 : decode cX1_bestFence 50 = .ok (.invokevirtual 430, 3) := dk_182 1 174 (dk_at dksX1_bestFence_2 6 rfl rfl)
theorem dX1_bestFence_53 : decode cX1_bestFence 53 = .ok (.invokevirtual 233, 3) := dk_182 0 233 (dk_at dksX1_bestFence_2 9 rfl rfl)
theorem dX1_bestFence_56 : decode cX1_bestFence 56 = .ok (.istore 6, 2) := dk_54 6 (dk_at dksX1_bestFence_2 12 rfl rfl)
theorem dX1_bestFence_58 : decode cX1_bestFence 58 = .ok (.iload 6, 2) := dk_21 6 (dk_at dksX1_bestFence_2 14 rfl rfl)
theorem dX1_bestFence_60 : decode cX1_bestFence 60 = .ok (.iload_n 3, 1) := dk_29 (dk_at dksX1_bestFence_2 16 rfl rfl)
theorem dX1_bestFence_61 : decode cX1_bestFence 61 = .ok (.if_icmp .gt 6, 3) := dk_163 0 6 (dk_at dksX1_bestFence_2 17 rfl rfl)
theorem dX1_bestFence_64 : decode cX1_bestFence 64 = .ok (.goto 13, 3) := dk_167 0 13 (dk_at dksX1_bestFence_2 20 rfl rfl)
theorem dX1_bestFence_67 : decode cX1_bestFence 67 = .ok (.aload_n 0, 1) := dk_42 (dk_at dksX1_bestFence_2 23 rfl rfl)
theorem dX1_bestFence_68 : decode cX1_bestFence 68 = .ok (.iload 4, 2) := dk_21 4 (dk_at dksX1_bestFence_3 0 rfl rfl)
theorem dX1_bestFence_70 : decode cX1_bestFence 70 = .ok (.invokevirtual 389, 3) := dk_182 1 133 (dk_at dksX1_bestFence_3 2 rfl rfl)
theorem dX1_bestFence_73 : decode cX1_bestFence 73 = .ok (.istore_n 2, 1) := dk_61 (dk_at dksX1_bestFence_3 5 rfl rfl)
theorem dX1_bestFence_74 : decode cX1_bestFence 74 = .ok (.iload 6, 2) := dk_21 6 (dk_at dksX1_bestFence_3 6 rfl rfl)
theorem dX1_bestFence_76 : decode cX1_bestFence 76 = .ok (.istore_n 3, 1) := dk_62 (dk_at dksX1_bestFence_3 8 rfl rfl)
theorem dX1_bestFence_77 : decode cX1_bestFence 77 = .ok (.iinc 4 1, 3) := dk_132 4 1 (dk_at dksX1_bestFence_3 9 rfl rfl)
theorem dX1_bestFence_80 : decode cX1_bestFence 80 = .ok (.goto (-61), 3) := dk_167 255 195 (dk_at dksX1_bestFence_3 12 rfl rfl)
theorem dX1_bestFence_83 : decode cX1_bestFence 83 = .ok (.iload_n 2, 1) := dk_28 (dk_at dksX1_bestFence_3 15 rfl rfl)
theorem dX1_bestFence_84 : decode cX1_bestFence 84 = .ok (.ireturn, 1) := dk_172 (dk_at dksX1_bestFence_3 16 rfl rfl)
def dkwX1_ifHaste_3 : List UInt8 := [182, 1, 178, 182, 0, 233, 100, 172]
abbrev dktX1_ifHaste_3 : List UInt8 := dkwX1_ifHaste_3 ++ []
def dkwX1_ifHaste_2 : List UInt8 := [58, 5, 25, 5, 27, 182, 1, 15, 28, 181, 1, 77, 25, 5, 29, 182, 1, 174, 182, 0, 233, 42, 29]
abbrev dktX1_ifHaste_2 : List UInt8 := dkwX1_ifHaste_2 ++ dktX1_ifHaste_3
def dkwX1_ifHaste_1 : List UInt8 := [20, 1, 172, 184, 0, 114, 153, 0, 7, 4, 167, 0, 4, 3, 184, 0, 118, 42, 180, 0, 24, 182, 0, 187]
abbrev dktX1_ifHaste_1 : List UInt8 := dkwX1_ifHaste_1 ++ dktX1_ifHaste_2
def dkwX1_ifHaste_0 : List UInt8 := [42, 27, 182, 1, 74, 58, 4, 28, 133, 9, 20, 1, 193, 184, 0, 114, 153, 0, 19, 29, 133, 9]
abbrev dktX1_ifHaste_0 : List UInt8 := dkwX1_ifHaste_0 ++ dktX1_ifHaste_1
theorem dksX1_ifHaste_0 : cX1_ifHaste.data.toList.drop 0 = dktX1_ifHaste_0 := by decide +kernel
theorem dksX1_ifHaste_1 : cX1_ifHaste.data.toList.drop 22 = dktX1_ifHaste_1 := dk_seg dksX1_ifHaste_0 22 rfl rfl
theorem dksX1_ifHaste_2 : cX1_ifHaste.data.toList.drop 46 = dktX1_ifHaste_2 := dk_seg dksX1_ifHaste_1 24 rfl rfl
theorem dksX1_ifHaste_3 : cX1_ifHaste.data.toList.drop 69 = dktX1_ifHaste_3 := dk_seg dksX1_ifHaste_2 23 rfl rfl
theorem dX1_ifHaste_0 : decode cX1_ifHaste 0 = .ok (.aload_n 0, 1) := dk_42 (dk_at dksX1_ifHaste_0 0 rfl rfl)
theorem dX1_ifHaste_1 : decode cX1_ifHaste 1 = .ok (.iload_n 1, 1) := dk_27 (dk_at dksX1_ifHaste_0 1 rfl rfl)
theorem dX1_ifHaste_2 : decode cX1_ifHaste 2 = .ok (.invokevirtual 330, 3) := dk_182 1 74 (dk_at dksX1_ifHaste_0 2 rfl rfl)
theorem dX1_ifHaste_5 : decode cX1_ifHaste 5 = .ok (.astore 4, 2) := dk_58 4 (dk_at dksX1_ifHaste_0 5 rfl rfl)
theorem dX1_ifHaste_7 : decode cX1_ifHaste 7 = .ok (.iload_n 2, 1) := dk_28 (dk_at dksX1_ifHaste_0 7 rfl rfl)
theorem dX1_ifHaste_8 : decode cX1_ifHaste 8 = .ok (.i2l, 1) := dk_133 (dk_at dksX1_ifHaste_0 8 rfl rfl)
theorem dX1_ifHaste_9 : decode cX1_ifHaste 9 = .ok (.lconst 0, 1) := dk_9 (dk_at dksX1_ifHaste_0 9 rfl rfl)
theorem dX1_ifHaste_10 : decode cX1_ifHaste 10 = .ok (.ldc2_w 449, 3) := dk_20 1 193 (dk_at dksX1_ifHaste_0 10 rfl rfl)
theorem dX1_ifHaste_13 : decode cX1_ifHaste 13 = .ok (.invokestatic 114, 3) := dk_184 0 114 (dk_at dksX1_ifHaste_0 13 rfl rfl)
theorem dX1_ifHaste_16 : decode cX1_ifHaste 16 = .ok (.ifCond .eq 19, 3) := dk_153 0 19 (dk_at dksX1_ifHaste_0 16 rfl rfl)
theorem dX1_ifHaste_19 : decode cX1_ifHaste 19 = .ok (.iload_n 3, 1) := dk_29 (dk_at dksX1_ifHaste_0 19 rfl rfl)
theorem dX1_ifHaste_20 : decode cX1_ifHaste 20 = .ok (.i2l, 1) := dk_133 (dk_at dksX1_ifHaste_0 20 rfl rfl)
theorem dX1_ifHaste_21 : decode cX1_ifHaste 21 = .ok (.lconst 0, 1) := dk_9 (dk_at dksX1_ifHaste_0 21 rfl rfl)
theorem dX1_ifHaste_22 : decode cX1_ifHaste 22 = .ok (.ldc2_w 428, 3) := dk_20 1 172 (dk_at dksX1_ifHaste_1 0 rfl rfl)
theorem dX1_ifHaste_25 : decode cX1_ifHaste 25 = .ok (.invokestatic 114, 3) := dk_184 0 114 (dk_at dksX1_ifHaste_1 3 rfl rfl)
theorem dX1_ifHaste_28 : decode cX1_ifHaste 28 = .ok (.ifCond .eq 7, 3) := dk_153 0 7 (dk_at dksX1_ifHaste_1 6 rfl rfl)
theorem dX1_ifHaste_31 : decode cX1_ifHaste 31 = .ok (.iconst 1, 1) := dk_4 (dk_at dksX1_ifHaste_1 9 rfl rfl)
theorem dX1_ifHaste_32 : decode cX1_ifHaste 32 = .ok (.goto 4, 3) := dk_167 0 4 (dk_at dksX1_ifHaste_1 10 rfl rfl)
theorem dX1_ifHaste_35 : decode cX1_ifHaste 35 = .ok (.iconst 0, 1) := dk_3 (dk_at dksX1_ifHaste_1 13 rfl rfl)
theorem dX1_ifHaste_36 : decode cX1_ifHaste 36 = .ok (.invokestatic 118, 3) := dk_184 0 118 (dk_at dksX1_ifHaste_1 14 rfl rfl)
theorem dX1_ifHaste_39 : decode cX1_ifHaste 39 = .ok (.aload_n 0, 1) := dk_42 (dk_at dksX1_ifHaste_1 17 rfl rfl)
theorem dX1_ifHaste_40 : decode cX1_ifHaste 40 = .ok (.getfield 24, 3) := dk_180 0 24 (dk_at dksX1_ifHaste_1 18 rfl rfl)
theorem dX1_ifHaste_43 : decode cX1_ifHaste 43 = .ok (.invokevirtual 187, 3) := dk_182 0 187 (dk_at dksX1_ifHaste_1 21 rfl rfl)
theorem dX1_ifHaste_46 : decode cX1_ifHaste 46 = .ok (.astore 5, 2) := dk_58 5 (dk_at dksX1_ifHaste_2 0 rfl rfl)
theorem dX1_ifHaste_48 : decode cX1_ifHaste 48 = .ok (.aload 5, 2) := dk_25 5 (dk_at dksX1_ifHaste_2 2 rfl rfl)
theorem dX1_ifHaste_50 : decode cX1_ifHaste 50 = .ok (.iload_n 1, 1) := dk_27 (dk_at dksX1_ifHaste_2 4 rfl rfl)
theorem dX1_ifHaste_51 : decode cX1_ifHaste 51 = .ok (.invokevirtual 271, 3) := dk_182 1 15 (dk_at dksX1_ifHaste_2 5 rfl rfl)
theorem dX1_ifHaste_54 : decode cX1_ifHaste 54 = .ok (.iload_n 2, 1) := dk_28 (dk_at dksX1_ifHaste_2 8 rfl rfl)
theorem dX1_ifHaste_55 : decode cX1_ifHaste 55 = .ok (.putfield 333, 3) := dk_181 1 77 (dk_at dksX1_ifHaste_2 9 rfl rfl)
theorem dX1_ifHaste_58 : decode cX1_ifHaste 58 = .ok (.aload 5, 2) := dk_25 5 (dk_at dksX1_ifHaste_2 12 rfl rfl)
theorem dX1_ifHaste_60 : decode cX1_ifHaste 60 = .ok (.iload_n 3, 1) := dk_29 (dk_at dksX1_ifHaste_2 14 rfl rfl)
theorem dX1_ifHaste_61 : decode cX1_ifHaste 61 = .ok (.invokevirtual 430, 3) := dk_182 1 174 (dk_at dksX1_ifHaste_2 15 rfl rfl)
theorem dX1_ifHaste_64 : decode cX1_ifHaste 64 = .ok (.invokevirtual 233, 3) := dk_182 0 233 (dk_at dksX1_ifHaste_2 18 rfl rfl)
theorem dX1_ifHaste_67 : decode cX1_ifHaste 67 = .ok (.aload_n 0, 1) := dk_42 (dk_at dksX1_ifHaste_2 21 rfl rfl)
theorem dX1_ifHaste_68 : decode cX1_ifHaste 68 = .ok (.iload_n 3, 1) := dk_29 (dk_at dksX1_ifHaste_2 22 rfl rfl)
theorem dX1_ifHaste_69 : decode cX1_ifHaste 69 = .ok (.invokevirtual 434, 3) := dk_182 1 178 (dk_at dksX1_ifHaste_3 0 rfl rfl)
theorem dX1_ifHaste_72 : decode cX1_ifHaste 72 = .ok (.invokevirtual 233, 3) := dk_182 0 233 (dk_at dksX1_ifHaste_3 3 rfl rfl)
theorem dX1_ifHaste_75 : decode cX1_ifHaste 75 = .ok (.isub, 1) := dk_100 (dk_at dksX1_ifHaste_3 6 rfl rfl)
theorem dX1_ifHaste_76 : decode cX1_ifHaste 76 = .ok (.ireturn, 1) := dk_172 (dk_at dksX1_ifHaste_3 7 rfl rfl)
def dkwX1_run_0 : List UInt8 := [27, 133, 10, 20, 1, 172, 184, 0, 114, 184, 0, 118, 42, 27, 186, 1, 204, 0, 0, 182, 1, 207, 172]
abbrev dktX1_run_0 : List UInt8 := dkwX1_run_0 ++ []
theorem dksX1_run_0 : cX1_run.data.toList.drop 0 = dktX1_run_0 := by decide +kernel
theorem dX1_run_0 : decode cX1_run 0 = .ok (.iload_n 1, 1) := dk_27 (dk_at dksX1_run_0 0 rfl rfl)
theorem dX1_run_1 : decode cX1_run 1 = .ok (.i2l, 1) := dk_133 (dk_at dksX1_run_0 1 rfl rfl)
theorem dX1_run_2 : decode cX1_run 2 = .ok (.lconst 1, 1) := dk_10 (dk_at dksX1_run_0 2 rfl rfl)
theorem dX1_run_3 : decode cX1_run 3 = .ok (.ldc2_w 428, 3) := dk_20 1 172 (dk_at dksX1_run_0 3 rfl rfl)
theorem dX1_run_6 : decode cX1_run 6 = .ok (.invokestatic 114, 3) := dk_184 0 114 (dk_at dksX1_run_0 6 rfl rfl)
theorem dX1_run_9 : decode cX1_run 9 = .ok (.invokestatic 118, 3) := dk_184 0 118 (dk_at dksX1_run_0 9 rfl rfl)
theorem dX1_run_12 : decode cX1_run 12 = .ok (.aload_n 0, 1) := dk_42 (dk_at dksX1_run_0 12 rfl rfl)
theorem dX1_run_13 : decode cX1_run 13 = .ok (.iload_n 1, 1) := dk_27 (dk_at dksX1_run_0 13 rfl rfl)
theorem dX1_run_14 : decode cX1_run 14 = .ok (.invokedynamic 460, 5) := by decide +kernel
theorem dX1_run_19 : decode cX1_run 19 = .ok (.invokevirtual 463, 3) := dk_182 1 207 (dk_at dksX1_run_0 19 rfl rfl)
theorem dX1_run_22 : decode cX1_run 22 = .ok (.ireturn, 1) := dk_172 (dk_at dksX1_run_0 22 rfl rfl)
def dkwX1_lambda_run_0_0 : List UInt8 := [43, 26, 182, 1, 251, 172]
abbrev dktX1_lambda_run_0_0 : List UInt8 := dkwX1_lambda_run_0_0 ++ []
theorem dksX1_lambda_run_0_0 : cX1_lambda_run_0.data.toList.drop 0 = dktX1_lambda_run_0_0 := by decide +kernel
theorem dX1_lambda_run_0_0 : decode cX1_lambda_run_0 0 = .ok (.aload_n 1, 1) := dk_43 (dk_at dksX1_lambda_run_0_0 0 rfl rfl)
theorem dX1_lambda_run_0_1 : decode cX1_lambda_run_0 1 = .ok (.iload_n 0, 1) := dk_26 (dk_at dksX1_lambda_run_0_0 1 rfl rfl)
theorem dX1_lambda_run_0_2 : decode cX1_lambda_run_0 2 = .ok (.invokevirtual 507, 3) := dk_182 1 251 (dk_at dksX1_lambda_run_0_0 2 rfl rfl)
theorem dX1_lambda_run_0_5 : decode cX1_lambda_run_0 5 = .ok (.ireturn, 1) := dk_172 (dk_at dksX1_lambda_run_0_0 5 rfl rfl)
def dkwX1_changes_1 : List UInt8 := [180, 1, 201, 116, 172]
abbrev dktX1_changes_1 : List UInt8 := dkwX1_changes_1 ++ []
def dkwX1_changes_0 : List UInt8 := [42, 180, 0, 24, 182, 0, 187, 77, 42, 44, 43, 44, 185, 1, 195, 2, 0, 182, 0, 193, 172, 78, 45]
abbrev dktX1_changes_0 : List UInt8 := dkwX1_changes_0 ++ dktX1_changes_1
theorem dksX1_changes_0 : cX1_changes.data.toList.drop 0 = dktX1_changes_0 := by decide +kernel
theorem dksX1_changes_1 : cX1_changes.data.toList.drop 23 = dktX1_changes_1 := dk_seg dksX1_changes_0 23 rfl rfl
theorem dX1_changes_0 : decode cX1_changes 0 = .ok (.aload_n 0, 1) := dk_42 (dk_at dksX1_changes_0 0 rfl rfl)
theorem dX1_changes_1 : decode cX1_changes 1 = .ok (.getfield 24, 3) := dk_180 0 24 (dk_at dksX1_changes_0 1 rfl rfl)
theorem dX1_changes_4 : decode cX1_changes 4 = .ok (.invokevirtual 187, 3) := dk_182 0 187 (dk_at dksX1_changes_0 4 rfl rfl)
theorem dX1_changes_7 : decode cX1_changes 7 = .ok (.astore_n 2, 1) := dk_77 (dk_at dksX1_changes_0 7 rfl rfl)
theorem dX1_changes_8 : decode cX1_changes 8 = .ok (.aload_n 0, 1) := dk_42 (dk_at dksX1_changes_0 8 rfl rfl)
theorem dX1_changes_9 : decode cX1_changes 9 = .ok (.aload_n 2, 1) := dk_44 (dk_at dksX1_changes_0 9 rfl rfl)
theorem dX1_changes_10 : decode cX1_changes 10 = .ok (.aload_n 1, 1) := dk_43 (dk_at dksX1_changes_0 10 rfl rfl)
theorem dX1_changes_11 : decode cX1_changes 11 = .ok (.aload_n 2, 1) := dk_44 (dk_at dksX1_changes_0 11 rfl rfl)
theorem dX1_changes_12 : decode cX1_changes 12 = .ok (.invokeinterface 451 2, 5) := by decide +kernel
theorem dX1_changes_17 : decode cX1_changes 17 = .ok (.invokevirtual 193, 3) := dk_182 0 193 (dk_at dksX1_changes_0 17 rfl rfl)
theorem dX1_changes_20 : decode cX1_changes 20 = .ok (.ireturn, 1) := dk_172 (dk_at dksX1_changes_0 20 rfl rfl)
theorem dX1_changes_21 : decode cX1_changes 21 = .ok (.astore_n 3, 1) := dk_78 (dk_at dksX1_changes_0 21 rfl rfl)
theorem dX1_changes_22 : decode cX1_changes 22 = .ok (.aload_n 3, 1) := dk_45 (dk_at dksX1_changes_0 22 rfl rfl)
theorem dX1_changes_23 : decode cX1_changes 23 = .ok (.getfield 457, 3) := dk_180 1 201 (dk_at dksX1_changes_1 0 rfl rfl)
theorem dX1_changes_26 : decode cX1_changes 26 = .ok (.ineg, 1) := dk_116 (dk_at dksX1_changes_1 3 rfl rfl)
theorem dX1_changes_27 : decode cX1_changes 27 = .ok (.ireturn, 1) := dk_172 (dk_at dksX1_changes_1 4 rfl rfl)
def dkwX1_setFence_0 : List UInt8 := [42, 27, 28, 182, 1, 27, 62, 42, 29, 186, 1, 211, 0, 0, 182, 1, 207, 172]
abbrev dktX1_setFence_0 : List UInt8 := dkwX1_setFence_0 ++ []
theorem dksX1_setFence_0 : cX1_setFence.data.toList.drop 0 = dktX1_setFence_0 := by decide +kernel
theorem dX1_setFence_0 : decode cX1_setFence 0 = .ok (.aload_n 0, 1) := dk_42 (dk_at dksX1_setFence_0 0 rfl rfl)
theorem dX1_setFence_1 : decode cX1_setFence 1 = .ok (.iload_n 1, 1) := dk_27 (dk_at dksX1_setFence_0 1 rfl rfl)
theorem dX1_setFence_2 : decode cX1_setFence 2 = .ok (.iload_n 2, 1) := dk_28 (dk_at dksX1_setFence_0 2 rfl rfl)
theorem dX1_setFence_3 : decode cX1_setFence 3 = .ok (.invokevirtual 283, 3) := dk_182 1 27 (dk_at dksX1_setFence_0 3 rfl rfl)
theorem dX1_setFence_6 : decode cX1_setFence 6 = .ok (.istore_n 3, 1) := dk_62 (dk_at dksX1_setFence_0 6 rfl rfl)
theorem dX1_setFence_7 : decode cX1_setFence 7 = .ok (.aload_n 0, 1) := dk_42 (dk_at dksX1_setFence_0 7 rfl rfl)
theorem dX1_setFence_8 : decode cX1_setFence 8 = .ok (.iload_n 3, 1) := dk_29 (dk_at dksX1_setFence_0 8 rfl rfl)
theorem dX1_setFence_9 : decode cX1_setFence 9 = .ok (.invokedynamic 467, 5) := by decide +kernel
theorem dX1_setFence_14 : decode cX1_setFence 14 = .ok (.invokevirtual 463, 3) := dk_182 1 207 (dk_at dksX1_setFence_0 14 rfl rfl)
theorem dX1_setFence_17 : decode cX1_setFence 17 = .ok (.ireturn, 1) := dk_172 (dk_at dksX1_setFence_0 17 rfl rfl)
def dkwX1_lambda_setFence_1_0 : List UInt8 := [43, 26, 182, 1, 182, 172]
abbrev dktX1_lambda_setFence_1_0 : List UInt8 := dkwX1_lambda_setFence_1_0 ++ []
theorem dksX1_lambda_setFence_1_0 : cX1_lambda_setFence_1.data.toList.drop 0 = dktX1_lambda_setFence_1_0 := by decide +kernel
theorem dX1_lambda_setFence_1_0 : decode cX1_lambda_setFence_1 0 = .ok (.aload_n 1, 1) := dk_43 (dk_at dksX1_lambda_setFence_1_0 0 rfl rfl)
theorem dX1_lambda_setFence_1_1 : decode cX1_lambda_setFence_1 1 = .ok (.iload_n 0, 1) := dk_26 (dk_at dksX1_lambda_setFence_1_0 1 rfl rfl)
theorem dX1_lambda_setFence_1_2 : decode cX1_lambda_setFence_1 2 = .ok (.invokevirtual 438, 3) := dk_182 1 182 (dk_at dksX1_lambda_setFence_1_0 2 rfl rfl)
theorem dX1_lambda_setFence_1_5 : decode cX1_lambda_setFence_1 5 = .ok (.ireturn, 1) := dk_172 (dk_at dksX1_lambda_setFence_1_0 5 rfl rfl)
def dkwX1_dropFence_0 : List UInt8 := [42, 27, 28, 182, 1, 27, 62, 42, 29, 186, 1, 212, 0, 0, 182, 1, 207, 172]
abbrev dktX1_dropFence_0 : List UInt8 := dkwX1_dropFence_0 ++ []
theorem dksX1_dropFence_0 : cX1_dropFence.data.toList.drop 0 = dktX1_dropFence_0 := by decide +kernel
theorem dX1_dropFence_0 : decode cX1_dropFence 0 = .ok (.aload_n 0, 1) := dk_42 (dk_at dksX1_dropFence_0 0 rfl rfl)
theorem dX1_dropFence_1 : decode cX1_dropFence 1 = .ok (.iload_n 1, 1) := dk_27 (dk_at dksX1_dropFence_0 1 rfl rfl)
theorem dX1_dropFence_2 : decode cX1_dropFence 2 = .ok (.iload_n 2, 1) := dk_28 (dk_at dksX1_dropFence_0 2 rfl rfl)
theorem dX1_dropFence_3 : decode cX1_dropFence 3 = .ok (.invokevirtual 283, 3) := dk_182 1 27 (dk_at dksX1_dropFence_0 3 rfl rfl)
theorem dX1_dropFence_6 : decode cX1_dropFence 6 = .ok (.istore_n 3, 1) := dk_62 (dk_at dksX1_dropFence_0 6 rfl rfl)
theorem dX1_dropFence_7 : decode cX1_dropFence 7 = .ok (.aload_n 0, 1) := dk_42 (dk_at dksX1_dropFence_0 7 rfl rfl)
theorem dX1_dropFence_8 : decode cX1_dropFence 8 = .ok (.iload_n 3, 1) := dk_29 (dk_at dksX1_dropFence_0 8 rfl rfl)
theorem dX1_dropFence_9 : decode cX1_dropFence 9 = .ok (.invokedynamic 468, 5) := by decide +kernel
theorem dX1_dropFence_14 : decode cX1_dropFence 14 = .ok (.invokevirtual 463, 3) := dk_182 1 207 (dk_at dksX1_dropFence_0 14 rfl rfl)
theorem dX1_dropFence_17 : decode cX1_dropFence 17 = .ok (.ireturn, 1) := dk_172 (dk_at dksX1_dropFence_0 17 rfl rfl)
def dkwX1_lambda_dropFence_2_0 : List UInt8 := [43, 26, 182, 1, 248, 172]
abbrev dktX1_lambda_dropFence_2_0 : List UInt8 := dkwX1_lambda_dropFence_2_0 ++ []
theorem dksX1_lambda_dropFence_2_0 : cX1_lambda_dropFence_2.data.toList.drop 0 = dktX1_lambda_dropFence_2_0 := by decide +kernel
theorem dX1_lambda_dropFence_2_0 : decode cX1_lambda_dropFence_2 0 = .ok (.aload_n 1, 1) := dk_43 (dk_at dksX1_lambda_dropFence_2_0 0 rfl rfl)
theorem dX1_lambda_dropFence_2_1 : decode cX1_lambda_dropFence_2 1 = .ok (.iload_n 0, 1) := dk_26 (dk_at dksX1_lambda_dropFence_2_0 1 rfl rfl)
theorem dX1_lambda_dropFence_2_2 : decode cX1_lambda_dropFence_2 2 = .ok (.invokevirtual 504, 3) := dk_182 1 248 (dk_at dksX1_lambda_dropFence_2_0 2 rfl rfl)
theorem dX1_lambda_dropFence_2_5 : decode cX1_lambda_dropFence_2 5 = .ok (.ireturn, 1) := dk_172 (dk_at dksX1_lambda_dropFence_2_0 5 rfl rfl)
def dkwX1_pave_0 : List UInt8 := [42, 27, 28, 182, 1, 27, 62, 42, 29, 186, 1, 213, 0, 0, 182, 1, 207, 172]
abbrev dktX1_pave_0 : List UInt8 := dkwX1_pave_0 ++ []
theorem dksX1_pave_0 : cX1_pave.data.toList.drop 0 = dktX1_pave_0 := by decide +kernel
theorem dX1_pave_0 : decode cX1_pave 0 = .ok (.aload_n 0, 1) := dk_42 (dk_at dksX1_pave_0 0 rfl rfl)
theorem dX1_pave_1 : decode cX1_pave 1 = .ok (.iload_n 1, 1) := dk_27 (dk_at dksX1_pave_0 1 rfl rfl)
theorem dX1_pave_2 : decode cX1_pave 2 = .ok (.iload_n 2, 1) := dk_28 (dk_at dksX1_pave_0 2 rfl rfl)
theorem dX1_pave_3 : decode cX1_pave 3 = .ok (.invokevirtual 283, 3) := dk_182 1 27 (dk_at dksX1_pave_0 3 rfl rfl)
theorem dX1_pave_6 : decode cX1_pave 6 = .ok (.istore_n 3, 1) := dk_62 (dk_at dksX1_pave_0 6 rfl rfl)
theorem dX1_pave_7 : decode cX1_pave 7 = .ok (.aload_n 0, 1) := dk_42 (dk_at dksX1_pave_0 7 rfl rfl)
theorem dX1_pave_8 : decode cX1_pave 8 = .ok (.iload_n 3, 1) := dk_29 (dk_at dksX1_pave_0 8 rfl rfl)
theorem dX1_pave_9 : decode cX1_pave 9 = .ok (.invokedynamic 469, 5) := by decide +kernel
theorem dX1_pave_14 : decode cX1_pave 14 = .ok (.invokevirtual 463, 3) := dk_182 1 207 (dk_at dksX1_pave_0 14 rfl rfl)
theorem dX1_pave_17 : decode cX1_pave 17 = .ok (.ireturn, 1) := dk_172 (dk_at dksX1_pave_0 17 rfl rfl)
def dkwX1_lambda_pave_3_0 : List UInt8 := [43, 26, 182, 1, 245, 172]
abbrev dktX1_lambda_pave_3_0 : List UInt8 := dkwX1_lambda_pave_3_0 ++ []
theorem dksX1_lambda_pave_3_0 : cX1_lambda_pave_3.data.toList.drop 0 = dktX1_lambda_pave_3_0 := by decide +kernel
theorem dX1_lambda_pave_3_0 : decode cX1_lambda_pave_3 0 = .ok (.aload_n 1, 1) := dk_43 (dk_at dksX1_lambda_pave_3_0 0 rfl rfl)
theorem dX1_lambda_pave_3_1 : decode cX1_lambda_pave_3 1 = .ok (.iload_n 0, 1) := dk_26 (dk_at dksX1_lambda_pave_3_0 1 rfl rfl)
theorem dX1_lambda_pave_3_2 : decode cX1_lambda_pave_3 2 = .ok (.invokevirtual 501, 3) := dk_182 1 245 (dk_at dksX1_lambda_pave_3_0 2 rfl rfl)
theorem dX1_lambda_pave_3_5 : decode cX1_lambda_pave_3 5 = .ok (.ireturn, 1) := dk_172 (dk_at dksX1_lambda_pave_3_0 5 rfl rfl)
def dkwX1_sow_0 : List UInt8 := [42, 27, 28, 182, 1, 27, 62, 42, 29, 186, 1, 214, 0, 0, 182, 1, 207, 172]
abbrev dktX1_sow_0 : List UInt8 := dkwX1_sow_0 ++ []
theorem dksX1_sow_0 : cX1_sow.data.toList.drop 0 = dktX1_sow_0 := by decide +kernel
theorem dX1_sow_0 : decode cX1_sow 0 = .ok (.aload_n 0, 1) := dk_42 (dk_at dksX1_sow_0 0 rfl rfl)
theorem dX1_sow_1 : decode cX1_sow 1 = .ok (.iload_n 1, 1) := dk_27 (dk_at dksX1_sow_0 1 rfl rfl)
theorem dX1_sow_2 : decode cX1_sow 2 = .ok (.iload_n 2, 1) := dk_28 (dk_at dksX1_sow_0 2 rfl rfl)
theorem dX1_sow_3 : decode cX1_sow 3 = .ok (.invokevirtual 283, 3) := dk_182 1 27 (dk_at dksX1_sow_0 3 rfl rfl)
theorem dX1_sow_6 : decode cX1_sow 6 = .ok (.istore_n 3, 1) := dk_62 (dk_at dksX1_sow_0 6 rfl rfl)
theorem dX1_sow_7 : decode cX1_sow 7 = .ok (.aload_n 0, 1) := dk_42 (dk_at dksX1_sow_0 7 rfl rfl)
theorem dX1_sow_8 : decode cX1_sow 8 = .ok (.iload_n 3, 1) := dk_29 (dk_at dksX1_sow_0 8 rfl rfl)
theorem dX1_sow_9 : decode cX1_sow 9 = .ok (.invokedynamic 470, 5) := by decide +kernel
theorem dX1_sow_14 : decode cX1_sow 14 = .ok (.invokevirtual 463, 3) := dk_182 1 207 (dk_at dksX1_sow_0 14 rfl rfl)
theorem dX1_sow_17 : decode cX1_sow 17 = .ok (.ireturn, 1) := dk_172 (dk_at dksX1_sow_0 17 rfl rfl)
def dkwX1_lambda_sow_4_0 : List UInt8 := [43, 26, 182, 1, 242, 172]
abbrev dktX1_lambda_sow_4_0 : List UInt8 := dkwX1_lambda_sow_4_0 ++ []
theorem dksX1_lambda_sow_4_0 : cX1_lambda_sow_4.data.toList.drop 0 = dktX1_lambda_sow_4_0 := by decide +kernel
theorem dX1_lambda_sow_4_0 : decode cX1_lambda_sow_4 0 = .ok (.aload_n 1, 1) := dk_43 (dk_at dksX1_lambda_sow_4_0 0 rfl rfl)
theorem dX1_lambda_sow_4_1 : decode cX1_lambda_sow_4 1 = .ok (.iload_n 0, 1) := dk_26 (dk_at dksX1_lambda_sow_4_0 1 rfl rfl)
theorem dX1_lambda_sow_4_2 : decode cX1_lambda_sow_4 2 = .ok (.invokevirtual 498, 3) := dk_182 1 242 (dk_at dksX1_lambda_sow_4_0 2 rfl rfl)
theorem dX1_lambda_sow_4_5 : decode cX1_lambda_sow_4 5 = .ok (.ireturn, 1) := dk_172 (dk_at dksX1_lambda_sow_4_0 5 rfl rfl)
def dkwX1_setHaste_1 : List UInt8 := [186, 1, 215, 0, 0, 182, 1, 207, 172]
abbrev dktX1_setHaste_1 : List UInt8 := dkwX1_setHaste_1 ++ []
def dkwX1_setHaste_0 : List UInt8 := [42, 27, 182, 1, 74, 78, 28, 133, 9, 20, 1, 193, 184, 0, 114, 184, 0, 118, 42, 27, 28]
abbrev dktX1_setHaste_0 : List UInt8 := dkwX1_setHaste_0 ++ dktX1_setHaste_1
theorem dksX1_setHaste_0 : cX1_setHaste.data.toList.drop 0 = dktX1_setHaste_0 := by decide +kernel
theorem dksX1_setHaste_1 : cX1_setHaste.data.toList.drop 21 = dktX1_setHaste_1 := dk_seg dksX1_setHaste_0 21 rfl rfl
theorem dX1_setHaste_0 : decode cX1_setHaste 0 = .ok (.aload_n 0, 1) := dk_42 (dk_at dksX1_setHaste_0 0 rfl rfl)
theorem dX1_setHaste_1 : decode cX1_setHaste 1 = .ok (.iload_n 1, 1) := dk_27 (dk_at dksX1_setHaste_0 1 rfl rfl)
theorem dX1_setHaste_2 : decode cX1_setHaste 2 = .ok (.invokevirtual 330, 3) := dk_182 1 74 (dk_at dksX1_setHaste_0 2 rfl rfl)
theorem dX1_setHaste_5 : decode cX1_setHaste 5 = .ok (.astore_n 3, 1) := dk_78 (dk_at dksX1_setHaste_0 5 rfl rfl)
theorem dX1_setHaste_6 : decode cX1_setHaste 6 = .ok (.iload_n 2, 1) := dk_28 (dk_at dksX1_setHaste_0 6 rfl rfl)
theorem dX1_setHaste_7 : decode cX1_setHaste 7 = .ok (.i2l, 1) := dk_133 (dk_at dksX1_setHaste_0 7 rfl rfl)
theorem dX1_setHaste_8 : decode cX1_setHaste 8 = .ok (.lconst 0, 1) := dk_9 (dk_at dksX1_setHaste_0 8 rfl rfl)
theorem dX1_setHaste_9 : decode cX1_setHaste 9 = .ok (.ldc2_w 449, 3) := dk_20 1 193 (dk_at dksX1_setHaste_0 9 rfl rfl)
theorem dX1_setHaste_12 : decode cX1_setHaste 12 = .ok (.invokestatic 114, 3) := dk_184 0 114 (dk_at dksX1_setHaste_0 12 rfl rfl)
theorem dX1_setHaste_15 : decode cX1_setHaste 15 = .ok (.invokestatic 118, 3) := dk_184 0 118 (dk_at dksX1_setHaste_0 15 rfl rfl)
theorem dX1_setHaste_18 : decode cX1_setHaste 18 = .ok (.aload_n 0, 1) := dk_42 (dk_at dksX1_setHaste_0 18 rfl rfl)
theorem dX1_setHaste_19 : decode cX1_setHaste 19 = .ok (.iload_n 1, 1) := dk_27 (dk_at dksX1_setHaste_0 19 rfl rfl)
theorem dX1_setHaste_20 : decode cX1_setHaste 20 = .ok (.iload_n 2, 1) := dk_28 (dk_at dksX1_setHaste_0 20 rfl rfl)
theorem dX1_setHaste_21 : decode cX1_setHaste 21 = .ok (.invokedynamic 471, 5) := by decide +kernel
theorem dX1_setHaste_26 : decode cX1_setHaste 26 = .ok (.invokevirtual 463, 3) := dk_182 1 207 (dk_at dksX1_setHaste_1 5 rfl rfl)
theorem dX1_setHaste_29 : decode cX1_setHaste 29 = .ok (.ireturn, 1) := dk_172 (dk_at dksX1_setHaste_1 8 rfl rfl)
def dkwX1_lambda_setHaste_5_0 : List UInt8 := [44, 26, 27, 182, 1, 239, 172]
abbrev dktX1_lambda_setHaste_5_0 : List UInt8 := dkwX1_lambda_setHaste_5_0 ++ []
theorem dksX1_lambda_setHaste_5_0 : cX1_lambda_setHaste_5.data.toList.drop 0 = dktX1_lambda_setHaste_5_0 := by decide +kernel
theorem dX1_lambda_setHaste_5_0 : decode cX1_lambda_setHaste_5 0 = .ok (.aload_n 2, 1) := dk_44 (dk_at dksX1_lambda_setHaste_5_0 0 rfl rfl)
theorem dX1_lambda_setHaste_5_1 : decode cX1_lambda_setHaste_5 1 = .ok (.iload_n 0, 1) := dk_26 (dk_at dksX1_lambda_setHaste_5_0 1 rfl rfl)
theorem dX1_lambda_setHaste_5_2 : decode cX1_lambda_setHaste_5 2 = .ok (.iload_n 1, 1) := dk_27 (dk_at dksX1_lambda_setHaste_5_0 2 rfl rfl)
theorem dX1_lambda_setHaste_5_3 : decode cX1_lambda_setHaste_5 3 = .ok (.invokevirtual 495, 3) := dk_182 1 239 (dk_at dksX1_lambda_setHaste_5_0 3 rfl rfl)
theorem dX1_lambda_setHaste_5_6 : decode cX1_lambda_setHaste_5 6 = .ok (.ireturn, 1) := dk_172 (dk_at dksX1_lambda_setHaste_5_0 6 rfl rfl)
def dkwX1_turnRound_0 : List UInt8 := [42, 27, 182, 1, 74, 77, 42, 27, 186, 1, 218, 0, 0, 182, 1, 207, 172]
abbrev dktX1_turnRound_0 : List UInt8 := dkwX1_turnRound_0 ++ []
theorem dksX1_turnRound_0 : cX1_turnRound.data.toList.drop 0 = dktX1_turnRound_0 := by decide +kernel
theorem dX1_turnRound_0 : decode cX1_turnRound 0 = .ok (.aload_n 0, 1) := dk_42 (dk_at dksX1_turnRound_0 0 rfl rfl)
theorem dX1_turnRound_1 : decode cX1_turnRound 1 = .ok (.iload_n 1, 1) := dk_27 (dk_at dksX1_turnRound_0 1 rfl rfl)
theorem dX1_turnRound_2 : decode cX1_turnRound 2 = .ok (.invokevirtual 330, 3) := dk_182 1 74 (dk_at dksX1_turnRound_0 2 rfl rfl)
theorem dX1_turnRound_5 : decode cX1_turnRound 5 = .ok (.astore_n 2, 1) := dk_77 (dk_at dksX1_turnRound_0 5 rfl rfl)
theorem dX1_turnRound_6 : decode cX1_turnRound 6 = .ok (.aload_n 0, 1) := dk_42 (dk_at dksX1_turnRound_0 6 rfl rfl)
theorem dX1_turnRound_7 : decode cX1_turnRound 7 = .ok (.iload_n 1, 1) := dk_27 (dk_at dksX1_turnRound_0 7 rfl rfl)
theorem dX1_turnRound_8 : decode cX1_turnRound 8 = .ok (.invokedynamic 474, 5) := by decide +kernel
theorem dX1_turnRound_13 : decode cX1_turnRound 13 = .ok (.invokevirtual 463, 3) := dk_182 1 207 (dk_at dksX1_turnRound_0 13 rfl rfl)
theorem dX1_turnRound_16 : decode cX1_turnRound 16 = .ok (.ireturn, 1) := dk_172 (dk_at dksX1_turnRound_0 16 rfl rfl)
def dkwX1_lambda_turnRound_6_0 : List UInt8 := [43, 26, 182, 1, 236, 172]
abbrev dktX1_lambda_turnRound_6_0 : List UInt8 := dkwX1_lambda_turnRound_6_0 ++ []
theorem dksX1_lambda_turnRound_6_0 : cX1_lambda_turnRound_6.data.toList.drop 0 = dktX1_lambda_turnRound_6_0 := by decide +kernel
theorem dX1_lambda_turnRound_6_0 : decode cX1_lambda_turnRound_6 0 = .ok (.aload_n 1, 1) := dk_43 (dk_at dksX1_lambda_turnRound_6_0 0 rfl rfl)
theorem dX1_lambda_turnRound_6_1 : decode cX1_lambda_turnRound_6 1 = .ok (.iload_n 0, 1) := dk_26 (dk_at dksX1_lambda_turnRound_6_0 1 rfl rfl)
theorem dX1_lambda_turnRound_6_2 : decode cX1_lambda_turnRound_6 2 = .ok (.invokevirtual 492, 3) := dk_182 1 236 (dk_at dksX1_lambda_turnRound_6_0 2 rfl rfl)
theorem dX1_lambda_turnRound_6_5 : decode cX1_lambda_turnRound_6 5 = .ok (.ireturn, 1) := dk_172 (dk_at dksX1_lambda_turnRound_6_0 5 rfl rfl)
def dkwX1_writeWay_5 : List UInt8 := [182, 1, 102, 87, 21, 5, 62, 167, 255, 162, 42, 180, 0, 46, 182, 1, 225, 172]
abbrev dktX1_writeWay_5 : List UInt8 := dkwX1_writeWay_5 ++ []
def dkwX1_writeWay_4 : List UInt8 := [167, 0, 24, 21, 5, 29, 42, 180, 0, 24, 180, 0, 206, 96, 160, 0, 8, 16, 100, 167, 0, 5, 16, 108]
abbrev dktX1_writeWay_4 : List UInt8 := dkwX1_writeWay_4 ++ dktX1_writeWay_5
def dkwX1_writeWay_3 : List UInt8 := [180, 0, 206, 100, 160, 0, 8, 16, 117, 167, 0, 37, 21, 5, 29, 4, 96, 160, 0, 8, 16, 114]
abbrev dktX1_writeWay_3 : List UInt8 := dkwX1_writeWay_3 ++ dktX1_writeWay_4
def dkwX1_writeWay_2 : List UInt8 := [192, 1, 10, 182, 1, 12, 54, 5, 29, 2, 159, 0, 64, 42, 180, 0, 46, 21, 5, 29, 42, 180, 0, 24]
abbrev dktX1_writeWay_2 : List UInt8 := dkwX1_writeWay_2 ++ dktX1_writeWay_3
def dkwX1_writeWay_1 : List UInt8 := [185, 0, 251, 1, 0, 58, 4, 25, 4, 185, 1, 1, 1, 0, 153, 0, 90, 25, 4, 185, 1, 7, 1, 0]
abbrev dktX1_writeWay_1 : List UInt8 := dkwX1_writeWay_1 ++ dktX1_writeWay_2
def dkwX1_writeWay_0 : List UInt8 := [42, 27, 182, 1, 74, 77, 42, 180, 0, 46, 3, 182, 1, 219, 2, 62, 42, 180, 0, 24, 44, 182, 0, 247]
abbrev dktX1_writeWay_0 : List UInt8 := dkwX1_writeWay_0 ++ dktX1_writeWay_1
theorem dksX1_writeWay_0 : cX1_writeWay.data.toList.drop 0 = dktX1_writeWay_0 := by decide +kernel
theorem dksX1_writeWay_1 : cX1_writeWay.data.toList.drop 24 = dktX1_writeWay_1 := dk_seg dksX1_writeWay_0 24 rfl rfl
theorem dksX1_writeWay_2 : cX1_writeWay.data.toList.drop 48 = dktX1_writeWay_2 := dk_seg dksX1_writeWay_1 24 rfl rfl
theorem dksX1_writeWay_3 : cX1_writeWay.data.toList.drop 72 = dktX1_writeWay_3 := dk_seg dksX1_writeWay_2 24 rfl rfl
theorem dksX1_writeWay_4 : cX1_writeWay.data.toList.drop 94 = dktX1_writeWay_4 := dk_seg dksX1_writeWay_3 22 rfl rfl
theorem dksX1_writeWay_5 : cX1_writeWay.data.toList.drop 118 = dktX1_writeWay_5 := dk_seg dksX1_writeWay_4 24 rfl rfl
theorem dX1_writeWay_0 : decode cX1_writeWay 0 = .ok (.aload_n 0, 1) := dk_42 (dk_at dksX1_writeWay_0 0 rfl rfl)
theorem dX1_writeWay_1 : decode cX1_writeWay 1 = .ok (.iload_n 1, 1) := dk_27 (dk_at dksX1_writeWay_0 1 rfl rfl)
theorem dX1_writeWay_2 : decode cX1_writeWay 2 = .ok (.invokevirtual 330, 3) := dk_182 1 74 (dk_at dksX1_writeWay_0 2 rfl rfl)
theorem dX1_writeWay_5 : decode cX1_writeWay 5 = .ok (.astore_n 2, 1) := dk_77 (dk_at dksX1_writeWay_0 5 rfl rfl)
theorem dX1_writeWay_6 : decode cX1_writeWay 6 = .ok (.aload_n 0, 1) := dk_42 (dk_at dksX1_writeWay_0 6 rfl rfl)
theorem dX1_writeWay_7 : decode cX1_writeWay 7 = .ok (.getfield 46, 3) := dk_180 0 46 (dk_at dksX1_writeWay_0 7 rfl rfl)
theorem dX1_writeWay_10 : decode cX1_writeWay 10 = .ok (.iconst 0, 1) := dk_3 (dk_at dksX1_writeWay_0 10 rfl rfl)
theorem dX1_writeWay_11 : decode cX1_writeWay 11 = .ok (.invokevirtual 475, 3) := dk_182 1 219 (dk_at dksX1_writeWay_0 11 rfl rfl)
theorem dX1_writeWay_14 : decode cX1_writeWay 14 = .ok (.iconst (-1), 1) := dk_2 (dk_at dksX1_writeWay_0 14 rfl rfl)
theorem dX1_writeWay_15 : decode cX1_writeWay 15 = .ok (.istore_n 3, 1) := dk_62 (dk_at dksX1_writeWay_0 15 rfl rfl)
theorem dX1_writeWay_16 : decode cX1_writeWay 16 = .ok (.aload_n 0, 1) := dk_42 (dk_at dksX1_writeWay_0 16 rfl rfl)
theorem dX1_writeWay_17 : decode cX1_writeWay 17 = .ok (.getfield 24, 3) := dk_180 0 24 (dk_at dksX1_writeWay_0 17 rfl rfl)
theorem dX1_writeWay_20 : decode cX1_writeWay 20 = .ok (.aload_n 2, 1) := dk_44 (dk_at dksX1_writeWay_0 20 rfl rfl)
theorem dX1_writeWay_21 : decode cX1_writeWay 21 = .ok (.invokevirtual 247, 3) := dk_182 0 247 (dk_at dksX1_writeWay_0 21 rfl rfl)
theorem dX1_writeWay_24 : decode cX1_writeWay 24 = .ok (.invokeinterface 251 1, 5) := by decide +kernel
theorem dX1_writeWay_29 : decode cX1_writeWay 29 = .ok (.astore 4, 2) := dk_58 4 (dk_at dksX1_writeWay_1 5 rfl rfl)
theorem dX1_writeWay_31 : decode cX1_writeWay 31 = .ok (.aload 4, 2) := dk_25 4 (dk_at dksX1_writeWay_1 7 rfl rfl)
theorem dX1_writeWay_33 : decode cX1_writeWay 33 = .ok (.invokeinterface 257 1, 5) := by decide +kernel
theorem dX1_writeWay_38 : decode cX1_writeWay 38 = .ok (.ifCond .eq 90, 3) := dk_153 0 90 (dk_at dksX1_writeWay_1 14 rfl rfl)
theorem dX1_writeWay_41 : decode cX1_writeWay 41 = .ok (.aload 4, 2) := dk_25 4 (dk_at dksX1_writeWay_1 17 rfl rfl)
theorem dX1_writeWay_43 : decode cX1_writeWay 43 = .ok (.invokeinterface 263 1, 5) := by decide +kernel
theorem dX1_writeWay_48 : decode cX1_writeWay 48 = .ok (.checkcast 266, 3) := dk_192 1 10 (dk_at dksX1_writeWay_2 0 rfl rfl)
theorem dX1_writeWay_51 : decode cX1_writeWay 51 = .ok (.invokevirtual 268, 3) := dk_182 1 12 (dk_at dksX1_writeWay_2 3 rfl rfl)
theorem dX1_writeWay_54 : decode cX1_writeWay 54 = .ok (.istore 5, 2) := dk_54 5 (dk_at dksX1_writeWay_2 6 rfl rfl)
theorem dX1_writeWay_56 : decode cX1_writeWay 56 = .ok (.iload_n 3, 1) := dk_29 (dk_at dksX1_writeWay_2 8 rfl rfl)
theorem dX1_writeWay_57 : decode cX1_writeWay 57 = .ok (.iconst (-1), 1) := dk_2 (dk_at dksX1_writeWay_2 9 rfl rfl)
theorem dX1_writeWay_58 : decode cX1_writeWay 58 = .ok (.if_icmp .eq 64, 3) := dk_159 0 64 (dk_at dksX1_writeWay_2 10 rfl rfl)
theorem dX1_writeWay_61 : decode cX1_writeWay 61 = .ok (.aload_n 0, 1) := dk_42 (dk_at dksX1_writeWay_2 13 rfl rfl)
theorem dX1_writeWay_62 : decode cX1_writeWay 62 = .ok (.getfield 46, 3) := dk_180 0 46 (dk_at dksX1_writeWay_2 14 rfl rfl)
theorem dX1_writeWay_65 : decode cX1_writeWay 65 = .ok (.iload 5, 2) := dk_21 5 (dk_at dksX1_writeWay_2 17 rfl rfl)
theorem dX1_writeWay_67 : decode cX1_writeWay 67 = .ok (.iload_n 3, 1) := dk_29 (dk_at dksX1_writeWay_2 19 rfl rfl)
theorem dX1_writeWay_68 : decode cX1_writeWay 68 = .ok (.aload_n 0, 1) := dk_42 (dk_at dksX1_writeWay_2 20 rfl rfl)
theorem dX1_writeWay_69 : decode cX1_writeWay 69 = .ok (.getfield 24, 3) := dk_180 0 24 (dk_at dksX1_writeWay_2 21 rfl rfl)
theorem dX1_writeWay_72 : decode cX1_writeWay 72 = .ok (.getfield 206, 3) := dk_180 0 206 (dk_at dksX1_writeWay_3 0 rfl rfl)
theorem dX1_writeWay_75 : decode cX1_writeWay 75 = .ok (.isub, 1) := dk_100 (dk_at dksX1_writeWay_3 3 rfl rfl)
theorem dX1_writeWay_76 : decode cX1_writeWay 76 = .ok (.if_icmp .ne 8, 3) := dk_160 0 8 (dk_at dksX1_writeWay_3 4 rfl rfl)
theorem dX1_writeWay_79 : decode cX1_writeWay 79 = .ok (.bipush 117, 2) := dk_16 117 (dk_at dksX1_writeWay_3 7 rfl rfl)
theorem dX1_writeWay_81 : decode cX1_writeWay 81 = .ok (.goto 37, 3) := dk_167 0 37 (dk_at dksX1_writeWay_3 9 rfl rfl)
theorem dX1_writeWay_84 : decode cX1_writeWay 84 = .ok (.iload 5, 2) := dk_21 5 (dk_at dksX1_writeWay_3 12 rfl rfl)
theorem dX1_writeWay_86 : decode cX1_writeWay 86 = .ok (.iload_n 3, 1) := dk_29 (dk_at dksX1_writeWay_3 14 rfl rfl)
theorem dX1_writeWay_87 : decode cX1_writeWay 87 = .ok (.iconst 1, 1) := dk_4 (dk_at dksX1_writeWay_3 15 rfl rfl)
theorem dX1_writeWay_88 : decode cX1_writeWay 88 = .ok (.iadd, 1) := dk_96 (dk_at dksX1_writeWay_3 16 rfl rfl)
theorem dX1_writeWay_89 : decode cX1_writeWay 89 = .ok (.if_icmp .ne 8, 3) := dk_160 0 8 (dk_at dksX1_writeWay_3 17 rfl rfl)
theorem dX1_writeWay_92 : decode cX1_writeWay 92 = .ok (.bipush 114, 2) := dk_16 114 (dk_at dksX1_writeWay_3 20 rfl rfl)
theorem dX1_writeWay_94 : decode cX1_writeWay 94 = .ok (.goto 24, 3) := dk_167 0 24 (dk_at dksX1_writeWay_4 0 rfl rfl)
theorem dX1_writeWay_97 : decode cX1_writeWay 97 = .ok (.iload 5, 2) := dk_21 5 (dk_at dksX1_writeWay_4 3 rfl rfl)
theorem dX1_writeWay_99 : decode cX1_writeWay 99 = .ok (.iload_n 3, 1) := dk_29 (dk_at dksX1_writeWay_4 5 rfl rfl)
theorem dX1_writeWay_100 : decode cX1_writeWay 100 = .ok (.aload_n 0, 1) := dk_42 (dk_at dksX1_writeWay_4 6 rfl rfl)
theorem dX1_writeWay_101 : decode cX1_writeWay 101 = .ok (.getfield 24, 3) := dk_180 0 24 (dk_at dksX1_writeWay_4 7 rfl rfl)
theorem dX1_writeWay_104 : decode cX1_writeWay 104 = .ok (.getfield 206, 3) := dk_180 0 206 (dk_at dksX1_writeWay_4 10 rfl rfl)
theorem dX1_writeWay_107 : decode cX1_writeWay 107 = .ok (.iadd, 1) := dk_96 (dk_at dksX1_writeWay_4 13 rfl rfl)
theorem dX1_writeWay_108 : decode cX1_writeWay 108 = .ok (.if_icmp .ne 8, 3) := dk_160 0 8 (dk_at dksX1_writeWay_4 14 rfl rfl)
theorem dX1_writeWay_111 : decode cX1_writeWay 111 = .ok (.bipush 100, 2) := dk_16 100 (dk_at dksX1_writeWay_4 17 rfl rfl)
theorem dX1_writeWay_113 : decode cX1_writeWay 113 = .ok (.goto 5, 3) := dk_167 0 5 (dk_at dksX1_writeWay_4 19 rfl rfl)
theorem dX1_writeWay_116 : decode cX1_writeWay 116 = .ok (.bipush 108, 2) := dk_16 108 (dk_at dksX1_writeWay_4 22 rfl rfl)
theorem dX1_writeWay_118 : decode cX1_writeWay 118 = .ok (.invokevirtual 358, 3) := dk_182 1 102 (dk_at dksX1_writeWay_5 0 rfl rfl)
theorem dX1_writeWay_121 : decode cX1_writeWay 121 = .ok (.pop, 1) := dk_87 (dk_at dksX1_writeWay_5 3 rfl rfl)
theorem dX1_writeWay_122 : decode cX1_writeWay 122 = .ok (.iload 5, 2) := dk_21 5 (dk_at dksX1_writeWay_5 4 rfl rfl)
theorem dX1_writeWay_124 : decode cX1_writeWay 124 = .ok (.istore_n 3, 1) := dk_62 (dk_at dksX1_writeWay_5 6 rfl rfl)
theorem dX1_writeWay_125 : decode cX1_writeWay 125 = .ok (.goto (-94), 3) := dk_167 255 162 (dk_at dksX1_writeWay_5 7 rfl rfl)
theorem dX1_writeWay_128 : decode cX1_writeWay 128 = .ok (.aload_n 0, 1) := dk_42 (dk_at dksX1_writeWay_5 10 rfl rfl)
theorem dX1_writeWay_129 : decode cX1_writeWay 129 = .ok (.getfield 46, 3) := dk_180 0 46 (dk_at dksX1_writeWay_5 11 rfl rfl)
theorem dX1_writeWay_132 : decode cX1_writeWay 132 = .ok (.invokevirtual 481, 3) := dk_182 1 225 (dk_at dksX1_writeWay_5 14 rfl rfl)
theorem dX1_writeWay_135 : decode cX1_writeWay 135 = .ok (.ireturn, 1) := dk_172 (dk_at dksX1_writeWay_5 17 rfl rfl)
def dkwX1_restore_1 : List UInt8 := [181, 0, 24, 42, 180, 0, 31, 182, 0, 171, 42, 180, 0, 24, 180, 0, 203, 172]
abbrev dktX1_restore_1 : List UInt8 := dkwX1_restore_1 ++ []
def dkwX1_restore_0 : List UInt8 := [42, 180, 1, 233, 199, 0, 11, 187, 0, 107, 89, 183, 0, 109, 191, 42, 42, 180, 1, 233, 182, 0, 187]
abbrev dktX1_restore_0 : List UInt8 := dkwX1_restore_0 ++ dktX1_restore_1
theorem dksX1_restore_0 : cX1_restore.data.toList.drop 0 = dktX1_restore_0 := by decide +kernel
theorem dksX1_restore_1 : cX1_restore.data.toList.drop 23 = dktX1_restore_1 := dk_seg dksX1_restore_0 23 rfl rfl
theorem dX1_restore_0 : decode cX1_restore 0 = .ok (.aload_n 0, 1) := dk_42 (dk_at dksX1_restore_0 0 rfl rfl)
theorem dX1_restore_1 : decode cX1_restore 1 = .ok (.getfield 489, 3) := dk_180 1 233 (dk_at dksX1_restore_0 1 rfl rfl)
theorem dX1_restore_4 : decode cX1_restore 4 = .ok (.ifnonnull 11, 3) := dk_199 0 11 (dk_at dksX1_restore_0 4 rfl rfl)
theorem dX1_restore_7 : decode cX1_restore 7 = .ok (.new 107, 3) := dk_187 0 107 (dk_at dksX1_restore_0 7 rfl rfl)
theorem dX1_restore_10 : decode cX1_restore 10 = .ok (.dup, 1) := dk_89 (dk_at dksX1_restore_0 10 rfl rfl)
theorem dX1_restore_11 : decode cX1_restore 11 = .ok (.invokespecial 109, 3) := dk_183 0 109 (dk_at dksX1_restore_0 11 rfl rfl)
theorem dX1_restore_14 : decode cX1_restore 14 = .ok (.athrow, 1) := dk_191 (dk_at dksX1_restore_0 14 rfl rfl)
theorem dX1_restore_15 : decode cX1_restore 15 = .ok (.aload_n 0, 1) := dk_42 (dk_at dksX1_restore_0 15 rfl rfl)
theorem dX1_restore_16 : decode cX1_restore 16 = .ok (.aload_n 0, 1) := dk_42 (dk_at dksX1_restore_0 16 rfl rfl)
theorem dX1_restore_17 : decode cX1_restore 17 = .ok (.getfield 489, 3) := dk_180 1 233 (dk_at dksX1_restore_0 17 rfl rfl)
theorem dX1_restore_20 : decode cX1_restore 20 = .ok (.invokevirtual 187, 3) := dk_182 0 187 (dk_at dksX1_restore_0 20 rfl rfl)
theorem dX1_restore_23 : decode cX1_restore 23 = .ok (.putfield 24, 3) := dk_181 0 24 (dk_at dksX1_restore_1 0 rfl rfl)
theorem dX1_restore_26 : decode cX1_restore 26 = .ok (.aload_n 0, 1) := dk_42 (dk_at dksX1_restore_1 3 rfl rfl)
theorem dX1_restore_27 : decode cX1_restore 27 = .ok (.getfield 31, 3) := dk_180 0 31 (dk_at dksX1_restore_1 4 rfl rfl)
theorem dX1_restore_30 : decode cX1_restore 30 = .ok (.invokevirtual 171, 3) := dk_182 0 171 (dk_at dksX1_restore_1 7 rfl rfl)
theorem dX1_restore_33 : decode cX1_restore 33 = .ok (.aload_n 0, 1) := dk_42 (dk_at dksX1_restore_1 10 rfl rfl)
theorem dX1_restore_34 : decode cX1_restore 34 = .ok (.getfield 24, 3) := dk_180 0 24 (dk_at dksX1_restore_1 11 rfl rfl)
theorem dX1_restore_37 : decode cX1_restore 37 = .ok (.getfield 203, 3) := dk_180 0 203 (dk_at dksX1_restore_1 14 rfl rfl)
theorem dX1_restore_40 : decode cX1_restore 40 = .ok (.ireturn, 1) := dk_172 (dk_at dksX1_restore_1 17 rfl rfl)
