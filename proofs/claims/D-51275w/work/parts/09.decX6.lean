set_option maxRecDepth 100000
def dkwX6_init_5 : List UInt8 := [182, 0, 52, 79, 132, 2, 1, 167, 255, 234, 42, 43, 182, 0, 46, 181, 0, 56, 42, 182, 0, 58, 61, 177]
abbrev dktX6_init_5 : List UInt8 := dkwX6_init_5 ++ []
def dkwX6_init_4 : List UInt8 := [181, 0, 41, 18, 44, 76, 3, 61, 28, 43, 182, 0, 46, 162, 0, 20, 42, 180, 0, 31, 28, 43, 28]
abbrev dktX6_init_4 : List UInt8 := dkwX6_init_4 ++ dktX6_init_5
def dkwX6_init_3 : List UInt8 := [188, 10, 181, 0, 31, 42, 2, 181, 0, 34, 42, 16, 90, 188, 10, 181, 0, 38, 42, 16, 120, 188, 10]
abbrev dktX6_init_3 : List UInt8 := dkwX6_init_3 ++ dktX6_init_4
def dkwX6_init_2 : List UInt8 := [181, 0, 22, 42, 16, 80, 188, 10, 181, 0, 25, 42, 16, 80, 188, 10, 181, 0, 28, 42, 17, 3, 132]
abbrev dktX6_init_2 : List UInt8 := dkwX6_init_2 ++ dktX6_init_3
def dkwX6_init_1 : List UInt8 := [17, 2, 41, 188, 10, 181, 0, 16, 42, 17, 2, 41, 188, 10, 181, 0, 19, 42, 17, 17, 72, 188, 10]
abbrev dktX6_init_1 : List UInt8 := dkwX6_init_1 ++ dktX6_init_2
def dkwX6_init_0 : List UInt8 := [42, 183, 0, 1, 42, 17, 2, 41, 188, 10, 181, 0, 7, 42, 17, 2, 41, 188, 10, 181, 0, 13, 42]
abbrev dktX6_init_0 : List UInt8 := dkwX6_init_0 ++ dktX6_init_1
theorem dksX6_init_0 : cX6_init.data.toList.drop 0 = dktX6_init_0 := by decide +kernel
theorem dksX6_init_1 : cX6_init.data.toList.drop 23 = dktX6_init_1 := dk_seg dksX6_init_0 23 rfl rfl
theorem dksX6_init_2 : cX6_init.data.toList.drop 46 = dktX6_init_2 := dk_seg dksX6_init_1 23 rfl rfl
theorem dksX6_init_3 : cX6_init.data.toList.drop 69 = dktX6_init_3 := dk_seg dksX6_init_2 23 rfl rfl
theorem dksX6_init_4 : cX6_init.data.toList.drop 92 = dktX6_init_4 := dk_seg dksX6_init_3 23 rfl rfl
theorem dksX6_init_5 : cX6_init.data.toList.drop 115 = dktX6_init_5 := dk_seg dksX6_init_4 23 rfl rfl
theorem dX6_init_0 : decode cX6_init 0 = .ok (.aload_n 0, 1) := dk_42 (dk_at dksX6_init_0 0 rfl rfl)
theorem dX6_init_1 : decode cX6_init 1 = .ok (.invokespecial 1, 3) := dk_183 0 1 (dk_at dksX6_init_0 1 rfl rfl)
theorem dX6_init_4 : decode cX6_init 4 = .ok (.aload_n 0, 1) := dk_42 (dk_at dksX6_init_0 4 rfl rfl)
theorem dX6_init_5 : decode cX6_init 5 = .ok (.sipush 553, 3) := dk_17 2 41 (dk_at dksX6_init_0 5 rfl rfl)
theorem dX6_init_8 : decode cX6_init 8 = .ok (.newarray .int, 2) := dk_188_10 (dk_at dksX6_init_0 8 rfl rfl)
theorem dX6_init_10 : decode cX6_init 10 = .ok (.putfield 7, 3) := dk_181 0 7 (dk_at dksX6_init_0 10 rfl rfl)
theorem dX6_init_13 : decode cX6_init 13 = .ok (.aload_n 0, 1) := dk_42 (dk_at dksX6_init_0 13 rfl rfl)
theorem dX6_init_14 : decode cX6_init 14 = .ok (.sipush 553, 3) := dk_17 2 41 (dk_at dksX6_init_0 14 rfl rfl)
theorem dX6_init_17 : decode cX6_init 17 = .ok (.newarray .int, 2) := dk_188_10 (dk_at dksX6_init_0 17 rfl rfl)
theorem dX6_init_19 : decode cX6_init 19 = .ok (.putfield 13, 3) := dk_181 0 13 (dk_at dksX6_init_0 19 rfl rfl)
theorem dX6_init_22 : decode cX6_init 22 = .ok (.aload_n 0, 1) := dk_42 (dk_at dksX6_init_0 22 rfl rfl)
theorem dX6_init_23 : decode cX6_init 23 = .ok (.sipush 553, 3) := dk_17 2 41 (dk_at dksX6_init_1 0 rfl rfl)
theorem dX6_init_26 : decode cX6_init 26 = .ok (.newarray .int, 2) := dk_188_10 (dk_at dksX6_init_1 3 rfl rfl)
theorem dX6_init_28 : decode cX6_init 28 = .ok (.putfield 16, 3) := dk_181 0 16 (dk_at dksX6_init_1 5 rfl rfl)
theorem dX6_init_31 : decode cX6_init 31 = .ok (.aload_n 0, 1) := dk_42 (dk_at dksX6_init_1 8 rfl rfl)
theorem dX6_init_32 : decode cX6_init 32 = .ok (.sipush 553, 3) := dk_17 2 41 (dk_at dksX6_init_1 9 rfl rfl)
theorem dX6_init_35 : decode cX6_init 35 = .ok (.newarray .int, 2) := dk_188_10 (dk_at dksX6_init_1 12 rfl rfl)
theorem dX6_init_37 : decode cX6_init 37 = .ok (.putfield 19, 3) := dk_181 0 19 (dk_at dksX6_init_1 14 rfl rfl)
theorem dX6_init_40 : decode cX6_init 40 = .ok (.aload_n 0, 1) := dk_42 (dk_at dksX6_init_1 17 rfl rfl)
theorem dX6_init_41 : decode cX6_init 41 = .ok (.sipush 4424, 3) := dk_17 17 72 (dk_at dksX6_init_1 18 rfl rfl)
theorem dX6_init_44 : decode cX6_init 44 = .ok (.newarray .int, 2) := dk_188_10 (dk_at dksX6_init_1 21 rfl rfl)
theorem dX6_init_46 : decode cX6_init 46 = .ok (.putfield 22, 3) := dk_181 0 22 (dk_at dksX6_init_2 0 rfl rfl)
theorem dX6_init_49 : decode cX6_init 49 = .ok (.aload_n 0, 1) := dk_42 (dk_at dksX6_init_2 3 rfl rfl)
theorem dX6_init_50 : decode cX6_init 50 = .ok (.bipush 80, 2) := dk_16 80 (dk_at dksX6_init_2 4 rfl rfl)
theorem dX6_init_52 : decode cX6_init 52 = .ok (.newarray .int, 2) := dk_188_10 (dk_at dksX6_init_2 6 rfl rfl)
theorem dX6_init_54 : decode cX6_init 54 = .ok (.putfield 25, 3) := dk_181 0 25 (dk_at dksX6_init_2 8 rfl rfl)
theorem dX6_init_57 : decode cX6_init 57 = .ok (.aload_n 0, 1) := dk_42 (dk_at dksX6_init_2 11 rfl rfl)
theorem dX6_init_58 : decode cX6_init 58 = .ok (.bipush 80, 2) := dk_16 80 (dk_at dksX6_init_2 12 rfl rfl)
theorem dX6_init_60 : decode cX6_init 60 = .ok (.newarray .int, 2) := dk_188_10 (dk_at dksX6_init_2 14 rfl rfl)
theorem dX6_init_62 : decode cX6_init 62 = .ok (.putfield 28, 3) := dk_181 0 28 (dk_at dksX6_init_2 16 rfl rfl)
theorem dX6_init_65 : decode cX6_init 65 = .ok (.aload_n 0, 1) := dk_42 (dk_at dksX6_init_2 19 rfl rfl)
theorem dX6_init_66 : decode cX6_init 66 = .ok (.sipush 900, 3) := dk_17 3 132 (dk_at dksX6_init_2 20 rfl rfl)
theorem dX6_init_69 : decode cX6_init 69 = .ok (.newarray .int, 2) := dk_188_10 (dk_at dksX6_init_3 0 rfl rfl)
theorem dX6_init_71 : decode cX6_init 71 = .ok (.putfield 31, 3) := dk_181 0 31 (dk_at dksX6_init_3 2 rfl rfl)
theorem dX6_init_74 : decode cX6_init 74 = .ok (.aload_n 0, 1) := dk_42 (dk_at dksX6_init_3 5 rfl rfl)
theorem dX6_init_75 : decode cX6_init 75 = .ok (.iconst (-1), 1) := dk_2 (dk_at dksX6_init_3 6 rfl rfl)
theorem dX6_init_76 : decode cX6_init 76 = .ok (.putfield 34, 3) := dk_181 0 34 (dk_at dksX6_init_3 7 rfl rfl)
theorem dX6_init_79 : decode cX6_init 79 = .ok (.aload_n 0, 1) := dk_42 (dk_at dksX6_init_3 10 rfl rfl)
theorem dX6_init_80 : decode cX6_init 80 = .ok (.bipush 90, 2) := dk_16 90 (dk_at dksX6_init_3 11 rfl rfl)
theorem dX6_init_82 : decode cX6_init 82 = .ok (.newarray .int, 2) := dk_188_10 (dk_at dksX6_init_3 13 rfl rfl)
theorem dX6_init_84 : decode cX6_init 84 = .ok (.putfield 38, 3) := dk_181 0 38 (dk_at dksX6_init_3 15 rfl rfl)
theorem dX6_init_87 : decode cX6_init 87 = .ok (.aload_n 0, 1) := dk_42 (dk_at dksX6_init_3 18 rfl rfl)
theorem dX6_init_88 : decode cX6_init 88 = .ok (.bipush 120, 2) := dk_16 120 (dk_at dksX6_init_3 19 rfl rfl)
theorem dX6_init_90 : decode cX6_init 90 = .ok (.newarray .int, 2) := dk_188_10 (dk_at dksX6_init_3 21 rfl rfl)
theorem dX6_init_92 : decode cX6_init 92 = .ok (.putfield 41, 3) := dk_181 0 41 (dk_at dksX6_init_4 0 rfl rfl)
theorem dX6_init_95 : decode cX6_init 95 = .ok (.ldc 44, 2) := dk_18 44 (dk_at dksX6_init_4 3 rfl rfl)
theorem dX6_init_97 : decode cX6_init 97 = .ok (.astore_n 1, 1) := dk_76 (dk_at dksX6_init_4 5 rfl rfl)
theorem dX6_init_98 : decode cX6_init 98 = .ok (.iconst 0, 1) := dk_3 (dk_at dksX6_init_4 6 rfl rfl)
theorem dX6_init_99 : decode cX6_init 99 = .ok (.istore_n 2, 1) := dk_61 (dk_at dksX6_init_4 7 rfl rfl)
theorem dX6_init_100 : decode cX6_init 100 = .ok (.iload_n 2, 1) := dk_28 (dk_at dksX6_init_4 8 rfl rfl)
theorem dX6_init_101 : decode cX6_init 101 = .ok (.aload_n 1, 1) := dk_43 (dk_at dksX6_init_4 9 rfl rfl)
theorem dX6_init_102 : decode cX6_init 102 = .ok (.invokevirtual 46, 3) := dk_182 0 46 (dk_at dksX6_init_4 10 rfl rfl)
theorem dX6_init_105 : decode cX6_init 105 = .ok (.if_icmp .ge 20, 3) := dk_162 0 20 (dk_at dksX6_init_4 13 rfl rfl)
theorem dX6_init_108 : decode cX6_init 108 = .ok (.aload_n 0, 1) := dk_42 (dk_at dksX6_init_4 16 rfl rfl)
theorem dX6_init_109 : decode cX6_init 109 = .ok (.getfield 31, 3) := dk_180 0 31 (dk_at dksX6_init_4 17 rfl rfl)
theorem dX6_init_112 : decode cX6_init 112 = .ok (.iload_n 2, 1) := dk_28 (dk_at dksX6_init_4 20 rfl rfl)
theorem dX6_init_113 : decode cX6_init 113 = .ok (.aload_n 1, 1) := dk_43 (dk_at dksX6_init_4 21 rfl rfl)
theorem dX6_init_114 : decode cX6_init 114 = .ok (.iload_n 2, 1) := dk_28 (dk_at dksX6_init_4 22 rfl rfl)
theorem dX6_init_115 : decode cX6_init 115 = .ok (.invokevirtual 52, 3) := dk_182 0 52 (dk_at dksX6_init_5 0 rfl rfl)
theorem dX6_init_118 : decode cX6_init 118 = .ok (.iastore, 1) := dk_79 (dk_at dksX6_init_5 3 rfl rfl)
theorem dX6_init_119 : decode cX6_init 119 = .ok (.iinc 2 1, 3) := dk_132 2 1 (dk_at dksX6_init_5 4 rfl rfl)
theorem dX6_init_122 : decode cX6_init 122 = .ok (.goto (-22), 3) := dk_167 255 234 (dk_at dksX6_init_5 7 rfl rfl)
theorem dX6_init_125 : decode cX6_init 125 = .ok (.aload_n 0, 1) := dk_42 (dk_at dksX6_init_5 10 rfl rfl)
theorem dX6_init_126 : decode cX6_init 126 = .ok (.aload_n 1, 1) := dk_43 (dk_at dksX6_init_5 11 rfl rfl)
theorem dX6_init_127 : decode cX6_init 127 = .ok (.invokevirtual 46, 3) := dk_182 0 46 (dk_at dksX6_init_5 12 rfl rfl)
theorem dX6_init_130 : decode cX6_init 130 = .ok (.putfield 56, 3) := dk_181 0 56 (dk_at dksX6_init_5 15 rfl rfl)
theorem dX6_init_133 : decode cX6_init 133 = .ok (.aload_n 0, 1) := dk_42 (dk_at dksX6_init_5 18 rfl rfl)
theorem dX6_init_134 : decode cX6_init 134 = .ok (.invokevirtual 58, 3) := dk_182 0 58 (dk_at dksX6_init_5 19 rfl rfl)
theorem dX6_init_137 : decode cX6_init 137 = .ok (.istore_n 2, 1) := dk_61 (dk_at dksX6_init_5 22 rfl rfl)
theorem dX6_init_138 : decode cX6_init 138 = .ok (.return_, 1) := dk_177 (dk_at dksX6_init_5 23 rfl rfl)
def dkwX6_readText_5 : List UInt8 := [172, 42, 180, 0, 7, 16, 8, 42, 182, 1, 62, 79, 42, 3, 181, 1, 65, 42, 180, 0, 7, 4, 46, 172]
abbrev dktX6_readText_5 : List UInt8 := dkwX6_readText_5 ++ []
def dkwX6_readText_4 : List UInt8 := [42, 182, 1, 59, 182, 0, 186, 154, 0, 18, 42, 180, 0, 16, 3, 42, 180, 0, 7, 3, 184, 0, 64, 3]
abbrev dktX6_readText_4 : List UInt8 := dkwX6_readText_4 ++ dktX6_readText_5
def dkwX6_readText_3 : List UInt8 := [159, 0, 23, 42, 16, 59, 182, 1, 52, 42, 180, 0, 208, 154, 255, 222, 42, 182, 1, 56, 167, 255, 215, 42]
abbrev dktX6_readText_3 : List UInt8 := dkwX6_readText_3 ++ dktX6_readText_4
def dkwX6_readText_2 : List UInt8 := [182, 1, 49, 42, 180, 0, 208, 154, 0, 40, 42, 180, 0, 7, 4, 46, 153, 0, 11, 42, 182, 0, 214, 2]
abbrev dktX6_readText_2 : List UInt8 := dkwX6_readText_2 ++ dktX6_readText_3
def dkwX6_readText_1 : List UInt8 := [180, 0, 7, 27, 3, 79, 132, 1, 1, 167, 255, 239, 42, 182, 1, 46, 42, 4, 181, 1, 14, 42]
abbrev dktX6_readText_1 : List UInt8 := dkwX6_readText_1 ++ dktX6_readText_2
def dkwX6_readText_0 : List UInt8 := [42, 180, 0, 7, 3, 42, 180, 0, 16, 3, 184, 0, 64, 3, 60, 27, 17, 2, 41, 162, 0, 16, 42]
abbrev dktX6_readText_0 : List UInt8 := dkwX6_readText_0 ++ dktX6_readText_1
theorem dksX6_readText_0 : cX6_readText.data.toList.drop 0 = dktX6_readText_0 := by decide +kernel
theorem dksX6_readText_1 : cX6_readText.data.toList.drop 23 = dktX6_readText_1 := dk_seg dksX6_readText_0 23 rfl rfl
theorem dksX6_readText_2 : cX6_readText.data.toList.drop 45 = dktX6_readText_2 := dk_seg dksX6_readText_1 22 rfl rfl
theorem dksX6_readText_3 : cX6_readText.data.toList.drop 69 = dktX6_readText_3 := dk_seg dksX6_readText_2 24 rfl rfl
theorem dksX6_readText_4 : cX6_readText.data.toList.drop 93 = dktX6_readText_4 := dk_seg dksX6_readText_3 24 rfl rfl
theorem dksX6_readText_5 : cX6_readText.data.toList.drop 117 = dktX6_readText_5 := dk_seg dksX6_readText_4 24 rfl rfl
theorem dX6_readText_0 : decode cX6_readText 0 = .ok (.aload_n 0, 1) := dk_42 (dk_at dksX6_readText_0 0 rfl rfl)
theorem dX6_readText_1 : decode cX6_readText 1 = .ok (.getfield 7, 3) := dk_180 0 7 (dk_at dksX6_readText_0 1 rfl rfl)
theorem dX6_readText_4 : decode cX6_readText 4 = .ok (.iconst 0, 1) := dk_3 (dk_at dksX6_readText_0 4 rfl rfl)
theorem dX6_readText_5 : decode cX6_readText 5 = .ok (.aload_n 0, 1) := dk_42 (dk_at dksX6_readText_0 5 rfl rfl)
theorem dX6_readText_6 : decode cX6_readText 6 = .ok (.getfield 16, 3) := dk_180 0 16 (dk_at dksX6_readText_0 6 rfl rfl)
theorem dX6_readText_9 : decode cX6_readText 9 = .ok (.iconst 0, 1) := dk_3 (dk_at dksX6_readText_0 9 rfl rfl)
theorem dX6_readText_10 : decode cX6_readText 10 = .ok (.invokestatic 64, 3) := dk_184 0 64 (dk_at dksX6_readText_0 10 rfl rfl)
theorem dX6_readText_13 : decode cX6_readText 13 = .ok (.iconst 0, 1) := dk_3 (dk_at dksX6_readText_0 13 rfl rfl)
theorem dX6_readText_14 : decode cX6_readText 14 = .ok (.istore_n 1, 1) := dk_60 (dk_at dksX6_readText_0 14 rfl rfl)
theorem dX6_readText_15 : decode cX6_readText 15 = .ok (.iload_n 1, 1) := dk_27 (dk_at dksX6_readText_0 15 rfl rfl)
theorem dX6_readText_16 : decode cX6_readText 16 = .ok (.sipush 553, 3) := dk_17 2 41 (dk_at dksX6_readText_0 16 rfl rfl)
theorem dX6_readText_19 : decode cX6_readText 19 = .ok (.if_icmp .ge 16, 3) := dk_162 0 16 (dk_at dksX6_readText_0 19 rfl rfl)
theorem dX6_readText_22 : decode cX6_readText 22 = .ok (.aload_n 0, 1) := dk_42 (dk_at dksX6_readText_0 22 rfl rfl)
theorem dX6_readText_23 : decode cX6_readText 23 = .ok (.getfield 7, 3) := dk_180 0 7 (dk_at dksX6_readText_1 0 rfl rfl)
theorem dX6_readText_26 : decode cX6_readText 26 = .ok (.iload_n 1, 1) := dk_27 (dk_at dksX6_readText_1 3 rfl rfl)
theorem dX6_readText_27 : decode cX6_readText 27 = .ok (.iconst 0, 1) := dk_3 (dk_at dksX6_readText_1 4 rfl rfl)
theorem dX6_readText_28 : decode cX6_readText 28 = .ok (.iastore, 1) := dk_79 (dk_at dksX6_readText_1 5 rfl rfl)
theorem dX6_readText_29 : decode cX6_readText 29 = .ok (.iinc 1 1, 3) := dk_132 1 1 (dk_at dksX6_readText_1 6 rfl rfl)
theorem dX6_readText_32 : decode cX6_readText 32 = .ok (.goto (-17), 3) := dk_167 255 239 (dk_at dksX6_readText_1 9 rfl rfl)
theorem dX6_readText_35 : decode cX6_readText 35 = .ok (.aload_n 0, 1) := dk_42 (dk_at dksX6_readText_1 12 rfl rfl)
theorem dX6_readText_36 : decode cX6_readText 36 = .ok (.invokevirtual 302, 3) := dk_182 1 46 (dk_at dksX6_readText_1 13 rfl rfl)
theorem dX6_readText_39 : decode cX6_readText 39 = .ok (.aload_n 0, 1) := dk_42 (dk_at dksX6_readText_1 16 rfl rfl)
theorem dX6_readText_40 : decode cX6_readText 40 = .ok (.iconst 1, 1) := dk_4 (dk_at dksX6_readText_1 17 rfl rfl)
theorem dX6_readText_41 : decode cX6_readText 41 = .ok (.putfield 270, 3) := dk_181 1 14 (dk_at dksX6_readText_1 18 rfl rfl)
theorem dX6_readText_44 : decode cX6_readText 44 = .ok (.aload_n 0, 1) := dk_42 (dk_at dksX6_readText_1 21 rfl rfl)
theorem dX6_readText_45 : decode cX6_readText 45 = .ok (.invokevirtual 305, 3) := dk_182 1 49 (dk_at dksX6_readText_2 0 rfl rfl)
theorem dX6_readText_48 : decode cX6_readText 48 = .ok (.aload_n 0, 1) := dk_42 (dk_at dksX6_readText_2 3 rfl rfl)
theorem dX6_readText_49 : decode cX6_readText 49 = .ok (.getfield 208, 3) := dk_180 0 208 (dk_at dksX6_readText_2 4 rfl rfl)
theorem dX6_readText_52 : decode cX6_readText 52 = .ok (.ifCond .ne 40, 3) := dk_154 0 40 (dk_at dksX6_readText_2 7 rfl rfl)
theorem dX6_readText_55 : decode cX6_readText 55 = .ok (.aload_n 0, 1) := dk_42 (dk_at dksX6_readText_2 10 rfl rfl)
theorem dX6_readText_56 : decode cX6_readText 56 = .ok (.getfield 7, 3) := dk_180 0 7 (dk_at dksX6_readText_2 11 rfl rfl)
theorem dX6_readText_59 : decode cX6_readText 59 = .ok (.iconst 1, 1) := dk_4 (dk_at dksX6_readText_2 14 rfl rfl)
theorem dX6_readText_60 : decode cX6_readText 60 = .ok (.iaload, 1) := dk_46 (dk_at dksX6_readText_2 15 rfl rfl)
theorem dX6_readText_61 : decode cX6_readText 61 = .ok (.ifCond .eq 11, 3) := dk_153 0 11 (dk_at dksX6_readText_2 16 rfl rfl)
theorem dX6_readText_64 : decode cX6_readText 64 = .ok (.aload_n 0, 1) := dk_42 (dk_at dksX6_readText_2 19 rfl rfl)
theorem dX6_readText_65 : decode cX6_readText 65 = .ok (.invokevirtual 214, 3) := dk_182 0 214 (dk_at dksX6_readText_2 20 rfl rfl)
theorem dX6_readText_68 : decode cX6_readText 68 = .ok (.iconst (-1), 1) := dk_2 (dk_at dksX6_readText_2 23 rfl rfl)
theorem dX6_readText_69 : decode cX6_readText 69 = .ok (.if_icmp .eq 23, 3) := dk_159 0 23 (dk_at dksX6_readText_3 0 rfl rfl)
theorem dX6_readText_72 : decode cX6_readText 72 = .ok (.aload_n 0, 1) := dk_42 (dk_at dksX6_readText_3 3 rfl rfl)
theorem dX6_readText_73 : decode cX6_readText 73 = .ok (.bipush 59, 2) := dk_16 59 (dk_at dksX6_readText_3 4 rfl rfl)
theorem dX6_readText_75 : decode cX6_readText 75 = .ok (.invokevirtual 308, 3) := dk_182 1 52 (dk_at dksX6_readText_3 6 rfl rfl)
theorem dX6_readText_78 : decode cX6_readText 78 = .ok (.aload_n 0, 1) := dk_42 (dk_at dksX6_readText_3 9 rfl rfl)
theorem dX6_readText_79 : decode cX6_readText 79 = .ok (.getfield 208, 3) := dk_180 0 208 (dk_at dksX6_readText_3 10 rfl rfl)
theorem dX6_readText_82 : decode cX6_readText 82 = .ok (.ifCond .ne (-34), 3) := dk_154 255 222 (dk_at dksX6_readText_3 13 rfl rfl)
theorem dX6_readText_85 : decode cX6_readText 85 = .ok (.aload_n 0, 1) := dk_42 (dk_at dksX6_readText_3 16 rfl rfl)
theorem dX6_readText_86 : decode cX6_readText 86 = .ok (.invokevirtual 312, 3) := dk_182 1 56 (dk_at dksX6_readText_3 17 rfl rfl)
theorem dX6_readText_89 : decode cX6_readText 89 = .ok (.goto (-41), 3) := dk_167 255 215 (dk_at dksX6_readText_3 20 rfl rfl)
theorem dX6_readText_92 : decode cX6_readText 92 = .ok (.aload_n 0, 1) := dk_42 (dk_at dksX6_readText_3 23 rfl rfl)
theorem dX6_readText_93 : decode cX6_readText 93 = .ok (.aload_n 0, 1) := dk_42 (dk_at dksX6_readText_4 0 rfl rfl)
theorem dX6_readText_94 : decode cX6_readText 94 = .ok (.invokevirtual 315, 3) := dk_182 1 59 (dk_at dksX6_readText_4 1 rfl rfl)
theorem dX6_readText_97 : decode cX6_readText 97 = .ok (.invokevirtual 186, 3) := dk_182 0 186 (dk_at dksX6_readText_4 4 rfl rfl)
theorem dX6_readText_100 : decode cX6_readText 100 = .ok (.ifCond .ne 18, 3) := dk_154 0 18 (dk_at dksX6_readText_4 7 rfl rfl)
theorem dX6_readText_103 : decode cX6_readText 103 = .ok (.aload_n 0, 1) := dk_42 (dk_at dksX6_readText_4 10 rfl rfl)
theorem dX6_readText_104 : decode cX6_readText 104 = .ok (.getfield 16, 3) := dk_180 0 16 (dk_at dksX6_readText_4 11 rfl rfl)
theorem dX6_readText_107 : decode cX6_readText 107 = .ok (.iconst 0, 1) := dk_3 (dk_at dksX6_readText_4 14 rfl rfl)
theorem dX6_readText_108 : decode cX6_readText 108 = .ok (.aload_n 0, 1) := dk_42 (dk_at dksX6_readText_4 15 rfl rfl)
theorem dX6_readText_109 : decode cX6_readText 109 = .ok (.getfield 7, 3) := dk_180 0 7 (dk_at dksX6_readText_4 16 rfl rfl)
theorem dX6_readText_112 : decode cX6_readText 112 = .ok (.iconst 0, 1) := dk_3 (dk_at dksX6_readText_4 19 rfl rfl)
theorem dX6_readText_113 : decode cX6_readText 113 = .ok (.invokestatic 64, 3) := dk_184 0 64 (dk_at dksX6_readText_4 20 rfl rfl)
theorem dX6_readText_116 : decode cX6_readText 116 = .ok (.iconst 0, 1) := dk_3 (dk_at dksX6_readText_4 23 rfl rfl)
theorem dX6_readText_117 : decode cX6_readText 117 = .ok (.ireturn, 1) := dk_172 (dk_at dksX6_readText_5 0 rfl rfl)
theorem dX6_readText_118 : decode cX6_readText 118 = .ok (.aload_n 0, 1) := dk_42 (dk_at dksX6_readText_5 1 rfl rfl)
theorem dX6_readText_119 : decode cX6_readText 119 = .ok (.getfield 7, 3) := dk_180 0 7 (dk_at dksX6_readText_5 2 rfl rfl)
theorem dX6_readText_122 : decode cX6_readText 122 = .ok (.bipush 8, 2) := dk_16 8 (dk_at dksX6_readText_5 5 rfl rfl)
theorem dX6_readText_124 : decode cX6_readText 124 = .ok (.aload_n 0, 1) := dk_42 (dk_at dksX6_readText_5 7 rfl rfl)
theorem dX6_readText_125 : decode cX6_readText 125 = .ok (.invokevirtual 318, 3) := dk_182 1 62 (dk_at dksX6_readText_5 8 rfl rfl)
theorem dX6_readText_128 : decode cX6_readText 128 = .ok (.iastore, 1) := dk_79 (dk_at dksX6_readText_5 11 rfl rfl)
theorem dX6_readText_129 : decode cX6_readText 129 = .ok (.aload_n 0, 1) := dk_42 (dk_at dksX6_readText_5 12 rfl rfl)
theorem dX6_readText_130 : decode cX6_readText 130 = .ok (.iconst 0, 1) := dk_3 (dk_at dksX6_readText_5 13 rfl rfl)
theorem dX6_readText_131 : decode cX6_readText 131 = .ok (.putfield 321, 3) := dk_181 1 65 (dk_at dksX6_readText_5 14 rfl rfl)
theorem dX6_readText_134 : decode cX6_readText 134 = .ok (.aload_n 0, 1) := dk_42 (dk_at dksX6_readText_5 17 rfl rfl)
theorem dX6_readText_135 : decode cX6_readText 135 = .ok (.getfield 7, 3) := dk_180 0 7 (dk_at dksX6_readText_5 18 rfl rfl)
theorem dX6_readText_138 : decode cX6_readText 138 = .ok (.iconst 1, 1) := dk_4 (dk_at dksX6_readText_5 21 rfl rfl)
theorem dX6_readText_139 : decode cX6_readText 139 = .ok (.iaload, 1) := dk_46 (dk_at dksX6_readText_5 22 rfl rfl)
theorem dX6_readText_140 : decode cX6_readText 140 = .ok (.ireturn, 1) := dk_172 (dk_at dksX6_readText_5 23 rfl rfl)
def dkwX6_copies_1 : List UInt8 := [132, 4, 1, 167, 255, 233, 177]
abbrev dktX6_copies_1 : List UInt8 := dkwX6_copies_1 ++ []
def dkwX6_copies_0 : List UInt8 := [3, 54, 4, 21, 4, 17, 2, 41, 162, 0, 21, 44, 29, 21, 4, 96, 42, 27, 21, 4, 96, 46, 79]
abbrev dktX6_copies_0 : List UInt8 := dkwX6_copies_0 ++ dktX6_copies_1
theorem dksX6_copies_0 : cX6_copies.data.toList.drop 0 = dktX6_copies_0 := by decide +kernel
theorem dksX6_copies_1 : cX6_copies.data.toList.drop 23 = dktX6_copies_1 := dk_seg dksX6_copies_0 23 rfl rfl
theorem dX6_copies_0 : decode cX6_copies 0 = .ok (.iconst 0, 1) := dk_3 (dk_at dksX6_copies_0 0 rfl rfl)
theorem dX6_copies_1 : decode cX6_copies 1 = .ok (.istore 4, 2) := dk_54 4 (dk_at dksX6_copies_0 1 rfl rfl)
theorem dX6_copies_3 : decode cX6_copies 3 = .ok (.iload 4, 2) := dk_21 4 (dk_at dksX6_copies_0 3 rfl rfl)
theorem dX6_copies_5 : decode cX6_copies 5 = .ok (.sipush 553, 3) := dk_17 2 41 (dk_at dksX6_copies_0 5 rfl rfl)
theorem dX6_copies_8 : decode cX6_copies 8 = .ok (.if_icmp .ge 21, 3) := dk_162 0 21 (dk_at dksX6_copies_0 8 rfl rfl)
theorem dX6_copies_11 : decode cX6_copies 11 = .ok (.aload_n 2, 1) := dk_44 (dk_at dksX6_copies_0 11 rfl rfl)
theorem dX6_copies_12 : decode cX6_copies 12 = .ok (.iload_n 3, 1) := dk_29 (dk_at dksX6_copies_0 12 rfl rfl)
theorem dX6_copies_13 : decode cX6_copies 13 = .ok (.iload 4, 2) := dk_21 4 (dk_at dksX6_copies_0 13 rfl rfl)
theorem dX6_copies_15 : decode cX6_copies 15 = .ok (.iadd, 1) := dk_96 (dk_at dksX6_copies_0 15 rfl rfl)
theorem dX6_copies_16 : decode cX6_copies 16 = .ok (.aload_n 0, 1) := dk_42 (dk_at dksX6_copies_0 16 rfl rfl)
theorem dX6_copies_17 : decode cX6_copies 17 = .ok (.iload_n 1, 1) := dk_27 (dk_at dksX6_copies_0 17 rfl rfl)
theorem dX6_copies_18 : decode cX6_copies 18 = .ok (.iload 4, 2) := dk_21 4 (dk_at dksX6_copies_0 18 rfl rfl)
theorem dX6_copies_20 : decode cX6_copies 20 = .ok (.iadd, 1) := dk_96 (dk_at dksX6_copies_0 20 rfl rfl)
theorem dX6_copies_21 : decode cX6_copies 21 = .ok (.iaload, 1) := dk_46 (dk_at dksX6_copies_0 21 rfl rfl)
theorem dX6_copies_22 : decode cX6_copies 22 = .ok (.iastore, 1) := dk_79 (dk_at dksX6_copies_0 22 rfl rfl)
theorem dX6_copies_23 : decode cX6_copies 23 = .ok (.iinc 4 1, 3) := dk_132 4 1 (dk_at dksX6_copies_1 0 rfl rfl)
theorem dX6_copies_26 : decode cX6_copies 26 = .ok (.goto (-23), 3) := dk_167 255 233 (dk_at dksX6_copies_1 3 rfl rfl)
theorem dX6_copies_29 : decode cX6_copies 29 = .ok (.return_, 1) := dk_177 (dk_at dksX6_copies_1 6 rfl rfl)
def dkwX6_startsText_0 : List UInt8 := [42, 3, 181, 0, 193, 42, 3, 181, 0, 198, 42, 3, 181, 0, 208, 42, 2, 181, 0, 211, 177]
abbrev dktX6_startsText_0 : List UInt8 := dkwX6_startsText_0 ++ []
theorem dksX6_startsText_0 : cX6_startsText.data.toList.drop 0 = dktX6_startsText_0 := by decide +kernel
theorem dX6_startsText_0 : decode cX6_startsText 0 = .ok (.aload_n 0, 1) := dk_42 (dk_at dksX6_startsText_0 0 rfl rfl)
theorem dX6_startsText_1 : decode cX6_startsText 1 = .ok (.iconst 0, 1) := dk_3 (dk_at dksX6_startsText_0 1 rfl rfl)
theorem dX6_startsText_2 : decode cX6_startsText 2 = .ok (.putfield 193, 3) := dk_181 0 193 (dk_at dksX6_startsText_0 2 rfl rfl)
theorem dX6_startsText_5 : decode cX6_startsText 5 = .ok (.aload_n 0, 1) := dk_42 (dk_at dksX6_startsText_0 5 rfl rfl)
theorem dX6_startsText_6 : decode cX6_startsText 6 = .ok (.iconst 0, 1) := dk_3 (dk_at dksX6_startsText_0 6 rfl rfl)
theorem dX6_startsText_7 : decode cX6_startsText 7 = .ok (.putfield 198, 3) := dk_181 0 198 (dk_at dksX6_startsText_0 7 rfl rfl)
theorem dX6_startsText_10 : decode cX6_startsText 10 = .ok (.aload_n 0, 1) := dk_42 (dk_at dksX6_startsText_0 10 rfl rfl)
theorem dX6_startsText_11 : decode cX6_startsText 11 = .ok (.iconst 0, 1) := dk_3 (dk_at dksX6_startsText_0 11 rfl rfl)
theorem dX6_startsText_12 : decode cX6_startsText 12 = .ok (.putfield 208, 3) := dk_181 0 208 (dk_at dksX6_startsText_0 12 rfl rfl)
theorem dX6_startsText_15 : decode cX6_startsText 15 = .ok (.aload_n 0, 1) := dk_42 (dk_at dksX6_startsText_0 15 rfl rfl)
theorem dX6_startsText_16 : decode cX6_startsText 16 = .ok (.iconst (-1), 1) := dk_2 (dk_at dksX6_startsText_0 16 rfl rfl)
theorem dX6_startsText_17 : decode cX6_startsText 17 = .ok (.putfield 211, 3) := dk_181 0 211 (dk_at dksX6_startsText_0 17 rfl rfl)
theorem dX6_startsText_20 : decode cX6_startsText 20 = .ok (.return_, 1) := dk_177 (dk_at dksX6_startsText_0 20 rfl rfl)
def dkwX6_lawnLine_4 : List UInt8 := [132, 1, 1, 167, 255, 237, 177]
abbrev dktX6_lawnLine_4 : List UInt8 := dkwX6_lawnLine_4 ++ []
def dkwX6_lawnLine_3 : List UInt8 := [16, 9, 182, 0, 254, 79, 3, 60, 27, 42, 182, 0, 117, 162, 0, 17, 42, 27, 4, 16, 9, 182, 0, 139]
abbrev dktX6_lawnLine_3 : List UInt8 := dkwX6_lawnLine_3 ++ dktX6_lawnLine_4
def dkwX6_lawnLine_2 : List UInt8 := [79, 42, 180, 0, 7, 16, 6, 42, 4, 16, 9, 182, 0, 254, 79, 42, 180, 0, 7, 16, 7, 42, 3]
abbrev dktX6_lawnLine_2 : List UInt8 := dkwX6_lawnLine_2 ++ dktX6_lawnLine_3
def dkwX6_lawnLine_1 : List UInt8 := [180, 0, 7, 7, 42, 6, 16, 10, 182, 0, 254, 79, 42, 180, 0, 7, 8, 42, 6, 16, 8, 182, 0, 254]
abbrev dktX6_lawnLine_1 : List UInt8 := dkwX6_lawnLine_1 ++ dktX6_lawnLine_2
def dkwX6_lawnLine_0 : List UInt8 := [42, 42, 18, 248, 182, 0, 250, 4, 182, 0, 217, 42, 180, 0, 208, 153, 0, 4, 177, 42, 182, 0, 242, 42]
abbrev dktX6_lawnLine_0 : List UInt8 := dkwX6_lawnLine_0 ++ dktX6_lawnLine_1
theorem dksX6_lawnLine_0 : cX6_lawnLine.data.toList.drop 0 = dktX6_lawnLine_0 := by decide +kernel
theorem dksX6_lawnLine_1 : cX6_lawnLine.data.toList.drop 24 = dktX6_lawnLine_1 := dk_seg dksX6_lawnLine_0 24 rfl rfl
theorem dksX6_lawnLine_2 : cX6_lawnLine.data.toList.drop 48 = dktX6_lawnLine_2 := dk_seg dksX6_lawnLine_1 24 rfl rfl
theorem dksX6_lawnLine_3 : cX6_lawnLine.data.toList.drop 71 = dktX6_lawnLine_3 := dk_seg dksX6_lawnLine_2 23 rfl rfl
theorem dksX6_lawnLine_4 : cX6_lawnLine.data.toList.drop 95 = dktX6_lawnLine_4 := dk_seg dksX6_lawnLine_3 24 rfl rfl
theorem dX6_lawnLine_0 : decode cX6_lawnLine 0 = .ok (.aload_n 0, 1) := dk_42 (dk_at dksX6_lawnLine_0 0 rfl rfl)
theorem dX6_lawnLine_1 : decode cX6_lawnLine 1 = .ok (.aload_n 0, 1) := dk_42 (dk_at dksX6_lawnLine_0 1 rfl rfl)
theorem dX6_lawnLine_2 : decode cX6_lawnLine 2 = .ok (.ldc 248, 2) := dk_18 248 (dk_at dksX6_lawnLine_0 2 rfl rfl)
theorem dX6_lawnLine_4 : decode cX6_lawnLine 4 = .ok (.invokevirtual 250, 3) := dk_182 0 250 (dk_at dksX6_lawnLine_0 4 rfl rfl)
theorem dX6_lawnLine_7 : decode cX6_lawnLine 7 = .ok (.iconst 1, 1) := dk_4 (dk_at dksX6_lawnLine_0 7 rfl rfl)
theorem dX6_lawnLine_8 : decode cX6_lawnLine 8 = .ok (.invokevirtual 217, 3) := dk_182 0 217 (dk_at dksX6_lawnLine_0 8 rfl rfl)
theorem dX6_lawnLine_11 : decode cX6_lawnLine 11 = .ok (.aload_n 0, 1) := dk_42 (dk_at dksX6_lawnLine_0 11 rfl rfl)
theorem dX6_lawnLine_12 : decode cX6_lawnLine 12 = .ok (.getfield 208, 3) := dk_180 0 208 (dk_at dksX6_lawnLine_0 12 rfl rfl)
theorem dX6_lawnLine_15 : decode cX6_lawnLine 15 = .ok (.ifCond .eq 4, 3) := dk_153 0 4 (dk_at dksX6_lawnLine_0 15 rfl rfl)
theorem dX6_lawnLine_18 : decode cX6_lawnLine 18 = .ok (.return_, 1) := dk_177 (dk_at dksX6_lawnLine_0 18 rfl rfl)
theorem dX6_lawnLine_19 : decode cX6_lawnLine 19 = .ok (.aload_n 0, 1) := dk_42 (dk_at dksX6_lawnLine_0 19 rfl rfl)
theorem dX6_lawnLine_20 : decode cX6_lawnLine 20 = .ok (.invokevirtual 242, 3) := dk_182 0 242 (dk_at dksX6_lawnLine_0 20 rfl rfl)
theorem dX6_lawnLine_23 : decode cX6_lawnLine 23 = .ok (.aload_n 0, 1) := dk_42 (dk_at dksX6_lawnLine_0 23 rfl rfl)
theorem dX6_lawnLine_24 : decode cX6_lawnLine 24 = .ok (.getfield 7, 3) := dk_180 0 7 (dk_at dksX6_lawnLine_1 0 rfl rfl)
theorem dX6_lawnLine_27 : decode cX6_lawnLine 27 = .ok (.iconst 4, 1) := dk_7 (dk_at dksX6_lawnLine_1 3 rfl rfl)
theorem dX6_lawnLine_28 : decode cX6_lawnLine 28 = .ok (.aload_n 0, 1) := dk_42 (dk_at dksX6_lawnLine_1 4 rfl rfl)
theorem dX6_lawnLine_29 : decode cX6_lawnLine 29 = .ok (.iconst 3, 1) := dk_6 (dk_at dksX6_lawnLine_1 5 rfl rfl)
theorem dX6_lawnLine_30 : decode cX6_lawnLine 30 = .ok (.bipush 10, 2) := dk_16 10 (dk_at dksX6_lawnLine_1 6 rfl rfl)
theorem dX6_lawnLine_32 : decode cX6_lawnLine 32 = .ok (.invokevirtual 254, 3) := dk_182 0 254 (dk_at dksX6_lawnLine_1 8 rfl rfl)
theorem dX6_lawnLine_35 : decode cX6_lawnLine 35 = .ok (.iastore, 1) := dk_79 (dk_at dksX6_lawnLine_1 11 rfl rfl)
theorem dX6_lawnLine_36 : decode cX6_lawnLine 36 = .ok (.aload_n 0, 1) := dk_42 (dk_at dksX6_lawnLine_1 12 rfl rfl)
theorem dX6_lawnLine_37 : decode cX6_lawnLine 37 = .ok (.getfield 7, 3) := dk_180 0 7 (dk_at dksX6_lawnLine_1 13 rfl rfl)
theorem dX6_lawnLine_40 : decode cX6_lawnLine 40 = .ok (.iconst 5, 1) := dk_8 (dk_at dksX6_lawnLine_1 16 rfl rfl)
theorem dX6_lawnLine_41 : decode cX6_lawnLine 41 = .ok (.aload_n 0, 1) := dk_42 (dk_at dksX6_lawnLine_1 17 rfl rfl)
theorem dX6_lawnLine_42 : decode cX6_lawnLine 42 = .ok (.iconst 3, 1) := dk_6 (dk_at dksX6_lawnLine_1 18 rfl rfl)
theorem dX6_lawnLine_43 : decode cX6_lawnLine 43 = .ok (.bipush 8, 2) := dk_16 8 (dk_at dksX6_lawnLine_1 19 rfl rfl)
theorem dX6_lawnLine_45 : decode cX6_lawnLine 45 = .ok (.invokevirtual 254, 3) := dk_182 0 254 (dk_at dksX6_lawnLine_1 21 rfl rfl)
theorem dX6_lawnLine_48 : decode cX6_lawnLine 48 = .ok (.iastore, 1) := dk_79 (dk_at dksX6_lawnLine_2 0 rfl rfl)
theorem dX6_lawnLine_49 : decode cX6_lawnLine 49 = .ok (.aload_n 0, 1) := dk_42 (dk_at dksX6_lawnLine_2 1 rfl rfl)
theorem dX6_lawnLine_50 : decode cX6_lawnLine 50 = .ok (.getfield 7, 3) := dk_180 0 7 (dk_at dksX6_lawnLine_2 2 rfl rfl)
theorem dX6_lawnLine_53 : decode cX6_lawnLine 53 = .ok (.bipush 6, 2) := dk_16 6 (dk_at dksX6_lawnLine_2 5 rfl rfl)
theorem dX6_lawnLine_55 : decode cX6_lawnLine 55 = .ok (.aload_n 0, 1) := dk_42 (dk_at dksX6_lawnLine_2 7 rfl rfl)
theorem dX6_lawnLine_56 : decode cX6_lawnLine 56 = .ok (.iconst 1, 1) := dk_4 (dk_at dksX6_lawnLine_2 8 rfl rfl)
theorem dX6_lawnLine_57 : decode cX6_lawnLine 57 = .ok (.bipush 9, 2) := dk_16 9 (dk_at dksX6_lawnLine_2 9 rfl rfl)
theorem dX6_lawnLine_59 : decode cX6_lawnLine 59 = .ok (.invokevirtual 254, 3) := dk_182 0 254 (dk_at dksX6_lawnLine_2 11 rfl rfl)
theorem dX6_lawnLine_62 : decode cX6_lawnLine 62 = .ok (.iastore, 1) := dk_79 (dk_at dksX6_lawnLine_2 14 rfl rfl)
theorem dX6_lawnLine_63 : decode cX6_lawnLine 63 = .ok (.aload_n 0, 1) := dk_42 (dk_at dksX6_lawnLine_2 15 rfl rfl)
theorem dX6_lawnLine_64 : decode cX6_lawnLine 64 = .ok (.getfield 7, 3) := dk_180 0 7 (dk_at dksX6_lawnLine_2 16 rfl rfl)
theorem dX6_lawnLine_67 : decode cX6_lawnLine 67 = .ok (.bipush 7, 2) := dk_16 7 (dk_at dksX6_lawnLine_2 19 rfl rfl)
theorem dX6_lawnLine_69 : decode cX6_lawnLine 69 = .ok (.aload_n 0, 1) := dk_42 (dk_at dksX6_lawnLine_2 21 rfl rfl)
theorem dX6_lawnLine_70 : decode cX6_lawnLine 70 = .ok (.iconst 0, 1) := dk_3 (dk_at dksX6_lawnLine_2 22 rfl rfl)
theorem dX6_lawnLine_71 : decode cX6_lawnLine 71 = .ok (.bipush 9, 2) := dk_16 9 (dk_at dksX6_lawnLine_3 0 rfl rfl)
theorem dX6_lawnLine_73 : decode cX6_lawnLine 73 = .ok (.invokevirtual 254, 3) := dk_182 0 254 (dk_at dksX6_lawnLine_3 2 rfl rfl)
theorem dX6_lawnLine_76 : decode cX6_lawnLine 76 = .ok (.iastore, 1) := dk_79 (dk_at dksX6_lawnLine_3 5 rfl rfl)
theorem dX6_lawnLine_77 : decode cX6_lawnLine 77 = .ok (.iconst 0, 1) := dk_3 (dk_at dksX6_lawnLine_3 6 rfl rfl)
theorem dX6_lawnLine_78 : decode cX6_lawnLine 78 = .ok (.istore_n 1, 1) := dk_60 (dk_at dksX6_lawnLine_3 7 rfl rfl)
theorem dX6_lawnLine_79 : decode cX6_lawnLine 79 = .ok (.iload_n 1, 1) := dk_27 (dk_at dksX6_lawnLine_3 8 rfl rfl)
theorem dX6_lawnLine_80 : decode cX6_lawnLine 80 = .ok (.aload_n 0, 1) := dk_42 (dk_at dksX6_lawnLine_3 9 rfl rfl)
theorem dX6_lawnLine_81 : decode cX6_lawnLine 81 = .ok (.invokevirtual 117, 3) := dk_182 0 117 (dk_at dksX6_lawnLine_3 10 rfl rfl)
theorem dX6_lawnLine_84 : decode cX6_lawnLine 84 = .ok (.if_icmp .ge 17, 3) := dk_162 0 17 (dk_at dksX6_lawnLine_3 13 rfl rfl)
theorem dX6_lawnLine_87 : decode cX6_lawnLine 87 = .ok (.aload_n 0, 1) := dk_42 (dk_at dksX6_lawnLine_3 16 rfl rfl)
theorem dX6_lawnLine_88 : decode cX6_lawnLine 88 = .ok (.iload_n 1, 1) := dk_27 (dk_at dksX6_lawnLine_3 17 rfl rfl)
theorem dX6_lawnLine_89 : decode cX6_lawnLine 89 = .ok (.iconst 1, 1) := dk_4 (dk_at dksX6_lawnLine_3 18 rfl rfl)
theorem dX6_lawnLine_90 : decode cX6_lawnLine 90 = .ok (.bipush 9, 2) := dk_16 9 (dk_at dksX6_lawnLine_3 19 rfl rfl)
theorem dX6_lawnLine_92 : decode cX6_lawnLine 92 = .ok (.invokevirtual 139, 3) := dk_182 0 139 (dk_at dksX6_lawnLine_3 21 rfl rfl)
theorem dX6_lawnLine_95 : decode cX6_lawnLine 95 = .ok (.iinc 1 1, 3) := dk_132 1 1 (dk_at dksX6_lawnLine_4 0 rfl rfl)
theorem dX6_lawnLine_98 : decode cX6_lawnLine 98 = .ok (.goto (-19), 3) := dk_167 255 237 (dk_at dksX6_lawnLine_4 3 rfl rfl)
theorem dX6_lawnLine_101 : decode cX6_lawnLine 101 = .ok (.return_, 1) := dk_177 (dk_at dksX6_lawnLine_4 6 rfl rfl)
def dkwX6_sees_2 : List UInt8 := [182, 0, 52, 159, 0, 5, 3, 172, 132, 3, 1, 167, 255, 225, 4, 172]
abbrev dktX6_sees_2 : List UInt8 := dkwX6_sees_2 ++ []
def dkwX6_sees_1 : List UInt8 := [172, 3, 62, 29, 42, 180, 0, 201, 162, 0, 29, 42, 42, 180, 0, 198, 29, 96, 182, 0, 195, 43, 29]
abbrev dktX6_sees_1 : List UInt8 := dkwX6_sees_1 ++ dktX6_sees_2
def dkwX6_sees_0 : List UInt8 := [42, 182, 0, 214, 61, 42, 180, 0, 208, 154, 0, 14, 42, 180, 0, 201, 43, 182, 0, 46, 159, 0, 5, 3]
abbrev dktX6_sees_0 : List UInt8 := dkwX6_sees_0 ++ dktX6_sees_1
theorem dksX6_sees_0 : cX6_sees.data.toList.drop 0 = dktX6_sees_0 := by decide +kernel
theorem dksX6_sees_1 : cX6_sees.data.toList.drop 24 = dktX6_sees_1 := dk_seg dksX6_sees_0 24 rfl rfl
theorem dksX6_sees_2 : cX6_sees.data.toList.drop 47 = dktX6_sees_2 := dk_seg dksX6_sees_1 23 rfl rfl
theorem dX6_sees_0 : decode cX6_sees 0 = .ok (.aload_n 0, 1) := dk_42 (dk_at dksX6_sees_0 0 rfl rfl)
theorem dX6_sees_1 : decode cX6_sees 1 = .ok (.invokevirtual 214, 3) := dk_182 0 214 (dk_at dksX6_sees_0 1 rfl rfl)
theorem dX6_sees_4 : decode cX6_sees 4 = .ok (.istore_n 2, 1) := dk_61 (dk_at dksX6_sees_0 4 rfl rfl)
theorem dX6_sees_5 : decode cX6_sees 5 = .ok (.aload_n 0, 1) := dk_42 (dk_at dksX6_sees_0 5 rfl rfl)
theorem dX6_sees_6 : decode cX6_sees 6 = .ok (.getfield 208, 3) := dk_180 0 208 (dk_at dksX6_sees_0 6 rfl rfl)
theorem dX6_sees_9 : decode cX6_sees 9 = .ok (.ifCond .ne 14, 3) := dk_154 0 14 (dk_at dksX6_sees_0 9 rfl rfl)
theorem dX6_sees_12 : decode cX6_sees 12 = .ok (.aload_n 0, 1) := dk_42 (dk_at dksX6_sees_0 12 rfl rfl)
theorem dX6_sees_13 : decode cX6_sees 13 = .ok (.getfield 201, 3) := dk_180 0 201 (dk_at dksX6_sees_0 13 rfl rfl)
theorem dX6_sees_16 : decode cX6_sees 16 = .ok (.aload_n 1, 1) := dk_43 (dk_at dksX6_sees_0 16 rfl rfl)
theorem dX6_sees_17 : decode cX6_sees 17 = .ok (.invokevirtual 46, 3) := dk_182 0 46 (dk_at dksX6_sees_0 17 rfl rfl)
theorem dX6_sees_20 : decode cX6_sees 20 = .ok (.if_icmp .eq 5, 3) := dk_159 0 5 (dk_at dksX6_sees_0 20 rfl rfl)
theorem dX6_sees_23 : decode cX6_sees 23 = .ok (.iconst 0, 1) := dk_3 (dk_at dksX6_sees_0 23 rfl rfl)
theorem dX6_sees_24 : decode cX6_sees 24 = .ok (.ireturn, 1) := dk_172 (dk_at dksX6_sees_1 0 rfl rfl)
theorem dX6_sees_25 : decode cX6_sees 25 = .ok (.iconst 0, 1) := dk_3 (dk_at dksX6_sees_1 1 rfl rfl)
theorem dX6_sees_26 : decode cX6_sees 26 = .ok (.istore_n 3, 1) := dk_62 (dk_at dksX6_sees_1 2 rfl rfl)
theorem dX6_sees_27 : decode cX6_sees 27 = .ok (.iload_n 3, 1) := dk_29 (dk_at dksX6_sees_1 3 rfl rfl)
theorem dX6_sees_28 : decode cX6_sees 28 = .ok (.aload_n 0, 1) := dk_42 (dk_at dksX6_sees_1 4 rfl rfl)
theorem dX6_sees_29 : decode cX6_sees 29 = .ok (.getfield 201, 3) := dk_180 0 201 (dk_at dksX6_sees_1 5 rfl rfl)
theorem dX6_sees_32 : decode cX6_sees 32 = .ok (.if_icmp .ge 29, 3) := dk_162 0 29 (dk_at dksX6_sees_1 8 rfl rfl)
theorem dX6_sees_35 : decode cX6_sees 35 = .ok (.aload_n 0, 1) := dk_42 (dk_at dksX6_sees_1 11 rfl rfl)
theorem dX6_sees_36 : decode cX6_sees 36 = .ok (.aload_n 0, 1) := dk_42 (dk_at dksX6_sees_1 12 rfl rfl)
theorem dX6_sees_37 : decode cX6_sees 37 = .ok (.getfield 198, 3) := dk_180 0 198 (dk_at dksX6_sees_1 13 rfl rfl)
theorem dX6_sees_40 : decode cX6_sees 40 = .ok (.iload_n 3, 1) := dk_29 (dk_at dksX6_sees_1 16 rfl rfl)
theorem dX6_sees_41 : decode cX6_sees 41 = .ok (.iadd, 1) := dk_96 (dk_at dksX6_sees_1 17 rfl rfl)
theorem dX6_sees_42 : decode cX6_sees 42 = .ok (.invokevirtual 195, 3) := dk_182 0 195 (dk_at dksX6_sees_1 18 rfl rfl)
theorem dX6_sees_45 : decode cX6_sees 45 = .ok (.aload_n 1, 1) := dk_43 (dk_at dksX6_sees_1 21 rfl rfl)
theorem dX6_sees_46 : decode cX6_sees 46 = .ok (.iload_n 3, 1) := dk_29 (dk_at dksX6_sees_1 22 rfl rfl)
theorem dX6_sees_47 : decode cX6_sees 47 = .ok (.invokevirtual 52, 3) := dk_182 0 52 (dk_at dksX6_sees_2 0 rfl rfl)
theorem dX6_sees_50 : decode cX6_sees 50 = .ok (.if_icmp .eq 5, 3) := dk_159 0 5 (dk_at dksX6_sees_2 3 rfl rfl)
theorem dX6_sees_53 : decode cX6_sees 53 = .ok (.iconst 0, 1) := dk_3 (dk_at dksX6_sees_2 6 rfl rfl)
theorem dX6_sees_54 : decode cX6_sees 54 = .ok (.ireturn, 1) := dk_172 (dk_at dksX6_sees_2 7 rfl rfl)
theorem dX6_sees_55 : decode cX6_sees 55 = .ok (.iinc 3 1, 3) := dk_132 3 1 (dk_at dksX6_sees_2 8 rfl rfl)
theorem dX6_sees_58 : decode cX6_sees 58 = .ok (.goto (-31), 3) := dk_167 255 225 (dk_at dksX6_sees_2 11 rfl rfl)
theorem dX6_sees_61 : decode cX6_sees 61 = .ok (.iconst 1, 1) := dk_4 (dk_at dksX6_sees_2 14 rfl rfl)
theorem dX6_sees_62 : decode cX6_sees 62 = .ok (.ireturn, 1) := dk_172 (dk_at dksX6_sees_2 15 rfl rfl)
def dkwX6_next_3 : List UInt8 := [180, 0, 201, 4, 96, 181, 0, 201, 167, 255, 220, 42, 42, 180, 0, 193, 182, 0, 195, 172]
abbrev dktX6_next_3 : List UInt8 := dkwX6_next_3 ++ []
def dkwX6_next_2 : List UInt8 := [180, 0, 201, 96, 182, 0, 195, 133, 20, 0, 204, 20, 0, 206, 184, 0, 68, 153, 0, 16, 42, 89]
abbrev dktX6_next_2 : List UInt8 := dkwX6_next_2 ++ dktX6_next_3
def dkwX6_next_1 : List UInt8 := [167, 255, 233, 42, 42, 180, 0, 193, 181, 0, 198, 42, 3, 181, 0, 201, 42, 42, 180, 0, 198, 42]
abbrev dktX6_next_1 : List UInt8 := dkwX6_next_1 ++ dktX6_next_2
def dkwX6_next_0 : List UInt8 := [42, 42, 180, 0, 193, 182, 0, 195, 16, 32, 160, 0, 16, 42, 89, 180, 0, 193, 4, 96, 181, 0, 193]
abbrev dktX6_next_0 : List UInt8 := dkwX6_next_0 ++ dktX6_next_1
theorem dksX6_next_0 : cX6_next.data.toList.drop 0 = dktX6_next_0 := by decide +kernel
theorem dksX6_next_1 : cX6_next.data.toList.drop 23 = dktX6_next_1 := dk_seg dksX6_next_0 23 rfl rfl
theorem dksX6_next_2 : cX6_next.data.toList.drop 45 = dktX6_next_2 := dk_seg dksX6_next_1 22 rfl rfl
theorem dksX6_next_3 : cX6_next.data.toList.drop 67 = dktX6_next_3 := dk_seg dksX6_next_2 22 rfl rfl
theorem dX6_next_0 : decode cX6_next 0 = .ok (.aload_n 0, 1) := dk_42 (dk_at dksX6_next_0 0 rfl rfl)
theorem dX6_next_1 : decode cX6_next 1 = .ok (.aload_n 0, 1) := dk_42 (dk_at dksX6_next_0 1 rfl rfl)
theorem dX6_next_2 : decode cX6_next 2 = .ok (.getfield 193, 3) := dk_180 0 193 (dk_at dksX6_next_0 2 rfl rfl)
theorem dX6_next_5 : decode cX6_next 5 = .ok (.invokevirtual 195, 3) := dk_182 0 195 (dk_at dksX6_next_0 5 rfl rfl)
theorem dX6_next_8 : decode cX6_next 8 = .ok (.bipush 32, 2) := dk_16 32 (dk_at dksX6_next_0 8 rfl rfl)
theorem dX6_next_10 : decode cX6_next 10 = .ok (.if_icmp .ne 16, 3) := dk_160 0 16 (dk_at dksX6_next_0 10 rfl rfl)
theorem dX6_next_13 : decode cX6_next 13 = .ok (.aload_n 0, 1) := dk_42 (dk_at dksX6_next_0 13 rfl rfl)
theorem dX6_next_14 : decode cX6_next 14 = .ok (.dup, 1) := dk_89 (dk_at dksX6_next_0 14 rfl rfl)
theorem dX6_next_15 : decode cX6_next 15 = .ok (.getfield 193, 3) := dk_180 0 193 (dk_at dksX6_next_0 15 rfl rfl)
theorem dX6_next_18 : decode cX6_next 18 = .ok (.iconst 1, 1) := dk_4 (dk_at dksX6_next_0 18 rfl rfl)
theorem dX6_next_19 : decode cX6_next 19 = .ok (.iadd, 1) := dk_96 (dk_at dksX6_next_0 19 rfl rfl)
theorem dX6_next_20 : decode cX6_next 20 = .ok (.putfield 193, 3) := dk_181 0 193 (dk_at dksX6_next_0 20 rfl rfl)
theorem dX6_next_23 : decode cX6_next 23 = .ok (.goto (-23), 3) := dk_167 255 233 (dk_at dksX6_next_1 0 rfl rfl)
theorem dX6_next_26 : decode cX6_next 26 = .ok (.aload_n 0, 1) := dk_42 (dk_at dksX6_next_1 3 rfl rfl)
theorem dX6_next_27 : decode cX6_next 27 = .ok (.aload_n 0, 1) := dk_42 (dk_at dksX6_next_1 4 rfl rfl)
theorem dX6_next_28 : decode cX6_next 28 = .ok (.getfield 193, 3) := dk_180 0 193 (dk_at dksX6_next_1 5 rfl rfl)
theorem dX6_next_31 : decode cX6_next 31 = .ok (.putfield 198, 3) := dk_181 0 198 (dk_at dksX6_next_1 8 rfl rfl)
theorem dX6_next_34 : decode cX6_next 34 = .ok (.aload_n 0, 1) := dk_42 (dk_at dksX6_next_1 11 rfl rfl)
theorem dX6_next_35 : decode cX6_next 35 = .ok (.iconst 0, 1) := dk_3 (dk_at dksX6_next_1 12 rfl rfl)
theorem dX6_next_36 : decode cX6_next 36 = .ok (.putfield 201, 3) := dk_181 0 201 (dk_at dksX6_next_1 13 rfl rfl)
theorem dX6_next_39 : decode cX6_next 39 = .ok (.aload_n 0, 1) := dk_42 (dk_at dksX6_next_1 16 rfl rfl)
theorem dX6_next_40 : decode cX6_next 40 = .ok (.aload_n 0, 1) := dk_42 (dk_at dksX6_next_1 17 rfl rfl)
theorem dX6_next_41 : decode cX6_next 41 = .ok (.getfield 198, 3) := dk_180 0 198 (dk_at dksX6_next_1 18 rfl rfl)
theorem dX6_next_44 : decode cX6_next 44 = .ok (.aload_n 0, 1) := dk_42 (dk_at dksX6_next_1 21 rfl rfl)
theorem dX6_next_45 : decode cX6_next 45 = .ok (.getfield 201, 3) := dk_180 0 201 (dk_at dksX6_next_2 0 rfl rfl)
theorem dX6_next_48 : decode cX6_next 48 = .ok (.iadd, 1) := dk_96 (dk_at dksX6_next_2 3 rfl rfl)
theorem dX6_next_49 : decode cX6_next 49 = .ok (.invokevirtual 195, 3) := dk_182 0 195 (dk_at dksX6_next_2 4 rfl rfl)
theorem dX6_next_52 : decode cX6_next 52 = .ok (.i2l, 1) := dk_133 (dk_at dksX6_next_2 7 rfl rfl)
theorem dX6_next_53 : decode cX6_next 53 = .ok (.ldc2_w 204, 3) := dk_20 0 204 (dk_at dksX6_next_2 8 rfl rfl)
theorem dX6_next_56 : decode cX6_next 56 = .ok (.ldc2_w 206, 3) := dk_20 0 206 (dk_at dksX6_next_2 11 rfl rfl)
theorem dX6_next_59 : decode cX6_next 59 = .ok (.invokestatic 68, 3) := dk_184 0 68 (dk_at dksX6_next_2 14 rfl rfl)
theorem dX6_next_62 : decode cX6_next 62 = .ok (.ifCond .eq 16, 3) := dk_153 0 16 (dk_at dksX6_next_2 17 rfl rfl)
theorem dX6_next_65 : decode cX6_next 65 = .ok (.aload_n 0, 1) := dk_42 (dk_at dksX6_next_2 20 rfl rfl)
theorem dX6_next_66 : decode cX6_next 66 = .ok (.dup, 1) := dk_89 (dk_at dksX6_next_2 21 rfl rfl)
theorem dX6_next_67 : decode cX6_next 67 = .ok (.getfield 201, 3) := dk_180 0 201 (dk_at dksX6_next_3 0 rfl rfl)
theorem dX6_next_70 : decode cX6_next 70 = .ok (.iconst 1, 1) := dk_4 (dk_at dksX6_next_3 3 rfl rfl)
theorem dX6_next_71 : decode cX6_next 71 = .ok (.iadd, 1) := dk_96 (dk_at dksX6_next_3 4 rfl rfl)
theorem dX6_next_72 : decode cX6_next 72 = .ok (.putfield 201, 3) := dk_181 0 201 (dk_at dksX6_next_3 5 rfl rfl)
theorem dX6_next_75 : decode cX6_next 75 = .ok (.goto (-36), 3) := dk_167 255 220 (dk_at dksX6_next_3 8 rfl rfl)
theorem dX6_next_78 : decode cX6_next 78 = .ok (.aload_n 0, 1) := dk_42 (dk_at dksX6_next_3 11 rfl rfl)
theorem dX6_next_79 : decode cX6_next 79 = .ok (.aload_n 0, 1) := dk_42 (dk_at dksX6_next_3 12 rfl rfl)
theorem dX6_next_80 : decode cX6_next 80 = .ok (.getfield 193, 3) := dk_180 0 193 (dk_at dksX6_next_3 13 rfl rfl)
theorem dX6_next_83 : decode cX6_next 83 = .ok (.invokevirtual 195, 3) := dk_182 0 195 (dk_at dksX6_next_3 16 rfl rfl)
theorem dX6_next_86 : decode cX6_next 86 = .ok (.ireturn, 1) := dk_172 (dk_at dksX6_next_3 19 rfl rfl)
def dkwX6_byteAt_0 : List UInt8 := [27, 42, 180, 0, 56, 162, 0, 12, 42, 180, 0, 31, 27, 46, 167, 0, 4, 2, 172]
abbrev dktX6_byteAt_0 : List UInt8 := dkwX6_byteAt_0 ++ []
theorem dksX6_byteAt_0 : cX6_byteAt.data.toList.drop 0 = dktX6_byteAt_0 := by decide +kernel
theorem dX6_byteAt_0 : decode cX6_byteAt 0 = .ok (.iload_n 1, 1) := dk_27 (dk_at dksX6_byteAt_0 0 rfl rfl)
theorem dX6_byteAt_1 : decode cX6_byteAt 1 = .ok (.aload_n 0, 1) := dk_42 (dk_at dksX6_byteAt_0 1 rfl rfl)
theorem dX6_byteAt_2 : decode cX6_byteAt 2 = .ok (.getfield 56, 3) := dk_180 0 56 (dk_at dksX6_byteAt_0 2 rfl rfl)
theorem dX6_byteAt_5 : decode cX6_byteAt 5 = .ok (.if_icmp .ge 12, 3) := dk_162 0 12 (dk_at dksX6_byteAt_0 5 rfl rfl)
theorem dX6_byteAt_8 : decode cX6_byteAt 8 = .ok (.aload_n 0, 1) := dk_42 (dk_at dksX6_byteAt_0 8 rfl rfl)
theorem dX6_byteAt_9 : decode cX6_byteAt 9 = .ok (.getfield 31, 3) := dk_180 0 31 (dk_at dksX6_byteAt_0 9 rfl rfl)
theorem dX6_byteAt_12 : decode cX6_byteAt 12 = .ok (.iload_n 1, 1) := dk_27 (dk_at dksX6_byteAt_0 12 rfl rfl)
theorem dX6_byteAt_13 : decode cX6_byteAt 13 = .ok (.iaload, 1) := dk_46 (dk_at dksX6_byteAt_0 13 rfl rfl)
theorem dX6_byteAt_14 : decode cX6_byteAt 14 = .ok (.goto 4, 3) := dk_167 0 4 (dk_at dksX6_byteAt_0 14 rfl rfl)
theorem dX6_byteAt_17 : decode cX6_byteAt 17 = .ok (.iconst (-1), 1) := dk_2 (dk_at dksX6_byteAt_0 17 rfl rfl)
theorem dX6_byteAt_18 : decode cX6_byteAt 18 = .ok (.ireturn, 1) := dk_172 (dk_at dksX6_byteAt_0 18 rfl rfl)
def dkwX6_in_0 : List UInt8 := [30, 32, 148, 155, 0, 14, 30, 22, 4, 148, 157, 0, 7, 4, 167, 0, 4, 3, 172]
abbrev dktX6_in_0 : List UInt8 := dkwX6_in_0 ++ []
theorem dksX6_in_0 : cX6_in.data.toList.drop 0 = dktX6_in_0 := by decide +kernel
theorem dX6_in_0 : decode cX6_in 0 = .ok (.lload_n 0, 1) := dk_30 (dk_at dksX6_in_0 0 rfl rfl)
theorem dX6_in_1 : decode cX6_in 1 = .ok (.lload_n 2, 1) := dk_32 (dk_at dksX6_in_0 1 rfl rfl)
theorem dX6_in_2 : decode cX6_in 2 = .ok (.lcmp, 1) := dk_148 (dk_at dksX6_in_0 2 rfl rfl)
theorem dX6_in_3 : decode cX6_in 3 = .ok (.ifCond .lt 14, 3) := dk_155 0 14 (dk_at dksX6_in_0 3 rfl rfl)
theorem dX6_in_6 : decode cX6_in 6 = .ok (.lload_n 0, 1) := dk_30 (dk_at dksX6_in_0 6 rfl rfl)
theorem dX6_in_7 : decode cX6_in 7 = .ok (.lload 4, 2) := dk_22 4 (dk_at dksX6_in_0 7 rfl rfl)
theorem dX6_in_9 : decode cX6_in 9 = .ok (.lcmp, 1) := dk_148 (dk_at dksX6_in_0 9 rfl rfl)
theorem dX6_in_10 : decode cX6_in 10 = .ok (.ifCond .gt 7, 3) := dk_157 0 7 (dk_at dksX6_in_0 10 rfl rfl)
theorem dX6_in_13 : decode cX6_in 13 = .ok (.iconst 1, 1) := dk_4 (dk_at dksX6_in_0 13 rfl rfl)
theorem dX6_in_14 : decode cX6_in 14 = .ok (.goto 4, 3) := dk_167 0 4 (dk_at dksX6_in_0 14 rfl rfl)
theorem dX6_in_17 : decode cX6_in 17 = .ok (.iconst 0, 1) := dk_3 (dk_at dksX6_in_0 17 rfl rfl)
theorem dX6_in_18 : decode cX6_in 18 = .ok (.ireturn, 1) := dk_172 (dk_at dksX6_in_0 18 rfl rfl)
def dkwX6_must_1 : List UInt8 := [181, 0, 211, 177]
abbrev dktX6_must_1 : List UInt8 := dkwX6_must_1 ++ []
def dkwX6_must_0 : List UInt8 := [27, 154, 0, 10, 42, 180, 0, 208, 153, 0, 4, 177, 42, 28, 181, 0, 208, 42, 42, 180, 0, 198]
abbrev dktX6_must_0 : List UInt8 := dkwX6_must_0 ++ dktX6_must_1
theorem dksX6_must_0 : cX6_must.data.toList.drop 0 = dktX6_must_0 := by decide +kernel
theorem dksX6_must_1 : cX6_must.data.toList.drop 22 = dktX6_must_1 := dk_seg dksX6_must_0 22 rfl rfl
theorem dX6_must_0 : decode cX6_must 0 = .ok (.iload_n 1, 1) := dk_27 (dk_at dksX6_must_0 0 rfl rfl)
theorem dX6_must_1 : decode cX6_must 1 = .ok (.ifCond .ne 10, 3) := dk_154 0 10 (dk_at dksX6_must_0 1 rfl rfl)
theorem dX6_must_4 : decode cX6_must 4 = .ok (.aload_n 0, 1) := dk_42 (dk_at dksX6_must_0 4 rfl rfl)
theorem dX6_must_5 : decode cX6_must 5 = .ok (.getfield 208, 3) := dk_180 0 208 (dk_at dksX6_must_0 5 rfl rfl)
theorem dX6_must_8 : decode cX6_must 8 = .ok (.ifCond .eq 4, 3) := dk_153 0 4 (dk_at dksX6_must_0 8 rfl rfl)
theorem dX6_must_11 : decode cX6_must 11 = .ok (.return_, 1) := dk_177 (dk_at dksX6_must_0 11 rfl rfl)
theorem dX6_must_12 : decode cX6_must 12 = .ok (.aload_n 0, 1) := dk_42 (dk_at dksX6_must_0 12 rfl rfl)
theorem dX6_must_13 : decode cX6_must 13 = .ok (.iload_n 2, 1) := dk_28 (dk_at dksX6_must_0 13 rfl rfl)
theorem dX6_must_14 : decode cX6_must 14 = .ok (.putfield 208, 3) := dk_181 0 208 (dk_at dksX6_must_0 14 rfl rfl)
theorem dX6_must_17 : decode cX6_must 17 = .ok (.aload_n 0, 1) := dk_42 (dk_at dksX6_must_0 17 rfl rfl)
theorem dX6_must_18 : decode cX6_must 18 = .ok (.aload_n 0, 1) := dk_42 (dk_at dksX6_must_0 18 rfl rfl)
theorem dX6_must_19 : decode cX6_must 19 = .ok (.getfield 198, 3) := dk_180 0 198 (dk_at dksX6_must_0 19 rfl rfl)
theorem dX6_must_22 : decode cX6_must 22 = .ok (.putfield 211, 3) := dk_181 0 211 (dk_at dksX6_must_1 0 rfl rfl)
theorem dX6_must_25 : decode cX6_must 25 = .ok (.return_, 1) := dk_177 (dk_at dksX6_must_1 3 rfl rfl)
def dkwX6_goesPast_0 : List UInt8 := [42, 42, 180, 0, 198, 42, 180, 0, 201, 96, 181, 0, 193, 177]
abbrev dktX6_goesPast_0 : List UInt8 := dkwX6_goesPast_0 ++ []
theorem dksX6_goesPast_0 : cX6_goesPast.data.toList.drop 0 = dktX6_goesPast_0 := by decide +kernel
theorem dX6_goesPast_0 : decode cX6_goesPast 0 = .ok (.aload_n 0, 1) := dk_42 (dk_at dksX6_goesPast_0 0 rfl rfl)
theorem dX6_goesPast_1 : decode cX6_goesPast 1 = .ok (.aload_n 0, 1) := dk_42 (dk_at dksX6_goesPast_0 1 rfl rfl)
theorem dX6_goesPast_2 : decode cX6_goesPast 2 = .ok (.getfield 198, 3) := dk_180 0 198 (dk_at dksX6_goesPast_0 2 rfl rfl)
theorem dX6_goesPast_5 : decode cX6_goesPast 5 = .ok (.aload_n 0, 1) := dk_42 (dk_at dksX6_goesPast_0 5 rfl rfl)
theorem dX6_goesPast_6 : decode cX6_goesPast 6 = .ok (.getfield 201, 3) := dk_180 0 201 (dk_at dksX6_goesPast_0 6 rfl rfl)
theorem dX6_goesPast_9 : decode cX6_goesPast 9 = .ok (.iadd, 1) := dk_96 (dk_at dksX6_goesPast_0 9 rfl rfl)
theorem dX6_goesPast_10 : decode cX6_goesPast 10 = .ok (.putfield 193, 3) := dk_181 0 193 (dk_at dksX6_goesPast_0 10 rfl rfl)
theorem dX6_goesPast_13 : decode cX6_goesPast 13 = .ok (.return_, 1) := dk_177 (dk_at dksX6_goesPast_0 13 rfl rfl)
def dkwX6_number_6 : List UInt8 := [154, 0, 7, 29, 167, 0, 4, 27, 172]
abbrev dktX6_number_6 : List UInt8 := dkwX6_number_6 ++ []
def dkwX6_number_5 : List UInt8 := [3, 4, 182, 0, 217, 42, 29, 133, 27, 133, 28, 133, 184, 0, 68, 5, 182, 0, 217, 42, 180, 0, 208]
abbrev dktX6_number_5 : List UInt8 := dkwX6_number_5 ++ dktX6_number_6
def dkwX6_number_4 : List UInt8 := [181, 0, 193, 167, 255, 191, 42, 42, 180, 0, 193, 42, 180, 0, 198, 100, 6, 163, 0, 7, 4, 167, 0, 4]
abbrev dktX6_number_4 : List UInt8 := dkwX6_number_4 ++ dktX6_number_5
def dkwX6_number_3 : List UInt8 := [180, 0, 193, 182, 0, 195, 96, 16, 48, 100, 167, 0, 4, 29, 62, 42, 89, 180, 0, 193, 4, 96]
abbrev dktX6_number_3 : List UInt8 := dkwX6_number_3 ++ dktX6_number_4
def dkwX6_number_2 : List UInt8 := [153, 0, 50, 42, 180, 0, 193, 42, 180, 0, 198, 100, 6, 162, 0, 22, 16, 10, 29, 104, 42, 42]
abbrev dktX6_number_2 : List UInt8 := dkwX6_number_2 ++ dktX6_number_3
def dkwX6_number_1 : List UInt8 := [4, 182, 0, 217, 3, 62, 42, 42, 180, 0, 193, 182, 0, 195, 133, 20, 0, 221, 20, 0, 223, 184, 0, 68]
abbrev dktX6_number_1 : List UInt8 := dkwX6_number_1 ++ dktX6_number_2
def dkwX6_number_0 : List UInt8 := [42, 180, 0, 208, 153, 0, 5, 27, 172, 42, 42, 182, 0, 214, 133, 20, 0, 221, 20, 0, 223, 184, 0, 68]
abbrev dktX6_number_0 : List UInt8 := dkwX6_number_0 ++ dktX6_number_1
theorem dksX6_number_0 : cX6_number.data.toList.drop 0 = dktX6_number_0 := by decide +kernel
theorem dksX6_number_1 : cX6_number.data.toList.drop 24 = dktX6_number_1 := dk_seg dksX6_number_0 24 rfl rfl
theorem dksX6_number_2 : cX6_number.data.toList.drop 48 = dktX6_number_2 := dk_seg dksX6_number_1 24 rfl rfl
theorem dksX6_number_3 : cX6_number.data.toList.drop 70 = dktX6_number_3 := dk_seg dksX6_number_2 22 rfl rfl
theorem dksX6_number_4 : cX6_number.data.toList.drop 92 = dktX6_number_4 := dk_seg dksX6_number_3 22 rfl rfl
theorem dksX6_number_5 : cX6_number.data.toList.drop 116 = dktX6_number_5 := dk_seg dksX6_number_4 24 rfl rfl
theorem dksX6_number_6 : cX6_number.data.toList.drop 139 = dktX6_number_6 := dk_seg dksX6_number_5 23 rfl rfl
theorem dX6_number_0 : decode cX6_number 0 = .ok (.aload_n 0, 1) := dk_42 (dk_at dksX6_number_0 0 rfl rfl)
theorem dX6_number_1 : decode cX6_number 1 = .ok (.getfield 208, 3) := dk_180 0 208 (dk_at dksX6_number_0 1 rfl rfl)
theorem dX6_number_4 : decode cX6_number 4 = .ok (.ifCond .eq 5, 3) := dk_153 0 5 (dk_at dksX6_number_0 4 rfl rfl)
theorem dX6_number_7 : decode cX6_number 7 = .ok (.iload_n 1, 1) := dk_27 (dk_at dksX6_number_0 7 rfl rfl)
theorem dX6_number_8 : decode cX6_number 8 = .ok (.ireturn, 1) := dk_172 (dk_at dksX6_number_0 8 rfl rfl)
theorem dX6_number_9 : decode cX6_number 9 = .ok (.aload_n 0, 1) := dk_42 (dk_at dksX6_number_0 9 rfl rfl)
theorem dX6_number_10 : decode cX6_number 10 = .ok (.aload_n 0, 1) := dk_42 (dk_at dksX6_number_0 10 rfl rfl)
theorem dX6_number_11 : decode cX6_number 11 = .ok (.invokevirtual 214, 3) := dk_182 0 214 (dk_at dksX6_number_0 11 rfl rfl)
theorem dX6_number_14 : decode cX6_number 14 = .ok (.i2l, 1) := dk_133 (dk_at dksX6_number_0 14 rfl rfl)
theorem dX6_number_15 : decode cX6_number 15 = .ok (.ldc2_w 221, 3) := dk_20 0 221 (dk_at dksX6_number_0 15 rfl rfl)
theorem dX6_number_18 : decode cX6_number 18 = .ok (.ldc2_w 223, 3) := dk_20 0 223 (dk_at dksX6_number_0 18 rfl rfl)
theorem dX6_number_21 : decode cX6_number 21 = .ok (.invokestatic 68, 3) := dk_184 0 68 (dk_at dksX6_number_0 21 rfl rfl)
theorem dX6_number_24 : decode cX6_number 24 = .ok (.iconst 1, 1) := dk_4 (dk_at dksX6_number_1 0 rfl rfl)
theorem dX6_number_25 : decode cX6_number 25 = .ok (.invokevirtual 217, 3) := dk_182 0 217 (dk_at dksX6_number_1 1 rfl rfl)
theorem dX6_number_28 : decode cX6_number 28 = .ok (.iconst 0, 1) := dk_3 (dk_at dksX6_number_1 4 rfl rfl)
theorem dX6_number_29 : decode cX6_number 29 = .ok (.istore_n 3, 1) := dk_62 (dk_at dksX6_number_1 5 rfl rfl)
theorem dX6_number_30 : decode cX6_number 30 = .ok (.aload_n 0, 1) := dk_42 (dk_at dksX6_number_1 6 rfl rfl)
theorem dX6_number_31 : decode cX6_number 31 = .ok (.aload_n 0, 1) := dk_42 (dk_at dksX6_number_1 7 rfl rfl)
theorem dX6_number_32 : decode cX6_number 32 = .ok (.getfield 193, 3) := dk_180 0 193 (dk_at dksX6_number_1 8 rfl rfl)
theorem dX6_number_35 : decode cX6_number 35 = .ok (.invokevirtual 195, 3) := dk_182 0 195 (dk_at dksX6_number_1 11 rfl rfl)
theorem dX6_number_38 : decode cX6_number 38 = .ok (.i2l, 1) := dk_133 (dk_at dksX6_number_1 14 rfl rfl)
theorem dX6_number_39 : decode cX6_number 39 = .ok (.ldc2_w 221, 3) := dk_20 0 221 (dk_at dksX6_number_1 15 rfl rfl)
theorem dX6_number_42 : decode cX6_number 42 = .ok (.ldc2_w 223, 3) := dk_20 0 223 (dk_at dksX6_number_1 18 rfl rfl)
theorem dX6_number_45 : decode cX6_number 45 = .ok (.invokestatic 68, 3) := dk_184 0 68 (dk_at dksX6_number_1 21 rfl rfl)
theorem dX6_number_48 : decode cX6_number 48 = .ok (.ifCond .eq 50, 3) := dk_153 0 50 (dk_at dksX6_number_2 0 rfl rfl)
theorem dX6_number_51 : decode cX6_number 51 = .ok (.aload_n 0, 1) := dk_42 (dk_at dksX6_number_2 3 rfl rfl)
theorem dX6_number_52 : decode cX6_number 52 = .ok (.getfield 193, 3) := dk_180 0 193 (dk_at dksX6_number_2 4 rfl rfl)
theorem dX6_number_55 : decode cX6_number 55 = .ok (.aload_n 0, 1) := dk_42 (dk_at dksX6_number_2 7 rfl rfl)
theorem dX6_number_56 : decode cX6_number 56 = .ok (.getfield 198, 3) := dk_180 0 198 (dk_at dksX6_number_2 8 rfl rfl)
theorem dX6_number_59 : decode cX6_number 59 = .ok (.isub, 1) := dk_100 (dk_at dksX6_number_2 11 rfl rfl)
theorem dX6_number_60 : decode cX6_number 60 = .ok (.iconst 3, 1) := dk_6 (dk_at dksX6_number_2 12 rfl rfl)
theorem dX6_number_61 : decode cX6_number 61 = .ok (.if_icmp .ge 22, 3) := dk_162 0 22 (dk_at dksX6_number_2 13 rfl rfl)
theorem dX6_number_64 : decode cX6_number 64 = .ok (.bipush 10, 2) := dk_16 10 (dk_at dksX6_number_2 16 rfl rfl)
theorem dX6_number_66 : decode cX6_number 66 = .ok (.iload_n 3, 1) := dk_29 (dk_at dksX6_number_2 18 rfl rfl)
theorem dX6_number_67 : decode cX6_number 67 = .ok (.imul, 1) := dk_104 (dk_at dksX6_number_2 19 rfl rfl)
theorem dX6_number_68 : decode cX6_number 68 = .ok (.aload_n 0, 1) := dk_42 (dk_at dksX6_number_2 20 rfl rfl)
theorem dX6_number_69 : decode cX6_number 69 = .ok (.aload_n 0, 1) := dk_42 (dk_at dksX6_number_2 21 rfl rfl)
theorem dX6_number_70 : decode cX6_number 70 = .ok (.getfield 193, 3) := dk_180 0 193 (dk_at dksX6_number_3 0 rfl rfl)
theorem dX6_number_73 : decode cX6_number 73 = .ok (.invokevirtual 195, 3) := dk_182 0 195 (dk_at dksX6_number_3 3 rfl rfl)
theorem dX6_number_76 : decode cX6_number 76 = .ok (.iadd, 1) := dk_96 (dk_at dksX6_number_3 6 rfl rfl)
theorem dX6_number_77 : decode cX6_number 77 = .ok (.bipush 48, 2) := dk_16 48 (dk_at dksX6_number_3 7 rfl rfl)
theorem dX6_number_79 : decode cX6_number 79 = .ok (.isub, 1) := dk_100 (dk_at dksX6_number_3 9 rfl rfl)
theorem dX6_number_80 : decode cX6_number 80 = .ok (.goto 4, 3) := dk_167 0 4 (dk_at dksX6_number_3 10 rfl rfl)
theorem dX6_number_83 : decode cX6_number 83 = .ok (.iload_n 3, 1) := dk_29 (dk_at dksX6_number_3 13 rfl rfl)
theorem dX6_number_84 : decode cX6_number 84 = .ok (.istore_n 3, 1) := dk_62 (dk_at dksX6_number_3 14 rfl rfl)
theorem dX6_number_85 : decode cX6_number 85 = .ok (.aload_n 0, 1) := dk_42 (dk_at dksX6_number_3 15 rfl rfl)
theorem dX6_number_86 : decode cX6_number 86 = .ok (.dup, 1) := dk_89 (dk_at dksX6_number_3 16 rfl rfl)
theorem dX6_number_87 : decode cX6_number 87 = .ok (.getfield 193, 3) := dk_180 0 193 (dk_at dksX6_number_3 17 rfl rfl)
theorem dX6_number_90 : decode cX6_number 90 = .ok (.iconst 1, 1) := dk_4 (dk_at dksX6_number_3 20 rfl rfl)
theorem dX6_number_91 : decode cX6_number 91 = .ok (.iadd, 1) := dk_96 (dk_at dksX6_number_3 21 rfl rfl)
theorem dX6_number_92 : decode cX6_number 92 = .ok (.putfield 193, 3) := dk_181 0 193 (dk_at dksX6_number_4 0 rfl rfl)
theorem dX6_number_95 : decode cX6_number 95 = .ok (.goto (-65), 3) := dk_167 255 191 (dk_at dksX6_number_4 3 rfl rfl)
theorem dX6_number_98 : decode cX6_number 98 = .ok (.aload_n 0, 1) := dk_42 (dk_at dksX6_number_4 6 rfl rfl)
theorem dX6_number_99 : decode cX6_number 99 = .ok (.aload_n 0, 1) := dk_42 (dk_at dksX6_number_4 7 rfl rfl)
theorem dX6_number_100 : decode cX6_number 100 = .ok (.getfield 193, 3) := dk_180 0 193 (dk_at dksX6_number_4 8 rfl rfl)
theorem dX6_number_103 : decode cX6_number 103 = .ok (.aload_n 0, 1) := dk_42 (dk_at dksX6_number_4 11 rfl rfl)
theorem dX6_number_104 : decode cX6_number 104 = .ok (.getfield 198, 3) := dk_180 0 198 (dk_at dksX6_number_4 12 rfl rfl)
theorem dX6_number_107 : decode cX6_number 107 = .ok (.isub, 1) := dk_100 (dk_at dksX6_number_4 15 rfl rfl)
theorem dX6_number_108 : decode cX6_number 108 = .ok (.iconst 3, 1) := dk_6 (dk_at dksX6_number_4 16 rfl rfl)
theorem dX6_number_109 : decode cX6_number 109 = .ok (.if_icmp .gt 7, 3) := dk_163 0 7 (dk_at dksX6_number_4 17 rfl rfl)
theorem dX6_number_112 : decode cX6_number 112 = .ok (.iconst 1, 1) := dk_4 (dk_at dksX6_number_4 20 rfl rfl)
theorem dX6_number_113 : decode cX6_number 113 = .ok (.goto 4, 3) := dk_167 0 4 (dk_at dksX6_number_4 21 rfl rfl)
theorem dX6_number_116 : decode cX6_number 116 = .ok (.iconst 0, 1) := dk_3 (dk_at dksX6_number_5 0 rfl rfl)
theorem dX6_number_117 : decode cX6_number 117 = .ok (.iconst 1, 1) := dk_4 (dk_at dksX6_number_5 1 rfl rfl)
theorem dX6_number_118 : decode cX6_number 118 = .ok (.invokevirtual 217, 3) := dk_182 0 217 (dk_at dksX6_number_5 2 rfl rfl)
theorem dX6_number_121 : decode cX6_number 121 = .ok (.aload_n 0, 1) := dk_42 (dk_at dksX6_number_5 5 rfl rfl)
theorem dX6_number_122 : decode cX6_number 122 = .ok (.iload_n 3, 1) := dk_29 (dk_at dksX6_number_5 6 rfl rfl)
theorem dX6_number_123 : decode cX6_number 123 = .ok (.i2l, 1) := dk_133 (dk_at dksX6_number_5 7 rfl rfl)
theorem dX6_number_124 : decode cX6_number 124 = .ok (.iload_n 1, 1) := dk_27 (dk_at dksX6_number_5 8 rfl rfl)
theorem dX6_number_125 : decode cX6_number 125 = .ok (.i2l, 1) := dk_133 (dk_at dksX6_number_5 9 rfl rfl)
theorem dX6_number_126 : decode cX6_number 126 = .ok (.iload_n 2, 1) := dk_28 (dk_at dksX6_number_5 10 rfl rfl)
theorem dX6_number_127 : decode cX6_number 127 = .ok (.i2l, 1) := dk_133 (dk_at dksX6_number_5 11 rfl rfl)
theorem dX6_number_128 : decode cX6_number 128 = .ok (.invokestatic 68, 3) := dk_184 0 68 (dk_at dksX6_number_5 12 rfl rfl)
theorem dX6_number_131 : decode cX6_number 131 = .ok (.iconst 2, 1) := dk_5 (dk_at dksX6_number_5 15 rfl rfl)
theorem dX6_number_132 : decode cX6_number 132 = .ok (.invokevirtual 217, 3) := dk_182 0 217 (dk_at dksX6_number_5 16 rfl rfl)
theorem dX6_number_135 : decode cX6_number 135 = .ok (.aload_n 0, 1) := dk_42 (dk_at dksX6_number_5 19 rfl rfl)
theorem dX6_number_136 : decode cX6_number 136 = .ok (.getfield 208, 3) := dk_180 0 208 (dk_at dksX6_number_5 20 rfl rfl)
theorem dX6_number_139 : decode cX6_number 139 = .ok (.ifCond .ne 7, 3) := dk_154 0 7 (dk_at dksX6_number_6 0 rfl rfl)
theorem dX6_number_142 : decode cX6_number 142 = .ok (.iload_n 3, 1) := dk_29 (dk_at dksX6_number_6 3 rfl rfl)
theorem dX6_number_143 : decode cX6_number 143 = .ok (.goto 4, 3) := dk_167 0 4 (dk_at dksX6_number_6 4 rfl rfl)
theorem dX6_number_146 : decode cX6_number 146 = .ok (.iload_n 1, 1) := dk_27 (dk_at dksX6_number_6 7 rfl rfl)
theorem dX6_number_147 : decode cX6_number 147 = .ok (.ireturn, 1) := dk_172 (dk_at dksX6_number_6 8 rfl rfl)
def dkwX6_cells_0 : List UInt8 := [42, 180, 0, 7, 7, 46, 42, 180, 0, 7, 8, 46, 104, 172]
abbrev dktX6_cells_0 : List UInt8 := dkwX6_cells_0 ++ []
theorem dksX6_cells_0 : cX6_cells.data.toList.drop 0 = dktX6_cells_0 := by decide +kernel
theorem dX6_cells_0 : decode cX6_cells 0 = .ok (.aload_n 0, 1) := dk_42 (dk_at dksX6_cells_0 0 rfl rfl)
theorem dX6_cells_1 : decode cX6_cells 1 = .ok (.getfield 7, 3) := dk_180 0 7 (dk_at dksX6_cells_0 1 rfl rfl)
theorem dX6_cells_4 : decode cX6_cells 4 = .ok (.iconst 4, 1) := dk_7 (dk_at dksX6_cells_0 4 rfl rfl)
theorem dX6_cells_5 : decode cX6_cells 5 = .ok (.iaload, 1) := dk_46 (dk_at dksX6_cells_0 5 rfl rfl)
theorem dX6_cells_6 : decode cX6_cells 6 = .ok (.aload_n 0, 1) := dk_42 (dk_at dksX6_cells_0 6 rfl rfl)
theorem dX6_cells_7 : decode cX6_cells 7 = .ok (.getfield 7, 3) := dk_180 0 7 (dk_at dksX6_cells_0 7 rfl rfl)
theorem dX6_cells_10 : decode cX6_cells 10 = .ok (.iconst 5, 1) := dk_8 (dk_at dksX6_cells_0 10 rfl rfl)
theorem dX6_cells_11 : decode cX6_cells 11 = .ok (.iaload, 1) := dk_46 (dk_at dksX6_cells_0 11 rfl rfl)
theorem dX6_cells_12 : decode cX6_cells 12 = .ok (.imul, 1) := dk_104 (dk_at dksX6_cells_0 12 rfl rfl)
theorem dX6_cells_13 : decode cX6_cells 13 = .ok (.ireturn, 1) := dk_172 (dk_at dksX6_cells_0 13 rfl rfl)
def dkwX6_putsCell_0 : List UInt8 := [42, 180, 0, 7, 17, 0, 153, 8, 27, 104, 96, 28, 96, 29, 79, 177]
abbrev dktX6_putsCell_0 : List UInt8 := dkwX6_putsCell_0 ++ []
theorem dksX6_putsCell_0 : cX6_putsCell.data.toList.drop 0 = dktX6_putsCell_0 := by decide +kernel
theorem dX6_putsCell_0 : decode cX6_putsCell 0 = .ok (.aload_n 0, 1) := dk_42 (dk_at dksX6_putsCell_0 0 rfl rfl)
theorem dX6_putsCell_1 : decode cX6_putsCell 1 = .ok (.getfield 7, 3) := dk_180 0 7 (dk_at dksX6_putsCell_0 1 rfl rfl)
theorem dX6_putsCell_4 : decode cX6_putsCell 4 = .ok (.sipush 153, 3) := dk_17 0 153 (dk_at dksX6_putsCell_0 4 rfl rfl)
theorem dX6_putsCell_7 : decode cX6_putsCell 7 = .ok (.iconst 5, 1) := dk_8 (dk_at dksX6_putsCell_0 7 rfl rfl)
theorem dX6_putsCell_8 : decode cX6_putsCell 8 = .ok (.iload_n 1, 1) := dk_27 (dk_at dksX6_putsCell_0 8 rfl rfl)
theorem dX6_putsCell_9 : decode cX6_putsCell 9 = .ok (.imul, 1) := dk_104 (dk_at dksX6_putsCell_0 9 rfl rfl)
theorem dX6_putsCell_10 : decode cX6_putsCell 10 = .ok (.iadd, 1) := dk_96 (dk_at dksX6_putsCell_0 10 rfl rfl)
theorem dX6_putsCell_11 : decode cX6_putsCell 11 = .ok (.iload_n 2, 1) := dk_28 (dk_at dksX6_putsCell_0 11 rfl rfl)
theorem dX6_putsCell_12 : decode cX6_putsCell 12 = .ok (.iadd, 1) := dk_96 (dk_at dksX6_putsCell_0 12 rfl rfl)
theorem dX6_putsCell_13 : decode cX6_putsCell 13 = .ok (.iload_n 3, 1) := dk_29 (dk_at dksX6_putsCell_0 13 rfl rfl)
theorem dX6_putsCell_14 : decode cX6_putsCell 14 = .ok (.iastore, 1) := dk_79 (dk_at dksX6_putsCell_0 14 rfl rfl)
theorem dX6_putsCell_15 : decode cX6_putsCell 15 = .ok (.return_, 1) := dk_177 (dk_at dksX6_putsCell_0 15 rfl rfl)
def dkwX6_sign_1 : List UInt8 := [182, 0, 217, 42, 89, 180, 0, 193, 4, 96, 181, 0, 193, 177]
abbrev dktX6_sign_1 : List UInt8 := dkwX6_sign_1 ++ []
def dkwX6_sign_0 : List UInt8 := [42, 180, 0, 208, 153, 0, 4, 177, 42, 42, 182, 0, 214, 27, 160, 0, 7, 4, 167, 0, 4, 3, 4]
abbrev dktX6_sign_0 : List UInt8 := dkwX6_sign_0 ++ dktX6_sign_1
theorem dksX6_sign_0 : cX6_sign.data.toList.drop 0 = dktX6_sign_0 := by decide +kernel
theorem dksX6_sign_1 : cX6_sign.data.toList.drop 23 = dktX6_sign_1 := dk_seg dksX6_sign_0 23 rfl rfl
theorem dX6_sign_0 : decode cX6_sign 0 = .ok (.aload_n 0, 1) := dk_42 (dk_at dksX6_sign_0 0 rfl rfl)
theorem dX6_sign_1 : decode cX6_sign 1 = .ok (.getfield 208, 3) := dk_180 0 208 (dk_at dksX6_sign_0 1 rfl rfl)
theorem dX6_sign_4 : decode cX6_sign 4 = .ok (.ifCond .eq 4, 3) := dk_153 0 4 (dk_at dksX6_sign_0 4 rfl rfl)
theorem dX6_sign_7 : decode cX6_sign 7 = .ok (.return_, 1) := dk_177 (dk_at dksX6_sign_0 7 rfl rfl)
theorem dX6_sign_8 : decode cX6_sign 8 = .ok (.aload_n 0, 1) := dk_42 (dk_at dksX6_sign_0 8 rfl rfl)
theorem dX6_sign_9 : decode cX6_sign 9 = .ok (.aload_n 0, 1) := dk_42 (dk_at dksX6_sign_0 9 rfl rfl)
theorem dX6_sign_10 : decode cX6_sign 10 = .ok (.invokevirtual 214, 3) := dk_182 0 214 (dk_at dksX6_sign_0 10 rfl rfl)
theorem dX6_sign_13 : decode cX6_sign 13 = .ok (.iload_n 1, 1) := dk_27 (dk_at dksX6_sign_0 13 rfl rfl)
theorem dX6_sign_14 : decode cX6_sign 14 = .ok (.if_icmp .ne 7, 3) := dk_160 0 7 (dk_at dksX6_sign_0 14 rfl rfl)
theorem dX6_sign_17 : decode cX6_sign 17 = .ok (.iconst 1, 1) := dk_4 (dk_at dksX6_sign_0 17 rfl rfl)
theorem dX6_sign_18 : decode cX6_sign 18 = .ok (.goto 4, 3) := dk_167 0 4 (dk_at dksX6_sign_0 18 rfl rfl)
theorem dX6_sign_21 : decode cX6_sign 21 = .ok (.iconst 0, 1) := dk_3 (dk_at dksX6_sign_0 21 rfl rfl)
theorem dX6_sign_22 : decode cX6_sign 22 = .ok (.iconst 1, 1) := dk_4 (dk_at dksX6_sign_0 22 rfl rfl)
theorem dX6_sign_23 : decode cX6_sign 23 = .ok (.invokevirtual 217, 3) := dk_182 0 217 (dk_at dksX6_sign_1 0 rfl rfl)
theorem dX6_sign_26 : decode cX6_sign 26 = .ok (.aload_n 0, 1) := dk_42 (dk_at dksX6_sign_1 3 rfl rfl)
theorem dX6_sign_27 : decode cX6_sign 27 = .ok (.dup, 1) := dk_89 (dk_at dksX6_sign_1 4 rfl rfl)
theorem dX6_sign_28 : decode cX6_sign 28 = .ok (.getfield 193, 3) := dk_180 0 193 (dk_at dksX6_sign_1 5 rfl rfl)
theorem dX6_sign_31 : decode cX6_sign 31 = .ok (.iconst 1, 1) := dk_4 (dk_at dksX6_sign_1 8 rfl rfl)
theorem dX6_sign_32 : decode cX6_sign 32 = .ok (.iadd, 1) := dk_96 (dk_at dksX6_sign_1 9 rfl rfl)
theorem dX6_sign_33 : decode cX6_sign 33 = .ok (.putfield 193, 3) := dk_181 0 193 (dk_at dksX6_sign_1 10 rfl rfl)
theorem dX6_sign_36 : decode cX6_sign 36 = .ok (.return_, 1) := dk_177 (dk_at dksX6_sign_1 13 rfl rfl)
def dkwX6_statement_5 : List UInt8 := [177]
abbrev dktX6_statement_5 : List UInt8 := dkwX6_statement_5 ++ []
def dkwX6_statement_4 : List UInt8 := [182, 0, 250, 153, 0, 10, 42, 182, 1, 43, 167, 0, 14, 42, 182, 0, 214, 60, 42, 3, 4, 182, 0, 217]
abbrev dktX6_statement_4 : List UInt8 := dkwX6_statement_4 ++ dktX6_statement_5
def dkwX6_statement_3 : List UInt8 := [19, 1, 18, 182, 0, 250, 154, 0, 23, 42, 19, 1, 23, 182, 0, 250, 154, 0, 13, 42, 19, 1, 41]
abbrev dktX6_statement_3 : List UInt8 := dkwX6_statement_3 ++ dktX6_statement_4
def dkwX6_statement_2 : List UInt8 := [182, 0, 250, 153, 0, 10, 42, 182, 1, 38, 167, 0, 60, 42, 180, 0, 7, 4, 46, 158, 0, 40, 42]
abbrev dktX6_statement_2 : List UInt8 := dkwX6_statement_2 ++ dktX6_statement_3
def dkwX6_statement_1 : List UInt8 := [167, 0, 94, 42, 180, 0, 7, 3, 46, 4, 164, 0, 27, 42, 180, 1, 14, 153, 0, 20, 42, 19, 1, 36]
abbrev dktX6_statement_1 : List UInt8 := dkwX6_statement_1 ++ dktX6_statement_2
def dkwX6_statement_0 : List UInt8 := [42, 180, 0, 7, 4, 46, 154, 0, 20, 42, 19, 1, 31, 182, 0, 250, 153, 0, 10, 42, 182, 1, 33]
abbrev dktX6_statement_0 : List UInt8 := dkwX6_statement_0 ++ dktX6_statement_1
theorem dksX6_statement_0 : cX6_statement.data.toList.drop 0 = dktX6_statement_0 := by decide +kernel
theorem dksX6_statement_1 : cX6_statement.data.toList.drop 23 = dktX6_statement_1 := dk_seg dksX6_statement_0 23 rfl rfl
theorem dksX6_statement_2 : cX6_statement.data.toList.drop 47 = dktX6_statement_2 := dk_seg dksX6_statement_1 24 rfl rfl
theorem dksX6_statement_3 : cX6_statement.data.toList.drop 70 = dktX6_statement_3 := dk_seg dksX6_statement_2 23 rfl rfl
theorem dksX6_statement_4 : cX6_statement.data.toList.drop 93 = dktX6_statement_4 := dk_seg dksX6_statement_3 23 rfl rfl
theorem dksX6_statement_5 : cX6_statement.data.toList.drop 117 = dktX6_statement_5 := dk_seg dksX6_statement_4 24 rfl rfl
theorem dX6_statement_0 : decode cX6_statement 0 = .ok (.aload_n 0, 1) := dk_42 (dk_at dksX6_statement_0 0 rfl rfl)
theorem dX6_statement_1 : decode cX6_statement 1 = .ok (.getfield 7, 3) := dk_180 0 7 (dk_at dksX6_statement_0 1 rfl rfl)
theorem dX6_statement_4 : decode cX6_statement 4 = .ok (.iconst 1, 1) := dk_4 (dk_at dksX6_statement_0 4 rfl rfl)
theorem dX6_statement_5 : decode cX6_statement 5 = .ok (.iaload, 1) := dk_46 (dk_at dksX6_statement_0 5 rfl rfl)
theorem dX6_statement_6 : decode cX6_statement 6 = .ok (.ifCond .ne 20, 3) := dk_154 0 20 (dk_at dksX6_statement_0 6 rfl rfl)
theorem dX6_statement_9 : decode cX6_statement 9 = .ok (.aload_n 0, 1) := dk_42 (dk_at dksX6_statement_0 9 rfl rfl)
theorem dX6_statement_10 : decode cX6_statement 10 = .ok (.ldc_w 287, 3) := dk_19 1 31 (dk_at dksX6_statement_0 10 rfl rfl)
theorem dX6_statement_13 : decode cX6_statement 13 = .ok (.invokevirtual 250, 3) := dk_182 0 250 (dk_at dksX6_statement_0 13 rfl rfl)
theorem dX6_statement_16 : decode cX6_statement 16 = .ok (.ifCond .eq 10, 3) := dk_153 0 10 (dk_at dksX6_statement_0 16 rfl rfl)
theorem dX6_statement_19 : decode cX6_statement 19 = .ok (.aload_n 0, 1) := dk_42 (dk_at dksX6_statement_0 19 rfl rfl)
theorem dX6_statement_20 : decode cX6_statement 20 = .ok (.invokevirtual 289, 3) := dk_182 1 33 (dk_at dksX6_statement_0 20 rfl rfl)
theorem dX6_statement_23 : decode cX6_statement 23 = .ok (.goto 94, 3) := dk_167 0 94 (dk_at dksX6_statement_1 0 rfl rfl)
theorem dX6_statement_26 : decode cX6_statement 26 = .ok (.aload_n 0, 1) := dk_42 (dk_at dksX6_statement_1 3 rfl rfl)
theorem dX6_statement_27 : decode cX6_statement 27 = .ok (.getfield 7, 3) := dk_180 0 7 (dk_at dksX6_statement_1 4 rfl rfl)
theorem dX6_statement_30 : decode cX6_statement 30 = .ok (.iconst 0, 1) := dk_3 (dk_at dksX6_statement_1 7 rfl rfl)
theorem dX6_statement_31 : decode cX6_statement 31 = .ok (.iaload, 1) := dk_46 (dk_at dksX6_statement_1 8 rfl rfl)
theorem dX6_statement_32 : decode cX6_statement 32 = .ok (.iconst 1, 1) := dk_4 (dk_at dksX6_statement_1 9 rfl rfl)
theorem dX6_statement_33 : decode cX6_statement 33 = .ok (.if_icmp .le 27, 3) := dk_164 0 27 (dk_at dksX6_statement_1 10 rfl rfl)
theorem dX6_statement_36 : decode cX6_statement 36 = .ok (.aload_n 0, 1) := dk_42 (dk_at dksX6_statement_1 13 rfl rfl)
theorem dX6_statement_37 : decode cX6_statement 37 = .ok (.getfield 270, 3) := dk_180 1 14 (dk_at dksX6_statement_1 14 rfl rfl)
theorem dX6_statement_40 : decode cX6_statement 40 = .ok (.ifCond .eq 20, 3) := dk_153 0 20 (dk_at dksX6_statement_1 17 rfl rfl)
theorem dX6_statement_43 : decode cX6_statement 43 = .ok (.aload_n 0, 1) := dk_42 (dk_at dksX6_statement_1 20 rfl rfl)
theorem dX6_statement_44 : decode cX6_statement 44 = .ok (.ldc_w 292, 3) := dk_19 1 36 (dk_at dksX6_statement_1 21 rfl rfl)
theorem dX6_statement_47 : decode cX6_statement 47 = .ok (.invokevirtual 250, 3) := dk_182 0 250 (dk_at dksX6_statement_2 0 rfl rfl)
theorem dX6_statement_50 : decode cX6_statement 50 = .ok (.ifCond .eq 10, 3) := dk_153 0 10 (dk_at dksX6_statement_2 3 rfl rfl)
theorem dX6_statement_53 : decode cX6_statement 53 = .ok (.aload_n 0, 1) := dk_42 (dk_at dksX6_statement_2 6 rfl rfl)
theorem dX6_statement_54 : decode cX6_statement 54 = .ok (.invokevirtual 294, 3) := dk_182 1 38 (dk_at dksX6_statement_2 7 rfl rfl)
theorem dX6_statement_57 : decode cX6_statement 57 = .ok (.goto 60, 3) := dk_167 0 60 (dk_at dksX6_statement_2 10 rfl rfl)
theorem dX6_statement_60 : decode cX6_statement 60 = .ok (.aload_n 0, 1) := dk_42 (dk_at dksX6_statement_2 13 rfl rfl)
theorem dX6_statement_61 : decode cX6_statement 61 = .ok (.getfield 7, 3) := dk_180 0 7 (dk_at dksX6_statement_2 14 rfl rfl)
theorem dX6_statement_64 : decode cX6_statement 64 = .ok (.iconst 1, 1) := dk_4 (dk_at dksX6_statement_2 17 rfl rfl)
theorem dX6_statement_65 : decode cX6_statement 65 = .ok (.iaload, 1) := dk_46 (dk_at dksX6_statement_2 18 rfl rfl)
theorem dX6_statement_66 : decode cX6_statement 66 = .ok (.ifCond .le 40, 3) := dk_158 0 40 (dk_at dksX6_statement_2 19 rfl rfl)
theorem dX6_statement_69 : decode cX6_statement 69 = .ok (.aload_n 0, 1) := dk_42 (dk_at dksX6_statement_2 22 rfl rfl)
theorem dX6_statement_70 : decode cX6_statement 70 = .ok (.ldc_w 274, 3) := dk_19 1 18 (dk_at dksX6_statement_3 0 rfl rfl)
theorem dX6_statement_73 : decode cX6_statement 73 = .ok (.invokevirtual 250, 3) := dk_182 0 250 (dk_at dksX6_statement_3 3 rfl rfl)
theorem dX6_statement_76 : decode cX6_statement 76 = .ok (.ifCond .ne 23, 3) := dk_154 0 23 (dk_at dksX6_statement_3 6 rfl rfl)
theorem dX6_statement_79 : decode cX6_statement 79 = .ok (.aload_n 0, 1) := dk_42 (dk_at dksX6_statement_3 9 rfl rfl)
theorem dX6_statement_80 : decode cX6_statement 80 = .ok (.ldc_w 279, 3) := dk_19 1 23 (dk_at dksX6_statement_3 10 rfl rfl)
theorem dX6_statement_83 : decode cX6_statement 83 = .ok (.invokevirtual 250, 3) := dk_182 0 250 (dk_at dksX6_statement_3 13 rfl rfl)
theorem dX6_statement_86 : decode cX6_statement 86 = .ok (.ifCond .ne 13, 3) := dk_154 0 13 (dk_at dksX6_statement_3 16 rfl rfl)
theorem dX6_statement_89 : decode cX6_statement 89 = .ok (.aload_n 0, 1) := dk_42 (dk_at dksX6_statement_3 19 rfl rfl)
theorem dX6_statement_90 : decode cX6_statement 90 = .ok (.ldc_w 297, 3) := dk_19 1 41 (dk_at dksX6_statement_3 20 rfl rfl)
theorem dX6_statement_93 : decode cX6_statement 93 = .ok (.invokevirtual 250, 3) := dk_182 0 250 (dk_at dksX6_statement_4 0 rfl rfl)
theorem dX6_statement_96 : decode cX6_statement 96 = .ok (.ifCond .eq 10, 3) := dk_153 0 10 (dk_at dksX6_statement_4 3 rfl rfl)
theorem dX6_statement_99 : decode cX6_statement 99 = .ok (.aload_n 0, 1) := dk_42 (dk_at dksX6_statement_4 6 rfl rfl)
theorem dX6_statement_100 : decode cX6_statement 100 = .ok (.invokevirtual 299, 3) := dk_182 1 43 (dk_at dksX6_statement_4 7 rfl rfl)
theorem dX6_statement_103 : decode cX6_statement 103 = .ok (.goto 14, 3) := dk_167 0 14 (dk_at dksX6_statement_4 10 rfl rfl)
theorem dX6_statement_106 : decode cX6_statement 106 = .ok (.aload_n 0, 1) := dk_42 (dk_at dksX6_statement_4 13 rfl rfl)
theorem dX6_statement_107 : decode cX6_statement 107 = .ok (.invokevirtual 214, 3) := dk_182 0 214 (dk_at dksX6_statement_4 14 rfl rfl)
theorem dX6_statement_110 : decode cX6_statement 110 = .ok (.istore_n 1, 1) := dk_60 (dk_at dksX6_statement_4 17 rfl rfl)
theorem dX6_statement_111 : decode cX6_statement 111 = .ok (.aload_n 0, 1) := dk_42 (dk_at dksX6_statement_4 18 rfl rfl)
theorem dX6_statement_112 : decode cX6_statement 112 = .ok (.iconst 0, 1) := dk_3 (dk_at dksX6_statement_4 19 rfl rfl)
theorem dX6_statement_113 : decode cX6_statement 113 = .ok (.iconst 1, 1) := dk_4 (dk_at dksX6_statement_4 20 rfl rfl)
theorem dX6_statement_114 : decode cX6_statement 114 = .ok (.invokevirtual 217, 3) := dk_182 0 217 (dk_at dksX6_statement_4 21 rfl rfl)
theorem dX6_statement_117 : decode cX6_statement 117 = .ok (.return_, 1) := dk_177 (dk_at dksX6_statement_5 0 rfl rfl)
def dkwX6_gateLine_5 : List UInt8 := [182, 0, 139, 42, 180, 0, 7, 3, 92, 46, 4, 96, 79, 177]
abbrev dktX6_gateLine_5 : List UInt8 := dkwX6_gateLine_5 ++ []
def dkwX6_gateLine_4 : List UInt8 := [180, 0, 7, 27, 16, 8, 96, 42, 28, 182, 0, 72, 79, 42, 28, 3, 5, 182, 0, 139, 42, 28, 4, 3]
abbrev dktX6_gateLine_4 : List UInt8 := dkwX6_gateLine_4 ++ dktX6_gateLine_5
def dkwX6_gateLine_3 : List UInt8 := [167, 0, 4, 3, 6, 182, 0, 217, 42, 180, 0, 7, 27, 16, 7, 96, 42, 28, 182, 0, 76, 79, 42]
abbrev dktX6_gateLine_3 : List UInt8 := dkwX6_gateLine_3 ++ dktX6_gateLine_4
def dkwX6_gateLine_2 : List UInt8 := [42, 27, 4, 182, 1, 1, 42, 182, 1, 4, 61, 42, 42, 28, 3, 182, 0, 86, 5, 159, 0, 7, 4]
abbrev dktX6_gateLine_2 : List UInt8 := dkwX6_gateLine_2 ++ dktX6_gateLine_3
def dkwX6_gateLine_1 : List UInt8 := [180, 0, 208, 153, 0, 4, 177, 42, 182, 0, 242, 16, 21, 16, 9, 42, 180, 0, 7, 3, 46, 104, 96, 60]
abbrev dktX6_gateLine_1 : List UInt8 := dkwX6_gateLine_1 ++ dktX6_gateLine_2
def dkwX6_gateLine_0 : List UInt8 := [42, 42, 180, 0, 7, 3, 46, 16, 6, 162, 0, 7, 4, 167, 0, 4, 3, 7, 182, 0, 217, 42]
abbrev dktX6_gateLine_0 : List UInt8 := dkwX6_gateLine_0 ++ dktX6_gateLine_1
theorem dksX6_gateLine_0 : cX6_gateLine.data.toList.drop 0 = dktX6_gateLine_0 := by decide +kernel
theorem dksX6_gateLine_1 : cX6_gateLine.data.toList.drop 22 = dktX6_gateLine_1 := dk_seg dksX6_gateLine_0 22 rfl rfl
theorem dksX6_gateLine_2 : cX6_gateLine.data.toList.drop 46 = dktX6_gateLine_2 := dk_seg dksX6_gateLine_1 24 rfl rfl
theorem dksX6_gateLine_3 : cX6_gateLine.data.toList.drop 69 = dktX6_gateLine_3 := dk_seg dksX6_gateLine_2 23 rfl rfl
theorem dksX6_gateLine_4 : cX6_gateLine.data.toList.drop 92 = dktX6_gateLine_4 := dk_seg dksX6_gateLine_3 23 rfl rfl
theorem dksX6_gateLine_5 : cX6_gateLine.data.toList.drop 116 = dktX6_gateLine_5 := dk_seg dksX6_gateLine_4 24 rfl rfl
theorem dX6_gateLine_0 : decode cX6_gateLine 0 = .ok (.aload_n 0, 1) := dk_42 (dk_at dksX6_gateLine_0 0 rfl rfl)
theorem dX6_gateLine_1 : decode cX6_gateLine 1 = .ok (.aload_n 0, 1) := dk_42 (dk_at dksX6_gateLine_0 1 rfl rfl)
theorem dX6_gateLine_2 : decode cX6_gateLine 2 = .ok (.getfield 7, 3) := dk_180 0 7 (dk_at dksX6_gateLine_0 2 rfl rfl)
theorem dX6_gateLine_5 : decode cX6_gateLine 5 = .ok (.iconst 0, 1) := dk_3 (dk_at dksX6_gateLine_0 5 rfl rfl)
theorem dX6_gateLine_6 : decode cX6_gateLine 6 = .ok (.iaload, 1) := dk_46 (dk_at dksX6_gateLine_0 6 rfl rfl)
theorem dX6_gateLine_7 : decode cX6_gateLine 7 = .ok (.bipush 6, 2) := dk_16 6 (dk_at dksX6_gateLine_0 7 rfl rfl)
theorem dX6_gateLine_9 : decode cX6_gateLine 9 = .ok (.if_icmp .ge 7, 3) := dk_162 0 7 (dk_at dksX6_gateLine_0 9 rfl rfl)
theorem dX6_gateLine_12 : decode cX6_gateLine 12 = .ok (.iconst 1, 1) := dk_4 (dk_at dksX6_gateLine_0 12 rfl rfl)
theorem dX6_gateLine_13 : decode cX6_gateLine 13 = .ok (.goto 4, 3) := dk_167 0 4 (dk_at dksX6_gateLine_0 13 rfl rfl)
theorem dX6_gateLine_16 : decode cX6_gateLine 16 = .ok (.iconst 0, 1) := dk_3 (dk_at dksX6_gateLine_0 16 rfl rfl)
theorem dX6_gateLine_17 : decode cX6_gateLine 17 = .ok (.iconst 4, 1) := dk_7 (dk_at dksX6_gateLine_0 17 rfl rfl)
theorem dX6_gateLine_18 : decode cX6_gateLine 18 = .ok (.invokevirtual 217, 3) := dk_182 0 217 (dk_at dksX6_gateLine_0 18 rfl rfl)
theorem dX6_gateLine_21 : decode cX6_gateLine 21 = .ok (.aload_n 0, 1) := dk_42 (dk_at dksX6_gateLine_0 21 rfl rfl)
theorem dX6_gateLine_22 : decode cX6_gateLine 22 = .ok (.getfield 208, 3) := dk_180 0 208 (dk_at dksX6_gateLine_1 0 rfl rfl)
theorem dX6_gateLine_25 : decode cX6_gateLine 25 = .ok (.ifCond .eq 4, 3) := dk_153 0 4 (dk_at dksX6_gateLine_1 3 rfl rfl)
theorem dX6_gateLine_28 : decode cX6_gateLine 28 = .ok (.return_, 1) := dk_177 (dk_at dksX6_gateLine_1 6 rfl rfl)
theorem dX6_gateLine_29 : decode cX6_gateLine 29 = .ok (.aload_n 0, 1) := dk_42 (dk_at dksX6_gateLine_1 7 rfl rfl)
theorem dX6_gateLine_30 : decode cX6_gateLine 30 = .ok (.invokevirtual 242, 3) := dk_182 0 242 (dk_at dksX6_gateLine_1 8 rfl rfl)
theorem dX6_gateLine_33 : decode cX6_gateLine 33 = .ok (.bipush 21, 2) := dk_16 21 (dk_at dksX6_gateLine_1 11 rfl rfl)
theorem dX6_gateLine_35 : decode cX6_gateLine 35 = .ok (.bipush 9, 2) := dk_16 9 (dk_at dksX6_gateLine_1 13 rfl rfl)
theorem dX6_gateLine_37 : decode cX6_gateLine 37 = .ok (.aload_n 0, 1) := dk_42 (dk_at dksX6_gateLine_1 15 rfl rfl)
theorem dX6_gateLine_38 : decode cX6_gateLine 38 = .ok (.getfield 7, 3) := dk_180 0 7 (dk_at dksX6_gateLine_1 16 rfl rfl)
theorem dX6_gateLine_41 : decode cX6_gateLine 41 = .ok (.iconst 0, 1) := dk_3 (dk_at dksX6_gateLine_1 19 rfl rfl)
theorem dX6_gateLine_42 : decode cX6_gateLine 42 = .ok (.iaload, 1) := dk_46 (dk_at dksX6_gateLine_1 20 rfl rfl)
theorem dX6_gateLine_43 : decode cX6_gateLine 43 = .ok (.imul, 1) := dk_104 (dk_at dksX6_gateLine_1 21 rfl rfl)
theorem dX6_gateLine_44 : decode cX6_gateLine 44 = .ok (.iadd, 1) := dk_96 (dk_at dksX6_gateLine_1 22 rfl rfl)
theorem dX6_gateLine_45 : decode cX6_gateLine 45 = .ok (.istore_n 1, 1) := dk_60 (dk_at dksX6_gateLine_1 23 rfl rfl)
theorem dX6_gateLine_46 : decode cX6_gateLine 46 = .ok (.aload_n 0, 1) := dk_42 (dk_at dksX6_gateLine_2 0 rfl rfl)
theorem dX6_gateLine_47 : decode cX6_gateLine 47 = .ok (.iload_n 1, 1) := dk_27 (dk_at dksX6_gateLine_2 1 rfl rfl)
theorem dX6_gateLine_48 : decode cX6_gateLine 48 = .ok (.iconst 1, 1) := dk_4 (dk_at dksX6_gateLine_2 2 rfl rfl)
theorem dX6_gateLine_49 : decode cX6_gateLine 49 = .ok (.invokevirtual 257, 3) := dk_182 1 1 (dk_at dksX6_gateLine_2 3 rfl rfl)
theorem dX6_gateLine_52 : decode cX6_gateLine 52 = .ok (.aload_n 0, 1) := dk_42 (dk_at dksX6_gateLine_2 6 rfl rfl)
theorem dX6_gateLine_53 : decode cX6_gateLine 53 = .ok (.invokevirtual 260, 3) := dk_182 1 4 (dk_at dksX6_gateLine_2 7 rfl rfl)
theorem dX6_gateLine_56 : decode cX6_gateLine 56 = .ok (.istore_n 2, 1) := dk_61 (dk_at dksX6_gateLine_2 10 rfl rfl)
theorem dX6_gateLine_57 : decode cX6_gateLine 57 = .ok (.aload_n 0, 1) := dk_42 (dk_at dksX6_gateLine_2 11 rfl rfl)
theorem dX6_gateLine_58 : decode cX6_gateLine 58 = .ok (.aload_n 0, 1) := dk_42 (dk_at dksX6_gateLine_2 12 rfl rfl)
theorem dX6_gateLine_59 : decode cX6_gateLine 59 = .ok (.iload_n 2, 1) := dk_28 (dk_at dksX6_gateLine_2 13 rfl rfl)
theorem dX6_gateLine_60 : decode cX6_gateLine 60 = .ok (.iconst 0, 1) := dk_3 (dk_at dksX6_gateLine_2 14 rfl rfl)
theorem dX6_gateLine_61 : decode cX6_gateLine 61 = .ok (.invokevirtual 86, 3) := dk_182 0 86 (dk_at dksX6_gateLine_2 15 rfl rfl)
theorem dX6_gateLine_64 : decode cX6_gateLine 64 = .ok (.iconst 2, 1) := dk_5 (dk_at dksX6_gateLine_2 18 rfl rfl)
theorem dX6_gateLine_65 : decode cX6_gateLine 65 = .ok (.if_icmp .eq 7, 3) := dk_159 0 7 (dk_at dksX6_gateLine_2 19 rfl rfl)
theorem dX6_gateLine_68 : decode cX6_gateLine 68 = .ok (.iconst 1, 1) := dk_4 (dk_at dksX6_gateLine_2 22 rfl rfl)
theorem dX6_gateLine_69 : decode cX6_gateLine 69 = .ok (.goto 4, 3) := dk_167 0 4 (dk_at dksX6_gateLine_3 0 rfl rfl)
theorem dX6_gateLine_72 : decode cX6_gateLine 72 = .ok (.iconst 0, 1) := dk_3 (dk_at dksX6_gateLine_3 3 rfl rfl)
theorem dX6_gateLine_73 : decode cX6_gateLine 73 = .ok (.iconst 3, 1) := dk_6 (dk_at dksX6_gateLine_3 4 rfl rfl)
theorem dX6_gateLine_74 : decode cX6_gateLine 74 = .ok (.invokevirtual 217, 3) := dk_182 0 217 (dk_at dksX6_gateLine_3 5 rfl rfl)
theorem dX6_gateLine_77 : decode cX6_gateLine 77 = .ok (.aload_n 0, 1) := dk_42 (dk_at dksX6_gateLine_3 8 rfl rfl)
theorem dX6_gateLine_78 : decode cX6_gateLine 78 = .ok (.getfield 7, 3) := dk_180 0 7 (dk_at dksX6_gateLine_3 9 rfl rfl)
theorem dX6_gateLine_81 : decode cX6_gateLine 81 = .ok (.iload_n 1, 1) := dk_27 (dk_at dksX6_gateLine_3 12 rfl rfl)
theorem dX6_gateLine_82 : decode cX6_gateLine 82 = .ok (.bipush 7, 2) := dk_16 7 (dk_at dksX6_gateLine_3 13 rfl rfl)
theorem dX6_gateLine_84 : decode cX6_gateLine 84 = .ok (.iadd, 1) := dk_96 (dk_at dksX6_gateLine_3 15 rfl rfl)
theorem dX6_gateLine_85 : decode cX6_gateLine 85 = .ok (.aload_n 0, 1) := dk_42 (dk_at dksX6_gateLine_3 16 rfl rfl)
theorem dX6_gateLine_86 : decode cX6_gateLine 86 = .ok (.iload_n 2, 1) := dk_28 (dk_at dksX6_gateLine_3 17 rfl rfl)
theorem dX6_gateLine_87 : decode cX6_gateLine 87 = .ok (.invokevirtual 76, 3) := dk_182 0 76 (dk_at dksX6_gateLine_3 18 rfl rfl)
theorem dX6_gateLine_90 : decode cX6_gateLine 90 = .ok (.iastore, 1) := dk_79 (dk_at dksX6_gateLine_3 21 rfl rfl)
theorem dX6_gateLine_91 : decode cX6_gateLine 91 = .ok (.aload_n 0, 1) := dk_42 (dk_at dksX6_gateLine_3 22 rfl rfl)
theorem dX6_gateLine_92 : decode cX6_gateLine 92 = .ok (.getfield 7, 3) := dk_180 0 7 (dk_at dksX6_gateLine_4 0 rfl rfl)
theorem dX6_gateLine_95 : decode cX6_gateLine 95 = .ok (.iload_n 1, 1) := dk_27 (dk_at dksX6_gateLine_4 3 rfl rfl)
theorem dX6_gateLine_96 : decode cX6_gateLine 96 = .ok (.bipush 8, 2) := dk_16 8 (dk_at dksX6_gateLine_4 4 rfl rfl)
theorem dX6_gateLine_98 : decode cX6_gateLine 98 = .ok (.iadd, 1) := dk_96 (dk_at dksX6_gateLine_4 6 rfl rfl)
theorem dX6_gateLine_99 : decode cX6_gateLine 99 = .ok (.aload_n 0, 1) := dk_42 (dk_at dksX6_gateLine_4 7 rfl rfl)
theorem dX6_gateLine_100 : decode cX6_gateLine 100 = .ok (.iload_n 2, 1) := dk_28 (dk_at dksX6_gateLine_4 8 rfl rfl)
theorem dX6_gateLine_101 : decode cX6_gateLine 101 = .ok (.invokevirtual 72, 3) := dk_182 0 72 (dk_at dksX6_gateLine_4 9 rfl rfl)
theorem dX6_gateLine_104 : decode cX6_gateLine 104 = .ok (.iastore, 1) := dk_79 (dk_at dksX6_gateLine_4 12 rfl rfl)
theorem dX6_gateLine_105 : decode cX6_gateLine 105 = .ok (.aload_n 0, 1) := dk_42 (dk_at dksX6_gateLine_4 13 rfl rfl)
theorem dX6_gateLine_106 : decode cX6_gateLine 106 = .ok (.iload_n 2, 1) := dk_28 (dk_at dksX6_gateLine_4 14 rfl rfl)
theorem dX6_gateLine_107 : decode cX6_gateLine 107 = .ok (.iconst 0, 1) := dk_3 (dk_at dksX6_gateLine_4 15 rfl rfl)
theorem dX6_gateLine_108 : decode cX6_gateLine 108 = .ok (.iconst 2, 1) := dk_5 (dk_at dksX6_gateLine_4 16 rfl rfl)
theorem dX6_gateLine_109 : decode cX6_gateLine 109 = .ok (.invokevirtual 139, 3) := dk_182 0 139 (dk_at dksX6_gateLine_4 17 rfl rfl)
theorem dX6_gateLine_112 : decode cX6_gateLine 112 = .ok (.aload_n 0, 1) := dk_42 (dk_at dksX6_gateLine_4 20 rfl rfl)
theorem dX6_gateLine_113 : decode cX6_gateLine 113 = .ok (.iload_n 2, 1) := dk_28 (dk_at dksX6_gateLine_4 21 rfl rfl)
theorem dX6_gateLine_114 : decode cX6_gateLine 114 = .ok (.iconst 1, 1) := dk_4 (dk_at dksX6_gateLine_4 22 rfl rfl)
theorem dX6_gateLine_115 : decode cX6_gateLine 115 = .ok (.iconst 0, 1) := dk_3 (dk_at dksX6_gateLine_4 23 rfl rfl)
theorem dX6_gateLine_116 : decode cX6_gateLine 116 = .ok (.invokevirtual 139, 3) := dk_182 0 139 (dk_at dksX6_gateLine_5 0 rfl rfl)
theorem dX6_gateLine_119 : decode cX6_gateLine 119 = .ok (.aload_n 0, 1) := dk_42 (dk_at dksX6_gateLine_5 3 rfl rfl)
theorem dX6_gateLine_120 : decode cX6_gateLine 120 = .ok (.getfield 7, 3) := dk_180 0 7 (dk_at dksX6_gateLine_5 4 rfl rfl)
theorem dX6_gateLine_123 : decode cX6_gateLine 123 = .ok (.iconst 0, 1) := dk_3 (dk_at dksX6_gateLine_5 7 rfl rfl)
theorem dX6_gateLine_124 : decode cX6_gateLine 124 = .ok (.dup2, 1) := dk_92 (dk_at dksX6_gateLine_5 8 rfl rfl)
theorem dX6_gateLine_125 : decode cX6_gateLine 125 = .ok (.iaload, 1) := dk_46 (dk_at dksX6_gateLine_5 9 rfl rfl)
theorem dX6_gateLine_126 : decode cX6_gateLine 126 = .ok (.iconst 1, 1) := dk_4 (dk_at dksX6_gateLine_5 10 rfl rfl)
theorem dX6_gateLine_127 : decode cX6_gateLine 127 = .ok (.iadd, 1) := dk_96 (dk_at dksX6_gateLine_5 11 rfl rfl)
theorem dX6_gateLine_128 : decode cX6_gateLine 128 = .ok (.iastore, 1) := dk_79 (dk_at dksX6_gateLine_5 12 rfl rfl)
theorem dX6_gateLine_129 : decode cX6_gateLine 129 = .ok (.return_, 1) := dk_177 (dk_at dksX6_gateLine_5 13 rfl rfl)
def dkwX6_newName_3 : List UInt8 := [182, 0, 195, 79, 132, 3, 1, 167, 255, 225, 42, 182, 0, 242, 177]
abbrev dktX6_newName_3 : List UInt8 := dkwX6_newName_3 ++ []
def dkwX6_newName_2 : List UInt8 := [42, 180, 0, 201, 162, 0, 29, 42, 180, 0, 7, 27, 4, 96, 29, 96, 42, 42, 180, 0, 198, 29, 96]
abbrev dktX6_newName_2 : List UInt8 := dkwX6_newName_2 ++ dktX6_newName_3
def dkwX6_newName_1 : List UInt8 := [182, 0, 217, 42, 180, 0, 208, 153, 0, 4, 177, 42, 180, 0, 7, 27, 42, 180, 0, 201, 79, 3, 62, 29]
abbrev dktX6_newName_1 : List UInt8 := dkwX6_newName_1 ++ dktX6_newName_2
def dkwX6_newName_0 : List UInt8 := [42, 182, 0, 236, 154, 0, 4, 177, 42, 42, 28, 182, 0, 239, 2, 160, 0, 7, 4, 167, 0, 4, 3, 6]
abbrev dktX6_newName_0 : List UInt8 := dkwX6_newName_0 ++ dktX6_newName_1
theorem dksX6_newName_0 : cX6_newName.data.toList.drop 0 = dktX6_newName_0 := by decide +kernel
theorem dksX6_newName_1 : cX6_newName.data.toList.drop 24 = dktX6_newName_1 := dk_seg dksX6_newName_0 24 rfl rfl
theorem dksX6_newName_2 : cX6_newName.data.toList.drop 48 = dktX6_newName_2 := dk_seg dksX6_newName_1 24 rfl rfl
theorem dksX6_newName_3 : cX6_newName.data.toList.drop 71 = dktX6_newName_3 := dk_seg dksX6_newName_2 23 rfl rfl
theorem dX6_newName_0 : decode cX6_newName 0 = .ok (.aload_n 0, 1) := dk_42 (dk_at dksX6_newName_0 0 rfl rfl)
theorem dX6_newName_1 : decode cX6_newName 1 = .ok (.invokevirtual 236, 3) := dk_182 0 236 (dk_at dksX6_newName_0 1 rfl rfl)
theorem dX6_newName_4 : decode cX6_newName 4 = .ok (.ifCond .ne 4, 3) := dk_154 0 4 (dk_at dksX6_newName_0 4 rfl rfl)
theorem dX6_newName_7 : decode cX6_newName 7 = .ok (.return_, 1) := dk_177 (dk_at dksX6_newName_0 7 rfl rfl)
theorem dX6_newName_8 : decode cX6_newName 8 = .ok (.aload_n 0, 1) := dk_42 (dk_at dksX6_newName_0 8 rfl rfl)
theorem dX6_newName_9 : decode cX6_newName 9 = .ok (.aload_n 0, 1) := dk_42 (dk_at dksX6_newName_0 9 rfl rfl)
theorem dX6_newName_10 : decode cX6_newName 10 = .ok (.iload_n 2, 1) := dk_28 (dk_at dksX6_newName_0 10 rfl rfl)
theorem dX6_newName_11 : decode cX6_newName 11 = .ok (.invokevirtual 239, 3) := dk_182 0 239 (dk_at dksX6_newName_0 11 rfl rfl)
theorem dX6_newName_14 : decode cX6_newName 14 = .ok (.iconst (-1), 1) := dk_2 (dk_at dksX6_newName_0 14 rfl rfl)
theorem dX6_newName_15 : decode cX6_newName 15 = .ok (.if_icmp .ne 7, 3) := dk_160 0 7 (dk_at dksX6_newName_0 15 rfl rfl)
theorem dX6_newName_18 : decode cX6_newName 18 = .ok (.iconst 1, 1) := dk_4 (dk_at dksX6_newName_0 18 rfl rfl)
theorem dX6_newName_19 : decode cX6_newName 19 = .ok (.goto 4, 3) := dk_167 0 4 (dk_at dksX6_newName_0 19 rfl rfl)
theorem dX6_newName_22 : decode cX6_newName 22 = .ok (.iconst 0, 1) := dk_3 (dk_at dksX6_newName_0 22 rfl rfl)
theorem dX6_newName_23 : decode cX6_newName 23 = .ok (.iconst 3, 1) := dk_6 (dk_at dksX6_newName_0 23 rfl rfl)
theorem dX6_newName_24 : decode cX6_newName 24 = .ok (.invokevirtual 217, 3) := dk_182 0 217 (dk_at dksX6_newName_1 0 rfl rfl)
theorem dX6_newName_27 : decode cX6_newName 27 = .ok (.aload_n 0, 1) := dk_42 (dk_at dksX6_newName_1 3 rfl rfl)
theorem dX6_newName_28 : decode cX6_newName 28 = .ok (.getfield 208, 3) := dk_180 0 208 (dk_at dksX6_newName_1 4 rfl rfl)
theorem dX6_newName_31 : decode cX6_newName 31 = .ok (.ifCond .eq 4, 3) := dk_153 0 4 (dk_at dksX6_newName_1 7 rfl rfl)
theorem dX6_newName_34 : decode cX6_newName 34 = .ok (.return_, 1) := dk_177 (dk_at dksX6_newName_1 10 rfl rfl)
theorem dX6_newName_35 : decode cX6_newName 35 = .ok (.aload_n 0, 1) := dk_42 (dk_at dksX6_newName_1 11 rfl rfl)
theorem dX6_newName_36 : decode cX6_newName 36 = .ok (.getfield 7, 3) := dk_180 0 7 (dk_at dksX6_newName_1 12 rfl rfl)
theorem dX6_newName_39 : decode cX6_newName 39 = .ok (.iload_n 1, 1) := dk_27 (dk_at dksX6_newName_1 15 rfl rfl)
theorem dX6_newName_40 : decode cX6_newName 40 = .ok (.aload_n 0, 1) := dk_42 (dk_at dksX6_newName_1 16 rfl rfl)
theorem dX6_newName_41 : decode cX6_newName 41 = .ok (.getfield 201, 3) := dk_180 0 201 (dk_at dksX6_newName_1 17 rfl rfl)
theorem dX6_newName_44 : decode cX6_newName 44 = .ok (.iastore, 1) := dk_79 (dk_at dksX6_newName_1 20 rfl rfl)
theorem dX6_newName_45 : decode cX6_newName 45 = .ok (.iconst 0, 1) := dk_3 (dk_at dksX6_newName_1 21 rfl rfl)
theorem dX6_newName_46 : decode cX6_newName 46 = .ok (.istore_n 3, 1) := dk_62 (dk_at dksX6_newName_1 22 rfl rfl)
theorem dX6_newName_47 : decode cX6_newName 47 = .ok (.iload_n 3, 1) := dk_29 (dk_at dksX6_newName_1 23 rfl rfl)
theorem dX6_newName_48 : decode cX6_newName 48 = .ok (.aload_n 0, 1) := dk_42 (dk_at dksX6_newName_2 0 rfl rfl)
theorem dX6_newName_49 : decode cX6_newName 49 = .ok (.getfield 201, 3) := dk_180 0 201 (dk_at dksX6_newName_2 1 rfl rfl)
theorem dX6_newName_52 : decode cX6_newName 52 = .ok (.if_icmp .ge 29, 3) := dk_162 0 29 (dk_at dksX6_newName_2 4 rfl rfl)
theorem dX6_newName_55 : decode cX6_newName 55 = .ok (.aload_n 0, 1) := dk_42 (dk_at dksX6_newName_2 7 rfl rfl)
theorem dX6_newName_56 : decode cX6_newName 56 = .ok (.getfield 7, 3) := dk_180 0 7 (dk_at dksX6_newName_2 8 rfl rfl)
theorem dX6_newName_59 : decode cX6_newName 59 = .ok (.iload_n 1, 1) := dk_27 (dk_at dksX6_newName_2 11 rfl rfl)
theorem dX6_newName_60 : decode cX6_newName 60 = .ok (.iconst 1, 1) := dk_4 (dk_at dksX6_newName_2 12 rfl rfl)
theorem dX6_newName_61 : decode cX6_newName 61 = .ok (.iadd, 1) := dk_96 (dk_at dksX6_newName_2 13 rfl rfl)
theorem dX6_newName_62 : decode cX6_newName 62 = .ok (.iload_n 3, 1) := dk_29 (dk_at dksX6_newName_2 14 rfl rfl)
theorem dX6_newName_63 : decode cX6_newName 63 = .ok (.iadd, 1) := dk_96 (dk_at dksX6_newName_2 15 rfl rfl)
theorem dX6_newName_64 : decode cX6_newName 64 = .ok (.aload_n 0, 1) := dk_42 (dk_at dksX6_newName_2 16 rfl rfl)
theorem dX6_newName_65 : decode cX6_newName 65 = .ok (.aload_n 0, 1) := dk_42 (dk_at dksX6_newName_2 17 rfl rfl)
theorem dX6_newName_66 : decode cX6_newName 66 = .ok (.getfield 198, 3) := dk_180 0 198 (dk_at dksX6_newName_2 18 rfl rfl)
theorem dX6_newName_69 : decode cX6_newName 69 = .ok (.iload_n 3, 1) := dk_29 (dk_at dksX6_newName_2 21 rfl rfl)
theorem dX6_newName_70 : decode cX6_newName 70 = .ok (.iadd, 1) := dk_96 (dk_at dksX6_newName_2 22 rfl rfl)
theorem dX6_newName_71 : decode cX6_newName 71 = .ok (.invokevirtual 195, 3) := dk_182 0 195 (dk_at dksX6_newName_3 0 rfl rfl)
theorem dX6_newName_74 : decode cX6_newName 74 = .ok (.iastore, 1) := dk_79 (dk_at dksX6_newName_3 3 rfl rfl)
theorem dX6_newName_75 : decode cX6_newName 75 = .ok (.iinc 3 1, 3) := dk_132 3 1 (dk_at dksX6_newName_3 4 rfl rfl)
theorem dX6_newName_78 : decode cX6_newName 78 = .ok (.goto (-31), 3) := dk_167 255 225 (dk_at dksX6_newName_3 7 rfl rfl)
theorem dX6_newName_81 : decode cX6_newName 81 = .ok (.aload_n 0, 1) := dk_42 (dk_at dksX6_newName_3 10 rfl rfl)
theorem dX6_newName_82 : decode cX6_newName 82 = .ok (.invokevirtual 242, 3) := dk_182 0 242 (dk_at dksX6_newName_3 11 rfl rfl)
theorem dX6_newName_85 : decode cX6_newName 85 = .ok (.return_, 1) := dk_177 (dk_at dksX6_newName_3 14 rfl rfl)
def dkwX6_isName_1 : List UInt8 := [184, 0, 68, 4, 182, 0, 217, 42, 180, 0, 208, 154, 0, 7, 4, 167, 0, 4, 3, 172]
abbrev dktX6_isName_1 : List UInt8 := dkwX6_isName_1 ++ []
def dkwX6_isName_0 : List UInt8 := [42, 180, 0, 208, 153, 0, 5, 3, 172, 42, 182, 0, 214, 60, 42, 42, 180, 0, 201, 133, 10, 20, 0, 225]
abbrev dktX6_isName_0 : List UInt8 := dkwX6_isName_0 ++ dktX6_isName_1
theorem dksX6_isName_0 : cX6_isName.data.toList.drop 0 = dktX6_isName_0 := by decide +kernel
theorem dksX6_isName_1 : cX6_isName.data.toList.drop 24 = dktX6_isName_1 := dk_seg dksX6_isName_0 24 rfl rfl
theorem dX6_isName_0 : decode cX6_isName 0 = .ok (.aload_n 0, 1) := dk_42 (dk_at dksX6_isName_0 0 rfl rfl)
theorem dX6_isName_1 : decode cX6_isName 1 = .ok (.getfield 208, 3) := dk_180 0 208 (dk_at dksX6_isName_0 1 rfl rfl)
theorem dX6_isName_4 : decode cX6_isName 4 = .ok (.ifCond .eq 5, 3) := dk_153 0 5 (dk_at dksX6_isName_0 4 rfl rfl)
theorem dX6_isName_7 : decode cX6_isName 7 = .ok (.iconst 0, 1) := dk_3 (dk_at dksX6_isName_0 7 rfl rfl)
theorem dX6_isName_8 : decode cX6_isName 8 = .ok (.ireturn, 1) := dk_172 (dk_at dksX6_isName_0 8 rfl rfl)
theorem dX6_isName_9 : decode cX6_isName 9 = .ok (.aload_n 0, 1) := dk_42 (dk_at dksX6_isName_0 9 rfl rfl)
theorem dX6_isName_10 : decode cX6_isName 10 = .ok (.invokevirtual 214, 3) := dk_182 0 214 (dk_at dksX6_isName_0 10 rfl rfl)
theorem dX6_isName_13 : decode cX6_isName 13 = .ok (.istore_n 1, 1) := dk_60 (dk_at dksX6_isName_0 13 rfl rfl)
theorem dX6_isName_14 : decode cX6_isName 14 = .ok (.aload_n 0, 1) := dk_42 (dk_at dksX6_isName_0 14 rfl rfl)
theorem dX6_isName_15 : decode cX6_isName 15 = .ok (.aload_n 0, 1) := dk_42 (dk_at dksX6_isName_0 15 rfl rfl)
theorem dX6_isName_16 : decode cX6_isName 16 = .ok (.getfield 201, 3) := dk_180 0 201 (dk_at dksX6_isName_0 16 rfl rfl)
theorem dX6_isName_19 : decode cX6_isName 19 = .ok (.i2l, 1) := dk_133 (dk_at dksX6_isName_0 19 rfl rfl)
theorem dX6_isName_20 : decode cX6_isName 20 = .ok (.lconst 1, 1) := dk_10 (dk_at dksX6_isName_0 20 rfl rfl)
theorem dX6_isName_21 : decode cX6_isName 21 = .ok (.ldc2_w 225, 3) := dk_20 0 225 (dk_at dksX6_isName_0 21 rfl rfl)
theorem dX6_isName_24 : decode cX6_isName 24 = .ok (.invokestatic 68, 3) := dk_184 0 68 (dk_at dksX6_isName_1 0 rfl rfl)
theorem dX6_isName_27 : decode cX6_isName 27 = .ok (.iconst 1, 1) := dk_4 (dk_at dksX6_isName_1 3 rfl rfl)
theorem dX6_isName_28 : decode cX6_isName 28 = .ok (.invokevirtual 217, 3) := dk_182 0 217 (dk_at dksX6_isName_1 4 rfl rfl)
theorem dX6_isName_31 : decode cX6_isName 31 = .ok (.aload_n 0, 1) := dk_42 (dk_at dksX6_isName_1 7 rfl rfl)
theorem dX6_isName_32 : decode cX6_isName 32 = .ok (.getfield 208, 3) := dk_180 0 208 (dk_at dksX6_isName_1 8 rfl rfl)
theorem dX6_isName_35 : decode cX6_isName 35 = .ok (.ifCond .ne 7, 3) := dk_154 0 7 (dk_at dksX6_isName_1 11 rfl rfl)
theorem dX6_isName_38 : decode cX6_isName 38 = .ok (.iconst 1, 1) := dk_4 (dk_at dksX6_isName_1 14 rfl rfl)
theorem dX6_isName_39 : decode cX6_isName 39 = .ok (.goto 4, 3) := dk_167 0 4 (dk_at dksX6_isName_1 15 rfl rfl)
theorem dX6_isName_42 : decode cX6_isName 42 = .ok (.iconst 0, 1) := dk_3 (dk_at dksX6_isName_1 18 rfl rfl)
theorem dX6_isName_43 : decode cX6_isName 43 = .ok (.ireturn, 1) := dk_172 (dk_at dksX6_isName_1 19 rfl rfl)
def dkwX6_thingHere_0 : List UInt8 := [27, 153, 0, 10, 42, 182, 0, 230, 167, 0, 7, 42, 182, 0, 233, 172]
abbrev dktX6_thingHere_0 : List UInt8 := dkwX6_thingHere_0 ++ []
theorem dksX6_thingHere_0 : cX6_thingHere.data.toList.drop 0 = dktX6_thingHere_0 := by decide +kernel
theorem dX6_thingHere_0 : decode cX6_thingHere 0 = .ok (.iload_n 1, 1) := dk_27 (dk_at dksX6_thingHere_0 0 rfl rfl)
theorem dX6_thingHere_1 : decode cX6_thingHere 1 = .ok (.ifCond .eq 10, 3) := dk_153 0 10 (dk_at dksX6_thingHere_0 1 rfl rfl)
theorem dX6_thingHere_4 : decode cX6_thingHere 4 = .ok (.aload_n 0, 1) := dk_42 (dk_at dksX6_thingHere_0 4 rfl rfl)
theorem dX6_thingHere_5 : decode cX6_thingHere 5 = .ok (.invokevirtual 230, 3) := dk_182 0 230 (dk_at dksX6_thingHere_0 5 rfl rfl)
theorem dX6_thingHere_8 : decode cX6_thingHere 8 = .ok (.goto 7, 3) := dk_167 0 7 (dk_at dksX6_thingHere_0 8 rfl rfl)
theorem dX6_thingHere_11 : decode cX6_thingHere 11 = .ok (.aload_n 0, 1) := dk_42 (dk_at dksX6_thingHere_0 11 rfl rfl)
theorem dX6_thingHere_12 : decode cX6_thingHere 12 = .ok (.invokevirtual 233, 3) := dk_182 0 233 (dk_at dksX6_thingHere_0 12 rfl rfl)
theorem dX6_thingHere_15 : decode cX6_thingHere 15 = .ok (.ireturn, 1) := dk_172 (dk_at dksX6_thingHere_0 15 rfl rfl)
def dkwX6_gateHere_1 : List UInt8 := [153, 0, 5, 27, 172, 132, 1, 1, 167, 255, 227, 2, 172]
abbrev dktX6_gateHere_1 : List UInt8 := dkwX6_gateHere_1 ++ []
def dkwX6_gateHere_0 : List UInt8 := [3, 60, 27, 42, 180, 0, 7, 3, 46, 162, 0, 25, 42, 16, 21, 16, 9, 27, 104, 96, 182, 0, 227]
abbrev dktX6_gateHere_0 : List UInt8 := dkwX6_gateHere_0 ++ dktX6_gateHere_1
theorem dksX6_gateHere_0 : cX6_gateHere.data.toList.drop 0 = dktX6_gateHere_0 := by decide +kernel
theorem dksX6_gateHere_1 : cX6_gateHere.data.toList.drop 23 = dktX6_gateHere_1 := dk_seg dksX6_gateHere_0 23 rfl rfl
theorem dX6_gateHere_0 : decode cX6_gateHere 0 = .ok (.iconst 0, 1) := dk_3 (dk_at dksX6_gateHere_0 0 rfl rfl)
theorem dX6_gateHere_1 : decode cX6_gateHere 1 = .ok (.istore_n 1, 1) := dk_60 (dk_at dksX6_gateHere_0 1 rfl rfl)
theorem dX6_gateHere_2 : decode cX6_gateHere 2 = .ok (.iload_n 1, 1) := dk_27 (dk_at dksX6_gateHere_0 2 rfl rfl)
theorem dX6_gateHere_3 : decode cX6_gateHere 3 = .ok (.aload_n 0, 1) := dk_42 (dk_at dksX6_gateHere_0 3 rfl rfl)
theorem dX6_gateHere_4 : decode cX6_gateHere 4 = .ok (.getfield 7, 3) := dk_180 0 7 (dk_at dksX6_gateHere_0 4 rfl rfl)
theorem dX6_gateHere_7 : decode cX6_gateHere 7 = .ok (.iconst 0, 1) := dk_3 (dk_at dksX6_gateHere_0 7 rfl rfl)
theorem dX6_gateHere_8 : decode cX6_gateHere 8 = .ok (.iaload, 1) := dk_46 (dk_at dksX6_gateHere_0 8 rfl rfl)
theorem dX6_gateHere_9 : decode cX6_gateHere 9 = .ok (.if_icmp .ge 25, 3) := dk_162 0 25 (dk_at dksX6_gateHere_0 9 rfl rfl)
theorem dX6_gateHere_12 : decode cX6_gateHere 12 = .ok (.aload_n 0, 1) := dk_42 (dk_at dksX6_gateHere_0 12 rfl rfl)
theorem dX6_gateHere_13 : decode cX6_gateHere 13 = .ok (.bipush 21, 2) := dk_16 21 (dk_at dksX6_gateHere_0 13 rfl rfl)
theorem dX6_gateHere_15 : decode cX6_gateHere 15 = .ok (.bipush 9, 2) := dk_16 9 (dk_at dksX6_gateHere_0 15 rfl rfl)
theorem dX6_gateHere_17 : decode cX6_gateHere 17 = .ok (.iload_n 1, 1) := dk_27 (dk_at dksX6_gateHere_0 17 rfl rfl)
theorem dX6_gateHere_18 : decode cX6_gateHere 18 = .ok (.imul, 1) := dk_104 (dk_at dksX6_gateHere_0 18 rfl rfl)
theorem dX6_gateHere_19 : decode cX6_gateHere 19 = .ok (.iadd, 1) := dk_96 (dk_at dksX6_gateHere_0 19 rfl rfl)
theorem dX6_gateHere_20 : decode cX6_gateHere 20 = .ok (.invokevirtual 227, 3) := dk_182 0 227 (dk_at dksX6_gateHere_0 20 rfl rfl)
theorem dX6_gateHere_23 : decode cX6_gateHere 23 = .ok (.ifCond .eq 5, 3) := dk_153 0 5 (dk_at dksX6_gateHere_1 0 rfl rfl)
theorem dX6_gateHere_26 : decode cX6_gateHere 26 = .ok (.iload_n 1, 1) := dk_27 (dk_at dksX6_gateHere_1 3 rfl rfl)
theorem dX6_gateHere_27 : decode cX6_gateHere 27 = .ok (.ireturn, 1) := dk_172 (dk_at dksX6_gateHere_1 4 rfl rfl)
theorem dX6_gateHere_28 : decode cX6_gateHere 28 = .ok (.iinc 1 1, 3) := dk_132 1 1 (dk_at dksX6_gateHere_1 5 rfl rfl)
theorem dX6_gateHere_31 : decode cX6_gateHere 31 = .ok (.goto (-29), 3) := dk_167 255 227 (dk_at dksX6_gateHere_1 8 rfl rfl)
theorem dX6_gateHere_34 : decode cX6_gateHere 34 = .ok (.iconst (-1), 1) := dk_2 (dk_at dksX6_gateHere_1 11 rfl rfl)
theorem dX6_gateHere_35 : decode cX6_gateHere 35 = .ok (.ireturn, 1) := dk_172 (dk_at dksX6_gateHere_1 12 rfl rfl)
def dkwX6_isNamed_2 : List UInt8 := [159, 0, 5, 3, 172, 132, 2, 1, 167, 255, 220, 4, 172]
abbrev dktX6_isNamed_2 : List UInt8 := dkwX6_isNamed_2 ++ []
def dkwX6_isNamed_1 : List UInt8 := [162, 0, 34, 42, 180, 0, 7, 27, 4, 96, 28, 96, 46, 42, 42, 180, 0, 198, 28, 96, 182, 0, 195]
abbrev dktX6_isNamed_1 : List UInt8 := dkwX6_isNamed_1 ++ dktX6_isNamed_2
def dkwX6_isNamed_0 : List UInt8 := [42, 180, 0, 7, 27, 46, 42, 180, 0, 201, 159, 0, 5, 3, 172, 3, 61, 28, 42, 180, 0, 201]
abbrev dktX6_isNamed_0 : List UInt8 := dkwX6_isNamed_0 ++ dktX6_isNamed_1
theorem dksX6_isNamed_0 : cX6_isNamed.data.toList.drop 0 = dktX6_isNamed_0 := by decide +kernel
theorem dksX6_isNamed_1 : cX6_isNamed.data.toList.drop 22 = dktX6_isNamed_1 := dk_seg dksX6_isNamed_0 22 rfl rfl
theorem dksX6_isNamed_2 : cX6_isNamed.data.toList.drop 45 = dktX6_isNamed_2 := dk_seg dksX6_isNamed_1 23 rfl rfl
theorem dX6_isNamed_0 : decode cX6_isNamed 0 = .ok (.aload_n 0, 1) := dk_42 (dk_at dksX6_isNamed_0 0 rfl rfl)
theorem dX6_isNamed_1 : decode cX6_isNamed 1 = .ok (.getfield 7, 3) := dk_180 0 7 (dk_at dksX6_isNamed_0 1 rfl rfl)
theorem dX6_isNamed_4 : decode cX6_isNamed 4 = .ok (.iload_n 1, 1) := dk_27 (dk_at dksX6_isNamed_0 4 rfl rfl)
theorem dX6_isNamed_5 : decode cX6_isNamed 5 = .ok (.iaload, 1) := dk_46 (dk_at dksX6_isNamed_0 5 rfl rfl)
theorem dX6_isNamed_6 : decode cX6_isNamed 6 = .ok (.aload_n 0, 1) := dk_42 (dk_at dksX6_isNamed_0 6 rfl rfl)
theorem dX6_isNamed_7 : decode cX6_isNamed 7 = .ok (.getfield 201, 3) := dk_180 0 201 (dk_at dksX6_isNamed_0 7 rfl rfl)
theorem dX6_isNamed_10 : decode cX6_isNamed 10 = .ok (.if_icmp .eq 5, 3) := dk_159 0 5 (dk_at dksX6_isNamed_0 10 rfl rfl)
theorem dX6_isNamed_13 : decode cX6_isNamed 13 = .ok (.iconst 0, 1) := dk_3 (dk_at dksX6_isNamed_0 13 rfl rfl)
theorem dX6_isNamed_14 : decode cX6_isNamed 14 = .ok (.ireturn, 1) := dk_172 (dk_at dksX6_isNamed_0 14 rfl rfl)
theorem dX6_isNamed_15 : decode cX6_isNamed 15 = .ok (.iconst 0, 1) := dk_3 (dk_at dksX6_isNamed_0 15 rfl rfl)
theorem dX6_isNamed_16 : decode cX6_isNamed 16 = .ok (.istore_n 2, 1) := dk_61 (dk_at dksX6_isNamed_0 16 rfl rfl)
theorem dX6_isNamed_17 : decode cX6_isNamed 17 = .ok (.iload_n 2, 1) := dk_28 (dk_at dksX6_isNamed_0 17 rfl rfl)
theorem dX6_isNamed_18 : decode cX6_isNamed 18 = .ok (.aload_n 0, 1) := dk_42 (dk_at dksX6_isNamed_0 18 rfl rfl)
theorem dX6_isNamed_19 : decode cX6_isNamed 19 = .ok (.getfield 201, 3) := dk_180 0 201 (dk_at dksX6_isNamed_0 19 rfl rfl)
theorem dX6_isNamed_22 : decode cX6_isNamed 22 = .ok (.if_icmp .ge 34, 3) := dk_162 0 34 (dk_at dksX6_isNamed_1 0 rfl rfl)
theorem dX6_isNamed_25 : decode cX6_isNamed 25 = .ok (.aload_n 0, 1) := dk_42 (dk_at dksX6_isNamed_1 3 rfl rfl)
theorem dX6_isNamed_26 : decode cX6_isNamed 26 = .ok (.getfield 7, 3) := dk_180 0 7 (dk_at dksX6_isNamed_1 4 rfl rfl)
theorem dX6_isNamed_29 : decode cX6_isNamed 29 = .ok (.iload_n 1, 1) := dk_27 (dk_at dksX6_isNamed_1 7 rfl rfl)
theorem dX6_isNamed_30 : decode cX6_isNamed 30 = .ok (.iconst 1, 1) := dk_4 (dk_at dksX6_isNamed_1 8 rfl rfl)
theorem dX6_isNamed_31 : decode cX6_isNamed 31 = .ok (.iadd, 1) := dk_96 (dk_at dksX6_isNamed_1 9 rfl rfl)
theorem dX6_isNamed_32 : decode cX6_isNamed 32 = .ok (.iload_n 2, 1) := dk_28 (dk_at dksX6_isNamed_1 10 rfl rfl)
theorem dX6_isNamed_33 : decode cX6_isNamed 33 = .ok (.iadd, 1) := dk_96 (dk_at dksX6_isNamed_1 11 rfl rfl)
theorem dX6_isNamed_34 : decode cX6_isNamed 34 = .ok (.iaload, 1) := dk_46 (dk_at dksX6_isNamed_1 12 rfl rfl)
theorem dX6_isNamed_35 : decode cX6_isNamed 35 = .ok (.aload_n 0, 1) := dk_42 (dk_at dksX6_isNamed_1 13 rfl rfl)
theorem dX6_isNamed_36 : decode cX6_isNamed 36 = .ok (.aload_n 0, 1) := dk_42 (dk_at dksX6_isNamed_1 14 rfl rfl)
theorem dX6_isNamed_37 : decode cX6_isNamed 37 = .ok (.getfield 198, 3) := dk_180 0 198 (dk_at dksX6_isNamed_1 15 rfl rfl)
theorem dX6_isNamed_40 : decode cX6_isNamed 40 = .ok (.iload_n 2, 1) := dk_28 (dk_at dksX6_isNamed_1 18 rfl rfl)
theorem dX6_isNamed_41 : decode cX6_isNamed 41 = .ok (.iadd, 1) := dk_96 (dk_at dksX6_isNamed_1 19 rfl rfl)
theorem dX6_isNamed_42 : decode cX6_isNamed 42 = .ok (.invokevirtual 195, 3) := dk_182 0 195 (dk_at dksX6_isNamed_1 20 rfl rfl)
theorem dX6_isNamed_45 : decode cX6_isNamed 45 = .ok (.if_icmp .eq 5, 3) := dk_159 0 5 (dk_at dksX6_isNamed_2 0 rfl rfl)
theorem dX6_isNamed_48 : decode cX6_isNamed 48 = .ok (.iconst 0, 1) := dk_3 (dk_at dksX6_isNamed_2 3 rfl rfl)
theorem dX6_isNamed_49 : decode cX6_isNamed 49 = .ok (.ireturn, 1) := dk_172 (dk_at dksX6_isNamed_2 4 rfl rfl)
theorem dX6_isNamed_50 : decode cX6_isNamed 50 = .ok (.iinc 2 1, 3) := dk_132 2 1 (dk_at dksX6_isNamed_2 5 rfl rfl)
theorem dX6_isNamed_53 : decode cX6_isNamed 53 = .ok (.goto (-36), 3) := dk_167 255 220 (dk_at dksX6_isNamed_2 8 rfl rfl)
theorem dX6_isNamed_56 : decode cX6_isNamed 56 = .ok (.iconst 1, 1) := dk_4 (dk_at dksX6_isNamed_2 11 rfl rfl)
theorem dX6_isNamed_57 : decode cX6_isNamed 57 = .ok (.ireturn, 1) := dk_172 (dk_at dksX6_isNamed_2 12 rfl rfl)
def dkwX6_walkerHere_1 : List UInt8 := [153, 0, 5, 27, 172, 132, 1, 1, 167, 255, 227, 2, 172]
abbrev dktX6_walkerHere_1 : List UInt8 := dkwX6_walkerHere_1 ++ []
def dkwX6_walkerHere_0 : List UInt8 := [3, 60, 27, 42, 180, 0, 7, 4, 46, 162, 0, 25, 42, 16, 75, 16, 13, 27, 104, 96, 182, 0, 227]
abbrev dktX6_walkerHere_0 : List UInt8 := dkwX6_walkerHere_0 ++ dktX6_walkerHere_1
theorem dksX6_walkerHere_0 : cX6_walkerHere.data.toList.drop 0 = dktX6_walkerHere_0 := by decide +kernel
theorem dksX6_walkerHere_1 : cX6_walkerHere.data.toList.drop 23 = dktX6_walkerHere_1 := dk_seg dksX6_walkerHere_0 23 rfl rfl
theorem dX6_walkerHere_0 : decode cX6_walkerHere 0 = .ok (.iconst 0, 1) := dk_3 (dk_at dksX6_walkerHere_0 0 rfl rfl)
theorem dX6_walkerHere_1 : decode cX6_walkerHere 1 = .ok (.istore_n 1, 1) := dk_60 (dk_at dksX6_walkerHere_0 1 rfl rfl)
theorem dX6_walkerHere_2 : decode cX6_walkerHere 2 = .ok (.iload_n 1, 1) := dk_27 (dk_at dksX6_walkerHere_0 2 rfl rfl)
theorem dX6_walkerHere_3 : decode cX6_walkerHere 3 = .ok (.aload_n 0, 1) := dk_42 (dk_at dksX6_walkerHere_0 3 rfl rfl)
theorem dX6_walkerHere_4 : decode cX6_walkerHere 4 = .ok (.getfield 7, 3) := dk_180 0 7 (dk_at dksX6_walkerHere_0 4 rfl rfl)
theorem dX6_walkerHere_7 : decode cX6_walkerHere 7 = .ok (.iconst 1, 1) := dk_4 (dk_at dksX6_walkerHere_0 7 rfl rfl)
theorem dX6_walkerHere_8 : decode cX6_walkerHere 8 = .ok (.iaload, 1) := dk_46 (dk_at dksX6_walkerHere_0 8 rfl rfl)
theorem dX6_walkerHere_9 : decode cX6_walkerHere 9 = .ok (.if_icmp .ge 25, 3) := dk_162 0 25 (dk_at dksX6_walkerHere_0 9 rfl rfl)
theorem dX6_walkerHere_12 : decode cX6_walkerHere 12 = .ok (.aload_n 0, 1) := dk_42 (dk_at dksX6_walkerHere_0 12 rfl rfl)
theorem dX6_walkerHere_13 : decode cX6_walkerHere 13 = .ok (.bipush 75, 2) := dk_16 75 (dk_at dksX6_walkerHere_0 13 rfl rfl)
theorem dX6_walkerHere_15 : decode cX6_walkerHere 15 = .ok (.bipush 13, 2) := dk_16 13 (dk_at dksX6_walkerHere_0 15 rfl rfl)
theorem dX6_walkerHere_17 : decode cX6_walkerHere 17 = .ok (.iload_n 1, 1) := dk_27 (dk_at dksX6_walkerHere_0 17 rfl rfl)
theorem dX6_walkerHere_18 : decode cX6_walkerHere 18 = .ok (.imul, 1) := dk_104 (dk_at dksX6_walkerHere_0 18 rfl rfl)
theorem dX6_walkerHere_19 : decode cX6_walkerHere 19 = .ok (.iadd, 1) := dk_96 (dk_at dksX6_walkerHere_0 19 rfl rfl)
theorem dX6_walkerHere_20 : decode cX6_walkerHere 20 = .ok (.invokevirtual 227, 3) := dk_182 0 227 (dk_at dksX6_walkerHere_0 20 rfl rfl)
theorem dX6_walkerHere_23 : decode cX6_walkerHere 23 = .ok (.ifCond .eq 5, 3) := dk_153 0 5 (dk_at dksX6_walkerHere_1 0 rfl rfl)
theorem dX6_walkerHere_26 : decode cX6_walkerHere 26 = .ok (.iload_n 1, 1) := dk_27 (dk_at dksX6_walkerHere_1 3 rfl rfl)
theorem dX6_walkerHere_27 : decode cX6_walkerHere 27 = .ok (.ireturn, 1) := dk_172 (dk_at dksX6_walkerHere_1 4 rfl rfl)
theorem dX6_walkerHere_28 : decode cX6_walkerHere 28 = .ok (.iinc 1 1, 3) := dk_132 1 1 (dk_at dksX6_walkerHere_1 5 rfl rfl)
theorem dX6_walkerHere_31 : decode cX6_walkerHere 31 = .ok (.goto (-29), 3) := dk_167 255 227 (dk_at dksX6_walkerHere_1 8 rfl rfl)
theorem dX6_walkerHere_34 : decode cX6_walkerHere 34 = .ok (.iconst (-1), 1) := dk_2 (dk_at dksX6_walkerHere_1 11 rfl rfl)
theorem dX6_walkerHere_35 : decode cX6_walkerHere 35 = .ok (.ireturn, 1) := dk_172 (dk_at dksX6_walkerHere_1 12 rfl rfl)
def dkwX6_cellHere_1 : List UInt8 := [182, 0, 254, 61, 42, 27, 28, 182, 0, 83, 172]
abbrev dktX6_cellHere_1 : List UInt8 := dkwX6_cellHere_1 ++ []
def dkwX6_cellHere_0 : List UInt8 := [42, 3, 42, 180, 0, 7, 7, 46, 4, 100, 182, 0, 254, 60, 42, 3, 42, 180, 0, 7, 8, 46, 4, 100]
abbrev dktX6_cellHere_0 : List UInt8 := dkwX6_cellHere_0 ++ dktX6_cellHere_1
theorem dksX6_cellHere_0 : cX6_cellHere.data.toList.drop 0 = dktX6_cellHere_0 := by decide +kernel
theorem dksX6_cellHere_1 : cX6_cellHere.data.toList.drop 24 = dktX6_cellHere_1 := dk_seg dksX6_cellHere_0 24 rfl rfl
theorem dX6_cellHere_0 : decode cX6_cellHere 0 = .ok (.aload_n 0, 1) := dk_42 (dk_at dksX6_cellHere_0 0 rfl rfl)
theorem dX6_cellHere_1 : decode cX6_cellHere 1 = .ok (.iconst 0, 1) := dk_3 (dk_at dksX6_cellHere_0 1 rfl rfl)
theorem dX6_cellHere_2 : decode cX6_cellHere 2 = .ok (.aload_n 0, 1) := dk_42 (dk_at dksX6_cellHere_0 2 rfl rfl)
theorem dX6_cellHere_3 : decode cX6_cellHere 3 = .ok (.getfield 7, 3) := dk_180 0 7 (dk_at dksX6_cellHere_0 3 rfl rfl)
theorem dX6_cellHere_6 : decode cX6_cellHere 6 = .ok (.iconst 4, 1) := dk_7 (dk_at dksX6_cellHere_0 6 rfl rfl)
theorem dX6_cellHere_7 : decode cX6_cellHere 7 = .ok (.iaload, 1) := dk_46 (dk_at dksX6_cellHere_0 7 rfl rfl)
theorem dX6_cellHere_8 : decode cX6_cellHere 8 = .ok (.iconst 1, 1) := dk_4 (dk_at dksX6_cellHere_0 8 rfl rfl)
theorem dX6_cellHere_9 : decode cX6_cellHere 9 = .ok (.isub, 1) := dk_100 (dk_at dksX6_cellHere_0 9 rfl rfl)
theorem dX6_cellHere_10 : decode cX6_cellHere 10 = .ok (.invokevirtual 254, 3) := dk_182 0 254 (dk_at dksX6_cellHere_0 10 rfl rfl)
theorem dX6_cellHere_13 : decode cX6_cellHere 13 = .ok (.istore_n 1, 1) := dk_60 (dk_at dksX6_cellHere_0 13 rfl rfl)
theorem dX6_cellHere_14 : decode cX6_cellHere 14 = .ok (.aload_n 0, 1) := dk_42 (dk_at dksX6_cellHere_0 14 rfl rfl)
theorem dX6_cellHere_15 : decode cX6_cellHere 15 = .ok (.iconst 0, 1) := dk_3 (dk_at dksX6_cellHere_0 15 rfl rfl)
theorem dX6_cellHere_16 : decode cX6_cellHere 16 = .ok (.aload_n 0, 1) := dk_42 (dk_at dksX6_cellHere_0 16 rfl rfl)
theorem dX6_cellHere_17 : decode cX6_cellHere 17 = .ok (.getfield 7, 3) := dk_180 0 7 (dk_at dksX6_cellHere_0 17 rfl rfl)
theorem dX6_cellHere_20 : decode cX6_cellHere 20 = .ok (.iconst 5, 1) := dk_8 (dk_at dksX6_cellHere_0 20 rfl rfl)
theorem dX6_cellHere_21 : decode cX6_cellHere 21 = .ok (.iaload, 1) := dk_46 (dk_at dksX6_cellHere_0 21 rfl rfl)
theorem dX6_cellHere_22 : decode cX6_cellHere 22 = .ok (.iconst 1, 1) := dk_4 (dk_at dksX6_cellHere_0 22 rfl rfl)
theorem dX6_cellHere_23 : decode cX6_cellHere 23 = .ok (.isub, 1) := dk_100 (dk_at dksX6_cellHere_0 23 rfl rfl)
theorem dX6_cellHere_24 : decode cX6_cellHere 24 = .ok (.invokevirtual 254, 3) := dk_182 0 254 (dk_at dksX6_cellHere_1 0 rfl rfl)
theorem dX6_cellHere_27 : decode cX6_cellHere 27 = .ok (.istore_n 2, 1) := dk_61 (dk_at dksX6_cellHere_1 3 rfl rfl)
theorem dX6_cellHere_28 : decode cX6_cellHere 28 = .ok (.aload_n 0, 1) := dk_42 (dk_at dksX6_cellHere_1 4 rfl rfl)
theorem dX6_cellHere_29 : decode cX6_cellHere 29 = .ok (.iload_n 1, 1) := dk_27 (dk_at dksX6_cellHere_1 5 rfl rfl)
theorem dX6_cellHere_30 : decode cX6_cellHere 30 = .ok (.iload_n 2, 1) := dk_28 (dk_at dksX6_cellHere_1 6 rfl rfl)
theorem dX6_cellHere_31 : decode cX6_cellHere 31 = .ok (.invokevirtual 83, 3) := dk_182 0 83 (dk_at dksX6_cellHere_1 7 rfl rfl)
theorem dX6_cellHere_34 : decode cX6_cellHere 34 = .ok (.ireturn, 1) := dk_172 (dk_at dksX6_cellHere_1 10 rfl rfl)
def dkwX6_at_0 : List UInt8 := [28, 42, 180, 0, 7, 7, 46, 104, 27, 96, 172]
abbrev dktX6_at_0 : List UInt8 := dkwX6_at_0 ++ []
theorem dksX6_at_0 : cX6_at.data.toList.drop 0 = dktX6_at_0 := by decide +kernel
theorem dX6_at_0 : decode cX6_at 0 = .ok (.iload_n 2, 1) := dk_28 (dk_at dksX6_at_0 0 rfl rfl)
theorem dX6_at_1 : decode cX6_at 1 = .ok (.aload_n 0, 1) := dk_42 (dk_at dksX6_at_0 1 rfl rfl)
theorem dX6_at_2 : decode cX6_at 2 = .ok (.getfield 7, 3) := dk_180 0 7 (dk_at dksX6_at_0 2 rfl rfl)
theorem dX6_at_5 : decode cX6_at 5 = .ok (.iconst 4, 1) := dk_7 (dk_at dksX6_at_0 5 rfl rfl)
theorem dX6_at_6 : decode cX6_at 6 = .ok (.iaload, 1) := dk_46 (dk_at dksX6_at_0 6 rfl rfl)
theorem dX6_at_7 : decode cX6_at 7 = .ok (.imul, 1) := dk_104 (dk_at dksX6_at_0 7 rfl rfl)
theorem dX6_at_8 : decode cX6_at 8 = .ok (.iload_n 1, 1) := dk_27 (dk_at dksX6_at_0 8 rfl rfl)
theorem dX6_at_9 : decode cX6_at 9 = .ok (.iadd, 1) := dk_96 (dk_at dksX6_at_0 9 rfl rfl)
theorem dX6_at_10 : decode cX6_at 10 = .ok (.ireturn, 1) := dk_172 (dk_at dksX6_at_0 10 rfl rfl)
def dkwX6_ofCell_0 : List UInt8 := [42, 180, 0, 7, 17, 0, 153, 8, 27, 104, 96, 28, 96, 46, 172]
abbrev dktX6_ofCell_0 : List UInt8 := dkwX6_ofCell_0 ++ []
theorem dksX6_ofCell_0 : cX6_ofCell.data.toList.drop 0 = dktX6_ofCell_0 := by decide +kernel
theorem dX6_ofCell_0 : decode cX6_ofCell 0 = .ok (.aload_n 0, 1) := dk_42 (dk_at dksX6_ofCell_0 0 rfl rfl)
theorem dX6_ofCell_1 : decode cX6_ofCell 1 = .ok (.getfield 7, 3) := dk_180 0 7 (dk_at dksX6_ofCell_0 1 rfl rfl)
theorem dX6_ofCell_4 : decode cX6_ofCell 4 = .ok (.sipush 153, 3) := dk_17 0 153 (dk_at dksX6_ofCell_0 4 rfl rfl)
theorem dX6_ofCell_7 : decode cX6_ofCell 7 = .ok (.iconst 5, 1) := dk_8 (dk_at dksX6_ofCell_0 7 rfl rfl)
theorem dX6_ofCell_8 : decode cX6_ofCell 8 = .ok (.iload_n 1, 1) := dk_27 (dk_at dksX6_ofCell_0 8 rfl rfl)
theorem dX6_ofCell_9 : decode cX6_ofCell 9 = .ok (.imul, 1) := dk_104 (dk_at dksX6_ofCell_0 9 rfl rfl)
theorem dX6_ofCell_10 : decode cX6_ofCell 10 = .ok (.iadd, 1) := dk_96 (dk_at dksX6_ofCell_0 10 rfl rfl)
theorem dX6_ofCell_11 : decode cX6_ofCell 11 = .ok (.iload_n 2, 1) := dk_28 (dk_at dksX6_ofCell_0 11 rfl rfl)
theorem dX6_ofCell_12 : decode cX6_ofCell 12 = .ok (.iadd, 1) := dk_96 (dk_at dksX6_ofCell_0 12 rfl rfl)
theorem dX6_ofCell_13 : decode cX6_ofCell 13 = .ok (.iaload, 1) := dk_46 (dk_at dksX6_ofCell_0 13 rfl rfl)
theorem dX6_ofCell_14 : decode cX6_ofCell 14 = .ok (.ireturn, 1) := dk_172 (dk_at dksX6_ofCell_0 14 rfl rfl)
def dkwX6_xOf_0 : List UInt8 := [27, 42, 180, 0, 7, 7, 46, 112, 172]
abbrev dktX6_xOf_0 : List UInt8 := dkwX6_xOf_0 ++ []
theorem dksX6_xOf_0 : cX6_xOf.data.toList.drop 0 = dktX6_xOf_0 := by decide +kernel
theorem dX6_xOf_0 : decode cX6_xOf 0 = .ok (.iload_n 1, 1) := dk_27 (dk_at dksX6_xOf_0 0 rfl rfl)
theorem dX6_xOf_1 : decode cX6_xOf 1 = .ok (.aload_n 0, 1) := dk_42 (dk_at dksX6_xOf_0 1 rfl rfl)
theorem dX6_xOf_2 : decode cX6_xOf 2 = .ok (.getfield 7, 3) := dk_180 0 7 (dk_at dksX6_xOf_0 2 rfl rfl)
theorem dX6_xOf_5 : decode cX6_xOf 5 = .ok (.iconst 4, 1) := dk_7 (dk_at dksX6_xOf_0 5 rfl rfl)
theorem dX6_xOf_6 : decode cX6_xOf 6 = .ok (.iaload, 1) := dk_46 (dk_at dksX6_xOf_0 6 rfl rfl)
theorem dX6_xOf_7 : decode cX6_xOf 7 = .ok (.irem, 1) := dk_112 (dk_at dksX6_xOf_0 7 rfl rfl)
theorem dX6_xOf_8 : decode cX6_xOf 8 = .ok (.ireturn, 1) := dk_172 (dk_at dksX6_xOf_0 8 rfl rfl)
def dkwX6_yOf_0 : List UInt8 := [27, 42, 180, 0, 7, 7, 46, 108, 172]
abbrev dktX6_yOf_0 : List UInt8 := dkwX6_yOf_0 ++ []
theorem dksX6_yOf_0 : cX6_yOf.data.toList.drop 0 = dktX6_yOf_0 := by decide +kernel
theorem dX6_yOf_0 : decode cX6_yOf 0 = .ok (.iload_n 1, 1) := dk_27 (dk_at dksX6_yOf_0 0 rfl rfl)
theorem dX6_yOf_1 : decode cX6_yOf 1 = .ok (.aload_n 0, 1) := dk_42 (dk_at dksX6_yOf_0 1 rfl rfl)
theorem dX6_yOf_2 : decode cX6_yOf 2 = .ok (.getfield 7, 3) := dk_180 0 7 (dk_at dksX6_yOf_0 2 rfl rfl)
theorem dX6_yOf_5 : decode cX6_yOf 5 = .ok (.iconst 4, 1) := dk_7 (dk_at dksX6_yOf_0 5 rfl rfl)
theorem dX6_yOf_6 : decode cX6_yOf 6 = .ok (.iaload, 1) := dk_46 (dk_at dksX6_yOf_0 6 rfl rfl)
theorem dX6_yOf_7 : decode cX6_yOf 7 = .ok (.idiv, 1) := dk_108 (dk_at dksX6_yOf_0 7 rfl rfl)
theorem dX6_yOf_8 : decode cX6_yOf 8 = .ok (.ireturn, 1) := dk_172 (dk_at dksX6_yOf_0 8 rfl rfl)
def dkwX6_walkerLine_5 : List UInt8 := [4, 96, 79, 177]
abbrev dktX6_walkerLine_5 : List UInt8 := dkwX6_walkerLine_5 ++ []
def dkwX6_walkerLine_4 : List UInt8 := [182, 0, 154, 42, 27, 16, 10, 42, 4, 16, 9, 182, 0, 254, 182, 0, 154, 42, 180, 0, 7, 4, 92, 46]
abbrev dktX6_walkerLine_4 : List UInt8 := dkwX6_walkerLine_4 ++ dktX6_walkerLine_5
def dkwX6_walkerLine_3 : List UInt8 := [16, 8, 42, 4, 28, 182, 1, 7, 182, 0, 154, 42, 27, 16, 9, 42, 3, 16, 9, 182, 0, 254]
abbrev dktX6_walkerLine_3 : List UInt8 := dkwX6_walkerLine_3 ++ dktX6_walkerLine_4
def dkwX6_walkerLine_2 : List UInt8 := [104, 96, 3, 182, 1, 1, 42, 4, 2, 182, 1, 7, 61, 42, 27, 16, 7, 28, 182, 0, 154, 42, 27]
abbrev dktX6_walkerLine_2 : List UInt8 := dkwX6_walkerLine_2 ++ dktX6_walkerLine_3
def dkwX6_walkerLine_1 : List UInt8 := [180, 0, 208, 153, 0, 4, 177, 42, 182, 0, 242, 42, 180, 0, 7, 4, 46, 60, 42, 16, 75, 16, 13, 27]
abbrev dktX6_walkerLine_1 : List UInt8 := dkwX6_walkerLine_1 ++ dktX6_walkerLine_2
def dkwX6_walkerLine_0 : List UInt8 := [42, 42, 180, 0, 7, 4, 46, 16, 6, 162, 0, 7, 4, 167, 0, 4, 3, 7, 182, 0, 217, 42]
abbrev dktX6_walkerLine_0 : List UInt8 := dkwX6_walkerLine_0 ++ dktX6_walkerLine_1
theorem dksX6_walkerLine_0 : cX6_walkerLine.data.toList.drop 0 = dktX6_walkerLine_0 := by decide +kernel
theorem dksX6_walkerLine_1 : cX6_walkerLine.data.toList.drop 22 = dktX6_walkerLine_1 := dk_seg dksX6_walkerLine_0 22 rfl rfl
theorem dksX6_walkerLine_2 : cX6_walkerLine.data.toList.drop 46 = dktX6_walkerLine_2 := dk_seg dksX6_walkerLine_1 24 rfl rfl
theorem dksX6_walkerLine_3 : cX6_walkerLine.data.toList.drop 69 = dktX6_walkerLine_3 := dk_seg dksX6_walkerLine_2 23 rfl rfl
theorem dksX6_walkerLine_4 : cX6_walkerLine.data.toList.drop 91 = dktX6_walkerLine_4 := dk_seg dksX6_walkerLine_3 22 rfl rfl
theorem dksX6_walkerLine_5 : cX6_walkerLine.data.toList.drop 115 = dktX6_walkerLine_5 := dk_seg dksX6_walkerLine_4 24 rfl rfl
theorem dX6_walkerLine_0 : decode cX6_walkerLine 0 = .ok (.aload_n 0, 1) := dk_42 (dk_at dksX6_walkerLine_0 0 rfl rfl)
theorem dX6_walkerLine_1 : decode cX6_walkerLine 1 = .ok (.aload_n 0, 1) := dk_42 (dk_at dksX6_walkerLine_0 1 rfl rfl)
theorem dX6_walkerLine_2 : decode cX6_walkerLine 2 = .ok (.getfield 7, 3) := dk_180 0 7 (dk_at dksX6_walkerLine_0 2 rfl rfl)
theorem dX6_walkerLine_5 : decode cX6_walkerLine 5 = .ok (.iconst 1, 1) := dk_4 (dk_at dksX6_walkerLine_0 5 rfl rfl)
theorem dX6_walkerLine_6 : decode cX6_walkerLine 6 = .ok (.iaload, 1) := dk_46 (dk_at dksX6_walkerLine_0 6 rfl rfl)
theorem dX6_walkerLine_7 : decode cX6_walkerLine 7 = .ok (.bipush 6, 2) := dk_16 6 (dk_at dksX6_walkerLine_0 7 rfl rfl)
theorem dX6_walkerLine_9 : decode cX6_walkerLine 9 = .ok (.if_icmp .ge 7, 3) := dk_162 0 7 (dk_at dksX6_walkerLine_0 9 rfl rfl)
theorem dX6_walkerLine_12 : decode cX6_walkerLine 12 = .ok (.iconst 1, 1) := dk_4 (dk_at dksX6_walkerLine_0 12 rfl rfl)
theorem dX6_walkerLine_13 : decode cX6_walkerLine 13 = .ok (.goto 4, 3) := dk_167 0 4 (dk_at dksX6_walkerLine_0 13 rfl rfl)
theorem dX6_walkerLine_16 : decode cX6_walkerLine 16 = .ok (.iconst 0, 1) := dk_3 (dk_at dksX6_walkerLine_0 16 rfl rfl)
theorem dX6_walkerLine_17 : decode cX6_walkerLine 17 = .ok (.iconst 4, 1) := dk_7 (dk_at dksX6_walkerLine_0 17 rfl rfl)
theorem dX6_walkerLine_18 : decode cX6_walkerLine 18 = .ok (.invokevirtual 217, 3) := dk_182 0 217 (dk_at dksX6_walkerLine_0 18 rfl rfl)
theorem dX6_walkerLine_21 : decode cX6_walkerLine 21 = .ok (.aload_n 0, 1) := dk_42 (dk_at dksX6_walkerLine_0 21 rfl rfl)
theorem dX6_walkerLine_22 : decode cX6_walkerLine 22 = .ok (.getfield 208, 3) := dk_180 0 208 (dk_at dksX6_walkerLine_1 0 rfl rfl)
theorem dX6_walkerLine_25 : decode cX6_walkerLine 25 = .ok (.ifCond .eq 4, 3) := dk_153 0 4 (dk_at dksX6_walkerLine_1 3 rfl rfl)
theorem dX6_walkerLine_28 : decode cX6_walkerLine 28 = .ok (.return_, 1) := dk_177 (dk_at dksX6_walkerLine_1 6 rfl rfl)
theorem dX6_walkerLine_29 : decode cX6_walkerLine 29 = .ok (.aload_n 0, 1) := dk_42 (dk_at dksX6_walkerLine_1 7 rfl rfl)
theorem dX6_walkerLine_30 : decode cX6_walkerLine 30 = .ok (.invokevirtual 242, 3) := dk_182 0 242 (dk_at dksX6_walkerLine_1 8 rfl rfl)
theorem dX6_walkerLine_33 : decode cX6_walkerLine 33 = .ok (.aload_n 0, 1) := dk_42 (dk_at dksX6_walkerLine_1 11 rfl rfl)
theorem dX6_walkerLine_34 : decode cX6_walkerLine 34 = .ok (.getfield 7, 3) := dk_180 0 7 (dk_at dksX6_walkerLine_1 12 rfl rfl)
theorem dX6_walkerLine_37 : decode cX6_walkerLine 37 = .ok (.iconst 1, 1) := dk_4 (dk_at dksX6_walkerLine_1 15 rfl rfl)
theorem dX6_walkerLine_38 : decode cX6_walkerLine 38 = .ok (.iaload, 1) := dk_46 (dk_at dksX6_walkerLine_1 16 rfl rfl)
theorem dX6_walkerLine_39 : decode cX6_walkerLine 39 = .ok (.istore_n 1, 1) := dk_60 (dk_at dksX6_walkerLine_1 17 rfl rfl)
theorem dX6_walkerLine_40 : decode cX6_walkerLine 40 = .ok (.aload_n 0, 1) := dk_42 (dk_at dksX6_walkerLine_1 18 rfl rfl)
theorem dX6_walkerLine_41 : decode cX6_walkerLine 41 = .ok (.bipush 75, 2) := dk_16 75 (dk_at dksX6_walkerLine_1 19 rfl rfl)
theorem dX6_walkerLine_43 : decode cX6_walkerLine 43 = .ok (.bipush 13, 2) := dk_16 13 (dk_at dksX6_walkerLine_1 21 rfl rfl)
theorem dX6_walkerLine_45 : decode cX6_walkerLine 45 = .ok (.iload_n 1, 1) := dk_27 (dk_at dksX6_walkerLine_1 23 rfl rfl)
theorem dX6_walkerLine_46 : decode cX6_walkerLine 46 = .ok (.imul, 1) := dk_104 (dk_at dksX6_walkerLine_2 0 rfl rfl)
theorem dX6_walkerLine_47 : decode cX6_walkerLine 47 = .ok (.iadd, 1) := dk_96 (dk_at dksX6_walkerLine_2 1 rfl rfl)
theorem dX6_walkerLine_48 : decode cX6_walkerLine 48 = .ok (.iconst 0, 1) := dk_3 (dk_at dksX6_walkerLine_2 2 rfl rfl)
theorem dX6_walkerLine_49 : decode cX6_walkerLine 49 = .ok (.invokevirtual 257, 3) := dk_182 1 1 (dk_at dksX6_walkerLine_2 3 rfl rfl)
theorem dX6_walkerLine_52 : decode cX6_walkerLine 52 = .ok (.aload_n 0, 1) := dk_42 (dk_at dksX6_walkerLine_2 6 rfl rfl)
theorem dX6_walkerLine_53 : decode cX6_walkerLine 53 = .ok (.iconst 1, 1) := dk_4 (dk_at dksX6_walkerLine_2 7 rfl rfl)
theorem dX6_walkerLine_54 : decode cX6_walkerLine 54 = .ok (.iconst (-1), 1) := dk_2 (dk_at dksX6_walkerLine_2 8 rfl rfl)
theorem dX6_walkerLine_55 : decode cX6_walkerLine 55 = .ok (.invokevirtual 263, 3) := dk_182 1 7 (dk_at dksX6_walkerLine_2 9 rfl rfl)
theorem dX6_walkerLine_58 : decode cX6_walkerLine 58 = .ok (.istore_n 2, 1) := dk_61 (dk_at dksX6_walkerLine_2 12 rfl rfl)
theorem dX6_walkerLine_59 : decode cX6_walkerLine 59 = .ok (.aload_n 0, 1) := dk_42 (dk_at dksX6_walkerLine_2 13 rfl rfl)
theorem dX6_walkerLine_60 : decode cX6_walkerLine 60 = .ok (.iload_n 1, 1) := dk_27 (dk_at dksX6_walkerLine_2 14 rfl rfl)
theorem dX6_walkerLine_61 : decode cX6_walkerLine 61 = .ok (.bipush 7, 2) := dk_16 7 (dk_at dksX6_walkerLine_2 15 rfl rfl)
theorem dX6_walkerLine_63 : decode cX6_walkerLine 63 = .ok (.iload_n 2, 1) := dk_28 (dk_at dksX6_walkerLine_2 17 rfl rfl)
theorem dX6_walkerLine_64 : decode cX6_walkerLine 64 = .ok (.invokevirtual 154, 3) := dk_182 0 154 (dk_at dksX6_walkerLine_2 18 rfl rfl)
theorem dX6_walkerLine_67 : decode cX6_walkerLine 67 = .ok (.aload_n 0, 1) := dk_42 (dk_at dksX6_walkerLine_2 21 rfl rfl)
theorem dX6_walkerLine_68 : decode cX6_walkerLine 68 = .ok (.iload_n 1, 1) := dk_27 (dk_at dksX6_walkerLine_2 22 rfl rfl)
theorem dX6_walkerLine_69 : decode cX6_walkerLine 69 = .ok (.bipush 8, 2) := dk_16 8 (dk_at dksX6_walkerLine_3 0 rfl rfl)
theorem dX6_walkerLine_71 : decode cX6_walkerLine 71 = .ok (.aload_n 0, 1) := dk_42 (dk_at dksX6_walkerLine_3 2 rfl rfl)
theorem dX6_walkerLine_72 : decode cX6_walkerLine 72 = .ok (.iconst 1, 1) := dk_4 (dk_at dksX6_walkerLine_3 3 rfl rfl)
theorem dX6_walkerLine_73 : decode cX6_walkerLine 73 = .ok (.iload_n 2, 1) := dk_28 (dk_at dksX6_walkerLine_3 4 rfl rfl)
theorem dX6_walkerLine_74 : decode cX6_walkerLine 74 = .ok (.invokevirtual 263, 3) := dk_182 1 7 (dk_at dksX6_walkerLine_3 5 rfl rfl)
theorem dX6_walkerLine_77 : decode cX6_walkerLine 77 = .ok (.invokevirtual 154, 3) := dk_182 0 154 (dk_at dksX6_walkerLine_3 8 rfl rfl)
theorem dX6_walkerLine_80 : decode cX6_walkerLine 80 = .ok (.aload_n 0, 1) := dk_42 (dk_at dksX6_walkerLine_3 11 rfl rfl)
theorem dX6_walkerLine_81 : decode cX6_walkerLine 81 = .ok (.iload_n 1, 1) := dk_27 (dk_at dksX6_walkerLine_3 12 rfl rfl)
theorem dX6_walkerLine_82 : decode cX6_walkerLine 82 = .ok (.bipush 9, 2) := dk_16 9 (dk_at dksX6_walkerLine_3 13 rfl rfl)
theorem dX6_walkerLine_84 : decode cX6_walkerLine 84 = .ok (.aload_n 0, 1) := dk_42 (dk_at dksX6_walkerLine_3 15 rfl rfl)
theorem dX6_walkerLine_85 : decode cX6_walkerLine 85 = .ok (.iconst 0, 1) := dk_3 (dk_at dksX6_walkerLine_3 16 rfl rfl)
theorem dX6_walkerLine_86 : decode cX6_walkerLine 86 = .ok (.bipush 9, 2) := dk_16 9 (dk_at dksX6_walkerLine_3 17 rfl rfl)
theorem dX6_walkerLine_88 : decode cX6_walkerLine 88 = .ok (.invokevirtual 254, 3) := dk_182 0 254 (dk_at dksX6_walkerLine_3 19 rfl rfl)
theorem dX6_walkerLine_91 : decode cX6_walkerLine 91 = .ok (.invokevirtual 154, 3) := dk_182 0 154 (dk_at dksX6_walkerLine_4 0 rfl rfl)
theorem dX6_walkerLine_94 : decode cX6_walkerLine 94 = .ok (.aload_n 0, 1) := dk_42 (dk_at dksX6_walkerLine_4 3 rfl rfl)
theorem dX6_walkerLine_95 : decode cX6_walkerLine 95 = .ok (.iload_n 1, 1) := dk_27 (dk_at dksX6_walkerLine_4 4 rfl rfl)
theorem dX6_walkerLine_96 : decode cX6_walkerLine 96 = .ok (.bipush 10, 2) := dk_16 10 (dk_at dksX6_walkerLine_4 5 rfl rfl)
theorem dX6_walkerLine_98 : decode cX6_walkerLine 98 = .ok (.aload_n 0, 1) := dk_42 (dk_at dksX6_walkerLine_4 7 rfl rfl)
theorem dX6_walkerLine_99 : decode cX6_walkerLine 99 = .ok (.iconst 1, 1) := dk_4 (dk_at dksX6_walkerLine_4 8 rfl rfl)
theorem dX6_walkerLine_100 : decode cX6_walkerLine 100 = .ok (.bipush 9, 2) := dk_16 9 (dk_at dksX6_walkerLine_4 9 rfl rfl)
theorem dX6_walkerLine_102 : decode cX6_walkerLine 102 = .ok (.invokevirtual 254, 3) := dk_182 0 254 (dk_at dksX6_walkerLine_4 11 rfl rfl)
theorem dX6_walkerLine_105 : decode cX6_walkerLine 105 = .ok (.invokevirtual 154, 3) := dk_182 0 154 (dk_at dksX6_walkerLine_4 14 rfl rfl)
theorem dX6_walkerLine_108 : decode cX6_walkerLine 108 = .ok (.aload_n 0, 1) := dk_42 (dk_at dksX6_walkerLine_4 17 rfl rfl)
theorem dX6_walkerLine_109 : decode cX6_walkerLine 109 = .ok (.getfield 7, 3) := dk_180 0 7 (dk_at dksX6_walkerLine_4 18 rfl rfl)
theorem dX6_walkerLine_112 : decode cX6_walkerLine 112 = .ok (.iconst 1, 1) := dk_4 (dk_at dksX6_walkerLine_4 21 rfl rfl)
theorem dX6_walkerLine_113 : decode cX6_walkerLine 113 = .ok (.dup2, 1) := dk_92 (dk_at dksX6_walkerLine_4 22 rfl rfl)
theorem dX6_walkerLine_114 : decode cX6_walkerLine 114 = .ok (.iaload, 1) := dk_46 (dk_at dksX6_walkerLine_4 23 rfl rfl)
theorem dX6_walkerLine_115 : decode cX6_walkerLine 115 = .ok (.iconst 1, 1) := dk_4 (dk_at dksX6_walkerLine_5 0 rfl rfl)
theorem dX6_walkerLine_116 : decode cX6_walkerLine 116 = .ok (.iadd, 1) := dk_96 (dk_at dksX6_walkerLine_5 1 rfl rfl)
theorem dX6_walkerLine_117 : decode cX6_walkerLine 117 = .ok (.iastore, 1) := dk_79 (dk_at dksX6_walkerLine_5 2 rfl rfl)
theorem dX6_walkerLine_118 : decode cX6_walkerLine 118 = .ok (.return_, 1) := dk_177 (dk_at dksX6_walkerLine_5 3 rfl rfl)
def dkwX6_mustBe_2 : List UInt8 := [167, 0, 4, 3, 172]
abbrev dktX6_mustBe_2 : List UInt8 := dkwX6_mustBe_2 ++ []
def dkwX6_mustBe_1 : List UInt8 := [159, 0, 7, 4, 167, 0, 4, 3, 6, 182, 0, 217, 42, 182, 0, 242, 42, 180, 0, 208, 154, 0, 7, 29]
abbrev dktX6_mustBe_1 : List UInt8 := dkwX6_mustBe_1 ++ dktX6_mustBe_2
def dkwX6_mustBe_0 : List UInt8 := [42, 182, 0, 236, 154, 0, 5, 3, 172, 42, 27, 182, 0, 239, 62, 42, 29, 2, 159, 0, 12, 29, 28]
abbrev dktX6_mustBe_0 : List UInt8 := dkwX6_mustBe_0 ++ dktX6_mustBe_1
theorem dksX6_mustBe_0 : cX6_mustBe.data.toList.drop 0 = dktX6_mustBe_0 := by decide +kernel
theorem dksX6_mustBe_1 : cX6_mustBe.data.toList.drop 23 = dktX6_mustBe_1 := dk_seg dksX6_mustBe_0 23 rfl rfl
theorem dksX6_mustBe_2 : cX6_mustBe.data.toList.drop 47 = dktX6_mustBe_2 := dk_seg dksX6_mustBe_1 24 rfl rfl
theorem dX6_mustBe_0 : decode cX6_mustBe 0 = .ok (.aload_n 0, 1) := dk_42 (dk_at dksX6_mustBe_0 0 rfl rfl)
theorem dX6_mustBe_1 : decode cX6_mustBe 1 = .ok (.invokevirtual 236, 3) := dk_182 0 236 (dk_at dksX6_mustBe_0 1 rfl rfl)
theorem dX6_mustBe_4 : decode cX6_mustBe 4 = .ok (.ifCond .ne 5, 3) := dk_154 0 5 (dk_at dksX6_mustBe_0 4 rfl rfl)
theorem dX6_mustBe_7 : decode cX6_mustBe 7 = .ok (.iconst 0, 1) := dk_3 (dk_at dksX6_mustBe_0 7 rfl rfl)
theorem dX6_mustBe_8 : decode cX6_mustBe 8 = .ok (.ireturn, 1) := dk_172 (dk_at dksX6_mustBe_0 8 rfl rfl)
theorem dX6_mustBe_9 : decode cX6_mustBe 9 = .ok (.aload_n 0, 1) := dk_42 (dk_at dksX6_mustBe_0 9 rfl rfl)
theorem dX6_mustBe_10 : decode cX6_mustBe 10 = .ok (.iload_n 1, 1) := dk_27 (dk_at dksX6_mustBe_0 10 rfl rfl)
theorem dX6_mustBe_11 : decode cX6_mustBe 11 = .ok (.invokevirtual 239, 3) := dk_182 0 239 (dk_at dksX6_mustBe_0 11 rfl rfl)
theorem dX6_mustBe_14 : decode cX6_mustBe 14 = .ok (.istore_n 3, 1) := dk_62 (dk_at dksX6_mustBe_0 14 rfl rfl)
theorem dX6_mustBe_15 : decode cX6_mustBe 15 = .ok (.aload_n 0, 1) := dk_42 (dk_at dksX6_mustBe_0 15 rfl rfl)
theorem dX6_mustBe_16 : decode cX6_mustBe 16 = .ok (.iload_n 3, 1) := dk_29 (dk_at dksX6_mustBe_0 16 rfl rfl)
theorem dX6_mustBe_17 : decode cX6_mustBe 17 = .ok (.iconst (-1), 1) := dk_2 (dk_at dksX6_mustBe_0 17 rfl rfl)
theorem dX6_mustBe_18 : decode cX6_mustBe 18 = .ok (.if_icmp .eq 12, 3) := dk_159 0 12 (dk_at dksX6_mustBe_0 18 rfl rfl)
theorem dX6_mustBe_21 : decode cX6_mustBe 21 = .ok (.iload_n 3, 1) := dk_29 (dk_at dksX6_mustBe_0 21 rfl rfl)
theorem dX6_mustBe_22 : decode cX6_mustBe 22 = .ok (.iload_n 2, 1) := dk_28 (dk_at dksX6_mustBe_0 22 rfl rfl)
theorem dX6_mustBe_23 : decode cX6_mustBe 23 = .ok (.if_icmp .eq 7, 3) := dk_159 0 7 (dk_at dksX6_mustBe_1 0 rfl rfl)
theorem dX6_mustBe_26 : decode cX6_mustBe 26 = .ok (.iconst 1, 1) := dk_4 (dk_at dksX6_mustBe_1 3 rfl rfl)
theorem dX6_mustBe_27 : decode cX6_mustBe 27 = .ok (.goto 4, 3) := dk_167 0 4 (dk_at dksX6_mustBe_1 4 rfl rfl)
theorem dX6_mustBe_30 : decode cX6_mustBe 30 = .ok (.iconst 0, 1) := dk_3 (dk_at dksX6_mustBe_1 7 rfl rfl)
theorem dX6_mustBe_31 : decode cX6_mustBe 31 = .ok (.iconst 3, 1) := dk_6 (dk_at dksX6_mustBe_1 8 rfl rfl)
theorem dX6_mustBe_32 : decode cX6_mustBe 32 = .ok (.invokevirtual 217, 3) := dk_182 0 217 (dk_at dksX6_mustBe_1 9 rfl rfl)
theorem dX6_mustBe_35 : decode cX6_mustBe 35 = .ok (.aload_n 0, 1) := dk_42 (dk_at dksX6_mustBe_1 12 rfl rfl)
theorem dX6_mustBe_36 : decode cX6_mustBe 36 = .ok (.invokevirtual 242, 3) := dk_182 0 242 (dk_at dksX6_mustBe_1 13 rfl rfl)
theorem dX6_mustBe_39 : decode cX6_mustBe 39 = .ok (.aload_n 0, 1) := dk_42 (dk_at dksX6_mustBe_1 16 rfl rfl)
theorem dX6_mustBe_40 : decode cX6_mustBe 40 = .ok (.getfield 208, 3) := dk_180 0 208 (dk_at dksX6_mustBe_1 17 rfl rfl)
theorem dX6_mustBe_43 : decode cX6_mustBe 43 = .ok (.ifCond .ne 7, 3) := dk_154 0 7 (dk_at dksX6_mustBe_1 20 rfl rfl)
theorem dX6_mustBe_46 : decode cX6_mustBe 46 = .ok (.iload_n 3, 1) := dk_29 (dk_at dksX6_mustBe_1 23 rfl rfl)
theorem dX6_mustBe_47 : decode cX6_mustBe 47 = .ok (.goto 4, 3) := dk_167 0 4 (dk_at dksX6_mustBe_2 0 rfl rfl)
theorem dX6_mustBe_50 : decode cX6_mustBe 50 = .ok (.iconst 0, 1) := dk_3 (dk_at dksX6_mustBe_2 3 rfl rfl)
theorem dX6_mustBe_51 : decode cX6_mustBe 51 = .ok (.ireturn, 1) := dk_172 (dk_at dksX6_mustBe_2 4 rfl rfl)
def dkwX6_puts_0 : List UInt8 := [42, 180, 0, 7, 16, 75, 16, 13, 27, 104, 96, 28, 96, 29, 79, 177]
abbrev dktX6_puts_0 : List UInt8 := dkwX6_puts_0 ++ []
theorem dksX6_puts_0 : cX6_puts.data.toList.drop 0 = dktX6_puts_0 := by decide +kernel
theorem dX6_puts_0 : decode cX6_puts 0 = .ok (.aload_n 0, 1) := dk_42 (dk_at dksX6_puts_0 0 rfl rfl)
theorem dX6_puts_1 : decode cX6_puts 1 = .ok (.getfield 7, 3) := dk_180 0 7 (dk_at dksX6_puts_0 1 rfl rfl)
theorem dX6_puts_4 : decode cX6_puts 4 = .ok (.bipush 75, 2) := dk_16 75 (dk_at dksX6_puts_0 4 rfl rfl)
theorem dX6_puts_6 : decode cX6_puts 6 = .ok (.bipush 13, 2) := dk_16 13 (dk_at dksX6_puts_0 6 rfl rfl)
theorem dX6_puts_8 : decode cX6_puts 8 = .ok (.iload_n 1, 1) := dk_27 (dk_at dksX6_puts_0 8 rfl rfl)
theorem dX6_puts_9 : decode cX6_puts 9 = .ok (.imul, 1) := dk_104 (dk_at dksX6_puts_0 9 rfl rfl)
theorem dX6_puts_10 : decode cX6_puts 10 = .ok (.iadd, 1) := dk_96 (dk_at dksX6_puts_0 10 rfl rfl)
theorem dX6_puts_11 : decode cX6_puts 11 = .ok (.iload_n 2, 1) := dk_28 (dk_at dksX6_puts_0 11 rfl rfl)
theorem dX6_puts_12 : decode cX6_puts 12 = .ok (.iadd, 1) := dk_96 (dk_at dksX6_puts_0 12 rfl rfl)
theorem dX6_puts_13 : decode cX6_puts 13 = .ok (.iload_n 3, 1) := dk_29 (dk_at dksX6_puts_0 13 rfl rfl)
theorem dX6_puts_14 : decode cX6_puts 14 = .ok (.iastore, 1) := dk_79 (dk_at dksX6_puts_0 14 rfl rfl)
theorem dX6_puts_15 : decode cX6_puts 15 = .ok (.return_, 1) := dk_177 (dk_at dksX6_puts_0 15 rfl rfl)
def dkwX6_groundLine_1 : List UInt8 := [19, 1, 23, 182, 0, 250, 153, 0, 10, 42, 182, 1, 25, 167, 0, 7, 42, 182, 1, 28, 177]
abbrev dktX6_groundLine_1 : List UInt8 := dkwX6_groundLine_1 ++ []
def dkwX6_groundLine_0 : List UInt8 := [42, 3, 181, 1, 14, 42, 19, 1, 18, 182, 0, 250, 153, 0, 10, 42, 182, 1, 20, 167, 0, 24, 42]
abbrev dktX6_groundLine_0 : List UInt8 := dkwX6_groundLine_0 ++ dktX6_groundLine_1
theorem dksX6_groundLine_0 : cX6_groundLine.data.toList.drop 0 = dktX6_groundLine_0 := by decide +kernel
theorem dksX6_groundLine_1 : cX6_groundLine.data.toList.drop 23 = dktX6_groundLine_1 := dk_seg dksX6_groundLine_0 23 rfl rfl
theorem dX6_groundLine_0 : decode cX6_groundLine 0 = .ok (.aload_n 0, 1) := dk_42 (dk_at dksX6_groundLine_0 0 rfl rfl)
theorem dX6_groundLine_1 : decode cX6_groundLine 1 = .ok (.iconst 0, 1) := dk_3 (dk_at dksX6_groundLine_0 1 rfl rfl)
theorem dX6_groundLine_2 : decode cX6_groundLine 2 = .ok (.putfield 270, 3) := dk_181 1 14 (dk_at dksX6_groundLine_0 2 rfl rfl)
theorem dX6_groundLine_5 : decode cX6_groundLine 5 = .ok (.aload_n 0, 1) := dk_42 (dk_at dksX6_groundLine_0 5 rfl rfl)
theorem dX6_groundLine_6 : decode cX6_groundLine 6 = .ok (.ldc_w 274, 3) := dk_19 1 18 (dk_at dksX6_groundLine_0 6 rfl rfl)
theorem dX6_groundLine_9 : decode cX6_groundLine 9 = .ok (.invokevirtual 250, 3) := dk_182 0 250 (dk_at dksX6_groundLine_0 9 rfl rfl)
theorem dX6_groundLine_12 : decode cX6_groundLine 12 = .ok (.ifCond .eq 10, 3) := dk_153 0 10 (dk_at dksX6_groundLine_0 12 rfl rfl)
theorem dX6_groundLine_15 : decode cX6_groundLine 15 = .ok (.aload_n 0, 1) := dk_42 (dk_at dksX6_groundLine_0 15 rfl rfl)
theorem dX6_groundLine_16 : decode cX6_groundLine 16 = .ok (.invokevirtual 276, 3) := dk_182 1 20 (dk_at dksX6_groundLine_0 16 rfl rfl)
theorem dX6_groundLine_19 : decode cX6_groundLine 19 = .ok (.goto 24, 3) := dk_167 0 24 (dk_at dksX6_groundLine_0 19 rfl rfl)
theorem dX6_groundLine_22 : decode cX6_groundLine 22 = .ok (.aload_n 0, 1) := dk_42 (dk_at dksX6_groundLine_0 22 rfl rfl)
theorem dX6_groundLine_23 : decode cX6_groundLine 23 = .ok (.ldc_w 279, 3) := dk_19 1 23 (dk_at dksX6_groundLine_1 0 rfl rfl)
theorem dX6_groundLine_26 : decode cX6_groundLine 26 = .ok (.invokevirtual 250, 3) := dk_182 0 250 (dk_at dksX6_groundLine_1 3 rfl rfl)
theorem dX6_groundLine_29 : decode cX6_groundLine 29 = .ok (.ifCond .eq 10, 3) := dk_153 0 10 (dk_at dksX6_groundLine_1 6 rfl rfl)
theorem dX6_groundLine_32 : decode cX6_groundLine 32 = .ok (.aload_n 0, 1) := dk_42 (dk_at dksX6_groundLine_1 9 rfl rfl)
theorem dX6_groundLine_33 : decode cX6_groundLine 33 = .ok (.invokevirtual 281, 3) := dk_182 1 25 (dk_at dksX6_groundLine_1 10 rfl rfl)
theorem dX6_groundLine_36 : decode cX6_groundLine 36 = .ok (.goto 7, 3) := dk_167 0 7 (dk_at dksX6_groundLine_1 13 rfl rfl)
theorem dX6_groundLine_39 : decode cX6_groundLine 39 = .ok (.aload_n 0, 1) := dk_42 (dk_at dksX6_groundLine_1 16 rfl rfl)
theorem dX6_groundLine_40 : decode cX6_groundLine 40 = .ok (.invokevirtual 284, 3) := dk_182 1 28 (dk_at dksX6_groundLine_1 17 rfl rfl)
theorem dX6_groundLine_43 : decode cX6_groundLine 43 = .ok (.return_, 1) := dk_177 (dk_at dksX6_groundLine_1 20 rfl rfl)
def dkwX6_stoneLine_0 : List UInt8 := [42, 182, 0, 242, 42, 182, 1, 11, 60, 42, 180, 0, 208, 154, 0, 8, 42, 27, 182, 0, 180, 177]
abbrev dktX6_stoneLine_0 : List UInt8 := dkwX6_stoneLine_0 ++ []
theorem dksX6_stoneLine_0 : cX6_stoneLine.data.toList.drop 0 = dktX6_stoneLine_0 := by decide +kernel
theorem dX6_stoneLine_0 : decode cX6_stoneLine 0 = .ok (.aload_n 0, 1) := dk_42 (dk_at dksX6_stoneLine_0 0 rfl rfl)
theorem dX6_stoneLine_1 : decode cX6_stoneLine 1 = .ok (.invokevirtual 242, 3) := dk_182 0 242 (dk_at dksX6_stoneLine_0 1 rfl rfl)
theorem dX6_stoneLine_4 : decode cX6_stoneLine 4 = .ok (.aload_n 0, 1) := dk_42 (dk_at dksX6_stoneLine_0 4 rfl rfl)
theorem dX6_stoneLine_5 : decode cX6_stoneLine 5 = .ok (.invokevirtual 267, 3) := dk_182 1 11 (dk_at dksX6_stoneLine_0 5 rfl rfl)
theorem dX6_stoneLine_8 : decode cX6_stoneLine 8 = .ok (.istore_n 1, 1) := dk_60 (dk_at dksX6_stoneLine_0 8 rfl rfl)
theorem dX6_stoneLine_9 : decode cX6_stoneLine 9 = .ok (.aload_n 0, 1) := dk_42 (dk_at dksX6_stoneLine_0 9 rfl rfl)
theorem dX6_stoneLine_10 : decode cX6_stoneLine 10 = .ok (.getfield 208, 3) := dk_180 0 208 (dk_at dksX6_stoneLine_0 10 rfl rfl)
theorem dX6_stoneLine_13 : decode cX6_stoneLine 13 = .ok (.ifCond .ne 8, 3) := dk_154 0 8 (dk_at dksX6_stoneLine_0 13 rfl rfl)
theorem dX6_stoneLine_16 : decode cX6_stoneLine 16 = .ok (.aload_n 0, 1) := dk_42 (dk_at dksX6_stoneLine_0 16 rfl rfl)
theorem dX6_stoneLine_17 : decode cX6_stoneLine 17 = .ok (.iload_n 1, 1) := dk_27 (dk_at dksX6_stoneLine_0 17 rfl rfl)
theorem dX6_stoneLine_18 : decode cX6_stoneLine 18 = .ok (.invokevirtual 180, 3) := dk_182 0 180 (dk_at dksX6_stoneLine_0 18 rfl rfl)
theorem dX6_stoneLine_21 : decode cX6_stoneLine 21 = .ok (.return_, 1) := dk_177 (dk_at dksX6_stoneLine_0 21 rfl rfl)
def dkwX6_freeCellHere_1 : List UInt8 := [167, 0, 4, 3, 6, 182, 0, 217, 27, 172]
abbrev dktX6_freeCellHere_1 : List UInt8 := dkwX6_freeCellHere_1 ++ []
def dkwX6_freeCellHere_0 : List UInt8 := [42, 182, 1, 4, 60, 42, 42, 27, 182, 0, 93, 153, 0, 15, 42, 27, 182, 0, 97, 154, 0, 7, 4]
abbrev dktX6_freeCellHere_0 : List UInt8 := dkwX6_freeCellHere_0 ++ dktX6_freeCellHere_1
theorem dksX6_freeCellHere_0 : cX6_freeCellHere.data.toList.drop 0 = dktX6_freeCellHere_0 := by decide +kernel
theorem dksX6_freeCellHere_1 : cX6_freeCellHere.data.toList.drop 23 = dktX6_freeCellHere_1 := dk_seg dksX6_freeCellHere_0 23 rfl rfl
theorem dX6_freeCellHere_0 : decode cX6_freeCellHere 0 = .ok (.aload_n 0, 1) := dk_42 (dk_at dksX6_freeCellHere_0 0 rfl rfl)
theorem dX6_freeCellHere_1 : decode cX6_freeCellHere 1 = .ok (.invokevirtual 260, 3) := dk_182 1 4 (dk_at dksX6_freeCellHere_0 1 rfl rfl)
theorem dX6_freeCellHere_4 : decode cX6_freeCellHere 4 = .ok (.istore_n 1, 1) := dk_60 (dk_at dksX6_freeCellHere_0 4 rfl rfl)
theorem dX6_freeCellHere_5 : decode cX6_freeCellHere 5 = .ok (.aload_n 0, 1) := dk_42 (dk_at dksX6_freeCellHere_0 5 rfl rfl)
theorem dX6_freeCellHere_6 : decode cX6_freeCellHere 6 = .ok (.aload_n 0, 1) := dk_42 (dk_at dksX6_freeCellHere_0 6 rfl rfl)
theorem dX6_freeCellHere_7 : decode cX6_freeCellHere 7 = .ok (.iload_n 1, 1) := dk_27 (dk_at dksX6_freeCellHere_0 7 rfl rfl)
theorem dX6_freeCellHere_8 : decode cX6_freeCellHere 8 = .ok (.invokevirtual 93, 3) := dk_182 0 93 (dk_at dksX6_freeCellHere_0 8 rfl rfl)
theorem dX6_freeCellHere_11 : decode cX6_freeCellHere 11 = .ok (.ifCond .eq 15, 3) := dk_153 0 15 (dk_at dksX6_freeCellHere_0 11 rfl rfl)
theorem dX6_freeCellHere_14 : decode cX6_freeCellHere 14 = .ok (.aload_n 0, 1) := dk_42 (dk_at dksX6_freeCellHere_0 14 rfl rfl)
theorem dX6_freeCellHere_15 : decode cX6_freeCellHere 15 = .ok (.iload_n 1, 1) := dk_27 (dk_at dksX6_freeCellHere_0 15 rfl rfl)
theorem dX6_freeCellHere_16 : decode cX6_freeCellHere 16 = .ok (.invokevirtual 97, 3) := dk_182 0 97 (dk_at dksX6_freeCellHere_0 16 rfl rfl)
theorem dX6_freeCellHere_19 : decode cX6_freeCellHere 19 = .ok (.ifCond .ne 7, 3) := dk_154 0 7 (dk_at dksX6_freeCellHere_0 19 rfl rfl)
theorem dX6_freeCellHere_22 : decode cX6_freeCellHere 22 = .ok (.iconst 1, 1) := dk_4 (dk_at dksX6_freeCellHere_0 22 rfl rfl)
theorem dX6_freeCellHere_23 : decode cX6_freeCellHere 23 = .ok (.goto 4, 3) := dk_167 0 4 (dk_at dksX6_freeCellHere_1 0 rfl rfl)
theorem dX6_freeCellHere_26 : decode cX6_freeCellHere 26 = .ok (.iconst 0, 1) := dk_3 (dk_at dksX6_freeCellHere_1 3 rfl rfl)
theorem dX6_freeCellHere_27 : decode cX6_freeCellHere 27 = .ok (.iconst 3, 1) := dk_6 (dk_at dksX6_freeCellHere_1 4 rfl rfl)
theorem dX6_freeCellHere_28 : decode cX6_freeCellHere 28 = .ok (.invokevirtual 217, 3) := dk_182 0 217 (dk_at dksX6_freeCellHere_1 5 rfl rfl)
theorem dX6_freeCellHere_31 : decode cX6_freeCellHere 31 = .ok (.iload_n 1, 1) := dk_27 (dk_at dksX6_freeCellHere_1 8 rfl rfl)
theorem dX6_freeCellHere_32 : decode cX6_freeCellHere 32 = .ok (.ireturn, 1) := dk_172 (dk_at dksX6_freeCellHere_1 9 rfl rfl)
def dkwX6_isGrass_0 : List UInt8 := [42, 27, 3, 182, 0, 86, 154, 0, 7, 4, 167, 0, 4, 3, 172]
abbrev dktX6_isGrass_0 : List UInt8 := dkwX6_isGrass_0 ++ []
theorem dksX6_isGrass_0 : cX6_isGrass.data.toList.drop 0 = dktX6_isGrass_0 := by decide +kernel
theorem dX6_isGrass_0 : decode cX6_isGrass 0 = .ok (.aload_n 0, 1) := dk_42 (dk_at dksX6_isGrass_0 0 rfl rfl)
theorem dX6_isGrass_1 : decode cX6_isGrass 1 = .ok (.iload_n 1, 1) := dk_27 (dk_at dksX6_isGrass_0 1 rfl rfl)
theorem dX6_isGrass_2 : decode cX6_isGrass 2 = .ok (.iconst 0, 1) := dk_3 (dk_at dksX6_isGrass_0 2 rfl rfl)
theorem dX6_isGrass_3 : decode cX6_isGrass 3 = .ok (.invokevirtual 86, 3) := dk_182 0 86 (dk_at dksX6_isGrass_0 3 rfl rfl)
theorem dX6_isGrass_6 : decode cX6_isGrass 6 = .ok (.ifCond .ne 7, 3) := dk_154 0 7 (dk_at dksX6_isGrass_0 6 rfl rfl)
theorem dX6_isGrass_9 : decode cX6_isGrass 9 = .ok (.iconst 1, 1) := dk_4 (dk_at dksX6_isGrass_0 9 rfl rfl)
theorem dX6_isGrass_10 : decode cX6_isGrass 10 = .ok (.goto 4, 3) := dk_167 0 4 (dk_at dksX6_isGrass_0 10 rfl rfl)
theorem dX6_isGrass_13 : decode cX6_isGrass 13 = .ok (.iconst 0, 1) := dk_3 (dk_at dksX6_isGrass_0 13 rfl rfl)
theorem dX6_isGrass_14 : decode cX6_isGrass 14 = .ok (.ireturn, 1) := dk_172 (dk_at dksX6_isGrass_0 14 rfl rfl)
def dkwX6_hasFence_0 : List UInt8 := [42, 27, 5, 182, 0, 86, 4, 160, 0, 7, 4, 167, 0, 4, 3, 172]
abbrev dktX6_hasFence_0 : List UInt8 := dkwX6_hasFence_0 ++ []
theorem dksX6_hasFence_0 : cX6_hasFence.data.toList.drop 0 = dktX6_hasFence_0 := by decide +kernel
theorem dX6_hasFence_0 : decode cX6_hasFence 0 = .ok (.aload_n 0, 1) := dk_42 (dk_at dksX6_hasFence_0 0 rfl rfl)
theorem dX6_hasFence_1 : decode cX6_hasFence 1 = .ok (.iload_n 1, 1) := dk_27 (dk_at dksX6_hasFence_0 1 rfl rfl)
theorem dX6_hasFence_2 : decode cX6_hasFence 2 = .ok (.iconst 2, 1) := dk_5 (dk_at dksX6_hasFence_0 2 rfl rfl)
theorem dX6_hasFence_3 : decode cX6_hasFence 3 = .ok (.invokevirtual 86, 3) := dk_182 0 86 (dk_at dksX6_hasFence_0 3 rfl rfl)
theorem dX6_hasFence_6 : decode cX6_hasFence 6 = .ok (.iconst 1, 1) := dk_4 (dk_at dksX6_hasFence_0 6 rfl rfl)
theorem dX6_hasFence_7 : decode cX6_hasFence 7 = .ok (.if_icmp .ne 7, 3) := dk_160 0 7 (dk_at dksX6_hasFence_0 7 rfl rfl)
theorem dX6_hasFence_10 : decode cX6_hasFence 10 = .ok (.iconst 1, 1) := dk_4 (dk_at dksX6_hasFence_0 10 rfl rfl)
theorem dX6_hasFence_11 : decode cX6_hasFence 11 = .ok (.goto 4, 3) := dk_167 0 4 (dk_at dksX6_hasFence_0 11 rfl rfl)
theorem dX6_hasFence_14 : decode cX6_hasFence 14 = .ok (.iconst 0, 1) := dk_3 (dk_at dksX6_hasFence_0 14 rfl rfl)
theorem dX6_hasFence_15 : decode cX6_hasFence 15 = .ok (.ireturn, 1) := dk_172 (dk_at dksX6_hasFence_0 15 rfl rfl)
def dkwX6_becomesStone_0 : List UInt8 := [42, 27, 3, 4, 182, 0, 139, 42, 27, 4, 3, 182, 0, 139, 177]
abbrev dktX6_becomesStone_0 : List UInt8 := dkwX6_becomesStone_0 ++ []
theorem dksX6_becomesStone_0 : cX6_becomesStone.data.toList.drop 0 = dktX6_becomesStone_0 := by decide +kernel
theorem dX6_becomesStone_0 : decode cX6_becomesStone 0 = .ok (.aload_n 0, 1) := dk_42 (dk_at dksX6_becomesStone_0 0 rfl rfl)
theorem dX6_becomesStone_1 : decode cX6_becomesStone 1 = .ok (.iload_n 1, 1) := dk_27 (dk_at dksX6_becomesStone_0 1 rfl rfl)
theorem dX6_becomesStone_2 : decode cX6_becomesStone 2 = .ok (.iconst 0, 1) := dk_3 (dk_at dksX6_becomesStone_0 2 rfl rfl)
theorem dX6_becomesStone_3 : decode cX6_becomesStone 3 = .ok (.iconst 1, 1) := dk_4 (dk_at dksX6_becomesStone_0 3 rfl rfl)
theorem dX6_becomesStone_4 : decode cX6_becomesStone 4 = .ok (.invokevirtual 139, 3) := dk_182 0 139 (dk_at dksX6_becomesStone_0 4 rfl rfl)
theorem dX6_becomesStone_7 : decode cX6_becomesStone 7 = .ok (.aload_n 0, 1) := dk_42 (dk_at dksX6_becomesStone_0 7 rfl rfl)
theorem dX6_becomesStone_8 : decode cX6_becomesStone 8 = .ok (.iload_n 1, 1) := dk_27 (dk_at dksX6_becomesStone_0 8 rfl rfl)
theorem dX6_becomesStone_9 : decode cX6_becomesStone 9 = .ok (.iconst 1, 1) := dk_4 (dk_at dksX6_becomesStone_0 9 rfl rfl)
theorem dX6_becomesStone_10 : decode cX6_becomesStone 10 = .ok (.iconst 0, 1) := dk_3 (dk_at dksX6_becomesStone_0 10 rfl rfl)
theorem dX6_becomesStone_11 : decode cX6_becomesStone 11 = .ok (.invokevirtual 139, 3) := dk_182 0 139 (dk_at dksX6_becomesStone_0 11 rfl rfl)
theorem dX6_becomesStone_14 : decode cX6_becomesStone 14 = .ok (.return_, 1) := dk_177 (dk_at dksX6_becomesStone_0 14 rfl rfl)
def dkwX6_grassLine_1 : List UInt8 := [42, 27, 4, 28, 182, 0, 139, 177]
abbrev dktX6_grassLine_1 : List UInt8 := dkwX6_grassLine_1 ++ []
def dkwX6_grassLine_0 : List UInt8 := [42, 182, 0, 242, 42, 182, 1, 11, 60, 42, 3, 16, 9, 182, 0, 254, 61, 42, 180, 0, 208, 154, 0, 10]
abbrev dktX6_grassLine_0 : List UInt8 := dkwX6_grassLine_0 ++ dktX6_grassLine_1
theorem dksX6_grassLine_0 : cX6_grassLine.data.toList.drop 0 = dktX6_grassLine_0 := by decide +kernel
theorem dksX6_grassLine_1 : cX6_grassLine.data.toList.drop 24 = dktX6_grassLine_1 := dk_seg dksX6_grassLine_0 24 rfl rfl
theorem dX6_grassLine_0 : decode cX6_grassLine 0 = .ok (.aload_n 0, 1) := dk_42 (dk_at dksX6_grassLine_0 0 rfl rfl)
theorem dX6_grassLine_1 : decode cX6_grassLine 1 = .ok (.invokevirtual 242, 3) := dk_182 0 242 (dk_at dksX6_grassLine_0 1 rfl rfl)
theorem dX6_grassLine_4 : decode cX6_grassLine 4 = .ok (.aload_n 0, 1) := dk_42 (dk_at dksX6_grassLine_0 4 rfl rfl)
theorem dX6_grassLine_5 : decode cX6_grassLine 5 = .ok (.invokevirtual 267, 3) := dk_182 1 11 (dk_at dksX6_grassLine_0 5 rfl rfl)
theorem dX6_grassLine_8 : decode cX6_grassLine 8 = .ok (.istore_n 1, 1) := dk_60 (dk_at dksX6_grassLine_0 8 rfl rfl)
theorem dX6_grassLine_9 : decode cX6_grassLine 9 = .ok (.aload_n 0, 1) := dk_42 (dk_at dksX6_grassLine_0 9 rfl rfl)
theorem dX6_grassLine_10 : decode cX6_grassLine 10 = .ok (.iconst 0, 1) := dk_3 (dk_at dksX6_grassLine_0 10 rfl rfl)
theorem dX6_grassLine_11 : decode cX6_grassLine 11 = .ok (.bipush 9, 2) := dk_16 9 (dk_at dksX6_grassLine_0 11 rfl rfl)
theorem dX6_grassLine_13 : decode cX6_grassLine 13 = .ok (.invokevirtual 254, 3) := dk_182 0 254 (dk_at dksX6_grassLine_0 13 rfl rfl)
theorem dX6_grassLine_16 : decode cX6_grassLine 16 = .ok (.istore_n 2, 1) := dk_61 (dk_at dksX6_grassLine_0 16 rfl rfl)
theorem dX6_grassLine_17 : decode cX6_grassLine 17 = .ok (.aload_n 0, 1) := dk_42 (dk_at dksX6_grassLine_0 17 rfl rfl)
theorem dX6_grassLine_18 : decode cX6_grassLine 18 = .ok (.getfield 208, 3) := dk_180 0 208 (dk_at dksX6_grassLine_0 18 rfl rfl)
theorem dX6_grassLine_21 : decode cX6_grassLine 21 = .ok (.ifCond .ne 10, 3) := dk_154 0 10 (dk_at dksX6_grassLine_0 21 rfl rfl)
theorem dX6_grassLine_24 : decode cX6_grassLine 24 = .ok (.aload_n 0, 1) := dk_42 (dk_at dksX6_grassLine_1 0 rfl rfl)
theorem dX6_grassLine_25 : decode cX6_grassLine 25 = .ok (.iload_n 1, 1) := dk_27 (dk_at dksX6_grassLine_1 1 rfl rfl)
theorem dX6_grassLine_26 : decode cX6_grassLine 26 = .ok (.iconst 1, 1) := dk_4 (dk_at dksX6_grassLine_1 2 rfl rfl)
theorem dX6_grassLine_27 : decode cX6_grassLine 27 = .ok (.iload_n 2, 1) := dk_28 (dk_at dksX6_grassLine_1 3 rfl rfl)
theorem dX6_grassLine_28 : decode cX6_grassLine 28 = .ok (.invokevirtual 139, 3) := dk_182 0 139 (dk_at dksX6_grassLine_1 4 rfl rfl)
theorem dX6_grassLine_31 : decode cX6_grassLine 31 = .ok (.return_, 1) := dk_177 (dk_at dksX6_grassLine_1 7 rfl rfl)
def dkwX6_fenceLine_3 : List UInt8 := [182, 0, 217, 177]
abbrev dktX6_fenceLine_3 : List UInt8 := dkwX6_fenceLine_3 ++ []
def dkwX6_fenceLine_2 : List UInt8 := [42, 27, 5, 4, 182, 0, 139, 42, 180, 0, 7, 5, 92, 46, 4, 96, 79, 42, 42, 182, 0, 173, 6]
abbrev dktX6_fenceLine_2 : List UInt8 := dkwX6_fenceLine_2 ++ dktX6_fenceLine_3
def dkwX6_fenceLine_1 : List UInt8 := [180, 0, 208, 153, 0, 4, 177, 42, 182, 0, 242, 42, 182, 1, 11, 60, 42, 180, 0, 208, 153, 0, 4, 177]
abbrev dktX6_fenceLine_1 : List UInt8 := dkwX6_fenceLine_1 ++ dktX6_fenceLine_2
def dkwX6_fenceLine_0 : List UInt8 := [42, 42, 180, 0, 7, 5, 46, 16, 10, 162, 0, 7, 4, 167, 0, 4, 3, 7, 182, 0, 217, 42]
abbrev dktX6_fenceLine_0 : List UInt8 := dkwX6_fenceLine_0 ++ dktX6_fenceLine_1
theorem dksX6_fenceLine_0 : cX6_fenceLine.data.toList.drop 0 = dktX6_fenceLine_0 := by decide +kernel
theorem dksX6_fenceLine_1 : cX6_fenceLine.data.toList.drop 22 = dktX6_fenceLine_1 := dk_seg dksX6_fenceLine_0 22 rfl rfl
theorem dksX6_fenceLine_2 : cX6_fenceLine.data.toList.drop 46 = dktX6_fenceLine_2 := dk_seg dksX6_fenceLine_1 24 rfl rfl
theorem dksX6_fenceLine_3 : cX6_fenceLine.data.toList.drop 69 = dktX6_fenceLine_3 := dk_seg dksX6_fenceLine_2 23 rfl rfl
theorem dX6_fenceLine_0 : decode cX6_fenceLine 0 = .ok (.aload_n 0, 1) := dk_42 (dk_at dksX6_fenceLine_0 0 rfl rfl)
theorem dX6_fenceLine_1 : decode cX6_fenceLine 1 = .ok (.aload_n 0, 1) := dk_42 (dk_at dksX6_fenceLine_0 1 rfl rfl)
theorem dX6_fenceLine_2 : decode cX6_fenceLine 2 = .ok (.getfield 7, 3) := dk_180 0 7 (dk_at dksX6_fenceLine_0 2 rfl rfl)
theorem dX6_fenceLine_5 : decode cX6_fenceLine 5 = .ok (.iconst 2, 1) := dk_5 (dk_at dksX6_fenceLine_0 5 rfl rfl)
theorem dX6_fenceLine_6 : decode cX6_fenceLine 6 = .ok (.iaload, 1) := dk_46 (dk_at dksX6_fenceLine_0 6 rfl rfl)
theorem dX6_fenceLine_7 : decode cX6_fenceLine 7 = .ok (.bipush 10, 2) := dk_16 10 (dk_at dksX6_fenceLine_0 7 rfl rfl)
theorem dX6_fenceLine_9 : decode cX6_fenceLine 9 = .ok (.if_icmp .ge 7, 3) := dk_162 0 7 (dk_at dksX6_fenceLine_0 9 rfl rfl)
theorem dX6_fenceLine_12 : decode cX6_fenceLine 12 = .ok (.iconst 1, 1) := dk_4 (dk_at dksX6_fenceLine_0 12 rfl rfl)
theorem dX6_fenceLine_13 : decode cX6_fenceLine 13 = .ok (.goto 4, 3) := dk_167 0 4 (dk_at dksX6_fenceLine_0 13 rfl rfl)
theorem dX6_fenceLine_16 : decode cX6_fenceLine 16 = .ok (.iconst 0, 1) := dk_3 (dk_at dksX6_fenceLine_0 16 rfl rfl)
theorem dX6_fenceLine_17 : decode cX6_fenceLine 17 = .ok (.iconst 4, 1) := dk_7 (dk_at dksX6_fenceLine_0 17 rfl rfl)
theorem dX6_fenceLine_18 : decode cX6_fenceLine 18 = .ok (.invokevirtual 217, 3) := dk_182 0 217 (dk_at dksX6_fenceLine_0 18 rfl rfl)
theorem dX6_fenceLine_21 : decode cX6_fenceLine 21 = .ok (.aload_n 0, 1) := dk_42 (dk_at dksX6_fenceLine_0 21 rfl rfl)
theorem dX6_fenceLine_22 : decode cX6_fenceLine 22 = .ok (.getfield 208, 3) := dk_180 0 208 (dk_at dksX6_fenceLine_1 0 rfl rfl)
theorem dX6_fenceLine_25 : decode cX6_fenceLine 25 = .ok (.ifCond .eq 4, 3) := dk_153 0 4 (dk_at dksX6_fenceLine_1 3 rfl rfl)
theorem dX6_fenceLine_28 : decode cX6_fenceLine 28 = .ok (.return_, 1) := dk_177 (dk_at dksX6_fenceLine_1 6 rfl rfl)
theorem dX6_fenceLine_29 : decode cX6_fenceLine 29 = .ok (.aload_n 0, 1) := dk_42 (dk_at dksX6_fenceLine_1 7 rfl rfl)
theorem dX6_fenceLine_30 : decode cX6_fenceLine 30 = .ok (.invokevirtual 242, 3) := dk_182 0 242 (dk_at dksX6_fenceLine_1 8 rfl rfl)
theorem dX6_fenceLine_33 : decode cX6_fenceLine 33 = .ok (.aload_n 0, 1) := dk_42 (dk_at dksX6_fenceLine_1 11 rfl rfl)
theorem dX6_fenceLine_34 : decode cX6_fenceLine 34 = .ok (.invokevirtual 267, 3) := dk_182 1 11 (dk_at dksX6_fenceLine_1 12 rfl rfl)
theorem dX6_fenceLine_37 : decode cX6_fenceLine 37 = .ok (.istore_n 1, 1) := dk_60 (dk_at dksX6_fenceLine_1 15 rfl rfl)
theorem dX6_fenceLine_38 : decode cX6_fenceLine 38 = .ok (.aload_n 0, 1) := dk_42 (dk_at dksX6_fenceLine_1 16 rfl rfl)
theorem dX6_fenceLine_39 : decode cX6_fenceLine 39 = .ok (.getfield 208, 3) := dk_180 0 208 (dk_at dksX6_fenceLine_1 17 rfl rfl)
theorem dX6_fenceLine_42 : decode cX6_fenceLine 42 = .ok (.ifCond .eq 4, 3) := dk_153 0 4 (dk_at dksX6_fenceLine_1 20 rfl rfl)
theorem dX6_fenceLine_45 : decode cX6_fenceLine 45 = .ok (.return_, 1) := dk_177 (dk_at dksX6_fenceLine_1 23 rfl rfl)
theorem dX6_fenceLine_46 : decode cX6_fenceLine 46 = .ok (.aload_n 0, 1) := dk_42 (dk_at dksX6_fenceLine_2 0 rfl rfl)
theorem dX6_fenceLine_47 : decode cX6_fenceLine 47 = .ok (.iload_n 1, 1) := dk_27 (dk_at dksX6_fenceLine_2 1 rfl rfl)
theorem dX6_fenceLine_48 : decode cX6_fenceLine 48 = .ok (.iconst 2, 1) := dk_5 (dk_at dksX6_fenceLine_2 2 rfl rfl)
theorem dX6_fenceLine_49 : decode cX6_fenceLine 49 = .ok (.iconst 1, 1) := dk_4 (dk_at dksX6_fenceLine_2 3 rfl rfl)
theorem dX6_fenceLine_50 : decode cX6_fenceLine 50 = .ok (.invokevirtual 139, 3) := dk_182 0 139 (dk_at dksX6_fenceLine_2 4 rfl rfl)
theorem dX6_fenceLine_53 : decode cX6_fenceLine 53 = .ok (.aload_n 0, 1) := dk_42 (dk_at dksX6_fenceLine_2 7 rfl rfl)
theorem dX6_fenceLine_54 : decode cX6_fenceLine 54 = .ok (.getfield 7, 3) := dk_180 0 7 (dk_at dksX6_fenceLine_2 8 rfl rfl)
theorem dX6_fenceLine_57 : decode cX6_fenceLine 57 = .ok (.iconst 2, 1) := dk_5 (dk_at dksX6_fenceLine_2 11 rfl rfl)
theorem dX6_fenceLine_58 : decode cX6_fenceLine 58 = .ok (.dup2, 1) := dk_92 (dk_at dksX6_fenceLine_2 12 rfl rfl)
theorem dX6_fenceLine_59 : decode cX6_fenceLine 59 = .ok (.iaload, 1) := dk_46 (dk_at dksX6_fenceLine_2 13 rfl rfl)
theorem dX6_fenceLine_60 : decode cX6_fenceLine 60 = .ok (.iconst 1, 1) := dk_4 (dk_at dksX6_fenceLine_2 14 rfl rfl)
theorem dX6_fenceLine_61 : decode cX6_fenceLine 61 = .ok (.iadd, 1) := dk_96 (dk_at dksX6_fenceLine_2 15 rfl rfl)
theorem dX6_fenceLine_62 : decode cX6_fenceLine 62 = .ok (.iastore, 1) := dk_79 (dk_at dksX6_fenceLine_2 16 rfl rfl)
theorem dX6_fenceLine_63 : decode cX6_fenceLine 63 = .ok (.aload_n 0, 1) := dk_42 (dk_at dksX6_fenceLine_2 17 rfl rfl)
theorem dX6_fenceLine_64 : decode cX6_fenceLine 64 = .ok (.aload_n 0, 1) := dk_42 (dk_at dksX6_fenceLine_2 18 rfl rfl)
theorem dX6_fenceLine_65 : decode cX6_fenceLine 65 = .ok (.invokevirtual 173, 3) := dk_182 0 173 (dk_at dksX6_fenceLine_2 19 rfl rfl)
theorem dX6_fenceLine_68 : decode cX6_fenceLine 68 = .ok (.iconst 3, 1) := dk_6 (dk_at dksX6_fenceLine_2 22 rfl rfl)
theorem dX6_fenceLine_69 : decode cX6_fenceLine 69 = .ok (.invokevirtual 217, 3) := dk_182 0 217 (dk_at dksX6_fenceLine_3 0 rfl rfl)
theorem dX6_fenceLine_72 : decode cX6_fenceLine 72 = .ok (.return_, 1) := dk_177 (dk_at dksX6_fenceLine_3 3 rfl rfl)
def dkwX6_areWays_1 : List UInt8 := [172, 132, 1, 1, 167, 255, 230, 4, 172]
abbrev dktX6_areWays_1 : List UInt8 := dkwX6_areWays_1 ++ []
def dkwX6_areWays_0 : List UInt8 := [3, 60, 27, 42, 180, 0, 7, 4, 46, 162, 0, 22, 42, 27, 3, 182, 0, 124, 18, 109, 161, 0, 5, 3]
abbrev dktX6_areWays_0 : List UInt8 := dkwX6_areWays_0 ++ dktX6_areWays_1
theorem dksX6_areWays_0 : cX6_areWays.data.toList.drop 0 = dktX6_areWays_0 := by decide +kernel
theorem dksX6_areWays_1 : cX6_areWays.data.toList.drop 24 = dktX6_areWays_1 := dk_seg dksX6_areWays_0 24 rfl rfl
theorem dX6_areWays_0 : decode cX6_areWays 0 = .ok (.iconst 0, 1) := dk_3 (dk_at dksX6_areWays_0 0 rfl rfl)
theorem dX6_areWays_1 : decode cX6_areWays 1 = .ok (.istore_n 1, 1) := dk_60 (dk_at dksX6_areWays_0 1 rfl rfl)
theorem dX6_areWays_2 : decode cX6_areWays 2 = .ok (.iload_n 1, 1) := dk_27 (dk_at dksX6_areWays_0 2 rfl rfl)
theorem dX6_areWays_3 : decode cX6_areWays 3 = .ok (.aload_n 0, 1) := dk_42 (dk_at dksX6_areWays_0 3 rfl rfl)
theorem dX6_areWays_4 : decode cX6_areWays 4 = .ok (.getfield 7, 3) := dk_180 0 7 (dk_at dksX6_areWays_0 4 rfl rfl)
theorem dX6_areWays_7 : decode cX6_areWays 7 = .ok (.iconst 1, 1) := dk_4 (dk_at dksX6_areWays_0 7 rfl rfl)
theorem dX6_areWays_8 : decode cX6_areWays 8 = .ok (.iaload, 1) := dk_46 (dk_at dksX6_areWays_0 8 rfl rfl)
theorem dX6_areWays_9 : decode cX6_areWays 9 = .ok (.if_icmp .ge 22, 3) := dk_162 0 22 (dk_at dksX6_areWays_0 9 rfl rfl)
theorem dX6_areWays_12 : decode cX6_areWays 12 = .ok (.aload_n 0, 1) := dk_42 (dk_at dksX6_areWays_0 12 rfl rfl)
theorem dX6_areWays_13 : decode cX6_areWays 13 = .ok (.iload_n 1, 1) := dk_27 (dk_at dksX6_areWays_0 13 rfl rfl)
theorem dX6_areWays_14 : decode cX6_areWays 14 = .ok (.iconst 0, 1) := dk_3 (dk_at dksX6_areWays_0 14 rfl rfl)
theorem dX6_areWays_15 : decode cX6_areWays 15 = .ok (.invokevirtual 124, 3) := dk_182 0 124 (dk_at dksX6_areWays_0 15 rfl rfl)
theorem dX6_areWays_18 : decode cX6_areWays 18 = .ok (.ldc 109, 2) := dk_18 109 (dk_at dksX6_areWays_0 18 rfl rfl)
theorem dX6_areWays_20 : decode cX6_areWays 20 = .ok (.if_icmp .lt 5, 3) := dk_161 0 5 (dk_at dksX6_areWays_0 20 rfl rfl)
theorem dX6_areWays_23 : decode cX6_areWays 23 = .ok (.iconst 0, 1) := dk_3 (dk_at dksX6_areWays_0 23 rfl rfl)
theorem dX6_areWays_24 : decode cX6_areWays 24 = .ok (.ireturn, 1) := dk_172 (dk_at dksX6_areWays_1 0 rfl rfl)
theorem dX6_areWays_25 : decode cX6_areWays 25 = .ok (.iinc 1 1, 3) := dk_132 1 1 (dk_at dksX6_areWays_1 1 rfl rfl)
theorem dX6_areWays_28 : decode cX6_areWays 28 = .ok (.goto (-26), 3) := dk_167 255 230 (dk_at dksX6_areWays_1 4 rfl rfl)
theorem dX6_areWays_31 : decode cX6_areWays 31 = .ok (.iconst 1, 1) := dk_4 (dk_at dksX6_areWays_1 7 rfl rfl)
theorem dX6_areWays_32 : decode cX6_areWays 32 = .ok (.ireturn, 1) := dk_172 (dk_at dksX6_areWays_1 8 rfl rfl)
def dkwX6_laysCosts_5 : List UInt8 := [167, 255, 191, 167, 255, 179, 42, 180, 0, 25, 42, 42, 27, 16, 7, 182, 0, 103, 182, 0, 114, 46, 172]
abbrev dktX6_laysCosts_5 : List UInt8 := dkwX6_laysCosts_5 ++ []
def dkwX6_laysCosts_4 : List UInt8 := [167, 0, 14, 42, 180, 0, 25, 21, 4, 21, 6, 79, 4, 62, 132, 5, 1, 167, 255, 209, 132, 4, 1]
abbrev dktX6_laysCosts_4 : List UInt8 := dkwX6_laysCosts_4 ++ dktX6_laysCosts_5
def dkwX6_laysCosts_3 : List UInt8 := [21, 4, 21, 5, 28, 182, 0, 120, 54, 6, 21, 6, 42, 180, 0, 25, 21, 4, 46, 161, 0, 6]
abbrev dktX6_laysCosts_3 : List UInt8 := dkwX6_laysCosts_3 ++ dktX6_laysCosts_4
def dkwX6_laysCosts_2 : List UInt8 := [3, 54, 4, 21, 4, 42, 182, 0, 117, 162, 0, 62, 3, 54, 5, 21, 5, 7, 162, 0, 47, 42, 27]
abbrev dktX6_laysCosts_2 : List UInt8 := dkwX6_laysCosts_2 ++ dktX6_laysCosts_3
def dkwX6_laysCosts_1 : List UInt8 := [180, 0, 25, 42, 42, 27, 16, 8, 182, 0, 103, 182, 0, 114, 3, 79, 4, 62, 29, 153, 0, 79, 3, 62]
abbrev dktX6_laysCosts_1 : List UInt8 := dkwX6_laysCosts_1 ++ dktX6_laysCosts_2
def dkwX6_laysCosts_0 : List UInt8 := [3, 62, 29, 16, 80, 162, 0, 17, 42, 180, 0, 25, 29, 18, 109, 79, 132, 3, 1, 167, 255, 239, 42]
abbrev dktX6_laysCosts_0 : List UInt8 := dkwX6_laysCosts_0 ++ dktX6_laysCosts_1
theorem dksX6_laysCosts_0 : cX6_laysCosts.data.toList.drop 0 = dktX6_laysCosts_0 := by decide +kernel
theorem dksX6_laysCosts_1 : cX6_laysCosts.data.toList.drop 23 = dktX6_laysCosts_1 := dk_seg dksX6_laysCosts_0 23 rfl rfl
theorem dksX6_laysCosts_2 : cX6_laysCosts.data.toList.drop 47 = dktX6_laysCosts_2 := dk_seg dksX6_laysCosts_1 24 rfl rfl
theorem dksX6_laysCosts_3 : cX6_laysCosts.data.toList.drop 70 = dktX6_laysCosts_3 := dk_seg dksX6_laysCosts_2 23 rfl rfl
theorem dksX6_laysCosts_4 : cX6_laysCosts.data.toList.drop 92 = dktX6_laysCosts_4 := dk_seg dksX6_laysCosts_3 22 rfl rfl
theorem dksX6_laysCosts_5 : cX6_laysCosts.data.toList.drop 115 = dktX6_laysCosts_5 := dk_seg dksX6_laysCosts_4 23 rfl rfl
theorem dX6_laysCosts_0 : decode cX6_laysCosts 0 = .ok (.iconst 0, 1) := dk_3 (dk_at dksX6_laysCosts_0 0 rfl rfl)
theorem dX6_laysCosts_1 : decode cX6_laysCosts 1 = .ok (.istore_n 3, 1) := dk_62 (dk_at dksX6_laysCosts_0 1 rfl rfl)
theorem dX6_laysCosts_2 : decode cX6_laysCosts 2 = .ok (.iload_n 3, 1) := dk_29 (dk_at dksX6_laysCosts_0 2 rfl rfl)
theorem dX6_laysCosts_3 : decode cX6_laysCosts 3 = .ok (.bipush 80, 2) := dk_16 80 (dk_at dksX6_laysCosts_0 3 rfl rfl)
theorem dX6_laysCosts_5 : decode cX6_laysCosts 5 = .ok (.if_icmp .ge 17, 3) := dk_162 0 17 (dk_at dksX6_laysCosts_0 5 rfl rfl)
theorem dX6_laysCosts_8 : decode cX6_laysCosts 8 = .ok (.aload_n 0, 1) := dk_42 (dk_at dksX6_laysCosts_0 8 rfl rfl)
theorem dX6_laysCosts_9 : decode cX6_laysCosts 9 = .ok (.getfield 25, 3) := dk_180 0 25 (dk_at dksX6_laysCosts_0 9 rfl rfl)
theorem dX6_laysCosts_12 : decode cX6_laysCosts 12 = .ok (.iload_n 3, 1) := dk_29 (dk_at dksX6_laysCosts_0 12 rfl rfl)
theorem dX6_laysCosts_13 : decode cX6_laysCosts 13 = .ok (.ldc 109, 2) := dk_18 109 (dk_at dksX6_laysCosts_0 13 rfl rfl)
theorem dX6_laysCosts_15 : decode cX6_laysCosts 15 = .ok (.iastore, 1) := dk_79 (dk_at dksX6_laysCosts_0 15 rfl rfl)
theorem dX6_laysCosts_16 : decode cX6_laysCosts 16 = .ok (.iinc 3 1, 3) := dk_132 3 1 (dk_at dksX6_laysCosts_0 16 rfl rfl)
theorem dX6_laysCosts_19 : decode cX6_laysCosts 19 = .ok (.goto (-17), 3) := dk_167 255 239 (dk_at dksX6_laysCosts_0 19 rfl rfl)
theorem dX6_laysCosts_22 : decode cX6_laysCosts 22 = .ok (.aload_n 0, 1) := dk_42 (dk_at dksX6_laysCosts_0 22 rfl rfl)
theorem dX6_laysCosts_23 : decode cX6_laysCosts 23 = .ok (.getfield 25, 3) := dk_180 0 25 (dk_at dksX6_laysCosts_1 0 rfl rfl)
theorem dX6_laysCosts_26 : decode cX6_laysCosts 26 = .ok (.aload_n 0, 1) := dk_42 (dk_at dksX6_laysCosts_1 3 rfl rfl)
theorem dX6_laysCosts_27 : decode cX6_laysCosts 27 = .ok (.aload_n 0, 1) := dk_42 (dk_at dksX6_laysCosts_1 4 rfl rfl)
theorem dX6_laysCosts_28 : decode cX6_laysCosts 28 = .ok (.iload_n 1, 1) := dk_27 (dk_at dksX6_laysCosts_1 5 rfl rfl)
theorem dX6_laysCosts_29 : decode cX6_laysCosts 29 = .ok (.bipush 8, 2) := dk_16 8 (dk_at dksX6_laysCosts_1 6 rfl rfl)
theorem dX6_laysCosts_31 : decode cX6_laysCosts 31 = .ok (.invokevirtual 103, 3) := dk_182 0 103 (dk_at dksX6_laysCosts_1 8 rfl rfl)
theorem dX6_laysCosts_34 : decode cX6_laysCosts 34 = .ok (.invokevirtual 114, 3) := dk_182 0 114 (dk_at dksX6_laysCosts_1 11 rfl rfl)
theorem dX6_laysCosts_37 : decode cX6_laysCosts 37 = .ok (.iconst 0, 1) := dk_3 (dk_at dksX6_laysCosts_1 14 rfl rfl)
theorem dX6_laysCosts_38 : decode cX6_laysCosts 38 = .ok (.iastore, 1) := dk_79 (dk_at dksX6_laysCosts_1 15 rfl rfl)
theorem dX6_laysCosts_39 : decode cX6_laysCosts 39 = .ok (.iconst 1, 1) := dk_4 (dk_at dksX6_laysCosts_1 16 rfl rfl)
theorem dX6_laysCosts_40 : decode cX6_laysCosts 40 = .ok (.istore_n 3, 1) := dk_62 (dk_at dksX6_laysCosts_1 17 rfl rfl)
theorem dX6_laysCosts_41 : decode cX6_laysCosts 41 = .ok (.iload_n 3, 1) := dk_29 (dk_at dksX6_laysCosts_1 18 rfl rfl)
theorem dX6_laysCosts_42 : decode cX6_laysCosts 42 = .ok (.ifCond .eq 79, 3) := dk_153 0 79 (dk_at dksX6_laysCosts_1 19 rfl rfl)
theorem dX6_laysCosts_45 : decode cX6_laysCosts 45 = .ok (.iconst 0, 1) := dk_3 (dk_at dksX6_laysCosts_1 22 rfl rfl)
theorem dX6_laysCosts_46 : decode cX6_laysCosts 46 = .ok (.istore_n 3, 1) := dk_62 (dk_at dksX6_laysCosts_1 23 rfl rfl)
theorem dX6_laysCosts_47 : decode cX6_laysCosts 47 = .ok (.iconst 0, 1) := dk_3 (dk_at dksX6_laysCosts_2 0 rfl rfl)
theorem dX6_laysCosts_48 : decode cX6_laysCosts 48 = .ok (.istore 4, 2) := dk_54 4 (dk_at dksX6_laysCosts_2 1 rfl rfl)
theorem dX6_laysCosts_50 : decode cX6_laysCosts 50 = .ok (.iload 4, 2) := dk_21 4 (dk_at dksX6_laysCosts_2 3 rfl rfl)
theorem dX6_laysCosts_52 : decode cX6_laysCosts 52 = .ok (.aload_n 0, 1) := dk_42 (dk_at dksX6_laysCosts_2 5 rfl rfl)
theorem dX6_laysCosts_53 : decode cX6_laysCosts 53 = .ok (.invokevirtual 117, 3) := dk_182 0 117 (dk_at dksX6_laysCosts_2 6 rfl rfl)
theorem dX6_laysCosts_56 : decode cX6_laysCosts 56 = .ok (.if_icmp .ge 62, 3) := dk_162 0 62 (dk_at dksX6_laysCosts_2 9 rfl rfl)
theorem dX6_laysCosts_59 : decode cX6_laysCosts 59 = .ok (.iconst 0, 1) := dk_3 (dk_at dksX6_laysCosts_2 12 rfl rfl)
theorem dX6_laysCosts_60 : decode cX6_laysCosts 60 = .ok (.istore 5, 2) := dk_54 5 (dk_at dksX6_laysCosts_2 13 rfl rfl)
theorem dX6_laysCosts_62 : decode cX6_laysCosts 62 = .ok (.iload 5, 2) := dk_21 5 (dk_at dksX6_laysCosts_2 15 rfl rfl)
theorem dX6_laysCosts_64 : decode cX6_laysCosts 64 = .ok (.iconst 4, 1) := dk_7 (dk_at dksX6_laysCosts_2 17 rfl rfl)
theorem dX6_laysCosts_65 : decode cX6_laysCosts 65 = .ok (.if_icmp .ge 47, 3) := dk_162 0 47 (dk_at dksX6_laysCosts_2 18 rfl rfl)
theorem dX6_laysCosts_68 : decode cX6_laysCosts 68 = .ok (.aload_n 0, 1) := dk_42 (dk_at dksX6_laysCosts_2 21 rfl rfl)
theorem dX6_laysCosts_69 : decode cX6_laysCosts 69 = .ok (.iload_n 1, 1) := dk_27 (dk_at dksX6_laysCosts_2 22 rfl rfl)
theorem dX6_laysCosts_70 : decode cX6_laysCosts 70 = .ok (.iload 4, 2) := dk_21 4 (dk_at dksX6_laysCosts_3 0 rfl rfl)
theorem dX6_laysCosts_72 : decode cX6_laysCosts 72 = .ok (.iload 5, 2) := dk_21 5 (dk_at dksX6_laysCosts_3 2 rfl rfl)
theorem dX6_laysCosts_74 : decode cX6_laysCosts 74 = .ok (.iload_n 2, 1) := dk_28 (dk_at dksX6_laysCosts_3 4 rfl rfl)
theorem dX6_laysCosts_75 : decode cX6_laysCosts 75 = .ok (.invokevirtual 120, 3) := dk_182 0 120 (dk_at dksX6_laysCosts_3 5 rfl rfl)
theorem dX6_laysCosts_78 : decode cX6_laysCosts 78 = .ok (.istore 6, 2) := dk_54 6 (dk_at dksX6_laysCosts_3 8 rfl rfl)
theorem dX6_laysCosts_80 : decode cX6_laysCosts 80 = .ok (.iload 6, 2) := dk_21 6 (dk_at dksX6_laysCosts_3 10 rfl rfl)
theorem dX6_laysCosts_82 : decode cX6_laysCosts 82 = .ok (.aload_n 0, 1) := dk_42 (dk_at dksX6_laysCosts_3 12 rfl rfl)
theorem dX6_laysCosts_83 : decode cX6_laysCosts 83 = .ok (.getfield 25, 3) := dk_180 0 25 (dk_at dksX6_laysCosts_3 13 rfl rfl)
theorem dX6_laysCosts_86 : decode cX6_laysCosts 86 = .ok (.iload 4, 2) := dk_21 4 (dk_at dksX6_laysCosts_3 16 rfl rfl)
theorem dX6_laysCosts_88 : decode cX6_laysCosts 88 = .ok (.iaload, 1) := dk_46 (dk_at dksX6_laysCosts_3 18 rfl rfl)
theorem dX6_laysCosts_89 : decode cX6_laysCosts 89 = .ok (.if_icmp .lt 6, 3) := dk_161 0 6 (dk_at dksX6_laysCosts_3 19 rfl rfl)
theorem dX6_laysCosts_92 : decode cX6_laysCosts 92 = .ok (.goto 14, 3) := dk_167 0 14 (dk_at dksX6_laysCosts_4 0 rfl rfl)
theorem dX6_laysCosts_95 : decode cX6_laysCosts 95 = .ok (.aload_n 0, 1) := dk_42 (dk_at dksX6_laysCosts_4 3 rfl rfl)
theorem dX6_laysCosts_96 : decode cX6_laysCosts 96 = .ok (.getfield 25, 3) := dk_180 0 25 (dk_at dksX6_laysCosts_4 4 rfl rfl)
theorem dX6_laysCosts_99 : decode cX6_laysCosts 99 = .ok (.iload 4, 2) := dk_21 4 (dk_at dksX6_laysCosts_4 7 rfl rfl)
theorem dX6_laysCosts_101 : decode cX6_laysCosts 101 = .ok (.iload 6, 2) := dk_21 6 (dk_at dksX6_laysCosts_4 9 rfl rfl)
theorem dX6_laysCosts_103 : decode cX6_laysCosts 103 = .ok (.iastore, 1) := dk_79 (dk_at dksX6_laysCosts_4 11 rfl rfl)
theorem dX6_laysCosts_104 : decode cX6_laysCosts 104 = .ok (.iconst 1, 1) := dk_4 (dk_at dksX6_laysCosts_4 12 rfl rfl)
theorem dX6_laysCosts_105 : decode cX6_laysCosts 105 = .ok (.istore_n 3, 1) := dk_62 (dk_at dksX6_laysCosts_4 13 rfl rfl)
theorem dX6_laysCosts_106 : decode cX6_laysCosts 106 = .ok (.iinc 5 1, 3) := dk_132 5 1 (dk_at dksX6_laysCosts_4 14 rfl rfl)
theorem dX6_laysCosts_109 : decode cX6_laysCosts 109 = .ok (.goto (-47), 3) := dk_167 255 209 (dk_at dksX6_laysCosts_4 17 rfl rfl)
theorem dX6_laysCosts_112 : decode cX6_laysCosts 112 = .ok (.iinc 4 1, 3) := dk_132 4 1 (dk_at dksX6_laysCosts_4 20 rfl rfl)
theorem dX6_laysCosts_115 : decode cX6_laysCosts 115 = .ok (.goto (-65), 3) := dk_167 255 191 (dk_at dksX6_laysCosts_5 0 rfl rfl)
theorem dX6_laysCosts_118 : decode cX6_laysCosts 118 = .ok (.goto (-77), 3) := dk_167 255 179 (dk_at dksX6_laysCosts_5 3 rfl rfl)
theorem dX6_laysCosts_121 : decode cX6_laysCosts 121 = .ok (.aload_n 0, 1) := dk_42 (dk_at dksX6_laysCosts_5 6 rfl rfl)
theorem dX6_laysCosts_122 : decode cX6_laysCosts 122 = .ok (.getfield 25, 3) := dk_180 0 25 (dk_at dksX6_laysCosts_5 7 rfl rfl)
theorem dX6_laysCosts_125 : decode cX6_laysCosts 125 = .ok (.aload_n 0, 1) := dk_42 (dk_at dksX6_laysCosts_5 10 rfl rfl)
theorem dX6_laysCosts_126 : decode cX6_laysCosts 126 = .ok (.aload_n 0, 1) := dk_42 (dk_at dksX6_laysCosts_5 11 rfl rfl)
theorem dX6_laysCosts_127 : decode cX6_laysCosts 127 = .ok (.iload_n 1, 1) := dk_27 (dk_at dksX6_laysCosts_5 12 rfl rfl)
theorem dX6_laysCosts_128 : decode cX6_laysCosts 128 = .ok (.bipush 7, 2) := dk_16 7 (dk_at dksX6_laysCosts_5 13 rfl rfl)
theorem dX6_laysCosts_130 : decode cX6_laysCosts 130 = .ok (.invokevirtual 103, 3) := dk_182 0 103 (dk_at dksX6_laysCosts_5 15 rfl rfl)
theorem dX6_laysCosts_133 : decode cX6_laysCosts 133 = .ok (.invokevirtual 114, 3) := dk_182 0 114 (dk_at dksX6_laysCosts_5 18 rfl rfl)
theorem dX6_laysCosts_136 : decode cX6_laysCosts 136 = .ok (.iaload, 1) := dk_46 (dk_at dksX6_laysCosts_5 21 rfl rfl)
theorem dX6_laysCosts_137 : decode cX6_laysCosts 137 = .ok (.ireturn, 1) := dk_172 (dk_at dksX6_laysCosts_5 22 rfl rfl)
def dkwX6_of_0 : List UInt8 := [42, 180, 0, 7, 16, 75, 16, 13, 27, 104, 96, 28, 96, 46, 172]
abbrev dktX6_of_0 : List UInt8 := dkwX6_of_0 ++ []
theorem dksX6_of_0 : cX6_of.data.toList.drop 0 = dktX6_of_0 := by decide +kernel
theorem dX6_of_0 : decode cX6_of 0 = .ok (.aload_n 0, 1) := dk_42 (dk_at dksX6_of_0 0 rfl rfl)
theorem dX6_of_1 : decode cX6_of 1 = .ok (.getfield 7, 3) := dk_180 0 7 (dk_at dksX6_of_0 1 rfl rfl)
theorem dX6_of_4 : decode cX6_of 4 = .ok (.bipush 75, 2) := dk_16 75 (dk_at dksX6_of_0 4 rfl rfl)
theorem dX6_of_6 : decode cX6_of 6 = .ok (.bipush 13, 2) := dk_16 13 (dk_at dksX6_of_0 6 rfl rfl)
theorem dX6_of_8 : decode cX6_of 8 = .ok (.iload_n 1, 1) := dk_27 (dk_at dksX6_of_0 8 rfl rfl)
theorem dX6_of_9 : decode cX6_of 9 = .ok (.imul, 1) := dk_104 (dk_at dksX6_of_0 9 rfl rfl)
theorem dX6_of_10 : decode cX6_of 10 = .ok (.iadd, 1) := dk_96 (dk_at dksX6_of_0 10 rfl rfl)
theorem dX6_of_11 : decode cX6_of 11 = .ok (.iload_n 2, 1) := dk_28 (dk_at dksX6_of_0 11 rfl rfl)
theorem dX6_of_12 : decode cX6_of 12 = .ok (.iadd, 1) := dk_96 (dk_at dksX6_of_0 12 rfl rfl)
theorem dX6_of_13 : decode cX6_of 13 = .ok (.iaload, 1) := dk_46 (dk_at dksX6_of_0 13 rfl rfl)
theorem dX6_of_14 : decode cX6_of 14 = .ok (.ireturn, 1) := dk_172 (dk_at dksX6_of_0 14 rfl rfl)
def dkwX6_gateCell_0 : List UInt8 := [42, 42, 27, 16, 7, 182, 0, 79, 42, 27, 16, 8, 182, 0, 79, 182, 0, 83, 172]
abbrev dktX6_gateCell_0 : List UInt8 := dkwX6_gateCell_0 ++ []
theorem dksX6_gateCell_0 : cX6_gateCell.data.toList.drop 0 = dktX6_gateCell_0 := by decide +kernel
theorem dX6_gateCell_0 : decode cX6_gateCell 0 = .ok (.aload_n 0, 1) := dk_42 (dk_at dksX6_gateCell_0 0 rfl rfl)
theorem dX6_gateCell_1 : decode cX6_gateCell 1 = .ok (.aload_n 0, 1) := dk_42 (dk_at dksX6_gateCell_0 1 rfl rfl)
theorem dX6_gateCell_2 : decode cX6_gateCell 2 = .ok (.iload_n 1, 1) := dk_27 (dk_at dksX6_gateCell_0 2 rfl rfl)
theorem dX6_gateCell_3 : decode cX6_gateCell 3 = .ok (.bipush 7, 2) := dk_16 7 (dk_at dksX6_gateCell_0 3 rfl rfl)
theorem dX6_gateCell_5 : decode cX6_gateCell 5 = .ok (.invokevirtual 79, 3) := dk_182 0 79 (dk_at dksX6_gateCell_0 5 rfl rfl)
theorem dX6_gateCell_8 : decode cX6_gateCell 8 = .ok (.aload_n 0, 1) := dk_42 (dk_at dksX6_gateCell_0 8 rfl rfl)
theorem dX6_gateCell_9 : decode cX6_gateCell 9 = .ok (.iload_n 1, 1) := dk_27 (dk_at dksX6_gateCell_0 9 rfl rfl)
theorem dX6_gateCell_10 : decode cX6_gateCell 10 = .ok (.bipush 8, 2) := dk_16 8 (dk_at dksX6_gateCell_0 10 rfl rfl)
theorem dX6_gateCell_12 : decode cX6_gateCell 12 = .ok (.invokevirtual 79, 3) := dk_182 0 79 (dk_at dksX6_gateCell_0 12 rfl rfl)
theorem dX6_gateCell_15 : decode cX6_gateCell 15 = .ok (.invokevirtual 83, 3) := dk_182 0 83 (dk_at dksX6_gateCell_0 15 rfl rfl)
theorem dX6_gateCell_18 : decode cX6_gateCell 18 = .ok (.ireturn, 1) := dk_172 (dk_at dksX6_gateCell_0 18 rfl rfl)
def dkwX6_ofGate_0 : List UInt8 := [42, 180, 0, 7, 16, 21, 16, 9, 27, 104, 96, 28, 96, 46, 172]
abbrev dktX6_ofGate_0 : List UInt8 := dkwX6_ofGate_0 ++ []
theorem dksX6_ofGate_0 : cX6_ofGate.data.toList.drop 0 = dktX6_ofGate_0 := by decide +kernel
theorem dX6_ofGate_0 : decode cX6_ofGate 0 = .ok (.aload_n 0, 1) := dk_42 (dk_at dksX6_ofGate_0 0 rfl rfl)
theorem dX6_ofGate_1 : decode cX6_ofGate 1 = .ok (.getfield 7, 3) := dk_180 0 7 (dk_at dksX6_ofGate_0 1 rfl rfl)
theorem dX6_ofGate_4 : decode cX6_ofGate 4 = .ok (.bipush 21, 2) := dk_16 21 (dk_at dksX6_ofGate_0 4 rfl rfl)
theorem dX6_ofGate_6 : decode cX6_ofGate 6 = .ok (.bipush 9, 2) := dk_16 9 (dk_at dksX6_ofGate_0 6 rfl rfl)
theorem dX6_ofGate_8 : decode cX6_ofGate 8 = .ok (.iload_n 1, 1) := dk_27 (dk_at dksX6_ofGate_0 8 rfl rfl)
theorem dX6_ofGate_9 : decode cX6_ofGate 9 = .ok (.imul, 1) := dk_104 (dk_at dksX6_ofGate_0 9 rfl rfl)
theorem dX6_ofGate_10 : decode cX6_ofGate 10 = .ok (.iadd, 1) := dk_96 (dk_at dksX6_ofGate_0 10 rfl rfl)
theorem dX6_ofGate_11 : decode cX6_ofGate 11 = .ok (.iload_n 2, 1) := dk_28 (dk_at dksX6_ofGate_0 11 rfl rfl)
theorem dX6_ofGate_12 : decode cX6_ofGate 12 = .ok (.iadd, 1) := dk_96 (dk_at dksX6_ofGate_0 12 rfl rfl)
theorem dX6_ofGate_13 : decode cX6_ofGate 13 = .ok (.iaload, 1) := dk_46 (dk_at dksX6_ofGate_0 13 rfl rfl)
theorem dX6_ofGate_14 : decode cX6_ofGate 14 = .ok (.ireturn, 1) := dk_172 (dk_at dksX6_ofGate_0 14 rfl rfl)
def dkwX6_costBy_2 : List UInt8 := [18, 109, 167, 0, 13, 21, 6, 42, 180, 0, 25, 21, 5, 46, 96, 172]
abbrev dktX6_costBy_2 : List UInt8 := dkwX6_costBy_2 ++ []
def dkwX6_costBy_1 : List UInt8 := [161, 0, 6, 18, 109, 172, 42, 27, 21, 5, 21, 4, 182, 0, 110, 54, 6, 21, 6, 2, 160, 0, 8]
abbrev dktX6_costBy_1 : List UInt8 := dkwX6_costBy_1 ++ dktX6_costBy_2
def dkwX6_costBy_0 : List UInt8 := [42, 28, 29, 182, 0, 106, 54, 5, 21, 5, 2, 159, 0, 15, 42, 180, 0, 25, 21, 5, 46, 18, 109]
abbrev dktX6_costBy_0 : List UInt8 := dkwX6_costBy_0 ++ dktX6_costBy_1
theorem dksX6_costBy_0 : cX6_costBy.data.toList.drop 0 = dktX6_costBy_0 := by decide +kernel
theorem dksX6_costBy_1 : cX6_costBy.data.toList.drop 23 = dktX6_costBy_1 := dk_seg dksX6_costBy_0 23 rfl rfl
theorem dksX6_costBy_2 : cX6_costBy.data.toList.drop 46 = dktX6_costBy_2 := dk_seg dksX6_costBy_1 23 rfl rfl
theorem dX6_costBy_0 : decode cX6_costBy 0 = .ok (.aload_n 0, 1) := dk_42 (dk_at dksX6_costBy_0 0 rfl rfl)
theorem dX6_costBy_1 : decode cX6_costBy 1 = .ok (.iload_n 2, 1) := dk_28 (dk_at dksX6_costBy_0 1 rfl rfl)
theorem dX6_costBy_2 : decode cX6_costBy 2 = .ok (.iload_n 3, 1) := dk_29 (dk_at dksX6_costBy_0 2 rfl rfl)
theorem dX6_costBy_3 : decode cX6_costBy 3 = .ok (.invokevirtual 106, 3) := dk_182 0 106 (dk_at dksX6_costBy_0 3 rfl rfl)
theorem dX6_costBy_6 : decode cX6_costBy 6 = .ok (.istore 5, 2) := dk_54 5 (dk_at dksX6_costBy_0 6 rfl rfl)
theorem dX6_costBy_8 : decode cX6_costBy 8 = .ok (.iload 5, 2) := dk_21 5 (dk_at dksX6_costBy_0 8 rfl rfl)
theorem dX6_costBy_10 : decode cX6_costBy 10 = .ok (.iconst (-1), 1) := dk_2 (dk_at dksX6_costBy_0 10 rfl rfl)
theorem dX6_costBy_11 : decode cX6_costBy 11 = .ok (.if_icmp .eq 15, 3) := dk_159 0 15 (dk_at dksX6_costBy_0 11 rfl rfl)
theorem dX6_costBy_14 : decode cX6_costBy 14 = .ok (.aload_n 0, 1) := dk_42 (dk_at dksX6_costBy_0 14 rfl rfl)
theorem dX6_costBy_15 : decode cX6_costBy 15 = .ok (.getfield 25, 3) := dk_180 0 25 (dk_at dksX6_costBy_0 15 rfl rfl)
theorem dX6_costBy_18 : decode cX6_costBy 18 = .ok (.iload 5, 2) := dk_21 5 (dk_at dksX6_costBy_0 18 rfl rfl)
theorem dX6_costBy_20 : decode cX6_costBy 20 = .ok (.iaload, 1) := dk_46 (dk_at dksX6_costBy_0 20 rfl rfl)
theorem dX6_costBy_21 : decode cX6_costBy 21 = .ok (.ldc 109, 2) := dk_18 109 (dk_at dksX6_costBy_0 21 rfl rfl)
theorem dX6_costBy_23 : decode cX6_costBy 23 = .ok (.if_icmp .lt 6, 3) := dk_161 0 6 (dk_at dksX6_costBy_1 0 rfl rfl)
theorem dX6_costBy_26 : decode cX6_costBy 26 = .ok (.ldc 109, 2) := dk_18 109 (dk_at dksX6_costBy_1 3 rfl rfl)
theorem dX6_costBy_28 : decode cX6_costBy 28 = .ok (.ireturn, 1) := dk_172 (dk_at dksX6_costBy_1 5 rfl rfl)
theorem dX6_costBy_29 : decode cX6_costBy 29 = .ok (.aload_n 0, 1) := dk_42 (dk_at dksX6_costBy_1 6 rfl rfl)
theorem dX6_costBy_30 : decode cX6_costBy 30 = .ok (.iload_n 1, 1) := dk_27 (dk_at dksX6_costBy_1 7 rfl rfl)
theorem dX6_costBy_31 : decode cX6_costBy 31 = .ok (.iload 5, 2) := dk_21 5 (dk_at dksX6_costBy_1 8 rfl rfl)
theorem dX6_costBy_33 : decode cX6_costBy 33 = .ok (.iload 4, 2) := dk_21 4 (dk_at dksX6_costBy_1 10 rfl rfl)
theorem dX6_costBy_35 : decode cX6_costBy 35 = .ok (.invokevirtual 110, 3) := dk_182 0 110 (dk_at dksX6_costBy_1 12 rfl rfl)
theorem dX6_costBy_38 : decode cX6_costBy 38 = .ok (.istore 6, 2) := dk_54 6 (dk_at dksX6_costBy_1 15 rfl rfl)
theorem dX6_costBy_40 : decode cX6_costBy 40 = .ok (.iload 6, 2) := dk_21 6 (dk_at dksX6_costBy_1 17 rfl rfl)
theorem dX6_costBy_42 : decode cX6_costBy 42 = .ok (.iconst (-1), 1) := dk_2 (dk_at dksX6_costBy_1 19 rfl rfl)
theorem dX6_costBy_43 : decode cX6_costBy 43 = .ok (.if_icmp .ne 8, 3) := dk_160 0 8 (dk_at dksX6_costBy_1 20 rfl rfl)
theorem dX6_costBy_46 : decode cX6_costBy 46 = .ok (.ldc 109, 2) := dk_18 109 (dk_at dksX6_costBy_2 0 rfl rfl)
theorem dX6_costBy_48 : decode cX6_costBy 48 = .ok (.goto 13, 3) := dk_167 0 13 (dk_at dksX6_costBy_2 2 rfl rfl)
theorem dX6_costBy_51 : decode cX6_costBy 51 = .ok (.iload 6, 2) := dk_21 6 (dk_at dksX6_costBy_2 5 rfl rfl)
theorem dX6_costBy_53 : decode cX6_costBy 53 = .ok (.aload_n 0, 1) := dk_42 (dk_at dksX6_costBy_2 7 rfl rfl)
theorem dX6_costBy_54 : decode cX6_costBy 54 = .ok (.getfield 25, 3) := dk_180 0 25 (dk_at dksX6_costBy_2 8 rfl rfl)
theorem dX6_costBy_57 : decode cX6_costBy 57 = .ok (.iload 5, 2) := dk_21 5 (dk_at dksX6_costBy_2 11 rfl rfl)
theorem dX6_costBy_59 : decode cX6_costBy 59 = .ok (.iaload, 1) := dk_46 (dk_at dksX6_costBy_2 13 rfl rfl)
theorem dX6_costBy_60 : decode cX6_costBy 60 = .ok (.iadd, 1) := dk_96 (dk_at dksX6_costBy_2 14 rfl rfl)
theorem dX6_costBy_61 : decode cX6_costBy 61 = .ok (.ireturn, 1) := dk_172 (dk_at dksX6_costBy_2 15 rfl rfl)
def dkwX6_nextTo_3 : List UInt8 := [2, 172]
abbrev dktX6_nextTo_3 : List UInt8 := dkwX6_nextTo_3 ++ []
def dkwX6_nextTo_2 : List UInt8 := [3, 96, 54, 4, 42, 29, 21, 4, 182, 0, 89, 153, 0, 13, 42, 29, 21, 4, 182, 0, 83, 167, 0, 4]
abbrev dktX6_nextTo_2 : List UInt8 := dkwX6_nextTo_2 ++ dktX6_nextTo_3
def dkwX6_nextTo_1 : List UInt8 := [96, 62, 42, 27, 182, 0, 72, 28, 5, 160, 0, 7, 4, 167, 0, 12, 28, 154, 0, 7, 2, 167, 0, 4]
abbrev dktX6_nextTo_1 : List UInt8 := dkwX6_nextTo_1 ++ dktX6_nextTo_2
def dkwX6_nextTo_0 : List UInt8 := [42, 27, 182, 0, 76, 28, 4, 160, 0, 7, 4, 167, 0, 13, 28, 6, 160, 0, 7, 2, 167, 0, 4, 3]
abbrev dktX6_nextTo_0 : List UInt8 := dkwX6_nextTo_0 ++ dktX6_nextTo_1
theorem dksX6_nextTo_0 : cX6_nextTo.data.toList.drop 0 = dktX6_nextTo_0 := by decide +kernel
theorem dksX6_nextTo_1 : cX6_nextTo.data.toList.drop 24 = dktX6_nextTo_1 := dk_seg dksX6_nextTo_0 24 rfl rfl
theorem dksX6_nextTo_2 : cX6_nextTo.data.toList.drop 48 = dktX6_nextTo_2 := dk_seg dksX6_nextTo_1 24 rfl rfl
theorem dksX6_nextTo_3 : cX6_nextTo.data.toList.drop 72 = dktX6_nextTo_3 := dk_seg dksX6_nextTo_2 24 rfl rfl
theorem dX6_nextTo_0 : decode cX6_nextTo 0 = .ok (.aload_n 0, 1) := dk_42 (dk_at dksX6_nextTo_0 0 rfl rfl)
theorem dX6_nextTo_1 : decode cX6_nextTo 1 = .ok (.iload_n 1, 1) := dk_27 (dk_at dksX6_nextTo_0 1 rfl rfl)
theorem dX6_nextTo_2 : decode cX6_nextTo 2 = .ok (.invokevirtual 76, 3) := dk_182 0 76 (dk_at dksX6_nextTo_0 2 rfl rfl)
theorem dX6_nextTo_5 : decode cX6_nextTo 5 = .ok (.iload_n 2, 1) := dk_28 (dk_at dksX6_nextTo_0 5 rfl rfl)
theorem dX6_nextTo_6 : decode cX6_nextTo 6 = .ok (.iconst 1, 1) := dk_4 (dk_at dksX6_nextTo_0 6 rfl rfl)
theorem dX6_nextTo_7 : decode cX6_nextTo 7 = .ok (.if_icmp .ne 7, 3) := dk_160 0 7 (dk_at dksX6_nextTo_0 7 rfl rfl)
theorem dX6_nextTo_10 : decode cX6_nextTo 10 = .ok (.iconst 1, 1) := dk_4 (dk_at dksX6_nextTo_0 10 rfl rfl)
theorem dX6_nextTo_11 : decode cX6_nextTo 11 = .ok (.goto 13, 3) := dk_167 0 13 (dk_at dksX6_nextTo_0 11 rfl rfl)
theorem dX6_nextTo_14 : decode cX6_nextTo 14 = .ok (.iload_n 2, 1) := dk_28 (dk_at dksX6_nextTo_0 14 rfl rfl)
theorem dX6_nextTo_15 : decode cX6_nextTo 15 = .ok (.iconst 3, 1) := dk_6 (dk_at dksX6_nextTo_0 15 rfl rfl)
theorem dX6_nextTo_16 : decode cX6_nextTo 16 = .ok (.if_icmp .ne 7, 3) := dk_160 0 7 (dk_at dksX6_nextTo_0 16 rfl rfl)
theorem dX6_nextTo_19 : decode cX6_nextTo 19 = .ok (.iconst (-1), 1) := dk_2 (dk_at dksX6_nextTo_0 19 rfl rfl)
theorem dX6_nextTo_20 : decode cX6_nextTo 20 = .ok (.goto 4, 3) := dk_167 0 4 (dk_at dksX6_nextTo_0 20 rfl rfl)
theorem dX6_nextTo_23 : decode cX6_nextTo 23 = .ok (.iconst 0, 1) := dk_3 (dk_at dksX6_nextTo_0 23 rfl rfl)
theorem dX6_nextTo_24 : decode cX6_nextTo 24 = .ok (.iadd, 1) := dk_96 (dk_at dksX6_nextTo_1 0 rfl rfl)
theorem dX6_nextTo_25 : decode cX6_nextTo 25 = .ok (.istore_n 3, 1) := dk_62 (dk_at dksX6_nextTo_1 1 rfl rfl)
theorem dX6_nextTo_26 : decode cX6_nextTo 26 = .ok (.aload_n 0, 1) := dk_42 (dk_at dksX6_nextTo_1 2 rfl rfl)
theorem dX6_nextTo_27 : decode cX6_nextTo 27 = .ok (.iload_n 1, 1) := dk_27 (dk_at dksX6_nextTo_1 3 rfl rfl)
theorem dX6_nextTo_28 : decode cX6_nextTo 28 = .ok (.invokevirtual 72, 3) := dk_182 0 72 (dk_at dksX6_nextTo_1 4 rfl rfl)
theorem dX6_nextTo_31 : decode cX6_nextTo 31 = .ok (.iload_n 2, 1) := dk_28 (dk_at dksX6_nextTo_1 7 rfl rfl)
theorem dX6_nextTo_32 : decode cX6_nextTo 32 = .ok (.iconst 2, 1) := dk_5 (dk_at dksX6_nextTo_1 8 rfl rfl)
theorem dX6_nextTo_33 : decode cX6_nextTo 33 = .ok (.if_icmp .ne 7, 3) := dk_160 0 7 (dk_at dksX6_nextTo_1 9 rfl rfl)
theorem dX6_nextTo_36 : decode cX6_nextTo 36 = .ok (.iconst 1, 1) := dk_4 (dk_at dksX6_nextTo_1 12 rfl rfl)
theorem dX6_nextTo_37 : decode cX6_nextTo 37 = .ok (.goto 12, 3) := dk_167 0 12 (dk_at dksX6_nextTo_1 13 rfl rfl)
theorem dX6_nextTo_40 : decode cX6_nextTo 40 = .ok (.iload_n 2, 1) := dk_28 (dk_at dksX6_nextTo_1 16 rfl rfl)
theorem dX6_nextTo_41 : decode cX6_nextTo 41 = .ok (.ifCond .ne 7, 3) := dk_154 0 7 (dk_at dksX6_nextTo_1 17 rfl rfl)
theorem dX6_nextTo_44 : decode cX6_nextTo 44 = .ok (.iconst (-1), 1) := dk_2 (dk_at dksX6_nextTo_1 20 rfl rfl)
theorem dX6_nextTo_45 : decode cX6_nextTo 45 = .ok (.goto 4, 3) := dk_167 0 4 (dk_at dksX6_nextTo_1 21 rfl rfl)
theorem dX6_nextTo_48 : decode cX6_nextTo 48 = .ok (.iconst 0, 1) := dk_3 (dk_at dksX6_nextTo_2 0 rfl rfl)
theorem dX6_nextTo_49 : decode cX6_nextTo 49 = .ok (.iadd, 1) := dk_96 (dk_at dksX6_nextTo_2 1 rfl rfl)
theorem dX6_nextTo_50 : decode cX6_nextTo 50 = .ok (.istore 4, 2) := dk_54 4 (dk_at dksX6_nextTo_2 2 rfl rfl)
theorem dX6_nextTo_52 : decode cX6_nextTo 52 = .ok (.aload_n 0, 1) := dk_42 (dk_at dksX6_nextTo_2 4 rfl rfl)
theorem dX6_nextTo_53 : decode cX6_nextTo 53 = .ok (.iload_n 3, 1) := dk_29 (dk_at dksX6_nextTo_2 5 rfl rfl)
theorem dX6_nextTo_54 : decode cX6_nextTo 54 = .ok (.iload 4, 2) := dk_21 4 (dk_at dksX6_nextTo_2 6 rfl rfl)
theorem dX6_nextTo_56 : decode cX6_nextTo 56 = .ok (.invokevirtual 89, 3) := dk_182 0 89 (dk_at dksX6_nextTo_2 8 rfl rfl)
theorem dX6_nextTo_59 : decode cX6_nextTo 59 = .ok (.ifCond .eq 13, 3) := dk_153 0 13 (dk_at dksX6_nextTo_2 11 rfl rfl)
theorem dX6_nextTo_62 : decode cX6_nextTo 62 = .ok (.aload_n 0, 1) := dk_42 (dk_at dksX6_nextTo_2 14 rfl rfl)
theorem dX6_nextTo_63 : decode cX6_nextTo 63 = .ok (.iload_n 3, 1) := dk_29 (dk_at dksX6_nextTo_2 15 rfl rfl)
theorem dX6_nextTo_64 : decode cX6_nextTo 64 = .ok (.iload 4, 2) := dk_21 4 (dk_at dksX6_nextTo_2 16 rfl rfl)
theorem dX6_nextTo_66 : decode cX6_nextTo 66 = .ok (.invokevirtual 83, 3) := dk_182 0 83 (dk_at dksX6_nextTo_2 18 rfl rfl)
theorem dX6_nextTo_69 : decode cX6_nextTo 69 = .ok (.goto 4, 3) := dk_167 0 4 (dk_at dksX6_nextTo_2 21 rfl rfl)
theorem dX6_nextTo_72 : decode cX6_nextTo 72 = .ok (.iconst (-1), 1) := dk_2 (dk_at dksX6_nextTo_3 0 rfl rfl)
theorem dX6_nextTo_73 : decode cX6_nextTo 73 = .ok (.ireturn, 1) := dk_172 (dk_at dksX6_nextTo_3 1 rfl rfl)
def dkwX6_isCell_1 : List UInt8 := [180, 0, 7, 8, 46, 4, 100, 133, 184, 0, 68, 153, 0, 7, 4, 167, 0, 4, 3, 172]
abbrev dktX6_isCell_1 : List UInt8 := dkwX6_isCell_1 ++ []
def dkwX6_isCell_0 : List UInt8 := [27, 133, 9, 42, 180, 0, 7, 7, 46, 4, 100, 133, 184, 0, 68, 153, 0, 25, 28, 133, 9, 42]
abbrev dktX6_isCell_0 : List UInt8 := dkwX6_isCell_0 ++ dktX6_isCell_1
theorem dksX6_isCell_0 : cX6_isCell.data.toList.drop 0 = dktX6_isCell_0 := by decide +kernel
theorem dksX6_isCell_1 : cX6_isCell.data.toList.drop 22 = dktX6_isCell_1 := dk_seg dksX6_isCell_0 22 rfl rfl
theorem dX6_isCell_0 : decode cX6_isCell 0 = .ok (.iload_n 1, 1) := dk_27 (dk_at dksX6_isCell_0 0 rfl rfl)
theorem dX6_isCell_1 : decode cX6_isCell 1 = .ok (.i2l, 1) := dk_133 (dk_at dksX6_isCell_0 1 rfl rfl)
theorem dX6_isCell_2 : decode cX6_isCell 2 = .ok (.lconst 0, 1) := dk_9 (dk_at dksX6_isCell_0 2 rfl rfl)
theorem dX6_isCell_3 : decode cX6_isCell 3 = .ok (.aload_n 0, 1) := dk_42 (dk_at dksX6_isCell_0 3 rfl rfl)
theorem dX6_isCell_4 : decode cX6_isCell 4 = .ok (.getfield 7, 3) := dk_180 0 7 (dk_at dksX6_isCell_0 4 rfl rfl)
theorem dX6_isCell_7 : decode cX6_isCell 7 = .ok (.iconst 4, 1) := dk_7 (dk_at dksX6_isCell_0 7 rfl rfl)
theorem dX6_isCell_8 : decode cX6_isCell 8 = .ok (.iaload, 1) := dk_46 (dk_at dksX6_isCell_0 8 rfl rfl)
theorem dX6_isCell_9 : decode cX6_isCell 9 = .ok (.iconst 1, 1) := dk_4 (dk_at dksX6_isCell_0 9 rfl rfl)
theorem dX6_isCell_10 : decode cX6_isCell 10 = .ok (.isub, 1) := dk_100 (dk_at dksX6_isCell_0 10 rfl rfl)
theorem dX6_isCell_11 : decode cX6_isCell 11 = .ok (.i2l, 1) := dk_133 (dk_at dksX6_isCell_0 11 rfl rfl)
theorem dX6_isCell_12 : decode cX6_isCell 12 = .ok (.invokestatic 68, 3) := dk_184 0 68 (dk_at dksX6_isCell_0 12 rfl rfl)
theorem dX6_isCell_15 : decode cX6_isCell 15 = .ok (.ifCond .eq 25, 3) := dk_153 0 25 (dk_at dksX6_isCell_0 15 rfl rfl)
theorem dX6_isCell_18 : decode cX6_isCell 18 = .ok (.iload_n 2, 1) := dk_28 (dk_at dksX6_isCell_0 18 rfl rfl)
theorem dX6_isCell_19 : decode cX6_isCell 19 = .ok (.i2l, 1) := dk_133 (dk_at dksX6_isCell_0 19 rfl rfl)
theorem dX6_isCell_20 : decode cX6_isCell 20 = .ok (.lconst 0, 1) := dk_9 (dk_at dksX6_isCell_0 20 rfl rfl)
theorem dX6_isCell_21 : decode cX6_isCell 21 = .ok (.aload_n 0, 1) := dk_42 (dk_at dksX6_isCell_0 21 rfl rfl)
theorem dX6_isCell_22 : decode cX6_isCell 22 = .ok (.getfield 7, 3) := dk_180 0 7 (dk_at dksX6_isCell_1 0 rfl rfl)
theorem dX6_isCell_25 : decode cX6_isCell 25 = .ok (.iconst 5, 1) := dk_8 (dk_at dksX6_isCell_1 3 rfl rfl)
theorem dX6_isCell_26 : decode cX6_isCell 26 = .ok (.iaload, 1) := dk_46 (dk_at dksX6_isCell_1 4 rfl rfl)
theorem dX6_isCell_27 : decode cX6_isCell 27 = .ok (.iconst 1, 1) := dk_4 (dk_at dksX6_isCell_1 5 rfl rfl)
theorem dX6_isCell_28 : decode cX6_isCell 28 = .ok (.isub, 1) := dk_100 (dk_at dksX6_isCell_1 6 rfl rfl)
theorem dX6_isCell_29 : decode cX6_isCell 29 = .ok (.i2l, 1) := dk_133 (dk_at dksX6_isCell_1 7 rfl rfl)
theorem dX6_isCell_30 : decode cX6_isCell 30 = .ok (.invokestatic 68, 3) := dk_184 0 68 (dk_at dksX6_isCell_1 8 rfl rfl)
theorem dX6_isCell_33 : decode cX6_isCell 33 = .ok (.ifCond .eq 7, 3) := dk_153 0 7 (dk_at dksX6_isCell_1 11 rfl rfl)
theorem dX6_isCell_36 : decode cX6_isCell 36 = .ok (.iconst 1, 1) := dk_4 (dk_at dksX6_isCell_1 14 rfl rfl)
theorem dX6_isCell_37 : decode cX6_isCell 37 = .ok (.goto 4, 3) := dk_167 0 4 (dk_at dksX6_isCell_1 15 rfl rfl)
theorem dX6_isCell_40 : decode cX6_isCell 40 = .ok (.iconst 0, 1) := dk_3 (dk_at dksX6_isCell_1 18 rfl rfl)
theorem dX6_isCell_41 : decode cX6_isCell 41 = .ok (.ireturn, 1) := dk_172 (dk_at dksX6_isCell_1 19 rfl rfl)
def dkwX6_costOf_3 : List UInt8 := [42, 27, 16, 9, 182, 0, 103, 100, 21, 4, 104, 96, 21, 5, 96, 172]
abbrev dktX6_costOf_3 : List UInt8 := dkwX6_costOf_3 ++ []
def dkwX6_costOf_2 : List UInt8 := [182, 0, 100, 153, 0, 14, 21, 4, 5, 163, 0, 8, 16, 25, 167, 0, 4, 3, 54, 5, 16, 10, 16, 9]
abbrev dktX6_costOf_2 : List UInt8 := dkwX6_costOf_2 ++ dktX6_costOf_3
def dkwX6_costOf_1 : List UInt8 := [182, 0, 97, 153, 0, 5, 2, 172, 42, 28, 4, 182, 0, 86, 54, 4, 42, 42, 180, 0, 7, 6, 46]
abbrev dktX6_costOf_1 : List UInt8 := dkwX6_costOf_1 ++ dktX6_costOf_2
def dkwX6_costOf_0 : List UInt8 := [42, 28, 182, 0, 93, 154, 0, 6, 16, 10, 172, 29, 5, 159, 0, 15, 29, 154, 0, 13, 42, 28]
abbrev dktX6_costOf_0 : List UInt8 := dkwX6_costOf_0 ++ dktX6_costOf_1
theorem dksX6_costOf_0 : cX6_costOf.data.toList.drop 0 = dktX6_costOf_0 := by decide +kernel
theorem dksX6_costOf_1 : cX6_costOf.data.toList.drop 22 = dktX6_costOf_1 := dk_seg dksX6_costOf_0 22 rfl rfl
theorem dksX6_costOf_2 : cX6_costOf.data.toList.drop 45 = dktX6_costOf_2 := dk_seg dksX6_costOf_1 23 rfl rfl
theorem dksX6_costOf_3 : cX6_costOf.data.toList.drop 69 = dktX6_costOf_3 := dk_seg dksX6_costOf_2 24 rfl rfl
theorem dX6_costOf_0 : decode cX6_costOf 0 = .ok (.aload_n 0, 1) := dk_42 (dk_at dksX6_costOf_0 0 rfl rfl)
theorem dX6_costOf_1 : decode cX6_costOf 1 = .ok (.iload_n 2, 1) := dk_28 (dk_at dksX6_costOf_0 1 rfl rfl)
theorem dX6_costOf_2 : decode cX6_costOf 2 = .ok (.invokevirtual 93, 3) := dk_182 0 93 (dk_at dksX6_costOf_0 2 rfl rfl)
theorem dX6_costOf_5 : decode cX6_costOf 5 = .ok (.ifCond .ne 6, 3) := dk_154 0 6 (dk_at dksX6_costOf_0 5 rfl rfl)
theorem dX6_costOf_8 : decode cX6_costOf 8 = .ok (.bipush 10, 2) := dk_16 10 (dk_at dksX6_costOf_0 8 rfl rfl)
theorem dX6_costOf_10 : decode cX6_costOf 10 = .ok (.ireturn, 1) := dk_172 (dk_at dksX6_costOf_0 10 rfl rfl)
theorem dX6_costOf_11 : decode cX6_costOf 11 = .ok (.iload_n 3, 1) := dk_29 (dk_at dksX6_costOf_0 11 rfl rfl)
theorem dX6_costOf_12 : decode cX6_costOf 12 = .ok (.iconst 2, 1) := dk_5 (dk_at dksX6_costOf_0 12 rfl rfl)
theorem dX6_costOf_13 : decode cX6_costOf 13 = .ok (.if_icmp .eq 15, 3) := dk_159 0 15 (dk_at dksX6_costOf_0 13 rfl rfl)
theorem dX6_costOf_16 : decode cX6_costOf 16 = .ok (.iload_n 3, 1) := dk_29 (dk_at dksX6_costOf_0 16 rfl rfl)
theorem dX6_costOf_17 : decode cX6_costOf 17 = .ok (.ifCond .ne 13, 3) := dk_154 0 13 (dk_at dksX6_costOf_0 17 rfl rfl)
theorem dX6_costOf_20 : decode cX6_costOf 20 = .ok (.aload_n 0, 1) := dk_42 (dk_at dksX6_costOf_0 20 rfl rfl)
theorem dX6_costOf_21 : decode cX6_costOf 21 = .ok (.iload_n 2, 1) := dk_28 (dk_at dksX6_costOf_0 21 rfl rfl)
theorem dX6_costOf_22 : decode cX6_costOf 22 = .ok (.invokevirtual 97, 3) := dk_182 0 97 (dk_at dksX6_costOf_1 0 rfl rfl)
theorem dX6_costOf_25 : decode cX6_costOf 25 = .ok (.ifCond .eq 5, 3) := dk_153 0 5 (dk_at dksX6_costOf_1 3 rfl rfl)
theorem dX6_costOf_28 : decode cX6_costOf 28 = .ok (.iconst (-1), 1) := dk_2 (dk_at dksX6_costOf_1 6 rfl rfl)
theorem dX6_costOf_29 : decode cX6_costOf 29 = .ok (.ireturn, 1) := dk_172 (dk_at dksX6_costOf_1 7 rfl rfl)
theorem dX6_costOf_30 : decode cX6_costOf 30 = .ok (.aload_n 0, 1) := dk_42 (dk_at dksX6_costOf_1 8 rfl rfl)
theorem dX6_costOf_31 : decode cX6_costOf 31 = .ok (.iload_n 2, 1) := dk_28 (dk_at dksX6_costOf_1 9 rfl rfl)
theorem dX6_costOf_32 : decode cX6_costOf 32 = .ok (.iconst 1, 1) := dk_4 (dk_at dksX6_costOf_1 10 rfl rfl)
theorem dX6_costOf_33 : decode cX6_costOf 33 = .ok (.invokevirtual 86, 3) := dk_182 0 86 (dk_at dksX6_costOf_1 11 rfl rfl)
theorem dX6_costOf_36 : decode cX6_costOf 36 = .ok (.istore 4, 2) := dk_54 4 (dk_at dksX6_costOf_1 14 rfl rfl)
theorem dX6_costOf_38 : decode cX6_costOf 38 = .ok (.aload_n 0, 1) := dk_42 (dk_at dksX6_costOf_1 16 rfl rfl)
theorem dX6_costOf_39 : decode cX6_costOf 39 = .ok (.aload_n 0, 1) := dk_42 (dk_at dksX6_costOf_1 17 rfl rfl)
theorem dX6_costOf_40 : decode cX6_costOf 40 = .ok (.getfield 7, 3) := dk_180 0 7 (dk_at dksX6_costOf_1 18 rfl rfl)
theorem dX6_costOf_43 : decode cX6_costOf 43 = .ok (.iconst 3, 1) := dk_6 (dk_at dksX6_costOf_1 21 rfl rfl)
theorem dX6_costOf_44 : decode cX6_costOf 44 = .ok (.iaload, 1) := dk_46 (dk_at dksX6_costOf_1 22 rfl rfl)
theorem dX6_costOf_45 : decode cX6_costOf 45 = .ok (.invokevirtual 100, 3) := dk_182 0 100 (dk_at dksX6_costOf_2 0 rfl rfl)
theorem dX6_costOf_48 : decode cX6_costOf 48 = .ok (.ifCond .eq 14, 3) := dk_153 0 14 (dk_at dksX6_costOf_2 3 rfl rfl)
theorem dX6_costOf_51 : decode cX6_costOf 51 = .ok (.iload 4, 2) := dk_21 4 (dk_at dksX6_costOf_2 6 rfl rfl)
theorem dX6_costOf_53 : decode cX6_costOf 53 = .ok (.iconst 2, 1) := dk_5 (dk_at dksX6_costOf_2 8 rfl rfl)
theorem dX6_costOf_54 : decode cX6_costOf 54 = .ok (.if_icmp .gt 8, 3) := dk_163 0 8 (dk_at dksX6_costOf_2 9 rfl rfl)
theorem dX6_costOf_57 : decode cX6_costOf 57 = .ok (.bipush 25, 2) := dk_16 25 (dk_at dksX6_costOf_2 12 rfl rfl)
theorem dX6_costOf_59 : decode cX6_costOf 59 = .ok (.goto 4, 3) := dk_167 0 4 (dk_at dksX6_costOf_2 14 rfl rfl)
theorem dX6_costOf_62 : decode cX6_costOf 62 = .ok (.iconst 0, 1) := dk_3 (dk_at dksX6_costOf_2 17 rfl rfl)
theorem dX6_costOf_63 : decode cX6_costOf 63 = .ok (.istore 5, 2) := dk_54 5 (dk_at dksX6_costOf_2 18 rfl rfl)
theorem dX6_costOf_65 : decode cX6_costOf 65 = .ok (.bipush 10, 2) := dk_16 10 (dk_at dksX6_costOf_2 20 rfl rfl)
theorem dX6_costOf_67 : decode cX6_costOf 67 = .ok (.bipush 9, 2) := dk_16 9 (dk_at dksX6_costOf_2 22 rfl rfl)
theorem dX6_costOf_69 : decode cX6_costOf 69 = .ok (.aload_n 0, 1) := dk_42 (dk_at dksX6_costOf_3 0 rfl rfl)
theorem dX6_costOf_70 : decode cX6_costOf 70 = .ok (.iload_n 1, 1) := dk_27 (dk_at dksX6_costOf_3 1 rfl rfl)
theorem dX6_costOf_71 : decode cX6_costOf 71 = .ok (.bipush 9, 2) := dk_16 9 (dk_at dksX6_costOf_3 2 rfl rfl)
theorem dX6_costOf_73 : decode cX6_costOf 73 = .ok (.invokevirtual 103, 3) := dk_182 0 103 (dk_at dksX6_costOf_3 4 rfl rfl)
theorem dX6_costOf_76 : decode cX6_costOf 76 = .ok (.isub, 1) := dk_100 (dk_at dksX6_costOf_3 7 rfl rfl)
theorem dX6_costOf_77 : decode cX6_costOf 77 = .ok (.iload 4, 2) := dk_21 4 (dk_at dksX6_costOf_3 8 rfl rfl)
theorem dX6_costOf_79 : decode cX6_costOf 79 = .ok (.imul, 1) := dk_104 (dk_at dksX6_costOf_3 10 rfl rfl)
theorem dX6_costOf_80 : decode cX6_costOf 80 = .ok (.iadd, 1) := dk_96 (dk_at dksX6_costOf_3 11 rfl rfl)
theorem dX6_costOf_81 : decode cX6_costOf 81 = .ok (.iload 5, 2) := dk_21 5 (dk_at dksX6_costOf_3 12 rfl rfl)
theorem dX6_costOf_83 : decode cX6_costOf 83 = .ok (.iadd, 1) := dk_96 (dk_at dksX6_costOf_3 14 rfl rfl)
theorem dX6_costOf_84 : decode cX6_costOf 84 = .ok (.ireturn, 1) := dk_172 (dk_at dksX6_costOf_3 15 rfl rfl)
def dkwX6_isWetDay_1 : List UInt8 := [154, 0, 7, 4, 167, 0, 4, 3, 172]
abbrev dktX6_isWetDay_1 : List UInt8 := dkwX6_isWetDay_1 ++ []
def dkwX6_isWetDay_0 : List UInt8 := [42, 180, 0, 7, 16, 7, 46, 158, 0, 24, 27, 16, 7, 108, 4, 96, 42, 180, 0, 7, 16, 7, 46, 112]
abbrev dktX6_isWetDay_0 : List UInt8 := dkwX6_isWetDay_0 ++ dktX6_isWetDay_1
theorem dksX6_isWetDay_0 : cX6_isWetDay.data.toList.drop 0 = dktX6_isWetDay_0 := by decide +kernel
theorem dksX6_isWetDay_1 : cX6_isWetDay.data.toList.drop 24 = dktX6_isWetDay_1 := dk_seg dksX6_isWetDay_0 24 rfl rfl
theorem dX6_isWetDay_0 : decode cX6_isWetDay 0 = .ok (.aload_n 0, 1) := dk_42 (dk_at dksX6_isWetDay_0 0 rfl rfl)
theorem dX6_isWetDay_1 : decode cX6_isWetDay 1 = .ok (.getfield 7, 3) := dk_180 0 7 (dk_at dksX6_isWetDay_0 1 rfl rfl)
theorem dX6_isWetDay_4 : decode cX6_isWetDay 4 = .ok (.bipush 7, 2) := dk_16 7 (dk_at dksX6_isWetDay_0 4 rfl rfl)
theorem dX6_isWetDay_6 : decode cX6_isWetDay 6 = .ok (.iaload, 1) := dk_46 (dk_at dksX6_isWetDay_0 6 rfl rfl)
theorem dX6_isWetDay_7 : decode cX6_isWetDay 7 = .ok (.ifCond .le 24, 3) := dk_158 0 24 (dk_at dksX6_isWetDay_0 7 rfl rfl)
theorem dX6_isWetDay_10 : decode cX6_isWetDay 10 = .ok (.iload_n 1, 1) := dk_27 (dk_at dksX6_isWetDay_0 10 rfl rfl)
theorem dX6_isWetDay_11 : decode cX6_isWetDay 11 = .ok (.bipush 7, 2) := dk_16 7 (dk_at dksX6_isWetDay_0 11 rfl rfl)
theorem dX6_isWetDay_13 : decode cX6_isWetDay 13 = .ok (.idiv, 1) := dk_108 (dk_at dksX6_isWetDay_0 13 rfl rfl)
theorem dX6_isWetDay_14 : decode cX6_isWetDay 14 = .ok (.iconst 1, 1) := dk_4 (dk_at dksX6_isWetDay_0 14 rfl rfl)
theorem dX6_isWetDay_15 : decode cX6_isWetDay 15 = .ok (.iadd, 1) := dk_96 (dk_at dksX6_isWetDay_0 15 rfl rfl)
theorem dX6_isWetDay_16 : decode cX6_isWetDay 16 = .ok (.aload_n 0, 1) := dk_42 (dk_at dksX6_isWetDay_0 16 rfl rfl)
theorem dX6_isWetDay_17 : decode cX6_isWetDay 17 = .ok (.getfield 7, 3) := dk_180 0 7 (dk_at dksX6_isWetDay_0 17 rfl rfl)
theorem dX6_isWetDay_20 : decode cX6_isWetDay 20 = .ok (.bipush 7, 2) := dk_16 7 (dk_at dksX6_isWetDay_0 20 rfl rfl)
theorem dX6_isWetDay_22 : decode cX6_isWetDay 22 = .ok (.iaload, 1) := dk_46 (dk_at dksX6_isWetDay_0 22 rfl rfl)
theorem dX6_isWetDay_23 : decode cX6_isWetDay 23 = .ok (.irem, 1) := dk_112 (dk_at dksX6_isWetDay_0 23 rfl rfl)
theorem dX6_isWetDay_24 : decode cX6_isWetDay 24 = .ok (.ifCond .ne 7, 3) := dk_154 0 7 (dk_at dksX6_isWetDay_1 0 rfl rfl)
theorem dX6_isWetDay_27 : decode cX6_isWetDay 27 = .ok (.iconst 1, 1) := dk_4 (dk_at dksX6_isWetDay_1 3 rfl rfl)
theorem dX6_isWetDay_28 : decode cX6_isWetDay 28 = .ok (.goto 4, 3) := dk_167 0 4 (dk_at dksX6_isWetDay_1 4 rfl rfl)
theorem dX6_isWetDay_31 : decode cX6_isWetDay 31 = .ok (.iconst 0, 1) := dk_3 (dk_at dksX6_isWetDay_1 7 rfl rfl)
theorem dX6_isWetDay_32 : decode cX6_isWetDay 32 = .ok (.ireturn, 1) := dk_172 (dk_at dksX6_isWetDay_1 8 rfl rfl)
def dkwX6_endsText_1 : List UInt8 := [180, 0, 208, 154, 0, 7, 4, 167, 0, 4, 3, 172]
abbrev dktX6_endsText_1 : List UInt8 := dkwX6_endsText_1 ++ []
def dkwX6_endsText_0 : List UInt8 := [42, 3, 181, 0, 56, 42, 42, 180, 0, 208, 181, 0, 245, 42, 42, 180, 0, 211, 181, 0, 34, 42]
abbrev dktX6_endsText_0 : List UInt8 := dkwX6_endsText_0 ++ dktX6_endsText_1
theorem dksX6_endsText_0 : cX6_endsText.data.toList.drop 0 = dktX6_endsText_0 := by decide +kernel
theorem dksX6_endsText_1 : cX6_endsText.data.toList.drop 22 = dktX6_endsText_1 := dk_seg dksX6_endsText_0 22 rfl rfl
theorem dX6_endsText_0 : decode cX6_endsText 0 = .ok (.aload_n 0, 1) := dk_42 (dk_at dksX6_endsText_0 0 rfl rfl)
theorem dX6_endsText_1 : decode cX6_endsText 1 = .ok (.iconst 0, 1) := dk_3 (dk_at dksX6_endsText_0 1 rfl rfl)
theorem dX6_endsText_2 : decode cX6_endsText 2 = .ok (.putfield 56, 3) := dk_181 0 56 (dk_at dksX6_endsText_0 2 rfl rfl)
theorem dX6_endsText_5 : decode cX6_endsText 5 = .ok (.aload_n 0, 1) := dk_42 (dk_at dksX6_endsText_0 5 rfl rfl)
theorem dX6_endsText_6 : decode cX6_endsText 6 = .ok (.aload_n 0, 1) := dk_42 (dk_at dksX6_endsText_0 6 rfl rfl)
theorem dX6_endsText_7 : decode cX6_endsText 7 = .ok (.getfield 208, 3) := dk_180 0 208 (dk_at dksX6_endsText_0 7 rfl rfl)
theorem dX6_endsText_10 : decode cX6_endsText 10 = .ok (.putfield 245, 3) := dk_181 0 245 (dk_at dksX6_endsText_0 10 rfl rfl)
theorem dX6_endsText_13 : decode cX6_endsText 13 = .ok (.aload_n 0, 1) := dk_42 (dk_at dksX6_endsText_0 13 rfl rfl)
theorem dX6_endsText_14 : decode cX6_endsText 14 = .ok (.aload_n 0, 1) := dk_42 (dk_at dksX6_endsText_0 14 rfl rfl)
theorem dX6_endsText_15 : decode cX6_endsText 15 = .ok (.getfield 211, 3) := dk_180 0 211 (dk_at dksX6_endsText_0 15 rfl rfl)
theorem dX6_endsText_18 : decode cX6_endsText 18 = .ok (.putfield 34, 3) := dk_181 0 34 (dk_at dksX6_endsText_0 18 rfl rfl)
theorem dX6_endsText_21 : decode cX6_endsText 21 = .ok (.aload_n 0, 1) := dk_42 (dk_at dksX6_endsText_0 21 rfl rfl)
theorem dX6_endsText_22 : decode cX6_endsText 22 = .ok (.getfield 208, 3) := dk_180 0 208 (dk_at dksX6_endsText_1 0 rfl rfl)
theorem dX6_endsText_25 : decode cX6_endsText 25 = .ok (.ifCond .ne 7, 3) := dk_154 0 7 (dk_at dksX6_endsText_1 3 rfl rfl)
theorem dX6_endsText_28 : decode cX6_endsText 28 = .ok (.iconst 1, 1) := dk_4 (dk_at dksX6_endsText_1 6 rfl rfl)
theorem dX6_endsText_29 : decode cX6_endsText 29 = .ok (.goto 4, 3) := dk_167 0 4 (dk_at dksX6_endsText_1 7 rfl rfl)
theorem dX6_endsText_32 : decode cX6_endsText 32 = .ok (.iconst 0, 1) := dk_3 (dk_at dksX6_endsText_1 10 rfl rfl)
theorem dX6_endsText_33 : decode cX6_endsText 33 = .ok (.ireturn, 1) := dk_172 (dk_at dksX6_endsText_1 11 rfl rfl)
def dkwX6_passes_0 : List UInt8 := [42, 27, 153, 0, 7, 3, 167, 0, 4, 4, 181, 0, 61, 27, 172]
abbrev dktX6_passes_0 : List UInt8 := dkwX6_passes_0 ++ []
theorem dksX6_passes_0 : cX6_passes.data.toList.drop 0 = dktX6_passes_0 := by decide +kernel
theorem dX6_passes_0 : decode cX6_passes 0 = .ok (.aload_n 0, 1) := dk_42 (dk_at dksX6_passes_0 0 rfl rfl)
theorem dX6_passes_1 : decode cX6_passes 1 = .ok (.iload_n 1, 1) := dk_27 (dk_at dksX6_passes_0 1 rfl rfl)
theorem dX6_passes_2 : decode cX6_passes 2 = .ok (.ifCond .eq 7, 3) := dk_153 0 7 (dk_at dksX6_passes_0 2 rfl rfl)
theorem dX6_passes_5 : decode cX6_passes 5 = .ok (.iconst 0, 1) := dk_3 (dk_at dksX6_passes_0 5 rfl rfl)
theorem dX6_passes_6 : decode cX6_passes 6 = .ok (.goto 4, 3) := dk_167 0 4 (dk_at dksX6_passes_0 6 rfl rfl)
theorem dX6_passes_9 : decode cX6_passes 9 = .ok (.iconst 1, 1) := dk_4 (dk_at dksX6_passes_0 9 rfl rfl)
theorem dX6_passes_10 : decode cX6_passes 10 = .ok (.putfield 61, 3) := dk_181 0 61 (dk_at dksX6_passes_0 10 rfl rfl)
theorem dX6_passes_13 : decode cX6_passes 13 = .ok (.iload_n 1, 1) := dk_27 (dk_at dksX6_passes_0 13 rfl rfl)
theorem dX6_passes_14 : decode cX6_passes 14 = .ok (.ireturn, 1) := dk_172 (dk_at dksX6_passes_0 14 rfl rfl)
def dkwX6_allGrass_1 : List UInt8 := [182, 0, 86, 167, 0, 4, 3, 96, 60, 132, 2, 1, 167, 255, 224, 27, 172]
abbrev dktX6_allGrass_1 : List UInt8 := dkwX6_allGrass_1 ++ []
def dkwX6_allGrass_0 : List UInt8 := [3, 60, 3, 61, 28, 42, 182, 0, 117, 162, 0, 30, 27, 42, 28, 182, 0, 93, 153, 0, 12, 42, 28, 4]
abbrev dktX6_allGrass_0 : List UInt8 := dkwX6_allGrass_0 ++ dktX6_allGrass_1
theorem dksX6_allGrass_0 : cX6_allGrass.data.toList.drop 0 = dktX6_allGrass_0 := by decide +kernel
theorem dksX6_allGrass_1 : cX6_allGrass.data.toList.drop 24 = dktX6_allGrass_1 := dk_seg dksX6_allGrass_0 24 rfl rfl
theorem dX6_allGrass_0 : decode cX6_allGrass 0 = .ok (.iconst 0, 1) := dk_3 (dk_at dksX6_allGrass_0 0 rfl rfl)
theorem dX6_allGrass_1 : decode cX6_allGrass 1 = .ok (.istore_n 1, 1) := dk_60 (dk_at dksX6_allGrass_0 1 rfl rfl)
theorem dX6_allGrass_2 : decode cX6_allGrass 2 = .ok (.iconst 0, 1) := dk_3 (dk_at dksX6_allGrass_0 2 rfl rfl)
theorem dX6_allGrass_3 : decode cX6_allGrass 3 = .ok (.istore_n 2, 1) := dk_61 (dk_at dksX6_allGrass_0 3 rfl rfl)
theorem dX6_allGrass_4 : decode cX6_allGrass 4 = .ok (.iload_n 2, 1) := dk_28 (dk_at dksX6_allGrass_0 4 rfl rfl)
theorem dX6_allGrass_5 : decode cX6_allGrass 5 = .ok (.aload_n 0, 1) := dk_42 (dk_at dksX6_allGrass_0 5 rfl rfl)
theorem dX6_allGrass_6 : decode cX6_allGrass 6 = .ok (.invokevirtual 117, 3) := dk_182 0 117 (dk_at dksX6_allGrass_0 6 rfl rfl)
theorem dX6_allGrass_9 : decode cX6_allGrass 9 = .ok (.if_icmp .ge 30, 3) := dk_162 0 30 (dk_at dksX6_allGrass_0 9 rfl rfl)
theorem dX6_allGrass_12 : decode cX6_allGrass 12 = .ok (.iload_n 1, 1) := dk_27 (dk_at dksX6_allGrass_0 12 rfl rfl)
theorem dX6_allGrass_13 : decode cX6_allGrass 13 = .ok (.aload_n 0, 1) := dk_42 (dk_at dksX6_allGrass_0 13 rfl rfl)
theorem dX6_allGrass_14 : decode cX6_allGrass 14 = .ok (.iload_n 2, 1) := dk_28 (dk_at dksX6_allGrass_0 14 rfl rfl)
theorem dX6_allGrass_15 : decode cX6_allGrass 15 = .ok (.invokevirtual 93, 3) := dk_182 0 93 (dk_at dksX6_allGrass_0 15 rfl rfl)
theorem dX6_allGrass_18 : decode cX6_allGrass 18 = .ok (.ifCond .eq 12, 3) := dk_153 0 12 (dk_at dksX6_allGrass_0 18 rfl rfl)
theorem dX6_allGrass_21 : decode cX6_allGrass 21 = .ok (.aload_n 0, 1) := dk_42 (dk_at dksX6_allGrass_0 21 rfl rfl)
theorem dX6_allGrass_22 : decode cX6_allGrass 22 = .ok (.iload_n 2, 1) := dk_28 (dk_at dksX6_allGrass_0 22 rfl rfl)
theorem dX6_allGrass_23 : decode cX6_allGrass 23 = .ok (.iconst 1, 1) := dk_4 (dk_at dksX6_allGrass_0 23 rfl rfl)
theorem dX6_allGrass_24 : decode cX6_allGrass 24 = .ok (.invokevirtual 86, 3) := dk_182 0 86 (dk_at dksX6_allGrass_1 0 rfl rfl)
theorem dX6_allGrass_27 : decode cX6_allGrass 27 = .ok (.goto 4, 3) := dk_167 0 4 (dk_at dksX6_allGrass_1 3 rfl rfl)
theorem dX6_allGrass_30 : decode cX6_allGrass 30 = .ok (.iconst 0, 1) := dk_3 (dk_at dksX6_allGrass_1 6 rfl rfl)
theorem dX6_allGrass_31 : decode cX6_allGrass 31 = .ok (.iadd, 1) := dk_96 (dk_at dksX6_allGrass_1 7 rfl rfl)
theorem dX6_allGrass_32 : decode cX6_allGrass 32 = .ok (.istore_n 1, 1) := dk_60 (dk_at dksX6_allGrass_1 8 rfl rfl)
theorem dX6_allGrass_33 : decode cX6_allGrass 33 = .ok (.iinc 2 1, 3) := dk_132 2 1 (dk_at dksX6_allGrass_1 9 rfl rfl)
theorem dX6_allGrass_36 : decode cX6_allGrass 36 = .ok (.goto (-32), 3) := dk_167 255 224 (dk_at dksX6_allGrass_1 12 rfl rfl)
theorem dX6_allGrass_39 : decode cX6_allGrass 39 = .ok (.iload_n 1, 1) := dk_27 (dk_at dksX6_allGrass_1 15 rfl rfl)
theorem dX6_allGrass_40 : decode cX6_allGrass 40 = .ok (.ireturn, 1) := dk_172 (dk_at dksX6_allGrass_1 16 rfl rfl)
theorem dX6_thrown_0 : decode cX6_thrown 0 = .ok (.aload_n 0, 1) := by decide +kernel
theorem dX6_thrown_1 : decode cX6_thrown 1 = .ok (.getfield 61, 3) := by decide +kernel
theorem dX6_thrown_4 : decode cX6_thrown 4 = .ok (.ireturn, 1) := by decide +kernel
def dkwX6_append_2 : List UInt8 := [182, 0, 190, 42, 21, 5, 182, 0, 190, 42, 180, 0, 56, 172]
abbrev dktX6_append_2 : List UInt8 := dkwX6_append_2 ++ []
def dkwX6_append_1 : List UInt8 := [154, 0, 5, 3, 172, 42, 27, 182, 0, 190, 42, 28, 182, 0, 190, 42, 29, 182, 0, 190, 42, 21, 4]
abbrev dktX6_append_1 : List UInt8 := dkwX6_append_1 ++ dktX6_append_2
def dkwX6_append_0 : List UInt8 := [42, 42, 180, 0, 56, 16, 20, 96, 17, 3, 132, 163, 0, 7, 4, 167, 0, 4, 3, 182, 0, 186]
abbrev dktX6_append_0 : List UInt8 := dkwX6_append_0 ++ dktX6_append_1
theorem dksX6_append_0 : cX6_append.data.toList.drop 0 = dktX6_append_0 := by decide +kernel
theorem dksX6_append_1 : cX6_append.data.toList.drop 22 = dktX6_append_1 := dk_seg dksX6_append_0 22 rfl rfl
theorem dksX6_append_2 : cX6_append.data.toList.drop 45 = dktX6_append_2 := dk_seg dksX6_append_1 23 rfl rfl
theorem dX6_append_0 : decode cX6_append 0 = .ok (.aload_n 0, 1) := dk_42 (dk_at dksX6_append_0 0 rfl rfl)
theorem dX6_append_1 : decode cX6_append 1 = .ok (.aload_n 0, 1) := dk_42 (dk_at dksX6_append_0 1 rfl rfl)
theorem dX6_append_2 : decode cX6_append 2 = .ok (.getfield 56, 3) := dk_180 0 56 (dk_at dksX6_append_0 2 rfl rfl)
theorem dX6_append_5 : decode cX6_append 5 = .ok (.bipush 20, 2) := dk_16 20 (dk_at dksX6_append_0 5 rfl rfl)
theorem dX6_append_7 : decode cX6_append 7 = .ok (.iadd, 1) := dk_96 (dk_at dksX6_append_0 7 rfl rfl)
theorem dX6_append_8 : decode cX6_append 8 = .ok (.sipush 900, 3) := dk_17 3 132 (dk_at dksX6_append_0 8 rfl rfl)
theorem dX6_append_11 : decode cX6_append 11 = .ok (.if_icmp .gt 7, 3) := dk_163 0 7 (dk_at dksX6_append_0 11 rfl rfl)
theorem dX6_append_14 : decode cX6_append 14 = .ok (.iconst 1, 1) := dk_4 (dk_at dksX6_append_0 14 rfl rfl)
theorem dX6_append_15 : decode cX6_append 15 = .ok (.goto 4, 3) := dk_167 0 4 (dk_at dksX6_append_0 15 rfl rfl)
theorem dX6_append_18 : decode cX6_append 18 = .ok (.iconst 0, 1) := dk_3 (dk_at dksX6_append_0 18 rfl rfl)
theorem dX6_append_19 : decode cX6_append 19 = .ok (.invokevirtual 186, 3) := dk_182 0 186 (dk_at dksX6_append_0 19 rfl rfl)
theorem dX6_append_22 : decode cX6_append 22 = .ok (.ifCond .ne 5, 3) := dk_154 0 5 (dk_at dksX6_append_1 0 rfl rfl)
theorem dX6_append_25 : decode cX6_append 25 = .ok (.iconst 0, 1) := dk_3 (dk_at dksX6_append_1 3 rfl rfl)
theorem dX6_append_26 : decode cX6_append 26 = .ok (.ireturn, 1) := dk_172 (dk_at dksX6_append_1 4 rfl rfl)
theorem dX6_append_27 : decode cX6_append 27 = .ok (.aload_n 0, 1) := dk_42 (dk_at dksX6_append_1 5 rfl rfl)
theorem dX6_append_28 : decode cX6_append 28 = .ok (.iload_n 1, 1) := dk_27 (dk_at dksX6_append_1 6 rfl rfl)
theorem dX6_append_29 : decode cX6_append 29 = .ok (.invokevirtual 190, 3) := dk_182 0 190 (dk_at dksX6_append_1 7 rfl rfl)
theorem dX6_append_32 : decode cX6_append 32 = .ok (.aload_n 0, 1) := dk_42 (dk_at dksX6_append_1 10 rfl rfl)
theorem dX6_append_33 : decode cX6_append 33 = .ok (.iload_n 2, 1) := dk_28 (dk_at dksX6_append_1 11 rfl rfl)
theorem dX6_append_34 : decode cX6_append 34 = .ok (.invokevirtual 190, 3) := dk_182 0 190 (dk_at dksX6_append_1 12 rfl rfl)
theorem dX6_append_37 : decode cX6_append 37 = .ok (.aload_n 0, 1) := dk_42 (dk_at dksX6_append_1 15 rfl rfl)
theorem dX6_append_38 : decode cX6_append 38 = .ok (.iload_n 3, 1) := dk_29 (dk_at dksX6_append_1 16 rfl rfl)
theorem dX6_append_39 : decode cX6_append 39 = .ok (.invokevirtual 190, 3) := dk_182 0 190 (dk_at dksX6_append_1 17 rfl rfl)
theorem dX6_append_42 : decode cX6_append 42 = .ok (.aload_n 0, 1) := dk_42 (dk_at dksX6_append_1 20 rfl rfl)
theorem dX6_append_43 : decode cX6_append 43 = .ok (.iload 4, 2) := dk_21 4 (dk_at dksX6_append_1 21 rfl rfl)
theorem dX6_append_45 : decode cX6_append 45 = .ok (.invokevirtual 190, 3) := dk_182 0 190 (dk_at dksX6_append_2 0 rfl rfl)
theorem dX6_append_48 : decode cX6_append 48 = .ok (.aload_n 0, 1) := dk_42 (dk_at dksX6_append_2 3 rfl rfl)
theorem dX6_append_49 : decode cX6_append 49 = .ok (.iload 5, 2) := dk_21 5 (dk_at dksX6_append_2 4 rfl rfl)
theorem dX6_append_51 : decode cX6_append 51 = .ok (.invokevirtual 190, 3) := dk_182 0 190 (dk_at dksX6_append_2 6 rfl rfl)
theorem dX6_append_54 : decode cX6_append 54 = .ok (.aload_n 0, 1) := dk_42 (dk_at dksX6_append_2 9 rfl rfl)
theorem dX6_append_55 : decode cX6_append 55 = .ok (.getfield 56, 3) := dk_180 0 56 (dk_at dksX6_append_2 10 rfl rfl)
theorem dX6_append_58 : decode cX6_append 58 = .ok (.ireturn, 1) := dk_172 (dk_at dksX6_append_2 13 rfl rfl)
def dkwX6_four_1 : List UInt8 := [89, 180, 0, 56, 4, 96, 181, 0, 56, 132, 2, 248, 167, 255, 223, 177]
abbrev dktX6_four_1 : List UInt8 := dkwX6_four_1 ++ []
def dkwX6_four_0 : List UInt8 := [16, 24, 61, 28, 155, 0, 35, 42, 180, 0, 31, 42, 180, 0, 56, 27, 28, 122, 17, 0, 255, 126, 79, 42]
abbrev dktX6_four_0 : List UInt8 := dkwX6_four_0 ++ dktX6_four_1
theorem dksX6_four_0 : cX6_four.data.toList.drop 0 = dktX6_four_0 := by decide +kernel
theorem dksX6_four_1 : cX6_four.data.toList.drop 24 = dktX6_four_1 := dk_seg dksX6_four_0 24 rfl rfl
theorem dX6_four_0 : decode cX6_four 0 = .ok (.bipush 24, 2) := dk_16 24 (dk_at dksX6_four_0 0 rfl rfl)
theorem dX6_four_2 : decode cX6_four 2 = .ok (.istore_n 2, 1) := dk_61 (dk_at dksX6_four_0 2 rfl rfl)
theorem dX6_four_3 : decode cX6_four 3 = .ok (.iload_n 2, 1) := dk_28 (dk_at dksX6_four_0 3 rfl rfl)
theorem dX6_four_4 : decode cX6_four 4 = .ok (.ifCond .lt 35, 3) := dk_155 0 35 (dk_at dksX6_four_0 4 rfl rfl)
theorem dX6_four_7 : decode cX6_four 7 = .ok (.aload_n 0, 1) := dk_42 (dk_at dksX6_four_0 7 rfl rfl)
theorem dX6_four_8 : decode cX6_four 8 = .ok (.getfield 31, 3) := dk_180 0 31 (dk_at dksX6_four_0 8 rfl rfl)
theorem dX6_four_11 : decode cX6_four 11 = .ok (.aload_n 0, 1) := dk_42 (dk_at dksX6_four_0 11 rfl rfl)
theorem dX6_four_12 : decode cX6_four 12 = .ok (.getfield 56, 3) := dk_180 0 56 (dk_at dksX6_four_0 12 rfl rfl)
theorem dX6_four_15 : decode cX6_four 15 = .ok (.iload_n 1, 1) := dk_27 (dk_at dksX6_four_0 15 rfl rfl)
theorem dX6_four_16 : decode cX6_four 16 = .ok (.iload_n 2, 1) := dk_28 (dk_at dksX6_four_0 16 rfl rfl)
theorem dX6_four_17 : decode cX6_four 17 = .ok (.ishr, 1) := dk_122 (dk_at dksX6_four_0 17 rfl rfl)
theorem dX6_four_18 : decode cX6_four 18 = .ok (.sipush 255, 3) := dk_17 0 255 (dk_at dksX6_four_0 18 rfl rfl)
theorem dX6_four_21 : decode cX6_four 21 = .ok (.iand, 1) := dk_126 (dk_at dksX6_four_0 21 rfl rfl)
theorem dX6_four_22 : decode cX6_four 22 = .ok (.iastore, 1) := dk_79 (dk_at dksX6_four_0 22 rfl rfl)
theorem dX6_four_23 : decode cX6_four 23 = .ok (.aload_n 0, 1) := dk_42 (dk_at dksX6_four_0 23 rfl rfl)
theorem dX6_four_24 : decode cX6_four 24 = .ok (.dup, 1) := dk_89 (dk_at dksX6_four_1 0 rfl rfl)
theorem dX6_four_25 : decode cX6_four 25 = .ok (.getfield 56, 3) := dk_180 0 56 (dk_at dksX6_four_1 1 rfl rfl)
theorem dX6_four_28 : decode cX6_four 28 = .ok (.iconst 1, 1) := dk_4 (dk_at dksX6_four_1 4 rfl rfl)
theorem dX6_four_29 : decode cX6_four 29 = .ok (.iadd, 1) := dk_96 (dk_at dksX6_four_1 5 rfl rfl)
theorem dX6_four_30 : decode cX6_four 30 = .ok (.putfield 56, 3) := dk_181 0 56 (dk_at dksX6_four_1 6 rfl rfl)
theorem dX6_four_33 : decode cX6_four 33 = .ok (.iinc 2 (-8), 3) := dk_132 2 248 (dk_at dksX6_four_1 9 rfl rfl)
theorem dX6_four_36 : decode cX6_four 36 = .ok (.goto (-33), 3) := dk_167 255 223 (dk_at dksX6_four_1 12 rfl rfl)
theorem dX6_four_39 : decode cX6_four 39 = .ok (.return_, 1) := dk_177 (dk_at dksX6_four_1 15 rfl rfl)
def dkwX6_truncate_1 : List UInt8 := [181, 0, 56, 27, 172]
abbrev dktX6_truncate_1 : List UInt8 := dkwX6_truncate_1 ++ []
def dkwX6_truncate_0 : List UInt8 := [42, 27, 133, 9, 42, 180, 0, 56, 133, 184, 0, 68, 182, 0, 186, 154, 0, 5, 3, 172, 42, 27]
abbrev dktX6_truncate_0 : List UInt8 := dkwX6_truncate_0 ++ dktX6_truncate_1
theorem dksX6_truncate_0 : cX6_truncate.data.toList.drop 0 = dktX6_truncate_0 := by decide +kernel
theorem dksX6_truncate_1 : cX6_truncate.data.toList.drop 22 = dktX6_truncate_1 := dk_seg dksX6_truncate_0 22 rfl rfl
theorem dX6_truncate_0 : decode cX6_truncate 0 = .ok (.aload_n 0, 1) := dk_42 (dk_at dksX6_truncate_0 0 rfl rfl)
theorem dX6_truncate_1 : decode cX6_truncate 1 = .ok (.iload_n 1, 1) := dk_27 (dk_at dksX6_truncate_0 1 rfl rfl)
theorem dX6_truncate_2 : decode cX6_truncate 2 = .ok (.i2l, 1) := dk_133 (dk_at dksX6_truncate_0 2 rfl rfl)
theorem dX6_truncate_3 : decode cX6_truncate 3 = .ok (.lconst 0, 1) := dk_9 (dk_at dksX6_truncate_0 3 rfl rfl)
theorem dX6_truncate_4 : decode cX6_truncate 4 = .ok (.aload_n 0, 1) := dk_42 (dk_at dksX6_truncate_0 4 rfl rfl)
theorem dX6_truncate_5 : decode cX6_truncate 5 = .ok (.getfield 56, 3) := dk_180 0 56 (dk_at dksX6_truncate_0 5 rfl rfl)
theorem dX6_truncate_8 : decode cX6_truncate 8 = .ok (.i2l, 1) := dk_133 (dk_at dksX6_truncate_0 8 rfl rfl)
theorem dX6_truncate_9 : decode cX6_truncate 9 = .ok (.invokestatic 68, 3) := dk_184 0 68 (dk_at dksX6_truncate_0 9 rfl rfl)
theorem dX6_truncate_12 : decode cX6_truncate 12 = .ok (.invokevirtual 186, 3) := dk_182 0 186 (dk_at dksX6_truncate_0 12 rfl rfl)
theorem dX6_truncate_15 : decode cX6_truncate 15 = .ok (.ifCond .ne 5, 3) := dk_154 0 5 (dk_at dksX6_truncate_0 15 rfl rfl)
theorem dX6_truncate_18 : decode cX6_truncate 18 = .ok (.iconst 0, 1) := dk_3 (dk_at dksX6_truncate_0 18 rfl rfl)
theorem dX6_truncate_19 : decode cX6_truncate 19 = .ok (.ireturn, 1) := dk_172 (dk_at dksX6_truncate_0 19 rfl rfl)
theorem dX6_truncate_20 : decode cX6_truncate 20 = .ok (.aload_n 0, 1) := dk_42 (dk_at dksX6_truncate_0 20 rfl rfl)
theorem dX6_truncate_21 : decode cX6_truncate 21 = .ok (.iload_n 1, 1) := dk_27 (dk_at dksX6_truncate_0 21 rfl rfl)
theorem dX6_truncate_22 : decode cX6_truncate 22 = .ok (.putfield 56, 3) := dk_181 0 56 (dk_at dksX6_truncate_1 0 rfl rfl)
theorem dX6_truncate_25 : decode cX6_truncate 25 = .ok (.iload_n 1, 1) := dk_27 (dk_at dksX6_truncate_1 3 rfl rfl)
theorem dX6_truncate_26 : decode cX6_truncate 26 = .ok (.ireturn, 1) := dk_172 (dk_at dksX6_truncate_1 4 rfl rfl)
def dkwX6_errorCode_0 : List UInt8 := [42, 3, 181, 0, 61, 42, 180, 0, 245, 172]
abbrev dktX6_errorCode_0 : List UInt8 := dkwX6_errorCode_0 ++ []
theorem dksX6_errorCode_0 : cX6_errorCode.data.toList.drop 0 = dktX6_errorCode_0 := by decide +kernel
theorem dX6_errorCode_0 : decode cX6_errorCode 0 = .ok (.aload_n 0, 1) := dk_42 (dk_at dksX6_errorCode_0 0 rfl rfl)
theorem dX6_errorCode_1 : decode cX6_errorCode 1 = .ok (.iconst 0, 1) := dk_3 (dk_at dksX6_errorCode_0 1 rfl rfl)
theorem dX6_errorCode_2 : decode cX6_errorCode 2 = .ok (.putfield 61, 3) := dk_181 0 61 (dk_at dksX6_errorCode_0 2 rfl rfl)
theorem dX6_errorCode_5 : decode cX6_errorCode 5 = .ok (.aload_n 0, 1) := dk_42 (dk_at dksX6_errorCode_0 5 rfl rfl)
theorem dX6_errorCode_6 : decode cX6_errorCode 6 = .ok (.getfield 245, 3) := dk_180 0 245 (dk_at dksX6_errorCode_0 6 rfl rfl)
theorem dX6_errorCode_9 : decode cX6_errorCode 9 = .ok (.ireturn, 1) := dk_172 (dk_at dksX6_errorCode_0 9 rfl rfl)
def dkwX6_errorPosition_0 : List UInt8 := [42, 3, 181, 0, 61, 42, 180, 0, 34, 172]
abbrev dktX6_errorPosition_0 : List UInt8 := dkwX6_errorPosition_0 ++ []
theorem dksX6_errorPosition_0 : cX6_errorPosition.data.toList.drop 0 = dktX6_errorPosition_0 := by decide +kernel
theorem dX6_errorPosition_0 : decode cX6_errorPosition 0 = .ok (.aload_n 0, 1) := dk_42 (dk_at dksX6_errorPosition_0 0 rfl rfl)
theorem dX6_errorPosition_1 : decode cX6_errorPosition 1 = .ok (.iconst 0, 1) := dk_3 (dk_at dksX6_errorPosition_0 1 rfl rfl)
theorem dX6_errorPosition_2 : decode cX6_errorPosition 2 = .ok (.putfield 61, 3) := dk_181 0 61 (dk_at dksX6_errorPosition_0 2 rfl rfl)
theorem dX6_errorPosition_5 : decode cX6_errorPosition 5 = .ok (.aload_n 0, 1) := dk_42 (dk_at dksX6_errorPosition_0 5 rfl rfl)
theorem dX6_errorPosition_6 : decode cX6_errorPosition 6 = .ok (.getfield 34, 3) := dk_180 0 34 (dk_at dksX6_errorPosition_0 6 rfl rfl)
theorem dX6_errorPosition_9 : decode cX6_errorPosition 9 = .ok (.ireturn, 1) := dk_172 (dk_at dksX6_errorPosition_0 9 rfl rfl)
def dkwX6_runOrders_3 : List UInt8 := [155, 0, 9, 132, 1, 1, 167, 255, 235, 27, 172]
abbrev dktX6_runOrders_3 : List UInt8 := dkwX6_runOrders_3 ++ []
def dkwX6_runOrders_2 : List UInt8 := [180, 0, 7, 182, 1, 116, 3, 60, 27, 42, 180, 1, 86, 162, 0, 19, 42, 6, 27, 104, 182, 1, 120]
abbrev dktX6_runOrders_2 : List UInt8 := dkwX6_runOrders_2 ++ dktX6_runOrders_3
def dkwX6_runOrders_1 : List UInt8 := [42, 182, 1, 113, 167, 255, 237, 42, 42, 182, 1, 59, 182, 0, 186, 154, 0, 5, 3, 172, 42, 42]
abbrev dktX6_runOrders_1 : List UInt8 := dkwX6_runOrders_1 ++ dktX6_runOrders_2
def dkwX6_runOrders_0 : List UInt8 := [42, 182, 1, 46, 42, 3, 181, 1, 86, 42, 180, 0, 208, 154, 0, 18, 42, 182, 0, 214, 2, 159, 0, 10]
abbrev dktX6_runOrders_0 : List UInt8 := dkwX6_runOrders_0 ++ dktX6_runOrders_1
theorem dksX6_runOrders_0 : cX6_runOrders.data.toList.drop 0 = dktX6_runOrders_0 := by decide +kernel
theorem dksX6_runOrders_1 : cX6_runOrders.data.toList.drop 24 = dktX6_runOrders_1 := dk_seg dksX6_runOrders_0 24 rfl rfl
theorem dksX6_runOrders_2 : cX6_runOrders.data.toList.drop 46 = dktX6_runOrders_2 := dk_seg dksX6_runOrders_1 22 rfl rfl
theorem dksX6_runOrders_3 : cX6_runOrders.data.toList.drop 69 = dktX6_runOrders_3 := dk_seg dksX6_runOrders_2 23 rfl rfl
theorem dX6_runOrders_0 : decode cX6_runOrders 0 = .ok (.aload_n 0, 1) := dk_42 (dk_at dksX6_runOrders_0 0 rfl rfl)
theorem dX6_runOrders_1 : decode cX6_runOrders 1 = .ok (.invokevirtual 302, 3) := dk_182 1 46 (dk_at dksX6_runOrders_0 1 rfl rfl)
theorem dX6_runOrders_4 : decode cX6_runOrders 4 = .ok (.aload_n 0, 1) := dk_42 (dk_at dksX6_runOrders_0 4 rfl rfl)
theorem dX6_runOrders_5 : decode cX6_runOrders 5 = .ok (.iconst 0, 1) := dk_3 (dk_at dksX6_runOrders_0 5 rfl rfl)
theorem dX6_runOrders_6 : decode cX6_runOrders 6 = .ok (.putfield 342, 3) := dk_181 1 86 (dk_at dksX6_runOrders_0 6 rfl rfl)
theorem dX6_runOrders_9 : decode cX6_runOrders 9 = .ok (.aload_n 0, 1) := dk_42 (dk_at dksX6_runOrders_0 9 rfl rfl)
theorem dX6_runOrders_10 : decode cX6_runOrders 10 = .ok (.getfield 208, 3) := dk_180 0 208 (dk_at dksX6_runOrders_0 10 rfl rfl)
theorem dX6_runOrders_13 : decode cX6_runOrders 13 = .ok (.ifCond .ne 18, 3) := dk_154 0 18 (dk_at dksX6_runOrders_0 13 rfl rfl)
theorem dX6_runOrders_16 : decode cX6_runOrders 16 = .ok (.aload_n 0, 1) := dk_42 (dk_at dksX6_runOrders_0 16 rfl rfl)
theorem dX6_runOrders_17 : decode cX6_runOrders 17 = .ok (.invokevirtual 214, 3) := dk_182 0 214 (dk_at dksX6_runOrders_0 17 rfl rfl)
theorem dX6_runOrders_20 : decode cX6_runOrders 20 = .ok (.iconst (-1), 1) := dk_2 (dk_at dksX6_runOrders_0 20 rfl rfl)
theorem dX6_runOrders_21 : decode cX6_runOrders 21 = .ok (.if_icmp .eq 10, 3) := dk_159 0 10 (dk_at dksX6_runOrders_0 21 rfl rfl)
theorem dX6_runOrders_24 : decode cX6_runOrders 24 = .ok (.aload_n 0, 1) := dk_42 (dk_at dksX6_runOrders_1 0 rfl rfl)
theorem dX6_runOrders_25 : decode cX6_runOrders 25 = .ok (.invokevirtual 369, 3) := dk_182 1 113 (dk_at dksX6_runOrders_1 1 rfl rfl)
theorem dX6_runOrders_28 : decode cX6_runOrders 28 = .ok (.goto (-19), 3) := dk_167 255 237 (dk_at dksX6_runOrders_1 4 rfl rfl)
theorem dX6_runOrders_31 : decode cX6_runOrders 31 = .ok (.aload_n 0, 1) := dk_42 (dk_at dksX6_runOrders_1 7 rfl rfl)
theorem dX6_runOrders_32 : decode cX6_runOrders 32 = .ok (.aload_n 0, 1) := dk_42 (dk_at dksX6_runOrders_1 8 rfl rfl)
theorem dX6_runOrders_33 : decode cX6_runOrders 33 = .ok (.invokevirtual 315, 3) := dk_182 1 59 (dk_at dksX6_runOrders_1 9 rfl rfl)
theorem dX6_runOrders_36 : decode cX6_runOrders 36 = .ok (.invokevirtual 186, 3) := dk_182 0 186 (dk_at dksX6_runOrders_1 12 rfl rfl)
theorem dX6_runOrders_39 : decode cX6_runOrders 39 = .ok (.ifCond .ne 5, 3) := dk_154 0 5 (dk_at dksX6_runOrders_1 15 rfl rfl)
theorem dX6_runOrders_42 : decode cX6_runOrders 42 = .ok (.iconst 0, 1) := dk_3 (dk_at dksX6_runOrders_1 18 rfl rfl)
theorem dX6_runOrders_43 : decode cX6_runOrders 43 = .ok (.ireturn, 1) := dk_172 (dk_at dksX6_runOrders_1 19 rfl rfl)
theorem dX6_runOrders_44 : decode cX6_runOrders 44 = .ok (.aload_n 0, 1) := dk_42 (dk_at dksX6_runOrders_1 20 rfl rfl)
theorem dX6_runOrders_45 : decode cX6_runOrders 45 = .ok (.aload_n 0, 1) := dk_42 (dk_at dksX6_runOrders_1 21 rfl rfl)
theorem dX6_runOrders_46 : decode cX6_runOrders 46 = .ok (.getfield 7, 3) := dk_180 0 7 (dk_at dksX6_runOrders_2 0 rfl rfl)
theorem dX6_runOrders_49 : decode cX6_runOrders 49 = .ok (.invokevirtual 372, 3) := dk_182 1 116 (dk_at dksX6_runOrders_2 3 rfl rfl)
theorem dX6_runOrders_52 : decode cX6_runOrders 52 = .ok (.iconst 0, 1) := dk_3 (dk_at dksX6_runOrders_2 6 rfl rfl)
theorem dX6_runOrders_53 : decode cX6_runOrders 53 = .ok (.istore_n 1, 1) := dk_60 (dk_at dksX6_runOrders_2 7 rfl rfl)
theorem dX6_runOrders_54 : decode cX6_runOrders 54 = .ok (.iload_n 1, 1) := dk_27 (dk_at dksX6_runOrders_2 8 rfl rfl)
theorem dX6_runOrders_55 : decode cX6_runOrders 55 = .ok (.aload_n 0, 1) := dk_42 (dk_at dksX6_runOrders_2 9 rfl rfl)
theorem dX6_runOrders_56 : decode cX6_runOrders 56 = .ok (.getfield 342, 3) := dk_180 1 86 (dk_at dksX6_runOrders_2 10 rfl rfl)
theorem dX6_runOrders_59 : decode cX6_runOrders 59 = .ok (.if_icmp .ge 19, 3) := dk_162 0 19 (dk_at dksX6_runOrders_2 13 rfl rfl)
theorem dX6_runOrders_62 : decode cX6_runOrders 62 = .ok (.aload_n 0, 1) := dk_42 (dk_at dksX6_runOrders_2 16 rfl rfl)
theorem dX6_runOrders_63 : decode cX6_runOrders 63 = .ok (.iconst 3, 1) := dk_6 (dk_at dksX6_runOrders_2 17 rfl rfl)
theorem dX6_runOrders_64 : decode cX6_runOrders 64 = .ok (.iload_n 1, 1) := dk_27 (dk_at dksX6_runOrders_2 18 rfl rfl)
theorem dX6_runOrders_65 : decode cX6_runOrders 65 = .ok (.imul, 1) := dk_104 (dk_at dksX6_runOrders_2 19 rfl rfl)
theorem dX6_runOrders_66 : decode cX6_runOrders 66 = .ok (.invokevirtual 376, 3) := dk_182 1 120 (dk_at dksX6_runOrders_2 20 rfl rfl)
theorem dX6_runOrders_69 : decode cX6_runOrders 69 = .ok (.ifCond .lt 9, 3) := dk_155 0 9 (dk_at dksX6_runOrders_3 0 rfl rfl)
theorem dX6_runOrders_72 : decode cX6_runOrders 72 = .ok (.iinc 1 1, 3) := dk_132 1 1 (dk_at dksX6_runOrders_3 3 rfl rfl)
theorem dX6_runOrders_75 : decode cX6_runOrders 75 = .ok (.goto (-21), 3) := dk_167 255 235 (dk_at dksX6_runOrders_3 6 rfl rfl)
theorem dX6_runOrders_78 : decode cX6_runOrders 78 = .ok (.iload_n 1, 1) := dk_27 (dk_at dksX6_runOrders_3 9 rfl rfl)
theorem dX6_runOrders_79 : decode cX6_runOrders 79 = .ok (.ireturn, 1) := dk_172 (dk_at dksX6_runOrders_3 10 rfl rfl)
def dkwX6_readsOne_3 : List UInt8 := [104, 4, 96, 182, 1, 89, 42, 89, 180, 1, 86, 4, 96, 181, 1, 86, 42, 16, 59, 182, 1, 52, 177]
abbrev dktX6_readsOne_3 : List UInt8 := dkwX6_readsOne_3 ++ []
def dkwX6_readsOne_2 : List UInt8 := [177, 42, 182, 0, 242, 42, 180, 0, 38, 6, 42, 180, 1, 86, 104, 27, 79, 42, 27, 6, 42, 180, 1, 86]
abbrev dktX6_readsOne_2 : List UInt8 := dkwX6_readsOne_2 ++ dktX6_readsOne_3
def dkwX6_readsOne_1 : List UInt8 := [180, 1, 86, 16, 30, 162, 0, 7, 4, 167, 0, 4, 3, 7, 182, 0, 217, 42, 180, 0, 208, 153, 0, 4]
abbrev dktX6_readsOne_1 : List UInt8 := dkwX6_readsOne_1 ++ dktX6_readsOne_2
def dkwX6_readsOne_0 : List UInt8 := [42, 182, 1, 83, 60, 42, 27, 2, 159, 0, 7, 4, 167, 0, 4, 3, 4, 182, 0, 217, 42, 42]
abbrev dktX6_readsOne_0 : List UInt8 := dkwX6_readsOne_0 ++ dktX6_readsOne_1
theorem dksX6_readsOne_0 : cX6_readsOne.data.toList.drop 0 = dktX6_readsOne_0 := by decide +kernel
theorem dksX6_readsOne_1 : cX6_readsOne.data.toList.drop 22 = dktX6_readsOne_1 := dk_seg dksX6_readsOne_0 22 rfl rfl
theorem dksX6_readsOne_2 : cX6_readsOne.data.toList.drop 46 = dktX6_readsOne_2 := dk_seg dksX6_readsOne_1 24 rfl rfl
theorem dksX6_readsOne_3 : cX6_readsOne.data.toList.drop 70 = dktX6_readsOne_3 := dk_seg dksX6_readsOne_2 24 rfl rfl
theorem dX6_readsOne_0 : decode cX6_readsOne 0 = .ok (.aload_n 0, 1) := dk_42 (dk_at dksX6_readsOne_0 0 rfl rfl)
theorem dX6_readsOne_1 : decode cX6_readsOne 1 = .ok (.invokevirtual 339, 3) := dk_182 1 83 (dk_at dksX6_readsOne_0 1 rfl rfl)
theorem dX6_readsOne_4 : decode cX6_readsOne 4 = .ok (.istore_n 1, 1) := dk_60 (dk_at dksX6_readsOne_0 4 rfl rfl)
theorem dX6_readsOne_5 : decode cX6_readsOne 5 = .ok (.aload_n 0, 1) := dk_42 (dk_at dksX6_readsOne_0 5 rfl rfl)
theorem dX6_readsOne_6 : decode cX6_readsOne 6 = .ok (.iload_n 1, 1) := dk_27 (dk_at dksX6_readsOne_0 6 rfl rfl)
theorem dX6_readsOne_7 : decode cX6_readsOne 7 = .ok (.iconst (-1), 1) := dk_2 (dk_at dksX6_readsOne_0 7 rfl rfl)
theorem dX6_readsOne_8 : decode cX6_readsOne 8 = .ok (.if_icmp .eq 7, 3) := dk_159 0 7 (dk_at dksX6_readsOne_0 8 rfl rfl)
theorem dX6_readsOne_11 : decode cX6_readsOne 11 = .ok (.iconst 1, 1) := dk_4 (dk_at dksX6_readsOne_0 11 rfl rfl)
theorem dX6_readsOne_12 : decode cX6_readsOne 12 = .ok (.goto 4, 3) := dk_167 0 4 (dk_at dksX6_readsOne_0 12 rfl rfl)
theorem dX6_readsOne_15 : decode cX6_readsOne 15 = .ok (.iconst 0, 1) := dk_3 (dk_at dksX6_readsOne_0 15 rfl rfl)
theorem dX6_readsOne_16 : decode cX6_readsOne 16 = .ok (.iconst 1, 1) := dk_4 (dk_at dksX6_readsOne_0 16 rfl rfl)
theorem dX6_readsOne_17 : decode cX6_readsOne 17 = .ok (.invokevirtual 217, 3) := dk_182 0 217 (dk_at dksX6_readsOne_0 17 rfl rfl)
theorem dX6_readsOne_20 : decode cX6_readsOne 20 = .ok (.aload_n 0, 1) := dk_42 (dk_at dksX6_readsOne_0 20 rfl rfl)
theorem dX6_readsOne_21 : decode cX6_readsOne 21 = .ok (.aload_n 0, 1) := dk_42 (dk_at dksX6_readsOne_0 21 rfl rfl)
theorem dX6_readsOne_22 : decode cX6_readsOne 22 = .ok (.getfield 342, 3) := dk_180 1 86 (dk_at dksX6_readsOne_1 0 rfl rfl)
theorem dX6_readsOne_25 : decode cX6_readsOne 25 = .ok (.bipush 30, 2) := dk_16 30 (dk_at dksX6_readsOne_1 3 rfl rfl)
theorem dX6_readsOne_27 : decode cX6_readsOne 27 = .ok (.if_icmp .ge 7, 3) := dk_162 0 7 (dk_at dksX6_readsOne_1 5 rfl rfl)
theorem dX6_readsOne_30 : decode cX6_readsOne 30 = .ok (.iconst 1, 1) := dk_4 (dk_at dksX6_readsOne_1 8 rfl rfl)
theorem dX6_readsOne_31 : decode cX6_readsOne 31 = .ok (.goto 4, 3) := dk_167 0 4 (dk_at dksX6_readsOne_1 9 rfl rfl)
theorem dX6_readsOne_34 : decode cX6_readsOne 34 = .ok (.iconst 0, 1) := dk_3 (dk_at dksX6_readsOne_1 12 rfl rfl)
theorem dX6_readsOne_35 : decode cX6_readsOne 35 = .ok (.iconst 4, 1) := dk_7 (dk_at dksX6_readsOne_1 13 rfl rfl)
theorem dX6_readsOne_36 : decode cX6_readsOne 36 = .ok (.invokevirtual 217, 3) := dk_182 0 217 (dk_at dksX6_readsOne_1 14 rfl rfl)
theorem dX6_readsOne_39 : decode cX6_readsOne 39 = .ok (.aload_n 0, 1) := dk_42 (dk_at dksX6_readsOne_1 17 rfl rfl)
theorem dX6_readsOne_40 : decode cX6_readsOne 40 = .ok (.getfield 208, 3) := dk_180 0 208 (dk_at dksX6_readsOne_1 18 rfl rfl)
theorem dX6_readsOne_43 : decode cX6_readsOne 43 = .ok (.ifCond .eq 4, 3) := dk_153 0 4 (dk_at dksX6_readsOne_1 21 rfl rfl)
theorem dX6_readsOne_46 : decode cX6_readsOne 46 = .ok (.return_, 1) := dk_177 (dk_at dksX6_readsOne_2 0 rfl rfl)
theorem dX6_readsOne_47 : decode cX6_readsOne 47 = .ok (.aload_n 0, 1) := dk_42 (dk_at dksX6_readsOne_2 1 rfl rfl)
theorem dX6_readsOne_48 : decode cX6_readsOne 48 = .ok (.invokevirtual 242, 3) := dk_182 0 242 (dk_at dksX6_readsOne_2 2 rfl rfl)
theorem dX6_readsOne_51 : decode cX6_readsOne 51 = .ok (.aload_n 0, 1) := dk_42 (dk_at dksX6_readsOne_2 5 rfl rfl)
theorem dX6_readsOne_52 : decode cX6_readsOne 52 = .ok (.getfield 38, 3) := dk_180 0 38 (dk_at dksX6_readsOne_2 6 rfl rfl)
theorem dX6_readsOne_55 : decode cX6_readsOne 55 = .ok (.iconst 3, 1) := dk_6 (dk_at dksX6_readsOne_2 9 rfl rfl)
theorem dX6_readsOne_56 : decode cX6_readsOne 56 = .ok (.aload_n 0, 1) := dk_42 (dk_at dksX6_readsOne_2 10 rfl rfl)
theorem dX6_readsOne_57 : decode cX6_readsOne 57 = .ok (.getfield 342, 3) := dk_180 1 86 (dk_at dksX6_readsOne_2 11 rfl rfl)
theorem dX6_readsOne_60 : decode cX6_readsOne 60 = .ok (.imul, 1) := dk_104 (dk_at dksX6_readsOne_2 14 rfl rfl)
theorem dX6_readsOne_61 : decode cX6_readsOne 61 = .ok (.iload_n 1, 1) := dk_27 (dk_at dksX6_readsOne_2 15 rfl rfl)
theorem dX6_readsOne_62 : decode cX6_readsOne 62 = .ok (.iastore, 1) := dk_79 (dk_at dksX6_readsOne_2 16 rfl rfl)
theorem dX6_readsOne_63 : decode cX6_readsOne 63 = .ok (.aload_n 0, 1) := dk_42 (dk_at dksX6_readsOne_2 17 rfl rfl)
theorem dX6_readsOne_64 : decode cX6_readsOne 64 = .ok (.iload_n 1, 1) := dk_27 (dk_at dksX6_readsOne_2 18 rfl rfl)
theorem dX6_readsOne_65 : decode cX6_readsOne 65 = .ok (.iconst 3, 1) := dk_6 (dk_at dksX6_readsOne_2 19 rfl rfl)
theorem dX6_readsOne_66 : decode cX6_readsOne 66 = .ok (.aload_n 0, 1) := dk_42 (dk_at dksX6_readsOne_2 20 rfl rfl)
theorem dX6_readsOne_67 : decode cX6_readsOne 67 = .ok (.getfield 342, 3) := dk_180 1 86 (dk_at dksX6_readsOne_2 21 rfl rfl)
theorem dX6_readsOne_70 : decode cX6_readsOne 70 = .ok (.imul, 1) := dk_104 (dk_at dksX6_readsOne_3 0 rfl rfl)
theorem dX6_readsOne_71 : decode cX6_readsOne 71 = .ok (.iconst 1, 1) := dk_4 (dk_at dksX6_readsOne_3 1 rfl rfl)
theorem dX6_readsOne_72 : decode cX6_readsOne 72 = .ok (.iadd, 1) := dk_96 (dk_at dksX6_readsOne_3 2 rfl rfl)
theorem dX6_readsOne_73 : decode cX6_readsOne 73 = .ok (.invokevirtual 345, 3) := dk_182 1 89 (dk_at dksX6_readsOne_3 3 rfl rfl)
theorem dX6_readsOne_76 : decode cX6_readsOne 76 = .ok (.aload_n 0, 1) := dk_42 (dk_at dksX6_readsOne_3 6 rfl rfl)
theorem dX6_readsOne_77 : decode cX6_readsOne 77 = .ok (.dup, 1) := dk_89 (dk_at dksX6_readsOne_3 7 rfl rfl)
theorem dX6_readsOne_78 : decode cX6_readsOne 78 = .ok (.getfield 342, 3) := dk_180 1 86 (dk_at dksX6_readsOne_3 8 rfl rfl)
theorem dX6_readsOne_81 : decode cX6_readsOne 81 = .ok (.iconst 1, 1) := dk_4 (dk_at dksX6_readsOne_3 11 rfl rfl)
theorem dX6_readsOne_82 : decode cX6_readsOne 82 = .ok (.iadd, 1) := dk_96 (dk_at dksX6_readsOne_3 12 rfl rfl)
theorem dX6_readsOne_83 : decode cX6_readsOne 83 = .ok (.putfield 342, 3) := dk_181 1 86 (dk_at dksX6_readsOne_3 13 rfl rfl)
theorem dX6_readsOne_86 : decode cX6_readsOne 86 = .ok (.aload_n 0, 1) := dk_42 (dk_at dksX6_readsOne_3 16 rfl rfl)
theorem dX6_readsOne_87 : decode cX6_readsOne 87 = .ok (.bipush 59, 2) := dk_16 59 (dk_at dksX6_readsOne_3 17 rfl rfl)
theorem dX6_readsOne_89 : decode cX6_readsOne 89 = .ok (.invokevirtual 308, 3) := dk_182 1 52 (dk_at dksX6_readsOne_3 19 rfl rfl)
theorem dX6_readsOne_92 : decode cX6_readsOne 92 = .ok (.return_, 1) := dk_177 (dk_at dksX6_readsOne_3 22 rfl rfl)
def dkwX6_orderHere_1 : List UInt8 := [42, 19, 1, 78, 182, 0, 250, 153, 0, 8, 16, 6, 167, 0, 7, 42, 182, 1, 80, 172]
abbrev dktX6_orderHere_1 : List UInt8 := dkwX6_orderHere_1 ++ []
def dkwX6_orderHere_0 : List UInt8 := [42, 19, 1, 74, 182, 0, 250, 153, 0, 5, 3, 172, 42, 19, 1, 76, 182, 0, 250, 153, 0, 5, 8, 172]
abbrev dktX6_orderHere_0 : List UInt8 := dkwX6_orderHere_0 ++ dktX6_orderHere_1
theorem dksX6_orderHere_0 : cX6_orderHere.data.toList.drop 0 = dktX6_orderHere_0 := by decide +kernel
theorem dksX6_orderHere_1 : cX6_orderHere.data.toList.drop 24 = dktX6_orderHere_1 := dk_seg dksX6_orderHere_0 24 rfl rfl
theorem dX6_orderHere_0 : decode cX6_orderHere 0 = .ok (.aload_n 0, 1) := dk_42 (dk_at dksX6_orderHere_0 0 rfl rfl)
theorem dX6_orderHere_1 : decode cX6_orderHere 1 = .ok (.ldc_w 330, 3) := dk_19 1 74 (dk_at dksX6_orderHere_0 1 rfl rfl)
theorem dX6_orderHere_4 : decode cX6_orderHere 4 = .ok (.invokevirtual 250, 3) := dk_182 0 250 (dk_at dksX6_orderHere_0 4 rfl rfl)
theorem dX6_orderHere_7 : decode cX6_orderHere 7 = .ok (.ifCond .eq 5, 3) := dk_153 0 5 (dk_at dksX6_orderHere_0 7 rfl rfl)
theorem dX6_orderHere_10 : decode cX6_orderHere 10 = .ok (.iconst 0, 1) := dk_3 (dk_at dksX6_orderHere_0 10 rfl rfl)
theorem dX6_orderHere_11 : decode cX6_orderHere 11 = .ok (.ireturn, 1) := dk_172 (dk_at dksX6_orderHere_0 11 rfl rfl)
theorem dX6_orderHere_12 : decode cX6_orderHere 12 = .ok (.aload_n 0, 1) := dk_42 (dk_at dksX6_orderHere_0 12 rfl rfl)
theorem dX6_orderHere_13 : decode cX6_orderHere 13 = .ok (.ldc_w 332, 3) := dk_19 1 76 (dk_at dksX6_orderHere_0 13 rfl rfl)
theorem dX6_orderHere_16 : decode cX6_orderHere 16 = .ok (.invokevirtual 250, 3) := dk_182 0 250 (dk_at dksX6_orderHere_0 16 rfl rfl)
theorem dX6_orderHere_19 : decode cX6_orderHere 19 = .ok (.ifCond .eq 5, 3) := dk_153 0 5 (dk_at dksX6_orderHere_0 19 rfl rfl)
theorem dX6_orderHere_22 : decode cX6_orderHere 22 = .ok (.iconst 5, 1) := dk_8 (dk_at dksX6_orderHere_0 22 rfl rfl)
theorem dX6_orderHere_23 : decode cX6_orderHere 23 = .ok (.ireturn, 1) := dk_172 (dk_at dksX6_orderHere_0 23 rfl rfl)
theorem dX6_orderHere_24 : decode cX6_orderHere 24 = .ok (.aload_n 0, 1) := dk_42 (dk_at dksX6_orderHere_1 0 rfl rfl)
theorem dX6_orderHere_25 : decode cX6_orderHere 25 = .ok (.ldc_w 334, 3) := dk_19 1 78 (dk_at dksX6_orderHere_1 1 rfl rfl)
theorem dX6_orderHere_28 : decode cX6_orderHere 28 = .ok (.invokevirtual 250, 3) := dk_182 0 250 (dk_at dksX6_orderHere_1 4 rfl rfl)
theorem dX6_orderHere_31 : decode cX6_orderHere 31 = .ok (.ifCond .eq 8, 3) := dk_153 0 8 (dk_at dksX6_orderHere_1 7 rfl rfl)
theorem dX6_orderHere_34 : decode cX6_orderHere 34 = .ok (.bipush 6, 2) := dk_16 6 (dk_at dksX6_orderHere_1 10 rfl rfl)
theorem dX6_orderHere_36 : decode cX6_orderHere 36 = .ok (.goto 7, 3) := dk_167 0 7 (dk_at dksX6_orderHere_1 12 rfl rfl)
theorem dX6_orderHere_39 : decode cX6_orderHere 39 = .ok (.aload_n 0, 1) := dk_42 (dk_at dksX6_orderHere_1 15 rfl rfl)
theorem dX6_orderHere_40 : decode cX6_orderHere 40 = .ok (.invokevirtual 336, 3) := dk_182 1 80 (dk_at dksX6_orderHere_1 16 rfl rfl)
theorem dX6_orderHere_43 : decode cX6_orderHere 43 = .ok (.ireturn, 1) := dk_172 (dk_at dksX6_orderHere_1 19 rfl rfl)
def dkwX6_cellOrder_2 : List UInt8 := [167, 0, 4, 2, 172]
abbrev dktX6_cellOrder_2 : List UInt8 := dkwX6_cellOrder_2 ++ []
def dkwX6_cellOrder_1 : List UInt8 := [42, 19, 1, 70, 182, 0, 250, 153, 0, 5, 6, 172, 42, 19, 1, 72, 182, 0, 250, 153, 0, 7, 7]
abbrev dktX6_cellOrder_1 : List UInt8 := dkwX6_cellOrder_1 ++ dktX6_cellOrder_2
def dkwX6_cellOrder_0 : List UInt8 := [42, 19, 1, 41, 182, 0, 250, 153, 0, 5, 4, 172, 42, 19, 1, 68, 182, 0, 250, 153, 0, 5, 5, 172]
abbrev dktX6_cellOrder_0 : List UInt8 := dkwX6_cellOrder_0 ++ dktX6_cellOrder_1
theorem dksX6_cellOrder_0 : cX6_cellOrder.data.toList.drop 0 = dktX6_cellOrder_0 := by decide +kernel
theorem dksX6_cellOrder_1 : cX6_cellOrder.data.toList.drop 24 = dktX6_cellOrder_1 := dk_seg dksX6_cellOrder_0 24 rfl rfl
theorem dksX6_cellOrder_2 : cX6_cellOrder.data.toList.drop 47 = dktX6_cellOrder_2 := dk_seg dksX6_cellOrder_1 23 rfl rfl
theorem dX6_cellOrder_0 : decode cX6_cellOrder 0 = .ok (.aload_n 0, 1) := dk_42 (dk_at dksX6_cellOrder_0 0 rfl rfl)
theorem dX6_cellOrder_1 : decode cX6_cellOrder 1 = .ok (.ldc_w 297, 3) := dk_19 1 41 (dk_at dksX6_cellOrder_0 1 rfl rfl)
theorem dX6_cellOrder_4 : decode cX6_cellOrder 4 = .ok (.invokevirtual 250, 3) := dk_182 0 250 (dk_at dksX6_cellOrder_0 4 rfl rfl)
theorem dX6_cellOrder_7 : decode cX6_cellOrder 7 = .ok (.ifCond .eq 5, 3) := dk_153 0 5 (dk_at dksX6_cellOrder_0 7 rfl rfl)
theorem dX6_cellOrder_10 : decode cX6_cellOrder 10 = .ok (.iconst 1, 1) := dk_4 (dk_at dksX6_cellOrder_0 10 rfl rfl)
theorem dX6_cellOrder_11 : decode cX6_cellOrder 11 = .ok (.ireturn, 1) := dk_172 (dk_at dksX6_cellOrder_0 11 rfl rfl)
theorem dX6_cellOrder_12 : decode cX6_cellOrder 12 = .ok (.aload_n 0, 1) := dk_42 (dk_at dksX6_cellOrder_0 12 rfl rfl)
theorem dX6_cellOrder_13 : decode cX6_cellOrder 13 = .ok (.ldc_w 324, 3) := dk_19 1 68 (dk_at dksX6_cellOrder_0 13 rfl rfl)
theorem dX6_cellOrder_16 : decode cX6_cellOrder 16 = .ok (.invokevirtual 250, 3) := dk_182 0 250 (dk_at dksX6_cellOrder_0 16 rfl rfl)
theorem dX6_cellOrder_19 : decode cX6_cellOrder 19 = .ok (.ifCond .eq 5, 3) := dk_153 0 5 (dk_at dksX6_cellOrder_0 19 rfl rfl)
theorem dX6_cellOrder_22 : decode cX6_cellOrder 22 = .ok (.iconst 2, 1) := dk_5 (dk_at dksX6_cellOrder_0 22 rfl rfl)
theorem dX6_cellOrder_23 : decode cX6_cellOrder 23 = .ok (.ireturn, 1) := dk_172 (dk_at dksX6_cellOrder_0 23 rfl rfl)
theorem dX6_cellOrder_24 : decode cX6_cellOrder 24 = .ok (.aload_n 0, 1) := dk_42 (dk_at dksX6_cellOrder_1 0 rfl rfl)
theorem dX6_cellOrder_25 : decode cX6_cellOrder 25 = .ok (.ldc_w 326, 3) := dk_19 1 70 (dk_at dksX6_cellOrder_1 1 rfl rfl)
theorem dX6_cellOrder_28 : decode cX6_cellOrder 28 = .ok (.invokevirtual 250, 3) := dk_182 0 250 (dk_at dksX6_cellOrder_1 4 rfl rfl)
theorem dX6_cellOrder_31 : decode cX6_cellOrder 31 = .ok (.ifCond .eq 5, 3) := dk_153 0 5 (dk_at dksX6_cellOrder_1 7 rfl rfl)
theorem dX6_cellOrder_34 : decode cX6_cellOrder 34 = .ok (.iconst 3, 1) := dk_6 (dk_at dksX6_cellOrder_1 10 rfl rfl)
theorem dX6_cellOrder_35 : decode cX6_cellOrder 35 = .ok (.ireturn, 1) := dk_172 (dk_at dksX6_cellOrder_1 11 rfl rfl)
theorem dX6_cellOrder_36 : decode cX6_cellOrder 36 = .ok (.aload_n 0, 1) := dk_42 (dk_at dksX6_cellOrder_1 12 rfl rfl)
theorem dX6_cellOrder_37 : decode cX6_cellOrder 37 = .ok (.ldc_w 328, 3) := dk_19 1 72 (dk_at dksX6_cellOrder_1 13 rfl rfl)
theorem dX6_cellOrder_40 : decode cX6_cellOrder 40 = .ok (.invokevirtual 250, 3) := dk_182 0 250 (dk_at dksX6_cellOrder_1 16 rfl rfl)
theorem dX6_cellOrder_43 : decode cX6_cellOrder 43 = .ok (.ifCond .eq 7, 3) := dk_153 0 7 (dk_at dksX6_cellOrder_1 19 rfl rfl)
theorem dX6_cellOrder_46 : decode cX6_cellOrder 46 = .ok (.iconst 4, 1) := dk_7 (dk_at dksX6_cellOrder_1 22 rfl rfl)
theorem dX6_cellOrder_47 : decode cX6_cellOrder 47 = .ok (.goto 4, 3) := dk_167 0 4 (dk_at dksX6_cellOrder_2 0 rfl rfl)
theorem dX6_cellOrder_50 : decode cX6_cellOrder 50 = .ok (.iconst (-1), 1) := dk_2 (dk_at dksX6_cellOrder_2 3 rfl rfl)
theorem dX6_cellOrder_51 : decode cX6_cellOrder 51 = .ok (.ireturn, 1) := dk_172 (dk_at dksX6_cellOrder_2 4 rfl rfl)
def dkwX6_partsOf_5 : List UInt8 := [180, 0, 38, 28, 4, 96, 42, 3, 16, 7, 182, 0, 254, 79, 177]
abbrev dktX6_partsOf_5 : List UInt8 := dkwX6_partsOf_5 ++ []
def dkwX6_partsOf_4 : List UInt8 := [28, 42, 3, 2, 182, 1, 7, 79, 177, 42, 180, 0, 38, 28, 42, 3, 16, 9, 182, 0, 254, 79, 42]
abbrev dktX6_partsOf_4 : List UInt8 := dkwX6_partsOf_4 ++ dktX6_partsOf_5
def dkwX6_partsOf_3 : List UInt8 := [182, 1, 7, 79, 42, 180, 0, 38, 28, 4, 96, 42, 3, 16, 9, 182, 0, 254, 79, 177, 42, 180, 0, 38]
abbrev dktX6_partsOf_3 : List UInt8 := dkwX6_partsOf_3 ++ dktX6_partsOf_4
def dkwX6_partsOf_2 : List UInt8 := [42, 180, 0, 38, 28, 42, 4, 16, 60, 182, 0, 254, 79, 177, 42, 180, 0, 38, 28, 42, 3, 2]
abbrev dktX6_partsOf_2 : List UInt8 := dkwX6_partsOf_2 ++ dktX6_partsOf_3
def dkwX6_partsOf_1 : List UInt8 := [171, 0, 0, 0, 0, 0, 90, 0, 0, 0, 3, 0, 0, 0, 0, 0, 0, 0, 35, 0, 0, 0, 5, 0, 0, 0, 49, 0, 0, 0, 6, 0, 0, 0, 77]
abbrev dktX6_partsOf_1 : List UInt8 := dkwX6_partsOf_1 ++ dktX6_partsOf_2
def dkwX6_partsOf_0 : List UInt8 := [27]
abbrev dktX6_partsOf_0 : List UInt8 := dkwX6_partsOf_0 ++ dktX6_partsOf_1
theorem dksX6_partsOf_0 : cX6_partsOf.data.toList.drop 0 = dktX6_partsOf_0 := by decide +kernel
theorem dksX6_partsOf_1 : cX6_partsOf.data.toList.drop 1 = dktX6_partsOf_1 := dk_seg dksX6_partsOf_0 1 rfl rfl
theorem dksX6_partsOf_2 : cX6_partsOf.data.toList.drop 36 = dktX6_partsOf_2 := dk_seg dksX6_partsOf_1 35 rfl rfl
theorem dksX6_partsOf_3 : cX6_partsOf.data.toList.drop 58 = dktX6_partsOf_3 := dk_seg dksX6_partsOf_2 22 rfl rfl
theorem dksX6_partsOf_4 : cX6_partsOf.data.toList.drop 82 = dktX6_partsOf_4 := dk_seg dksX6_partsOf_3 24 rfl rfl
theorem dksX6_partsOf_5 : cX6_partsOf.data.toList.drop 105 = dktX6_partsOf_5 := dk_seg dksX6_partsOf_4 23 rfl rfl
theorem dX6_partsOf_0 : decode cX6_partsOf 0 = .ok (.iload_n 1, 1) := dk_27 (dk_at dksX6_partsOf_0 0 rfl rfl)
theorem dX6_partsOf_1 : decode cX6_partsOf 1 = .ok (.lookupswitch 90 #[(0, 35), (5, 49), (6, 77)], 35) := by decide +kernel
theorem dX6_partsOf_36 : decode cX6_partsOf 36 = .ok (.aload_n 0, 1) := dk_42 (dk_at dksX6_partsOf_2 0 rfl rfl)
theorem dX6_partsOf_37 : decode cX6_partsOf 37 = .ok (.getfield 38, 3) := dk_180 0 38 (dk_at dksX6_partsOf_2 1 rfl rfl)
theorem dX6_partsOf_40 : decode cX6_partsOf 40 = .ok (.iload_n 2, 1) := dk_28 (dk_at dksX6_partsOf_2 4 rfl rfl)
theorem dX6_partsOf_41 : decode cX6_partsOf 41 = .ok (.aload_n 0, 1) := dk_42 (dk_at dksX6_partsOf_2 5 rfl rfl)
theorem dX6_partsOf_42 : decode cX6_partsOf 42 = .ok (.iconst 1, 1) := dk_4 (dk_at dksX6_partsOf_2 6 rfl rfl)
theorem dX6_partsOf_43 : decode cX6_partsOf 43 = .ok (.bipush 60, 2) := dk_16 60 (dk_at dksX6_partsOf_2 7 rfl rfl)
theorem dX6_partsOf_45 : decode cX6_partsOf 45 = .ok (.invokevirtual 254, 3) := dk_182 0 254 (dk_at dksX6_partsOf_2 9 rfl rfl)
theorem dX6_partsOf_48 : decode cX6_partsOf 48 = .ok (.iastore, 1) := dk_79 (dk_at dksX6_partsOf_2 12 rfl rfl)
theorem dX6_partsOf_49 : decode cX6_partsOf 49 = .ok (.return_, 1) := dk_177 (dk_at dksX6_partsOf_2 13 rfl rfl)
theorem dX6_partsOf_50 : decode cX6_partsOf 50 = .ok (.aload_n 0, 1) := dk_42 (dk_at dksX6_partsOf_2 14 rfl rfl)
theorem dX6_partsOf_51 : decode cX6_partsOf 51 = .ok (.getfield 38, 3) := dk_180 0 38 (dk_at dksX6_partsOf_2 15 rfl rfl)
theorem dX6_partsOf_54 : decode cX6_partsOf 54 = .ok (.iload_n 2, 1) := dk_28 (dk_at dksX6_partsOf_2 18 rfl rfl)
theorem dX6_partsOf_55 : decode cX6_partsOf 55 = .ok (.aload_n 0, 1) := dk_42 (dk_at dksX6_partsOf_2 19 rfl rfl)
theorem dX6_partsOf_56 : decode cX6_partsOf 56 = .ok (.iconst 0, 1) := dk_3 (dk_at dksX6_partsOf_2 20 rfl rfl)
theorem dX6_partsOf_57 : decode cX6_partsOf 57 = .ok (.iconst (-1), 1) := dk_2 (dk_at dksX6_partsOf_2 21 rfl rfl)
theorem dX6_partsOf_58 : decode cX6_partsOf 58 = .ok (.invokevirtual 263, 3) := dk_182 1 7 (dk_at dksX6_partsOf_3 0 rfl rfl)
theorem dX6_partsOf_61 : decode cX6_partsOf 61 = .ok (.iastore, 1) := dk_79 (dk_at dksX6_partsOf_3 3 rfl rfl)
theorem dX6_partsOf_62 : decode cX6_partsOf 62 = .ok (.aload_n 0, 1) := dk_42 (dk_at dksX6_partsOf_3 4 rfl rfl)
theorem dX6_partsOf_63 : decode cX6_partsOf 63 = .ok (.getfield 38, 3) := dk_180 0 38 (dk_at dksX6_partsOf_3 5 rfl rfl)
theorem dX6_partsOf_66 : decode cX6_partsOf 66 = .ok (.iload_n 2, 1) := dk_28 (dk_at dksX6_partsOf_3 8 rfl rfl)
theorem dX6_partsOf_67 : decode cX6_partsOf 67 = .ok (.iconst 1, 1) := dk_4 (dk_at dksX6_partsOf_3 9 rfl rfl)
theorem dX6_partsOf_68 : decode cX6_partsOf 68 = .ok (.iadd, 1) := dk_96 (dk_at dksX6_partsOf_3 10 rfl rfl)
theorem dX6_partsOf_69 : decode cX6_partsOf 69 = .ok (.aload_n 0, 1) := dk_42 (dk_at dksX6_partsOf_3 11 rfl rfl)
theorem dX6_partsOf_70 : decode cX6_partsOf 70 = .ok (.iconst 0, 1) := dk_3 (dk_at dksX6_partsOf_3 12 rfl rfl)
theorem dX6_partsOf_71 : decode cX6_partsOf 71 = .ok (.bipush 9, 2) := dk_16 9 (dk_at dksX6_partsOf_3 13 rfl rfl)
theorem dX6_partsOf_73 : decode cX6_partsOf 73 = .ok (.invokevirtual 254, 3) := dk_182 0 254 (dk_at dksX6_partsOf_3 15 rfl rfl)
theorem dX6_partsOf_76 : decode cX6_partsOf 76 = .ok (.iastore, 1) := dk_79 (dk_at dksX6_partsOf_3 18 rfl rfl)
theorem dX6_partsOf_77 : decode cX6_partsOf 77 = .ok (.return_, 1) := dk_177 (dk_at dksX6_partsOf_3 19 rfl rfl)
theorem dX6_partsOf_78 : decode cX6_partsOf 78 = .ok (.aload_n 0, 1) := dk_42 (dk_at dksX6_partsOf_3 20 rfl rfl)
theorem dX6_partsOf_79 : decode cX6_partsOf 79 = .ok (.getfield 38, 3) := dk_180 0 38 (dk_at dksX6_partsOf_3 21 rfl rfl)
theorem dX6_partsOf_82 : decode cX6_partsOf 82 = .ok (.iload_n 2, 1) := dk_28 (dk_at dksX6_partsOf_4 0 rfl rfl)
theorem dX6_partsOf_83 : decode cX6_partsOf 83 = .ok (.aload_n 0, 1) := dk_42 (dk_at dksX6_partsOf_4 1 rfl rfl)
theorem dX6_partsOf_84 : decode cX6_partsOf 84 = .ok (.iconst 0, 1) := dk_3 (dk_at dksX6_partsOf_4 2 rfl rfl)
theorem dX6_partsOf_85 : decode cX6_partsOf 85 = .ok (.iconst (-1), 1) := dk_2 (dk_at dksX6_partsOf_4 3 rfl rfl)
theorem dX6_partsOf_86 : decode cX6_partsOf 86 = .ok (.invokevirtual 263, 3) := dk_182 1 7 (dk_at dksX6_partsOf_4 4 rfl rfl)
theorem dX6_partsOf_89 : decode cX6_partsOf 89 = .ok (.iastore, 1) := dk_79 (dk_at dksX6_partsOf_4 7 rfl rfl)
theorem dX6_partsOf_90 : decode cX6_partsOf 90 = .ok (.return_, 1) := dk_177 (dk_at dksX6_partsOf_4 8 rfl rfl)
theorem dX6_partsOf_91 : decode cX6_partsOf 91 = .ok (.aload_n 0, 1) := dk_42 (dk_at dksX6_partsOf_4 9 rfl rfl)
theorem dX6_partsOf_92 : decode cX6_partsOf 92 = .ok (.getfield 38, 3) := dk_180 0 38 (dk_at dksX6_partsOf_4 10 rfl rfl)
theorem dX6_partsOf_95 : decode cX6_partsOf 95 = .ok (.iload_n 2, 1) := dk_28 (dk_at dksX6_partsOf_4 13 rfl rfl)
theorem dX6_partsOf_96 : decode cX6_partsOf 96 = .ok (.aload_n 0, 1) := dk_42 (dk_at dksX6_partsOf_4 14 rfl rfl)
theorem dX6_partsOf_97 : decode cX6_partsOf 97 = .ok (.iconst 0, 1) := dk_3 (dk_at dksX6_partsOf_4 15 rfl rfl)
theorem dX6_partsOf_98 : decode cX6_partsOf 98 = .ok (.bipush 9, 2) := dk_16 9 (dk_at dksX6_partsOf_4 16 rfl rfl)
theorem dX6_partsOf_100 : decode cX6_partsOf 100 = .ok (.invokevirtual 254, 3) := dk_182 0 254 (dk_at dksX6_partsOf_4 18 rfl rfl)
theorem dX6_partsOf_103 : decode cX6_partsOf 103 = .ok (.iastore, 1) := dk_79 (dk_at dksX6_partsOf_4 21 rfl rfl)
theorem dX6_partsOf_104 : decode cX6_partsOf 104 = .ok (.aload_n 0, 1) := dk_42 (dk_at dksX6_partsOf_4 22 rfl rfl)
theorem dX6_partsOf_105 : decode cX6_partsOf 105 = .ok (.getfield 38, 3) := dk_180 0 38 (dk_at dksX6_partsOf_5 0 rfl rfl)
theorem dX6_partsOf_108 : decode cX6_partsOf 108 = .ok (.iload_n 2, 1) := dk_28 (dk_at dksX6_partsOf_5 3 rfl rfl)
theorem dX6_partsOf_109 : decode cX6_partsOf 109 = .ok (.iconst 1, 1) := dk_4 (dk_at dksX6_partsOf_5 4 rfl rfl)
theorem dX6_partsOf_110 : decode cX6_partsOf 110 = .ok (.iadd, 1) := dk_96 (dk_at dksX6_partsOf_5 5 rfl rfl)
theorem dX6_partsOf_111 : decode cX6_partsOf 111 = .ok (.aload_n 0, 1) := dk_42 (dk_at dksX6_partsOf_5 6 rfl rfl)
theorem dX6_partsOf_112 : decode cX6_partsOf 112 = .ok (.iconst 0, 1) := dk_3 (dk_at dksX6_partsOf_5 7 rfl rfl)
theorem dX6_partsOf_113 : decode cX6_partsOf 113 = .ok (.bipush 7, 2) := dk_16 7 (dk_at dksX6_partsOf_5 8 rfl rfl)
theorem dX6_partsOf_115 : decode cX6_partsOf 115 = .ok (.invokevirtual 254, 3) := dk_182 0 254 (dk_at dksX6_partsOf_5 10 rfl rfl)
theorem dX6_partsOf_118 : decode cX6_partsOf 118 = .ok (.iastore, 1) := dk_79 (dk_at dksX6_partsOf_5 13 rfl rfl)
theorem dX6_partsOf_119 : decode cX6_partsOf 119 = .ok (.return_, 1) := dk_177 (dk_at dksX6_partsOf_5 14 rfl rfl)
def dkwX6_keeps_3 : List UInt8 := [180, 1, 65, 4, 96, 181, 1, 65, 177]
abbrev dktX6_keeps_3 : List UInt8 := dkwX6_keeps_3 ++ []
def dkwX6_keeps_2 : List UInt8 := [181, 1, 65, 43, 3, 42, 180, 0, 22, 17, 2, 41, 42, 180, 1, 65, 104, 184, 0, 64, 42, 89]
abbrev dktX6_keeps_2 : List UInt8 := dkwX6_keeps_2 ++ dktX6_keeps_3
def dkwX6_keeps_1 : List UInt8 := [180, 0, 22, 28, 17, 2, 41, 96, 46, 79, 132, 2, 1, 167, 255, 230, 42, 89, 180, 1, 65, 4, 100]
abbrev dktX6_keeps_1 : List UInt8 := dkwX6_keeps_1 ++ dktX6_keeps_2
def dkwX6_keeps_0 : List UInt8 := [42, 180, 1, 65, 16, 8, 160, 0, 44, 3, 61, 28, 17, 15, 31, 162, 0, 25, 42, 180, 0, 22, 28, 42]
abbrev dktX6_keeps_0 : List UInt8 := dkwX6_keeps_0 ++ dktX6_keeps_1
theorem dksX6_keeps_0 : cX6_keeps.data.toList.drop 0 = dktX6_keeps_0 := by decide +kernel
theorem dksX6_keeps_1 : cX6_keeps.data.toList.drop 24 = dktX6_keeps_1 := dk_seg dksX6_keeps_0 24 rfl rfl
theorem dksX6_keeps_2 : cX6_keeps.data.toList.drop 47 = dktX6_keeps_2 := dk_seg dksX6_keeps_1 23 rfl rfl
theorem dksX6_keeps_3 : cX6_keeps.data.toList.drop 69 = dktX6_keeps_3 := dk_seg dksX6_keeps_2 22 rfl rfl
theorem dX6_keeps_0 : decode cX6_keeps 0 = .ok (.aload_n 0, 1) := dk_42 (dk_at dksX6_keeps_0 0 rfl rfl)
theorem dX6_keeps_1 : decode cX6_keeps 1 = .ok (.getfield 321, 3) := dk_180 1 65 (dk_at dksX6_keeps_0 1 rfl rfl)
theorem dX6_keeps_4 : decode cX6_keeps 4 = .ok (.bipush 8, 2) := dk_16 8 (dk_at dksX6_keeps_0 4 rfl rfl)
theorem dX6_keeps_6 : decode cX6_keeps 6 = .ok (.if_icmp .ne 44, 3) := dk_160 0 44 (dk_at dksX6_keeps_0 6 rfl rfl)
theorem dX6_keeps_9 : decode cX6_keeps 9 = .ok (.iconst 0, 1) := dk_3 (dk_at dksX6_keeps_0 9 rfl rfl)
theorem dX6_keeps_10 : decode cX6_keeps 10 = .ok (.istore_n 2, 1) := dk_61 (dk_at dksX6_keeps_0 10 rfl rfl)
theorem dX6_keeps_11 : decode cX6_keeps 11 = .ok (.iload_n 2, 1) := dk_28 (dk_at dksX6_keeps_0 11 rfl rfl)
theorem dX6_keeps_12 : decode cX6_keeps 12 = .ok (.sipush 3871, 3) := dk_17 15 31 (dk_at dksX6_keeps_0 12 rfl rfl)
theorem dX6_keeps_15 : decode cX6_keeps 15 = .ok (.if_icmp .ge 25, 3) := dk_162 0 25 (dk_at dksX6_keeps_0 15 rfl rfl)
theorem dX6_keeps_18 : decode cX6_keeps 18 = .ok (.aload_n 0, 1) := dk_42 (dk_at dksX6_keeps_0 18 rfl rfl)
theorem dX6_keeps_19 : decode cX6_keeps 19 = .ok (.getfield 22, 3) := dk_180 0 22 (dk_at dksX6_keeps_0 19 rfl rfl)
theorem dX6_keeps_22 : decode cX6_keeps 22 = .ok (.iload_n 2, 1) := dk_28 (dk_at dksX6_keeps_0 22 rfl rfl)
theorem dX6_keeps_23 : decode cX6_keeps 23 = .ok (.aload_n 0, 1) := dk_42 (dk_at dksX6_keeps_0 23 rfl rfl)
theorem dX6_keeps_24 : decode cX6_keeps 24 = .ok (.getfield 22, 3) := dk_180 0 22 (dk_at dksX6_keeps_1 0 rfl rfl)
theorem dX6_keeps_27 : decode cX6_keeps 27 = .ok (.iload_n 2, 1) := dk_28 (dk_at dksX6_keeps_1 3 rfl rfl)
theorem dX6_keeps_28 : decode cX6_keeps 28 = .ok (.sipush 553, 3) := dk_17 2 41 (dk_at dksX6_keeps_1 4 rfl rfl)
theorem dX6_keeps_31 : decode cX6_keeps 31 = .ok (.iadd, 1) := dk_96 (dk_at dksX6_keeps_1 7 rfl rfl)
theorem dX6_keeps_32 : decode cX6_keeps 32 = .ok (.iaload, 1) := dk_46 (dk_at dksX6_keeps_1 8 rfl rfl)
theorem dX6_keeps_33 : decode cX6_keeps 33 = .ok (.iastore, 1) := dk_79 (dk_at dksX6_keeps_1 9 rfl rfl)
theorem dX6_keeps_34 : decode cX6_keeps 34 = .ok (.iinc 2 1, 3) := dk_132 2 1 (dk_at dksX6_keeps_1 10 rfl rfl)
theorem dX6_keeps_37 : decode cX6_keeps 37 = .ok (.goto (-26), 3) := dk_167 255 230 (dk_at dksX6_keeps_1 13 rfl rfl)
theorem dX6_keeps_40 : decode cX6_keeps 40 = .ok (.aload_n 0, 1) := dk_42 (dk_at dksX6_keeps_1 16 rfl rfl)
theorem dX6_keeps_41 : decode cX6_keeps 41 = .ok (.dup, 1) := dk_89 (dk_at dksX6_keeps_1 17 rfl rfl)
theorem dX6_keeps_42 : decode cX6_keeps 42 = .ok (.getfield 321, 3) := dk_180 1 65 (dk_at dksX6_keeps_1 18 rfl rfl)
theorem dX6_keeps_45 : decode cX6_keeps 45 = .ok (.iconst 1, 1) := dk_4 (dk_at dksX6_keeps_1 21 rfl rfl)
theorem dX6_keeps_46 : decode cX6_keeps 46 = .ok (.isub, 1) := dk_100 (dk_at dksX6_keeps_1 22 rfl rfl)
theorem dX6_keeps_47 : decode cX6_keeps 47 = .ok (.putfield 321, 3) := dk_181 1 65 (dk_at dksX6_keeps_2 0 rfl rfl)
theorem dX6_keeps_50 : decode cX6_keeps 50 = .ok (.aload_n 1, 1) := dk_43 (dk_at dksX6_keeps_2 3 rfl rfl)
theorem dX6_keeps_51 : decode cX6_keeps 51 = .ok (.iconst 0, 1) := dk_3 (dk_at dksX6_keeps_2 4 rfl rfl)
theorem dX6_keeps_52 : decode cX6_keeps 52 = .ok (.aload_n 0, 1) := dk_42 (dk_at dksX6_keeps_2 5 rfl rfl)
theorem dX6_keeps_53 : decode cX6_keeps 53 = .ok (.getfield 22, 3) := dk_180 0 22 (dk_at dksX6_keeps_2 6 rfl rfl)
theorem dX6_keeps_56 : decode cX6_keeps 56 = .ok (.sipush 553, 3) := dk_17 2 41 (dk_at dksX6_keeps_2 9 rfl rfl)
theorem dX6_keeps_59 : decode cX6_keeps 59 = .ok (.aload_n 0, 1) := dk_42 (dk_at dksX6_keeps_2 12 rfl rfl)
theorem dX6_keeps_60 : decode cX6_keeps 60 = .ok (.getfield 321, 3) := dk_180 1 65 (dk_at dksX6_keeps_2 13 rfl rfl)
theorem dX6_keeps_63 : decode cX6_keeps 63 = .ok (.imul, 1) := dk_104 (dk_at dksX6_keeps_2 16 rfl rfl)
theorem dX6_keeps_64 : decode cX6_keeps 64 = .ok (.invokestatic 64, 3) := dk_184 0 64 (dk_at dksX6_keeps_2 17 rfl rfl)
theorem dX6_keeps_67 : decode cX6_keeps 67 = .ok (.aload_n 0, 1) := dk_42 (dk_at dksX6_keeps_2 20 rfl rfl)
theorem dX6_keeps_68 : decode cX6_keeps 68 = .ok (.dup, 1) := dk_89 (dk_at dksX6_keeps_2 21 rfl rfl)
theorem dX6_keeps_69 : decode cX6_keeps 69 = .ok (.getfield 321, 3) := dk_180 1 65 (dk_at dksX6_keeps_3 0 rfl rfl)
theorem dX6_keeps_72 : decode cX6_keeps 72 = .ok (.iconst 1, 1) := dk_4 (dk_at dksX6_keeps_3 3 rfl rfl)
theorem dX6_keeps_73 : decode cX6_keeps 73 = .ok (.iadd, 1) := dk_96 (dk_at dksX6_keeps_3 4 rfl rfl)
theorem dX6_keeps_74 : decode cX6_keeps 74 = .ok (.putfield 321, 3) := dk_181 1 65 (dk_at dksX6_keeps_3 5 rfl rfl)
theorem dX6_keeps_77 : decode cX6_keeps 77 = .ok (.return_, 1) := dk_177 (dk_at dksX6_keeps_3 8 rfl rfl)
def dkwX6_doesOne_3 : List UInt8 := [182, 1, 101, 172, 42, 28, 29, 182, 1, 104, 172, 42, 28, 29, 182, 1, 107, 172, 42, 28, 182, 1, 110, 172]
abbrev dktX6_doesOne_3 : List UInt8 := dkwX6_doesOne_3 ++ []
def dkwX6_doesOne_2 : List UInt8 := [42, 28, 182, 1, 92, 172, 42, 28, 29, 182, 1, 95, 172, 42, 28, 29, 182, 1, 98, 172, 42, 28, 29]
abbrev dktX6_doesOne_2 : List UInt8 := dkwX6_doesOne_2 ++ dktX6_doesOne_3
def dkwX6_doesOne_1 : List UInt8 := [170, 0, 0, 0, 0, 0, 0, 81, 0, 0, 0, 0, 0, 0, 0, 5, 0, 0, 0, 40, 0, 0, 0, 46, 0, 0, 0, 53, 0, 0, 0, 60, 0, 0, 0, 67, 0, 0, 0, 74]
abbrev dktX6_doesOne_1 : List UInt8 := dkwX6_doesOne_1 ++ dktX6_doesOne_2
def dkwX6_doesOne_0 : List UInt8 := [42, 180, 0, 38, 27, 4, 96, 46, 61, 42, 180, 0, 38, 27, 5, 96, 46, 62, 42, 180, 0, 38, 27, 46]
abbrev dktX6_doesOne_0 : List UInt8 := dkwX6_doesOne_0 ++ dktX6_doesOne_1
theorem dksX6_doesOne_0 : cX6_doesOne.data.toList.drop 0 = dktX6_doesOne_0 := by decide +kernel
theorem dksX6_doesOne_1 : cX6_doesOne.data.toList.drop 24 = dktX6_doesOne_1 := dk_seg dksX6_doesOne_0 24 rfl rfl
theorem dksX6_doesOne_2 : cX6_doesOne.data.toList.drop 64 = dktX6_doesOne_2 := dk_seg dksX6_doesOne_1 40 rfl rfl
theorem dksX6_doesOne_3 : cX6_doesOne.data.toList.drop 87 = dktX6_doesOne_3 := dk_seg dksX6_doesOne_2 23 rfl rfl
theorem dX6_doesOne_0 : decode cX6_doesOne 0 = .ok (.aload_n 0, 1) := dk_42 (dk_at dksX6_doesOne_0 0 rfl rfl)
theorem dX6_doesOne_1 : decode cX6_doesOne 1 = .ok (.getfield 38, 3) := dk_180 0 38 (dk_at dksX6_doesOne_0 1 rfl rfl)
theorem dX6_doesOne_4 : decode cX6_doesOne 4 = .ok (.iload_n 1, 1) := dk_27 (dk_at dksX6_doesOne_0 4 rfl rfl)
theorem dX6_doesOne_5 : decode cX6_doesOne 5 = .ok (.iconst 1, 1) := dk_4 (dk_at dksX6_doesOne_0 5 rfl rfl)
theorem dX6_doesOne_6 : decode cX6_doesOne 6 = .ok (.iadd, 1) := dk_96 (dk_at dksX6_doesOne_0 6 rfl rfl)
theorem dX6_doesOne_7 : decode cX6_doesOne 7 = .ok (.iaload, 1) := dk_46 (dk_at dksX6_doesOne_0 7 rfl rfl)
theorem dX6_doesOne_8 : decode cX6_doesOne 8 = .ok (.istore_n 2, 1) := dk_61 (dk_at dksX6_doesOne_0 8 rfl rfl)
theorem dX6_doesOne_9 : decode cX6_doesOne 9 = .ok (.aload_n 0, 1) := dk_42 (dk_at dksX6_doesOne_0 9 rfl rfl)
theorem dX6_doesOne_10 : decode cX6_doesOne 10 = .ok (.getfield 38, 3) := dk_180 0 38 (dk_at dksX6_doesOne_0 10 rfl rfl)
theorem dX6_doesOne_13 : decode cX6_doesOne 13 = .ok (.iload_n 1, 1) := dk_27 (dk_at dksX6_doesOne_0 13 rfl rfl)
theorem dX6_doesOne_14 : decode cX6_doesOne 14 = .ok (.iconst 2, 1) := dk_5 (dk_at dksX6_doesOne_0 14 rfl rfl)
theorem dX6_doesOne_15 : decode cX6_doesOne 15 = .ok (.iadd, 1) := dk_96 (dk_at dksX6_doesOne_0 15 rfl rfl)
theorem dX6_doesOne_16 : decode cX6_doesOne 16 = .ok (.iaload, 1) := dk_46 (dk_at dksX6_doesOne_0 16 rfl rfl)
theorem dX6_doesOne_17 : decode cX6_doesOne 17 = .ok (.istore_n 3, 1) := dk_62 (dk_at dksX6_doesOne_0 17 rfl rfl)
theorem dX6_doesOne_18 : decode cX6_doesOne 18 = .ok (.aload_n 0, 1) := dk_42 (dk_at dksX6_doesOne_0 18 rfl rfl)
theorem dX6_doesOne_19 : decode cX6_doesOne 19 = .ok (.getfield 38, 3) := dk_180 0 38 (dk_at dksX6_doesOne_0 19 rfl rfl)
theorem dX6_doesOne_22 : decode cX6_doesOne 22 = .ok (.iload_n 1, 1) := dk_27 (dk_at dksX6_doesOne_0 22 rfl rfl)
theorem dX6_doesOne_23 : decode cX6_doesOne 23 = .ok (.iaload, 1) := dk_46 (dk_at dksX6_doesOne_0 23 rfl rfl)
theorem dX6_doesOne_24 : decode cX6_doesOne 24 = .ok (.tableswitch 81 0 5 #[40, 46, 53, 60, 67, 74], 40) := by decide +kernel
theorem dX6_doesOne_64 : decode cX6_doesOne 64 = .ok (.aload_n 0, 1) := dk_42 (dk_at dksX6_doesOne_2 0 rfl rfl)
theorem dX6_doesOne_65 : decode cX6_doesOne 65 = .ok (.iload_n 2, 1) := dk_28 (dk_at dksX6_doesOne_2 1 rfl rfl)
theorem dX6_doesOne_66 : decode cX6_doesOne 66 = .ok (.invokevirtual 348, 3) := dk_182 1 92 (dk_at dksX6_doesOne_2 2 rfl rfl)
theorem dX6_doesOne_69 : decode cX6_doesOne 69 = .ok (.ireturn, 1) := dk_172 (dk_at dksX6_doesOne_2 5 rfl rfl)
theorem dX6_doesOne_70 : decode cX6_doesOne 70 = .ok (.aload_n 0, 1) := dk_42 (dk_at dksX6_doesOne_2 6 rfl rfl)
theorem dX6_doesOne_71 : decode cX6_doesOne 71 = .ok (.iload_n 2, 1) := dk_28 (dk_at dksX6_doesOne_2 7 rfl rfl)
theorem dX6_doesOne_72 : decode cX6_doesOne 72 = .ok (.iload_n 3, 1) := dk_29 (dk_at dksX6_doesOne_2 8 rfl rfl)
theorem dX6_doesOne_73 : decode cX6_doesOne 73 = .ok (.invokevirtual 351, 3) := dk_182 1 95 (dk_at dksX6_doesOne_2 9 rfl rfl)
theorem dX6_doesOne_76 : decode cX6_doesOne 76 = .ok (.ireturn, 1) := dk_172 (dk_at dksX6_doesOne_2 12 rfl rfl)
theorem dX6_doesOne_77 : decode cX6_doesOne 77 = .ok (.aload_n 0, 1) := dk_42 (dk_at dksX6_doesOne_2 13 rfl rfl)
theorem dX6_doesOne_78 : decode cX6_doesOne 78 = .ok (.iload_n 2, 1) := dk_28 (dk_at dksX6_doesOne_2 14 rfl rfl)
theorem dX6_doesOne_79 : decode cX6_doesOne 79 = .ok (.iload_n 3, 1) := dk_29 (dk_at dksX6_doesOne_2 15 rfl rfl)
theorem dX6_doesOne_80 : decode cX6_doesOne 80 = .ok (.invokevirtual 354, 3) := dk_182 1 98 (dk_at dksX6_doesOne_2 16 rfl rfl)
theorem dX6_doesOne_83 : decode cX6_doesOne 83 = .ok (.ireturn, 1) := dk_172 (dk_at dksX6_doesOne_2 19 rfl rfl)
theorem dX6_doesOne_84 : decode cX6_doesOne 84 = .ok (.aload_n 0, 1) := dk_42 (dk_at dksX6_doesOne_2 20 rfl rfl)
theorem dX6_doesOne_85 : decode cX6_doesOne 85 = .ok (.iload_n 2, 1) := dk_28 (dk_at dksX6_doesOne_2 21 rfl rfl)
theorem dX6_doesOne_86 : decode cX6_doesOne 86 = .ok (.iload_n 3, 1) := dk_29 (dk_at dksX6_doesOne_2 22 rfl rfl)
theorem dX6_doesOne_87 : decode cX6_doesOne 87 = .ok (.invokevirtual 357, 3) := dk_182 1 101 (dk_at dksX6_doesOne_3 0 rfl rfl)
theorem dX6_doesOne_90 : decode cX6_doesOne 90 = .ok (.ireturn, 1) := dk_172 (dk_at dksX6_doesOne_3 3 rfl rfl)
theorem dX6_doesOne_91 : decode cX6_doesOne 91 = .ok (.aload_n 0, 1) := dk_42 (dk_at dksX6_doesOne_3 4 rfl rfl)
theorem dX6_doesOne_92 : decode cX6_doesOne 92 = .ok (.iload_n 2, 1) := dk_28 (dk_at dksX6_doesOne_3 5 rfl rfl)
theorem dX6_doesOne_93 : decode cX6_doesOne 93 = .ok (.iload_n 3, 1) := dk_29 (dk_at dksX6_doesOne_3 6 rfl rfl)
theorem dX6_doesOne_94 : decode cX6_doesOne 94 = .ok (.invokevirtual 360, 3) := dk_182 1 104 (dk_at dksX6_doesOne_3 7 rfl rfl)
theorem dX6_doesOne_97 : decode cX6_doesOne 97 = .ok (.ireturn, 1) := dk_172 (dk_at dksX6_doesOne_3 10 rfl rfl)
theorem dX6_doesOne_98 : decode cX6_doesOne 98 = .ok (.aload_n 0, 1) := dk_42 (dk_at dksX6_doesOne_3 11 rfl rfl)
theorem dX6_doesOne_99 : decode cX6_doesOne 99 = .ok (.iload_n 2, 1) := dk_28 (dk_at dksX6_doesOne_3 12 rfl rfl)
theorem dX6_doesOne_100 : decode cX6_doesOne 100 = .ok (.iload_n 3, 1) := dk_29 (dk_at dksX6_doesOne_3 13 rfl rfl)
theorem dX6_doesOne_101 : decode cX6_doesOne 101 = .ok (.invokevirtual 363, 3) := dk_182 1 107 (dk_at dksX6_doesOne_3 14 rfl rfl)
theorem dX6_doesOne_104 : decode cX6_doesOne 104 = .ok (.ireturn, 1) := dk_172 (dk_at dksX6_doesOne_3 17 rfl rfl)
theorem dX6_doesOne_105 : decode cX6_doesOne 105 = .ok (.aload_n 0, 1) := dk_42 (dk_at dksX6_doesOne_3 18 rfl rfl)
theorem dX6_doesOne_106 : decode cX6_doesOne 106 = .ok (.iload_n 2, 1) := dk_28 (dk_at dksX6_doesOne_3 19 rfl rfl)
theorem dX6_doesOne_107 : decode cX6_doesOne 107 = .ok (.invokevirtual 366, 3) := dk_182 1 110 (dk_at dksX6_doesOne_3 20 rfl rfl)
theorem dX6_doesOne_110 : decode cX6_doesOne 110 = .ok (.ireturn, 1) := dk_172 (dk_at dksX6_doesOne_3 23 rfl rfl)
def dkwX6_runNow_1 : List UInt8 := [61, 42, 27, 182, 0, 170, 42, 180, 0, 7, 16, 9, 46, 28, 100, 172]
abbrev dktX6_runNow_1 : List UInt8 := dkwX6_runNow_1 ++ []
def dkwX6_runNow_0 : List UInt8 := [42, 180, 0, 7, 6, 46, 27, 96, 17, 3, 231, 164, 0, 6, 16, 249, 172, 42, 180, 0, 7, 16, 9, 46]
abbrev dktX6_runNow_0 : List UInt8 := dkwX6_runNow_0 ++ dktX6_runNow_1
theorem dksX6_runNow_0 : cX6_runNow.data.toList.drop 0 = dktX6_runNow_0 := by decide +kernel
theorem dksX6_runNow_1 : cX6_runNow.data.toList.drop 24 = dktX6_runNow_1 := dk_seg dksX6_runNow_0 24 rfl rfl
theorem dX6_runNow_0 : decode cX6_runNow 0 = .ok (.aload_n 0, 1) := dk_42 (dk_at dksX6_runNow_0 0 rfl rfl)
theorem dX6_runNow_1 : decode cX6_runNow 1 = .ok (.getfield 7, 3) := dk_180 0 7 (dk_at dksX6_runNow_0 1 rfl rfl)
theorem dX6_runNow_4 : decode cX6_runNow 4 = .ok (.iconst 3, 1) := dk_6 (dk_at dksX6_runNow_0 4 rfl rfl)
theorem dX6_runNow_5 : decode cX6_runNow 5 = .ok (.iaload, 1) := dk_46 (dk_at dksX6_runNow_0 5 rfl rfl)
theorem dX6_runNow_6 : decode cX6_runNow 6 = .ok (.iload_n 1, 1) := dk_27 (dk_at dksX6_runNow_0 6 rfl rfl)
theorem dX6_runNow_7 : decode cX6_runNow 7 = .ok (.iadd, 1) := dk_96 (dk_at dksX6_runNow_0 7 rfl rfl)
theorem dX6_runNow_8 : decode cX6_runNow 8 = .ok (.sipush 999, 3) := dk_17 3 231 (dk_at dksX6_runNow_0 8 rfl rfl)
theorem dX6_runNow_11 : decode cX6_runNow 11 = .ok (.if_icmp .le 6, 3) := dk_164 0 6 (dk_at dksX6_runNow_0 11 rfl rfl)
theorem dX6_runNow_14 : decode cX6_runNow 14 = .ok (.bipush (-7), 2) := dk_16 249 (dk_at dksX6_runNow_0 14 rfl rfl)
theorem dX6_runNow_16 : decode cX6_runNow 16 = .ok (.ireturn, 1) := dk_172 (dk_at dksX6_runNow_0 16 rfl rfl)
theorem dX6_runNow_17 : decode cX6_runNow 17 = .ok (.aload_n 0, 1) := dk_42 (dk_at dksX6_runNow_0 17 rfl rfl)
theorem dX6_runNow_18 : decode cX6_runNow 18 = .ok (.getfield 7, 3) := dk_180 0 7 (dk_at dksX6_runNow_0 18 rfl rfl)
theorem dX6_runNow_21 : decode cX6_runNow 21 = .ok (.bipush 9, 2) := dk_16 9 (dk_at dksX6_runNow_0 21 rfl rfl)
theorem dX6_runNow_23 : decode cX6_runNow 23 = .ok (.iaload, 1) := dk_46 (dk_at dksX6_runNow_0 23 rfl rfl)
theorem dX6_runNow_24 : decode cX6_runNow 24 = .ok (.istore_n 2, 1) := dk_61 (dk_at dksX6_runNow_1 0 rfl rfl)
theorem dX6_runNow_25 : decode cX6_runNow 25 = .ok (.aload_n 0, 1) := dk_42 (dk_at dksX6_runNow_1 1 rfl rfl)
theorem dX6_runNow_26 : decode cX6_runNow 26 = .ok (.iload_n 1, 1) := dk_27 (dk_at dksX6_runNow_1 2 rfl rfl)
theorem dX6_runNow_27 : decode cX6_runNow 27 = .ok (.invokevirtual 170, 3) := dk_182 0 170 (dk_at dksX6_runNow_1 3 rfl rfl)
theorem dX6_runNow_30 : decode cX6_runNow 30 = .ok (.aload_n 0, 1) := dk_42 (dk_at dksX6_runNow_1 6 rfl rfl)
theorem dX6_runNow_31 : decode cX6_runNow 31 = .ok (.getfield 7, 3) := dk_180 0 7 (dk_at dksX6_runNow_1 7 rfl rfl)
theorem dX6_runNow_34 : decode cX6_runNow 34 = .ok (.bipush 9, 2) := dk_16 9 (dk_at dksX6_runNow_1 10 rfl rfl)
theorem dX6_runNow_36 : decode cX6_runNow 36 = .ok (.iaload, 1) := dk_46 (dk_at dksX6_runNow_1 12 rfl rfl)
theorem dX6_runNow_37 : decode cX6_runNow 37 = .ok (.iload_n 2, 1) := dk_28 (dk_at dksX6_runNow_1 13 rfl rfl)
theorem dX6_runNow_38 : decode cX6_runNow 38 = .ok (.isub, 1) := dk_100 (dk_at dksX6_runNow_1 14 rfl rfl)
theorem dX6_runNow_39 : decode cX6_runNow 39 = .ok (.ireturn, 1) := dk_172 (dk_at dksX6_runNow_1 15 rfl rfl)
def dkwX6_goBy_0 : List UInt8 := [3, 61, 28, 27, 162, 0, 13, 42, 182, 0, 167, 132, 2, 1, 167, 255, 244, 177]
abbrev dktX6_goBy_0 : List UInt8 := dkwX6_goBy_0 ++ []
theorem dksX6_goBy_0 : cX6_goBy.data.toList.drop 0 = dktX6_goBy_0 := by decide +kernel
theorem dX6_goBy_0 : decode cX6_goBy 0 = .ok (.iconst 0, 1) := dk_3 (dk_at dksX6_goBy_0 0 rfl rfl)
theorem dX6_goBy_1 : decode cX6_goBy 1 = .ok (.istore_n 2, 1) := dk_61 (dk_at dksX6_goBy_0 1 rfl rfl)
theorem dX6_goBy_2 : decode cX6_goBy 2 = .ok (.iload_n 2, 1) := dk_28 (dk_at dksX6_goBy_0 2 rfl rfl)
theorem dX6_goBy_3 : decode cX6_goBy 3 = .ok (.iload_n 1, 1) := dk_27 (dk_at dksX6_goBy_0 3 rfl rfl)
theorem dX6_goBy_4 : decode cX6_goBy 4 = .ok (.if_icmp .ge 13, 3) := dk_162 0 13 (dk_at dksX6_goBy_0 4 rfl rfl)
theorem dX6_goBy_7 : decode cX6_goBy 7 = .ok (.aload_n 0, 1) := dk_42 (dk_at dksX6_goBy_0 7 rfl rfl)
theorem dX6_goBy_8 : decode cX6_goBy 8 = .ok (.invokevirtual 167, 3) := dk_182 0 167 (dk_at dksX6_goBy_0 8 rfl rfl)
theorem dX6_goBy_11 : decode cX6_goBy 11 = .ok (.iinc 2 1, 3) := dk_132 2 1 (dk_at dksX6_goBy_0 11 rfl rfl)
theorem dX6_goBy_14 : decode cX6_goBy 14 = .ok (.goto (-12), 3) := dk_167 255 244 (dk_at dksX6_goBy_0 14 rfl rfl)
theorem dX6_goBy_17 : decode cX6_goBy 17 = .ok (.return_, 1) := dk_177 (dk_at dksX6_goBy_0 17 rfl rfl)
def dkwX6_dayOnce_5 : List UInt8 := [46, 4, 96, 79, 177]
abbrev dktX6_dayOnce_5 : List UInt8 := dkwX6_dayOnce_5 ++ []
def dkwX6_dayOnce_4 : List UInt8 := [16, 8, 42, 42, 180, 0, 7, 6, 46, 182, 0, 100, 184, 0, 130, 182, 0, 143, 42, 180, 0, 7, 6, 92]
abbrev dktX6_dayOnce_4 : List UInt8 := dkwX6_dayOnce_4 ++ dktX6_dayOnce_5
def dkwX6_dayOnce_3 : List UInt8 := [162, 0, 23, 42, 28, 182, 0, 93, 153, 0, 9, 42, 28, 27, 182, 0, 163, 132, 2, 1, 167, 255, 231, 42]
abbrev dktX6_dayOnce_3 : List UInt8 := dkwX6_dayOnce_3 ++ dktX6_dayOnce_4
def dkwX6_dayOnce_2 : List UInt8 := [180, 0, 7, 16, 6, 46, 112, 154, 0, 7, 4, 167, 0, 4, 3, 60, 3, 61, 28, 42, 182, 0, 117]
abbrev dktX6_dayOnce_2 : List UInt8 := dkwX6_dayOnce_2 ++ dktX6_dayOnce_3
def dkwX6_dayOnce_1 : List UInt8 := [153, 0, 8, 42, 27, 182, 0, 160, 132, 1, 1, 167, 255, 224, 42, 180, 0, 7, 6, 46, 4, 96, 42]
abbrev dktX6_dayOnce_1 : List UInt8 := dkwX6_dayOnce_1 ++ dktX6_dayOnce_2
def dkwX6_dayOnce_0 : List UInt8 := [3, 60, 27, 42, 180, 0, 7, 4, 46, 162, 0, 28, 42, 27, 42, 180, 0, 7, 6, 46, 182, 0, 157]
abbrev dktX6_dayOnce_0 : List UInt8 := dkwX6_dayOnce_0 ++ dktX6_dayOnce_1
theorem dksX6_dayOnce_0 : cX6_dayOnce.data.toList.drop 0 = dktX6_dayOnce_0 := by decide +kernel
theorem dksX6_dayOnce_1 : cX6_dayOnce.data.toList.drop 23 = dktX6_dayOnce_1 := dk_seg dksX6_dayOnce_0 23 rfl rfl
theorem dksX6_dayOnce_2 : cX6_dayOnce.data.toList.drop 46 = dktX6_dayOnce_2 := dk_seg dksX6_dayOnce_1 23 rfl rfl
theorem dksX6_dayOnce_3 : cX6_dayOnce.data.toList.drop 69 = dktX6_dayOnce_3 := dk_seg dksX6_dayOnce_2 23 rfl rfl
theorem dksX6_dayOnce_4 : cX6_dayOnce.data.toList.drop 93 = dktX6_dayOnce_4 := dk_seg dksX6_dayOnce_3 24 rfl rfl
theorem dksX6_dayOnce_5 : cX6_dayOnce.data.toList.drop 117 = dktX6_dayOnce_5 := dk_seg dksX6_dayOnce_4 24 rfl rfl
theorem dX6_dayOnce_0 : decode cX6_dayOnce 0 = .ok (.iconst 0, 1) := dk_3 (dk_at dksX6_dayOnce_0 0 rfl rfl)
theorem dX6_dayOnce_1 : decode cX6_dayOnce 1 = .ok (.istore_n 1, 1) := dk_60 (dk_at dksX6_dayOnce_0 1 rfl rfl)
theorem dX6_dayOnce_2 : decode cX6_dayOnce 2 = .ok (.iload_n 1, 1) := dk_27 (dk_at dksX6_dayOnce_0 2 rfl rfl)
theorem dX6_dayOnce_3 : decode cX6_dayOnce 3 = .ok (.aload_n 0, 1) := dk_42 (dk_at dksX6_dayOnce_0 3 rfl rfl)
theorem dX6_dayOnce_4 : decode cX6_dayOnce 4 = .ok (.getfield 7, 3) := dk_180 0 7 (dk_at dksX6_dayOnce_0 4 rfl rfl)
theorem dX6_dayOnce_7 : decode cX6_dayOnce 7 = .ok (.iconst 1, 1) := dk_4 (dk_at dksX6_dayOnce_0 7 rfl rfl)
theorem dX6_dayOnce_8 : decode cX6_dayOnce 8 = .ok (.iaload, 1) := dk_46 (dk_at dksX6_dayOnce_0 8 rfl rfl)
theorem dX6_dayOnce_9 : decode cX6_dayOnce 9 = .ok (.if_icmp .ge 28, 3) := dk_162 0 28 (dk_at dksX6_dayOnce_0 9 rfl rfl)
theorem dX6_dayOnce_12 : decode cX6_dayOnce 12 = .ok (.aload_n 0, 1) := dk_42 (dk_at dksX6_dayOnce_0 12 rfl rfl)
theorem dX6_dayOnce_13 : decode cX6_dayOnce 13 = .ok (.iload_n 1, 1) := dk_27 (dk_at dksX6_dayOnce_0 13 rfl rfl)
theorem dX6_dayOnce_14 : decode cX6_dayOnce 14 = .ok (.aload_n 0, 1) := dk_42 (dk_at dksX6_dayOnce_0 14 rfl rfl)
theorem dX6_dayOnce_15 : decode cX6_dayOnce 15 = .ok (.getfield 7, 3) := dk_180 0 7 (dk_at dksX6_dayOnce_0 15 rfl rfl)
theorem dX6_dayOnce_18 : decode cX6_dayOnce 18 = .ok (.iconst 3, 1) := dk_6 (dk_at dksX6_dayOnce_0 18 rfl rfl)
theorem dX6_dayOnce_19 : decode cX6_dayOnce 19 = .ok (.iaload, 1) := dk_46 (dk_at dksX6_dayOnce_0 19 rfl rfl)
theorem dX6_dayOnce_20 : decode cX6_dayOnce 20 = .ok (.invokevirtual 157, 3) := dk_182 0 157 (dk_at dksX6_dayOnce_0 20 rfl rfl)
theorem dX6_dayOnce_23 : decode cX6_dayOnce 23 = .ok (.ifCond .eq 8, 3) := dk_153 0 8 (dk_at dksX6_dayOnce_1 0 rfl rfl)
theorem dX6_dayOnce_26 : decode cX6_dayOnce 26 = .ok (.aload_n 0, 1) := dk_42 (dk_at dksX6_dayOnce_1 3 rfl rfl)
theorem dX6_dayOnce_27 : decode cX6_dayOnce 27 = .ok (.iload_n 1, 1) := dk_27 (dk_at dksX6_dayOnce_1 4 rfl rfl)
theorem dX6_dayOnce_28 : decode cX6_dayOnce 28 = .ok (.invokevirtual 160, 3) := dk_182 0 160 (dk_at dksX6_dayOnce_1 5 rfl rfl)
theorem dX6_dayOnce_31 : decode cX6_dayOnce 31 = .ok (.iinc 1 1, 3) := dk_132 1 1 (dk_at dksX6_dayOnce_1 8 rfl rfl)
theorem dX6_dayOnce_34 : decode cX6_dayOnce 34 = .ok (.goto (-32), 3) := dk_167 255 224 (dk_at dksX6_dayOnce_1 11 rfl rfl)
theorem dX6_dayOnce_37 : decode cX6_dayOnce 37 = .ok (.aload_n 0, 1) := dk_42 (dk_at dksX6_dayOnce_1 14 rfl rfl)
theorem dX6_dayOnce_38 : decode cX6_dayOnce 38 = .ok (.getfield 7, 3) := dk_180 0 7 (dk_at dksX6_dayOnce_1 15 rfl rfl)
theorem dX6_dayOnce_41 : decode cX6_dayOnce 41 = .ok (.iconst 3, 1) := dk_6 (dk_at dksX6_dayOnce_1 18 rfl rfl)
theorem dX6_dayOnce_42 : decode cX6_dayOnce 42 = .ok (.iaload, 1) := dk_46 (dk_at dksX6_dayOnce_1 19 rfl rfl)
theorem dX6_dayOnce_43 : decode cX6_dayOnce 43 = .ok (.iconst 1, 1) := dk_4 (dk_at dksX6_dayOnce_1 20 rfl rfl)
theorem dX6_dayOnce_44 : decode cX6_dayOnce 44 = .ok (.iadd, 1) := dk_96 (dk_at dksX6_dayOnce_1 21 rfl rfl)
theorem dX6_dayOnce_45 : decode cX6_dayOnce 45 = .ok (.aload_n 0, 1) := dk_42 (dk_at dksX6_dayOnce_1 22 rfl rfl)
theorem dX6_dayOnce_46 : decode cX6_dayOnce 46 = .ok (.getfield 7, 3) := dk_180 0 7 (dk_at dksX6_dayOnce_2 0 rfl rfl)
theorem dX6_dayOnce_49 : decode cX6_dayOnce 49 = .ok (.bipush 6, 2) := dk_16 6 (dk_at dksX6_dayOnce_2 3 rfl rfl)
theorem dX6_dayOnce_51 : decode cX6_dayOnce 51 = .ok (.iaload, 1) := dk_46 (dk_at dksX6_dayOnce_2 5 rfl rfl)
theorem dX6_dayOnce_52 : decode cX6_dayOnce 52 = .ok (.irem, 1) := dk_112 (dk_at dksX6_dayOnce_2 6 rfl rfl)
theorem dX6_dayOnce_53 : decode cX6_dayOnce 53 = .ok (.ifCond .ne 7, 3) := dk_154 0 7 (dk_at dksX6_dayOnce_2 7 rfl rfl)
theorem dX6_dayOnce_56 : decode cX6_dayOnce 56 = .ok (.iconst 1, 1) := dk_4 (dk_at dksX6_dayOnce_2 10 rfl rfl)
theorem dX6_dayOnce_57 : decode cX6_dayOnce 57 = .ok (.goto 4, 3) := dk_167 0 4 (dk_at dksX6_dayOnce_2 11 rfl rfl)
theorem dX6_dayOnce_60 : decode cX6_dayOnce 60 = .ok (.iconst 0, 1) := dk_3 (dk_at dksX6_dayOnce_2 14 rfl rfl)
theorem dX6_dayOnce_61 : decode cX6_dayOnce 61 = .ok (.istore_n 1, 1) := dk_60 (dk_at dksX6_dayOnce_2 15 rfl rfl)
theorem dX6_dayOnce_62 : decode cX6_dayOnce 62 = .ok (.iconst 0, 1) := dk_3 (dk_at dksX6_dayOnce_2 16 rfl rfl)
theorem dX6_dayOnce_63 : decode cX6_dayOnce 63 = .ok (.istore_n 2, 1) := dk_61 (dk_at dksX6_dayOnce_2 17 rfl rfl)
theorem dX6_dayOnce_64 : decode cX6_dayOnce 64 = .ok (.iload_n 2, 1) := dk_28 (dk_at dksX6_dayOnce_2 18 rfl rfl)
theorem dX6_dayOnce_65 : decode cX6_dayOnce 65 = .ok (.aload_n 0, 1) := dk_42 (dk_at dksX6_dayOnce_2 19 rfl rfl)
theorem dX6_dayOnce_66 : decode cX6_dayOnce 66 = .ok (.invokevirtual 117, 3) := dk_182 0 117 (dk_at dksX6_dayOnce_2 20 rfl rfl)
theorem dX6_dayOnce_69 : decode cX6_dayOnce 69 = .ok (.if_icmp .ge 23, 3) := dk_162 0 23 (dk_at dksX6_dayOnce_3 0 rfl rfl)
theorem dX6_dayOnce_72 : decode cX6_dayOnce 72 = .ok (.aload_n 0, 1) := dk_42 (dk_at dksX6_dayOnce_3 3 rfl rfl)
theorem dX6_dayOnce_73 : decode cX6_dayOnce 73 = .ok (.iload_n 2, 1) := dk_28 (dk_at dksX6_dayOnce_3 4 rfl rfl)
theorem dX6_dayOnce_74 : decode cX6_dayOnce 74 = .ok (.invokevirtual 93, 3) := dk_182 0 93 (dk_at dksX6_dayOnce_3 5 rfl rfl)
theorem dX6_dayOnce_77 : decode cX6_dayOnce 77 = .ok (.ifCond .eq 9, 3) := dk_153 0 9 (dk_at dksX6_dayOnce_3 8 rfl rfl)
theorem dX6_dayOnce_80 : decode cX6_dayOnce 80 = .ok (.aload_n 0, 1) := dk_42 (dk_at dksX6_dayOnce_3 11 rfl rfl)
theorem dX6_dayOnce_81 : decode cX6_dayOnce 81 = .ok (.iload_n 2, 1) := dk_28 (dk_at dksX6_dayOnce_3 12 rfl rfl)
theorem dX6_dayOnce_82 : decode cX6_dayOnce 82 = .ok (.iload_n 1, 1) := dk_27 (dk_at dksX6_dayOnce_3 13 rfl rfl)
theorem dX6_dayOnce_83 : decode cX6_dayOnce 83 = .ok (.invokevirtual 163, 3) := dk_182 0 163 (dk_at dksX6_dayOnce_3 14 rfl rfl)
theorem dX6_dayOnce_86 : decode cX6_dayOnce 86 = .ok (.iinc 2 1, 3) := dk_132 2 1 (dk_at dksX6_dayOnce_3 17 rfl rfl)
theorem dX6_dayOnce_89 : decode cX6_dayOnce 89 = .ok (.goto (-25), 3) := dk_167 255 231 (dk_at dksX6_dayOnce_3 20 rfl rfl)
theorem dX6_dayOnce_92 : decode cX6_dayOnce 92 = .ok (.aload_n 0, 1) := dk_42 (dk_at dksX6_dayOnce_3 23 rfl rfl)
theorem dX6_dayOnce_93 : decode cX6_dayOnce 93 = .ok (.bipush 8, 2) := dk_16 8 (dk_at dksX6_dayOnce_4 0 rfl rfl)
theorem dX6_dayOnce_95 : decode cX6_dayOnce 95 = .ok (.aload_n 0, 1) := dk_42 (dk_at dksX6_dayOnce_4 2 rfl rfl)
theorem dX6_dayOnce_96 : decode cX6_dayOnce 96 = .ok (.aload_n 0, 1) := dk_42 (dk_at dksX6_dayOnce_4 3 rfl rfl)
theorem dX6_dayOnce_97 : decode cX6_dayOnce 97 = .ok (.getfield 7, 3) := dk_180 0 7 (dk_at dksX6_dayOnce_4 4 rfl rfl)
theorem dX6_dayOnce_100 : decode cX6_dayOnce 100 = .ok (.iconst 3, 1) := dk_6 (dk_at dksX6_dayOnce_4 7 rfl rfl)
theorem dX6_dayOnce_101 : decode cX6_dayOnce 101 = .ok (.iaload, 1) := dk_46 (dk_at dksX6_dayOnce_4 8 rfl rfl)
theorem dX6_dayOnce_102 : decode cX6_dayOnce 102 = .ok (.invokevirtual 100, 3) := dk_182 0 100 (dk_at dksX6_dayOnce_4 9 rfl rfl)
theorem dX6_dayOnce_105 : decode cX6_dayOnce 105 = .ok (.invokestatic 130, 3) := dk_184 0 130 (dk_at dksX6_dayOnce_4 12 rfl rfl)
theorem dX6_dayOnce_108 : decode cX6_dayOnce 108 = .ok (.invokevirtual 143, 3) := dk_182 0 143 (dk_at dksX6_dayOnce_4 15 rfl rfl)
theorem dX6_dayOnce_111 : decode cX6_dayOnce 111 = .ok (.aload_n 0, 1) := dk_42 (dk_at dksX6_dayOnce_4 18 rfl rfl)
theorem dX6_dayOnce_112 : decode cX6_dayOnce 112 = .ok (.getfield 7, 3) := dk_180 0 7 (dk_at dksX6_dayOnce_4 19 rfl rfl)
theorem dX6_dayOnce_115 : decode cX6_dayOnce 115 = .ok (.iconst 3, 1) := dk_6 (dk_at dksX6_dayOnce_4 22 rfl rfl)
theorem dX6_dayOnce_116 : decode cX6_dayOnce 116 = .ok (.dup2, 1) := dk_92 (dk_at dksX6_dayOnce_4 23 rfl rfl)
theorem dX6_dayOnce_117 : decode cX6_dayOnce 117 = .ok (.iaload, 1) := dk_46 (dk_at dksX6_dayOnce_5 0 rfl rfl)
theorem dX6_dayOnce_118 : decode cX6_dayOnce 118 = .ok (.iconst 1, 1) := dk_4 (dk_at dksX6_dayOnce_5 1 rfl rfl)
theorem dX6_dayOnce_119 : decode cX6_dayOnce 119 = .ok (.iadd, 1) := dk_96 (dk_at dksX6_dayOnce_5 2 rfl rfl)
theorem dX6_dayOnce_120 : decode cX6_dayOnce 120 = .ok (.iastore, 1) := dk_79 (dk_at dksX6_dayOnce_5 3 rfl rfl)
theorem dX6_dayOnce_121 : decode cX6_dayOnce 121 = .ok (.return_, 1) := dk_177 (dk_at dksX6_dayOnce_5 4 rfl rfl)
def dkwX6_walksOn_0 : List UInt8 := [28, 42, 27, 16, 10, 182, 0, 103, 112, 154, 0, 7, 4, 167, 0, 4, 3, 172]
abbrev dktX6_walksOn_0 : List UInt8 := dkwX6_walksOn_0 ++ []
theorem dksX6_walksOn_0 : cX6_walksOn.data.toList.drop 0 = dktX6_walksOn_0 := by decide +kernel
theorem dX6_walksOn_0 : decode cX6_walksOn 0 = .ok (.iload_n 2, 1) := dk_28 (dk_at dksX6_walksOn_0 0 rfl rfl)
theorem dX6_walksOn_1 : decode cX6_walksOn 1 = .ok (.aload_n 0, 1) := dk_42 (dk_at dksX6_walksOn_0 1 rfl rfl)
theorem dX6_walksOn_2 : decode cX6_walksOn 2 = .ok (.iload_n 1, 1) := dk_27 (dk_at dksX6_walksOn_0 2 rfl rfl)
theorem dX6_walksOn_3 : decode cX6_walksOn 3 = .ok (.bipush 10, 2) := dk_16 10 (dk_at dksX6_walksOn_0 3 rfl rfl)
theorem dX6_walksOn_5 : decode cX6_walksOn 5 = .ok (.invokevirtual 103, 3) := dk_182 0 103 (dk_at dksX6_walksOn_0 5 rfl rfl)
theorem dX6_walksOn_8 : decode cX6_walksOn 8 = .ok (.irem, 1) := dk_112 (dk_at dksX6_walksOn_0 8 rfl rfl)
theorem dX6_walksOn_9 : decode cX6_walksOn 9 = .ok (.ifCond .ne 7, 3) := dk_154 0 7 (dk_at dksX6_walksOn_0 9 rfl rfl)
theorem dX6_walksOn_12 : decode cX6_walksOn 12 = .ok (.iconst 1, 1) := dk_4 (dk_at dksX6_walksOn_0 12 rfl rfl)
theorem dX6_walksOn_13 : decode cX6_walksOn 13 = .ok (.goto 4, 3) := dk_167 0 4 (dk_at dksX6_walksOn_0 13 rfl rfl)
theorem dX6_walksOn_16 : decode cX6_walksOn 16 = .ok (.iconst 0, 1) := dk_3 (dk_at dksX6_walksOn_0 16 rfl rfl)
theorem dX6_walksOn_17 : decode cX6_walksOn 17 = .ok (.ireturn, 1) := dk_172 (dk_at dksX6_walksOn_0 17 rfl rfl)
def dkwX6_walks_4 : List UInt8 := [180, 0, 127, 4, 100, 182, 0, 143, 42, 16, 11, 28, 182, 0, 143, 177]
abbrev dktX6_walks_4 : List UInt8 := dkwX6_walks_4 ++ []
def dkwX6_walks_3 : List UInt8 := [182, 0, 103, 42, 180, 0, 127, 96, 4, 100, 182, 0, 154, 42, 3, 4, 182, 0, 143, 42, 4, 42]
abbrev dktX6_walks_3 : List UInt8 := dkwX6_walks_3 ++ dktX6_walks_4
def dkwX6_walks_2 : List UInt8 := [16, 11, 42, 27, 16, 11, 182, 0, 103, 4, 96, 182, 0, 154, 42, 27, 16, 12, 42, 27, 16, 12]
abbrev dktX6_walks_2 : List UInt8 := dkwX6_walks_2 ++ dktX6_walks_3
def dkwX6_walks_1 : List UInt8 := [182, 0, 93, 153, 0, 13, 42, 42, 180, 0, 28, 29, 46, 182, 0, 150, 132, 3, 1, 167, 255, 222, 42, 27]
abbrev dktX6_walks_1 : List UInt8 := dkwX6_walks_1 ++ dktX6_walks_2
def dkwX6_walks_0 : List UInt8 := [42, 27, 182, 0, 147, 61, 3, 62, 29, 42, 180, 0, 127, 162, 0, 32, 42, 42, 180, 0, 28, 29, 46]
abbrev dktX6_walks_0 : List UInt8 := dkwX6_walks_0 ++ dktX6_walks_1
theorem dksX6_walks_0 : cX6_walks.data.toList.drop 0 = dktX6_walks_0 := by decide +kernel
theorem dksX6_walks_1 : cX6_walks.data.toList.drop 23 = dktX6_walks_1 := dk_seg dksX6_walks_0 23 rfl rfl
theorem dksX6_walks_2 : cX6_walks.data.toList.drop 47 = dktX6_walks_2 := dk_seg dksX6_walks_1 24 rfl rfl
theorem dksX6_walks_3 : cX6_walks.data.toList.drop 69 = dktX6_walks_3 := dk_seg dksX6_walks_2 22 rfl rfl
theorem dksX6_walks_4 : cX6_walks.data.toList.drop 91 = dktX6_walks_4 := dk_seg dksX6_walks_3 22 rfl rfl
theorem dX6_walks_0 : decode cX6_walks 0 = .ok (.aload_n 0, 1) := dk_42 (dk_at dksX6_walks_0 0 rfl rfl)
theorem dX6_walks_1 : decode cX6_walks 1 = .ok (.iload_n 1, 1) := dk_27 (dk_at dksX6_walks_0 1 rfl rfl)
theorem dX6_walks_2 : decode cX6_walks 2 = .ok (.invokevirtual 147, 3) := dk_182 0 147 (dk_at dksX6_walks_0 2 rfl rfl)
theorem dX6_walks_5 : decode cX6_walks 5 = .ok (.istore_n 2, 1) := dk_61 (dk_at dksX6_walks_0 5 rfl rfl)
theorem dX6_walks_6 : decode cX6_walks 6 = .ok (.iconst 0, 1) := dk_3 (dk_at dksX6_walks_0 6 rfl rfl)
theorem dX6_walks_7 : decode cX6_walks 7 = .ok (.istore_n 3, 1) := dk_62 (dk_at dksX6_walks_0 7 rfl rfl)
theorem dX6_walks_8 : decode cX6_walks 8 = .ok (.iload_n 3, 1) := dk_29 (dk_at dksX6_walks_0 8 rfl rfl)
theorem dX6_walks_9 : decode cX6_walks 9 = .ok (.aload_n 0, 1) := dk_42 (dk_at dksX6_walks_0 9 rfl rfl)
theorem dX6_walks_10 : decode cX6_walks 10 = .ok (.getfield 127, 3) := dk_180 0 127 (dk_at dksX6_walks_0 10 rfl rfl)
theorem dX6_walks_13 : decode cX6_walks 13 = .ok (.if_icmp .ge 32, 3) := dk_162 0 32 (dk_at dksX6_walks_0 13 rfl rfl)
theorem dX6_walks_16 : decode cX6_walks 16 = .ok (.aload_n 0, 1) := dk_42 (dk_at dksX6_walks_0 16 rfl rfl)
theorem dX6_walks_17 : decode cX6_walks 17 = .ok (.aload_n 0, 1) := dk_42 (dk_at dksX6_walks_0 17 rfl rfl)
theorem dX6_walks_18 : decode cX6_walks 18 = .ok (.getfield 28, 3) := dk_180 0 28 (dk_at dksX6_walks_0 18 rfl rfl)
theorem dX6_walks_21 : decode cX6_walks 21 = .ok (.iload_n 3, 1) := dk_29 (dk_at dksX6_walks_0 21 rfl rfl)
theorem dX6_walks_22 : decode cX6_walks 22 = .ok (.iaload, 1) := dk_46 (dk_at dksX6_walks_0 22 rfl rfl)
theorem dX6_walks_23 : decode cX6_walks 23 = .ok (.invokevirtual 93, 3) := dk_182 0 93 (dk_at dksX6_walks_1 0 rfl rfl)
theorem dX6_walks_26 : decode cX6_walks 26 = .ok (.ifCond .eq 13, 3) := dk_153 0 13 (dk_at dksX6_walks_1 3 rfl rfl)
theorem dX6_walks_29 : decode cX6_walks 29 = .ok (.aload_n 0, 1) := dk_42 (dk_at dksX6_walks_1 6 rfl rfl)
theorem dX6_walks_30 : decode cX6_walks 30 = .ok (.aload_n 0, 1) := dk_42 (dk_at dksX6_walks_1 7 rfl rfl)
theorem dX6_walks_31 : decode cX6_walks 31 = .ok (.getfield 28, 3) := dk_180 0 28 (dk_at dksX6_walks_1 8 rfl rfl)
theorem dX6_walks_34 : decode cX6_walks 34 = .ok (.iload_n 3, 1) := dk_29 (dk_at dksX6_walks_1 11 rfl rfl)
theorem dX6_walks_35 : decode cX6_walks 35 = .ok (.iaload, 1) := dk_46 (dk_at dksX6_walks_1 12 rfl rfl)
theorem dX6_walks_36 : decode cX6_walks 36 = .ok (.invokevirtual 150, 3) := dk_182 0 150 (dk_at dksX6_walks_1 13 rfl rfl)
theorem dX6_walks_39 : decode cX6_walks 39 = .ok (.iinc 3 1, 3) := dk_132 3 1 (dk_at dksX6_walks_1 16 rfl rfl)
theorem dX6_walks_42 : decode cX6_walks 42 = .ok (.goto (-34), 3) := dk_167 255 222 (dk_at dksX6_walks_1 19 rfl rfl)
theorem dX6_walks_45 : decode cX6_walks 45 = .ok (.aload_n 0, 1) := dk_42 (dk_at dksX6_walks_1 22 rfl rfl)
theorem dX6_walks_46 : decode cX6_walks 46 = .ok (.iload_n 1, 1) := dk_27 (dk_at dksX6_walks_1 23 rfl rfl)
theorem dX6_walks_47 : decode cX6_walks 47 = .ok (.bipush 11, 2) := dk_16 11 (dk_at dksX6_walks_2 0 rfl rfl)
theorem dX6_walks_49 : decode cX6_walks 49 = .ok (.aload_n 0, 1) := dk_42 (dk_at dksX6_walks_2 2 rfl rfl)
theorem dX6_walks_50 : decode cX6_walks 50 = .ok (.iload_n 1, 1) := dk_27 (dk_at dksX6_walks_2 3 rfl rfl)
theorem dX6_walks_51 : decode cX6_walks 51 = .ok (.bipush 11, 2) := dk_16 11 (dk_at dksX6_walks_2 4 rfl rfl)
theorem dX6_walks_53 : decode cX6_walks 53 = .ok (.invokevirtual 103, 3) := dk_182 0 103 (dk_at dksX6_walks_2 6 rfl rfl)
theorem dX6_walks_56 : decode cX6_walks 56 = .ok (.iconst 1, 1) := dk_4 (dk_at dksX6_walks_2 9 rfl rfl)
theorem dX6_walks_57 : decode cX6_walks 57 = .ok (.iadd, 1) := dk_96 (dk_at dksX6_walks_2 10 rfl rfl)
theorem dX6_walks_58 : decode cX6_walks 58 = .ok (.invokevirtual 154, 3) := dk_182 0 154 (dk_at dksX6_walks_2 11 rfl rfl)
theorem dX6_walks_61 : decode cX6_walks 61 = .ok (.aload_n 0, 1) := dk_42 (dk_at dksX6_walks_2 14 rfl rfl)
theorem dX6_walks_62 : decode cX6_walks 62 = .ok (.iload_n 1, 1) := dk_27 (dk_at dksX6_walks_2 15 rfl rfl)
theorem dX6_walks_63 : decode cX6_walks 63 = .ok (.bipush 12, 2) := dk_16 12 (dk_at dksX6_walks_2 16 rfl rfl)
theorem dX6_walks_65 : decode cX6_walks 65 = .ok (.aload_n 0, 1) := dk_42 (dk_at dksX6_walks_2 18 rfl rfl)
theorem dX6_walks_66 : decode cX6_walks 66 = .ok (.iload_n 1, 1) := dk_27 (dk_at dksX6_walks_2 19 rfl rfl)
theorem dX6_walks_67 : decode cX6_walks 67 = .ok (.bipush 12, 2) := dk_16 12 (dk_at dksX6_walks_2 20 rfl rfl)
theorem dX6_walks_69 : decode cX6_walks 69 = .ok (.invokevirtual 103, 3) := dk_182 0 103 (dk_at dksX6_walks_3 0 rfl rfl)
theorem dX6_walks_72 : decode cX6_walks 72 = .ok (.aload_n 0, 1) := dk_42 (dk_at dksX6_walks_3 3 rfl rfl)
theorem dX6_walks_73 : decode cX6_walks 73 = .ok (.getfield 127, 3) := dk_180 0 127 (dk_at dksX6_walks_3 4 rfl rfl)
theorem dX6_walks_76 : decode cX6_walks 76 = .ok (.iadd, 1) := dk_96 (dk_at dksX6_walks_3 7 rfl rfl)
theorem dX6_walks_77 : decode cX6_walks 77 = .ok (.iconst 1, 1) := dk_4 (dk_at dksX6_walks_3 8 rfl rfl)
theorem dX6_walks_78 : decode cX6_walks 78 = .ok (.isub, 1) := dk_100 (dk_at dksX6_walks_3 9 rfl rfl)
theorem dX6_walks_79 : decode cX6_walks 79 = .ok (.invokevirtual 154, 3) := dk_182 0 154 (dk_at dksX6_walks_3 10 rfl rfl)
theorem dX6_walks_82 : decode cX6_walks 82 = .ok (.aload_n 0, 1) := dk_42 (dk_at dksX6_walks_3 13 rfl rfl)
theorem dX6_walks_83 : decode cX6_walks 83 = .ok (.iconst 0, 1) := dk_3 (dk_at dksX6_walks_3 14 rfl rfl)
theorem dX6_walks_84 : decode cX6_walks 84 = .ok (.iconst 1, 1) := dk_4 (dk_at dksX6_walks_3 15 rfl rfl)
theorem dX6_walks_85 : decode cX6_walks 85 = .ok (.invokevirtual 143, 3) := dk_182 0 143 (dk_at dksX6_walks_3 16 rfl rfl)
theorem dX6_walks_88 : decode cX6_walks 88 = .ok (.aload_n 0, 1) := dk_42 (dk_at dksX6_walks_3 19 rfl rfl)
theorem dX6_walks_89 : decode cX6_walks 89 = .ok (.iconst 1, 1) := dk_4 (dk_at dksX6_walks_3 20 rfl rfl)
theorem dX6_walks_90 : decode cX6_walks 90 = .ok (.aload_n 0, 1) := dk_42 (dk_at dksX6_walks_3 21 rfl rfl)
theorem dX6_walks_91 : decode cX6_walks 91 = .ok (.getfield 127, 3) := dk_180 0 127 (dk_at dksX6_walks_4 0 rfl rfl)
theorem dX6_walks_94 : decode cX6_walks 94 = .ok (.iconst 1, 1) := dk_4 (dk_at dksX6_walks_4 3 rfl rfl)
theorem dX6_walks_95 : decode cX6_walks 95 = .ok (.isub, 1) := dk_100 (dk_at dksX6_walks_4 4 rfl rfl)
theorem dX6_walks_96 : decode cX6_walks 96 = .ok (.invokevirtual 143, 3) := dk_182 0 143 (dk_at dksX6_walks_4 5 rfl rfl)
theorem dX6_walks_99 : decode cX6_walks 99 = .ok (.aload_n 0, 1) := dk_42 (dk_at dksX6_walks_4 8 rfl rfl)
theorem dX6_walks_100 : decode cX6_walks 100 = .ok (.bipush 11, 2) := dk_16 11 (dk_at dksX6_walks_4 9 rfl rfl)
theorem dX6_walks_102 : decode cX6_walks 102 = .ok (.iload_n 2, 1) := dk_28 (dk_at dksX6_walks_4 11 rfl rfl)
theorem dX6_walks_103 : decode cX6_walks 103 = .ok (.invokevirtual 143, 3) := dk_182 0 143 (dk_at dksX6_walks_4 12 rfl rfl)
theorem dX6_walks_106 : decode cX6_walks 106 = .ok (.return_, 1) := dk_177 (dk_at dksX6_walks_4 15 rfl rfl)
def dkwX6_laysWay_4 : List UInt8 := [180, 0, 28, 42, 180, 0, 127, 29, 79, 42, 89, 180, 0, 127, 4, 96, 181, 0, 127, 167, 255, 189, 28, 172]
abbrev dktX6_laysWay_4 : List UInt8 := dkwX6_laysWay_4 ++ []
def dkwX6_laysWay_3 : List UInt8 := [180, 0, 25, 29, 46, 159, 0, 9, 132, 5, 1, 167, 255, 235, 42, 29, 21, 5, 182, 0, 106, 62, 42]
abbrev dktX6_laysWay_3 : List UInt8 := dkwX6_laysWay_3 ++ dktX6_laysWay_4
def dkwX6_laysWay_2 : List UInt8 := [159, 0, 67, 28, 18, 109, 162, 0, 61, 3, 54, 5, 42, 27, 29, 21, 5, 3, 182, 0, 120, 42]
abbrev dktX6_laysWay_2 : List UInt8 := dkwX6_laysWay_2 ++ dktX6_laysWay_3
def dkwX6_laysWay_1 : List UInt8 := [182, 0, 103, 182, 0, 114, 54, 4, 42, 180, 0, 28, 3, 29, 79, 42, 4, 181, 0, 127, 29, 21, 4]
abbrev dktX6_laysWay_1 : List UInt8 := dkwX6_laysWay_1 ++ dktX6_laysWay_2
def dkwX6_laysWay_0 : List UInt8 := [42, 27, 3, 182, 0, 124, 61, 42, 42, 27, 16, 7, 182, 0, 103, 182, 0, 114, 62, 42, 42, 27, 16, 8]
abbrev dktX6_laysWay_0 : List UInt8 := dkwX6_laysWay_0 ++ dktX6_laysWay_1
theorem dksX6_laysWay_0 : cX6_laysWay.data.toList.drop 0 = dktX6_laysWay_0 := by decide +kernel
theorem dksX6_laysWay_1 : cX6_laysWay.data.toList.drop 24 = dktX6_laysWay_1 := dk_seg dksX6_laysWay_0 24 rfl rfl
theorem dksX6_laysWay_2 : cX6_laysWay.data.toList.drop 47 = dktX6_laysWay_2 := dk_seg dksX6_laysWay_1 23 rfl rfl
theorem dksX6_laysWay_3 : cX6_laysWay.data.toList.drop 69 = dktX6_laysWay_3 := dk_seg dksX6_laysWay_2 22 rfl rfl
theorem dksX6_laysWay_4 : cX6_laysWay.data.toList.drop 92 = dktX6_laysWay_4 := dk_seg dksX6_laysWay_3 23 rfl rfl
theorem dX6_laysWay_0 : decode cX6_laysWay 0 = .ok (.aload_n 0, 1) := dk_42 (dk_at dksX6_laysWay_0 0 rfl rfl)
theorem dX6_laysWay_1 : decode cX6_laysWay 1 = .ok (.iload_n 1, 1) := dk_27 (dk_at dksX6_laysWay_0 1 rfl rfl)
theorem dX6_laysWay_2 : decode cX6_laysWay 2 = .ok (.iconst 0, 1) := dk_3 (dk_at dksX6_laysWay_0 2 rfl rfl)
theorem dX6_laysWay_3 : decode cX6_laysWay 3 = .ok (.invokevirtual 124, 3) := dk_182 0 124 (dk_at dksX6_laysWay_0 3 rfl rfl)
theorem dX6_laysWay_6 : decode cX6_laysWay 6 = .ok (.istore_n 2, 1) := dk_61 (dk_at dksX6_laysWay_0 6 rfl rfl)
theorem dX6_laysWay_7 : decode cX6_laysWay 7 = .ok (.aload_n 0, 1) := dk_42 (dk_at dksX6_laysWay_0 7 rfl rfl)
theorem dX6_laysWay_8 : decode cX6_laysWay 8 = .ok (.aload_n 0, 1) := dk_42 (dk_at dksX6_laysWay_0 8 rfl rfl)
theorem dX6_laysWay_9 : decode cX6_laysWay 9 = .ok (.iload_n 1, 1) := dk_27 (dk_at dksX6_laysWay_0 9 rfl rfl)
theorem dX6_laysWay_10 : decode cX6_laysWay 10 = .ok (.bipush 7, 2) := dk_16 7 (dk_at dksX6_laysWay_0 10 rfl rfl)
theorem dX6_laysWay_12 : decode cX6_laysWay 12 = .ok (.invokevirtual 103, 3) := dk_182 0 103 (dk_at dksX6_laysWay_0 12 rfl rfl)
theorem dX6_laysWay_15 : decode cX6_laysWay 15 = .ok (.invokevirtual 114, 3) := dk_182 0 114 (dk_at dksX6_laysWay_0 15 rfl rfl)
theorem dX6_laysWay_18 : decode cX6_laysWay 18 = .ok (.istore_n 3, 1) := dk_62 (dk_at dksX6_laysWay_0 18 rfl rfl)
theorem dX6_laysWay_19 : decode cX6_laysWay 19 = .ok (.aload_n 0, 1) := dk_42 (dk_at dksX6_laysWay_0 19 rfl rfl)
theorem dX6_laysWay_20 : decode cX6_laysWay 20 = .ok (.aload_n 0, 1) := dk_42 (dk_at dksX6_laysWay_0 20 rfl rfl)
theorem dX6_laysWay_21 : decode cX6_laysWay 21 = .ok (.iload_n 1, 1) := dk_27 (dk_at dksX6_laysWay_0 21 rfl rfl)
theorem dX6_laysWay_22 : decode cX6_laysWay 22 = .ok (.bipush 8, 2) := dk_16 8 (dk_at dksX6_laysWay_0 22 rfl rfl)
theorem dX6_laysWay_24 : decode cX6_laysWay 24 = .ok (.invokevirtual 103, 3) := dk_182 0 103 (dk_at dksX6_laysWay_1 0 rfl rfl)
theorem dX6_laysWay_27 : decode cX6_laysWay 27 = .ok (.invokevirtual 114, 3) := dk_182 0 114 (dk_at dksX6_laysWay_1 3 rfl rfl)
theorem dX6_laysWay_30 : decode cX6_laysWay 30 = .ok (.istore 4, 2) := dk_54 4 (dk_at dksX6_laysWay_1 6 rfl rfl)
theorem dX6_laysWay_32 : decode cX6_laysWay 32 = .ok (.aload_n 0, 1) := dk_42 (dk_at dksX6_laysWay_1 8 rfl rfl)
theorem dX6_laysWay_33 : decode cX6_laysWay 33 = .ok (.getfield 28, 3) := dk_180 0 28 (dk_at dksX6_laysWay_1 9 rfl rfl)
theorem dX6_laysWay_36 : decode cX6_laysWay 36 = .ok (.iconst 0, 1) := dk_3 (dk_at dksX6_laysWay_1 12 rfl rfl)
theorem dX6_laysWay_37 : decode cX6_laysWay 37 = .ok (.iload_n 3, 1) := dk_29 (dk_at dksX6_laysWay_1 13 rfl rfl)
theorem dX6_laysWay_38 : decode cX6_laysWay 38 = .ok (.iastore, 1) := dk_79 (dk_at dksX6_laysWay_1 14 rfl rfl)
theorem dX6_laysWay_39 : decode cX6_laysWay 39 = .ok (.aload_n 0, 1) := dk_42 (dk_at dksX6_laysWay_1 15 rfl rfl)
theorem dX6_laysWay_40 : decode cX6_laysWay 40 = .ok (.iconst 1, 1) := dk_4 (dk_at dksX6_laysWay_1 16 rfl rfl)
theorem dX6_laysWay_41 : decode cX6_laysWay 41 = .ok (.putfield 127, 3) := dk_181 0 127 (dk_at dksX6_laysWay_1 17 rfl rfl)
theorem dX6_laysWay_44 : decode cX6_laysWay 44 = .ok (.iload_n 3, 1) := dk_29 (dk_at dksX6_laysWay_1 20 rfl rfl)
theorem dX6_laysWay_45 : decode cX6_laysWay 45 = .ok (.iload 4, 2) := dk_21 4 (dk_at dksX6_laysWay_1 21 rfl rfl)
theorem dX6_laysWay_47 : decode cX6_laysWay 47 = .ok (.if_icmp .eq 67, 3) := dk_159 0 67 (dk_at dksX6_laysWay_2 0 rfl rfl)
theorem dX6_laysWay_50 : decode cX6_laysWay 50 = .ok (.iload_n 2, 1) := dk_28 (dk_at dksX6_laysWay_2 3 rfl rfl)
theorem dX6_laysWay_51 : decode cX6_laysWay 51 = .ok (.ldc 109, 2) := dk_18 109 (dk_at dksX6_laysWay_2 4 rfl rfl)
theorem dX6_laysWay_53 : decode cX6_laysWay 53 = .ok (.if_icmp .ge 61, 3) := dk_162 0 61 (dk_at dksX6_laysWay_2 6 rfl rfl)
theorem dX6_laysWay_56 : decode cX6_laysWay 56 = .ok (.iconst 0, 1) := dk_3 (dk_at dksX6_laysWay_2 9 rfl rfl)
theorem dX6_laysWay_57 : decode cX6_laysWay 57 = .ok (.istore 5, 2) := dk_54 5 (dk_at dksX6_laysWay_2 10 rfl rfl)
theorem dX6_laysWay_59 : decode cX6_laysWay 59 = .ok (.aload_n 0, 1) := dk_42 (dk_at dksX6_laysWay_2 12 rfl rfl)
theorem dX6_laysWay_60 : decode cX6_laysWay 60 = .ok (.iload_n 1, 1) := dk_27 (dk_at dksX6_laysWay_2 13 rfl rfl)
theorem dX6_laysWay_61 : decode cX6_laysWay 61 = .ok (.iload_n 3, 1) := dk_29 (dk_at dksX6_laysWay_2 14 rfl rfl)
theorem dX6_laysWay_62 : decode cX6_laysWay 62 = .ok (.iload 5, 2) := dk_21 5 (dk_at dksX6_laysWay_2 15 rfl rfl)
theorem dX6_laysWay_64 : decode cX6_laysWay 64 = .ok (.iconst 0, 1) := dk_3 (dk_at dksX6_laysWay_2 17 rfl rfl)
theorem dX6_laysWay_65 : decode cX6_laysWay 65 = .ok (.invokevirtual 120, 3) := dk_182 0 120 (dk_at dksX6_laysWay_2 18 rfl rfl)
theorem dX6_laysWay_68 : decode cX6_laysWay 68 = .ok (.aload_n 0, 1) := dk_42 (dk_at dksX6_laysWay_2 21 rfl rfl)
theorem dX6_laysWay_69 : decode cX6_laysWay 69 = .ok (.getfield 25, 3) := dk_180 0 25 (dk_at dksX6_laysWay_3 0 rfl rfl)
theorem dX6_laysWay_72 : decode cX6_laysWay 72 = .ok (.iload_n 3, 1) := dk_29 (dk_at dksX6_laysWay_3 3 rfl rfl)
theorem dX6_laysWay_73 : decode cX6_laysWay 73 = .ok (.iaload, 1) := dk_46 (dk_at dksX6_laysWay_3 4 rfl rfl)
theorem dX6_laysWay_74 : decode cX6_laysWay 74 = .ok (.if_icmp .eq 9, 3) := dk_159 0 9 (dk_at dksX6_laysWay_3 5 rfl rfl)
theorem dX6_laysWay_77 : decode cX6_laysWay 77 = .ok (.iinc 5 1, 3) := dk_132 5 1 (dk_at dksX6_laysWay_3 8 rfl rfl)
theorem dX6_laysWay_80 : decode cX6_laysWay 80 = .ok (.goto (-21), 3) := dk_167 255 235 (dk_at dksX6_laysWay_3 11 rfl rfl)
theorem dX6_laysWay_83 : decode cX6_laysWay 83 = .ok (.aload_n 0, 1) := dk_42 (dk_at dksX6_laysWay_3 14 rfl rfl)
theorem dX6_laysWay_84 : decode cX6_laysWay 84 = .ok (.iload_n 3, 1) := dk_29 (dk_at dksX6_laysWay_3 15 rfl rfl)
theorem dX6_laysWay_85 : decode cX6_laysWay 85 = .ok (.iload 5, 2) := dk_21 5 (dk_at dksX6_laysWay_3 16 rfl rfl)
theorem dX6_laysWay_87 : decode cX6_laysWay 87 = .ok (.invokevirtual 106, 3) := dk_182 0 106 (dk_at dksX6_laysWay_3 18 rfl rfl)
theorem dX6_laysWay_90 : decode cX6_laysWay 90 = .ok (.istore_n 3, 1) := dk_62 (dk_at dksX6_laysWay_3 21 rfl rfl)
theorem dX6_laysWay_91 : decode cX6_laysWay 91 = .ok (.aload_n 0, 1) := dk_42 (dk_at dksX6_laysWay_3 22 rfl rfl)
theorem dX6_laysWay_92 : decode cX6_laysWay 92 = .ok (.getfield 28, 3) := dk_180 0 28 (dk_at dksX6_laysWay_4 0 rfl rfl)
theorem dX6_laysWay_95 : decode cX6_laysWay 95 = .ok (.aload_n 0, 1) := dk_42 (dk_at dksX6_laysWay_4 3 rfl rfl)
theorem dX6_laysWay_96 : decode cX6_laysWay 96 = .ok (.getfield 127, 3) := dk_180 0 127 (dk_at dksX6_laysWay_4 4 rfl rfl)
theorem dX6_laysWay_99 : decode cX6_laysWay 99 = .ok (.iload_n 3, 1) := dk_29 (dk_at dksX6_laysWay_4 7 rfl rfl)
theorem dX6_laysWay_100 : decode cX6_laysWay 100 = .ok (.iastore, 1) := dk_79 (dk_at dksX6_laysWay_4 8 rfl rfl)
theorem dX6_laysWay_101 : decode cX6_laysWay 101 = .ok (.aload_n 0, 1) := dk_42 (dk_at dksX6_laysWay_4 9 rfl rfl)
theorem dX6_laysWay_102 : decode cX6_laysWay 102 = .ok (.dup, 1) := dk_89 (dk_at dksX6_laysWay_4 10 rfl rfl)
theorem dX6_laysWay_103 : decode cX6_laysWay 103 = .ok (.getfield 127, 3) := dk_180 0 127 (dk_at dksX6_laysWay_4 11 rfl rfl)
theorem dX6_laysWay_106 : decode cX6_laysWay 106 = .ok (.iconst 1, 1) := dk_4 (dk_at dksX6_laysWay_4 14 rfl rfl)
theorem dX6_laysWay_107 : decode cX6_laysWay 107 = .ok (.iadd, 1) := dk_96 (dk_at dksX6_laysWay_4 15 rfl rfl)
theorem dX6_laysWay_108 : decode cX6_laysWay 108 = .ok (.putfield 127, 3) := dk_181 0 127 (dk_at dksX6_laysWay_4 16 rfl rfl)
theorem dX6_laysWay_111 : decode cX6_laysWay 111 = .ok (.goto (-67), 3) := dk_167 255 189 (dk_at dksX6_laysWay_4 19 rfl rfl)
theorem dX6_laysWay_114 : decode cX6_laysWay 114 = .ok (.iload_n 2, 1) := dk_28 (dk_at dksX6_laysWay_4 22 rfl rfl)
theorem dX6_laysWay_115 : decode cX6_laysWay 115 = .ok (.ireturn, 1) := dk_172 (dk_at dksX6_laysWay_4 23 rfl rfl)
def dkwX6_treads_3 : List UInt8 := [4, 182, 0, 143, 42, 6, 28, 182, 0, 143, 177]
abbrev dktX6_treads_3 : List UInt8 := dkwX6_treads_3 ++ []
def dkwX6_treads_2 : List UInt8 := [182, 0, 86, 4, 96, 182, 0, 139, 42, 27, 7, 42, 180, 0, 7, 6, 46, 4, 96, 182, 0, 139, 42, 5]
abbrev dktX6_treads_2 : List UInt8 := dkwX6_treads_2 ++ dktX6_treads_3
def dkwX6_treads_1 : List UInt8 := [184, 0, 134, 61, 42, 27, 4, 42, 27, 4, 182, 0, 86, 28, 100, 182, 0, 139, 42, 27, 6, 42, 27, 6]
abbrev dktX6_treads_1 : List UInt8 := dkwX6_treads_1 ++ dktX6_treads_2
def dkwX6_treads_0 : List UInt8 := [42, 27, 4, 182, 0, 86, 42, 42, 180, 0, 7, 6, 46, 182, 0, 100, 153, 0, 7, 5, 167, 0, 4, 4]
abbrev dktX6_treads_0 : List UInt8 := dkwX6_treads_0 ++ dktX6_treads_1
theorem dksX6_treads_0 : cX6_treads.data.toList.drop 0 = dktX6_treads_0 := by decide +kernel
theorem dksX6_treads_1 : cX6_treads.data.toList.drop 24 = dktX6_treads_1 := dk_seg dksX6_treads_0 24 rfl rfl
theorem dksX6_treads_2 : cX6_treads.data.toList.drop 48 = dktX6_treads_2 := dk_seg dksX6_treads_1 24 rfl rfl
theorem dksX6_treads_3 : cX6_treads.data.toList.drop 72 = dktX6_treads_3 := dk_seg dksX6_treads_2 24 rfl rfl
theorem dX6_treads_0 : decode cX6_treads 0 = .ok (.aload_n 0, 1) := dk_42 (dk_at dksX6_treads_0 0 rfl rfl)
theorem dX6_treads_1 : decode cX6_treads 1 = .ok (.iload_n 1, 1) := dk_27 (dk_at dksX6_treads_0 1 rfl rfl)
theorem dX6_treads_2 : decode cX6_treads 2 = .ok (.iconst 1, 1) := dk_4 (dk_at dksX6_treads_0 2 rfl rfl)
theorem dX6_treads_3 : decode cX6_treads 3 = .ok (.invokevirtual 86, 3) := dk_182 0 86 (dk_at dksX6_treads_0 3 rfl rfl)
theorem dX6_treads_6 : decode cX6_treads 6 = .ok (.aload_n 0, 1) := dk_42 (dk_at dksX6_treads_0 6 rfl rfl)
theorem dX6_treads_7 : decode cX6_treads 7 = .ok (.aload_n 0, 1) := dk_42 (dk_at dksX6_treads_0 7 rfl rfl)
theorem dX6_treads_8 : decode cX6_treads 8 = .ok (.getfield 7, 3) := dk_180 0 7 (dk_at dksX6_treads_0 8 rfl rfl)
theorem dX6_treads_11 : decode cX6_treads 11 = .ok (.iconst 3, 1) := dk_6 (dk_at dksX6_treads_0 11 rfl rfl)
theorem dX6_treads_12 : decode cX6_treads 12 = .ok (.iaload, 1) := dk_46 (dk_at dksX6_treads_0 12 rfl rfl)
theorem dX6_treads_13 : decode cX6_treads 13 = .ok (.invokevirtual 100, 3) := dk_182 0 100 (dk_at dksX6_treads_0 13 rfl rfl)
theorem dX6_treads_16 : decode cX6_treads 16 = .ok (.ifCond .eq 7, 3) := dk_153 0 7 (dk_at dksX6_treads_0 16 rfl rfl)
theorem dX6_treads_19 : decode cX6_treads 19 = .ok (.iconst 2, 1) := dk_5 (dk_at dksX6_treads_0 19 rfl rfl)
theorem dX6_treads_20 : decode cX6_treads 20 = .ok (.goto 4, 3) := dk_167 0 4 (dk_at dksX6_treads_0 20 rfl rfl)
theorem dX6_treads_23 : decode cX6_treads 23 = .ok (.iconst 1, 1) := dk_4 (dk_at dksX6_treads_0 23 rfl rfl)
theorem dX6_treads_24 : decode cX6_treads 24 = .ok (.invokestatic 134, 3) := dk_184 0 134 (dk_at dksX6_treads_1 0 rfl rfl)
theorem dX6_treads_27 : decode cX6_treads 27 = .ok (.istore_n 2, 1) := dk_61 (dk_at dksX6_treads_1 3 rfl rfl)
theorem dX6_treads_28 : decode cX6_treads 28 = .ok (.aload_n 0, 1) := dk_42 (dk_at dksX6_treads_1 4 rfl rfl)
theorem dX6_treads_29 : decode cX6_treads 29 = .ok (.iload_n 1, 1) := dk_27 (dk_at dksX6_treads_1 5 rfl rfl)
theorem dX6_treads_30 : decode cX6_treads 30 = .ok (.iconst 1, 1) := dk_4 (dk_at dksX6_treads_1 6 rfl rfl)
theorem dX6_treads_31 : decode cX6_treads 31 = .ok (.aload_n 0, 1) := dk_42 (dk_at dksX6_treads_1 7 rfl rfl)
theorem dX6_treads_32 : decode cX6_treads 32 = .ok (.iload_n 1, 1) := dk_27 (dk_at dksX6_treads_1 8 rfl rfl)
theorem dX6_treads_33 : decode cX6_treads 33 = .ok (.iconst 1, 1) := dk_4 (dk_at dksX6_treads_1 9 rfl rfl)
theorem dX6_treads_34 : decode cX6_treads 34 = .ok (.invokevirtual 86, 3) := dk_182 0 86 (dk_at dksX6_treads_1 10 rfl rfl)
theorem dX6_treads_37 : decode cX6_treads 37 = .ok (.iload_n 2, 1) := dk_28 (dk_at dksX6_treads_1 13 rfl rfl)
theorem dX6_treads_38 : decode cX6_treads 38 = .ok (.isub, 1) := dk_100 (dk_at dksX6_treads_1 14 rfl rfl)
theorem dX6_treads_39 : decode cX6_treads 39 = .ok (.invokevirtual 139, 3) := dk_182 0 139 (dk_at dksX6_treads_1 15 rfl rfl)
theorem dX6_treads_42 : decode cX6_treads 42 = .ok (.aload_n 0, 1) := dk_42 (dk_at dksX6_treads_1 18 rfl rfl)
theorem dX6_treads_43 : decode cX6_treads 43 = .ok (.iload_n 1, 1) := dk_27 (dk_at dksX6_treads_1 19 rfl rfl)
theorem dX6_treads_44 : decode cX6_treads 44 = .ok (.iconst 3, 1) := dk_6 (dk_at dksX6_treads_1 20 rfl rfl)
theorem dX6_treads_45 : decode cX6_treads 45 = .ok (.aload_n 0, 1) := dk_42 (dk_at dksX6_treads_1 21 rfl rfl)
theorem dX6_treads_46 : decode cX6_treads 46 = .ok (.iload_n 1, 1) := dk_27 (dk_at dksX6_treads_1 22 rfl rfl)
theorem dX6_treads_47 : decode cX6_treads 47 = .ok (.iconst 3, 1) := dk_6 (dk_at dksX6_treads_1 23 rfl rfl)
theorem dX6_treads_48 : decode cX6_treads 48 = .ok (.invokevirtual 86, 3) := dk_182 0 86 (dk_at dksX6_treads_2 0 rfl rfl)
theorem dX6_treads_51 : decode cX6_treads 51 = .ok (.iconst 1, 1) := dk_4 (dk_at dksX6_treads_2 3 rfl rfl)
theorem dX6_treads_52 : decode cX6_treads 52 = .ok (.iadd, 1) := dk_96 (dk_at dksX6_treads_2 4 rfl rfl)
theorem dX6_treads_53 : decode cX6_treads 53 = .ok (.invokevirtual 139, 3) := dk_182 0 139 (dk_at dksX6_treads_2 5 rfl rfl)
theorem dX6_treads_56 : decode cX6_treads 56 = .ok (.aload_n 0, 1) := dk_42 (dk_at dksX6_treads_2 8 rfl rfl)
theorem dX6_treads_57 : decode cX6_treads 57 = .ok (.iload_n 1, 1) := dk_27 (dk_at dksX6_treads_2 9 rfl rfl)
theorem dX6_treads_58 : decode cX6_treads 58 = .ok (.iconst 4, 1) := dk_7 (dk_at dksX6_treads_2 10 rfl rfl)
theorem dX6_treads_59 : decode cX6_treads 59 = .ok (.aload_n 0, 1) := dk_42 (dk_at dksX6_treads_2 11 rfl rfl)
theorem dX6_treads_60 : decode cX6_treads 60 = .ok (.getfield 7, 3) := dk_180 0 7 (dk_at dksX6_treads_2 12 rfl rfl)
theorem dX6_treads_63 : decode cX6_treads 63 = .ok (.iconst 3, 1) := dk_6 (dk_at dksX6_treads_2 15 rfl rfl)
theorem dX6_treads_64 : decode cX6_treads 64 = .ok (.iaload, 1) := dk_46 (dk_at dksX6_treads_2 16 rfl rfl)
theorem dX6_treads_65 : decode cX6_treads 65 = .ok (.iconst 1, 1) := dk_4 (dk_at dksX6_treads_2 17 rfl rfl)
theorem dX6_treads_66 : decode cX6_treads 66 = .ok (.iadd, 1) := dk_96 (dk_at dksX6_treads_2 18 rfl rfl)
theorem dX6_treads_67 : decode cX6_treads 67 = .ok (.invokevirtual 139, 3) := dk_182 0 139 (dk_at dksX6_treads_2 19 rfl rfl)
theorem dX6_treads_70 : decode cX6_treads 70 = .ok (.aload_n 0, 1) := dk_42 (dk_at dksX6_treads_2 22 rfl rfl)
theorem dX6_treads_71 : decode cX6_treads 71 = .ok (.iconst 2, 1) := dk_5 (dk_at dksX6_treads_2 23 rfl rfl)
theorem dX6_treads_72 : decode cX6_treads 72 = .ok (.iconst 1, 1) := dk_4 (dk_at dksX6_treads_3 0 rfl rfl)
theorem dX6_treads_73 : decode cX6_treads 73 = .ok (.invokevirtual 143, 3) := dk_182 0 143 (dk_at dksX6_treads_3 1 rfl rfl)
theorem dX6_treads_76 : decode cX6_treads 76 = .ok (.aload_n 0, 1) := dk_42 (dk_at dksX6_treads_3 4 rfl rfl)
theorem dX6_treads_77 : decode cX6_treads 77 = .ok (.iconst 3, 1) := dk_6 (dk_at dksX6_treads_3 5 rfl rfl)
theorem dX6_treads_78 : decode cX6_treads 78 = .ok (.iload_n 2, 1) := dk_28 (dk_at dksX6_treads_3 6 rfl rfl)
theorem dX6_treads_79 : decode cX6_treads 79 = .ok (.invokevirtual 143, 3) := dk_182 0 143 (dk_at dksX6_treads_3 7 rfl rfl)
theorem dX6_treads_82 : decode cX6_treads 82 = .ok (.return_, 1) := dk_177 (dk_at dksX6_treads_3 10 rfl rfl)
def dkwX6_grows_0 : List UInt8 := [42, 180, 0, 7, 16, 9, 27, 96, 92, 46, 28, 96, 79, 177]
abbrev dktX6_grows_0 : List UInt8 := dkwX6_grows_0 ++ []
theorem dksX6_grows_0 : cX6_grows.data.toList.drop 0 = dktX6_grows_0 := by decide +kernel
theorem dX6_grows_0 : decode cX6_grows 0 = .ok (.aload_n 0, 1) := dk_42 (dk_at dksX6_grows_0 0 rfl rfl)
theorem dX6_grows_1 : decode cX6_grows 1 = .ok (.getfield 7, 3) := dk_180 0 7 (dk_at dksX6_grows_0 1 rfl rfl)
theorem dX6_grows_4 : decode cX6_grows 4 = .ok (.bipush 9, 2) := dk_16 9 (dk_at dksX6_grows_0 4 rfl rfl)
theorem dX6_grows_6 : decode cX6_grows 6 = .ok (.iload_n 1, 1) := dk_27 (dk_at dksX6_grows_0 6 rfl rfl)
theorem dX6_grows_7 : decode cX6_grows 7 = .ok (.iadd, 1) := dk_96 (dk_at dksX6_grows_0 7 rfl rfl)
theorem dX6_grows_8 : decode cX6_grows 8 = .ok (.dup2, 1) := dk_92 (dk_at dksX6_grows_0 8 rfl rfl)
theorem dX6_grows_9 : decode cX6_grows 9 = .ok (.iaload, 1) := dk_46 (dk_at dksX6_grows_0 9 rfl rfl)
theorem dX6_grows_10 : decode cX6_grows 10 = .ok (.iload_n 2, 1) := dk_28 (dk_at dksX6_grows_0 10 rfl rfl)
theorem dX6_grows_11 : decode cX6_grows 11 = .ok (.iadd, 1) := dk_96 (dk_at dksX6_grows_0 11 rfl rfl)
theorem dX6_grows_12 : decode cX6_grows 12 = .ok (.iastore, 1) := dk_79 (dk_at dksX6_grows_0 12 rfl rfl)
theorem dX6_grows_13 : decode cX6_grows 13 = .ok (.return_, 1) := dk_177 (dk_at dksX6_grows_0 13 rfl rfl)
def dkwX6_growsCell_3 : List UInt8 := [29, 153, 0, 7, 8, 167, 0, 4, 7, 4, 182, 0, 143, 177]
abbrev dktX6_growsCell_3 : List UInt8 := dkwX6_growsCell_3 ++ []
def dkwX6_growsCell_2 : List UInt8 := [182, 0, 86, 16, 9, 160, 0, 4, 177, 42, 27, 4, 42, 27, 4, 182, 0, 86, 4, 96, 182, 0, 139, 42]
abbrev dktX6_growsCell_2 : List UInt8 := dkwX6_growsCell_2 ++ dktX6_growsCell_3
def dkwX6_growsCell_1 : List UInt8 := [6, 46, 4, 96, 159, 0, 7, 4, 167, 0, 4, 3, 54, 4, 21, 4, 153, 0, 14, 42, 27, 4]
abbrev dktX6_growsCell_1 : List UInt8 := dkwX6_growsCell_1 ++ dktX6_growsCell_2
def dkwX6_growsCell_0 : List UInt8 := [42, 27, 182, 0, 97, 62, 29, 154, 0, 24, 28, 153, 0, 24, 42, 27, 7, 182, 0, 86, 42, 180, 0, 7]
abbrev dktX6_growsCell_0 : List UInt8 := dkwX6_growsCell_0 ++ dktX6_growsCell_1
theorem dksX6_growsCell_0 : cX6_growsCell.data.toList.drop 0 = dktX6_growsCell_0 := by decide +kernel
theorem dksX6_growsCell_1 : cX6_growsCell.data.toList.drop 24 = dktX6_growsCell_1 := dk_seg dksX6_growsCell_0 24 rfl rfl
theorem dksX6_growsCell_2 : cX6_growsCell.data.toList.drop 46 = dktX6_growsCell_2 := dk_seg dksX6_growsCell_1 22 rfl rfl
theorem dksX6_growsCell_3 : cX6_growsCell.data.toList.drop 70 = dktX6_growsCell_3 := dk_seg dksX6_growsCell_2 24 rfl rfl
theorem dX6_growsCell_0 : decode cX6_growsCell 0 = .ok (.aload_n 0, 1) := dk_42 (dk_at dksX6_growsCell_0 0 rfl rfl)
theorem dX6_growsCell_1 : decode cX6_growsCell 1 = .ok (.iload_n 1, 1) := dk_27 (dk_at dksX6_growsCell_0 1 rfl rfl)
theorem dX6_growsCell_2 : decode cX6_growsCell 2 = .ok (.invokevirtual 97, 3) := dk_182 0 97 (dk_at dksX6_growsCell_0 2 rfl rfl)
theorem dX6_growsCell_5 : decode cX6_growsCell 5 = .ok (.istore_n 3, 1) := dk_62 (dk_at dksX6_growsCell_0 5 rfl rfl)
theorem dX6_growsCell_6 : decode cX6_growsCell 6 = .ok (.iload_n 3, 1) := dk_29 (dk_at dksX6_growsCell_0 6 rfl rfl)
theorem dX6_growsCell_7 : decode cX6_growsCell 7 = .ok (.ifCond .ne 24, 3) := dk_154 0 24 (dk_at dksX6_growsCell_0 7 rfl rfl)
theorem dX6_growsCell_10 : decode cX6_growsCell 10 = .ok (.iload_n 2, 1) := dk_28 (dk_at dksX6_growsCell_0 10 rfl rfl)
theorem dX6_growsCell_11 : decode cX6_growsCell 11 = .ok (.ifCond .eq 24, 3) := dk_153 0 24 (dk_at dksX6_growsCell_0 11 rfl rfl)
theorem dX6_growsCell_14 : decode cX6_growsCell 14 = .ok (.aload_n 0, 1) := dk_42 (dk_at dksX6_growsCell_0 14 rfl rfl)
theorem dX6_growsCell_15 : decode cX6_growsCell 15 = .ok (.iload_n 1, 1) := dk_27 (dk_at dksX6_growsCell_0 15 rfl rfl)
theorem dX6_growsCell_16 : decode cX6_growsCell 16 = .ok (.iconst 4, 1) := dk_7 (dk_at dksX6_growsCell_0 16 rfl rfl)
theorem dX6_growsCell_17 : decode cX6_growsCell 17 = .ok (.invokevirtual 86, 3) := dk_182 0 86 (dk_at dksX6_growsCell_0 17 rfl rfl)
theorem dX6_growsCell_20 : decode cX6_growsCell 20 = .ok (.aload_n 0, 1) := dk_42 (dk_at dksX6_growsCell_0 20 rfl rfl)
theorem dX6_growsCell_21 : decode cX6_growsCell 21 = .ok (.getfield 7, 3) := dk_180 0 7 (dk_at dksX6_growsCell_0 21 rfl rfl)
theorem dX6_growsCell_24 : decode cX6_growsCell 24 = .ok (.iconst 3, 1) := dk_6 (dk_at dksX6_growsCell_1 0 rfl rfl)
theorem dX6_growsCell_25 : decode cX6_growsCell 25 = .ok (.iaload, 1) := dk_46 (dk_at dksX6_growsCell_1 1 rfl rfl)
theorem dX6_growsCell_26 : decode cX6_growsCell 26 = .ok (.iconst 1, 1) := dk_4 (dk_at dksX6_growsCell_1 2 rfl rfl)
theorem dX6_growsCell_27 : decode cX6_growsCell 27 = .ok (.iadd, 1) := dk_96 (dk_at dksX6_growsCell_1 3 rfl rfl)
theorem dX6_growsCell_28 : decode cX6_growsCell 28 = .ok (.if_icmp .eq 7, 3) := dk_159 0 7 (dk_at dksX6_growsCell_1 4 rfl rfl)
theorem dX6_growsCell_31 : decode cX6_growsCell 31 = .ok (.iconst 1, 1) := dk_4 (dk_at dksX6_growsCell_1 7 rfl rfl)
theorem dX6_growsCell_32 : decode cX6_growsCell 32 = .ok (.goto 4, 3) := dk_167 0 4 (dk_at dksX6_growsCell_1 8 rfl rfl)
theorem dX6_growsCell_35 : decode cX6_growsCell 35 = .ok (.iconst 0, 1) := dk_3 (dk_at dksX6_growsCell_1 11 rfl rfl)
theorem dX6_growsCell_36 : decode cX6_growsCell 36 = .ok (.istore 4, 2) := dk_54 4 (dk_at dksX6_growsCell_1 12 rfl rfl)
theorem dX6_growsCell_38 : decode cX6_growsCell 38 = .ok (.iload 4, 2) := dk_21 4 (dk_at dksX6_growsCell_1 14 rfl rfl)
theorem dX6_growsCell_40 : decode cX6_growsCell 40 = .ok (.ifCond .eq 14, 3) := dk_153 0 14 (dk_at dksX6_growsCell_1 16 rfl rfl)
theorem dX6_growsCell_43 : decode cX6_growsCell 43 = .ok (.aload_n 0, 1) := dk_42 (dk_at dksX6_growsCell_1 19 rfl rfl)
theorem dX6_growsCell_44 : decode cX6_growsCell 44 = .ok (.iload_n 1, 1) := dk_27 (dk_at dksX6_growsCell_1 20 rfl rfl)
theorem dX6_growsCell_45 : decode cX6_growsCell 45 = .ok (.iconst 1, 1) := dk_4 (dk_at dksX6_growsCell_1 21 rfl rfl)
theorem dX6_growsCell_46 : decode cX6_growsCell 46 = .ok (.invokevirtual 86, 3) := dk_182 0 86 (dk_at dksX6_growsCell_2 0 rfl rfl)
theorem dX6_growsCell_49 : decode cX6_growsCell 49 = .ok (.bipush 9, 2) := dk_16 9 (dk_at dksX6_growsCell_2 3 rfl rfl)
theorem dX6_growsCell_51 : decode cX6_growsCell 51 = .ok (.if_icmp .ne 4, 3) := dk_160 0 4 (dk_at dksX6_growsCell_2 5 rfl rfl)
theorem dX6_growsCell_54 : decode cX6_growsCell 54 = .ok (.return_, 1) := dk_177 (dk_at dksX6_growsCell_2 8 rfl rfl)
theorem dX6_growsCell_55 : decode cX6_growsCell 55 = .ok (.aload_n 0, 1) := dk_42 (dk_at dksX6_growsCell_2 9 rfl rfl)
theorem dX6_growsCell_56 : decode cX6_growsCell 56 = .ok (.iload_n 1, 1) := dk_27 (dk_at dksX6_growsCell_2 10 rfl rfl)
theorem dX6_growsCell_57 : decode cX6_growsCell 57 = .ok (.iconst 1, 1) := dk_4 (dk_at dksX6_growsCell_2 11 rfl rfl)
theorem dX6_growsCell_58 : decode cX6_growsCell 58 = .ok (.aload_n 0, 1) := dk_42 (dk_at dksX6_growsCell_2 12 rfl rfl)
theorem dX6_growsCell_59 : decode cX6_growsCell 59 = .ok (.iload_n 1, 1) := dk_27 (dk_at dksX6_growsCell_2 13 rfl rfl)
theorem dX6_growsCell_60 : decode cX6_growsCell 60 = .ok (.iconst 1, 1) := dk_4 (dk_at dksX6_growsCell_2 14 rfl rfl)
theorem dX6_growsCell_61 : decode cX6_growsCell 61 = .ok (.invokevirtual 86, 3) := dk_182 0 86 (dk_at dksX6_growsCell_2 15 rfl rfl)
theorem dX6_growsCell_64 : decode cX6_growsCell 64 = .ok (.iconst 1, 1) := dk_4 (dk_at dksX6_growsCell_2 18 rfl rfl)
theorem dX6_growsCell_65 : decode cX6_growsCell 65 = .ok (.iadd, 1) := dk_96 (dk_at dksX6_growsCell_2 19 rfl rfl)
theorem dX6_growsCell_66 : decode cX6_growsCell 66 = .ok (.invokevirtual 139, 3) := dk_182 0 139 (dk_at dksX6_growsCell_2 20 rfl rfl)
theorem dX6_growsCell_69 : decode cX6_growsCell 69 = .ok (.aload_n 0, 1) := dk_42 (dk_at dksX6_growsCell_2 23 rfl rfl)
theorem dX6_growsCell_70 : decode cX6_growsCell 70 = .ok (.iload_n 3, 1) := dk_29 (dk_at dksX6_growsCell_3 0 rfl rfl)
theorem dX6_growsCell_71 : decode cX6_growsCell 71 = .ok (.ifCond .eq 7, 3) := dk_153 0 7 (dk_at dksX6_growsCell_3 1 rfl rfl)
theorem dX6_growsCell_74 : decode cX6_growsCell 74 = .ok (.iconst 5, 1) := dk_8 (dk_at dksX6_growsCell_3 4 rfl rfl)
theorem dX6_growsCell_75 : decode cX6_growsCell 75 = .ok (.goto 4, 3) := dk_167 0 4 (dk_at dksX6_growsCell_3 5 rfl rfl)
theorem dX6_growsCell_78 : decode cX6_growsCell 78 = .ok (.iconst 4, 1) := dk_7 (dk_at dksX6_growsCell_3 8 rfl rfl)
theorem dX6_growsCell_79 : decode cX6_growsCell 79 = .ok (.iconst 1, 1) := dk_4 (dk_at dksX6_growsCell_3 9 rfl rfl)
theorem dX6_growsCell_80 : decode cX6_growsCell 80 = .ok (.invokevirtual 143, 3) := dk_182 0 143 (dk_at dksX6_growsCell_3 10 rfl rfl)
theorem dX6_growsCell_83 : decode cX6_growsCell 83 = .ok (.return_, 1) := dk_177 (dk_at dksX6_growsCell_3 13 rfl rfl)
def dkwX6_truth_0 : List UInt8 := [26, 153, 0, 7, 4, 167, 0, 4, 3, 172]
abbrev dktX6_truth_0 : List UInt8 := dkwX6_truth_0 ++ []
theorem dksX6_truth_0 : cX6_truth.data.toList.drop 0 = dktX6_truth_0 := by decide +kernel
theorem dX6_truth_0 : decode cX6_truth 0 = .ok (.iload_n 0, 1) := dk_26 (dk_at dksX6_truth_0 0 rfl rfl)
theorem dX6_truth_1 : decode cX6_truth 1 = .ok (.ifCond .eq 7, 3) := dk_153 0 7 (dk_at dksX6_truth_0 1 rfl rfl)
theorem dX6_truth_4 : decode cX6_truth 4 = .ok (.iconst 1, 1) := dk_4 (dk_at dksX6_truth_0 4 rfl rfl)
theorem dX6_truth_5 : decode cX6_truth 5 = .ok (.goto 4, 3) := dk_167 0 4 (dk_at dksX6_truth_0 5 rfl rfl)
theorem dX6_truth_8 : decode cX6_truth 8 = .ok (.iconst 0, 1) := dk_3 (dk_at dksX6_truth_0 8 rfl rfl)
theorem dX6_truth_9 : decode cX6_truth 9 = .ok (.ireturn, 1) := dk_172 (dk_at dksX6_truth_0 9 rfl rfl)
def dkwX6_fenceNow_2 : List UInt8 := [4, 96, 79, 42, 16, 9, 4, 182, 0, 143, 42, 180, 0, 7, 5, 46, 172]
abbrev dktX6_fenceNow_2 : List UInt8 := dkwX6_fenceNow_2 ++ []
def dkwX6_fenceNow_1 : List UInt8 := [156, 0, 5, 29, 172, 42, 42, 27, 28, 182, 0, 83, 5, 4, 182, 0, 139, 42, 180, 0, 7, 5, 92, 46]
abbrev dktX6_fenceNow_1 : List UInt8 := dkwX6_fenceNow_1 ++ dktX6_fenceNow_2
def dkwX6_fenceNow_0 : List UInt8 := [42, 27, 28, 182, 0, 89, 154, 0, 6, 16, 248, 172, 42, 42, 27, 28, 182, 0, 83, 182, 0, 177, 62, 29]
abbrev dktX6_fenceNow_0 : List UInt8 := dkwX6_fenceNow_0 ++ dktX6_fenceNow_1
theorem dksX6_fenceNow_0 : cX6_fenceNow.data.toList.drop 0 = dktX6_fenceNow_0 := by decide +kernel
theorem dksX6_fenceNow_1 : cX6_fenceNow.data.toList.drop 24 = dktX6_fenceNow_1 := dk_seg dksX6_fenceNow_0 24 rfl rfl
theorem dksX6_fenceNow_2 : cX6_fenceNow.data.toList.drop 48 = dktX6_fenceNow_2 := dk_seg dksX6_fenceNow_1 24 rfl rfl
theorem dX6_fenceNow_0 : decode cX6_fenceNow 0 = .ok (.aload_n 0, 1) := dk_42 (dk_at dksX6_fenceNow_0 0 rfl rfl)
theorem dX6_fenceNow_1 : decode cX6_fenceNow 1 = .ok (.iload_n 1, 1) := dk_27 (dk_at dksX6_fenceNow_0 1 rfl rfl)
theorem dX6_fenceNow_2 : decode cX6_fenceNow 2 = .ok (.iload_n 2, 1) := dk_28 (dk_at dksX6_fenceNow_0 2 rfl rfl)
theorem dX6_fenceNow_3 : decode cX6_fenceNow 3 = .ok (.invokevirtual 89, 3) := dk_182 0 89 (dk_at dksX6_fenceNow_0 3 rfl rfl)
theorem dX6_fenceNow_6 : decode cX6_fenceNow 6 = .ok (.ifCond .ne 6, 3) := dk_154 0 6 (dk_at dksX6_fenceNow_0 6 rfl rfl)
theorem dX6_fenceNow_9 : decode cX6_fenceNow 9 = .ok (.bipush (-8), 2) := dk_16 248 (dk_at dksX6_fenceNow_0 9 rfl rfl)
theorem dX6_fenceNow_11 : decode cX6_fenceNow 11 = .ok (.ireturn, 1) := dk_172 (dk_at dksX6_fenceNow_0 11 rfl rfl)
theorem dX6_fenceNow_12 : decode cX6_fenceNow 12 = .ok (.aload_n 0, 1) := dk_42 (dk_at dksX6_fenceNow_0 12 rfl rfl)
theorem dX6_fenceNow_13 : decode cX6_fenceNow 13 = .ok (.aload_n 0, 1) := dk_42 (dk_at dksX6_fenceNow_0 13 rfl rfl)
theorem dX6_fenceNow_14 : decode cX6_fenceNow 14 = .ok (.iload_n 1, 1) := dk_27 (dk_at dksX6_fenceNow_0 14 rfl rfl)
theorem dX6_fenceNow_15 : decode cX6_fenceNow 15 = .ok (.iload_n 2, 1) := dk_28 (dk_at dksX6_fenceNow_0 15 rfl rfl)
theorem dX6_fenceNow_16 : decode cX6_fenceNow 16 = .ok (.invokevirtual 83, 3) := dk_182 0 83 (dk_at dksX6_fenceNow_0 16 rfl rfl)
theorem dX6_fenceNow_19 : decode cX6_fenceNow 19 = .ok (.invokevirtual 177, 3) := dk_182 0 177 (dk_at dksX6_fenceNow_0 19 rfl rfl)
theorem dX6_fenceNow_22 : decode cX6_fenceNow 22 = .ok (.istore_n 3, 1) := dk_62 (dk_at dksX6_fenceNow_0 22 rfl rfl)
theorem dX6_fenceNow_23 : decode cX6_fenceNow 23 = .ok (.iload_n 3, 1) := dk_29 (dk_at dksX6_fenceNow_0 23 rfl rfl)
theorem dX6_fenceNow_24 : decode cX6_fenceNow 24 = .ok (.ifCond .ge 5, 3) := dk_156 0 5 (dk_at dksX6_fenceNow_1 0 rfl rfl)
theorem dX6_fenceNow_27 : decode cX6_fenceNow 27 = .ok (.iload_n 3, 1) := dk_29 (dk_at dksX6_fenceNow_1 3 rfl rfl)
theorem dX6_fenceNow_28 : decode cX6_fenceNow 28 = .ok (.ireturn, 1) := dk_172 (dk_at dksX6_fenceNow_1 4 rfl rfl)
theorem dX6_fenceNow_29 : decode cX6_fenceNow 29 = .ok (.aload_n 0, 1) := dk_42 (dk_at dksX6_fenceNow_1 5 rfl rfl)
theorem dX6_fenceNow_30 : decode cX6_fenceNow 30 = .ok (.aload_n 0, 1) := dk_42 (dk_at dksX6_fenceNow_1 6 rfl rfl)
theorem dX6_fenceNow_31 : decode cX6_fenceNow 31 = .ok (.iload_n 1, 1) := dk_27 (dk_at dksX6_fenceNow_1 7 rfl rfl)
theorem dX6_fenceNow_32 : decode cX6_fenceNow 32 = .ok (.iload_n 2, 1) := dk_28 (dk_at dksX6_fenceNow_1 8 rfl rfl)
theorem dX6_fenceNow_33 : decode cX6_fenceNow 33 = .ok (.invokevirtual 83, 3) := dk_182 0 83 (dk_at dksX6_fenceNow_1 9 rfl rfl)
theorem dX6_fenceNow_36 : decode cX6_fenceNow 36 = .ok (.iconst 2, 1) := dk_5 (dk_at dksX6_fenceNow_1 12 rfl rfl)
theorem dX6_fenceNow_37 : decode cX6_fenceNow 37 = .ok (.iconst 1, 1) := dk_4 (dk_at dksX6_fenceNow_1 13 rfl rfl)
theorem dX6_fenceNow_38 : decode cX6_fenceNow 38 = .ok (.invokevirtual 139, 3) := dk_182 0 139 (dk_at dksX6_fenceNow_1 14 rfl rfl)
theorem dX6_fenceNow_41 : decode cX6_fenceNow 41 = .ok (.aload_n 0, 1) := dk_42 (dk_at dksX6_fenceNow_1 17 rfl rfl)
theorem dX6_fenceNow_42 : decode cX6_fenceNow 42 = .ok (.getfield 7, 3) := dk_180 0 7 (dk_at dksX6_fenceNow_1 18 rfl rfl)
theorem dX6_fenceNow_45 : decode cX6_fenceNow 45 = .ok (.iconst 2, 1) := dk_5 (dk_at dksX6_fenceNow_1 21 rfl rfl)
theorem dX6_fenceNow_46 : decode cX6_fenceNow 46 = .ok (.dup2, 1) := dk_92 (dk_at dksX6_fenceNow_1 22 rfl rfl)
theorem dX6_fenceNow_47 : decode cX6_fenceNow 47 = .ok (.iaload, 1) := dk_46 (dk_at dksX6_fenceNow_1 23 rfl rfl)
theorem dX6_fenceNow_48 : decode cX6_fenceNow 48 = .ok (.iconst 1, 1) := dk_4 (dk_at dksX6_fenceNow_2 0 rfl rfl)
theorem dX6_fenceNow_49 : decode cX6_fenceNow 49 = .ok (.iadd, 1) := dk_96 (dk_at dksX6_fenceNow_2 1 rfl rfl)
theorem dX6_fenceNow_50 : decode cX6_fenceNow 50 = .ok (.iastore, 1) := dk_79 (dk_at dksX6_fenceNow_2 2 rfl rfl)
theorem dX6_fenceNow_51 : decode cX6_fenceNow 51 = .ok (.aload_n 0, 1) := dk_42 (dk_at dksX6_fenceNow_2 3 rfl rfl)
theorem dX6_fenceNow_52 : decode cX6_fenceNow 52 = .ok (.bipush 9, 2) := dk_16 9 (dk_at dksX6_fenceNow_2 4 rfl rfl)
theorem dX6_fenceNow_54 : decode cX6_fenceNow 54 = .ok (.iconst 1, 1) := dk_4 (dk_at dksX6_fenceNow_2 6 rfl rfl)
theorem dX6_fenceNow_55 : decode cX6_fenceNow 55 = .ok (.invokevirtual 143, 3) := dk_182 0 143 (dk_at dksX6_fenceNow_2 7 rfl rfl)
theorem dX6_fenceNow_58 : decode cX6_fenceNow 58 = .ok (.aload_n 0, 1) := dk_42 (dk_at dksX6_fenceNow_2 10 rfl rfl)
theorem dX6_fenceNow_59 : decode cX6_fenceNow 59 = .ok (.getfield 7, 3) := dk_180 0 7 (dk_at dksX6_fenceNow_2 11 rfl rfl)
theorem dX6_fenceNow_62 : decode cX6_fenceNow 62 = .ok (.iconst 2, 1) := dk_5 (dk_at dksX6_fenceNow_2 14 rfl rfl)
theorem dX6_fenceNow_63 : decode cX6_fenceNow 63 = .ok (.iaload, 1) := dk_46 (dk_at dksX6_fenceNow_2 15 rfl rfl)
theorem dX6_fenceNow_64 : decode cX6_fenceNow 64 = .ok (.ireturn, 1) := dk_172 (dk_at dksX6_fenceNow_2 16 rfl rfl)
def dkwX6_whyNoFence_2 : List UInt8 := [61, 42, 27, 5, 3, 182, 0, 139, 28, 153, 0, 7, 3, 167, 0, 5, 16, 251, 172]
abbrev dktX6_whyNoFence_2 : List UInt8 := dkwX6_whyNoFence_2 ++ []
def dkwX6_whyNoFence_1 : List UInt8 := [180, 0, 7, 5, 46, 16, 10, 160, 0, 6, 16, 252, 172, 42, 27, 5, 4, 182, 0, 139, 42, 182, 0, 173]
abbrev dktX6_whyNoFence_1 : List UInt8 := dkwX6_whyNoFence_1 ++ dktX6_whyNoFence_2
def dkwX6_whyNoFence_0 : List UInt8 := [42, 27, 182, 0, 93, 154, 0, 5, 2, 172, 42, 27, 182, 0, 97, 153, 0, 6, 16, 254, 172, 42]
abbrev dktX6_whyNoFence_0 : List UInt8 := dkwX6_whyNoFence_0 ++ dktX6_whyNoFence_1
theorem dksX6_whyNoFence_0 : cX6_whyNoFence.data.toList.drop 0 = dktX6_whyNoFence_0 := by decide +kernel
theorem dksX6_whyNoFence_1 : cX6_whyNoFence.data.toList.drop 22 = dktX6_whyNoFence_1 := dk_seg dksX6_whyNoFence_0 22 rfl rfl
theorem dksX6_whyNoFence_2 : cX6_whyNoFence.data.toList.drop 46 = dktX6_whyNoFence_2 := dk_seg dksX6_whyNoFence_1 24 rfl rfl
theorem dX6_whyNoFence_0 : decode cX6_whyNoFence 0 = .ok (.aload_n 0, 1) := dk_42 (dk_at dksX6_whyNoFence_0 0 rfl rfl)
theorem dX6_whyNoFence_1 : decode cX6_whyNoFence 1 = .ok (.iload_n 1, 1) := dk_27 (dk_at dksX6_whyNoFence_0 1 rfl rfl)
theorem dX6_whyNoFence_2 : decode cX6_whyNoFence 2 = .ok (.invokevirtual 93, 3) := dk_182 0 93 (dk_at dksX6_whyNoFence_0 2 rfl rfl)
theorem dX6_whyNoFence_5 : decode cX6_whyNoFence 5 = .ok (.ifCond .ne 5, 3) := dk_154 0 5 (dk_at dksX6_whyNoFence_0 5 rfl rfl)
theorem dX6_whyNoFence_8 : decode cX6_whyNoFence 8 = .ok (.iconst (-1), 1) := dk_2 (dk_at dksX6_whyNoFence_0 8 rfl rfl)
theorem dX6_whyNoFence_9 : decode cX6_whyNoFence 9 = .ok (.ireturn, 1) := dk_172 (dk_at dksX6_whyNoFence_0 9 rfl rfl)
theorem dX6_whyNoFence_10 : decode cX6_whyNoFence 10 = .ok (.aload_n 0, 1) := dk_42 (dk_at dksX6_whyNoFence_0 10 rfl rfl)
theorem dX6_whyNoFence_11 : decode cX6_whyNoFence 11 = .ok (.iload_n 1, 1) := dk_27 (dk_at dksX6_whyNoFence_0 11 rfl rfl)
theorem dX6_whyNoFence_12 : decode cX6_whyNoFence 12 = .ok (.invokevirtual 97, 3) := dk_182 0 97 (dk_at dksX6_whyNoFence_0 12 rfl rfl)
theorem dX6_whyNoFence_15 : decode cX6_whyNoFence 15 = .ok (.ifCond .eq 6, 3) := dk_153 0 6 (dk_at dksX6_whyNoFence_0 15 rfl rfl)
theorem dX6_whyNoFence_18 : decode cX6_whyNoFence 18 = .ok (.bipush (-2), 2) := dk_16 254 (dk_at dksX6_whyNoFence_0 18 rfl rfl)
theorem dX6_whyNoFence_20 : decode cX6_whyNoFence 20 = .ok (.ireturn, 1) := dk_172 (dk_at dksX6_whyNoFence_0 20 rfl rfl)
theorem dX6_whyNoFence_21 : decode cX6_whyNoFence 21 = .ok (.aload_n 0, 1) := dk_42 (dk_at dksX6_whyNoFence_0 21 rfl rfl)
theorem dX6_whyNoFence_22 : decode cX6_whyNoFence 22 = .ok (.getfield 7, 3) := dk_180 0 7 (dk_at dksX6_whyNoFence_1 0 rfl rfl)
theorem dX6_whyNoFence_25 : decode cX6_whyNoFence 25 = .ok (.iconst 2, 1) := dk_5 (dk_at dksX6_whyNoFence_1 3 rfl rfl)
theorem dX6_whyNoFence_26 : decode cX6_whyNoFence 26 = .ok (.iaload, 1) := dk_46 (dk_at dksX6_whyNoFence_1 4 rfl rfl)
theorem dX6_whyNoFence_27 : decode cX6_whyNoFence 27 = .ok (.bipush 10, 2) := dk_16 10 (dk_at dksX6_whyNoFence_1 5 rfl rfl)
theorem dX6_whyNoFence_29 : decode cX6_whyNoFence 29 = .ok (.if_icmp .ne 6, 3) := dk_160 0 6 (dk_at dksX6_whyNoFence_1 7 rfl rfl)
theorem dX6_whyNoFence_32 : decode cX6_whyNoFence 32 = .ok (.bipush (-4), 2) := dk_16 252 (dk_at dksX6_whyNoFence_1 10 rfl rfl)
theorem dX6_whyNoFence_34 : decode cX6_whyNoFence 34 = .ok (.ireturn, 1) := dk_172 (dk_at dksX6_whyNoFence_1 12 rfl rfl)
theorem dX6_whyNoFence_35 : decode cX6_whyNoFence 35 = .ok (.aload_n 0, 1) := dk_42 (dk_at dksX6_whyNoFence_1 13 rfl rfl)
theorem dX6_whyNoFence_36 : decode cX6_whyNoFence 36 = .ok (.iload_n 1, 1) := dk_27 (dk_at dksX6_whyNoFence_1 14 rfl rfl)
theorem dX6_whyNoFence_37 : decode cX6_whyNoFence 37 = .ok (.iconst 2, 1) := dk_5 (dk_at dksX6_whyNoFence_1 15 rfl rfl)
theorem dX6_whyNoFence_38 : decode cX6_whyNoFence 38 = .ok (.iconst 1, 1) := dk_4 (dk_at dksX6_whyNoFence_1 16 rfl rfl)
theorem dX6_whyNoFence_39 : decode cX6_whyNoFence 39 = .ok (.invokevirtual 139, 3) := dk_182 0 139 (dk_at dksX6_whyNoFence_1 17 rfl rfl)
theorem dX6_whyNoFence_42 : decode cX6_whyNoFence 42 = .ok (.aload_n 0, 1) := dk_42 (dk_at dksX6_whyNoFence_1 20 rfl rfl)
theorem dX6_whyNoFence_43 : decode cX6_whyNoFence 43 = .ok (.invokevirtual 173, 3) := dk_182 0 173 (dk_at dksX6_whyNoFence_1 21 rfl rfl)
theorem dX6_whyNoFence_46 : decode cX6_whyNoFence 46 = .ok (.istore_n 2, 1) := dk_61 (dk_at dksX6_whyNoFence_2 0 rfl rfl)
theorem dX6_whyNoFence_47 : decode cX6_whyNoFence 47 = .ok (.aload_n 0, 1) := dk_42 (dk_at dksX6_whyNoFence_2 1 rfl rfl)
theorem dX6_whyNoFence_48 : decode cX6_whyNoFence 48 = .ok (.iload_n 1, 1) := dk_27 (dk_at dksX6_whyNoFence_2 2 rfl rfl)
theorem dX6_whyNoFence_49 : decode cX6_whyNoFence 49 = .ok (.iconst 2, 1) := dk_5 (dk_at dksX6_whyNoFence_2 3 rfl rfl)
theorem dX6_whyNoFence_50 : decode cX6_whyNoFence 50 = .ok (.iconst 0, 1) := dk_3 (dk_at dksX6_whyNoFence_2 4 rfl rfl)
theorem dX6_whyNoFence_51 : decode cX6_whyNoFence 51 = .ok (.invokevirtual 139, 3) := dk_182 0 139 (dk_at dksX6_whyNoFence_2 5 rfl rfl)
theorem dX6_whyNoFence_54 : decode cX6_whyNoFence 54 = .ok (.iload_n 2, 1) := dk_28 (dk_at dksX6_whyNoFence_2 8 rfl rfl)
theorem dX6_whyNoFence_55 : decode cX6_whyNoFence 55 = .ok (.ifCond .eq 7, 3) := dk_153 0 7 (dk_at dksX6_whyNoFence_2 9 rfl rfl)
theorem dX6_whyNoFence_58 : decode cX6_whyNoFence 58 = .ok (.iconst 0, 1) := dk_3 (dk_at dksX6_whyNoFence_2 12 rfl rfl)
theorem dX6_whyNoFence_59 : decode cX6_whyNoFence 59 = .ok (.goto 5, 3) := dk_167 0 5 (dk_at dksX6_whyNoFence_2 13 rfl rfl)
theorem dX6_whyNoFence_62 : decode cX6_whyNoFence 62 = .ok (.bipush (-5), 2) := dk_16 251 (dk_at dksX6_whyNoFence_2 16 rfl rfl)
theorem dX6_whyNoFence_64 : decode cX6_whyNoFence 64 = .ok (.ireturn, 1) := dk_172 (dk_at dksX6_whyNoFence_2 18 rfl rfl)
def dkwX6_openNow_2 : List UInt8 := [46, 4, 100, 79, 42, 16, 10, 4, 182, 0, 143, 42, 180, 0, 7, 5, 46, 172]
abbrev dktX6_openNow_2 : List UInt8 := dkwX6_openNow_2 ++ []
def dkwX6_openNow_1 : List UInt8 := [154, 0, 6, 16, 253, 172, 42, 42, 27, 28, 182, 0, 83, 5, 3, 182, 0, 139, 42, 180, 0, 7, 5, 92]
abbrev dktX6_openNow_1 : List UInt8 := dkwX6_openNow_1 ++ dktX6_openNow_2
def dkwX6_openNow_0 : List UInt8 := [42, 27, 28, 182, 0, 89, 154, 0, 6, 16, 248, 172, 42, 42, 27, 28, 182, 0, 83, 182, 0, 97]
abbrev dktX6_openNow_0 : List UInt8 := dkwX6_openNow_0 ++ dktX6_openNow_1
theorem dksX6_openNow_0 : cX6_openNow.data.toList.drop 0 = dktX6_openNow_0 := by decide +kernel
theorem dksX6_openNow_1 : cX6_openNow.data.toList.drop 22 = dktX6_openNow_1 := dk_seg dksX6_openNow_0 22 rfl rfl
theorem dksX6_openNow_2 : cX6_openNow.data.toList.drop 46 = dktX6_openNow_2 := dk_seg dksX6_openNow_1 24 rfl rfl
theorem dX6_openNow_0 : decode cX6_openNow 0 = .ok (.aload_n 0, 1) := dk_42 (dk_at dksX6_openNow_0 0 rfl rfl)
theorem dX6_openNow_1 : decode cX6_openNow 1 = .ok (.iload_n 1, 1) := dk_27 (dk_at dksX6_openNow_0 1 rfl rfl)
theorem dX6_openNow_2 : decode cX6_openNow 2 = .ok (.iload_n 2, 1) := dk_28 (dk_at dksX6_openNow_0 2 rfl rfl)
theorem dX6_openNow_3 : decode cX6_openNow 3 = .ok (.invokevirtual 89, 3) := dk_182 0 89 (dk_at dksX6_openNow_0 3 rfl rfl)
theorem dX6_openNow_6 : decode cX6_openNow 6 = .ok (.ifCond .ne 6, 3) := dk_154 0 6 (dk_at dksX6_openNow_0 6 rfl rfl)
theorem dX6_openNow_9 : decode cX6_openNow 9 = .ok (.bipush (-8), 2) := dk_16 248 (dk_at dksX6_openNow_0 9 rfl rfl)
theorem dX6_openNow_11 : decode cX6_openNow 11 = .ok (.ireturn, 1) := dk_172 (dk_at dksX6_openNow_0 11 rfl rfl)
theorem dX6_openNow_12 : decode cX6_openNow 12 = .ok (.aload_n 0, 1) := dk_42 (dk_at dksX6_openNow_0 12 rfl rfl)
theorem dX6_openNow_13 : decode cX6_openNow 13 = .ok (.aload_n 0, 1) := dk_42 (dk_at dksX6_openNow_0 13 rfl rfl)
theorem dX6_openNow_14 : decode cX6_openNow 14 = .ok (.iload_n 1, 1) := dk_27 (dk_at dksX6_openNow_0 14 rfl rfl)
theorem dX6_openNow_15 : decode cX6_openNow 15 = .ok (.iload_n 2, 1) := dk_28 (dk_at dksX6_openNow_0 15 rfl rfl)
theorem dX6_openNow_16 : decode cX6_openNow 16 = .ok (.invokevirtual 83, 3) := dk_182 0 83 (dk_at dksX6_openNow_0 16 rfl rfl)
theorem dX6_openNow_19 : decode cX6_openNow 19 = .ok (.invokevirtual 97, 3) := dk_182 0 97 (dk_at dksX6_openNow_0 19 rfl rfl)
theorem dX6_openNow_22 : decode cX6_openNow 22 = .ok (.ifCond .ne 6, 3) := dk_154 0 6 (dk_at dksX6_openNow_1 0 rfl rfl)
theorem dX6_openNow_25 : decode cX6_openNow 25 = .ok (.bipush (-3), 2) := dk_16 253 (dk_at dksX6_openNow_1 3 rfl rfl)
theorem dX6_openNow_27 : decode cX6_openNow 27 = .ok (.ireturn, 1) := dk_172 (dk_at dksX6_openNow_1 5 rfl rfl)
theorem dX6_openNow_28 : decode cX6_openNow 28 = .ok (.aload_n 0, 1) := dk_42 (dk_at dksX6_openNow_1 6 rfl rfl)
theorem dX6_openNow_29 : decode cX6_openNow 29 = .ok (.aload_n 0, 1) := dk_42 (dk_at dksX6_openNow_1 7 rfl rfl)
theorem dX6_openNow_30 : decode cX6_openNow 30 = .ok (.iload_n 1, 1) := dk_27 (dk_at dksX6_openNow_1 8 rfl rfl)
theorem dX6_openNow_31 : decode cX6_openNow 31 = .ok (.iload_n 2, 1) := dk_28 (dk_at dksX6_openNow_1 9 rfl rfl)
theorem dX6_openNow_32 : decode cX6_openNow 32 = .ok (.invokevirtual 83, 3) := dk_182 0 83 (dk_at dksX6_openNow_1 10 rfl rfl)
theorem dX6_openNow_35 : decode cX6_openNow 35 = .ok (.iconst 2, 1) := dk_5 (dk_at dksX6_openNow_1 13 rfl rfl)
theorem dX6_openNow_36 : decode cX6_openNow 36 = .ok (.iconst 0, 1) := dk_3 (dk_at dksX6_openNow_1 14 rfl rfl)
theorem dX6_openNow_37 : decode cX6_openNow 37 = .ok (.invokevirtual 139, 3) := dk_182 0 139 (dk_at dksX6_openNow_1 15 rfl rfl)
theorem dX6_openNow_40 : decode cX6_openNow 40 = .ok (.aload_n 0, 1) := dk_42 (dk_at dksX6_openNow_1 18 rfl rfl)
theorem dX6_openNow_41 : decode cX6_openNow 41 = .ok (.getfield 7, 3) := dk_180 0 7 (dk_at dksX6_openNow_1 19 rfl rfl)
theorem dX6_openNow_44 : decode cX6_openNow 44 = .ok (.iconst 2, 1) := dk_5 (dk_at dksX6_openNow_1 22 rfl rfl)
theorem dX6_openNow_45 : decode cX6_openNow 45 = .ok (.dup2, 1) := dk_92 (dk_at dksX6_openNow_1 23 rfl rfl)
theorem dX6_openNow_46 : decode cX6_openNow 46 = .ok (.iaload, 1) := dk_46 (dk_at dksX6_openNow_2 0 rfl rfl)
theorem dX6_openNow_47 : decode cX6_openNow 47 = .ok (.iconst 1, 1) := dk_4 (dk_at dksX6_openNow_2 1 rfl rfl)
theorem dX6_openNow_48 : decode cX6_openNow 48 = .ok (.isub, 1) := dk_100 (dk_at dksX6_openNow_2 2 rfl rfl)
theorem dX6_openNow_49 : decode cX6_openNow 49 = .ok (.iastore, 1) := dk_79 (dk_at dksX6_openNow_2 3 rfl rfl)
theorem dX6_openNow_50 : decode cX6_openNow 50 = .ok (.aload_n 0, 1) := dk_42 (dk_at dksX6_openNow_2 4 rfl rfl)
theorem dX6_openNow_51 : decode cX6_openNow 51 = .ok (.bipush 10, 2) := dk_16 10 (dk_at dksX6_openNow_2 5 rfl rfl)
theorem dX6_openNow_53 : decode cX6_openNow 53 = .ok (.iconst 1, 1) := dk_4 (dk_at dksX6_openNow_2 7 rfl rfl)
theorem dX6_openNow_54 : decode cX6_openNow 54 = .ok (.invokevirtual 143, 3) := dk_182 0 143 (dk_at dksX6_openNow_2 8 rfl rfl)
theorem dX6_openNow_57 : decode cX6_openNow 57 = .ok (.aload_n 0, 1) := dk_42 (dk_at dksX6_openNow_2 11 rfl rfl)
theorem dX6_openNow_58 : decode cX6_openNow 58 = .ok (.getfield 7, 3) := dk_180 0 7 (dk_at dksX6_openNow_2 12 rfl rfl)
theorem dX6_openNow_61 : decode cX6_openNow 61 = .ok (.iconst 2, 1) := dk_5 (dk_at dksX6_openNow_2 15 rfl rfl)
theorem dX6_openNow_62 : decode cX6_openNow 62 = .ok (.iaload, 1) := dk_46 (dk_at dksX6_openNow_2 16 rfl rfl)
theorem dX6_openNow_63 : decode cX6_openNow 63 = .ok (.ireturn, 1) := dk_172 (dk_at dksX6_openNow_2 17 rfl rfl)
def dkwX6_paveNow_2 : List UInt8 := [182, 0, 86, 182, 0, 143, 42, 29, 182, 0, 180, 42, 4, 182, 0, 183, 172]
abbrev dktX6_paveNow_2 : List UInt8 := dkwX6_paveNow_2 ++ []
def dkwX6_paveNow_1 : List UInt8 := [154, 0, 5, 2, 172, 42, 29, 182, 0, 97, 153, 0, 6, 16, 254, 172, 42, 16, 7, 42, 29, 4]
abbrev dktX6_paveNow_1 : List UInt8 := dkwX6_paveNow_1 ++ dktX6_paveNow_2
def dkwX6_paveNow_0 : List UInt8 := [42, 27, 28, 182, 0, 89, 154, 0, 6, 16, 248, 172, 42, 27, 28, 182, 0, 83, 62, 42, 29, 182, 0, 93]
abbrev dktX6_paveNow_0 : List UInt8 := dkwX6_paveNow_0 ++ dktX6_paveNow_1
theorem dksX6_paveNow_0 : cX6_paveNow.data.toList.drop 0 = dktX6_paveNow_0 := by decide +kernel
theorem dksX6_paveNow_1 : cX6_paveNow.data.toList.drop 24 = dktX6_paveNow_1 := dk_seg dksX6_paveNow_0 24 rfl rfl
theorem dksX6_paveNow_2 : cX6_paveNow.data.toList.drop 46 = dktX6_paveNow_2 := dk_seg dksX6_paveNow_1 22 rfl rfl
theorem dX6_paveNow_0 : decode cX6_paveNow 0 = .ok (.aload_n 0, 1) := dk_42 (dk_at dksX6_paveNow_0 0 rfl rfl)
theorem dX6_paveNow_1 : decode cX6_paveNow 1 = .ok (.iload_n 1, 1) := dk_27 (dk_at dksX6_paveNow_0 1 rfl rfl)
theorem dX6_paveNow_2 : decode cX6_paveNow 2 = .ok (.iload_n 2, 1) := dk_28 (dk_at dksX6_paveNow_0 2 rfl rfl)
theorem dX6_paveNow_3 : decode cX6_paveNow 3 = .ok (.invokevirtual 89, 3) := dk_182 0 89 (dk_at dksX6_paveNow_0 3 rfl rfl)
theorem dX6_paveNow_6 : decode cX6_paveNow 6 = .ok (.ifCond .ne 6, 3) := dk_154 0 6 (dk_at dksX6_paveNow_0 6 rfl rfl)
theorem dX6_paveNow_9 : decode cX6_paveNow 9 = .ok (.bipush (-8), 2) := dk_16 248 (dk_at dksX6_paveNow_0 9 rfl rfl)
theorem dX6_paveNow_11 : decode cX6_paveNow 11 = .ok (.ireturn, 1) := dk_172 (dk_at dksX6_paveNow_0 11 rfl rfl)
theorem dX6_paveNow_12 : decode cX6_paveNow 12 = .ok (.aload_n 0, 1) := dk_42 (dk_at dksX6_paveNow_0 12 rfl rfl)
theorem dX6_paveNow_13 : decode cX6_paveNow 13 = .ok (.iload_n 1, 1) := dk_27 (dk_at dksX6_paveNow_0 13 rfl rfl)
theorem dX6_paveNow_14 : decode cX6_paveNow 14 = .ok (.iload_n 2, 1) := dk_28 (dk_at dksX6_paveNow_0 14 rfl rfl)
theorem dX6_paveNow_15 : decode cX6_paveNow 15 = .ok (.invokevirtual 83, 3) := dk_182 0 83 (dk_at dksX6_paveNow_0 15 rfl rfl)
theorem dX6_paveNow_18 : decode cX6_paveNow 18 = .ok (.istore_n 3, 1) := dk_62 (dk_at dksX6_paveNow_0 18 rfl rfl)
theorem dX6_paveNow_19 : decode cX6_paveNow 19 = .ok (.aload_n 0, 1) := dk_42 (dk_at dksX6_paveNow_0 19 rfl rfl)
theorem dX6_paveNow_20 : decode cX6_paveNow 20 = .ok (.iload_n 3, 1) := dk_29 (dk_at dksX6_paveNow_0 20 rfl rfl)
theorem dX6_paveNow_21 : decode cX6_paveNow 21 = .ok (.invokevirtual 93, 3) := dk_182 0 93 (dk_at dksX6_paveNow_0 21 rfl rfl)
theorem dX6_paveNow_24 : decode cX6_paveNow 24 = .ok (.ifCond .ne 5, 3) := dk_154 0 5 (dk_at dksX6_paveNow_1 0 rfl rfl)
theorem dX6_paveNow_27 : decode cX6_paveNow 27 = .ok (.iconst (-1), 1) := dk_2 (dk_at dksX6_paveNow_1 3 rfl rfl)
theorem dX6_paveNow_28 : decode cX6_paveNow 28 = .ok (.ireturn, 1) := dk_172 (dk_at dksX6_paveNow_1 4 rfl rfl)
theorem dX6_paveNow_29 : decode cX6_paveNow 29 = .ok (.aload_n 0, 1) := dk_42 (dk_at dksX6_paveNow_1 5 rfl rfl)
theorem dX6_paveNow_30 : decode cX6_paveNow 30 = .ok (.iload_n 3, 1) := dk_29 (dk_at dksX6_paveNow_1 6 rfl rfl)
theorem dX6_paveNow_31 : decode cX6_paveNow 31 = .ok (.invokevirtual 97, 3) := dk_182 0 97 (dk_at dksX6_paveNow_1 7 rfl rfl)
theorem dX6_paveNow_34 : decode cX6_paveNow 34 = .ok (.ifCond .eq 6, 3) := dk_153 0 6 (dk_at dksX6_paveNow_1 10 rfl rfl)
theorem dX6_paveNow_37 : decode cX6_paveNow 37 = .ok (.bipush (-2), 2) := dk_16 254 (dk_at dksX6_paveNow_1 13 rfl rfl)
theorem dX6_paveNow_39 : decode cX6_paveNow 39 = .ok (.ireturn, 1) := dk_172 (dk_at dksX6_paveNow_1 15 rfl rfl)
theorem dX6_paveNow_40 : decode cX6_paveNow 40 = .ok (.aload_n 0, 1) := dk_42 (dk_at dksX6_paveNow_1 16 rfl rfl)
theorem dX6_paveNow_41 : decode cX6_paveNow 41 = .ok (.bipush 7, 2) := dk_16 7 (dk_at dksX6_paveNow_1 17 rfl rfl)
theorem dX6_paveNow_43 : decode cX6_paveNow 43 = .ok (.aload_n 0, 1) := dk_42 (dk_at dksX6_paveNow_1 19 rfl rfl)
theorem dX6_paveNow_44 : decode cX6_paveNow 44 = .ok (.iload_n 3, 1) := dk_29 (dk_at dksX6_paveNow_1 20 rfl rfl)
theorem dX6_paveNow_45 : decode cX6_paveNow 45 = .ok (.iconst 1, 1) := dk_4 (dk_at dksX6_paveNow_1 21 rfl rfl)
theorem dX6_paveNow_46 : decode cX6_paveNow 46 = .ok (.invokevirtual 86, 3) := dk_182 0 86 (dk_at dksX6_paveNow_2 0 rfl rfl)
theorem dX6_paveNow_49 : decode cX6_paveNow 49 = .ok (.invokevirtual 143, 3) := dk_182 0 143 (dk_at dksX6_paveNow_2 3 rfl rfl)
theorem dX6_paveNow_52 : decode cX6_paveNow 52 = .ok (.aload_n 0, 1) := dk_42 (dk_at dksX6_paveNow_2 6 rfl rfl)
theorem dX6_paveNow_53 : decode cX6_paveNow 53 = .ok (.iload_n 3, 1) := dk_29 (dk_at dksX6_paveNow_2 7 rfl rfl)
theorem dX6_paveNow_54 : decode cX6_paveNow 54 = .ok (.invokevirtual 180, 3) := dk_182 0 180 (dk_at dksX6_paveNow_2 8 rfl rfl)
theorem dX6_paveNow_57 : decode cX6_paveNow 57 = .ok (.aload_n 0, 1) := dk_42 (dk_at dksX6_paveNow_2 11 rfl rfl)
theorem dX6_paveNow_58 : decode cX6_paveNow 58 = .ok (.iconst 1, 1) := dk_4 (dk_at dksX6_paveNow_2 12 rfl rfl)
theorem dX6_paveNow_59 : decode cX6_paveNow 59 = .ok (.invokevirtual 183, 3) := dk_182 0 183 (dk_at dksX6_paveNow_2 13 rfl rfl)
theorem dX6_paveNow_62 : decode cX6_paveNow 62 = .ok (.ireturn, 1) := dk_172 (dk_at dksX6_paveNow_2 16 rfl rfl)
def dkwX6_manyOf_1 : List UInt8 := [167, 0, 4, 3, 184, 0, 130, 96, 61, 132, 3, 1, 167, 255, 224, 28, 172]
abbrev dktX6_manyOf_1 : List UInt8 := dkwX6_manyOf_1 ++ []
def dkwX6_manyOf_0 : List UInt8 := [3, 61, 3, 62, 29, 42, 182, 0, 117, 162, 0, 30, 28, 42, 29, 3, 182, 0, 86, 27, 160, 0, 7, 4]
abbrev dktX6_manyOf_0 : List UInt8 := dkwX6_manyOf_0 ++ dktX6_manyOf_1
theorem dksX6_manyOf_0 : cX6_manyOf.data.toList.drop 0 = dktX6_manyOf_0 := by decide +kernel
theorem dksX6_manyOf_1 : cX6_manyOf.data.toList.drop 24 = dktX6_manyOf_1 := dk_seg dksX6_manyOf_0 24 rfl rfl
theorem dX6_manyOf_0 : decode cX6_manyOf 0 = .ok (.iconst 0, 1) := dk_3 (dk_at dksX6_manyOf_0 0 rfl rfl)
theorem dX6_manyOf_1 : decode cX6_manyOf 1 = .ok (.istore_n 2, 1) := dk_61 (dk_at dksX6_manyOf_0 1 rfl rfl)
theorem dX6_manyOf_2 : decode cX6_manyOf 2 = .ok (.iconst 0, 1) := dk_3 (dk_at dksX6_manyOf_0 2 rfl rfl)
theorem dX6_manyOf_3 : decode cX6_manyOf 3 = .ok (.istore_n 3, 1) := dk_62 (dk_at dksX6_manyOf_0 3 rfl rfl)
theorem dX6_manyOf_4 : decode cX6_manyOf 4 = .ok (.iload_n 3, 1) := dk_29 (dk_at dksX6_manyOf_0 4 rfl rfl)
theorem dX6_manyOf_5 : decode cX6_manyOf 5 = .ok (.aload_n 0, 1) := dk_42 (dk_at dksX6_manyOf_0 5 rfl rfl)
theorem dX6_manyOf_6 : decode cX6_manyOf 6 = .ok (.invokevirtual 117, 3) := dk_182 0 117 (dk_at dksX6_manyOf_0 6 rfl rfl)
theorem dX6_manyOf_9 : decode cX6_manyOf 9 = .ok (.if_icmp .ge 30, 3) := dk_162 0 30 (dk_at dksX6_manyOf_0 9 rfl rfl)
theorem dX6_manyOf_12 : decode cX6_manyOf 12 = .ok (.iload_n 2, 1) := dk_28 (dk_at dksX6_manyOf_0 12 rfl rfl)
theorem dX6_manyOf_13 : decode cX6_manyOf 13 = .ok (.aload_n 0, 1) := dk_42 (dk_at dksX6_manyOf_0 13 rfl rfl)
theorem dX6_manyOf_14 : decode cX6_manyOf 14 = .ok (.iload_n 3, 1) := dk_29 (dk_at dksX6_manyOf_0 14 rfl rfl)
theorem dX6_manyOf_15 : decode cX6_manyOf 15 = .ok (.iconst 0, 1) := dk_3 (dk_at dksX6_manyOf_0 15 rfl rfl)
theorem dX6_manyOf_16 : decode cX6_manyOf 16 = .ok (.invokevirtual 86, 3) := dk_182 0 86 (dk_at dksX6_manyOf_0 16 rfl rfl)
theorem dX6_manyOf_19 : decode cX6_manyOf 19 = .ok (.iload_n 1, 1) := dk_27 (dk_at dksX6_manyOf_0 19 rfl rfl)
theorem dX6_manyOf_20 : decode cX6_manyOf 20 = .ok (.if_icmp .ne 7, 3) := dk_160 0 7 (dk_at dksX6_manyOf_0 20 rfl rfl)
theorem dX6_manyOf_23 : decode cX6_manyOf 23 = .ok (.iconst 1, 1) := dk_4 (dk_at dksX6_manyOf_0 23 rfl rfl)
theorem dX6_manyOf_24 : decode cX6_manyOf 24 = .ok (.goto 4, 3) := dk_167 0 4 (dk_at dksX6_manyOf_1 0 rfl rfl)
theorem dX6_manyOf_27 : decode cX6_manyOf 27 = .ok (.iconst 0, 1) := dk_3 (dk_at dksX6_manyOf_1 3 rfl rfl)
theorem dX6_manyOf_28 : decode cX6_manyOf 28 = .ok (.invokestatic 130, 3) := dk_184 0 130 (dk_at dksX6_manyOf_1 4 rfl rfl)
theorem dX6_manyOf_31 : decode cX6_manyOf 31 = .ok (.iadd, 1) := dk_96 (dk_at dksX6_manyOf_1 7 rfl rfl)
theorem dX6_manyOf_32 : decode cX6_manyOf 32 = .ok (.istore_n 2, 1) := dk_61 (dk_at dksX6_manyOf_1 8 rfl rfl)
theorem dX6_manyOf_33 : decode cX6_manyOf 33 = .ok (.iinc 3 1, 3) := dk_132 3 1 (dk_at dksX6_manyOf_1 9 rfl rfl)
theorem dX6_manyOf_36 : decode cX6_manyOf 36 = .ok (.goto (-32), 3) := dk_167 255 224 (dk_at dksX6_manyOf_1 12 rfl rfl)
theorem dX6_manyOf_39 : decode cX6_manyOf 39 = .ok (.iload_n 2, 1) := dk_28 (dk_at dksX6_manyOf_1 15 rfl rfl)
theorem dX6_manyOf_40 : decode cX6_manyOf 40 = .ok (.ireturn, 1) := dk_172 (dk_at dksX6_manyOf_1 16 rfl rfl)
def dkwX6_sowNow_2 : List UInt8 := [29, 4, 16, 9, 182, 0, 139, 42, 16, 6, 16, 9, 21, 4, 100, 182, 0, 143, 21, 4, 172]
abbrev dktX6_sowNow_2 : List UInt8 := dkwX6_sowNow_2 ++ []
def dkwX6_sowNow_1 : List UInt8 := [154, 0, 5, 2, 172, 42, 29, 4, 182, 0, 86, 54, 4, 21, 4, 16, 9, 160, 0, 6, 16, 250, 172, 42]
abbrev dktX6_sowNow_1 : List UInt8 := dkwX6_sowNow_1 ++ dktX6_sowNow_2
def dkwX6_sowNow_0 : List UInt8 := [42, 27, 28, 182, 0, 89, 154, 0, 6, 16, 248, 172, 42, 27, 28, 182, 0, 83, 62, 42, 29, 182, 0, 93]
abbrev dktX6_sowNow_0 : List UInt8 := dkwX6_sowNow_0 ++ dktX6_sowNow_1
theorem dksX6_sowNow_0 : cX6_sowNow.data.toList.drop 0 = dktX6_sowNow_0 := by decide +kernel
theorem dksX6_sowNow_1 : cX6_sowNow.data.toList.drop 24 = dktX6_sowNow_1 := dk_seg dksX6_sowNow_0 24 rfl rfl
theorem dksX6_sowNow_2 : cX6_sowNow.data.toList.drop 48 = dktX6_sowNow_2 := dk_seg dksX6_sowNow_1 24 rfl rfl
theorem dX6_sowNow_0 : decode cX6_sowNow 0 = .ok (.aload_n 0, 1) := dk_42 (dk_at dksX6_sowNow_0 0 rfl rfl)
theorem dX6_sowNow_1 : decode cX6_sowNow 1 = .ok (.iload_n 1, 1) := dk_27 (dk_at dksX6_sowNow_0 1 rfl rfl)
theorem dX6_sowNow_2 : decode cX6_sowNow 2 = .ok (.iload_n 2, 1) := dk_28 (dk_at dksX6_sowNow_0 2 rfl rfl)
theorem dX6_sowNow_3 : decode cX6_sowNow 3 = .ok (.invokevirtual 89, 3) := dk_182 0 89 (dk_at dksX6_sowNow_0 3 rfl rfl)
theorem dX6_sowNow_6 : decode cX6_sowNow 6 = .ok (.ifCond .ne 6, 3) := dk_154 0 6 (dk_at dksX6_sowNow_0 6 rfl rfl)
theorem dX6_sowNow_9 : decode cX6_sowNow 9 = .ok (.bipush (-8), 2) := dk_16 248 (dk_at dksX6_sowNow_0 9 rfl rfl)
theorem dX6_sowNow_11 : decode cX6_sowNow 11 = .ok (.ireturn, 1) := dk_172 (dk_at dksX6_sowNow_0 11 rfl rfl)
theorem dX6_sowNow_12 : decode cX6_sowNow 12 = .ok (.aload_n 0, 1) := dk_42 (dk_at dksX6_sowNow_0 12 rfl rfl)
theorem dX6_sowNow_13 : decode cX6_sowNow 13 = .ok (.iload_n 1, 1) := dk_27 (dk_at dksX6_sowNow_0 13 rfl rfl)
theorem dX6_sowNow_14 : decode cX6_sowNow 14 = .ok (.iload_n 2, 1) := dk_28 (dk_at dksX6_sowNow_0 14 rfl rfl)
theorem dX6_sowNow_15 : decode cX6_sowNow 15 = .ok (.invokevirtual 83, 3) := dk_182 0 83 (dk_at dksX6_sowNow_0 15 rfl rfl)
theorem dX6_sowNow_18 : decode cX6_sowNow 18 = .ok (.istore_n 3, 1) := dk_62 (dk_at dksX6_sowNow_0 18 rfl rfl)
theorem dX6_sowNow_19 : decode cX6_sowNow 19 = .ok (.aload_n 0, 1) := dk_42 (dk_at dksX6_sowNow_0 19 rfl rfl)
theorem dX6_sowNow_20 : decode cX6_sowNow 20 = .ok (.iload_n 3, 1) := dk_29 (dk_at dksX6_sowNow_0 20 rfl rfl)
theorem dX6_sowNow_21 : decode cX6_sowNow 21 = .ok (.invokevirtual 93, 3) := dk_182 0 93 (dk_at dksX6_sowNow_0 21 rfl rfl)
theorem dX6_sowNow_24 : decode cX6_sowNow 24 = .ok (.ifCond .ne 5, 3) := dk_154 0 5 (dk_at dksX6_sowNow_1 0 rfl rfl)
theorem dX6_sowNow_27 : decode cX6_sowNow 27 = .ok (.iconst (-1), 1) := dk_2 (dk_at dksX6_sowNow_1 3 rfl rfl)
theorem dX6_sowNow_28 : decode cX6_sowNow 28 = .ok (.ireturn, 1) := dk_172 (dk_at dksX6_sowNow_1 4 rfl rfl)
theorem dX6_sowNow_29 : decode cX6_sowNow 29 = .ok (.aload_n 0, 1) := dk_42 (dk_at dksX6_sowNow_1 5 rfl rfl)
theorem dX6_sowNow_30 : decode cX6_sowNow 30 = .ok (.iload_n 3, 1) := dk_29 (dk_at dksX6_sowNow_1 6 rfl rfl)
theorem dX6_sowNow_31 : decode cX6_sowNow 31 = .ok (.iconst 1, 1) := dk_4 (dk_at dksX6_sowNow_1 7 rfl rfl)
theorem dX6_sowNow_32 : decode cX6_sowNow 32 = .ok (.invokevirtual 86, 3) := dk_182 0 86 (dk_at dksX6_sowNow_1 8 rfl rfl)
theorem dX6_sowNow_35 : decode cX6_sowNow 35 = .ok (.istore 4, 2) := dk_54 4 (dk_at dksX6_sowNow_1 11 rfl rfl)
theorem dX6_sowNow_37 : decode cX6_sowNow 37 = .ok (.iload 4, 2) := dk_21 4 (dk_at dksX6_sowNow_1 13 rfl rfl)
theorem dX6_sowNow_39 : decode cX6_sowNow 39 = .ok (.bipush 9, 2) := dk_16 9 (dk_at dksX6_sowNow_1 15 rfl rfl)
theorem dX6_sowNow_41 : decode cX6_sowNow 41 = .ok (.if_icmp .ne 6, 3) := dk_160 0 6 (dk_at dksX6_sowNow_1 17 rfl rfl)
theorem dX6_sowNow_44 : decode cX6_sowNow 44 = .ok (.bipush (-6), 2) := dk_16 250 (dk_at dksX6_sowNow_1 20 rfl rfl)
theorem dX6_sowNow_46 : decode cX6_sowNow 46 = .ok (.ireturn, 1) := dk_172 (dk_at dksX6_sowNow_1 22 rfl rfl)
theorem dX6_sowNow_47 : decode cX6_sowNow 47 = .ok (.aload_n 0, 1) := dk_42 (dk_at dksX6_sowNow_1 23 rfl rfl)
theorem dX6_sowNow_48 : decode cX6_sowNow 48 = .ok (.iload_n 3, 1) := dk_29 (dk_at dksX6_sowNow_2 0 rfl rfl)
theorem dX6_sowNow_49 : decode cX6_sowNow 49 = .ok (.iconst 1, 1) := dk_4 (dk_at dksX6_sowNow_2 1 rfl rfl)
theorem dX6_sowNow_50 : decode cX6_sowNow 50 = .ok (.bipush 9, 2) := dk_16 9 (dk_at dksX6_sowNow_2 2 rfl rfl)
theorem dX6_sowNow_52 : decode cX6_sowNow 52 = .ok (.invokevirtual 139, 3) := dk_182 0 139 (dk_at dksX6_sowNow_2 4 rfl rfl)
theorem dX6_sowNow_55 : decode cX6_sowNow 55 = .ok (.aload_n 0, 1) := dk_42 (dk_at dksX6_sowNow_2 7 rfl rfl)
theorem dX6_sowNow_56 : decode cX6_sowNow 56 = .ok (.bipush 6, 2) := dk_16 6 (dk_at dksX6_sowNow_2 8 rfl rfl)
theorem dX6_sowNow_58 : decode cX6_sowNow 58 = .ok (.bipush 9, 2) := dk_16 9 (dk_at dksX6_sowNow_2 10 rfl rfl)
theorem dX6_sowNow_60 : decode cX6_sowNow 60 = .ok (.iload 4, 2) := dk_21 4 (dk_at dksX6_sowNow_2 12 rfl rfl)
theorem dX6_sowNow_62 : decode cX6_sowNow 62 = .ok (.isub, 1) := dk_100 (dk_at dksX6_sowNow_2 14 rfl rfl)
theorem dX6_sowNow_63 : decode cX6_sowNow 63 = .ok (.invokevirtual 143, 3) := dk_182 0 143 (dk_at dksX6_sowNow_2 15 rfl rfl)
theorem dX6_sowNow_66 : decode cX6_sowNow 66 = .ok (.iload 4, 2) := dk_21 4 (dk_at dksX6_sowNow_2 18 rfl rfl)
theorem dX6_sowNow_68 : decode cX6_sowNow 68 = .ok (.ireturn, 1) := dk_172 (dk_at dksX6_sowNow_2 20 rfl rfl)
def dkwX6_hasteNow_1 : List UInt8 := [29, 172]
abbrev dktX6_hasteNow_1 : List UInt8 := dkwX6_hasteNow_1 ++ []
def dkwX6_hasteNow_0 : List UInt8 := [42, 27, 16, 9, 182, 0, 103, 62, 29, 28, 160, 0, 6, 16, 250, 172, 42, 27, 16, 9, 28, 182, 0, 154]
abbrev dktX6_hasteNow_0 : List UInt8 := dkwX6_hasteNow_0 ++ dktX6_hasteNow_1
theorem dksX6_hasteNow_0 : cX6_hasteNow.data.toList.drop 0 = dktX6_hasteNow_0 := by decide +kernel
theorem dksX6_hasteNow_1 : cX6_hasteNow.data.toList.drop 24 = dktX6_hasteNow_1 := dk_seg dksX6_hasteNow_0 24 rfl rfl
theorem dX6_hasteNow_0 : decode cX6_hasteNow 0 = .ok (.aload_n 0, 1) := dk_42 (dk_at dksX6_hasteNow_0 0 rfl rfl)
theorem dX6_hasteNow_1 : decode cX6_hasteNow 1 = .ok (.iload_n 1, 1) := dk_27 (dk_at dksX6_hasteNow_0 1 rfl rfl)
theorem dX6_hasteNow_2 : decode cX6_hasteNow 2 = .ok (.bipush 9, 2) := dk_16 9 (dk_at dksX6_hasteNow_0 2 rfl rfl)
theorem dX6_hasteNow_4 : decode cX6_hasteNow 4 = .ok (.invokevirtual 103, 3) := dk_182 0 103 (dk_at dksX6_hasteNow_0 4 rfl rfl)
theorem dX6_hasteNow_7 : decode cX6_hasteNow 7 = .ok (.istore_n 3, 1) := dk_62 (dk_at dksX6_hasteNow_0 7 rfl rfl)
theorem dX6_hasteNow_8 : decode cX6_hasteNow 8 = .ok (.iload_n 3, 1) := dk_29 (dk_at dksX6_hasteNow_0 8 rfl rfl)
theorem dX6_hasteNow_9 : decode cX6_hasteNow 9 = .ok (.iload_n 2, 1) := dk_28 (dk_at dksX6_hasteNow_0 9 rfl rfl)
theorem dX6_hasteNow_10 : decode cX6_hasteNow 10 = .ok (.if_icmp .ne 6, 3) := dk_160 0 6 (dk_at dksX6_hasteNow_0 10 rfl rfl)
theorem dX6_hasteNow_13 : decode cX6_hasteNow 13 = .ok (.bipush (-6), 2) := dk_16 250 (dk_at dksX6_hasteNow_0 13 rfl rfl)
theorem dX6_hasteNow_15 : decode cX6_hasteNow 15 = .ok (.ireturn, 1) := dk_172 (dk_at dksX6_hasteNow_0 15 rfl rfl)
theorem dX6_hasteNow_16 : decode cX6_hasteNow 16 = .ok (.aload_n 0, 1) := dk_42 (dk_at dksX6_hasteNow_0 16 rfl rfl)
theorem dX6_hasteNow_17 : decode cX6_hasteNow 17 = .ok (.iload_n 1, 1) := dk_27 (dk_at dksX6_hasteNow_0 17 rfl rfl)
theorem dX6_hasteNow_18 : decode cX6_hasteNow 18 = .ok (.bipush 9, 2) := dk_16 9 (dk_at dksX6_hasteNow_0 18 rfl rfl)
theorem dX6_hasteNow_20 : decode cX6_hasteNow 20 = .ok (.iload_n 2, 1) := dk_28 (dk_at dksX6_hasteNow_0 20 rfl rfl)
theorem dX6_hasteNow_21 : decode cX6_hasteNow 21 = .ok (.invokevirtual 154, 3) := dk_182 0 154 (dk_at dksX6_hasteNow_0 21 rfl rfl)
theorem dX6_hasteNow_24 : decode cX6_hasteNow 24 = .ok (.iload_n 3, 1) := dk_29 (dk_at dksX6_hasteNow_1 0 rfl rfl)
theorem dX6_hasteNow_25 : decode cX6_hasteNow 25 = .ok (.ireturn, 1) := dk_172 (dk_at dksX6_hasteNow_1 1 rfl rfl)
def dkwX6_turnNow_1 : List UInt8 := [16, 8, 28, 182, 0, 154, 42, 27, 16, 7, 182, 0, 103, 172]
abbrev dktX6_turnNow_1 : List UInt8 := dkwX6_turnNow_1 ++ []
def dkwX6_turnNow_0 : List UInt8 := [42, 27, 16, 7, 182, 0, 103, 61, 42, 27, 16, 7, 42, 27, 16, 8, 182, 0, 103, 182, 0, 154, 42, 27]
abbrev dktX6_turnNow_0 : List UInt8 := dkwX6_turnNow_0 ++ dktX6_turnNow_1
theorem dksX6_turnNow_0 : cX6_turnNow.data.toList.drop 0 = dktX6_turnNow_0 := by decide +kernel
theorem dksX6_turnNow_1 : cX6_turnNow.data.toList.drop 24 = dktX6_turnNow_1 := dk_seg dksX6_turnNow_0 24 rfl rfl
theorem dX6_turnNow_0 : decode cX6_turnNow 0 = .ok (.aload_n 0, 1) := dk_42 (dk_at dksX6_turnNow_0 0 rfl rfl)
theorem dX6_turnNow_1 : decode cX6_turnNow 1 = .ok (.iload_n 1, 1) := dk_27 (dk_at dksX6_turnNow_0 1 rfl rfl)
theorem dX6_turnNow_2 : decode cX6_turnNow 2 = .ok (.bipush 7, 2) := dk_16 7 (dk_at dksX6_turnNow_0 2 rfl rfl)
theorem dX6_turnNow_4 : decode cX6_turnNow 4 = .ok (.invokevirtual 103, 3) := dk_182 0 103 (dk_at dksX6_turnNow_0 4 rfl rfl)
theorem dX6_turnNow_7 : decode cX6_turnNow 7 = .ok (.istore_n 2, 1) := dk_61 (dk_at dksX6_turnNow_0 7 rfl rfl)
theorem dX6_turnNow_8 : decode cX6_turnNow 8 = .ok (.aload_n 0, 1) := dk_42 (dk_at dksX6_turnNow_0 8 rfl rfl)
theorem dX6_turnNow_9 : decode cX6_turnNow 9 = .ok (.iload_n 1, 1) := dk_27 (dk_at dksX6_turnNow_0 9 rfl rfl)
theorem dX6_turnNow_10 : decode cX6_turnNow 10 = .ok (.bipush 7, 2) := dk_16 7 (dk_at dksX6_turnNow_0 10 rfl rfl)
theorem dX6_turnNow_12 : decode cX6_turnNow 12 = .ok (.aload_n 0, 1) := dk_42 (dk_at dksX6_turnNow_0 12 rfl rfl)
theorem dX6_turnNow_13 : decode cX6_turnNow 13 = .ok (.iload_n 1, 1) := dk_27 (dk_at dksX6_turnNow_0 13 rfl rfl)
theorem dX6_turnNow_14 : decode cX6_turnNow 14 = .ok (.bipush 8, 2) := dk_16 8 (dk_at dksX6_turnNow_0 14 rfl rfl)
theorem dX6_turnNow_16 : decode cX6_turnNow 16 = .ok (.invokevirtual 103, 3) := dk_182 0 103 (dk_at dksX6_turnNow_0 16 rfl rfl)
theorem dX6_turnNow_19 : decode cX6_turnNow 19 = .ok (.invokevirtual 154, 3) := dk_182 0 154 (dk_at dksX6_turnNow_0 19 rfl rfl)
theorem dX6_turnNow_22 : decode cX6_turnNow 22 = .ok (.aload_n 0, 1) := dk_42 (dk_at dksX6_turnNow_0 22 rfl rfl)
theorem dX6_turnNow_23 : decode cX6_turnNow 23 = .ok (.iload_n 1, 1) := dk_27 (dk_at dksX6_turnNow_0 23 rfl rfl)
theorem dX6_turnNow_24 : decode cX6_turnNow 24 = .ok (.bipush 8, 2) := dk_16 8 (dk_at dksX6_turnNow_1 0 rfl rfl)
theorem dX6_turnNow_26 : decode cX6_turnNow 26 = .ok (.iload_n 2, 1) := dk_28 (dk_at dksX6_turnNow_1 2 rfl rfl)
theorem dX6_turnNow_27 : decode cX6_turnNow 27 = .ok (.invokevirtual 154, 3) := dk_182 0 154 (dk_at dksX6_turnNow_1 3 rfl rfl)
theorem dX6_turnNow_30 : decode cX6_turnNow 30 = .ok (.aload_n 0, 1) := dk_42 (dk_at dksX6_turnNow_1 6 rfl rfl)
theorem dX6_turnNow_31 : decode cX6_turnNow 31 = .ok (.iload_n 1, 1) := dk_27 (dk_at dksX6_turnNow_1 7 rfl rfl)
theorem dX6_turnNow_32 : decode cX6_turnNow 32 = .ok (.bipush 7, 2) := dk_16 7 (dk_at dksX6_turnNow_1 8 rfl rfl)
theorem dX6_turnNow_34 : decode cX6_turnNow 34 = .ok (.invokevirtual 103, 3) := dk_182 0 103 (dk_at dksX6_turnNow_1 10 rfl rfl)
theorem dX6_turnNow_37 : decode cX6_turnNow 37 = .ok (.ireturn, 1) := dk_172 (dk_at dksX6_turnNow_1 13 rfl rfl)
def dkwX6_size_3 : List UInt8 := [172, 42, 182, 1, 62, 172, 42, 4, 182, 0, 183, 172, 42, 180, 1, 65, 172, 42, 180, 0, 7, 27, 46, 172]
abbrev dktX6_size_3 : List UInt8 := dkwX6_size_3 ++ []
def dkwX6_size_2 : List UInt8 := [42, 42, 180, 0, 7, 6, 46, 182, 0, 100, 184, 0, 130, 172, 42, 3, 182, 0, 183, 172, 42, 182, 1, 128]
abbrev dktX6_size_2 : List UInt8 := dkwX6_size_2 ++ dktX6_size_3
def dkwX6_size_1 : List UInt8 := [170, 0, 0, 0, 78, 0, 0, 0, 8, 0, 0, 0, 13, 0, 0, 0, 37, 0, 0, 0, 51, 0, 0, 0, 57, 0, 0, 0, 62, 0, 0, 0, 67, 0, 0, 0, 73]
abbrev dktX6_size_1 : List UInt8 := dkwX6_size_1 ++ dktX6_size_2
def dkwX6_size_0 : List UInt8 := [42, 27, 133, 9, 20, 1, 126, 184, 0, 68, 182, 0, 186, 154, 0, 5, 3, 172, 27]
abbrev dktX6_size_0 : List UInt8 := dkwX6_size_0 ++ dktX6_size_1
theorem dksX6_size_0 : cX6_size.data.toList.drop 0 = dktX6_size_0 := by decide +kernel
theorem dksX6_size_1 : cX6_size.data.toList.drop 19 = dktX6_size_1 := dk_seg dksX6_size_0 19 rfl rfl
theorem dksX6_size_2 : cX6_size.data.toList.drop 56 = dktX6_size_2 := dk_seg dksX6_size_1 37 rfl rfl
theorem dksX6_size_3 : cX6_size.data.toList.drop 80 = dktX6_size_3 := dk_seg dksX6_size_2 24 rfl rfl
theorem dX6_size_0 : decode cX6_size 0 = .ok (.aload_n 0, 1) := dk_42 (dk_at dksX6_size_0 0 rfl rfl)
theorem dX6_size_1 : decode cX6_size 1 = .ok (.iload_n 1, 1) := dk_27 (dk_at dksX6_size_0 1 rfl rfl)
theorem dX6_size_2 : decode cX6_size 2 = .ok (.i2l, 1) := dk_133 (dk_at dksX6_size_0 2 rfl rfl)
theorem dX6_size_3 : decode cX6_size 3 = .ok (.lconst 0, 1) := dk_9 (dk_at dksX6_size_0 3 rfl rfl)
theorem dX6_size_4 : decode cX6_size 4 = .ok (.ldc2_w 382, 3) := dk_20 1 126 (dk_at dksX6_size_0 4 rfl rfl)
theorem dX6_size_7 : decode cX6_size 7 = .ok (.invokestatic 68, 3) := dk_184 0 68 (dk_at dksX6_size_0 7 rfl rfl)
theorem dX6_size_10 : decode cX6_size 10 = .ok (.invokevirtual 186, 3) := dk_182 0 186 (dk_at dksX6_size_0 10 rfl rfl)
theorem dX6_size_13 : decode cX6_size 13 = .ok (.ifCond .ne 5, 3) := dk_154 0 5 (dk_at dksX6_size_0 13 rfl rfl)
theorem dX6_size_16 : decode cX6_size 16 = .ok (.iconst 0, 1) := dk_3 (dk_at dksX6_size_0 16 rfl rfl)
theorem dX6_size_17 : decode cX6_size 17 = .ok (.ireturn, 1) := dk_172 (dk_at dksX6_size_0 17 rfl rfl)
theorem dX6_size_18 : decode cX6_size 18 = .ok (.iload_n 1, 1) := dk_27 (dk_at dksX6_size_0 18 rfl rfl)
theorem dX6_size_19 : decode cX6_size 19 = .ok (.tableswitch 78 8 13 #[37, 51, 57, 62, 67, 73], 37) := by decide +kernel
theorem dX6_size_56 : decode cX6_size 56 = .ok (.aload_n 0, 1) := dk_42 (dk_at dksX6_size_2 0 rfl rfl)
theorem dX6_size_57 : decode cX6_size 57 = .ok (.aload_n 0, 1) := dk_42 (dk_at dksX6_size_2 1 rfl rfl)
theorem dX6_size_58 : decode cX6_size 58 = .ok (.getfield 7, 3) := dk_180 0 7 (dk_at dksX6_size_2 2 rfl rfl)
theorem dX6_size_61 : decode cX6_size 61 = .ok (.iconst 3, 1) := dk_6 (dk_at dksX6_size_2 5 rfl rfl)
theorem dX6_size_62 : decode cX6_size 62 = .ok (.iaload, 1) := dk_46 (dk_at dksX6_size_2 6 rfl rfl)
theorem dX6_size_63 : decode cX6_size 63 = .ok (.invokevirtual 100, 3) := dk_182 0 100 (dk_at dksX6_size_2 7 rfl rfl)
theorem dX6_size_66 : decode cX6_size 66 = .ok (.invokestatic 130, 3) := dk_184 0 130 (dk_at dksX6_size_2 10 rfl rfl)
theorem dX6_size_69 : decode cX6_size 69 = .ok (.ireturn, 1) := dk_172 (dk_at dksX6_size_2 13 rfl rfl)
theorem dX6_size_70 : decode cX6_size 70 = .ok (.aload_n 0, 1) := dk_42 (dk_at dksX6_size_2 14 rfl rfl)
theorem dX6_size_71 : decode cX6_size 71 = .ok (.iconst 0, 1) := dk_3 (dk_at dksX6_size_2 15 rfl rfl)
theorem dX6_size_72 : decode cX6_size 72 = .ok (.invokevirtual 183, 3) := dk_182 0 183 (dk_at dksX6_size_2 16 rfl rfl)
theorem dX6_size_75 : decode cX6_size 75 = .ok (.ireturn, 1) := dk_172 (dk_at dksX6_size_2 19 rfl rfl)
theorem dX6_size_76 : decode cX6_size 76 = .ok (.aload_n 0, 1) := dk_42 (dk_at dksX6_size_2 20 rfl rfl)
theorem dX6_size_77 : decode cX6_size 77 = .ok (.invokevirtual 384, 3) := dk_182 1 128 (dk_at dksX6_size_2 21 rfl rfl)
theorem dX6_size_80 : decode cX6_size 80 = .ok (.ireturn, 1) := dk_172 (dk_at dksX6_size_3 0 rfl rfl)
theorem dX6_size_81 : decode cX6_size 81 = .ok (.aload_n 0, 1) := dk_42 (dk_at dksX6_size_3 1 rfl rfl)
theorem dX6_size_82 : decode cX6_size 82 = .ok (.invokevirtual 318, 3) := dk_182 1 62 (dk_at dksX6_size_3 2 rfl rfl)
theorem dX6_size_85 : decode cX6_size 85 = .ok (.ireturn, 1) := dk_172 (dk_at dksX6_size_3 5 rfl rfl)
theorem dX6_size_86 : decode cX6_size 86 = .ok (.aload_n 0, 1) := dk_42 (dk_at dksX6_size_3 6 rfl rfl)
theorem dX6_size_87 : decode cX6_size 87 = .ok (.iconst 1, 1) := dk_4 (dk_at dksX6_size_3 7 rfl rfl)
theorem dX6_size_88 : decode cX6_size 88 = .ok (.invokevirtual 183, 3) := dk_182 0 183 (dk_at dksX6_size_3 8 rfl rfl)
theorem dX6_size_91 : decode cX6_size 91 = .ok (.ireturn, 1) := dk_172 (dk_at dksX6_size_3 11 rfl rfl)
theorem dX6_size_92 : decode cX6_size 92 = .ok (.aload_n 0, 1) := dk_42 (dk_at dksX6_size_3 12 rfl rfl)
theorem dX6_size_93 : decode cX6_size 93 = .ok (.getfield 321, 3) := dk_180 1 65 (dk_at dksX6_size_3 13 rfl rfl)
theorem dX6_size_96 : decode cX6_size 96 = .ok (.ireturn, 1) := dk_172 (dk_at dksX6_size_3 16 rfl rfl)
theorem dX6_size_97 : decode cX6_size 97 = .ok (.aload_n 0, 1) := dk_42 (dk_at dksX6_size_3 17 rfl rfl)
theorem dX6_size_98 : decode cX6_size 98 = .ok (.getfield 7, 3) := dk_180 0 7 (dk_at dksX6_size_3 18 rfl rfl)
theorem dX6_size_101 : decode cX6_size 101 = .ok (.iload_n 1, 1) := dk_27 (dk_at dksX6_size_3 21 rfl rfl)
theorem dX6_size_102 : decode cX6_size 102 = .ok (.iaload, 1) := dk_46 (dk_at dksX6_size_3 22 rfl rfl)
theorem dX6_size_103 : decode cX6_size 103 = .ok (.ireturn, 1) := dk_172 (dk_at dksX6_size_3 23 rfl rfl)
def dkwX6_bareCells_1 : List UInt8 := [132, 2, 1, 167, 255, 234, 27, 172]
abbrev dktX6_bareCells_1 : List UInt8 := dkwX6_bareCells_1 ++ []
def dkwX6_bareCells_0 : List UInt8 := [3, 60, 3, 61, 28, 42, 182, 0, 117, 162, 0, 20, 27, 42, 28, 182, 1, 123, 184, 0, 130, 96, 60]
abbrev dktX6_bareCells_0 : List UInt8 := dkwX6_bareCells_0 ++ dktX6_bareCells_1
theorem dksX6_bareCells_0 : cX6_bareCells.data.toList.drop 0 = dktX6_bareCells_0 := by decide +kernel
theorem dksX6_bareCells_1 : cX6_bareCells.data.toList.drop 23 = dktX6_bareCells_1 := dk_seg dksX6_bareCells_0 23 rfl rfl
theorem dX6_bareCells_0 : decode cX6_bareCells 0 = .ok (.iconst 0, 1) := dk_3 (dk_at dksX6_bareCells_0 0 rfl rfl)
theorem dX6_bareCells_1 : decode cX6_bareCells 1 = .ok (.istore_n 1, 1) := dk_60 (dk_at dksX6_bareCells_0 1 rfl rfl)
theorem dX6_bareCells_2 : decode cX6_bareCells 2 = .ok (.iconst 0, 1) := dk_3 (dk_at dksX6_bareCells_0 2 rfl rfl)
theorem dX6_bareCells_3 : decode cX6_bareCells 3 = .ok (.istore_n 2, 1) := dk_61 (dk_at dksX6_bareCells_0 3 rfl rfl)
theorem dX6_bareCells_4 : decode cX6_bareCells 4 = .ok (.iload_n 2, 1) := dk_28 (dk_at dksX6_bareCells_0 4 rfl rfl)
theorem dX6_bareCells_5 : decode cX6_bareCells 5 = .ok (.aload_n 0, 1) := dk_42 (dk_at dksX6_bareCells_0 5 rfl rfl)
theorem dX6_bareCells_6 : decode cX6_bareCells 6 = .ok (.invokevirtual 117, 3) := dk_182 0 117 (dk_at dksX6_bareCells_0 6 rfl rfl)
theorem dX6_bareCells_9 : decode cX6_bareCells 9 = .ok (.if_icmp .ge 20, 3) := dk_162 0 20 (dk_at dksX6_bareCells_0 9 rfl rfl)
theorem dX6_bareCells_12 : decode cX6_bareCells 12 = .ok (.iload_n 1, 1) := dk_27 (dk_at dksX6_bareCells_0 12 rfl rfl)
theorem dX6_bareCells_13 : decode cX6_bareCells 13 = .ok (.aload_n 0, 1) := dk_42 (dk_at dksX6_bareCells_0 13 rfl rfl)
theorem dX6_bareCells_14 : decode cX6_bareCells 14 = .ok (.iload_n 2, 1) := dk_28 (dk_at dksX6_bareCells_0 14 rfl rfl)
theorem dX6_bareCells_15 : decode cX6_bareCells 15 = .ok (.invokevirtual 379, 3) := dk_182 1 123 (dk_at dksX6_bareCells_0 15 rfl rfl)
theorem dX6_bareCells_18 : decode cX6_bareCells 18 = .ok (.invokestatic 130, 3) := dk_184 0 130 (dk_at dksX6_bareCells_0 18 rfl rfl)
theorem dX6_bareCells_21 : decode cX6_bareCells 21 = .ok (.iadd, 1) := dk_96 (dk_at dksX6_bareCells_0 21 rfl rfl)
theorem dX6_bareCells_22 : decode cX6_bareCells 22 = .ok (.istore_n 1, 1) := dk_60 (dk_at dksX6_bareCells_0 22 rfl rfl)
theorem dX6_bareCells_23 : decode cX6_bareCells 23 = .ok (.iinc 2 1, 3) := dk_132 2 1 (dk_at dksX6_bareCells_1 0 rfl rfl)
theorem dX6_bareCells_26 : decode cX6_bareCells 26 = .ok (.goto (-22), 3) := dk_167 255 234 (dk_at dksX6_bareCells_1 3 rfl rfl)
theorem dX6_bareCells_29 : decode cX6_bareCells 29 = .ok (.iload_n 1, 1) := dk_27 (dk_at dksX6_bareCells_1 6 rfl rfl)
theorem dX6_bareCells_30 : decode cX6_bareCells 30 = .ok (.ireturn, 1) := dk_172 (dk_at dksX6_bareCells_1 7 rfl rfl)
def dkwX6_isBare_0 : List UInt8 := [42, 27, 182, 0, 93, 153, 0, 16, 42, 27, 4, 182, 0, 86, 154, 0, 7, 4, 167, 0, 4, 3, 172]
abbrev dktX6_isBare_0 : List UInt8 := dkwX6_isBare_0 ++ []
theorem dksX6_isBare_0 : cX6_isBare.data.toList.drop 0 = dktX6_isBare_0 := by decide +kernel
theorem dX6_isBare_0 : decode cX6_isBare 0 = .ok (.aload_n 0, 1) := dk_42 (dk_at dksX6_isBare_0 0 rfl rfl)
theorem dX6_isBare_1 : decode cX6_isBare 1 = .ok (.iload_n 1, 1) := dk_27 (dk_at dksX6_isBare_0 1 rfl rfl)
theorem dX6_isBare_2 : decode cX6_isBare 2 = .ok (.invokevirtual 93, 3) := dk_182 0 93 (dk_at dksX6_isBare_0 2 rfl rfl)
theorem dX6_isBare_5 : decode cX6_isBare 5 = .ok (.ifCond .eq 16, 3) := dk_153 0 16 (dk_at dksX6_isBare_0 5 rfl rfl)
theorem dX6_isBare_8 : decode cX6_isBare 8 = .ok (.aload_n 0, 1) := dk_42 (dk_at dksX6_isBare_0 8 rfl rfl)
theorem dX6_isBare_9 : decode cX6_isBare 9 = .ok (.iload_n 1, 1) := dk_27 (dk_at dksX6_isBare_0 9 rfl rfl)
theorem dX6_isBare_10 : decode cX6_isBare 10 = .ok (.iconst 1, 1) := dk_4 (dk_at dksX6_isBare_0 10 rfl rfl)
theorem dX6_isBare_11 : decode cX6_isBare 11 = .ok (.invokevirtual 86, 3) := dk_182 0 86 (dk_at dksX6_isBare_0 11 rfl rfl)
theorem dX6_isBare_14 : decode cX6_isBare 14 = .ok (.ifCond .ne 7, 3) := dk_154 0 7 (dk_at dksX6_isBare_0 14 rfl rfl)
theorem dX6_isBare_17 : decode cX6_isBare 17 = .ok (.iconst 1, 1) := dk_4 (dk_at dksX6_isBare_0 17 rfl rfl)
theorem dX6_isBare_18 : decode cX6_isBare 18 = .ok (.goto 4, 3) := dk_167 0 4 (dk_at dksX6_isBare_0 18 rfl rfl)
theorem dX6_isBare_21 : decode cX6_isBare 21 = .ok (.iconst 0, 1) := dk_3 (dk_at dksX6_isBare_0 21 rfl rfl)
theorem dX6_isBare_22 : decode cX6_isBare 22 = .ok (.ireturn, 1) := dk_172 (dk_at dksX6_isBare_0 22 rfl rfl)
def dkwX6_cell_1 : List UInt8 := [27, 28, 182, 0, 83, 29, 182, 1, 146, 167, 0, 4, 3, 172]
abbrev dktX6_cell_1 : List UInt8 := dkwX6_cell_1 ++ []
def dkwX6_cell_0 : List UInt8 := [42, 42, 27, 28, 182, 0, 89, 29, 133, 9, 20, 1, 140, 184, 0, 68, 182, 1, 142, 153, 0, 17, 42, 42]
abbrev dktX6_cell_0 : List UInt8 := dkwX6_cell_0 ++ dktX6_cell_1
theorem dksX6_cell_0 : cX6_cell.data.toList.drop 0 = dktX6_cell_0 := by decide +kernel
theorem dksX6_cell_1 : cX6_cell.data.toList.drop 24 = dktX6_cell_1 := dk_seg dksX6_cell_0 24 rfl rfl
theorem dX6_cell_0 : decode cX6_cell 0 = .ok (.aload_n 0, 1) := dk_42 (dk_at dksX6_cell_0 0 rfl rfl)
theorem dX6_cell_1 : decode cX6_cell 1 = .ok (.aload_n 0, 1) := dk_42 (dk_at dksX6_cell_0 1 rfl rfl)
theorem dX6_cell_2 : decode cX6_cell 2 = .ok (.iload_n 1, 1) := dk_27 (dk_at dksX6_cell_0 2 rfl rfl)
theorem dX6_cell_3 : decode cX6_cell 3 = .ok (.iload_n 2, 1) := dk_28 (dk_at dksX6_cell_0 3 rfl rfl)
theorem dX6_cell_4 : decode cX6_cell 4 = .ok (.invokevirtual 89, 3) := dk_182 0 89 (dk_at dksX6_cell_0 4 rfl rfl)
theorem dX6_cell_7 : decode cX6_cell 7 = .ok (.iload_n 3, 1) := dk_29 (dk_at dksX6_cell_0 7 rfl rfl)
theorem dX6_cell_8 : decode cX6_cell 8 = .ok (.i2l, 1) := dk_133 (dk_at dksX6_cell_0 8 rfl rfl)
theorem dX6_cell_9 : decode cX6_cell 9 = .ok (.lconst 0, 1) := dk_9 (dk_at dksX6_cell_0 9 rfl rfl)
theorem dX6_cell_10 : decode cX6_cell 10 = .ok (.ldc2_w 396, 3) := dk_20 1 140 (dk_at dksX6_cell_0 10 rfl rfl)
theorem dX6_cell_13 : decode cX6_cell 13 = .ok (.invokestatic 68, 3) := dk_184 0 68 (dk_at dksX6_cell_0 13 rfl rfl)
theorem dX6_cell_16 : decode cX6_cell 16 = .ok (.invokevirtual 398, 3) := dk_182 1 142 (dk_at dksX6_cell_0 16 rfl rfl)
theorem dX6_cell_19 : decode cX6_cell 19 = .ok (.ifCond .eq 17, 3) := dk_153 0 17 (dk_at dksX6_cell_0 19 rfl rfl)
theorem dX6_cell_22 : decode cX6_cell 22 = .ok (.aload_n 0, 1) := dk_42 (dk_at dksX6_cell_0 22 rfl rfl)
theorem dX6_cell_23 : decode cX6_cell 23 = .ok (.aload_n 0, 1) := dk_42 (dk_at dksX6_cell_0 23 rfl rfl)
theorem dX6_cell_24 : decode cX6_cell 24 = .ok (.iload_n 1, 1) := dk_27 (dk_at dksX6_cell_1 0 rfl rfl)
theorem dX6_cell_25 : decode cX6_cell 25 = .ok (.iload_n 2, 1) := dk_28 (dk_at dksX6_cell_1 1 rfl rfl)
theorem dX6_cell_26 : decode cX6_cell 26 = .ok (.invokevirtual 83, 3) := dk_182 0 83 (dk_at dksX6_cell_1 2 rfl rfl)
theorem dX6_cell_29 : decode cX6_cell 29 = .ok (.iload_n 3, 1) := dk_29 (dk_at dksX6_cell_1 5 rfl rfl)
theorem dX6_cell_30 : decode cX6_cell 30 = .ok (.invokevirtual 402, 3) := dk_182 1 146 (dk_at dksX6_cell_1 6 rfl rfl)
theorem dX6_cell_33 : decode cX6_cell 33 = .ok (.goto 4, 3) := dk_167 0 4 (dk_at dksX6_cell_1 9 rfl rfl)
theorem dX6_cell_36 : decode cX6_cell 36 = .ok (.iconst 0, 1) := dk_3 (dk_at dksX6_cell_1 12 rfl rfl)
theorem dX6_cell_37 : decode cX6_cell 37 = .ok (.ireturn, 1) := dk_172 (dk_at dksX6_cell_1 13 rfl rfl)
def dkwX6_passesBoth_1 : List UInt8 := [180, 0, 61, 154, 0, 7, 4, 167, 0, 4, 3, 172]
abbrev dktX6_passesBoth_1 : List UInt8 := dkwX6_passesBoth_1 ++ []
def dkwX6_passesBoth_0 : List UInt8 := [42, 27, 154, 0, 7, 4, 167, 0, 12, 28, 154, 0, 7, 5, 167, 0, 4, 3, 181, 0, 61, 42]
abbrev dktX6_passesBoth_0 : List UInt8 := dkwX6_passesBoth_0 ++ dktX6_passesBoth_1
theorem dksX6_passesBoth_0 : cX6_passesBoth.data.toList.drop 0 = dktX6_passesBoth_0 := by decide +kernel
theorem dksX6_passesBoth_1 : cX6_passesBoth.data.toList.drop 22 = dktX6_passesBoth_1 := dk_seg dksX6_passesBoth_0 22 rfl rfl
theorem dX6_passesBoth_0 : decode cX6_passesBoth 0 = .ok (.aload_n 0, 1) := dk_42 (dk_at dksX6_passesBoth_0 0 rfl rfl)
theorem dX6_passesBoth_1 : decode cX6_passesBoth 1 = .ok (.iload_n 1, 1) := dk_27 (dk_at dksX6_passesBoth_0 1 rfl rfl)
theorem dX6_passesBoth_2 : decode cX6_passesBoth 2 = .ok (.ifCond .ne 7, 3) := dk_154 0 7 (dk_at dksX6_passesBoth_0 2 rfl rfl)
theorem dX6_passesBoth_5 : decode cX6_passesBoth 5 = .ok (.iconst 1, 1) := dk_4 (dk_at dksX6_passesBoth_0 5 rfl rfl)
theorem dX6_passesBoth_6 : decode cX6_passesBoth 6 = .ok (.goto 12, 3) := dk_167 0 12 (dk_at dksX6_passesBoth_0 6 rfl rfl)
theorem dX6_passesBoth_9 : decode cX6_passesBoth 9 = .ok (.iload_n 2, 1) := dk_28 (dk_at dksX6_passesBoth_0 9 rfl rfl)
theorem dX6_passesBoth_10 : decode cX6_passesBoth 10 = .ok (.ifCond .ne 7, 3) := dk_154 0 7 (dk_at dksX6_passesBoth_0 10 rfl rfl)
theorem dX6_passesBoth_13 : decode cX6_passesBoth 13 = .ok (.iconst 2, 1) := dk_5 (dk_at dksX6_passesBoth_0 13 rfl rfl)
theorem dX6_passesBoth_14 : decode cX6_passesBoth 14 = .ok (.goto 4, 3) := dk_167 0 4 (dk_at dksX6_passesBoth_0 14 rfl rfl)
theorem dX6_passesBoth_17 : decode cX6_passesBoth 17 = .ok (.iconst 0, 1) := dk_3 (dk_at dksX6_passesBoth_0 17 rfl rfl)
theorem dX6_passesBoth_18 : decode cX6_passesBoth 18 = .ok (.putfield 61, 3) := dk_181 0 61 (dk_at dksX6_passesBoth_0 18 rfl rfl)
theorem dX6_passesBoth_21 : decode cX6_passesBoth 21 = .ok (.aload_n 0, 1) := dk_42 (dk_at dksX6_passesBoth_0 21 rfl rfl)
theorem dX6_passesBoth_22 : decode cX6_passesBoth 22 = .ok (.getfield 61, 3) := dk_180 0 61 (dk_at dksX6_passesBoth_1 0 rfl rfl)
theorem dX6_passesBoth_25 : decode cX6_passesBoth 25 = .ok (.ifCond .ne 7, 3) := dk_154 0 7 (dk_at dksX6_passesBoth_1 3 rfl rfl)
theorem dX6_passesBoth_28 : decode cX6_passesBoth 28 = .ok (.iconst 1, 1) := dk_4 (dk_at dksX6_passesBoth_1 6 rfl rfl)
theorem dX6_passesBoth_29 : decode cX6_passesBoth 29 = .ok (.goto 4, 3) := dk_167 0 4 (dk_at dksX6_passesBoth_1 7 rfl rfl)
theorem dX6_passesBoth_32 : decode cX6_passesBoth 32 = .ok (.iconst 0, 1) := dk_3 (dk_at dksX6_passesBoth_1 10 rfl rfl)
theorem dX6_passesBoth_33 : decode cX6_passesBoth 33 = .ok (.ireturn, 1) := dk_172 (dk_at dksX6_passesBoth_1 11 rfl rfl)
def dkwX6_cellNow_3 : List UInt8 := [172, 42, 27, 182, 1, 137, 172, 42, 27, 28, 182, 0, 86, 172]
abbrev dktX6_cellNow_3 : List UInt8 := dkwX6_cellNow_3 ++ []
def dkwX6_cellNow_2 : List UInt8 := [42, 27, 182, 0, 93, 153, 0, 12, 42, 27, 4, 182, 0, 86, 167, 0, 4, 2, 172, 42, 27, 182, 1, 134]
abbrev dktX6_cellNow_2 : List UInt8 := dkwX6_cellNow_2 ++ dktX6_cellNow_3
def dkwX6_cellNow_1 : List UInt8 := [170, 0, 0, 0, 0, 0, 66, 0, 0, 0, 1, 0, 0, 0, 5, 0, 0, 0, 35, 0, 0, 0, 66, 0, 0, 0, 66, 0, 0, 0, 54, 0, 0, 0, 60]
abbrev dktX6_cellNow_1 : List UInt8 := dkwX6_cellNow_1 ++ dktX6_cellNow_2
def dkwX6_cellNow_0 : List UInt8 := [28]
abbrev dktX6_cellNow_0 : List UInt8 := dkwX6_cellNow_0 ++ dktX6_cellNow_1
theorem dksX6_cellNow_0 : cX6_cellNow.data.toList.drop 0 = dktX6_cellNow_0 := by decide +kernel
theorem dksX6_cellNow_1 : cX6_cellNow.data.toList.drop 1 = dktX6_cellNow_1 := dk_seg dksX6_cellNow_0 1 rfl rfl
theorem dksX6_cellNow_2 : cX6_cellNow.data.toList.drop 36 = dktX6_cellNow_2 := dk_seg dksX6_cellNow_1 35 rfl rfl
theorem dksX6_cellNow_3 : cX6_cellNow.data.toList.drop 60 = dktX6_cellNow_3 := dk_seg dksX6_cellNow_2 24 rfl rfl
theorem dX6_cellNow_0 : decode cX6_cellNow 0 = .ok (.iload_n 2, 1) := dk_28 (dk_at dksX6_cellNow_0 0 rfl rfl)
theorem dX6_cellNow_1 : decode cX6_cellNow 1 = .ok (.tableswitch 66 1 5 #[35, 66, 66, 54, 60], 35) := by decide +kernel
theorem dX6_cellNow_36 : decode cX6_cellNow 36 = .ok (.aload_n 0, 1) := dk_42 (dk_at dksX6_cellNow_2 0 rfl rfl)
theorem dX6_cellNow_37 : decode cX6_cellNow 37 = .ok (.iload_n 1, 1) := dk_27 (dk_at dksX6_cellNow_2 1 rfl rfl)
theorem dX6_cellNow_38 : decode cX6_cellNow 38 = .ok (.invokevirtual 93, 3) := dk_182 0 93 (dk_at dksX6_cellNow_2 2 rfl rfl)
theorem dX6_cellNow_41 : decode cX6_cellNow 41 = .ok (.ifCond .eq 12, 3) := dk_153 0 12 (dk_at dksX6_cellNow_2 5 rfl rfl)
theorem dX6_cellNow_44 : decode cX6_cellNow 44 = .ok (.aload_n 0, 1) := dk_42 (dk_at dksX6_cellNow_2 8 rfl rfl)
theorem dX6_cellNow_45 : decode cX6_cellNow 45 = .ok (.iload_n 1, 1) := dk_27 (dk_at dksX6_cellNow_2 9 rfl rfl)
theorem dX6_cellNow_46 : decode cX6_cellNow 46 = .ok (.iconst 1, 1) := dk_4 (dk_at dksX6_cellNow_2 10 rfl rfl)
theorem dX6_cellNow_47 : decode cX6_cellNow 47 = .ok (.invokevirtual 86, 3) := dk_182 0 86 (dk_at dksX6_cellNow_2 11 rfl rfl)
theorem dX6_cellNow_50 : decode cX6_cellNow 50 = .ok (.goto 4, 3) := dk_167 0 4 (dk_at dksX6_cellNow_2 14 rfl rfl)
theorem dX6_cellNow_53 : decode cX6_cellNow 53 = .ok (.iconst (-1), 1) := dk_2 (dk_at dksX6_cellNow_2 17 rfl rfl)
theorem dX6_cellNow_54 : decode cX6_cellNow 54 = .ok (.ireturn, 1) := dk_172 (dk_at dksX6_cellNow_2 18 rfl rfl)
theorem dX6_cellNow_55 : decode cX6_cellNow 55 = .ok (.aload_n 0, 1) := dk_42 (dk_at dksX6_cellNow_2 19 rfl rfl)
theorem dX6_cellNow_56 : decode cX6_cellNow 56 = .ok (.iload_n 1, 1) := dk_27 (dk_at dksX6_cellNow_2 20 rfl rfl)
theorem dX6_cellNow_57 : decode cX6_cellNow 57 = .ok (.invokevirtual 390, 3) := dk_182 1 134 (dk_at dksX6_cellNow_2 21 rfl rfl)
theorem dX6_cellNow_60 : decode cX6_cellNow 60 = .ok (.ireturn, 1) := dk_172 (dk_at dksX6_cellNow_3 0 rfl rfl)
theorem dX6_cellNow_61 : decode cX6_cellNow 61 = .ok (.aload_n 0, 1) := dk_42 (dk_at dksX6_cellNow_3 1 rfl rfl)
theorem dX6_cellNow_62 : decode cX6_cellNow 62 = .ok (.iload_n 1, 1) := dk_27 (dk_at dksX6_cellNow_3 2 rfl rfl)
theorem dX6_cellNow_63 : decode cX6_cellNow 63 = .ok (.invokevirtual 393, 3) := dk_182 1 137 (dk_at dksX6_cellNow_3 3 rfl rfl)
theorem dX6_cellNow_66 : decode cX6_cellNow 66 = .ok (.ireturn, 1) := dk_172 (dk_at dksX6_cellNow_3 6 rfl rfl)
theorem dX6_cellNow_67 : decode cX6_cellNow 67 = .ok (.aload_n 0, 1) := dk_42 (dk_at dksX6_cellNow_3 7 rfl rfl)
theorem dX6_cellNow_68 : decode cX6_cellNow 68 = .ok (.iload_n 1, 1) := dk_27 (dk_at dksX6_cellNow_3 8 rfl rfl)
theorem dX6_cellNow_69 : decode cX6_cellNow 69 = .ok (.iload_n 2, 1) := dk_28 (dk_at dksX6_cellNow_3 9 rfl rfl)
theorem dX6_cellNow_70 : decode cX6_cellNow 70 = .ok (.invokevirtual 86, 3) := dk_182 0 86 (dk_at dksX6_cellNow_3 10 rfl rfl)
theorem dX6_cellNow_73 : decode cX6_cellNow 73 = .ok (.ireturn, 1) := dk_172 (dk_at dksX6_cellNow_3 13 rfl rfl)
def dkwX6_daysSince_1 : List UInt8 := [182, 0, 86, 100, 172]
abbrev dktX6_daysSince_1 : List UInt8 := dkwX6_daysSince_1 ++ []
def dkwX6_daysSince_0 : List UInt8 := [42, 27, 7, 182, 0, 86, 154, 0, 7, 2, 167, 0, 16, 42, 180, 0, 7, 6, 46, 42, 27, 7]
abbrev dktX6_daysSince_0 : List UInt8 := dkwX6_daysSince_0 ++ dktX6_daysSince_1
theorem dksX6_daysSince_0 : cX6_daysSince.data.toList.drop 0 = dktX6_daysSince_0 := by decide +kernel
theorem dksX6_daysSince_1 : cX6_daysSince.data.toList.drop 22 = dktX6_daysSince_1 := dk_seg dksX6_daysSince_0 22 rfl rfl
theorem dX6_daysSince_0 : decode cX6_daysSince 0 = .ok (.aload_n 0, 1) := dk_42 (dk_at dksX6_daysSince_0 0 rfl rfl)
theorem dX6_daysSince_1 : decode cX6_daysSince 1 = .ok (.iload_n 1, 1) := dk_27 (dk_at dksX6_daysSince_0 1 rfl rfl)
theorem dX6_daysSince_2 : decode cX6_daysSince 2 = .ok (.iconst 4, 1) := dk_7 (dk_at dksX6_daysSince_0 2 rfl rfl)
theorem dX6_daysSince_3 : decode cX6_daysSince 3 = .ok (.invokevirtual 86, 3) := dk_182 0 86 (dk_at dksX6_daysSince_0 3 rfl rfl)
theorem dX6_daysSince_6 : decode cX6_daysSince 6 = .ok (.ifCond .ne 7, 3) := dk_154 0 7 (dk_at dksX6_daysSince_0 6 rfl rfl)
theorem dX6_daysSince_9 : decode cX6_daysSince 9 = .ok (.iconst (-1), 1) := dk_2 (dk_at dksX6_daysSince_0 9 rfl rfl)
theorem dX6_daysSince_10 : decode cX6_daysSince 10 = .ok (.goto 16, 3) := dk_167 0 16 (dk_at dksX6_daysSince_0 10 rfl rfl)
theorem dX6_daysSince_13 : decode cX6_daysSince 13 = .ok (.aload_n 0, 1) := dk_42 (dk_at dksX6_daysSince_0 13 rfl rfl)
theorem dX6_daysSince_14 : decode cX6_daysSince 14 = .ok (.getfield 7, 3) := dk_180 0 7 (dk_at dksX6_daysSince_0 14 rfl rfl)
theorem dX6_daysSince_17 : decode cX6_daysSince 17 = .ok (.iconst 3, 1) := dk_6 (dk_at dksX6_daysSince_0 17 rfl rfl)
theorem dX6_daysSince_18 : decode cX6_daysSince 18 = .ok (.iaload, 1) := dk_46 (dk_at dksX6_daysSince_0 18 rfl rfl)
theorem dX6_daysSince_19 : decode cX6_daysSince 19 = .ok (.aload_n 0, 1) := dk_42 (dk_at dksX6_daysSince_0 19 rfl rfl)
theorem dX6_daysSince_20 : decode cX6_daysSince 20 = .ok (.iload_n 1, 1) := dk_27 (dk_at dksX6_daysSince_0 20 rfl rfl)
theorem dX6_daysSince_21 : decode cX6_daysSince 21 = .ok (.iconst 4, 1) := dk_7 (dk_at dksX6_daysSince_0 21 rfl rfl)
theorem dX6_daysSince_22 : decode cX6_daysSince 22 = .ok (.invokevirtual 86, 3) := dk_182 0 86 (dk_at dksX6_daysSince_1 0 rfl rfl)
theorem dX6_daysSince_25 : decode cX6_daysSince 25 = .ok (.isub, 1) := dk_100 (dk_at dksX6_daysSince_1 3 rfl rfl)
theorem dX6_daysSince_26 : decode cX6_daysSince 26 = .ok (.ireturn, 1) := dk_172 (dk_at dksX6_daysSince_1 4 rfl rfl)
def dkwX6_walkersOver_1 : List UInt8 := [182, 1, 131, 184, 0, 130, 96, 61, 132, 3, 1, 167, 255, 225, 28, 172]
abbrev dktX6_walkersOver_1 : List UInt8 := dkwX6_walkersOver_1 ++ []
def dkwX6_walkersOver_0 : List UInt8 := [3, 61, 3, 62, 29, 42, 180, 0, 7, 4, 46, 162, 0, 27, 42, 29, 182, 0, 147, 54, 4, 28, 42, 27]
abbrev dktX6_walkersOver_0 : List UInt8 := dkwX6_walkersOver_0 ++ dktX6_walkersOver_1
theorem dksX6_walkersOver_0 : cX6_walkersOver.data.toList.drop 0 = dktX6_walkersOver_0 := by decide +kernel
theorem dksX6_walkersOver_1 : cX6_walkersOver.data.toList.drop 24 = dktX6_walkersOver_1 := dk_seg dksX6_walkersOver_0 24 rfl rfl
theorem dX6_walkersOver_0 : decode cX6_walkersOver 0 = .ok (.iconst 0, 1) := dk_3 (dk_at dksX6_walkersOver_0 0 rfl rfl)
theorem dX6_walkersOver_1 : decode cX6_walkersOver 1 = .ok (.istore_n 2, 1) := dk_61 (dk_at dksX6_walkersOver_0 1 rfl rfl)
theorem dX6_walkersOver_2 : decode cX6_walkersOver 2 = .ok (.iconst 0, 1) := dk_3 (dk_at dksX6_walkersOver_0 2 rfl rfl)
theorem dX6_walkersOver_3 : decode cX6_walkersOver 3 = .ok (.istore_n 3, 1) := dk_62 (dk_at dksX6_walkersOver_0 3 rfl rfl)
theorem dX6_walkersOver_4 : decode cX6_walkersOver 4 = .ok (.iload_n 3, 1) := dk_29 (dk_at dksX6_walkersOver_0 4 rfl rfl)
theorem dX6_walkersOver_5 : decode cX6_walkersOver 5 = .ok (.aload_n 0, 1) := dk_42 (dk_at dksX6_walkersOver_0 5 rfl rfl)
theorem dX6_walkersOver_6 : decode cX6_walkersOver 6 = .ok (.getfield 7, 3) := dk_180 0 7 (dk_at dksX6_walkersOver_0 6 rfl rfl)
theorem dX6_walkersOver_9 : decode cX6_walkersOver 9 = .ok (.iconst 1, 1) := dk_4 (dk_at dksX6_walkersOver_0 9 rfl rfl)
theorem dX6_walkersOver_10 : decode cX6_walkersOver 10 = .ok (.iaload, 1) := dk_46 (dk_at dksX6_walkersOver_0 10 rfl rfl)
theorem dX6_walkersOver_11 : decode cX6_walkersOver 11 = .ok (.if_icmp .ge 27, 3) := dk_162 0 27 (dk_at dksX6_walkersOver_0 11 rfl rfl)
theorem dX6_walkersOver_14 : decode cX6_walkersOver 14 = .ok (.aload_n 0, 1) := dk_42 (dk_at dksX6_walkersOver_0 14 rfl rfl)
theorem dX6_walkersOver_15 : decode cX6_walkersOver 15 = .ok (.iload_n 3, 1) := dk_29 (dk_at dksX6_walkersOver_0 15 rfl rfl)
theorem dX6_walkersOver_16 : decode cX6_walkersOver 16 = .ok (.invokevirtual 147, 3) := dk_182 0 147 (dk_at dksX6_walkersOver_0 16 rfl rfl)
theorem dX6_walkersOver_19 : decode cX6_walkersOver 19 = .ok (.istore 4, 2) := dk_54 4 (dk_at dksX6_walkersOver_0 19 rfl rfl)
theorem dX6_walkersOver_21 : decode cX6_walkersOver 21 = .ok (.iload_n 2, 1) := dk_28 (dk_at dksX6_walkersOver_0 21 rfl rfl)
theorem dX6_walkersOver_22 : decode cX6_walkersOver 22 = .ok (.aload_n 0, 1) := dk_42 (dk_at dksX6_walkersOver_0 22 rfl rfl)
theorem dX6_walkersOver_23 : decode cX6_walkersOver 23 = .ok (.iload_n 1, 1) := dk_27 (dk_at dksX6_walkersOver_0 23 rfl rfl)
theorem dX6_walkersOver_24 : decode cX6_walkersOver 24 = .ok (.invokevirtual 387, 3) := dk_182 1 131 (dk_at dksX6_walkersOver_1 0 rfl rfl)
theorem dX6_walkersOver_27 : decode cX6_walkersOver 27 = .ok (.invokestatic 130, 3) := dk_184 0 130 (dk_at dksX6_walkersOver_1 3 rfl rfl)
theorem dX6_walkersOver_30 : decode cX6_walkersOver 30 = .ok (.iadd, 1) := dk_96 (dk_at dksX6_walkersOver_1 6 rfl rfl)
theorem dX6_walkersOver_31 : decode cX6_walkersOver 31 = .ok (.istore_n 2, 1) := dk_61 (dk_at dksX6_walkersOver_1 7 rfl rfl)
theorem dX6_walkersOver_32 : decode cX6_walkersOver 32 = .ok (.iinc 3 1, 3) := dk_132 3 1 (dk_at dksX6_walkersOver_1 8 rfl rfl)
theorem dX6_walkersOver_35 : decode cX6_walkersOver 35 = .ok (.goto (-31), 3) := dk_167 255 225 (dk_at dksX6_walkersOver_1 11 rfl rfl)
theorem dX6_walkersOver_38 : decode cX6_walkersOver 38 = .ok (.iload_n 2, 1) := dk_28 (dk_at dksX6_walkersOver_1 14 rfl rfl)
theorem dX6_walkersOver_39 : decode cX6_walkersOver 39 = .ok (.ireturn, 1) := dk_172 (dk_at dksX6_walkersOver_1 15 rfl rfl)
def dkwX6_isOnWay_1 : List UInt8 := [132, 2, 1, 167, 255, 233, 3, 172]
abbrev dktX6_isOnWay_1 : List UInt8 := dkwX6_isOnWay_1 ++ []
def dkwX6_isOnWay_0 : List UInt8 := [3, 61, 28, 42, 180, 0, 127, 162, 0, 21, 42, 180, 0, 28, 28, 46, 27, 160, 0, 5, 4, 172]
abbrev dktX6_isOnWay_0 : List UInt8 := dkwX6_isOnWay_0 ++ dktX6_isOnWay_1
theorem dksX6_isOnWay_0 : cX6_isOnWay.data.toList.drop 0 = dktX6_isOnWay_0 := by decide +kernel
theorem dksX6_isOnWay_1 : cX6_isOnWay.data.toList.drop 22 = dktX6_isOnWay_1 := dk_seg dksX6_isOnWay_0 22 rfl rfl
theorem dX6_isOnWay_0 : decode cX6_isOnWay 0 = .ok (.iconst 0, 1) := dk_3 (dk_at dksX6_isOnWay_0 0 rfl rfl)
theorem dX6_isOnWay_1 : decode cX6_isOnWay 1 = .ok (.istore_n 2, 1) := dk_61 (dk_at dksX6_isOnWay_0 1 rfl rfl)
theorem dX6_isOnWay_2 : decode cX6_isOnWay 2 = .ok (.iload_n 2, 1) := dk_28 (dk_at dksX6_isOnWay_0 2 rfl rfl)
theorem dX6_isOnWay_3 : decode cX6_isOnWay 3 = .ok (.aload_n 0, 1) := dk_42 (dk_at dksX6_isOnWay_0 3 rfl rfl)
theorem dX6_isOnWay_4 : decode cX6_isOnWay 4 = .ok (.getfield 127, 3) := dk_180 0 127 (dk_at dksX6_isOnWay_0 4 rfl rfl)
theorem dX6_isOnWay_7 : decode cX6_isOnWay 7 = .ok (.if_icmp .ge 21, 3) := dk_162 0 21 (dk_at dksX6_isOnWay_0 7 rfl rfl)
theorem dX6_isOnWay_10 : decode cX6_isOnWay 10 = .ok (.aload_n 0, 1) := dk_42 (dk_at dksX6_isOnWay_0 10 rfl rfl)
theorem dX6_isOnWay_11 : decode cX6_isOnWay 11 = .ok (.getfield 28, 3) := dk_180 0 28 (dk_at dksX6_isOnWay_0 11 rfl rfl)
theorem dX6_isOnWay_14 : decode cX6_isOnWay 14 = .ok (.iload_n 2, 1) := dk_28 (dk_at dksX6_isOnWay_0 14 rfl rfl)
theorem dX6_isOnWay_15 : decode cX6_isOnWay 15 = .ok (.iaload, 1) := dk_46 (dk_at dksX6_isOnWay_0 15 rfl rfl)
theorem dX6_isOnWay_16 : decode cX6_isOnWay 16 = .ok (.iload_n 1, 1) := dk_27 (dk_at dksX6_isOnWay_0 16 rfl rfl)
theorem dX6_isOnWay_17 : decode cX6_isOnWay 17 = .ok (.if_icmp .ne 5, 3) := dk_160 0 5 (dk_at dksX6_isOnWay_0 17 rfl rfl)
theorem dX6_isOnWay_20 : decode cX6_isOnWay 20 = .ok (.iconst 1, 1) := dk_4 (dk_at dksX6_isOnWay_0 20 rfl rfl)
theorem dX6_isOnWay_21 : decode cX6_isOnWay 21 = .ok (.ireturn, 1) := dk_172 (dk_at dksX6_isOnWay_0 21 rfl rfl)
theorem dX6_isOnWay_22 : decode cX6_isOnWay 22 = .ok (.iinc 2 1, 3) := dk_132 2 1 (dk_at dksX6_isOnWay_1 0 rfl rfl)
theorem dX6_isOnWay_25 : decode cX6_isOnWay 25 = .ok (.goto (-23), 3) := dk_167 255 233 (dk_at dksX6_isOnWay_1 3 rfl rfl)
theorem dX6_isOnWay_28 : decode cX6_isOnWay 28 = .ok (.iconst 0, 1) := dk_3 (dk_at dksX6_isOnWay_1 6 rfl rfl)
theorem dX6_isOnWay_29 : decode cX6_isOnWay 29 = .ok (.ireturn, 1) := dk_172 (dk_at dksX6_isOnWay_1 7 rfl rfl)
def dkwX6_gate_3 : List UInt8 := [27, 16, 7, 28, 96, 182, 0, 79, 172]
abbrev dktX6_gate_3 : List UInt8 := dkwX6_gate_3 ++ []
def dkwX6_gate_2 : List UInt8 := [42, 16, 7, 27, 182, 1, 154, 172, 42, 16, 8, 27, 182, 1, 154, 172, 42, 27, 3, 182, 0, 79, 172, 42]
abbrev dktX6_gate_2 : List UInt8 := dkwX6_gate_2 ++ dktX6_gate_3
def dkwX6_gate_1 : List UInt8 := [170, 0, 0, 0, 0, 0, 0, 51, 0, 0, 0, 2, 0, 0, 0, 4, 0, 0, 0, 28, 0, 0, 0, 36, 0, 0, 0, 44]
abbrev dktX6_gate_1 : List UInt8 := dkwX6_gate_1 ++ dktX6_gate_2
def dkwX6_gate_0 : List UInt8 := [42, 42, 27, 182, 1, 149, 28, 133, 9, 20, 1, 152, 184, 0, 68, 182, 1, 142, 154, 0, 5, 3, 172, 28]
abbrev dktX6_gate_0 : List UInt8 := dkwX6_gate_0 ++ dktX6_gate_1
theorem dksX6_gate_0 : cX6_gate.data.toList.drop 0 = dktX6_gate_0 := by decide +kernel
theorem dksX6_gate_1 : cX6_gate.data.toList.drop 24 = dktX6_gate_1 := dk_seg dksX6_gate_0 24 rfl rfl
theorem dksX6_gate_2 : cX6_gate.data.toList.drop 52 = dktX6_gate_2 := dk_seg dksX6_gate_1 28 rfl rfl
theorem dksX6_gate_3 : cX6_gate.data.toList.drop 76 = dktX6_gate_3 := dk_seg dksX6_gate_2 24 rfl rfl
theorem dX6_gate_0 : decode cX6_gate 0 = .ok (.aload_n 0, 1) := dk_42 (dk_at dksX6_gate_0 0 rfl rfl)
theorem dX6_gate_1 : decode cX6_gate 1 = .ok (.aload_n 0, 1) := dk_42 (dk_at dksX6_gate_0 1 rfl rfl)
theorem dX6_gate_2 : decode cX6_gate 2 = .ok (.iload_n 1, 1) := dk_27 (dk_at dksX6_gate_0 2 rfl rfl)
theorem dX6_gate_3 : decode cX6_gate 3 = .ok (.invokevirtual 405, 3) := dk_182 1 149 (dk_at dksX6_gate_0 3 rfl rfl)
theorem dX6_gate_6 : decode cX6_gate 6 = .ok (.iload_n 2, 1) := dk_28 (dk_at dksX6_gate_0 6 rfl rfl)
theorem dX6_gate_7 : decode cX6_gate 7 = .ok (.i2l, 1) := dk_133 (dk_at dksX6_gate_0 7 rfl rfl)
theorem dX6_gate_8 : decode cX6_gate 8 = .ok (.lconst 0, 1) := dk_9 (dk_at dksX6_gate_0 8 rfl rfl)
theorem dX6_gate_9 : decode cX6_gate 9 = .ok (.ldc2_w 408, 3) := dk_20 1 152 (dk_at dksX6_gate_0 9 rfl rfl)
theorem dX6_gate_12 : decode cX6_gate 12 = .ok (.invokestatic 68, 3) := dk_184 0 68 (dk_at dksX6_gate_0 12 rfl rfl)
theorem dX6_gate_15 : decode cX6_gate 15 = .ok (.invokevirtual 398, 3) := dk_182 1 142 (dk_at dksX6_gate_0 15 rfl rfl)
theorem dX6_gate_18 : decode cX6_gate 18 = .ok (.ifCond .ne 5, 3) := dk_154 0 5 (dk_at dksX6_gate_0 18 rfl rfl)
theorem dX6_gate_21 : decode cX6_gate 21 = .ok (.iconst 0, 1) := dk_3 (dk_at dksX6_gate_0 21 rfl rfl)
theorem dX6_gate_22 : decode cX6_gate 22 = .ok (.ireturn, 1) := dk_172 (dk_at dksX6_gate_0 22 rfl rfl)
theorem dX6_gate_23 : decode cX6_gate 23 = .ok (.iload_n 2, 1) := dk_28 (dk_at dksX6_gate_0 23 rfl rfl)
theorem dX6_gate_24 : decode cX6_gate 24 = .ok (.tableswitch 51 2 4 #[28, 36, 44], 28) := by decide +kernel
theorem dX6_gate_52 : decode cX6_gate 52 = .ok (.aload_n 0, 1) := dk_42 (dk_at dksX6_gate_2 0 rfl rfl)
theorem dX6_gate_53 : decode cX6_gate 53 = .ok (.bipush 7, 2) := dk_16 7 (dk_at dksX6_gate_2 1 rfl rfl)
theorem dX6_gate_55 : decode cX6_gate 55 = .ok (.iload_n 1, 1) := dk_27 (dk_at dksX6_gate_2 3 rfl rfl)
theorem dX6_gate_56 : decode cX6_gate 56 = .ok (.invokevirtual 410, 3) := dk_182 1 154 (dk_at dksX6_gate_2 4 rfl rfl)
theorem dX6_gate_59 : decode cX6_gate 59 = .ok (.ireturn, 1) := dk_172 (dk_at dksX6_gate_2 7 rfl rfl)
theorem dX6_gate_60 : decode cX6_gate 60 = .ok (.aload_n 0, 1) := dk_42 (dk_at dksX6_gate_2 8 rfl rfl)
theorem dX6_gate_61 : decode cX6_gate 61 = .ok (.bipush 8, 2) := dk_16 8 (dk_at dksX6_gate_2 9 rfl rfl)
theorem dX6_gate_63 : decode cX6_gate 63 = .ok (.iload_n 1, 1) := dk_27 (dk_at dksX6_gate_2 11 rfl rfl)
theorem dX6_gate_64 : decode cX6_gate 64 = .ok (.invokevirtual 410, 3) := dk_182 1 154 (dk_at dksX6_gate_2 12 rfl rfl)
theorem dX6_gate_67 : decode cX6_gate 67 = .ok (.ireturn, 1) := dk_172 (dk_at dksX6_gate_2 15 rfl rfl)
theorem dX6_gate_68 : decode cX6_gate 68 = .ok (.aload_n 0, 1) := dk_42 (dk_at dksX6_gate_2 16 rfl rfl)
theorem dX6_gate_69 : decode cX6_gate 69 = .ok (.iload_n 1, 1) := dk_27 (dk_at dksX6_gate_2 17 rfl rfl)
theorem dX6_gate_70 : decode cX6_gate 70 = .ok (.iconst 0, 1) := dk_3 (dk_at dksX6_gate_2 18 rfl rfl)
theorem dX6_gate_71 : decode cX6_gate 71 = .ok (.invokevirtual 79, 3) := dk_182 0 79 (dk_at dksX6_gate_2 19 rfl rfl)
theorem dX6_gate_74 : decode cX6_gate 74 = .ok (.ireturn, 1) := dk_172 (dk_at dksX6_gate_2 22 rfl rfl)
theorem dX6_gate_75 : decode cX6_gate 75 = .ok (.aload_n 0, 1) := dk_42 (dk_at dksX6_gate_2 23 rfl rfl)
theorem dX6_gate_76 : decode cX6_gate 76 = .ok (.iload_n 1, 1) := dk_27 (dk_at dksX6_gate_3 0 rfl rfl)
theorem dX6_gate_77 : decode cX6_gate 77 = .ok (.bipush 7, 2) := dk_16 7 (dk_at dksX6_gate_3 1 rfl rfl)
theorem dX6_gate_79 : decode cX6_gate 79 = .ok (.iload_n 2, 1) := dk_28 (dk_at dksX6_gate_3 3 rfl rfl)
theorem dX6_gate_80 : decode cX6_gate 80 = .ok (.iadd, 1) := dk_96 (dk_at dksX6_gate_3 4 rfl rfl)
theorem dX6_gate_81 : decode cX6_gate 81 = .ok (.invokevirtual 79, 3) := dk_182 0 79 (dk_at dksX6_gate_3 5 rfl rfl)
theorem dX6_gate_84 : decode cX6_gate 84 = .ok (.ireturn, 1) := dk_172 (dk_at dksX6_gate_3 8 rfl rfl)
def dkwX6_isGate_0 : List UInt8 := [27, 133, 9, 42, 180, 0, 7, 3, 46, 4, 100, 133, 184, 0, 68, 172]
abbrev dktX6_isGate_0 : List UInt8 := dkwX6_isGate_0 ++ []
theorem dksX6_isGate_0 : cX6_isGate.data.toList.drop 0 = dktX6_isGate_0 := by decide +kernel
theorem dX6_isGate_0 : decode cX6_isGate 0 = .ok (.iload_n 1, 1) := dk_27 (dk_at dksX6_isGate_0 0 rfl rfl)
theorem dX6_isGate_1 : decode cX6_isGate 1 = .ok (.i2l, 1) := dk_133 (dk_at dksX6_isGate_0 1 rfl rfl)
theorem dX6_isGate_2 : decode cX6_isGate 2 = .ok (.lconst 0, 1) := dk_9 (dk_at dksX6_isGate_0 2 rfl rfl)
theorem dX6_isGate_3 : decode cX6_isGate 3 = .ok (.aload_n 0, 1) := dk_42 (dk_at dksX6_isGate_0 3 rfl rfl)
theorem dX6_isGate_4 : decode cX6_isGate 4 = .ok (.getfield 7, 3) := dk_180 0 7 (dk_at dksX6_isGate_0 4 rfl rfl)
theorem dX6_isGate_7 : decode cX6_isGate 7 = .ok (.iconst 0, 1) := dk_3 (dk_at dksX6_isGate_0 7 rfl rfl)
theorem dX6_isGate_8 : decode cX6_isGate 8 = .ok (.iaload, 1) := dk_46 (dk_at dksX6_isGate_0 8 rfl rfl)
theorem dX6_isGate_9 : decode cX6_isGate 9 = .ok (.iconst 1, 1) := dk_4 (dk_at dksX6_isGate_0 9 rfl rfl)
theorem dX6_isGate_10 : decode cX6_isGate 10 = .ok (.isub, 1) := dk_100 (dk_at dksX6_isGate_0 10 rfl rfl)
theorem dX6_isGate_11 : decode cX6_isGate 11 = .ok (.i2l, 1) := dk_133 (dk_at dksX6_isGate_0 11 rfl rfl)
theorem dX6_isGate_12 : decode cX6_isGate 12 = .ok (.invokestatic 68, 3) := dk_184 0 68 (dk_at dksX6_isGate_0 12 rfl rfl)
theorem dX6_isGate_15 : decode cX6_isGate 15 = .ok (.ireturn, 1) := dk_172 (dk_at dksX6_isGate_0 15 rfl rfl)
def dkwX6_walkersWith_1 : List UInt8 := [28, 160, 0, 7, 4, 167, 0, 4, 3, 184, 0, 130, 96, 62, 132, 4, 1, 167, 255, 220, 29, 172]
abbrev dktX6_walkersWith_1 : List UInt8 := dkwX6_walkersWith_1 ++ []
def dkwX6_walkersWith_0 : List UInt8 := [3, 62, 3, 54, 4, 21, 4, 42, 180, 0, 7, 4, 46, 162, 0, 31, 29, 42, 21, 4, 27, 182, 0, 103]
abbrev dktX6_walkersWith_0 : List UInt8 := dkwX6_walkersWith_0 ++ dktX6_walkersWith_1
theorem dksX6_walkersWith_0 : cX6_walkersWith.data.toList.drop 0 = dktX6_walkersWith_0 := by decide +kernel
theorem dksX6_walkersWith_1 : cX6_walkersWith.data.toList.drop 24 = dktX6_walkersWith_1 := dk_seg dksX6_walkersWith_0 24 rfl rfl
theorem dX6_walkersWith_0 : decode cX6_walkersWith 0 = .ok (.iconst 0, 1) := dk_3 (dk_at dksX6_walkersWith_0 0 rfl rfl)
theorem dX6_walkersWith_1 : decode cX6_walkersWith 1 = .ok (.istore_n 3, 1) := dk_62 (dk_at dksX6_walkersWith_0 1 rfl rfl)
theorem dX6_walkersWith_2 : decode cX6_walkersWith 2 = .ok (.iconst 0, 1) := dk_3 (dk_at dksX6_walkersWith_0 2 rfl rfl)
theorem dX6_walkersWith_3 : decode cX6_walkersWith 3 = .ok (.istore 4, 2) := dk_54 4 (dk_at dksX6_walkersWith_0 3 rfl rfl)
theorem dX6_walkersWith_5 : decode cX6_walkersWith 5 = .ok (.iload 4, 2) := dk_21 4 (dk_at dksX6_walkersWith_0 5 rfl rfl)
theorem dX6_walkersWith_7 : decode cX6_walkersWith 7 = .ok (.aload_n 0, 1) := dk_42 (dk_at dksX6_walkersWith_0 7 rfl rfl)
theorem dX6_walkersWith_8 : decode cX6_walkersWith 8 = .ok (.getfield 7, 3) := dk_180 0 7 (dk_at dksX6_walkersWith_0 8 rfl rfl)
theorem dX6_walkersWith_11 : decode cX6_walkersWith 11 = .ok (.iconst 1, 1) := dk_4 (dk_at dksX6_walkersWith_0 11 rfl rfl)
theorem dX6_walkersWith_12 : decode cX6_walkersWith 12 = .ok (.iaload, 1) := dk_46 (dk_at dksX6_walkersWith_0 12 rfl rfl)
theorem dX6_walkersWith_13 : decode cX6_walkersWith 13 = .ok (.if_icmp .ge 31, 3) := dk_162 0 31 (dk_at dksX6_walkersWith_0 13 rfl rfl)
theorem dX6_walkersWith_16 : decode cX6_walkersWith 16 = .ok (.iload_n 3, 1) := dk_29 (dk_at dksX6_walkersWith_0 16 rfl rfl)
theorem dX6_walkersWith_17 : decode cX6_walkersWith 17 = .ok (.aload_n 0, 1) := dk_42 (dk_at dksX6_walkersWith_0 17 rfl rfl)
theorem dX6_walkersWith_18 : decode cX6_walkersWith 18 = .ok (.iload 4, 2) := dk_21 4 (dk_at dksX6_walkersWith_0 18 rfl rfl)
theorem dX6_walkersWith_20 : decode cX6_walkersWith 20 = .ok (.iload_n 1, 1) := dk_27 (dk_at dksX6_walkersWith_0 20 rfl rfl)
theorem dX6_walkersWith_21 : decode cX6_walkersWith 21 = .ok (.invokevirtual 103, 3) := dk_182 0 103 (dk_at dksX6_walkersWith_0 21 rfl rfl)
theorem dX6_walkersWith_24 : decode cX6_walkersWith 24 = .ok (.iload_n 2, 1) := dk_28 (dk_at dksX6_walkersWith_1 0 rfl rfl)
theorem dX6_walkersWith_25 : decode cX6_walkersWith 25 = .ok (.if_icmp .ne 7, 3) := dk_160 0 7 (dk_at dksX6_walkersWith_1 1 rfl rfl)
theorem dX6_walkersWith_28 : decode cX6_walkersWith 28 = .ok (.iconst 1, 1) := dk_4 (dk_at dksX6_walkersWith_1 4 rfl rfl)
theorem dX6_walkersWith_29 : decode cX6_walkersWith 29 = .ok (.goto 4, 3) := dk_167 0 4 (dk_at dksX6_walkersWith_1 5 rfl rfl)
theorem dX6_walkersWith_32 : decode cX6_walkersWith 32 = .ok (.iconst 0, 1) := dk_3 (dk_at dksX6_walkersWith_1 8 rfl rfl)
theorem dX6_walkersWith_33 : decode cX6_walkersWith 33 = .ok (.invokestatic 130, 3) := dk_184 0 130 (dk_at dksX6_walkersWith_1 9 rfl rfl)
theorem dX6_walkersWith_36 : decode cX6_walkersWith 36 = .ok (.iadd, 1) := dk_96 (dk_at dksX6_walkersWith_1 12 rfl rfl)
theorem dX6_walkersWith_37 : decode cX6_walkersWith 37 = .ok (.istore_n 3, 1) := dk_62 (dk_at dksX6_walkersWith_1 13 rfl rfl)
theorem dX6_walkersWith_38 : decode cX6_walkersWith 38 = .ok (.iinc 4 1, 3) := dk_132 4 1 (dk_at dksX6_walkersWith_1 14 rfl rfl)
theorem dX6_walkersWith_41 : decode cX6_walkersWith 41 = .ok (.goto (-36), 3) := dk_167 255 220 (dk_at dksX6_walkersWith_1 17 rfl rfl)
theorem dX6_walkersWith_44 : decode cX6_walkersWith 44 = .ok (.iload_n 3, 1) := dk_29 (dk_at dksX6_walkersWith_1 20 rfl rfl)
theorem dX6_walkersWith_45 : decode cX6_walkersWith 45 = .ok (.ireturn, 1) := dk_172 (dk_at dksX6_walkersWith_1 21 rfl rfl)
def dkwX6_walker_2 : List UInt8 := [16, 7, 160, 0, 12, 42, 27, 3, 182, 0, 103, 167, 0, 12, 42, 27, 16, 7, 28, 96, 182, 0, 103, 172]
abbrev dktX6_walker_2 : List UInt8 := dkwX6_walker_2 ++ []
def dkwX6_walker_1 : List UInt8 := [16, 6, 160, 0, 20, 42, 27, 42, 180, 0, 7, 6, 46, 182, 0, 157, 184, 0, 130, 167, 0, 27, 28]
abbrev dktX6_walker_1 : List UInt8 := dkwX6_walker_1 ++ dktX6_walker_2
def dkwX6_walker_0 : List UInt8 := [42, 42, 27, 182, 1, 157, 28, 133, 9, 20, 1, 160, 184, 0, 68, 182, 1, 142, 154, 0, 5, 3, 172, 28]
abbrev dktX6_walker_0 : List UInt8 := dkwX6_walker_0 ++ dktX6_walker_1
theorem dksX6_walker_0 : cX6_walker.data.toList.drop 0 = dktX6_walker_0 := by decide +kernel
theorem dksX6_walker_1 : cX6_walker.data.toList.drop 24 = dktX6_walker_1 := dk_seg dksX6_walker_0 24 rfl rfl
theorem dksX6_walker_2 : cX6_walker.data.toList.drop 47 = dktX6_walker_2 := dk_seg dksX6_walker_1 23 rfl rfl
theorem dX6_walker_0 : decode cX6_walker 0 = .ok (.aload_n 0, 1) := dk_42 (dk_at dksX6_walker_0 0 rfl rfl)
theorem dX6_walker_1 : decode cX6_walker 1 = .ok (.aload_n 0, 1) := dk_42 (dk_at dksX6_walker_0 1 rfl rfl)
theorem dX6_walker_2 : decode cX6_walker 2 = .ok (.iload_n 1, 1) := dk_27 (dk_at dksX6_walker_0 2 rfl rfl)
theorem dX6_walker_3 : decode cX6_walker 3 = .ok (.invokevirtual 413, 3) := dk_182 1 157 (dk_at dksX6_walker_0 3 rfl rfl)
theorem dX6_walker_6 : decode cX6_walker 6 = .ok (.iload_n 2, 1) := dk_28 (dk_at dksX6_walker_0 6 rfl rfl)
theorem dX6_walker_7 : decode cX6_walker 7 = .ok (.i2l, 1) := dk_133 (dk_at dksX6_walker_0 7 rfl rfl)
theorem dX6_walker_8 : decode cX6_walker 8 = .ok (.lconst 0, 1) := dk_9 (dk_at dksX6_walker_0 8 rfl rfl)
theorem dX6_walker_9 : decode cX6_walker 9 = .ok (.ldc2_w 416, 3) := dk_20 1 160 (dk_at dksX6_walker_0 9 rfl rfl)
theorem dX6_walker_12 : decode cX6_walker 12 = .ok (.invokestatic 68, 3) := dk_184 0 68 (dk_at dksX6_walker_0 12 rfl rfl)
theorem dX6_walker_15 : decode cX6_walker 15 = .ok (.invokevirtual 398, 3) := dk_182 1 142 (dk_at dksX6_walker_0 15 rfl rfl)
theorem dX6_walker_18 : decode cX6_walker 18 = .ok (.ifCond .ne 5, 3) := dk_154 0 5 (dk_at dksX6_walker_0 18 rfl rfl)
theorem dX6_walker_21 : decode cX6_walker 21 = .ok (.iconst 0, 1) := dk_3 (dk_at dksX6_walker_0 21 rfl rfl)
theorem dX6_walker_22 : decode cX6_walker 22 = .ok (.ireturn, 1) := dk_172 (dk_at dksX6_walker_0 22 rfl rfl)
theorem dX6_walker_23 : decode cX6_walker 23 = .ok (.iload_n 2, 1) := dk_28 (dk_at dksX6_walker_0 23 rfl rfl)
theorem dX6_walker_24 : decode cX6_walker 24 = .ok (.bipush 6, 2) := dk_16 6 (dk_at dksX6_walker_1 0 rfl rfl)
theorem dX6_walker_26 : decode cX6_walker 26 = .ok (.if_icmp .ne 20, 3) := dk_160 0 20 (dk_at dksX6_walker_1 2 rfl rfl)
theorem dX6_walker_29 : decode cX6_walker 29 = .ok (.aload_n 0, 1) := dk_42 (dk_at dksX6_walker_1 5 rfl rfl)
theorem dX6_walker_30 : decode cX6_walker 30 = .ok (.iload_n 1, 1) := dk_27 (dk_at dksX6_walker_1 6 rfl rfl)
theorem dX6_walker_31 : decode cX6_walker 31 = .ok (.aload_n 0, 1) := dk_42 (dk_at dksX6_walker_1 7 rfl rfl)
theorem dX6_walker_32 : decode cX6_walker 32 = .ok (.getfield 7, 3) := dk_180 0 7 (dk_at dksX6_walker_1 8 rfl rfl)
theorem dX6_walker_35 : decode cX6_walker 35 = .ok (.iconst 3, 1) := dk_6 (dk_at dksX6_walker_1 11 rfl rfl)
theorem dX6_walker_36 : decode cX6_walker 36 = .ok (.iaload, 1) := dk_46 (dk_at dksX6_walker_1 12 rfl rfl)
theorem dX6_walker_37 : decode cX6_walker 37 = .ok (.invokevirtual 157, 3) := dk_182 0 157 (dk_at dksX6_walker_1 13 rfl rfl)
theorem dX6_walker_40 : decode cX6_walker 40 = .ok (.invokestatic 130, 3) := dk_184 0 130 (dk_at dksX6_walker_1 16 rfl rfl)
theorem dX6_walker_43 : decode cX6_walker 43 = .ok (.goto 27, 3) := dk_167 0 27 (dk_at dksX6_walker_1 19 rfl rfl)
theorem dX6_walker_46 : decode cX6_walker 46 = .ok (.iload_n 2, 1) := dk_28 (dk_at dksX6_walker_1 22 rfl rfl)
theorem dX6_walker_47 : decode cX6_walker 47 = .ok (.bipush 7, 2) := dk_16 7 (dk_at dksX6_walker_2 0 rfl rfl)
theorem dX6_walker_49 : decode cX6_walker 49 = .ok (.if_icmp .ne 12, 3) := dk_160 0 12 (dk_at dksX6_walker_2 2 rfl rfl)
theorem dX6_walker_52 : decode cX6_walker 52 = .ok (.aload_n 0, 1) := dk_42 (dk_at dksX6_walker_2 5 rfl rfl)
theorem dX6_walker_53 : decode cX6_walker 53 = .ok (.iload_n 1, 1) := dk_27 (dk_at dksX6_walker_2 6 rfl rfl)
theorem dX6_walker_54 : decode cX6_walker 54 = .ok (.iconst 0, 1) := dk_3 (dk_at dksX6_walker_2 7 rfl rfl)
theorem dX6_walker_55 : decode cX6_walker 55 = .ok (.invokevirtual 103, 3) := dk_182 0 103 (dk_at dksX6_walker_2 8 rfl rfl)
theorem dX6_walker_58 : decode cX6_walker 58 = .ok (.goto 12, 3) := dk_167 0 12 (dk_at dksX6_walker_2 11 rfl rfl)
theorem dX6_walker_61 : decode cX6_walker 61 = .ok (.aload_n 0, 1) := dk_42 (dk_at dksX6_walker_2 14 rfl rfl)
theorem dX6_walker_62 : decode cX6_walker 62 = .ok (.iload_n 1, 1) := dk_27 (dk_at dksX6_walker_2 15 rfl rfl)
theorem dX6_walker_63 : decode cX6_walker 63 = .ok (.bipush 7, 2) := dk_16 7 (dk_at dksX6_walker_2 16 rfl rfl)
theorem dX6_walker_65 : decode cX6_walker 65 = .ok (.iload_n 2, 1) := dk_28 (dk_at dksX6_walker_2 18 rfl rfl)
theorem dX6_walker_66 : decode cX6_walker 66 = .ok (.iadd, 1) := dk_96 (dk_at dksX6_walker_2 19 rfl rfl)
theorem dX6_walker_67 : decode cX6_walker 67 = .ok (.invokevirtual 103, 3) := dk_182 0 103 (dk_at dksX6_walker_2 20 rfl rfl)
theorem dX6_walker_70 : decode cX6_walker 70 = .ok (.ireturn, 1) := dk_172 (dk_at dksX6_walker_2 23 rfl rfl)
def dkwX6_isWalker_0 : List UInt8 := [27, 133, 9, 42, 180, 0, 7, 4, 46, 4, 100, 133, 184, 0, 68, 172]
abbrev dktX6_isWalker_0 : List UInt8 := dkwX6_isWalker_0 ++ []
theorem dksX6_isWalker_0 : cX6_isWalker.data.toList.drop 0 = dktX6_isWalker_0 := by decide +kernel
theorem dX6_isWalker_0 : decode cX6_isWalker 0 = .ok (.iload_n 1, 1) := dk_27 (dk_at dksX6_isWalker_0 0 rfl rfl)
theorem dX6_isWalker_1 : decode cX6_isWalker 1 = .ok (.i2l, 1) := dk_133 (dk_at dksX6_isWalker_0 1 rfl rfl)
theorem dX6_isWalker_2 : decode cX6_isWalker 2 = .ok (.lconst 0, 1) := dk_9 (dk_at dksX6_isWalker_0 2 rfl rfl)
theorem dX6_isWalker_3 : decode cX6_isWalker 3 = .ok (.aload_n 0, 1) := dk_42 (dk_at dksX6_isWalker_0 3 rfl rfl)
theorem dX6_isWalker_4 : decode cX6_isWalker 4 = .ok (.getfield 7, 3) := dk_180 0 7 (dk_at dksX6_isWalker_0 4 rfl rfl)
theorem dX6_isWalker_7 : decode cX6_isWalker 7 = .ok (.iconst 1, 1) := dk_4 (dk_at dksX6_isWalker_0 7 rfl rfl)
theorem dX6_isWalker_8 : decode cX6_isWalker 8 = .ok (.iaload, 1) := dk_46 (dk_at dksX6_isWalker_0 8 rfl rfl)
theorem dX6_isWalker_9 : decode cX6_isWalker 9 = .ok (.iconst 1, 1) := dk_4 (dk_at dksX6_isWalker_0 9 rfl rfl)
theorem dX6_isWalker_10 : decode cX6_isWalker 10 = .ok (.isub, 1) := dk_100 (dk_at dksX6_isWalker_0 10 rfl rfl)
theorem dX6_isWalker_11 : decode cX6_isWalker 11 = .ok (.i2l, 1) := dk_133 (dk_at dksX6_isWalker_0 11 rfl rfl)
theorem dX6_isWalker_12 : decode cX6_isWalker 12 = .ok (.invokestatic 68, 3) := dk_184 0 68 (dk_at dksX6_isWalker_0 12 rfl rfl)
theorem dX6_isWalker_15 : decode cX6_isWalker 15 = .ok (.ireturn, 1) := dk_172 (dk_at dksX6_isWalker_0 15 rfl rfl)
def dkwX6_nameByte_3 : List UInt8 := [180, 0, 7, 21, 4, 4, 96, 29, 96, 46, 167, 0, 4, 2, 172]
abbrev dktX6_nameByte_3 : List UInt8 := dkwX6_nameByte_3 ++ []
def dkwX6_nameByte_2 : List UInt8 := [54, 4, 29, 133, 9, 42, 180, 0, 7, 21, 4, 46, 4, 100, 133, 184, 0, 68, 153, 0, 17, 42]
abbrev dktX6_nameByte_2 : List UInt8 := dkwX6_nameByte_2 ++ dktX6_nameByte_3
def dkwX6_nameByte_1 : List UInt8 := [3, 172, 28, 153, 0, 13, 16, 21, 16, 9, 27, 104, 96, 167, 0, 10, 16, 75, 16, 13, 27, 104, 96]
abbrev dktX6_nameByte_1 : List UInt8 := dkwX6_nameByte_1 ++ dktX6_nameByte_2
def dkwX6_nameByte_0 : List UInt8 := [42, 28, 153, 0, 11, 42, 27, 182, 1, 149, 167, 0, 8, 42, 27, 182, 1, 157, 182, 0, 186, 154, 0, 5]
abbrev dktX6_nameByte_0 : List UInt8 := dkwX6_nameByte_0 ++ dktX6_nameByte_1
theorem dksX6_nameByte_0 : cX6_nameByte.data.toList.drop 0 = dktX6_nameByte_0 := by decide +kernel
theorem dksX6_nameByte_1 : cX6_nameByte.data.toList.drop 24 = dktX6_nameByte_1 := dk_seg dksX6_nameByte_0 24 rfl rfl
theorem dksX6_nameByte_2 : cX6_nameByte.data.toList.drop 47 = dktX6_nameByte_2 := dk_seg dksX6_nameByte_1 23 rfl rfl
theorem dksX6_nameByte_3 : cX6_nameByte.data.toList.drop 69 = dktX6_nameByte_3 := dk_seg dksX6_nameByte_2 22 rfl rfl
theorem dX6_nameByte_0 : decode cX6_nameByte 0 = .ok (.aload_n 0, 1) := dk_42 (dk_at dksX6_nameByte_0 0 rfl rfl)
theorem dX6_nameByte_1 : decode cX6_nameByte 1 = .ok (.iload_n 2, 1) := dk_28 (dk_at dksX6_nameByte_0 1 rfl rfl)
theorem dX6_nameByte_2 : decode cX6_nameByte 2 = .ok (.ifCond .eq 11, 3) := dk_153 0 11 (dk_at dksX6_nameByte_0 2 rfl rfl)
theorem dX6_nameByte_5 : decode cX6_nameByte 5 = .ok (.aload_n 0, 1) := dk_42 (dk_at dksX6_nameByte_0 5 rfl rfl)
theorem dX6_nameByte_6 : decode cX6_nameByte 6 = .ok (.iload_n 1, 1) := dk_27 (dk_at dksX6_nameByte_0 6 rfl rfl)
theorem dX6_nameByte_7 : decode cX6_nameByte 7 = .ok (.invokevirtual 405, 3) := dk_182 1 149 (dk_at dksX6_nameByte_0 7 rfl rfl)
theorem dX6_nameByte_10 : decode cX6_nameByte 10 = .ok (.goto 8, 3) := dk_167 0 8 (dk_at dksX6_nameByte_0 10 rfl rfl)
theorem dX6_nameByte_13 : decode cX6_nameByte 13 = .ok (.aload_n 0, 1) := dk_42 (dk_at dksX6_nameByte_0 13 rfl rfl)
theorem dX6_nameByte_14 : decode cX6_nameByte 14 = .ok (.iload_n 1, 1) := dk_27 (dk_at dksX6_nameByte_0 14 rfl rfl)
theorem dX6_nameByte_15 : decode cX6_nameByte 15 = .ok (.invokevirtual 413, 3) := dk_182 1 157 (dk_at dksX6_nameByte_0 15 rfl rfl)
theorem dX6_nameByte_18 : decode cX6_nameByte 18 = .ok (.invokevirtual 186, 3) := dk_182 0 186 (dk_at dksX6_nameByte_0 18 rfl rfl)
theorem dX6_nameByte_21 : decode cX6_nameByte 21 = .ok (.ifCond .ne 5, 3) := dk_154 0 5 (dk_at dksX6_nameByte_0 21 rfl rfl)
theorem dX6_nameByte_24 : decode cX6_nameByte 24 = .ok (.iconst 0, 1) := dk_3 (dk_at dksX6_nameByte_1 0 rfl rfl)
theorem dX6_nameByte_25 : decode cX6_nameByte 25 = .ok (.ireturn, 1) := dk_172 (dk_at dksX6_nameByte_1 1 rfl rfl)
theorem dX6_nameByte_26 : decode cX6_nameByte 26 = .ok (.iload_n 2, 1) := dk_28 (dk_at dksX6_nameByte_1 2 rfl rfl)
theorem dX6_nameByte_27 : decode cX6_nameByte 27 = .ok (.ifCond .eq 13, 3) := dk_153 0 13 (dk_at dksX6_nameByte_1 3 rfl rfl)
theorem dX6_nameByte_30 : decode cX6_nameByte 30 = .ok (.bipush 21, 2) := dk_16 21 (dk_at dksX6_nameByte_1 6 rfl rfl)
theorem dX6_nameByte_32 : decode cX6_nameByte 32 = .ok (.bipush 9, 2) := dk_16 9 (dk_at dksX6_nameByte_1 8 rfl rfl)
theorem dX6_nameByte_34 : decode cX6_nameByte 34 = .ok (.iload_n 1, 1) := dk_27 (dk_at dksX6_nameByte_1 10 rfl rfl)
theorem dX6_nameByte_35 : decode cX6_nameByte 35 = .ok (.imul, 1) := dk_104 (dk_at dksX6_nameByte_1 11 rfl rfl)
theorem dX6_nameByte_36 : decode cX6_nameByte 36 = .ok (.iadd, 1) := dk_96 (dk_at dksX6_nameByte_1 12 rfl rfl)
theorem dX6_nameByte_37 : decode cX6_nameByte 37 = .ok (.goto 10, 3) := dk_167 0 10 (dk_at dksX6_nameByte_1 13 rfl rfl)
theorem dX6_nameByte_40 : decode cX6_nameByte 40 = .ok (.bipush 75, 2) := dk_16 75 (dk_at dksX6_nameByte_1 16 rfl rfl)
theorem dX6_nameByte_42 : decode cX6_nameByte 42 = .ok (.bipush 13, 2) := dk_16 13 (dk_at dksX6_nameByte_1 18 rfl rfl)
theorem dX6_nameByte_44 : decode cX6_nameByte 44 = .ok (.iload_n 1, 1) := dk_27 (dk_at dksX6_nameByte_1 20 rfl rfl)
theorem dX6_nameByte_45 : decode cX6_nameByte 45 = .ok (.imul, 1) := dk_104 (dk_at dksX6_nameByte_1 21 rfl rfl)
theorem dX6_nameByte_46 : decode cX6_nameByte 46 = .ok (.iadd, 1) := dk_96 (dk_at dksX6_nameByte_1 22 rfl rfl)
theorem dX6_nameByte_47 : decode cX6_nameByte 47 = .ok (.istore 4, 2) := dk_54 4 (dk_at dksX6_nameByte_2 0 rfl rfl)
theorem dX6_nameByte_49 : decode cX6_nameByte 49 = .ok (.iload_n 3, 1) := dk_29 (dk_at dksX6_nameByte_2 2 rfl rfl)
theorem dX6_nameByte_50 : decode cX6_nameByte 50 = .ok (.i2l, 1) := dk_133 (dk_at dksX6_nameByte_2 3 rfl rfl)
theorem dX6_nameByte_51 : decode cX6_nameByte 51 = .ok (.lconst 0, 1) := dk_9 (dk_at dksX6_nameByte_2 4 rfl rfl)
theorem dX6_nameByte_52 : decode cX6_nameByte 52 = .ok (.aload_n 0, 1) := dk_42 (dk_at dksX6_nameByte_2 5 rfl rfl)
theorem dX6_nameByte_53 : decode cX6_nameByte 53 = .ok (.getfield 7, 3) := dk_180 0 7 (dk_at dksX6_nameByte_2 6 rfl rfl)
theorem dX6_nameByte_56 : decode cX6_nameByte 56 = .ok (.iload 4, 2) := dk_21 4 (dk_at dksX6_nameByte_2 9 rfl rfl)
theorem dX6_nameByte_58 : decode cX6_nameByte 58 = .ok (.iaload, 1) := dk_46 (dk_at dksX6_nameByte_2 11 rfl rfl)
theorem dX6_nameByte_59 : decode cX6_nameByte 59 = .ok (.iconst 1, 1) := dk_4 (dk_at dksX6_nameByte_2 12 rfl rfl)
theorem dX6_nameByte_60 : decode cX6_nameByte 60 = .ok (.isub, 1) := dk_100 (dk_at dksX6_nameByte_2 13 rfl rfl)
theorem dX6_nameByte_61 : decode cX6_nameByte 61 = .ok (.i2l, 1) := dk_133 (dk_at dksX6_nameByte_2 14 rfl rfl)
theorem dX6_nameByte_62 : decode cX6_nameByte 62 = .ok (.invokestatic 68, 3) := dk_184 0 68 (dk_at dksX6_nameByte_2 15 rfl rfl)
theorem dX6_nameByte_65 : decode cX6_nameByte 65 = .ok (.ifCond .eq 17, 3) := dk_153 0 17 (dk_at dksX6_nameByte_2 18 rfl rfl)
theorem dX6_nameByte_68 : decode cX6_nameByte 68 = .ok (.aload_n 0, 1) := dk_42 (dk_at dksX6_nameByte_2 21 rfl rfl)
theorem dX6_nameByte_69 : decode cX6_nameByte 69 = .ok (.getfield 7, 3) := dk_180 0 7 (dk_at dksX6_nameByte_3 0 rfl rfl)
theorem dX6_nameByte_72 : decode cX6_nameByte 72 = .ok (.iload 4, 2) := dk_21 4 (dk_at dksX6_nameByte_3 3 rfl rfl)
theorem dX6_nameByte_74 : decode cX6_nameByte 74 = .ok (.iconst 1, 1) := dk_4 (dk_at dksX6_nameByte_3 5 rfl rfl)
theorem dX6_nameByte_75 : decode cX6_nameByte 75 = .ok (.iadd, 1) := dk_96 (dk_at dksX6_nameByte_3 6 rfl rfl)
theorem dX6_nameByte_76 : decode cX6_nameByte 76 = .ok (.iload_n 3, 1) := dk_29 (dk_at dksX6_nameByte_3 7 rfl rfl)
theorem dX6_nameByte_77 : decode cX6_nameByte 77 = .ok (.iadd, 1) := dk_96 (dk_at dksX6_nameByte_3 8 rfl rfl)
theorem dX6_nameByte_78 : decode cX6_nameByte 78 = .ok (.iaload, 1) := dk_46 (dk_at dksX6_nameByte_3 9 rfl rfl)
theorem dX6_nameByte_79 : decode cX6_nameByte 79 = .ok (.goto 4, 3) := dk_167 0 4 (dk_at dksX6_nameByte_3 10 rfl rfl)
theorem dX6_nameByte_82 : decode cX6_nameByte 82 = .ok (.iconst (-1), 1) := dk_2 (dk_at dksX6_nameByte_3 13 rfl rfl)
theorem dX6_nameByte_83 : decode cX6_nameByte 83 = .ok (.ireturn, 1) := dk_172 (dk_at dksX6_nameByte_3 14 rfl rfl)
def dkwX6_find_2 : List UInt8 := [167, 0, 4, 2, 172]
abbrev dktX6_find_2 : List UInt8 := dkwX6_find_2 ++ []
def dkwX6_find_1 : List UInt8 := [180, 0, 201, 42, 180, 0, 56, 160, 0, 18, 42, 180, 0, 56, 158, 0, 11, 42, 27, 182, 0, 239]
abbrev dktX6_find_1 : List UInt8 := dkwX6_find_1 ++ dktX6_find_2
def dkwX6_find_0 : List UInt8 := [42, 3, 181, 0, 61, 42, 3, 181, 0, 193, 42, 182, 0, 214, 61, 42, 180, 0, 198, 154, 0, 29, 42]
abbrev dktX6_find_0 : List UInt8 := dkwX6_find_0 ++ dktX6_find_1
theorem dksX6_find_0 : cX6_find.data.toList.drop 0 = dktX6_find_0 := by decide +kernel
theorem dksX6_find_1 : cX6_find.data.toList.drop 23 = dktX6_find_1 := dk_seg dksX6_find_0 23 rfl rfl
theorem dksX6_find_2 : cX6_find.data.toList.drop 45 = dktX6_find_2 := dk_seg dksX6_find_1 22 rfl rfl
theorem dX6_find_0 : decode cX6_find 0 = .ok (.aload_n 0, 1) := dk_42 (dk_at dksX6_find_0 0 rfl rfl)
theorem dX6_find_1 : decode cX6_find 1 = .ok (.iconst 0, 1) := dk_3 (dk_at dksX6_find_0 1 rfl rfl)
theorem dX6_find_2 : decode cX6_find 2 = .ok (.putfield 61, 3) := dk_181 0 61 (dk_at dksX6_find_0 2 rfl rfl)
theorem dX6_find_5 : decode cX6_find 5 = .ok (.aload_n 0, 1) := dk_42 (dk_at dksX6_find_0 5 rfl rfl)
theorem dX6_find_6 : decode cX6_find 6 = .ok (.iconst 0, 1) := dk_3 (dk_at dksX6_find_0 6 rfl rfl)
theorem dX6_find_7 : decode cX6_find 7 = .ok (.putfield 193, 3) := dk_181 0 193 (dk_at dksX6_find_0 7 rfl rfl)
theorem dX6_find_10 : decode cX6_find 10 = .ok (.aload_n 0, 1) := dk_42 (dk_at dksX6_find_0 10 rfl rfl)
theorem dX6_find_11 : decode cX6_find 11 = .ok (.invokevirtual 214, 3) := dk_182 0 214 (dk_at dksX6_find_0 11 rfl rfl)
theorem dX6_find_14 : decode cX6_find 14 = .ok (.istore_n 2, 1) := dk_61 (dk_at dksX6_find_0 14 rfl rfl)
theorem dX6_find_15 : decode cX6_find 15 = .ok (.aload_n 0, 1) := dk_42 (dk_at dksX6_find_0 15 rfl rfl)
theorem dX6_find_16 : decode cX6_find 16 = .ok (.getfield 198, 3) := dk_180 0 198 (dk_at dksX6_find_0 16 rfl rfl)
theorem dX6_find_19 : decode cX6_find 19 = .ok (.ifCond .ne 29, 3) := dk_154 0 29 (dk_at dksX6_find_0 19 rfl rfl)
theorem dX6_find_22 : decode cX6_find 22 = .ok (.aload_n 0, 1) := dk_42 (dk_at dksX6_find_0 22 rfl rfl)
theorem dX6_find_23 : decode cX6_find 23 = .ok (.getfield 201, 3) := dk_180 0 201 (dk_at dksX6_find_1 0 rfl rfl)
theorem dX6_find_26 : decode cX6_find 26 = .ok (.aload_n 0, 1) := dk_42 (dk_at dksX6_find_1 3 rfl rfl)
theorem dX6_find_27 : decode cX6_find 27 = .ok (.getfield 56, 3) := dk_180 0 56 (dk_at dksX6_find_1 4 rfl rfl)
theorem dX6_find_30 : decode cX6_find 30 = .ok (.if_icmp .ne 18, 3) := dk_160 0 18 (dk_at dksX6_find_1 7 rfl rfl)
theorem dX6_find_33 : decode cX6_find 33 = .ok (.aload_n 0, 1) := dk_42 (dk_at dksX6_find_1 10 rfl rfl)
theorem dX6_find_34 : decode cX6_find 34 = .ok (.getfield 56, 3) := dk_180 0 56 (dk_at dksX6_find_1 11 rfl rfl)
theorem dX6_find_37 : decode cX6_find 37 = .ok (.ifCond .le 11, 3) := dk_158 0 11 (dk_at dksX6_find_1 14 rfl rfl)
theorem dX6_find_40 : decode cX6_find 40 = .ok (.aload_n 0, 1) := dk_42 (dk_at dksX6_find_1 17 rfl rfl)
theorem dX6_find_41 : decode cX6_find 41 = .ok (.iload_n 1, 1) := dk_27 (dk_at dksX6_find_1 18 rfl rfl)
theorem dX6_find_42 : decode cX6_find 42 = .ok (.invokevirtual 239, 3) := dk_182 0 239 (dk_at dksX6_find_1 19 rfl rfl)
theorem dX6_find_45 : decode cX6_find 45 = .ok (.goto 4, 3) := dk_167 0 4 (dk_at dksX6_find_2 0 rfl rfl)
theorem dX6_find_48 : decode cX6_find 48 = .ok (.iconst (-1), 1) := dk_2 (dk_at dksX6_find_2 3 rfl rfl)
theorem dX6_find_49 : decode cX6_find 49 = .ok (.ireturn, 1) := dk_172 (dk_at dksX6_find_2 4 rfl rfl)
def dkwX6_isWet_1 : List UInt8 := [4, 167, 0, 4, 3, 172]
abbrev dktX6_isWet_1 : List UInt8 := dkwX6_isWet_1 ++ []
def dkwX6_isWet_0 : List UInt8 := [42, 27, 133, 9, 20, 1, 162, 184, 0, 68, 182, 0, 186, 153, 0, 15, 42, 27, 182, 0, 100, 153, 0, 7]
abbrev dktX6_isWet_0 : List UInt8 := dkwX6_isWet_0 ++ dktX6_isWet_1
theorem dksX6_isWet_0 : cX6_isWet.data.toList.drop 0 = dktX6_isWet_0 := by decide +kernel
theorem dksX6_isWet_1 : cX6_isWet.data.toList.drop 24 = dktX6_isWet_1 := dk_seg dksX6_isWet_0 24 rfl rfl
theorem dX6_isWet_0 : decode cX6_isWet 0 = .ok (.aload_n 0, 1) := dk_42 (dk_at dksX6_isWet_0 0 rfl rfl)
theorem dX6_isWet_1 : decode cX6_isWet 1 = .ok (.iload_n 1, 1) := dk_27 (dk_at dksX6_isWet_0 1 rfl rfl)
theorem dX6_isWet_2 : decode cX6_isWet 2 = .ok (.i2l, 1) := dk_133 (dk_at dksX6_isWet_0 2 rfl rfl)
theorem dX6_isWet_3 : decode cX6_isWet 3 = .ok (.lconst 0, 1) := dk_9 (dk_at dksX6_isWet_0 3 rfl rfl)
theorem dX6_isWet_4 : decode cX6_isWet 4 = .ok (.ldc2_w 418, 3) := dk_20 1 162 (dk_at dksX6_isWet_0 4 rfl rfl)
theorem dX6_isWet_7 : decode cX6_isWet 7 = .ok (.invokestatic 68, 3) := dk_184 0 68 (dk_at dksX6_isWet_0 7 rfl rfl)
theorem dX6_isWet_10 : decode cX6_isWet 10 = .ok (.invokevirtual 186, 3) := dk_182 0 186 (dk_at dksX6_isWet_0 10 rfl rfl)
theorem dX6_isWet_13 : decode cX6_isWet 13 = .ok (.ifCond .eq 15, 3) := dk_153 0 15 (dk_at dksX6_isWet_0 13 rfl rfl)
theorem dX6_isWet_16 : decode cX6_isWet 16 = .ok (.aload_n 0, 1) := dk_42 (dk_at dksX6_isWet_0 16 rfl rfl)
theorem dX6_isWet_17 : decode cX6_isWet 17 = .ok (.iload_n 1, 1) := dk_27 (dk_at dksX6_isWet_0 17 rfl rfl)
theorem dX6_isWet_18 : decode cX6_isWet 18 = .ok (.invokevirtual 100, 3) := dk_182 0 100 (dk_at dksX6_isWet_0 18 rfl rfl)
theorem dX6_isWet_21 : decode cX6_isWet 21 = .ok (.ifCond .eq 7, 3) := dk_153 0 7 (dk_at dksX6_isWet_0 21 rfl rfl)
theorem dX6_isWet_24 : decode cX6_isWet 24 = .ok (.iconst 1, 1) := dk_4 (dk_at dksX6_isWet_1 0 rfl rfl)
theorem dX6_isWet_25 : decode cX6_isWet 25 = .ok (.goto 4, 3) := dk_167 0 4 (dk_at dksX6_isWet_1 1 rfl rfl)
theorem dX6_isWet_28 : decode cX6_isWet 28 = .ok (.iconst 0, 1) := dk_3 (dk_at dksX6_isWet_1 4 rfl rfl)
theorem dX6_isWet_29 : decode cX6_isWet 29 = .ok (.ireturn, 1) := dk_172 (dk_at dksX6_isWet_1 5 rfl rfl)
def dkwX6_cost_1 : List UInt8 := [182, 0, 186, 153, 0, 18, 42, 27, 42, 28, 29, 182, 0, 83, 3, 182, 0, 110, 167, 0, 4, 3, 172]
abbrev dktX6_cost_1 : List UInt8 := dkwX6_cost_1 ++ []
def dkwX6_cost_0 : List UInt8 := [42, 42, 27, 182, 1, 157, 153, 0, 16, 42, 28, 29, 182, 0, 89, 153, 0, 7, 4, 167, 0, 4, 3]
abbrev dktX6_cost_0 : List UInt8 := dkwX6_cost_0 ++ dktX6_cost_1
theorem dksX6_cost_0 : cX6_cost.data.toList.drop 0 = dktX6_cost_0 := by decide +kernel
theorem dksX6_cost_1 : cX6_cost.data.toList.drop 23 = dktX6_cost_1 := dk_seg dksX6_cost_0 23 rfl rfl
theorem dX6_cost_0 : decode cX6_cost 0 = .ok (.aload_n 0, 1) := dk_42 (dk_at dksX6_cost_0 0 rfl rfl)
theorem dX6_cost_1 : decode cX6_cost 1 = .ok (.aload_n 0, 1) := dk_42 (dk_at dksX6_cost_0 1 rfl rfl)
theorem dX6_cost_2 : decode cX6_cost 2 = .ok (.iload_n 1, 1) := dk_27 (dk_at dksX6_cost_0 2 rfl rfl)
theorem dX6_cost_3 : decode cX6_cost 3 = .ok (.invokevirtual 413, 3) := dk_182 1 157 (dk_at dksX6_cost_0 3 rfl rfl)
theorem dX6_cost_6 : decode cX6_cost 6 = .ok (.ifCond .eq 16, 3) := dk_153 0 16 (dk_at dksX6_cost_0 6 rfl rfl)
theorem dX6_cost_9 : decode cX6_cost 9 = .ok (.aload_n 0, 1) := dk_42 (dk_at dksX6_cost_0 9 rfl rfl)
theorem dX6_cost_10 : decode cX6_cost 10 = .ok (.iload_n 2, 1) := dk_28 (dk_at dksX6_cost_0 10 rfl rfl)
theorem dX6_cost_11 : decode cX6_cost 11 = .ok (.iload_n 3, 1) := dk_29 (dk_at dksX6_cost_0 11 rfl rfl)
theorem dX6_cost_12 : decode cX6_cost 12 = .ok (.invokevirtual 89, 3) := dk_182 0 89 (dk_at dksX6_cost_0 12 rfl rfl)
theorem dX6_cost_15 : decode cX6_cost 15 = .ok (.ifCond .eq 7, 3) := dk_153 0 7 (dk_at dksX6_cost_0 15 rfl rfl)
theorem dX6_cost_18 : decode cX6_cost 18 = .ok (.iconst 1, 1) := dk_4 (dk_at dksX6_cost_0 18 rfl rfl)
theorem dX6_cost_19 : decode cX6_cost 19 = .ok (.goto 4, 3) := dk_167 0 4 (dk_at dksX6_cost_0 19 rfl rfl)
theorem dX6_cost_22 : decode cX6_cost 22 = .ok (.iconst 0, 1) := dk_3 (dk_at dksX6_cost_0 22 rfl rfl)
theorem dX6_cost_23 : decode cX6_cost 23 = .ok (.invokevirtual 186, 3) := dk_182 0 186 (dk_at dksX6_cost_1 0 rfl rfl)
theorem dX6_cost_26 : decode cX6_cost 26 = .ok (.ifCond .eq 18, 3) := dk_153 0 18 (dk_at dksX6_cost_1 3 rfl rfl)
theorem dX6_cost_29 : decode cX6_cost 29 = .ok (.aload_n 0, 1) := dk_42 (dk_at dksX6_cost_1 6 rfl rfl)
theorem dX6_cost_30 : decode cX6_cost 30 = .ok (.iload_n 1, 1) := dk_27 (dk_at dksX6_cost_1 7 rfl rfl)
theorem dX6_cost_31 : decode cX6_cost 31 = .ok (.aload_n 0, 1) := dk_42 (dk_at dksX6_cost_1 8 rfl rfl)
theorem dX6_cost_32 : decode cX6_cost 32 = .ok (.iload_n 2, 1) := dk_28 (dk_at dksX6_cost_1 9 rfl rfl)
theorem dX6_cost_33 : decode cX6_cost 33 = .ok (.iload_n 3, 1) := dk_29 (dk_at dksX6_cost_1 10 rfl rfl)
theorem dX6_cost_34 : decode cX6_cost 34 = .ok (.invokevirtual 83, 3) := dk_182 0 83 (dk_at dksX6_cost_1 11 rfl rfl)
theorem dX6_cost_37 : decode cX6_cost 37 = .ok (.iconst 0, 1) := dk_3 (dk_at dksX6_cost_1 14 rfl rfl)
theorem dX6_cost_38 : decode cX6_cost 38 = .ok (.invokevirtual 110, 3) := dk_182 0 110 (dk_at dksX6_cost_1 15 rfl rfl)
theorem dX6_cost_41 : decode cX6_cost 41 = .ok (.goto 4, 3) := dk_167 0 4 (dk_at dksX6_cost_1 18 rfl rfl)
theorem dX6_cost_44 : decode cX6_cost 44 = .ok (.iconst 0, 1) := dk_3 (dk_at dksX6_cost_1 21 rfl rfl)
theorem dX6_cost_45 : decode cX6_cost 45 = .ok (.ireturn, 1) := dk_172 (dk_at dksX6_cost_1 22 rfl rfl)
def dkwX6_wayCost_0 : List UInt8 := [42, 42, 27, 182, 1, 157, 182, 0, 186, 153, 0, 11, 42, 27, 182, 0, 147, 167, 0, 4, 3, 172]
abbrev dktX6_wayCost_0 : List UInt8 := dkwX6_wayCost_0 ++ []
theorem dksX6_wayCost_0 : cX6_wayCost.data.toList.drop 0 = dktX6_wayCost_0 := by decide +kernel
theorem dX6_wayCost_0 : decode cX6_wayCost 0 = .ok (.aload_n 0, 1) := dk_42 (dk_at dksX6_wayCost_0 0 rfl rfl)
theorem dX6_wayCost_1 : decode cX6_wayCost 1 = .ok (.aload_n 0, 1) := dk_42 (dk_at dksX6_wayCost_0 1 rfl rfl)
theorem dX6_wayCost_2 : decode cX6_wayCost 2 = .ok (.iload_n 1, 1) := dk_27 (dk_at dksX6_wayCost_0 2 rfl rfl)
theorem dX6_wayCost_3 : decode cX6_wayCost 3 = .ok (.invokevirtual 413, 3) := dk_182 1 157 (dk_at dksX6_wayCost_0 3 rfl rfl)
theorem dX6_wayCost_6 : decode cX6_wayCost 6 = .ok (.invokevirtual 186, 3) := dk_182 0 186 (dk_at dksX6_wayCost_0 6 rfl rfl)
theorem dX6_wayCost_9 : decode cX6_wayCost 9 = .ok (.ifCond .eq 11, 3) := dk_153 0 11 (dk_at dksX6_wayCost_0 9 rfl rfl)
theorem dX6_wayCost_12 : decode cX6_wayCost 12 = .ok (.aload_n 0, 1) := dk_42 (dk_at dksX6_wayCost_0 12 rfl rfl)
theorem dX6_wayCost_13 : decode cX6_wayCost 13 = .ok (.iload_n 1, 1) := dk_27 (dk_at dksX6_wayCost_0 13 rfl rfl)
theorem dX6_wayCost_14 : decode cX6_wayCost 14 = .ok (.invokevirtual 147, 3) := dk_182 0 147 (dk_at dksX6_wayCost_0 14 rfl rfl)
theorem dX6_wayCost_17 : decode cX6_wayCost 17 = .ok (.goto 4, 3) := dk_167 0 4 (dk_at dksX6_wayCost_0 17 rfl rfl)
theorem dX6_wayCost_20 : decode cX6_wayCost 20 = .ok (.iconst 0, 1) := dk_3 (dk_at dksX6_wayCost_0 20 rfl rfl)
theorem dX6_wayCost_21 : decode cX6_wayCost 21 = .ok (.ireturn, 1) := dk_172 (dk_at dksX6_wayCost_0 21 rfl rfl)
def dkwX6_waySteps_1 : List UInt8 := [4, 100, 172]
abbrev dktX6_waySteps_1 : List UInt8 := dkwX6_waySteps_1 ++ []
def dkwX6_waySteps_0 : List UInt8 := [42, 42, 27, 182, 1, 157, 182, 0, 186, 154, 0, 5, 3, 172, 42, 27, 182, 0, 147, 61, 42, 180, 0, 127]
abbrev dktX6_waySteps_0 : List UInt8 := dkwX6_waySteps_0 ++ dktX6_waySteps_1
theorem dksX6_waySteps_0 : cX6_waySteps.data.toList.drop 0 = dktX6_waySteps_0 := by decide +kernel
theorem dksX6_waySteps_1 : cX6_waySteps.data.toList.drop 24 = dktX6_waySteps_1 := dk_seg dksX6_waySteps_0 24 rfl rfl
theorem dX6_waySteps_0 : decode cX6_waySteps 0 = .ok (.aload_n 0, 1) := dk_42 (dk_at dksX6_waySteps_0 0 rfl rfl)
theorem dX6_waySteps_1 : decode cX6_waySteps 1 = .ok (.aload_n 0, 1) := dk_42 (dk_at dksX6_waySteps_0 1 rfl rfl)
theorem dX6_waySteps_2 : decode cX6_waySteps 2 = .ok (.iload_n 1, 1) := dk_27 (dk_at dksX6_waySteps_0 2 rfl rfl)
theorem dX6_waySteps_3 : decode cX6_waySteps 3 = .ok (.invokevirtual 413, 3) := dk_182 1 157 (dk_at dksX6_waySteps_0 3 rfl rfl)
theorem dX6_waySteps_6 : decode cX6_waySteps 6 = .ok (.invokevirtual 186, 3) := dk_182 0 186 (dk_at dksX6_waySteps_0 6 rfl rfl)
theorem dX6_waySteps_9 : decode cX6_waySteps 9 = .ok (.ifCond .ne 5, 3) := dk_154 0 5 (dk_at dksX6_waySteps_0 9 rfl rfl)
theorem dX6_waySteps_12 : decode cX6_waySteps 12 = .ok (.iconst 0, 1) := dk_3 (dk_at dksX6_waySteps_0 12 rfl rfl)
theorem dX6_waySteps_13 : decode cX6_waySteps 13 = .ok (.ireturn, 1) := dk_172 (dk_at dksX6_waySteps_0 13 rfl rfl)
theorem dX6_waySteps_14 : decode cX6_waySteps 14 = .ok (.aload_n 0, 1) := dk_42 (dk_at dksX6_waySteps_0 14 rfl rfl)
theorem dX6_waySteps_15 : decode cX6_waySteps 15 = .ok (.iload_n 1, 1) := dk_27 (dk_at dksX6_waySteps_0 15 rfl rfl)
theorem dX6_waySteps_16 : decode cX6_waySteps 16 = .ok (.invokevirtual 147, 3) := dk_182 0 147 (dk_at dksX6_waySteps_0 16 rfl rfl)
theorem dX6_waySteps_19 : decode cX6_waySteps 19 = .ok (.istore_n 2, 1) := dk_61 (dk_at dksX6_waySteps_0 19 rfl rfl)
theorem dX6_waySteps_20 : decode cX6_waySteps 20 = .ok (.aload_n 0, 1) := dk_42 (dk_at dksX6_waySteps_0 20 rfl rfl)
theorem dX6_waySteps_21 : decode cX6_waySteps 21 = .ok (.getfield 127, 3) := dk_180 0 127 (dk_at dksX6_waySteps_0 21 rfl rfl)
theorem dX6_waySteps_24 : decode cX6_waySteps 24 = .ok (.iconst 1, 1) := dk_4 (dk_at dksX6_waySteps_1 0 rfl rfl)
theorem dX6_waySteps_25 : decode cX6_waySteps 25 = .ok (.isub, 1) := dk_100 (dk_at dksX6_waySteps_1 1 rfl rfl)
theorem dX6_waySteps_26 : decode cX6_waySteps 26 = .ok (.ireturn, 1) := dk_172 (dk_at dksX6_waySteps_1 2 rfl rfl)
def dkwX6_wayCell_2 : List UInt8 := [167, 0, 4, 2, 172]
abbrev dktX6_wayCell_2 : List UInt8 := dkwX6_wayCell_2 ++ []
def dkwX6_wayCell_1 : List UInt8 := [180, 0, 127, 4, 100, 133, 184, 0, 68, 153, 0, 16, 42, 42, 180, 0, 28, 28, 46, 182, 1, 164]
abbrev dktX6_wayCell_1 : List UInt8 := dkwX6_wayCell_1 ++ dktX6_wayCell_2
def dkwX6_wayCell_0 : List UInt8 := [42, 42, 27, 182, 1, 157, 182, 0, 186, 154, 0, 5, 3, 172, 42, 27, 182, 0, 147, 62, 28, 133, 9, 42]
abbrev dktX6_wayCell_0 : List UInt8 := dkwX6_wayCell_0 ++ dktX6_wayCell_1
theorem dksX6_wayCell_0 : cX6_wayCell.data.toList.drop 0 = dktX6_wayCell_0 := by decide +kernel
theorem dksX6_wayCell_1 : cX6_wayCell.data.toList.drop 24 = dktX6_wayCell_1 := dk_seg dksX6_wayCell_0 24 rfl rfl
theorem dksX6_wayCell_2 : cX6_wayCell.data.toList.drop 46 = dktX6_wayCell_2 := dk_seg dksX6_wayCell_1 22 rfl rfl
theorem dX6_wayCell_0 : decode cX6_wayCell 0 = .ok (.aload_n 0, 1) := dk_42 (dk_at dksX6_wayCell_0 0 rfl rfl)
theorem dX6_wayCell_1 : decode cX6_wayCell 1 = .ok (.aload_n 0, 1) := dk_42 (dk_at dksX6_wayCell_0 1 rfl rfl)
theorem dX6_wayCell_2 : decode cX6_wayCell 2 = .ok (.iload_n 1, 1) := dk_27 (dk_at dksX6_wayCell_0 2 rfl rfl)
theorem dX6_wayCell_3 : decode cX6_wayCell 3 = .ok (.invokevirtual 413, 3) := dk_182 1 157 (dk_at dksX6_wayCell_0 3 rfl rfl)
theorem dX6_wayCell_6 : decode cX6_wayCell 6 = .ok (.invokevirtual 186, 3) := dk_182 0 186 (dk_at dksX6_wayCell_0 6 rfl rfl)
theorem dX6_wayCell_9 : decode cX6_wayCell 9 = .ok (.ifCond .ne 5, 3) := dk_154 0 5 (dk_at dksX6_wayCell_0 9 rfl rfl)
theorem dX6_wayCell_12 : decode cX6_wayCell 12 = .ok (.iconst 0, 1) := dk_3 (dk_at dksX6_wayCell_0 12 rfl rfl)
theorem dX6_wayCell_13 : decode cX6_wayCell 13 = .ok (.ireturn, 1) := dk_172 (dk_at dksX6_wayCell_0 13 rfl rfl)
theorem dX6_wayCell_14 : decode cX6_wayCell 14 = .ok (.aload_n 0, 1) := dk_42 (dk_at dksX6_wayCell_0 14 rfl rfl)
theorem dX6_wayCell_15 : decode cX6_wayCell 15 = .ok (.iload_n 1, 1) := dk_27 (dk_at dksX6_wayCell_0 15 rfl rfl)
theorem dX6_wayCell_16 : decode cX6_wayCell 16 = .ok (.invokevirtual 147, 3) := dk_182 0 147 (dk_at dksX6_wayCell_0 16 rfl rfl)
theorem dX6_wayCell_19 : decode cX6_wayCell 19 = .ok (.istore_n 3, 1) := dk_62 (dk_at dksX6_wayCell_0 19 rfl rfl)
theorem dX6_wayCell_20 : decode cX6_wayCell 20 = .ok (.iload_n 2, 1) := dk_28 (dk_at dksX6_wayCell_0 20 rfl rfl)
theorem dX6_wayCell_21 : decode cX6_wayCell 21 = .ok (.i2l, 1) := dk_133 (dk_at dksX6_wayCell_0 21 rfl rfl)
theorem dX6_wayCell_22 : decode cX6_wayCell 22 = .ok (.lconst 0, 1) := dk_9 (dk_at dksX6_wayCell_0 22 rfl rfl)
theorem dX6_wayCell_23 : decode cX6_wayCell 23 = .ok (.aload_n 0, 1) := dk_42 (dk_at dksX6_wayCell_0 23 rfl rfl)
theorem dX6_wayCell_24 : decode cX6_wayCell 24 = .ok (.getfield 127, 3) := dk_180 0 127 (dk_at dksX6_wayCell_1 0 rfl rfl)
theorem dX6_wayCell_27 : decode cX6_wayCell 27 = .ok (.iconst 1, 1) := dk_4 (dk_at dksX6_wayCell_1 3 rfl rfl)
theorem dX6_wayCell_28 : decode cX6_wayCell 28 = .ok (.isub, 1) := dk_100 (dk_at dksX6_wayCell_1 4 rfl rfl)
theorem dX6_wayCell_29 : decode cX6_wayCell 29 = .ok (.i2l, 1) := dk_133 (dk_at dksX6_wayCell_1 5 rfl rfl)
theorem dX6_wayCell_30 : decode cX6_wayCell 30 = .ok (.invokestatic 68, 3) := dk_184 0 68 (dk_at dksX6_wayCell_1 6 rfl rfl)
theorem dX6_wayCell_33 : decode cX6_wayCell 33 = .ok (.ifCond .eq 16, 3) := dk_153 0 16 (dk_at dksX6_wayCell_1 9 rfl rfl)
theorem dX6_wayCell_36 : decode cX6_wayCell 36 = .ok (.aload_n 0, 1) := dk_42 (dk_at dksX6_wayCell_1 12 rfl rfl)
theorem dX6_wayCell_37 : decode cX6_wayCell 37 = .ok (.aload_n 0, 1) := dk_42 (dk_at dksX6_wayCell_1 13 rfl rfl)
theorem dX6_wayCell_38 : decode cX6_wayCell 38 = .ok (.getfield 28, 3) := dk_180 0 28 (dk_at dksX6_wayCell_1 14 rfl rfl)
theorem dX6_wayCell_41 : decode cX6_wayCell 41 = .ok (.iload_n 2, 1) := dk_28 (dk_at dksX6_wayCell_1 17 rfl rfl)
theorem dX6_wayCell_42 : decode cX6_wayCell 42 = .ok (.iaload, 1) := dk_46 (dk_at dksX6_wayCell_1 18 rfl rfl)
theorem dX6_wayCell_43 : decode cX6_wayCell 43 = .ok (.invokevirtual 420, 3) := dk_182 1 164 (dk_at dksX6_wayCell_1 19 rfl rfl)
theorem dX6_wayCell_46 : decode cX6_wayCell 46 = .ok (.goto 4, 3) := dk_167 0 4 (dk_at dksX6_wayCell_2 0 rfl rfl)
theorem dX6_wayCell_49 : decode cX6_wayCell 49 = .ok (.iconst (-1), 1) := dk_2 (dk_at dksX6_wayCell_2 3 rfl rfl)
theorem dX6_wayCell_50 : decode cX6_wayCell 50 = .ok (.ireturn, 1) := dk_172 (dk_at dksX6_wayCell_2 4 rfl rfl)
def dkwX6_shown_0 : List UInt8 := [16, 10, 42, 27, 182, 0, 72, 104, 42, 27, 182, 0, 76, 96, 172]
abbrev dktX6_shown_0 : List UInt8 := dkwX6_shown_0 ++ []
theorem dksX6_shown_0 : cX6_shown.data.toList.drop 0 = dktX6_shown_0 := by decide +kernel
theorem dX6_shown_0 : decode cX6_shown 0 = .ok (.bipush 10, 2) := dk_16 10 (dk_at dksX6_shown_0 0 rfl rfl)
theorem dX6_shown_2 : decode cX6_shown 2 = .ok (.aload_n 0, 1) := dk_42 (dk_at dksX6_shown_0 2 rfl rfl)
theorem dX6_shown_3 : decode cX6_shown 3 = .ok (.iload_n 1, 1) := dk_27 (dk_at dksX6_shown_0 3 rfl rfl)
theorem dX6_shown_4 : decode cX6_shown 4 = .ok (.invokevirtual 72, 3) := dk_182 0 72 (dk_at dksX6_shown_0 4 rfl rfl)
theorem dX6_shown_7 : decode cX6_shown 7 = .ok (.imul, 1) := dk_104 (dk_at dksX6_shown_0 7 rfl rfl)
theorem dX6_shown_8 : decode cX6_shown 8 = .ok (.aload_n 0, 1) := dk_42 (dk_at dksX6_shown_0 8 rfl rfl)
theorem dX6_shown_9 : decode cX6_shown 9 = .ok (.iload_n 1, 1) := dk_27 (dk_at dksX6_shown_0 9 rfl rfl)
theorem dX6_shown_10 : decode cX6_shown 10 = .ok (.invokevirtual 76, 3) := dk_182 0 76 (dk_at dksX6_shown_0 10 rfl rfl)
theorem dX6_shown_13 : decode cX6_shown 13 = .ok (.iadd, 1) := dk_96 (dk_at dksX6_shown_0 13 rfl rfl)
theorem dX6_shown_14 : decode cX6_shown 14 = .ok (.ireturn, 1) := dk_172 (dk_at dksX6_shown_0 14 rfl rfl)
def dkwX6_why_1 : List UInt8 := [182, 1, 172, 167, 0, 4, 3, 172]
abbrev dktX6_why_1 : List UInt8 := dkwX6_why_1 ++ []
def dkwX6_why_0 : List UInt8 := [42, 42, 27, 182, 1, 157, 28, 133, 9, 20, 1, 170, 184, 0, 68, 182, 1, 142, 153, 0, 12, 42, 27, 28]
abbrev dktX6_why_0 : List UInt8 := dkwX6_why_0 ++ dktX6_why_1
theorem dksX6_why_0 : cX6_why.data.toList.drop 0 = dktX6_why_0 := by decide +kernel
theorem dksX6_why_1 : cX6_why.data.toList.drop 24 = dktX6_why_1 := dk_seg dksX6_why_0 24 rfl rfl
theorem dX6_why_0 : decode cX6_why 0 = .ok (.aload_n 0, 1) := dk_42 (dk_at dksX6_why_0 0 rfl rfl)
theorem dX6_why_1 : decode cX6_why 1 = .ok (.aload_n 0, 1) := dk_42 (dk_at dksX6_why_0 1 rfl rfl)
theorem dX6_why_2 : decode cX6_why 2 = .ok (.iload_n 1, 1) := dk_27 (dk_at dksX6_why_0 2 rfl rfl)
theorem dX6_why_3 : decode cX6_why 3 = .ok (.invokevirtual 413, 3) := dk_182 1 157 (dk_at dksX6_why_0 3 rfl rfl)
theorem dX6_why_6 : decode cX6_why 6 = .ok (.iload_n 2, 1) := dk_28 (dk_at dksX6_why_0 6 rfl rfl)
theorem dX6_why_7 : decode cX6_why 7 = .ok (.i2l, 1) := dk_133 (dk_at dksX6_why_0 7 rfl rfl)
theorem dX6_why_8 : decode cX6_why 8 = .ok (.lconst 0, 1) := dk_9 (dk_at dksX6_why_0 8 rfl rfl)
theorem dX6_why_9 : decode cX6_why 9 = .ok (.ldc2_w 426, 3) := dk_20 1 170 (dk_at dksX6_why_0 9 rfl rfl)
theorem dX6_why_12 : decode cX6_why 12 = .ok (.invokestatic 68, 3) := dk_184 0 68 (dk_at dksX6_why_0 12 rfl rfl)
theorem dX6_why_15 : decode cX6_why 15 = .ok (.invokevirtual 398, 3) := dk_182 1 142 (dk_at dksX6_why_0 15 rfl rfl)
theorem dX6_why_18 : decode cX6_why 18 = .ok (.ifCond .eq 12, 3) := dk_153 0 12 (dk_at dksX6_why_0 18 rfl rfl)
theorem dX6_why_21 : decode cX6_why 21 = .ok (.aload_n 0, 1) := dk_42 (dk_at dksX6_why_0 21 rfl rfl)
theorem dX6_why_22 : decode cX6_why 22 = .ok (.iload_n 1, 1) := dk_27 (dk_at dksX6_why_0 22 rfl rfl)
theorem dX6_why_23 : decode cX6_why 23 = .ok (.iload_n 2, 1) := dk_28 (dk_at dksX6_why_0 23 rfl rfl)
theorem dX6_why_24 : decode cX6_why 24 = .ok (.invokevirtual 428, 3) := dk_182 1 172 (dk_at dksX6_why_1 0 rfl rfl)
theorem dX6_why_27 : decode cX6_why 27 = .ok (.goto 4, 3) := dk_167 0 4 (dk_at dksX6_why_1 3 rfl rfl)
theorem dX6_why_30 : decode cX6_why 30 = .ok (.iconst 0, 1) := dk_3 (dk_at dksX6_why_1 6 rfl rfl)
theorem dX6_why_31 : decode cX6_why 31 = .ok (.ireturn, 1) := dk_172 (dk_at dksX6_why_1 7 rfl rfl)
def dkwX6_whyWay_5 : List UInt8 := [18, 109, 161, 0, 9, 17, 1, 44, 167, 0, 12, 17, 1, 45, 21, 4, 96, 21, 5, 100, 172]
abbrev dktX6_whyWay_5 : List UInt8 := dkwX6_whyWay_5 ++ []
def dkwX6_whyWay_4 : List UInt8 := [154, 0, 7, 5, 167, 0, 39, 28, 4, 160, 0, 12, 17, 0, 201, 21, 6, 96, 167, 0, 25, 21, 4]
abbrev dktX6_whyWay_4 : List UInt8 := dkwX6_whyWay_4 ++ dktX6_whyWay_5
def dkwX6_whyWay_3 : List UInt8 := [167, 0, 20, 28, 4, 160, 0, 14, 17, 1, 144, 42, 180, 0, 127, 96, 167, 0, 4, 3, 172, 28]
abbrev dktX6_whyWay_3 : List UInt8 := dkwX6_whyWay_3 ++ dktX6_whyWay_4
def dkwX6_whyWay_2 : List UInt8 := [16, 101, 21, 5, 96, 29, 100, 167, 0, 4, 3, 172, 21, 6, 154, 0, 29, 28, 154, 0, 7, 6]
abbrev dktX6_whyWay_2 : List UInt8 := dkwX6_whyWay_2 ++ dktX6_whyWay_3
def dkwX6_whyWay_1 : List UInt8 := [182, 1, 167, 54, 6, 21, 5, 29, 164, 0, 28, 28, 154, 0, 7, 4, 167, 0, 19, 28, 4, 160, 0, 13]
abbrev dktX6_whyWay_1 : List UInt8 := dkwX6_whyWay_1 ++ dktX6_whyWay_2
def dkwX6_whyWay_0 : List UInt8 := [42, 27, 4, 182, 0, 124, 62, 42, 27, 5, 182, 0, 124, 54, 4, 42, 27, 182, 0, 147, 54, 5, 42]
abbrev dktX6_whyWay_0 : List UInt8 := dkwX6_whyWay_0 ++ dktX6_whyWay_1
theorem dksX6_whyWay_0 : cX6_whyWay.data.toList.drop 0 = dktX6_whyWay_0 := by decide +kernel
theorem dksX6_whyWay_1 : cX6_whyWay.data.toList.drop 23 = dktX6_whyWay_1 := dk_seg dksX6_whyWay_0 23 rfl rfl
theorem dksX6_whyWay_2 : cX6_whyWay.data.toList.drop 47 = dktX6_whyWay_2 := dk_seg dksX6_whyWay_1 24 rfl rfl
theorem dksX6_whyWay_3 : cX6_whyWay.data.toList.drop 69 = dktX6_whyWay_3 := dk_seg dksX6_whyWay_2 22 rfl rfl
theorem dksX6_whyWay_4 : cX6_whyWay.data.toList.drop 91 = dktX6_whyWay_4 := dk_seg dksX6_whyWay_3 22 rfl rfl
theorem dksX6_whyWay_5 : cX6_whyWay.data.toList.drop 114 = dktX6_whyWay_5 := dk_seg dksX6_whyWay_4 23 rfl rfl
theorem dX6_whyWay_0 : decode cX6_whyWay 0 = .ok (.aload_n 0, 1) := dk_42 (dk_at dksX6_whyWay_0 0 rfl rfl)
theorem dX6_whyWay_1 : decode cX6_whyWay 1 = .ok (.iload_n 1, 1) := dk_27 (dk_at dksX6_whyWay_0 1 rfl rfl)
theorem dX6_whyWay_2 : decode cX6_whyWay 2 = .ok (.iconst 1, 1) := dk_4 (dk_at dksX6_whyWay_0 2 rfl rfl)
theorem dX6_whyWay_3 : decode cX6_whyWay 3 = .ok (.invokevirtual 124, 3) := dk_182 0 124 (dk_at dksX6_whyWay_0 3 rfl rfl)
theorem dX6_whyWay_6 : decode cX6_whyWay 6 = .ok (.istore_n 3, 1) := dk_62 (dk_at dksX6_whyWay_0 6 rfl rfl)
theorem dX6_whyWay_7 : decode cX6_whyWay 7 = .ok (.aload_n 0, 1) := dk_42 (dk_at dksX6_whyWay_0 7 rfl rfl)
theorem dX6_whyWay_8 : decode cX6_whyWay 8 = .ok (.iload_n 1, 1) := dk_27 (dk_at dksX6_whyWay_0 8 rfl rfl)
theorem dX6_whyWay_9 : decode cX6_whyWay 9 = .ok (.iconst 2, 1) := dk_5 (dk_at dksX6_whyWay_0 9 rfl rfl)
theorem dX6_whyWay_10 : decode cX6_whyWay 10 = .ok (.invokevirtual 124, 3) := dk_182 0 124 (dk_at dksX6_whyWay_0 10 rfl rfl)
theorem dX6_whyWay_13 : decode cX6_whyWay 13 = .ok (.istore 4, 2) := dk_54 4 (dk_at dksX6_whyWay_0 13 rfl rfl)
theorem dX6_whyWay_15 : decode cX6_whyWay 15 = .ok (.aload_n 0, 1) := dk_42 (dk_at dksX6_whyWay_0 15 rfl rfl)
theorem dX6_whyWay_16 : decode cX6_whyWay 16 = .ok (.iload_n 1, 1) := dk_27 (dk_at dksX6_whyWay_0 16 rfl rfl)
theorem dX6_whyWay_17 : decode cX6_whyWay 17 = .ok (.invokevirtual 147, 3) := dk_182 0 147 (dk_at dksX6_whyWay_0 17 rfl rfl)
theorem dX6_whyWay_20 : decode cX6_whyWay 20 = .ok (.istore 5, 2) := dk_54 5 (dk_at dksX6_whyWay_0 20 rfl rfl)
theorem dX6_whyWay_22 : decode cX6_whyWay 22 = .ok (.aload_n 0, 1) := dk_42 (dk_at dksX6_whyWay_0 22 rfl rfl)
theorem dX6_whyWay_23 : decode cX6_whyWay 23 = .ok (.invokevirtual 423, 3) := dk_182 1 167 (dk_at dksX6_whyWay_1 0 rfl rfl)
theorem dX6_whyWay_26 : decode cX6_whyWay 26 = .ok (.istore 6, 2) := dk_54 6 (dk_at dksX6_whyWay_1 3 rfl rfl)
theorem dX6_whyWay_28 : decode cX6_whyWay 28 = .ok (.iload 5, 2) := dk_21 5 (dk_at dksX6_whyWay_1 5 rfl rfl)
theorem dX6_whyWay_30 : decode cX6_whyWay 30 = .ok (.iload_n 3, 1) := dk_29 (dk_at dksX6_whyWay_1 7 rfl rfl)
theorem dX6_whyWay_31 : decode cX6_whyWay 31 = .ok (.if_icmp .le 28, 3) := dk_164 0 28 (dk_at dksX6_whyWay_1 8 rfl rfl)
theorem dX6_whyWay_34 : decode cX6_whyWay 34 = .ok (.iload_n 2, 1) := dk_28 (dk_at dksX6_whyWay_1 11 rfl rfl)
theorem dX6_whyWay_35 : decode cX6_whyWay 35 = .ok (.ifCond .ne 7, 3) := dk_154 0 7 (dk_at dksX6_whyWay_1 12 rfl rfl)
theorem dX6_whyWay_38 : decode cX6_whyWay 38 = .ok (.iconst 1, 1) := dk_4 (dk_at dksX6_whyWay_1 15 rfl rfl)
theorem dX6_whyWay_39 : decode cX6_whyWay 39 = .ok (.goto 19, 3) := dk_167 0 19 (dk_at dksX6_whyWay_1 16 rfl rfl)
theorem dX6_whyWay_42 : decode cX6_whyWay 42 = .ok (.iload_n 2, 1) := dk_28 (dk_at dksX6_whyWay_1 19 rfl rfl)
theorem dX6_whyWay_43 : decode cX6_whyWay 43 = .ok (.iconst 1, 1) := dk_4 (dk_at dksX6_whyWay_1 20 rfl rfl)
theorem dX6_whyWay_44 : decode cX6_whyWay 44 = .ok (.if_icmp .ne 13, 3) := dk_160 0 13 (dk_at dksX6_whyWay_1 21 rfl rfl)
theorem dX6_whyWay_47 : decode cX6_whyWay 47 = .ok (.bipush 101, 2) := dk_16 101 (dk_at dksX6_whyWay_2 0 rfl rfl)
theorem dX6_whyWay_49 : decode cX6_whyWay 49 = .ok (.iload 5, 2) := dk_21 5 (dk_at dksX6_whyWay_2 2 rfl rfl)
theorem dX6_whyWay_51 : decode cX6_whyWay 51 = .ok (.iadd, 1) := dk_96 (dk_at dksX6_whyWay_2 4 rfl rfl)
theorem dX6_whyWay_52 : decode cX6_whyWay 52 = .ok (.iload_n 3, 1) := dk_29 (dk_at dksX6_whyWay_2 5 rfl rfl)
theorem dX6_whyWay_53 : decode cX6_whyWay 53 = .ok (.isub, 1) := dk_100 (dk_at dksX6_whyWay_2 6 rfl rfl)
theorem dX6_whyWay_54 : decode cX6_whyWay 54 = .ok (.goto 4, 3) := dk_167 0 4 (dk_at dksX6_whyWay_2 7 rfl rfl)
theorem dX6_whyWay_57 : decode cX6_whyWay 57 = .ok (.iconst 0, 1) := dk_3 (dk_at dksX6_whyWay_2 10 rfl rfl)
theorem dX6_whyWay_58 : decode cX6_whyWay 58 = .ok (.ireturn, 1) := dk_172 (dk_at dksX6_whyWay_2 11 rfl rfl)
theorem dX6_whyWay_59 : decode cX6_whyWay 59 = .ok (.iload 6, 2) := dk_21 6 (dk_at dksX6_whyWay_2 12 rfl rfl)
theorem dX6_whyWay_61 : decode cX6_whyWay 61 = .ok (.ifCond .ne 29, 3) := dk_154 0 29 (dk_at dksX6_whyWay_2 14 rfl rfl)
theorem dX6_whyWay_64 : decode cX6_whyWay 64 = .ok (.iload_n 2, 1) := dk_28 (dk_at dksX6_whyWay_2 17 rfl rfl)
theorem dX6_whyWay_65 : decode cX6_whyWay 65 = .ok (.ifCond .ne 7, 3) := dk_154 0 7 (dk_at dksX6_whyWay_2 18 rfl rfl)
theorem dX6_whyWay_68 : decode cX6_whyWay 68 = .ok (.iconst 3, 1) := dk_6 (dk_at dksX6_whyWay_2 21 rfl rfl)
theorem dX6_whyWay_69 : decode cX6_whyWay 69 = .ok (.goto 20, 3) := dk_167 0 20 (dk_at dksX6_whyWay_3 0 rfl rfl)
theorem dX6_whyWay_72 : decode cX6_whyWay 72 = .ok (.iload_n 2, 1) := dk_28 (dk_at dksX6_whyWay_3 3 rfl rfl)
theorem dX6_whyWay_73 : decode cX6_whyWay 73 = .ok (.iconst 1, 1) := dk_4 (dk_at dksX6_whyWay_3 4 rfl rfl)
theorem dX6_whyWay_74 : decode cX6_whyWay 74 = .ok (.if_icmp .ne 14, 3) := dk_160 0 14 (dk_at dksX6_whyWay_3 5 rfl rfl)
theorem dX6_whyWay_77 : decode cX6_whyWay 77 = .ok (.sipush 400, 3) := dk_17 1 144 (dk_at dksX6_whyWay_3 8 rfl rfl)
theorem dX6_whyWay_80 : decode cX6_whyWay 80 = .ok (.aload_n 0, 1) := dk_42 (dk_at dksX6_whyWay_3 11 rfl rfl)
theorem dX6_whyWay_81 : decode cX6_whyWay 81 = .ok (.getfield 127, 3) := dk_180 0 127 (dk_at dksX6_whyWay_3 12 rfl rfl)
theorem dX6_whyWay_84 : decode cX6_whyWay 84 = .ok (.iadd, 1) := dk_96 (dk_at dksX6_whyWay_3 15 rfl rfl)
theorem dX6_whyWay_85 : decode cX6_whyWay 85 = .ok (.goto 4, 3) := dk_167 0 4 (dk_at dksX6_whyWay_3 16 rfl rfl)
theorem dX6_whyWay_88 : decode cX6_whyWay 88 = .ok (.iconst 0, 1) := dk_3 (dk_at dksX6_whyWay_3 19 rfl rfl)
theorem dX6_whyWay_89 : decode cX6_whyWay 89 = .ok (.ireturn, 1) := dk_172 (dk_at dksX6_whyWay_3 20 rfl rfl)
theorem dX6_whyWay_90 : decode cX6_whyWay 90 = .ok (.iload_n 2, 1) := dk_28 (dk_at dksX6_whyWay_3 21 rfl rfl)
theorem dX6_whyWay_91 : decode cX6_whyWay 91 = .ok (.ifCond .ne 7, 3) := dk_154 0 7 (dk_at dksX6_whyWay_4 0 rfl rfl)
theorem dX6_whyWay_94 : decode cX6_whyWay 94 = .ok (.iconst 2, 1) := dk_5 (dk_at dksX6_whyWay_4 3 rfl rfl)
theorem dX6_whyWay_95 : decode cX6_whyWay 95 = .ok (.goto 39, 3) := dk_167 0 39 (dk_at dksX6_whyWay_4 4 rfl rfl)
theorem dX6_whyWay_98 : decode cX6_whyWay 98 = .ok (.iload_n 2, 1) := dk_28 (dk_at dksX6_whyWay_4 7 rfl rfl)
theorem dX6_whyWay_99 : decode cX6_whyWay 99 = .ok (.iconst 1, 1) := dk_4 (dk_at dksX6_whyWay_4 8 rfl rfl)
theorem dX6_whyWay_100 : decode cX6_whyWay 100 = .ok (.if_icmp .ne 12, 3) := dk_160 0 12 (dk_at dksX6_whyWay_4 9 rfl rfl)
theorem dX6_whyWay_103 : decode cX6_whyWay 103 = .ok (.sipush 201, 3) := dk_17 0 201 (dk_at dksX6_whyWay_4 12 rfl rfl)
theorem dX6_whyWay_106 : decode cX6_whyWay 106 = .ok (.iload 6, 2) := dk_21 6 (dk_at dksX6_whyWay_4 15 rfl rfl)
theorem dX6_whyWay_108 : decode cX6_whyWay 108 = .ok (.iadd, 1) := dk_96 (dk_at dksX6_whyWay_4 17 rfl rfl)
theorem dX6_whyWay_109 : decode cX6_whyWay 109 = .ok (.goto 25, 3) := dk_167 0 25 (dk_at dksX6_whyWay_4 18 rfl rfl)
theorem dX6_whyWay_112 : decode cX6_whyWay 112 = .ok (.iload 4, 2) := dk_21 4 (dk_at dksX6_whyWay_4 21 rfl rfl)
theorem dX6_whyWay_114 : decode cX6_whyWay 114 = .ok (.ldc 109, 2) := dk_18 109 (dk_at dksX6_whyWay_5 0 rfl rfl)
theorem dX6_whyWay_116 : decode cX6_whyWay 116 = .ok (.if_icmp .lt 9, 3) := dk_161 0 9 (dk_at dksX6_whyWay_5 2 rfl rfl)
theorem dX6_whyWay_119 : decode cX6_whyWay 119 = .ok (.sipush 300, 3) := dk_17 1 44 (dk_at dksX6_whyWay_5 5 rfl rfl)
theorem dX6_whyWay_122 : decode cX6_whyWay 122 = .ok (.goto 12, 3) := dk_167 0 12 (dk_at dksX6_whyWay_5 8 rfl rfl)
theorem dX6_whyWay_125 : decode cX6_whyWay 125 = .ok (.sipush 301, 3) := dk_17 1 45 (dk_at dksX6_whyWay_5 11 rfl rfl)
theorem dX6_whyWay_128 : decode cX6_whyWay 128 = .ok (.iload 4, 2) := dk_21 4 (dk_at dksX6_whyWay_5 14 rfl rfl)
theorem dX6_whyWay_130 : decode cX6_whyWay 130 = .ok (.iadd, 1) := dk_96 (dk_at dksX6_whyWay_5 16 rfl rfl)
theorem dX6_whyWay_131 : decode cX6_whyWay 131 = .ok (.iload 5, 2) := dk_21 5 (dk_at dksX6_whyWay_5 17 rfl rfl)
theorem dX6_whyWay_133 : decode cX6_whyWay 133 = .ok (.isub, 1) := dk_100 (dk_at dksX6_whyWay_5 19 rfl rfl)
theorem dX6_whyWay_134 : decode cX6_whyWay 134 = .ok (.ireturn, 1) := dk_172 (dk_at dksX6_whyWay_5 20 rfl rfl)
def dkwX6_grassOnWay_1 : List UInt8 := [184, 0, 130, 96, 60, 132, 2, 1, 167, 255, 229, 27, 172]
abbrev dktX6_grassOnWay_1 : List UInt8 := dkwX6_grassOnWay_1 ++ []
def dkwX6_grassOnWay_0 : List UInt8 := [3, 60, 3, 61, 28, 42, 180, 0, 127, 162, 0, 25, 27, 42, 42, 180, 0, 28, 28, 46, 182, 0, 93]
abbrev dktX6_grassOnWay_0 : List UInt8 := dkwX6_grassOnWay_0 ++ dktX6_grassOnWay_1
theorem dksX6_grassOnWay_0 : cX6_grassOnWay.data.toList.drop 0 = dktX6_grassOnWay_0 := by decide +kernel
theorem dksX6_grassOnWay_1 : cX6_grassOnWay.data.toList.drop 23 = dktX6_grassOnWay_1 := dk_seg dksX6_grassOnWay_0 23 rfl rfl
theorem dX6_grassOnWay_0 : decode cX6_grassOnWay 0 = .ok (.iconst 0, 1) := dk_3 (dk_at dksX6_grassOnWay_0 0 rfl rfl)
theorem dX6_grassOnWay_1 : decode cX6_grassOnWay 1 = .ok (.istore_n 1, 1) := dk_60 (dk_at dksX6_grassOnWay_0 1 rfl rfl)
theorem dX6_grassOnWay_2 : decode cX6_grassOnWay 2 = .ok (.iconst 0, 1) := dk_3 (dk_at dksX6_grassOnWay_0 2 rfl rfl)
theorem dX6_grassOnWay_3 : decode cX6_grassOnWay 3 = .ok (.istore_n 2, 1) := dk_61 (dk_at dksX6_grassOnWay_0 3 rfl rfl)
theorem dX6_grassOnWay_4 : decode cX6_grassOnWay 4 = .ok (.iload_n 2, 1) := dk_28 (dk_at dksX6_grassOnWay_0 4 rfl rfl)
theorem dX6_grassOnWay_5 : decode cX6_grassOnWay 5 = .ok (.aload_n 0, 1) := dk_42 (dk_at dksX6_grassOnWay_0 5 rfl rfl)
theorem dX6_grassOnWay_6 : decode cX6_grassOnWay 6 = .ok (.getfield 127, 3) := dk_180 0 127 (dk_at dksX6_grassOnWay_0 6 rfl rfl)
theorem dX6_grassOnWay_9 : decode cX6_grassOnWay 9 = .ok (.if_icmp .ge 25, 3) := dk_162 0 25 (dk_at dksX6_grassOnWay_0 9 rfl rfl)
theorem dX6_grassOnWay_12 : decode cX6_grassOnWay 12 = .ok (.iload_n 1, 1) := dk_27 (dk_at dksX6_grassOnWay_0 12 rfl rfl)
theorem dX6_grassOnWay_13 : decode cX6_grassOnWay 13 = .ok (.aload_n 0, 1) := dk_42 (dk_at dksX6_grassOnWay_0 13 rfl rfl)
theorem dX6_grassOnWay_14 : decode cX6_grassOnWay 14 = .ok (.aload_n 0, 1) := dk_42 (dk_at dksX6_grassOnWay_0 14 rfl rfl)
theorem dX6_grassOnWay_15 : decode cX6_grassOnWay 15 = .ok (.getfield 28, 3) := dk_180 0 28 (dk_at dksX6_grassOnWay_0 15 rfl rfl)
theorem dX6_grassOnWay_18 : decode cX6_grassOnWay 18 = .ok (.iload_n 2, 1) := dk_28 (dk_at dksX6_grassOnWay_0 18 rfl rfl)
theorem dX6_grassOnWay_19 : decode cX6_grassOnWay 19 = .ok (.iaload, 1) := dk_46 (dk_at dksX6_grassOnWay_0 19 rfl rfl)
theorem dX6_grassOnWay_20 : decode cX6_grassOnWay 20 = .ok (.invokevirtual 93, 3) := dk_182 0 93 (dk_at dksX6_grassOnWay_0 20 rfl rfl)
theorem dX6_grassOnWay_23 : decode cX6_grassOnWay 23 = .ok (.invokestatic 130, 3) := dk_184 0 130 (dk_at dksX6_grassOnWay_1 0 rfl rfl)
theorem dX6_grassOnWay_26 : decode cX6_grassOnWay 26 = .ok (.iadd, 1) := dk_96 (dk_at dksX6_grassOnWay_1 3 rfl rfl)
theorem dX6_grassOnWay_27 : decode cX6_grassOnWay 27 = .ok (.istore_n 1, 1) := dk_60 (dk_at dksX6_grassOnWay_1 4 rfl rfl)
theorem dX6_grassOnWay_28 : decode cX6_grassOnWay 28 = .ok (.iinc 2 1, 3) := dk_132 2 1 (dk_at dksX6_grassOnWay_1 5 rfl rfl)
theorem dX6_grassOnWay_31 : decode cX6_grassOnWay 31 = .ok (.goto (-27), 3) := dk_167 255 229 (dk_at dksX6_grassOnWay_1 8 rfl rfl)
theorem dX6_grassOnWay_34 : decode cX6_grassOnWay 34 = .ok (.iload_n 1, 1) := dk_27 (dk_at dksX6_grassOnWay_1 11 rfl rfl)
theorem dX6_grassOnWay_35 : decode cX6_grassOnWay 35 = .ok (.ireturn, 1) := dk_172 (dk_at dksX6_grassOnWay_1 12 rfl rfl)
def dkwX6_keptBy_1 : List UInt8 := [27, 28, 182, 0, 83, 29, 182, 1, 178, 167, 0, 4, 3, 172]
abbrev dktX6_keptBy_1 : List UInt8 := dkwX6_keptBy_1 ++ []
def dkwX6_keptBy_0 : List UInt8 := [42, 42, 27, 28, 182, 0, 89, 29, 133, 9, 20, 1, 170, 184, 0, 68, 182, 1, 142, 153, 0, 17, 42, 42]
abbrev dktX6_keptBy_0 : List UInt8 := dkwX6_keptBy_0 ++ dktX6_keptBy_1
theorem dksX6_keptBy_0 : cX6_keptBy.data.toList.drop 0 = dktX6_keptBy_0 := by decide +kernel
theorem dksX6_keptBy_1 : cX6_keptBy.data.toList.drop 24 = dktX6_keptBy_1 := dk_seg dksX6_keptBy_0 24 rfl rfl
theorem dX6_keptBy_0 : decode cX6_keptBy 0 = .ok (.aload_n 0, 1) := dk_42 (dk_at dksX6_keptBy_0 0 rfl rfl)
theorem dX6_keptBy_1 : decode cX6_keptBy 1 = .ok (.aload_n 0, 1) := dk_42 (dk_at dksX6_keptBy_0 1 rfl rfl)
theorem dX6_keptBy_2 : decode cX6_keptBy 2 = .ok (.iload_n 1, 1) := dk_27 (dk_at dksX6_keptBy_0 2 rfl rfl)
theorem dX6_keptBy_3 : decode cX6_keptBy 3 = .ok (.iload_n 2, 1) := dk_28 (dk_at dksX6_keptBy_0 3 rfl rfl)
theorem dX6_keptBy_4 : decode cX6_keptBy 4 = .ok (.invokevirtual 89, 3) := dk_182 0 89 (dk_at dksX6_keptBy_0 4 rfl rfl)
theorem dX6_keptBy_7 : decode cX6_keptBy 7 = .ok (.iload_n 3, 1) := dk_29 (dk_at dksX6_keptBy_0 7 rfl rfl)
theorem dX6_keptBy_8 : decode cX6_keptBy 8 = .ok (.i2l, 1) := dk_133 (dk_at dksX6_keptBy_0 8 rfl rfl)
theorem dX6_keptBy_9 : decode cX6_keptBy 9 = .ok (.lconst 0, 1) := dk_9 (dk_at dksX6_keptBy_0 9 rfl rfl)
theorem dX6_keptBy_10 : decode cX6_keptBy 10 = .ok (.ldc2_w 426, 3) := dk_20 1 170 (dk_at dksX6_keptBy_0 10 rfl rfl)
theorem dX6_keptBy_13 : decode cX6_keptBy 13 = .ok (.invokestatic 68, 3) := dk_184 0 68 (dk_at dksX6_keptBy_0 13 rfl rfl)
theorem dX6_keptBy_16 : decode cX6_keptBy 16 = .ok (.invokevirtual 398, 3) := dk_182 1 142 (dk_at dksX6_keptBy_0 16 rfl rfl)
theorem dX6_keptBy_19 : decode cX6_keptBy 19 = .ok (.ifCond .eq 17, 3) := dk_153 0 17 (dk_at dksX6_keptBy_0 19 rfl rfl)
theorem dX6_keptBy_22 : decode cX6_keptBy 22 = .ok (.aload_n 0, 1) := dk_42 (dk_at dksX6_keptBy_0 22 rfl rfl)
theorem dX6_keptBy_23 : decode cX6_keptBy 23 = .ok (.aload_n 0, 1) := dk_42 (dk_at dksX6_keptBy_0 23 rfl rfl)
theorem dX6_keptBy_24 : decode cX6_keptBy 24 = .ok (.iload_n 1, 1) := dk_27 (dk_at dksX6_keptBy_1 0 rfl rfl)
theorem dX6_keptBy_25 : decode cX6_keptBy 25 = .ok (.iload_n 2, 1) := dk_28 (dk_at dksX6_keptBy_1 1 rfl rfl)
theorem dX6_keptBy_26 : decode cX6_keptBy 26 = .ok (.invokevirtual 83, 3) := dk_182 0 83 (dk_at dksX6_keptBy_1 2 rfl rfl)
theorem dX6_keptBy_29 : decode cX6_keptBy 29 = .ok (.iload_n 3, 1) := dk_29 (dk_at dksX6_keptBy_1 5 rfl rfl)
theorem dX6_keptBy_30 : decode cX6_keptBy 30 = .ok (.invokevirtual 434, 3) := dk_182 1 178 (dk_at dksX6_keptBy_1 6 rfl rfl)
theorem dX6_keptBy_33 : decode cX6_keptBy 33 = .ok (.goto 4, 3) := dk_167 0 4 (dk_at dksX6_keptBy_1 9 rfl rfl)
theorem dX6_keptBy_36 : decode cX6_keptBy 36 = .ok (.iconst 0, 1) := dk_3 (dk_at dksX6_keptBy_1 12 rfl rfl)
theorem dX6_keptBy_37 : decode cX6_keptBy 37 = .ok (.ireturn, 1) := dk_172 (dk_at dksX6_keptBy_1 13 rfl rfl)
def dkwX6_keptNow_3 : List UInt8 := [3, 167, 0, 17, 28, 154, 0, 7, 5, 167, 0, 9, 17, 2, 189, 21, 4, 96, 172]
abbrev dktX6_keptNow_3 : List UInt8 := dkwX6_keptNow_3 ++ []
def dkwX6_keptNow_2 : List UInt8 := [27, 182, 1, 137, 96, 172, 42, 27, 182, 1, 134, 54, 4, 21, 4, 2, 159, 0, 8, 28, 5, 160, 0, 7]
abbrev dktX6_keptNow_2 : List UInt8 := dkwX6_keptNow_2 ++ dktX6_keptNow_3
def dkwX6_keptNow_1 : List UInt8 := [154, 0, 7, 4, 167, 0, 25, 28, 4, 160, 0, 11, 17, 1, 245, 29, 96, 167, 0, 12, 17, 2, 89, 42]
abbrev dktX6_keptNow_1 : List UInt8 := dkwX6_keptNow_1 ++ dktX6_keptNow_2
def dkwX6_keptNow_0 : List UInt8 := [42, 27, 182, 0, 93, 154, 0, 5, 3, 172, 42, 27, 182, 1, 175, 62, 29, 2, 159, 0, 34, 28]
abbrev dktX6_keptNow_0 : List UInt8 := dkwX6_keptNow_0 ++ dktX6_keptNow_1
theorem dksX6_keptNow_0 : cX6_keptNow.data.toList.drop 0 = dktX6_keptNow_0 := by decide +kernel
theorem dksX6_keptNow_1 : cX6_keptNow.data.toList.drop 22 = dktX6_keptNow_1 := dk_seg dksX6_keptNow_0 22 rfl rfl
theorem dksX6_keptNow_2 : cX6_keptNow.data.toList.drop 46 = dktX6_keptNow_2 := dk_seg dksX6_keptNow_1 24 rfl rfl
theorem dksX6_keptNow_3 : cX6_keptNow.data.toList.drop 70 = dktX6_keptNow_3 := dk_seg dksX6_keptNow_2 24 rfl rfl
theorem dX6_keptNow_0 : decode cX6_keptNow 0 = .ok (.aload_n 0, 1) := dk_42 (dk_at dksX6_keptNow_0 0 rfl rfl)
theorem dX6_keptNow_1 : decode cX6_keptNow 1 = .ok (.iload_n 1, 1) := dk_27 (dk_at dksX6_keptNow_0 1 rfl rfl)
theorem dX6_keptNow_2 : decode cX6_keptNow 2 = .ok (.invokevirtual 93, 3) := dk_182 0 93 (dk_at dksX6_keptNow_0 2 rfl rfl)
theorem dX6_keptNow_5 : decode cX6_keptNow 5 = .ok (.ifCond .ne 5, 3) := dk_154 0 5 (dk_at dksX6_keptNow_0 5 rfl rfl)
theorem dX6_keptNow_8 : decode cX6_keptNow 8 = .ok (.iconst 0, 1) := dk_3 (dk_at dksX6_keptNow_0 8 rfl rfl)
theorem dX6_keptNow_9 : decode cX6_keptNow 9 = .ok (.ireturn, 1) := dk_172 (dk_at dksX6_keptNow_0 9 rfl rfl)
theorem dX6_keptNow_10 : decode cX6_keptNow 10 = .ok (.aload_n 0, 1) := dk_42 (dk_at dksX6_keptNow_0 10 rfl rfl)
theorem dX6_keptNow_11 : decode cX6_keptNow 11 = .ok (.iload_n 1, 1) := dk_27 (dk_at dksX6_keptNow_0 11 rfl rfl)
theorem dX6_keptNow_12 : decode cX6_keptNow 12 = .ok (.invokevirtual 431, 3) := dk_182 1 175 (dk_at dksX6_keptNow_0 12 rfl rfl)
theorem dX6_keptNow_15 : decode cX6_keptNow 15 = .ok (.istore_n 3, 1) := dk_62 (dk_at dksX6_keptNow_0 15 rfl rfl)
theorem dX6_keptNow_16 : decode cX6_keptNow 16 = .ok (.iload_n 3, 1) := dk_29 (dk_at dksX6_keptNow_0 16 rfl rfl)
theorem dX6_keptNow_17 : decode cX6_keptNow 17 = .ok (.iconst (-1), 1) := dk_2 (dk_at dksX6_keptNow_0 17 rfl rfl)
theorem dX6_keptNow_18 : decode cX6_keptNow 18 = .ok (.if_icmp .eq 34, 3) := dk_159 0 34 (dk_at dksX6_keptNow_0 18 rfl rfl)
theorem dX6_keptNow_21 : decode cX6_keptNow 21 = .ok (.iload_n 2, 1) := dk_28 (dk_at dksX6_keptNow_0 21 rfl rfl)
theorem dX6_keptNow_22 : decode cX6_keptNow 22 = .ok (.ifCond .ne 7, 3) := dk_154 0 7 (dk_at dksX6_keptNow_1 0 rfl rfl)
theorem dX6_keptNow_25 : decode cX6_keptNow 25 = .ok (.iconst 1, 1) := dk_4 (dk_at dksX6_keptNow_1 3 rfl rfl)
theorem dX6_keptNow_26 : decode cX6_keptNow 26 = .ok (.goto 25, 3) := dk_167 0 25 (dk_at dksX6_keptNow_1 4 rfl rfl)
theorem dX6_keptNow_29 : decode cX6_keptNow 29 = .ok (.iload_n 2, 1) := dk_28 (dk_at dksX6_keptNow_1 7 rfl rfl)
theorem dX6_keptNow_30 : decode cX6_keptNow 30 = .ok (.iconst 1, 1) := dk_4 (dk_at dksX6_keptNow_1 8 rfl rfl)
theorem dX6_keptNow_31 : decode cX6_keptNow 31 = .ok (.if_icmp .ne 11, 3) := dk_160 0 11 (dk_at dksX6_keptNow_1 9 rfl rfl)
theorem dX6_keptNow_34 : decode cX6_keptNow 34 = .ok (.sipush 501, 3) := dk_17 1 245 (dk_at dksX6_keptNow_1 12 rfl rfl)
theorem dX6_keptNow_37 : decode cX6_keptNow 37 = .ok (.iload_n 3, 1) := dk_29 (dk_at dksX6_keptNow_1 15 rfl rfl)
theorem dX6_keptNow_38 : decode cX6_keptNow 38 = .ok (.iadd, 1) := dk_96 (dk_at dksX6_keptNow_1 16 rfl rfl)
theorem dX6_keptNow_39 : decode cX6_keptNow 39 = .ok (.goto 12, 3) := dk_167 0 12 (dk_at dksX6_keptNow_1 17 rfl rfl)
theorem dX6_keptNow_42 : decode cX6_keptNow 42 = .ok (.sipush 601, 3) := dk_17 2 89 (dk_at dksX6_keptNow_1 20 rfl rfl)
theorem dX6_keptNow_45 : decode cX6_keptNow 45 = .ok (.aload_n 0, 1) := dk_42 (dk_at dksX6_keptNow_1 23 rfl rfl)
theorem dX6_keptNow_46 : decode cX6_keptNow 46 = .ok (.iload_n 1, 1) := dk_27 (dk_at dksX6_keptNow_2 0 rfl rfl)
theorem dX6_keptNow_47 : decode cX6_keptNow 47 = .ok (.invokevirtual 393, 3) := dk_182 1 137 (dk_at dksX6_keptNow_2 1 rfl rfl)
theorem dX6_keptNow_50 : decode cX6_keptNow 50 = .ok (.iadd, 1) := dk_96 (dk_at dksX6_keptNow_2 4 rfl rfl)
theorem dX6_keptNow_51 : decode cX6_keptNow 51 = .ok (.ireturn, 1) := dk_172 (dk_at dksX6_keptNow_2 5 rfl rfl)
theorem dX6_keptNow_52 : decode cX6_keptNow 52 = .ok (.aload_n 0, 1) := dk_42 (dk_at dksX6_keptNow_2 6 rfl rfl)
theorem dX6_keptNow_53 : decode cX6_keptNow 53 = .ok (.iload_n 1, 1) := dk_27 (dk_at dksX6_keptNow_2 7 rfl rfl)
theorem dX6_keptNow_54 : decode cX6_keptNow 54 = .ok (.invokevirtual 390, 3) := dk_182 1 134 (dk_at dksX6_keptNow_2 8 rfl rfl)
theorem dX6_keptNow_57 : decode cX6_keptNow 57 = .ok (.istore 4, 2) := dk_54 4 (dk_at dksX6_keptNow_2 11 rfl rfl)
theorem dX6_keptNow_59 : decode cX6_keptNow 59 = .ok (.iload 4, 2) := dk_21 4 (dk_at dksX6_keptNow_2 13 rfl rfl)
theorem dX6_keptNow_61 : decode cX6_keptNow 61 = .ok (.iconst (-1), 1) := dk_2 (dk_at dksX6_keptNow_2 15 rfl rfl)
theorem dX6_keptNow_62 : decode cX6_keptNow 62 = .ok (.if_icmp .eq 8, 3) := dk_159 0 8 (dk_at dksX6_keptNow_2 16 rfl rfl)
theorem dX6_keptNow_65 : decode cX6_keptNow 65 = .ok (.iload_n 2, 1) := dk_28 (dk_at dksX6_keptNow_2 19 rfl rfl)
theorem dX6_keptNow_66 : decode cX6_keptNow 66 = .ok (.iconst 2, 1) := dk_5 (dk_at dksX6_keptNow_2 20 rfl rfl)
theorem dX6_keptNow_67 : decode cX6_keptNow 67 = .ok (.if_icmp .ne 7, 3) := dk_160 0 7 (dk_at dksX6_keptNow_2 21 rfl rfl)
theorem dX6_keptNow_70 : decode cX6_keptNow 70 = .ok (.iconst 0, 1) := dk_3 (dk_at dksX6_keptNow_3 0 rfl rfl)
theorem dX6_keptNow_71 : decode cX6_keptNow 71 = .ok (.goto 17, 3) := dk_167 0 17 (dk_at dksX6_keptNow_3 1 rfl rfl)
theorem dX6_keptNow_74 : decode cX6_keptNow 74 = .ok (.iload_n 2, 1) := dk_28 (dk_at dksX6_keptNow_3 4 rfl rfl)
theorem dX6_keptNow_75 : decode cX6_keptNow 75 = .ok (.ifCond .ne 7, 3) := dk_154 0 7 (dk_at dksX6_keptNow_3 5 rfl rfl)
theorem dX6_keptNow_78 : decode cX6_keptNow 78 = .ok (.iconst 2, 1) := dk_5 (dk_at dksX6_keptNow_3 8 rfl rfl)
theorem dX6_keptNow_79 : decode cX6_keptNow 79 = .ok (.goto 9, 3) := dk_167 0 9 (dk_at dksX6_keptNow_3 9 rfl rfl)
theorem dX6_keptNow_82 : decode cX6_keptNow 82 = .ok (.sipush 701, 3) := dk_17 2 189 (dk_at dksX6_keptNow_3 12 rfl rfl)
theorem dX6_keptNow_85 : decode cX6_keptNow 85 = .ok (.iload 4, 2) := dk_21 4 (dk_at dksX6_keptNow_3 15 rfl rfl)
theorem dX6_keptNow_87 : decode cX6_keptNow 87 = .ok (.iadd, 1) := dk_96 (dk_at dksX6_keptNow_3 17 rfl rfl)
theorem dX6_keptNow_88 : decode cX6_keptNow 88 = .ok (.ireturn, 1) := dk_172 (dk_at dksX6_keptNow_3 18 rfl rfl)
def dkwX6_lowestOver_1 : List UInt8 := [153, 0, 5, 28, 172, 132, 2, 1, 167, 255, 227, 2, 172]
abbrev dktX6_lowestOver_1 : List UInt8 := dkwX6_lowestOver_1 ++ []
def dkwX6_lowestOver_0 : List UInt8 := [3, 61, 28, 42, 180, 0, 7, 4, 46, 162, 0, 25, 42, 28, 182, 0, 147, 62, 42, 27, 182, 1, 131]
abbrev dktX6_lowestOver_0 : List UInt8 := dkwX6_lowestOver_0 ++ dktX6_lowestOver_1
theorem dksX6_lowestOver_0 : cX6_lowestOver.data.toList.drop 0 = dktX6_lowestOver_0 := by decide +kernel
theorem dksX6_lowestOver_1 : cX6_lowestOver.data.toList.drop 23 = dktX6_lowestOver_1 := dk_seg dksX6_lowestOver_0 23 rfl rfl
theorem dX6_lowestOver_0 : decode cX6_lowestOver 0 = .ok (.iconst 0, 1) := dk_3 (dk_at dksX6_lowestOver_0 0 rfl rfl)
theorem dX6_lowestOver_1 : decode cX6_lowestOver 1 = .ok (.istore_n 2, 1) := dk_61 (dk_at dksX6_lowestOver_0 1 rfl rfl)
theorem dX6_lowestOver_2 : decode cX6_lowestOver 2 = .ok (.iload_n 2, 1) := dk_28 (dk_at dksX6_lowestOver_0 2 rfl rfl)
theorem dX6_lowestOver_3 : decode cX6_lowestOver 3 = .ok (.aload_n 0, 1) := dk_42 (dk_at dksX6_lowestOver_0 3 rfl rfl)
theorem dX6_lowestOver_4 : decode cX6_lowestOver 4 = .ok (.getfield 7, 3) := dk_180 0 7 (dk_at dksX6_lowestOver_0 4 rfl rfl)
theorem dX6_lowestOver_7 : decode cX6_lowestOver 7 = .ok (.iconst 1, 1) := dk_4 (dk_at dksX6_lowestOver_0 7 rfl rfl)
theorem dX6_lowestOver_8 : decode cX6_lowestOver 8 = .ok (.iaload, 1) := dk_46 (dk_at dksX6_lowestOver_0 8 rfl rfl)
theorem dX6_lowestOver_9 : decode cX6_lowestOver 9 = .ok (.if_icmp .ge 25, 3) := dk_162 0 25 (dk_at dksX6_lowestOver_0 9 rfl rfl)
theorem dX6_lowestOver_12 : decode cX6_lowestOver 12 = .ok (.aload_n 0, 1) := dk_42 (dk_at dksX6_lowestOver_0 12 rfl rfl)
theorem dX6_lowestOver_13 : decode cX6_lowestOver 13 = .ok (.iload_n 2, 1) := dk_28 (dk_at dksX6_lowestOver_0 13 rfl rfl)
theorem dX6_lowestOver_14 : decode cX6_lowestOver 14 = .ok (.invokevirtual 147, 3) := dk_182 0 147 (dk_at dksX6_lowestOver_0 14 rfl rfl)
theorem dX6_lowestOver_17 : decode cX6_lowestOver 17 = .ok (.istore_n 3, 1) := dk_62 (dk_at dksX6_lowestOver_0 17 rfl rfl)
theorem dX6_lowestOver_18 : decode cX6_lowestOver 18 = .ok (.aload_n 0, 1) := dk_42 (dk_at dksX6_lowestOver_0 18 rfl rfl)
theorem dX6_lowestOver_19 : decode cX6_lowestOver 19 = .ok (.iload_n 1, 1) := dk_27 (dk_at dksX6_lowestOver_0 19 rfl rfl)
theorem dX6_lowestOver_20 : decode cX6_lowestOver 20 = .ok (.invokevirtual 387, 3) := dk_182 1 131 (dk_at dksX6_lowestOver_0 20 rfl rfl)
theorem dX6_lowestOver_23 : decode cX6_lowestOver 23 = .ok (.ifCond .eq 5, 3) := dk_153 0 5 (dk_at dksX6_lowestOver_1 0 rfl rfl)
theorem dX6_lowestOver_26 : decode cX6_lowestOver 26 = .ok (.iload_n 2, 1) := dk_28 (dk_at dksX6_lowestOver_1 3 rfl rfl)
theorem dX6_lowestOver_27 : decode cX6_lowestOver 27 = .ok (.ireturn, 1) := dk_172 (dk_at dksX6_lowestOver_1 4 rfl rfl)
theorem dX6_lowestOver_28 : decode cX6_lowestOver 28 = .ok (.iinc 2 1, 3) := dk_132 2 1 (dk_at dksX6_lowestOver_1 5 rfl rfl)
theorem dX6_lowestOver_31 : decode cX6_lowestOver 31 = .ok (.goto (-29), 3) := dk_167 255 227 (dk_at dksX6_lowestOver_1 8 rfl rfl)
theorem dX6_lowestOver_34 : decode cX6_lowestOver 34 = .ok (.iconst (-1), 1) := dk_2 (dk_at dksX6_lowestOver_1 11 rfl rfl)
theorem dX6_lowestOver_35 : decode cX6_lowestOver 35 = .ok (.ireturn, 1) := dk_172 (dk_at dksX6_lowestOver_1 12 rfl rfl)
def dkwX6_account_1 : List UInt8 := [3, 172]
abbrev dktX6_account_1 : List UInt8 := dkwX6_account_1 ++ []
def dkwX6_account_0 : List UInt8 := [42, 27, 133, 9, 20, 1, 181, 184, 0, 68, 182, 0, 186, 153, 0, 11, 42, 27, 182, 1, 183, 167, 0, 4]
abbrev dktX6_account_0 : List UInt8 := dkwX6_account_0 ++ dktX6_account_1
theorem dksX6_account_0 : cX6_account.data.toList.drop 0 = dktX6_account_0 := by decide +kernel
theorem dksX6_account_1 : cX6_account.data.toList.drop 24 = dktX6_account_1 := dk_seg dksX6_account_0 24 rfl rfl
theorem dX6_account_0 : decode cX6_account 0 = .ok (.aload_n 0, 1) := dk_42 (dk_at dksX6_account_0 0 rfl rfl)
theorem dX6_account_1 : decode cX6_account 1 = .ok (.iload_n 1, 1) := dk_27 (dk_at dksX6_account_0 1 rfl rfl)
theorem dX6_account_2 : decode cX6_account 2 = .ok (.i2l, 1) := dk_133 (dk_at dksX6_account_0 2 rfl rfl)
theorem dX6_account_3 : decode cX6_account 3 = .ok (.lconst 0, 1) := dk_9 (dk_at dksX6_account_0 3 rfl rfl)
theorem dX6_account_4 : decode cX6_account 4 = .ok (.ldc2_w 437, 3) := dk_20 1 181 (dk_at dksX6_account_0 4 rfl rfl)
theorem dX6_account_7 : decode cX6_account 7 = .ok (.invokestatic 68, 3) := dk_184 0 68 (dk_at dksX6_account_0 7 rfl rfl)
theorem dX6_account_10 : decode cX6_account 10 = .ok (.invokevirtual 186, 3) := dk_182 0 186 (dk_at dksX6_account_0 10 rfl rfl)
theorem dX6_account_13 : decode cX6_account 13 = .ok (.ifCond .eq 11, 3) := dk_153 0 11 (dk_at dksX6_account_0 13 rfl rfl)
theorem dX6_account_16 : decode cX6_account 16 = .ok (.aload_n 0, 1) := dk_42 (dk_at dksX6_account_0 16 rfl rfl)
theorem dX6_account_17 : decode cX6_account 17 = .ok (.iload_n 1, 1) := dk_27 (dk_at dksX6_account_0 17 rfl rfl)
theorem dX6_account_18 : decode cX6_account 18 = .ok (.invokevirtual 439, 3) := dk_182 1 183 (dk_at dksX6_account_0 18 rfl rfl)
theorem dX6_account_21 : decode cX6_account 21 = .ok (.goto 4, 3) := dk_167 0 4 (dk_at dksX6_account_0 21 rfl rfl)
theorem dX6_account_24 : decode cX6_account 24 = .ok (.iconst 0, 1) := dk_3 (dk_at dksX6_account_1 0 rfl rfl)
theorem dX6_account_25 : decode cX6_account 25 = .ok (.ireturn, 1) := dk_172 (dk_at dksX6_account_1 1 rfl rfl)
def dkwX6_account0_0 : List UInt8 := [42, 180, 0, 7, 16, 9, 27, 96, 46, 172]
abbrev dktX6_account0_0 : List UInt8 := dkwX6_account0_0 ++ []
theorem dksX6_account0_0 : cX6_account0.data.toList.drop 0 = dktX6_account0_0 := by decide +kernel
theorem dX6_account0_0 : decode cX6_account0 0 = .ok (.aload_n 0, 1) := dk_42 (dk_at dksX6_account0_0 0 rfl rfl)
theorem dX6_account0_1 : decode cX6_account0 1 = .ok (.getfield 7, 3) := dk_180 0 7 (dk_at dksX6_account0_0 1 rfl rfl)
theorem dX6_account0_4 : decode cX6_account0 4 = .ok (.bipush 9, 2) := dk_16 9 (dk_at dksX6_account0_0 4 rfl rfl)
theorem dX6_account0_6 : decode cX6_account0 6 = .ok (.iload_n 1, 1) := dk_27 (dk_at dksX6_account0_0 6 rfl rfl)
theorem dX6_account0_7 : decode cX6_account0 7 = .ok (.iadd, 1) := dk_96 (dk_at dksX6_account0_0 7 rfl rfl)
theorem dX6_account0_8 : decode cX6_account0 8 = .ok (.iaload, 1) := dk_46 (dk_at dksX6_account0_0 8 rfl rfl)
theorem dX6_account0_9 : decode cX6_account0 9 = .ok (.ireturn, 1) := dk_172 (dk_at dksX6_account0_0 9 rfl rfl)
def dkwX6_grassBalance_2 : List UInt8 := [100, 172]
abbrev dktX6_grassBalance_2 : List UInt8 := dkwX6_grassBalance_2 ++ []
def dkwX6_grassBalance_1 : List UInt8 := [42, 8, 182, 1, 183, 96, 42, 16, 6, 182, 1, 183, 96, 42, 16, 7, 182, 1, 183, 100, 42, 182, 1, 62]
abbrev dktX6_grassBalance_1 : List UInt8 := dkwX6_grassBalance_1 ++ dktX6_grassBalance_2
def dkwX6_grassBalance_0 : List UInt8 := [42, 3, 181, 0, 61, 42, 180, 0, 7, 16, 8, 46, 42, 6, 182, 1, 183, 100, 42, 7, 182, 1, 183, 96]
abbrev dktX6_grassBalance_0 : List UInt8 := dkwX6_grassBalance_0 ++ dktX6_grassBalance_1
theorem dksX6_grassBalance_0 : cX6_grassBalance.data.toList.drop 0 = dktX6_grassBalance_0 := by decide +kernel
theorem dksX6_grassBalance_1 : cX6_grassBalance.data.toList.drop 24 = dktX6_grassBalance_1 := dk_seg dksX6_grassBalance_0 24 rfl rfl
theorem dksX6_grassBalance_2 : cX6_grassBalance.data.toList.drop 48 = dktX6_grassBalance_2 := dk_seg dksX6_grassBalance_1 24 rfl rfl
theorem dX6_grassBalance_0 : decode cX6_grassBalance 0 = .ok (.aload_n 0, 1) := dk_42 (dk_at dksX6_grassBalance_0 0 rfl rfl)
theorem dX6_grassBalance_1 : decode cX6_grassBalance 1 = .ok (.iconst 0, 1) := dk_3 (dk_at dksX6_grassBalance_0 1 rfl rfl)
theorem dX6_grassBalance_2 : decode cX6_grassBalance 2 = .ok (.putfield 61, 3) := dk_181 0 61 (dk_at dksX6_grassBalance_0 2 rfl rfl)
theorem dX6_grassBalance_5 : decode cX6_grassBalance 5 = .ok (.aload_n 0, 1) := dk_42 (dk_at dksX6_grassBalance_0 5 rfl rfl)
theorem dX6_grassBalance_6 : decode cX6_grassBalance 6 = .ok (.getfield 7, 3) := dk_180 0 7 (dk_at dksX6_grassBalance_0 6 rfl rfl)
theorem dX6_grassBalance_9 : decode cX6_grassBalance 9 = .ok (.bipush 8, 2) := dk_16 8 (dk_at dksX6_grassBalance_0 9 rfl rfl)
theorem dX6_grassBalance_11 : decode cX6_grassBalance 11 = .ok (.iaload, 1) := dk_46 (dk_at dksX6_grassBalance_0 11 rfl rfl)
theorem dX6_grassBalance_12 : decode cX6_grassBalance 12 = .ok (.aload_n 0, 1) := dk_42 (dk_at dksX6_grassBalance_0 12 rfl rfl)
theorem dX6_grassBalance_13 : decode cX6_grassBalance 13 = .ok (.iconst 3, 1) := dk_6 (dk_at dksX6_grassBalance_0 13 rfl rfl)
theorem dX6_grassBalance_14 : decode cX6_grassBalance 14 = .ok (.invokevirtual 439, 3) := dk_182 1 183 (dk_at dksX6_grassBalance_0 14 rfl rfl)
theorem dX6_grassBalance_17 : decode cX6_grassBalance 17 = .ok (.isub, 1) := dk_100 (dk_at dksX6_grassBalance_0 17 rfl rfl)
theorem dX6_grassBalance_18 : decode cX6_grassBalance 18 = .ok (.aload_n 0, 1) := dk_42 (dk_at dksX6_grassBalance_0 18 rfl rfl)
theorem dX6_grassBalance_19 : decode cX6_grassBalance 19 = .ok (.iconst 4, 1) := dk_7 (dk_at dksX6_grassBalance_0 19 rfl rfl)
theorem dX6_grassBalance_20 : decode cX6_grassBalance 20 = .ok (.invokevirtual 439, 3) := dk_182 1 183 (dk_at dksX6_grassBalance_0 20 rfl rfl)
theorem dX6_grassBalance_23 : decode cX6_grassBalance 23 = .ok (.iadd, 1) := dk_96 (dk_at dksX6_grassBalance_0 23 rfl rfl)
theorem dX6_grassBalance_24 : decode cX6_grassBalance 24 = .ok (.aload_n 0, 1) := dk_42 (dk_at dksX6_grassBalance_1 0 rfl rfl)
theorem dX6_grassBalance_25 : decode cX6_grassBalance 25 = .ok (.iconst 5, 1) := dk_8 (dk_at dksX6_grassBalance_1 1 rfl rfl)
theorem dX6_grassBalance_26 : decode cX6_grassBalance 26 = .ok (.invokevirtual 439, 3) := dk_182 1 183 (dk_at dksX6_grassBalance_1 2 rfl rfl)
theorem dX6_grassBalance_29 : decode cX6_grassBalance 29 = .ok (.iadd, 1) := dk_96 (dk_at dksX6_grassBalance_1 5 rfl rfl)
theorem dX6_grassBalance_30 : decode cX6_grassBalance 30 = .ok (.aload_n 0, 1) := dk_42 (dk_at dksX6_grassBalance_1 6 rfl rfl)
theorem dX6_grassBalance_31 : decode cX6_grassBalance 31 = .ok (.bipush 6, 2) := dk_16 6 (dk_at dksX6_grassBalance_1 7 rfl rfl)
theorem dX6_grassBalance_33 : decode cX6_grassBalance 33 = .ok (.invokevirtual 439, 3) := dk_182 1 183 (dk_at dksX6_grassBalance_1 9 rfl rfl)
theorem dX6_grassBalance_36 : decode cX6_grassBalance 36 = .ok (.iadd, 1) := dk_96 (dk_at dksX6_grassBalance_1 12 rfl rfl)
theorem dX6_grassBalance_37 : decode cX6_grassBalance 37 = .ok (.aload_n 0, 1) := dk_42 (dk_at dksX6_grassBalance_1 13 rfl rfl)
theorem dX6_grassBalance_38 : decode cX6_grassBalance 38 = .ok (.bipush 7, 2) := dk_16 7 (dk_at dksX6_grassBalance_1 14 rfl rfl)
theorem dX6_grassBalance_40 : decode cX6_grassBalance 40 = .ok (.invokevirtual 439, 3) := dk_182 1 183 (dk_at dksX6_grassBalance_1 16 rfl rfl)
theorem dX6_grassBalance_43 : decode cX6_grassBalance 43 = .ok (.isub, 1) := dk_100 (dk_at dksX6_grassBalance_1 19 rfl rfl)
theorem dX6_grassBalance_44 : decode cX6_grassBalance 44 = .ok (.aload_n 0, 1) := dk_42 (dk_at dksX6_grassBalance_1 20 rfl rfl)
theorem dX6_grassBalance_45 : decode cX6_grassBalance 45 = .ok (.invokevirtual 318, 3) := dk_182 1 62 (dk_at dksX6_grassBalance_1 21 rfl rfl)
theorem dX6_grassBalance_48 : decode cX6_grassBalance 48 = .ok (.isub, 1) := dk_100 (dk_at dksX6_grassBalance_2 0 rfl rfl)
theorem dX6_grassBalance_49 : decode cX6_grassBalance 49 = .ok (.ireturn, 1) := dk_172 (dk_at dksX6_grassBalance_2 1 rfl rfl)
def dkwX6_walkBalance_2 : List UInt8 := [3, 182, 1, 183, 27, 100, 184, 1, 186, 42, 4, 182, 1, 183, 28, 100, 184, 1, 186, 96, 172]
abbrev dktX6_walkBalance_2 : List UInt8 := dkwX6_walkBalance_2 ++ []
def dkwX6_walkBalance_1 : List UInt8 := [16, 11, 182, 0, 103, 96, 60, 28, 42, 29, 16, 12, 182, 0, 103, 96, 61, 132, 3, 1, 167, 255, 223, 42]
abbrev dktX6_walkBalance_1 : List UInt8 := dkwX6_walkBalance_1 ++ dktX6_walkBalance_2
def dkwX6_walkBalance_0 : List UInt8 := [42, 3, 181, 0, 61, 3, 60, 3, 61, 3, 62, 29, 42, 180, 0, 7, 4, 46, 162, 0, 29, 27, 42, 29]
abbrev dktX6_walkBalance_0 : List UInt8 := dkwX6_walkBalance_0 ++ dktX6_walkBalance_1
theorem dksX6_walkBalance_0 : cX6_walkBalance.data.toList.drop 0 = dktX6_walkBalance_0 := by decide +kernel
theorem dksX6_walkBalance_1 : cX6_walkBalance.data.toList.drop 24 = dktX6_walkBalance_1 := dk_seg dksX6_walkBalance_0 24 rfl rfl
theorem dksX6_walkBalance_2 : cX6_walkBalance.data.toList.drop 48 = dktX6_walkBalance_2 := dk_seg dksX6_walkBalance_1 24 rfl rfl
theorem dX6_walkBalance_0 : decode cX6_walkBalance 0 = .ok (.aload_n 0, 1) := dk_42 (dk_at dksX6_walkBalance_0 0 rfl rfl)
theorem dX6_walkBalance_1 : decode cX6_walkBalance 1 = .ok (.iconst 0, 1) := dk_3 (dk_at dksX6_walkBalance_0 1 rfl rfl)
theorem dX6_walkBalance_2 : decode cX6_walkBalance 2 = .ok (.putfield 61, 3) := dk_181 0 61 (dk_at dksX6_walkBalance_0 2 rfl rfl)
theorem dX6_walkBalance_5 : decode cX6_walkBalance 5 = .ok (.iconst 0, 1) := dk_3 (dk_at dksX6_walkBalance_0 5 rfl rfl)
theorem dX6_walkBalance_6 : decode cX6_walkBalance 6 = .ok (.istore_n 1, 1) := dk_60 (dk_at dksX6_walkBalance_0 6 rfl rfl)
theorem dX6_walkBalance_7 : decode cX6_walkBalance 7 = .ok (.iconst 0, 1) := dk_3 (dk_at dksX6_walkBalance_0 7 rfl rfl)
theorem dX6_walkBalance_8 : decode cX6_walkBalance 8 = .ok (.istore_n 2, 1) := dk_61 (dk_at dksX6_walkBalance_0 8 rfl rfl)
theorem dX6_walkBalance_9 : decode cX6_walkBalance 9 = .ok (.iconst 0, 1) := dk_3 (dk_at dksX6_walkBalance_0 9 rfl rfl)
theorem dX6_walkBalance_10 : decode cX6_walkBalance 10 = .ok (.istore_n 3, 1) := dk_62 (dk_at dksX6_walkBalance_0 10 rfl rfl)
theorem dX6_walkBalance_11 : decode cX6_walkBalance 11 = .ok (.iload_n 3, 1) := dk_29 (dk_at dksX6_walkBalance_0 11 rfl rfl)
theorem dX6_walkBalance_12 : decode cX6_walkBalance 12 = .ok (.aload_n 0, 1) := dk_42 (dk_at dksX6_walkBalance_0 12 rfl rfl)
theorem dX6_walkBalance_13 : decode cX6_walkBalance 13 = .ok (.getfield 7, 3) := dk_180 0 7 (dk_at dksX6_walkBalance_0 13 rfl rfl)
theorem dX6_walkBalance_16 : decode cX6_walkBalance 16 = .ok (.iconst 1, 1) := dk_4 (dk_at dksX6_walkBalance_0 16 rfl rfl)
theorem dX6_walkBalance_17 : decode cX6_walkBalance 17 = .ok (.iaload, 1) := dk_46 (dk_at dksX6_walkBalance_0 17 rfl rfl)
theorem dX6_walkBalance_18 : decode cX6_walkBalance 18 = .ok (.if_icmp .ge 29, 3) := dk_162 0 29 (dk_at dksX6_walkBalance_0 18 rfl rfl)
theorem dX6_walkBalance_21 : decode cX6_walkBalance 21 = .ok (.iload_n 1, 1) := dk_27 (dk_at dksX6_walkBalance_0 21 rfl rfl)
theorem dX6_walkBalance_22 : decode cX6_walkBalance 22 = .ok (.aload_n 0, 1) := dk_42 (dk_at dksX6_walkBalance_0 22 rfl rfl)
theorem dX6_walkBalance_23 : decode cX6_walkBalance 23 = .ok (.iload_n 3, 1) := dk_29 (dk_at dksX6_walkBalance_0 23 rfl rfl)
theorem dX6_walkBalance_24 : decode cX6_walkBalance 24 = .ok (.bipush 11, 2) := dk_16 11 (dk_at dksX6_walkBalance_1 0 rfl rfl)
theorem dX6_walkBalance_26 : decode cX6_walkBalance 26 = .ok (.invokevirtual 103, 3) := dk_182 0 103 (dk_at dksX6_walkBalance_1 2 rfl rfl)
theorem dX6_walkBalance_29 : decode cX6_walkBalance 29 = .ok (.iadd, 1) := dk_96 (dk_at dksX6_walkBalance_1 5 rfl rfl)
theorem dX6_walkBalance_30 : decode cX6_walkBalance 30 = .ok (.istore_n 1, 1) := dk_60 (dk_at dksX6_walkBalance_1 6 rfl rfl)
theorem dX6_walkBalance_31 : decode cX6_walkBalance 31 = .ok (.iload_n 2, 1) := dk_28 (dk_at dksX6_walkBalance_1 7 rfl rfl)
theorem dX6_walkBalance_32 : decode cX6_walkBalance 32 = .ok (.aload_n 0, 1) := dk_42 (dk_at dksX6_walkBalance_1 8 rfl rfl)
theorem dX6_walkBalance_33 : decode cX6_walkBalance 33 = .ok (.iload_n 3, 1) := dk_29 (dk_at dksX6_walkBalance_1 9 rfl rfl)
theorem dX6_walkBalance_34 : decode cX6_walkBalance 34 = .ok (.bipush 12, 2) := dk_16 12 (dk_at dksX6_walkBalance_1 10 rfl rfl)
theorem dX6_walkBalance_36 : decode cX6_walkBalance 36 = .ok (.invokevirtual 103, 3) := dk_182 0 103 (dk_at dksX6_walkBalance_1 12 rfl rfl)
theorem dX6_walkBalance_39 : decode cX6_walkBalance 39 = .ok (.iadd, 1) := dk_96 (dk_at dksX6_walkBalance_1 15 rfl rfl)
theorem dX6_walkBalance_40 : decode cX6_walkBalance 40 = .ok (.istore_n 2, 1) := dk_61 (dk_at dksX6_walkBalance_1 16 rfl rfl)
theorem dX6_walkBalance_41 : decode cX6_walkBalance 41 = .ok (.iinc 3 1, 3) := dk_132 3 1 (dk_at dksX6_walkBalance_1 17 rfl rfl)
theorem dX6_walkBalance_44 : decode cX6_walkBalance 44 = .ok (.goto (-33), 3) := dk_167 255 223 (dk_at dksX6_walkBalance_1 20 rfl rfl)
theorem dX6_walkBalance_47 : decode cX6_walkBalance 47 = .ok (.aload_n 0, 1) := dk_42 (dk_at dksX6_walkBalance_1 23 rfl rfl)
theorem dX6_walkBalance_48 : decode cX6_walkBalance 48 = .ok (.iconst 0, 1) := dk_3 (dk_at dksX6_walkBalance_2 0 rfl rfl)
theorem dX6_walkBalance_49 : decode cX6_walkBalance 49 = .ok (.invokevirtual 439, 3) := dk_182 1 183 (dk_at dksX6_walkBalance_2 1 rfl rfl)
theorem dX6_walkBalance_52 : decode cX6_walkBalance 52 = .ok (.iload_n 1, 1) := dk_27 (dk_at dksX6_walkBalance_2 4 rfl rfl)
theorem dX6_walkBalance_53 : decode cX6_walkBalance 53 = .ok (.isub, 1) := dk_100 (dk_at dksX6_walkBalance_2 5 rfl rfl)
theorem dX6_walkBalance_54 : decode cX6_walkBalance 54 = .ok (.invokestatic 442, 3) := dk_184 1 186 (dk_at dksX6_walkBalance_2 6 rfl rfl)
theorem dX6_walkBalance_57 : decode cX6_walkBalance 57 = .ok (.aload_n 0, 1) := dk_42 (dk_at dksX6_walkBalance_2 9 rfl rfl)
theorem dX6_walkBalance_58 : decode cX6_walkBalance 58 = .ok (.iconst 1, 1) := dk_4 (dk_at dksX6_walkBalance_2 10 rfl rfl)
theorem dX6_walkBalance_59 : decode cX6_walkBalance 59 = .ok (.invokevirtual 439, 3) := dk_182 1 183 (dk_at dksX6_walkBalance_2 11 rfl rfl)
theorem dX6_walkBalance_62 : decode cX6_walkBalance 62 = .ok (.iload_n 2, 1) := dk_28 (dk_at dksX6_walkBalance_2 14 rfl rfl)
theorem dX6_walkBalance_63 : decode cX6_walkBalance 63 = .ok (.isub, 1) := dk_100 (dk_at dksX6_walkBalance_2 15 rfl rfl)
theorem dX6_walkBalance_64 : decode cX6_walkBalance 64 = .ok (.invokestatic 442, 3) := dk_184 1 186 (dk_at dksX6_walkBalance_2 16 rfl rfl)
theorem dX6_walkBalance_67 : decode cX6_walkBalance 67 = .ok (.iadd, 1) := dk_96 (dk_at dksX6_walkBalance_2 19 rfl rfl)
theorem dX6_walkBalance_68 : decode cX6_walkBalance 68 = .ok (.ireturn, 1) := dk_172 (dk_at dksX6_walkBalance_2 20 rfl rfl)
def dkwX6_gap_1 : List UInt8 := [182, 1, 189, 184, 0, 130, 96, 60, 132, 2, 1, 167, 255, 232, 27, 172]
abbrev dktX6_gap_1 : List UInt8 := dkwX6_gap_1 ++ []
def dkwX6_gap_0 : List UInt8 := [42, 3, 181, 0, 61, 3, 60, 3, 61, 28, 42, 180, 0, 7, 4, 46, 162, 0, 20, 27, 42, 28]
abbrev dktX6_gap_0 : List UInt8 := dkwX6_gap_0 ++ dktX6_gap_1
theorem dksX6_gap_0 : cX6_gap.data.toList.drop 0 = dktX6_gap_0 := by decide +kernel
theorem dksX6_gap_1 : cX6_gap.data.toList.drop 22 = dktX6_gap_1 := dk_seg dksX6_gap_0 22 rfl rfl
theorem dX6_gap_0 : decode cX6_gap 0 = .ok (.aload_n 0, 1) := dk_42 (dk_at dksX6_gap_0 0 rfl rfl)
theorem dX6_gap_1 : decode cX6_gap 1 = .ok (.iconst 0, 1) := dk_3 (dk_at dksX6_gap_0 1 rfl rfl)
theorem dX6_gap_2 : decode cX6_gap 2 = .ok (.putfield 61, 3) := dk_181 0 61 (dk_at dksX6_gap_0 2 rfl rfl)
theorem dX6_gap_5 : decode cX6_gap 5 = .ok (.iconst 0, 1) := dk_3 (dk_at dksX6_gap_0 5 rfl rfl)
theorem dX6_gap_6 : decode cX6_gap 6 = .ok (.istore_n 1, 1) := dk_60 (dk_at dksX6_gap_0 6 rfl rfl)
theorem dX6_gap_7 : decode cX6_gap 7 = .ok (.iconst 0, 1) := dk_3 (dk_at dksX6_gap_0 7 rfl rfl)
theorem dX6_gap_8 : decode cX6_gap 8 = .ok (.istore_n 2, 1) := dk_61 (dk_at dksX6_gap_0 8 rfl rfl)
theorem dX6_gap_9 : decode cX6_gap 9 = .ok (.iload_n 2, 1) := dk_28 (dk_at dksX6_gap_0 9 rfl rfl)
theorem dX6_gap_10 : decode cX6_gap 10 = .ok (.aload_n 0, 1) := dk_42 (dk_at dksX6_gap_0 10 rfl rfl)
theorem dX6_gap_11 : decode cX6_gap 11 = .ok (.getfield 7, 3) := dk_180 0 7 (dk_at dksX6_gap_0 11 rfl rfl)
theorem dX6_gap_14 : decode cX6_gap 14 = .ok (.iconst 1, 1) := dk_4 (dk_at dksX6_gap_0 14 rfl rfl)
theorem dX6_gap_15 : decode cX6_gap 15 = .ok (.iaload, 1) := dk_46 (dk_at dksX6_gap_0 15 rfl rfl)
theorem dX6_gap_16 : decode cX6_gap 16 = .ok (.if_icmp .ge 20, 3) := dk_162 0 20 (dk_at dksX6_gap_0 16 rfl rfl)
theorem dX6_gap_19 : decode cX6_gap 19 = .ok (.iload_n 1, 1) := dk_27 (dk_at dksX6_gap_0 19 rfl rfl)
theorem dX6_gap_20 : decode cX6_gap 20 = .ok (.aload_n 0, 1) := dk_42 (dk_at dksX6_gap_0 20 rfl rfl)
theorem dX6_gap_21 : decode cX6_gap 21 = .ok (.iload_n 2, 1) := dk_28 (dk_at dksX6_gap_0 21 rfl rfl)
theorem dX6_gap_22 : decode cX6_gap 22 = .ok (.invokevirtual 445, 3) := dk_182 1 189 (dk_at dksX6_gap_1 0 rfl rfl)
theorem dX6_gap_25 : decode cX6_gap 25 = .ok (.invokestatic 130, 3) := dk_184 0 130 (dk_at dksX6_gap_1 3 rfl rfl)
theorem dX6_gap_28 : decode cX6_gap 28 = .ok (.iadd, 1) := dk_96 (dk_at dksX6_gap_1 6 rfl rfl)
theorem dX6_gap_29 : decode cX6_gap 29 = .ok (.istore_n 1, 1) := dk_60 (dk_at dksX6_gap_1 7 rfl rfl)
theorem dX6_gap_30 : decode cX6_gap 30 = .ok (.iinc 2 1, 3) := dk_132 2 1 (dk_at dksX6_gap_1 8 rfl rfl)
theorem dX6_gap_33 : decode cX6_gap 33 = .ok (.goto (-24), 3) := dk_167 255 232 (dk_at dksX6_gap_1 11 rfl rfl)
theorem dX6_gap_36 : decode cX6_gap 36 = .ok (.iload_n 1, 1) := dk_27 (dk_at dksX6_gap_1 14 rfl rfl)
theorem dX6_gap_37 : decode cX6_gap 37 = .ok (.ireturn, 1) := dk_172 (dk_at dksX6_gap_1 15 rfl rfl)
def dkwX6_isBroken_1 : List UInt8 := [180, 0, 28, 28, 46, 182, 0, 97, 153, 0, 5, 4, 172, 132, 2, 1, 167, 255, 230, 3, 172]
abbrev dktX6_isBroken_1 : List UInt8 := dkwX6_isBroken_1 ++ []
def dkwX6_isBroken_0 : List UInt8 := [42, 27, 182, 0, 147, 18, 109, 161, 0, 5, 4, 172, 3, 61, 28, 42, 180, 0, 127, 162, 0, 24, 42, 42]
abbrev dktX6_isBroken_0 : List UInt8 := dkwX6_isBroken_0 ++ dktX6_isBroken_1
theorem dksX6_isBroken_0 : cX6_isBroken.data.toList.drop 0 = dktX6_isBroken_0 := by decide +kernel
theorem dksX6_isBroken_1 : cX6_isBroken.data.toList.drop 24 = dktX6_isBroken_1 := dk_seg dksX6_isBroken_0 24 rfl rfl
theorem dX6_isBroken_0 : decode cX6_isBroken 0 = .ok (.aload_n 0, 1) := dk_42 (dk_at dksX6_isBroken_0 0 rfl rfl)
theorem dX6_isBroken_1 : decode cX6_isBroken 1 = .ok (.iload_n 1, 1) := dk_27 (dk_at dksX6_isBroken_0 1 rfl rfl)
theorem dX6_isBroken_2 : decode cX6_isBroken 2 = .ok (.invokevirtual 147, 3) := dk_182 0 147 (dk_at dksX6_isBroken_0 2 rfl rfl)
theorem dX6_isBroken_5 : decode cX6_isBroken 5 = .ok (.ldc 109, 2) := dk_18 109 (dk_at dksX6_isBroken_0 5 rfl rfl)
theorem dX6_isBroken_7 : decode cX6_isBroken 7 = .ok (.if_icmp .lt 5, 3) := dk_161 0 5 (dk_at dksX6_isBroken_0 7 rfl rfl)
theorem dX6_isBroken_10 : decode cX6_isBroken 10 = .ok (.iconst 1, 1) := dk_4 (dk_at dksX6_isBroken_0 10 rfl rfl)
theorem dX6_isBroken_11 : decode cX6_isBroken 11 = .ok (.ireturn, 1) := dk_172 (dk_at dksX6_isBroken_0 11 rfl rfl)
theorem dX6_isBroken_12 : decode cX6_isBroken 12 = .ok (.iconst 0, 1) := dk_3 (dk_at dksX6_isBroken_0 12 rfl rfl)
theorem dX6_isBroken_13 : decode cX6_isBroken 13 = .ok (.istore_n 2, 1) := dk_61 (dk_at dksX6_isBroken_0 13 rfl rfl)
theorem dX6_isBroken_14 : decode cX6_isBroken 14 = .ok (.iload_n 2, 1) := dk_28 (dk_at dksX6_isBroken_0 14 rfl rfl)
theorem dX6_isBroken_15 : decode cX6_isBroken 15 = .ok (.aload_n 0, 1) := dk_42 (dk_at dksX6_isBroken_0 15 rfl rfl)
theorem dX6_isBroken_16 : decode cX6_isBroken 16 = .ok (.getfield 127, 3) := dk_180 0 127 (dk_at dksX6_isBroken_0 16 rfl rfl)
theorem dX6_isBroken_19 : decode cX6_isBroken 19 = .ok (.if_icmp .ge 24, 3) := dk_162 0 24 (dk_at dksX6_isBroken_0 19 rfl rfl)
theorem dX6_isBroken_22 : decode cX6_isBroken 22 = .ok (.aload_n 0, 1) := dk_42 (dk_at dksX6_isBroken_0 22 rfl rfl)
theorem dX6_isBroken_23 : decode cX6_isBroken 23 = .ok (.aload_n 0, 1) := dk_42 (dk_at dksX6_isBroken_0 23 rfl rfl)
theorem dX6_isBroken_24 : decode cX6_isBroken 24 = .ok (.getfield 28, 3) := dk_180 0 28 (dk_at dksX6_isBroken_1 0 rfl rfl)
theorem dX6_isBroken_27 : decode cX6_isBroken 27 = .ok (.iload_n 2, 1) := dk_28 (dk_at dksX6_isBroken_1 3 rfl rfl)
theorem dX6_isBroken_28 : decode cX6_isBroken 28 = .ok (.iaload, 1) := dk_46 (dk_at dksX6_isBroken_1 4 rfl rfl)
theorem dX6_isBroken_29 : decode cX6_isBroken 29 = .ok (.invokevirtual 97, 3) := dk_182 0 97 (dk_at dksX6_isBroken_1 5 rfl rfl)
theorem dX6_isBroken_32 : decode cX6_isBroken 32 = .ok (.ifCond .eq 5, 3) := dk_153 0 5 (dk_at dksX6_isBroken_1 8 rfl rfl)
theorem dX6_isBroken_35 : decode cX6_isBroken 35 = .ok (.iconst 1, 1) := dk_4 (dk_at dksX6_isBroken_1 11 rfl rfl)
theorem dX6_isBroken_36 : decode cX6_isBroken 36 = .ok (.ireturn, 1) := dk_172 (dk_at dksX6_isBroken_1 12 rfl rfl)
theorem dX6_isBroken_37 : decode cX6_isBroken 37 = .ok (.iinc 2 1, 3) := dk_132 2 1 (dk_at dksX6_isBroken_1 13 rfl rfl)
theorem dX6_isBroken_40 : decode cX6_isBroken 40 = .ok (.goto (-26), 3) := dk_167 255 230 (dk_at dksX6_isBroken_1 16 rfl rfl)
theorem dX6_isBroken_43 : decode cX6_isBroken 43 = .ok (.iconst 0, 1) := dk_3 (dk_at dksX6_isBroken_1 19 rfl rfl)
theorem dX6_isBroken_44 : decode cX6_isBroken 44 = .ok (.ireturn, 1) := dk_172 (dk_at dksX6_isBroken_1 20 rfl rfl)
def dkwX6_grassIn_1 : List UInt8 := [29, 182, 0, 170, 42, 42, 42, 27, 28, 182, 0, 83, 4, 182, 1, 146, 182, 1, 200, 172]
abbrev dktX6_grassIn_1 : List UInt8 := dkwX6_grassIn_1 ++ []
def dkwX6_grassIn_0 : List UInt8 := [42, 42, 27, 28, 182, 0, 89, 29, 184, 1, 194, 182, 1, 142, 154, 0, 5, 3, 172, 42, 182, 1, 197, 42]
abbrev dktX6_grassIn_0 : List UInt8 := dkwX6_grassIn_0 ++ dktX6_grassIn_1
theorem dksX6_grassIn_0 : cX6_grassIn.data.toList.drop 0 = dktX6_grassIn_0 := by decide +kernel
theorem dksX6_grassIn_1 : cX6_grassIn.data.toList.drop 24 = dktX6_grassIn_1 := dk_seg dksX6_grassIn_0 24 rfl rfl
theorem dX6_grassIn_0 : decode cX6_grassIn 0 = .ok (.aload_n 0, 1) := dk_42 (dk_at dksX6_grassIn_0 0 rfl rfl)
theorem dX6_grassIn_1 : decode cX6_grassIn 1 = .ok (.aload_n 0, 1) := dk_42 (dk_at dksX6_grassIn_0 1 rfl rfl)
theorem dX6_grassIn_2 : decode cX6_grassIn 2 = .ok (.iload_n 1, 1) := dk_27 (dk_at dksX6_grassIn_0 2 rfl rfl)
theorem dX6_grassIn_3 : decode cX6_grassIn 3 = .ok (.iload_n 2, 1) := dk_28 (dk_at dksX6_grassIn_0 3 rfl rfl)
theorem dX6_grassIn_4 : decode cX6_grassIn 4 = .ok (.invokevirtual 89, 3) := dk_182 0 89 (dk_at dksX6_grassIn_0 4 rfl rfl)
theorem dX6_grassIn_7 : decode cX6_grassIn 7 = .ok (.iload_n 3, 1) := dk_29 (dk_at dksX6_grassIn_0 7 rfl rfl)
theorem dX6_grassIn_8 : decode cX6_grassIn 8 = .ok (.invokestatic 450, 3) := dk_184 1 194 (dk_at dksX6_grassIn_0 8 rfl rfl)
theorem dX6_grassIn_11 : decode cX6_grassIn 11 = .ok (.invokevirtual 398, 3) := dk_182 1 142 (dk_at dksX6_grassIn_0 11 rfl rfl)
theorem dX6_grassIn_14 : decode cX6_grassIn 14 = .ok (.ifCond .ne 5, 3) := dk_154 0 5 (dk_at dksX6_grassIn_0 14 rfl rfl)
theorem dX6_grassIn_17 : decode cX6_grassIn 17 = .ok (.iconst 0, 1) := dk_3 (dk_at dksX6_grassIn_0 17 rfl rfl)
theorem dX6_grassIn_18 : decode cX6_grassIn 18 = .ok (.ireturn, 1) := dk_172 (dk_at dksX6_grassIn_0 18 rfl rfl)
theorem dX6_grassIn_19 : decode cX6_grassIn 19 = .ok (.aload_n 0, 1) := dk_42 (dk_at dksX6_grassIn_0 19 rfl rfl)
theorem dX6_grassIn_20 : decode cX6_grassIn 20 = .ok (.invokevirtual 453, 3) := dk_182 1 197 (dk_at dksX6_grassIn_0 20 rfl rfl)
theorem dX6_grassIn_23 : decode cX6_grassIn 23 = .ok (.aload_n 0, 1) := dk_42 (dk_at dksX6_grassIn_0 23 rfl rfl)
theorem dX6_grassIn_24 : decode cX6_grassIn 24 = .ok (.iload_n 3, 1) := dk_29 (dk_at dksX6_grassIn_1 0 rfl rfl)
theorem dX6_grassIn_25 : decode cX6_grassIn 25 = .ok (.invokevirtual 170, 3) := dk_182 0 170 (dk_at dksX6_grassIn_1 1 rfl rfl)
theorem dX6_grassIn_28 : decode cX6_grassIn 28 = .ok (.aload_n 0, 1) := dk_42 (dk_at dksX6_grassIn_1 4 rfl rfl)
theorem dX6_grassIn_29 : decode cX6_grassIn 29 = .ok (.aload_n 0, 1) := dk_42 (dk_at dksX6_grassIn_1 5 rfl rfl)
theorem dX6_grassIn_30 : decode cX6_grassIn 30 = .ok (.aload_n 0, 1) := dk_42 (dk_at dksX6_grassIn_1 6 rfl rfl)
theorem dX6_grassIn_31 : decode cX6_grassIn 31 = .ok (.iload_n 1, 1) := dk_27 (dk_at dksX6_grassIn_1 7 rfl rfl)
theorem dX6_grassIn_32 : decode cX6_grassIn 32 = .ok (.iload_n 2, 1) := dk_28 (dk_at dksX6_grassIn_1 8 rfl rfl)
theorem dX6_grassIn_33 : decode cX6_grassIn 33 = .ok (.invokevirtual 83, 3) := dk_182 0 83 (dk_at dksX6_grassIn_1 9 rfl rfl)
theorem dX6_grassIn_36 : decode cX6_grassIn 36 = .ok (.iconst 1, 1) := dk_4 (dk_at dksX6_grassIn_1 12 rfl rfl)
theorem dX6_grassIn_37 : decode cX6_grassIn 37 = .ok (.invokevirtual 402, 3) := dk_182 1 146 (dk_at dksX6_grassIn_1 13 rfl rfl)
theorem dX6_grassIn_40 : decode cX6_grassIn 40 = .ok (.invokevirtual 456, 3) := dk_182 1 200 (dk_at dksX6_grassIn_1 16 rfl rfl)
theorem dX6_grassIn_43 : decode cX6_grassIn 43 = .ok (.ireturn, 1) := dk_172 (dk_at dksX6_grassIn_1 19 rfl rfl)
def dkwX6_areDays_0 : List UInt8 := [26, 133, 9, 20, 1, 192, 184, 0, 68, 172]
abbrev dktX6_areDays_0 : List UInt8 := dkwX6_areDays_0 ++ []
theorem dksX6_areDays_0 : cX6_areDays.data.toList.drop 0 = dktX6_areDays_0 := by decide +kernel
theorem dX6_areDays_0 : decode cX6_areDays 0 = .ok (.iload_n 0, 1) := dk_26 (dk_at dksX6_areDays_0 0 rfl rfl)
theorem dX6_areDays_1 : decode cX6_areDays 1 = .ok (.i2l, 1) := dk_133 (dk_at dksX6_areDays_0 1 rfl rfl)
theorem dX6_areDays_2 : decode cX6_areDays 2 = .ok (.lconst 0, 1) := dk_9 (dk_at dksX6_areDays_0 2 rfl rfl)
theorem dX6_areDays_3 : decode cX6_areDays 3 = .ok (.ldc2_w 448, 3) := dk_20 1 192 (dk_at dksX6_areDays_0 3 rfl rfl)
theorem dX6_areDays_6 : decode cX6_areDays 6 = .ok (.invokestatic 68, 3) := dk_184 0 68 (dk_at dksX6_areDays_0 6 rfl rfl)
theorem dX6_areDays_9 : decode cX6_areDays 9 = .ok (.ireturn, 1) := dk_172 (dk_at dksX6_areDays_0 9 rfl rfl)
def dkwX6_tries_0 : List UInt8 := [42, 180, 0, 7, 3, 42, 180, 0, 19, 3, 184, 0, 64, 177]
abbrev dktX6_tries_0 : List UInt8 := dkwX6_tries_0 ++ []
theorem dksX6_tries_0 : cX6_tries.data.toList.drop 0 = dktX6_tries_0 := by decide +kernel
theorem dX6_tries_0 : decode cX6_tries 0 = .ok (.aload_n 0, 1) := dk_42 (dk_at dksX6_tries_0 0 rfl rfl)
theorem dX6_tries_1 : decode cX6_tries 1 = .ok (.getfield 7, 3) := dk_180 0 7 (dk_at dksX6_tries_0 1 rfl rfl)
theorem dX6_tries_4 : decode cX6_tries 4 = .ok (.iconst 0, 1) := dk_3 (dk_at dksX6_tries_0 4 rfl rfl)
theorem dX6_tries_5 : decode cX6_tries 5 = .ok (.aload_n 0, 1) := dk_42 (dk_at dksX6_tries_0 5 rfl rfl)
theorem dX6_tries_6 : decode cX6_tries 6 = .ok (.getfield 19, 3) := dk_180 0 19 (dk_at dksX6_tries_0 6 rfl rfl)
theorem dX6_tries_9 : decode cX6_tries 9 = .ok (.iconst 0, 1) := dk_3 (dk_at dksX6_tries_0 9 rfl rfl)
theorem dX6_tries_10 : decode cX6_tries 10 = .ok (.invokestatic 64, 3) := dk_184 0 64 (dk_at dksX6_tries_0 10 rfl rfl)
theorem dX6_tries_13 : decode cX6_tries 13 = .ok (.return_, 1) := dk_177 (dk_at dksX6_tries_0 13 rfl rfl)
def dkwX6_laidBack_0 : List UInt8 := [42, 180, 0, 19, 3, 42, 180, 0, 7, 3, 184, 0, 64, 27, 172]
abbrev dktX6_laidBack_0 : List UInt8 := dkwX6_laidBack_0 ++ []
theorem dksX6_laidBack_0 : cX6_laidBack.data.toList.drop 0 = dktX6_laidBack_0 := by decide +kernel
theorem dX6_laidBack_0 : decode cX6_laidBack 0 = .ok (.aload_n 0, 1) := dk_42 (dk_at dksX6_laidBack_0 0 rfl rfl)
theorem dX6_laidBack_1 : decode cX6_laidBack 1 = .ok (.getfield 19, 3) := dk_180 0 19 (dk_at dksX6_laidBack_0 1 rfl rfl)
theorem dX6_laidBack_4 : decode cX6_laidBack 4 = .ok (.iconst 0, 1) := dk_3 (dk_at dksX6_laidBack_0 4 rfl rfl)
theorem dX6_laidBack_5 : decode cX6_laidBack 5 = .ok (.aload_n 0, 1) := dk_42 (dk_at dksX6_laidBack_0 5 rfl rfl)
theorem dX6_laidBack_6 : decode cX6_laidBack 6 = .ok (.getfield 7, 3) := dk_180 0 7 (dk_at dksX6_laidBack_0 6 rfl rfl)
theorem dX6_laidBack_9 : decode cX6_laidBack 9 = .ok (.iconst 0, 1) := dk_3 (dk_at dksX6_laidBack_0 9 rfl rfl)
theorem dX6_laidBack_10 : decode cX6_laidBack 10 = .ok (.invokestatic 64, 3) := dk_184 0 64 (dk_at dksX6_laidBack_0 10 rfl rfl)
theorem dX6_laidBack_13 : decode cX6_laidBack 13 = .ok (.iload_n 1, 1) := dk_27 (dk_at dksX6_laidBack_0 13 rfl rfl)
theorem dX6_laidBack_14 : decode cX6_laidBack 14 = .ok (.ireturn, 1) := dk_172 (dk_at dksX6_laidBack_0 14 rfl rfl)
def dkwX6_bareIn_1 : List UInt8 := [182, 1, 128, 182, 1, 200, 172]
abbrev dktX6_bareIn_1 : List UInt8 := dkwX6_bareIn_1 ++ []
def dkwX6_bareIn_0 : List UInt8 := [42, 27, 184, 1, 194, 182, 0, 186, 154, 0, 5, 3, 172, 42, 182, 1, 197, 42, 27, 182, 0, 170, 42, 42]
abbrev dktX6_bareIn_0 : List UInt8 := dkwX6_bareIn_0 ++ dktX6_bareIn_1
theorem dksX6_bareIn_0 : cX6_bareIn.data.toList.drop 0 = dktX6_bareIn_0 := by decide +kernel
theorem dksX6_bareIn_1 : cX6_bareIn.data.toList.drop 24 = dktX6_bareIn_1 := dk_seg dksX6_bareIn_0 24 rfl rfl
theorem dX6_bareIn_0 : decode cX6_bareIn 0 = .ok (.aload_n 0, 1) := dk_42 (dk_at dksX6_bareIn_0 0 rfl rfl)
theorem dX6_bareIn_1 : decode cX6_bareIn 1 = .ok (.iload_n 1, 1) := dk_27 (dk_at dksX6_bareIn_0 1 rfl rfl)
theorem dX6_bareIn_2 : decode cX6_bareIn 2 = .ok (.invokestatic 450, 3) := dk_184 1 194 (dk_at dksX6_bareIn_0 2 rfl rfl)
theorem dX6_bareIn_5 : decode cX6_bareIn 5 = .ok (.invokevirtual 186, 3) := dk_182 0 186 (dk_at dksX6_bareIn_0 5 rfl rfl)
theorem dX6_bareIn_8 : decode cX6_bareIn 8 = .ok (.ifCond .ne 5, 3) := dk_154 0 5 (dk_at dksX6_bareIn_0 8 rfl rfl)
theorem dX6_bareIn_11 : decode cX6_bareIn 11 = .ok (.iconst 0, 1) := dk_3 (dk_at dksX6_bareIn_0 11 rfl rfl)
theorem dX6_bareIn_12 : decode cX6_bareIn 12 = .ok (.ireturn, 1) := dk_172 (dk_at dksX6_bareIn_0 12 rfl rfl)
theorem dX6_bareIn_13 : decode cX6_bareIn 13 = .ok (.aload_n 0, 1) := dk_42 (dk_at dksX6_bareIn_0 13 rfl rfl)
theorem dX6_bareIn_14 : decode cX6_bareIn 14 = .ok (.invokevirtual 453, 3) := dk_182 1 197 (dk_at dksX6_bareIn_0 14 rfl rfl)
theorem dX6_bareIn_17 : decode cX6_bareIn 17 = .ok (.aload_n 0, 1) := dk_42 (dk_at dksX6_bareIn_0 17 rfl rfl)
theorem dX6_bareIn_18 : decode cX6_bareIn 18 = .ok (.iload_n 1, 1) := dk_27 (dk_at dksX6_bareIn_0 18 rfl rfl)
theorem dX6_bareIn_19 : decode cX6_bareIn 19 = .ok (.invokevirtual 170, 3) := dk_182 0 170 (dk_at dksX6_bareIn_0 19 rfl rfl)
theorem dX6_bareIn_22 : decode cX6_bareIn 22 = .ok (.aload_n 0, 1) := dk_42 (dk_at dksX6_bareIn_0 22 rfl rfl)
theorem dX6_bareIn_23 : decode cX6_bareIn 23 = .ok (.aload_n 0, 1) := dk_42 (dk_at dksX6_bareIn_0 23 rfl rfl)
theorem dX6_bareIn_24 : decode cX6_bareIn 24 = .ok (.invokevirtual 384, 3) := dk_182 1 128 (dk_at dksX6_bareIn_1 0 rfl rfl)
theorem dX6_bareIn_27 : decode cX6_bareIn 27 = .ok (.invokevirtual 456, 3) := dk_182 1 200 (dk_at dksX6_bareIn_1 3 rfl rfl)
theorem dX6_bareIn_30 : decode cX6_bareIn 30 = .ok (.ireturn, 1) := dk_172 (dk_at dksX6_bareIn_1 6 rfl rfl)
def dkwX6_whenBare_3 : List UInt8 := [2, 182, 1, 200, 172]
abbrev dktX6_whenBare_3 : List UInt8 := dkwX6_whenBare_3 ++ []
def dkwX6_whenBare_2 : List UInt8 := [182, 1, 123, 153, 0, 10, 42, 21, 4, 182, 1, 200, 172, 42, 182, 0, 167, 132, 4, 1, 167, 255, 227, 42]
abbrev dktX6_whenBare_2 : List UInt8 := dkwX6_whenBare_2 ++ dktX6_whenBare_3
def dkwX6_whenBare_1 : List UInt8 := [182, 0, 93, 154, 0, 5, 2, 172, 42, 182, 1, 197, 3, 54, 4, 21, 4, 16, 100, 163, 0, 28, 42, 29]
abbrev dktX6_whenBare_1 : List UInt8 := dkwX6_whenBare_1 ++ dktX6_whenBare_2
def dkwX6_whenBare_0 : List UInt8 := [42, 42, 27, 28, 182, 0, 89, 182, 0, 186, 154, 0, 5, 3, 172, 42, 27, 28, 182, 0, 83, 62, 42, 29]
abbrev dktX6_whenBare_0 : List UInt8 := dkwX6_whenBare_0 ++ dktX6_whenBare_1
theorem dksX6_whenBare_0 : cX6_whenBare.data.toList.drop 0 = dktX6_whenBare_0 := by decide +kernel
theorem dksX6_whenBare_1 : cX6_whenBare.data.toList.drop 24 = dktX6_whenBare_1 := dk_seg dksX6_whenBare_0 24 rfl rfl
theorem dksX6_whenBare_2 : cX6_whenBare.data.toList.drop 48 = dktX6_whenBare_2 := dk_seg dksX6_whenBare_1 24 rfl rfl
theorem dksX6_whenBare_3 : cX6_whenBare.data.toList.drop 72 = dktX6_whenBare_3 := dk_seg dksX6_whenBare_2 24 rfl rfl
theorem dX6_whenBare_0 : decode cX6_whenBare 0 = .ok (.aload_n 0, 1) := dk_42 (dk_at dksX6_whenBare_0 0 rfl rfl)
theorem dX6_whenBare_1 : decode cX6_whenBare 1 = .ok (.aload_n 0, 1) := dk_42 (dk_at dksX6_whenBare_0 1 rfl rfl)
theorem dX6_whenBare_2 : decode cX6_whenBare 2 = .ok (.iload_n 1, 1) := dk_27 (dk_at dksX6_whenBare_0 2 rfl rfl)
theorem dX6_whenBare_3 : decode cX6_whenBare 3 = .ok (.iload_n 2, 1) := dk_28 (dk_at dksX6_whenBare_0 3 rfl rfl)
theorem dX6_whenBare_4 : decode cX6_whenBare 4 = .ok (.invokevirtual 89, 3) := dk_182 0 89 (dk_at dksX6_whenBare_0 4 rfl rfl)
theorem dX6_whenBare_7 : decode cX6_whenBare 7 = .ok (.invokevirtual 186, 3) := dk_182 0 186 (dk_at dksX6_whenBare_0 7 rfl rfl)
theorem dX6_whenBare_10 : decode cX6_whenBare 10 = .ok (.ifCond .ne 5, 3) := dk_154 0 5 (dk_at dksX6_whenBare_0 10 rfl rfl)
theorem dX6_whenBare_13 : decode cX6_whenBare 13 = .ok (.iconst 0, 1) := dk_3 (dk_at dksX6_whenBare_0 13 rfl rfl)
theorem dX6_whenBare_14 : decode cX6_whenBare 14 = .ok (.ireturn, 1) := dk_172 (dk_at dksX6_whenBare_0 14 rfl rfl)
theorem dX6_whenBare_15 : decode cX6_whenBare 15 = .ok (.aload_n 0, 1) := dk_42 (dk_at dksX6_whenBare_0 15 rfl rfl)
theorem dX6_whenBare_16 : decode cX6_whenBare 16 = .ok (.iload_n 1, 1) := dk_27 (dk_at dksX6_whenBare_0 16 rfl rfl)
theorem dX6_whenBare_17 : decode cX6_whenBare 17 = .ok (.iload_n 2, 1) := dk_28 (dk_at dksX6_whenBare_0 17 rfl rfl)
theorem dX6_whenBare_18 : decode cX6_whenBare 18 = .ok (.invokevirtual 83, 3) := dk_182 0 83 (dk_at dksX6_whenBare_0 18 rfl rfl)
theorem dX6_whenBare_21 : decode cX6_whenBare 21 = .ok (.istore_n 3, 1) := dk_62 (dk_at dksX6_whenBare_0 21 rfl rfl)
theorem dX6_whenBare_22 : decode cX6_whenBare 22 = .ok (.aload_n 0, 1) := dk_42 (dk_at dksX6_whenBare_0 22 rfl rfl)
theorem dX6_whenBare_23 : decode cX6_whenBare 23 = .ok (.iload_n 3, 1) := dk_29 (dk_at dksX6_whenBare_0 23 rfl rfl)
theorem dX6_whenBare_24 : decode cX6_whenBare 24 = .ok (.invokevirtual 93, 3) := dk_182 0 93 (dk_at dksX6_whenBare_1 0 rfl rfl)
theorem dX6_whenBare_27 : decode cX6_whenBare 27 = .ok (.ifCond .ne 5, 3) := dk_154 0 5 (dk_at dksX6_whenBare_1 3 rfl rfl)
theorem dX6_whenBare_30 : decode cX6_whenBare 30 = .ok (.iconst (-1), 1) := dk_2 (dk_at dksX6_whenBare_1 6 rfl rfl)
theorem dX6_whenBare_31 : decode cX6_whenBare 31 = .ok (.ireturn, 1) := dk_172 (dk_at dksX6_whenBare_1 7 rfl rfl)
theorem dX6_whenBare_32 : decode cX6_whenBare 32 = .ok (.aload_n 0, 1) := dk_42 (dk_at dksX6_whenBare_1 8 rfl rfl)
theorem dX6_whenBare_33 : decode cX6_whenBare 33 = .ok (.invokevirtual 453, 3) := dk_182 1 197 (dk_at dksX6_whenBare_1 9 rfl rfl)
theorem dX6_whenBare_36 : decode cX6_whenBare 36 = .ok (.iconst 0, 1) := dk_3 (dk_at dksX6_whenBare_1 12 rfl rfl)
theorem dX6_whenBare_37 : decode cX6_whenBare 37 = .ok (.istore 4, 2) := dk_54 4 (dk_at dksX6_whenBare_1 13 rfl rfl)
theorem dX6_whenBare_39 : decode cX6_whenBare 39 = .ok (.iload 4, 2) := dk_21 4 (dk_at dksX6_whenBare_1 15 rfl rfl)
theorem dX6_whenBare_41 : decode cX6_whenBare 41 = .ok (.bipush 100, 2) := dk_16 100 (dk_at dksX6_whenBare_1 17 rfl rfl)
theorem dX6_whenBare_43 : decode cX6_whenBare 43 = .ok (.if_icmp .gt 28, 3) := dk_163 0 28 (dk_at dksX6_whenBare_1 19 rfl rfl)
theorem dX6_whenBare_46 : decode cX6_whenBare 46 = .ok (.aload_n 0, 1) := dk_42 (dk_at dksX6_whenBare_1 22 rfl rfl)
theorem dX6_whenBare_47 : decode cX6_whenBare 47 = .ok (.iload_n 3, 1) := dk_29 (dk_at dksX6_whenBare_1 23 rfl rfl)
theorem dX6_whenBare_48 : decode cX6_whenBare 48 = .ok (.invokevirtual 379, 3) := dk_182 1 123 (dk_at dksX6_whenBare_2 0 rfl rfl)
theorem dX6_whenBare_51 : decode cX6_whenBare 51 = .ok (.ifCond .eq 10, 3) := dk_153 0 10 (dk_at dksX6_whenBare_2 3 rfl rfl)
theorem dX6_whenBare_54 : decode cX6_whenBare 54 = .ok (.aload_n 0, 1) := dk_42 (dk_at dksX6_whenBare_2 6 rfl rfl)
theorem dX6_whenBare_55 : decode cX6_whenBare 55 = .ok (.iload 4, 2) := dk_21 4 (dk_at dksX6_whenBare_2 7 rfl rfl)
theorem dX6_whenBare_57 : decode cX6_whenBare 57 = .ok (.invokevirtual 456, 3) := dk_182 1 200 (dk_at dksX6_whenBare_2 9 rfl rfl)
theorem dX6_whenBare_60 : decode cX6_whenBare 60 = .ok (.ireturn, 1) := dk_172 (dk_at dksX6_whenBare_2 12 rfl rfl)
theorem dX6_whenBare_61 : decode cX6_whenBare 61 = .ok (.aload_n 0, 1) := dk_42 (dk_at dksX6_whenBare_2 13 rfl rfl)
theorem dX6_whenBare_62 : decode cX6_whenBare 62 = .ok (.invokevirtual 167, 3) := dk_182 0 167 (dk_at dksX6_whenBare_2 14 rfl rfl)
theorem dX6_whenBare_65 : decode cX6_whenBare 65 = .ok (.iinc 4 1, 3) := dk_132 4 1 (dk_at dksX6_whenBare_2 17 rfl rfl)
theorem dX6_whenBare_68 : decode cX6_whenBare 68 = .ok (.goto (-29), 3) := dk_167 255 227 (dk_at dksX6_whenBare_2 20 rfl rfl)
theorem dX6_whenBare_71 : decode cX6_whenBare 71 = .ok (.aload_n 0, 1) := dk_42 (dk_at dksX6_whenBare_2 23 rfl rfl)
theorem dX6_whenBare_72 : decode cX6_whenBare 72 = .ok (.iconst (-1), 1) := dk_2 (dk_at dksX6_whenBare_3 0 rfl rfl)
theorem dX6_whenBare_73 : decode cX6_whenBare 73 = .ok (.invokevirtual 456, 3) := dk_182 1 200 (dk_at dksX6_whenBare_3 1 rfl rfl)
theorem dX6_whenBare_76 : decode cX6_whenBare 76 = .ok (.ireturn, 1) := dk_172 (dk_at dksX6_whenBare_3 4 rfl rfl)
def dkwX6_ifFence_3 : List UInt8 := [182, 0, 124, 21, 5, 100, 54, 6, 42, 21, 4, 5, 3, 182, 0, 139, 21, 6, 172]
abbrev dktX6_ifFence_3 : List UInt8 := dkwX6_ifFence_3 ++ []
def dkwX6_ifFence_2 : List UInt8 := [156, 0, 5, 2, 172, 42, 27, 3, 182, 0, 124, 54, 5, 42, 21, 4, 5, 4, 182, 0, 139, 42, 27, 3]
abbrev dktX6_ifFence_2 : List UInt8 := dkwX6_ifFence_2 ++ dktX6_ifFence_3
def dkwX6_ifFence_1 : List UInt8 := [182, 0, 186, 154, 0, 5, 3, 172, 42, 28, 29, 182, 0, 83, 54, 4, 42, 21, 4, 182, 0, 177]
abbrev dktX6_ifFence_1 : List UInt8 := dkwX6_ifFence_1 ++ dktX6_ifFence_2
def dkwX6_ifFence_0 : List UInt8 := [42, 42, 27, 182, 1, 157, 153, 0, 16, 42, 28, 29, 182, 0, 89, 153, 0, 7, 4, 167, 0, 4, 3]
abbrev dktX6_ifFence_0 : List UInt8 := dkwX6_ifFence_0 ++ dktX6_ifFence_1
theorem dksX6_ifFence_0 : cX6_ifFence.data.toList.drop 0 = dktX6_ifFence_0 := by decide +kernel
theorem dksX6_ifFence_1 : cX6_ifFence.data.toList.drop 23 = dktX6_ifFence_1 := dk_seg dksX6_ifFence_0 23 rfl rfl
theorem dksX6_ifFence_2 : cX6_ifFence.data.toList.drop 45 = dktX6_ifFence_2 := dk_seg dksX6_ifFence_1 22 rfl rfl
theorem dksX6_ifFence_3 : cX6_ifFence.data.toList.drop 69 = dktX6_ifFence_3 := dk_seg dksX6_ifFence_2 24 rfl rfl
theorem dX6_ifFence_0 : decode cX6_ifFence 0 = .ok (.aload_n 0, 1) := dk_42 (dk_at dksX6_ifFence_0 0 rfl rfl)
theorem dX6_ifFence_1 : decode cX6_ifFence 1 = .ok (.aload_n 0, 1) := dk_42 (dk_at dksX6_ifFence_0 1 rfl rfl)
theorem dX6_ifFence_2 : decode cX6_ifFence 2 = .ok (.iload_n 1, 1) := dk_27 (dk_at dksX6_ifFence_0 2 rfl rfl)
theorem dX6_ifFence_3 : decode cX6_ifFence 3 = .ok (.invokevirtual 413, 3) := dk_182 1 157 (dk_at dksX6_ifFence_0 3 rfl rfl)
theorem dX6_ifFence_6 : decode cX6_ifFence 6 = .ok (.ifCond .eq 16, 3) := dk_153 0 16 (dk_at dksX6_ifFence_0 6 rfl rfl)
theorem dX6_ifFence_9 : decode cX6_ifFence 9 = .ok (.aload_n 0, 1) := dk_42 (dk_at dksX6_ifFence_0 9 rfl rfl)
theorem dX6_ifFence_10 : decode cX6_ifFence 10 = .ok (.iload_n 2, 1) := dk_28 (dk_at dksX6_ifFence_0 10 rfl rfl)
theorem dX6_ifFence_11 : decode cX6_ifFence 11 = .ok (.iload_n 3, 1) := dk_29 (dk_at dksX6_ifFence_0 11 rfl rfl)
theorem dX6_ifFence_12 : decode cX6_ifFence 12 = .ok (.invokevirtual 89, 3) := dk_182 0 89 (dk_at dksX6_ifFence_0 12 rfl rfl)
theorem dX6_ifFence_15 : decode cX6_ifFence 15 = .ok (.ifCond .eq 7, 3) := dk_153 0 7 (dk_at dksX6_ifFence_0 15 rfl rfl)
theorem dX6_ifFence_18 : decode cX6_ifFence 18 = .ok (.iconst 1, 1) := dk_4 (dk_at dksX6_ifFence_0 18 rfl rfl)
theorem dX6_ifFence_19 : decode cX6_ifFence 19 = .ok (.goto 4, 3) := dk_167 0 4 (dk_at dksX6_ifFence_0 19 rfl rfl)
theorem dX6_ifFence_22 : decode cX6_ifFence 22 = .ok (.iconst 0, 1) := dk_3 (dk_at dksX6_ifFence_0 22 rfl rfl)
theorem dX6_ifFence_23 : decode cX6_ifFence 23 = .ok (.invokevirtual 186, 3) := dk_182 0 186 (dk_at dksX6_ifFence_1 0 rfl rfl)
theorem dX6_ifFence_26 : decode cX6_ifFence 26 = .ok (.ifCond .ne 5, 3) := dk_154 0 5 (dk_at dksX6_ifFence_1 3 rfl rfl)
theorem dX6_ifFence_29 : decode cX6_ifFence 29 = .ok (.iconst 0, 1) := dk_3 (dk_at dksX6_ifFence_1 6 rfl rfl)
theorem dX6_ifFence_30 : decode cX6_ifFence 30 = .ok (.ireturn, 1) := dk_172 (dk_at dksX6_ifFence_1 7 rfl rfl)
theorem dX6_ifFence_31 : decode cX6_ifFence 31 = .ok (.aload_n 0, 1) := dk_42 (dk_at dksX6_ifFence_1 8 rfl rfl)
theorem dX6_ifFence_32 : decode cX6_ifFence 32 = .ok (.iload_n 2, 1) := dk_28 (dk_at dksX6_ifFence_1 9 rfl rfl)
theorem dX6_ifFence_33 : decode cX6_ifFence 33 = .ok (.iload_n 3, 1) := dk_29 (dk_at dksX6_ifFence_1 10 rfl rfl)
theorem dX6_ifFence_34 : decode cX6_ifFence 34 = .ok (.invokevirtual 83, 3) := dk_182 0 83 (dk_at dksX6_ifFence_1 11 rfl rfl)
theorem dX6_ifFence_37 : decode cX6_ifFence 37 = .ok (.istore 4, 2) := dk_54 4 (dk_at dksX6_ifFence_1 14 rfl rfl)
theorem dX6_ifFence_39 : decode cX6_ifFence 39 = .ok (.aload_n 0, 1) := dk_42 (dk_at dksX6_ifFence_1 16 rfl rfl)
theorem dX6_ifFence_40 : decode cX6_ifFence 40 = .ok (.iload 4, 2) := dk_21 4 (dk_at dksX6_ifFence_1 17 rfl rfl)
theorem dX6_ifFence_42 : decode cX6_ifFence 42 = .ok (.invokevirtual 177, 3) := dk_182 0 177 (dk_at dksX6_ifFence_1 19 rfl rfl)
theorem dX6_ifFence_45 : decode cX6_ifFence 45 = .ok (.ifCond .ge 5, 3) := dk_156 0 5 (dk_at dksX6_ifFence_2 0 rfl rfl)
theorem dX6_ifFence_48 : decode cX6_ifFence 48 = .ok (.iconst (-1), 1) := dk_2 (dk_at dksX6_ifFence_2 3 rfl rfl)
theorem dX6_ifFence_49 : decode cX6_ifFence 49 = .ok (.ireturn, 1) := dk_172 (dk_at dksX6_ifFence_2 4 rfl rfl)
theorem dX6_ifFence_50 : decode cX6_ifFence 50 = .ok (.aload_n 0, 1) := dk_42 (dk_at dksX6_ifFence_2 5 rfl rfl)
theorem dX6_ifFence_51 : decode cX6_ifFence 51 = .ok (.iload_n 1, 1) := dk_27 (dk_at dksX6_ifFence_2 6 rfl rfl)
theorem dX6_ifFence_52 : decode cX6_ifFence 52 = .ok (.iconst 0, 1) := dk_3 (dk_at dksX6_ifFence_2 7 rfl rfl)
theorem dX6_ifFence_53 : decode cX6_ifFence 53 = .ok (.invokevirtual 124, 3) := dk_182 0 124 (dk_at dksX6_ifFence_2 8 rfl rfl)
theorem dX6_ifFence_56 : decode cX6_ifFence 56 = .ok (.istore 5, 2) := dk_54 5 (dk_at dksX6_ifFence_2 11 rfl rfl)
theorem dX6_ifFence_58 : decode cX6_ifFence 58 = .ok (.aload_n 0, 1) := dk_42 (dk_at dksX6_ifFence_2 13 rfl rfl)
theorem dX6_ifFence_59 : decode cX6_ifFence 59 = .ok (.iload 4, 2) := dk_21 4 (dk_at dksX6_ifFence_2 14 rfl rfl)
theorem dX6_ifFence_61 : decode cX6_ifFence 61 = .ok (.iconst 2, 1) := dk_5 (dk_at dksX6_ifFence_2 16 rfl rfl)
theorem dX6_ifFence_62 : decode cX6_ifFence 62 = .ok (.iconst 1, 1) := dk_4 (dk_at dksX6_ifFence_2 17 rfl rfl)
theorem dX6_ifFence_63 : decode cX6_ifFence 63 = .ok (.invokevirtual 139, 3) := dk_182 0 139 (dk_at dksX6_ifFence_2 18 rfl rfl)
theorem dX6_ifFence_66 : decode cX6_ifFence 66 = .ok (.aload_n 0, 1) := dk_42 (dk_at dksX6_ifFence_2 21 rfl rfl)
theorem dX6_ifFence_67 : decode cX6_ifFence 67 = .ok (.iload_n 1, 1) := dk_27 (dk_at dksX6_ifFence_2 22 rfl rfl)
theorem dX6_ifFence_68 : decode cX6_ifFence 68 = .ok (.iconst 0, 1) := dk_3 (dk_at dksX6_ifFence_2 23 rfl rfl)
theorem dX6_ifFence_69 : decode cX6_ifFence 69 = .ok (.invokevirtual 124, 3) := dk_182 0 124 (dk_at dksX6_ifFence_3 0 rfl rfl)
theorem dX6_ifFence_72 : decode cX6_ifFence 72 = .ok (.iload 5, 2) := dk_21 5 (dk_at dksX6_ifFence_3 3 rfl rfl)
theorem dX6_ifFence_74 : decode cX6_ifFence 74 = .ok (.isub, 1) := dk_100 (dk_at dksX6_ifFence_3 5 rfl rfl)
theorem dX6_ifFence_75 : decode cX6_ifFence 75 = .ok (.istore 6, 2) := dk_54 6 (dk_at dksX6_ifFence_3 6 rfl rfl)
theorem dX6_ifFence_77 : decode cX6_ifFence 77 = .ok (.aload_n 0, 1) := dk_42 (dk_at dksX6_ifFence_3 8 rfl rfl)
theorem dX6_ifFence_78 : decode cX6_ifFence 78 = .ok (.iload 4, 2) := dk_21 4 (dk_at dksX6_ifFence_3 9 rfl rfl)
theorem dX6_ifFence_80 : decode cX6_ifFence 80 = .ok (.iconst 2, 1) := dk_5 (dk_at dksX6_ifFence_3 11 rfl rfl)
theorem dX6_ifFence_81 : decode cX6_ifFence 81 = .ok (.iconst 0, 1) := dk_3 (dk_at dksX6_ifFence_3 12 rfl rfl)
theorem dX6_ifFence_82 : decode cX6_ifFence 82 = .ok (.invokevirtual 139, 3) := dk_182 0 139 (dk_at dksX6_ifFence_3 13 rfl rfl)
theorem dX6_ifFence_85 : decode cX6_ifFence 85 = .ok (.iload 6, 2) := dk_21 6 (dk_at dksX6_ifFence_3 16 rfl rfl)
theorem dX6_ifFence_87 : decode cX6_ifFence 87 = .ok (.ireturn, 1) := dk_172 (dk_at dksX6_ifFence_3 18 rfl rfl)
def dkwX6_ifOpen_1 : List UInt8 := [100, 167, 0, 4, 3, 172]
abbrev dktX6_ifOpen_1 : List UInt8 := dkwX6_ifOpen_1 ++ []
def dkwX6_ifOpen_0 : List UInt8 := [42, 42, 27, 182, 1, 157, 182, 0, 186, 153, 0, 19, 42, 27, 3, 182, 0, 124, 42, 27, 4, 182, 0, 124]
abbrev dktX6_ifOpen_0 : List UInt8 := dkwX6_ifOpen_0 ++ dktX6_ifOpen_1
theorem dksX6_ifOpen_0 : cX6_ifOpen.data.toList.drop 0 = dktX6_ifOpen_0 := by decide +kernel
theorem dksX6_ifOpen_1 : cX6_ifOpen.data.toList.drop 24 = dktX6_ifOpen_1 := dk_seg dksX6_ifOpen_0 24 rfl rfl
theorem dX6_ifOpen_0 : decode cX6_ifOpen 0 = .ok (.aload_n 0, 1) := dk_42 (dk_at dksX6_ifOpen_0 0 rfl rfl)
theorem dX6_ifOpen_1 : decode cX6_ifOpen 1 = .ok (.aload_n 0, 1) := dk_42 (dk_at dksX6_ifOpen_0 1 rfl rfl)
theorem dX6_ifOpen_2 : decode cX6_ifOpen 2 = .ok (.iload_n 1, 1) := dk_27 (dk_at dksX6_ifOpen_0 2 rfl rfl)
theorem dX6_ifOpen_3 : decode cX6_ifOpen 3 = .ok (.invokevirtual 413, 3) := dk_182 1 157 (dk_at dksX6_ifOpen_0 3 rfl rfl)
theorem dX6_ifOpen_6 : decode cX6_ifOpen 6 = .ok (.invokevirtual 186, 3) := dk_182 0 186 (dk_at dksX6_ifOpen_0 6 rfl rfl)
theorem dX6_ifOpen_9 : decode cX6_ifOpen 9 = .ok (.ifCond .eq 19, 3) := dk_153 0 19 (dk_at dksX6_ifOpen_0 9 rfl rfl)
theorem dX6_ifOpen_12 : decode cX6_ifOpen 12 = .ok (.aload_n 0, 1) := dk_42 (dk_at dksX6_ifOpen_0 12 rfl rfl)
theorem dX6_ifOpen_13 : decode cX6_ifOpen 13 = .ok (.iload_n 1, 1) := dk_27 (dk_at dksX6_ifOpen_0 13 rfl rfl)
theorem dX6_ifOpen_14 : decode cX6_ifOpen 14 = .ok (.iconst 0, 1) := dk_3 (dk_at dksX6_ifOpen_0 14 rfl rfl)
theorem dX6_ifOpen_15 : decode cX6_ifOpen 15 = .ok (.invokevirtual 124, 3) := dk_182 0 124 (dk_at dksX6_ifOpen_0 15 rfl rfl)
theorem dX6_ifOpen_18 : decode cX6_ifOpen 18 = .ok (.aload_n 0, 1) := dk_42 (dk_at dksX6_ifOpen_0 18 rfl rfl)
theorem dX6_ifOpen_19 : decode cX6_ifOpen 19 = .ok (.iload_n 1, 1) := dk_27 (dk_at dksX6_ifOpen_0 19 rfl rfl)
theorem dX6_ifOpen_20 : decode cX6_ifOpen 20 = .ok (.iconst 1, 1) := dk_4 (dk_at dksX6_ifOpen_0 20 rfl rfl)
theorem dX6_ifOpen_21 : decode cX6_ifOpen 21 = .ok (.invokevirtual 124, 3) := dk_182 0 124 (dk_at dksX6_ifOpen_0 21 rfl rfl)
theorem dX6_ifOpen_24 : decode cX6_ifOpen 24 = .ok (.isub, 1) := dk_100 (dk_at dksX6_ifOpen_1 0 rfl rfl)
theorem dX6_ifOpen_25 : decode cX6_ifOpen 25 = .ok (.goto 4, 3) := dk_167 0 4 (dk_at dksX6_ifOpen_1 1 rfl rfl)
theorem dX6_ifOpen_28 : decode cX6_ifOpen 28 = .ok (.iconst 0, 1) := dk_3 (dk_at dksX6_ifOpen_1 4 rfl rfl)
theorem dX6_ifOpen_29 : decode cX6_ifOpen 29 = .ok (.ireturn, 1) := dk_172 (dk_at dksX6_ifOpen_1 5 rfl rfl)
def dkwX6_bestFence_3 : List UInt8 := [21, 5, 62, 132, 4, 1, 167, 255, 204, 28, 172]
abbrev dktX6_bestFence_3 : List UInt8 := dkwX6_bestFence_3 ++ []
def dkwX6_bestFence_2 : List UInt8 := [21, 4, 27, 182, 1, 206, 54, 5, 21, 5, 29, 163, 0, 6, 167, 0, 13, 42, 21, 4, 182, 1, 164, 61]
abbrev dktX6_bestFence_2 : List UInt8 := dkwX6_bestFence_2 ++ dktX6_bestFence_3
def dkwX6_bestFence_1 : List UInt8 := [54, 4, 21, 4, 42, 182, 0, 117, 162, 0, 49, 42, 21, 4, 182, 0, 177, 156, 0, 6, 167, 0, 31, 42]
abbrev dktX6_bestFence_1 : List UInt8 := dkwX6_bestFence_1 ++ dktX6_bestFence_2
def dkwX6_bestFence_0 : List UInt8 := [42, 27, 133, 10, 20, 1, 140, 184, 0, 68, 182, 0, 186, 154, 0, 5, 3, 172, 2, 61, 2, 62, 3]
abbrev dktX6_bestFence_0 : List UInt8 := dkwX6_bestFence_0 ++ dktX6_bestFence_1
theorem dksX6_bestFence_0 : cX6_bestFence.data.toList.drop 0 = dktX6_bestFence_0 := by decide +kernel
theorem dksX6_bestFence_1 : cX6_bestFence.data.toList.drop 23 = dktX6_bestFence_1 := dk_seg dksX6_bestFence_0 23 rfl rfl
theorem dksX6_bestFence_2 : cX6_bestFence.data.toList.drop 47 = dktX6_bestFence_2 := dk_seg dksX6_bestFence_1 24 rfl rfl
theorem dksX6_bestFence_3 : cX6_bestFence.data.toList.drop 71 = dktX6_bestFence_3 := dk_seg dksX6_bestFence_2 24 rfl rfl
theorem dX6_bestFence_0 : decode cX6_bestFence 0 = .ok (.aload_n 0, 1) := dk_42 (dk_at dksX6_bestFence_0 0 rfl rfl)
theorem dX6_bestFence_1 : decode cX6_bestFence 1 = .ok (.iload_n 1, 1) := dk_27 (dk_at dksX6_bestFence_0 1 rfl rfl)
theorem dX6_bestFence_2 : decode cX6_bestFence 2 = .ok (.i2l, 1) := dk_133 (dk_at dksX6_bestFence_0 2 rfl rfl)
theorem dX6_bestFence_3 : decode cX6_bestFence 3 = .ok (.lconst 1, 1) := dk_10 (dk_at dksX6_bestFence_0 3 rfl rfl)
theorem dX6_bestFence_4 : decode cX6_bestFence 4 = .ok (.ldc2_w 396, 3) := dk_20 1 140 (dk_at dksX6_bestFence_0 4 rfl rfl)
theorem dX6_bestFence_7 : decode cX6_bestFence 7 = .ok (.invokestatic 68, 3) := dk_184 0 68 (dk_at dksX6_bestFence_0 7 rfl rfl)
theorem dX6_bestFence_10 : decode cX6_bestFence 10 = .ok (.invokevirtual 186, 3) := dk_182 0 186 (dk_at dksX6_bestFence_0 10 rfl rfl)
theorem dX6_bestFence_13 : decode cX6_bestFence 13 = .ok (.ifCond .ne 5, 3) := dk_154 0 5 (dk_at dksX6_bestFence_0 13 rfl rfl)
theorem dX6_bestFence_16 : decode cX6_bestFence 16 = .ok (.iconst 0, 1) := dk_3 (dk_at dksX6_bestFence_0 16 rfl rfl)
theorem dX6_bestFence_17 : decode cX6_bestFence 17 = .ok (.ireturn, 1) := dk_172 (dk_at dksX6_bestFence_0 17 rfl rfl)
theorem dX6_bestFence_18 : decode cX6_bestFence 18 = .ok (.iconst (-1), 1) := dk_2 (dk_at dksX6_bestFence_0 18 rfl rfl)
theorem dX6_bestFence_19 : decode cX6_bestFence 19 = .ok (.istore_n 2, 1) := dk_61 (dk_at dksX6_bestFence_0 19 rfl rfl)
theorem dX6_bestFence_20 : decode cX6_bestFence 20 = .ok (.iconst (-1), 1) := dk_2 (dk_at dksX6_bestFence_0 20 rfl rfl)
theorem dX6_bestFence_21 : decode cX6_bestFence 21 = .ok (.istore_n 3, 1) := dk_62 (dk_at dksX6_bestFence_0 21 rfl rfl)
theorem dX6_bestFence_22 : decode cX6_bestFence 22 = .ok (.iconst 0, 1) := dk_3 (dk_at dksX6_bestFence_0 22 rfl rfl)
theorem dX6_bestFence_23 : decode cX6_bestFence 23 = .ok (.istore 4, 2) := dk_54 4 (dk_at dksX6_bestFence_1 0 rfl rfl)
theorem dX6_bestFence_25 : decode cX6_bestFence 25 = .ok (.iload 4, 2) := dk_21 4 (dk_at dksX6_bestFence_1 2 rfl rfl)
theorem dX6_bestFence_27 : decode cX6_bestFence 27 = .ok (.aload_n 0, 1) := dk_42 (dk_at dksX6_bestFence_1 4 rfl rfl)
theorem dX6_bestFence_28 : decode cX6_bestFence 28 = .ok (.invokevirtual 117, 3) := dk_182 0 117 (dk_at dksX6_bestFence_1 5 rfl rfl)
theorem dX6_bestFence_31 : decode cX6_bestFence 31 = .ok (.if_icmp .ge 49, 3) := dk_162 0 49 (dk_at dksX6_bestFence_1 8 rfl rfl)
theorem dX6_bestFence_34 : decode cX6_bestFence 34 = .ok (.aload_n 0, 1) := dk_42 (dk_at dksX6_bestFence_1 11 rfl rfl)
theorem dX6_bestFence_35 : decode cX6_bestFence 35 = .ok (.iload 4, 2) := dk_21 4 (dk_at dksX6_bestFence_1 12 rfl rfl)
theorem dX6_bestFence_37 : decode cX6_bestFence 37 = .ok (.invokevirtual 177, 3) := dk_182 0 177 (dk_at dksX6_bestFence_1 14 rfl rfl)
theorem dX6_bestFence_40 : decode cX6_bestFence 40 = .ok (.ifCond .ge 6, 3) := dk_156 0 6 (dk_at dksX6_bestFence_1 17 rfl rfl)
theorem dX6_bestFence_43 : decode cX6_bestFence 43 = .ok (.goto 31, 3) := dk_167 0 31 (dk_at dksX6_bestFence_1 20 rfl rfl)
theorem dX6_bestFence_46 : decode cX6_bestFence 46 = .ok (.aload_n 0, 1) := dk_42 (dk_at dksX6_bestFence_1 23 rfl rfl)
theorem dX6_bestFence_47 : decode cX6_bestFence 47 = .ok (.iload 4, 2) := dk_21 4 (dk_at dksX6_bestFence_2 0 rfl rfl)
theorem dX6_bestFence_49 : decode cX6_bestFence 49 = .ok (.iload_n 1, 1) := dk_27 (dk_at dksX6_bestFence_2 2 rfl rfl)
theorem dX6_bestFence_50 : decode cX6_bestFence 50 = .ok (.invokevirtual 462, 3) := dk_182 1 206 (dk_at dksX6_bestFence_2 3 rfl rfl)
theorem dX6_bestFence_53 : decode cX6_bestFence 53 = .ok (.istore 5, 2) := dk_54 5 (dk_at dksX6_bestFence_2 6 rfl rfl)
theorem dX6_bestFence_55 : decode cX6_bestFence 55 = .ok (.iload 5, 2) := dk_21 5 (dk_at dksX6_bestFence_2 8 rfl rfl)
theorem dX6_bestFence_57 : decode cX6_bestFence 57 = .ok (.iload_n 3, 1) := dk_29 (dk_at dksX6_bestFence_2 10 rfl rfl)
theorem dX6_bestFence_58 : decode cX6_bestFence 58 = .ok (.if_icmp .gt 6, 3) := dk_163 0 6 (dk_at dksX6_bestFence_2 11 rfl rfl)
theorem dX6_bestFence_61 : decode cX6_bestFence 61 = .ok (.goto 13, 3) := dk_167 0 13 (dk_at dksX6_bestFence_2 14 rfl rfl)
theorem dX6_bestFence_64 : decode cX6_bestFence 64 = .ok (.aload_n 0, 1) := dk_42 (dk_at dksX6_bestFence_2 17 rfl rfl)
theorem dX6_bestFence_65 : decode cX6_bestFence 65 = .ok (.iload 4, 2) := dk_21 4 (dk_at dksX6_bestFence_2 18 rfl rfl)
theorem dX6_bestFence_67 : decode cX6_bestFence 67 = .ok (.invokevirtual 420, 3) := dk_182 1 164 (dk_at dksX6_bestFence_2 20 rfl rfl)
theorem dX6_bestFence_70 : decode cX6_bestFence 70 = .ok (.istore_n 2, 1) := dk_61 (dk_at dksX6_bestFence_2 23 rfl rfl)
theorem dX6_bestFence_71 : decode cX6_bestFence 71 = .ok (.iload 5, 2) := dk_21 5 (dk_at dksX6_bestFence_3 0 rfl rfl)
theorem dX6_bestFence_73 : decode cX6_bestFence 73 = .ok (.istore_n 3, 1) := dk_62 (dk_at dksX6_bestFence_3 2 rfl rfl)
theorem dX6_bestFence_74 : decode cX6_bestFence 74 = .ok (.iinc 4 1, 3) := dk_132 4 1 (dk_at dksX6_bestFence_3 3 rfl rfl)
theorem dX6_bestFence_77 : decode cX6_bestFence 77 = .ok (.goto (-52), 3) := dk_167 255 204 (dk_at dksX6_bestFence_3 6 rfl rfl)
theorem dX6_bestFence_80 : decode cX6_bestFence 80 = .ok (.iload_n 2, 1) := dk_28 (dk_at dksX6_bestFence_3 9 rfl rfl)
theorem dX6_bestFence_81 : decode cX6_bestFence 81 = .ok (.ireturn, 1) := dk_172 (dk_at dksX6_bestFence_3 10 rfl rfl)
def dkwX6_grassWithFence_0 : List UInt8 := [42, 182, 1, 197, 42, 27, 5, 4, 182, 0, 139, 42, 42, 28, 182, 1, 203, 182, 1, 200, 172]
abbrev dktX6_grassWithFence_0 : List UInt8 := dkwX6_grassWithFence_0 ++ []
theorem dksX6_grassWithFence_0 : cX6_grassWithFence.data.toList.drop 0 = dktX6_grassWithFence_0 := by decide +kernel
theorem dX6_grassWithFence_0 : decode cX6_grassWithFence 0 = .ok (.aload_n 0, 1) := dk_42 (dk_at dksX6_grassWithFence_0 0 rfl rfl)
theorem dX6_grassWithFence_1 : decode cX6_grassWithFence 1 = .ok (.invokevirtual 453, 3) := dk_182 1 197 (dk_at dksX6_grassWithFence_0 1 rfl rfl)
theorem dX6_grassWithFence_4 : decode cX6_grassWithFence 4 = .ok (.aload_n 0, 1) := dk_42 (dk_at dksX6_grassWithFence_0 4 rfl rfl)
theorem dX6_grassWithFence_5 : decode cX6_grassWithFence 5 = .ok (.iload_n 1, 1) := dk_27 (dk_at dksX6_grassWithFence_0 5 rfl rfl)
theorem dX6_grassWithFence_6 : decode cX6_grassWithFence 6 = .ok (.iconst 2, 1) := dk_5 (dk_at dksX6_grassWithFence_0 6 rfl rfl)
theorem dX6_grassWithFence_7 : decode cX6_grassWithFence 7 = .ok (.iconst 1, 1) := dk_4 (dk_at dksX6_grassWithFence_0 7 rfl rfl)
theorem dX6_grassWithFence_8 : decode cX6_grassWithFence 8 = .ok (.invokevirtual 139, 3) := dk_182 0 139 (dk_at dksX6_grassWithFence_0 8 rfl rfl)
theorem dX6_grassWithFence_11 : decode cX6_grassWithFence 11 = .ok (.aload_n 0, 1) := dk_42 (dk_at dksX6_grassWithFence_0 11 rfl rfl)
theorem dX6_grassWithFence_12 : decode cX6_grassWithFence 12 = .ok (.aload_n 0, 1) := dk_42 (dk_at dksX6_grassWithFence_0 12 rfl rfl)
theorem dX6_grassWithFence_13 : decode cX6_grassWithFence 13 = .ok (.iload_n 2, 1) := dk_28 (dk_at dksX6_grassWithFence_0 13 rfl rfl)
theorem dX6_grassWithFence_14 : decode cX6_grassWithFence 14 = .ok (.invokevirtual 459, 3) := dk_182 1 203 (dk_at dksX6_grassWithFence_0 14 rfl rfl)
theorem dX6_grassWithFence_17 : decode cX6_grassWithFence 17 = .ok (.invokevirtual 456, 3) := dk_182 1 200 (dk_at dksX6_grassWithFence_0 17 rfl rfl)
theorem dX6_grassWithFence_20 : decode cX6_grassWithFence 20 = .ok (.ireturn, 1) := dk_172 (dk_at dksX6_grassWithFence_0 20 rfl rfl)
def dkwX6_grassBehind_0 : List UInt8 := [42, 27, 182, 0, 170, 42, 182, 1, 62, 172]
abbrev dktX6_grassBehind_0 : List UInt8 := dkwX6_grassBehind_0 ++ []
theorem dksX6_grassBehind_0 : cX6_grassBehind.data.toList.drop 0 = dktX6_grassBehind_0 := by decide +kernel
theorem dX6_grassBehind_0 : decode cX6_grassBehind 0 = .ok (.aload_n 0, 1) := dk_42 (dk_at dksX6_grassBehind_0 0 rfl rfl)
theorem dX6_grassBehind_1 : decode cX6_grassBehind 1 = .ok (.iload_n 1, 1) := dk_27 (dk_at dksX6_grassBehind_0 1 rfl rfl)
theorem dX6_grassBehind_2 : decode cX6_grassBehind 2 = .ok (.invokevirtual 170, 3) := dk_182 0 170 (dk_at dksX6_grassBehind_0 2 rfl rfl)
theorem dX6_grassBehind_5 : decode cX6_grassBehind 5 = .ok (.aload_n 0, 1) := dk_42 (dk_at dksX6_grassBehind_0 5 rfl rfl)
theorem dX6_grassBehind_6 : decode cX6_grassBehind 6 = .ok (.invokevirtual 318, 3) := dk_182 1 62 (dk_at dksX6_grassBehind_0 6 rfl rfl)
theorem dX6_grassBehind_9 : decode cX6_grassBehind 9 = .ok (.ireturn, 1) := dk_172 (dk_at dksX6_grassBehind_0 9 rfl rfl)
def dkwX6_ifHaste_3 : List UInt8 := [182, 1, 203, 182, 1, 200, 21, 4, 100, 172]
abbrev dktX6_ifHaste_3 : List UInt8 := dkwX6_ifHaste_3 ++ []
def dkwX6_ifHaste_2 : List UInt8 := [182, 1, 203, 182, 1, 200, 54, 4, 42, 182, 1, 197, 42, 27, 16, 9, 28, 182, 0, 154, 42, 42, 29]
abbrev dktX6_ifHaste_2 : List UInt8 := dkwX6_ifHaste_2 ++ dktX6_ifHaste_3
def dkwX6_ifHaste_1 : List UInt8 := [153, 0, 7, 4, 167, 0, 4, 3, 182, 1, 142, 154, 0, 5, 3, 172, 42, 182, 1, 197, 42, 42, 29]
abbrev dktX6_ifHaste_1 : List UInt8 := dkwX6_ifHaste_1 ++ dktX6_ifHaste_2
def dkwX6_ifHaste_0 : List UInt8 := [42, 42, 27, 182, 1, 157, 28, 133, 9, 20, 1, 209, 184, 0, 68, 153, 0, 14, 29, 184, 1, 194]
abbrev dktX6_ifHaste_0 : List UInt8 := dkwX6_ifHaste_0 ++ dktX6_ifHaste_1
theorem dksX6_ifHaste_0 : cX6_ifHaste.data.toList.drop 0 = dktX6_ifHaste_0 := by decide +kernel
theorem dksX6_ifHaste_1 : cX6_ifHaste.data.toList.drop 22 = dktX6_ifHaste_1 := dk_seg dksX6_ifHaste_0 22 rfl rfl
theorem dksX6_ifHaste_2 : cX6_ifHaste.data.toList.drop 45 = dktX6_ifHaste_2 := dk_seg dksX6_ifHaste_1 23 rfl rfl
theorem dksX6_ifHaste_3 : cX6_ifHaste.data.toList.drop 68 = dktX6_ifHaste_3 := dk_seg dksX6_ifHaste_2 23 rfl rfl
theorem dX6_ifHaste_0 : decode cX6_ifHaste 0 = .ok (.aload_n 0, 1) := dk_42 (dk_at dksX6_ifHaste_0 0 rfl rfl)
theorem dX6_ifHaste_1 : decode cX6_ifHaste 1 = .ok (.aload_n 0, 1) := dk_42 (dk_at dksX6_ifHaste_0 1 rfl rfl)
theorem dX6_ifHaste_2 : decode cX6_ifHaste 2 = .ok (.iload_n 1, 1) := dk_27 (dk_at dksX6_ifHaste_0 2 rfl rfl)
theorem dX6_ifHaste_3 : decode cX6_ifHaste 3 = .ok (.invokevirtual 413, 3) := dk_182 1 157 (dk_at dksX6_ifHaste_0 3 rfl rfl)
theorem dX6_ifHaste_6 : decode cX6_ifHaste 6 = .ok (.iload_n 2, 1) := dk_28 (dk_at dksX6_ifHaste_0 6 rfl rfl)
theorem dX6_ifHaste_7 : decode cX6_ifHaste 7 = .ok (.i2l, 1) := dk_133 (dk_at dksX6_ifHaste_0 7 rfl rfl)
theorem dX6_ifHaste_8 : decode cX6_ifHaste 8 = .ok (.lconst 0, 1) := dk_9 (dk_at dksX6_ifHaste_0 8 rfl rfl)
theorem dX6_ifHaste_9 : decode cX6_ifHaste 9 = .ok (.ldc2_w 465, 3) := dk_20 1 209 (dk_at dksX6_ifHaste_0 9 rfl rfl)
theorem dX6_ifHaste_12 : decode cX6_ifHaste 12 = .ok (.invokestatic 68, 3) := dk_184 0 68 (dk_at dksX6_ifHaste_0 12 rfl rfl)
theorem dX6_ifHaste_15 : decode cX6_ifHaste 15 = .ok (.ifCond .eq 14, 3) := dk_153 0 14 (dk_at dksX6_ifHaste_0 15 rfl rfl)
theorem dX6_ifHaste_18 : decode cX6_ifHaste 18 = .ok (.iload_n 3, 1) := dk_29 (dk_at dksX6_ifHaste_0 18 rfl rfl)
theorem dX6_ifHaste_19 : decode cX6_ifHaste 19 = .ok (.invokestatic 450, 3) := dk_184 1 194 (dk_at dksX6_ifHaste_0 19 rfl rfl)
theorem dX6_ifHaste_22 : decode cX6_ifHaste 22 = .ok (.ifCond .eq 7, 3) := dk_153 0 7 (dk_at dksX6_ifHaste_1 0 rfl rfl)
theorem dX6_ifHaste_25 : decode cX6_ifHaste 25 = .ok (.iconst 1, 1) := dk_4 (dk_at dksX6_ifHaste_1 3 rfl rfl)
theorem dX6_ifHaste_26 : decode cX6_ifHaste 26 = .ok (.goto 4, 3) := dk_167 0 4 (dk_at dksX6_ifHaste_1 4 rfl rfl)
theorem dX6_ifHaste_29 : decode cX6_ifHaste 29 = .ok (.iconst 0, 1) := dk_3 (dk_at dksX6_ifHaste_1 7 rfl rfl)
theorem dX6_ifHaste_30 : decode cX6_ifHaste 30 = .ok (.invokevirtual 398, 3) := dk_182 1 142 (dk_at dksX6_ifHaste_1 8 rfl rfl)
theorem dX6_ifHaste_33 : decode cX6_ifHaste 33 = .ok (.ifCond .ne 5, 3) := dk_154 0 5 (dk_at dksX6_ifHaste_1 11 rfl rfl)
theorem dX6_ifHaste_36 : decode cX6_ifHaste 36 = .ok (.iconst 0, 1) := dk_3 (dk_at dksX6_ifHaste_1 14 rfl rfl)
theorem dX6_ifHaste_37 : decode cX6_ifHaste 37 = .ok (.ireturn, 1) := dk_172 (dk_at dksX6_ifHaste_1 15 rfl rfl)
theorem dX6_ifHaste_38 : decode cX6_ifHaste 38 = .ok (.aload_n 0, 1) := dk_42 (dk_at dksX6_ifHaste_1 16 rfl rfl)
theorem dX6_ifHaste_39 : decode cX6_ifHaste 39 = .ok (.invokevirtual 453, 3) := dk_182 1 197 (dk_at dksX6_ifHaste_1 17 rfl rfl)
theorem dX6_ifHaste_42 : decode cX6_ifHaste 42 = .ok (.aload_n 0, 1) := dk_42 (dk_at dksX6_ifHaste_1 20 rfl rfl)
theorem dX6_ifHaste_43 : decode cX6_ifHaste 43 = .ok (.aload_n 0, 1) := dk_42 (dk_at dksX6_ifHaste_1 21 rfl rfl)
theorem dX6_ifHaste_44 : decode cX6_ifHaste 44 = .ok (.iload_n 3, 1) := dk_29 (dk_at dksX6_ifHaste_1 22 rfl rfl)
theorem dX6_ifHaste_45 : decode cX6_ifHaste 45 = .ok (.invokevirtual 459, 3) := dk_182 1 203 (dk_at dksX6_ifHaste_2 0 rfl rfl)
theorem dX6_ifHaste_48 : decode cX6_ifHaste 48 = .ok (.invokevirtual 456, 3) := dk_182 1 200 (dk_at dksX6_ifHaste_2 3 rfl rfl)
theorem dX6_ifHaste_51 : decode cX6_ifHaste 51 = .ok (.istore 4, 2) := dk_54 4 (dk_at dksX6_ifHaste_2 6 rfl rfl)
theorem dX6_ifHaste_53 : decode cX6_ifHaste 53 = .ok (.aload_n 0, 1) := dk_42 (dk_at dksX6_ifHaste_2 8 rfl rfl)
theorem dX6_ifHaste_54 : decode cX6_ifHaste 54 = .ok (.invokevirtual 453, 3) := dk_182 1 197 (dk_at dksX6_ifHaste_2 9 rfl rfl)
theorem dX6_ifHaste_57 : decode cX6_ifHaste 57 = .ok (.aload_n 0, 1) := dk_42 (dk_at dksX6_ifHaste_2 12 rfl rfl)
theorem dX6_ifHaste_58 : decode cX6_ifHaste 58 = .ok (.iload_n 1, 1) := dk_27 (dk_at dksX6_ifHaste_2 13 rfl rfl)
theorem dX6_ifHaste_59 : decode cX6_ifHaste 59 = .ok (.bipush 9, 2) := dk_16 9 (dk_at dksX6_ifHaste_2 14 rfl rfl)
theorem dX6_ifHaste_61 : decode cX6_ifHaste 61 = .ok (.iload_n 2, 1) := dk_28 (dk_at dksX6_ifHaste_2 16 rfl rfl)
theorem dX6_ifHaste_62 : decode cX6_ifHaste 62 = .ok (.invokevirtual 154, 3) := dk_182 0 154 (dk_at dksX6_ifHaste_2 17 rfl rfl)
theorem dX6_ifHaste_65 : decode cX6_ifHaste 65 = .ok (.aload_n 0, 1) := dk_42 (dk_at dksX6_ifHaste_2 20 rfl rfl)
theorem dX6_ifHaste_66 : decode cX6_ifHaste 66 = .ok (.aload_n 0, 1) := dk_42 (dk_at dksX6_ifHaste_2 21 rfl rfl)
theorem dX6_ifHaste_67 : decode cX6_ifHaste 67 = .ok (.iload_n 3, 1) := dk_29 (dk_at dksX6_ifHaste_2 22 rfl rfl)
theorem dX6_ifHaste_68 : decode cX6_ifHaste 68 = .ok (.invokevirtual 459, 3) := dk_182 1 203 (dk_at dksX6_ifHaste_3 0 rfl rfl)
theorem dX6_ifHaste_71 : decode cX6_ifHaste 71 = .ok (.invokevirtual 456, 3) := dk_182 1 200 (dk_at dksX6_ifHaste_3 3 rfl rfl)
theorem dX6_ifHaste_74 : decode cX6_ifHaste 74 = .ok (.iload 4, 2) := dk_21 4 (dk_at dksX6_ifHaste_3 6 rfl rfl)
theorem dX6_ifHaste_76 : decode cX6_ifHaste 76 = .ok (.isub, 1) := dk_100 (dk_at dksX6_ifHaste_3 8 rfl rfl)
theorem dX6_ifHaste_77 : decode cX6_ifHaste 77 = .ok (.ireturn, 1) := dk_172 (dk_at dksX6_ifHaste_3 9 rfl rfl)
def dkwX6_busiest_2 : List UInt8 := [132, 3, 1, 167, 255, 219, 27, 172]
abbrev dktX6_busiest_2 : List UInt8 := dkwX6_busiest_2 ++ []
def dkwX6_busiest_1 : List UInt8 := [182, 0, 86, 28, 163, 0, 6, 167, 0, 16, 42, 29, 182, 1, 164, 60, 42, 29, 6, 182, 0, 86, 61]
abbrev dktX6_busiest_1 : List UInt8 := dkwX6_busiest_1 ++ dktX6_busiest_2
def dkwX6_busiest_0 : List UInt8 := [42, 3, 181, 0, 61, 2, 60, 3, 61, 3, 62, 29, 42, 182, 0, 117, 162, 0, 35, 42, 29, 6]
abbrev dktX6_busiest_0 : List UInt8 := dkwX6_busiest_0 ++ dktX6_busiest_1
theorem dksX6_busiest_0 : cX6_busiest.data.toList.drop 0 = dktX6_busiest_0 := by decide +kernel
theorem dksX6_busiest_1 : cX6_busiest.data.toList.drop 22 = dktX6_busiest_1 := dk_seg dksX6_busiest_0 22 rfl rfl
theorem dksX6_busiest_2 : cX6_busiest.data.toList.drop 45 = dktX6_busiest_2 := dk_seg dksX6_busiest_1 23 rfl rfl
theorem dX6_busiest_0 : decode cX6_busiest 0 = .ok (.aload_n 0, 1) := dk_42 (dk_at dksX6_busiest_0 0 rfl rfl)
theorem dX6_busiest_1 : decode cX6_busiest 1 = .ok (.iconst 0, 1) := dk_3 (dk_at dksX6_busiest_0 1 rfl rfl)
theorem dX6_busiest_2 : decode cX6_busiest 2 = .ok (.putfield 61, 3) := dk_181 0 61 (dk_at dksX6_busiest_0 2 rfl rfl)
theorem dX6_busiest_5 : decode cX6_busiest 5 = .ok (.iconst (-1), 1) := dk_2 (dk_at dksX6_busiest_0 5 rfl rfl)
theorem dX6_busiest_6 : decode cX6_busiest 6 = .ok (.istore_n 1, 1) := dk_60 (dk_at dksX6_busiest_0 6 rfl rfl)
theorem dX6_busiest_7 : decode cX6_busiest 7 = .ok (.iconst 0, 1) := dk_3 (dk_at dksX6_busiest_0 7 rfl rfl)
theorem dX6_busiest_8 : decode cX6_busiest 8 = .ok (.istore_n 2, 1) := dk_61 (dk_at dksX6_busiest_0 8 rfl rfl)
theorem dX6_busiest_9 : decode cX6_busiest 9 = .ok (.iconst 0, 1) := dk_3 (dk_at dksX6_busiest_0 9 rfl rfl)
theorem dX6_busiest_10 : decode cX6_busiest 10 = .ok (.istore_n 3, 1) := dk_62 (dk_at dksX6_busiest_0 10 rfl rfl)
theorem dX6_busiest_11 : decode cX6_busiest 11 = .ok (.iload_n 3, 1) := dk_29 (dk_at dksX6_busiest_0 11 rfl rfl)
theorem dX6_busiest_12 : decode cX6_busiest 12 = .ok (.aload_n 0, 1) := dk_42 (dk_at dksX6_busiest_0 12 rfl rfl)
theorem dX6_busiest_13 : decode cX6_busiest 13 = .ok (.invokevirtual 117, 3) := dk_182 0 117 (dk_at dksX6_busiest_0 13 rfl rfl)
theorem dX6_busiest_16 : decode cX6_busiest 16 = .ok (.if_icmp .ge 35, 3) := dk_162 0 35 (dk_at dksX6_busiest_0 16 rfl rfl)
theorem dX6_busiest_19 : decode cX6_busiest 19 = .ok (.aload_n 0, 1) := dk_42 (dk_at dksX6_busiest_0 19 rfl rfl)
theorem dX6_busiest_20 : decode cX6_busiest 20 = .ok (.iload_n 3, 1) := dk_29 (dk_at dksX6_busiest_0 20 rfl rfl)
theorem dX6_busiest_21 : decode cX6_busiest 21 = .ok (.iconst 3, 1) := dk_6 (dk_at dksX6_busiest_0 21 rfl rfl)
theorem dX6_busiest_22 : decode cX6_busiest 22 = .ok (.invokevirtual 86, 3) := dk_182 0 86 (dk_at dksX6_busiest_1 0 rfl rfl)
theorem dX6_busiest_25 : decode cX6_busiest 25 = .ok (.iload_n 2, 1) := dk_28 (dk_at dksX6_busiest_1 3 rfl rfl)
theorem dX6_busiest_26 : decode cX6_busiest 26 = .ok (.if_icmp .gt 6, 3) := dk_163 0 6 (dk_at dksX6_busiest_1 4 rfl rfl)
theorem dX6_busiest_29 : decode cX6_busiest 29 = .ok (.goto 16, 3) := dk_167 0 16 (dk_at dksX6_busiest_1 7 rfl rfl)
theorem dX6_busiest_32 : decode cX6_busiest 32 = .ok (.aload_n 0, 1) := dk_42 (dk_at dksX6_busiest_1 10 rfl rfl)
theorem dX6_busiest_33 : decode cX6_busiest 33 = .ok (.iload_n 3, 1) := dk_29 (dk_at dksX6_busiest_1 11 rfl rfl)
theorem dX6_busiest_34 : decode cX6_busiest 34 = .ok (.invokevirtual 420, 3) := dk_182 1 164 (dk_at dksX6_busiest_1 12 rfl rfl)
theorem dX6_busiest_37 : decode cX6_busiest 37 = .ok (.istore_n 1, 1) := dk_60 (dk_at dksX6_busiest_1 15 rfl rfl)
theorem dX6_busiest_38 : decode cX6_busiest 38 = .ok (.aload_n 0, 1) := dk_42 (dk_at dksX6_busiest_1 16 rfl rfl)
theorem dX6_busiest_39 : decode cX6_busiest 39 = .ok (.iload_n 3, 1) := dk_29 (dk_at dksX6_busiest_1 17 rfl rfl)
theorem dX6_busiest_40 : decode cX6_busiest 40 = .ok (.iconst 3, 1) := dk_6 (dk_at dksX6_busiest_1 18 rfl rfl)
theorem dX6_busiest_41 : decode cX6_busiest 41 = .ok (.invokevirtual 86, 3) := dk_182 0 86 (dk_at dksX6_busiest_1 19 rfl rfl)
theorem dX6_busiest_44 : decode cX6_busiest 44 = .ok (.istore_n 2, 1) := dk_61 (dk_at dksX6_busiest_1 22 rfl rfl)
theorem dX6_busiest_45 : decode cX6_busiest 45 = .ok (.iinc 3 1, 3) := dk_132 3 1 (dk_at dksX6_busiest_2 0 rfl rfl)
theorem dX6_busiest_48 : decode cX6_busiest 48 = .ok (.goto (-37), 3) := dk_167 255 219 (dk_at dksX6_busiest_2 3 rfl rfl)
theorem dX6_busiest_51 : decode cX6_busiest 51 = .ok (.iload_n 1, 1) := dk_27 (dk_at dksX6_busiest_2 6 rfl rfl)
theorem dX6_busiest_52 : decode cX6_busiest 52 = .ok (.ireturn, 1) := dk_172 (dk_at dksX6_busiest_2 7 rfl rfl)
def dkwX6_meanGrass_1 : List UInt8 := [27, 135, 111, 175]
abbrev dktX6_meanGrass_1 : List UInt8 := dkwX6_meanGrass_1 ++ []
def dkwX6_meanGrass_0 : List UInt8 := [42, 3, 181, 0, 61, 42, 3, 182, 0, 183, 60, 27, 154, 0, 7, 14, 167, 0, 11, 42, 182, 1, 62, 135]
abbrev dktX6_meanGrass_0 : List UInt8 := dkwX6_meanGrass_0 ++ dktX6_meanGrass_1
theorem dksX6_meanGrass_0 : cX6_meanGrass.data.toList.drop 0 = dktX6_meanGrass_0 := by decide +kernel
theorem dksX6_meanGrass_1 : cX6_meanGrass.data.toList.drop 24 = dktX6_meanGrass_1 := dk_seg dksX6_meanGrass_0 24 rfl rfl
theorem dX6_meanGrass_0 : decode cX6_meanGrass 0 = .ok (.aload_n 0, 1) := dk_42 (dk_at dksX6_meanGrass_0 0 rfl rfl)
theorem dX6_meanGrass_1 : decode cX6_meanGrass 1 = .ok (.iconst 0, 1) := dk_3 (dk_at dksX6_meanGrass_0 1 rfl rfl)
theorem dX6_meanGrass_2 : decode cX6_meanGrass 2 = .ok (.putfield 61, 3) := dk_181 0 61 (dk_at dksX6_meanGrass_0 2 rfl rfl)
theorem dX6_meanGrass_5 : decode cX6_meanGrass 5 = .ok (.aload_n 0, 1) := dk_42 (dk_at dksX6_meanGrass_0 5 rfl rfl)
theorem dX6_meanGrass_6 : decode cX6_meanGrass 6 = .ok (.iconst 0, 1) := dk_3 (dk_at dksX6_meanGrass_0 6 rfl rfl)
theorem dX6_meanGrass_7 : decode cX6_meanGrass 7 = .ok (.invokevirtual 183, 3) := dk_182 0 183 (dk_at dksX6_meanGrass_0 7 rfl rfl)
theorem dX6_meanGrass_10 : decode cX6_meanGrass 10 = .ok (.istore_n 1, 1) := dk_60 (dk_at dksX6_meanGrass_0 10 rfl rfl)
theorem dX6_meanGrass_11 : decode cX6_meanGrass 11 = .ok (.iload_n 1, 1) := dk_27 (dk_at dksX6_meanGrass_0 11 rfl rfl)
theorem dX6_meanGrass_12 : decode cX6_meanGrass 12 = .ok (.ifCond .ne 7, 3) := dk_154 0 7 (dk_at dksX6_meanGrass_0 12 rfl rfl)
theorem dX6_meanGrass_15 : decode cX6_meanGrass 15 = .ok (.dconst 0, 1) := dk_14 (dk_at dksX6_meanGrass_0 15 rfl rfl)
theorem dX6_meanGrass_16 : decode cX6_meanGrass 16 = .ok (.goto 11, 3) := dk_167 0 11 (dk_at dksX6_meanGrass_0 16 rfl rfl)
theorem dX6_meanGrass_19 : decode cX6_meanGrass 19 = .ok (.aload_n 0, 1) := dk_42 (dk_at dksX6_meanGrass_0 19 rfl rfl)
theorem dX6_meanGrass_20 : decode cX6_meanGrass 20 = .ok (.invokevirtual 318, 3) := dk_182 1 62 (dk_at dksX6_meanGrass_0 20 rfl rfl)
theorem dX6_meanGrass_23 : decode cX6_meanGrass 23 = .ok (.i2d, 1) := dk_135 (dk_at dksX6_meanGrass_0 23 rfl rfl)
theorem dX6_meanGrass_24 : decode cX6_meanGrass 24 = .ok (.iload_n 1, 1) := dk_27 (dk_at dksX6_meanGrass_1 0 rfl rfl)
theorem dX6_meanGrass_25 : decode cX6_meanGrass 25 = .ok (.i2d, 1) := dk_135 (dk_at dksX6_meanGrass_1 1 rfl rfl)
theorem dX6_meanGrass_26 : decode cX6_meanGrass 26 = .ok (.ddiv, 1) := dk_111 (dk_at dksX6_meanGrass_1 2 rfl rfl)
theorem dX6_meanGrass_27 : decode cX6_meanGrass 27 = .ok (.dreturn, 1) := dk_175 (dk_at dksX6_meanGrass_1 3 rfl rfl)
def dkwX6_bareShare_1 : List UInt8 := [27, 134, 110, 174]
abbrev dktX6_bareShare_1 : List UInt8 := dkwX6_bareShare_1 ++ []
def dkwX6_bareShare_0 : List UInt8 := [42, 3, 181, 0, 61, 42, 3, 182, 0, 183, 60, 27, 154, 0, 7, 11, 167, 0, 11, 42, 182, 1, 128, 134]
abbrev dktX6_bareShare_0 : List UInt8 := dkwX6_bareShare_0 ++ dktX6_bareShare_1
theorem dksX6_bareShare_0 : cX6_bareShare.data.toList.drop 0 = dktX6_bareShare_0 := by decide +kernel
theorem dksX6_bareShare_1 : cX6_bareShare.data.toList.drop 24 = dktX6_bareShare_1 := dk_seg dksX6_bareShare_0 24 rfl rfl
theorem dX6_bareShare_0 : decode cX6_bareShare 0 = .ok (.aload_n 0, 1) := dk_42 (dk_at dksX6_bareShare_0 0 rfl rfl)
theorem dX6_bareShare_1 : decode cX6_bareShare 1 = .ok (.iconst 0, 1) := dk_3 (dk_at dksX6_bareShare_0 1 rfl rfl)
theorem dX6_bareShare_2 : decode cX6_bareShare 2 = .ok (.putfield 61, 3) := dk_181 0 61 (dk_at dksX6_bareShare_0 2 rfl rfl)
theorem dX6_bareShare_5 : decode cX6_bareShare 5 = .ok (.aload_n 0, 1) := dk_42 (dk_at dksX6_bareShare_0 5 rfl rfl)
theorem dX6_bareShare_6 : decode cX6_bareShare 6 = .ok (.iconst 0, 1) := dk_3 (dk_at dksX6_bareShare_0 6 rfl rfl)
theorem dX6_bareShare_7 : decode cX6_bareShare 7 = .ok (.invokevirtual 183, 3) := dk_182 0 183 (dk_at dksX6_bareShare_0 7 rfl rfl)
theorem dX6_bareShare_10 : decode cX6_bareShare 10 = .ok (.istore_n 1, 1) := dk_60 (dk_at dksX6_bareShare_0 10 rfl rfl)
theorem dX6_bareShare_11 : decode cX6_bareShare 11 = .ok (.iload_n 1, 1) := dk_27 (dk_at dksX6_bareShare_0 11 rfl rfl)
theorem dX6_bareShare_12 : decode cX6_bareShare 12 = .ok (.ifCond .ne 7, 3) := dk_154 0 7 (dk_at dksX6_bareShare_0 12 rfl rfl)
theorem dX6_bareShare_15 : decode cX6_bareShare 15 = .ok (.fconst 0, 1) := dk_11 (dk_at dksX6_bareShare_0 15 rfl rfl)
theorem dX6_bareShare_16 : decode cX6_bareShare 16 = .ok (.goto 11, 3) := dk_167 0 11 (dk_at dksX6_bareShare_0 16 rfl rfl)
theorem dX6_bareShare_19 : decode cX6_bareShare 19 = .ok (.aload_n 0, 1) := dk_42 (dk_at dksX6_bareShare_0 19 rfl rfl)
theorem dX6_bareShare_20 : decode cX6_bareShare 20 = .ok (.invokevirtual 384, 3) := dk_182 1 128 (dk_at dksX6_bareShare_0 20 rfl rfl)
theorem dX6_bareShare_23 : decode cX6_bareShare 23 = .ok (.i2f, 1) := dk_134 (dk_at dksX6_bareShare_0 23 rfl rfl)
theorem dX6_bareShare_24 : decode cX6_bareShare 24 = .ok (.iload_n 1, 1) := dk_27 (dk_at dksX6_bareShare_1 0 rfl rfl)
theorem dX6_bareShare_25 : decode cX6_bareShare 25 = .ok (.i2f, 1) := dk_134 (dk_at dksX6_bareShare_1 1 rfl rfl)
theorem dX6_bareShare_26 : decode cX6_bareShare 26 = .ok (.fdiv, 1) := dk_110 (dk_at dksX6_bareShare_1 2 rfl rfl)
theorem dX6_bareShare_27 : decode cX6_bareShare 27 = .ok (.freturn, 1) := dk_174 (dk_at dksX6_bareShare_1 3 rfl rfl)
def dkwX6_run_1 : List UInt8 := [182, 1, 92, 182, 1, 214, 167, 0, 4, 3, 172]
abbrev dktX6_run_1 : List UInt8 := dkwX6_run_1 ++ []
def dkwX6_run_0 : List UInt8 := [42, 42, 27, 133, 10, 20, 1, 192, 184, 0, 68, 182, 0, 186, 182, 1, 211, 153, 0, 15, 42, 42, 27]
abbrev dktX6_run_0 : List UInt8 := dkwX6_run_0 ++ dktX6_run_1
theorem dksX6_run_0 : cX6_run.data.toList.drop 0 = dktX6_run_0 := by decide +kernel
theorem dksX6_run_1 : cX6_run.data.toList.drop 23 = dktX6_run_1 := dk_seg dksX6_run_0 23 rfl rfl
theorem dX6_run_0 : decode cX6_run 0 = .ok (.aload_n 0, 1) := dk_42 (dk_at dksX6_run_0 0 rfl rfl)
theorem dX6_run_1 : decode cX6_run 1 = .ok (.aload_n 0, 1) := dk_42 (dk_at dksX6_run_0 1 rfl rfl)
theorem dX6_run_2 : decode cX6_run 2 = .ok (.iload_n 1, 1) := dk_27 (dk_at dksX6_run_0 2 rfl rfl)
theorem dX6_run_3 : decode cX6_run 3 = .ok (.i2l, 1) := dk_133 (dk_at dksX6_run_0 3 rfl rfl)
theorem dX6_run_4 : decode cX6_run 4 = .ok (.lconst 1, 1) := dk_10 (dk_at dksX6_run_0 4 rfl rfl)
theorem dX6_run_5 : decode cX6_run 5 = .ok (.ldc2_w 448, 3) := dk_20 1 192 (dk_at dksX6_run_0 5 rfl rfl)
theorem dX6_run_8 : decode cX6_run 8 = .ok (.invokestatic 68, 3) := dk_184 0 68 (dk_at dksX6_run_0 8 rfl rfl)
theorem dX6_run_11 : decode cX6_run 11 = .ok (.invokevirtual 186, 3) := dk_182 0 186 (dk_at dksX6_run_0 11 rfl rfl)
theorem dX6_run_14 : decode cX6_run 14 = .ok (.invokevirtual 467, 3) := dk_182 1 211 (dk_at dksX6_run_0 14 rfl rfl)
theorem dX6_run_17 : decode cX6_run 17 = .ok (.ifCond .eq 15, 3) := dk_153 0 15 (dk_at dksX6_run_0 17 rfl rfl)
theorem dX6_run_20 : decode cX6_run 20 = .ok (.aload_n 0, 1) := dk_42 (dk_at dksX6_run_0 20 rfl rfl)
theorem dX6_run_21 : decode cX6_run 21 = .ok (.aload_n 0, 1) := dk_42 (dk_at dksX6_run_0 21 rfl rfl)
theorem dX6_run_22 : decode cX6_run 22 = .ok (.iload_n 1, 1) := dk_27 (dk_at dksX6_run_0 22 rfl rfl)
theorem dX6_run_23 : decode cX6_run 23 = .ok (.invokevirtual 348, 3) := dk_182 1 92 (dk_at dksX6_run_1 0 rfl rfl)
theorem dX6_run_26 : decode cX6_run 26 = .ok (.invokevirtual 470, 3) := dk_182 1 214 (dk_at dksX6_run_1 3 rfl rfl)
theorem dX6_run_29 : decode cX6_run 29 = .ok (.goto 4, 3) := dk_167 0 4 (dk_at dksX6_run_1 6 rfl rfl)
theorem dX6_run_32 : decode cX6_run 32 = .ok (.iconst 0, 1) := dk_3 (dk_at dksX6_run_1 9 rfl rfl)
theorem dX6_run_33 : decode cX6_run 33 = .ok (.ireturn, 1) := dk_172 (dk_at dksX6_run_1 10 rfl rfl)
def dkwX6_tried_0 : List UInt8 := [27, 153, 0, 16, 42, 180, 0, 7, 3, 42, 180, 0, 16, 3, 184, 0, 64, 27, 172]
abbrev dktX6_tried_0 : List UInt8 := dkwX6_tried_0 ++ []
theorem dksX6_tried_0 : cX6_tried.data.toList.drop 0 = dktX6_tried_0 := by decide +kernel
theorem dX6_tried_0 : decode cX6_tried 0 = .ok (.iload_n 1, 1) := dk_27 (dk_at dksX6_tried_0 0 rfl rfl)
theorem dX6_tried_1 : decode cX6_tried 1 = .ok (.ifCond .eq 16, 3) := dk_153 0 16 (dk_at dksX6_tried_0 1 rfl rfl)
theorem dX6_tried_4 : decode cX6_tried 4 = .ok (.aload_n 0, 1) := dk_42 (dk_at dksX6_tried_0 4 rfl rfl)
theorem dX6_tried_5 : decode cX6_tried 5 = .ok (.getfield 7, 3) := dk_180 0 7 (dk_at dksX6_tried_0 5 rfl rfl)
theorem dX6_tried_8 : decode cX6_tried 8 = .ok (.iconst 0, 1) := dk_3 (dk_at dksX6_tried_0 8 rfl rfl)
theorem dX6_tried_9 : decode cX6_tried 9 = .ok (.aload_n 0, 1) := dk_42 (dk_at dksX6_tried_0 9 rfl rfl)
theorem dX6_tried_10 : decode cX6_tried 10 = .ok (.getfield 16, 3) := dk_180 0 16 (dk_at dksX6_tried_0 10 rfl rfl)
theorem dX6_tried_13 : decode cX6_tried 13 = .ok (.iconst 0, 1) := dk_3 (dk_at dksX6_tried_0 13 rfl rfl)
theorem dX6_tried_14 : decode cX6_tried 14 = .ok (.invokestatic 64, 3) := dk_184 0 64 (dk_at dksX6_tried_0 14 rfl rfl)
theorem dX6_tried_17 : decode cX6_tried 17 = .ok (.iload_n 1, 1) := dk_27 (dk_at dksX6_tried_0 17 rfl rfl)
theorem dX6_tried_18 : decode cX6_tried 18 = .ok (.ireturn, 1) := dk_172 (dk_at dksX6_tried_0 18 rfl rfl)
def dkwX6_done_0 : List UInt8 := [27, 155, 0, 11, 42, 42, 180, 0, 16, 182, 1, 116, 27, 172]
abbrev dktX6_done_0 : List UInt8 := dkwX6_done_0 ++ []
theorem dksX6_done_0 : cX6_done.data.toList.drop 0 = dktX6_done_0 := by decide +kernel
theorem dX6_done_0 : decode cX6_done 0 = .ok (.iload_n 1, 1) := dk_27 (dk_at dksX6_done_0 0 rfl rfl)
theorem dX6_done_1 : decode cX6_done 1 = .ok (.ifCond .lt 11, 3) := dk_155 0 11 (dk_at dksX6_done_0 1 rfl rfl)
theorem dX6_done_4 : decode cX6_done 4 = .ok (.aload_n 0, 1) := dk_42 (dk_at dksX6_done_0 4 rfl rfl)
theorem dX6_done_5 : decode cX6_done 5 = .ok (.aload_n 0, 1) := dk_42 (dk_at dksX6_done_0 5 rfl rfl)
theorem dX6_done_6 : decode cX6_done 6 = .ok (.getfield 16, 3) := dk_180 0 16 (dk_at dksX6_done_0 6 rfl rfl)
theorem dX6_done_9 : decode cX6_done 9 = .ok (.invokevirtual 372, 3) := dk_182 1 116 (dk_at dksX6_done_0 9 rfl rfl)
theorem dX6_done_12 : decode cX6_done 12 = .ok (.iload_n 1, 1) := dk_27 (dk_at dksX6_done_0 12 rfl rfl)
theorem dX6_done_13 : decode cX6_done 13 = .ok (.ireturn, 1) := dk_172 (dk_at dksX6_done_0 13 rfl rfl)
def dkwX6_setFence_1 : List UInt8 := [182, 1, 214, 167, 0, 4, 3, 172]
abbrev dktX6_setFence_1 : List UInt8 := dkwX6_setFence_1 ++ []
def dkwX6_setFence_0 : List UInt8 := [42, 42, 42, 27, 28, 182, 0, 89, 182, 0, 186, 182, 1, 211, 153, 0, 16, 42, 42, 27, 28, 182, 1, 95]
abbrev dktX6_setFence_0 : List UInt8 := dkwX6_setFence_0 ++ dktX6_setFence_1
theorem dksX6_setFence_0 : cX6_setFence.data.toList.drop 0 = dktX6_setFence_0 := by decide +kernel
theorem dksX6_setFence_1 : cX6_setFence.data.toList.drop 24 = dktX6_setFence_1 := dk_seg dksX6_setFence_0 24 rfl rfl
theorem dX6_setFence_0 : decode cX6_setFence 0 = .ok (.aload_n 0, 1) := dk_42 (dk_at dksX6_setFence_0 0 rfl rfl)
theorem dX6_setFence_1 : decode cX6_setFence 1 = .ok (.aload_n 0, 1) := dk_42 (dk_at dksX6_setFence_0 1 rfl rfl)
theorem dX6_setFence_2 : decode cX6_setFence 2 = .ok (.aload_n 0, 1) := dk_42 (dk_at dksX6_setFence_0 2 rfl rfl)
theorem dX6_setFence_3 : decode cX6_setFence 3 = .ok (.iload_n 1, 1) := dk_27 (dk_at dksX6_setFence_0 3 rfl rfl)
theorem dX6_setFence_4 : decode cX6_setFence 4 = .ok (.iload_n 2, 1) := dk_28 (dk_at dksX6_setFence_0 4 rfl rfl)
theorem dX6_setFence_5 : decode cX6_setFence 5 = .ok (.invokevirtual 89, 3) := dk_182 0 89 (dk_at dksX6_setFence_0 5 rfl rfl)
theorem dX6_setFence_8 : decode cX6_setFence 8 = .ok (.invokevirtual 186, 3) := dk_182 0 186 (dk_at dksX6_setFence_0 8 rfl rfl)
theorem dX6_setFence_11 : decode cX6_setFence 11 = .ok (.invokevirtual 467, 3) := dk_182 1 211 (dk_at dksX6_setFence_0 11 rfl rfl)
theorem dX6_setFence_14 : decode cX6_setFence 14 = .ok (.ifCond .eq 16, 3) := dk_153 0 16 (dk_at dksX6_setFence_0 14 rfl rfl)
theorem dX6_setFence_17 : decode cX6_setFence 17 = .ok (.aload_n 0, 1) := dk_42 (dk_at dksX6_setFence_0 17 rfl rfl)
theorem dX6_setFence_18 : decode cX6_setFence 18 = .ok (.aload_n 0, 1) := dk_42 (dk_at dksX6_setFence_0 18 rfl rfl)
theorem dX6_setFence_19 : decode cX6_setFence 19 = .ok (.iload_n 1, 1) := dk_27 (dk_at dksX6_setFence_0 19 rfl rfl)
theorem dX6_setFence_20 : decode cX6_setFence 20 = .ok (.iload_n 2, 1) := dk_28 (dk_at dksX6_setFence_0 20 rfl rfl)
theorem dX6_setFence_21 : decode cX6_setFence 21 = .ok (.invokevirtual 351, 3) := dk_182 1 95 (dk_at dksX6_setFence_0 21 rfl rfl)
theorem dX6_setFence_24 : decode cX6_setFence 24 = .ok (.invokevirtual 470, 3) := dk_182 1 214 (dk_at dksX6_setFence_1 0 rfl rfl)
theorem dX6_setFence_27 : decode cX6_setFence 27 = .ok (.goto 4, 3) := dk_167 0 4 (dk_at dksX6_setFence_1 3 rfl rfl)
theorem dX6_setFence_30 : decode cX6_setFence 30 = .ok (.iconst 0, 1) := dk_3 (dk_at dksX6_setFence_1 6 rfl rfl)
theorem dX6_setFence_31 : decode cX6_setFence 31 = .ok (.ireturn, 1) := dk_172 (dk_at dksX6_setFence_1 7 rfl rfl)
def dkwX6_dropFence_1 : List UInt8 := [182, 1, 214, 167, 0, 4, 3, 172]
abbrev dktX6_dropFence_1 : List UInt8 := dkwX6_dropFence_1 ++ []
def dkwX6_dropFence_0 : List UInt8 := [42, 42, 42, 27, 28, 182, 0, 89, 182, 0, 186, 182, 1, 211, 153, 0, 16, 42, 42, 27, 28, 182, 1, 98]
abbrev dktX6_dropFence_0 : List UInt8 := dkwX6_dropFence_0 ++ dktX6_dropFence_1
theorem dksX6_dropFence_0 : cX6_dropFence.data.toList.drop 0 = dktX6_dropFence_0 := by decide +kernel
theorem dksX6_dropFence_1 : cX6_dropFence.data.toList.drop 24 = dktX6_dropFence_1 := dk_seg dksX6_dropFence_0 24 rfl rfl
theorem dX6_dropFence_0 : decode cX6_dropFence 0 = .ok (.aload_n 0, 1) := dk_42 (dk_at dksX6_dropFence_0 0 rfl rfl)
theorem dX6_dropFence_1 : decode cX6_dropFence 1 = .ok (.aload_n 0, 1) := dk_42 (dk_at dksX6_dropFence_0 1 rfl rfl)
theorem dX6_dropFence_2 : decode cX6_dropFence 2 = .ok (.aload_n 0, 1) := dk_42 (dk_at dksX6_dropFence_0 2 rfl rfl)
theorem dX6_dropFence_3 : decode cX6_dropFence 3 = .ok (.iload_n 1, 1) := dk_27 (dk_at dksX6_dropFence_0 3 rfl rfl)
theorem dX6_dropFence_4 : decode cX6_dropFence 4 = .ok (.iload_n 2, 1) := dk_28 (dk_at dksX6_dropFence_0 4 rfl rfl)
theorem dX6_dropFence_5 : decode cX6_dropFence 5 = .ok (.invokevirtual 89, 3) := dk_182 0 89 (dk_at dksX6_dropFence_0 5 rfl rfl)
theorem dX6_dropFence_8 : decode cX6_dropFence 8 = .ok (.invokevirtual 186, 3) := dk_182 0 186 (dk_at dksX6_dropFence_0 8 rfl rfl)
theorem dX6_dropFence_11 : decode cX6_dropFence 11 = .ok (.invokevirtual 467, 3) := dk_182 1 211 (dk_at dksX6_dropFence_0 11 rfl rfl)
theorem dX6_dropFence_14 : decode cX6_dropFence 14 = .ok (.ifCond .eq 16, 3) := dk_153 0 16 (dk_at dksX6_dropFence_0 14 rfl rfl)
theorem dX6_dropFence_17 : decode cX6_dropFence 17 = .ok (.aload_n 0, 1) := dk_42 (dk_at dksX6_dropFence_0 17 rfl rfl)
theorem dX6_dropFence_18 : decode cX6_dropFence 18 = .ok (.aload_n 0, 1) := dk_42 (dk_at dksX6_dropFence_0 18 rfl rfl)
theorem dX6_dropFence_19 : decode cX6_dropFence 19 = .ok (.iload_n 1, 1) := dk_27 (dk_at dksX6_dropFence_0 19 rfl rfl)
theorem dX6_dropFence_20 : decode cX6_dropFence 20 = .ok (.iload_n 2, 1) := dk_28 (dk_at dksX6_dropFence_0 20 rfl rfl)
theorem dX6_dropFence_21 : decode cX6_dropFence 21 = .ok (.invokevirtual 354, 3) := dk_182 1 98 (dk_at dksX6_dropFence_0 21 rfl rfl)
theorem dX6_dropFence_24 : decode cX6_dropFence 24 = .ok (.invokevirtual 470, 3) := dk_182 1 214 (dk_at dksX6_dropFence_1 0 rfl rfl)
theorem dX6_dropFence_27 : decode cX6_dropFence 27 = .ok (.goto 4, 3) := dk_167 0 4 (dk_at dksX6_dropFence_1 3 rfl rfl)
theorem dX6_dropFence_30 : decode cX6_dropFence 30 = .ok (.iconst 0, 1) := dk_3 (dk_at dksX6_dropFence_1 6 rfl rfl)
theorem dX6_dropFence_31 : decode cX6_dropFence 31 = .ok (.ireturn, 1) := dk_172 (dk_at dksX6_dropFence_1 7 rfl rfl)
def dkwX6_pave_1 : List UInt8 := [182, 1, 214, 167, 0, 4, 3, 172]
abbrev dktX6_pave_1 : List UInt8 := dkwX6_pave_1 ++ []
def dkwX6_pave_0 : List UInt8 := [42, 42, 42, 27, 28, 182, 0, 89, 182, 0, 186, 182, 1, 211, 153, 0, 16, 42, 42, 27, 28, 182, 1, 101]
abbrev dktX6_pave_0 : List UInt8 := dkwX6_pave_0 ++ dktX6_pave_1
theorem dksX6_pave_0 : cX6_pave.data.toList.drop 0 = dktX6_pave_0 := by decide +kernel
theorem dksX6_pave_1 : cX6_pave.data.toList.drop 24 = dktX6_pave_1 := dk_seg dksX6_pave_0 24 rfl rfl
theorem dX6_pave_0 : decode cX6_pave 0 = .ok (.aload_n 0, 1) := dk_42 (dk_at dksX6_pave_0 0 rfl rfl)
theorem dX6_pave_1 : decode cX6_pave 1 = .ok (.aload_n 0, 1) := dk_42 (dk_at dksX6_pave_0 1 rfl rfl)
theorem dX6_pave_2 : decode cX6_pave 2 = .ok (.aload_n 0, 1) := dk_42 (dk_at dksX6_pave_0 2 rfl rfl)
theorem dX6_pave_3 : decode cX6_pave 3 = .ok (.iload_n 1, 1) := dk_27 (dk_at dksX6_pave_0 3 rfl rfl)
theorem dX6_pave_4 : decode cX6_pave 4 = .ok (.iload_n 2, 1) := dk_28 (dk_at dksX6_pave_0 4 rfl rfl)
theorem dX6_pave_5 : decode cX6_pave 5 = .ok (.invokevirtual 89, 3) := dk_182 0 89 (dk_at dksX6_pave_0 5 rfl rfl)
theorem dX6_pave_8 : decode cX6_pave 8 = .ok (.invokevirtual 186, 3) := dk_182 0 186 (dk_at dksX6_pave_0 8 rfl rfl)
theorem dX6_pave_11 : decode cX6_pave 11 = .ok (.invokevirtual 467, 3) := dk_182 1 211 (dk_at dksX6_pave_0 11 rfl rfl)
theorem dX6_pave_14 : decode cX6_pave 14 = .ok (.ifCond .eq 16, 3) := dk_153 0 16 (dk_at dksX6_pave_0 14 rfl rfl)
theorem dX6_pave_17 : decode cX6_pave 17 = .ok (.aload_n 0, 1) := dk_42 (dk_at dksX6_pave_0 17 rfl rfl)
theorem dX6_pave_18 : decode cX6_pave 18 = .ok (.aload_n 0, 1) := dk_42 (dk_at dksX6_pave_0 18 rfl rfl)
theorem dX6_pave_19 : decode cX6_pave 19 = .ok (.iload_n 1, 1) := dk_27 (dk_at dksX6_pave_0 19 rfl rfl)
theorem dX6_pave_20 : decode cX6_pave 20 = .ok (.iload_n 2, 1) := dk_28 (dk_at dksX6_pave_0 20 rfl rfl)
theorem dX6_pave_21 : decode cX6_pave 21 = .ok (.invokevirtual 357, 3) := dk_182 1 101 (dk_at dksX6_pave_0 21 rfl rfl)
theorem dX6_pave_24 : decode cX6_pave 24 = .ok (.invokevirtual 470, 3) := dk_182 1 214 (dk_at dksX6_pave_1 0 rfl rfl)
theorem dX6_pave_27 : decode cX6_pave 27 = .ok (.goto 4, 3) := dk_167 0 4 (dk_at dksX6_pave_1 3 rfl rfl)
theorem dX6_pave_30 : decode cX6_pave 30 = .ok (.iconst 0, 1) := dk_3 (dk_at dksX6_pave_1 6 rfl rfl)
theorem dX6_pave_31 : decode cX6_pave 31 = .ok (.ireturn, 1) := dk_172 (dk_at dksX6_pave_1 7 rfl rfl)
def dkwX6_sow_1 : List UInt8 := [182, 1, 214, 167, 0, 4, 3, 172]
abbrev dktX6_sow_1 : List UInt8 := dkwX6_sow_1 ++ []
def dkwX6_sow_0 : List UInt8 := [42, 42, 42, 27, 28, 182, 0, 89, 182, 0, 186, 182, 1, 211, 153, 0, 16, 42, 42, 27, 28, 182, 1, 104]
abbrev dktX6_sow_0 : List UInt8 := dkwX6_sow_0 ++ dktX6_sow_1
theorem dksX6_sow_0 : cX6_sow.data.toList.drop 0 = dktX6_sow_0 := by decide +kernel
theorem dksX6_sow_1 : cX6_sow.data.toList.drop 24 = dktX6_sow_1 := dk_seg dksX6_sow_0 24 rfl rfl
theorem dX6_sow_0 : decode cX6_sow 0 = .ok (.aload_n 0, 1) := dk_42 (dk_at dksX6_sow_0 0 rfl rfl)
theorem dX6_sow_1 : decode cX6_sow 1 = .ok (.aload_n 0, 1) := dk_42 (dk_at dksX6_sow_0 1 rfl rfl)
theorem dX6_sow_2 : decode cX6_sow 2 = .ok (.aload_n 0, 1) := dk_42 (dk_at dksX6_sow_0 2 rfl rfl)
theorem dX6_sow_3 : decode cX6_sow 3 = .ok (.iload_n 1, 1) := dk_27 (dk_at dksX6_sow_0 3 rfl rfl)
theorem dX6_sow_4 : decode cX6_sow 4 = .ok (.iload_n 2, 1) := dk_28 (dk_at dksX6_sow_0 4 rfl rfl)
theorem dX6_sow_5 : decode cX6_sow 5 = .ok (.invokevirtual 89, 3) := dk_182 0 89 (dk_at dksX6_sow_0 5 rfl rfl)
theorem dX6_sow_8 : decode cX6_sow 8 = .ok (.invokevirtual 186, 3) := dk_182 0 186 (dk_at dksX6_sow_0 8 rfl rfl)
theorem dX6_sow_11 : decode cX6_sow 11 = .ok (.invokevirtual 467, 3) := dk_182 1 211 (dk_at dksX6_sow_0 11 rfl rfl)
theorem dX6_sow_14 : decode cX6_sow 14 = .ok (.ifCond .eq 16, 3) := dk_153 0 16 (dk_at dksX6_sow_0 14 rfl rfl)
theorem dX6_sow_17 : decode cX6_sow 17 = .ok (.aload_n 0, 1) := dk_42 (dk_at dksX6_sow_0 17 rfl rfl)
theorem dX6_sow_18 : decode cX6_sow 18 = .ok (.aload_n 0, 1) := dk_42 (dk_at dksX6_sow_0 18 rfl rfl)
theorem dX6_sow_19 : decode cX6_sow 19 = .ok (.iload_n 1, 1) := dk_27 (dk_at dksX6_sow_0 19 rfl rfl)
theorem dX6_sow_20 : decode cX6_sow 20 = .ok (.iload_n 2, 1) := dk_28 (dk_at dksX6_sow_0 20 rfl rfl)
theorem dX6_sow_21 : decode cX6_sow 21 = .ok (.invokevirtual 360, 3) := dk_182 1 104 (dk_at dksX6_sow_0 21 rfl rfl)
theorem dX6_sow_24 : decode cX6_sow 24 = .ok (.invokevirtual 470, 3) := dk_182 1 214 (dk_at dksX6_sow_1 0 rfl rfl)
theorem dX6_sow_27 : decode cX6_sow 27 = .ok (.goto 4, 3) := dk_167 0 4 (dk_at dksX6_sow_1 3 rfl rfl)
theorem dX6_sow_30 : decode cX6_sow 30 = .ok (.iconst 0, 1) := dk_3 (dk_at dksX6_sow_1 6 rfl rfl)
theorem dX6_sow_31 : decode cX6_sow 31 = .ok (.ireturn, 1) := dk_172 (dk_at dksX6_sow_1 7 rfl rfl)
def dkwX6_setHaste_1 : List UInt8 := [153, 0, 16, 42, 42, 27, 28, 182, 1, 107, 182, 1, 214, 167, 0, 4, 3, 172]
abbrev dktX6_setHaste_1 : List UInt8 := dkwX6_setHaste_1 ++ []
def dkwX6_setHaste_0 : List UInt8 := [42, 42, 42, 27, 182, 1, 157, 28, 133, 9, 20, 1, 209, 184, 0, 68, 182, 1, 142, 182, 1, 211]
abbrev dktX6_setHaste_0 : List UInt8 := dkwX6_setHaste_0 ++ dktX6_setHaste_1
theorem dksX6_setHaste_0 : cX6_setHaste.data.toList.drop 0 = dktX6_setHaste_0 := by decide +kernel
theorem dksX6_setHaste_1 : cX6_setHaste.data.toList.drop 22 = dktX6_setHaste_1 := dk_seg dksX6_setHaste_0 22 rfl rfl
theorem dX6_setHaste_0 : decode cX6_setHaste 0 = .ok (.aload_n 0, 1) := dk_42 (dk_at dksX6_setHaste_0 0 rfl rfl)
theorem dX6_setHaste_1 : decode cX6_setHaste 1 = .ok (.aload_n 0, 1) := dk_42 (dk_at dksX6_setHaste_0 1 rfl rfl)
theorem dX6_setHaste_2 : decode cX6_setHaste 2 = .ok (.aload_n 0, 1) := dk_42 (dk_at dksX6_setHaste_0 2 rfl rfl)
theorem dX6_setHaste_3 : decode cX6_setHaste 3 = .ok (.iload_n 1, 1) := dk_27 (dk_at dksX6_setHaste_0 3 rfl rfl)
theorem dX6_setHaste_4 : decode cX6_setHaste 4 = .ok (.invokevirtual 413, 3) := dk_182 1 157 (dk_at dksX6_setHaste_0 4 rfl rfl)
theorem dX6_setHaste_7 : decode cX6_setHaste 7 = .ok (.iload_n 2, 1) := dk_28 (dk_at dksX6_setHaste_0 7 rfl rfl)
theorem dX6_setHaste_8 : decode cX6_setHaste 8 = .ok (.i2l, 1) := dk_133 (dk_at dksX6_setHaste_0 8 rfl rfl)
theorem dX6_setHaste_9 : decode cX6_setHaste 9 = .ok (.lconst 0, 1) := dk_9 (dk_at dksX6_setHaste_0 9 rfl rfl)
theorem dX6_setHaste_10 : decode cX6_setHaste 10 = .ok (.ldc2_w 465, 3) := dk_20 1 209 (dk_at dksX6_setHaste_0 10 rfl rfl)
theorem dX6_setHaste_13 : decode cX6_setHaste 13 = .ok (.invokestatic 68, 3) := dk_184 0 68 (dk_at dksX6_setHaste_0 13 rfl rfl)
theorem dX6_setHaste_16 : decode cX6_setHaste 16 = .ok (.invokevirtual 398, 3) := dk_182 1 142 (dk_at dksX6_setHaste_0 16 rfl rfl)
theorem dX6_setHaste_19 : decode cX6_setHaste 19 = .ok (.invokevirtual 467, 3) := dk_182 1 211 (dk_at dksX6_setHaste_0 19 rfl rfl)
theorem dX6_setHaste_22 : decode cX6_setHaste 22 = .ok (.ifCond .eq 16, 3) := dk_153 0 16 (dk_at dksX6_setHaste_1 0 rfl rfl)
theorem dX6_setHaste_25 : decode cX6_setHaste 25 = .ok (.aload_n 0, 1) := dk_42 (dk_at dksX6_setHaste_1 3 rfl rfl)
theorem dX6_setHaste_26 : decode cX6_setHaste 26 = .ok (.aload_n 0, 1) := dk_42 (dk_at dksX6_setHaste_1 4 rfl rfl)
theorem dX6_setHaste_27 : decode cX6_setHaste 27 = .ok (.iload_n 1, 1) := dk_27 (dk_at dksX6_setHaste_1 5 rfl rfl)
theorem dX6_setHaste_28 : decode cX6_setHaste 28 = .ok (.iload_n 2, 1) := dk_28 (dk_at dksX6_setHaste_1 6 rfl rfl)
theorem dX6_setHaste_29 : decode cX6_setHaste 29 = .ok (.invokevirtual 363, 3) := dk_182 1 107 (dk_at dksX6_setHaste_1 7 rfl rfl)
theorem dX6_setHaste_32 : decode cX6_setHaste 32 = .ok (.invokevirtual 470, 3) := dk_182 1 214 (dk_at dksX6_setHaste_1 10 rfl rfl)
theorem dX6_setHaste_35 : decode cX6_setHaste 35 = .ok (.goto 4, 3) := dk_167 0 4 (dk_at dksX6_setHaste_1 13 rfl rfl)
theorem dX6_setHaste_38 : decode cX6_setHaste 38 = .ok (.iconst 0, 1) := dk_3 (dk_at dksX6_setHaste_1 16 rfl rfl)
theorem dX6_setHaste_39 : decode cX6_setHaste 39 = .ok (.ireturn, 1) := dk_172 (dk_at dksX6_setHaste_1 17 rfl rfl)
def dkwX6_turnRound_1 : List UInt8 := [182, 1, 214, 167, 0, 4, 3, 172]
abbrev dktX6_turnRound_1 : List UInt8 := dkwX6_turnRound_1 ++ []
def dkwX6_turnRound_0 : List UInt8 := [42, 42, 42, 27, 182, 1, 157, 182, 0, 186, 182, 1, 211, 153, 0, 15, 42, 42, 27, 182, 1, 110]
abbrev dktX6_turnRound_0 : List UInt8 := dkwX6_turnRound_0 ++ dktX6_turnRound_1
theorem dksX6_turnRound_0 : cX6_turnRound.data.toList.drop 0 = dktX6_turnRound_0 := by decide +kernel
theorem dksX6_turnRound_1 : cX6_turnRound.data.toList.drop 22 = dktX6_turnRound_1 := dk_seg dksX6_turnRound_0 22 rfl rfl
theorem dX6_turnRound_0 : decode cX6_turnRound 0 = .ok (.aload_n 0, 1) := dk_42 (dk_at dksX6_turnRound_0 0 rfl rfl)
theorem dX6_turnRound_1 : decode cX6_turnRound 1 = .ok (.aload_n 0, 1) := dk_42 (dk_at dksX6_turnRound_0 1 rfl rfl)
theorem dX6_turnRound_2 : decode cX6_turnRound 2 = .ok (.aload_n 0, 1) := dk_42 (dk_at dksX6_turnRound_0 2 rfl rfl)
theorem dX6_turnRound_3 : decode cX6_turnRound 3 = .ok (.iload_n 1, 1) := dk_27 (dk_at dksX6_turnRound_0 3 rfl rfl)
theorem dX6_turnRound_4 : decode cX6_turnRound 4 = .ok (.invokevirtual 413, 3) := dk_182 1 157 (dk_at dksX6_turnRound_0 4 rfl rfl)
theorem dX6_turnRound_7 : decode cX6_turnRound 7 = .ok (.invokevirtual 186, 3) := dk_182 0 186 (dk_at dksX6_turnRound_0 7 rfl rfl)
theorem dX6_turnRound_10 : decode cX6_turnRound 10 = .ok (.invokevirtual 467, 3) := dk_182 1 211 (dk_at dksX6_turnRound_0 10 rfl rfl)
theorem dX6_turnRound_13 : decode cX6_turnRound 13 = .ok (.ifCond .eq 15, 3) := dk_153 0 15 (dk_at dksX6_turnRound_0 13 rfl rfl)
theorem dX6_turnRound_16 : decode cX6_turnRound 16 = .ok (.aload_n 0, 1) := dk_42 (dk_at dksX6_turnRound_0 16 rfl rfl)
theorem dX6_turnRound_17 : decode cX6_turnRound 17 = .ok (.aload_n 0, 1) := dk_42 (dk_at dksX6_turnRound_0 17 rfl rfl)
theorem dX6_turnRound_18 : decode cX6_turnRound 18 = .ok (.iload_n 1, 1) := dk_27 (dk_at dksX6_turnRound_0 18 rfl rfl)
theorem dX6_turnRound_19 : decode cX6_turnRound 19 = .ok (.invokevirtual 366, 3) := dk_182 1 110 (dk_at dksX6_turnRound_0 19 rfl rfl)
theorem dX6_turnRound_22 : decode cX6_turnRound 22 = .ok (.invokevirtual 470, 3) := dk_182 1 214 (dk_at dksX6_turnRound_1 0 rfl rfl)
theorem dX6_turnRound_25 : decode cX6_turnRound 25 = .ok (.goto 4, 3) := dk_167 0 4 (dk_at dksX6_turnRound_1 3 rfl rfl)
theorem dX6_turnRound_28 : decode cX6_turnRound 28 = .ok (.iconst 0, 1) := dk_3 (dk_at dksX6_turnRound_1 6 rfl rfl)
theorem dX6_turnRound_29 : decode cX6_turnRound 29 = .ok (.ireturn, 1) := dk_172 (dk_at dksX6_turnRound_1 7 rfl rfl)
def dkwX6_writeLawn_2 : List UInt8 := [132, 1, 1, 167, 255, 218, 42, 180, 1, 217, 172]
abbrev dktX6_writeLawn_2 : List UInt8 := dkwX6_writeLawn_2 ++ []
def dkwX6_writeLawn_1 : List UInt8 := [42, 27, 182, 0, 76, 154, 0, 9, 42, 16, 47, 182, 1, 220, 42, 42, 27, 182, 1, 223, 182, 1, 220]
abbrev dktX6_writeLawn_1 : List UInt8 := dkwX6_writeLawn_1 ++ dktX6_writeLawn_2
def dkwX6_writeLawn_0 : List UInt8 := [42, 3, 181, 0, 61, 42, 3, 181, 1, 217, 3, 60, 27, 42, 182, 0, 117, 162, 0, 36, 27, 158, 0, 17]
abbrev dktX6_writeLawn_0 : List UInt8 := dkwX6_writeLawn_0 ++ dktX6_writeLawn_1
theorem dksX6_writeLawn_0 : cX6_writeLawn.data.toList.drop 0 = dktX6_writeLawn_0 := by decide +kernel
theorem dksX6_writeLawn_1 : cX6_writeLawn.data.toList.drop 24 = dktX6_writeLawn_1 := dk_seg dksX6_writeLawn_0 24 rfl rfl
theorem dksX6_writeLawn_2 : cX6_writeLawn.data.toList.drop 47 = dktX6_writeLawn_2 := dk_seg dksX6_writeLawn_1 23 rfl rfl
theorem dX6_writeLawn_0 : decode cX6_writeLawn 0 = .ok (.aload_n 0, 1) := dk_42 (dk_at dksX6_writeLawn_0 0 rfl rfl)
theorem dX6_writeLawn_1 : decode cX6_writeLawn 1 = .ok (.iconst 0, 1) := dk_3 (dk_at dksX6_writeLawn_0 1 rfl rfl)
theorem dX6_writeLawn_2 : decode cX6_writeLawn 2 = .ok (.putfield 61, 3) := dk_181 0 61 (dk_at dksX6_writeLawn_0 2 rfl rfl)
theorem dX6_writeLawn_5 : decode cX6_writeLawn 5 = .ok (.aload_n 0, 1) := dk_42 (dk_at dksX6_writeLawn_0 5 rfl rfl)
theorem dX6_writeLawn_6 : decode cX6_writeLawn 6 = .ok (.iconst 0, 1) := dk_3 (dk_at dksX6_writeLawn_0 6 rfl rfl)
theorem dX6_writeLawn_7 : decode cX6_writeLawn 7 = .ok (.putfield 473, 3) := dk_181 1 217 (dk_at dksX6_writeLawn_0 7 rfl rfl)
theorem dX6_writeLawn_10 : decode cX6_writeLawn 10 = .ok (.iconst 0, 1) := dk_3 (dk_at dksX6_writeLawn_0 10 rfl rfl)
theorem dX6_writeLawn_11 : decode cX6_writeLawn 11 = .ok (.istore_n 1, 1) := dk_60 (dk_at dksX6_writeLawn_0 11 rfl rfl)
theorem dX6_writeLawn_12 : decode cX6_writeLawn 12 = .ok (.iload_n 1, 1) := dk_27 (dk_at dksX6_writeLawn_0 12 rfl rfl)
theorem dX6_writeLawn_13 : decode cX6_writeLawn 13 = .ok (.aload_n 0, 1) := dk_42 (dk_at dksX6_writeLawn_0 13 rfl rfl)
theorem dX6_writeLawn_14 : decode cX6_writeLawn 14 = .ok (.invokevirtual 117, 3) := dk_182 0 117 (dk_at dksX6_writeLawn_0 14 rfl rfl)
theorem dX6_writeLawn_17 : decode cX6_writeLawn 17 = .ok (.if_icmp .ge 36, 3) := dk_162 0 36 (dk_at dksX6_writeLawn_0 17 rfl rfl)
theorem dX6_writeLawn_20 : decode cX6_writeLawn 20 = .ok (.iload_n 1, 1) := dk_27 (dk_at dksX6_writeLawn_0 20 rfl rfl)
theorem dX6_writeLawn_21 : decode cX6_writeLawn 21 = .ok (.ifCond .le 17, 3) := dk_158 0 17 (dk_at dksX6_writeLawn_0 21 rfl rfl)
theorem dX6_writeLawn_24 : decode cX6_writeLawn 24 = .ok (.aload_n 0, 1) := dk_42 (dk_at dksX6_writeLawn_1 0 rfl rfl)
theorem dX6_writeLawn_25 : decode cX6_writeLawn 25 = .ok (.iload_n 1, 1) := dk_27 (dk_at dksX6_writeLawn_1 1 rfl rfl)
theorem dX6_writeLawn_26 : decode cX6_writeLawn 26 = .ok (.invokevirtual 76, 3) := dk_182 0 76 (dk_at dksX6_writeLawn_1 2 rfl rfl)
theorem dX6_writeLawn_29 : decode cX6_writeLawn 29 = .ok (.ifCond .ne 9, 3) := dk_154 0 9 (dk_at dksX6_writeLawn_1 5 rfl rfl)
theorem dX6_writeLawn_32 : decode cX6_writeLawn 32 = .ok (.aload_n 0, 1) := dk_42 (dk_at dksX6_writeLawn_1 8 rfl rfl)
theorem dX6_writeLawn_33 : decode cX6_writeLawn 33 = .ok (.bipush 47, 2) := dk_16 47 (dk_at dksX6_writeLawn_1 9 rfl rfl)
theorem dX6_writeLawn_35 : decode cX6_writeLawn 35 = .ok (.invokevirtual 476, 3) := dk_182 1 220 (dk_at dksX6_writeLawn_1 11 rfl rfl)
theorem dX6_writeLawn_38 : decode cX6_writeLawn 38 = .ok (.aload_n 0, 1) := dk_42 (dk_at dksX6_writeLawn_1 14 rfl rfl)
theorem dX6_writeLawn_39 : decode cX6_writeLawn 39 = .ok (.aload_n 0, 1) := dk_42 (dk_at dksX6_writeLawn_1 15 rfl rfl)
theorem dX6_writeLawn_40 : decode cX6_writeLawn 40 = .ok (.iload_n 1, 1) := dk_27 (dk_at dksX6_writeLawn_1 16 rfl rfl)
theorem dX6_writeLawn_41 : decode cX6_writeLawn 41 = .ok (.invokevirtual 479, 3) := dk_182 1 223 (dk_at dksX6_writeLawn_1 17 rfl rfl)
theorem dX6_writeLawn_44 : decode cX6_writeLawn 44 = .ok (.invokevirtual 476, 3) := dk_182 1 220 (dk_at dksX6_writeLawn_1 20 rfl rfl)
theorem dX6_writeLawn_47 : decode cX6_writeLawn 47 = .ok (.iinc 1 1, 3) := dk_132 1 1 (dk_at dksX6_writeLawn_2 0 rfl rfl)
theorem dX6_writeLawn_50 : decode cX6_writeLawn 50 = .ok (.goto (-38), 3) := dk_167 255 218 (dk_at dksX6_writeLawn_2 3 rfl rfl)
theorem dX6_writeLawn_53 : decode cX6_writeLawn 53 = .ok (.aload_n 0, 1) := dk_42 (dk_at dksX6_writeLawn_2 6 rfl rfl)
theorem dX6_writeLawn_54 : decode cX6_writeLawn 54 = .ok (.getfield 473, 3) := dk_180 1 217 (dk_at dksX6_writeLawn_2 7 rfl rfl)
theorem dX6_writeLawn_57 : decode cX6_writeLawn 57 = .ok (.ireturn, 1) := dk_172 (dk_at dksX6_writeLawn_2 10 rfl rfl)
def dkwX6_writes_0 : List UInt8 := [42, 180, 0, 41, 42, 180, 1, 217, 27, 79, 42, 89, 180, 1, 217, 4, 96, 181, 1, 217, 177]
abbrev dktX6_writes_0 : List UInt8 := dkwX6_writes_0 ++ []
theorem dksX6_writes_0 : cX6_writes.data.toList.drop 0 = dktX6_writes_0 := by decide +kernel
theorem dX6_writes_0 : decode cX6_writes 0 = .ok (.aload_n 0, 1) := dk_42 (dk_at dksX6_writes_0 0 rfl rfl)
theorem dX6_writes_1 : decode cX6_writes 1 = .ok (.getfield 41, 3) := dk_180 0 41 (dk_at dksX6_writes_0 1 rfl rfl)
theorem dX6_writes_4 : decode cX6_writes 4 = .ok (.aload_n 0, 1) := dk_42 (dk_at dksX6_writes_0 4 rfl rfl)
theorem dX6_writes_5 : decode cX6_writes 5 = .ok (.getfield 473, 3) := dk_180 1 217 (dk_at dksX6_writes_0 5 rfl rfl)
theorem dX6_writes_8 : decode cX6_writes 8 = .ok (.iload_n 1, 1) := dk_27 (dk_at dksX6_writes_0 8 rfl rfl)
theorem dX6_writes_9 : decode cX6_writes 9 = .ok (.iastore, 1) := dk_79 (dk_at dksX6_writes_0 9 rfl rfl)
theorem dX6_writes_10 : decode cX6_writes 10 = .ok (.aload_n 0, 1) := dk_42 (dk_at dksX6_writes_0 10 rfl rfl)
theorem dX6_writes_11 : decode cX6_writes 11 = .ok (.dup, 1) := dk_89 (dk_at dksX6_writes_0 11 rfl rfl)
theorem dX6_writes_12 : decode cX6_writes 12 = .ok (.getfield 473, 3) := dk_180 1 217 (dk_at dksX6_writes_0 12 rfl rfl)
theorem dX6_writes_15 : decode cX6_writes 15 = .ok (.iconst 1, 1) := dk_4 (dk_at dksX6_writes_0 15 rfl rfl)
theorem dX6_writes_16 : decode cX6_writes 16 = .ok (.iadd, 1) := dk_96 (dk_at dksX6_writes_0 16 rfl rfl)
theorem dX6_writes_17 : decode cX6_writes 17 = .ok (.putfield 473, 3) := dk_181 1 217 (dk_at dksX6_writes_0 17 rfl rfl)
theorem dX6_writes_20 : decode cX6_writes 20 = .ok (.return_, 1) := dk_177 (dk_at dksX6_writes_0 20 rfl rfl)
def dkwX6_markOf_2 : List UInt8 := [96, 172]
abbrev dktX6_markOf_2 : List UInt8 := dkwX6_markOf_2 ++ []
def dkwX6_markOf_1 : List UInt8 := [16, 83, 172, 42, 27, 182, 0, 97, 153, 0, 8, 16, 70, 167, 0, 12, 16, 48, 42, 27, 4, 182, 0, 86]
abbrev dktX6_markOf_1 : List UInt8 := dkwX6_markOf_1 ++ dktX6_markOf_2
def dkwX6_markOf_0 : List UInt8 := [42, 27, 182, 0, 93, 154, 0, 21, 42, 27, 3, 182, 0, 86, 5, 160, 0, 8, 16, 71, 167, 0, 5]
abbrev dktX6_markOf_0 : List UInt8 := dkwX6_markOf_0 ++ dktX6_markOf_1
theorem dksX6_markOf_0 : cX6_markOf.data.toList.drop 0 = dktX6_markOf_0 := by decide +kernel
theorem dksX6_markOf_1 : cX6_markOf.data.toList.drop 23 = dktX6_markOf_1 := dk_seg dksX6_markOf_0 23 rfl rfl
theorem dksX6_markOf_2 : cX6_markOf.data.toList.drop 47 = dktX6_markOf_2 := dk_seg dksX6_markOf_1 24 rfl rfl
theorem dX6_markOf_0 : decode cX6_markOf 0 = .ok (.aload_n 0, 1) := dk_42 (dk_at dksX6_markOf_0 0 rfl rfl)
theorem dX6_markOf_1 : decode cX6_markOf 1 = .ok (.iload_n 1, 1) := dk_27 (dk_at dksX6_markOf_0 1 rfl rfl)
theorem dX6_markOf_2 : decode cX6_markOf 2 = .ok (.invokevirtual 93, 3) := dk_182 0 93 (dk_at dksX6_markOf_0 2 rfl rfl)
theorem dX6_markOf_5 : decode cX6_markOf 5 = .ok (.ifCond .ne 21, 3) := dk_154 0 21 (dk_at dksX6_markOf_0 5 rfl rfl)
theorem dX6_markOf_8 : decode cX6_markOf 8 = .ok (.aload_n 0, 1) := dk_42 (dk_at dksX6_markOf_0 8 rfl rfl)
theorem dX6_markOf_9 : decode cX6_markOf 9 = .ok (.iload_n 1, 1) := dk_27 (dk_at dksX6_markOf_0 9 rfl rfl)
theorem dX6_markOf_10 : decode cX6_markOf 10 = .ok (.iconst 0, 1) := dk_3 (dk_at dksX6_markOf_0 10 rfl rfl)
theorem dX6_markOf_11 : decode cX6_markOf 11 = .ok (.invokevirtual 86, 3) := dk_182 0 86 (dk_at dksX6_markOf_0 11 rfl rfl)
theorem dX6_markOf_14 : decode cX6_markOf 14 = .ok (.iconst 2, 1) := dk_5 (dk_at dksX6_markOf_0 14 rfl rfl)
theorem dX6_markOf_15 : decode cX6_markOf 15 = .ok (.if_icmp .ne 8, 3) := dk_160 0 8 (dk_at dksX6_markOf_0 15 rfl rfl)
theorem dX6_markOf_18 : decode cX6_markOf 18 = .ok (.bipush 71, 2) := dk_16 71 (dk_at dksX6_markOf_0 18 rfl rfl)
theorem dX6_markOf_20 : decode cX6_markOf 20 = .ok (.goto 5, 3) := dk_167 0 5 (dk_at dksX6_markOf_0 20 rfl rfl)
theorem dX6_markOf_23 : decode cX6_markOf 23 = .ok (.bipush 83, 2) := dk_16 83 (dk_at dksX6_markOf_1 0 rfl rfl)
theorem dX6_markOf_25 : decode cX6_markOf 25 = .ok (.ireturn, 1) := dk_172 (dk_at dksX6_markOf_1 2 rfl rfl)
theorem dX6_markOf_26 : decode cX6_markOf 26 = .ok (.aload_n 0, 1) := dk_42 (dk_at dksX6_markOf_1 3 rfl rfl)
theorem dX6_markOf_27 : decode cX6_markOf 27 = .ok (.iload_n 1, 1) := dk_27 (dk_at dksX6_markOf_1 4 rfl rfl)
theorem dX6_markOf_28 : decode cX6_markOf 28 = .ok (.invokevirtual 97, 3) := dk_182 0 97 (dk_at dksX6_markOf_1 5 rfl rfl)
theorem dX6_markOf_31 : decode cX6_markOf 31 = .ok (.ifCond .eq 8, 3) := dk_153 0 8 (dk_at dksX6_markOf_1 8 rfl rfl)
theorem dX6_markOf_34 : decode cX6_markOf 34 = .ok (.bipush 70, 2) := dk_16 70 (dk_at dksX6_markOf_1 11 rfl rfl)
theorem dX6_markOf_36 : decode cX6_markOf 36 = .ok (.goto 12, 3) := dk_167 0 12 (dk_at dksX6_markOf_1 13 rfl rfl)
theorem dX6_markOf_39 : decode cX6_markOf 39 = .ok (.bipush 48, 2) := dk_16 48 (dk_at dksX6_markOf_1 16 rfl rfl)
theorem dX6_markOf_41 : decode cX6_markOf 41 = .ok (.aload_n 0, 1) := dk_42 (dk_at dksX6_markOf_1 18 rfl rfl)
theorem dX6_markOf_42 : decode cX6_markOf 42 = .ok (.iload_n 1, 1) := dk_27 (dk_at dksX6_markOf_1 19 rfl rfl)
theorem dX6_markOf_43 : decode cX6_markOf 43 = .ok (.iconst 1, 1) := dk_4 (dk_at dksX6_markOf_1 20 rfl rfl)
theorem dX6_markOf_44 : decode cX6_markOf 44 = .ok (.invokevirtual 86, 3) := dk_182 0 86 (dk_at dksX6_markOf_1 21 rfl rfl)
theorem dX6_markOf_47 : decode cX6_markOf 47 = .ok (.iadd, 1) := dk_96 (dk_at dksX6_markOf_2 0 rfl rfl)
theorem dX6_markOf_48 : decode cX6_markOf 48 = .ok (.ireturn, 1) := dk_172 (dk_at dksX6_markOf_2 1 rfl rfl)
def dkwX6_writeWay_3 : List UInt8 := [184, 1, 226, 182, 1, 220, 132, 3, 1, 167, 255, 204, 42, 180, 1, 217, 172]
abbrev dktX6_writeWay_3 : List UInt8 := dkwX6_writeWay_3 ++ []
def dkwX6_writeWay_2 : List UInt8 := [46, 21, 4, 182, 0, 106, 42, 180, 0, 28, 29, 46, 159, 0, 9, 132, 4, 1, 167, 255, 230, 42, 21, 4]
abbrev dktX6_writeWay_2 : List UInt8 := dkwX6_writeWay_2 ++ dktX6_writeWay_3
def dkwX6_writeWay_1 : List UInt8 := [181, 1, 217, 4, 62, 29, 42, 180, 0, 127, 162, 0, 50, 3, 54, 4, 42, 42, 180, 0, 28, 29, 4, 100]
abbrev dktX6_writeWay_1 : List UInt8 := dkwX6_writeWay_1 ++ dktX6_writeWay_2
def dkwX6_writeWay_0 : List UInt8 := [42, 42, 27, 182, 1, 157, 182, 0, 186, 154, 0, 5, 3, 172, 42, 27, 182, 0, 147, 61, 42, 3]
abbrev dktX6_writeWay_0 : List UInt8 := dkwX6_writeWay_0 ++ dktX6_writeWay_1
theorem dksX6_writeWay_0 : cX6_writeWay.data.toList.drop 0 = dktX6_writeWay_0 := by decide +kernel
theorem dksX6_writeWay_1 : cX6_writeWay.data.toList.drop 22 = dktX6_writeWay_1 := dk_seg dksX6_writeWay_0 22 rfl rfl
theorem dksX6_writeWay_2 : cX6_writeWay.data.toList.drop 46 = dktX6_writeWay_2 := dk_seg dksX6_writeWay_1 24 rfl rfl
theorem dksX6_writeWay_3 : cX6_writeWay.data.toList.drop 70 = dktX6_writeWay_3 := dk_seg dksX6_writeWay_2 24 rfl rfl
theorem dX6_writeWay_0 : decode cX6_writeWay 0 = .ok (.aload_n 0, 1) := dk_42 (dk_at dksX6_writeWay_0 0 rfl rfl)
theorem dX6_writeWay_1 : decode cX6_writeWay 1 = .ok (.aload_n 0, 1) := dk_42 (dk_at dksX6_writeWay_0 1 rfl rfl)
theorem dX6_writeWay_2 : decode cX6_writeWay 2 = .ok (.iload_n 1, 1) := dk_27 (dk_at dksX6_writeWay_0 2 rfl rfl)
theorem dX6_writeWay_3 : decode cX6_writeWay 3 = .ok (.invokevirtual 413, 3) := dk_182 1 157 (dk_at dksX6_writeWay_0 3 rfl rfl)
theorem dX6_writeWay_6 : decode cX6_writeWay 6 = .ok (.invokevirtual 186, 3) := dk_182 0 186 (dk_at dksX6_writeWay_0 6 rfl rfl)
theorem dX6_writeWay_9 : decode cX6_writeWay 9 = .ok (.ifCond .ne 5, 3) := dk_154 0 5 (dk_at dksX6_writeWay_0 9 rfl rfl)
theorem dX6_writeWay_12 : decode cX6_writeWay 12 = .ok (.iconst 0, 1) := dk_3 (dk_at dksX6_writeWay_0 12 rfl rfl)
theorem dX6_writeWay_13 : decode cX6_writeWay 13 = .ok (.ireturn, 1) := dk_172 (dk_at dksX6_writeWay_0 13 rfl rfl)
theorem dX6_writeWay_14 : decode cX6_writeWay 14 = .ok (.aload_n 0, 1) := dk_42 (dk_at dksX6_writeWay_0 14 rfl rfl)
theorem dX6_writeWay_15 : decode cX6_writeWay 15 = .ok (.iload_n 1, 1) := dk_27 (dk_at dksX6_writeWay_0 15 rfl rfl)
theorem dX6_writeWay_16 : decode cX6_writeWay 16 = .ok (.invokevirtual 147, 3) := dk_182 0 147 (dk_at dksX6_writeWay_0 16 rfl rfl)
theorem dX6_writeWay_19 : decode cX6_writeWay 19 = .ok (.istore_n 2, 1) := dk_61 (dk_at dksX6_writeWay_0 19 rfl rfl)
theorem dX6_writeWay_20 : decode cX6_writeWay 20 = .ok (.aload_n 0, 1) := dk_42 (dk_at dksX6_writeWay_0 20 rfl rfl)
theorem dX6_writeWay_21 : decode cX6_writeWay 21 = .ok (.iconst 0, 1) := dk_3 (dk_at dksX6_writeWay_0 21 rfl rfl)
theorem dX6_writeWay_22 : decode cX6_writeWay 22 = .ok (.putfield 473, 3) := dk_181 1 217 (dk_at dksX6_writeWay_1 0 rfl rfl)
theorem dX6_writeWay_25 : decode cX6_writeWay 25 = .ok (.iconst 1, 1) := dk_4 (dk_at dksX6_writeWay_1 3 rfl rfl)
theorem dX6_writeWay_26 : decode cX6_writeWay 26 = .ok (.istore_n 3, 1) := dk_62 (dk_at dksX6_writeWay_1 4 rfl rfl)
theorem dX6_writeWay_27 : decode cX6_writeWay 27 = .ok (.iload_n 3, 1) := dk_29 (dk_at dksX6_writeWay_1 5 rfl rfl)
theorem dX6_writeWay_28 : decode cX6_writeWay 28 = .ok (.aload_n 0, 1) := dk_42 (dk_at dksX6_writeWay_1 6 rfl rfl)
theorem dX6_writeWay_29 : decode cX6_writeWay 29 = .ok (.getfield 127, 3) := dk_180 0 127 (dk_at dksX6_writeWay_1 7 rfl rfl)
theorem dX6_writeWay_32 : decode cX6_writeWay 32 = .ok (.if_icmp .ge 50, 3) := dk_162 0 50 (dk_at dksX6_writeWay_1 10 rfl rfl)
theorem dX6_writeWay_35 : decode cX6_writeWay 35 = .ok (.iconst 0, 1) := dk_3 (dk_at dksX6_writeWay_1 13 rfl rfl)
theorem dX6_writeWay_36 : decode cX6_writeWay 36 = .ok (.istore 4, 2) := dk_54 4 (dk_at dksX6_writeWay_1 14 rfl rfl)
theorem dX6_writeWay_38 : decode cX6_writeWay 38 = .ok (.aload_n 0, 1) := dk_42 (dk_at dksX6_writeWay_1 16 rfl rfl)
theorem dX6_writeWay_39 : decode cX6_writeWay 39 = .ok (.aload_n 0, 1) := dk_42 (dk_at dksX6_writeWay_1 17 rfl rfl)
theorem dX6_writeWay_40 : decode cX6_writeWay 40 = .ok (.getfield 28, 3) := dk_180 0 28 (dk_at dksX6_writeWay_1 18 rfl rfl)
theorem dX6_writeWay_43 : decode cX6_writeWay 43 = .ok (.iload_n 3, 1) := dk_29 (dk_at dksX6_writeWay_1 21 rfl rfl)
theorem dX6_writeWay_44 : decode cX6_writeWay 44 = .ok (.iconst 1, 1) := dk_4 (dk_at dksX6_writeWay_1 22 rfl rfl)
theorem dX6_writeWay_45 : decode cX6_writeWay 45 = .ok (.isub, 1) := dk_100 (dk_at dksX6_writeWay_1 23 rfl rfl)
theorem dX6_writeWay_46 : decode cX6_writeWay 46 = .ok (.iaload, 1) := dk_46 (dk_at dksX6_writeWay_2 0 rfl rfl)
theorem dX6_writeWay_47 : decode cX6_writeWay 47 = .ok (.iload 4, 2) := dk_21 4 (dk_at dksX6_writeWay_2 1 rfl rfl)
theorem dX6_writeWay_49 : decode cX6_writeWay 49 = .ok (.invokevirtual 106, 3) := dk_182 0 106 (dk_at dksX6_writeWay_2 3 rfl rfl)
theorem dX6_writeWay_52 : decode cX6_writeWay 52 = .ok (.aload_n 0, 1) := dk_42 (dk_at dksX6_writeWay_2 6 rfl rfl)
theorem dX6_writeWay_53 : decode cX6_writeWay 53 = .ok (.getfield 28, 3) := dk_180 0 28 (dk_at dksX6_writeWay_2 7 rfl rfl)
theorem dX6_writeWay_56 : decode cX6_writeWay 56 = .ok (.iload_n 3, 1) := dk_29 (dk_at dksX6_writeWay_2 10 rfl rfl)
theorem dX6_writeWay_57 : decode cX6_writeWay 57 = .ok (.iaload, 1) := dk_46 (dk_at dksX6_writeWay_2 11 rfl rfl)
theorem dX6_writeWay_58 : decode cX6_writeWay 58 = .ok (.if_icmp .eq 9, 3) := dk_159 0 9 (dk_at dksX6_writeWay_2 12 rfl rfl)
theorem dX6_writeWay_61 : decode cX6_writeWay 61 = .ok (.iinc 4 1, 3) := dk_132 4 1 (dk_at dksX6_writeWay_2 15 rfl rfl)
theorem dX6_writeWay_64 : decode cX6_writeWay 64 = .ok (.goto (-26), 3) := dk_167 255 230 (dk_at dksX6_writeWay_2 18 rfl rfl)
theorem dX6_writeWay_67 : decode cX6_writeWay 67 = .ok (.aload_n 0, 1) := dk_42 (dk_at dksX6_writeWay_2 21 rfl rfl)
theorem dX6_writeWay_68 : decode cX6_writeWay 68 = .ok (.iload 4, 2) := dk_21 4 (dk_at dksX6_writeWay_2 22 rfl rfl)
theorem dX6_writeWay_70 : decode cX6_writeWay 70 = .ok (.invokestatic 482, 3) := dk_184 1 226 (dk_at dksX6_writeWay_3 0 rfl rfl)
theorem dX6_writeWay_73 : decode cX6_writeWay 73 = .ok (.invokevirtual 476, 3) := dk_182 1 220 (dk_at dksX6_writeWay_3 3 rfl rfl)
theorem dX6_writeWay_76 : decode cX6_writeWay 76 = .ok (.iinc 3 1, 3) := dk_132 3 1 (dk_at dksX6_writeWay_3 6 rfl rfl)
theorem dX6_writeWay_79 : decode cX6_writeWay 79 = .ok (.goto (-52), 3) := dk_167 255 204 (dk_at dksX6_writeWay_3 9 rfl rfl)
theorem dX6_writeWay_82 : decode cX6_writeWay 82 = .ok (.aload_n 0, 1) := dk_42 (dk_at dksX6_writeWay_3 12 rfl rfl)
theorem dX6_writeWay_83 : decode cX6_writeWay 83 = .ok (.getfield 473, 3) := dk_180 1 217 (dk_at dksX6_writeWay_3 13 rfl rfl)
theorem dX6_writeWay_86 : decode cX6_writeWay 86 = .ok (.ireturn, 1) := dk_172 (dk_at dksX6_writeWay_3 16 rfl rfl)
def dkwX6_letterOf_2 : List UInt8 := [16, 117, 172, 16, 114, 172, 16, 100, 172, 16, 108, 172]
abbrev dktX6_letterOf_2 : List UInt8 := dkwX6_letterOf_2 ++ []
def dkwX6_letterOf_1 : List UInt8 := [170, 0, 0, 0, 0, 0, 36, 0, 0, 0, 0, 0, 0, 0, 2, 0, 0, 0, 27, 0, 0, 0, 30, 0, 0, 0, 33]
abbrev dktX6_letterOf_1 : List UInt8 := dkwX6_letterOf_1 ++ dktX6_letterOf_2
def dkwX6_letterOf_0 : List UInt8 := [26]
abbrev dktX6_letterOf_0 : List UInt8 := dkwX6_letterOf_0 ++ dktX6_letterOf_1
theorem dksX6_letterOf_0 : cX6_letterOf.data.toList.drop 0 = dktX6_letterOf_0 := by decide +kernel
theorem dksX6_letterOf_1 : cX6_letterOf.data.toList.drop 1 = dktX6_letterOf_1 := dk_seg dksX6_letterOf_0 1 rfl rfl
theorem dksX6_letterOf_2 : cX6_letterOf.data.toList.drop 28 = dktX6_letterOf_2 := dk_seg dksX6_letterOf_1 27 rfl rfl
theorem dX6_letterOf_0 : decode cX6_letterOf 0 = .ok (.iload_n 0, 1) := dk_26 (dk_at dksX6_letterOf_0 0 rfl rfl)
theorem dX6_letterOf_1 : decode cX6_letterOf 1 = .ok (.tableswitch 36 0 2 #[27, 30, 33], 27) := by decide +kernel
theorem dX6_letterOf_28 : decode cX6_letterOf 28 = .ok (.bipush 117, 2) := dk_16 117 (dk_at dksX6_letterOf_2 0 rfl rfl)
theorem dX6_letterOf_30 : decode cX6_letterOf 30 = .ok (.ireturn, 1) := dk_172 (dk_at dksX6_letterOf_2 2 rfl rfl)
theorem dX6_letterOf_31 : decode cX6_letterOf 31 = .ok (.bipush 114, 2) := dk_16 114 (dk_at dksX6_letterOf_2 3 rfl rfl)
theorem dX6_letterOf_33 : decode cX6_letterOf 33 = .ok (.ireturn, 1) := dk_172 (dk_at dksX6_letterOf_2 5 rfl rfl)
theorem dX6_letterOf_34 : decode cX6_letterOf 34 = .ok (.bipush 100, 2) := dk_16 100 (dk_at dksX6_letterOf_2 6 rfl rfl)
theorem dX6_letterOf_36 : decode cX6_letterOf 36 = .ok (.ireturn, 1) := dk_172 (dk_at dksX6_letterOf_2 8 rfl rfl)
theorem dX6_letterOf_37 : decode cX6_letterOf 37 = .ok (.bipush 108, 2) := dk_16 108 (dk_at dksX6_letterOf_2 9 rfl rfl)
theorem dX6_letterOf_39 : decode cX6_letterOf 39 = .ok (.ireturn, 1) := dk_172 (dk_at dksX6_letterOf_2 11 rfl rfl)
def dkwX6_outputByte_1 : List UInt8 := [180, 0, 41, 27, 46, 167, 0, 4, 2, 172]
abbrev dktX6_outputByte_1 : List UInt8 := dkwX6_outputByte_1 ++ []
def dkwX6_outputByte_0 : List UInt8 := [42, 3, 181, 0, 61, 27, 133, 9, 42, 180, 1, 217, 4, 100, 133, 184, 0, 68, 153, 0, 12, 42]
abbrev dktX6_outputByte_0 : List UInt8 := dkwX6_outputByte_0 ++ dktX6_outputByte_1
theorem dksX6_outputByte_0 : cX6_outputByte.data.toList.drop 0 = dktX6_outputByte_0 := by decide +kernel
theorem dksX6_outputByte_1 : cX6_outputByte.data.toList.drop 22 = dktX6_outputByte_1 := dk_seg dksX6_outputByte_0 22 rfl rfl
theorem dX6_outputByte_0 : decode cX6_outputByte 0 = .ok (.aload_n 0, 1) := dk_42 (dk_at dksX6_outputByte_0 0 rfl rfl)
theorem dX6_outputByte_1 : decode cX6_outputByte 1 = .ok (.iconst 0, 1) := dk_3 (dk_at dksX6_outputByte_0 1 rfl rfl)
theorem dX6_outputByte_2 : decode cX6_outputByte 2 = .ok (.putfield 61, 3) := dk_181 0 61 (dk_at dksX6_outputByte_0 2 rfl rfl)
theorem dX6_outputByte_5 : decode cX6_outputByte 5 = .ok (.iload_n 1, 1) := dk_27 (dk_at dksX6_outputByte_0 5 rfl rfl)
theorem dX6_outputByte_6 : decode cX6_outputByte 6 = .ok (.i2l, 1) := dk_133 (dk_at dksX6_outputByte_0 6 rfl rfl)
theorem dX6_outputByte_7 : decode cX6_outputByte 7 = .ok (.lconst 0, 1) := dk_9 (dk_at dksX6_outputByte_0 7 rfl rfl)
theorem dX6_outputByte_8 : decode cX6_outputByte 8 = .ok (.aload_n 0, 1) := dk_42 (dk_at dksX6_outputByte_0 8 rfl rfl)
theorem dX6_outputByte_9 : decode cX6_outputByte 9 = .ok (.getfield 473, 3) := dk_180 1 217 (dk_at dksX6_outputByte_0 9 rfl rfl)
theorem dX6_outputByte_12 : decode cX6_outputByte 12 = .ok (.iconst 1, 1) := dk_4 (dk_at dksX6_outputByte_0 12 rfl rfl)
theorem dX6_outputByte_13 : decode cX6_outputByte 13 = .ok (.isub, 1) := dk_100 (dk_at dksX6_outputByte_0 13 rfl rfl)
theorem dX6_outputByte_14 : decode cX6_outputByte 14 = .ok (.i2l, 1) := dk_133 (dk_at dksX6_outputByte_0 14 rfl rfl)
theorem dX6_outputByte_15 : decode cX6_outputByte 15 = .ok (.invokestatic 68, 3) := dk_184 0 68 (dk_at dksX6_outputByte_0 15 rfl rfl)
theorem dX6_outputByte_18 : decode cX6_outputByte 18 = .ok (.ifCond .eq 12, 3) := dk_153 0 12 (dk_at dksX6_outputByte_0 18 rfl rfl)
theorem dX6_outputByte_21 : decode cX6_outputByte 21 = .ok (.aload_n 0, 1) := dk_42 (dk_at dksX6_outputByte_0 21 rfl rfl)
theorem dX6_outputByte_22 : decode cX6_outputByte 22 = .ok (.getfield 41, 3) := dk_180 0 41 (dk_at dksX6_outputByte_1 0 rfl rfl)
theorem dX6_outputByte_25 : decode cX6_outputByte 25 = .ok (.iload_n 1, 1) := dk_27 (dk_at dksX6_outputByte_1 3 rfl rfl)
theorem dX6_outputByte_26 : decode cX6_outputByte 26 = .ok (.iaload, 1) := dk_46 (dk_at dksX6_outputByte_1 4 rfl rfl)
theorem dX6_outputByte_27 : decode cX6_outputByte 27 = .ok (.goto 4, 3) := dk_167 0 4 (dk_at dksX6_outputByte_1 5 rfl rfl)
theorem dX6_outputByte_30 : decode cX6_outputByte 30 = .ok (.iconst (-1), 1) := dk_2 (dk_at dksX6_outputByte_1 8 rfl rfl)
theorem dX6_outputByte_31 : decode cX6_outputByte 31 = .ok (.ireturn, 1) := dk_172 (dk_at dksX6_outputByte_1 9 rfl rfl)
def dkwX6_undo_2 : List UInt8 := [172]
abbrev dktX6_undo_2 : List UInt8 := dkwX6_undo_2 ++ []
def dkwX6_undo_1 : List UInt8 := [42, 180, 0, 22, 17, 2, 41, 42, 180, 1, 65, 104, 42, 180, 0, 7, 3, 184, 0, 64, 42, 180, 1, 65]
abbrev dktX6_undo_1 : List UInt8 := dkwX6_undo_1 ++ dktX6_undo_2
def dkwX6_undo_0 : List UInt8 := [42, 3, 181, 0, 61, 42, 180, 1, 65, 154, 0, 5, 2, 172, 42, 89, 180, 1, 65, 4, 100, 181, 1, 65]
abbrev dktX6_undo_0 : List UInt8 := dkwX6_undo_0 ++ dktX6_undo_1
theorem dksX6_undo_0 : cX6_undo.data.toList.drop 0 = dktX6_undo_0 := by decide +kernel
theorem dksX6_undo_1 : cX6_undo.data.toList.drop 24 = dktX6_undo_1 := dk_seg dksX6_undo_0 24 rfl rfl
theorem dksX6_undo_2 : cX6_undo.data.toList.drop 48 = dktX6_undo_2 := dk_seg dksX6_undo_1 24 rfl rfl
theorem dX6_undo_0 : decode cX6_undo 0 = .ok (.aload_n 0, 1) := dk_42 (dk_at dksX6_undo_0 0 rfl rfl)
theorem dX6_undo_1 : decode cX6_undo 1 = .ok (.iconst 0, 1) := dk_3 (dk_at dksX6_undo_0 1 rfl rfl)
theorem dX6_undo_2 : decode cX6_undo 2 = .ok (.putfield 61, 3) := dk_181 0 61 (dk_at dksX6_undo_0 2 rfl rfl)
theorem dX6_undo_5 : decode cX6_undo 5 = .ok (.aload_n 0, 1) := dk_42 (dk_at dksX6_undo_0 5 rfl rfl)
theorem dX6_undo_6 : decode cX6_undo 6 = .ok (.getfield 321, 3) := dk_180 1 65 (dk_at dksX6_undo_0 6 rfl rfl)
theorem dX6_undo_9 : decode cX6_undo 9 = .ok (.ifCond .ne 5, 3) := dk_154 0 5 (dk_at dksX6_undo_0 9 rfl rfl)
theorem dX6_undo_12 : decode cX6_undo 12 = .ok (.iconst (-1), 1) := dk_2 (dk_at dksX6_undo_0 12 rfl rfl)
theorem dX6_undo_13 : decode cX6_undo 13 = .ok (.ireturn, 1) := dk_172 (dk_at dksX6_undo_0 13 rfl rfl)
theorem dX6_undo_14 : decode cX6_undo 14 = .ok (.aload_n 0, 1) := dk_42 (dk_at dksX6_undo_0 14 rfl rfl)
theorem dX6_undo_15 : decode cX6_undo 15 = .ok (.dup, 1) := dk_89 (dk_at dksX6_undo_0 15 rfl rfl)
theorem dX6_undo_16 : decode cX6_undo 16 = .ok (.getfield 321, 3) := dk_180 1 65 (dk_at dksX6_undo_0 16 rfl rfl)
theorem dX6_undo_19 : decode cX6_undo 19 = .ok (.iconst 1, 1) := dk_4 (dk_at dksX6_undo_0 19 rfl rfl)
theorem dX6_undo_20 : decode cX6_undo 20 = .ok (.isub, 1) := dk_100 (dk_at dksX6_undo_0 20 rfl rfl)
theorem dX6_undo_21 : decode cX6_undo 21 = .ok (.putfield 321, 3) := dk_181 1 65 (dk_at dksX6_undo_0 21 rfl rfl)
theorem dX6_undo_24 : decode cX6_undo 24 = .ok (.aload_n 0, 1) := dk_42 (dk_at dksX6_undo_1 0 rfl rfl)
theorem dX6_undo_25 : decode cX6_undo 25 = .ok (.getfield 22, 3) := dk_180 0 22 (dk_at dksX6_undo_1 1 rfl rfl)
theorem dX6_undo_28 : decode cX6_undo 28 = .ok (.sipush 553, 3) := dk_17 2 41 (dk_at dksX6_undo_1 4 rfl rfl)
theorem dX6_undo_31 : decode cX6_undo 31 = .ok (.aload_n 0, 1) := dk_42 (dk_at dksX6_undo_1 7 rfl rfl)
theorem dX6_undo_32 : decode cX6_undo 32 = .ok (.getfield 321, 3) := dk_180 1 65 (dk_at dksX6_undo_1 8 rfl rfl)
theorem dX6_undo_35 : decode cX6_undo 35 = .ok (.imul, 1) := dk_104 (dk_at dksX6_undo_1 11 rfl rfl)
theorem dX6_undo_36 : decode cX6_undo 36 = .ok (.aload_n 0, 1) := dk_42 (dk_at dksX6_undo_1 12 rfl rfl)
theorem dX6_undo_37 : decode cX6_undo 37 = .ok (.getfield 7, 3) := dk_180 0 7 (dk_at dksX6_undo_1 13 rfl rfl)
theorem dX6_undo_40 : decode cX6_undo 40 = .ok (.iconst 0, 1) := dk_3 (dk_at dksX6_undo_1 16 rfl rfl)
theorem dX6_undo_41 : decode cX6_undo 41 = .ok (.invokestatic 64, 3) := dk_184 0 64 (dk_at dksX6_undo_1 17 rfl rfl)
theorem dX6_undo_44 : decode cX6_undo 44 = .ok (.aload_n 0, 1) := dk_42 (dk_at dksX6_undo_1 20 rfl rfl)
theorem dX6_undo_45 : decode cX6_undo 45 = .ok (.getfield 321, 3) := dk_180 1 65 (dk_at dksX6_undo_1 21 rfl rfl)
theorem dX6_undo_48 : decode cX6_undo 48 = .ok (.ireturn, 1) := dk_172 (dk_at dksX6_undo_2 0 rfl rfl)
def dkwX6_save_1 : List UInt8 := [180, 0, 7, 6, 46, 172]
abbrev dktX6_save_1 : List UInt8 := dkwX6_save_1 ++ []
def dkwX6_save_0 : List UInt8 := [42, 3, 181, 0, 61, 42, 180, 0, 7, 3, 42, 180, 0, 13, 3, 184, 0, 64, 42, 4, 181, 1, 229, 42]
abbrev dktX6_save_0 : List UInt8 := dkwX6_save_0 ++ dktX6_save_1
theorem dksX6_save_0 : cX6_save.data.toList.drop 0 = dktX6_save_0 := by decide +kernel
theorem dksX6_save_1 : cX6_save.data.toList.drop 24 = dktX6_save_1 := dk_seg dksX6_save_0 24 rfl rfl
theorem dX6_save_0 : decode cX6_save 0 = .ok (.aload_n 0, 1) := dk_42 (dk_at dksX6_save_0 0 rfl rfl)
theorem dX6_save_1 : decode cX6_save 1 = .ok (.iconst 0, 1) := dk_3 (dk_at dksX6_save_0 1 rfl rfl)
theorem dX6_save_2 : decode cX6_save 2 = .ok (.putfield 61, 3) := dk_181 0 61 (dk_at dksX6_save_0 2 rfl rfl)
theorem dX6_save_5 : decode cX6_save 5 = .ok (.aload_n 0, 1) := dk_42 (dk_at dksX6_save_0 5 rfl rfl)
theorem dX6_save_6 : decode cX6_save 6 = .ok (.getfield 7, 3) := dk_180 0 7 (dk_at dksX6_save_0 6 rfl rfl)
theorem dX6_save_9 : decode cX6_save 9 = .ok (.iconst 0, 1) := dk_3 (dk_at dksX6_save_0 9 rfl rfl)
theorem dX6_save_10 : decode cX6_save 10 = .ok (.aload_n 0, 1) := dk_42 (dk_at dksX6_save_0 10 rfl rfl)
theorem dX6_save_11 : decode cX6_save 11 = .ok (.getfield 13, 3) := dk_180 0 13 (dk_at dksX6_save_0 11 rfl rfl)
theorem dX6_save_14 : decode cX6_save 14 = .ok (.iconst 0, 1) := dk_3 (dk_at dksX6_save_0 14 rfl rfl)
theorem dX6_save_15 : decode cX6_save 15 = .ok (.invokestatic 64, 3) := dk_184 0 64 (dk_at dksX6_save_0 15 rfl rfl)
theorem dX6_save_18 : decode cX6_save 18 = .ok (.aload_n 0, 1) := dk_42 (dk_at dksX6_save_0 18 rfl rfl)
theorem dX6_save_19 : decode cX6_save 19 = .ok (.iconst 1, 1) := dk_4 (dk_at dksX6_save_0 19 rfl rfl)
theorem dX6_save_20 : decode cX6_save 20 = .ok (.putfield 485, 3) := dk_181 1 229 (dk_at dksX6_save_0 20 rfl rfl)
theorem dX6_save_23 : decode cX6_save 23 = .ok (.aload_n 0, 1) := dk_42 (dk_at dksX6_save_0 23 rfl rfl)
theorem dX6_save_24 : decode cX6_save 24 = .ok (.getfield 7, 3) := dk_180 0 7 (dk_at dksX6_save_1 0 rfl rfl)
theorem dX6_save_27 : decode cX6_save 27 = .ok (.iconst 3, 1) := dk_6 (dk_at dksX6_save_1 3 rfl rfl)
theorem dX6_save_28 : decode cX6_save 28 = .ok (.iaload, 1) := dk_46 (dk_at dksX6_save_1 4 rfl rfl)
theorem dX6_save_29 : decode cX6_save 29 = .ok (.ireturn, 1) := dk_172 (dk_at dksX6_save_1 5 rfl rfl)
def dkwX6_restore_1 : List UInt8 := [184, 0, 64, 42, 3, 181, 1, 65, 42, 180, 0, 7, 6, 46, 172]
abbrev dktX6_restore_1 : List UInt8 := dkwX6_restore_1 ++ []
def dkwX6_restore_0 : List UInt8 := [42, 42, 180, 1, 229, 182, 0, 186, 154, 0, 5, 3, 172, 42, 180, 0, 13, 3, 42, 180, 0, 7, 3]
abbrev dktX6_restore_0 : List UInt8 := dkwX6_restore_0 ++ dktX6_restore_1
theorem dksX6_restore_0 : cX6_restore.data.toList.drop 0 = dktX6_restore_0 := by decide +kernel
theorem dksX6_restore_1 : cX6_restore.data.toList.drop 23 = dktX6_restore_1 := dk_seg dksX6_restore_0 23 rfl rfl
theorem dX6_restore_0 : decode cX6_restore 0 = .ok (.aload_n 0, 1) := dk_42 (dk_at dksX6_restore_0 0 rfl rfl)
theorem dX6_restore_1 : decode cX6_restore 1 = .ok (.aload_n 0, 1) := dk_42 (dk_at dksX6_restore_0 1 rfl rfl)
theorem dX6_restore_2 : decode cX6_restore 2 = .ok (.getfield 485, 3) := dk_180 1 229 (dk_at dksX6_restore_0 2 rfl rfl)
theorem dX6_restore_5 : decode cX6_restore 5 = .ok (.invokevirtual 186, 3) := dk_182 0 186 (dk_at dksX6_restore_0 5 rfl rfl)
theorem dX6_restore_8 : decode cX6_restore 8 = .ok (.ifCond .ne 5, 3) := dk_154 0 5 (dk_at dksX6_restore_0 8 rfl rfl)
theorem dX6_restore_11 : decode cX6_restore 11 = .ok (.iconst 0, 1) := dk_3 (dk_at dksX6_restore_0 11 rfl rfl)
theorem dX6_restore_12 : decode cX6_restore 12 = .ok (.ireturn, 1) := dk_172 (dk_at dksX6_restore_0 12 rfl rfl)
theorem dX6_restore_13 : decode cX6_restore 13 = .ok (.aload_n 0, 1) := dk_42 (dk_at dksX6_restore_0 13 rfl rfl)
theorem dX6_restore_14 : decode cX6_restore 14 = .ok (.getfield 13, 3) := dk_180 0 13 (dk_at dksX6_restore_0 14 rfl rfl)
theorem dX6_restore_17 : decode cX6_restore 17 = .ok (.iconst 0, 1) := dk_3 (dk_at dksX6_restore_0 17 rfl rfl)
theorem dX6_restore_18 : decode cX6_restore 18 = .ok (.aload_n 0, 1) := dk_42 (dk_at dksX6_restore_0 18 rfl rfl)
theorem dX6_restore_19 : decode cX6_restore 19 = .ok (.getfield 7, 3) := dk_180 0 7 (dk_at dksX6_restore_0 19 rfl rfl)
theorem dX6_restore_22 : decode cX6_restore 22 = .ok (.iconst 0, 1) := dk_3 (dk_at dksX6_restore_0 22 rfl rfl)
theorem dX6_restore_23 : decode cX6_restore 23 = .ok (.invokestatic 64, 3) := dk_184 0 64 (dk_at dksX6_restore_1 0 rfl rfl)
theorem dX6_restore_26 : decode cX6_restore 26 = .ok (.aload_n 0, 1) := dk_42 (dk_at dksX6_restore_1 3 rfl rfl)
theorem dX6_restore_27 : decode cX6_restore 27 = .ok (.iconst 0, 1) := dk_3 (dk_at dksX6_restore_1 4 rfl rfl)
theorem dX6_restore_28 : decode cX6_restore 28 = .ok (.putfield 321, 3) := dk_181 1 65 (dk_at dksX6_restore_1 5 rfl rfl)
theorem dX6_restore_31 : decode cX6_restore 31 = .ok (.aload_n 0, 1) := dk_42 (dk_at dksX6_restore_1 8 rfl rfl)
theorem dX6_restore_32 : decode cX6_restore 32 = .ok (.getfield 7, 3) := dk_180 0 7 (dk_at dksX6_restore_1 9 rfl rfl)
theorem dX6_restore_35 : decode cX6_restore 35 = .ok (.iconst 3, 1) := dk_6 (dk_at dksX6_restore_1 12 rfl rfl)
theorem dX6_restore_36 : decode cX6_restore 36 = .ok (.iaload, 1) := dk_46 (dk_at dksX6_restore_1 13 rfl rfl)
theorem dX6_restore_37 : decode cX6_restore 37 = .ok (.ireturn, 1) := dk_172 (dk_at dksX6_restore_1 14 rfl rfl)
