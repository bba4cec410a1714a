set_option maxRecDepth 100000
/-! LawnPathsLaw -/
def RX0 : String := "LawnPathsLaw"
abbrev cX0_append : ByteArray := method_3_code
def yX0_append : MethodName := ⟨RX0, "append", "(LLawnPaths;IIIII[J)I"⟩
abbrev cX0_truncate : ByteArray := method_4_code
def yX0_truncate : MethodName := ⟨RX0, "truncate", "(LLawnPaths;I[J)I"⟩
abbrev cX0_readText : ByteArray := method_5_code
def yX0_readText : MethodName := ⟨RX0, "readText", "(LLawnPaths;[J)I"⟩
abbrev cX0_runOrders : ByteArray := method_6_code
def yX0_runOrders : MethodName := ⟨RX0, "runOrders", "(LLawnPaths;[J)I"⟩
abbrev cX0_size : ByteArray := method_7_code
def yX0_size : MethodName := ⟨RX0, "size", "(LLawnPaths;I[J)I"⟩
abbrev cX0_cell : ByteArray := method_8_code
def yX0_cell : MethodName := ⟨RX0, "cell", "(LLawnPaths;III[J)I"⟩
abbrev cX0_gate : ByteArray := method_9_code
def yX0_gate : MethodName := ⟨RX0, "gate", "(LLawnPaths;II[J)I"⟩
abbrev cX0_walker : ByteArray := method_10_code
def yX0_walker : MethodName := ⟨RX0, "walker", "(LLawnPaths;II[J)I"⟩
abbrev cX0_nameByte : ByteArray := method_11_code
def yX0_nameByte : MethodName := ⟨RX0, "nameByte", "(LLawnPaths;IZI[J)I"⟩
abbrev cX0_isWet : ByteArray := method_12_code
def yX0_isWet : MethodName := ⟨RX0, "isWet", "(LLawnPaths;I[J)I"⟩
abbrev cX0_cost : ByteArray := method_13_code
def yX0_cost : MethodName := ⟨RX0, "cost", "(LLawnPaths;III[J)I"⟩
abbrev cX0_wayCost : ByteArray := method_14_code
def yX0_wayCost : MethodName := ⟨RX0, "wayCost", "(LLawnPaths;I[J)I"⟩
abbrev cX0_waySteps : ByteArray := method_15_code
def yX0_waySteps : MethodName := ⟨RX0, "waySteps", "(LLawnPaths;I[J)I"⟩
abbrev cX0_wayCell : ByteArray := method_16_code
def yX0_wayCell : MethodName := ⟨RX0, "wayCell", "(LLawnPaths;II[J)I"⟩
abbrev cX0_why : ByteArray := method_17_code
def yX0_why : MethodName := ⟨RX0, "why", "(LLawnPaths;II[J)I"⟩
abbrev cX0_keptBy : ByteArray := method_18_code
def yX0_keptBy : MethodName := ⟨RX0, "keptBy", "(LLawnPaths;III[J)I"⟩
abbrev cX0_account : ByteArray := method_19_code
def yX0_account : MethodName := ⟨RX0, "account", "(LLawnPaths;I[J)I"⟩
abbrev cX0_grassIn : ByteArray := method_20_code
def yX0_grassIn : MethodName := ⟨RX0, "grassIn", "(LLawnPaths;III[J)I"⟩
abbrev cX0_bareIn : ByteArray := method_21_code
def yX0_bareIn : MethodName := ⟨RX0, "bareIn", "(LLawnPaths;I[J)I"⟩
abbrev cX0_whenBare : ByteArray := method_22_code
def yX0_whenBare : MethodName := ⟨RX0, "whenBare", "(LLawnPaths;II[J)I"⟩
abbrev cX0_ifFence : ByteArray := method_23_code
def yX0_ifFence : MethodName := ⟨RX0, "ifFence", "(LLawnPaths;III[J)I"⟩
abbrev cX0_ifOpen : ByteArray := method_24_code
def yX0_ifOpen : MethodName := ⟨RX0, "ifOpen", "(LLawnPaths;I[J)I"⟩
abbrev cX0_bestFence : ByteArray := method_25_code
def yX0_bestFence : MethodName := ⟨RX0, "bestFence", "(LLawnPaths;I[J)I"⟩
abbrev cX0_ifHaste : ByteArray := method_26_code
def yX0_ifHaste : MethodName := ⟨RX0, "ifHaste", "(LLawnPaths;III[J)I"⟩
abbrev cX0_run : ByteArray := method_27_code
def yX0_run : MethodName := ⟨RX0, "run", "(LLawnPaths;I[J)I"⟩
abbrev cX0_setFence : ByteArray := method_28_code
def yX0_setFence : MethodName := ⟨RX0, "setFence", "(LLawnPaths;II[J)I"⟩
abbrev cX0_dropFence : ByteArray := method_29_code
def yX0_dropFence : MethodName := ⟨RX0, "dropFence", "(LLawnPaths;II[J)I"⟩
abbrev cX0_pave : ByteArray := method_30_code
def yX0_pave : MethodName := ⟨RX0, "pave", "(LLawnPaths;II[J)I"⟩
abbrev cX0_sow : ByteArray := method_31_code
def yX0_sow : MethodName := ⟨RX0, "sow", "(LLawnPaths;II[J)I"⟩
abbrev cX0_setHaste : ByteArray := method_32_code
def yX0_setHaste : MethodName := ⟨RX0, "setHaste", "(LLawnPaths;II[J)I"⟩
abbrev cX0_turnRound : ByteArray := method_33_code
def yX0_turnRound : MethodName := ⟨RX0, "turnRound", "(LLawnPaths;I[J)I"⟩
abbrev cX0_writeWay : ByteArray := method_34_code
def yX0_writeWay : MethodName := ⟨RX0, "writeWay", "(LLawnPaths;I[J)I"⟩
abbrev cX0_restore : ByteArray := method_35_code
def yX0_restore : MethodName := ⟨RX0, "restore", "(LLawnPaths;[J)I"⟩
theorem q147 : (Jvm.Cond.initialized "LawnPathsLaw") ∈ lw_all := lw_g (lw_at lw_m1 0 rfl) rfl
theorem q193 : (Jvm.Cond.classLink "LawnPathsLaw" (8 : Nat) "LawnPaths") ∈ lw_all := lw_g (lw_at lw_m1 46 rfl) rfl
theorem q195 : (Jvm.Cond.methodLink "LawnPathsLaw" (121 : Nat) ({ cls := "LawnPaths", name := "<init>", desc := "()V" } : Jvm.MethodName)) ∈ lw_all := lw_g (lw_at lw_m1 48 rfl) rfl
theorem q581 : (Jvm.Cond.methodLink "LawnPathsLaw" (145 : Nat) ({ cls := "LawnPaths", name := "errorCode", desc := "()I" } : Jvm.MethodName)) ∈ lw_all := lw_g (lw_at lw_m2 194 rfl) rfl
theorem q585 : (Jvm.Cond.methodLink "LawnPathsLaw" (149 : Nat) ({ cls := "LawnPaths", name := "errorPosition", desc := "()I" } : Jvm.MethodName)) ∈ lw_all := lw_g (lw_at lw_m2 198 rfl) rfl
theorem q589 : (Jvm.Cond.methodLink "LawnPathsLaw" (171 : Nat) ({ cls := "LawnPaths", name := "find", desc := "(Z)I" } : Jvm.MethodName)) ∈ lw_all := lw_g (lw_at lw_m2 202 rfl) rfl
theorem q950 : (Jvm.Cond.methodLink "LawnPathsLaw" (200 : Nat) ({ cls := "LawnPaths", name := "grassBalance", desc := "()I" } : Jvm.MethodName)) ∈ lw_all := lw_g (lw_at lw_m4 83 rfl) rfl
theorem q958 : (Jvm.Cond.methodLink "LawnPathsLaw" (204 : Nat) ({ cls := "LawnPaths", name := "walkBalance", desc := "()I" } : Jvm.MethodName)) ∈ lw_all := lw_g (lw_at lw_m4 91 rfl) rfl
theorem q972 : (Jvm.Cond.methodLink "LawnPathsLaw" (208 : Nat) ({ cls := "LawnPaths", name := "gap", desc := "()I" } : Jvm.MethodName)) ∈ lw_all := lw_g (lw_at lw_m4 105 rfl) rfl
theorem q1244 : (Jvm.Cond.methodLink "LawnPathsLaw" (233 : Nat) ({ cls := "LawnPaths", name := "busiest", desc := "()I" } : Jvm.MethodName)) ∈ lw_all := lw_g (lw_at lw_m5 137 rfl) rfl
theorem q1252 : (Jvm.Cond.methodLink "LawnPathsLaw" (237 : Nat) ({ cls := "LawnPaths", name := "meanGrass", desc := "()D" } : Jvm.MethodName)) ∈ lw_all := lw_g (lw_at lw_m5 145 rfl) rfl
theorem q1261 : (Jvm.Cond.methodLink "LawnPathsLaw" (242 : Nat) ({ cls := "LawnPaths", name := "bareShare", desc := "()F" } : Jvm.MethodName)) ∈ lw_all := lw_g (lw_at lw_m5 154 rfl) rfl
theorem q1269 : (Jvm.Cond.methodLink "LawnPathsLaw" (268 : Nat) ({ cls := "LawnPaths", name := "writeLawn", desc := "()I" } : Jvm.MethodName)) ∈ lw_all := lw_g (lw_at lw_m5 162 rfl) rfl
theorem q1346 : (Jvm.Cond.methodLink "LawnPathsLaw" (275 : Nat) ({ cls := "LawnPaths", name := "outputByte", desc := "(I)I" } : Jvm.MethodName)) ∈ lw_all := lw_g (lw_at lw_m5 239 rfl) rfl
theorem q1360 : (Jvm.Cond.methodLink "LawnPathsLaw" (279 : Nat) ({ cls := "LawnPaths", name := "undo", desc := "()I" } : Jvm.MethodName)) ∈ lw_all := lw_g (lw_at lw_m6 13 rfl) rfl
theorem q1383 : (Jvm.Cond.methodLink "LawnPathsLaw" (283 : Nat) ({ cls := "LawnPaths", name := "save", desc := "()I" } : Jvm.MethodName)) ∈ lw_all := lw_g (lw_at lw_m6 36 rfl) rfl
theorem q1410 : (Jvm.Cond.methodLink "LawnPathsLaw" (125 : Nat) ({ cls := "LawnPathsLaw", name := "append", desc := "(LLawnPaths;IIIII[J)I" } : Jvm.MethodName)) ∈ lw_all := lw_g (lw_at lw_m6 63 rfl) rfl
theorem q1411 : (Jvm.Cond.static ({ cls := "LawnPathsLaw", name := "append", desc := "(LLawnPaths;IIIII[J)I" } : Jvm.MethodName)) ∈ lw_all := lw_g (lw_at lw_m6 64 rfl) rfl
theorem q1412 : (Jvm.Cond.codeWith ({ cls := "LawnPathsLaw", name := "append", desc := "(LLawnPaths;IIIII[J)I" } : Jvm.MethodName) method_3_code (8 : Nat) (Option.some Jvm.ClassFile.FieldType.int) [((0 : Nat), (16 : Nat), (19 : Nat), (13 : Nat))]) ∈ lw_all := lw_g (lw_at lw_m6 65 rfl) rfl
theorem q1413 : (Jvm.Cond.classLink "LawnPathsLaw" (13 : Nat) "java/lang/IllegalStateException") ∈ lw_all := lw_g (lw_at lw_m6 66 rfl) rfl
theorem q1414 : (Jvm.Cond.methodLink "LawnPathsLaw" (7 : Nat) ({ cls := "LawnPaths", name := "append", desc := "(IIIII)I" } : Jvm.MethodName)) ∈ lw_all := lw_g (lw_at lw_m6 67 rfl) rfl
theorem q1437 : (Jvm.Cond.methodLink "LawnPathsLaw" (134 : Nat) ({ cls := "LawnPathsLaw", name := "truncate", desc := "(LLawnPaths;I[J)I" } : Jvm.MethodName)) ∈ lw_all := lw_g (lw_at lw_m6 90 rfl) rfl
theorem q1438 : (Jvm.Cond.static ({ cls := "LawnPathsLaw", name := "truncate", desc := "(LLawnPaths;I[J)I" } : Jvm.MethodName)) ∈ lw_all := lw_g (lw_at lw_m6 91 rfl) rfl
theorem q1439 : (Jvm.Cond.codeWith ({ cls := "LawnPathsLaw", name := "truncate", desc := "(LLawnPaths;I[J)I" } : Jvm.MethodName) method_4_code (4 : Nat) (Option.some Jvm.ClassFile.FieldType.int) [((0 : Nat), (9 : Nat), (12 : Nat), (19 : Nat))]) ∈ lw_all := lw_g (lw_at lw_m6 92 rfl) rfl
theorem q1440 : (Jvm.Cond.classLink "LawnPathsLaw" (19 : Nat) "java/lang/IllegalArgumentException") ∈ lw_all := lw_g (lw_at lw_m6 93 rfl) rfl
theorem q1441 : (Jvm.Cond.methodLink "LawnPathsLaw" (15 : Nat) ({ cls := "LawnPaths", name := "truncate", desc := "(I)I" } : Jvm.MethodName)) ∈ lw_all := lw_g (lw_at lw_m6 94 rfl) rfl
theorem q1453 : (Jvm.Cond.methodLink "LawnPathsLaw" (138 : Nat) ({ cls := "LawnPathsLaw", name := "readText", desc := "(LLawnPaths;[J)I" } : Jvm.MethodName)) ∈ lw_all := lw_g (lw_at lw_m6 106 rfl) rfl
theorem q1454 : (Jvm.Cond.static ({ cls := "LawnPathsLaw", name := "readText", desc := "(LLawnPaths;[J)I" } : Jvm.MethodName)) ∈ lw_all := lw_g (lw_at lw_m6 107 rfl) rfl
theorem q1455 : (Jvm.Cond.codeWith ({ cls := "LawnPathsLaw", name := "readText", desc := "(LLawnPaths;[J)I" } : Jvm.MethodName) method_5_code (3 : Nat) (Option.some Jvm.ClassFile.FieldType.int) [((0 : Nat), (8 : Nat), (11 : Nat), (19 : Nat))]) ∈ lw_all := lw_g (lw_at lw_m6 108 rfl) rfl
theorem q1456 : (Jvm.Cond.methodLink "LawnPathsLaw" (21 : Nat) ({ cls := "LawnPaths", name := "readText", desc := "()I" } : Jvm.MethodName)) ∈ lw_all := lw_g (lw_at lw_m6 109 rfl) rfl
theorem q1644 : (Jvm.Cond.methodLink "LawnPathsLaw" (142 : Nat) ({ cls := "LawnPathsLaw", name := "runOrders", desc := "(LLawnPaths;[J)I" } : Jvm.MethodName)) ∈ lw_all := lw_g (lw_at lw_m7 57 rfl) rfl
theorem q1645 : (Jvm.Cond.static ({ cls := "LawnPathsLaw", name := "runOrders", desc := "(LLawnPaths;[J)I" } : Jvm.MethodName)) ∈ lw_all := lw_g (lw_at lw_m7 58 rfl) rfl
theorem q1646 : (Jvm.Cond.codeWith ({ cls := "LawnPathsLaw", name := "runOrders", desc := "(LLawnPaths;[J)I" } : Jvm.MethodName) method_6_code (3 : Nat) (Option.some Jvm.ClassFile.FieldType.int) [((0 : Nat), (8 : Nat), (11 : Nat), (19 : Nat))]) ∈ lw_all := lw_g (lw_at lw_m7 59 rfl) rfl
theorem q1647 : (Jvm.Cond.methodLink "LawnPathsLaw" (25 : Nat) ({ cls := "LawnPaths", name := "runOrders", desc := "()I" } : Jvm.MethodName)) ∈ lw_all := lw_g (lw_at lw_m7 60 rfl) rfl
theorem q1911 : (Jvm.Cond.methodLink "LawnPathsLaw" (153 : Nat) ({ cls := "LawnPathsLaw", name := "size", desc := "(LLawnPaths;I[J)I" } : Jvm.MethodName)) ∈ lw_all := lw_g (lw_at lw_m8 84 rfl) rfl
theorem q1912 : (Jvm.Cond.static ({ cls := "LawnPathsLaw", name := "size", desc := "(LLawnPaths;I[J)I" } : Jvm.MethodName)) ∈ lw_all := lw_g (lw_at lw_m8 85 rfl) rfl
theorem q1913 : (Jvm.Cond.codeWith ({ cls := "LawnPathsLaw", name := "size", desc := "(LLawnPaths;I[J)I" } : Jvm.MethodName) method_7_code (4 : Nat) (Option.some Jvm.ClassFile.FieldType.int) [((0 : Nat), (9 : Nat), (12 : Nat), (19 : Nat))]) ∈ lw_all := lw_g (lw_at lw_m8 86 rfl) rfl
theorem q1914 : (Jvm.Cond.methodLink "LawnPathsLaw" (28 : Nat) ({ cls := "LawnPaths", name := "size", desc := "(I)I" } : Jvm.MethodName)) ∈ lw_all := lw_g (lw_at lw_m8 87 rfl) rfl
theorem q1920 : (Jvm.Cond.methodLink "LawnPathsLaw" (156 : Nat) ({ cls := "LawnPathsLaw", name := "cell", desc := "(LLawnPaths;III[J)I" } : Jvm.MethodName)) ∈ lw_all := lw_g (lw_at lw_m8 93 rfl) rfl
theorem q1921 : (Jvm.Cond.static ({ cls := "LawnPathsLaw", name := "cell", desc := "(LLawnPaths;III[J)I" } : Jvm.MethodName)) ∈ lw_all := lw_g (lw_at lw_m8 94 rfl) rfl
theorem q1922 : (Jvm.Cond.codeWith ({ cls := "LawnPathsLaw", name := "cell", desc := "(LLawnPaths;III[J)I" } : Jvm.MethodName) method_8_code (6 : Nat) (Option.some Jvm.ClassFile.FieldType.int) [((0 : Nat), (12 : Nat), (15 : Nat), (35 : Nat)), ((0 : Nat), (12 : Nat), (19 : Nat), (19 : Nat))]) ∈ lw_all := lw_g (lw_at lw_m8 95 rfl) rfl
theorem q1923 : (Jvm.Cond.classLink "LawnPathsLaw" (35 : Nat) "java/lang/IndexOutOfBoundsException") ∈ lw_all := lw_g (lw_at lw_m8 96 rfl) rfl
theorem q1926 : (Jvm.Cond.methodLink "LawnPathsLaw" (31 : Nat) ({ cls := "LawnPaths", name := "cell", desc := "(III)I" } : Jvm.MethodName)) ∈ lw_all := lw_g (lw_at lw_m8 99 rfl) rfl
theorem q1965 : (Jvm.Cond.methodLink "LawnPathsLaw" (160 : Nat) ({ cls := "LawnPathsLaw", name := "gate", desc := "(LLawnPaths;II[J)I" } : Jvm.MethodName)) ∈ lw_all := lw_g (lw_at lw_m8 138 rfl) rfl
theorem q1966 : (Jvm.Cond.static ({ cls := "LawnPathsLaw", name := "gate", desc := "(LLawnPaths;II[J)I" } : Jvm.MethodName)) ∈ lw_all := lw_g (lw_at lw_m8 139 rfl) rfl
theorem q1967 : (Jvm.Cond.codeWith ({ cls := "LawnPathsLaw", name := "gate", desc := "(LLawnPaths;II[J)I" } : Jvm.MethodName) method_9_code (5 : Nat) (Option.some Jvm.ClassFile.FieldType.int) [((0 : Nat), (10 : Nat), (13 : Nat), (35 : Nat)), ((0 : Nat), (10 : Nat), (17 : Nat), (19 : Nat))]) ∈ lw_all := lw_g (lw_at lw_m8 140 rfl) rfl
theorem q1968 : (Jvm.Cond.methodLink "LawnPathsLaw" (37 : Nat) ({ cls := "LawnPaths", name := "gate", desc := "(II)I" } : Jvm.MethodName)) ∈ lw_all := lw_g (lw_at lw_m8 141 rfl) rfl
theorem q1984 : (Jvm.Cond.methodLink "LawnPathsLaw" (164 : Nat) ({ cls := "LawnPathsLaw", name := "walker", desc := "(LLawnPaths;II[J)I" } : Jvm.MethodName)) ∈ lw_all := lw_g (lw_at lw_m8 157 rfl) rfl
theorem q1985 : (Jvm.Cond.static ({ cls := "LawnPathsLaw", name := "walker", desc := "(LLawnPaths;II[J)I" } : Jvm.MethodName)) ∈ lw_all := lw_g (lw_at lw_m8 158 rfl) rfl
theorem q1986 : (Jvm.Cond.codeWith ({ cls := "LawnPathsLaw", name := "walker", desc := "(LLawnPaths;II[J)I" } : Jvm.MethodName) method_10_code (5 : Nat) (Option.some Jvm.ClassFile.FieldType.int) [((0 : Nat), (10 : Nat), (13 : Nat), (35 : Nat)), ((0 : Nat), (10 : Nat), (17 : Nat), (19 : Nat))]) ∈ lw_all := lw_g (lw_at lw_m8 159 rfl) rfl
theorem q1987 : (Jvm.Cond.methodLink "LawnPathsLaw" (41 : Nat) ({ cls := "LawnPaths", name := "walker", desc := "(II)I" } : Jvm.MethodName)) ∈ lw_all := lw_g (lw_at lw_m8 160 rfl) rfl
theorem q1996 : (Jvm.Cond.methodLink "LawnPathsLaw" (167 : Nat) ({ cls := "LawnPathsLaw", name := "nameByte", desc := "(LLawnPaths;IZI[J)I" } : Jvm.MethodName)) ∈ lw_all := lw_g (lw_at lw_m8 169 rfl) rfl
theorem q1997 : (Jvm.Cond.static ({ cls := "LawnPathsLaw", name := "nameByte", desc := "(LLawnPaths;IZI[J)I" } : Jvm.MethodName)) ∈ lw_all := lw_g (lw_at lw_m8 170 rfl) rfl
theorem q1998 : (Jvm.Cond.codeWith ({ cls := "LawnPathsLaw", name := "nameByte", desc := "(LLawnPaths;IZI[J)I" } : Jvm.MethodName) method_11_code (6 : Nat) (Option.some Jvm.ClassFile.FieldType.int) [((0 : Nat), (12 : Nat), (15 : Nat), (35 : Nat))]) ∈ lw_all := lw_g (lw_at lw_m8 171 rfl) rfl
theorem q1999 : (Jvm.Cond.methodLink "LawnPathsLaw" (44 : Nat) ({ cls := "LawnPaths", name := "nameByte", desc := "(IZI)I" } : Jvm.MethodName)) ∈ lw_all := lw_g (lw_at lw_m8 172 rfl) rfl
theorem q2014 : (Jvm.Cond.methodLink "LawnPathsLaw" (176 : Nat) ({ cls := "LawnPathsLaw", name := "isWet", desc := "(LLawnPaths;I[J)I" } : Jvm.MethodName)) ∈ lw_all := lw_g (lw_at lw_m8 187 rfl) rfl
theorem q2015 : (Jvm.Cond.static ({ cls := "LawnPathsLaw", name := "isWet", desc := "(LLawnPaths;I[J)I" } : Jvm.MethodName)) ∈ lw_all := lw_g (lw_at lw_m8 188 rfl) rfl
theorem q2016 : (Jvm.Cond.codeWith ({ cls := "LawnPathsLaw", name := "isWet", desc := "(LLawnPaths;I[J)I" } : Jvm.MethodName) method_12_code (4 : Nat) (Option.some Jvm.ClassFile.FieldType.int) [((0 : Nat), (16 : Nat), (19 : Nat), (19 : Nat))]) ∈ lw_all := lw_g (lw_at lw_m8 189 rfl) rfl
theorem q2017 : (Jvm.Cond.methodLink "LawnPathsLaw" (48 : Nat) ({ cls := "LawnPaths", name := "isWet", desc := "(I)Z" } : Jvm.MethodName)) ∈ lw_all := lw_g (lw_at lw_m8 190 rfl) rfl
theorem q2022 : (Jvm.Cond.methodLink "LawnPathsLaw" (179 : Nat) ({ cls := "LawnPathsLaw", name := "cost", desc := "(LLawnPaths;III[J)I" } : Jvm.MethodName)) ∈ lw_all := lw_g (lw_at lw_m8 195 rfl) rfl
theorem q2023 : (Jvm.Cond.static ({ cls := "LawnPathsLaw", name := "cost", desc := "(LLawnPaths;III[J)I" } : Jvm.MethodName)) ∈ lw_all := lw_g (lw_at lw_m8 196 rfl) rfl
theorem q2024 : (Jvm.Cond.codeWith ({ cls := "LawnPathsLaw", name := "cost", desc := "(LLawnPaths;III[J)I" } : Jvm.MethodName) method_13_code (6 : Nat) (Option.some Jvm.ClassFile.FieldType.int) [((0 : Nat), (12 : Nat), (15 : Nat), (35 : Nat))]) ∈ lw_all := lw_g (lw_at lw_m8 197 rfl) rfl
theorem q2025 : (Jvm.Cond.methodLink "LawnPathsLaw" (52 : Nat) ({ cls := "LawnPaths", name := "cost", desc := "(III)I" } : Jvm.MethodName)) ∈ lw_all := lw_g (lw_at lw_m8 198 rfl) rfl
theorem q2030 : (Jvm.Cond.methodLink "LawnPathsLaw" (182 : Nat) ({ cls := "LawnPathsLaw", name := "wayCost", desc := "(LLawnPaths;I[J)I" } : Jvm.MethodName)) ∈ lw_all := lw_g (lw_at lw_m8 203 rfl) rfl
theorem q2031 : (Jvm.Cond.static ({ cls := "LawnPathsLaw", name := "wayCost", desc := "(LLawnPaths;I[J)I" } : Jvm.MethodName)) ∈ lw_all := lw_g (lw_at lw_m8 204 rfl) rfl
theorem q2032 : (Jvm.Cond.codeWith ({ cls := "LawnPathsLaw", name := "wayCost", desc := "(LLawnPaths;I[J)I" } : Jvm.MethodName) method_14_code (4 : Nat) (Option.some Jvm.ClassFile.FieldType.int) [((0 : Nat), (9 : Nat), (12 : Nat), (35 : Nat))]) ∈ lw_all := lw_g (lw_at lw_m8 205 rfl) rfl
theorem q2033 : (Jvm.Cond.methodLink "LawnPathsLaw" (55 : Nat) ({ cls := "LawnPaths", name := "wayCost", desc := "(I)I" } : Jvm.MethodName)) ∈ lw_all := lw_g (lw_at lw_m8 206 rfl) rfl
theorem q2037 : (Jvm.Cond.methodLink "LawnPathsLaw" (185 : Nat) ({ cls := "LawnPathsLaw", name := "waySteps", desc := "(LLawnPaths;I[J)I" } : Jvm.MethodName)) ∈ lw_all := lw_g (lw_at lw_m8 210 rfl) rfl
theorem q2038 : (Jvm.Cond.static ({ cls := "LawnPathsLaw", name := "waySteps", desc := "(LLawnPaths;I[J)I" } : Jvm.MethodName)) ∈ lw_all := lw_g (lw_at lw_m8 211 rfl) rfl
theorem q2039 : (Jvm.Cond.codeWith ({ cls := "LawnPathsLaw", name := "waySteps", desc := "(LLawnPaths;I[J)I" } : Jvm.MethodName) method_15_code (4 : Nat) (Option.some Jvm.ClassFile.FieldType.int) [((0 : Nat), (9 : Nat), (12 : Nat), (35 : Nat))]) ∈ lw_all := lw_g (lw_at lw_m8 212 rfl) rfl
theorem q2040 : (Jvm.Cond.methodLink "LawnPathsLaw" (58 : Nat) ({ cls := "LawnPaths", name := "waySteps", desc := "(I)I" } : Jvm.MethodName)) ∈ lw_all := lw_g (lw_at lw_m8 213 rfl) rfl
theorem q2048 : (Jvm.Cond.methodLink "LawnPathsLaw" (188 : Nat) ({ cls := "LawnPathsLaw", name := "wayCell", desc := "(LLawnPaths;II[J)I" } : Jvm.MethodName)) ∈ lw_all := lw_g (lw_at lw_m8 221 rfl) rfl
theorem q2049 : (Jvm.Cond.static ({ cls := "LawnPathsLaw", name := "wayCell", desc := "(LLawnPaths;II[J)I" } : Jvm.MethodName)) ∈ lw_all := lw_g (lw_at lw_m8 222 rfl) rfl
theorem q2050 : (Jvm.Cond.codeWith ({ cls := "LawnPathsLaw", name := "wayCell", desc := "(LLawnPaths;II[J)I" } : Jvm.MethodName) method_16_code (5 : Nat) (Option.some Jvm.ClassFile.FieldType.int) [((0 : Nat), (10 : Nat), (13 : Nat), (35 : Nat))]) ∈ lw_all := lw_g (lw_at lw_m8 223 rfl) rfl
theorem q2051 : (Jvm.Cond.methodLink "LawnPathsLaw" (61 : Nat) ({ cls := "LawnPaths", name := "wayCell", desc := "(II)I" } : Jvm.MethodName)) ∈ lw_all := lw_g (lw_at lw_m8 224 rfl) rfl
theorem q2055 : (Jvm.Cond.methodLink "LawnPathsLaw" (191 : Nat) ({ cls := "LawnPathsLaw", name := "why", desc := "(LLawnPaths;II[J)I" } : Jvm.MethodName)) ∈ lw_all := lw_g (lw_at lw_m8 228 rfl) rfl
theorem q2056 : (Jvm.Cond.static ({ cls := "LawnPathsLaw", name := "why", desc := "(LLawnPaths;II[J)I" } : Jvm.MethodName)) ∈ lw_all := lw_g (lw_at lw_m8 229 rfl) rfl
theorem q2057 : (Jvm.Cond.codeWith ({ cls := "LawnPathsLaw", name := "why", desc := "(LLawnPaths;II[J)I" } : Jvm.MethodName) method_17_code (5 : Nat) (Option.some Jvm.ClassFile.FieldType.int) [((0 : Nat), (10 : Nat), (13 : Nat), (35 : Nat)), ((0 : Nat), (10 : Nat), (17 : Nat), (19 : Nat))]) ∈ lw_all := lw_g (lw_at lw_m8 230 rfl) rfl
theorem q2058 : (Jvm.Cond.methodLink "LawnPathsLaw" (64 : Nat) ({ cls := "LawnPaths", name := "why", desc := "(II)I" } : Jvm.MethodName)) ∈ lw_all := lw_g (lw_at lw_m8 231 rfl) rfl
theorem q2078 : (Jvm.Cond.methodLink "LawnPathsLaw" (194 : Nat) ({ cls := "LawnPathsLaw", name := "keptBy", desc := "(LLawnPaths;III[J)I" } : Jvm.MethodName)) ∈ lw_all := lw_g (lw_at lw_m9 11 rfl) rfl
theorem q2079 : (Jvm.Cond.static ({ cls := "LawnPathsLaw", name := "keptBy", desc := "(LLawnPaths;III[J)I" } : Jvm.MethodName)) ∈ lw_all := lw_g (lw_at lw_m9 12 rfl) rfl
theorem q2080 : (Jvm.Cond.codeWith ({ cls := "LawnPathsLaw", name := "keptBy", desc := "(LLawnPaths;III[J)I" } : Jvm.MethodName) method_18_code (6 : Nat) (Option.some Jvm.ClassFile.FieldType.int) [((0 : Nat), (12 : Nat), (15 : Nat), (35 : Nat)), ((0 : Nat), (12 : Nat), (19 : Nat), (19 : Nat))]) ∈ lw_all := lw_g (lw_at lw_m9 13 rfl) rfl
theorem q2081 : (Jvm.Cond.methodLink "LawnPathsLaw" (67 : Nat) ({ cls := "LawnPaths", name := "keptBy", desc := "(III)I" } : Jvm.MethodName)) ∈ lw_all := lw_g (lw_at lw_m9 14 rfl) rfl
theorem q2085 : (Jvm.Cond.methodLink "LawnPathsLaw" (197 : Nat) ({ cls := "LawnPathsLaw", name := "account", desc := "(LLawnPaths;I[J)I" } : Jvm.MethodName)) ∈ lw_all := lw_g (lw_at lw_m9 18 rfl) rfl
theorem q2086 : (Jvm.Cond.static ({ cls := "LawnPathsLaw", name := "account", desc := "(LLawnPaths;I[J)I" } : Jvm.MethodName)) ∈ lw_all := lw_g (lw_at lw_m9 19 rfl) rfl
theorem q2087 : (Jvm.Cond.codeWith ({ cls := "LawnPathsLaw", name := "account", desc := "(LLawnPaths;I[J)I" } : Jvm.MethodName) method_19_code (4 : Nat) (Option.some Jvm.ClassFile.FieldType.int) [((0 : Nat), (9 : Nat), (12 : Nat), (19 : Nat))]) ∈ lw_all := lw_g (lw_at lw_m9 20 rfl) rfl
theorem q2088 : (Jvm.Cond.methodLink "LawnPathsLaw" (70 : Nat) ({ cls := "LawnPaths", name := "account", desc := "(I)I" } : Jvm.MethodName)) ∈ lw_all := lw_g (lw_at lw_m9 21 rfl) rfl
theorem q2093 : (Jvm.Cond.methodLink "LawnPathsLaw" (212 : Nat) ({ cls := "LawnPathsLaw", name := "grassIn", desc := "(LLawnPaths;III[J)I" } : Jvm.MethodName)) ∈ lw_all := lw_g (lw_at lw_m9 26 rfl) rfl
theorem q2094 : (Jvm.Cond.static ({ cls := "LawnPathsLaw", name := "grassIn", desc := "(LLawnPaths;III[J)I" } : Jvm.MethodName)) ∈ lw_all := lw_g (lw_at lw_m9 27 rfl) rfl
theorem q2095 : (Jvm.Cond.codeWith ({ cls := "LawnPathsLaw", name := "grassIn", desc := "(LLawnPaths;III[J)I" } : Jvm.MethodName) method_20_code (6 : Nat) (Option.some Jvm.ClassFile.FieldType.int) [((0 : Nat), (12 : Nat), (15 : Nat), (35 : Nat)), ((0 : Nat), (12 : Nat), (19 : Nat), (19 : Nat))]) ∈ lw_all := lw_g (lw_at lw_m9 28 rfl) rfl
theorem q2096 : (Jvm.Cond.methodLink "LawnPathsLaw" (73 : Nat) ({ cls := "LawnPaths", name := "grassIn", desc := "(III)I" } : Jvm.MethodName)) ∈ lw_all := lw_g (lw_at lw_m9 29 rfl) rfl
theorem q2106 : (Jvm.Cond.methodLink "LawnPathsLaw" (215 : Nat) ({ cls := "LawnPathsLaw", name := "bareIn", desc := "(LLawnPaths;I[J)I" } : Jvm.MethodName)) ∈ lw_all := lw_g (lw_at lw_m9 39 rfl) rfl
theorem q2107 : (Jvm.Cond.static ({ cls := "LawnPathsLaw", name := "bareIn", desc := "(LLawnPaths;I[J)I" } : Jvm.MethodName)) ∈ lw_all := lw_g (lw_at lw_m9 40 rfl) rfl
theorem q2108 : (Jvm.Cond.codeWith ({ cls := "LawnPathsLaw", name := "bareIn", desc := "(LLawnPaths;I[J)I" } : Jvm.MethodName) method_21_code (4 : Nat) (Option.some Jvm.ClassFile.FieldType.int) [((0 : Nat), (9 : Nat), (12 : Nat), (19 : Nat))]) ∈ lw_all := lw_g (lw_at lw_m9 41 rfl) rfl
theorem q2109 : (Jvm.Cond.methodLink "LawnPathsLaw" (76 : Nat) ({ cls := "LawnPaths", name := "bareIn", desc := "(I)I" } : Jvm.MethodName)) ∈ lw_all := lw_g (lw_at lw_m9 42 rfl) rfl
theorem q2113 : (Jvm.Cond.methodLink "LawnPathsLaw" (218 : Nat) ({ cls := "LawnPathsLaw", name := "whenBare", desc := "(LLawnPaths;II[J)I" } : Jvm.MethodName)) ∈ lw_all := lw_g (lw_at lw_m9 46 rfl) rfl
theorem q2114 : (Jvm.Cond.static ({ cls := "LawnPathsLaw", name := "whenBare", desc := "(LLawnPaths;II[J)I" } : Jvm.MethodName)) ∈ lw_all := lw_g (lw_at lw_m9 47 rfl) rfl
theorem q2115 : (Jvm.Cond.codeWith ({ cls := "LawnPathsLaw", name := "whenBare", desc := "(LLawnPaths;II[J)I" } : Jvm.MethodName) method_22_code (5 : Nat) (Option.some Jvm.ClassFile.FieldType.int) [((0 : Nat), (10 : Nat), (13 : Nat), (35 : Nat))]) ∈ lw_all := lw_g (lw_at lw_m9 48 rfl) rfl
theorem q2116 : (Jvm.Cond.methodLink "LawnPathsLaw" (79 : Nat) ({ cls := "LawnPaths", name := "whenBare", desc := "(II)I" } : Jvm.MethodName)) ∈ lw_all := lw_g (lw_at lw_m9 49 rfl) rfl
theorem q2121 : (Jvm.Cond.methodLink "LawnPathsLaw" (221 : Nat) ({ cls := "LawnPathsLaw", name := "ifFence", desc := "(LLawnPaths;III[J)I" } : Jvm.MethodName)) ∈ lw_all := lw_g (lw_at lw_m9 54 rfl) rfl
theorem q2122 : (Jvm.Cond.static ({ cls := "LawnPathsLaw", name := "ifFence", desc := "(LLawnPaths;III[J)I" } : Jvm.MethodName)) ∈ lw_all := lw_g (lw_at lw_m9 55 rfl) rfl
theorem q2123 : (Jvm.Cond.codeWith ({ cls := "LawnPathsLaw", name := "ifFence", desc := "(LLawnPaths;III[J)I" } : Jvm.MethodName) method_23_code (6 : Nat) (Option.some Jvm.ClassFile.FieldType.int) [((0 : Nat), (12 : Nat), (15 : Nat), (35 : Nat))]) ∈ lw_all := lw_g (lw_at lw_m9 56 rfl) rfl
theorem q2124 : (Jvm.Cond.methodLink "LawnPathsLaw" (82 : Nat) ({ cls := "LawnPaths", name := "ifFence", desc := "(III)I" } : Jvm.MethodName)) ∈ lw_all := lw_g (lw_at lw_m9 57 rfl) rfl
theorem q2133 : (Jvm.Cond.methodLink "LawnPathsLaw" (224 : Nat) ({ cls := "LawnPathsLaw", name := "ifOpen", desc := "(LLawnPaths;I[J)I" } : Jvm.MethodName)) ∈ lw_all := lw_g (lw_at lw_m9 66 rfl) rfl
theorem q2134 : (Jvm.Cond.static ({ cls := "LawnPathsLaw", name := "ifOpen", desc := "(LLawnPaths;I[J)I" } : Jvm.MethodName)) ∈ lw_all := lw_g (lw_at lw_m9 67 rfl) rfl
theorem q2135 : (Jvm.Cond.codeWith ({ cls := "LawnPathsLaw", name := "ifOpen", desc := "(LLawnPaths;I[J)I" } : Jvm.MethodName) method_24_code (4 : Nat) (Option.some Jvm.ClassFile.FieldType.int) [((0 : Nat), (9 : Nat), (12 : Nat), (35 : Nat))]) ∈ lw_all := lw_g (lw_at lw_m9 68 rfl) rfl
theorem q2136 : (Jvm.Cond.methodLink "LawnPathsLaw" (85 : Nat) ({ cls := "LawnPaths", name := "ifOpen", desc := "(I)I" } : Jvm.MethodName)) ∈ lw_all := lw_g (lw_at lw_m9 69 rfl) rfl
theorem q2140 : (Jvm.Cond.methodLink "LawnPathsLaw" (227 : Nat) ({ cls := "LawnPathsLaw", name := "bestFence", desc := "(LLawnPaths;I[J)I" } : Jvm.MethodName)) ∈ lw_all := lw_g (lw_at lw_m9 73 rfl) rfl
theorem q2141 : (Jvm.Cond.static ({ cls := "LawnPathsLaw", name := "bestFence", desc := "(LLawnPaths;I[J)I" } : Jvm.MethodName)) ∈ lw_all := lw_g (lw_at lw_m9 74 rfl) rfl
theorem q2142 : (Jvm.Cond.codeWith ({ cls := "LawnPathsLaw", name := "bestFence", desc := "(LLawnPaths;I[J)I" } : Jvm.MethodName) method_25_code (4 : Nat) (Option.some Jvm.ClassFile.FieldType.int) [((0 : Nat), (9 : Nat), (12 : Nat), (19 : Nat))]) ∈ lw_all := lw_g (lw_at lw_m9 75 rfl) rfl
theorem q2143 : (Jvm.Cond.methodLink "LawnPathsLaw" (88 : Nat) ({ cls := "LawnPaths", name := "bestFence", desc := "(I)I" } : Jvm.MethodName)) ∈ lw_all := lw_g (lw_at lw_m9 76 rfl) rfl
theorem q2148 : (Jvm.Cond.methodLink "LawnPathsLaw" (230 : Nat) ({ cls := "LawnPathsLaw", name := "ifHaste", desc := "(LLawnPaths;III[J)I" } : Jvm.MethodName)) ∈ lw_all := lw_g (lw_at lw_m9 81 rfl) rfl
theorem q2149 : (Jvm.Cond.static ({ cls := "LawnPathsLaw", name := "ifHaste", desc := "(LLawnPaths;III[J)I" } : Jvm.MethodName)) ∈ lw_all := lw_g (lw_at lw_m9 82 rfl) rfl
theorem q2150 : (Jvm.Cond.codeWith ({ cls := "LawnPathsLaw", name := "ifHaste", desc := "(LLawnPaths;III[J)I" } : Jvm.MethodName) method_26_code (6 : Nat) (Option.some Jvm.ClassFile.FieldType.int) [((0 : Nat), (12 : Nat), (15 : Nat), (35 : Nat)), ((0 : Nat), (12 : Nat), (19 : Nat), (19 : Nat))]) ∈ lw_all := lw_g (lw_at lw_m9 83 rfl) rfl
theorem q2151 : (Jvm.Cond.methodLink "LawnPathsLaw" (91 : Nat) ({ cls := "LawnPaths", name := "ifHaste", desc := "(III)I" } : Jvm.MethodName)) ∈ lw_all := lw_g (lw_at lw_m9 84 rfl) rfl
theorem q2156 : (Jvm.Cond.methodLink "LawnPathsLaw" (247 : Nat) ({ cls := "LawnPathsLaw", name := "run", desc := "(LLawnPaths;I[J)I" } : Jvm.MethodName)) ∈ lw_all := lw_g (lw_at lw_m9 89 rfl) rfl
theorem q2157 : (Jvm.Cond.static ({ cls := "LawnPathsLaw", name := "run", desc := "(LLawnPaths;I[J)I" } : Jvm.MethodName)) ∈ lw_all := lw_g (lw_at lw_m9 90 rfl) rfl
theorem q2158 : (Jvm.Cond.codeWith ({ cls := "LawnPathsLaw", name := "run", desc := "(LLawnPaths;I[J)I" } : Jvm.MethodName) method_27_code (4 : Nat) (Option.some Jvm.ClassFile.FieldType.int) [((0 : Nat), (9 : Nat), (12 : Nat), (19 : Nat))]) ∈ lw_all := lw_g (lw_at lw_m9 91 rfl) rfl
theorem q2159 : (Jvm.Cond.methodLink "LawnPathsLaw" (94 : Nat) ({ cls := "LawnPaths", name := "run", desc := "(I)I" } : Jvm.MethodName)) ∈ lw_all := lw_g (lw_at lw_m9 92 rfl) rfl
theorem q2172 : (Jvm.Cond.methodLink "LawnPathsLaw" (250 : Nat) ({ cls := "LawnPathsLaw", name := "setFence", desc := "(LLawnPaths;II[J)I" } : Jvm.MethodName)) ∈ lw_all := lw_g (lw_at lw_m9 105 rfl) rfl
theorem q2173 : (Jvm.Cond.static ({ cls := "LawnPathsLaw", name := "setFence", desc := "(LLawnPaths;II[J)I" } : Jvm.MethodName)) ∈ lw_all := lw_g (lw_at lw_m9 106 rfl) rfl
theorem q2174 : (Jvm.Cond.codeWith ({ cls := "LawnPathsLaw", name := "setFence", desc := "(LLawnPaths;II[J)I" } : Jvm.MethodName) method_28_code (5 : Nat) (Option.some Jvm.ClassFile.FieldType.int) [((0 : Nat), (10 : Nat), (13 : Nat), (35 : Nat))]) ∈ lw_all := lw_g (lw_at lw_m9 107 rfl) rfl
theorem q2175 : (Jvm.Cond.methodLink "LawnPathsLaw" (97 : Nat) ({ cls := "LawnPaths", name := "setFence", desc := "(II)I" } : Jvm.MethodName)) ∈ lw_all := lw_g (lw_at lw_m9 108 rfl) rfl
theorem q2181 : (Jvm.Cond.methodLink "LawnPathsLaw" (253 : Nat) ({ cls := "LawnPathsLaw", name := "dropFence", desc := "(LLawnPaths;II[J)I" } : Jvm.MethodName)) ∈ lw_all := lw_g (lw_at lw_m9 114 rfl) rfl
theorem q2182 : (Jvm.Cond.static ({ cls := "LawnPathsLaw", name := "dropFence", desc := "(LLawnPaths;II[J)I" } : Jvm.MethodName)) ∈ lw_all := lw_g (lw_at lw_m9 115 rfl) rfl
theorem q2183 : (Jvm.Cond.codeWith ({ cls := "LawnPathsLaw", name := "dropFence", desc := "(LLawnPaths;II[J)I" } : Jvm.MethodName) method_29_code (5 : Nat) (Option.some Jvm.ClassFile.FieldType.int) [((0 : Nat), (10 : Nat), (13 : Nat), (35 : Nat))]) ∈ lw_all := lw_g (lw_at lw_m9 116 rfl) rfl
theorem q2184 : (Jvm.Cond.methodLink "LawnPathsLaw" (100 : Nat) ({ cls := "LawnPaths", name := "dropFence", desc := "(II)I" } : Jvm.MethodName)) ∈ lw_all := lw_g (lw_at lw_m9 117 rfl) rfl
theorem q2191 : (Jvm.Cond.methodLink "LawnPathsLaw" (256 : Nat) ({ cls := "LawnPathsLaw", name := "pave", desc := "(LLawnPaths;II[J)I" } : Jvm.MethodName)) ∈ lw_all := lw_g (lw_at lw_m9 124 rfl) rfl
theorem q2192 : (Jvm.Cond.static ({ cls := "LawnPathsLaw", name := "pave", desc := "(LLawnPaths;II[J)I" } : Jvm.MethodName)) ∈ lw_all := lw_g (lw_at lw_m9 125 rfl) rfl
theorem q2193 : (Jvm.Cond.codeWith ({ cls := "LawnPathsLaw", name := "pave", desc := "(LLawnPaths;II[J)I" } : Jvm.MethodName) method_30_code (5 : Nat) (Option.some Jvm.ClassFile.FieldType.int) [((0 : Nat), (10 : Nat), (13 : Nat), (35 : Nat))]) ∈ lw_all := lw_g (lw_at lw_m9 126 rfl) rfl
theorem q2194 : (Jvm.Cond.methodLink "LawnPathsLaw" (103 : Nat) ({ cls := "LawnPaths", name := "pave", desc := "(II)I" } : Jvm.MethodName)) ∈ lw_all := lw_g (lw_at lw_m9 127 rfl) rfl
theorem q2201 : (Jvm.Cond.methodLink "LawnPathsLaw" (259 : Nat) ({ cls := "LawnPathsLaw", name := "sow", desc := "(LLawnPaths;II[J)I" } : Jvm.MethodName)) ∈ lw_all := lw_g (lw_at lw_m9 134 rfl) rfl
theorem q2202 : (Jvm.Cond.static ({ cls := "LawnPathsLaw", name := "sow", desc := "(LLawnPaths;II[J)I" } : Jvm.MethodName)) ∈ lw_all := lw_g (lw_at lw_m9 135 rfl) rfl
theorem q2203 : (Jvm.Cond.codeWith ({ cls := "LawnPathsLaw", name := "sow", desc := "(LLawnPaths;II[J)I" } : Jvm.MethodName) method_31_code (5 : Nat) (Option.some Jvm.ClassFile.FieldType.int) [((0 : Nat), (10 : Nat), (13 : Nat), (35 : Nat))]) ∈ lw_all := lw_g (lw_at lw_m9 136 rfl) rfl
theorem q2204 : (Jvm.Cond.methodLink "LawnPathsLaw" (106 : Nat) ({ cls := "LawnPaths", name := "sow", desc := "(II)I" } : Jvm.MethodName)) ∈ lw_all := lw_g (lw_at lw_m9 137 rfl) rfl
theorem q2211 : (Jvm.Cond.methodLink "LawnPathsLaw" (262 : Nat) ({ cls := "LawnPathsLaw", name := "setHaste", desc := "(LLawnPaths;II[J)I" } : Jvm.MethodName)) ∈ lw_all := lw_g (lw_at lw_m9 144 rfl) rfl
theorem q2212 : (Jvm.Cond.static ({ cls := "LawnPathsLaw", name := "setHaste", desc := "(LLawnPaths;II[J)I" } : Jvm.MethodName)) ∈ lw_all := lw_g (lw_at lw_m9 145 rfl) rfl
theorem q2213 : (Jvm.Cond.codeWith ({ cls := "LawnPathsLaw", name := "setHaste", desc := "(LLawnPaths;II[J)I" } : Jvm.MethodName) method_32_code (5 : Nat) (Option.some Jvm.ClassFile.FieldType.int) [((0 : Nat), (10 : Nat), (13 : Nat), (35 : Nat)), ((0 : Nat), (10 : Nat), (17 : Nat), (19 : Nat))]) ∈ lw_all := lw_g (lw_at lw_m9 146 rfl) rfl
theorem q2214 : (Jvm.Cond.methodLink "LawnPathsLaw" (109 : Nat) ({ cls := "LawnPaths", name := "setHaste", desc := "(II)I" } : Jvm.MethodName)) ∈ lw_all := lw_g (lw_at lw_m9 147 rfl) rfl
theorem q2221 : (Jvm.Cond.methodLink "LawnPathsLaw" (265 : Nat) ({ cls := "LawnPathsLaw", name := "turnRound", desc := "(LLawnPaths;I[J)I" } : Jvm.MethodName)) ∈ lw_all := lw_g (lw_at lw_m9 154 rfl) rfl
theorem q2222 : (Jvm.Cond.static ({ cls := "LawnPathsLaw", name := "turnRound", desc := "(LLawnPaths;I[J)I" } : Jvm.MethodName)) ∈ lw_all := lw_g (lw_at lw_m9 155 rfl) rfl
theorem q2223 : (Jvm.Cond.codeWith ({ cls := "LawnPathsLaw", name := "turnRound", desc := "(LLawnPaths;I[J)I" } : Jvm.MethodName) method_33_code (4 : Nat) (Option.some Jvm.ClassFile.FieldType.int) [((0 : Nat), (9 : Nat), (12 : Nat), (35 : Nat))]) ∈ lw_all := lw_g (lw_at lw_m9 156 rfl) rfl
theorem q2224 : (Jvm.Cond.methodLink "LawnPathsLaw" (112 : Nat) ({ cls := "LawnPaths", name := "turnRound", desc := "(I)I" } : Jvm.MethodName)) ∈ lw_all := lw_g (lw_at lw_m9 157 rfl) rfl
theorem q2231 : (Jvm.Cond.methodLink "LawnPathsLaw" (272 : Nat) ({ cls := "LawnPathsLaw", name := "writeWay", desc := "(LLawnPaths;I[J)I" } : Jvm.MethodName)) ∈ lw_all := lw_g (lw_at lw_m9 164 rfl) rfl
theorem q2232 : (Jvm.Cond.static ({ cls := "LawnPathsLaw", name := "writeWay", desc := "(LLawnPaths;I[J)I" } : Jvm.MethodName)) ∈ lw_all := lw_g (lw_at lw_m9 165 rfl) rfl
theorem q2233 : (Jvm.Cond.codeWith ({ cls := "LawnPathsLaw", name := "writeWay", desc := "(LLawnPaths;I[J)I" } : Jvm.MethodName) method_34_code (4 : Nat) (Option.some Jvm.ClassFile.FieldType.int) [((0 : Nat), (9 : Nat), (12 : Nat), (35 : Nat))]) ∈ lw_all := lw_g (lw_at lw_m9 166 rfl) rfl
theorem q2234 : (Jvm.Cond.methodLink "LawnPathsLaw" (115 : Nat) ({ cls := "LawnPaths", name := "writeWay", desc := "(I)I" } : Jvm.MethodName)) ∈ lw_all := lw_g (lw_at lw_m9 167 rfl) rfl
theorem q2238 : (Jvm.Cond.methodLink "LawnPathsLaw" (287 : Nat) ({ cls := "LawnPathsLaw", name := "restore", desc := "(LLawnPaths;[J)I" } : Jvm.MethodName)) ∈ lw_all := lw_g (lw_at lw_m9 171 rfl) rfl
theorem q2239 : (Jvm.Cond.static ({ cls := "LawnPathsLaw", name := "restore", desc := "(LLawnPaths;[J)I" } : Jvm.MethodName)) ∈ lw_all := lw_g (lw_at lw_m9 172 rfl) rfl
theorem q2240 : (Jvm.Cond.codeWith ({ cls := "LawnPathsLaw", name := "restore", desc := "(LLawnPaths;[J)I" } : Jvm.MethodName) method_35_code (3 : Nat) (Option.some Jvm.ClassFile.FieldType.int) [((0 : Nat), (8 : Nat), (11 : Nat), (13 : Nat))]) ∈ lw_all := lw_g (lw_at lw_m9 173 rfl) rfl
theorem q2241 : (Jvm.Cond.methodLink "LawnPathsLaw" (118 : Nat) ({ cls := "LawnPaths", name := "restore", desc := "()I" } : Jvm.MethodName)) ∈ lw_all := lw_g (lw_at lw_m9 174 rfl) rfl
theorem q2245 : (Jvm.Cond.classLink "LawnPathsLaw" (122 : Nat) "LawnPathsModel") ∈ lw_all := lw_g (lw_at lw_m9 178 rfl) rfl
theorem q2247 : (Jvm.Cond.methodLink "LawnPathsLaw" (124 : Nat) ({ cls := "LawnPathsModel", name := "<init>", desc := "()V" } : Jvm.MethodName)) ∈ lw_all := lw_g (lw_at lw_m9 180 rfl) rfl
theorem q2544 : (Jvm.Cond.methodLink "LawnPathsLaw" (131 : Nat) ({ cls := "LawnPathsModel", name := "thrown", desc := "()I" } : Jvm.MethodName)) ∈ lw_all := lw_g (lw_at lw_m10 237 rfl) rfl
theorem q2548 : (Jvm.Cond.methodLink "LawnPathsLaw" (130 : Nat) ({ cls := "LawnPathsModel", name := "append", desc := "(IIIII)I" } : Jvm.MethodName)) ∈ lw_all := lw_g (lw_at lw_m11 1 rfl) rfl
theorem q2556 : (Jvm.Cond.methodLink "LawnPathsLaw" (137 : Nat) ({ cls := "LawnPathsModel", name := "truncate", desc := "(I)I" } : Jvm.MethodName)) ∈ lw_all := lw_g (lw_at lw_m11 9 rfl) rfl
theorem q2560 : (Jvm.Cond.methodLink "LawnPathsLaw" (148 : Nat) ({ cls := "LawnPathsModel", name := "errorCode", desc := "()I" } : Jvm.MethodName)) ∈ lw_all := lw_g (lw_at lw_m11 13 rfl) rfl
theorem q2564 : (Jvm.Cond.methodLink "LawnPathsLaw" (152 : Nat) ({ cls := "LawnPathsModel", name := "errorPosition", desc := "()I" } : Jvm.MethodName)) ∈ lw_all := lw_g (lw_at lw_m11 17 rfl) rfl
theorem q2568 : (Jvm.Cond.methodLink "LawnPathsLaw" (141 : Nat) ({ cls := "LawnPathsModel", name := "readText", desc := "()I" } : Jvm.MethodName)) ∈ lw_all := lw_g (lw_at lw_m11 21 rfl) rfl
theorem q2569 : (Jvm.Cond.methodLink "LawnPathsLaw" (144 : Nat) ({ cls := "LawnPathsModel", name := "runOrders", desc := "()I" } : Jvm.MethodName)) ∈ lw_all := lw_g (lw_at lw_m11 22 rfl) rfl
theorem q2675 : (Jvm.Cond.methodLink "LawnPathsLaw" (155 : Nat) ({ cls := "LawnPathsModel", name := "size", desc := "(I)I" } : Jvm.MethodName)) ∈ lw_all := lw_g (lw_at lw_m11 128 rfl) rfl
theorem q2688 : (Jvm.Cond.methodLink "LawnPathsLaw" (159 : Nat) ({ cls := "LawnPathsModel", name := "cell", desc := "(III)I" } : Jvm.MethodName)) ∈ lw_all := lw_g (lw_at lw_m11 141 rfl) rfl
theorem q2713 : (Jvm.Cond.methodLink "LawnPathsLaw" (163 : Nat) ({ cls := "LawnPathsModel", name := "gate", desc := "(II)I" } : Jvm.MethodName)) ∈ lw_all := lw_g (lw_at lw_m11 166 rfl) rfl
theorem q2726 : (Jvm.Cond.methodLink "LawnPathsLaw" (166 : Nat) ({ cls := "LawnPathsModel", name := "walker", desc := "(II)I" } : Jvm.MethodName)) ∈ lw_all := lw_g (lw_at lw_m11 179 rfl) rfl
theorem q2735 : (Jvm.Cond.methodLink "LawnPathsLaw" (170 : Nat) ({ cls := "LawnPathsModel", name := "nameByte", desc := "(IZI)I" } : Jvm.MethodName)) ∈ lw_all := lw_g (lw_at lw_m11 188 rfl) rfl
theorem q2739 : (Jvm.Cond.methodLink "LawnPathsLaw" (175 : Nat) ({ cls := "LawnPathsModel", name := "find", desc := "(Z)I" } : Jvm.MethodName)) ∈ lw_all := lw_g (lw_at lw_m11 192 rfl) rfl
theorem q2743 : (Jvm.Cond.methodLink "LawnPathsLaw" (178 : Nat) ({ cls := "LawnPathsModel", name := "isWet", desc := "(I)Z" } : Jvm.MethodName)) ∈ lw_all := lw_g (lw_at lw_m11 196 rfl) rfl
theorem q2748 : (Jvm.Cond.methodLink "LawnPathsLaw" (181 : Nat) ({ cls := "LawnPathsModel", name := "cost", desc := "(III)I" } : Jvm.MethodName)) ∈ lw_all := lw_g (lw_at lw_m11 201 rfl) rfl
theorem q2752 : (Jvm.Cond.methodLink "LawnPathsLaw" (184 : Nat) ({ cls := "LawnPathsModel", name := "wayCost", desc := "(I)I" } : Jvm.MethodName)) ∈ lw_all := lw_g (lw_at lw_m11 205 rfl) rfl
theorem q2756 : (Jvm.Cond.methodLink "LawnPathsLaw" (187 : Nat) ({ cls := "LawnPathsModel", name := "waySteps", desc := "(I)I" } : Jvm.MethodName)) ∈ lw_all := lw_g (lw_at lw_m11 209 rfl) rfl
theorem q2760 : (Jvm.Cond.methodLink "LawnPathsLaw" (190 : Nat) ({ cls := "LawnPathsModel", name := "wayCell", desc := "(II)I" } : Jvm.MethodName)) ∈ lw_all := lw_g (lw_at lw_m11 213 rfl) rfl
theorem q2768 : (Jvm.Cond.methodLink "LawnPathsLaw" (193 : Nat) ({ cls := "LawnPathsModel", name := "why", desc := "(II)I" } : Jvm.MethodName)) ∈ lw_all := lw_g (lw_at lw_m11 221 rfl) rfl
theorem q2781 : (Jvm.Cond.methodLink "LawnPathsLaw" (196 : Nat) ({ cls := "LawnPathsModel", name := "keptBy", desc := "(III)I" } : Jvm.MethodName)) ∈ lw_all := lw_g (lw_at lw_m11 234 rfl) rfl
theorem q2793 : (Jvm.Cond.methodLink "LawnPathsLaw" (199 : Nat) ({ cls := "LawnPathsModel", name := "account", desc := "(I)I" } : Jvm.MethodName)) ∈ lw_all := lw_g (lw_at lw_m12 6 rfl) rfl
theorem q2802 : (Jvm.Cond.methodLink "LawnPathsLaw" (203 : Nat) ({ cls := "LawnPathsModel", name := "grassBalance", desc := "()I" } : Jvm.MethodName)) ∈ lw_all := lw_g (lw_at lw_m12 15 rfl) rfl
theorem q2806 : (Jvm.Cond.methodLink "LawnPathsLaw" (207 : Nat) ({ cls := "LawnPathsModel", name := "walkBalance", desc := "()I" } : Jvm.MethodName)) ∈ lw_all := lw_g (lw_at lw_m12 19 rfl) rfl
theorem q2811 : (Jvm.Cond.methodLink "LawnPathsLaw" (211 : Nat) ({ cls := "LawnPathsModel", name := "gap", desc := "()I" } : Jvm.MethodName)) ∈ lw_all := lw_g (lw_at lw_m12 24 rfl) rfl
theorem q2819 : (Jvm.Cond.methodLink "LawnPathsLaw" (214 : Nat) ({ cls := "LawnPathsModel", name := "grassIn", desc := "(III)I" } : Jvm.MethodName)) ∈ lw_all := lw_g (lw_at lw_m12 32 rfl) rfl
theorem q2835 : (Jvm.Cond.methodLink "LawnPathsLaw" (217 : Nat) ({ cls := "LawnPathsModel", name := "bareIn", desc := "(I)I" } : Jvm.MethodName)) ∈ lw_all := lw_g (lw_at lw_m12 48 rfl) rfl
theorem q2839 : (Jvm.Cond.methodLink "LawnPathsLaw" (220 : Nat) ({ cls := "LawnPathsModel", name := "whenBare", desc := "(II)I" } : Jvm.MethodName)) ∈ lw_all := lw_g (lw_at lw_m12 52 rfl) rfl
theorem q2843 : (Jvm.Cond.methodLink "LawnPathsLaw" (223 : Nat) ({ cls := "LawnPathsModel", name := "ifFence", desc := "(III)I" } : Jvm.MethodName)) ∈ lw_all := lw_g (lw_at lw_m12 56 rfl) rfl
theorem q2847 : (Jvm.Cond.methodLink "LawnPathsLaw" (226 : Nat) ({ cls := "LawnPathsModel", name := "ifOpen", desc := "(I)I" } : Jvm.MethodName)) ∈ lw_all := lw_g (lw_at lw_m12 60 rfl) rfl
theorem q2851 : (Jvm.Cond.methodLink "LawnPathsLaw" (229 : Nat) ({ cls := "LawnPathsModel", name := "bestFence", desc := "(I)I" } : Jvm.MethodName)) ∈ lw_all := lw_g (lw_at lw_m12 64 rfl) rfl
theorem q2863 : (Jvm.Cond.methodLink "LawnPathsLaw" (232 : Nat) ({ cls := "LawnPathsModel", name := "ifHaste", desc := "(III)I" } : Jvm.MethodName)) ∈ lw_all := lw_g (lw_at lw_m12 76 rfl) rfl
theorem q2868 : (Jvm.Cond.methodLink "LawnPathsLaw" (236 : Nat) ({ cls := "LawnPathsModel", name := "busiest", desc := "()I" } : Jvm.MethodName)) ∈ lw_all := lw_g (lw_at lw_m12 81 rfl) rfl
theorem q2872 : (Jvm.Cond.methodLink "LawnPathsLaw" (241 : Nat) ({ cls := "LawnPathsModel", name := "meanGrass", desc := "()D" } : Jvm.MethodName)) ∈ lw_all := lw_g (lw_at lw_m12 85 rfl) rfl
theorem q2876 : (Jvm.Cond.methodLink "LawnPathsLaw" (246 : Nat) ({ cls := "LawnPathsModel", name := "bareShare", desc := "()F" } : Jvm.MethodName)) ∈ lw_all := lw_g (lw_at lw_m12 89 rfl) rfl
theorem q2880 : (Jvm.Cond.methodLink "LawnPathsLaw" (249 : Nat) ({ cls := "LawnPathsModel", name := "run", desc := "(I)I" } : Jvm.MethodName)) ∈ lw_all := lw_g (lw_at lw_m12 93 rfl) rfl
theorem q2892 : (Jvm.Cond.methodLink "LawnPathsLaw" (252 : Nat) ({ cls := "LawnPathsModel", name := "setFence", desc := "(II)I" } : Jvm.MethodName)) ∈ lw_all := lw_g (lw_at lw_m12 105 rfl) rfl
theorem q2896 : (Jvm.Cond.methodLink "LawnPathsLaw" (255 : Nat) ({ cls := "LawnPathsModel", name := "dropFence", desc := "(II)I" } : Jvm.MethodName)) ∈ lw_all := lw_g (lw_at lw_m12 109 rfl) rfl
theorem q2900 : (Jvm.Cond.methodLink "LawnPathsLaw" (258 : Nat) ({ cls := "LawnPathsModel", name := "pave", desc := "(II)I" } : Jvm.MethodName)) ∈ lw_all := lw_g (lw_at lw_m12 113 rfl) rfl
theorem q2904 : (Jvm.Cond.methodLink "LawnPathsLaw" (261 : Nat) ({ cls := "LawnPathsModel", name := "sow", desc := "(II)I" } : Jvm.MethodName)) ∈ lw_all := lw_g (lw_at lw_m12 117 rfl) rfl
theorem q2908 : (Jvm.Cond.methodLink "LawnPathsLaw" (264 : Nat) ({ cls := "LawnPathsModel", name := "setHaste", desc := "(II)I" } : Jvm.MethodName)) ∈ lw_all := lw_g (lw_at lw_m12 121 rfl) rfl
theorem q2912 : (Jvm.Cond.methodLink "LawnPathsLaw" (267 : Nat) ({ cls := "LawnPathsModel", name := "turnRound", desc := "(I)I" } : Jvm.MethodName)) ∈ lw_all := lw_g (lw_at lw_m12 125 rfl) rfl
theorem q2916 : (Jvm.Cond.methodLink "LawnPathsLaw" (271 : Nat) ({ cls := "LawnPathsModel", name := "writeLawn", desc := "()I" } : Jvm.MethodName)) ∈ lw_all := lw_g (lw_at lw_m12 129 rfl) rfl
theorem q2928 : (Jvm.Cond.methodLink "LawnPathsLaw" (274 : Nat) ({ cls := "LawnPathsModel", name := "writeWay", desc := "(I)I" } : Jvm.MethodName)) ∈ lw_all := lw_g (lw_at lw_m12 141 rfl) rfl
theorem q2935 : (Jvm.Cond.methodLink "LawnPathsLaw" (278 : Nat) ({ cls := "LawnPathsModel", name := "outputByte", desc := "(I)I" } : Jvm.MethodName)) ∈ lw_all := lw_g (lw_at lw_m12 148 rfl) rfl
theorem q2939 : (Jvm.Cond.methodLink "LawnPathsLaw" (282 : Nat) ({ cls := "LawnPathsModel", name := "undo", desc := "()I" } : Jvm.MethodName)) ∈ lw_all := lw_g (lw_at lw_m12 152 rfl) rfl
theorem q2943 : (Jvm.Cond.methodLink "LawnPathsLaw" (286 : Nat) ({ cls := "LawnPathsModel", name := "save", desc := "()I" } : Jvm.MethodName)) ∈ lw_all := lw_g (lw_at lw_m12 156 rfl) rfl
theorem q2947 : (Jvm.Cond.methodLink "LawnPathsLaw" (289 : Nat) ({ cls := "LawnPathsModel", name := "restore", desc := "()I" } : Jvm.MethodName)) ∈ lw_all := lw_g (lw_at lw_m12 160 rfl) rfl
/-! LawnPaths -/
def RX1 : String := "LawnPaths"
def TX1 : u_T := fun k => match k with
  | 0 => ("LawnPaths", "now", "LLawnPaths$Lawn;", false)
  | 1 => ("LawnPaths", "kept", "LLawnPaths$Lawn;", false)
  | 2 => ("LawnPaths", "past", "Ljava/util/ArrayDeque;", true)
  | 3 => ("LawnPaths", "buffer", "[B", true)
  | 4 => ("LawnPaths", "length", "I", false)
  | 5 => ("LawnPaths", "errorCode", "I", false)
  | 6 => ("LawnPaths", "errorPosition", "I", false)
  | _ => ("LawnPaths", "output", "Ljava/lang/StringBuilder;", true)
def tyX1 : Nat → FieldType := fun k => match k with
  | 0 => .object "LawnPaths$Lawn"
  | 1 => .object "LawnPaths$Lawn"
  | 2 => .object "java/util/ArrayDeque"
  | 3 => .array .byte
  | 4 => .int
  | 5 => .int
  | 6 => .int
  | _ => .object "java/lang/StringBuilder"
abbrev wsX10 : List Cond := u_ws RX1 TX1 8
theorem nmX1 : ∀ a, a < 8 → ∀ b, b < 8 → a ≠ b → (TX1 a).2.1 ≠ (TX1 b).2.1 := by decide +kernel
theorem tyX1_ok : ∀ k, k < 8 → parseFieldDescriptor (TX1 k).2.2.1 = some (tyX1 k) := by decide +kernel
abbrev cX1_init : ByteArray := prog_1_method_6_code
def yX1_init : MethodName := ⟨RX1, "<init>", "()V"⟩
abbrev cX1_plain : ByteArray := prog_1_method_8_code
def yX1_plain : MethodName := ⟨RX1, "plain", "()LLawnPaths$Lawn;"⟩
abbrev cX1_stones : ByteArray := prog_1_method_7_code
def yX1_stones : MethodName := ⟨RX1, "stones", "(LLawnPaths$Lawn;[I)V"⟩
abbrev cX1_errorCode : ByteArray := prog_1_method_18_code
def yX1_errorCode : MethodName := ⟨RX1, "errorCode", "()I"⟩
abbrev cX1_errorPosition : ByteArray := prog_1_method_19_code
def yX1_errorPosition : MethodName := ⟨RX1, "errorPosition", "()I"⟩
abbrev cX1_find : ByteArray := prog_1_method_32_code
def yX1_find : MethodName := ⟨RX1, "find", "(Z)I"⟩
abbrev cX1_in : ByteArray := prog_1_method_1_code
def yX1_in : MethodName := ⟨RX1, "in", "(JJJ)Z"⟩
abbrev cX1_grassBalance : ByteArray := prog_1_method_46_code
def yX1_grassBalance : MethodName := ⟨RX1, "grassBalance", "()I"⟩
abbrev cX1_walkBalance : ByteArray := prog_1_method_47_code
def yX1_walkBalance : MethodName := ⟨RX1, "walkBalance", "()I"⟩
abbrev cX1_gap : ByteArray := prog_1_method_49_code
def yX1_gap : MethodName := ⟨RX1, "gap", "()I"⟩
abbrev cX1_isBroken : ByteArray := prog_1_method_48_code
def yX1_isBroken : MethodName := ⟨RX1, "isBroken", "(LLawnPaths$Walker;)Z"⟩
abbrev cX1_bit : ByteArray := prog_1_method_2_code
def yX1_bit : MethodName := ⟨RX1, "bit", "(Z)I"⟩
abbrev cX1_busiest : ByteArray := prog_1_method_59_code
def yX1_busiest : MethodName := ⟨RX1, "busiest", "()I"⟩
abbrev cX1_told : ByteArray := prog_1_method_38_code
def yX1_told : MethodName := ⟨RX1, "told", "(I)I"⟩
abbrev cX1_meanGrass : ByteArray := prog_1_method_60_code
def yX1_meanGrass : MethodName := ⟨RX1, "meanGrass", "()D"⟩
abbrev cX1_bareShare : ByteArray := prog_1_method_61_code
def yX1_bareShare : MethodName := ⟨RX1, "bareShare", "()F"⟩
abbrev cX1_writeLawn : ByteArray := prog_1_method_71_code
def yX1_writeLawn : MethodName := ⟨RX1, "writeLawn", "()I"⟩
abbrev cX1_sign : ByteArray := prog_1_method_70_code
def yX1_sign : MethodName := ⟨RX1, "sign", "(I)C"⟩
abbrev cX1_outputByte : ByteArray := prog_1_method_73_code
def yX1_outputByte : MethodName := ⟨RX1, "outputByte", "(I)I"⟩
abbrev cX1_undo : ByteArray := prog_1_method_74_code
def yX1_undo : MethodName := ⟨RX1, "undo", "()I"⟩
abbrev cX1_save : ByteArray := prog_1_method_75_code
def yX1_save : MethodName := ⟨RX1, "save", "()I"⟩
abbrev cX1_append : ByteArray := prog_1_method_11_code
def yX1_append : MethodName := ⟨RX1, "append", "(IIIII)I"⟩
abbrev cX1_fours : ByteArray := prog_1_method_10_code
def yX1_fours : MethodName := ⟨RX1, "fours", "([I)V"⟩
abbrev cX1_truncate : ByteArray := prog_1_method_12_code
def yX1_truncate : MethodName := ⟨RX1, "truncate", "(I)I"⟩
abbrev cX1_argument : ByteArray := prog_1_method_4_code
def yX1_argument : MethodName := ⟨RX1, "argument", "(Z)V"⟩
abbrev cX1_readText : ByteArray := prog_1_method_16_code
def yX1_readText : MethodName := ⟨RX1, "readText", "()I"⟩
abbrev cX1_failed : ByteArray := prog_1_method_15_code
def yX1_failed : MethodName := ⟨RX1, "failed", "(LLawnPaths$Unreadable;)Ljava/lang/IllegalArgumentException;"⟩
abbrev cX1_noError : ByteArray := prog_1_method_14_code
def yX1_noError : MethodName := ⟨RX1, "noError", "()V"⟩
abbrev cX1_runOrders : ByteArray := prog_1_method_17_code
def yX1_runOrders : MethodName := ⟨RX1, "runOrders", "()I"⟩
abbrev cX1_isAct : ByteArray := prog_1_method_13_code
def yX1_isAct : MethodName := ⟨RX1, "isAct", "(Ljava/lang/String;)Z"⟩
abbrev cX1_must : ByteArray := prog_1_method_5_code
def yX1_must : MethodName := ⟨RX1, "must", "(ZI)V"⟩
abbrev cX1_becomes : ByteArray := prog_1_method_9_code
def yX1_becomes : MethodName := ⟨RX1, "becomes", "(LLawnPaths$Lawn;I)I"⟩
abbrev cX1_size : ByteArray := prog_1_method_20_code
def yX1_size : MethodName := ⟨RX1, "size", "(I)I"⟩
abbrev cX1_cell : ByteArray := prog_1_method_27_code
def yX1_cell : MethodName := ⟨RX1, "cell", "(III)I"⟩
abbrev cX1_at : ByteArray := prog_1_method_21_code
def yX1_at : MethodName := ⟨RX1, "at", "(II)I"⟩
abbrev cX1_index : ByteArray := prog_1_method_3_code
def yX1_index : MethodName := ⟨RX1, "index", "(Z)V"⟩
abbrev cX1_since : ByteArray := prog_1_method_26_code
def yX1_since : MethodName := ⟨RX1, "since", "(I)I"⟩
abbrev cX1_walkersOver : ByteArray := prog_1_method_25_code
def yX1_walkersOver : MethodName := ⟨RX1, "walkersOver", "(I)I"⟩
abbrev cX1_isOn : ByteArray := prog_1_method_24_code
def yX1_isOn : MethodName := ⟨RX1, "isOn", "(LLawnPaths$Walker;I)Z"⟩
abbrev cX1_gate : ByteArray := prog_1_method_29_code
def yX1_gate : MethodName := ⟨RX1, "gate", "(II)I"⟩
abbrev cX1_thing : ByteArray := prog_1_method_22_code
def yX1_thing : MethodName := ⟨RX1, "thing", "(LLawnPaths$Row;I)LLawnPaths$Named;"⟩
abbrev cX1_walkersAt : ByteArray := prog_1_method_28_code
def yX1_walkersAt : MethodName := ⟨RX1, "walkersAt", "(IZ)I"⟩
abbrev cX1_walker : ByteArray := prog_1_method_30_code
def yX1_walker : MethodName := ⟨RX1, "walker", "(II)I"⟩
abbrev cX1_walkerAt : ByteArray := prog_1_method_23_code
def yX1_walkerAt : MethodName := ⟨RX1, "walkerAt", "(I)LLawnPaths$Walker;"⟩
abbrev cX1_nameByte : ByteArray := prog_1_method_31_code
def yX1_nameByte : MethodName := ⟨RX1, "nameByte", "(IZI)I"⟩
abbrev cX1_isWet : ByteArray := prog_1_method_33_code
def yX1_isWet : MethodName := ⟨RX1, "isWet", "(I)Z"⟩
abbrev cX1_cost : ByteArray := prog_1_method_34_code
def yX1_cost : MethodName := ⟨RX1, "cost", "(III)I"⟩
abbrev cX1_wayCost : ByteArray := prog_1_method_35_code
def yX1_wayCost : MethodName := ⟨RX1, "wayCost", "(I)I"⟩
abbrev cX1_waySteps : ByteArray := prog_1_method_37_code
def yX1_waySteps : MethodName := ⟨RX1, "waySteps", "(I)I"⟩
abbrev cX1_stepsOf : ByteArray := prog_1_method_36_code
def yX1_stepsOf : MethodName := ⟨RX1, "stepsOf", "(LLawnPaths$Walker;)I"⟩
abbrev cX1_wayCell : ByteArray := prog_1_method_39_code
def yX1_wayCell : MethodName := ⟨RX1, "wayCell", "(II)I"⟩
abbrev cX1_why : ByteArray := prog_1_method_43_code
def yX1_why : MethodName := ⟨RX1, "why", "(II)I"⟩
abbrev cX1_dearer : ByteArray := prog_1_method_41_code
def yX1_dearer : MethodName := ⟨RX1, "dearer", "(LLawnPaths$Walker;)I"⟩
abbrev cX1_because : ByteArray := prog_1_method_40_code
def yX1_because : MethodName := ⟨RX1, "because", "(IIII)I"⟩
abbrev cX1_grassOn : ByteArray := prog_1_method_42_code
def yX1_grassOn : MethodName := ⟨RX1, "grassOn", "(LLawnPaths$Walker;)I"⟩
abbrev cX1_keptBy : ByteArray := prog_1_method_44_code
def yX1_keptBy : MethodName := ⟨RX1, "keptBy", "(III)I"⟩
abbrev cX1_account : ByteArray := prog_1_method_45_code
def yX1_account : MethodName := ⟨RX1, "account", "(I)I"⟩
abbrev cX1_grassIn : ByteArray := prog_1_method_51_code
def yX1_grassIn : MethodName := ⟨RX1, "grassIn", "(III)I"⟩
abbrev cX1_behind : ByteArray := prog_1_method_50_code
def yX1_behind : MethodName := ⟨RX1, "behind", "(I)LLawnPaths$Lawn;"⟩
abbrev cX1_bareIn : ByteArray := prog_1_method_52_code
def yX1_bareIn : MethodName := ⟨RX1, "bareIn", "(I)I"⟩
abbrev cX1_whenBare : ByteArray := prog_1_method_53_code
def yX1_whenBare : MethodName := ⟨RX1, "whenBare", "(II)I"⟩
abbrev cX1_ifFence : ByteArray := prog_1_method_55_code
def yX1_ifFence : MethodName := ⟨RX1, "ifFence", "(III)I"⟩
abbrev cX1_fencedAt : ByteArray := prog_1_method_54_code
def yX1_fencedAt : MethodName := ⟨RX1, "fencedAt", "(I)LLawnPaths$Lawn;"⟩
abbrev cX1_ifOpen : ByteArray := prog_1_method_56_code
def yX1_ifOpen : MethodName := ⟨RX1, "ifOpen", "(I)I"⟩
abbrev cX1_bestFence : ByteArray := prog_1_method_57_code
def yX1_bestFence : MethodName := ⟨RX1, "bestFence", "(I)I"⟩
abbrev cX1_ifHaste : ByteArray := prog_1_method_58_code
def yX1_ifHaste : MethodName := ⟨RX1, "ifHaste", "(III)I"⟩
abbrev cX1_run : ByteArray := prog_1_method_63_code
def yX1_run : MethodName := ⟨RX1, "run", "(I)I"⟩
abbrev cX1_lambda_run_0 : ByteArray := prog_1_method_83_code
def yX1_lambda_run_0 : MethodName := ⟨RX1, "lambda$run$0", "(ILLawnPaths$Lawn;)I"⟩
abbrev cX1_changes : ByteArray := prog_1_method_62_code
def yX1_changes : MethodName := ⟨RX1, "changes", "(LLawnPaths$Change;)I"⟩
abbrev cX1_setFence : ByteArray := prog_1_method_64_code
def yX1_setFence : MethodName := ⟨RX1, "setFence", "(II)I"⟩
abbrev cX1_lambda_setFence_1 : ByteArray := prog_1_method_82_code
def yX1_lambda_setFence_1 : MethodName := ⟨RX1, "lambda$setFence$1", "(ILLawnPaths$Lawn;)I"⟩
abbrev cX1_dropFence : ByteArray := prog_1_method_65_code
def yX1_dropFence : MethodName := ⟨RX1, "dropFence", "(II)I"⟩
abbrev cX1_lambda_dropFence_2 : ByteArray := prog_1_method_81_code
def yX1_lambda_dropFence_2 : MethodName := ⟨RX1, "lambda$dropFence$2", "(ILLawnPaths$Lawn;)I"⟩
abbrev cX1_pave : ByteArray := prog_1_method_66_code
def yX1_pave : MethodName := ⟨RX1, "pave", "(II)I"⟩
abbrev cX1_lambda_pave_3 : ByteArray := prog_1_method_80_code
def yX1_lambda_pave_3 : MethodName := ⟨RX1, "lambda$pave$3", "(ILLawnPaths$Lawn;)I"⟩
abbrev cX1_sow : ByteArray := prog_1_method_67_code
def yX1_sow : MethodName := ⟨RX1, "sow", "(II)I"⟩
abbrev cX1_lambda_sow_4 : ByteArray := prog_1_method_79_code
def yX1_lambda_sow_4 : MethodName := ⟨RX1, "lambda$sow$4", "(ILLawnPaths$Lawn;)I"⟩
abbrev cX1_setHaste : ByteArray := prog_1_method_68_code
def yX1_setHaste : MethodName := ⟨RX1, "setHaste", "(II)I"⟩
abbrev cX1_lambda_setHaste_5 : ByteArray := prog_1_method_78_code
def yX1_lambda_setHaste_5 : MethodName := ⟨RX1, "lambda$setHaste$5", "(IILLawnPaths$Lawn;)I"⟩
abbrev cX1_turnRound : ByteArray := prog_1_method_69_code
def yX1_turnRound : MethodName := ⟨RX1, "turnRound", "(I)I"⟩
abbrev cX1_lambda_turnRound_6 : ByteArray := prog_1_method_77_code
def yX1_lambda_turnRound_6 : MethodName := ⟨RX1, "lambda$turnRound$6", "(ILLawnPaths$Lawn;)I"⟩
abbrev cX1_writeWay : ByteArray := prog_1_method_72_code
def yX1_writeWay : MethodName := ⟨RX1, "writeWay", "(I)I"⟩
abbrev cX1_restore : ByteArray := prog_1_method_76_code
def yX1_restore : MethodName := ⟨RX1, "restore", "()I"⟩
theorem q148 : (Jvm.Cond.initialized "LawnPaths") ∈ lw_all := lw_g (lw_at lw_m1 1 rfl) rfl
theorem q194 : (Jvm.Cond.instantiable "LawnPaths" (8 : Nat)) ∈ lw_all := lw_g (lw_at lw_m1 47 rfl) rfl
theorem q196 : (Jvm.Cond.instanceMethod ({ cls := "LawnPaths", name := "<init>", desc := "()V" } : Jvm.MethodName)) ∈ lw_all := lw_g (lw_at lw_m1 49 rfl) rfl
theorem q197 : (Jvm.Cond.code ({ cls := "LawnPaths", name := "<init>", desc := "()V" } : Jvm.MethodName) prog_1_method_6_code (1 : Nat) (Option.none : Option Jvm.ClassFile.FieldType)) ∈ lw_all := lw_g (lw_at lw_m1 50 rfl) rfl
theorem q198 : (Jvm.Cond.methodLink "LawnPaths" (15 : Nat) ({ cls := "java/lang/Object", name := "<init>", desc := "()V" } : Jvm.MethodName)) ∈ lw_all := lw_g (lw_at lw_m1 51 rfl) rfl
theorem q201 : (Jvm.Cond.methodLink "LawnPaths" (18 : Nat) ({ cls := "LawnPaths", name := "plain", desc := "()LLawnPaths$Lawn;" } : Jvm.MethodName)) ∈ lw_all := lw_g (lw_at lw_m1 54 rfl) rfl
theorem q202 : (Jvm.Cond.static ({ cls := "LawnPaths", name := "plain", desc := "()LLawnPaths$Lawn;" } : Jvm.MethodName)) ∈ lw_all := lw_g (lw_at lw_m1 55 rfl) rfl
theorem q203 : (Jvm.Cond.code ({ cls := "LawnPaths", name := "plain", desc := "()LLawnPaths$Lawn;" } : Jvm.MethodName) prog_1_method_8_code (1 : Nat) (Option.some (Jvm.ClassFile.FieldType.object "LawnPaths$Lawn"))) ∈ lw_all := lw_g (lw_at lw_m1 56 rfl) rfl
theorem q204 : (Jvm.Cond.classLink "LawnPaths" (51 : Nat) "LawnPaths$Lawn") ∈ lw_all := lw_g (lw_at lw_m1 57 rfl) rfl
theorem q206 : (Jvm.Cond.methodLink "LawnPaths" (56 : Nat) ({ cls := "LawnPaths$Lawn", name := "<init>", desc := "(IIII)V" } : Jvm.MethodName)) ∈ lw_all := lw_g (lw_at lw_m1 59 rfl) rfl
theorem q254 : (Jvm.Cond.fieldLinkNest "LawnPaths" (206 : Nat) "LawnPaths$Lawn" "wide" "I" "LawnPaths") ∈ lw_tbl := lw_at lw_m1 107 rfl
theorem q257 : (Jvm.Cond.fieldLinkNest "LawnPaths" (209 : Nat) "LawnPaths$Lawn" "high" "I" "LawnPaths") ∈ lw_tbl := lw_at lw_m1 110 rfl
theorem q259 : (Jvm.Cond.fieldLinkNest "LawnPaths" (212 : Nat) "LawnPaths$Lawn" "grow" "I" "LawnPaths") ∈ lw_tbl := lw_at lw_m1 112 rfl
theorem q261 : (Jvm.Cond.fieldLinkNest "LawnPaths" (215 : Nat) "LawnPaths$Lawn" "wet" "I" "LawnPaths") ∈ lw_tbl := lw_at lw_m1 114 rfl
theorem q263 : (Jvm.Cond.fieldLinkNest "LawnPaths" (446 : Nat) "LawnPaths$Lawn" "cells" "I" "LawnPaths") ∈ lw_tbl := lw_at lw_m1 116 rfl
theorem q266 : (Jvm.Cond.fieldLinkNest "LawnPaths" (287 : Nat) "LawnPaths$Lawn" "kinds" "[I" "LawnPaths") ∈ lw_tbl := lw_at lw_m1 119 rfl
theorem q269 : (Jvm.Cond.fieldLinkNest "LawnPaths" (293 : Nat) "LawnPaths$Lawn" "grass" "[I" "LawnPaths") ∈ lw_tbl := lw_at lw_m1 122 rfl
theorem q271 : (Jvm.Cond.fieldLinkNest "LawnPaths" (300 : Nat) "LawnPaths$Lawn" "trodden" "[I" "LawnPaths") ∈ lw_tbl := lw_at lw_m1 124 rfl
theorem q273 : (Jvm.Cond.fieldLinkNest "LawnPaths" (279 : Nat) "LawnPaths$Lawn" "last" "[I" "LawnPaths") ∈ lw_tbl := lw_at lw_m1 126 rfl
theorem q275 : (Jvm.Cond.fieldLinkNest "LawnPaths" (413 : Nat) "LawnPaths$Lawn" "accounts" "[I" "LawnPaths") ∈ lw_tbl := lw_at lw_m1 128 rfl
theorem q279 : (Jvm.Cond.fieldLinkNest "LawnPaths" (296 : Nat) "LawnPaths$Lawn" "fences" "[Z" "LawnPaths") ∈ lw_tbl := lw_at lw_m1 132 rfl
theorem q282 : (Jvm.Cond.fieldLinkNest "LawnPaths" (197 : Nat) "LawnPaths$Lawn" "gates" "LLawnPaths$Row;" "LawnPaths") ∈ lw_tbl := lw_at lw_m1 135 rfl
theorem q284 : (Jvm.Cond.fieldLinkNest "LawnPaths" (69 : Nat) "LawnPaths$Lawn" "walkers" "LLawnPaths$Row;" "LawnPaths") ∈ lw_tbl := lw_at lw_m1 137 rfl
theorem q287 : (Jvm.Cond.fieldLinkNest "LawnPaths" (203 : Nat) "LawnPaths$Lawn" "day" "I" "LawnPaths") ∈ lw_tbl := lw_at lw_m1 140 rfl
theorem q290 : (Jvm.Cond.fieldLinkNest "LawnPaths" (416 : Nat) "LawnPaths$Lawn" "first" "I" "LawnPaths") ∈ lw_tbl := lw_at lw_m1 143 rfl
theorem q336 : (Jvm.Cond.stringRef "LawnPaths" (59 : Nat) "west") ∈ lw_tbl := lw_at lw_m1 189 rfl
theorem q337 : (Jvm.Cond.methodLink "LawnPaths" (61 : Nat) ({ cls := "LawnPaths$Lawn", name := "addsGate", desc := "(Ljava/lang/String;I)V" } : Jvm.MethodName)) ∈ lw_all := lw_g (lw_at lw_m1 190 rfl) rfl
theorem q404 : (Jvm.Cond.selects "LawnPaths" ({ cls := "java/lang/Object", name := "getClass", desc := "()Ljava/lang/Class;" } : Jvm.MethodName) ({ cls := "java/lang/Object", name := "getClass", desc := "()Ljava/lang/Class;" } : Jvm.MethodName)) ∈ lw_all := lw_g (lw_at lw_m2 17 rfl) rfl
theorem q449 : (Jvm.Cond.stringRef "LawnPaths" (65 : Nat) "east") ∈ lw_tbl := lw_at lw_m2 62 rfl
theorem q450 : (Jvm.Cond.stringRef "LawnPaths" (67 : Nat) "pond") ∈ lw_tbl := lw_at lw_m2 63 rfl
theorem q451 : (Jvm.Cond.classLink "LawnPaths" (73 : Nat) "LawnPaths$Walker") ∈ lw_all := lw_g (lw_at lw_m2 64 rfl) rfl
theorem q453 : (Jvm.Cond.stringRef "LawnPaths" (75 : Nat) "ada") ∈ lw_tbl := lw_at lw_m2 66 rfl
theorem q454 : (Jvm.Cond.methodLink "LawnPaths" (77 : Nat) ({ cls := "LawnPaths$Walker", name := "<init>", desc := "(Ljava/lang/String;IIII)V" } : Jvm.MethodName)) ∈ lw_all := lw_g (lw_at lw_m2 67 rfl) rfl
theorem q459 : (Jvm.Cond.fieldLinkNest "LawnPaths" (347 : Nat) "LawnPaths$Walker" "name" "Ljava/lang/String;" "LawnPaths") ∈ lw_tbl := lw_at lw_m2 72 rfl
theorem q461 : (Jvm.Cond.fieldLinkNest "LawnPaths" (335 : Nat) "LawnPaths$Walker" "period" "I" "LawnPaths") ∈ lw_tbl := lw_at lw_m2 74 rfl
theorem q465 : (Jvm.Cond.fieldLinkNest "LawnPaths" (309 : Nat) "LawnPaths$Walker" "from" "I" "LawnPaths") ∈ lw_tbl := lw_at lw_m2 78 rfl
theorem q469 : (Jvm.Cond.fieldLinkNest "LawnPaths" (312 : Nat) "LawnPaths$Walker" "to" "I" "LawnPaths") ∈ lw_tbl := lw_at lw_m2 82 rfl
theorem q472 : (Jvm.Cond.fieldLinkNest "LawnPaths" (333 : Nat) "LawnPaths$Walker" "haste" "I" "LawnPaths") ∈ lw_tbl := lw_at lw_m2 85 rfl
theorem q475 : (Jvm.Cond.fieldLinkNest "LawnPaths" (338 : Nat) "LawnPaths$Walker" "walks" "I" "LawnPaths") ∈ lw_tbl := lw_at lw_m2 88 rfl
theorem q478 : (Jvm.Cond.fieldLinkNest "LawnPaths" (341 : Nat) "LawnPaths$Walker" "steps" "I" "LawnPaths") ∈ lw_tbl := lw_at lw_m2 91 rfl
theorem q494 : (Jvm.Cond.methodLink "LawnPaths" (80 : Nat) ({ cls := "LawnPaths$Row", name := "add", desc := "(LLawnPaths$Named;)V" } : Jvm.MethodName)) ∈ lw_all := lw_g (lw_at lw_m2 107 rfl) rfl
theorem q495 : (Jvm.Cond.stringRef "LawnPaths" (86 : Nat) "ben") ∈ lw_tbl := lw_at lw_m2 108 rfl
theorem q496 : (Jvm.Cond.methodLink "LawnPaths" (88 : Nat) ({ cls := "LawnPaths", name := "stones", desc := "(LLawnPaths$Lawn;[I)V" } : Jvm.MethodName)) ∈ lw_all := lw_g (lw_at lw_m2 109 rfl) rfl
theorem q497 : (Jvm.Cond.static ({ cls := "LawnPaths", name := "stones", desc := "(LLawnPaths$Lawn;[I)V" } : Jvm.MethodName)) ∈ lw_all := lw_g (lw_at lw_m2 110 rfl) rfl
theorem q498 : (Jvm.Cond.code ({ cls := "LawnPaths", name := "stones", desc := "(LLawnPaths$Lawn;[I)V" } : Jvm.MethodName) prog_1_method_7_code (6 : Nat) (Option.none : Option Jvm.ClassFile.FieldType)) ∈ lw_all := lw_g (lw_at lw_m2 111 rfl) rfl
theorem q499 : (Jvm.Cond.methodLink "LawnPaths" (50 : Nat) ({ cls := "LawnPaths$Lawn", name := "hardens", desc := "(II)V" } : Jvm.MethodName)) ∈ lw_all := lw_g (lw_at lw_m2 112 rfl) rfl
theorem q500 : (Jvm.Cond.classLink "LawnPaths" (28 : Nat) "java/util/ArrayDeque") ∈ lw_all := lw_g (lw_at lw_m2 113 rfl) rfl
theorem q502 : (Jvm.Cond.methodLink "LawnPaths" (30 : Nat) ({ cls := "java/util/ArrayDeque", name := "<init>", desc := "(I)V" } : Jvm.MethodName)) ∈ lw_all := lw_g (lw_at lw_m2 115 rfl) rfl
theorem q520 : (Jvm.Cond.classLink "LawnPaths" (43 : Nat) "java/lang/StringBuilder") ∈ lw_all := lw_g (lw_at lw_m2 133 rfl) rfl
theorem q522 : (Jvm.Cond.methodLink "LawnPaths" (45 : Nat) ({ cls := "java/lang/StringBuilder", name := "<init>", desc := "()V" } : Jvm.MethodName)) ∈ lw_all := lw_g (lw_at lw_m2 135 rfl) rfl
theorem q553 : (Jvm.Cond.fieldLink "LawnPaths" (24 : Nat) "LawnPaths" "now" "LLawnPaths$Lawn;") ∈ lw_all := lw_g (lw_at lw_m2 166 rfl) rfl
theorem q555 : (Jvm.Cond.fieldLink "LawnPaths" (489 : Nat) "LawnPaths" "kept" "LLawnPaths$Lawn;") ∈ lw_all := lw_g (lw_at lw_m2 168 rfl) rfl
theorem q556 : (Jvm.Cond.fieldLink "LawnPaths" (31 : Nat) "LawnPaths" "past" "Ljava/util/ArrayDeque;") ∈ lw_all := lw_g (lw_at lw_m2 169 rfl) rfl
theorem q558 : (Jvm.Cond.fieldLink "LawnPaths" (35 : Nat) "LawnPaths" "buffer" "[B") ∈ lw_all := lw_g (lw_at lw_m2 171 rfl) rfl
theorem q560 : (Jvm.Cond.fieldLink "LawnPaths" (104 : Nat) "LawnPaths" "length" "I") ∈ lw_all := lw_g (lw_at lw_m2 173 rfl) rfl
theorem q561 : (Jvm.Cond.fieldLink "LawnPaths" (145 : Nat) "LawnPaths" "errorCode" "I") ∈ lw_all := lw_g (lw_at lw_m2 174 rfl) rfl
theorem q562 : (Jvm.Cond.fieldLink "LawnPaths" (39 : Nat) "LawnPaths" "errorPosition" "I") ∈ lw_all := lw_g (lw_at lw_m2 175 rfl) rfl
theorem q563 : (Jvm.Cond.fieldLink "LawnPaths" (46 : Nat) "LawnPaths" "output" "Ljava/lang/StringBuilder;") ∈ lw_all := lw_g (lw_at lw_m2 176 rfl) rfl
theorem q564 : (Jvm.Cond.lays "LawnPaths" "LawnPaths" "now" "LLawnPaths$Lawn;") ∈ lw_all := lw_g (lw_at lw_m2 177 rfl) rfl
theorem q565 : (Jvm.Cond.soleField "LawnPaths" "now") ∈ lw_all := lw_g (lw_at lw_m2 178 rfl) rfl
theorem q566 : (Jvm.Cond.lays "LawnPaths" "LawnPaths" "kept" "LLawnPaths$Lawn;") ∈ lw_all := lw_g (lw_at lw_m2 179 rfl) rfl
theorem q567 : (Jvm.Cond.soleField "LawnPaths" "kept") ∈ lw_all := lw_g (lw_at lw_m2 180 rfl) rfl
theorem q568 : (Jvm.Cond.laysFinal "LawnPaths" "LawnPaths" "past" "Ljava/util/ArrayDeque;") ∈ lw_all := lw_g (lw_at lw_m2 181 rfl) rfl
theorem q569 : (Jvm.Cond.soleField "LawnPaths" "past") ∈ lw_all := lw_g (lw_at lw_m2 182 rfl) rfl
theorem q570 : (Jvm.Cond.laysFinal "LawnPaths" "LawnPaths" "buffer" "[B") ∈ lw_all := lw_g (lw_at lw_m2 183 rfl) rfl
theorem q571 : (Jvm.Cond.soleField "LawnPaths" "buffer") ∈ lw_all := lw_g (lw_at lw_m2 184 rfl) rfl
theorem q572 : (Jvm.Cond.lays "LawnPaths" "LawnPaths" "length" "I") ∈ lw_all := lw_g (lw_at lw_m2 185 rfl) rfl
theorem q573 : (Jvm.Cond.soleField "LawnPaths" "length") ∈ lw_all := lw_g (lw_at lw_m2 186 rfl) rfl
theorem q574 : (Jvm.Cond.lays "LawnPaths" "LawnPaths" "errorCode" "I") ∈ lw_all := lw_g (lw_at lw_m2 187 rfl) rfl
theorem q575 : (Jvm.Cond.soleField "LawnPaths" "errorCode") ∈ lw_all := lw_g (lw_at lw_m2 188 rfl) rfl
theorem q576 : (Jvm.Cond.lays "LawnPaths" "LawnPaths" "errorPosition" "I") ∈ lw_all := lw_g (lw_at lw_m2 189 rfl) rfl
theorem q577 : (Jvm.Cond.soleField "LawnPaths" "errorPosition") ∈ lw_all := lw_g (lw_at lw_m2 190 rfl) rfl
theorem q578 : (Jvm.Cond.laysFinal "LawnPaths" "LawnPaths" "output" "Ljava/lang/StringBuilder;") ∈ lw_all := lw_g (lw_at lw_m2 191 rfl) rfl
theorem q579 : (Jvm.Cond.soleField "LawnPaths" "output") ∈ lw_all := lw_g (lw_at lw_m2 192 rfl) rfl
theorem q580 : (Jvm.Cond.superclass "LawnPaths" "java/lang/Object") ∈ lw_all := lw_g (lw_at lw_m2 193 rfl) rfl
theorem q582 : (Jvm.Cond.instanceMethod ({ cls := "LawnPaths", name := "errorCode", desc := "()I" } : Jvm.MethodName)) ∈ lw_all := lw_g (lw_at lw_m2 195 rfl) rfl
theorem q583 : (Jvm.Cond.selects "LawnPaths" ({ cls := "LawnPaths", name := "errorCode", desc := "()I" } : Jvm.MethodName) ({ cls := "LawnPaths", name := "errorCode", desc := "()I" } : Jvm.MethodName)) ∈ lw_all := lw_g (lw_at lw_m2 196 rfl) rfl
theorem q584 : (Jvm.Cond.code ({ cls := "LawnPaths", name := "errorCode", desc := "()I" } : Jvm.MethodName) prog_1_method_18_code (1 : Nat) (Option.some Jvm.ClassFile.FieldType.int)) ∈ lw_all := lw_g (lw_at lw_m2 197 rfl) rfl
theorem q586 : (Jvm.Cond.instanceMethod ({ cls := "LawnPaths", name := "errorPosition", desc := "()I" } : Jvm.MethodName)) ∈ lw_all := lw_g (lw_at lw_m2 199 rfl) rfl
theorem q587 : (Jvm.Cond.selects "LawnPaths" ({ cls := "LawnPaths", name := "errorPosition", desc := "()I" } : Jvm.MethodName) ({ cls := "LawnPaths", name := "errorPosition", desc := "()I" } : Jvm.MethodName)) ∈ lw_all := lw_g (lw_at lw_m2 200 rfl) rfl
theorem q588 : (Jvm.Cond.code ({ cls := "LawnPaths", name := "errorPosition", desc := "()I" } : Jvm.MethodName) prog_1_method_19_code (1 : Nat) (Option.some Jvm.ClassFile.FieldType.int)) ∈ lw_all := lw_g (lw_at lw_m2 201 rfl) rfl
theorem q590 : (Jvm.Cond.instanceMethod ({ cls := "LawnPaths", name := "find", desc := "(Z)I" } : Jvm.MethodName)) ∈ lw_all := lw_g (lw_at lw_m2 203 rfl) rfl
theorem q591 : (Jvm.Cond.selects "LawnPaths" ({ cls := "LawnPaths", name := "find", desc := "(Z)I" } : Jvm.MethodName) ({ cls := "LawnPaths", name := "find", desc := "(Z)I" } : Jvm.MethodName)) ∈ lw_all := lw_g (lw_at lw_m2 204 rfl) rfl
theorem q592 : (Jvm.Cond.code ({ cls := "LawnPaths", name := "find", desc := "(Z)I" } : Jvm.MethodName) prog_1_method_32_code (4 : Nat) (Option.some Jvm.ClassFile.FieldType.int)) ∈ lw_all := lw_g (lw_at lw_m2 205 rfl) rfl
theorem q593 : (Jvm.Cond.constantLong "LawnPaths" (354 : Nat) (97 : Int64)) ∈ lw_all := lw_g (lw_at lw_m2 206 rfl) rfl
theorem q594 : (Jvm.Cond.constantLong "LawnPaths" (356 : Nat) (122 : Int64)) ∈ lw_all := lw_g (lw_at lw_m2 207 rfl) rfl
theorem q595 : (Jvm.Cond.methodLink "LawnPaths" (114 : Nat) ({ cls := "LawnPaths", name := "in", desc := "(JJJ)Z" } : Jvm.MethodName)) ∈ lw_all := lw_g (lw_at lw_m2 208 rfl) rfl
theorem q596 : (Jvm.Cond.static ({ cls := "LawnPaths", name := "in", desc := "(JJJ)Z" } : Jvm.MethodName)) ∈ lw_all := lw_g (lw_at lw_m2 209 rfl) rfl
theorem q597 : (Jvm.Cond.code ({ cls := "LawnPaths", name := "in", desc := "(JJJ)Z" } : Jvm.MethodName) prog_1_method_1_code (6 : Nat) (Option.some Jvm.ClassFile.FieldType.boolean)) ∈ lw_all := lw_g (lw_at lw_m2 210 rfl) rfl
theorem q598 : (Jvm.Cond.methodLink "LawnPaths" (358 : Nat) ({ cls := "java/lang/StringBuilder", name := "append", desc := "(C)Ljava/lang/StringBuilder;" } : Jvm.MethodName)) ∈ lw_all := lw_g (lw_at lw_m2 211 rfl) rfl
theorem q678 : (Jvm.Cond.methodLink "LawnPaths" (362 : Nat) ({ cls := "java/lang/StringBuilder", name := "toString", desc := "()Ljava/lang/String;" } : Jvm.MethodName)) ∈ lw_all := lw_g (lw_at lw_m3 51 rfl) rfl
theorem q887 : (Jvm.Cond.methodLink "LawnPaths" (365 : Nat) ({ cls := "LawnPaths$Row", name := "named", desc := "(Ljava/lang/String;)I" } : Jvm.MethodName)) ∈ lw_all := lw_g (lw_at lw_m4 20 rfl) rfl
theorem q951 : (Jvm.Cond.instanceMethod ({ cls := "LawnPaths", name := "grassBalance", desc := "()I" } : Jvm.MethodName)) ∈ lw_all := lw_g (lw_at lw_m4 84 rfl) rfl
theorem q952 : (Jvm.Cond.selects "LawnPaths" ({ cls := "LawnPaths", name := "grassBalance", desc := "()I" } : Jvm.MethodName) ({ cls := "LawnPaths", name := "grassBalance", desc := "()I" } : Jvm.MethodName)) ∈ lw_all := lw_g (lw_at lw_m4 85 rfl) rfl
theorem q953 : (Jvm.Cond.code ({ cls := "LawnPaths", name := "grassBalance", desc := "()I" } : Jvm.MethodName) prog_1_method_46_code (2 : Nat) (Option.some Jvm.ClassFile.FieldType.int)) ∈ lw_all := lw_g (lw_at lw_m4 86 rfl) rfl
theorem q954 : (Jvm.Cond.methodLink "LawnPaths" (233 : Nat) ({ cls := "LawnPaths$Lawn", name := "grassAll", desc := "()I" } : Jvm.MethodName)) ∈ lw_all := lw_g (lw_at lw_m4 87 rfl) rfl
theorem q959 : (Jvm.Cond.instanceMethod ({ cls := "LawnPaths", name := "walkBalance", desc := "()I" } : Jvm.MethodName)) ∈ lw_all := lw_g (lw_at lw_m4 92 rfl) rfl
theorem q960 : (Jvm.Cond.selects "LawnPaths" ({ cls := "LawnPaths", name := "walkBalance", desc := "()I" } : Jvm.MethodName) ({ cls := "LawnPaths", name := "walkBalance", desc := "()I" } : Jvm.MethodName)) ∈ lw_all := lw_g (lw_at lw_m4 93 rfl) rfl
theorem q961 : (Jvm.Cond.code ({ cls := "LawnPaths", name := "walkBalance", desc := "()I" } : Jvm.MethodName) prog_1_method_47_code (4 : Nat) (Option.some Jvm.ClassFile.FieldType.int)) ∈ lw_all := lw_g (lw_at lw_m4 94 rfl) rfl
theorem q962 : (Jvm.Cond.methodLink "LawnPaths" (174 : Nat) ({ cls := "LawnPaths$Row", name := "size", desc := "()I" } : Jvm.MethodName)) ∈ lw_all := lw_g (lw_at lw_m4 95 rfl) rfl
theorem q963 : (Jvm.Cond.methodLink "LawnPaths" (271 : Nat) ({ cls := "LawnPaths$Lawn", name := "walker", desc := "(I)LLawnPaths$Walker;" } : Jvm.MethodName)) ∈ lw_all := lw_g (lw_at lw_m4 96 rfl) rfl
theorem q969 : (Jvm.Cond.methodLink "LawnPaths" (419 : Nat) ({ cls := "java/lang/Math", name := "abs", desc := "(I)I" } : Jvm.MethodName)) ∈ lw_all := lw_g (lw_at lw_m4 102 rfl) rfl
theorem q973 : (Jvm.Cond.instanceMethod ({ cls := "LawnPaths", name := "gap", desc := "()I" } : Jvm.MethodName)) ∈ lw_all := lw_g (lw_at lw_m4 106 rfl) rfl
theorem q974 : (Jvm.Cond.selects "LawnPaths" ({ cls := "LawnPaths", name := "gap", desc := "()I" } : Jvm.MethodName) ({ cls := "LawnPaths", name := "gap", desc := "()I" } : Jvm.MethodName)) ∈ lw_all := lw_g (lw_at lw_m4 107 rfl) rfl
theorem q975 : (Jvm.Cond.code ({ cls := "LawnPaths", name := "gap", desc := "()I" } : Jvm.MethodName) prog_1_method_49_code (3 : Nat) (Option.some Jvm.ClassFile.FieldType.int)) ∈ lw_all := lw_g (lw_at lw_m4 108 rfl) rfl
theorem q976 : (Jvm.Cond.methodLink "LawnPaths" (424 : Nat) ({ cls := "LawnPaths", name := "isBroken", desc := "(LLawnPaths$Walker;)Z" } : Jvm.MethodName)) ∈ lw_all := lw_g (lw_at lw_m4 109 rfl) rfl
theorem q977 : (Jvm.Cond.privateMethod ({ cls := "LawnPaths", name := "isBroken", desc := "(LLawnPaths$Walker;)Z" } : Jvm.MethodName)) ∈ lw_tbl := lw_at lw_m4 110 rfl
theorem q978 : (Jvm.Cond.instanceMethod ({ cls := "LawnPaths", name := "isBroken", desc := "(LLawnPaths$Walker;)Z" } : Jvm.MethodName)) ∈ lw_all := lw_g (lw_at lw_m4 111 rfl) rfl
theorem q979 : (Jvm.Cond.code ({ cls := "LawnPaths", name := "isBroken", desc := "(LLawnPaths$Walker;)Z" } : Jvm.MethodName) prog_1_method_48_code (4 : Nat) (Option.some Jvm.ClassFile.FieldType.boolean)) ∈ lw_all := lw_g (lw_at lw_m4 112 rfl) rfl
theorem q980 : (Jvm.Cond.fieldLink "LawnPaths" (375 : Nat) "LawnPaths$Ground" "AS_IT_IS" "LLawnPaths$Ground;") ∈ lw_all := lw_g (lw_at lw_m4 113 rfl) rfl
theorem q982 : (Jvm.Cond.methodLink "LawnPaths" (381 : Nat) ({ cls := "LawnPaths$Lawn", name := "tellsFar", desc := "(LLawnPaths$Walker;LLawnPaths$Ground;)I" } : Jvm.MethodName)) ∈ lw_all := lw_g (lw_at lw_m4 115 rfl) rfl
theorem q1028 : (Jvm.Cond.constant "LawnPaths" (410 : Nat) (1000000 : Int32)) ∈ lw_all := lw_g (lw_at lw_m4 161 rfl) rfl
theorem q1029 : (Jvm.Cond.methodLink "LawnPaths" (247 : Nat) ({ cls := "LawnPaths$Lawn", name := "way", desc := "(LLawnPaths$Walker;)Ljava/lang/Iterable;" } : Jvm.MethodName)) ∈ lw_all := lw_g (lw_at lw_m4 162 rfl) rfl
theorem q1048 : (Jvm.Cond.interfaceEntry "LawnPaths" (251 : Nat)) ∈ lw_tbl := lw_at lw_m4 181 rfl
theorem q1049 : (Jvm.Cond.methodLink "LawnPaths" (251 : Nat) ({ cls := "java/lang/Iterable", name := "iterator", desc := "()Ljava/util/Iterator;" } : Jvm.MethodName)) ∈ lw_all := lw_g (lw_at lw_m4 182 rfl) rfl
theorem q1135 : (Jvm.Cond.interfaceEntry "LawnPaths" (257 : Nat)) ∈ lw_tbl := lw_at lw_m5 28 rfl
theorem q1136 : (Jvm.Cond.methodLink "LawnPaths" (257 : Nat) ({ cls := "java/util/Iterator", name := "hasNext", desc := "()Z" } : Jvm.MethodName)) ∈ lw_all := lw_g (lw_at lw_m5 29 rfl) rfl
theorem q1157 : (Jvm.Cond.interfaceEntry "LawnPaths" (263 : Nat)) ∈ lw_tbl := lw_at lw_m5 50 rfl
theorem q1158 : (Jvm.Cond.methodLink "LawnPaths" (263 : Nat) ({ cls := "java/util/Iterator", name := "next", desc := "()Ljava/lang/Object;" } : Jvm.MethodName)) ∈ lw_all := lw_g (lw_at lw_m5 51 rfl) rfl
theorem q1236 : (Jvm.Cond.classLink "LawnPaths" (266 : Nat) "java/lang/Integer") ∈ lw_all := lw_g (lw_at lw_m5 129 rfl) rfl
theorem q1237 : (Jvm.Cond.methodLink "LawnPaths" (268 : Nat) ({ cls := "java/lang/Integer", name := "intValue", desc := "()I" } : Jvm.MethodName)) ∈ lw_all := lw_g (lw_at lw_m5 130 rfl) rfl
theorem q1241 : (Jvm.Cond.methodLink "LawnPaths" (222 : Nat) ({ cls := "LawnPaths", name := "bit", desc := "(Z)I" } : Jvm.MethodName)) ∈ lw_all := lw_g (lw_at lw_m5 134 rfl) rfl
theorem q1242 : (Jvm.Cond.static ({ cls := "LawnPaths", name := "bit", desc := "(Z)I" } : Jvm.MethodName)) ∈ lw_all := lw_g (lw_at lw_m5 135 rfl) rfl
theorem q1243 : (Jvm.Cond.code ({ cls := "LawnPaths", name := "bit", desc := "(Z)I" } : Jvm.MethodName) prog_1_method_2_code (1 : Nat) (Option.some Jvm.ClassFile.FieldType.int)) ∈ lw_all := lw_g (lw_at lw_m5 136 rfl) rfl
theorem q1245 : (Jvm.Cond.instanceMethod ({ cls := "LawnPaths", name := "busiest", desc := "()I" } : Jvm.MethodName)) ∈ lw_all := lw_g (lw_at lw_m5 138 rfl) rfl
theorem q1246 : (Jvm.Cond.selects "LawnPaths" ({ cls := "LawnPaths", name := "busiest", desc := "()I" } : Jvm.MethodName) ({ cls := "LawnPaths", name := "busiest", desc := "()I" } : Jvm.MethodName)) ∈ lw_all := lw_g (lw_at lw_m5 139 rfl) rfl
theorem q1247 : (Jvm.Cond.code ({ cls := "LawnPaths", name := "busiest", desc := "()I" } : Jvm.MethodName) prog_1_method_59_code (3 : Nat) (Option.some Jvm.ClassFile.FieldType.int)) ∈ lw_all := lw_g (lw_at lw_m5 140 rfl) rfl
theorem q1248 : (Jvm.Cond.methodLink "LawnPaths" (389 : Nat) ({ cls := "LawnPaths", name := "told", desc := "(I)I" } : Jvm.MethodName)) ∈ lw_all := lw_g (lw_at lw_m5 141 rfl) rfl
theorem q1249 : (Jvm.Cond.privateMethod ({ cls := "LawnPaths", name := "told", desc := "(I)I" } : Jvm.MethodName)) ∈ lw_tbl := lw_at lw_m5 142 rfl
theorem q1250 : (Jvm.Cond.instanceMethod ({ cls := "LawnPaths", name := "told", desc := "(I)I" } : Jvm.MethodName)) ∈ lw_all := lw_g (lw_at lw_m5 143 rfl) rfl
theorem q1251 : (Jvm.Cond.code ({ cls := "LawnPaths", name := "told", desc := "(I)I" } : Jvm.MethodName) prog_1_method_38_code (2 : Nat) (Option.some Jvm.ClassFile.FieldType.int)) ∈ lw_all := lw_g (lw_at lw_m5 144 rfl) rfl
theorem q1253 : (Jvm.Cond.instanceMethod ({ cls := "LawnPaths", name := "meanGrass", desc := "()D" } : Jvm.MethodName)) ∈ lw_all := lw_g (lw_at lw_m5 146 rfl) rfl
theorem q1254 : (Jvm.Cond.selects "LawnPaths" ({ cls := "LawnPaths", name := "meanGrass", desc := "()D" } : Jvm.MethodName) ({ cls := "LawnPaths", name := "meanGrass", desc := "()D" } : Jvm.MethodName)) ∈ lw_all := lw_g (lw_at lw_m5 147 rfl) rfl
theorem q1255 : (Jvm.Cond.code ({ cls := "LawnPaths", name := "meanGrass", desc := "()D" } : Jvm.MethodName) prog_1_method_60_code (2 : Nat) (Option.some Jvm.ClassFile.FieldType.double)) ∈ lw_all := lw_g (lw_at lw_m5 148 rfl) rfl
theorem q1256 : (Jvm.Cond.methodLink "LawnPaths" (226 : Nat) ({ cls := "LawnPaths$Lawn", name := "cellsOf", desc := "(I)I" } : Jvm.MethodName)) ∈ lw_all := lw_g (lw_at lw_m5 149 rfl) rfl
theorem q1262 : (Jvm.Cond.instanceMethod ({ cls := "LawnPaths", name := "bareShare", desc := "()F" } : Jvm.MethodName)) ∈ lw_all := lw_g (lw_at lw_m5 155 rfl) rfl
theorem q1263 : (Jvm.Cond.selects "LawnPaths" ({ cls := "LawnPaths", name := "bareShare", desc := "()F" } : Jvm.MethodName) ({ cls := "LawnPaths", name := "bareShare", desc := "()F" } : Jvm.MethodName)) ∈ lw_all := lw_g (lw_at lw_m5 156 rfl) rfl
theorem q1264 : (Jvm.Cond.code ({ cls := "LawnPaths", name := "bareShare", desc := "()F" } : Jvm.MethodName) prog_1_method_61_code (2 : Nat) (Option.some Jvm.ClassFile.FieldType.float)) ∈ lw_all := lw_g (lw_at lw_m5 157 rfl) rfl
theorem q1265 : (Jvm.Cond.methodLink "LawnPaths" (230 : Nat) ({ cls := "LawnPaths$Lawn", name := "bareAll", desc := "()I" } : Jvm.MethodName)) ∈ lw_all := lw_g (lw_at lw_m5 158 rfl) rfl
theorem q1270 : (Jvm.Cond.instanceMethod ({ cls := "LawnPaths", name := "writeLawn", desc := "()I" } : Jvm.MethodName)) ∈ lw_all := lw_g (lw_at lw_m5 163 rfl) rfl
theorem q1271 : (Jvm.Cond.selects "LawnPaths" ({ cls := "LawnPaths", name := "writeLawn", desc := "()I" } : Jvm.MethodName) ({ cls := "LawnPaths", name := "writeLawn", desc := "()I" } : Jvm.MethodName)) ∈ lw_all := lw_g (lw_at lw_m5 164 rfl) rfl
theorem q1272 : (Jvm.Cond.code ({ cls := "LawnPaths", name := "writeLawn", desc := "()I" } : Jvm.MethodName) prog_1_method_71_code (2 : Nat) (Option.some Jvm.ClassFile.FieldType.int)) ∈ lw_all := lw_g (lw_at lw_m5 165 rfl) rfl
theorem q1273 : (Jvm.Cond.methodLink "LawnPaths" (475 : Nat) ({ cls := "java/lang/StringBuilder", name := "setLength", desc := "(I)V" } : Jvm.MethodName)) ∈ lw_all := lw_g (lw_at lw_m5 166 rfl) rfl
theorem q1341 : (Jvm.Cond.methodLink "LawnPaths" (478 : Nat) ({ cls := "LawnPaths", name := "sign", desc := "(I)C" } : Jvm.MethodName)) ∈ lw_all := lw_g (lw_at lw_m5 234 rfl) rfl
theorem q1342 : (Jvm.Cond.privateMethod ({ cls := "LawnPaths", name := "sign", desc := "(I)C" } : Jvm.MethodName)) ∈ lw_tbl := lw_at lw_m5 235 rfl
theorem q1343 : (Jvm.Cond.instanceMethod ({ cls := "LawnPaths", name := "sign", desc := "(I)C" } : Jvm.MethodName)) ∈ lw_all := lw_g (lw_at lw_m5 236 rfl) rfl
theorem q1344 : (Jvm.Cond.code ({ cls := "LawnPaths", name := "sign", desc := "(I)C" } : Jvm.MethodName) prog_1_method_70_code (2 : Nat) (Option.some Jvm.ClassFile.FieldType.char)) ∈ lw_all := lw_g (lw_at lw_m5 237 rfl) rfl
theorem q1345 : (Jvm.Cond.methodLink "LawnPaths" (481 : Nat) ({ cls := "java/lang/StringBuilder", name := "length", desc := "()I" } : Jvm.MethodName)) ∈ lw_all := lw_g (lw_at lw_m5 238 rfl) rfl
theorem q1347 : (Jvm.Cond.instanceMethod ({ cls := "LawnPaths", name := "outputByte", desc := "(I)I" } : Jvm.MethodName)) ∈ lw_all := lw_g (lw_at lw_m6 0 rfl) rfl
theorem q1348 : (Jvm.Cond.selects "LawnPaths" ({ cls := "LawnPaths", name := "outputByte", desc := "(I)I" } : Jvm.MethodName) ({ cls := "LawnPaths", name := "outputByte", desc := "(I)I" } : Jvm.MethodName)) ∈ lw_all := lw_g (lw_at lw_m6 1 rfl) rfl
theorem q1349 : (Jvm.Cond.code ({ cls := "LawnPaths", name := "outputByte", desc := "(I)I" } : Jvm.MethodName) prog_1_method_73_code (2 : Nat) (Option.some Jvm.ClassFile.FieldType.int)) ∈ lw_all := lw_g (lw_at lw_m6 2 rfl) rfl
theorem q1350 : (Jvm.Cond.methodLink "LawnPaths" (482 : Nat) ({ cls := "java/lang/StringBuilder", name := "charAt", desc := "(I)C" } : Jvm.MethodName)) ∈ lw_all := lw_g (lw_at lw_m6 3 rfl) rfl
theorem q1361 : (Jvm.Cond.instanceMethod ({ cls := "LawnPaths", name := "undo", desc := "()I" } : Jvm.MethodName)) ∈ lw_all := lw_g (lw_at lw_m6 14 rfl) rfl
theorem q1362 : (Jvm.Cond.selects "LawnPaths" ({ cls := "LawnPaths", name := "undo", desc := "()I" } : Jvm.MethodName) ({ cls := "LawnPaths", name := "undo", desc := "()I" } : Jvm.MethodName)) ∈ lw_all := lw_g (lw_at lw_m6 15 rfl) rfl
theorem q1363 : (Jvm.Cond.code ({ cls := "LawnPaths", name := "undo", desc := "()I" } : Jvm.MethodName) prog_1_method_74_code (1 : Nat) (Option.some Jvm.ClassFile.FieldType.int)) ∈ lw_all := lw_g (lw_at lw_m6 16 rfl) rfl
theorem q1364 : (Jvm.Cond.methodLink "LawnPaths" (483 : Nat) ({ cls := "java/util/ArrayDeque", name := "isEmpty", desc := "()Z" } : Jvm.MethodName)) ∈ lw_all := lw_g (lw_at lw_m6 17 rfl) rfl
theorem q1368 : (Jvm.Cond.methodLink "LawnPaths" (486 : Nat) ({ cls := "java/util/ArrayDeque", name := "removeLast", desc := "()Ljava/lang/Object;" } : Jvm.MethodName)) ∈ lw_all := lw_g (lw_at lw_m6 21 rfl) rfl
theorem q1382 : (Jvm.Cond.methodLink "LawnPaths" (92 : Nat) ({ cls := "java/util/ArrayDeque", name := "size", desc := "()I" } : Jvm.MethodName)) ∈ lw_all := lw_g (lw_at lw_m6 35 rfl) rfl
theorem q1384 : (Jvm.Cond.instanceMethod ({ cls := "LawnPaths", name := "save", desc := "()I" } : Jvm.MethodName)) ∈ lw_all := lw_g (lw_at lw_m6 37 rfl) rfl
theorem q1385 : (Jvm.Cond.selects "LawnPaths" ({ cls := "LawnPaths", name := "save", desc := "()I" } : Jvm.MethodName) ({ cls := "LawnPaths", name := "save", desc := "()I" } : Jvm.MethodName)) ∈ lw_all := lw_g (lw_at lw_m6 38 rfl) rfl
theorem q1386 : (Jvm.Cond.code ({ cls := "LawnPaths", name := "save", desc := "()I" } : Jvm.MethodName) prog_1_method_75_code (1 : Nat) (Option.some Jvm.ClassFile.FieldType.int)) ∈ lw_all := lw_g (lw_at lw_m6 39 rfl) rfl
theorem q1387 : (Jvm.Cond.methodLink "LawnPaths" (187 : Nat) ({ cls := "LawnPaths$Lawn", name := "copy", desc := "()LLawnPaths$Lawn;" } : Jvm.MethodName)) ∈ lw_all := lw_g (lw_at lw_m6 40 rfl) rfl
theorem q1415 : (Jvm.Cond.instanceMethod ({ cls := "LawnPaths", name := "append", desc := "(IIIII)I" } : Jvm.MethodName)) ∈ lw_all := lw_g (lw_at lw_m6 68 rfl) rfl
theorem q1416 : (Jvm.Cond.selects "LawnPaths" ({ cls := "LawnPaths", name := "append", desc := "(IIIII)I" } : Jvm.MethodName) ({ cls := "LawnPaths", name := "append", desc := "(IIIII)I" } : Jvm.MethodName)) ∈ lw_all := lw_g (lw_at lw_m6 69 rfl) rfl
theorem q1417 : (Jvm.Cond.code ({ cls := "LawnPaths", name := "append", desc := "(IIIII)I" } : Jvm.MethodName) prog_1_method_11_code (6 : Nat) (Option.some Jvm.ClassFile.FieldType.int)) ∈ lw_all := lw_g (lw_at lw_m6 70 rfl) rfl
theorem q1418 : (Jvm.Cond.classLink "LawnPaths" (107 : Nat) "java/lang/IllegalStateException") ∈ lw_all := lw_g (lw_at lw_m6 71 rfl) rfl
theorem q1427 : (Jvm.Cond.methodLink "LawnPaths" (109 : Nat) ({ cls := "java/lang/IllegalStateException", name := "<init>", desc := "()V" } : Jvm.MethodName)) ∈ lw_all := lw_g (lw_at lw_m6 80 rfl) rfl
theorem q1433 : (Jvm.Cond.methodLink "LawnPaths" (110 : Nat) ({ cls := "LawnPaths", name := "fours", desc := "([I)V" } : Jvm.MethodName)) ∈ lw_all := lw_g (lw_at lw_m6 86 rfl) rfl
theorem q1434 : (Jvm.Cond.privateMethod ({ cls := "LawnPaths", name := "fours", desc := "([I)V" } : Jvm.MethodName)) ∈ lw_tbl := lw_at lw_m6 87 rfl
theorem q1435 : (Jvm.Cond.instanceMethod ({ cls := "LawnPaths", name := "fours", desc := "([I)V" } : Jvm.MethodName)) ∈ lw_all := lw_g (lw_at lw_m6 88 rfl) rfl
theorem q1436 : (Jvm.Cond.code ({ cls := "LawnPaths", name := "fours", desc := "([I)V" } : Jvm.MethodName) prog_1_method_10_code (7 : Nat) (Option.none : Option Jvm.ClassFile.FieldType)) ∈ lw_all := lw_g (lw_at lw_m6 89 rfl) rfl
theorem q1442 : (Jvm.Cond.instanceMethod ({ cls := "LawnPaths", name := "truncate", desc := "(I)I" } : Jvm.MethodName)) ∈ lw_all := lw_g (lw_at lw_m6 95 rfl) rfl
theorem q1443 : (Jvm.Cond.selects "LawnPaths" ({ cls := "LawnPaths", name := "truncate", desc := "(I)I" } : Jvm.MethodName) ({ cls := "LawnPaths", name := "truncate", desc := "(I)I" } : Jvm.MethodName)) ∈ lw_all := lw_g (lw_at lw_m6 96 rfl) rfl
theorem q1444 : (Jvm.Cond.code ({ cls := "LawnPaths", name := "truncate", desc := "(I)I" } : Jvm.MethodName) prog_1_method_12_code (2 : Nat) (Option.some Jvm.ClassFile.FieldType.int)) ∈ lw_all := lw_g (lw_at lw_m6 97 rfl) rfl
theorem q1445 : (Jvm.Cond.methodLink "LawnPaths" (118 : Nat) ({ cls := "LawnPaths", name := "argument", desc := "(Z)V" } : Jvm.MethodName)) ∈ lw_all := lw_g (lw_at lw_m6 98 rfl) rfl
theorem q1446 : (Jvm.Cond.static ({ cls := "LawnPaths", name := "argument", desc := "(Z)V" } : Jvm.MethodName)) ∈ lw_all := lw_g (lw_at lw_m6 99 rfl) rfl
theorem q1447 : (Jvm.Cond.code ({ cls := "LawnPaths", name := "argument", desc := "(Z)V" } : Jvm.MethodName) prog_1_method_4_code (1 : Nat) (Option.none : Option Jvm.ClassFile.FieldType)) ∈ lw_all := lw_g (lw_at lw_m6 100 rfl) rfl
theorem q1448 : (Jvm.Cond.classLink "LawnPaths" (7 : Nat) "java/lang/IllegalArgumentException") ∈ lw_all := lw_g (lw_at lw_m6 101 rfl) rfl
theorem q1449 : (Jvm.Cond.methodLink "LawnPaths" (9 : Nat) ({ cls := "java/lang/IllegalArgumentException", name := "<init>", desc := "()V" } : Jvm.MethodName)) ∈ lw_all := lw_g (lw_at lw_m6 102 rfl) rfl
theorem q1457 : (Jvm.Cond.instanceMethod ({ cls := "LawnPaths", name := "readText", desc := "()I" } : Jvm.MethodName)) ∈ lw_all := lw_g (lw_at lw_m6 110 rfl) rfl
theorem q1458 : (Jvm.Cond.selects "LawnPaths" ({ cls := "LawnPaths", name := "readText", desc := "()I" } : Jvm.MethodName) ({ cls := "LawnPaths", name := "readText", desc := "()I" } : Jvm.MethodName)) ∈ lw_all := lw_g (lw_at lw_m6 111 rfl) rfl
theorem q1459 : (Jvm.Cond.codeWith ({ cls := "LawnPaths", name := "readText", desc := "()I" } : Jvm.MethodName) prog_1_method_16_code (4 : Nat) (Option.some Jvm.ClassFile.FieldType.int) [((0 : Nat), (12 : Nat), (20 : Nat), (149 : Nat)), ((0 : Nat), (12 : Nat), (27 : Nat), (0 : Nat)), ((20 : Nat), (28 : Nat), (27 : Nat), (0 : Nat))]) ∈ lw_all := lw_g (lw_at lw_m6 112 rfl) rfl
theorem q1460 : (Jvm.Cond.classLink "LawnPaths" (149 : Nat) "LawnPaths$Unreadable") ∈ lw_all := lw_g (lw_at lw_m6 113 rfl) rfl
theorem q1461 : (Jvm.Cond.classLink "LawnPaths" (156 : Nat) "LawnPaths$TextReader") ∈ lw_all := lw_g (lw_at lw_m6 114 rfl) rfl
theorem q1463 : (Jvm.Cond.methodLinkNest "LawnPaths" (158 : Nat) ({ cls := "LawnPaths$TextReader", name := "<init>", desc := "(LLawnPaths;)V" } : Jvm.MethodName) "LawnPaths") ∈ lw_tbl := lw_at lw_m6 116 rfl
theorem q1515 : (Jvm.Cond.methodLink "LawnPaths" (161 : Nat) ({ cls := "LawnPaths$TextReader", name := "description", desc := "()LLawnPaths$Lawn;" } : Jvm.MethodName)) ∈ lw_all := lw_g (lw_at lw_m6 168 rfl) rfl
theorem q1548 : (Jvm.Cond.fieldLinkNest "LawnPaths" (148 : Nat) "LawnPaths$Unreadable" "code" "I" "LawnPaths") ∈ lw_tbl := lw_at lw_m6 201 rfl
theorem q1550 : (Jvm.Cond.fieldLinkNest "LawnPaths" (153 : Nat) "LawnPaths$Unreadable" "position" "I" "LawnPaths") ∈ lw_tbl := lw_at lw_m6 203 rfl
theorem q1629 : (Jvm.Cond.methodLink "LawnPaths" (164 : Nat) ({ cls := "LawnPaths", name := "failed", desc := "(LLawnPaths$Unreadable;)Ljava/lang/IllegalArgumentException;" } : Jvm.MethodName)) ∈ lw_all := lw_g (lw_at lw_m7 42 rfl) rfl
theorem q1630 : (Jvm.Cond.privateMethod ({ cls := "LawnPaths", name := "failed", desc := "(LLawnPaths$Unreadable;)Ljava/lang/IllegalArgumentException;" } : Jvm.MethodName)) ∈ lw_tbl := lw_at lw_m7 43 rfl
theorem q1631 : (Jvm.Cond.instanceMethod ({ cls := "LawnPaths", name := "failed", desc := "(LLawnPaths$Unreadable;)Ljava/lang/IllegalArgumentException;" } : Jvm.MethodName)) ∈ lw_all := lw_g (lw_at lw_m7 44 rfl) rfl
theorem q1632 : (Jvm.Cond.code ({ cls := "LawnPaths", name := "failed", desc := "(LLawnPaths$Unreadable;)Ljava/lang/IllegalArgumentException;" } : Jvm.MethodName) prog_1_method_15_code (2 : Nat) (Option.some (Jvm.ClassFile.FieldType.object "java/lang/IllegalArgumentException"))) ∈ lw_all := lw_g (lw_at lw_m7 45 rfl) rfl
theorem q1633 : (Jvm.Cond.methodLink "LawnPaths" (168 : Nat) ({ cls := "LawnPaths", name := "noError", desc := "()V" } : Jvm.MethodName)) ∈ lw_all := lw_g (lw_at lw_m7 46 rfl) rfl
theorem q1634 : (Jvm.Cond.privateMethod ({ cls := "LawnPaths", name := "noError", desc := "()V" } : Jvm.MethodName)) ∈ lw_tbl := lw_at lw_m7 47 rfl
theorem q1635 : (Jvm.Cond.instanceMethod ({ cls := "LawnPaths", name := "noError", desc := "()V" } : Jvm.MethodName)) ∈ lw_all := lw_g (lw_at lw_m7 48 rfl) rfl
theorem q1636 : (Jvm.Cond.code ({ cls := "LawnPaths", name := "noError", desc := "()V" } : Jvm.MethodName) prog_1_method_14_code (1 : Nat) (Option.none : Option Jvm.ClassFile.FieldType)) ∈ lw_all := lw_g (lw_at lw_m7 49 rfl) rfl
theorem q1637 : (Jvm.Cond.methodLink "LawnPaths" (171 : Nat) ({ cls := "java/util/ArrayDeque", name := "clear", desc := "()V" } : Jvm.MethodName)) ∈ lw_all := lw_g (lw_at lw_m7 50 rfl) rfl
theorem q1648 : (Jvm.Cond.instanceMethod ({ cls := "LawnPaths", name := "runOrders", desc := "()I" } : Jvm.MethodName)) ∈ lw_all := lw_g (lw_at lw_m7 61 rfl) rfl
theorem q1649 : (Jvm.Cond.selects "LawnPaths" ({ cls := "LawnPaths", name := "runOrders", desc := "()I" } : Jvm.MethodName) ({ cls := "LawnPaths", name := "runOrders", desc := "()I" } : Jvm.MethodName)) ∈ lw_all := lw_g (lw_at lw_m7 62 rfl) rfl
theorem q1650 : (Jvm.Cond.codeWith ({ cls := "LawnPaths", name := "runOrders", desc := "()I" } : Jvm.MethodName) prog_1_method_17_code (4 : Nat) (Option.some Jvm.ClassFile.FieldType.int) [((0 : Nat), (12 : Nat), (20 : Nat), (149 : Nat)), ((0 : Nat), (12 : Nat), (27 : Nat), (0 : Nat)), ((20 : Nat), (28 : Nat), (27 : Nat), (0 : Nat))]) ∈ lw_all := lw_g (lw_at lw_m7 63 rfl) rfl
theorem q1651 : (Jvm.Cond.methodLink "LawnPaths" (175 : Nat) ({ cls := "LawnPaths$TextReader", name := "orders", desc := "()[LLawnPaths$Change;" } : Jvm.MethodName)) ∈ lw_all := lw_g (lw_at lw_m7 64 rfl) rfl
theorem q1658 : (Jvm.Cond.static ({ cls := "LawnPaths", name := "isAct", desc := "(Ljava/lang/String;)Z" } : Jvm.MethodName)) ∈ lw_all := lw_g (lw_at lw_m7 71 rfl) rfl
theorem q1659 : (Jvm.Cond.code ({ cls := "LawnPaths", name := "isAct", desc := "(Ljava/lang/String;)Z" } : Jvm.MethodName) prog_1_method_13_code (3 : Nat) (Option.some Jvm.ClassFile.FieldType.boolean)) ∈ lw_all := lw_g (lw_at lw_m7 72 rfl) rfl
theorem q1660 : (Jvm.Cond.methodLink "LawnPaths" (122 : Nat) ({ cls := "java/lang/String", name := "hashCode", desc := "()I" } : Jvm.MethodName)) ∈ lw_all := lw_g (lw_at lw_m7 73 rfl) rfl
theorem q1721 : (Jvm.Cond.stringRef "LawnPaths" (127 : Nat) "run") ∈ lw_tbl := lw_at lw_m7 134 rfl
theorem q1722 : (Jvm.Cond.methodLink "LawnPaths" (129 : Nat) ({ cls := "java/lang/String", name := "equals", desc := "(Ljava/lang/Object;)Z" } : Jvm.MethodName)) ∈ lw_all := lw_g (lw_at lw_m7 135 rfl) rfl
theorem q1723 : (Jvm.Cond.stringRef "LawnPaths" (133 : Nat) "fence") ∈ lw_tbl := lw_at lw_m7 136 rfl
theorem q1724 : (Jvm.Cond.stringRef "LawnPaths" (135 : Nat) "open") ∈ lw_tbl := lw_at lw_m7 137 rfl
theorem q1725 : (Jvm.Cond.stringRef "LawnPaths" (137 : Nat) "pave") ∈ lw_tbl := lw_at lw_m7 138 rfl
theorem q1726 : (Jvm.Cond.stringRef "LawnPaths" (139 : Nat) "sow") ∈ lw_tbl := lw_at lw_m7 139 rfl
theorem q1727 : (Jvm.Cond.stringRef "LawnPaths" (141 : Nat) "haste") ∈ lw_tbl := lw_at lw_m7 140 rfl
theorem q1728 : (Jvm.Cond.stringRef "LawnPaths" (143 : Nat) "turn") ∈ lw_tbl := lw_at lw_m7 141 rfl
theorem q1748 : (Jvm.Cond.static ({ cls := "LawnPaths", name := "must", desc := "(ZI)V" } : Jvm.MethodName)) ∈ lw_all := lw_g (lw_at lw_m7 161 rfl) rfl
theorem q1749 : (Jvm.Cond.code ({ cls := "LawnPaths", name := "must", desc := "(ZI)V" } : Jvm.MethodName) prog_1_method_5_code (2 : Nat) (Option.none : Option Jvm.ClassFile.FieldType)) ∈ lw_all := lw_g (lw_at lw_m7 162 rfl) rfl
theorem q1750 : (Jvm.Cond.classLink "LawnPaths" (10 : Nat) "LawnPaths$Unable") ∈ lw_all := lw_g (lw_at lw_m7 163 rfl) rfl
theorem q1759 : (Jvm.Cond.methodLink "LawnPaths" (12 : Nat) ({ cls := "LawnPaths$Unable", name := "<init>", desc := "(I)V" } : Jvm.MethodName)) ∈ lw_all := lw_g (lw_at lw_m7 172 rfl) rfl
theorem q1764 : (Jvm.Cond.fieldLinkNest "LawnPaths" (457 : Nat) "LawnPaths$Unable" "reason" "I" "LawnPaths") ∈ lw_tbl := lw_at lw_m7 177 rfl
theorem q1849 : (Jvm.Cond.classLink "LawnPaths" (179 : Nat) "LawnPaths$Script") ∈ lw_all := lw_g (lw_at lw_m8 22 rfl) rfl
theorem q1851 : (Jvm.Cond.methodLink "LawnPaths" (181 : Nat) ({ cls := "LawnPaths$Script", name := "<init>", desc := "(LLawnPaths;[LLawnPaths$Change;)V" } : Jvm.MethodName)) ∈ lw_all := lw_g (lw_at lw_m8 24 rfl) rfl
theorem q1866 : (Jvm.Cond.fieldLinkNest "LawnPaths" (184 : Nat) "LawnPaths$Script" "lawn" "LLawnPaths$Lawn;" "LawnPaths") ∈ lw_tbl := lw_at lw_m8 39 rfl
theorem q1868 : (Jvm.Cond.fieldLinkNest "LawnPaths" (190 : Nat) "LawnPaths$Script" "done" "I" "LawnPaths") ∈ lw_tbl := lw_at lw_m8 41 rfl
theorem q1877 : (Jvm.Cond.methodLink "LawnPaths" (193 : Nat) ({ cls := "LawnPaths", name := "becomes", desc := "(LLawnPaths$Lawn;I)I" } : Jvm.MethodName)) ∈ lw_all := lw_g (lw_at lw_m8 50 rfl) rfl
theorem q1878 : (Jvm.Cond.privateMethod ({ cls := "LawnPaths", name := "becomes", desc := "(LLawnPaths$Lawn;I)I" } : Jvm.MethodName)) ∈ lw_tbl := lw_at lw_m8 51 rfl
theorem q1879 : (Jvm.Cond.instanceMethod ({ cls := "LawnPaths", name := "becomes", desc := "(LLawnPaths$Lawn;I)I" } : Jvm.MethodName)) ∈ lw_all := lw_g (lw_at lw_m8 52 rfl) rfl
theorem q1880 : (Jvm.Cond.code ({ cls := "LawnPaths", name := "becomes", desc := "(LLawnPaths$Lawn;I)I" } : Jvm.MethodName) prog_1_method_9_code (4 : Nat) (Option.some Jvm.ClassFile.FieldType.int)) ∈ lw_all := lw_g (lw_at lw_m8 53 rfl) rfl
theorem q1881 : (Jvm.Cond.methodLink "LawnPaths" (96 : Nat) ({ cls := "java/util/ArrayDeque", name := "removeFirst", desc := "()Ljava/lang/Object;" } : Jvm.MethodName)) ∈ lw_all := lw_g (lw_at lw_m8 54 rfl) rfl
theorem q1890 : (Jvm.Cond.methodLink "LawnPaths" (100 : Nat) ({ cls := "java/util/ArrayDeque", name := "addLast", desc := "(Ljava/lang/Object;)V" } : Jvm.MethodName)) ∈ lw_all := lw_g (lw_at lw_m8 63 rfl) rfl
theorem q1915 : (Jvm.Cond.instanceMethod ({ cls := "LawnPaths", name := "size", desc := "(I)I" } : Jvm.MethodName)) ∈ lw_all := lw_g (lw_at lw_m8 88 rfl) rfl
theorem q1916 : (Jvm.Cond.selects "LawnPaths" ({ cls := "LawnPaths", name := "size", desc := "(I)I" } : Jvm.MethodName) ({ cls := "LawnPaths", name := "size", desc := "(I)I" } : Jvm.MethodName)) ∈ lw_all := lw_g (lw_at lw_m8 89 rfl) rfl
theorem q1917 : (Jvm.Cond.code ({ cls := "LawnPaths", name := "size", desc := "(I)I" } : Jvm.MethodName) prog_1_method_20_code (2 : Nat) (Option.some Jvm.ClassFile.FieldType.int)) ∈ lw_all := lw_g (lw_at lw_m8 90 rfl) rfl
theorem q1918 : (Jvm.Cond.methodLink "LawnPaths" (200 : Nat) ({ cls := "LawnPaths$Lawn", name := "fencesAll", desc := "()I" } : Jvm.MethodName)) ∈ lw_all := lw_g (lw_at lw_m8 91 rfl) rfl
theorem q1919 : (Jvm.Cond.methodLink "LawnPaths" (218 : Nat) ({ cls := "LawnPaths$Lawn", name := "isWet", desc := "(I)Z" } : Jvm.MethodName)) ∈ lw_all := lw_g (lw_at lw_m8 92 rfl) rfl
theorem q1927 : (Jvm.Cond.instanceMethod ({ cls := "LawnPaths", name := "cell", desc := "(III)I" } : Jvm.MethodName)) ∈ lw_all := lw_g (lw_at lw_m8 100 rfl) rfl
theorem q1928 : (Jvm.Cond.selects "LawnPaths" ({ cls := "LawnPaths", name := "cell", desc := "(III)I" } : Jvm.MethodName) ({ cls := "LawnPaths", name := "cell", desc := "(III)I" } : Jvm.MethodName)) ∈ lw_all := lw_g (lw_at lw_m8 101 rfl) rfl
theorem q1929 : (Jvm.Cond.code ({ cls := "LawnPaths", name := "cell", desc := "(III)I" } : Jvm.MethodName) prog_1_method_27_code (5 : Nat) (Option.some Jvm.ClassFile.FieldType.int)) ∈ lw_all := lw_g (lw_at lw_m8 102 rfl) rfl
theorem q1930 : (Jvm.Cond.methodLink "LawnPaths" (283 : Nat) ({ cls := "LawnPaths", name := "at", desc := "(II)I" } : Jvm.MethodName)) ∈ lw_all := lw_g (lw_at lw_m8 103 rfl) rfl
theorem q1931 : (Jvm.Cond.privateMethod ({ cls := "LawnPaths", name := "at", desc := "(II)I" } : Jvm.MethodName)) ∈ lw_tbl := lw_at lw_m8 104 rfl
theorem q1932 : (Jvm.Cond.instanceMethod ({ cls := "LawnPaths", name := "at", desc := "(II)I" } : Jvm.MethodName)) ∈ lw_all := lw_g (lw_at lw_m8 105 rfl) rfl
theorem q1933 : (Jvm.Cond.code ({ cls := "LawnPaths", name := "at", desc := "(II)I" } : Jvm.MethodName) prog_1_method_21_code (3 : Nat) (Option.some Jvm.ClassFile.FieldType.int)) ∈ lw_all := lw_g (lw_at lw_m8 106 rfl) rfl
theorem q1934 : (Jvm.Cond.methodLink "LawnPaths" (236 : Nat) ({ cls := "LawnPaths", name := "index", desc := "(Z)V" } : Jvm.MethodName)) ∈ lw_all := lw_g (lw_at lw_m8 107 rfl) rfl
theorem q1935 : (Jvm.Cond.static ({ cls := "LawnPaths", name := "index", desc := "(Z)V" } : Jvm.MethodName)) ∈ lw_all := lw_g (lw_at lw_m8 108 rfl) rfl
theorem q1936 : (Jvm.Cond.code ({ cls := "LawnPaths", name := "index", desc := "(Z)V" } : Jvm.MethodName) prog_1_method_3_code (1 : Nat) (Option.none : Option Jvm.ClassFile.FieldType)) ∈ lw_all := lw_g (lw_at lw_m8 109 rfl) rfl
theorem q1937 : (Jvm.Cond.classLink "LawnPaths" (1 : Nat) "java/lang/IndexOutOfBoundsException") ∈ lw_all := lw_g (lw_at lw_m8 110 rfl) rfl
theorem q1946 : (Jvm.Cond.methodLink "LawnPaths" (3 : Nat) ({ cls := "java/lang/IndexOutOfBoundsException", name := "<init>", desc := "()V" } : Jvm.MethodName)) ∈ lw_all := lw_g (lw_at lw_m8 119 rfl) rfl
theorem q1952 : (Jvm.Cond.methodLink "LawnPaths" (290 : Nat) ({ cls := "LawnPaths$Lawn", name := "isGrass", desc := "(I)Z" } : Jvm.MethodName)) ∈ lw_all := lw_g (lw_at lw_m8 125 rfl) rfl
theorem q1953 : (Jvm.Cond.methodLink "LawnPaths" (303 : Nat) ({ cls := "LawnPaths", name := "since", desc := "(I)I" } : Jvm.MethodName)) ∈ lw_all := lw_g (lw_at lw_m8 126 rfl) rfl
theorem q1954 : (Jvm.Cond.privateMethod ({ cls := "LawnPaths", name := "since", desc := "(I)I" } : Jvm.MethodName)) ∈ lw_tbl := lw_at lw_m8 127 rfl
theorem q1955 : (Jvm.Cond.instanceMethod ({ cls := "LawnPaths", name := "since", desc := "(I)I" } : Jvm.MethodName)) ∈ lw_all := lw_g (lw_at lw_m8 128 rfl) rfl
theorem q1956 : (Jvm.Cond.code ({ cls := "LawnPaths", name := "since", desc := "(I)I" } : Jvm.MethodName) prog_1_method_26_code (2 : Nat) (Option.some Jvm.ClassFile.FieldType.int)) ∈ lw_all := lw_g (lw_at lw_m8 129 rfl) rfl
theorem q1957 : (Jvm.Cond.methodLink "LawnPaths" (306 : Nat) ({ cls := "LawnPaths", name := "walkersOver", desc := "(I)I" } : Jvm.MethodName)) ∈ lw_all := lw_g (lw_at lw_m8 130 rfl) rfl
theorem q1958 : (Jvm.Cond.privateMethod ({ cls := "LawnPaths", name := "walkersOver", desc := "(I)I" } : Jvm.MethodName)) ∈ lw_tbl := lw_at lw_m8 131 rfl
theorem q1959 : (Jvm.Cond.instanceMethod ({ cls := "LawnPaths", name := "walkersOver", desc := "(I)I" } : Jvm.MethodName)) ∈ lw_all := lw_g (lw_at lw_m8 132 rfl) rfl
theorem q1960 : (Jvm.Cond.code ({ cls := "LawnPaths", name := "walkersOver", desc := "(I)I" } : Jvm.MethodName) prog_1_method_25_code (4 : Nat) (Option.some Jvm.ClassFile.FieldType.int)) ∈ lw_all := lw_g (lw_at lw_m8 133 rfl) rfl
theorem q1961 : (Jvm.Cond.methodLink "LawnPaths" (275 : Nat) ({ cls := "LawnPaths", name := "isOn", desc := "(LLawnPaths$Walker;I)Z" } : Jvm.MethodName)) ∈ lw_all := lw_g (lw_at lw_m8 134 rfl) rfl
theorem q1962 : (Jvm.Cond.privateMethod ({ cls := "LawnPaths", name := "isOn", desc := "(LLawnPaths$Walker;I)Z" } : Jvm.MethodName)) ∈ lw_tbl := lw_at lw_m8 135 rfl
theorem q1963 : (Jvm.Cond.instanceMethod ({ cls := "LawnPaths", name := "isOn", desc := "(LLawnPaths$Walker;I)Z" } : Jvm.MethodName)) ∈ lw_all := lw_g (lw_at lw_m8 136 rfl) rfl
theorem q1964 : (Jvm.Cond.code ({ cls := "LawnPaths", name := "isOn", desc := "(LLawnPaths$Walker;I)Z" } : Jvm.MethodName) prog_1_method_24_code (5 : Nat) (Option.some Jvm.ClassFile.FieldType.boolean)) ∈ lw_all := lw_g (lw_at lw_m8 137 rfl) rfl
theorem q1969 : (Jvm.Cond.instanceMethod ({ cls := "LawnPaths", name := "gate", desc := "(II)I" } : Jvm.MethodName)) ∈ lw_all := lw_g (lw_at lw_m8 142 rfl) rfl
theorem q1970 : (Jvm.Cond.selects "LawnPaths" ({ cls := "LawnPaths", name := "gate", desc := "(II)I" } : Jvm.MethodName) ({ cls := "LawnPaths", name := "gate", desc := "(II)I" } : Jvm.MethodName)) ∈ lw_all := lw_g (lw_at lw_m8 143 rfl) rfl
theorem q1971 : (Jvm.Cond.code ({ cls := "LawnPaths", name := "gate", desc := "(II)I" } : Jvm.MethodName) prog_1_method_29_code (4 : Nat) (Option.some Jvm.ClassFile.FieldType.int)) ∈ lw_all := lw_g (lw_at lw_m8 144 rfl) rfl
theorem q1972 : (Jvm.Cond.methodLink "LawnPaths" (243 : Nat) ({ cls := "LawnPaths", name := "thing", desc := "(LLawnPaths$Row;I)LLawnPaths$Named;" } : Jvm.MethodName)) ∈ lw_all := lw_g (lw_at lw_m8 145 rfl) rfl
theorem q1973 : (Jvm.Cond.static ({ cls := "LawnPaths", name := "thing", desc := "(LLawnPaths$Row;I)LLawnPaths$Named;" } : Jvm.MethodName)) ∈ lw_all := lw_g (lw_at lw_m8 146 rfl) rfl
theorem q1974 : (Jvm.Cond.code ({ cls := "LawnPaths", name := "thing", desc := "(LLawnPaths$Row;I)LLawnPaths$Named;" } : Jvm.MethodName) prog_1_method_22_code (2 : Nat) (Option.some (Jvm.ClassFile.FieldType.object "LawnPaths$Named"))) ∈ lw_all := lw_g (lw_at lw_m8 147 rfl) rfl
theorem q1975 : (Jvm.Cond.methodLink "LawnPaths" (239 : Nat) ({ cls := "LawnPaths$Row", name := "get", desc := "(I)LLawnPaths$Named;" } : Jvm.MethodName)) ∈ lw_all := lw_g (lw_at lw_m8 148 rfl) rfl
theorem q1976 : (Jvm.Cond.classLink "LawnPaths" (315 : Nat) "LawnPaths$Gate") ∈ lw_all := lw_g (lw_at lw_m8 149 rfl) rfl
theorem q1977 : (Jvm.Cond.methodLink "LawnPaths" (317 : Nat) ({ cls := "LawnPaths$Gate", name := "cell", desc := "()I" } : Jvm.MethodName)) ∈ lw_all := lw_g (lw_at lw_m8 150 rfl) rfl
theorem q1978 : (Jvm.Cond.methodLink "LawnPaths" (320 : Nat) ({ cls := "LawnPaths", name := "walkersAt", desc := "(IZ)I" } : Jvm.MethodName)) ∈ lw_all := lw_g (lw_at lw_m8 151 rfl) rfl
theorem q1979 : (Jvm.Cond.privateMethod ({ cls := "LawnPaths", name := "walkersAt", desc := "(IZ)I" } : Jvm.MethodName)) ∈ lw_tbl := lw_at lw_m8 152 rfl
theorem q1980 : (Jvm.Cond.instanceMethod ({ cls := "LawnPaths", name := "walkersAt", desc := "(IZ)I" } : Jvm.MethodName)) ∈ lw_all := lw_g (lw_at lw_m8 153 rfl) rfl
theorem q1981 : (Jvm.Cond.code ({ cls := "LawnPaths", name := "walkersAt", desc := "(IZ)I" } : Jvm.MethodName) prog_1_method_28_code (5 : Nat) (Option.some Jvm.ClassFile.FieldType.int)) ∈ lw_all := lw_g (lw_at lw_m8 154 rfl) rfl
theorem q1982 : (Jvm.Cond.methodLink "LawnPaths" (324 : Nat) ({ cls := "LawnPaths$Gate", name := "name", desc := "()Ljava/lang/String;" } : Jvm.MethodName)) ∈ lw_all := lw_g (lw_at lw_m8 155 rfl) rfl
theorem q1983 : (Jvm.Cond.methodLink "LawnPaths" (328 : Nat) ({ cls := "java/lang/String", name := "length", desc := "()I" } : Jvm.MethodName)) ∈ lw_all := lw_g (lw_at lw_m8 156 rfl) rfl
theorem q1988 : (Jvm.Cond.instanceMethod ({ cls := "LawnPaths", name := "walker", desc := "(II)I" } : Jvm.MethodName)) ∈ lw_all := lw_g (lw_at lw_m8 161 rfl) rfl
theorem q1989 : (Jvm.Cond.selects "LawnPaths" ({ cls := "LawnPaths", name := "walker", desc := "(II)I" } : Jvm.MethodName) ({ cls := "LawnPaths", name := "walker", desc := "(II)I" } : Jvm.MethodName)) ∈ lw_all := lw_g (lw_at lw_m8 162 rfl) rfl
theorem q1990 : (Jvm.Cond.code ({ cls := "LawnPaths", name := "walker", desc := "(II)I" } : Jvm.MethodName) prog_1_method_30_code (4 : Nat) (Option.some Jvm.ClassFile.FieldType.int)) ∈ lw_all := lw_g (lw_at lw_m8 163 rfl) rfl
theorem q1991 : (Jvm.Cond.methodLink "LawnPaths" (330 : Nat) ({ cls := "LawnPaths", name := "walkerAt", desc := "(I)LLawnPaths$Walker;" } : Jvm.MethodName)) ∈ lw_all := lw_g (lw_at lw_m8 164 rfl) rfl
theorem q1992 : (Jvm.Cond.privateMethod ({ cls := "LawnPaths", name := "walkerAt", desc := "(I)LLawnPaths$Walker;" } : Jvm.MethodName)) ∈ lw_tbl := lw_at lw_m8 165 rfl
theorem q1993 : (Jvm.Cond.instanceMethod ({ cls := "LawnPaths", name := "walkerAt", desc := "(I)LLawnPaths$Walker;" } : Jvm.MethodName)) ∈ lw_all := lw_g (lw_at lw_m8 166 rfl) rfl
theorem q1994 : (Jvm.Cond.code ({ cls := "LawnPaths", name := "walkerAt", desc := "(I)LLawnPaths$Walker;" } : Jvm.MethodName) prog_1_method_23_code (2 : Nat) (Option.some (Jvm.ClassFile.FieldType.object "LawnPaths$Walker"))) ∈ lw_all := lw_g (lw_at lw_m8 167 rfl) rfl
theorem q1995 : (Jvm.Cond.methodLink "LawnPaths" (344 : Nat) ({ cls := "LawnPaths$Walker", name := "walksOn", desc := "(I)Z" } : Jvm.MethodName)) ∈ lw_all := lw_g (lw_at lw_m8 168 rfl) rfl
theorem q2000 : (Jvm.Cond.instanceMethod ({ cls := "LawnPaths", name := "nameByte", desc := "(IZI)I" } : Jvm.MethodName)) ∈ lw_all := lw_g (lw_at lw_m8 173 rfl) rfl
theorem q2001 : (Jvm.Cond.selects "LawnPaths" ({ cls := "LawnPaths", name := "nameByte", desc := "(IZI)I" } : Jvm.MethodName) ({ cls := "LawnPaths", name := "nameByte", desc := "(IZI)I" } : Jvm.MethodName)) ∈ lw_all := lw_g (lw_at lw_m8 174 rfl) rfl
theorem q2002 : (Jvm.Cond.code ({ cls := "LawnPaths", name := "nameByte", desc := "(IZI)I" } : Jvm.MethodName) prog_1_method_31_code (5 : Nat) (Option.some Jvm.ClassFile.FieldType.int)) ∈ lw_all := lw_g (lw_at lw_m8 175 rfl) rfl
theorem q2003 : (Jvm.Cond.methodLink "LawnPaths" (350 : Nat) ({ cls := "java/lang/String", name := "charAt", desc := "(I)C" } : Jvm.MethodName)) ∈ lw_all := lw_g (lw_at lw_m8 176 rfl) rfl
theorem q2018 : (Jvm.Cond.instanceMethod ({ cls := "LawnPaths", name := "isWet", desc := "(I)Z" } : Jvm.MethodName)) ∈ lw_all := lw_g (lw_at lw_m8 191 rfl) rfl
theorem q2019 : (Jvm.Cond.selects "LawnPaths" ({ cls := "LawnPaths", name := "isWet", desc := "(I)Z" } : Jvm.MethodName) ({ cls := "LawnPaths", name := "isWet", desc := "(I)Z" } : Jvm.MethodName)) ∈ lw_all := lw_g (lw_at lw_m8 192 rfl) rfl
theorem q2020 : (Jvm.Cond.code ({ cls := "LawnPaths", name := "isWet", desc := "(I)Z" } : Jvm.MethodName) prog_1_method_33_code (2 : Nat) (Option.some Jvm.ClassFile.FieldType.boolean)) ∈ lw_all := lw_g (lw_at lw_m8 193 rfl) rfl
theorem q2021 : (Jvm.Cond.constantLong "LawnPaths" (369 : Nat) (9999 : Int64)) ∈ lw_all := lw_g (lw_at lw_m8 194 rfl) rfl
theorem q2026 : (Jvm.Cond.instanceMethod ({ cls := "LawnPaths", name := "cost", desc := "(III)I" } : Jvm.MethodName)) ∈ lw_all := lw_g (lw_at lw_m8 199 rfl) rfl
theorem q2027 : (Jvm.Cond.selects "LawnPaths" ({ cls := "LawnPaths", name := "cost", desc := "(III)I" } : Jvm.MethodName) ({ cls := "LawnPaths", name := "cost", desc := "(III)I" } : Jvm.MethodName)) ∈ lw_all := lw_g (lw_at lw_m8 200 rfl) rfl
theorem q2028 : (Jvm.Cond.code ({ cls := "LawnPaths", name := "cost", desc := "(III)I" } : Jvm.MethodName) prog_1_method_34_code (6 : Nat) (Option.some Jvm.ClassFile.FieldType.int)) ∈ lw_all := lw_g (lw_at lw_m8 201 rfl) rfl
theorem q2029 : (Jvm.Cond.methodLink "LawnPaths" (371 : Nat) ({ cls := "LawnPaths$Lawn", name := "costOf", desc := "(LLawnPaths$Walker;I)I" } : Jvm.MethodName)) ∈ lw_all := lw_g (lw_at lw_m8 202 rfl) rfl
theorem q2034 : (Jvm.Cond.instanceMethod ({ cls := "LawnPaths", name := "wayCost", desc := "(I)I" } : Jvm.MethodName)) ∈ lw_all := lw_g (lw_at lw_m8 207 rfl) rfl
theorem q2035 : (Jvm.Cond.selects "LawnPaths" ({ cls := "LawnPaths", name := "wayCost", desc := "(I)I" } : Jvm.MethodName) ({ cls := "LawnPaths", name := "wayCost", desc := "(I)I" } : Jvm.MethodName)) ∈ lw_all := lw_g (lw_at lw_m8 208 rfl) rfl
theorem q2036 : (Jvm.Cond.code ({ cls := "LawnPaths", name := "wayCost", desc := "(I)I" } : Jvm.MethodName) prog_1_method_35_code (2 : Nat) (Option.some Jvm.ClassFile.FieldType.int)) ∈ lw_all := lw_g (lw_at lw_m8 209 rfl) rfl
theorem q2041 : (Jvm.Cond.instanceMethod ({ cls := "LawnPaths", name := "waySteps", desc := "(I)I" } : Jvm.MethodName)) ∈ lw_all := lw_g (lw_at lw_m8 214 rfl) rfl
theorem q2042 : (Jvm.Cond.selects "LawnPaths" ({ cls := "LawnPaths", name := "waySteps", desc := "(I)I" } : Jvm.MethodName) ({ cls := "LawnPaths", name := "waySteps", desc := "(I)I" } : Jvm.MethodName)) ∈ lw_all := lw_g (lw_at lw_m8 215 rfl) rfl
theorem q2043 : (Jvm.Cond.code ({ cls := "LawnPaths", name := "waySteps", desc := "(I)I" } : Jvm.MethodName) prog_1_method_37_code (2 : Nat) (Option.some Jvm.ClassFile.FieldType.int)) ∈ lw_all := lw_g (lw_at lw_m8 216 rfl) rfl
theorem q2044 : (Jvm.Cond.methodLink "LawnPaths" (385 : Nat) ({ cls := "LawnPaths", name := "stepsOf", desc := "(LLawnPaths$Walker;)I" } : Jvm.MethodName)) ∈ lw_all := lw_g (lw_at lw_m8 217 rfl) rfl
theorem q2045 : (Jvm.Cond.privateMethod ({ cls := "LawnPaths", name := "stepsOf", desc := "(LLawnPaths$Walker;)I" } : Jvm.MethodName)) ∈ lw_tbl := lw_at lw_m8 218 rfl
theorem q2046 : (Jvm.Cond.instanceMethod ({ cls := "LawnPaths", name := "stepsOf", desc := "(LLawnPaths$Walker;)I" } : Jvm.MethodName)) ∈ lw_all := lw_g (lw_at lw_m8 219 rfl) rfl
theorem q2047 : (Jvm.Cond.code ({ cls := "LawnPaths", name := "stepsOf", desc := "(LLawnPaths$Walker;)I" } : Jvm.MethodName) prog_1_method_36_code (5 : Nat) (Option.some Jvm.ClassFile.FieldType.int)) ∈ lw_all := lw_g (lw_at lw_m8 220 rfl) rfl
theorem q2052 : (Jvm.Cond.instanceMethod ({ cls := "LawnPaths", name := "wayCell", desc := "(II)I" } : Jvm.MethodName)) ∈ lw_all := lw_g (lw_at lw_m8 225 rfl) rfl
theorem q2053 : (Jvm.Cond.selects "LawnPaths" ({ cls := "LawnPaths", name := "wayCell", desc := "(II)I" } : Jvm.MethodName) ({ cls := "LawnPaths", name := "wayCell", desc := "(II)I" } : Jvm.MethodName)) ∈ lw_all := lw_g (lw_at lw_m8 226 rfl) rfl
theorem q2054 : (Jvm.Cond.code ({ cls := "LawnPaths", name := "wayCell", desc := "(II)I" } : Jvm.MethodName) prog_1_method_39_code (6 : Nat) (Option.some Jvm.ClassFile.FieldType.int)) ∈ lw_all := lw_g (lw_at lw_m8 227 rfl) rfl
theorem q2059 : (Jvm.Cond.instanceMethod ({ cls := "LawnPaths", name := "why", desc := "(II)I" } : Jvm.MethodName)) ∈ lw_all := lw_g (lw_at lw_m8 232 rfl) rfl
theorem q2060 : (Jvm.Cond.selects "LawnPaths" ({ cls := "LawnPaths", name := "why", desc := "(II)I" } : Jvm.MethodName) ({ cls := "LawnPaths", name := "why", desc := "(II)I" } : Jvm.MethodName)) ∈ lw_all := lw_g (lw_at lw_m8 233 rfl) rfl
theorem q2061 : (Jvm.Cond.code ({ cls := "LawnPaths", name := "why", desc := "(II)I" } : Jvm.MethodName) prog_1_method_43_code (8 : Nat) (Option.some Jvm.ClassFile.FieldType.int)) ∈ lw_all := lw_g (lw_at lw_m8 234 rfl) rfl
theorem q2062 : (Jvm.Cond.constantLong "LawnPaths" (395 : Nat) (2 : Int64)) ∈ lw_all := lw_g (lw_at lw_m8 235 rfl) rfl
theorem q2063 : (Jvm.Cond.methodLink "LawnPaths" (397 : Nat) ({ cls := "LawnPaths", name := "dearer", desc := "(LLawnPaths$Walker;)I" } : Jvm.MethodName)) ∈ lw_all := lw_g (lw_at lw_m8 236 rfl) rfl
theorem q2064 : (Jvm.Cond.privateMethod ({ cls := "LawnPaths", name := "dearer", desc := "(LLawnPaths$Walker;)I" } : Jvm.MethodName)) ∈ lw_tbl := lw_at lw_m8 237 rfl
theorem q2065 : (Jvm.Cond.instanceMethod ({ cls := "LawnPaths", name := "dearer", desc := "(LLawnPaths$Walker;)I" } : Jvm.MethodName)) ∈ lw_all := lw_g (lw_at lw_m8 238 rfl) rfl
theorem q2066 : (Jvm.Cond.code ({ cls := "LawnPaths", name := "dearer", desc := "(LLawnPaths$Walker;)I" } : Jvm.MethodName) prog_1_method_41_code (3 : Nat) (Option.some Jvm.ClassFile.FieldType.int)) ∈ lw_all := lw_g (lw_at lw_m8 239 rfl) rfl
theorem q2067 : (Jvm.Cond.fieldLink "LawnPaths" (392 : Nat) "LawnPaths$Ground" "WITHOUT_FENCES" "LLawnPaths$Ground;") ∈ lw_all := lw_g (lw_at lw_m9 0 rfl) rfl
theorem q2069 : (Jvm.Cond.methodLink "LawnPaths" (400 : Nat) ({ cls := "LawnPaths", name := "because", desc := "(IIII)I" } : Jvm.MethodName)) ∈ lw_all := lw_g (lw_at lw_m9 2 rfl) rfl
theorem q2070 : (Jvm.Cond.static ({ cls := "LawnPaths", name := "because", desc := "(IIII)I" } : Jvm.MethodName)) ∈ lw_all := lw_g (lw_at lw_m9 3 rfl) rfl
theorem q2071 : (Jvm.Cond.code ({ cls := "LawnPaths", name := "because", desc := "(IIII)I" } : Jvm.MethodName) prog_1_method_40_code (4 : Nat) (Option.some Jvm.ClassFile.FieldType.int)) ∈ lw_all := lw_g (lw_at lw_m9 4 rfl) rfl
theorem q2072 : (Jvm.Cond.methodLink "LawnPaths" (404 : Nat) ({ cls := "LawnPaths", name := "grassOn", desc := "(LLawnPaths$Walker;)I" } : Jvm.MethodName)) ∈ lw_all := lw_g (lw_at lw_m9 5 rfl) rfl
theorem q2073 : (Jvm.Cond.privateMethod ({ cls := "LawnPaths", name := "grassOn", desc := "(LLawnPaths$Walker;)I" } : Jvm.MethodName)) ∈ lw_tbl := lw_at lw_m9 6 rfl
theorem q2074 : (Jvm.Cond.instanceMethod ({ cls := "LawnPaths", name := "grassOn", desc := "(LLawnPaths$Walker;)I" } : Jvm.MethodName)) ∈ lw_all := lw_g (lw_at lw_m9 7 rfl) rfl
theorem q2075 : (Jvm.Cond.code ({ cls := "LawnPaths", name := "grassOn", desc := "(LLawnPaths$Walker;)I" } : Jvm.MethodName) prog_1_method_42_code (5 : Nat) (Option.some Jvm.ClassFile.FieldType.int)) ∈ lw_all := lw_g (lw_at lw_m9 8 rfl) rfl
theorem q2076 : (Jvm.Cond.fieldLink "LawnPaths" (407 : Nat) "LawnPaths$Ground" "HARD" "LLawnPaths$Ground;") ∈ lw_all := lw_g (lw_at lw_m9 9 rfl) rfl
theorem q2082 : (Jvm.Cond.instanceMethod ({ cls := "LawnPaths", name := "keptBy", desc := "(III)I" } : Jvm.MethodName)) ∈ lw_all := lw_g (lw_at lw_m9 15 rfl) rfl
theorem q2083 : (Jvm.Cond.selects "LawnPaths" ({ cls := "LawnPaths", name := "keptBy", desc := "(III)I" } : Jvm.MethodName) ({ cls := "LawnPaths", name := "keptBy", desc := "(III)I" } : Jvm.MethodName)) ∈ lw_all := lw_g (lw_at lw_m9 16 rfl) rfl
theorem q2084 : (Jvm.Cond.code ({ cls := "LawnPaths", name := "keptBy", desc := "(III)I" } : Jvm.MethodName) prog_1_method_44_code (7 : Nat) (Option.some Jvm.ClassFile.FieldType.int)) ∈ lw_all := lw_g (lw_at lw_m9 17 rfl) rfl
theorem q2089 : (Jvm.Cond.instanceMethod ({ cls := "LawnPaths", name := "account", desc := "(I)I" } : Jvm.MethodName)) ∈ lw_all := lw_g (lw_at lw_m9 22 rfl) rfl
theorem q2090 : (Jvm.Cond.selects "LawnPaths" ({ cls := "LawnPaths", name := "account", desc := "(I)I" } : Jvm.MethodName) ({ cls := "LawnPaths", name := "account", desc := "(I)I" } : Jvm.MethodName)) ∈ lw_all := lw_g (lw_at lw_m9 23 rfl) rfl
theorem q2091 : (Jvm.Cond.code ({ cls := "LawnPaths", name := "account", desc := "(I)I" } : Jvm.MethodName) prog_1_method_45_code (2 : Nat) (Option.some Jvm.ClassFile.FieldType.int)) ∈ lw_all := lw_g (lw_at lw_m9 24 rfl) rfl
theorem q2092 : (Jvm.Cond.constantLong "LawnPaths" (411 : Nat) (11 : Int64)) ∈ lw_all := lw_g (lw_at lw_m9 25 rfl) rfl
theorem q2097 : (Jvm.Cond.instanceMethod ({ cls := "LawnPaths", name := "grassIn", desc := "(III)I" } : Jvm.MethodName)) ∈ lw_all := lw_g (lw_at lw_m9 30 rfl) rfl
theorem q2098 : (Jvm.Cond.selects "LawnPaths" ({ cls := "LawnPaths", name := "grassIn", desc := "(III)I" } : Jvm.MethodName) ({ cls := "LawnPaths", name := "grassIn", desc := "(III)I" } : Jvm.MethodName)) ∈ lw_all := lw_g (lw_at lw_m9 31 rfl) rfl
theorem q2099 : (Jvm.Cond.code ({ cls := "LawnPaths", name := "grassIn", desc := "(III)I" } : Jvm.MethodName) prog_1_method_51_code (6 : Nat) (Option.some Jvm.ClassFile.FieldType.int)) ∈ lw_all := lw_g (lw_at lw_m9 32 rfl) rfl
theorem q2100 : (Jvm.Cond.methodLink "LawnPaths" (434 : Nat) ({ cls := "LawnPaths", name := "behind", desc := "(I)LLawnPaths$Lawn;" } : Jvm.MethodName)) ∈ lw_all := lw_g (lw_at lw_m9 33 rfl) rfl
theorem q2101 : (Jvm.Cond.privateMethod ({ cls := "LawnPaths", name := "behind", desc := "(I)LLawnPaths$Lawn;" } : Jvm.MethodName)) ∈ lw_tbl := lw_at lw_m9 34 rfl
theorem q2102 : (Jvm.Cond.instanceMethod ({ cls := "LawnPaths", name := "behind", desc := "(I)LLawnPaths$Lawn;" } : Jvm.MethodName)) ∈ lw_all := lw_g (lw_at lw_m9 35 rfl) rfl
theorem q2103 : (Jvm.Cond.code ({ cls := "LawnPaths", name := "behind", desc := "(I)LLawnPaths$Lawn;" } : Jvm.MethodName) prog_1_method_50_code (2 : Nat) (Option.some (Jvm.ClassFile.FieldType.object "LawnPaths$Lawn"))) ∈ lw_all := lw_g (lw_at lw_m9 36 rfl) rfl
theorem q2104 : (Jvm.Cond.constantLong "LawnPaths" (428 : Nat) (60 : Int64)) ∈ lw_all := lw_g (lw_at lw_m9 37 rfl) rfl
theorem q2105 : (Jvm.Cond.methodLink "LawnPaths" (430 : Nat) ({ cls := "LawnPaths$Lawn", name := "behind", desc := "(I)LLawnPaths$Lawn;" } : Jvm.MethodName)) ∈ lw_all := lw_g (lw_at lw_m9 38 rfl) rfl
theorem q2110 : (Jvm.Cond.instanceMethod ({ cls := "LawnPaths", name := "bareIn", desc := "(I)I" } : Jvm.MethodName)) ∈ lw_all := lw_g (lw_at lw_m9 43 rfl) rfl
theorem q2111 : (Jvm.Cond.selects "LawnPaths" ({ cls := "LawnPaths", name := "bareIn", desc := "(I)I" } : Jvm.MethodName) ({ cls := "LawnPaths", name := "bareIn", desc := "(I)I" } : Jvm.MethodName)) ∈ lw_all := lw_g (lw_at lw_m9 44 rfl) rfl
theorem q2112 : (Jvm.Cond.code ({ cls := "LawnPaths", name := "bareIn", desc := "(I)I" } : Jvm.MethodName) prog_1_method_52_code (2 : Nat) (Option.some Jvm.ClassFile.FieldType.int)) ∈ lw_all := lw_g (lw_at lw_m9 45 rfl) rfl
theorem q2117 : (Jvm.Cond.instanceMethod ({ cls := "LawnPaths", name := "whenBare", desc := "(II)I" } : Jvm.MethodName)) ∈ lw_all := lw_g (lw_at lw_m9 50 rfl) rfl
theorem q2118 : (Jvm.Cond.selects "LawnPaths" ({ cls := "LawnPaths", name := "whenBare", desc := "(II)I" } : Jvm.MethodName) ({ cls := "LawnPaths", name := "whenBare", desc := "(II)I" } : Jvm.MethodName)) ∈ lw_all := lw_g (lw_at lw_m9 51 rfl) rfl
theorem q2119 : (Jvm.Cond.code ({ cls := "LawnPaths", name := "whenBare", desc := "(II)I" } : Jvm.MethodName) prog_1_method_53_code (6 : Nat) (Option.some Jvm.ClassFile.FieldType.int)) ∈ lw_all := lw_g (lw_at lw_m9 52 rfl) rfl
theorem q2120 : (Jvm.Cond.methodLink "LawnPaths" (435 : Nat) ({ cls := "LawnPaths$Lawn", name := "passes", desc := "()V" } : Jvm.MethodName)) ∈ lw_all := lw_g (lw_at lw_m9 53 rfl) rfl
theorem q2125 : (Jvm.Cond.instanceMethod ({ cls := "LawnPaths", name := "ifFence", desc := "(III)I" } : Jvm.MethodName)) ∈ lw_all := lw_g (lw_at lw_m9 58 rfl) rfl
theorem q2126 : (Jvm.Cond.selects "LawnPaths" ({ cls := "LawnPaths", name := "ifFence", desc := "(III)I" } : Jvm.MethodName) ({ cls := "LawnPaths", name := "ifFence", desc := "(III)I" } : Jvm.MethodName)) ∈ lw_all := lw_g (lw_at lw_m9 59 rfl) rfl
theorem q2127 : (Jvm.Cond.code ({ cls := "LawnPaths", name := "ifFence", desc := "(III)I" } : Jvm.MethodName) prog_1_method_55_code (6 : Nat) (Option.some Jvm.ClassFile.FieldType.int)) ∈ lw_all := lw_g (lw_at lw_m9 60 rfl) rfl
theorem q2128 : (Jvm.Cond.methodLink "LawnPaths" (441 : Nat) ({ cls := "LawnPaths", name := "fencedAt", desc := "(I)LLawnPaths$Lawn;" } : Jvm.MethodName)) ∈ lw_all := lw_g (lw_at lw_m9 61 rfl) rfl
theorem q2129 : (Jvm.Cond.privateMethod ({ cls := "LawnPaths", name := "fencedAt", desc := "(I)LLawnPaths$Lawn;" } : Jvm.MethodName)) ∈ lw_tbl := lw_at lw_m9 62 rfl
theorem q2130 : (Jvm.Cond.instanceMethod ({ cls := "LawnPaths", name := "fencedAt", desc := "(I)LLawnPaths$Lawn;" } : Jvm.MethodName)) ∈ lw_all := lw_g (lw_at lw_m9 63 rfl) rfl
theorem q2131 : (Jvm.Cond.codeWith ({ cls := "LawnPaths", name := "fencedAt", desc := "(I)LLawnPaths$Lawn;" } : Jvm.MethodName) prog_1_method_54_code (4 : Nat) (Option.some (Jvm.ClassFile.FieldType.object "LawnPaths$Lawn")) [((8 : Nat), (14 : Nat), (17 : Nat), (10 : Nat))]) ∈ lw_all := lw_g (lw_at lw_m9 64 rfl) rfl
theorem q2132 : (Jvm.Cond.methodLink "LawnPaths" (438 : Nat) ({ cls := "LawnPaths$Lawn", name := "fenced", desc := "(I)I" } : Jvm.MethodName)) ∈ lw_all := lw_g (lw_at lw_m9 65 rfl) rfl
theorem q2137 : (Jvm.Cond.instanceMethod ({ cls := "LawnPaths", name := "ifOpen", desc := "(I)I" } : Jvm.MethodName)) ∈ lw_all := lw_g (lw_at lw_m9 70 rfl) rfl
theorem q2138 : (Jvm.Cond.selects "LawnPaths" ({ cls := "LawnPaths", name := "ifOpen", desc := "(I)I" } : Jvm.MethodName) ({ cls := "LawnPaths", name := "ifOpen", desc := "(I)I" } : Jvm.MethodName)) ∈ lw_all := lw_g (lw_at lw_m9 71 rfl) rfl
theorem q2139 : (Jvm.Cond.code ({ cls := "LawnPaths", name := "ifOpen", desc := "(I)I" } : Jvm.MethodName) prog_1_method_56_code (2 : Nat) (Option.some Jvm.ClassFile.FieldType.int)) ∈ lw_all := lw_g (lw_at lw_m9 72 rfl) rfl
theorem q2144 : (Jvm.Cond.instanceMethod ({ cls := "LawnPaths", name := "bestFence", desc := "(I)I" } : Jvm.MethodName)) ∈ lw_all := lw_g (lw_at lw_m9 77 rfl) rfl
theorem q2145 : (Jvm.Cond.selects "LawnPaths" ({ cls := "LawnPaths", name := "bestFence", desc := "(I)I" } : Jvm.MethodName) ({ cls := "LawnPaths", name := "bestFence", desc := "(I)I" } : Jvm.MethodName)) ∈ lw_all := lw_g (lw_at lw_m9 78 rfl) rfl
theorem q2146 : (Jvm.Cond.code ({ cls := "LawnPaths", name := "bestFence", desc := "(I)I" } : Jvm.MethodName) prog_1_method_57_code (7 : Nat) (Option.some Jvm.ClassFile.FieldType.int)) ∈ lw_all := lw_g (lw_at lw_m9 79 rfl) rfl
theorem q2147 : (Jvm.Cond.constantLong "LawnPaths" (444 : Nat) (5 : Int64)) ∈ lw_all := lw_g (lw_at lw_m9 80 rfl) rfl
theorem q2152 : (Jvm.Cond.instanceMethod ({ cls := "LawnPaths", name := "ifHaste", desc := "(III)I" } : Jvm.MethodName)) ∈ lw_all := lw_g (lw_at lw_m9 85 rfl) rfl
theorem q2153 : (Jvm.Cond.selects "LawnPaths" ({ cls := "LawnPaths", name := "ifHaste", desc := "(III)I" } : Jvm.MethodName) ({ cls := "LawnPaths", name := "ifHaste", desc := "(III)I" } : Jvm.MethodName)) ∈ lw_all := lw_g (lw_at lw_m9 86 rfl) rfl
theorem q2154 : (Jvm.Cond.code ({ cls := "LawnPaths", name := "ifHaste", desc := "(III)I" } : Jvm.MethodName) prog_1_method_58_code (6 : Nat) (Option.some Jvm.ClassFile.FieldType.int)) ∈ lw_all := lw_g (lw_at lw_m9 87 rfl) rfl
theorem q2155 : (Jvm.Cond.constantLong "LawnPaths" (449 : Nat) (9 : Int64)) ∈ lw_all := lw_g (lw_at lw_m9 88 rfl) rfl
theorem q2160 : (Jvm.Cond.instanceMethod ({ cls := "LawnPaths", name := "run", desc := "(I)I" } : Jvm.MethodName)) ∈ lw_all := lw_g (lw_at lw_m9 93 rfl) rfl
theorem q2161 : (Jvm.Cond.selects "LawnPaths" ({ cls := "LawnPaths", name := "run", desc := "(I)I" } : Jvm.MethodName) ({ cls := "LawnPaths", name := "run", desc := "(I)I" } : Jvm.MethodName)) ∈ lw_all := lw_g (lw_at lw_m9 94 rfl) rfl
theorem q2162 : (Jvm.Cond.code ({ cls := "LawnPaths", name := "run", desc := "(I)I" } : Jvm.MethodName) prog_1_method_63_code (2 : Nat) (Option.some Jvm.ClassFile.FieldType.int)) ∈ lw_all := lw_g (lw_at lw_m9 95 rfl) rfl
theorem q2163 : (Jvm.Cond.static ({ cls := "LawnPaths", name := "lambda$run$0", desc := "(ILLawnPaths$Lawn;)I" } : Jvm.MethodName)) ∈ lw_all := lw_g (lw_at lw_m9 96 rfl) rfl
theorem q2164 : (Jvm.Cond.code ({ cls := "LawnPaths", name := "lambda$run$0", desc := "(ILLawnPaths$Lawn;)I" } : Jvm.MethodName) prog_1_method_83_code (2 : Nat) (Option.some Jvm.ClassFile.FieldType.int)) ∈ lw_all := lw_g (lw_at lw_m9 97 rfl) rfl
theorem q2165 : (Jvm.Cond.methodLink "LawnPaths" (507 : Nat) ({ cls := "LawnPaths$Lawn", name := "runs", desc := "(I)I" } : Jvm.MethodName)) ∈ lw_all := lw_g (lw_at lw_m9 98 rfl) rfl
theorem q2166 : (Jvm.Cond.methodLink "LawnPaths" (463 : Nat) ({ cls := "LawnPaths", name := "changes", desc := "(LLawnPaths$Change;)I" } : Jvm.MethodName)) ∈ lw_all := lw_g (lw_at lw_m9 99 rfl) rfl
theorem q2167 : (Jvm.Cond.privateMethod ({ cls := "LawnPaths", name := "changes", desc := "(LLawnPaths$Change;)I" } : Jvm.MethodName)) ∈ lw_tbl := lw_at lw_m9 100 rfl
theorem q2168 : (Jvm.Cond.instanceMethod ({ cls := "LawnPaths", name := "changes", desc := "(LLawnPaths$Change;)I" } : Jvm.MethodName)) ∈ lw_all := lw_g (lw_at lw_m9 101 rfl) rfl
theorem q2169 : (Jvm.Cond.codeWith ({ cls := "LawnPaths", name := "changes", desc := "(LLawnPaths$Change;)I" } : Jvm.MethodName) prog_1_method_62_code (4 : Nat) (Option.some Jvm.ClassFile.FieldType.int) [((8 : Nat), (20 : Nat), (21 : Nat), (10 : Nat))]) ∈ lw_all := lw_g (lw_at lw_m9 102 rfl) rfl
theorem q2170 : (Jvm.Cond.interfaceEntry "LawnPaths" (451 : Nat)) ∈ lw_tbl := lw_at lw_m9 103 rfl
theorem q2171 : (Jvm.Cond.methodLink "LawnPaths" (451 : Nat) ({ cls := "LawnPaths$Change", name := "does", desc := "(LLawnPaths$Lawn;)I" } : Jvm.MethodName)) ∈ lw_all := lw_g (lw_at lw_m9 104 rfl) rfl
theorem q2176 : (Jvm.Cond.instanceMethod ({ cls := "LawnPaths", name := "setFence", desc := "(II)I" } : Jvm.MethodName)) ∈ lw_all := lw_g (lw_at lw_m9 109 rfl) rfl
theorem q2177 : (Jvm.Cond.selects "LawnPaths" ({ cls := "LawnPaths", name := "setFence", desc := "(II)I" } : Jvm.MethodName) ({ cls := "LawnPaths", name := "setFence", desc := "(II)I" } : Jvm.MethodName)) ∈ lw_all := lw_g (lw_at lw_m9 110 rfl) rfl
theorem q2178 : (Jvm.Cond.code ({ cls := "LawnPaths", name := "setFence", desc := "(II)I" } : Jvm.MethodName) prog_1_method_64_code (4 : Nat) (Option.some Jvm.ClassFile.FieldType.int)) ∈ lw_all := lw_g (lw_at lw_m9 111 rfl) rfl
theorem q2179 : (Jvm.Cond.static ({ cls := "LawnPaths", name := "lambda$setFence$1", desc := "(ILLawnPaths$Lawn;)I" } : Jvm.MethodName)) ∈ lw_all := lw_g (lw_at lw_m9 112 rfl) rfl
theorem q2180 : (Jvm.Cond.code ({ cls := "LawnPaths", name := "lambda$setFence$1", desc := "(ILLawnPaths$Lawn;)I" } : Jvm.MethodName) prog_1_method_82_code (2 : Nat) (Option.some Jvm.ClassFile.FieldType.int)) ∈ lw_all := lw_g (lw_at lw_m9 113 rfl) rfl
theorem q2185 : (Jvm.Cond.instanceMethod ({ cls := "LawnPaths", name := "dropFence", desc := "(II)I" } : Jvm.MethodName)) ∈ lw_all := lw_g (lw_at lw_m9 118 rfl) rfl
theorem q2186 : (Jvm.Cond.selects "LawnPaths" ({ cls := "LawnPaths", name := "dropFence", desc := "(II)I" } : Jvm.MethodName) ({ cls := "LawnPaths", name := "dropFence", desc := "(II)I" } : Jvm.MethodName)) ∈ lw_all := lw_g (lw_at lw_m9 119 rfl) rfl
theorem q2187 : (Jvm.Cond.code ({ cls := "LawnPaths", name := "dropFence", desc := "(II)I" } : Jvm.MethodName) prog_1_method_65_code (4 : Nat) (Option.some Jvm.ClassFile.FieldType.int)) ∈ lw_all := lw_g (lw_at lw_m9 120 rfl) rfl
theorem q2188 : (Jvm.Cond.static ({ cls := "LawnPaths", name := "lambda$dropFence$2", desc := "(ILLawnPaths$Lawn;)I" } : Jvm.MethodName)) ∈ lw_all := lw_g (lw_at lw_m9 121 rfl) rfl
theorem q2189 : (Jvm.Cond.code ({ cls := "LawnPaths", name := "lambda$dropFence$2", desc := "(ILLawnPaths$Lawn;)I" } : Jvm.MethodName) prog_1_method_81_code (2 : Nat) (Option.some Jvm.ClassFile.FieldType.int)) ∈ lw_all := lw_g (lw_at lw_m9 122 rfl) rfl
theorem q2190 : (Jvm.Cond.methodLink "LawnPaths" (504 : Nat) ({ cls := "LawnPaths$Lawn", name := "opened", desc := "(I)I" } : Jvm.MethodName)) ∈ lw_all := lw_g (lw_at lw_m9 123 rfl) rfl
theorem q2195 : (Jvm.Cond.instanceMethod ({ cls := "LawnPaths", name := "pave", desc := "(II)I" } : Jvm.MethodName)) ∈ lw_all := lw_g (lw_at lw_m9 128 rfl) rfl
theorem q2196 : (Jvm.Cond.selects "LawnPaths" ({ cls := "LawnPaths", name := "pave", desc := "(II)I" } : Jvm.MethodName) ({ cls := "LawnPaths", name := "pave", desc := "(II)I" } : Jvm.MethodName)) ∈ lw_all := lw_g (lw_at lw_m9 129 rfl) rfl
theorem q2197 : (Jvm.Cond.code ({ cls := "LawnPaths", name := "pave", desc := "(II)I" } : Jvm.MethodName) prog_1_method_66_code (4 : Nat) (Option.some Jvm.ClassFile.FieldType.int)) ∈ lw_all := lw_g (lw_at lw_m9 130 rfl) rfl
theorem q2198 : (Jvm.Cond.static ({ cls := "LawnPaths", name := "lambda$pave$3", desc := "(ILLawnPaths$Lawn;)I" } : Jvm.MethodName)) ∈ lw_all := lw_g (lw_at lw_m9 131 rfl) rfl
theorem q2199 : (Jvm.Cond.code ({ cls := "LawnPaths", name := "lambda$pave$3", desc := "(ILLawnPaths$Lawn;)I" } : Jvm.MethodName) prog_1_method_80_code (2 : Nat) (Option.some Jvm.ClassFile.FieldType.int)) ∈ lw_all := lw_g (lw_at lw_m9 132 rfl) rfl
theorem q2200 : (Jvm.Cond.methodLink "LawnPaths" (501 : Nat) ({ cls := "LawnPaths$Lawn", name := "paves", desc := "(I)I" } : Jvm.MethodName)) ∈ lw_all := lw_g (lw_at lw_m9 133 rfl) rfl
theorem q2205 : (Jvm.Cond.instanceMethod ({ cls := "LawnPaths", name := "sow", desc := "(II)I" } : Jvm.MethodName)) ∈ lw_all := lw_g (lw_at lw_m9 138 rfl) rfl
theorem q2206 : (Jvm.Cond.selects "LawnPaths" ({ cls := "LawnPaths", name := "sow", desc := "(II)I" } : Jvm.MethodName) ({ cls := "LawnPaths", name := "sow", desc := "(II)I" } : Jvm.MethodName)) ∈ lw_all := lw_g (lw_at lw_m9 139 rfl) rfl
theorem q2207 : (Jvm.Cond.code ({ cls := "LawnPaths", name := "sow", desc := "(II)I" } : Jvm.MethodName) prog_1_method_67_code (4 : Nat) (Option.some Jvm.ClassFile.FieldType.int)) ∈ lw_all := lw_g (lw_at lw_m9 140 rfl) rfl
theorem q2208 : (Jvm.Cond.static ({ cls := "LawnPaths", name := "lambda$sow$4", desc := "(ILLawnPaths$Lawn;)I" } : Jvm.MethodName)) ∈ lw_all := lw_g (lw_at lw_m9 141 rfl) rfl
theorem q2209 : (Jvm.Cond.code ({ cls := "LawnPaths", name := "lambda$sow$4", desc := "(ILLawnPaths$Lawn;)I" } : Jvm.MethodName) prog_1_method_79_code (2 : Nat) (Option.some Jvm.ClassFile.FieldType.int)) ∈ lw_all := lw_g (lw_at lw_m9 142 rfl) rfl
theorem q2210 : (Jvm.Cond.methodLink "LawnPaths" (498 : Nat) ({ cls := "LawnPaths$Lawn", name := "sows", desc := "(I)I" } : Jvm.MethodName)) ∈ lw_all := lw_g (lw_at lw_m9 143 rfl) rfl
theorem q2215 : (Jvm.Cond.instanceMethod ({ cls := "LawnPaths", name := "setHaste", desc := "(II)I" } : Jvm.MethodName)) ∈ lw_all := lw_g (lw_at lw_m9 148 rfl) rfl
theorem q2216 : (Jvm.Cond.selects "LawnPaths" ({ cls := "LawnPaths", name := "setHaste", desc := "(II)I" } : Jvm.MethodName) ({ cls := "LawnPaths", name := "setHaste", desc := "(II)I" } : Jvm.MethodName)) ∈ lw_all := lw_g (lw_at lw_m9 149 rfl) rfl
theorem q2217 : (Jvm.Cond.code ({ cls := "LawnPaths", name := "setHaste", desc := "(II)I" } : Jvm.MethodName) prog_1_method_68_code (4 : Nat) (Option.some Jvm.ClassFile.FieldType.int)) ∈ lw_all := lw_g (lw_at lw_m9 150 rfl) rfl
theorem q2218 : (Jvm.Cond.static ({ cls := "LawnPaths", name := "lambda$setHaste$5", desc := "(IILLawnPaths$Lawn;)I" } : Jvm.MethodName)) ∈ lw_all := lw_g (lw_at lw_m9 151 rfl) rfl
theorem q2219 : (Jvm.Cond.code ({ cls := "LawnPaths", name := "lambda$setHaste$5", desc := "(IILLawnPaths$Lawn;)I" } : Jvm.MethodName) prog_1_method_78_code (3 : Nat) (Option.some Jvm.ClassFile.FieldType.int)) ∈ lw_all := lw_g (lw_at lw_m9 152 rfl) rfl
theorem q2220 : (Jvm.Cond.methodLink "LawnPaths" (495 : Nat) ({ cls := "LawnPaths$Lawn", name := "hastens", desc := "(II)I" } : Jvm.MethodName)) ∈ lw_all := lw_g (lw_at lw_m9 153 rfl) rfl
theorem q2225 : (Jvm.Cond.instanceMethod ({ cls := "LawnPaths", name := "turnRound", desc := "(I)I" } : Jvm.MethodName)) ∈ lw_all := lw_g (lw_at lw_m9 158 rfl) rfl
theorem q2226 : (Jvm.Cond.selects "LawnPaths" ({ cls := "LawnPaths", name := "turnRound", desc := "(I)I" } : Jvm.MethodName) ({ cls := "LawnPaths", name := "turnRound", desc := "(I)I" } : Jvm.MethodName)) ∈ lw_all := lw_g (lw_at lw_m9 159 rfl) rfl
theorem q2227 : (Jvm.Cond.code ({ cls := "LawnPaths", name := "turnRound", desc := "(I)I" } : Jvm.MethodName) prog_1_method_69_code (3 : Nat) (Option.some Jvm.ClassFile.FieldType.int)) ∈ lw_all := lw_g (lw_at lw_m9 160 rfl) rfl
theorem q2228 : (Jvm.Cond.static ({ cls := "LawnPaths", name := "lambda$turnRound$6", desc := "(ILLawnPaths$Lawn;)I" } : Jvm.MethodName)) ∈ lw_all := lw_g (lw_at lw_m9 161 rfl) rfl
theorem q2229 : (Jvm.Cond.code ({ cls := "LawnPaths", name := "lambda$turnRound$6", desc := "(ILLawnPaths$Lawn;)I" } : Jvm.MethodName) prog_1_method_77_code (2 : Nat) (Option.some Jvm.ClassFile.FieldType.int)) ∈ lw_all := lw_g (lw_at lw_m9 162 rfl) rfl
theorem q2230 : (Jvm.Cond.methodLink "LawnPaths" (492 : Nat) ({ cls := "LawnPaths$Lawn", name := "turns", desc := "(I)I" } : Jvm.MethodName)) ∈ lw_all := lw_g (lw_at lw_m9 163 rfl) rfl
theorem q2235 : (Jvm.Cond.instanceMethod ({ cls := "LawnPaths", name := "writeWay", desc := "(I)I" } : Jvm.MethodName)) ∈ lw_all := lw_g (lw_at lw_m9 168 rfl) rfl
theorem q2236 : (Jvm.Cond.selects "LawnPaths" ({ cls := "LawnPaths", name := "writeWay", desc := "(I)I" } : Jvm.MethodName) ({ cls := "LawnPaths", name := "writeWay", desc := "(I)I" } : Jvm.MethodName)) ∈ lw_all := lw_g (lw_at lw_m9 169 rfl) rfl
theorem q2237 : (Jvm.Cond.code ({ cls := "LawnPaths", name := "writeWay", desc := "(I)I" } : Jvm.MethodName) prog_1_method_72_code (6 : Nat) (Option.some Jvm.ClassFile.FieldType.int)) ∈ lw_all := lw_g (lw_at lw_m9 170 rfl) rfl
theorem q2242 : (Jvm.Cond.instanceMethod ({ cls := "LawnPaths", name := "restore", desc := "()I" } : Jvm.MethodName)) ∈ lw_all := lw_g (lw_at lw_m9 175 rfl) rfl
theorem q2243 : (Jvm.Cond.selects "LawnPaths" ({ cls := "LawnPaths", name := "restore", desc := "()I" } : Jvm.MethodName) ({ cls := "LawnPaths", name := "restore", desc := "()I" } : Jvm.MethodName)) ∈ lw_all := lw_g (lw_at lw_m9 176 rfl) rfl
theorem q2244 : (Jvm.Cond.code ({ cls := "LawnPaths", name := "restore", desc := "()I" } : Jvm.MethodName) prog_1_method_76_code (1 : Nat) (Option.some Jvm.ClassFile.FieldType.int)) ∈ lw_all := lw_g (lw_at lw_m9 177 rfl) rfl
theorem q2970 : (Jvm.Cond.castable "LawnPaths" "java/lang/Object") ∈ lw_tbl := lw_at lw_m12 183 rfl
theorem in_X1 : ∀ w ∈ wsX10, w ∈ lw_all := lw_in wsX10 [564, 566, 568, 570, 572, 574, 576, 578] (by decide +kernel) (by decide +kernel)
/-! LawnPaths$Lawn -/
def RX2 : String := "LawnPaths$Lawn"
def TX2 : u_T := fun k => match k with
  | 0 => ("LawnPaths$Lawn", "wide", "I", true)
  | 1 => ("LawnPaths$Lawn", "high", "I", true)
  | 2 => ("LawnPaths$Lawn", "grow", "I", true)
  | 3 => ("LawnPaths$Lawn", "wet", "I", true)
  | 4 => ("LawnPaths$Lawn", "cells", "I", true)
  | 5 => ("LawnPaths$Lawn", "kinds", "[I", true)
  | 6 => ("LawnPaths$Lawn", "grass", "[I", true)
  | 7 => ("LawnPaths$Lawn", "trodden", "[I", true)
  | 8 => ("LawnPaths$Lawn", "last", "[I", true)
  | 9 => ("LawnPaths$Lawn", "accounts", "[I", true)
  | 10 => ("LawnPaths$Lawn", "fences", "[Z", true)
  | 11 => ("LawnPaths$Lawn", "gates", "LLawnPaths$Row;", true)
  | 12 => ("LawnPaths$Lawn", "walkers", "LLawnPaths$Row;", true)
  | 13 => ("LawnPaths$Lawn", "day", "I", false)
  | 14 => ("LawnPaths$Lawn", "first", "I", false)
  | 15 => ("LawnPaths$Lawn", "far", "[I", true)
  | 16 => ("LawnPaths$Lawn", "way", "[I", true)
  | 17 => ("LawnPaths$Lawn", "marked", "[Z", true)
  | _ => ("LawnPaths$Lawn", "today", "[Z", true)
def tyX2 : Nat → FieldType := fun k => match k with
  | 0 => .int
  | 1 => .int
  | 2 => .int
  | 3 => .int
  | 4 => .int
  | 5 => .array .int
  | 6 => .array .int
  | 7 => .array .int
  | 8 => .array .int
  | 9 => .array .int
  | 10 => .array .boolean
  | 11 => .object "LawnPaths$Row"
  | 12 => .object "LawnPaths$Row"
  | 13 => .int
  | 14 => .int
  | 15 => .array .int
  | 16 => .array .int
  | 17 => .array .boolean
  | _ => .array .boolean
abbrev wsX20 : List Cond := u_ws RX2 TX2 19
theorem nmX2 : ∀ a, a < 19 → ∀ b, b < 19 → a ≠ b → (TX2 a).2.1 ≠ (TX2 b).2.1 := by decide +kernel
theorem tyX2_ok : ∀ k, k < 19 → parseFieldDescriptor (TX2 k).2.2.1 = some (tyX2 k) := by decide +kernel
abbrev cX2_init : ByteArray := prog_8_method_1_code
def yX2_init : MethodName := ⟨RX2, "<init>", "(IIII)V"⟩
abbrev cX2_init_2 : ByteArray := prog_8_method_2_code
def yX2_init_2 : MethodName := ⟨RX2, "<init>", "(IIIILLawnPaths$Row;[I[I[I[I[Z[I)V"⟩
abbrev cX2_addsGate : ByteArray := prog_8_method_9_code
def yX2_addsGate : MethodName := ⟨RX2, "addsGate", "(Ljava/lang/String;I)V"⟩
abbrev cX2_hardens : ByteArray := prog_8_method_8_code
def yX2_hardens : MethodName := ⟨RX2, "hardens", "(II)V"⟩
abbrev cX2_grassAll : ByteArray := prog_8_method_11_code
def yX2_grassAll : MethodName := ⟨RX2, "grassAll", "()I"⟩
abbrev cX2_walker : ByteArray := prog_8_method_4_code
def yX2_walker : MethodName := ⟨RX2, "walker", "(I)LLawnPaths$Walker;"⟩
abbrev cX2_tellsFar : ByteArray := prog_8_method_17_code
def yX2_tellsFar : MethodName := ⟨RX2, "tellsFar", "(LLawnPaths$Walker;LLawnPaths$Ground;)I"⟩
abbrev cX2_cellOf : ByteArray := prog_8_method_5_code
def yX2_cellOf : MethodName := ⟨RX2, "cellOf", "(I)I"⟩
abbrev cX2_nearestUnmarked : ByteArray := prog_8_method_16_code
def yX2_nearestUnmarked : MethodName := ⟨RX2, "nearestUnmarked", "()I"⟩
abbrev cX2_costOf : ByteArray := prog_8_method_15_code
def yX2_costOf : MethodName := ⟨RX2, "costOf", "(LLawnPaths$Walker;I)I"⟩
abbrev cX2_isGrass : ByteArray := prog_8_method_6_code
def yX2_isGrass : MethodName := ⟨RX2, "isGrass", "(I)Z"⟩
abbrev cX2_isWet : ByteArray := prog_8_method_7_code
def yX2_isWet : MethodName := ⟨RX2, "isWet", "(I)Z"⟩
abbrev cX2_next : ByteArray := prog_8_method_14_code
def yX2_next : MethodName := ⟨RX2, "next", "(II)I"⟩
abbrev cX2_way : ByteArray := prog_8_method_19_code
def yX2_way : MethodName := ⟨RX2, "way", "(LLawnPaths$Walker;)Ljava/lang/Iterable;"⟩
abbrev cX2_goesOn : ByteArray := prog_8_method_18_code
def yX2_goesOn : MethodName := ⟨RX2, "goesOn", "(LLawnPaths$Walker;I)I"⟩
abbrev cX2_cellsOf : ByteArray := prog_8_method_12_code
def yX2_cellsOf : MethodName := ⟨RX2, "cellsOf", "(I)I"⟩
abbrev cX2_bareAll : ByteArray := prog_8_method_13_code
def yX2_bareAll : MethodName := ⟨RX2, "bareAll", "()I"⟩
abbrev cX2_copy : ByteArray := prog_8_method_3_code
def yX2_copy : MethodName := ⟨RX2, "copy", "()LLawnPaths$Lawn;"⟩
abbrev cX2_fencesAll : ByteArray := prog_8_method_10_code
def yX2_fencesAll : MethodName := ⟨RX2, "fencesAll", "()I"⟩
abbrev cX2_hasWays : ByteArray := prog_8_method_20_code
def yX2_hasWays : MethodName := ⟨RX2, "hasWays", "()Z"⟩
abbrev cX2_runs : ByteArray := prog_8_method_26_code
def yX2_runs : MethodName := ⟨RX2, "runs", "(I)I"⟩
abbrev cX2_behind : ByteArray := prog_8_method_25_code
def yX2_behind : MethodName := ⟨RX2, "behind", "(I)LLawnPaths$Lawn;"⟩
abbrev cX2_passes : ByteArray := prog_8_method_24_code
def yX2_passes : MethodName := ⟨RX2, "passes", "()V"⟩
abbrev cX2_walks : ByteArray := prog_8_method_22_code
def yX2_walks : MethodName := ⟨RX2, "walks", "(LLawnPaths$Walker;)V"⟩
abbrev cX2_treads : ByteArray := prog_8_method_21_code
def yX2_treads : MethodName := ⟨RX2, "treads", "(I)V"⟩
abbrev cX2_grows : ByteArray := prog_8_method_23_code
def yX2_grows : MethodName := ⟨RX2, "grows", "(II)V"⟩
abbrev cX2_hastens : ByteArray := prog_8_method_31_code
def yX2_hastens : MethodName := ⟨RX2, "hastens", "(II)I"⟩
abbrev cX2_turns : ByteArray := prog_8_method_32_code
def yX2_turns : MethodName := ⟨RX2, "turns", "(I)I"⟩
abbrev cX2_fenced : ByteArray := prog_8_method_27_code
def yX2_fenced : MethodName := ⟨RX2, "fenced", "(I)I"⟩
abbrev cX2_opened : ByteArray := prog_8_method_28_code
def yX2_opened : MethodName := ⟨RX2, "opened", "(I)I"⟩
abbrev cX2_paves : ByteArray := prog_8_method_29_code
def yX2_paves : MethodName := ⟨RX2, "paves", "(I)I"⟩
abbrev cX2_sows : ByteArray := prog_8_method_30_code
def yX2_sows : MethodName := ⟨RX2, "sows", "(I)I"⟩
theorem q149 : (Jvm.Cond.initialized "LawnPaths$Lawn") ∈ lw_all := lw_g (lw_at lw_m1 2 rfl) rfl
theorem q205 : (Jvm.Cond.instantiable "LawnPaths$Lawn" (19 : Nat)) ∈ lw_all := lw_g (lw_at lw_m1 58 rfl) rfl
theorem q207 : (Jvm.Cond.instanceMethod ({ cls := "LawnPaths$Lawn", name := "<init>", desc := "(IIII)V" } : Jvm.MethodName)) ∈ lw_all := lw_g (lw_at lw_m1 60 rfl) rfl
theorem q208 : (Jvm.Cond.code ({ cls := "LawnPaths$Lawn", name := "<init>", desc := "(IIII)V" } : Jvm.MethodName) prog_8_method_1_code (6 : Nat) (Option.none : Option Jvm.ClassFile.FieldType)) ∈ lw_all := lw_g (lw_at lw_m1 61 rfl) rfl
theorem q209 : (Jvm.Cond.classLink "LawnPaths$Lawn" (3 : Nat) "LawnPaths$Row") ∈ lw_all := lw_g (lw_at lw_m1 62 rfl) rfl
theorem q211 : (Jvm.Cond.methodLinkNest "LawnPaths$Lawn" (5 : Nat) ({ cls := "LawnPaths$Row", name := "<init>", desc := "()V" } : Jvm.MethodName) "LawnPaths") ∈ lw_tbl := lw_at lw_m1 64 rfl
theorem q248 : (Jvm.Cond.methodLink "LawnPaths$Lawn" (9 : Nat) ({ cls := "LawnPaths$Lawn", name := "<init>", desc := "(IIIILLawnPaths$Row;[I[I[I[I[Z[I)V" } : Jvm.MethodName)) ∈ lw_all := lw_g (lw_at lw_m1 101 rfl) rfl
theorem q249 : (Jvm.Cond.instanceMethod ({ cls := "LawnPaths$Lawn", name := "<init>", desc := "(IIIILLawnPaths$Row;[I[I[I[I[Z[I)V" } : Jvm.MethodName)) ∈ lw_all := lw_g (lw_at lw_m1 102 rfl) rfl
theorem q250 : (Jvm.Cond.code ({ cls := "LawnPaths$Lawn", name := "<init>", desc := "(IIIILLawnPaths$Row;[I[I[I[I[Z[I)V" } : Jvm.MethodName) prog_8_method_2_code (12 : Nat) (Option.none : Option Jvm.ClassFile.FieldType)) ∈ lw_all := lw_g (lw_at lw_m1 103 rfl) rfl
theorem q251 : (Jvm.Cond.methodLink "LawnPaths$Lawn" (28 : Nat) ({ cls := "java/lang/Object", name := "<init>", desc := "()V" } : Jvm.MethodName)) ∈ lw_all := lw_g (lw_at lw_m1 104 rfl) rfl
theorem q252 : (Jvm.Cond.fieldLink "LawnPaths$Lawn" (38 : Nat) "LawnPaths$Lawn" "wide" "I") ∈ lw_all := lw_g (lw_at lw_m1 105 rfl) rfl
theorem q255 : (Jvm.Cond.fieldLink "LawnPaths$Lawn" (41 : Nat) "LawnPaths$Lawn" "high" "I") ∈ lw_all := lw_g (lw_at lw_m1 108 rfl) rfl
theorem q258 : (Jvm.Cond.fieldLink "LawnPaths$Lawn" (44 : Nat) "LawnPaths$Lawn" "grow" "I") ∈ lw_all := lw_g (lw_at lw_m1 111 rfl) rfl
theorem q260 : (Jvm.Cond.fieldLink "LawnPaths$Lawn" (47 : Nat) "LawnPaths$Lawn" "wet" "I") ∈ lw_all := lw_g (lw_at lw_m1 113 rfl) rfl
theorem q262 : (Jvm.Cond.fieldLink "LawnPaths$Lawn" (14 : Nat) "LawnPaths$Lawn" "cells" "I") ∈ lw_all := lw_g (lw_at lw_m1 115 rfl) rfl
theorem q265 : (Jvm.Cond.fieldLink "LawnPaths$Lawn" (53 : Nat) "LawnPaths$Lawn" "kinds" "[I") ∈ lw_all := lw_g (lw_at lw_m1 118 rfl) rfl
theorem q267 : (Jvm.Cond.fieldLink "LawnPaths$Lawn" (18 : Nat) "LawnPaths$Lawn" "grass" "[I") ∈ lw_all := lw_g (lw_at lw_m1 120 rfl) rfl
theorem q270 : (Jvm.Cond.fieldLink "LawnPaths$Lawn" (56 : Nat) "LawnPaths$Lawn" "trodden" "[I") ∈ lw_all := lw_g (lw_at lw_m1 123 rfl) rfl
theorem q272 : (Jvm.Cond.fieldLink "LawnPaths$Lawn" (22 : Nat) "LawnPaths$Lawn" "last" "[I") ∈ lw_all := lw_g (lw_at lw_m1 125 rfl) rfl
theorem q274 : (Jvm.Cond.fieldLink "LawnPaths$Lawn" (63 : Nat) "LawnPaths$Lawn" "accounts" "[I") ∈ lw_all := lw_g (lw_at lw_m1 127 rfl) rfl
theorem q277 : (Jvm.Cond.fieldLink "LawnPaths$Lawn" (59 : Nat) "LawnPaths$Lawn" "fences" "[Z") ∈ lw_all := lw_g (lw_at lw_m1 130 rfl) rfl
theorem q280 : (Jvm.Cond.fieldLink "LawnPaths$Lawn" (50 : Nat) "LawnPaths$Lawn" "gates" "LLawnPaths$Row;") ∈ lw_all := lw_g (lw_at lw_m1 133 rfl) rfl
theorem q283 : (Jvm.Cond.fieldLink "LawnPaths$Lawn" (31 : Nat) "LawnPaths$Lawn" "walkers" "LLawnPaths$Row;") ∈ lw_all := lw_g (lw_at lw_m1 136 rfl) rfl
theorem q286 : (Jvm.Cond.fieldLink "LawnPaths$Lawn" (35 : Nat) "LawnPaths$Lawn" "day" "I") ∈ lw_all := lw_g (lw_at lw_m1 139 rfl) rfl
theorem q288 : (Jvm.Cond.fieldLink "LawnPaths$Lawn" (25 : Nat) "LawnPaths$Lawn" "first" "I") ∈ lw_all := lw_g (lw_at lw_m1 141 rfl) rfl
theorem q291 : (Jvm.Cond.fieldLink "LawnPaths$Lawn" (66 : Nat) "LawnPaths$Lawn" "far" "[I") ∈ lw_all := lw_g (lw_at lw_m1 144 rfl) rfl
theorem q292 : (Jvm.Cond.fieldLink "LawnPaths$Lawn" (69 : Nat) "LawnPaths$Lawn" "way" "[I") ∈ lw_all := lw_g (lw_at lw_m1 145 rfl) rfl
theorem q293 : (Jvm.Cond.fieldLink "LawnPaths$Lawn" (72 : Nat) "LawnPaths$Lawn" "marked" "[Z") ∈ lw_all := lw_g (lw_at lw_m1 146 rfl) rfl
theorem q294 : (Jvm.Cond.fieldLink "LawnPaths$Lawn" (75 : Nat) "LawnPaths$Lawn" "today" "[Z") ∈ lw_all := lw_g (lw_at lw_m1 147 rfl) rfl
theorem q295 : (Jvm.Cond.laysFinal "LawnPaths$Lawn" "LawnPaths$Lawn" "wide" "I") ∈ lw_all := lw_g (lw_at lw_m1 148 rfl) rfl
theorem q296 : (Jvm.Cond.soleField "LawnPaths$Lawn" "wide") ∈ lw_all := lw_g (lw_at lw_m1 149 rfl) rfl
theorem q297 : (Jvm.Cond.laysFinal "LawnPaths$Lawn" "LawnPaths$Lawn" "high" "I") ∈ lw_all := lw_g (lw_at lw_m1 150 rfl) rfl
theorem q298 : (Jvm.Cond.soleField "LawnPaths$Lawn" "high") ∈ lw_all := lw_g (lw_at lw_m1 151 rfl) rfl
theorem q299 : (Jvm.Cond.laysFinal "LawnPaths$Lawn" "LawnPaths$Lawn" "grow" "I") ∈ lw_all := lw_g (lw_at lw_m1 152 rfl) rfl
theorem q300 : (Jvm.Cond.soleField "LawnPaths$Lawn" "grow") ∈ lw_all := lw_g (lw_at lw_m1 153 rfl) rfl
theorem q301 : (Jvm.Cond.laysFinal "LawnPaths$Lawn" "LawnPaths$Lawn" "wet" "I") ∈ lw_all := lw_g (lw_at lw_m1 154 rfl) rfl
theorem q302 : (Jvm.Cond.soleField "LawnPaths$Lawn" "wet") ∈ lw_all := lw_g (lw_at lw_m1 155 rfl) rfl
theorem q303 : (Jvm.Cond.laysFinal "LawnPaths$Lawn" "LawnPaths$Lawn" "cells" "I") ∈ lw_all := lw_g (lw_at lw_m1 156 rfl) rfl
theorem q304 : (Jvm.Cond.soleField "LawnPaths$Lawn" "cells") ∈ lw_all := lw_g (lw_at lw_m1 157 rfl) rfl
theorem q305 : (Jvm.Cond.laysFinal "LawnPaths$Lawn" "LawnPaths$Lawn" "kinds" "[I") ∈ lw_all := lw_g (lw_at lw_m1 158 rfl) rfl
theorem q306 : (Jvm.Cond.soleField "LawnPaths$Lawn" "kinds") ∈ lw_all := lw_g (lw_at lw_m1 159 rfl) rfl
theorem q307 : (Jvm.Cond.laysFinal "LawnPaths$Lawn" "LawnPaths$Lawn" "grass" "[I") ∈ lw_all := lw_g (lw_at lw_m1 160 rfl) rfl
theorem q308 : (Jvm.Cond.soleField "LawnPaths$Lawn" "grass") ∈ lw_all := lw_g (lw_at lw_m1 161 rfl) rfl
theorem q309 : (Jvm.Cond.laysFinal "LawnPaths$Lawn" "LawnPaths$Lawn" "trodden" "[I") ∈ lw_all := lw_g (lw_at lw_m1 162 rfl) rfl
theorem q310 : (Jvm.Cond.soleField "LawnPaths$Lawn" "trodden") ∈ lw_all := lw_g (lw_at lw_m1 163 rfl) rfl
theorem q311 : (Jvm.Cond.laysFinal "LawnPaths$Lawn" "LawnPaths$Lawn" "last" "[I") ∈ lw_all := lw_g (lw_at lw_m1 164 rfl) rfl
theorem q312 : (Jvm.Cond.soleField "LawnPaths$Lawn" "last") ∈ lw_all := lw_g (lw_at lw_m1 165 rfl) rfl
theorem q313 : (Jvm.Cond.laysFinal "LawnPaths$Lawn" "LawnPaths$Lawn" "accounts" "[I") ∈ lw_all := lw_g (lw_at lw_m1 166 rfl) rfl
theorem q314 : (Jvm.Cond.soleField "LawnPaths$Lawn" "accounts") ∈ lw_all := lw_g (lw_at lw_m1 167 rfl) rfl
theorem q315 : (Jvm.Cond.laysFinal "LawnPaths$Lawn" "LawnPaths$Lawn" "fences" "[Z") ∈ lw_all := lw_g (lw_at lw_m1 168 rfl) rfl
theorem q316 : (Jvm.Cond.soleField "LawnPaths$Lawn" "fences") ∈ lw_all := lw_g (lw_at lw_m1 169 rfl) rfl
theorem q317 : (Jvm.Cond.laysFinal "LawnPaths$Lawn" "LawnPaths$Lawn" "gates" "LLawnPaths$Row;") ∈ lw_all := lw_g (lw_at lw_m1 170 rfl) rfl
theorem q318 : (Jvm.Cond.soleField "LawnPaths$Lawn" "gates") ∈ lw_all := lw_g (lw_at lw_m1 171 rfl) rfl
theorem q319 : (Jvm.Cond.laysFinal "LawnPaths$Lawn" "LawnPaths$Lawn" "walkers" "LLawnPaths$Row;") ∈ lw_all := lw_g (lw_at lw_m1 172 rfl) rfl
theorem q320 : (Jvm.Cond.soleField "LawnPaths$Lawn" "walkers") ∈ lw_all := lw_g (lw_at lw_m1 173 rfl) rfl
theorem q321 : (Jvm.Cond.lays "LawnPaths$Lawn" "LawnPaths$Lawn" "day" "I") ∈ lw_all := lw_g (lw_at lw_m1 174 rfl) rfl
theorem q322 : (Jvm.Cond.soleField "LawnPaths$Lawn" "day") ∈ lw_all := lw_g (lw_at lw_m1 175 rfl) rfl
theorem q323 : (Jvm.Cond.lays "LawnPaths$Lawn" "LawnPaths$Lawn" "first" "I") ∈ lw_all := lw_g (lw_at lw_m1 176 rfl) rfl
theorem q324 : (Jvm.Cond.soleField "LawnPaths$Lawn" "first") ∈ lw_all := lw_g (lw_at lw_m1 177 rfl) rfl
theorem q325 : (Jvm.Cond.laysFinal "LawnPaths$Lawn" "LawnPaths$Lawn" "far" "[I") ∈ lw_all := lw_g (lw_at lw_m1 178 rfl) rfl
theorem q326 : (Jvm.Cond.soleField "LawnPaths$Lawn" "far") ∈ lw_all := lw_g (lw_at lw_m1 179 rfl) rfl
theorem q327 : (Jvm.Cond.laysFinal "LawnPaths$Lawn" "LawnPaths$Lawn" "way" "[I") ∈ lw_all := lw_g (lw_at lw_m1 180 rfl) rfl
theorem q328 : (Jvm.Cond.soleField "LawnPaths$Lawn" "way") ∈ lw_all := lw_g (lw_at lw_m1 181 rfl) rfl
theorem q329 : (Jvm.Cond.laysFinal "LawnPaths$Lawn" "LawnPaths$Lawn" "marked" "[Z") ∈ lw_all := lw_g (lw_at lw_m1 182 rfl) rfl
theorem q330 : (Jvm.Cond.soleField "LawnPaths$Lawn" "marked") ∈ lw_all := lw_g (lw_at lw_m1 183 rfl) rfl
theorem q331 : (Jvm.Cond.laysFinal "LawnPaths$Lawn" "LawnPaths$Lawn" "today" "[Z") ∈ lw_all := lw_g (lw_at lw_m1 184 rfl) rfl
theorem q332 : (Jvm.Cond.soleField "LawnPaths$Lawn" "today") ∈ lw_all := lw_g (lw_at lw_m1 185 rfl) rfl
theorem q333 : (Jvm.Cond.superclass "LawnPaths$Lawn" "java/lang/Object") ∈ lw_all := lw_g (lw_at lw_m1 186 rfl) rfl
theorem q338 : (Jvm.Cond.instanceMethod ({ cls := "LawnPaths$Lawn", name := "addsGate", desc := "(Ljava/lang/String;I)V" } : Jvm.MethodName)) ∈ lw_all := lw_g (lw_at lw_m1 191 rfl) rfl
theorem q339 : (Jvm.Cond.selects "LawnPaths$Lawn" ({ cls := "LawnPaths$Lawn", name := "addsGate", desc := "(Ljava/lang/String;I)V" } : Jvm.MethodName) ({ cls := "LawnPaths$Lawn", name := "addsGate", desc := "(Ljava/lang/String;I)V" } : Jvm.MethodName)) ∈ lw_all := lw_g (lw_at lw_m1 192 rfl) rfl
theorem q340 : (Jvm.Cond.code ({ cls := "LawnPaths$Lawn", name := "addsGate", desc := "(Ljava/lang/String;I)V" } : Jvm.MethodName) prog_8_method_9_code (3 : Nat) (Option.none : Option Jvm.ClassFile.FieldType)) ∈ lw_all := lw_g (lw_at lw_m1 193 rfl) rfl
theorem q341 : (Jvm.Cond.methodLink "LawnPaths$Lawn" (112 : Nat) ({ cls := "LawnPaths$Lawn", name := "hardens", desc := "(II)V" } : Jvm.MethodName)) ∈ lw_all := lw_g (lw_at lw_m1 194 rfl) rfl
theorem q342 : (Jvm.Cond.instanceMethod ({ cls := "LawnPaths$Lawn", name := "hardens", desc := "(II)V" } : Jvm.MethodName)) ∈ lw_all := lw_g (lw_at lw_m1 195 rfl) rfl
theorem q343 : (Jvm.Cond.selects "LawnPaths$Lawn" ({ cls := "LawnPaths$Lawn", name := "hardens", desc := "(II)V" } : Jvm.MethodName) ({ cls := "LawnPaths$Lawn", name := "hardens", desc := "(II)V" } : Jvm.MethodName)) ∈ lw_all := lw_g (lw_at lw_m1 196 rfl) rfl
theorem q344 : (Jvm.Cond.code ({ cls := "LawnPaths$Lawn", name := "hardens", desc := "(II)V" } : Jvm.MethodName) prog_8_method_8_code (3 : Nat) (Option.none : Option Jvm.ClassFile.FieldType)) ∈ lw_all := lw_g (lw_at lw_m1 197 rfl) rfl
theorem q345 : (Jvm.Cond.classLink "LawnPaths$Lawn" (107 : Nat) "LawnPaths$Gate") ∈ lw_all := lw_g (lw_at lw_m1 198 rfl) rfl
theorem q347 : (Jvm.Cond.methodLinkNest "LawnPaths$Lawn" (116 : Nat) ({ cls := "LawnPaths$Gate", name := "<init>", desc := "(Ljava/lang/String;I)V" } : Jvm.MethodName) "LawnPaths") ∈ lw_tbl := lw_at lw_m1 200 rfl
theorem q362 : (Jvm.Cond.methodLink "LawnPaths$Lawn" (99 : Nat) ({ cls := "LawnPaths$Row", name := "add", desc := "(LLawnPaths$Named;)V" } : Jvm.MethodName)) ∈ lw_all := lw_g (lw_at lw_m1 215 rfl) rfl
theorem q409 : (Jvm.Cond.selects "LawnPaths$Lawn" ({ cls := "java/lang/Object", name := "getClass", desc := "()Ljava/lang/Class;" } : Jvm.MethodName) ({ cls := "java/lang/Object", name := "getClass", desc := "()Ljava/lang/Class;" } : Jvm.MethodName)) ∈ lw_all := lw_g (lw_at lw_m2 22 rfl) rfl
theorem q464 : (Jvm.Cond.fieldLinkNest "LawnPaths$Lawn" (163 : Nat) "LawnPaths$Walker" "from" "I" "LawnPaths") ∈ lw_tbl := lw_at lw_m2 77 rfl
theorem q468 : (Jvm.Cond.fieldLinkNest "LawnPaths$Lawn" (134 : Nat) "LawnPaths$Walker" "to" "I" "LawnPaths") ∈ lw_tbl := lw_at lw_m2 81 rfl
theorem q471 : (Jvm.Cond.fieldLinkNest "LawnPaths$Lawn" (127 : Nat) "LawnPaths$Walker" "haste" "I" "LawnPaths") ∈ lw_tbl := lw_at lw_m2 84 rfl
theorem q474 : (Jvm.Cond.fieldLinkNest "LawnPaths$Lawn" (186 : Nat) "LawnPaths$Walker" "walks" "I" "LawnPaths") ∈ lw_tbl := lw_at lw_m2 87 rfl
theorem q477 : (Jvm.Cond.fieldLinkNest "LawnPaths$Lawn" (189 : Nat) "LawnPaths$Walker" "steps" "I" "LawnPaths") ∈ lw_tbl := lw_at lw_m2 90 rfl
theorem q955 : (Jvm.Cond.instanceMethod ({ cls := "LawnPaths$Lawn", name := "grassAll", desc := "()I" } : Jvm.MethodName)) ∈ lw_all := lw_g (lw_at lw_m4 88 rfl) rfl
theorem q956 : (Jvm.Cond.selects "LawnPaths$Lawn" ({ cls := "LawnPaths$Lawn", name := "grassAll", desc := "()I" } : Jvm.MethodName) ({ cls := "LawnPaths$Lawn", name := "grassAll", desc := "()I" } : Jvm.MethodName)) ∈ lw_all := lw_g (lw_at lw_m4 89 rfl) rfl
theorem q957 : (Jvm.Cond.code ({ cls := "LawnPaths$Lawn", name := "grassAll", desc := "()I" } : Jvm.MethodName) prog_8_method_11_code (3 : Nat) (Option.some Jvm.ClassFile.FieldType.int)) ∈ lw_all := lw_g (lw_at lw_m4 90 rfl) rfl
theorem q964 : (Jvm.Cond.instanceMethod ({ cls := "LawnPaths$Lawn", name := "walker", desc := "(I)LLawnPaths$Walker;" } : Jvm.MethodName)) ∈ lw_all := lw_g (lw_at lw_m4 97 rfl) rfl
theorem q965 : (Jvm.Cond.selects "LawnPaths$Lawn" ({ cls := "LawnPaths$Lawn", name := "walker", desc := "(I)LLawnPaths$Walker;" } : Jvm.MethodName) ({ cls := "LawnPaths$Lawn", name := "walker", desc := "(I)LLawnPaths$Walker;" } : Jvm.MethodName)) ∈ lw_all := lw_g (lw_at lw_m4 98 rfl) rfl
theorem q966 : (Jvm.Cond.code ({ cls := "LawnPaths$Lawn", name := "walker", desc := "(I)LLawnPaths$Walker;" } : Jvm.MethodName) prog_8_method_4_code (2 : Nat) (Option.some (Jvm.ClassFile.FieldType.object "LawnPaths$Walker"))) ∈ lw_all := lw_g (lw_at lw_m4 99 rfl) rfl
theorem q967 : (Jvm.Cond.methodLink "LawnPaths$Lawn" (103 : Nat) ({ cls := "LawnPaths$Row", name := "get", desc := "(I)LLawnPaths$Named;" } : Jvm.MethodName)) ∈ lw_all := lw_g (lw_at lw_m4 100 rfl) rfl
theorem q968 : (Jvm.Cond.classLink "LawnPaths$Lawn" (94 : Nat) "LawnPaths$Walker") ∈ lw_all := lw_g (lw_at lw_m4 101 rfl) rfl
theorem q983 : (Jvm.Cond.instanceMethod ({ cls := "LawnPaths$Lawn", name := "tellsFar", desc := "(LLawnPaths$Walker;LLawnPaths$Ground;)I" } : Jvm.MethodName)) ∈ lw_all := lw_g (lw_at lw_m4 116 rfl) rfl
theorem q984 : (Jvm.Cond.selects "LawnPaths$Lawn" ({ cls := "LawnPaths$Lawn", name := "tellsFar", desc := "(LLawnPaths$Walker;LLawnPaths$Ground;)I" } : Jvm.MethodName) ({ cls := "LawnPaths$Lawn", name := "tellsFar", desc := "(LLawnPaths$Walker;LLawnPaths$Ground;)I" } : Jvm.MethodName)) ∈ lw_all := lw_g (lw_at lw_m4 117 rfl) rfl
theorem q985 : (Jvm.Cond.code ({ cls := "LawnPaths$Lawn", name := "tellsFar", desc := "(LLawnPaths$Walker;LLawnPaths$Ground;)I" } : Jvm.MethodName) prog_8_method_17_code (7 : Nat) (Option.some Jvm.ClassFile.FieldType.int)) ∈ lw_all := lw_g (lw_at lw_m4 118 rfl) rfl
theorem q986 : (Jvm.Cond.constant "LawnPaths$Lawn" (133 : Nat) (1000000 : Int32)) ∈ lw_all := lw_g (lw_at lw_m4 119 rfl) rfl
theorem q987 : (Jvm.Cond.methodLink "LawnPaths$Lawn" (137 : Nat) ({ cls := "LawnPaths$Lawn", name := "cellOf", desc := "(I)I" } : Jvm.MethodName)) ∈ lw_all := lw_g (lw_at lw_m4 120 rfl) rfl
theorem q988 : (Jvm.Cond.instanceMethod ({ cls := "LawnPaths$Lawn", name := "cellOf", desc := "(I)I" } : Jvm.MethodName)) ∈ lw_all := lw_g (lw_at lw_m4 121 rfl) rfl
theorem q989 : (Jvm.Cond.selects "LawnPaths$Lawn" ({ cls := "LawnPaths$Lawn", name := "cellOf", desc := "(I)I" } : Jvm.MethodName) ({ cls := "LawnPaths$Lawn", name := "cellOf", desc := "(I)I" } : Jvm.MethodName)) ∈ lw_all := lw_g (lw_at lw_m4 122 rfl) rfl
theorem q990 : (Jvm.Cond.code ({ cls := "LawnPaths$Lawn", name := "cellOf", desc := "(I)I" } : Jvm.MethodName) prog_8_method_5_code (2 : Nat) (Option.some Jvm.ClassFile.FieldType.int)) ∈ lw_all := lw_g (lw_at lw_m4 123 rfl) rfl
theorem q991 : (Jvm.Cond.methodLink "LawnPaths$Lawn" (109 : Nat) ({ cls := "LawnPaths$Gate", name := "cell", desc := "()I" } : Jvm.MethodName)) ∈ lw_all := lw_g (lw_at lw_m4 124 rfl) rfl
theorem q995 : (Jvm.Cond.methodLink "LawnPaths$Lawn" (141 : Nat) ({ cls := "LawnPaths$Lawn", name := "nearestUnmarked", desc := "()I" } : Jvm.MethodName)) ∈ lw_all := lw_g (lw_at lw_m4 128 rfl) rfl
theorem q996 : (Jvm.Cond.privateMethod ({ cls := "LawnPaths$Lawn", name := "nearestUnmarked", desc := "()I" } : Jvm.MethodName)) ∈ lw_tbl := lw_at lw_m4 129 rfl
theorem q997 : (Jvm.Cond.instanceMethod ({ cls := "LawnPaths$Lawn", name := "nearestUnmarked", desc := "()I" } : Jvm.MethodName)) ∈ lw_all := lw_g (lw_at lw_m4 130 rfl) rfl
theorem q998 : (Jvm.Cond.code ({ cls := "LawnPaths$Lawn", name := "nearestUnmarked", desc := "()I" } : Jvm.MethodName) prog_8_method_16_code (3 : Nat) (Option.some Jvm.ClassFile.FieldType.int)) ∈ lw_all := lw_g (lw_at lw_m4 131 rfl) rfl
theorem q999 : (Jvm.Cond.methodLink "LawnPaths$Lawn" (144 : Nat) ({ cls := "LawnPaths$Lawn", name := "costOf", desc := "(LLawnPaths$Walker;I)I" } : Jvm.MethodName)) ∈ lw_all := lw_g (lw_at lw_m4 132 rfl) rfl
theorem q1000 : (Jvm.Cond.instanceMethod ({ cls := "LawnPaths$Lawn", name := "costOf", desc := "(LLawnPaths$Walker;I)I" } : Jvm.MethodName)) ∈ lw_all := lw_g (lw_at lw_m4 133 rfl) rfl
theorem q1001 : (Jvm.Cond.selects "LawnPaths$Lawn" ({ cls := "LawnPaths$Lawn", name := "costOf", desc := "(LLawnPaths$Walker;I)I" } : Jvm.MethodName) ({ cls := "LawnPaths$Lawn", name := "costOf", desc := "(LLawnPaths$Walker;I)I" } : Jvm.MethodName)) ∈ lw_all := lw_g (lw_at lw_m4 134 rfl) rfl
theorem q1002 : (Jvm.Cond.code ({ cls := "LawnPaths$Lawn", name := "costOf", desc := "(LLawnPaths$Walker;I)I" } : Jvm.MethodName) prog_8_method_15_code (3 : Nat) (Option.some Jvm.ClassFile.FieldType.int)) ∈ lw_all := lw_g (lw_at lw_m4 135 rfl) rfl
theorem q1003 : (Jvm.Cond.methodLink "LawnPaths$Lawn" (123 : Nat) ({ cls := "LawnPaths$Lawn", name := "isGrass", desc := "(I)Z" } : Jvm.MethodName)) ∈ lw_all := lw_g (lw_at lw_m4 136 rfl) rfl
theorem q1004 : (Jvm.Cond.instanceMethod ({ cls := "LawnPaths$Lawn", name := "isGrass", desc := "(I)Z" } : Jvm.MethodName)) ∈ lw_all := lw_g (lw_at lw_m4 137 rfl) rfl
theorem q1005 : (Jvm.Cond.selects "LawnPaths$Lawn" ({ cls := "LawnPaths$Lawn", name := "isGrass", desc := "(I)Z" } : Jvm.MethodName) ({ cls := "LawnPaths$Lawn", name := "isGrass", desc := "(I)Z" } : Jvm.MethodName)) ∈ lw_all := lw_g (lw_at lw_m4 138 rfl) rfl
theorem q1006 : (Jvm.Cond.code ({ cls := "LawnPaths$Lawn", name := "isGrass", desc := "(I)Z" } : Jvm.MethodName) prog_8_method_6_code (2 : Nat) (Option.some Jvm.ClassFile.FieldType.boolean)) ∈ lw_all := lw_g (lw_at lw_m4 139 rfl) rfl
theorem q1007 : (Jvm.Cond.methodLink "LawnPaths$Lawn" (130 : Nat) ({ cls := "LawnPaths$Lawn", name := "isWet", desc := "(I)Z" } : Jvm.MethodName)) ∈ lw_all := lw_g (lw_at lw_m4 140 rfl) rfl
theorem q1008 : (Jvm.Cond.instanceMethod ({ cls := "LawnPaths$Lawn", name := "isWet", desc := "(I)Z" } : Jvm.MethodName)) ∈ lw_all := lw_g (lw_at lw_m4 141 rfl) rfl
theorem q1009 : (Jvm.Cond.selects "LawnPaths$Lawn" ({ cls := "LawnPaths$Lawn", name := "isWet", desc := "(I)Z" } : Jvm.MethodName) ({ cls := "LawnPaths$Lawn", name := "isWet", desc := "(I)Z" } : Jvm.MethodName)) ∈ lw_all := lw_g (lw_at lw_m4 142 rfl) rfl
theorem q1010 : (Jvm.Cond.code ({ cls := "LawnPaths$Lawn", name := "isWet", desc := "(I)Z" } : Jvm.MethodName) prog_8_method_7_code (2 : Nat) (Option.some Jvm.ClassFile.FieldType.boolean)) ∈ lw_all := lw_g (lw_at lw_m4 143 rfl) rfl
theorem q1011 : (Jvm.Cond.methodLink "LawnPaths$Lawn" (148 : Nat) ({ cls := "LawnPaths$Lawn", name := "next", desc := "(II)I" } : Jvm.MethodName)) ∈ lw_all := lw_g (lw_at lw_m4 144 rfl) rfl
theorem q1012 : (Jvm.Cond.instanceMethod ({ cls := "LawnPaths$Lawn", name := "next", desc := "(II)I" } : Jvm.MethodName)) ∈ lw_all := lw_g (lw_at lw_m4 145 rfl) rfl
theorem q1013 : (Jvm.Cond.selects "LawnPaths$Lawn" ({ cls := "LawnPaths$Lawn", name := "next", desc := "(II)I" } : Jvm.MethodName) ({ cls := "LawnPaths$Lawn", name := "next", desc := "(II)I" } : Jvm.MethodName)) ∈ lw_all := lw_g (lw_at lw_m4 146 rfl) rfl
theorem q1014 : (Jvm.Cond.code ({ cls := "LawnPaths$Lawn", name := "next", desc := "(II)I" } : Jvm.MethodName) prog_8_method_14_code (4 : Nat) (Option.some Jvm.ClassFile.FieldType.int)) ∈ lw_all := lw_g (lw_at lw_m4 147 rfl) rfl
theorem q1015 : (Jvm.Cond.methodLink "LawnPaths$Lawn" (152 : Nat) ({ cls := "LawnPaths$Ground", name := "isOpen", desc := "(LLawnPaths$Lawn;I)Z" } : Jvm.MethodName)) ∈ lw_all := lw_g (lw_at lw_m4 148 rfl) rfl
theorem q1027 : (Jvm.Cond.methodLink "LawnPaths$Lawn" (158 : Nat) ({ cls := "java/lang/Math", name := "min", desc := "(II)I" } : Jvm.MethodName)) ∈ lw_all := lw_g (lw_at lw_m4 160 rfl) rfl
theorem q1030 : (Jvm.Cond.instanceMethod ({ cls := "LawnPaths$Lawn", name := "way", desc := "(LLawnPaths$Walker;)Ljava/lang/Iterable;" } : Jvm.MethodName)) ∈ lw_all := lw_g (lw_at lw_m4 163 rfl) rfl
theorem q1031 : (Jvm.Cond.selects "LawnPaths$Lawn" ({ cls := "LawnPaths$Lawn", name := "way", desc := "(LLawnPaths$Walker;)Ljava/lang/Iterable;" } : Jvm.MethodName) ({ cls := "LawnPaths$Lawn", name := "way", desc := "(LLawnPaths$Walker;)Ljava/lang/Iterable;" } : Jvm.MethodName)) ∈ lw_all := lw_g (lw_at lw_m4 164 rfl) rfl
theorem q1032 : (Jvm.Cond.code ({ cls := "LawnPaths$Lawn", name := "way", desc := "(LLawnPaths$Walker;)Ljava/lang/Iterable;" } : Jvm.MethodName) prog_8_method_19_code (3 : Nat) (Option.some (Jvm.ClassFile.FieldType.object "java/lang/Iterable"))) ∈ lw_all := lw_g (lw_at lw_m4 165 rfl) rfl
theorem q1033 : (Jvm.Cond.fieldLink "LawnPaths$Lawn" (166 : Nat) "LawnPaths$Ground" "AS_IT_IS" "LLawnPaths$Ground;") ∈ lw_all := lw_g (lw_at lw_m4 166 rfl) rfl
theorem q1034 : (Jvm.Cond.methodLink "LawnPaths$Lawn" (170 : Nat) ({ cls := "LawnPaths$Lawn", name := "tellsFar", desc := "(LLawnPaths$Walker;LLawnPaths$Ground;)I" } : Jvm.MethodName)) ∈ lw_all := lw_g (lw_at lw_m4 167 rfl) rfl
theorem q1035 : (Jvm.Cond.classLink "LawnPaths$Lawn" (174 : Nat) "LawnPaths$Lawn$1") ∈ lw_all := lw_g (lw_at lw_m4 168 rfl) rfl
theorem q1037 : (Jvm.Cond.methodLink "LawnPaths$Lawn" (176 : Nat) ({ cls := "LawnPaths$Lawn$1", name := "<init>", desc := "(LLawnPaths$Lawn;LLawnPaths$Walker;)V" } : Jvm.MethodName)) ∈ lw_all := lw_g (lw_at lw_m4 170 rfl) rfl
theorem q1192 : (Jvm.Cond.instanceMethod ({ cls := "LawnPaths$Lawn", name := "goesOn", desc := "(LLawnPaths$Walker;I)I" } : Jvm.MethodName)) ∈ lw_all := lw_g (lw_at lw_m5 85 rfl) rfl
theorem q1193 : (Jvm.Cond.selects "LawnPaths$Lawn" ({ cls := "LawnPaths$Lawn", name := "goesOn", desc := "(LLawnPaths$Walker;I)I" } : Jvm.MethodName) ({ cls := "LawnPaths$Lawn", name := "goesOn", desc := "(LLawnPaths$Walker;I)I" } : Jvm.MethodName)) ∈ lw_all := lw_g (lw_at lw_m5 86 rfl) rfl
theorem q1194 : (Jvm.Cond.code ({ cls := "LawnPaths$Lawn", name := "goesOn", desc := "(LLawnPaths$Walker;I)I" } : Jvm.MethodName) prog_8_method_18_code (5 : Nat) (Option.some Jvm.ClassFile.FieldType.int)) ∈ lw_all := lw_g (lw_at lw_m5 87 rfl) rfl
theorem q1257 : (Jvm.Cond.instanceMethod ({ cls := "LawnPaths$Lawn", name := "cellsOf", desc := "(I)I" } : Jvm.MethodName)) ∈ lw_all := lw_g (lw_at lw_m5 150 rfl) rfl
theorem q1258 : (Jvm.Cond.selects "LawnPaths$Lawn" ({ cls := "LawnPaths$Lawn", name := "cellsOf", desc := "(I)I" } : Jvm.MethodName) ({ cls := "LawnPaths$Lawn", name := "cellsOf", desc := "(I)I" } : Jvm.MethodName)) ∈ lw_all := lw_g (lw_at lw_m5 151 rfl) rfl
theorem q1259 : (Jvm.Cond.code ({ cls := "LawnPaths$Lawn", name := "cellsOf", desc := "(I)I" } : Jvm.MethodName) prog_8_method_12_code (4 : Nat) (Option.some Jvm.ClassFile.FieldType.int)) ∈ lw_all := lw_g (lw_at lw_m5 152 rfl) rfl
theorem q1260 : (Jvm.Cond.methodLinkNest "LawnPaths$Lawn" (119 : Nat) ({ cls := "LawnPaths", name := "bit", desc := "(Z)I" } : Jvm.MethodName) "LawnPaths") ∈ lw_tbl := lw_at lw_m5 153 rfl
theorem q1266 : (Jvm.Cond.instanceMethod ({ cls := "LawnPaths$Lawn", name := "bareAll", desc := "()I" } : Jvm.MethodName)) ∈ lw_all := lw_g (lw_at lw_m5 159 rfl) rfl
theorem q1267 : (Jvm.Cond.selects "LawnPaths$Lawn" ({ cls := "LawnPaths$Lawn", name := "bareAll", desc := "()I" } : Jvm.MethodName) ({ cls := "LawnPaths$Lawn", name := "bareAll", desc := "()I" } : Jvm.MethodName)) ∈ lw_all := lw_g (lw_at lw_m5 160 rfl) rfl
theorem q1268 : (Jvm.Cond.code ({ cls := "LawnPaths$Lawn", name := "bareAll", desc := "()I" } : Jvm.MethodName) prog_8_method_13_code (3 : Nat) (Option.some Jvm.ClassFile.FieldType.int)) ∈ lw_all := lw_g (lw_at lw_m5 161 rfl) rfl
theorem q1388 : (Jvm.Cond.instanceMethod ({ cls := "LawnPaths$Lawn", name := "copy", desc := "()LLawnPaths$Lawn;" } : Jvm.MethodName)) ∈ lw_all := lw_g (lw_at lw_m6 41 rfl) rfl
theorem q1389 : (Jvm.Cond.selects "LawnPaths$Lawn" ({ cls := "LawnPaths$Lawn", name := "copy", desc := "()LLawnPaths$Lawn;" } : Jvm.MethodName) ({ cls := "LawnPaths$Lawn", name := "copy", desc := "()LLawnPaths$Lawn;" } : Jvm.MethodName)) ∈ lw_all := lw_g (lw_at lw_m6 42 rfl) rfl
theorem q1390 : (Jvm.Cond.code ({ cls := "LawnPaths$Lawn", name := "copy", desc := "()LLawnPaths$Lawn;" } : Jvm.MethodName) prog_8_method_3_code (3 : Nat) (Option.some (Jvm.ClassFile.FieldType.object "LawnPaths$Lawn"))) ∈ lw_all := lw_g (lw_at lw_m6 43 rfl) rfl
theorem q1391 : (Jvm.Cond.classLink "LawnPaths$Lawn" (10 : Nat) "LawnPaths$Lawn") ∈ lw_all := lw_g (lw_at lw_m6 44 rfl) rfl
theorem q1392 : (Jvm.Cond.methodLink "LawnPaths$Lawn" (78 : Nat) ({ cls := "[I", name := "clone", desc := "()Ljava/lang/Object;" } : Jvm.MethodName)) ∈ lw_all := lw_g (lw_at lw_m6 45 rfl) rfl
theorem q1396 : (Jvm.Cond.classLink "LawnPaths$Lawn" (79 : Nat) "[I") ∈ lw_all := lw_g (lw_at lw_m6 49 rfl) rfl
theorem q1397 : (Jvm.Cond.methodLink "LawnPaths$Lawn" (83 : Nat) ({ cls := "[Z", name := "clone", desc := "()Ljava/lang/Object;" } : Jvm.MethodName)) ∈ lw_all := lw_g (lw_at lw_m6 50 rfl) rfl
theorem q1401 : (Jvm.Cond.classLink "LawnPaths$Lawn" (84 : Nat) "[Z") ∈ lw_all := lw_g (lw_at lw_m6 54 rfl) rfl
theorem q1402 : (Jvm.Cond.methodLink "LawnPaths$Lawn" (85 : Nat) ({ cls := "LawnPaths$Row", name := "size", desc := "()I" } : Jvm.MethodName)) ∈ lw_all := lw_g (lw_at lw_m6 55 rfl) rfl
theorem q1403 : (Jvm.Cond.methodLink "LawnPaths$Lawn" (89 : Nat) ({ cls := "LawnPaths$Lawn", name := "walker", desc := "(I)LLawnPaths$Walker;" } : Jvm.MethodName)) ∈ lw_all := lw_g (lw_at lw_m6 56 rfl) rfl
theorem q1404 : (Jvm.Cond.methodLink "LawnPaths$Lawn" (93 : Nat) ({ cls := "LawnPaths$Walker", name := "copy", desc := "()LLawnPaths$Walker;" } : Jvm.MethodName)) ∈ lw_all := lw_g (lw_at lw_m6 57 rfl) rfl
theorem q1621 : (Jvm.Cond.instanceMethod ({ cls := "LawnPaths$Lawn", name := "fencesAll", desc := "()I" } : Jvm.MethodName)) ∈ lw_all := lw_g (lw_at lw_m7 34 rfl) rfl
theorem q1622 : (Jvm.Cond.selects "LawnPaths$Lawn" ({ cls := "LawnPaths$Lawn", name := "fencesAll", desc := "()I" } : Jvm.MethodName) ({ cls := "LawnPaths$Lawn", name := "fencesAll", desc := "()I" } : Jvm.MethodName)) ∈ lw_all := lw_g (lw_at lw_m7 35 rfl) rfl
theorem q1623 : (Jvm.Cond.code ({ cls := "LawnPaths$Lawn", name := "fencesAll", desc := "()I" } : Jvm.MethodName) prog_8_method_10_code (3 : Nat) (Option.some Jvm.ClassFile.FieldType.int)) ∈ lw_all := lw_g (lw_at lw_m7 36 rfl) rfl
theorem q1625 : (Jvm.Cond.instanceMethod ({ cls := "LawnPaths$Lawn", name := "hasWays", desc := "()Z" } : Jvm.MethodName)) ∈ lw_all := lw_g (lw_at lw_m7 38 rfl) rfl
theorem q1626 : (Jvm.Cond.selects "LawnPaths$Lawn" ({ cls := "LawnPaths$Lawn", name := "hasWays", desc := "()Z" } : Jvm.MethodName) ({ cls := "LawnPaths$Lawn", name := "hasWays", desc := "()Z" } : Jvm.MethodName)) ∈ lw_all := lw_g (lw_at lw_m7 39 rfl) rfl
theorem q1627 : (Jvm.Cond.code ({ cls := "LawnPaths$Lawn", name := "hasWays", desc := "()Z" } : Jvm.MethodName) prog_8_method_20_code (2 : Nat) (Option.some Jvm.ClassFile.FieldType.boolean)) ∈ lw_all := lw_g (lw_at lw_m7 40 rfl) rfl
theorem q1744 : (Jvm.Cond.instanceMethod ({ cls := "LawnPaths$Lawn", name := "runs", desc := "(I)I" } : Jvm.MethodName)) ∈ lw_all := lw_g (lw_at lw_m7 157 rfl) rfl
theorem q1745 : (Jvm.Cond.selects "LawnPaths$Lawn" ({ cls := "LawnPaths$Lawn", name := "runs", desc := "(I)I" } : Jvm.MethodName) ({ cls := "LawnPaths$Lawn", name := "runs", desc := "(I)I" } : Jvm.MethodName)) ∈ lw_all := lw_g (lw_at lw_m7 158 rfl) rfl
theorem q1746 : (Jvm.Cond.code ({ cls := "LawnPaths$Lawn", name := "runs", desc := "(I)I" } : Jvm.MethodName) prog_8_method_26_code (3 : Nat) (Option.some Jvm.ClassFile.FieldType.int)) ∈ lw_all := lw_g (lw_at lw_m7 159 rfl) rfl
theorem q1747 : (Jvm.Cond.methodLinkNest "LawnPaths$Lawn" (204 : Nat) ({ cls := "LawnPaths", name := "must", desc := "(ZI)V" } : Jvm.MethodName) "LawnPaths") ∈ lw_tbl := lw_at lw_m7 160 rfl
theorem q1769 : (Jvm.Cond.methodLink "LawnPaths$Lawn" (208 : Nat) ({ cls := "LawnPaths$Lawn", name := "behind", desc := "(I)LLawnPaths$Lawn;" } : Jvm.MethodName)) ∈ lw_all := lw_g (lw_at lw_m7 182 rfl) rfl
theorem q1770 : (Jvm.Cond.instanceMethod ({ cls := "LawnPaths$Lawn", name := "behind", desc := "(I)LLawnPaths$Lawn;" } : Jvm.MethodName)) ∈ lw_all := lw_g (lw_at lw_m7 183 rfl) rfl
theorem q1771 : (Jvm.Cond.selects "LawnPaths$Lawn" ({ cls := "LawnPaths$Lawn", name := "behind", desc := "(I)LLawnPaths$Lawn;" } : Jvm.MethodName) ({ cls := "LawnPaths$Lawn", name := "behind", desc := "(I)LLawnPaths$Lawn;" } : Jvm.MethodName)) ∈ lw_all := lw_g (lw_at lw_m7 184 rfl) rfl
theorem q1772 : (Jvm.Cond.code ({ cls := "LawnPaths$Lawn", name := "behind", desc := "(I)LLawnPaths$Lawn;" } : Jvm.MethodName) prog_8_method_25_code (3 : Nat) (Option.some (Jvm.ClassFile.FieldType.object "LawnPaths$Lawn"))) ∈ lw_all := lw_g (lw_at lw_m7 185 rfl) rfl
theorem q1773 : (Jvm.Cond.methodLink "LawnPaths$Lawn" (201 : Nat) ({ cls := "LawnPaths$Lawn", name := "passes", desc := "()V" } : Jvm.MethodName)) ∈ lw_all := lw_g (lw_at lw_m7 186 rfl) rfl
theorem q1774 : (Jvm.Cond.instanceMethod ({ cls := "LawnPaths$Lawn", name := "passes", desc := "()V" } : Jvm.MethodName)) ∈ lw_all := lw_g (lw_at lw_m7 187 rfl) rfl
theorem q1775 : (Jvm.Cond.selects "LawnPaths$Lawn" ({ cls := "LawnPaths$Lawn", name := "passes", desc := "()V" } : Jvm.MethodName) ({ cls := "LawnPaths$Lawn", name := "passes", desc := "()V" } : Jvm.MethodName)) ∈ lw_all := lw_g (lw_at lw_m7 188 rfl) rfl
theorem q1776 : (Jvm.Cond.code ({ cls := "LawnPaths$Lawn", name := "passes", desc := "()V" } : Jvm.MethodName) prog_8_method_24_code (3 : Nat) (Option.none : Option Jvm.ClassFile.FieldType)) ∈ lw_all := lw_g (lw_at lw_m7 189 rfl) rfl
theorem q1777 : (Jvm.Cond.methodLink "LawnPaths$Lawn" (192 : Nat) ({ cls := "LawnPaths$Walker", name := "walksOn", desc := "(I)Z" } : Jvm.MethodName)) ∈ lw_all := lw_g (lw_at lw_m7 190 rfl) rfl
theorem q1781 : (Jvm.Cond.methodLink "LawnPaths$Lawn" (195 : Nat) ({ cls := "LawnPaths$Lawn", name := "walks", desc := "(LLawnPaths$Walker;)V" } : Jvm.MethodName)) ∈ lw_all := lw_g (lw_at lw_m7 194 rfl) rfl
theorem q1782 : (Jvm.Cond.privateMethod ({ cls := "LawnPaths$Lawn", name := "walks", desc := "(LLawnPaths$Walker;)V" } : Jvm.MethodName)) ∈ lw_tbl := lw_at lw_m7 195 rfl
theorem q1783 : (Jvm.Cond.instanceMethod ({ cls := "LawnPaths$Lawn", name := "walks", desc := "(LLawnPaths$Walker;)V" } : Jvm.MethodName)) ∈ lw_all := lw_g (lw_at lw_m7 196 rfl) rfl
theorem q1784 : (Jvm.Cond.code ({ cls := "LawnPaths$Lawn", name := "walks", desc := "(LLawnPaths$Walker;)V" } : Jvm.MethodName) prog_8_method_22_code (6 : Nat) (Option.none : Option Jvm.ClassFile.FieldType)) ∈ lw_all := lw_g (lw_at lw_m7 197 rfl) rfl
theorem q1785 : (Jvm.Cond.methodLink "LawnPaths$Lawn" (179 : Nat) ({ cls := "LawnPaths$Lawn", name := "goesOn", desc := "(LLawnPaths$Walker;I)I" } : Jvm.MethodName)) ∈ lw_all := lw_g (lw_at lw_m7 198 rfl) rfl
theorem q1786 : (Jvm.Cond.methodLink "LawnPaths$Lawn" (182 : Nat) ({ cls := "LawnPaths$Lawn", name := "treads", desc := "(I)V" } : Jvm.MethodName)) ∈ lw_all := lw_g (lw_at lw_m7 199 rfl) rfl
theorem q1787 : (Jvm.Cond.privateMethod ({ cls := "LawnPaths$Lawn", name := "treads", desc := "(I)V" } : Jvm.MethodName)) ∈ lw_tbl := lw_at lw_m7 200 rfl
theorem q1788 : (Jvm.Cond.instanceMethod ({ cls := "LawnPaths$Lawn", name := "treads", desc := "(I)V" } : Jvm.MethodName)) ∈ lw_all := lw_g (lw_at lw_m7 201 rfl) rfl
theorem q1789 : (Jvm.Cond.code ({ cls := "LawnPaths$Lawn", name := "treads", desc := "(I)V" } : Jvm.MethodName) prog_8_method_21_code (3 : Nat) (Option.none : Option Jvm.ClassFile.FieldType)) ∈ lw_all := lw_g (lw_at lw_m7 202 rfl) rfl
theorem q1790 : (Jvm.Cond.methodLink "LawnPaths$Lawn" (198 : Nat) ({ cls := "LawnPaths$Lawn", name := "grows", desc := "(II)V" } : Jvm.MethodName)) ∈ lw_all := lw_g (lw_at lw_m7 203 rfl) rfl
theorem q1791 : (Jvm.Cond.privateMethod ({ cls := "LawnPaths$Lawn", name := "grows", desc := "(II)V" } : Jvm.MethodName)) ∈ lw_tbl := lw_at lw_m7 204 rfl
theorem q1792 : (Jvm.Cond.instanceMethod ({ cls := "LawnPaths$Lawn", name := "grows", desc := "(II)V" } : Jvm.MethodName)) ∈ lw_all := lw_g (lw_at lw_m7 205 rfl) rfl
theorem q1793 : (Jvm.Cond.code ({ cls := "LawnPaths$Lawn", name := "grows", desc := "(II)V" } : Jvm.MethodName) prog_8_method_23_code (4 : Nat) (Option.none : Option Jvm.ClassFile.FieldType)) ∈ lw_all := lw_g (lw_at lw_m7 206 rfl) rfl
theorem q1801 : (Jvm.Cond.instanceMethod ({ cls := "LawnPaths$Lawn", name := "hastens", desc := "(II)I" } : Jvm.MethodName)) ∈ lw_all := lw_g (lw_at lw_m7 214 rfl) rfl
theorem q1802 : (Jvm.Cond.selects "LawnPaths$Lawn" ({ cls := "LawnPaths$Lawn", name := "hastens", desc := "(II)I" } : Jvm.MethodName) ({ cls := "LawnPaths$Lawn", name := "hastens", desc := "(II)I" } : Jvm.MethodName)) ∈ lw_all := lw_g (lw_at lw_m7 215 rfl) rfl
theorem q1803 : (Jvm.Cond.code ({ cls := "LawnPaths$Lawn", name := "hastens", desc := "(II)I" } : Jvm.MethodName) prog_8_method_31_code (5 : Nat) (Option.some Jvm.ClassFile.FieldType.int)) ∈ lw_all := lw_g (lw_at lw_m7 216 rfl) rfl
theorem q1811 : (Jvm.Cond.instanceMethod ({ cls := "LawnPaths$Lawn", name := "turns", desc := "(I)I" } : Jvm.MethodName)) ∈ lw_all := lw_g (lw_at lw_m7 224 rfl) rfl
theorem q1812 : (Jvm.Cond.selects "LawnPaths$Lawn" ({ cls := "LawnPaths$Lawn", name := "turns", desc := "(I)I" } : Jvm.MethodName) ({ cls := "LawnPaths$Lawn", name := "turns", desc := "(I)I" } : Jvm.MethodName)) ∈ lw_all := lw_g (lw_at lw_m7 225 rfl) rfl
theorem q1813 : (Jvm.Cond.code ({ cls := "LawnPaths$Lawn", name := "turns", desc := "(I)I" } : Jvm.MethodName) prog_8_method_32_code (4 : Nat) (Option.some Jvm.ClassFile.FieldType.int)) ∈ lw_all := lw_g (lw_at lw_m7 226 rfl) rfl
theorem q1825 : (Jvm.Cond.instanceMethod ({ cls := "LawnPaths$Lawn", name := "fenced", desc := "(I)I" } : Jvm.MethodName)) ∈ lw_all := lw_g (lw_at lw_m7 238 rfl) rfl
theorem q1826 : (Jvm.Cond.selects "LawnPaths$Lawn" ({ cls := "LawnPaths$Lawn", name := "fenced", desc := "(I)I" } : Jvm.MethodName) ({ cls := "LawnPaths$Lawn", name := "fenced", desc := "(I)I" } : Jvm.MethodName)) ∈ lw_all := lw_g (lw_at lw_m7 239 rfl) rfl
theorem q1827 : (Jvm.Cond.code ({ cls := "LawnPaths$Lawn", name := "fenced", desc := "(I)I" } : Jvm.MethodName) prog_8_method_27_code (2 : Nat) (Option.some Jvm.ClassFile.FieldType.int)) ∈ lw_all := lw_g (lw_at lw_m8 0 rfl) rfl
theorem q1828 : (Jvm.Cond.methodLink "LawnPaths$Lawn" (212 : Nat) ({ cls := "LawnPaths$Lawn", name := "fencesAll", desc := "()I" } : Jvm.MethodName)) ∈ lw_all := lw_g (lw_at lw_m8 1 rfl) rfl
theorem q1829 : (Jvm.Cond.methodLink "LawnPaths$Lawn" (215 : Nat) ({ cls := "LawnPaths$Lawn", name := "hasWays", desc := "()Z" } : Jvm.MethodName)) ∈ lw_all := lw_g (lw_at lw_m8 2 rfl) rfl
theorem q1833 : (Jvm.Cond.instanceMethod ({ cls := "LawnPaths$Lawn", name := "opened", desc := "(I)I" } : Jvm.MethodName)) ∈ lw_all := lw_g (lw_at lw_m8 6 rfl) rfl
theorem q1834 : (Jvm.Cond.selects "LawnPaths$Lawn" ({ cls := "LawnPaths$Lawn", name := "opened", desc := "(I)I" } : Jvm.MethodName) ({ cls := "LawnPaths$Lawn", name := "opened", desc := "(I)I" } : Jvm.MethodName)) ∈ lw_all := lw_g (lw_at lw_m8 7 rfl) rfl
theorem q1835 : (Jvm.Cond.code ({ cls := "LawnPaths$Lawn", name := "opened", desc := "(I)I" } : Jvm.MethodName) prog_8_method_28_code (2 : Nat) (Option.some Jvm.ClassFile.FieldType.int)) ∈ lw_all := lw_g (lw_at lw_m8 8 rfl) rfl
theorem q1839 : (Jvm.Cond.instanceMethod ({ cls := "LawnPaths$Lawn", name := "paves", desc := "(I)I" } : Jvm.MethodName)) ∈ lw_all := lw_g (lw_at lw_m8 12 rfl) rfl
theorem q1840 : (Jvm.Cond.selects "LawnPaths$Lawn" ({ cls := "LawnPaths$Lawn", name := "paves", desc := "(I)I" } : Jvm.MethodName) ({ cls := "LawnPaths$Lawn", name := "paves", desc := "(I)I" } : Jvm.MethodName)) ∈ lw_all := lw_g (lw_at lw_m8 13 rfl) rfl
theorem q1841 : (Jvm.Cond.code ({ cls := "LawnPaths$Lawn", name := "paves", desc := "(I)I" } : Jvm.MethodName) prog_8_method_29_code (2 : Nat) (Option.some Jvm.ClassFile.FieldType.int)) ∈ lw_all := lw_g (lw_at lw_m8 14 rfl) rfl
theorem q1842 : (Jvm.Cond.methodLink "LawnPaths$Lawn" (219 : Nat) ({ cls := "LawnPaths$Lawn", name := "cellsOf", desc := "(I)I" } : Jvm.MethodName)) ∈ lw_all := lw_g (lw_at lw_m8 15 rfl) rfl
theorem q1846 : (Jvm.Cond.instanceMethod ({ cls := "LawnPaths$Lawn", name := "sows", desc := "(I)I" } : Jvm.MethodName)) ∈ lw_all := lw_g (lw_at lw_m8 19 rfl) rfl
theorem q1847 : (Jvm.Cond.selects "LawnPaths$Lawn" ({ cls := "LawnPaths$Lawn", name := "sows", desc := "(I)I" } : Jvm.MethodName) ({ cls := "LawnPaths$Lawn", name := "sows", desc := "(I)I" } : Jvm.MethodName)) ∈ lw_all := lw_g (lw_at lw_m8 20 rfl) rfl
theorem q1848 : (Jvm.Cond.code ({ cls := "LawnPaths$Lawn", name := "sows", desc := "(I)I" } : Jvm.MethodName) prog_8_method_30_code (3 : Nat) (Option.some Jvm.ClassFile.FieldType.int)) ∈ lw_all := lw_g (lw_at lw_m8 21 rfl) rfl
theorem q2971 : (Jvm.Cond.castable "LawnPaths$Lawn" "java/lang/Object") ∈ lw_tbl := lw_at lw_m12 184 rfl
theorem in_X2 : ∀ w ∈ wsX20, w ∈ lw_all := lw_in wsX20 [295, 297, 299, 301, 303, 305, 307, 309, 311, 313, 315, 317, 319, 321, 323, 325, 327, 329, 331] (by decide +kernel) (by decide +kernel)
/-! LawnPaths$Row -/
def RX3 : String := "LawnPaths$Row"
def TX3 : u_T := fun k => match k with
  | _ => ("LawnPaths$Row", "all", "Ljava/util/List;", true)
def tyX3 : Nat → FieldType := fun k => match k with
  | _ => .object "java/util/List"
abbrev wsX30 : List Cond := u_ws RX3 TX3 1
theorem nmX3 : ∀ a, a < 1 → ∀ b, b < 1 → a ≠ b → (TX3 a).2.1 ≠ (TX3 b).2.1 := by decide +kernel
theorem tyX3_ok : ∀ k, k < 1 → parseFieldDescriptor (TX3 k).2.2.1 = some (tyX3 k) := by decide +kernel
abbrev cX3_init : ByteArray := prog_12_method_1_code
def yX3_init : MethodName := ⟨RX3, "<init>", "()V"⟩
abbrev cX3_add : ByteArray := prog_12_method_4_code
def yX3_add : MethodName := ⟨RX3, "add", "(LLawnPaths$Named;)V"⟩
abbrev cX3_named : ByteArray := prog_12_method_5_code
def yX3_named : MethodName := ⟨RX3, "named", "(Ljava/lang/String;)I"⟩
abbrev cX3_size : ByteArray := prog_12_method_2_code
def yX3_size : MethodName := ⟨RX3, "size", "()I"⟩
abbrev cX3_get : ByteArray := prog_12_method_3_code
def yX3_get : MethodName := ⟨RX3, "get", "(I)LLawnPaths$Named;"⟩
theorem q150 : (Jvm.Cond.initialized "LawnPaths$Row") ∈ lw_all := lw_g (lw_at lw_m1 3 rfl) rfl
theorem q210 : (Jvm.Cond.instantiable "LawnPaths$Row" (1 : Nat)) ∈ lw_all := lw_g (lw_at lw_m1 63 rfl) rfl
theorem q212 : (Jvm.Cond.instanceMethod ({ cls := "LawnPaths$Row", name := "<init>", desc := "()V" } : Jvm.MethodName)) ∈ lw_all := lw_g (lw_at lw_m1 65 rfl) rfl
theorem q213 : (Jvm.Cond.code ({ cls := "LawnPaths$Row", name := "<init>", desc := "()V" } : Jvm.MethodName) prog_12_method_1_code (1 : Nat) (Option.none : Option Jvm.ClassFile.FieldType)) ∈ lw_all := lw_g (lw_at lw_m1 66 rfl) rfl
theorem q214 : (Jvm.Cond.methodLink "LawnPaths$Row" (3 : Nat) ({ cls := "java/lang/Object", name := "<init>", desc := "()V" } : Jvm.MethodName)) ∈ lw_all := lw_g (lw_at lw_m1 67 rfl) rfl
theorem q215 : (Jvm.Cond.classLink "LawnPaths$Row" (9 : Nat) "java/util/ArrayList") ∈ lw_all := lw_g (lw_at lw_m1 68 rfl) rfl
theorem q217 : (Jvm.Cond.methodLink "LawnPaths$Row" (11 : Nat) ({ cls := "java/util/ArrayList", name := "<init>", desc := "()V" } : Jvm.MethodName)) ∈ lw_all := lw_g (lw_at lw_m1 70 rfl) rfl
theorem q244 : (Jvm.Cond.fieldLink "LawnPaths$Row" (12 : Nat) "LawnPaths$Row" "all" "Ljava/util/List;") ∈ lw_all := lw_g (lw_at lw_m1 97 rfl) rfl
theorem q245 : (Jvm.Cond.laysFinal "LawnPaths$Row" "LawnPaths$Row" "all" "Ljava/util/List;") ∈ lw_all := lw_g (lw_at lw_m1 98 rfl) rfl
theorem q246 : (Jvm.Cond.soleField "LawnPaths$Row" "all") ∈ lw_all := lw_g (lw_at lw_m1 99 rfl) rfl
theorem q247 : (Jvm.Cond.superclass "LawnPaths$Row" "java/lang/Object") ∈ lw_all := lw_g (lw_at lw_m1 100 rfl) rfl
theorem q363 : (Jvm.Cond.instanceMethod ({ cls := "LawnPaths$Row", name := "add", desc := "(LLawnPaths$Named;)V" } : Jvm.MethodName)) ∈ lw_all := lw_g (lw_at lw_m1 216 rfl) rfl
theorem q364 : (Jvm.Cond.selects "LawnPaths$Row" ({ cls := "LawnPaths$Row", name := "add", desc := "(LLawnPaths$Named;)V" } : Jvm.MethodName) ({ cls := "LawnPaths$Row", name := "add", desc := "(LLawnPaths$Named;)V" } : Jvm.MethodName)) ∈ lw_all := lw_g (lw_at lw_m1 217 rfl) rfl
theorem q365 : (Jvm.Cond.code ({ cls := "LawnPaths$Row", name := "add", desc := "(LLawnPaths$Named;)V" } : Jvm.MethodName) prog_12_method_4_code (2 : Nat) (Option.none : Option Jvm.ClassFile.FieldType)) ∈ lw_all := lw_g (lw_at lw_m1 218 rfl) rfl
theorem q366 : (Jvm.Cond.interfaceEntry "LawnPaths$Row" (30 : Nat)) ∈ lw_tbl := lw_at lw_m1 219 rfl
theorem q367 : (Jvm.Cond.methodLink "LawnPaths$Row" (30 : Nat) ({ cls := "java/util/List", name := "add", desc := "(Ljava/lang/Object;)Z" } : Jvm.MethodName)) ∈ lw_all := lw_g (lw_at lw_m1 220 rfl) rfl
theorem q412 : (Jvm.Cond.selects "LawnPaths$Row" ({ cls := "java/lang/Object", name := "getClass", desc := "()Ljava/lang/Class;" } : Jvm.MethodName) ({ cls := "java/lang/Object", name := "getClass", desc := "()Ljava/lang/Class;" } : Jvm.MethodName)) ∈ lw_all := lw_g (lw_at lw_m2 25 rfl) rfl
theorem q888 : (Jvm.Cond.instanceMethod ({ cls := "LawnPaths$Row", name := "named", desc := "(Ljava/lang/String;)I" } : Jvm.MethodName)) ∈ lw_all := lw_g (lw_at lw_m4 21 rfl) rfl
theorem q889 : (Jvm.Cond.selects "LawnPaths$Row" ({ cls := "LawnPaths$Row", name := "named", desc := "(Ljava/lang/String;)I" } : Jvm.MethodName) ({ cls := "LawnPaths$Row", name := "named", desc := "(Ljava/lang/String;)I" } : Jvm.MethodName)) ∈ lw_all := lw_g (lw_at lw_m4 22 rfl) rfl
theorem q890 : (Jvm.Cond.code ({ cls := "LawnPaths$Row", name := "named", desc := "(Ljava/lang/String;)I" } : Jvm.MethodName) prog_12_method_5_code (3 : Nat) (Option.some Jvm.ClassFile.FieldType.int)) ∈ lw_all := lw_g (lw_at lw_m4 23 rfl) rfl
theorem q891 : (Jvm.Cond.methodLink "LawnPaths$Row" (34 : Nat) ({ cls := "LawnPaths$Row", name := "size", desc := "()I" } : Jvm.MethodName)) ∈ lw_all := lw_g (lw_at lw_m4 24 rfl) rfl
theorem q892 : (Jvm.Cond.instanceMethod ({ cls := "LawnPaths$Row", name := "size", desc := "()I" } : Jvm.MethodName)) ∈ lw_all := lw_g (lw_at lw_m4 25 rfl) rfl
theorem q893 : (Jvm.Cond.selects "LawnPaths$Row" ({ cls := "LawnPaths$Row", name := "size", desc := "()I" } : Jvm.MethodName) ({ cls := "LawnPaths$Row", name := "size", desc := "()I" } : Jvm.MethodName)) ∈ lw_all := lw_g (lw_at lw_m4 26 rfl) rfl
theorem q894 : (Jvm.Cond.code ({ cls := "LawnPaths$Row", name := "size", desc := "()I" } : Jvm.MethodName) prog_12_method_2_code (1 : Nat) (Option.some Jvm.ClassFile.FieldType.int)) ∈ lw_all := lw_g (lw_at lw_m4 27 rfl) rfl
theorem q895 : (Jvm.Cond.interfaceEntry "LawnPaths$Row" (18 : Nat)) ∈ lw_tbl := lw_at lw_m4 28 rfl
theorem q896 : (Jvm.Cond.methodLink "LawnPaths$Row" (18 : Nat) ({ cls := "java/util/List", name := "size", desc := "()I" } : Jvm.MethodName)) ∈ lw_all := lw_g (lw_at lw_m4 29 rfl) rfl
theorem q904 : (Jvm.Cond.methodLink "LawnPaths$Row" (35 : Nat) ({ cls := "LawnPaths$Row", name := "get", desc := "(I)LLawnPaths$Named;" } : Jvm.MethodName)) ∈ lw_all := lw_g (lw_at lw_m4 37 rfl) rfl
theorem q905 : (Jvm.Cond.instanceMethod ({ cls := "LawnPaths$Row", name := "get", desc := "(I)LLawnPaths$Named;" } : Jvm.MethodName)) ∈ lw_all := lw_g (lw_at lw_m4 38 rfl) rfl
theorem q906 : (Jvm.Cond.selects "LawnPaths$Row" ({ cls := "LawnPaths$Row", name := "get", desc := "(I)LLawnPaths$Named;" } : Jvm.MethodName) ({ cls := "LawnPaths$Row", name := "get", desc := "(I)LLawnPaths$Named;" } : Jvm.MethodName)) ∈ lw_all := lw_g (lw_at lw_m4 39 rfl) rfl
theorem q907 : (Jvm.Cond.code ({ cls := "LawnPaths$Row", name := "get", desc := "(I)LLawnPaths$Named;" } : Jvm.MethodName) prog_12_method_3_code (2 : Nat) (Option.some (Jvm.ClassFile.FieldType.object "LawnPaths$Named"))) ∈ lw_all := lw_g (lw_at lw_m4 40 rfl) rfl
theorem q908 : (Jvm.Cond.interfaceEntry "LawnPaths$Row" (24 : Nat)) ∈ lw_tbl := lw_at lw_m4 41 rfl
theorem q909 : (Jvm.Cond.methodLink "LawnPaths$Row" (24 : Nat) ({ cls := "java/util/List", name := "get", desc := "(I)Ljava/lang/Object;" } : Jvm.MethodName)) ∈ lw_all := lw_g (lw_at lw_m4 42 rfl) rfl
theorem q925 : (Jvm.Cond.classLink "LawnPaths$Row" (28 : Nat) "LawnPaths$Named") ∈ lw_all := lw_g (lw_at lw_m4 58 rfl) rfl
theorem q926 : (Jvm.Cond.interfaceEntry "LawnPaths$Row" (38 : Nat)) ∈ lw_tbl := lw_at lw_m4 59 rfl
theorem q927 : (Jvm.Cond.methodLink "LawnPaths$Row" (38 : Nat) ({ cls := "LawnPaths$Named", name := "name", desc := "()Ljava/lang/String;" } : Jvm.MethodName)) ∈ lw_all := lw_g (lw_at lw_m4 60 rfl) rfl
theorem q942 : (Jvm.Cond.methodLink "LawnPaths$Row" (42 : Nat) ({ cls := "java/lang/String", name := "equals", desc := "(Ljava/lang/Object;)Z" } : Jvm.MethodName)) ∈ lw_all := lw_g (lw_at lw_m4 75 rfl) rfl
theorem q2972 : (Jvm.Cond.castable "LawnPaths$Row" "java/lang/Object") ∈ lw_tbl := lw_at lw_m12 185 rfl
theorem in_X3 : ∀ w ∈ wsX30, w ∈ lw_all := lw_in wsX30 [245] (by decide +kernel) (by decide +kernel)
/-! java/util/AbstractCollection -/
def RJ0 : String := "java/util/AbstractCollection"
abbrev cJ0_init : ByteArray := prog_50_method_1_code
def yJ0_init : MethodName := ⟨RJ0, "<init>", "()V"⟩
theorem q151 : (Jvm.Cond.initialized "java/util/AbstractCollection") ∈ lw_all := lw_g (lw_at lw_m1 4 rfl) rfl
theorem q224 : (Jvm.Cond.instanceMethod ({ cls := "java/util/AbstractCollection", name := "<init>", desc := "()V" } : Jvm.MethodName)) ∈ lw_all := lw_g (lw_at lw_m1 77 rfl) rfl
theorem q225 : (Jvm.Cond.code ({ cls := "java/util/AbstractCollection", name := "<init>", desc := "()V" } : Jvm.MethodName) prog_50_method_1_code (1 : Nat) (Option.none : Option Jvm.ClassFile.FieldType)) ∈ lw_all := lw_g (lw_at lw_m1 78 rfl) rfl
theorem q226 : (Jvm.Cond.methodLink "java/util/AbstractCollection" (1 : Nat) ({ cls := "java/lang/Object", name := "<init>", desc := "()V" } : Jvm.MethodName)) ∈ lw_all := lw_g (lw_at lw_m1 79 rfl) rfl
/-! java/util/AbstractList -/
def RJ1 : String := "java/util/AbstractList"
abbrev cJ1_init : ByteArray := prog_51_method_1_code
def yJ1_init : MethodName := ⟨RJ1, "<init>", "()V"⟩
theorem q152 : (Jvm.Cond.initialized "java/util/AbstractList") ∈ lw_all := lw_g (lw_at lw_m1 5 rfl) rfl
theorem q221 : (Jvm.Cond.instanceMethod ({ cls := "java/util/AbstractList", name := "<init>", desc := "()V" } : Jvm.MethodName)) ∈ lw_all := lw_g (lw_at lw_m1 74 rfl) rfl
theorem q222 : (Jvm.Cond.code ({ cls := "java/util/AbstractList", name := "<init>", desc := "()V" } : Jvm.MethodName) prog_51_method_1_code (1 : Nat) (Option.none : Option Jvm.ClassFile.FieldType)) ∈ lw_all := lw_g (lw_at lw_m1 75 rfl) rfl
theorem q223 : (Jvm.Cond.methodLink "java/util/AbstractList" (1 : Nat) ({ cls := "java/util/AbstractCollection", name := "<init>", desc := "()V" } : Jvm.MethodName)) ∈ lw_all := lw_g (lw_at lw_m1 76 rfl) rfl
theorem q233 : (Jvm.Cond.fieldLink "java/util/AbstractList" (7 : Nat) "java/util/AbstractList" "modCount" "I") ∈ lw_all := lw_g (lw_at lw_m1 86 rfl) rfl
theorem q242 : (Jvm.Cond.soleField "java/util/AbstractList" "modCount") ∈ lw_all := lw_g (lw_at lw_m1 95 rfl) rfl
/-! java/util/ArrayList -/
def RJ2 : String := "java/util/ArrayList"
def TJ2 : u_T := fun k => match k with
  | 0 => ("java/util/AbstractList", "modCount", "I", false)
  | 1 => ("java/util/ArrayList", "elementData", "[Ljava/lang/Object;", false)
  | _ => ("java/util/ArrayList", "size", "I", false)
def tyJ2 : Nat → FieldType := fun k => match k with
  | 0 => .int
  | 1 => .array (.object "java/lang/Object")
  | _ => .int
abbrev wsJ20 : List Cond := u_ws RJ2 TJ2 3
theorem nmJ2 : ∀ a, a < 3 → ∀ b, b < 3 → a ≠ b → (TJ2 a).2.1 ≠ (TJ2 b).2.1 := by decide +kernel
theorem tyJ2_ok : ∀ k, k < 3 → parseFieldDescriptor (TJ2 k).2.2.1 = some (tyJ2 k) := by decide +kernel
abbrev cJ2_init : ByteArray := prog_54_method_2_code
def yJ2_init : MethodName := ⟨RJ2, "<init>", "()V"⟩
abbrev cJ2_add : ByteArray := prog_54_method_25_code
def yJ2_add : MethodName := ⟨RJ2, "add", "(Ljava/lang/Object;)Z"⟩
abbrev cJ2_add_2 : ByteArray := prog_54_method_24_code
def yJ2_add_2 : MethodName := ⟨RJ2, "add", "(Ljava/lang/Object;[Ljava/lang/Object;I)V"⟩
abbrev cJ2_grow : ByteArray := prog_54_method_7_code
def yJ2_grow : MethodName := ⟨RJ2, "grow", "()[Ljava/lang/Object;"⟩
abbrev cJ2_grow_2 : ByteArray := prog_54_method_6_code
def yJ2_grow_2 : MethodName := ⟨RJ2, "grow", "(I)[Ljava/lang/Object;"⟩
abbrev cJ2_size : ByteArray := prog_54_method_8_code
def yJ2_size : MethodName := ⟨RJ2, "size", "()I"⟩
abbrev cJ2_get : ByteArray := prog_54_method_20_code
def yJ2_get : MethodName := ⟨RJ2, "get", "(I)Ljava/lang/Object;"⟩
abbrev cJ2_elementData : ByteArray := prog_54_method_18_code
def yJ2_elementData : MethodName := ⟨RJ2, "elementData", "(I)Ljava/lang/Object;"⟩
abbrev cJ2_iterator : ByteArray := prog_54_method_55_code
def yJ2_iterator : MethodName := ⟨RJ2, "iterator", "()Ljava/util/Iterator;"⟩
theorem q153 : (Jvm.Cond.initialized "java/util/ArrayList") ∈ lw_all := lw_g (lw_at lw_m1 6 rfl) rfl
theorem q216 : (Jvm.Cond.instantiable "java/util/ArrayList" (3 : Nat)) ∈ lw_all := lw_g (lw_at lw_m1 69 rfl) rfl
theorem q218 : (Jvm.Cond.instanceMethod ({ cls := "java/util/ArrayList", name := "<init>", desc := "()V" } : Jvm.MethodName)) ∈ lw_all := lw_g (lw_at lw_m1 71 rfl) rfl
theorem q219 : (Jvm.Cond.code ({ cls := "java/util/ArrayList", name := "<init>", desc := "()V" } : Jvm.MethodName) prog_54_method_2_code (1 : Nat) (Option.none : Option Jvm.ClassFile.FieldType)) ∈ lw_all := lw_g (lw_at lw_m1 72 rfl) rfl
theorem q220 : (Jvm.Cond.methodLink "java/util/ArrayList" (1 : Nat) ({ cls := "java/util/AbstractList", name := "<init>", desc := "()V" } : Jvm.MethodName)) ∈ lw_all := lw_g (lw_at lw_m1 73 rfl) rfl
theorem q227 : (Jvm.Cond.fieldLink "java/util/ArrayList" (39 : Nat) "java/util/ArrayList" "DEFAULTCAPACITY_EMPTY_ELEMENTDATA" "[Ljava/lang/Object;") ∈ lw_all := lw_g (lw_at lw_m1 80 rfl) rfl
theorem q228 : (Jvm.Cond.laysStatic "java/util/ArrayList" "DEFAULTCAPACITY_EMPTY_ELEMENTDATA" "[Ljava/lang/Object;") ∈ lw_tbl := lw_at lw_m1 81 rfl
theorem q229 : (Jvm.Cond.fieldLink "java/util/ArrayList" (9 : Nat) "java/util/ArrayList" "elementData" "[Ljava/lang/Object;") ∈ lw_all := lw_g (lw_at lw_m1 82 rfl) rfl
theorem q232 : (Jvm.Cond.fieldLink "java/util/ArrayList" (48 : Nat) "java/util/ArrayList" "size" "I") ∈ lw_all := lw_g (lw_at lw_m1 85 rfl) rfl
theorem q235 : (Jvm.Cond.sameField "java/util/ArrayList" "java/util/AbstractList" "modCount" "I") ∈ lw_all := lw_g (lw_at lw_m1 88 rfl) rfl
theorem q236 : (Jvm.Cond.fieldLink "java/util/ArrayList" (63 : Nat) "java/util/ArrayList" "modCount" "I") ∈ lw_all := lw_g (lw_at lw_m1 89 rfl) rfl
theorem q237 : (Jvm.Cond.lays "java/util/ArrayList" "java/util/ArrayList" "elementData" "[Ljava/lang/Object;") ∈ lw_all := lw_g (lw_at lw_m1 90 rfl) rfl
theorem q238 : (Jvm.Cond.soleField "java/util/ArrayList" "elementData") ∈ lw_all := lw_g (lw_at lw_m1 91 rfl) rfl
theorem q239 : (Jvm.Cond.lays "java/util/ArrayList" "java/util/ArrayList" "size" "I") ∈ lw_all := lw_g (lw_at lw_m1 92 rfl) rfl
theorem q240 : (Jvm.Cond.soleField "java/util/ArrayList" "size") ∈ lw_all := lw_g (lw_at lw_m1 93 rfl) rfl
theorem q241 : (Jvm.Cond.lays "java/util/ArrayList" "java/util/AbstractList" "modCount" "I") ∈ lw_all := lw_g (lw_at lw_m1 94 rfl) rfl
theorem q243 : (Jvm.Cond.superclass "java/util/ArrayList" "java/util/AbstractList") ∈ lw_all := lw_g (lw_at lw_m1 96 rfl) rfl
theorem q370 : (Jvm.Cond.castable "java/util/ArrayList" "java/util/List") ∈ lw_tbl := lw_at lw_m1 223 rfl
theorem q371 : (Jvm.Cond.selects "java/util/ArrayList" ({ cls := "java/util/List", name := "add", desc := "(Ljava/lang/Object;)Z" } : Jvm.MethodName) ({ cls := "java/util/ArrayList", name := "add", desc := "(Ljava/lang/Object;)Z" } : Jvm.MethodName)) ∈ lw_all := lw_g (lw_at lw_m1 224 rfl) rfl
theorem q372 : (Jvm.Cond.unhidden "java/util/ArrayList" "add" "(Ljava/lang/Object;)Z") ∈ lw_tbl := lw_at lw_m1 225 rfl
theorem q373 : (Jvm.Cond.instanceMethod ({ cls := "java/util/ArrayList", name := "add", desc := "(Ljava/lang/Object;)Z" } : Jvm.MethodName)) ∈ lw_all := lw_g (lw_at lw_m1 226 rfl) rfl
theorem q374 : (Jvm.Cond.publicMethod ({ cls := "java/util/ArrayList", name := "add", desc := "(Ljava/lang/Object;)Z" } : Jvm.MethodName)) ∈ lw_tbl := lw_at lw_m1 227 rfl
theorem q375 : (Jvm.Cond.code ({ cls := "java/util/ArrayList", name := "add", desc := "(Ljava/lang/Object;)Z" } : Jvm.MethodName) prog_54_method_25_code (2 : Nat) (Option.some Jvm.ClassFile.FieldType.boolean)) ∈ lw_all := lw_g (lw_at lw_m1 228 rfl) rfl
theorem q376 : (Jvm.Cond.methodLink "java/util/ArrayList" (131 : Nat) ({ cls := "java/util/ArrayList", name := "add", desc := "(Ljava/lang/Object;[Ljava/lang/Object;I)V" } : Jvm.MethodName)) ∈ lw_all := lw_g (lw_at lw_m1 229 rfl) rfl
theorem q377 : (Jvm.Cond.privateMethod ({ cls := "java/util/ArrayList", name := "add", desc := "(Ljava/lang/Object;[Ljava/lang/Object;I)V" } : Jvm.MethodName)) ∈ lw_tbl := lw_at lw_m1 230 rfl
theorem q378 : (Jvm.Cond.instanceMethod ({ cls := "java/util/ArrayList", name := "add", desc := "(Ljava/lang/Object;[Ljava/lang/Object;I)V" } : Jvm.MethodName)) ∈ lw_all := lw_g (lw_at lw_m1 231 rfl) rfl
theorem q379 : (Jvm.Cond.code ({ cls := "java/util/ArrayList", name := "add", desc := "(Ljava/lang/Object;[Ljava/lang/Object;I)V" } : Jvm.MethodName) prog_54_method_24_code (4 : Nat) (Option.none : Option Jvm.ClassFile.FieldType)) ∈ lw_all := lw_g (lw_at lw_m1 232 rfl) rfl
theorem q380 : (Jvm.Cond.methodLink "java/util/ArrayList" (129 : Nat) ({ cls := "java/util/ArrayList", name := "grow", desc := "()[Ljava/lang/Object;" } : Jvm.MethodName)) ∈ lw_all := lw_g (lw_at lw_m1 233 rfl) rfl
theorem q381 : (Jvm.Cond.privateMethod ({ cls := "java/util/ArrayList", name := "grow", desc := "()[Ljava/lang/Object;" } : Jvm.MethodName)) ∈ lw_tbl := lw_at lw_m1 234 rfl
theorem q382 : (Jvm.Cond.instanceMethod ({ cls := "java/util/ArrayList", name := "grow", desc := "()[Ljava/lang/Object;" } : Jvm.MethodName)) ∈ lw_all := lw_g (lw_at lw_m1 235 rfl) rfl
theorem q383 : (Jvm.Cond.code ({ cls := "java/util/ArrayList", name := "grow", desc := "()[Ljava/lang/Object;" } : Jvm.MethodName) prog_54_method_7_code (1 : Nat) (Option.some (Jvm.ClassFile.FieldType.array (Jvm.ClassFile.FieldType.object "java/lang/Object")))) ∈ lw_all := lw_g (lw_at lw_m1 236 rfl) rfl
theorem q384 : (Jvm.Cond.methodLink "java/util/ArrayList" (69 : Nat) ({ cls := "java/util/ArrayList", name := "grow", desc := "(I)[Ljava/lang/Object;" } : Jvm.MethodName)) ∈ lw_all := lw_g (lw_at lw_m1 237 rfl) rfl
theorem q385 : (Jvm.Cond.privateMethod ({ cls := "java/util/ArrayList", name := "grow", desc := "(I)[Ljava/lang/Object;" } : Jvm.MethodName)) ∈ lw_tbl := lw_at lw_m1 238 rfl
theorem q386 : (Jvm.Cond.instanceMethod ({ cls := "java/util/ArrayList", name := "grow", desc := "(I)[Ljava/lang/Object;" } : Jvm.MethodName)) ∈ lw_all := lw_g (lw_at lw_m1 239 rfl) rfl
theorem q387 : (Jvm.Cond.code ({ cls := "java/util/ArrayList", name := "grow", desc := "(I)[Ljava/lang/Object;" } : Jvm.MethodName) prog_54_method_6_code (4 : Nat) (Option.some (Jvm.ClassFile.FieldType.array (Jvm.ClassFile.FieldType.object "java/lang/Object")))) ∈ lw_all := lw_g (lw_at lw_m2 0 rfl) rfl
theorem q388 : (Jvm.Cond.methodLink "java/util/ArrayList" (73 : Nat) ({ cls := "jdk/internal/util/ArraysSupport", name := "newLength", desc := "(III)I" } : Jvm.MethodName)) ∈ lw_all := lw_g (lw_at lw_m2 1 rfl) rfl
theorem q398 : (Jvm.Cond.methodLink "java/util/ArrayList" (66 : Nat) ({ cls := "java/util/Arrays", name := "copyOf", desc := "([Ljava/lang/Object;I)[Ljava/lang/Object;" } : Jvm.MethodName)) ∈ lw_all := lw_g (lw_at lw_m2 11 rfl) rfl
theorem q431 : (Jvm.Cond.selects "java/util/ArrayList" ({ cls := "java/lang/Object", name := "getClass", desc := "()Ljava/lang/Class;" } : Jvm.MethodName) ({ cls := "java/lang/Object", name := "getClass", desc := "()Ljava/lang/Class;" } : Jvm.MethodName)) ∈ lw_all := lw_g (lw_at lw_m2 44 rfl) rfl
theorem q447 : (Jvm.Cond.methodLink "java/util/ArrayList" (79 : Nat) ({ cls := "java/lang/Math", name := "max", desc := "(II)I" } : Jvm.MethodName)) ∈ lw_all := lw_g (lw_at lw_m2 60 rfl) rfl
theorem q448 : (Jvm.Cond.classLink "java/util/ArrayList" (7 : Nat) "java/lang/Object") ∈ lw_all := lw_g (lw_at lw_m2 61 rfl) rfl
theorem q899 : (Jvm.Cond.selects "java/util/ArrayList" ({ cls := "java/util/List", name := "size", desc := "()I" } : Jvm.MethodName) ({ cls := "java/util/ArrayList", name := "size", desc := "()I" } : Jvm.MethodName)) ∈ lw_all := lw_g (lw_at lw_m4 32 rfl) rfl
theorem q900 : (Jvm.Cond.unhidden "java/util/ArrayList" "size" "()I") ∈ lw_tbl := lw_at lw_m4 33 rfl
theorem q901 : (Jvm.Cond.instanceMethod ({ cls := "java/util/ArrayList", name := "size", desc := "()I" } : Jvm.MethodName)) ∈ lw_all := lw_g (lw_at lw_m4 34 rfl) rfl
theorem q902 : (Jvm.Cond.publicMethod ({ cls := "java/util/ArrayList", name := "size", desc := "()I" } : Jvm.MethodName)) ∈ lw_tbl := lw_at lw_m4 35 rfl
theorem q903 : (Jvm.Cond.code ({ cls := "java/util/ArrayList", name := "size", desc := "()I" } : Jvm.MethodName) prog_54_method_8_code (1 : Nat) (Option.some Jvm.ClassFile.FieldType.int)) ∈ lw_all := lw_g (lw_at lw_m4 36 rfl) rfl
theorem q912 : (Jvm.Cond.selects "java/util/ArrayList" ({ cls := "java/util/List", name := "get", desc := "(I)Ljava/lang/Object;" } : Jvm.MethodName) ({ cls := "java/util/ArrayList", name := "get", desc := "(I)Ljava/lang/Object;" } : Jvm.MethodName)) ∈ lw_all := lw_g (lw_at lw_m4 45 rfl) rfl
theorem q913 : (Jvm.Cond.unhidden "java/util/ArrayList" "get" "(I)Ljava/lang/Object;") ∈ lw_tbl := lw_at lw_m4 46 rfl
theorem q914 : (Jvm.Cond.instanceMethod ({ cls := "java/util/ArrayList", name := "get", desc := "(I)Ljava/lang/Object;" } : Jvm.MethodName)) ∈ lw_all := lw_g (lw_at lw_m4 47 rfl) rfl
theorem q915 : (Jvm.Cond.publicMethod ({ cls := "java/util/ArrayList", name := "get", desc := "(I)Ljava/lang/Object;" } : Jvm.MethodName)) ∈ lw_tbl := lw_at lw_m4 48 rfl
theorem q916 : (Jvm.Cond.code ({ cls := "java/util/ArrayList", name := "get", desc := "(I)Ljava/lang/Object;" } : Jvm.MethodName) prog_54_method_20_code (2 : Nat) (Option.some (Jvm.ClassFile.FieldType.object "java/lang/Object"))) ∈ lw_all := lw_g (lw_at lw_m4 49 rfl) rfl
theorem q917 : (Jvm.Cond.methodLink "java/util/ArrayList" (118 : Nat) ({ cls := "java/util/Objects", name := "checkIndex", desc := "(II)I" } : Jvm.MethodName)) ∈ lw_all := lw_g (lw_at lw_m4 50 rfl) rfl
theorem q921 : (Jvm.Cond.methodLink "java/util/ArrayList" (123 : Nat) ({ cls := "java/util/ArrayList", name := "elementData", desc := "(I)Ljava/lang/Object;" } : Jvm.MethodName)) ∈ lw_all := lw_g (lw_at lw_m4 54 rfl) rfl
theorem q922 : (Jvm.Cond.instanceMethod ({ cls := "java/util/ArrayList", name := "elementData", desc := "(I)Ljava/lang/Object;" } : Jvm.MethodName)) ∈ lw_all := lw_g (lw_at lw_m4 55 rfl) rfl
theorem q923 : (Jvm.Cond.selects "java/util/ArrayList" ({ cls := "java/util/ArrayList", name := "elementData", desc := "(I)Ljava/lang/Object;" } : Jvm.MethodName) ({ cls := "java/util/ArrayList", name := "elementData", desc := "(I)Ljava/lang/Object;" } : Jvm.MethodName)) ∈ lw_all := lw_g (lw_at lw_m4 56 rfl) rfl
theorem q924 : (Jvm.Cond.code ({ cls := "java/util/ArrayList", name := "elementData", desc := "(I)Ljava/lang/Object;" } : Jvm.MethodName) prog_54_method_18_code (2 : Nat) (Option.some (Jvm.ClassFile.FieldType.object "java/lang/Object"))) ∈ lw_all := lw_g (lw_at lw_m4 57 rfl) rfl
theorem q1110 : (Jvm.Cond.castable "java/util/ArrayList" "java/lang/Iterable") ∈ lw_tbl := lw_at lw_m5 3 rfl
theorem q1111 : (Jvm.Cond.selects "java/util/ArrayList" ({ cls := "java/lang/Iterable", name := "iterator", desc := "()Ljava/util/Iterator;" } : Jvm.MethodName) ({ cls := "java/util/ArrayList", name := "iterator", desc := "()Ljava/util/Iterator;" } : Jvm.MethodName)) ∈ lw_all := lw_g (lw_at lw_m5 4 rfl) rfl
theorem q1112 : (Jvm.Cond.unhidden "java/util/ArrayList" "iterator" "()Ljava/util/Iterator;") ∈ lw_tbl := lw_at lw_m5 5 rfl
theorem q1113 : (Jvm.Cond.instanceMethod ({ cls := "java/util/ArrayList", name := "iterator", desc := "()Ljava/util/Iterator;" } : Jvm.MethodName)) ∈ lw_all := lw_g (lw_at lw_m5 6 rfl) rfl
theorem q1114 : (Jvm.Cond.publicMethod ({ cls := "java/util/ArrayList", name := "iterator", desc := "()Ljava/util/Iterator;" } : Jvm.MethodName)) ∈ lw_tbl := lw_at lw_m5 7 rfl
theorem q1115 : (Jvm.Cond.code ({ cls := "java/util/ArrayList", name := "iterator", desc := "()Ljava/util/Iterator;" } : Jvm.MethodName) prog_54_method_55_code (1 : Nat) (Option.some (Jvm.ClassFile.FieldType.object "java/util/Iterator"))) ∈ lw_all := lw_g (lw_at lw_m5 8 rfl) rfl
theorem q1116 : (Jvm.Cond.classLink "java/util/ArrayList" (267 : Nat) "java/util/ArrayList$Itr") ∈ lw_all := lw_g (lw_at lw_m5 9 rfl) rfl
theorem q1118 : (Jvm.Cond.methodLink "java/util/ArrayList" (269 : Nat) ({ cls := "java/util/ArrayList$Itr", name := "<init>", desc := "(Ljava/util/ArrayList;)V" } : Jvm.MethodName)) ∈ lw_all := lw_g (lw_at lw_m5 11 rfl) rfl
theorem q2973 : (Jvm.Cond.castable "java/util/ArrayList" "java/lang/Object") ∈ lw_tbl := lw_at lw_m12 186 rfl
theorem in_J2 : ∀ w ∈ wsJ20, w ∈ lw_all := lw_in wsJ20 [241, 237, 239] (by decide +kernel) (by decide +kernel)
/-! java/lang/Record -/
def RJ3 : String := "java/lang/Record"
abbrev cJ3_init : ByteArray := prog_38_method_1_code
def yJ3_init : MethodName := ⟨RJ3, "<init>", "()V"⟩
theorem q154 : (Jvm.Cond.initialized "java/lang/Record") ∈ lw_all := lw_g (lw_at lw_m1 7 rfl) rfl
theorem q351 : (Jvm.Cond.instanceMethod ({ cls := "java/lang/Record", name := "<init>", desc := "()V" } : Jvm.MethodName)) ∈ lw_all := lw_g (lw_at lw_m1 204 rfl) rfl
theorem q352 : (Jvm.Cond.code ({ cls := "java/lang/Record", name := "<init>", desc := "()V" } : Jvm.MethodName) prog_38_method_1_code (1 : Nat) (Option.none : Option Jvm.ClassFile.FieldType)) ∈ lw_all := lw_g (lw_at lw_m1 205 rfl) rfl
theorem q353 : (Jvm.Cond.methodLink "java/lang/Record" (1 : Nat) ({ cls := "java/lang/Object", name := "<init>", desc := "()V" } : Jvm.MethodName)) ∈ lw_all := lw_g (lw_at lw_m1 206 rfl) rfl
/-! LawnPaths$Gate -/
def RX4 : String := "LawnPaths$Gate"
def TX4 : u_T := fun k => match k with
  | 0 => ("LawnPaths$Gate", "name", "Ljava/lang/String;", true)
  | _ => ("LawnPaths$Gate", "cell", "I", true)
def tyX4 : Nat → FieldType := fun k => match k with
  | 0 => .object "java/lang/String"
  | _ => .int
abbrev wsX40 : List Cond := u_ws RX4 TX4 2
theorem nmX4 : ∀ a, a < 2 → ∀ b, b < 2 → a ≠ b → (TX4 a).2.1 ≠ (TX4 b).2.1 := by decide +kernel
theorem tyX4_ok : ∀ k, k < 2 → parseFieldDescriptor (TX4 k).2.2.1 = some (tyX4 k) := by decide +kernel
abbrev cX4_init : ByteArray := prog_3_method_1_code
def yX4_init : MethodName := ⟨RX4, "<init>", "(Ljava/lang/String;I)V"⟩
abbrev cX4_name : ByteArray := prog_3_method_5_code
def yX4_name : MethodName := ⟨RX4, "name", "()Ljava/lang/String;"⟩
abbrev cX4_cell : ByteArray := prog_3_method_6_code
def yX4_cell : MethodName := ⟨RX4, "cell", "()I"⟩
theorem q155 : (Jvm.Cond.initialized "LawnPaths$Gate") ∈ lw_all := lw_g (lw_at lw_m1 8 rfl) rfl
theorem q346 : (Jvm.Cond.instantiable "LawnPaths$Gate" (2 : Nat)) ∈ lw_all := lw_g (lw_at lw_m1 199 rfl) rfl
theorem q348 : (Jvm.Cond.instanceMethod ({ cls := "LawnPaths$Gate", name := "<init>", desc := "(Ljava/lang/String;I)V" } : Jvm.MethodName)) ∈ lw_all := lw_g (lw_at lw_m1 201 rfl) rfl
theorem q349 : (Jvm.Cond.code ({ cls := "LawnPaths$Gate", name := "<init>", desc := "(Ljava/lang/String;I)V" } : Jvm.MethodName) prog_3_method_1_code (3 : Nat) (Option.none : Option Jvm.ClassFile.FieldType)) ∈ lw_all := lw_g (lw_at lw_m1 202 rfl) rfl
theorem q350 : (Jvm.Cond.methodLink "LawnPaths$Gate" (1 : Nat) ({ cls := "java/lang/Record", name := "<init>", desc := "()V" } : Jvm.MethodName)) ∈ lw_all := lw_g (lw_at lw_m1 203 rfl) rfl
theorem q354 : (Jvm.Cond.fieldLink "LawnPaths$Gate" (7 : Nat) "LawnPaths$Gate" "name" "Ljava/lang/String;") ∈ lw_all := lw_g (lw_at lw_m1 207 rfl) rfl
theorem q355 : (Jvm.Cond.fieldLink "LawnPaths$Gate" (13 : Nat) "LawnPaths$Gate" "cell" "I") ∈ lw_all := lw_g (lw_at lw_m1 208 rfl) rfl
theorem q356 : (Jvm.Cond.laysFinal "LawnPaths$Gate" "LawnPaths$Gate" "name" "Ljava/lang/String;") ∈ lw_all := lw_g (lw_at lw_m1 209 rfl) rfl
theorem q357 : (Jvm.Cond.soleField "LawnPaths$Gate" "name") ∈ lw_all := lw_g (lw_at lw_m1 210 rfl) rfl
theorem q358 : (Jvm.Cond.laysFinal "LawnPaths$Gate" "LawnPaths$Gate" "cell" "I") ∈ lw_all := lw_g (lw_at lw_m1 211 rfl) rfl
theorem q359 : (Jvm.Cond.soleField "LawnPaths$Gate" "cell") ∈ lw_all := lw_g (lw_at lw_m1 212 rfl) rfl
theorem q360 : (Jvm.Cond.superclass "LawnPaths$Gate" "java/lang/Record") ∈ lw_all := lw_g (lw_at lw_m1 213 rfl) rfl
theorem q405 : (Jvm.Cond.selects "LawnPaths$Gate" ({ cls := "java/lang/Object", name := "getClass", desc := "()Ljava/lang/Class;" } : Jvm.MethodName) ({ cls := "java/lang/Object", name := "getClass", desc := "()Ljava/lang/Class;" } : Jvm.MethodName)) ∈ lw_all := lw_g (lw_at lw_m2 18 rfl) rfl
theorem q930 : (Jvm.Cond.castable "LawnPaths$Gate" "LawnPaths$Named") ∈ lw_tbl := lw_at lw_m4 63 rfl
theorem q931 : (Jvm.Cond.selects "LawnPaths$Gate" ({ cls := "LawnPaths$Named", name := "name", desc := "()Ljava/lang/String;" } : Jvm.MethodName) ({ cls := "LawnPaths$Gate", name := "name", desc := "()Ljava/lang/String;" } : Jvm.MethodName)) ∈ lw_all := lw_g (lw_at lw_m4 64 rfl) rfl
theorem q932 : (Jvm.Cond.unhidden "LawnPaths$Gate" "name" "()Ljava/lang/String;") ∈ lw_tbl := lw_at lw_m4 65 rfl
theorem q933 : (Jvm.Cond.instanceMethod ({ cls := "LawnPaths$Gate", name := "name", desc := "()Ljava/lang/String;" } : Jvm.MethodName)) ∈ lw_all := lw_g (lw_at lw_m4 66 rfl) rfl
theorem q934 : (Jvm.Cond.publicMethod ({ cls := "LawnPaths$Gate", name := "name", desc := "()Ljava/lang/String;" } : Jvm.MethodName)) ∈ lw_tbl := lw_at lw_m4 67 rfl
theorem q935 : (Jvm.Cond.code ({ cls := "LawnPaths$Gate", name := "name", desc := "()Ljava/lang/String;" } : Jvm.MethodName) prog_3_method_5_code (1 : Nat) (Option.some (Jvm.ClassFile.FieldType.object "java/lang/String"))) ∈ lw_all := lw_g (lw_at lw_m4 68 rfl) rfl
theorem q992 : (Jvm.Cond.instanceMethod ({ cls := "LawnPaths$Gate", name := "cell", desc := "()I" } : Jvm.MethodName)) ∈ lw_all := lw_g (lw_at lw_m4 125 rfl) rfl
theorem q993 : (Jvm.Cond.selects "LawnPaths$Gate" ({ cls := "LawnPaths$Gate", name := "cell", desc := "()I" } : Jvm.MethodName) ({ cls := "LawnPaths$Gate", name := "cell", desc := "()I" } : Jvm.MethodName)) ∈ lw_all := lw_g (lw_at lw_m4 126 rfl) rfl
theorem q994 : (Jvm.Cond.code ({ cls := "LawnPaths$Gate", name := "cell", desc := "()I" } : Jvm.MethodName) prog_3_method_6_code (1 : Nat) (Option.some Jvm.ClassFile.FieldType.int)) ∈ lw_all := lw_g (lw_at lw_m4 127 rfl) rfl
theorem q2965 : (Jvm.Cond.selects "LawnPaths$Gate" ({ cls := "LawnPaths$Gate", name := "name", desc := "()Ljava/lang/String;" } : Jvm.MethodName) ({ cls := "LawnPaths$Gate", name := "name", desc := "()Ljava/lang/String;" } : Jvm.MethodName)) ∈ lw_all := lw_g (lw_at lw_m12 178 rfl) rfl
theorem q2974 : (Jvm.Cond.castable "LawnPaths$Gate" "java/lang/Object") ∈ lw_tbl := lw_at lw_m12 187 rfl
theorem in_X4 : ∀ w ∈ wsX40, w ∈ lw_all := lw_in wsX40 [356, 358] (by decide +kernel) (by decide +kernel)
/-! jdk/internal/util/ArraysSupport -/
def RJ4 : String := "jdk/internal/util/ArraysSupport"
abbrev cJ4_newLength : ByteArray := prog_67_method_27_code
def yJ4_newLength : MethodName := ⟨RJ4, "newLength", "(III)I"⟩
abbrev cJ4_hugeLength : ByteArray := prog_67_method_28_code
def yJ4_hugeLength : MethodName := ⟨RJ4, "hugeLength", "(II)I"⟩
abbrev cJ4_vectorizedHashCode : ByteArray := prog_67_method_4_code
def yJ4_vectorizedHashCode : MethodName := ⟨RJ4, "vectorizedHashCode", "(Ljava/lang/Object;IIII)I"⟩
abbrev cJ4_signedHashCode : ByteArray := prog_67_method_5_code
def yJ4_signedHashCode : MethodName := ⟨RJ4, "signedHashCode", "(I[BII)I"⟩
abbrev cJ4_utf16hashCode : ByteArray := prog_67_method_10_code
def yJ4_utf16hashCode : MethodName := ⟨RJ4, "utf16hashCode", "(I[BII)I"⟩
abbrev cJ4_hashCode : ByteArray := prog_67_method_7_code
def yJ4_hashCode : MethodName := ⟨RJ4, "hashCode", "(I[CII)I"⟩
abbrev cJ4_hashCode_2 : ByteArray := prog_67_method_6_code
def yJ4_hashCode_2 : MethodName := ⟨RJ4, "hashCode", "(I[BII)I"⟩
abbrev cJ4_hashCode_3 : ByteArray := prog_67_method_8_code
def yJ4_hashCode_3 : MethodName := ⟨RJ4, "hashCode", "(I[SII)I"⟩
abbrev cJ4_hashCode_4 : ByteArray := prog_67_method_9_code
def yJ4_hashCode_4 : MethodName := ⟨RJ4, "hashCode", "(I[III)I"⟩
theorem q156 : (Jvm.Cond.initialized "jdk/internal/util/ArraysSupport") ∈ lw_all := lw_g (lw_at lw_m1 9 rfl) rfl
theorem q389 : (Jvm.Cond.static ({ cls := "jdk/internal/util/ArraysSupport", name := "newLength", desc := "(III)I" } : Jvm.MethodName)) ∈ lw_all := lw_g (lw_at lw_m2 2 rfl) rfl
theorem q390 : (Jvm.Cond.code ({ cls := "jdk/internal/util/ArraysSupport", name := "newLength", desc := "(III)I" } : Jvm.MethodName) prog_67_method_27_code (4 : Nat) (Option.some Jvm.ClassFile.FieldType.int)) ∈ lw_all := lw_g (lw_at lw_m2 3 rfl) rfl
theorem q391 : (Jvm.Cond.methodLink "jdk/internal/util/ArraysSupport" (194 : Nat) ({ cls := "java/lang/Math", name := "max", desc := "(II)I" } : Jvm.MethodName)) ∈ lw_all := lw_g (lw_at lw_m2 4 rfl) rfl
theorem q394 : (Jvm.Cond.constant "jdk/internal/util/ArraysSupport" (200 : Nat) (2147483639 : Int32)) ∈ lw_all := lw_g (lw_at lw_m2 7 rfl) rfl
theorem q395 : (Jvm.Cond.methodLink "jdk/internal/util/ArraysSupport" (201 : Nat) ({ cls := "jdk/internal/util/ArraysSupport", name := "hugeLength", desc := "(II)I" } : Jvm.MethodName)) ∈ lw_all := lw_g (lw_at lw_m2 8 rfl) rfl
theorem q396 : (Jvm.Cond.static ({ cls := "jdk/internal/util/ArraysSupport", name := "hugeLength", desc := "(II)I" } : Jvm.MethodName)) ∈ lw_all := lw_g (lw_at lw_m2 9 rfl) rfl
theorem q397 : (Jvm.Cond.code ({ cls := "jdk/internal/util/ArraysSupport", name := "hugeLength", desc := "(II)I" } : Jvm.MethodName) prog_67_method_28_code (3 : Nat) (Option.some Jvm.ClassFile.FieldType.int)) ∈ lw_all := lw_g (lw_at lw_m2 10 rfl) rfl
theorem q1672 : (Jvm.Cond.static ({ cls := "jdk/internal/util/ArraysSupport", name := "vectorizedHashCode", desc := "(Ljava/lang/Object;IIII)I" } : Jvm.MethodName)) ∈ lw_all := lw_g (lw_at lw_m7 85 rfl) rfl
theorem q1673 : (Jvm.Cond.code ({ cls := "jdk/internal/util/ArraysSupport", name := "vectorizedHashCode", desc := "(Ljava/lang/Object;IIII)I" } : Jvm.MethodName) prog_67_method_4_code (5 : Nat) (Option.some Jvm.ClassFile.FieldType.int)) ∈ lw_all := lw_g (lw_at lw_m7 86 rfl) rfl
theorem q1674 : (Jvm.Cond.classLink "jdk/internal/util/ArraysSupport" (60 : Nat) "[B") ∈ lw_all := lw_g (lw_at lw_m7 87 rfl) rfl
theorem q1675 : (Jvm.Cond.methodLink "jdk/internal/util/ArraysSupport" (62 : Nat) ({ cls := "jdk/internal/util/ArraysSupport", name := "signedHashCode", desc := "(I[BII)I" } : Jvm.MethodName)) ∈ lw_all := lw_g (lw_at lw_m7 88 rfl) rfl
theorem q1676 : (Jvm.Cond.static ({ cls := "jdk/internal/util/ArraysSupport", name := "signedHashCode", desc := "(I[BII)I" } : Jvm.MethodName)) ∈ lw_all := lw_g (lw_at lw_m7 89 rfl) rfl
theorem q1677 : (Jvm.Cond.code ({ cls := "jdk/internal/util/ArraysSupport", name := "signedHashCode", desc := "(I[BII)I" } : Jvm.MethodName) prog_67_method_5_code (6 : Nat) (Option.some Jvm.ClassFile.FieldType.int)) ∈ lw_all := lw_g (lw_at lw_m7 90 rfl) rfl
theorem q1678 : (Jvm.Cond.methodLink "jdk/internal/util/ArraysSupport" (66 : Nat) ({ cls := "jdk/internal/util/ArraysSupport", name := "utf16hashCode", desc := "(I[BII)I" } : Jvm.MethodName)) ∈ lw_all := lw_g (lw_at lw_m7 91 rfl) rfl
theorem q1679 : (Jvm.Cond.static ({ cls := "jdk/internal/util/ArraysSupport", name := "utf16hashCode", desc := "(I[BII)I" } : Jvm.MethodName)) ∈ lw_all := lw_g (lw_at lw_m7 92 rfl) rfl
theorem q1680 : (Jvm.Cond.code ({ cls := "jdk/internal/util/ArraysSupport", name := "utf16hashCode", desc := "(I[BII)I" } : Jvm.MethodName) prog_67_method_10_code (6 : Nat) (Option.some Jvm.ClassFile.FieldType.int)) ∈ lw_all := lw_g (lw_at lw_m7 93 rfl) rfl
theorem q1681 : (Jvm.Cond.fieldLink "jdk/internal/util/ArraysSupport" (106 : Nat) "jdk/internal/util/ArraysSupport" "JLA" "Ljdk/internal/access/JavaLangAccess;") ∈ lw_all := lw_g (lw_at lw_m7 94 rfl) rfl
theorem q1682 : (Jvm.Cond.laysStatic "jdk/internal/util/ArraysSupport" "JLA" "Ljdk/internal/access/JavaLangAccess;") ∈ lw_tbl := lw_at lw_m7 95 rfl
theorem q1683 : (Jvm.Cond.interfaceEntry "jdk/internal/util/ArraysSupport" (110 : Nat)) ∈ lw_tbl := lw_at lw_m7 96 rfl
theorem q1684 : (Jvm.Cond.methodLink "jdk/internal/util/ArraysSupport" (110 : Nat) ({ cls := "jdk/internal/access/JavaLangAccess", name := "getUTF16Char", desc := "([BI)C" } : Jvm.MethodName)) ∈ lw_all := lw_g (lw_at lw_m7 97 rfl) rfl
theorem q1694 : (Jvm.Cond.classLink "jdk/internal/util/ArraysSupport" (69 : Nat) "[C") ∈ lw_all := lw_g (lw_at lw_m7 107 rfl) rfl
theorem q1695 : (Jvm.Cond.methodLink "jdk/internal/util/ArraysSupport" (71 : Nat) ({ cls := "jdk/internal/util/ArraysSupport", name := "hashCode", desc := "(I[CII)I" } : Jvm.MethodName)) ∈ lw_all := lw_g (lw_at lw_m7 108 rfl) rfl
theorem q1696 : (Jvm.Cond.static ({ cls := "jdk/internal/util/ArraysSupport", name := "hashCode", desc := "(I[CII)I" } : Jvm.MethodName)) ∈ lw_all := lw_g (lw_at lw_m7 109 rfl) rfl
theorem q1697 : (Jvm.Cond.code ({ cls := "jdk/internal/util/ArraysSupport", name := "hashCode", desc := "(I[CII)I" } : Jvm.MethodName) prog_67_method_7_code (6 : Nat) (Option.some Jvm.ClassFile.FieldType.int)) ∈ lw_all := lw_g (lw_at lw_m7 110 rfl) rfl
theorem q1698 : (Jvm.Cond.methodLink "jdk/internal/util/ArraysSupport" (75 : Nat) ({ cls := "jdk/internal/util/ArraysSupport", name := "hashCode", desc := "(I[BII)I" } : Jvm.MethodName)) ∈ lw_all := lw_g (lw_at lw_m7 111 rfl) rfl
theorem q1699 : (Jvm.Cond.static ({ cls := "jdk/internal/util/ArraysSupport", name := "hashCode", desc := "(I[BII)I" } : Jvm.MethodName)) ∈ lw_all := lw_g (lw_at lw_m7 112 rfl) rfl
theorem q1700 : (Jvm.Cond.code ({ cls := "jdk/internal/util/ArraysSupport", name := "hashCode", desc := "(I[BII)I" } : Jvm.MethodName) prog_67_method_6_code (6 : Nat) (Option.some Jvm.ClassFile.FieldType.int)) ∈ lw_all := lw_g (lw_at lw_m7 113 rfl) rfl
theorem q1701 : (Jvm.Cond.classLink "jdk/internal/util/ArraysSupport" (77 : Nat) "[S") ∈ lw_all := lw_g (lw_at lw_m7 114 rfl) rfl
theorem q1702 : (Jvm.Cond.methodLink "jdk/internal/util/ArraysSupport" (79 : Nat) ({ cls := "jdk/internal/util/ArraysSupport", name := "hashCode", desc := "(I[SII)I" } : Jvm.MethodName)) ∈ lw_all := lw_g (lw_at lw_m7 115 rfl) rfl
theorem q1703 : (Jvm.Cond.static ({ cls := "jdk/internal/util/ArraysSupport", name := "hashCode", desc := "(I[SII)I" } : Jvm.MethodName)) ∈ lw_all := lw_g (lw_at lw_m7 116 rfl) rfl
theorem q1704 : (Jvm.Cond.code ({ cls := "jdk/internal/util/ArraysSupport", name := "hashCode", desc := "(I[SII)I" } : Jvm.MethodName) prog_67_method_8_code (6 : Nat) (Option.some Jvm.ClassFile.FieldType.int)) ∈ lw_all := lw_g (lw_at lw_m7 117 rfl) rfl
theorem q1705 : (Jvm.Cond.classLink "jdk/internal/util/ArraysSupport" (82 : Nat) "[I") ∈ lw_all := lw_g (lw_at lw_m7 118 rfl) rfl
theorem q1706 : (Jvm.Cond.methodLink "jdk/internal/util/ArraysSupport" (84 : Nat) ({ cls := "jdk/internal/util/ArraysSupport", name := "hashCode", desc := "(I[III)I" } : Jvm.MethodName)) ∈ lw_all := lw_g (lw_at lw_m7 119 rfl) rfl
theorem q1707 : (Jvm.Cond.static ({ cls := "jdk/internal/util/ArraysSupport", name := "hashCode", desc := "(I[III)I" } : Jvm.MethodName)) ∈ lw_all := lw_g (lw_at lw_m7 120 rfl) rfl
theorem q1708 : (Jvm.Cond.code ({ cls := "jdk/internal/util/ArraysSupport", name := "hashCode", desc := "(I[III)I" } : Jvm.MethodName) prog_67_method_9_code (6 : Nat) (Option.some Jvm.ClassFile.FieldType.int)) ∈ lw_all := lw_g (lw_at lw_m7 121 rfl) rfl
theorem q1709 : (Jvm.Cond.classLink "jdk/internal/util/ArraysSupport" (87 : Nat) "java/lang/IllegalArgumentException") ∈ lw_all := lw_g (lw_at lw_m7 122 rfl) rfl
theorem q1710 : (Jvm.Cond.classLink "jdk/internal/util/ArraysSupport" (89 : Nat) "java/lang/StringBuilder") ∈ lw_all := lw_g (lw_at lw_m7 123 rfl) rfl
theorem q1711 : (Jvm.Cond.methodLink "jdk/internal/util/ArraysSupport" (91 : Nat) ({ cls := "java/lang/StringBuilder", name := "<init>", desc := "()V" } : Jvm.MethodName)) ∈ lw_all := lw_g (lw_at lw_m7 124 rfl) rfl
theorem q1712 : (Jvm.Cond.stringRef "jdk/internal/util/ArraysSupport" (92 : Nat) "unrecognized basic type: ") ∈ lw_tbl := lw_at lw_m7 125 rfl
theorem q1713 : (Jvm.Cond.methodLink "jdk/internal/util/ArraysSupport" (94 : Nat) ({ cls := "java/lang/StringBuilder", name := "append", desc := "(Ljava/lang/String;)Ljava/lang/StringBuilder;" } : Jvm.MethodName)) ∈ lw_all := lw_g (lw_at lw_m7 126 rfl) rfl
theorem q1714 : (Jvm.Cond.methodLink "jdk/internal/util/ArraysSupport" (98 : Nat) ({ cls := "java/lang/StringBuilder", name := "append", desc := "(I)Ljava/lang/StringBuilder;" } : Jvm.MethodName)) ∈ lw_all := lw_g (lw_at lw_m7 127 rfl) rfl
theorem q1715 : (Jvm.Cond.methodLink "jdk/internal/util/ArraysSupport" (101 : Nat) ({ cls := "java/lang/StringBuilder", name := "toString", desc := "()Ljava/lang/String;" } : Jvm.MethodName)) ∈ lw_all := lw_g (lw_at lw_m7 128 rfl) rfl
theorem q1716 : (Jvm.Cond.methodLink "jdk/internal/util/ArraysSupport" (105 : Nat) ({ cls := "java/lang/IllegalArgumentException", name := "<init>", desc := "(Ljava/lang/String;)V" } : Jvm.MethodName)) ∈ lw_all := lw_g (lw_at lw_m7 129 rfl) rfl
/-! java/lang/Math -/
def RJ5 : String := "java/lang/Math"
abbrev cJ5_max : ByteArray := prog_36_method_65_code
def yJ5_max : MethodName := ⟨RJ5, "max", "(II)I"⟩
abbrev cJ5_min : ByteArray := prog_36_method_69_code
def yJ5_min : MethodName := ⟨RJ5, "min", "(II)I"⟩
abbrev cJ5_abs : ByteArray := prog_36_method_59_code
def yJ5_abs : MethodName := ⟨RJ5, "abs", "(I)I"⟩
theorem q157 : (Jvm.Cond.initialized "java/lang/Math") ∈ lw_all := lw_g (lw_at lw_m1 10 rfl) rfl
theorem q392 : (Jvm.Cond.static ({ cls := "java/lang/Math", name := "max", desc := "(II)I" } : Jvm.MethodName)) ∈ lw_all := lw_g (lw_at lw_m2 5 rfl) rfl
theorem q393 : (Jvm.Cond.code ({ cls := "java/lang/Math", name := "max", desc := "(II)I" } : Jvm.MethodName) prog_36_method_65_code (2 : Nat) (Option.some Jvm.ClassFile.FieldType.int)) ∈ lw_all := lw_g (lw_at lw_m2 6 rfl) rfl
theorem q442 : (Jvm.Cond.static ({ cls := "java/lang/Math", name := "min", desc := "(II)I" } : Jvm.MethodName)) ∈ lw_all := lw_g (lw_at lw_m2 55 rfl) rfl
theorem q443 : (Jvm.Cond.code ({ cls := "java/lang/Math", name := "min", desc := "(II)I" } : Jvm.MethodName) prog_36_method_69_code (2 : Nat) (Option.some Jvm.ClassFile.FieldType.int)) ∈ lw_all := lw_g (lw_at lw_m2 56 rfl) rfl
theorem q970 : (Jvm.Cond.static ({ cls := "java/lang/Math", name := "abs", desc := "(I)I" } : Jvm.MethodName)) ∈ lw_all := lw_g (lw_at lw_m4 103 rfl) rfl
theorem q971 : (Jvm.Cond.code ({ cls := "java/lang/Math", name := "abs", desc := "(I)I" } : Jvm.MethodName) prog_36_method_59_code (1 : Nat) (Option.some Jvm.ClassFile.FieldType.int)) ∈ lw_all := lw_g (lw_at lw_m4 104 rfl) rfl
/-! java/util/Arrays -/
def RJ6 : String := "java/util/Arrays"
abbrev cJ6_copyOf : ByteArray := prog_56_method_119_code
def yJ6_copyOf : MethodName := ⟨RJ6, "copyOf", "([Ljava/lang/Object;I)[Ljava/lang/Object;"⟩
abbrev cJ6_copyOf_2 : ByteArray := prog_56_method_120_code
def yJ6_copyOf_2 : MethodName := ⟨RJ6, "copyOf", "([Ljava/lang/Object;ILjava/lang/Class;)[Ljava/lang/Object;"⟩
abbrev cJ6_copyOf_3 : ByteArray := prog_56_method_121_code
def yJ6_copyOf_3 : MethodName := ⟨RJ6, "copyOf", "([BI)[B"⟩
abbrev cJ6_copyOfRange : ByteArray := prog_56_method_132_code
def yJ6_copyOfRange : MethodName := ⟨RJ6, "copyOfRange", "([BII)[B"⟩
abbrev cJ6_copyOfRangeByte : ByteArray := prog_56_method_133_code
def yJ6_copyOfRangeByte : MethodName := ⟨RJ6, "copyOfRangeByte", "([BII)[B"⟩
abbrev cJ6_checkLength : ByteArray := prog_56_method_131_code
def yJ6_checkLength : MethodName := ⟨RJ6, "checkLength", "(II)V"⟩
abbrev cJ6_fill : ByteArray := prog_56_method_110_code
def yJ6_fill : MethodName := ⟨RJ6, "fill", "([BIIB)V"⟩
abbrev cJ6_rangeCheck : ByteArray := prog_56_method_30_code
def yJ6_rangeCheck : MethodName := ⟨RJ6, "rangeCheck", "(III)V"⟩
theorem q158 : (Jvm.Cond.initialized "java/util/Arrays") ∈ lw_all := lw_g (lw_at lw_m1 11 rfl) rfl
theorem q399 : (Jvm.Cond.static ({ cls := "java/util/Arrays", name := "copyOf", desc := "([Ljava/lang/Object;I)[Ljava/lang/Object;" } : Jvm.MethodName)) ∈ lw_all := lw_g (lw_at lw_m2 12 rfl) rfl
theorem q400 : (Jvm.Cond.code ({ cls := "java/util/Arrays", name := "copyOf", desc := "([Ljava/lang/Object;I)[Ljava/lang/Object;" } : Jvm.MethodName) prog_56_method_119_code (2 : Nat) (Option.some (Jvm.ClassFile.FieldType.array (Jvm.ClassFile.FieldType.object "java/lang/Object")))) ∈ lw_all := lw_g (lw_at lw_m2 13 rfl) rfl
theorem q401 : (Jvm.Cond.methodLink "java/util/Arrays" (86 : Nat) ({ cls := "java/lang/Object", name := "getClass", desc := "()Ljava/lang/Class;" } : Jvm.MethodName)) ∈ lw_all := lw_g (lw_at lw_m2 14 rfl) rfl
theorem q435 : (Jvm.Cond.methodLink "java/util/Arrays" (300 : Nat) ({ cls := "java/util/Arrays", name := "copyOf", desc := "([Ljava/lang/Object;ILjava/lang/Class;)[Ljava/lang/Object;" } : Jvm.MethodName)) ∈ lw_all := lw_g (lw_at lw_m2 48 rfl) rfl
theorem q436 : (Jvm.Cond.static ({ cls := "java/util/Arrays", name := "copyOf", desc := "([Ljava/lang/Object;ILjava/lang/Class;)[Ljava/lang/Object;" } : Jvm.MethodName)) ∈ lw_all := lw_g (lw_at lw_m2 49 rfl) rfl
theorem q437 : (Jvm.Cond.code ({ cls := "java/util/Arrays", name := "copyOf", desc := "([Ljava/lang/Object;ILjava/lang/Class;)[Ljava/lang/Object;" } : Jvm.MethodName) prog_56_method_120_code (4 : Nat) (Option.some (Jvm.ClassFile.FieldType.array (Jvm.ClassFile.FieldType.object "java/lang/Object")))) ∈ lw_all := lw_g (lw_at lw_m2 50 rfl) rfl
theorem q438 : (Jvm.Cond.classLink "java/util/Arrays" (110 : Nat) "[Ljava/lang/Object;") ∈ lw_all := lw_g (lw_at lw_m2 51 rfl) rfl
theorem q440 : (Jvm.Cond.classLink "java/util/Arrays" (2 : Nat) "java/lang/Object") ∈ lw_all := lw_g (lw_at lw_m2 53 rfl) rfl
theorem q441 : (Jvm.Cond.methodLink "java/util/Arrays" (304 : Nat) ({ cls := "java/lang/Math", name := "min", desc := "(II)I" } : Jvm.MethodName)) ∈ lw_all := lw_g (lw_at lw_m2 54 rfl) rfl
theorem q444 : (Jvm.Cond.methodLink "java/util/Arrays" (150 : Nat) ({ cls := "java/lang/System", name := "arraycopy", desc := "(Ljava/lang/Object;ILjava/lang/Object;II)V" } : Jvm.MethodName)) ∈ lw_all := lw_g (lw_at lw_m2 57 rfl) rfl
theorem q616 : (Jvm.Cond.static ({ cls := "java/util/Arrays", name := "copyOf", desc := "([BI)[B" } : Jvm.MethodName)) ∈ lw_all := lw_g (lw_at lw_m2 229 rfl) rfl
theorem q617 : (Jvm.Cond.code ({ cls := "java/util/Arrays", name := "copyOf", desc := "([BI)[B" } : Jvm.MethodName) prog_56_method_121_code (3 : Nat) (Option.some (Jvm.ClassFile.FieldType.array Jvm.ClassFile.FieldType.byte))) ∈ lw_all := lw_g (lw_at lw_m2 230 rfl) rfl
theorem q618 : (Jvm.Cond.methodLink "java/util/Arrays" (310 : Nat) ({ cls := "[B", name := "clone", desc := "()Ljava/lang/Object;" } : Jvm.MethodName)) ∈ lw_all := lw_g (lw_at lw_m2 231 rfl) rfl
theorem q624 : (Jvm.Cond.classLink "java/util/Arrays" (311 : Nat) "[B") ∈ lw_all := lw_g (lw_at lw_m2 237 rfl) rfl
theorem q706 : (Jvm.Cond.static ({ cls := "java/util/Arrays", name := "copyOfRange", desc := "([BII)[B" } : Jvm.MethodName)) ∈ lw_all := lw_g (lw_at lw_m3 79 rfl) rfl
theorem q707 : (Jvm.Cond.code ({ cls := "java/util/Arrays", name := "copyOfRange", desc := "([BII)[B" } : Jvm.MethodName) prog_56_method_132_code (3 : Nat) (Option.some (Jvm.ClassFile.FieldType.array Jvm.ClassFile.FieldType.byte))) ∈ lw_all := lw_g (lw_at lw_m3 80 rfl) rfl
theorem q708 : (Jvm.Cond.methodLink "java/util/Arrays" (339 : Nat) ({ cls := "java/util/Arrays", name := "copyOfRangeByte", desc := "([BII)[B" } : Jvm.MethodName)) ∈ lw_all := lw_g (lw_at lw_m3 81 rfl) rfl
theorem q709 : (Jvm.Cond.static ({ cls := "java/util/Arrays", name := "copyOfRangeByte", desc := "([BII)[B" } : Jvm.MethodName)) ∈ lw_all := lw_g (lw_at lw_m3 82 rfl) rfl
theorem q710 : (Jvm.Cond.code ({ cls := "java/util/Arrays", name := "copyOfRangeByte", desc := "([BII)[B" } : Jvm.MethodName) prog_56_method_133_code (5 : Nat) (Option.some (Jvm.ClassFile.FieldType.array Jvm.ClassFile.FieldType.byte))) ∈ lw_all := lw_g (lw_at lw_m3 83 rfl) rfl
theorem q711 : (Jvm.Cond.methodLink "java/util/Arrays" (343 : Nat) ({ cls := "java/util/Arrays", name := "checkLength", desc := "(II)V" } : Jvm.MethodName)) ∈ lw_all := lw_g (lw_at lw_m3 84 rfl) rfl
theorem q712 : (Jvm.Cond.static ({ cls := "java/util/Arrays", name := "checkLength", desc := "(II)V" } : Jvm.MethodName)) ∈ lw_all := lw_g (lw_at lw_m3 85 rfl) rfl
theorem q713 : (Jvm.Cond.code ({ cls := "java/util/Arrays", name := "checkLength", desc := "(II)V" } : Jvm.MethodName) prog_56_method_131_code (2 : Nat) (Option.none : Option Jvm.ClassFile.FieldType)) ∈ lw_all := lw_g (lw_at lw_m3 86 rfl) rfl
theorem q714 : (Jvm.Cond.classLink "java/util/Arrays" (43 : Nat) "java/lang/IllegalArgumentException") ∈ lw_all := lw_g (lw_at lw_m3 87 rfl) rfl
theorem q760 : (Jvm.Cond.classLink "java/util/Arrays" (45 : Nat) "java/lang/StringBuilder") ∈ lw_all := lw_g (lw_at lw_m3 133 rfl) rfl
theorem q761 : (Jvm.Cond.methodLink "java/util/Arrays" (47 : Nat) ({ cls := "java/lang/StringBuilder", name := "<init>", desc := "()V" } : Jvm.MethodName)) ∈ lw_all := lw_g (lw_at lw_m3 134 rfl) rfl
theorem q762 : (Jvm.Cond.methodLink "java/util/Arrays" (54 : Nat) ({ cls := "java/lang/StringBuilder", name := "append", desc := "(I)Ljava/lang/StringBuilder;" } : Jvm.MethodName)) ∈ lw_all := lw_g (lw_at lw_m3 135 rfl) rfl
theorem q796 : (Jvm.Cond.stringRef "java/util/Arrays" (337 : Nat) " > ") ∈ lw_tbl := lw_at lw_m3 169 rfl
theorem q797 : (Jvm.Cond.methodLink "java/util/Arrays" (50 : Nat) ({ cls := "java/lang/StringBuilder", name := "append", desc := "(Ljava/lang/String;)Ljava/lang/StringBuilder;" } : Jvm.MethodName)) ∈ lw_all := lw_g (lw_at lw_m3 170 rfl) rfl
theorem q835 : (Jvm.Cond.methodLink "java/util/Arrays" (61 : Nat) ({ cls := "java/lang/StringBuilder", name := "toString", desc := "()Ljava/lang/String;" } : Jvm.MethodName)) ∈ lw_all := lw_g (lw_at lw_m3 208 rfl) rfl
theorem q836 : (Jvm.Cond.methodLink "java/util/Arrays" (65 : Nat) ({ cls := "java/lang/IllegalArgumentException", name := "<init>", desc := "(Ljava/lang/String;)V" } : Jvm.MethodName)) ∈ lw_all := lw_g (lw_at lw_m3 209 rfl) rfl
theorem q1306 : (Jvm.Cond.static ({ cls := "java/util/Arrays", name := "fill", desc := "([BIIB)V" } : Jvm.MethodName)) ∈ lw_all := lw_g (lw_at lw_m5 199 rfl) rfl
theorem q1307 : (Jvm.Cond.code ({ cls := "java/util/Arrays", name := "fill", desc := "([BIIB)V" } : Jvm.MethodName) prog_56_method_110_code (5 : Nat) (Option.none : Option Jvm.ClassFile.FieldType)) ∈ lw_all := lw_g (lw_at lw_m5 200 rfl) rfl
theorem q1308 : (Jvm.Cond.methodLink "java/util/Arrays" (13 : Nat) ({ cls := "java/util/Arrays", name := "rangeCheck", desc := "(III)V" } : Jvm.MethodName)) ∈ lw_all := lw_g (lw_at lw_m5 201 rfl) rfl
theorem q1309 : (Jvm.Cond.static ({ cls := "java/util/Arrays", name := "rangeCheck", desc := "(III)V" } : Jvm.MethodName)) ∈ lw_all := lw_g (lw_at lw_m5 202 rfl) rfl
theorem q1310 : (Jvm.Cond.code ({ cls := "java/util/Arrays", name := "rangeCheck", desc := "(III)V" } : Jvm.MethodName) prog_56_method_30_code (3 : Nat) (Option.none : Option Jvm.ClassFile.FieldType)) ∈ lw_all := lw_g (lw_at lw_m5 203 rfl) rfl
theorem q1311 : (Jvm.Cond.stringRef "java/util/Arrays" (48 : Nat) "fromIndex(") ∈ lw_tbl := lw_at lw_m5 204 rfl
theorem q1312 : (Jvm.Cond.stringRef "java/util/Arrays" (57 : Nat) ") > toIndex(") ∈ lw_tbl := lw_at lw_m5 205 rfl
theorem q1313 : (Jvm.Cond.stringRef "java/util/Arrays" (59 : Nat) ")") ∈ lw_tbl := lw_at lw_m5 206 rfl
theorem q1314 : (Jvm.Cond.classLink "java/util/Arrays" (68 : Nat) "java/lang/ArrayIndexOutOfBoundsException") ∈ lw_all := lw_g (lw_at lw_m5 207 rfl) rfl
theorem q1325 : (Jvm.Cond.methodLink "java/util/Arrays" (70 : Nat) ({ cls := "java/lang/ArrayIndexOutOfBoundsException", name := "<init>", desc := "(I)V" } : Jvm.MethodName)) ∈ lw_all := lw_g (lw_at lw_m5 218 rfl) rfl
/-! LawnPaths$Walker -/
def RX5 : String := "LawnPaths$Walker"
def TX5 : u_T := fun k => match k with
  | 0 => ("LawnPaths$Walker", "name", "Ljava/lang/String;", true)
  | 1 => ("LawnPaths$Walker", "period", "I", true)
  | 2 => ("LawnPaths$Walker", "from", "I", false)
  | 3 => ("LawnPaths$Walker", "to", "I", false)
  | 4 => ("LawnPaths$Walker", "haste", "I", false)
  | 5 => ("LawnPaths$Walker", "walks", "I", false)
  | _ => ("LawnPaths$Walker", "steps", "I", false)
def tyX5 : Nat → FieldType := fun k => match k with
  | 0 => .object "java/lang/String"
  | 1 => .int
  | 2 => .int
  | 3 => .int
  | 4 => .int
  | 5 => .int
  | _ => .int
abbrev wsX50 : List Cond := u_ws RX5 TX5 7
theorem nmX5 : ∀ a, a < 7 → ∀ b, b < 7 → a ≠ b → (TX5 a).2.1 ≠ (TX5 b).2.1 := by decide +kernel
theorem tyX5_ok : ∀ k, k < 7 → parseFieldDescriptor (TX5 k).2.2.1 = some (tyX5 k) := by decide +kernel
abbrev cX5_init : ByteArray := prog_18_method_1_code
def yX5_init : MethodName := ⟨RX5, "<init>", "(Ljava/lang/String;IIII)V"⟩
abbrev cX5_name : ByteArray := prog_18_method_3_code
def yX5_name : MethodName := ⟨RX5, "name", "()Ljava/lang/String;"⟩
abbrev cX5_copy : ByteArray := prog_18_method_2_code
def yX5_copy : MethodName := ⟨RX5, "copy", "()LLawnPaths$Walker;"⟩
abbrev cX5_walksOn : ByteArray := prog_18_method_4_code
def yX5_walksOn : MethodName := ⟨RX5, "walksOn", "(I)Z"⟩
theorem q160 : (Jvm.Cond.initialized "LawnPaths$Walker") ∈ lw_all := lw_g (lw_at lw_m1 13 rfl) rfl
theorem q418 : (Jvm.Cond.selects "LawnPaths$Walker" ({ cls := "java/lang/Object", name := "getClass", desc := "()Ljava/lang/Class;" } : Jvm.MethodName) ({ cls := "java/lang/Object", name := "getClass", desc := "()Ljava/lang/Class;" } : Jvm.MethodName)) ∈ lw_all := lw_g (lw_at lw_m2 31 rfl) rfl
theorem q452 : (Jvm.Cond.instantiable "LawnPaths$Walker" (7 : Nat)) ∈ lw_all := lw_g (lw_at lw_m2 65 rfl) rfl
theorem q455 : (Jvm.Cond.instanceMethod ({ cls := "LawnPaths$Walker", name := "<init>", desc := "(Ljava/lang/String;IIII)V" } : Jvm.MethodName)) ∈ lw_all := lw_g (lw_at lw_m2 68 rfl) rfl
theorem q456 : (Jvm.Cond.code ({ cls := "LawnPaths$Walker", name := "<init>", desc := "(Ljava/lang/String;IIII)V" } : Jvm.MethodName) prog_18_method_1_code (6 : Nat) (Option.none : Option Jvm.ClassFile.FieldType)) ∈ lw_all := lw_g (lw_at lw_m2 69 rfl) rfl
theorem q457 : (Jvm.Cond.methodLink "LawnPaths$Walker" (1 : Nat) ({ cls := "java/lang/Object", name := "<init>", desc := "()V" } : Jvm.MethodName)) ∈ lw_all := lw_g (lw_at lw_m2 70 rfl) rfl
theorem q458 : (Jvm.Cond.fieldLink "LawnPaths$Walker" (7 : Nat) "LawnPaths$Walker" "name" "Ljava/lang/String;") ∈ lw_all := lw_g (lw_at lw_m2 71 rfl) rfl
theorem q460 : (Jvm.Cond.fieldLink "LawnPaths$Walker" (23 : Nat) "LawnPaths$Walker" "period" "I") ∈ lw_all := lw_g (lw_at lw_m2 73 rfl) rfl
theorem q462 : (Jvm.Cond.fieldLink "LawnPaths$Walker" (13 : Nat) "LawnPaths$Walker" "from" "I") ∈ lw_all := lw_g (lw_at lw_m2 75 rfl) rfl
theorem q466 : (Jvm.Cond.fieldLink "LawnPaths$Walker" (17 : Nat) "LawnPaths$Walker" "to" "I") ∈ lw_all := lw_g (lw_at lw_m2 79 rfl) rfl
theorem q470 : (Jvm.Cond.fieldLink "LawnPaths$Walker" (20 : Nat) "LawnPaths$Walker" "haste" "I") ∈ lw_all := lw_g (lw_at lw_m2 83 rfl) rfl
theorem q473 : (Jvm.Cond.fieldLink "LawnPaths$Walker" (29 : Nat) "LawnPaths$Walker" "walks" "I") ∈ lw_all := lw_g (lw_at lw_m2 86 rfl) rfl
theorem q476 : (Jvm.Cond.fieldLink "LawnPaths$Walker" (32 : Nat) "LawnPaths$Walker" "steps" "I") ∈ lw_all := lw_g (lw_at lw_m2 89 rfl) rfl
theorem q479 : (Jvm.Cond.laysFinal "LawnPaths$Walker" "LawnPaths$Walker" "name" "Ljava/lang/String;") ∈ lw_all := lw_g (lw_at lw_m2 92 rfl) rfl
theorem q480 : (Jvm.Cond.soleField "LawnPaths$Walker" "name") ∈ lw_all := lw_g (lw_at lw_m2 93 rfl) rfl
theorem q481 : (Jvm.Cond.laysFinal "LawnPaths$Walker" "LawnPaths$Walker" "period" "I") ∈ lw_all := lw_g (lw_at lw_m2 94 rfl) rfl
theorem q482 : (Jvm.Cond.soleField "LawnPaths$Walker" "period") ∈ lw_all := lw_g (lw_at lw_m2 95 rfl) rfl
theorem q483 : (Jvm.Cond.lays "LawnPaths$Walker" "LawnPaths$Walker" "from" "I") ∈ lw_all := lw_g (lw_at lw_m2 96 rfl) rfl
theorem q484 : (Jvm.Cond.soleField "LawnPaths$Walker" "from") ∈ lw_all := lw_g (lw_at lw_m2 97 rfl) rfl
theorem q485 : (Jvm.Cond.lays "LawnPaths$Walker" "LawnPaths$Walker" "to" "I") ∈ lw_all := lw_g (lw_at lw_m2 98 rfl) rfl
theorem q486 : (Jvm.Cond.soleField "LawnPaths$Walker" "to") ∈ lw_all := lw_g (lw_at lw_m2 99 rfl) rfl
theorem q487 : (Jvm.Cond.lays "LawnPaths$Walker" "LawnPaths$Walker" "haste" "I") ∈ lw_all := lw_g (lw_at lw_m2 100 rfl) rfl
theorem q488 : (Jvm.Cond.soleField "LawnPaths$Walker" "haste") ∈ lw_all := lw_g (lw_at lw_m2 101 rfl) rfl
theorem q489 : (Jvm.Cond.lays "LawnPaths$Walker" "LawnPaths$Walker" "walks" "I") ∈ lw_all := lw_g (lw_at lw_m2 102 rfl) rfl
theorem q490 : (Jvm.Cond.soleField "LawnPaths$Walker" "walks") ∈ lw_all := lw_g (lw_at lw_m2 103 rfl) rfl
theorem q491 : (Jvm.Cond.lays "LawnPaths$Walker" "LawnPaths$Walker" "steps" "I") ∈ lw_all := lw_g (lw_at lw_m2 104 rfl) rfl
theorem q492 : (Jvm.Cond.soleField "LawnPaths$Walker" "steps") ∈ lw_all := lw_g (lw_at lw_m2 105 rfl) rfl
theorem q493 : (Jvm.Cond.superclass "LawnPaths$Walker" "java/lang/Object") ∈ lw_all := lw_g (lw_at lw_m2 106 rfl) rfl
theorem q936 : (Jvm.Cond.castable "LawnPaths$Walker" "LawnPaths$Named") ∈ lw_tbl := lw_at lw_m4 69 rfl
theorem q937 : (Jvm.Cond.selects "LawnPaths$Walker" ({ cls := "LawnPaths$Named", name := "name", desc := "()Ljava/lang/String;" } : Jvm.MethodName) ({ cls := "LawnPaths$Walker", name := "name", desc := "()Ljava/lang/String;" } : Jvm.MethodName)) ∈ lw_all := lw_g (lw_at lw_m4 70 rfl) rfl
theorem q938 : (Jvm.Cond.unhidden "LawnPaths$Walker" "name" "()Ljava/lang/String;") ∈ lw_tbl := lw_at lw_m4 71 rfl
theorem q939 : (Jvm.Cond.instanceMethod ({ cls := "LawnPaths$Walker", name := "name", desc := "()Ljava/lang/String;" } : Jvm.MethodName)) ∈ lw_all := lw_g (lw_at lw_m4 72 rfl) rfl
theorem q940 : (Jvm.Cond.publicMethod ({ cls := "LawnPaths$Walker", name := "name", desc := "()Ljava/lang/String;" } : Jvm.MethodName)) ∈ lw_tbl := lw_at lw_m4 73 rfl
theorem q941 : (Jvm.Cond.code ({ cls := "LawnPaths$Walker", name := "name", desc := "()Ljava/lang/String;" } : Jvm.MethodName) prog_18_method_3_code (1 : Nat) (Option.some (Jvm.ClassFile.FieldType.object "java/lang/String"))) ∈ lw_all := lw_g (lw_at lw_m4 74 rfl) rfl
theorem q1405 : (Jvm.Cond.instanceMethod ({ cls := "LawnPaths$Walker", name := "copy", desc := "()LLawnPaths$Walker;" } : Jvm.MethodName)) ∈ lw_all := lw_g (lw_at lw_m6 58 rfl) rfl
theorem q1406 : (Jvm.Cond.selects "LawnPaths$Walker" ({ cls := "LawnPaths$Walker", name := "copy", desc := "()LLawnPaths$Walker;" } : Jvm.MethodName) ({ cls := "LawnPaths$Walker", name := "copy", desc := "()LLawnPaths$Walker;" } : Jvm.MethodName)) ∈ lw_all := lw_g (lw_at lw_m6 59 rfl) rfl
theorem q1407 : (Jvm.Cond.code ({ cls := "LawnPaths$Walker", name := "copy", desc := "()LLawnPaths$Walker;" } : Jvm.MethodName) prog_18_method_2_code (2 : Nat) (Option.some (Jvm.ClassFile.FieldType.object "LawnPaths$Walker"))) ∈ lw_all := lw_g (lw_at lw_m6 60 rfl) rfl
theorem q1408 : (Jvm.Cond.classLink "LawnPaths$Walker" (8 : Nat) "LawnPaths$Walker") ∈ lw_all := lw_g (lw_at lw_m6 61 rfl) rfl
theorem q1409 : (Jvm.Cond.methodLink "LawnPaths$Walker" (26 : Nat) ({ cls := "LawnPaths$Walker", name := "<init>", desc := "(Ljava/lang/String;IIII)V" } : Jvm.MethodName)) ∈ lw_all := lw_g (lw_at lw_m6 62 rfl) rfl
theorem q1778 : (Jvm.Cond.instanceMethod ({ cls := "LawnPaths$Walker", name := "walksOn", desc := "(I)Z" } : Jvm.MethodName)) ∈ lw_all := lw_g (lw_at lw_m7 191 rfl) rfl
theorem q1779 : (Jvm.Cond.selects "LawnPaths$Walker" ({ cls := "LawnPaths$Walker", name := "walksOn", desc := "(I)Z" } : Jvm.MethodName) ({ cls := "LawnPaths$Walker", name := "walksOn", desc := "(I)Z" } : Jvm.MethodName)) ∈ lw_all := lw_g (lw_at lw_m7 192 rfl) rfl
theorem q1780 : (Jvm.Cond.code ({ cls := "LawnPaths$Walker", name := "walksOn", desc := "(I)Z" } : Jvm.MethodName) prog_18_method_4_code (2 : Nat) (Option.some Jvm.ClassFile.FieldType.boolean)) ∈ lw_all := lw_g (lw_at lw_m7 193 rfl) rfl
theorem q2975 : (Jvm.Cond.castable "LawnPaths$Walker" "java/lang/Object") ∈ lw_tbl := lw_at lw_m12 188 rfl
theorem in_X5 : ∀ w ∈ wsX50, w ∈ lw_all := lw_in wsX50 [479, 481, 483, 485, 487, 489, 491] (by decide +kernel) (by decide +kernel)
/-! java/util/ArrayDeque -/
def RJ7 : String := "java/util/ArrayDeque"
def TJ7 : u_T := fun k => match k with
  | 0 => ("java/util/ArrayDeque", "elements", "[Ljava/lang/Object;", false)
  | 1 => ("java/util/ArrayDeque", "head", "I", false)
  | _ => ("java/util/ArrayDeque", "tail", "I", false)
def tyJ7 : Nat → FieldType := fun k => match k with
  | 0 => .array (.object "java/lang/Object")
  | 1 => .int
  | _ => .int
abbrev wsJ70 : List Cond := u_ws RJ7 TJ7 3
theorem nmJ7 : ∀ a, a < 3 → ∀ b, b < 3 → a ≠ b → (TJ7 a).2.1 ≠ (TJ7 b).2.1 := by decide +kernel
theorem tyJ7_ok : ∀ k, k < 3 → parseFieldDescriptor (TJ7 k).2.2.1 = some (tyJ7 k) := by decide +kernel
abbrev cJ7_init : ByteArray := prog_52_method_4_code
def yJ7_init : MethodName := ⟨RJ7, "<init>", "(I)V"⟩
abbrev cJ7_iterator : ByteArray := prog_52_method_39_code
def yJ7_iterator : MethodName := ⟨RJ7, "iterator", "()Ljava/util/Iterator;"⟩
abbrev cJ7_size : ByteArray := prog_52_method_37_code
def yJ7_size : MethodName := ⟨RJ7, "size", "()I"⟩
abbrev cJ7_sub : ByteArray := prog_52_method_9_code
def yJ7_sub : MethodName := ⟨RJ7, "sub", "(III)I"⟩
abbrev cJ7_nonNullElementAt : ByteArray := prog_52_method_11_code
def yJ7_nonNullElementAt : MethodName := ⟨RJ7, "nonNullElementAt", "([Ljava/lang/Object;I)Ljava/lang/Object;"⟩
abbrev cJ7_inc : ByteArray := prog_52_method_6_code
def yJ7_inc : MethodName := ⟨RJ7, "inc", "(II)I"⟩
abbrev cJ7_isEmpty : ByteArray := prog_52_method_38_code
def yJ7_isEmpty : MethodName := ⟨RJ7, "isEmpty", "()Z"⟩
abbrev cJ7_removeLast : ByteArray := prog_52_method_19_code
def yJ7_removeLast : MethodName := ⟨RJ7, "removeLast", "()Ljava/lang/Object;"⟩
abbrev cJ7_pollLast : ByteArray := prog_52_method_21_code
def yJ7_pollLast : MethodName := ⟨RJ7, "pollLast", "()Ljava/lang/Object;"⟩
abbrev cJ7_dec : ByteArray := prog_52_method_7_code
def yJ7_dec : MethodName := ⟨RJ7, "dec", "(II)I"⟩
abbrev cJ7_elementAt : ByteArray := prog_52_method_10_code
def yJ7_elementAt : MethodName := ⟨RJ7, "elementAt", "([Ljava/lang/Object;I)Ljava/lang/Object;"⟩
abbrev cJ7_clear : ByteArray := prog_52_method_53_code
def yJ7_clear : MethodName := ⟨RJ7, "clear", "()V"⟩
abbrev cJ7_circularClear : ByteArray := prog_52_method_54_code
def yJ7_circularClear : MethodName := ⟨RJ7, "circularClear", "([Ljava/lang/Object;II)V"⟩
abbrev cJ7_removeFirst : ByteArray := prog_52_method_18_code
def yJ7_removeFirst : MethodName := ⟨RJ7, "removeFirst", "()Ljava/lang/Object;"⟩
abbrev cJ7_pollFirst : ByteArray := prog_52_method_20_code
def yJ7_pollFirst : MethodName := ⟨RJ7, "pollFirst", "()Ljava/lang/Object;"⟩
abbrev cJ7_addLast : ByteArray := prog_52_method_13_code
def yJ7_addLast : MethodName := ⟨RJ7, "addLast", "(Ljava/lang/Object;)V"⟩
abbrev cJ7_grow : ByteArray := prog_52_method_1_code
def yJ7_grow : MethodName := ⟨RJ7, "grow", "(I)V"⟩
abbrev cJ7_newCapacity : ByteArray := prog_52_method_2_code
def yJ7_newCapacity : MethodName := ⟨RJ7, "newCapacity", "(II)I"⟩
theorem q161 : (Jvm.Cond.initialized "java/util/ArrayDeque") ∈ lw_all := lw_g (lw_at lw_m1 14 rfl) rfl
theorem q429 : (Jvm.Cond.selects "java/util/ArrayDeque" ({ cls := "java/lang/Object", name := "getClass", desc := "()Ljava/lang/Class;" } : Jvm.MethodName) ({ cls := "java/lang/Object", name := "getClass", desc := "()Ljava/lang/Class;" } : Jvm.MethodName)) ∈ lw_all := lw_g (lw_at lw_m2 42 rfl) rfl
theorem q501 : (Jvm.Cond.instantiable "java/util/ArrayDeque" (3 : Nat)) ∈ lw_all := lw_g (lw_at lw_m2 114 rfl) rfl
theorem q503 : (Jvm.Cond.instanceMethod ({ cls := "java/util/ArrayDeque", name := "<init>", desc := "(I)V" } : Jvm.MethodName)) ∈ lw_all := lw_g (lw_at lw_m2 116 rfl) rfl
theorem q504 : (Jvm.Cond.code ({ cls := "java/util/ArrayDeque", name := "<init>", desc := "(I)V" } : Jvm.MethodName) prog_52_method_4_code (2 : Nat) (Option.none : Option Jvm.ClassFile.FieldType)) ∈ lw_all := lw_g (lw_at lw_m2 117 rfl) rfl
theorem q505 : (Jvm.Cond.methodLink "java/util/ArrayDeque" (42 : Nat) ({ cls := "java/util/AbstractCollection", name := "<init>", desc := "()V" } : Jvm.MethodName)) ∈ lw_all := lw_g (lw_at lw_m2 118 rfl) rfl
theorem q506 : (Jvm.Cond.constant "java/util/ArrayDeque" (41 : Nat) (2147483647 : Int32)) ∈ lw_all := lw_g (lw_at lw_m2 119 rfl) rfl
theorem q507 : (Jvm.Cond.classLink "java/util/ArrayDeque" (47 : Nat) "java/lang/Object") ∈ lw_all := lw_g (lw_at lw_m2 120 rfl) rfl
theorem q508 : (Jvm.Cond.fieldLink "java/util/ArrayDeque" (3 : Nat) "java/util/ArrayDeque" "elements" "[Ljava/lang/Object;") ∈ lw_all := lw_g (lw_at lw_m2 121 rfl) rfl
theorem q511 : (Jvm.Cond.fieldLink "java/util/ArrayDeque" (24 : Nat) "java/util/ArrayDeque" "head" "I") ∈ lw_all := lw_g (lw_at lw_m2 124 rfl) rfl
theorem q512 : (Jvm.Cond.fieldLink "java/util/ArrayDeque" (20 : Nat) "java/util/ArrayDeque" "tail" "I") ∈ lw_all := lw_g (lw_at lw_m2 125 rfl) rfl
theorem q513 : (Jvm.Cond.lays "java/util/ArrayDeque" "java/util/ArrayDeque" "elements" "[Ljava/lang/Object;") ∈ lw_all := lw_g (lw_at lw_m2 126 rfl) rfl
theorem q514 : (Jvm.Cond.soleField "java/util/ArrayDeque" "elements") ∈ lw_all := lw_g (lw_at lw_m2 127 rfl) rfl
theorem q515 : (Jvm.Cond.lays "java/util/ArrayDeque" "java/util/ArrayDeque" "head" "I") ∈ lw_all := lw_g (lw_at lw_m2 128 rfl) rfl
theorem q516 : (Jvm.Cond.soleField "java/util/ArrayDeque" "head") ∈ lw_all := lw_g (lw_at lw_m2 129 rfl) rfl
theorem q517 : (Jvm.Cond.lays "java/util/ArrayDeque" "java/util/ArrayDeque" "tail" "I") ∈ lw_all := lw_g (lw_at lw_m2 130 rfl) rfl
theorem q518 : (Jvm.Cond.soleField "java/util/ArrayDeque" "tail") ∈ lw_all := lw_g (lw_at lw_m2 131 rfl) rfl
theorem q519 : (Jvm.Cond.superclass "java/util/ArrayDeque" "java/util/AbstractCollection") ∈ lw_all := lw_g (lw_at lw_m2 132 rfl) rfl
theorem q1078 : (Jvm.Cond.castable "java/util/ArrayDeque" "java/lang/Iterable") ∈ lw_tbl := lw_at lw_m4 211 rfl
theorem q1079 : (Jvm.Cond.selects "java/util/ArrayDeque" ({ cls := "java/lang/Iterable", name := "iterator", desc := "()Ljava/util/Iterator;" } : Jvm.MethodName) ({ cls := "java/util/ArrayDeque", name := "iterator", desc := "()Ljava/util/Iterator;" } : Jvm.MethodName)) ∈ lw_all := lw_g (lw_at lw_m4 212 rfl) rfl
theorem q1080 : (Jvm.Cond.unhidden "java/util/ArrayDeque" "iterator" "()Ljava/util/Iterator;") ∈ lw_tbl := lw_at lw_m4 213 rfl
theorem q1081 : (Jvm.Cond.instanceMethod ({ cls := "java/util/ArrayDeque", name := "iterator", desc := "()Ljava/util/Iterator;" } : Jvm.MethodName)) ∈ lw_all := lw_g (lw_at lw_m4 214 rfl) rfl
theorem q1082 : (Jvm.Cond.publicMethod ({ cls := "java/util/ArrayDeque", name := "iterator", desc := "()Ljava/util/Iterator;" } : Jvm.MethodName)) ∈ lw_tbl := lw_at lw_m4 215 rfl
theorem q1083 : (Jvm.Cond.code ({ cls := "java/util/ArrayDeque", name := "iterator", desc := "()Ljava/util/Iterator;" } : Jvm.MethodName) prog_52_method_39_code (1 : Nat) (Option.some (Jvm.ClassFile.FieldType.object "java/util/Iterator"))) ∈ lw_all := lw_g (lw_at lw_m4 216 rfl) rfl
theorem q1084 : (Jvm.Cond.classLink "java/util/ArrayDeque" (131 : Nat) "java/util/ArrayDeque$DeqIterator") ∈ lw_all := lw_g (lw_at lw_m4 217 rfl) rfl
theorem q1086 : (Jvm.Cond.methodLink "java/util/ArrayDeque" (133 : Nat) ({ cls := "java/util/ArrayDeque$DeqIterator", name := "<init>", desc := "(Ljava/util/ArrayDeque;)V" } : Jvm.MethodName)) ∈ lw_all := lw_g (lw_at lw_m4 219 rfl) rfl
theorem q1091 : (Jvm.Cond.instanceMethod ({ cls := "java/util/ArrayDeque", name := "size", desc := "()I" } : Jvm.MethodName)) ∈ lw_all := lw_g (lw_at lw_m4 224 rfl) rfl
theorem q1092 : (Jvm.Cond.selects "java/util/ArrayDeque" ({ cls := "java/util/ArrayDeque", name := "size", desc := "()I" } : Jvm.MethodName) ({ cls := "java/util/ArrayDeque", name := "size", desc := "()I" } : Jvm.MethodName)) ∈ lw_all := lw_g (lw_at lw_m4 225 rfl) rfl
theorem q1093 : (Jvm.Cond.code ({ cls := "java/util/ArrayDeque", name := "size", desc := "()I" } : Jvm.MethodName) prog_52_method_37_code (1 : Nat) (Option.some Jvm.ClassFile.FieldType.int)) ∈ lw_all := lw_g (lw_at lw_m4 226 rfl) rfl
theorem q1094 : (Jvm.Cond.methodLink "java/util/ArrayDeque" (127 : Nat) ({ cls := "java/util/ArrayDeque", name := "sub", desc := "(III)I" } : Jvm.MethodName)) ∈ lw_all := lw_g (lw_at lw_m4 227 rfl) rfl
theorem q1095 : (Jvm.Cond.static ({ cls := "java/util/ArrayDeque", name := "sub", desc := "(III)I" } : Jvm.MethodName)) ∈ lw_all := lw_g (lw_at lw_m4 228 rfl) rfl
theorem q1096 : (Jvm.Cond.code ({ cls := "java/util/ArrayDeque", name := "sub", desc := "(III)I" } : Jvm.MethodName) prog_52_method_9_code (3 : Nat) (Option.some Jvm.ClassFile.FieldType.int)) ∈ lw_all := lw_g (lw_at lw_m4 229 rfl) rfl
theorem q1222 : (Jvm.Cond.static ({ cls := "java/util/ArrayDeque", name := "nonNullElementAt", desc := "([Ljava/lang/Object;I)Ljava/lang/Object;" } : Jvm.MethodName)) ∈ lw_all := lw_g (lw_at lw_m5 115 rfl) rfl
theorem q1223 : (Jvm.Cond.code ({ cls := "java/util/ArrayDeque", name := "nonNullElementAt", desc := "([Ljava/lang/Object;I)Ljava/lang/Object;" } : Jvm.MethodName) prog_52_method_11_code (3 : Nat) (Option.some (Jvm.ClassFile.FieldType.object "java/lang/Object"))) ∈ lw_all := lw_g (lw_at lw_m5 116 rfl) rfl
theorem q1225 : (Jvm.Cond.static ({ cls := "java/util/ArrayDeque", name := "inc", desc := "(II)I" } : Jvm.MethodName)) ∈ lw_all := lw_g (lw_at lw_m5 118 rfl) rfl
theorem q1226 : (Jvm.Cond.code ({ cls := "java/util/ArrayDeque", name := "inc", desc := "(II)I" } : Jvm.MethodName) prog_52_method_6_code (2 : Nat) (Option.some Jvm.ClassFile.FieldType.int)) ∈ lw_all := lw_g (lw_at lw_m5 119 rfl) rfl
theorem q1365 : (Jvm.Cond.instanceMethod ({ cls := "java/util/ArrayDeque", name := "isEmpty", desc := "()Z" } : Jvm.MethodName)) ∈ lw_all := lw_g (lw_at lw_m6 18 rfl) rfl
theorem q1366 : (Jvm.Cond.selects "java/util/ArrayDeque" ({ cls := "java/util/ArrayDeque", name := "isEmpty", desc := "()Z" } : Jvm.MethodName) ({ cls := "java/util/ArrayDeque", name := "isEmpty", desc := "()Z" } : Jvm.MethodName)) ∈ lw_all := lw_g (lw_at lw_m6 19 rfl) rfl
theorem q1367 : (Jvm.Cond.code ({ cls := "java/util/ArrayDeque", name := "isEmpty", desc := "()Z" } : Jvm.MethodName) prog_52_method_38_code (1 : Nat) (Option.some Jvm.ClassFile.FieldType.boolean)) ∈ lw_all := lw_g (lw_at lw_m6 20 rfl) rfl
theorem q1369 : (Jvm.Cond.instanceMethod ({ cls := "java/util/ArrayDeque", name := "removeLast", desc := "()Ljava/lang/Object;" } : Jvm.MethodName)) ∈ lw_all := lw_g (lw_at lw_m6 22 rfl) rfl
theorem q1370 : (Jvm.Cond.selects "java/util/ArrayDeque" ({ cls := "java/util/ArrayDeque", name := "removeLast", desc := "()Ljava/lang/Object;" } : Jvm.MethodName) ({ cls := "java/util/ArrayDeque", name := "removeLast", desc := "()Ljava/lang/Object;" } : Jvm.MethodName)) ∈ lw_all := lw_g (lw_at lw_m6 23 rfl) rfl
theorem q1371 : (Jvm.Cond.code ({ cls := "java/util/ArrayDeque", name := "removeLast", desc := "()Ljava/lang/Object;" } : Jvm.MethodName) prog_52_method_19_code (2 : Nat) (Option.some (Jvm.ClassFile.FieldType.object "java/lang/Object"))) ∈ lw_all := lw_g (lw_at lw_m6 24 rfl) rfl
theorem q1372 : (Jvm.Cond.methodLink "java/util/ArrayDeque" (100 : Nat) ({ cls := "java/util/ArrayDeque", name := "pollLast", desc := "()Ljava/lang/Object;" } : Jvm.MethodName)) ∈ lw_all := lw_g (lw_at lw_m6 25 rfl) rfl
theorem q1373 : (Jvm.Cond.instanceMethod ({ cls := "java/util/ArrayDeque", name := "pollLast", desc := "()Ljava/lang/Object;" } : Jvm.MethodName)) ∈ lw_all := lw_g (lw_at lw_m6 26 rfl) rfl
theorem q1374 : (Jvm.Cond.selects "java/util/ArrayDeque" ({ cls := "java/util/ArrayDeque", name := "pollLast", desc := "()Ljava/lang/Object;" } : Jvm.MethodName) ({ cls := "java/util/ArrayDeque", name := "pollLast", desc := "()Ljava/lang/Object;" } : Jvm.MethodName)) ∈ lw_all := lw_g (lw_at lw_m6 27 rfl) rfl
theorem q1375 : (Jvm.Cond.code ({ cls := "java/util/ArrayDeque", name := "pollLast", desc := "()Ljava/lang/Object;" } : Jvm.MethodName) prog_52_method_21_code (4 : Nat) (Option.some (Jvm.ClassFile.FieldType.object "java/lang/Object"))) ∈ lw_all := lw_g (lw_at lw_m6 28 rfl) rfl
theorem q1376 : (Jvm.Cond.methodLink "java/util/ArrayDeque" (68 : Nat) ({ cls := "java/util/ArrayDeque", name := "dec", desc := "(II)I" } : Jvm.MethodName)) ∈ lw_all := lw_g (lw_at lw_m6 29 rfl) rfl
theorem q1377 : (Jvm.Cond.static ({ cls := "java/util/ArrayDeque", name := "dec", desc := "(II)I" } : Jvm.MethodName)) ∈ lw_all := lw_g (lw_at lw_m6 30 rfl) rfl
theorem q1378 : (Jvm.Cond.code ({ cls := "java/util/ArrayDeque", name := "dec", desc := "(II)I" } : Jvm.MethodName) prog_52_method_7_code (2 : Nat) (Option.some Jvm.ClassFile.FieldType.int)) ∈ lw_all := lw_g (lw_at lw_m6 31 rfl) rfl
theorem q1379 : (Jvm.Cond.methodLink "java/util/ArrayDeque" (103 : Nat) ({ cls := "java/util/ArrayDeque", name := "elementAt", desc := "([Ljava/lang/Object;I)Ljava/lang/Object;" } : Jvm.MethodName)) ∈ lw_all := lw_g (lw_at lw_m6 32 rfl) rfl
theorem q1380 : (Jvm.Cond.static ({ cls := "java/util/ArrayDeque", name := "elementAt", desc := "([Ljava/lang/Object;I)Ljava/lang/Object;" } : Jvm.MethodName)) ∈ lw_all := lw_g (lw_at lw_m6 33 rfl) rfl
theorem q1381 : (Jvm.Cond.code ({ cls := "java/util/ArrayDeque", name := "elementAt", desc := "([Ljava/lang/Object;I)Ljava/lang/Object;" } : Jvm.MethodName) prog_52_method_10_code (2 : Nat) (Option.some (Jvm.ClassFile.FieldType.object "java/lang/Object"))) ∈ lw_all := lw_g (lw_at lw_m6 34 rfl) rfl
theorem q1638 : (Jvm.Cond.instanceMethod ({ cls := "java/util/ArrayDeque", name := "clear", desc := "()V" } : Jvm.MethodName)) ∈ lw_all := lw_g (lw_at lw_m7 51 rfl) rfl
theorem q1639 : (Jvm.Cond.selects "java/util/ArrayDeque" ({ cls := "java/util/ArrayDeque", name := "clear", desc := "()V" } : Jvm.MethodName) ({ cls := "java/util/ArrayDeque", name := "clear", desc := "()V" } : Jvm.MethodName)) ∈ lw_all := lw_g (lw_at lw_m7 52 rfl) rfl
theorem q1640 : (Jvm.Cond.code ({ cls := "java/util/ArrayDeque", name := "clear", desc := "()V" } : Jvm.MethodName) prog_52_method_53_code (1 : Nat) (Option.none : Option Jvm.ClassFile.FieldType)) ∈ lw_all := lw_g (lw_at lw_m7 53 rfl) rfl
theorem q1641 : (Jvm.Cond.methodLink "java/util/ArrayDeque" (181 : Nat) ({ cls := "java/util/ArrayDeque", name := "circularClear", desc := "([Ljava/lang/Object;II)V" } : Jvm.MethodName)) ∈ lw_all := lw_g (lw_at lw_m7 54 rfl) rfl
theorem q1642 : (Jvm.Cond.static ({ cls := "java/util/ArrayDeque", name := "circularClear", desc := "([Ljava/lang/Object;II)V" } : Jvm.MethodName)) ∈ lw_all := lw_g (lw_at lw_m7 55 rfl) rfl
theorem q1643 : (Jvm.Cond.code ({ cls := "java/util/ArrayDeque", name := "circularClear", desc := "([Ljava/lang/Object;II)V" } : Jvm.MethodName) prog_52_method_54_code (4 : Nat) (Option.none : Option Jvm.ClassFile.FieldType)) ∈ lw_all := lw_g (lw_at lw_m7 56 rfl) rfl
theorem q1882 : (Jvm.Cond.instanceMethod ({ cls := "java/util/ArrayDeque", name := "removeFirst", desc := "()Ljava/lang/Object;" } : Jvm.MethodName)) ∈ lw_all := lw_g (lw_at lw_m8 55 rfl) rfl
theorem q1883 : (Jvm.Cond.selects "java/util/ArrayDeque" ({ cls := "java/util/ArrayDeque", name := "removeFirst", desc := "()Ljava/lang/Object;" } : Jvm.MethodName) ({ cls := "java/util/ArrayDeque", name := "removeFirst", desc := "()Ljava/lang/Object;" } : Jvm.MethodName)) ∈ lw_all := lw_g (lw_at lw_m8 56 rfl) rfl
theorem q1884 : (Jvm.Cond.code ({ cls := "java/util/ArrayDeque", name := "removeFirst", desc := "()Ljava/lang/Object;" } : Jvm.MethodName) prog_52_method_18_code (2 : Nat) (Option.some (Jvm.ClassFile.FieldType.object "java/lang/Object"))) ∈ lw_all := lw_g (lw_at lw_m8 57 rfl) rfl
theorem q1885 : (Jvm.Cond.methodLink "java/util/ArrayDeque" (93 : Nat) ({ cls := "java/util/ArrayDeque", name := "pollFirst", desc := "()Ljava/lang/Object;" } : Jvm.MethodName)) ∈ lw_all := lw_g (lw_at lw_m8 58 rfl) rfl
theorem q1886 : (Jvm.Cond.instanceMethod ({ cls := "java/util/ArrayDeque", name := "pollFirst", desc := "()Ljava/lang/Object;" } : Jvm.MethodName)) ∈ lw_all := lw_g (lw_at lw_m8 59 rfl) rfl
theorem q1887 : (Jvm.Cond.selects "java/util/ArrayDeque" ({ cls := "java/util/ArrayDeque", name := "pollFirst", desc := "()Ljava/lang/Object;" } : Jvm.MethodName) ({ cls := "java/util/ArrayDeque", name := "pollFirst", desc := "()Ljava/lang/Object;" } : Jvm.MethodName)) ∈ lw_all := lw_g (lw_at lw_m8 60 rfl) rfl
theorem q1888 : (Jvm.Cond.code ({ cls := "java/util/ArrayDeque", name := "pollFirst", desc := "()Ljava/lang/Object;" } : Jvm.MethodName) prog_52_method_20_code (4 : Nat) (Option.some (Jvm.ClassFile.FieldType.object "java/lang/Object"))) ∈ lw_all := lw_g (lw_at lw_m8 61 rfl) rfl
theorem q1889 : (Jvm.Cond.methodLink "java/util/ArrayDeque" (74 : Nat) ({ cls := "java/util/ArrayDeque", name := "inc", desc := "(II)I" } : Jvm.MethodName)) ∈ lw_all := lw_g (lw_at lw_m8 62 rfl) rfl
theorem q1891 : (Jvm.Cond.instanceMethod ({ cls := "java/util/ArrayDeque", name := "addLast", desc := "(Ljava/lang/Object;)V" } : Jvm.MethodName)) ∈ lw_all := lw_g (lw_at lw_m8 64 rfl) rfl
theorem q1892 : (Jvm.Cond.selects "java/util/ArrayDeque" ({ cls := "java/util/ArrayDeque", name := "addLast", desc := "(Ljava/lang/Object;)V" } : Jvm.MethodName) ({ cls := "java/util/ArrayDeque", name := "addLast", desc := "(Ljava/lang/Object;)V" } : Jvm.MethodName)) ∈ lw_all := lw_g (lw_at lw_m8 65 rfl) rfl
theorem q1893 : (Jvm.Cond.code ({ cls := "java/util/ArrayDeque", name := "addLast", desc := "(Ljava/lang/Object;)V" } : Jvm.MethodName) prog_52_method_13_code (3 : Nat) (Option.none : Option Jvm.ClassFile.FieldType)) ∈ lw_all := lw_g (lw_at lw_m8 66 rfl) rfl
theorem q1894 : (Jvm.Cond.methodLink "java/util/ArrayDeque" (71 : Nat) ({ cls := "java/util/ArrayDeque", name := "grow", desc := "(I)V" } : Jvm.MethodName)) ∈ lw_all := lw_g (lw_at lw_m8 67 rfl) rfl
theorem q1895 : (Jvm.Cond.privateMethod ({ cls := "java/util/ArrayDeque", name := "grow", desc := "(I)V" } : Jvm.MethodName)) ∈ lw_tbl := lw_at lw_m8 68 rfl
theorem q1896 : (Jvm.Cond.instanceMethod ({ cls := "java/util/ArrayDeque", name := "grow", desc := "(I)V" } : Jvm.MethodName)) ∈ lw_all := lw_g (lw_at lw_m8 69 rfl) rfl
theorem q1897 : (Jvm.Cond.code ({ cls := "java/util/ArrayDeque", name := "grow", desc := "(I)V" } : Jvm.MethodName) prog_52_method_1_code (9 : Nat) (Option.none : Option Jvm.ClassFile.FieldType)) ∈ lw_all := lw_g (lw_at lw_m8 70 rfl) rfl
theorem q1898 : (Jvm.Cond.constant "java/util/ArrayDeque" (9 : Nat) (2147483639 : Int32)) ∈ lw_all := lw_g (lw_at lw_m8 71 rfl) rfl
theorem q1899 : (Jvm.Cond.methodLink "java/util/ArrayDeque" (10 : Nat) ({ cls := "java/util/ArrayDeque", name := "newCapacity", desc := "(II)I" } : Jvm.MethodName)) ∈ lw_all := lw_g (lw_at lw_m8 72 rfl) rfl
theorem q1900 : (Jvm.Cond.privateMethod ({ cls := "java/util/ArrayDeque", name := "newCapacity", desc := "(II)I" } : Jvm.MethodName)) ∈ lw_tbl := lw_at lw_m8 73 rfl
theorem q1901 : (Jvm.Cond.instanceMethod ({ cls := "java/util/ArrayDeque", name := "newCapacity", desc := "(II)I" } : Jvm.MethodName)) ∈ lw_all := lw_g (lw_at lw_m8 74 rfl) rfl
theorem q1902 : (Jvm.Cond.code ({ cls := "java/util/ArrayDeque", name := "newCapacity", desc := "(II)I" } : Jvm.MethodName) prog_52_method_2_code (5 : Nat) (Option.some Jvm.ClassFile.FieldType.int)) ∈ lw_all := lw_g (lw_at lw_m8 75 rfl) rfl
theorem q1903 : (Jvm.Cond.classLink "java/util/ArrayDeque" (33 : Nat) "java/lang/IllegalStateException") ∈ lw_all := lw_g (lw_at lw_m8 76 rfl) rfl
theorem q1904 : (Jvm.Cond.stringRef "java/util/ArrayDeque" (35 : Nat) "Sorry, deque too big") ∈ lw_tbl := lw_at lw_m8 77 rfl
theorem q1905 : (Jvm.Cond.methodLink "java/util/ArrayDeque" (37 : Nat) ({ cls := "java/lang/IllegalStateException", name := "<init>", desc := "(Ljava/lang/String;)V" } : Jvm.MethodName)) ∈ lw_all := lw_g (lw_at lw_m8 78 rfl) rfl
theorem q1909 : (Jvm.Cond.methodLink "java/util/ArrayDeque" (14 : Nat) ({ cls := "java/util/Arrays", name := "copyOf", desc := "([Ljava/lang/Object;I)[Ljava/lang/Object;" } : Jvm.MethodName)) ∈ lw_all := lw_g (lw_at lw_m8 82 rfl) rfl
theorem q1910 : (Jvm.Cond.methodLink "java/util/ArrayDeque" (27 : Nat) ({ cls := "java/lang/System", name := "arraycopy", desc := "(Ljava/lang/Object;ILjava/lang/Object;II)V" } : Jvm.MethodName)) ∈ lw_all := lw_g (lw_at lw_m8 83 rfl) rfl
theorem q2976 : (Jvm.Cond.castable "java/util/ArrayDeque" "java/lang/Object") ∈ lw_tbl := lw_at lw_m12 189 rfl
theorem in_J7 : ∀ w ∈ wsJ70, w ∈ lw_all := lw_in wsJ70 [513, 515, 517] (by decide +kernel) (by decide +kernel)
/-! java/lang/AbstractStringBuilder -/
def RJ8 : String := "java/lang/AbstractStringBuilder"
abbrev cJ8_init : ByteArray := prog_22_method_2_code
def yJ8_init : MethodName := ⟨RJ8, "<init>", "(I)V"⟩
abbrev cJ8_append : ByteArray := prog_22_method_31_code
def yJ8_append : MethodName := ⟨RJ8, "append", "(C)Ljava/lang/AbstractStringBuilder;"⟩
abbrev cJ8_ensureCapacityInternal : ByteArray := prog_22_method_9_code
def yJ8_ensureCapacityInternal : MethodName := ⟨RJ8, "ensureCapacityInternal", "(I)V"⟩
abbrev cJ8_newCapacity : ByteArray := prog_22_method_10_code
def yJ8_newCapacity : MethodName := ⟨RJ8, "newCapacity", "(I)I"⟩
abbrev cJ8_isLatin1 : ByteArray := prog_22_method_68_code
def yJ8_isLatin1 : MethodName := ⟨RJ8, "isLatin1", "()Z"⟩
abbrev cJ8_inflate : ByteArray := prog_22_method_11_code
def yJ8_inflate : MethodName := ⟨RJ8, "inflate", "()V"⟩
abbrev cJ8_getValue : ByteArray := prog_22_method_64_code
def yJ8_getValue : MethodName := ⟨RJ8, "getValue", "()[B"⟩
abbrev cJ8_length : ByteArray := prog_22_method_6_code
def yJ8_length : MethodName := ⟨RJ8, "length", "()I"⟩
abbrev cJ8_append_2 : ByteArray := prog_22_method_32_code
def yJ8_append_2 : MethodName := ⟨RJ8, "append", "(I)Ljava/lang/AbstractStringBuilder;"⟩
abbrev cJ8_append_3 : ByteArray := prog_22_method_22_code
def yJ8_append_3 : MethodName := ⟨RJ8, "append", "(Ljava/lang/String;)Ljava/lang/AbstractStringBuilder;"⟩
abbrev cJ8_appendNull : ByteArray := prog_22_method_26_code
def yJ8_appendNull : MethodName := ⟨RJ8, "appendNull", "()Ljava/lang/AbstractStringBuilder;"⟩
abbrev cJ8_putStringAt : ByteArray := prog_22_method_73_code
def yJ8_putStringAt : MethodName := ⟨RJ8, "putStringAt", "(ILjava/lang/String;)V"⟩
abbrev cJ8_inflateIfNeededFor : ByteArray := prog_22_method_71_code
def yJ8_inflateIfNeededFor : MethodName := ⟨RJ8, "inflateIfNeededFor", "(Ljava/lang/String;)V"⟩
abbrev cJ8_setLength : ByteArray := prog_22_method_13_code
def yJ8_setLength : MethodName := ⟨RJ8, "setLength", "(I)V"⟩
abbrev cJ8_charAt : ByteArray := prog_22_method_14_code
def yJ8_charAt : MethodName := ⟨RJ8, "charAt", "(I)C"⟩
theorem q162 : (Jvm.Cond.initialized "java/lang/AbstractStringBuilder") ∈ lw_all := lw_g (lw_at lw_m1 15 rfl) rfl
theorem q526 : (Jvm.Cond.instanceMethod ({ cls := "java/lang/AbstractStringBuilder", name := "<init>", desc := "(I)V" } : Jvm.MethodName)) ∈ lw_all := lw_g (lw_at lw_m2 139 rfl) rfl
theorem q527 : (Jvm.Cond.code ({ cls := "java/lang/AbstractStringBuilder", name := "<init>", desc := "(I)V" } : Jvm.MethodName) prog_22_method_2_code (2 : Nat) (Option.none : Option Jvm.ClassFile.FieldType)) ∈ lw_all := lw_g (lw_at lw_m2 140 rfl) rfl
theorem q528 : (Jvm.Cond.methodLink "java/lang/AbstractStringBuilder" (3 : Nat) ({ cls := "java/lang/Object", name := "<init>", desc := "()V" } : Jvm.MethodName)) ∈ lw_all := lw_g (lw_at lw_m2 141 rfl) rfl
theorem q529 : (Jvm.Cond.fieldLink "java/lang/AbstractStringBuilder" (18 : Nat) "java/lang/String" "COMPACT_STRINGS" "Z") ∈ lw_all := lw_g (lw_at lw_m2 142 rfl) rfl
theorem q531 : (Jvm.Cond.methodLink "java/lang/AbstractStringBuilder" (26 : Nat) ({ cls := "java/lang/StringUTF16", name := "newBytesFor", desc := "(I)[B" } : Jvm.MethodName)) ∈ lw_all := lw_g (lw_at lw_m2 144 rfl) rfl
theorem q538 : (Jvm.Cond.fieldLink "java/lang/AbstractStringBuilder" (15 : Nat) "java/lang/AbstractStringBuilder" "value" "[B") ∈ lw_all := lw_g (lw_at lw_m2 151 rfl) rfl
theorem q539 : (Jvm.Cond.fieldLink "java/lang/AbstractStringBuilder" (22 : Nat) "java/lang/AbstractStringBuilder" "coder" "B") ∈ lw_all := lw_g (lw_at lw_m2 152 rfl) rfl
theorem q540 : (Jvm.Cond.fieldLink "java/lang/AbstractStringBuilder" (73 : Nat) "java/lang/AbstractStringBuilder" "maybeLatin1" "Z") ∈ lw_all := lw_g (lw_at lw_m2 153 rfl) rfl
theorem q542 : (Jvm.Cond.fieldLink "java/lang/AbstractStringBuilder" (79 : Nat) "java/lang/AbstractStringBuilder" "count" "I") ∈ lw_all := lw_g (lw_at lw_m2 155 rfl) rfl
theorem q544 : (Jvm.Cond.soleField "java/lang/AbstractStringBuilder" "value") ∈ lw_all := lw_g (lw_at lw_m2 157 rfl) rfl
theorem q546 : (Jvm.Cond.soleField "java/lang/AbstractStringBuilder" "coder") ∈ lw_all := lw_g (lw_at lw_m2 159 rfl) rfl
theorem q548 : (Jvm.Cond.soleField "java/lang/AbstractStringBuilder" "maybeLatin1") ∈ lw_all := lw_g (lw_at lw_m2 161 rfl) rfl
theorem q550 : (Jvm.Cond.soleField "java/lang/AbstractStringBuilder" "count") ∈ lw_all := lw_g (lw_at lw_m2 163 rfl) rfl
theorem q603 : (Jvm.Cond.instanceMethod ({ cls := "java/lang/AbstractStringBuilder", name := "append", desc := "(C)Ljava/lang/AbstractStringBuilder;" } : Jvm.MethodName)) ∈ lw_all := lw_g (lw_at lw_m2 216 rfl) rfl
theorem q604 : (Jvm.Cond.code ({ cls := "java/lang/AbstractStringBuilder", name := "append", desc := "(C)Ljava/lang/AbstractStringBuilder;" } : Jvm.MethodName) prog_22_method_31_code (2 : Nat) (Option.some (Jvm.ClassFile.FieldType.object "java/lang/AbstractStringBuilder"))) ∈ lw_all := lw_g (lw_at lw_m2 217 rfl) rfl
theorem q605 : (Jvm.Cond.methodLink "java/lang/AbstractStringBuilder" (100 : Nat) ({ cls := "java/lang/AbstractStringBuilder", name := "ensureCapacityInternal", desc := "(I)V" } : Jvm.MethodName)) ∈ lw_all := lw_g (lw_at lw_m2 218 rfl) rfl
theorem q606 : (Jvm.Cond.privateMethod ({ cls := "java/lang/AbstractStringBuilder", name := "ensureCapacityInternal", desc := "(I)V" } : Jvm.MethodName)) ∈ lw_tbl := lw_at lw_m2 219 rfl
theorem q607 : (Jvm.Cond.instanceMethod ({ cls := "java/lang/AbstractStringBuilder", name := "ensureCapacityInternal", desc := "(I)V" } : Jvm.MethodName)) ∈ lw_all := lw_g (lw_at lw_m2 220 rfl) rfl
theorem q608 : (Jvm.Cond.code ({ cls := "java/lang/AbstractStringBuilder", name := "ensureCapacityInternal", desc := "(I)V" } : Jvm.MethodName) prog_22_method_9_code (3 : Nat) (Option.none : Option Jvm.ClassFile.FieldType)) ∈ lw_all := lw_g (lw_at lw_m2 221 rfl) rfl
theorem q609 : (Jvm.Cond.methodLink "java/lang/AbstractStringBuilder" (104 : Nat) ({ cls := "java/lang/AbstractStringBuilder", name := "newCapacity", desc := "(I)I" } : Jvm.MethodName)) ∈ lw_all := lw_g (lw_at lw_m2 222 rfl) rfl
theorem q610 : (Jvm.Cond.privateMethod ({ cls := "java/lang/AbstractStringBuilder", name := "newCapacity", desc := "(I)I" } : Jvm.MethodName)) ∈ lw_tbl := lw_at lw_m2 223 rfl
theorem q611 : (Jvm.Cond.instanceMethod ({ cls := "java/lang/AbstractStringBuilder", name := "newCapacity", desc := "(I)I" } : Jvm.MethodName)) ∈ lw_all := lw_g (lw_at lw_m2 224 rfl) rfl
theorem q612 : (Jvm.Cond.code ({ cls := "java/lang/AbstractStringBuilder", name := "newCapacity", desc := "(I)I" } : Jvm.MethodName) prog_22_method_10_code (6 : Nat) (Option.some Jvm.ClassFile.FieldType.int)) ∈ lw_all := lw_g (lw_at lw_m2 225 rfl) rfl
theorem q613 : (Jvm.Cond.methodLink "java/lang/AbstractStringBuilder" (114 : Nat) ({ cls := "jdk/internal/util/ArraysSupport", name := "newLength", desc := "(III)I" } : Jvm.MethodName)) ∈ lw_all := lw_g (lw_at lw_m2 226 rfl) rfl
theorem q614 : (Jvm.Cond.constant "java/lang/AbstractStringBuilder" (39 : Nat) (2147483647 : Int32)) ∈ lw_all := lw_g (lw_at lw_m2 227 rfl) rfl
theorem q615 : (Jvm.Cond.methodLink "java/lang/AbstractStringBuilder" (108 : Nat) ({ cls := "java/util/Arrays", name := "copyOf", desc := "([BI)[B" } : Jvm.MethodName)) ∈ lw_all := lw_g (lw_at lw_m2 228 rfl) rfl
theorem q625 : (Jvm.Cond.methodLink "java/lang/AbstractStringBuilder" (83 : Nat) ({ cls := "java/lang/AbstractStringBuilder", name := "isLatin1", desc := "()Z" } : Jvm.MethodName)) ∈ lw_all := lw_g (lw_at lw_m2 238 rfl) rfl
theorem q626 : (Jvm.Cond.instanceMethod ({ cls := "java/lang/AbstractStringBuilder", name := "isLatin1", desc := "()Z" } : Jvm.MethodName)) ∈ lw_all := lw_g (lw_at lw_m2 239 rfl) rfl
theorem q627 : (Jvm.Cond.sameMethod "java/lang/AbstractStringBuilder" "java/lang/AbstractStringBuilder" "isLatin1" "()Z") ∈ lw_all := lw_g (lw_at lw_m3 0 rfl) rfl
theorem q629 : (Jvm.Cond.code ({ cls := "java/lang/AbstractStringBuilder", name := "isLatin1", desc := "()Z" } : Jvm.MethodName) prog_22_method_68_code (1 : Nat) (Option.some Jvm.ClassFile.FieldType.boolean)) ∈ lw_all := lw_g (lw_at lw_m3 2 rfl) rfl
theorem q630 : (Jvm.Cond.methodLink "java/lang/AbstractStringBuilder" (191 : Nat) ({ cls := "java/lang/StringLatin1", name := "canEncode", desc := "(C)Z" } : Jvm.MethodName)) ∈ lw_all := lw_g (lw_at lw_m3 3 rfl) rfl
theorem q633 : (Jvm.Cond.methodLink "java/lang/AbstractStringBuilder" (195 : Nat) ({ cls := "java/lang/AbstractStringBuilder", name := "inflate", desc := "()V" } : Jvm.MethodName)) ∈ lw_all := lw_g (lw_at lw_m3 6 rfl) rfl
theorem q634 : (Jvm.Cond.privateMethod ({ cls := "java/lang/AbstractStringBuilder", name := "inflate", desc := "()V" } : Jvm.MethodName)) ∈ lw_tbl := lw_at lw_m3 7 rfl
theorem q635 : (Jvm.Cond.instanceMethod ({ cls := "java/lang/AbstractStringBuilder", name := "inflate", desc := "()V" } : Jvm.MethodName)) ∈ lw_all := lw_g (lw_at lw_m3 8 rfl) rfl
theorem q636 : (Jvm.Cond.code ({ cls := "java/lang/AbstractStringBuilder", name := "inflate", desc := "()V" } : Jvm.MethodName) prog_22_method_11_code (2 : Nat) (Option.none : Option Jvm.ClassFile.FieldType)) ∈ lw_all := lw_g (lw_at lw_m3 9 rfl) rfl
theorem q637 : (Jvm.Cond.methodLink "java/lang/AbstractStringBuilder" (125 : Nat) ({ cls := "java/lang/StringLatin1", name := "inflate", desc := "([BI[BII)V" } : Jvm.MethodName)) ∈ lw_all := lw_g (lw_at lw_m3 10 rfl) rfl
theorem q666 : (Jvm.Cond.methodLink "java/lang/AbstractStringBuilder" (197 : Nat) ({ cls := "java/lang/StringUTF16", name := "putCharSB", desc := "([BII)V" } : Jvm.MethodName)) ∈ lw_all := lw_g (lw_at lw_m3 39 rfl) rfl
theorem q692 : (Jvm.Cond.instanceMethod ({ cls := "java/lang/AbstractStringBuilder", name := "getValue", desc := "()[B" } : Jvm.MethodName)) ∈ lw_all := lw_g (lw_at lw_m3 65 rfl) rfl
theorem q693 : (Jvm.Cond.sameMethod "java/lang/AbstractStringBuilder" "java/lang/AbstractStringBuilder" "getValue" "()[B") ∈ lw_all := lw_g (lw_at lw_m3 66 rfl) rfl
theorem q695 : (Jvm.Cond.code ({ cls := "java/lang/AbstractStringBuilder", name := "getValue", desc := "()[B" } : Jvm.MethodName) prog_22_method_64_code (1 : Nat) (Option.some (Jvm.ClassFile.FieldType.array Jvm.ClassFile.FieldType.byte))) ∈ lw_all := lw_g (lw_at lw_m3 68 rfl) rfl
theorem q697 : (Jvm.Cond.instanceMethod ({ cls := "java/lang/AbstractStringBuilder", name := "length", desc := "()I" } : Jvm.MethodName)) ∈ lw_all := lw_g (lw_at lw_m3 70 rfl) rfl
theorem q698 : (Jvm.Cond.sameMethod "java/lang/AbstractStringBuilder" "java/lang/AbstractStringBuilder" "length" "()I") ∈ lw_all := lw_g (lw_at lw_m3 71 rfl) rfl
theorem q703 : (Jvm.Cond.code ({ cls := "java/lang/AbstractStringBuilder", name := "length", desc := "()I" } : Jvm.MethodName) prog_22_method_6_code (1 : Nat) (Option.some Jvm.ClassFile.FieldType.int)) ∈ lw_all := lw_g (lw_at lw_m3 76 rfl) rfl
theorem q767 : (Jvm.Cond.instanceMethod ({ cls := "java/lang/AbstractStringBuilder", name := "append", desc := "(I)Ljava/lang/AbstractStringBuilder;" } : Jvm.MethodName)) ∈ lw_all := lw_g (lw_at lw_m3 140 rfl) rfl
theorem q768 : (Jvm.Cond.code ({ cls := "java/lang/AbstractStringBuilder", name := "append", desc := "(I)Ljava/lang/AbstractStringBuilder;" } : Jvm.MethodName) prog_22_method_32_code (4 : Nat) (Option.some (Jvm.ClassFile.FieldType.object "java/lang/AbstractStringBuilder"))) ∈ lw_all := lw_g (lw_at lw_m3 141 rfl) rfl
theorem q769 : (Jvm.Cond.methodLink "java/lang/AbstractStringBuilder" (245 : Nat) ({ cls := "java/lang/Integer", name := "stringSize", desc := "(I)I" } : Jvm.MethodName)) ∈ lw_all := lw_g (lw_at lw_m3 142 rfl) rfl
theorem q772 : (Jvm.Cond.methodLink "java/lang/AbstractStringBuilder" (248 : Nat) ({ cls := "java/lang/Integer", name := "getChars", desc := "(II[B)I" } : Jvm.MethodName)) ∈ lw_all := lw_g (lw_at lw_m3 145 rfl) rfl
theorem q779 : (Jvm.Cond.methodLink "java/lang/AbstractStringBuilder" (251 : Nat) ({ cls := "java/lang/StringUTF16", name := "getChars", desc := "(III[B)I" } : Jvm.MethodName)) ∈ lw_all := lw_g (lw_at lw_m3 152 rfl) rfl
theorem q802 : (Jvm.Cond.instanceMethod ({ cls := "java/lang/AbstractStringBuilder", name := "append", desc := "(Ljava/lang/String;)Ljava/lang/AbstractStringBuilder;" } : Jvm.MethodName)) ∈ lw_all := lw_g (lw_at lw_m3 175 rfl) rfl
theorem q803 : (Jvm.Cond.code ({ cls := "java/lang/AbstractStringBuilder", name := "append", desc := "(Ljava/lang/String;)Ljava/lang/AbstractStringBuilder;" } : Jvm.MethodName) prog_22_method_22_code (3 : Nat) (Option.some (Jvm.ClassFile.FieldType.object "java/lang/AbstractStringBuilder"))) ∈ lw_all := lw_g (lw_at lw_m3 176 rfl) rfl
theorem q804 : (Jvm.Cond.methodLink "java/lang/AbstractStringBuilder" (204 : Nat) ({ cls := "java/lang/AbstractStringBuilder", name := "appendNull", desc := "()Ljava/lang/AbstractStringBuilder;" } : Jvm.MethodName)) ∈ lw_all := lw_g (lw_at lw_m3 177 rfl) rfl
theorem q805 : (Jvm.Cond.privateMethod ({ cls := "java/lang/AbstractStringBuilder", name := "appendNull", desc := "()Ljava/lang/AbstractStringBuilder;" } : Jvm.MethodName)) ∈ lw_tbl := lw_at lw_m3 178 rfl
theorem q806 : (Jvm.Cond.instanceMethod ({ cls := "java/lang/AbstractStringBuilder", name := "appendNull", desc := "()Ljava/lang/AbstractStringBuilder;" } : Jvm.MethodName)) ∈ lw_all := lw_g (lw_at lw_m3 179 rfl) rfl
theorem q807 : (Jvm.Cond.code ({ cls := "java/lang/AbstractStringBuilder", name := "appendNull", desc := "()Ljava/lang/AbstractStringBuilder;" } : Jvm.MethodName) prog_22_method_26_code (3 : Nat) (Option.some (Jvm.ClassFile.FieldType.object "java/lang/AbstractStringBuilder"))) ∈ lw_all := lw_g (lw_at lw_m3 180 rfl) rfl
theorem q808 : (Jvm.Cond.methodLink "java/lang/AbstractStringBuilder" (226 : Nat) ({ cls := "java/lang/StringUTF16", name := "putCharsAt", desc := "([BICCCC)I" } : Jvm.MethodName)) ∈ lw_all := lw_g (lw_at lw_m3 181 rfl) rfl
theorem q811 : (Jvm.Cond.methodLink "java/lang/AbstractStringBuilder" (32 : Nat) ({ cls := "java/lang/String", name := "length", desc := "()I" } : Jvm.MethodName)) ∈ lw_all := lw_g (lw_at lw_m3 184 rfl) rfl
theorem q820 : (Jvm.Cond.methodLink "java/lang/AbstractStringBuilder" (208 : Nat) ({ cls := "java/lang/AbstractStringBuilder", name := "putStringAt", desc := "(ILjava/lang/String;)V" } : Jvm.MethodName)) ∈ lw_all := lw_g (lw_at lw_m3 193 rfl) rfl
theorem q821 : (Jvm.Cond.privateMethod ({ cls := "java/lang/AbstractStringBuilder", name := "putStringAt", desc := "(ILjava/lang/String;)V" } : Jvm.MethodName)) ∈ lw_tbl := lw_at lw_m3 194 rfl
theorem q822 : (Jvm.Cond.instanceMethod ({ cls := "java/lang/AbstractStringBuilder", name := "putStringAt", desc := "(ILjava/lang/String;)V" } : Jvm.MethodName)) ∈ lw_all := lw_g (lw_at lw_m3 195 rfl) rfl
theorem q823 : (Jvm.Cond.code ({ cls := "java/lang/AbstractStringBuilder", name := "putStringAt", desc := "(ILjava/lang/String;)V" } : Jvm.MethodName) prog_22_method_73_code (3 : Nat) (Option.none : Option Jvm.ClassFile.FieldType)) ∈ lw_all := lw_g (lw_at lw_m3 196 rfl) rfl
theorem q824 : (Jvm.Cond.methodLink "java/lang/AbstractStringBuilder" (397 : Nat) ({ cls := "java/lang/AbstractStringBuilder", name := "inflateIfNeededFor", desc := "(Ljava/lang/String;)V" } : Jvm.MethodName)) ∈ lw_all := lw_g (lw_at lw_m3 197 rfl) rfl
theorem q825 : (Jvm.Cond.privateMethod ({ cls := "java/lang/AbstractStringBuilder", name := "inflateIfNeededFor", desc := "(Ljava/lang/String;)V" } : Jvm.MethodName)) ∈ lw_tbl := lw_at lw_m3 198 rfl
theorem q826 : (Jvm.Cond.instanceMethod ({ cls := "java/lang/AbstractStringBuilder", name := "inflateIfNeededFor", desc := "(Ljava/lang/String;)V" } : Jvm.MethodName)) ∈ lw_all := lw_g (lw_at lw_m3 199 rfl) rfl
theorem q827 : (Jvm.Cond.code ({ cls := "java/lang/AbstractStringBuilder", name := "inflateIfNeededFor", desc := "(Ljava/lang/String;)V" } : Jvm.MethodName) prog_22_method_71_code (2 : Nat) (Option.none : Option Jvm.ClassFile.FieldType)) ∈ lw_all := lw_g (lw_at lw_m3 200 rfl) rfl
theorem q828 : (Jvm.Cond.methodLink "java/lang/AbstractStringBuilder" (40 : Nat) ({ cls := "java/lang/String", name := "coder", desc := "()B" } : Jvm.MethodName)) ∈ lw_all := lw_g (lw_at lw_m3 201 rfl) rfl
theorem q829 : (Jvm.Cond.methodLink "java/lang/AbstractStringBuilder" (399 : Nat) ({ cls := "java/lang/String", name := "getBytes", desc := "([BIB)V" } : Jvm.MethodName)) ∈ lw_all := lw_g (lw_at lw_m3 202 rfl) rfl
theorem q1278 : (Jvm.Cond.instanceMethod ({ cls := "java/lang/AbstractStringBuilder", name := "setLength", desc := "(I)V" } : Jvm.MethodName)) ∈ lw_all := lw_g (lw_at lw_m5 171 rfl) rfl
theorem q1279 : (Jvm.Cond.code ({ cls := "java/lang/AbstractStringBuilder", name := "setLength", desc := "(I)V" } : Jvm.MethodName) prog_22_method_13_code (2 : Nat) (Option.none : Option Jvm.ClassFile.FieldType)) ∈ lw_all := lw_g (lw_at lw_m5 172 rfl) rfl
theorem q1280 : (Jvm.Cond.classLink "java/lang/AbstractStringBuilder" (129 : Nat) "java/lang/StringIndexOutOfBoundsException") ∈ lw_all := lw_g (lw_at lw_m5 173 rfl) rfl
theorem q1282 : (Jvm.Cond.methodLink "java/lang/AbstractStringBuilder" (131 : Nat) ({ cls := "java/lang/StringIndexOutOfBoundsException", name := "<init>", desc := "(I)V" } : Jvm.MethodName)) ∈ lw_all := lw_g (lw_at lw_m5 175 rfl) rfl
theorem q1302 : (Jvm.Cond.methodLink "java/lang/AbstractStringBuilder" (133 : Nat) ({ cls := "java/lang/StringLatin1", name := "fillNull", desc := "([BII)V" } : Jvm.MethodName)) ∈ lw_all := lw_g (lw_at lw_m5 195 rfl) rfl
theorem q1337 : (Jvm.Cond.methodLink "java/lang/AbstractStringBuilder" (137 : Nat) ({ cls := "java/lang/StringUTF16", name := "fillNull", desc := "([BII)V" } : Jvm.MethodName)) ∈ lw_all := lw_g (lw_at lw_m5 230 rfl) rfl
theorem q1355 : (Jvm.Cond.instanceMethod ({ cls := "java/lang/AbstractStringBuilder", name := "charAt", desc := "(I)C" } : Jvm.MethodName)) ∈ lw_all := lw_g (lw_at lw_m6 8 rfl) rfl
theorem q1356 : (Jvm.Cond.code ({ cls := "java/lang/AbstractStringBuilder", name := "charAt", desc := "(I)C" } : Jvm.MethodName) prog_22_method_14_code (5 : Nat) (Option.some Jvm.ClassFile.FieldType.char)) ∈ lw_all := lw_g (lw_at lw_m6 9 rfl) rfl
theorem q1357 : (Jvm.Cond.methodLink "java/lang/AbstractStringBuilder" (138 : Nat) ({ cls := "java/lang/Math", name := "min", desc := "(II)I" } : Jvm.MethodName)) ∈ lw_all := lw_g (lw_at lw_m6 10 rfl) rfl
theorem q1358 : (Jvm.Cond.methodLink "java/lang/AbstractStringBuilder" (144 : Nat) ({ cls := "java/lang/String", name := "checkIndex", desc := "(II)V" } : Jvm.MethodName)) ∈ lw_all := lw_g (lw_at lw_m6 11 rfl) rfl
theorem q1359 : (Jvm.Cond.methodLink "java/lang/AbstractStringBuilder" (148 : Nat) ({ cls := "java/lang/StringUTF16", name := "getChar", desc := "([BI)C" } : Jvm.MethodName)) ∈ lw_all := lw_g (lw_at lw_m6 12 rfl) rfl
theorem q2952 : (Jvm.Cond.sameMethod "java/lang/AbstractStringBuilder" "java/lang/AbstractStringBuilder" "append" "(C)Ljava/lang/AbstractStringBuilder;") ∈ lw_all := lw_g (lw_at lw_m12 165 rfl) rfl
theorem q2953 : (Jvm.Cond.sameMethod "java/lang/AbstractStringBuilder" "java/lang/AbstractStringBuilder" "ensureCapacityInternal" "(I)V") ∈ lw_all := lw_g (lw_at lw_m12 166 rfl) rfl
theorem q2954 : (Jvm.Cond.sameMethod "java/lang/AbstractStringBuilder" "java/lang/AbstractStringBuilder" "newCapacity" "(I)I") ∈ lw_all := lw_g (lw_at lw_m12 167 rfl) rfl
theorem q2955 : (Jvm.Cond.sameMethod "java/lang/AbstractStringBuilder" "java/lang/AbstractStringBuilder" "inflate" "()V") ∈ lw_all := lw_g (lw_at lw_m12 168 rfl) rfl
theorem q2957 : (Jvm.Cond.sameMethod "java/lang/AbstractStringBuilder" "java/lang/AbstractStringBuilder" "append" "(I)Ljava/lang/AbstractStringBuilder;") ∈ lw_all := lw_g (lw_at lw_m12 170 rfl) rfl
theorem q2958 : (Jvm.Cond.sameMethod "java/lang/AbstractStringBuilder" "java/lang/AbstractStringBuilder" "append" "(Ljava/lang/String;)Ljava/lang/AbstractStringBuilder;") ∈ lw_all := lw_g (lw_at lw_m12 171 rfl) rfl
theorem q2959 : (Jvm.Cond.sameMethod "java/lang/AbstractStringBuilder" "java/lang/AbstractStringBuilder" "appendNull" "()Ljava/lang/AbstractStringBuilder;") ∈ lw_all := lw_g (lw_at lw_m12 172 rfl) rfl
theorem q2960 : (Jvm.Cond.sameMethod "java/lang/AbstractStringBuilder" "java/lang/AbstractStringBuilder" "putStringAt" "(ILjava/lang/String;)V") ∈ lw_all := lw_g (lw_at lw_m12 173 rfl) rfl
theorem q2961 : (Jvm.Cond.sameMethod "java/lang/AbstractStringBuilder" "java/lang/AbstractStringBuilder" "inflateIfNeededFor" "(Ljava/lang/String;)V") ∈ lw_all := lw_g (lw_at lw_m12 174 rfl) rfl
theorem q2962 : (Jvm.Cond.sameMethod "java/lang/AbstractStringBuilder" "java/lang/AbstractStringBuilder" "setLength" "(I)V") ∈ lw_all := lw_g (lw_at lw_m12 175 rfl) rfl
theorem q2964 : (Jvm.Cond.sameMethod "java/lang/AbstractStringBuilder" "java/lang/AbstractStringBuilder" "charAt" "(I)C") ∈ lw_all := lw_g (lw_at lw_m12 177 rfl) rfl
/-! java/lang/StringBuilder -/
def RJ9 : String := "java/lang/StringBuilder"
def TJ9 : u_T := fun k => match k with
  | 0 => ("java/lang/AbstractStringBuilder", "value", "[B", false)
  | 1 => ("java/lang/AbstractStringBuilder", "coder", "B", false)
  | 2 => ("java/lang/AbstractStringBuilder", "maybeLatin1", "Z", false)
  | _ => ("java/lang/AbstractStringBuilder", "count", "I", false)
def tyJ9 : Nat → FieldType := fun k => match k with
  | 0 => .array .byte
  | 1 => .byte
  | 2 => .boolean
  | _ => .int
abbrev wsJ90 : List Cond := u_ws RJ9 TJ9 4
theorem nmJ9 : ∀ a, a < 4 → ∀ b, b < 4 → a ≠ b → (TJ9 a).2.1 ≠ (TJ9 b).2.1 := by decide +kernel
theorem tyJ9_ok : ∀ k, k < 4 → parseFieldDescriptor (TJ9 k).2.2.1 = some (tyJ9 k) := by decide +kernel
abbrev cJ9_init : ByteArray := prog_41_method_1_code
def yJ9_init : MethodName := ⟨RJ9, "<init>", "()V"⟩
abbrev cJ9_append : ByteArray := prog_41_method_14_code
def yJ9_append : MethodName := ⟨RJ9, "append", "(C)Ljava/lang/StringBuilder;"⟩
abbrev cJ9_toString : ByteArray := prog_41_method_42_code
def yJ9_toString : MethodName := ⟨RJ9, "toString", "()Ljava/lang/String;"⟩
abbrev cJ9_length : ByteArray := prog_41_method_93_code
def yJ9_length : MethodName := ⟨RJ9, "length", "()I"⟩
abbrev cJ9_append_2 : ByteArray := prog_41_method_15_code
def yJ9_append_2 : MethodName := ⟨RJ9, "append", "(I)Ljava/lang/StringBuilder;"⟩
abbrev cJ9_append_3 : ByteArray := prog_41_method_7_code
def yJ9_append_3 : MethodName := ⟨RJ9, "append", "(Ljava/lang/String;)Ljava/lang/StringBuilder;"⟩
abbrev cJ9_setLength : ByteArray := prog_41_method_89_code
def yJ9_setLength : MethodName := ⟨RJ9, "setLength", "(I)V"⟩
abbrev cJ9_charAt : ByteArray := prog_41_method_88_code
def yJ9_charAt : MethodName := ⟨RJ9, "charAt", "(I)C"⟩
theorem q163 : (Jvm.Cond.initialized "java/lang/StringBuilder") ∈ lw_all := lw_g (lw_at lw_m1 16 rfl) rfl
theorem q426 : (Jvm.Cond.selects "java/lang/StringBuilder" ({ cls := "java/lang/Object", name := "getClass", desc := "()Ljava/lang/Class;" } : Jvm.MethodName) ({ cls := "java/lang/Object", name := "getClass", desc := "()Ljava/lang/Class;" } : Jvm.MethodName)) ∈ lw_all := lw_g (lw_at lw_m2 39 rfl) rfl
theorem q521 : (Jvm.Cond.instantiable "java/lang/StringBuilder" (4 : Nat)) ∈ lw_all := lw_g (lw_at lw_m2 134 rfl) rfl
theorem q523 : (Jvm.Cond.instanceMethod ({ cls := "java/lang/StringBuilder", name := "<init>", desc := "()V" } : Jvm.MethodName)) ∈ lw_all := lw_g (lw_at lw_m2 136 rfl) rfl
theorem q524 : (Jvm.Cond.code ({ cls := "java/lang/StringBuilder", name := "<init>", desc := "()V" } : Jvm.MethodName) prog_41_method_1_code (1 : Nat) (Option.none : Option Jvm.ClassFile.FieldType)) ∈ lw_all := lw_g (lw_at lw_m2 137 rfl) rfl
theorem q525 : (Jvm.Cond.methodLink "java/lang/StringBuilder" (1 : Nat) ({ cls := "java/lang/AbstractStringBuilder", name := "<init>", desc := "(I)V" } : Jvm.MethodName)) ∈ lw_all := lw_g (lw_at lw_m2 138 rfl) rfl
theorem q543 : (Jvm.Cond.lays "java/lang/StringBuilder" "java/lang/AbstractStringBuilder" "value" "[B") ∈ lw_all := lw_g (lw_at lw_m2 156 rfl) rfl
theorem q545 : (Jvm.Cond.lays "java/lang/StringBuilder" "java/lang/AbstractStringBuilder" "coder" "B") ∈ lw_all := lw_g (lw_at lw_m2 158 rfl) rfl
theorem q547 : (Jvm.Cond.lays "java/lang/StringBuilder" "java/lang/AbstractStringBuilder" "maybeLatin1" "Z") ∈ lw_all := lw_g (lw_at lw_m2 160 rfl) rfl
theorem q549 : (Jvm.Cond.lays "java/lang/StringBuilder" "java/lang/AbstractStringBuilder" "count" "I") ∈ lw_all := lw_g (lw_at lw_m2 162 rfl) rfl
theorem q551 : (Jvm.Cond.superclass "java/lang/StringBuilder" "java/lang/AbstractStringBuilder") ∈ lw_all := lw_g (lw_at lw_m2 164 rfl) rfl
theorem q599 : (Jvm.Cond.instanceMethod ({ cls := "java/lang/StringBuilder", name := "append", desc := "(C)Ljava/lang/StringBuilder;" } : Jvm.MethodName)) ∈ lw_all := lw_g (lw_at lw_m2 212 rfl) rfl
theorem q600 : (Jvm.Cond.selects "java/lang/StringBuilder" ({ cls := "java/lang/StringBuilder", name := "append", desc := "(C)Ljava/lang/StringBuilder;" } : Jvm.MethodName) ({ cls := "java/lang/StringBuilder", name := "append", desc := "(C)Ljava/lang/StringBuilder;" } : Jvm.MethodName)) ∈ lw_all := lw_g (lw_at lw_m2 213 rfl) rfl
theorem q601 : (Jvm.Cond.code ({ cls := "java/lang/StringBuilder", name := "append", desc := "(C)Ljava/lang/StringBuilder;" } : Jvm.MethodName) prog_41_method_14_code (2 : Nat) (Option.some (Jvm.ClassFile.FieldType.object "java/lang/StringBuilder"))) ∈ lw_all := lw_g (lw_at lw_m2 214 rfl) rfl
theorem q602 : (Jvm.Cond.methodLink "java/lang/StringBuilder" (50 : Nat) ({ cls := "java/lang/AbstractStringBuilder", name := "append", desc := "(C)Ljava/lang/AbstractStringBuilder;" } : Jvm.MethodName)) ∈ lw_all := lw_g (lw_at lw_m2 215 rfl) rfl
theorem q628 : (Jvm.Cond.selects "java/lang/StringBuilder" ({ cls := "java/lang/AbstractStringBuilder", name := "isLatin1", desc := "()Z" } : Jvm.MethodName) ({ cls := "java/lang/AbstractStringBuilder", name := "isLatin1", desc := "()Z" } : Jvm.MethodName)) ∈ lw_all := lw_g (lw_at lw_m3 1 rfl) rfl
theorem q679 : (Jvm.Cond.instanceMethod ({ cls := "java/lang/StringBuilder", name := "toString", desc := "()Ljava/lang/String;" } : Jvm.MethodName)) ∈ lw_all := lw_g (lw_at lw_m3 52 rfl) rfl
theorem q680 : (Jvm.Cond.selects "java/lang/StringBuilder" ({ cls := "java/lang/StringBuilder", name := "toString", desc := "()Ljava/lang/String;" } : Jvm.MethodName) ({ cls := "java/lang/StringBuilder", name := "toString", desc := "()Ljava/lang/String;" } : Jvm.MethodName)) ∈ lw_all := lw_g (lw_at lw_m3 53 rfl) rfl
theorem q681 : (Jvm.Cond.code ({ cls := "java/lang/StringBuilder", name := "toString", desc := "()Ljava/lang/String;" } : Jvm.MethodName) prog_41_method_42_code (1 : Nat) (Option.some (Jvm.ClassFile.FieldType.object "java/lang/String"))) ∈ lw_all := lw_g (lw_at lw_m3 54 rfl) rfl
theorem q682 : (Jvm.Cond.classLink "java/lang/StringBuilder" (18 : Nat) "java/lang/String") ∈ lw_all := lw_g (lw_at lw_m3 55 rfl) rfl
theorem q684 : (Jvm.Cond.methodLink "java/lang/StringBuilder" (137 : Nat) ({ cls := "java/lang/String", name := "<init>", desc := "(Ljava/lang/StringBuilder;)V" } : Jvm.MethodName)) ∈ lw_all := lw_g (lw_at lw_m3 57 rfl) rfl
theorem q694 : (Jvm.Cond.selects "java/lang/StringBuilder" ({ cls := "java/lang/AbstractStringBuilder", name := "getValue", desc := "()[B" } : Jvm.MethodName) ({ cls := "java/lang/AbstractStringBuilder", name := "getValue", desc := "()[B" } : Jvm.MethodName)) ∈ lw_all := lw_g (lw_at lw_m3 67 rfl) rfl
theorem q699 : (Jvm.Cond.selects "java/lang/StringBuilder" ({ cls := "java/lang/AbstractStringBuilder", name := "length", desc := "()I" } : Jvm.MethodName) ({ cls := "java/lang/StringBuilder", name := "length", desc := "()I" } : Jvm.MethodName)) ∈ lw_all := lw_g (lw_at lw_m3 72 rfl) rfl
theorem q700 : (Jvm.Cond.instanceMethod ({ cls := "java/lang/StringBuilder", name := "length", desc := "()I" } : Jvm.MethodName)) ∈ lw_all := lw_g (lw_at lw_m3 73 rfl) rfl
theorem q701 : (Jvm.Cond.code ({ cls := "java/lang/StringBuilder", name := "length", desc := "()I" } : Jvm.MethodName) prog_41_method_93_code (1 : Nat) (Option.some Jvm.ClassFile.FieldType.int)) ∈ lw_all := lw_g (lw_at lw_m3 74 rfl) rfl
theorem q702 : (Jvm.Cond.methodLink "java/lang/StringBuilder" (343 : Nat) ({ cls := "java/lang/AbstractStringBuilder", name := "length", desc := "()I" } : Jvm.MethodName)) ∈ lw_all := lw_g (lw_at lw_m3 75 rfl) rfl
theorem q763 : (Jvm.Cond.instanceMethod ({ cls := "java/lang/StringBuilder", name := "append", desc := "(I)Ljava/lang/StringBuilder;" } : Jvm.MethodName)) ∈ lw_all := lw_g (lw_at lw_m3 136 rfl) rfl
theorem q764 : (Jvm.Cond.selects "java/lang/StringBuilder" ({ cls := "java/lang/StringBuilder", name := "append", desc := "(I)Ljava/lang/StringBuilder;" } : Jvm.MethodName) ({ cls := "java/lang/StringBuilder", name := "append", desc := "(I)Ljava/lang/StringBuilder;" } : Jvm.MethodName)) ∈ lw_all := lw_g (lw_at lw_m3 137 rfl) rfl
theorem q765 : (Jvm.Cond.code ({ cls := "java/lang/StringBuilder", name := "append", desc := "(I)Ljava/lang/StringBuilder;" } : Jvm.MethodName) prog_41_method_15_code (2 : Nat) (Option.some (Jvm.ClassFile.FieldType.object "java/lang/StringBuilder"))) ∈ lw_all := lw_g (lw_at lw_m3 138 rfl) rfl
theorem q766 : (Jvm.Cond.methodLink "java/lang/StringBuilder" (53 : Nat) ({ cls := "java/lang/AbstractStringBuilder", name := "append", desc := "(I)Ljava/lang/AbstractStringBuilder;" } : Jvm.MethodName)) ∈ lw_all := lw_g (lw_at lw_m3 139 rfl) rfl
theorem q798 : (Jvm.Cond.instanceMethod ({ cls := "java/lang/StringBuilder", name := "append", desc := "(Ljava/lang/String;)Ljava/lang/StringBuilder;" } : Jvm.MethodName)) ∈ lw_all := lw_g (lw_at lw_m3 171 rfl) rfl
theorem q799 : (Jvm.Cond.selects "java/lang/StringBuilder" ({ cls := "java/lang/StringBuilder", name := "append", desc := "(Ljava/lang/String;)Ljava/lang/StringBuilder;" } : Jvm.MethodName) ({ cls := "java/lang/StringBuilder", name := "append", desc := "(Ljava/lang/String;)Ljava/lang/StringBuilder;" } : Jvm.MethodName)) ∈ lw_all := lw_g (lw_at lw_m3 172 rfl) rfl
theorem q800 : (Jvm.Cond.code ({ cls := "java/lang/StringBuilder", name := "append", desc := "(Ljava/lang/String;)Ljava/lang/StringBuilder;" } : Jvm.MethodName) prog_41_method_7_code (2 : Nat) (Option.some (Jvm.ClassFile.FieldType.object "java/lang/StringBuilder"))) ∈ lw_all := lw_g (lw_at lw_m3 173 rfl) rfl
theorem q801 : (Jvm.Cond.methodLink "java/lang/StringBuilder" (29 : Nat) ({ cls := "java/lang/AbstractStringBuilder", name := "append", desc := "(Ljava/lang/String;)Ljava/lang/AbstractStringBuilder;" } : Jvm.MethodName)) ∈ lw_all := lw_g (lw_at lw_m3 174 rfl) rfl
theorem q1274 : (Jvm.Cond.instanceMethod ({ cls := "java/lang/StringBuilder", name := "setLength", desc := "(I)V" } : Jvm.MethodName)) ∈ lw_all := lw_g (lw_at lw_m5 167 rfl) rfl
theorem q1275 : (Jvm.Cond.selects "java/lang/StringBuilder" ({ cls := "java/lang/StringBuilder", name := "setLength", desc := "(I)V" } : Jvm.MethodName) ({ cls := "java/lang/StringBuilder", name := "setLength", desc := "(I)V" } : Jvm.MethodName)) ∈ lw_all := lw_g (lw_at lw_m5 168 rfl) rfl
theorem q1276 : (Jvm.Cond.code ({ cls := "java/lang/StringBuilder", name := "setLength", desc := "(I)V" } : Jvm.MethodName) prog_41_method_89_code (2 : Nat) (Option.none : Option Jvm.ClassFile.FieldType)) ∈ lw_all := lw_g (lw_at lw_m5 169 rfl) rfl
theorem q1277 : (Jvm.Cond.methodLink "java/lang/StringBuilder" (333 : Nat) ({ cls := "java/lang/AbstractStringBuilder", name := "setLength", desc := "(I)V" } : Jvm.MethodName)) ∈ lw_all := lw_g (lw_at lw_m5 170 rfl) rfl
theorem q1351 : (Jvm.Cond.instanceMethod ({ cls := "java/lang/StringBuilder", name := "charAt", desc := "(I)C" } : Jvm.MethodName)) ∈ lw_all := lw_g (lw_at lw_m6 4 rfl) rfl
theorem q1352 : (Jvm.Cond.selects "java/lang/StringBuilder" ({ cls := "java/lang/StringBuilder", name := "charAt", desc := "(I)C" } : Jvm.MethodName) ({ cls := "java/lang/StringBuilder", name := "charAt", desc := "(I)C" } : Jvm.MethodName)) ∈ lw_all := lw_g (lw_at lw_m6 5 rfl) rfl
theorem q1353 : (Jvm.Cond.code ({ cls := "java/lang/StringBuilder", name := "charAt", desc := "(I)C" } : Jvm.MethodName) prog_41_method_88_code (2 : Nat) (Option.some Jvm.ClassFile.FieldType.char)) ∈ lw_all := lw_g (lw_at lw_m6 6 rfl) rfl
theorem q1354 : (Jvm.Cond.methodLink "java/lang/StringBuilder" (329 : Nat) ({ cls := "java/lang/AbstractStringBuilder", name := "charAt", desc := "(I)C" } : Jvm.MethodName)) ∈ lw_all := lw_g (lw_at lw_m6 7 rfl) rfl
theorem q2963 : (Jvm.Cond.selects "java/lang/StringBuilder" ({ cls := "java/lang/StringBuilder", name := "length", desc := "()I" } : Jvm.MethodName) ({ cls := "java/lang/StringBuilder", name := "length", desc := "()I" } : Jvm.MethodName)) ∈ lw_all := lw_g (lw_at lw_m12 176 rfl) rfl
theorem q2977 : (Jvm.Cond.castable "java/lang/StringBuilder" "java/lang/Object") ∈ lw_tbl := lw_at lw_m12 190 rfl
theorem in_J9 : ∀ w ∈ wsJ90, w ∈ lw_all := lw_in wsJ90 [543, 545, 547, 549] (by decide +kernel) (by decide +kernel)
/-! java/lang/String -/
def RJ10 : String := "java/lang/String"
def TJ10 : u_T := fun k => match k with
  | 0 => ("java/lang/String", "value", "[B", true)
  | 1 => ("java/lang/String", "coder", "B", true)
  | 2 => ("java/lang/String", "hash", "I", false)
  | _ => ("java/lang/String", "hashIsZero", "Z", false)
def tyJ10 : Nat → FieldType := fun k => match k with
  | 0 => .array .byte
  | 1 => .byte
  | 2 => .int
  | _ => .boolean
abbrev wsJ100 : List Cond := u_ws RJ10 TJ10 4
theorem nmJ10 : ∀ a, a < 4 → ∀ b, b < 4 → a ≠ b → (TJ10 a).2.1 ≠ (TJ10 b).2.1 := by decide +kernel
theorem tyJ10_ok : ∀ k, k < 4 → parseFieldDescriptor (TJ10 k).2.2.1 = some (tyJ10 k) := by decide +kernel
abbrev cJ10_checkBoundsOffCount : ByteArray := prog_40_method_157_code
def yJ10_checkBoundsOffCount : MethodName := ⟨RJ10, "checkBoundsOffCount", "(III)I"⟩
abbrev cJ10_checkIndex : ByteArray := prog_40_method_155_code
def yJ10_checkIndex : MethodName := ⟨RJ10, "checkIndex", "(II)V"⟩
abbrev cJ10_init : ByteArray := prog_40_method_53_code
def yJ10_init : MethodName := ⟨RJ10, "<init>", "(Ljava/lang/StringBuilder;)V"⟩
abbrev cJ10_init_2 : ByteArray := prog_40_method_150_code
def yJ10_init_2 : MethodName := ⟨RJ10, "<init>", "(Ljava/lang/AbstractStringBuilder;Ljava/lang/Void;)V"⟩
abbrev cJ10_checkBoundsBeginEnd : ByteArray := prog_40_method_158_code
def yJ10_checkBoundsBeginEnd : MethodName := ⟨RJ10, "checkBoundsBeginEnd", "(III)V"⟩
abbrev cJ10_length : ByteArray := prog_40_method_54_code
def yJ10_length : MethodName := ⟨RJ10, "length", "()I"⟩
abbrev cJ10_coder : ByteArray := prog_40_method_152_code
def yJ10_coder : MethodName := ⟨RJ10, "coder", "()B"⟩
abbrev cJ10_getBytes : ByteArray := prog_40_method_147_code
def yJ10_getBytes : MethodName := ⟨RJ10, "getBytes", "([BIB)V"⟩
abbrev cJ10_equals : ByteArray := prog_40_method_66_code
def yJ10_equals : MethodName := ⟨RJ10, "equals", "(Ljava/lang/Object;)Z"⟩
abbrev cJ10_hashCode : ByteArray := prog_40_method_78_code
def yJ10_hashCode : MethodName := ⟨RJ10, "hashCode", "()I"⟩
abbrev cJ10_isLatin1 : ByteArray := prog_40_method_154_code
def yJ10_isLatin1 : MethodName := ⟨RJ10, "isLatin1", "()Z"⟩
abbrev cJ10_charAt : ByteArray := prog_40_method_56_code
def yJ10_charAt : MethodName := ⟨RJ10, "charAt", "(I)C"⟩
theorem q164 : (Jvm.Cond.initialized "java/lang/String") ∈ lw_all := lw_g (lw_at lw_m1 17 rfl) rfl
theorem q425 : (Jvm.Cond.selects "java/lang/String" ({ cls := "java/lang/Object", name := "getClass", desc := "()Ljava/lang/Class;" } : Jvm.MethodName) ({ cls := "java/lang/Object", name := "getClass", desc := "()Ljava/lang/Class;" } : Jvm.MethodName)) ∈ lw_all := lw_g (lw_at lw_m2 38 rfl) rfl
theorem q530 : (Jvm.Cond.laysStatic "java/lang/String" "COMPACT_STRINGS" "Z") ∈ lw_tbl := lw_at lw_m2 143 rfl
theorem q541 : (Jvm.Cond.fieldLink "java/lang/String" (1048 : Nat) "java/lang/AbstractStringBuilder" "maybeLatin1" "Z") ∈ lw_all := lw_g (lw_at lw_m2 154 rfl) rfl
theorem q650 : (Jvm.Cond.static ({ cls := "java/lang/String", name := "checkBoundsOffCount", desc := "(III)I" } : Jvm.MethodName)) ∈ lw_all := lw_g (lw_at lw_m3 23 rfl) rfl
theorem q651 : (Jvm.Cond.code ({ cls := "java/lang/String", name := "checkBoundsOffCount", desc := "(III)I" } : Jvm.MethodName) prog_40_method_157_code (3 : Nat) (Option.some Jvm.ClassFile.FieldType.int)) ∈ lw_all := lw_g (lw_at lw_m3 24 rfl) rfl
theorem q652 : (Jvm.Cond.fieldLink "java/lang/String" (1053 : Nat) "jdk/internal/util/Preconditions" "SIOOBE_FORMATTER" "Ljava/util/function/BiFunction;") ∈ lw_all := lw_g (lw_at lw_m3 25 rfl) rfl
theorem q654 : (Jvm.Cond.methodLink "java/lang/String" (1065 : Nat) ({ cls := "jdk/internal/util/Preconditions", name := "checkFromIndexSize", desc := "(IIILjava/util/function/BiFunction;)I" } : Jvm.MethodName)) ∈ lw_all := lw_g (lw_at lw_m3 27 rfl) rfl
theorem q673 : (Jvm.Cond.static ({ cls := "java/lang/String", name := "checkIndex", desc := "(II)V" } : Jvm.MethodName)) ∈ lw_all := lw_g (lw_at lw_m3 46 rfl) rfl
theorem q674 : (Jvm.Cond.code ({ cls := "java/lang/String", name := "checkIndex", desc := "(II)V" } : Jvm.MethodName) prog_40_method_155_code (2 : Nat) (Option.none : Option Jvm.ClassFile.FieldType)) ∈ lw_all := lw_g (lw_at lw_m3 47 rfl) rfl
theorem q675 : (Jvm.Cond.methodLink "java/lang/String" (1059 : Nat) ({ cls := "jdk/internal/util/Preconditions", name := "checkIndex", desc := "(IILjava/util/function/BiFunction;)I" } : Jvm.MethodName)) ∈ lw_all := lw_g (lw_at lw_m3 48 rfl) rfl
theorem q683 : (Jvm.Cond.instantiable "java/lang/String" (4 : Nat)) ∈ lw_all := lw_g (lw_at lw_m3 56 rfl) rfl
theorem q685 : (Jvm.Cond.instanceMethod ({ cls := "java/lang/String", name := "<init>", desc := "(Ljava/lang/StringBuilder;)V" } : Jvm.MethodName)) ∈ lw_all := lw_g (lw_at lw_m3 58 rfl) rfl
theorem q686 : (Jvm.Cond.code ({ cls := "java/lang/String", name := "<init>", desc := "(Ljava/lang/StringBuilder;)V" } : Jvm.MethodName) prog_40_method_53_code (2 : Nat) (Option.none : Option Jvm.ClassFile.FieldType)) ∈ lw_all := lw_g (lw_at lw_m3 59 rfl) rfl
theorem q687 : (Jvm.Cond.methodLink "java/lang/String" (489 : Nat) ({ cls := "java/lang/String", name := "<init>", desc := "(Ljava/lang/AbstractStringBuilder;Ljava/lang/Void;)V" } : Jvm.MethodName)) ∈ lw_all := lw_g (lw_at lw_m3 60 rfl) rfl
theorem q688 : (Jvm.Cond.instanceMethod ({ cls := "java/lang/String", name := "<init>", desc := "(Ljava/lang/AbstractStringBuilder;Ljava/lang/Void;)V" } : Jvm.MethodName)) ∈ lw_all := lw_g (lw_at lw_m3 61 rfl) rfl
theorem q689 : (Jvm.Cond.code ({ cls := "java/lang/String", name := "<init>", desc := "(Ljava/lang/AbstractStringBuilder;Ljava/lang/Void;)V" } : Jvm.MethodName) prog_40_method_150_code (5 : Nat) (Option.none : Option Jvm.ClassFile.FieldType)) ∈ lw_all := lw_g (lw_at lw_m3 62 rfl) rfl
theorem q690 : (Jvm.Cond.methodLink "java/lang/String" (1 : Nat) ({ cls := "java/lang/Object", name := "<init>", desc := "()V" } : Jvm.MethodName)) ∈ lw_all := lw_g (lw_at lw_m3 63 rfl) rfl
theorem q691 : (Jvm.Cond.methodLink "java/lang/String" (552 : Nat) ({ cls := "java/lang/AbstractStringBuilder", name := "getValue", desc := "()[B" } : Jvm.MethodName)) ∈ lw_all := lw_g (lw_at lw_m3 64 rfl) rfl
theorem q696 : (Jvm.Cond.methodLink "java/lang/String" (549 : Nat) ({ cls := "java/lang/AbstractStringBuilder", name := "length", desc := "()I" } : Jvm.MethodName)) ∈ lw_all := lw_g (lw_at lw_m3 69 rfl) rfl
theorem q704 : (Jvm.Cond.methodLink "java/lang/String" (1047 : Nat) ({ cls := "java/lang/AbstractStringBuilder", name := "isLatin1", desc := "()Z" } : Jvm.MethodName)) ∈ lw_all := lw_g (lw_at lw_m3 77 rfl) rfl
theorem q705 : (Jvm.Cond.methodLink "java/lang/String" (54 : Nat) ({ cls := "java/util/Arrays", name := "copyOfRange", desc := "([BII)[B" } : Jvm.MethodName)) ∈ lw_all := lw_g (lw_at lw_m3 78 rfl) rfl
theorem q786 : (Jvm.Cond.static ({ cls := "java/lang/String", name := "checkBoundsBeginEnd", desc := "(III)V" } : Jvm.MethodName)) ∈ lw_all := lw_g (lw_at lw_m3 159 rfl) rfl
theorem q787 : (Jvm.Cond.code ({ cls := "java/lang/String", name := "checkBoundsBeginEnd", desc := "(III)V" } : Jvm.MethodName) prog_40_method_158_code (3 : Nat) (Option.none : Option Jvm.ClassFile.FieldType)) ∈ lw_all := lw_g (lw_at lw_m3 160 rfl) rfl
theorem q788 : (Jvm.Cond.methodLink "java/lang/String" (1062 : Nat) ({ cls := "jdk/internal/util/Preconditions", name := "checkFromToIndex", desc := "(IIILjava/util/function/BiFunction;)I" } : Jvm.MethodName)) ∈ lw_all := lw_g (lw_at lw_m3 161 rfl) rfl
theorem q812 : (Jvm.Cond.instanceMethod ({ cls := "java/lang/String", name := "length", desc := "()I" } : Jvm.MethodName)) ∈ lw_all := lw_g (lw_at lw_m3 185 rfl) rfl
theorem q813 : (Jvm.Cond.selects "java/lang/String" ({ cls := "java/lang/String", name := "length", desc := "()I" } : Jvm.MethodName) ({ cls := "java/lang/String", name := "length", desc := "()I" } : Jvm.MethodName)) ∈ lw_all := lw_g (lw_at lw_m3 186 rfl) rfl
theorem q814 : (Jvm.Cond.code ({ cls := "java/lang/String", name := "length", desc := "()I" } : Jvm.MethodName) prog_40_method_54_code (1 : Nat) (Option.some Jvm.ClassFile.FieldType.int)) ∈ lw_all := lw_g (lw_at lw_m3 187 rfl) rfl
theorem q815 : (Jvm.Cond.methodLink "java/lang/String" (335 : Nat) ({ cls := "java/lang/String", name := "coder", desc := "()B" } : Jvm.MethodName)) ∈ lw_all := lw_g (lw_at lw_m3 188 rfl) rfl
theorem q816 : (Jvm.Cond.instanceMethod ({ cls := "java/lang/String", name := "coder", desc := "()B" } : Jvm.MethodName)) ∈ lw_all := lw_g (lw_at lw_m3 189 rfl) rfl
theorem q817 : (Jvm.Cond.selects "java/lang/String" ({ cls := "java/lang/String", name := "coder", desc := "()B" } : Jvm.MethodName) ({ cls := "java/lang/String", name := "coder", desc := "()B" } : Jvm.MethodName)) ∈ lw_all := lw_g (lw_at lw_m3 190 rfl) rfl
theorem q818 : (Jvm.Cond.code ({ cls := "java/lang/String", name := "coder", desc := "()B" } : Jvm.MethodName) prog_40_method_152_code (1 : Nat) (Option.some Jvm.ClassFile.FieldType.byte)) ∈ lw_all := lw_g (lw_at lw_m3 191 rfl) rfl
theorem q819 : (Jvm.Cond.fieldLink "java/lang/String" (38 : Nat) "java/lang/String" "COMPACT_STRINGS" "Z") ∈ lw_all := lw_g (lw_at lw_m3 192 rfl) rfl
theorem q830 : (Jvm.Cond.instanceMethod ({ cls := "java/lang/String", name := "getBytes", desc := "([BIB)V" } : Jvm.MethodName)) ∈ lw_all := lw_g (lw_at lw_m3 203 rfl) rfl
theorem q831 : (Jvm.Cond.selects "java/lang/String" ({ cls := "java/lang/String", name := "getBytes", desc := "([BIB)V" } : Jvm.MethodName) ({ cls := "java/lang/String", name := "getBytes", desc := "([BIB)V" } : Jvm.MethodName)) ∈ lw_all := lw_g (lw_at lw_m3 204 rfl) rfl
theorem q832 : (Jvm.Cond.code ({ cls := "java/lang/String", name := "getBytes", desc := "([BIB)V" } : Jvm.MethodName) prog_40_method_147_code (4 : Nat) (Option.none : Option Jvm.ClassFile.FieldType)) ∈ lw_all := lw_g (lw_at lw_m3 205 rfl) rfl
theorem q833 : (Jvm.Cond.methodLink "java/lang/String" (212 : Nat) ({ cls := "java/lang/System", name := "arraycopy", desc := "(Ljava/lang/Object;ILjava/lang/Object;II)V" } : Jvm.MethodName)) ∈ lw_all := lw_g (lw_at lw_m3 206 rfl) rfl
theorem q834 : (Jvm.Cond.methodLink "java/lang/String" (106 : Nat) ({ cls := "java/lang/StringLatin1", name := "inflate", desc := "([BI[BII)V" } : Jvm.MethodName)) ∈ lw_all := lw_g (lw_at lw_m3 207 rfl) rfl
theorem q861 : (Jvm.Cond.methodLink "java/lang/String" (1051 : Nat) ({ cls := "java/lang/StringUTF16", name := "compress", desc := "([BII)[B" } : Jvm.MethodName)) ∈ lw_all := lw_g (lw_at lw_m3 234 rfl) rfl
theorem q871 : (Jvm.Cond.methodLink "java/lang/String" (47 : Nat) ({ cls := "java/lang/StringUTF16", name := "coderFromArrayLen", desc := "([BI)B" } : Jvm.MethodName)) ∈ lw_all := lw_g (lw_at lw_m4 4 rfl) rfl
theorem q874 : (Jvm.Cond.fieldLink "java/lang/String" (9 : Nat) "java/lang/String" "value" "[B") ∈ lw_all := lw_g (lw_at lw_m4 7 rfl) rfl
theorem q875 : (Jvm.Cond.fieldLink "java/lang/String" (15 : Nat) "java/lang/String" "coder" "B") ∈ lw_all := lw_g (lw_at lw_m4 8 rfl) rfl
theorem q876 : (Jvm.Cond.fieldLink "java/lang/String" (19 : Nat) "java/lang/String" "hash" "I") ∈ lw_all := lw_g (lw_at lw_m4 9 rfl) rfl
theorem q877 : (Jvm.Cond.fieldLink "java/lang/String" (23 : Nat) "java/lang/String" "hashIsZero" "Z") ∈ lw_all := lw_g (lw_at lw_m4 10 rfl) rfl
theorem q878 : (Jvm.Cond.laysFinal "java/lang/String" "java/lang/String" "value" "[B") ∈ lw_all := lw_g (lw_at lw_m4 11 rfl) rfl
theorem q879 : (Jvm.Cond.soleField "java/lang/String" "value") ∈ lw_all := lw_g (lw_at lw_m4 12 rfl) rfl
theorem q880 : (Jvm.Cond.laysFinal "java/lang/String" "java/lang/String" "coder" "B") ∈ lw_all := lw_g (lw_at lw_m4 13 rfl) rfl
theorem q881 : (Jvm.Cond.soleField "java/lang/String" "coder") ∈ lw_all := lw_g (lw_at lw_m4 14 rfl) rfl
theorem q882 : (Jvm.Cond.lays "java/lang/String" "java/lang/String" "hash" "I") ∈ lw_all := lw_g (lw_at lw_m4 15 rfl) rfl
theorem q883 : (Jvm.Cond.soleField "java/lang/String" "hash") ∈ lw_all := lw_g (lw_at lw_m4 16 rfl) rfl
theorem q884 : (Jvm.Cond.lays "java/lang/String" "java/lang/String" "hashIsZero" "Z") ∈ lw_all := lw_g (lw_at lw_m4 17 rfl) rfl
theorem q885 : (Jvm.Cond.soleField "java/lang/String" "hashIsZero") ∈ lw_all := lw_g (lw_at lw_m4 18 rfl) rfl
theorem q886 : (Jvm.Cond.superclass "java/lang/String" "java/lang/Object") ∈ lw_all := lw_g (lw_at lw_m4 19 rfl) rfl
theorem q943 : (Jvm.Cond.instanceMethod ({ cls := "java/lang/String", name := "equals", desc := "(Ljava/lang/Object;)Z" } : Jvm.MethodName)) ∈ lw_all := lw_g (lw_at lw_m4 76 rfl) rfl
theorem q944 : (Jvm.Cond.selects "java/lang/String" ({ cls := "java/lang/String", name := "equals", desc := "(Ljava/lang/Object;)Z" } : Jvm.MethodName) ({ cls := "java/lang/String", name := "equals", desc := "(Ljava/lang/Object;)Z" } : Jvm.MethodName)) ∈ lw_all := lw_g (lw_at lw_m4 77 rfl) rfl
theorem q945 : (Jvm.Cond.code ({ cls := "java/lang/String", name := "equals", desc := "(Ljava/lang/Object;)Z" } : Jvm.MethodName) prog_40_method_66_code (3 : Nat) (Option.some Jvm.ClassFile.FieldType.boolean)) ∈ lw_all := lw_g (lw_at lw_m4 78 rfl) rfl
theorem q946 : (Jvm.Cond.classLink "java/lang/String" (10 : Nat) "java/lang/String") ∈ lw_all := lw_g (lw_at lw_m4 79 rfl) rfl
theorem q947 : (Jvm.Cond.methodLink "java/lang/String" (541 : Nat) ({ cls := "java/lang/StringLatin1", name := "equals", desc := "([B[B)Z" } : Jvm.MethodName)) ∈ lw_all := lw_g (lw_at lw_m4 80 rfl) rfl
theorem q1661 : (Jvm.Cond.instanceMethod ({ cls := "java/lang/String", name := "hashCode", desc := "()I" } : Jvm.MethodName)) ∈ lw_all := lw_g (lw_at lw_m7 74 rfl) rfl
theorem q1662 : (Jvm.Cond.selects "java/lang/String" ({ cls := "java/lang/String", name := "hashCode", desc := "()I" } : Jvm.MethodName) ({ cls := "java/lang/String", name := "hashCode", desc := "()I" } : Jvm.MethodName)) ∈ lw_all := lw_g (lw_at lw_m7 75 rfl) rfl
theorem q1663 : (Jvm.Cond.code ({ cls := "java/lang/String", name := "hashCode", desc := "()I" } : Jvm.MethodName) prog_40_method_78_code (2 : Nat) (Option.some Jvm.ClassFile.FieldType.int)) ∈ lw_all := lw_g (lw_at lw_m7 76 rfl) rfl
theorem q1664 : (Jvm.Cond.methodLink "java/lang/String" (492 : Nat) ({ cls := "java/lang/String", name := "isLatin1", desc := "()Z" } : Jvm.MethodName)) ∈ lw_all := lw_g (lw_at lw_m7 77 rfl) rfl
theorem q1665 : (Jvm.Cond.instanceMethod ({ cls := "java/lang/String", name := "isLatin1", desc := "()Z" } : Jvm.MethodName)) ∈ lw_all := lw_g (lw_at lw_m7 78 rfl) rfl
theorem q1666 : (Jvm.Cond.selects "java/lang/String" ({ cls := "java/lang/String", name := "isLatin1", desc := "()Z" } : Jvm.MethodName) ({ cls := "java/lang/String", name := "isLatin1", desc := "()Z" } : Jvm.MethodName)) ∈ lw_all := lw_g (lw_at lw_m7 79 rfl) rfl
theorem q1667 : (Jvm.Cond.code ({ cls := "java/lang/String", name := "isLatin1", desc := "()Z" } : Jvm.MethodName) prog_40_method_154_code (1 : Nat) (Option.some Jvm.ClassFile.FieldType.boolean)) ∈ lw_all := lw_g (lw_at lw_m7 80 rfl) rfl
theorem q1668 : (Jvm.Cond.methodLink "java/lang/String" (628 : Nat) ({ cls := "java/lang/StringLatin1", name := "hashCode", desc := "([B)I" } : Jvm.MethodName)) ∈ lw_all := lw_g (lw_at lw_m7 81 rfl) rfl
theorem q1717 : (Jvm.Cond.methodLink "java/lang/String" (632 : Nat) ({ cls := "java/lang/StringUTF16", name := "hashCode", desc := "([B)I" } : Jvm.MethodName)) ∈ lw_all := lw_g (lw_at lw_m7 130 rfl) rfl
theorem q2004 : (Jvm.Cond.instanceMethod ({ cls := "java/lang/String", name := "charAt", desc := "(I)C" } : Jvm.MethodName)) ∈ lw_all := lw_g (lw_at lw_m8 177 rfl) rfl
theorem q2005 : (Jvm.Cond.selects "java/lang/String" ({ cls := "java/lang/String", name := "charAt", desc := "(I)C" } : Jvm.MethodName) ({ cls := "java/lang/String", name := "charAt", desc := "(I)C" } : Jvm.MethodName)) ∈ lw_all := lw_g (lw_at lw_m8 178 rfl) rfl
theorem q2006 : (Jvm.Cond.code ({ cls := "java/lang/String", name := "charAt", desc := "(I)C" } : Jvm.MethodName) prog_40_method_56_code (2 : Nat) (Option.some Jvm.ClassFile.FieldType.char)) ∈ lw_all := lw_g (lw_at lw_m8 179 rfl) rfl
theorem q2007 : (Jvm.Cond.methodLink "java/lang/String" (495 : Nat) ({ cls := "java/lang/StringLatin1", name := "charAt", desc := "([BI)C" } : Jvm.MethodName)) ∈ lw_all := lw_g (lw_at lw_m8 180 rfl) rfl
theorem q2011 : (Jvm.Cond.methodLink "java/lang/String" (498 : Nat) ({ cls := "java/lang/StringUTF16", name := "charAt", desc := "([BI)C" } : Jvm.MethodName)) ∈ lw_all := lw_g (lw_at lw_m8 184 rfl) rfl
theorem q2983 : (Jvm.Cond.castable "java/lang/String" "java/lang/Object") ∈ lw_tbl := lw_at lw_m12 196 rfl
theorem in_J10 : ∀ w ∈ wsJ100, w ∈ lw_all := lw_in wsJ100 [878, 880, 882, 884] (by decide +kernel) (by decide +kernel)
/-! java/lang/StringUTF16 -/
def RJ11 : String := "java/lang/StringUTF16"
abbrev cJ11_newBytesFor : ByteArray := prog_44_method_2_code
def yJ11_newBytesFor : MethodName := ⟨RJ11, "newBytesFor", "(I)[B"⟩
abbrev cJ11_newBytesLength : ByteArray := prog_44_method_3_code
def yJ11_newBytesLength : MethodName := ⟨RJ11, "newBytesLength", "(I)I"⟩
abbrev cJ11_inflate : ByteArray := prog_44_method_86_code
def yJ11_inflate : MethodName := ⟨RJ11, "inflate", "([BI[BII)V"⟩
abbrev cJ11_checkBoundsOffCount : ByteArray := prog_44_method_94_code
def yJ11_checkBoundsOffCount : MethodName := ⟨RJ11, "checkBoundsOffCount", "(II[B)V"⟩
abbrev cJ11_length : ByteArray := prog_44_method_6_code
def yJ11_length : MethodName := ⟨RJ11, "length", "([B)I"⟩
abbrev cJ11_putChar : ByteArray := prog_44_method_4_code
def yJ11_putChar : MethodName := ⟨RJ11, "putChar", "([BII)V"⟩
abbrev cJ11_putCharSB : ByteArray := prog_44_method_71_code
def yJ11_putCharSB : MethodName := ⟨RJ11, "putCharSB", "([BII)V"⟩
abbrev cJ11_checkIndex : ByteArray := prog_44_method_91_code
def yJ11_checkIndex : MethodName := ⟨RJ11, "checkIndex", "(I[B)V"⟩
abbrev cJ11_getChars : ByteArray := prog_44_method_77_code
def yJ11_getChars : MethodName := ⟨RJ11, "getChars", "(III[B)I"⟩
abbrev cJ11_checkBoundsBeginEnd : ByteArray := prog_44_method_93_code
def yJ11_checkBoundsBeginEnd : MethodName := ⟨RJ11, "checkBoundsBeginEnd", "(II[B)V"⟩
abbrev cJ11_getChars_2 : ByteArray := prog_44_method_89_code
def yJ11_getChars_2 : MethodName := ⟨RJ11, "getChars", "(II[B)I"⟩
abbrev cJ11_putCharsAt : ByteArray := prog_44_method_81_code
def yJ11_putCharsAt : MethodName := ⟨RJ11, "putCharsAt", "([BICCCC)I"⟩
abbrev cJ11_compress : ByteArray := prog_44_method_17_code
def yJ11_compress : MethodName := ⟨RJ11, "compress", "([BII)[B"⟩
abbrev cJ11_compress_2 : ByteArray := prog_44_method_22_code
def yJ11_compress_2 : MethodName := ⟨RJ11, "compress", "([BI[BII)I"⟩
abbrev cJ11_getChar : ByteArray := prog_44_method_5_code
def yJ11_getChar : MethodName := ⟨RJ11, "getChar", "([BI)C"⟩
abbrev cJ11_coderFromArrayLen : ByteArray := prog_44_method_15_code
def yJ11_coderFromArrayLen : MethodName := ⟨RJ11, "coderFromArrayLen", "([BI)B"⟩
abbrev cJ11_fillNull : ByteArray := prog_44_method_70_code
def yJ11_fillNull : MethodName := ⟨RJ11, "fillNull", "([BII)V"⟩
abbrev cJ11_hashCode : ByteArray := prog_44_method_39_code
def yJ11_hashCode : MethodName := ⟨RJ11, "hashCode", "([B)I"⟩
abbrev cJ11_charAt : ByteArray := prog_44_method_83_code
def yJ11_charAt : MethodName := ⟨RJ11, "charAt", "([BI)C"⟩
theorem q165 : (Jvm.Cond.initialized "java/lang/StringUTF16") ∈ lw_all := lw_g (lw_at lw_m1 18 rfl) rfl
theorem q532 : (Jvm.Cond.static ({ cls := "java/lang/StringUTF16", name := "newBytesFor", desc := "(I)[B" } : Jvm.MethodName)) ∈ lw_all := lw_g (lw_at lw_m2 145 rfl) rfl
theorem q533 : (Jvm.Cond.code ({ cls := "java/lang/StringUTF16", name := "newBytesFor", desc := "(I)[B" } : Jvm.MethodName) prog_44_method_2_code (1 : Nat) (Option.some (Jvm.ClassFile.FieldType.array Jvm.ClassFile.FieldType.byte))) ∈ lw_all := lw_g (lw_at lw_m2 146 rfl) rfl
theorem q534 : (Jvm.Cond.methodLink "java/lang/StringUTF16" (11 : Nat) ({ cls := "java/lang/StringUTF16", name := "newBytesLength", desc := "(I)I" } : Jvm.MethodName)) ∈ lw_all := lw_g (lw_at lw_m2 147 rfl) rfl
theorem q535 : (Jvm.Cond.static ({ cls := "java/lang/StringUTF16", name := "newBytesLength", desc := "(I)I" } : Jvm.MethodName)) ∈ lw_all := lw_g (lw_at lw_m2 148 rfl) rfl
theorem q536 : (Jvm.Cond.code ({ cls := "java/lang/StringUTF16", name := "newBytesLength", desc := "(I)I" } : Jvm.MethodName) prog_44_method_3_code (1 : Nat) (Option.some Jvm.ClassFile.FieldType.int)) ∈ lw_all := lw_g (lw_at lw_m2 149 rfl) rfl
theorem q537 : (Jvm.Cond.constant "java/lang/StringUTF16" (20 : Nat) (1073741823 : Int32)) ∈ lw_all := lw_g (lw_at lw_m2 150 rfl) rfl
theorem q641 : (Jvm.Cond.static ({ cls := "java/lang/StringUTF16", name := "inflate", desc := "([BI[BII)V" } : Jvm.MethodName)) ∈ lw_all := lw_g (lw_at lw_m3 14 rfl) rfl
theorem q642 : (Jvm.Cond.code ({ cls := "java/lang/StringUTF16", name := "inflate", desc := "([BI[BII)V" } : Jvm.MethodName) prog_44_method_86_code (6 : Nat) (Option.none : Option Jvm.ClassFile.FieldType)) ∈ lw_all := lw_g (lw_at lw_m3 15 rfl) rfl
theorem q643 : (Jvm.Cond.methodLink "java/lang/StringUTF16" (173 : Nat) ({ cls := "java/lang/StringUTF16", name := "checkBoundsOffCount", desc := "(II[B)V" } : Jvm.MethodName)) ∈ lw_all := lw_g (lw_at lw_m3 16 rfl) rfl
theorem q644 : (Jvm.Cond.static ({ cls := "java/lang/StringUTF16", name := "checkBoundsOffCount", desc := "(II[B)V" } : Jvm.MethodName)) ∈ lw_all := lw_g (lw_at lw_m3 17 rfl) rfl
theorem q645 : (Jvm.Cond.code ({ cls := "java/lang/StringUTF16", name := "checkBoundsOffCount", desc := "(II[B)V" } : Jvm.MethodName) prog_44_method_94_code (3 : Nat) (Option.none : Option Jvm.ClassFile.FieldType)) ∈ lw_all := lw_g (lw_at lw_m3 18 rfl) rfl
theorem q646 : (Jvm.Cond.methodLink "java/lang/StringUTF16" (48 : Nat) ({ cls := "java/lang/StringUTF16", name := "length", desc := "([B)I" } : Jvm.MethodName)) ∈ lw_all := lw_g (lw_at lw_m3 19 rfl) rfl
theorem q647 : (Jvm.Cond.static ({ cls := "java/lang/StringUTF16", name := "length", desc := "([B)I" } : Jvm.MethodName)) ∈ lw_all := lw_g (lw_at lw_m3 20 rfl) rfl
theorem q648 : (Jvm.Cond.code ({ cls := "java/lang/StringUTF16", name := "length", desc := "([B)I" } : Jvm.MethodName) prog_44_method_6_code (1 : Nat) (Option.some Jvm.ClassFile.FieldType.int)) ∈ lw_all := lw_g (lw_at lw_m3 21 rfl) rfl
theorem q649 : (Jvm.Cond.methodLink "java/lang/StringUTF16" (419 : Nat) ({ cls := "java/lang/String", name := "checkBoundsOffCount", desc := "(III)I" } : Jvm.MethodName)) ∈ lw_all := lw_g (lw_at lw_m3 22 rfl) rfl
theorem q657 : (Jvm.Cond.methodLink "java/lang/StringUTF16" (111 : Nat) ({ cls := "java/lang/StringUTF16", name := "putChar", desc := "([BII)V" } : Jvm.MethodName)) ∈ lw_all := lw_g (lw_at lw_m3 30 rfl) rfl
theorem q658 : (Jvm.Cond.static ({ cls := "java/lang/StringUTF16", name := "putChar", desc := "([BII)V" } : Jvm.MethodName)) ∈ lw_all := lw_g (lw_at lw_m3 31 rfl) rfl
theorem q659 : (Jvm.Cond.code ({ cls := "java/lang/StringUTF16", name := "putChar", desc := "([BII)V" } : Jvm.MethodName) prog_44_method_4_code (3 : Nat) (Option.none : Option Jvm.ClassFile.FieldType)) ∈ lw_all := lw_g (lw_at lw_m3 32 rfl) rfl
theorem q660 : (Jvm.Cond.fieldLink "java/lang/StringUTF16" (44 : Nat) "java/lang/StringUTF16" "$assertionsDisabled" "Z") ∈ lw_all := lw_g (lw_at lw_m3 33 rfl) rfl
theorem q661 : (Jvm.Cond.laysStatic "java/lang/StringUTF16" "$assertionsDisabled" "Z") ∈ lw_tbl := lw_at lw_m3 34 rfl
theorem q662 : (Jvm.Cond.fieldLink "java/lang/StringUTF16" (59 : Nat) "java/lang/StringUTF16" "HI_BYTE_SHIFT" "I") ∈ lw_all := lw_g (lw_at lw_m3 35 rfl) rfl
theorem q663 : (Jvm.Cond.laysStatic "java/lang/StringUTF16" "HI_BYTE_SHIFT" "I") ∈ lw_tbl := lw_at lw_m3 36 rfl
theorem q664 : (Jvm.Cond.fieldLink "java/lang/StringUTF16" (63 : Nat) "java/lang/StringUTF16" "LO_BYTE_SHIFT" "I") ∈ lw_all := lw_g (lw_at lw_m3 37 rfl) rfl
theorem q665 : (Jvm.Cond.laysStatic "java/lang/StringUTF16" "LO_BYTE_SHIFT" "I") ∈ lw_tbl := lw_at lw_m3 38 rfl
theorem q667 : (Jvm.Cond.static ({ cls := "java/lang/StringUTF16", name := "putCharSB", desc := "([BII)V" } : Jvm.MethodName)) ∈ lw_all := lw_g (lw_at lw_m3 40 rfl) rfl
theorem q668 : (Jvm.Cond.code ({ cls := "java/lang/StringUTF16", name := "putCharSB", desc := "([BII)V" } : Jvm.MethodName) prog_44_method_71_code (3 : Nat) (Option.none : Option Jvm.ClassFile.FieldType)) ∈ lw_all := lw_g (lw_at lw_m3 41 rfl) rfl
theorem q669 : (Jvm.Cond.methodLink "java/lang/StringUTF16" (67 : Nat) ({ cls := "java/lang/StringUTF16", name := "checkIndex", desc := "(I[B)V" } : Jvm.MethodName)) ∈ lw_all := lw_g (lw_at lw_m3 42 rfl) rfl
theorem q670 : (Jvm.Cond.static ({ cls := "java/lang/StringUTF16", name := "checkIndex", desc := "(I[B)V" } : Jvm.MethodName)) ∈ lw_all := lw_g (lw_at lw_m3 43 rfl) rfl
theorem q671 : (Jvm.Cond.code ({ cls := "java/lang/StringUTF16", name := "checkIndex", desc := "(I[B)V" } : Jvm.MethodName) prog_44_method_91_code (2 : Nat) (Option.none : Option Jvm.ClassFile.FieldType)) ∈ lw_all := lw_g (lw_at lw_m3 44 rfl) rfl
theorem q672 : (Jvm.Cond.methodLink "java/lang/StringUTF16" (414 : Nat) ({ cls := "java/lang/String", name := "checkIndex", desc := "(II)V" } : Jvm.MethodName)) ∈ lw_all := lw_g (lw_at lw_m3 45 rfl) rfl
theorem q780 : (Jvm.Cond.static ({ cls := "java/lang/StringUTF16", name := "getChars", desc := "(III[B)I" } : Jvm.MethodName)) ∈ lw_all := lw_g (lw_at lw_m3 153 rfl) rfl
theorem q781 : (Jvm.Cond.code ({ cls := "java/lang/StringUTF16", name := "getChars", desc := "(III[B)I" } : Jvm.MethodName) prog_44_method_77_code (5 : Nat) (Option.some Jvm.ClassFile.FieldType.int)) ∈ lw_all := lw_g (lw_at lw_m3 154 rfl) rfl
theorem q782 : (Jvm.Cond.methodLink "java/lang/StringUTF16" (96 : Nat) ({ cls := "java/lang/StringUTF16", name := "checkBoundsBeginEnd", desc := "(II[B)V" } : Jvm.MethodName)) ∈ lw_all := lw_g (lw_at lw_m3 155 rfl) rfl
theorem q783 : (Jvm.Cond.static ({ cls := "java/lang/StringUTF16", name := "checkBoundsBeginEnd", desc := "(II[B)V" } : Jvm.MethodName)) ∈ lw_all := lw_g (lw_at lw_m3 156 rfl) rfl
theorem q784 : (Jvm.Cond.code ({ cls := "java/lang/StringUTF16", name := "checkBoundsBeginEnd", desc := "(II[B)V" } : Jvm.MethodName) prog_44_method_93_code (3 : Nat) (Option.none : Option Jvm.ClassFile.FieldType)) ∈ lw_all := lw_g (lw_at lw_m3 157 rfl) rfl
theorem q785 : (Jvm.Cond.methodLink "java/lang/StringUTF16" (241 : Nat) ({ cls := "java/lang/String", name := "checkBoundsBeginEnd", desc := "(III)V" } : Jvm.MethodName)) ∈ lw_all := lw_g (lw_at lw_m3 158 rfl) rfl
theorem q791 : (Jvm.Cond.methodLink "java/lang/StringUTF16" (393 : Nat) ({ cls := "java/lang/StringUTF16", name := "getChars", desc := "(II[B)I" } : Jvm.MethodName)) ∈ lw_all := lw_g (lw_at lw_m3 164 rfl) rfl
theorem q792 : (Jvm.Cond.static ({ cls := "java/lang/StringUTF16", name := "getChars", desc := "(II[B)I" } : Jvm.MethodName)) ∈ lw_all := lw_g (lw_at lw_m3 165 rfl) rfl
theorem q793 : (Jvm.Cond.code ({ cls := "java/lang/StringUTF16", name := "getChars", desc := "(II[B)I" } : Jvm.MethodName) prog_44_method_89_code (7 : Nat) (Option.some Jvm.ClassFile.FieldType.int)) ∈ lw_all := lw_g (lw_at lw_m3 166 rfl) rfl
theorem q794 : (Jvm.Cond.fieldLink "java/lang/StringUTF16" (403 : Nat) "java/lang/Integer" "DigitOnes" "[B") ∈ lw_all := lw_g (lw_at lw_m3 167 rfl) rfl
theorem q795 : (Jvm.Cond.fieldLink "java/lang/StringUTF16" (407 : Nat) "java/lang/Integer" "DigitTens" "[B") ∈ lw_all := lw_g (lw_at lw_m3 168 rfl) rfl
theorem q809 : (Jvm.Cond.static ({ cls := "java/lang/StringUTF16", name := "putCharsAt", desc := "([BICCCC)I" } : Jvm.MethodName)) ∈ lw_all := lw_g (lw_at lw_m3 182 rfl) rfl
theorem q810 : (Jvm.Cond.code ({ cls := "java/lang/StringUTF16", name := "putCharsAt", desc := "([BICCCC)I" } : Jvm.MethodName) prog_44_method_81_code (7 : Nat) (Option.some Jvm.ClassFile.FieldType.int)) ∈ lw_all := lw_g (lw_at lw_m3 183 rfl) rfl
theorem q862 : (Jvm.Cond.static ({ cls := "java/lang/StringUTF16", name := "compress", desc := "([BII)[B" } : Jvm.MethodName)) ∈ lw_all := lw_g (lw_at lw_m3 235 rfl) rfl
theorem q863 : (Jvm.Cond.code ({ cls := "java/lang/StringUTF16", name := "compress", desc := "([BII)[B" } : Jvm.MethodName) prog_44_method_17_code (6 : Nat) (Option.some (Jvm.ClassFile.FieldType.array Jvm.ClassFile.FieldType.byte))) ∈ lw_all := lw_g (lw_at lw_m3 236 rfl) rfl
theorem q864 : (Jvm.Cond.methodLink "java/lang/StringUTF16" (123 : Nat) ({ cls := "java/lang/StringUTF16", name := "compress", desc := "([BI[BII)I" } : Jvm.MethodName)) ∈ lw_all := lw_g (lw_at lw_m3 237 rfl) rfl
theorem q865 : (Jvm.Cond.static ({ cls := "java/lang/StringUTF16", name := "compress", desc := "([BI[BII)I" } : Jvm.MethodName)) ∈ lw_all := lw_g (lw_at lw_m3 238 rfl) rfl
theorem q866 : (Jvm.Cond.code ({ cls := "java/lang/StringUTF16", name := "compress", desc := "([BI[BII)I" } : Jvm.MethodName) prog_44_method_22_code (7 : Nat) (Option.some Jvm.ClassFile.FieldType.int)) ∈ lw_all := lw_g (lw_at lw_m3 239 rfl) rfl
theorem q867 : (Jvm.Cond.methodLink "java/lang/StringUTF16" (71 : Nat) ({ cls := "java/lang/StringUTF16", name := "getChar", desc := "([BI)C" } : Jvm.MethodName)) ∈ lw_all := lw_g (lw_at lw_m4 0 rfl) rfl
theorem q868 : (Jvm.Cond.static ({ cls := "java/lang/StringUTF16", name := "getChar", desc := "([BI)C" } : Jvm.MethodName)) ∈ lw_all := lw_g (lw_at lw_m4 1 rfl) rfl
theorem q869 : (Jvm.Cond.code ({ cls := "java/lang/StringUTF16", name := "getChar", desc := "([BI)C" } : Jvm.MethodName) prog_44_method_5_code (2 : Nat) (Option.some Jvm.ClassFile.FieldType.char)) ∈ lw_all := lw_g (lw_at lw_m4 2 rfl) rfl
theorem q870 : (Jvm.Cond.methodLink "java/lang/StringUTF16" (126 : Nat) ({ cls := "java/util/Arrays", name := "copyOfRange", desc := "([BII)[B" } : Jvm.MethodName)) ∈ lw_all := lw_g (lw_at lw_m4 3 rfl) rfl
theorem q872 : (Jvm.Cond.static ({ cls := "java/lang/StringUTF16", name := "coderFromArrayLen", desc := "([BI)B" } : Jvm.MethodName)) ∈ lw_all := lw_g (lw_at lw_m4 5 rfl) rfl
theorem q873 : (Jvm.Cond.code ({ cls := "java/lang/StringUTF16", name := "coderFromArrayLen", desc := "([BI)B" } : Jvm.MethodName) prog_44_method_15_code (2 : Nat) (Option.some Jvm.ClassFile.FieldType.byte)) ∈ lw_all := lw_g (lw_at lw_m4 6 rfl) rfl
theorem q1338 : (Jvm.Cond.static ({ cls := "java/lang/StringUTF16", name := "fillNull", desc := "([BII)V" } : Jvm.MethodName)) ∈ lw_all := lw_g (lw_at lw_m5 231 rfl) rfl
theorem q1339 : (Jvm.Cond.code ({ cls := "java/lang/StringUTF16", name := "fillNull", desc := "([BII)V" } : Jvm.MethodName) prog_44_method_70_code (3 : Nat) (Option.none : Option Jvm.ClassFile.FieldType)) ∈ lw_all := lw_g (lw_at lw_m5 232 rfl) rfl
theorem q1340 : (Jvm.Cond.methodLink "java/lang/StringUTF16" (380 : Nat) ({ cls := "java/util/Arrays", name := "fill", desc := "([BIIB)V" } : Jvm.MethodName)) ∈ lw_all := lw_g (lw_at lw_m5 233 rfl) rfl
theorem q1718 : (Jvm.Cond.static ({ cls := "java/lang/StringUTF16", name := "hashCode", desc := "([B)I" } : Jvm.MethodName)) ∈ lw_all := lw_g (lw_at lw_m7 131 rfl) rfl
theorem q1719 : (Jvm.Cond.code ({ cls := "java/lang/StringUTF16", name := "hashCode", desc := "([B)I" } : Jvm.MethodName) prog_44_method_39_code (1 : Nat) (Option.some Jvm.ClassFile.FieldType.int)) ∈ lw_all := lw_g (lw_at lw_m7 132 rfl) rfl
theorem q1720 : (Jvm.Cond.methodLink "java/lang/StringUTF16" (220 : Nat) ({ cls := "jdk/internal/util/ArraysSupport", name := "vectorizedHashCode", desc := "(Ljava/lang/Object;IIII)I" } : Jvm.MethodName)) ∈ lw_all := lw_g (lw_at lw_m7 133 rfl) rfl
theorem q2012 : (Jvm.Cond.static ({ cls := "java/lang/StringUTF16", name := "charAt", desc := "([BI)C" } : Jvm.MethodName)) ∈ lw_all := lw_g (lw_at lw_m8 185 rfl) rfl
theorem q2013 : (Jvm.Cond.code ({ cls := "java/lang/StringUTF16", name := "charAt", desc := "([BI)C" } : Jvm.MethodName) prog_44_method_83_code (2 : Nat) (Option.some Jvm.ClassFile.FieldType.char)) ∈ lw_all := lw_g (lw_at lw_m8 186 rfl) rfl
/-! LawnPathsModel -/
def RX6 : String := "LawnPathsModel"
def TX6 : u_T := fun k => match k with
  | 0 => ("LawnPathsModel", "s", "[I", true)
  | 1 => ("LawnPathsModel", "saved", "[I", true)
  | 2 => ("LawnPathsModel", "held", "[I", true)
  | 3 => ("LawnPathsModel", "aside", "[I", true)
  | 4 => ("LawnPathsModel", "past", "[I", true)
  | 5 => ("LawnPathsModel", "pastMany", "I", false)
  | 6 => ("LawnPathsModel", "thrown", "I", false)
  | 7 => ("LawnPathsModel", "isSaved", "Z", false)
  | 8 => ("LawnPathsModel", "costs", "[I", true)
  | 9 => ("LawnPathsModel", "way", "[I", true)
  | 10 => ("LawnPathsModel", "wayMany", "I", false)
  | 11 => ("LawnPathsModel", "buffer", "[I", true)
  | 12 => ("LawnPathsModel", "length", "I", false)
  | 13 => ("LawnPathsModel", "at", "I", false)
  | 14 => ("LawnPathsModel", "begin", "I", false)
  | 15 => ("LawnPathsModel", "wordLong", "I", false)
  | 16 => ("LawnPathsModel", "error", "I", false)
  | 17 => ("LawnPathsModel", "errorAt", "I", false)
  | 18 => ("LawnPathsModel", "toldError", "I", false)
  | 19 => ("LawnPathsModel", "toldAt", "I", false)
  | 20 => ("LawnPathsModel", "mayBeWalker", "Z", false)
  | 21 => ("LawnPathsModel", "told", "[I", true)
  | 22 => ("LawnPathsModel", "toldMany", "I", false)
  | 23 => ("LawnPathsModel", "output", "[I", true)
  | _ => ("LawnPathsModel", "outputLong", "I", false)
def tyX6 : Nat → FieldType := fun k => match k with
  | 0 => .array .int
  | 1 => .array .int
  | 2 => .array .int
  | 3 => .array .int
  | 4 => .array .int
  | 5 => .int
  | 6 => .int
  | 7 => .boolean
  | 8 => .array .int
  | 9 => .array .int
  | 10 => .int
  | 11 => .array .int
  | 12 => .int
  | 13 => .int
  | 14 => .int
  | 15 => .int
  | 16 => .int
  | 17 => .int
  | 18 => .int
  | 19 => .int
  | 20 => .boolean
  | 21 => .array .int
  | 22 => .int
  | 23 => .array .int
  | _ => .int
abbrev wsX60 : List Cond := u_ws RX6 TX6 25
theorem nmX6 : ∀ a, a < 25 → ∀ b, b < 25 → a ≠ b → (TX6 a).2.1 ≠ (TX6 b).2.1 := by decide +kernel
theorem tyX6_ok : ∀ k, k < 25 → parseFieldDescriptor (TX6 k).2.2.1 = some (tyX6 k) := by decide +kernel
abbrev cX6_init : ByteArray := prog_20_method_1_code
def yX6_init : MethodName := ⟨RX6, "<init>", "()V"⟩
abbrev cX6_readText : ByteArray := prog_20_method_83_code
def yX6_readText : MethodName := ⟨RX6, "readText", "()I"⟩
abbrev cX6_copies : ByteArray := prog_20_method_7_code
def yX6_copies : MethodName := ⟨RX6, "copies", "([II[II)V"⟩
abbrev cX6_startsText : ByteArray := prog_20_method_69_code
def yX6_startsText : MethodName := ⟨RX6, "startsText", "()V"⟩
abbrev cX6_lawnLine : ByteArray := prog_20_method_73_code
def yX6_lawnLine : MethodName := ⟨RX6, "lawnLine", "()V"⟩
abbrev cX6_sees : ByteArray := prog_20_method_58_code
def yX6_sees : MethodName := ⟨RX6, "sees", "(Ljava/lang/String;)Z"⟩
abbrev cX6_next : ByteArray := prog_20_method_56_code
def yX6_next : MethodName := ⟨RX6, "next", "()I"⟩
abbrev cX6_byteAt : ByteArray := prog_20_method_55_code
def yX6_byteAt : MethodName := ⟨RX6, "byteAt", "(I)I"⟩
abbrev cX6_in : ByteArray := prog_20_method_3_code
def yX6_in : MethodName := ⟨RX6, "in", "(JJJ)Z"⟩
abbrev cX6_must : ByteArray := prog_20_method_57_code
def yX6_must : MethodName := ⟨RX6, "must", "(ZI)V"⟩
abbrev cX6_goesPast : ByteArray := prog_20_method_59_code
def yX6_goesPast : MethodName := ⟨RX6, "goesPast", "()V"⟩
abbrev cX6_number : ByteArray := prog_20_method_61_code
def yX6_number : MethodName := ⟨RX6, "number", "(II)I"⟩
abbrev cX6_cells : ByteArray := prog_20_method_19_code
def yX6_cells : MethodName := ⟨RX6, "cells", "()I"⟩
abbrev cX6_putsCell : ByteArray := prog_20_method_14_code
def yX6_putsCell : MethodName := ⟨RX6, "putsCell", "(III)V"⟩
abbrev cX6_sign : ByteArray := prog_20_method_60_code
def yX6_sign : MethodName := ⟨RX6, "sign", "(C)V"⟩
abbrev cX6_statement : ByteArray := prog_20_method_82_code
def yX6_statement : MethodName := ⟨RX6, "statement", "()V"⟩
abbrev cX6_gateLine : ByteArray := prog_20_method_75_code
def yX6_gateLine : MethodName := ⟨RX6, "gateLine", "()V"⟩
abbrev cX6_newName : ByteArray := prog_20_method_68_code
def yX6_newName : MethodName := ⟨RX6, "newName", "(IZ)V"⟩
abbrev cX6_isName : ByteArray := prog_20_method_62_code
def yX6_isName : MethodName := ⟨RX6, "isName", "()Z"⟩
abbrev cX6_thingHere : ByteArray := prog_20_method_66_code
def yX6_thingHere : MethodName := ⟨RX6, "thingHere", "(Z)I"⟩
abbrev cX6_gateHere : ByteArray := prog_20_method_64_code
def yX6_gateHere : MethodName := ⟨RX6, "gateHere", "()I"⟩
abbrev cX6_isNamed : ByteArray := prog_20_method_63_code
def yX6_isNamed : MethodName := ⟨RX6, "isNamed", "(I)Z"⟩
abbrev cX6_walkerHere : ByteArray := prog_20_method_65_code
def yX6_walkerHere : MethodName := ⟨RX6, "walkerHere", "()I"⟩
abbrev cX6_cellHere : ByteArray := prog_20_method_74_code
def yX6_cellHere : MethodName := ⟨RX6, "cellHere", "()I"⟩
abbrev cX6_at : ByteArray := prog_20_method_20_code
def yX6_at : MethodName := ⟨RX6, "at", "(II)I"⟩
abbrev cX6_ofCell : ByteArray := prog_20_method_13_code
def yX6_ofCell : MethodName := ⟨RX6, "ofCell", "(II)I"⟩
abbrev cX6_xOf : ByteArray := prog_20_method_21_code
def yX6_xOf : MethodName := ⟨RX6, "xOf", "(I)I"⟩
abbrev cX6_yOf : ByteArray := prog_20_method_22_code
def yX6_yOf : MethodName := ⟨RX6, "yOf", "(I)I"⟩
abbrev cX6_walkerLine : ByteArray := prog_20_method_76_code
def yX6_walkerLine : MethodName := ⟨RX6, "walkerLine", "()V"⟩
abbrev cX6_mustBe : ByteArray := prog_20_method_67_code
def yX6_mustBe : MethodName := ⟨RX6, "mustBe", "(ZI)I"⟩
abbrev cX6_puts : ByteArray := prog_20_method_12_code
def yX6_puts : MethodName := ⟨RX6, "puts", "(III)V"⟩
abbrev cX6_groundLine : ByteArray := prog_20_method_81_code
def yX6_groundLine : MethodName := ⟨RX6, "groundLine", "()V"⟩
abbrev cX6_stoneLine : ByteArray := prog_20_method_79_code
def yX6_stoneLine : MethodName := ⟨RX6, "stoneLine", "()V"⟩
abbrev cX6_freeCellHere : ByteArray := prog_20_method_77_code
def yX6_freeCellHere : MethodName := ⟨RX6, "freeCellHere", "()I"⟩
abbrev cX6_isGrass : ByteArray := prog_20_method_25_code
def yX6_isGrass : MethodName := ⟨RX6, "isGrass", "(I)Z"⟩
abbrev cX6_hasFence : ByteArray := prog_20_method_26_code
def yX6_hasFence : MethodName := ⟨RX6, "hasFence", "(I)Z"⟩
abbrev cX6_becomesStone : ByteArray := prog_20_method_47_code
def yX6_becomesStone : MethodName := ⟨RX6, "becomesStone", "(I)V"⟩
abbrev cX6_grassLine : ByteArray := prog_20_method_78_code
def yX6_grassLine : MethodName := ⟨RX6, "grassLine", "()V"⟩
abbrev cX6_fenceLine : ByteArray := prog_20_method_80_code
def yX6_fenceLine : MethodName := ⟨RX6, "fenceLine", "()V"⟩
abbrev cX6_areWays : ByteArray := prog_20_method_33_code
def yX6_areWays : MethodName := ⟨RX6, "areWays", "()Z"⟩
abbrev cX6_laysCosts : ByteArray := prog_20_method_31_code
def yX6_laysCosts : MethodName := ⟨RX6, "laysCosts", "(II)I"⟩
abbrev cX6_of : ByteArray := prog_20_method_11_code
def yX6_of : MethodName := ⟨RX6, "of", "(II)I"⟩
abbrev cX6_gateCell : ByteArray := prog_20_method_24_code
def yX6_gateCell : MethodName := ⟨RX6, "gateCell", "(I)I"⟩
abbrev cX6_ofGate : ByteArray := prog_20_method_10_code
def yX6_ofGate : MethodName := ⟨RX6, "ofGate", "(II)I"⟩
abbrev cX6_costBy : ByteArray := prog_20_method_30_code
def yX6_costBy : MethodName := ⟨RX6, "costBy", "(IIII)I"⟩
abbrev cX6_nextTo : ByteArray := prog_20_method_28_code
def yX6_nextTo : MethodName := ⟨RX6, "nextTo", "(II)I"⟩
abbrev cX6_isCell : ByteArray := prog_20_method_18_code
def yX6_isCell : MethodName := ⟨RX6, "isCell", "(II)Z"⟩
abbrev cX6_costOf : ByteArray := prog_20_method_29_code
def yX6_costOf : MethodName := ⟨RX6, "costOf", "(III)I"⟩
abbrev cX6_isWetDay : ByteArray := prog_20_method_27_code
def yX6_isWetDay : MethodName := ⟨RX6, "isWetDay", "(I)Z"⟩
abbrev cX6_endsText : ByteArray := prog_20_method_70_code
def yX6_endsText : MethodName := ⟨RX6, "endsText", "()Z"⟩
abbrev cX6_passes : ByteArray := prog_20_method_5_code
def yX6_passes : MethodName := ⟨RX6, "passes", "(Z)Z"⟩
abbrev cX6_allGrass : ByteArray := prog_20_method_91_code
def yX6_allGrass : MethodName := ⟨RX6, "allGrass", "()I"⟩
abbrev cX6_thrown : ByteArray := prog_20_method_2_code
def yX6_thrown : MethodName := ⟨RX6, "thrown", "()I"⟩
abbrev cX6_append : ByteArray := prog_20_method_53_code
def yX6_append : MethodName := ⟨RX6, "append", "(IIIII)I"⟩
abbrev cX6_four : ByteArray := prog_20_method_52_code
def yX6_four : MethodName := ⟨RX6, "four", "(I)V"⟩
abbrev cX6_truncate : ByteArray := prog_20_method_54_code
def yX6_truncate : MethodName := ⟨RX6, "truncate", "(I)I"⟩
abbrev cX6_errorCode : ByteArray := prog_20_method_71_code
def yX6_errorCode : MethodName := ⟨RX6, "errorCode", "()I"⟩
abbrev cX6_errorPosition : ByteArray := prog_20_method_72_code
def yX6_errorPosition : MethodName := ⟨RX6, "errorPosition", "()I"⟩
abbrev cX6_runOrders : ByteArray := prog_20_method_90_code
def yX6_runOrders : MethodName := ⟨RX6, "runOrders", "()I"⟩
abbrev cX6_readsOne : ByteArray := prog_20_method_87_code
def yX6_readsOne : MethodName := ⟨RX6, "readsOne", "()V"⟩
abbrev cX6_orderHere : ByteArray := prog_20_method_85_code
def yX6_orderHere : MethodName := ⟨RX6, "orderHere", "()I"⟩
abbrev cX6_cellOrder : ByteArray := prog_20_method_84_code
def yX6_cellOrder : MethodName := ⟨RX6, "cellOrder", "()I"⟩
abbrev cX6_partsOf : ByteArray := prog_20_method_86_code
def yX6_partsOf : MethodName := ⟨RX6, "partsOf", "(II)V"⟩
abbrev cX6_keeps : ByteArray := prog_20_method_89_code
def yX6_keeps : MethodName := ⟨RX6, "keeps", "([I)V"⟩
abbrev cX6_doesOne : ByteArray := prog_20_method_88_code
def yX6_doesOne : MethodName := ⟨RX6, "doesOne", "(I)I"⟩
abbrev cX6_runNow : ByteArray := prog_20_method_42_code
def yX6_runNow : MethodName := ⟨RX6, "runNow", "(I)I"⟩
abbrev cX6_goBy : ByteArray := prog_20_method_41_code
def yX6_goBy : MethodName := ⟨RX6, "goBy", "(I)V"⟩
abbrev cX6_dayOnce : ByteArray := prog_20_method_40_code
def yX6_dayOnce : MethodName := ⟨RX6, "dayOnce", "()V"⟩
abbrev cX6_walksOn : ByteArray := prog_20_method_39_code
def yX6_walksOn : MethodName := ⟨RX6, "walksOn", "(II)Z"⟩
abbrev cX6_walks : ByteArray := prog_20_method_37_code
def yX6_walks : MethodName := ⟨RX6, "walks", "(I)V"⟩
abbrev cX6_laysWay : ByteArray := prog_20_method_32_code
def yX6_laysWay : MethodName := ⟨RX6, "laysWay", "(I)I"⟩
abbrev cX6_treads : ByteArray := prog_20_method_36_code
def yX6_treads : MethodName := ⟨RX6, "treads", "(I)V"⟩
abbrev cX6_grows : ByteArray := prog_20_method_15_code
def yX6_grows : MethodName := ⟨RX6, "grows", "(II)V"⟩
abbrev cX6_growsCell : ByteArray := prog_20_method_38_code
def yX6_growsCell : MethodName := ⟨RX6, "growsCell", "(IZ)V"⟩
abbrev cX6_truth : ByteArray := prog_20_method_4_code
def yX6_truth : MethodName := ⟨RX6, "truth", "(Z)I"⟩
abbrev cX6_fenceNow : ByteArray := prog_20_method_44_code
def yX6_fenceNow : MethodName := ⟨RX6, "fenceNow", "(II)I"⟩
abbrev cX6_whyNoFence : ByteArray := prog_20_method_43_code
def yX6_whyNoFence : MethodName := ⟨RX6, "whyNoFence", "(I)I"⟩
abbrev cX6_openNow : ByteArray := prog_20_method_45_code
def yX6_openNow : MethodName := ⟨RX6, "openNow", "(II)I"⟩
abbrev cX6_paveNow : ByteArray := prog_20_method_48_code
def yX6_paveNow : MethodName := ⟨RX6, "paveNow", "(II)I"⟩
abbrev cX6_manyOf : ByteArray := prog_20_method_46_code
def yX6_manyOf : MethodName := ⟨RX6, "manyOf", "(I)I"⟩
abbrev cX6_sowNow : ByteArray := prog_20_method_49_code
def yX6_sowNow : MethodName := ⟨RX6, "sowNow", "(II)I"⟩
abbrev cX6_hasteNow : ByteArray := prog_20_method_50_code
def yX6_hasteNow : MethodName := ⟨RX6, "hasteNow", "(II)I"⟩
abbrev cX6_turnNow : ByteArray := prog_20_method_51_code
def yX6_turnNow : MethodName := ⟨RX6, "turnNow", "(I)I"⟩
abbrev cX6_size : ByteArray := prog_20_method_94_code
def yX6_size : MethodName := ⟨RX6, "size", "(I)I"⟩
abbrev cX6_bareCells : ByteArray := prog_20_method_93_code
def yX6_bareCells : MethodName := ⟨RX6, "bareCells", "()I"⟩
abbrev cX6_isBare : ByteArray := prog_20_method_92_code
def yX6_isBare : MethodName := ⟨RX6, "isBare", "(I)Z"⟩
abbrev cX6_cell : ByteArray := prog_20_method_98_code
def yX6_cell : MethodName := ⟨RX6, "cell", "(III)I"⟩
abbrev cX6_passesBoth : ByteArray := prog_20_method_6_code
def yX6_passesBoth : MethodName := ⟨RX6, "passesBoth", "(ZZ)Z"⟩
abbrev cX6_cellNow : ByteArray := prog_20_method_97_code
def yX6_cellNow : MethodName := ⟨RX6, "cellNow", "(II)I"⟩
abbrev cX6_daysSince : ByteArray := prog_20_method_95_code
def yX6_daysSince : MethodName := ⟨RX6, "daysSince", "(I)I"⟩
abbrev cX6_walkersOver : ByteArray := prog_20_method_96_code
def yX6_walkersOver : MethodName := ⟨RX6, "walkersOver", "(I)I"⟩
abbrev cX6_isOnWay : ByteArray := prog_20_method_34_code
def yX6_isOnWay : MethodName := ⟨RX6, "isOnWay", "(I)Z"⟩
abbrev cX6_gate : ByteArray := prog_20_method_100_code
def yX6_gate : MethodName := ⟨RX6, "gate", "(II)I"⟩
abbrev cX6_isGate : ByteArray := prog_20_method_17_code
def yX6_isGate : MethodName := ⟨RX6, "isGate", "(I)Z"⟩
abbrev cX6_walkersWith : ByteArray := prog_20_method_99_code
def yX6_walkersWith : MethodName := ⟨RX6, "walkersWith", "(II)I"⟩
abbrev cX6_walker : ByteArray := prog_20_method_101_code
def yX6_walker : MethodName := ⟨RX6, "walker", "(II)I"⟩
abbrev cX6_isWalker : ByteArray := prog_20_method_16_code
def yX6_isWalker : MethodName := ⟨RX6, "isWalker", "(I)Z"⟩
abbrev cX6_nameByte : ByteArray := prog_20_method_102_code
def yX6_nameByte : MethodName := ⟨RX6, "nameByte", "(IZI)I"⟩
abbrev cX6_find : ByteArray := prog_20_method_103_code
def yX6_find : MethodName := ⟨RX6, "find", "(Z)I"⟩
abbrev cX6_isWet : ByteArray := prog_20_method_104_code
def yX6_isWet : MethodName := ⟨RX6, "isWet", "(I)Z"⟩
abbrev cX6_cost : ByteArray := prog_20_method_105_code
def yX6_cost : MethodName := ⟨RX6, "cost", "(III)I"⟩
abbrev cX6_wayCost : ByteArray := prog_20_method_106_code
def yX6_wayCost : MethodName := ⟨RX6, "wayCost", "(I)I"⟩
abbrev cX6_waySteps : ByteArray := prog_20_method_107_code
def yX6_waySteps : MethodName := ⟨RX6, "waySteps", "(I)I"⟩
abbrev cX6_wayCell : ByteArray := prog_20_method_108_code
def yX6_wayCell : MethodName := ⟨RX6, "wayCell", "(II)I"⟩
abbrev cX6_shown : ByteArray := prog_20_method_23_code
def yX6_shown : MethodName := ⟨RX6, "shown", "(I)I"⟩
abbrev cX6_why : ByteArray := prog_20_method_110_code
def yX6_why : MethodName := ⟨RX6, "why", "(II)I"⟩
abbrev cX6_whyWay : ByteArray := prog_20_method_109_code
def yX6_whyWay : MethodName := ⟨RX6, "whyWay", "(II)I"⟩
abbrev cX6_grassOnWay : ByteArray := prog_20_method_35_code
def yX6_grassOnWay : MethodName := ⟨RX6, "grassOnWay", "()I"⟩
abbrev cX6_keptBy : ByteArray := prog_20_method_113_code
def yX6_keptBy : MethodName := ⟨RX6, "keptBy", "(III)I"⟩
abbrev cX6_keptNow : ByteArray := prog_20_method_112_code
def yX6_keptNow : MethodName := ⟨RX6, "keptNow", "(II)I"⟩
abbrev cX6_lowestOver : ByteArray := prog_20_method_111_code
def yX6_lowestOver : MethodName := ⟨RX6, "lowestOver", "(I)I"⟩
abbrev cX6_account : ByteArray := prog_20_method_115_code
def yX6_account : MethodName := ⟨RX6, "account", "(I)I"⟩
abbrev cX6_account0 : ByteArray := prog_20_method_114_code
def yX6_account0 : MethodName := ⟨RX6, "account0", "(I)I"⟩
abbrev cX6_grassBalance : ByteArray := prog_20_method_116_code
def yX6_grassBalance : MethodName := ⟨RX6, "grassBalance", "()I"⟩
abbrev cX6_walkBalance : ByteArray := prog_20_method_117_code
def yX6_walkBalance : MethodName := ⟨RX6, "walkBalance", "()I"⟩
abbrev cX6_gap : ByteArray := prog_20_method_119_code
def yX6_gap : MethodName := ⟨RX6, "gap", "()I"⟩
abbrev cX6_isBroken : ByteArray := prog_20_method_118_code
def yX6_isBroken : MethodName := ⟨RX6, "isBroken", "(I)Z"⟩
abbrev cX6_grassIn : ByteArray := prog_20_method_122_code
def yX6_grassIn : MethodName := ⟨RX6, "grassIn", "(III)I"⟩
abbrev cX6_areDays : ByteArray := prog_20_method_120_code
def yX6_areDays : MethodName := ⟨RX6, "areDays", "(I)Z"⟩
abbrev cX6_tries : ByteArray := prog_20_method_8_code
def yX6_tries : MethodName := ⟨RX6, "tries", "()V"⟩
abbrev cX6_laidBack : ByteArray := prog_20_method_9_code
def yX6_laidBack : MethodName := ⟨RX6, "laidBack", "(I)I"⟩
abbrev cX6_bareIn : ByteArray := prog_20_method_123_code
def yX6_bareIn : MethodName := ⟨RX6, "bareIn", "(I)I"⟩
abbrev cX6_whenBare : ByteArray := prog_20_method_124_code
def yX6_whenBare : MethodName := ⟨RX6, "whenBare", "(II)I"⟩
abbrev cX6_ifFence : ByteArray := prog_20_method_125_code
def yX6_ifFence : MethodName := ⟨RX6, "ifFence", "(III)I"⟩
abbrev cX6_ifOpen : ByteArray := prog_20_method_126_code
def yX6_ifOpen : MethodName := ⟨RX6, "ifOpen", "(I)I"⟩
abbrev cX6_bestFence : ByteArray := prog_20_method_128_code
def yX6_bestFence : MethodName := ⟨RX6, "bestFence", "(I)I"⟩
abbrev cX6_grassWithFence : ByteArray := prog_20_method_127_code
def yX6_grassWithFence : MethodName := ⟨RX6, "grassWithFence", "(II)I"⟩
abbrev cX6_grassBehind : ByteArray := prog_20_method_121_code
def yX6_grassBehind : MethodName := ⟨RX6, "grassBehind", "(I)I"⟩
abbrev cX6_ifHaste : ByteArray := prog_20_method_129_code
def yX6_ifHaste : MethodName := ⟨RX6, "ifHaste", "(III)I"⟩
abbrev cX6_busiest : ByteArray := prog_20_method_130_code
def yX6_busiest : MethodName := ⟨RX6, "busiest", "()I"⟩
abbrev cX6_meanGrass : ByteArray := prog_20_method_131_code
def yX6_meanGrass : MethodName := ⟨RX6, "meanGrass", "()D"⟩
abbrev cX6_bareShare : ByteArray := prog_20_method_132_code
def yX6_bareShare : MethodName := ⟨RX6, "bareShare", "()F"⟩
abbrev cX6_run : ByteArray := prog_20_method_135_code
def yX6_run : MethodName := ⟨RX6, "run", "(I)I"⟩
abbrev cX6_tried : ByteArray := prog_20_method_133_code
def yX6_tried : MethodName := ⟨RX6, "tried", "(Z)Z"⟩
abbrev cX6_done : ByteArray := prog_20_method_134_code
def yX6_done : MethodName := ⟨RX6, "done", "(I)I"⟩
abbrev cX6_setFence : ByteArray := prog_20_method_136_code
def yX6_setFence : MethodName := ⟨RX6, "setFence", "(II)I"⟩
abbrev cX6_dropFence : ByteArray := prog_20_method_137_code
def yX6_dropFence : MethodName := ⟨RX6, "dropFence", "(II)I"⟩
abbrev cX6_pave : ByteArray := prog_20_method_138_code
def yX6_pave : MethodName := ⟨RX6, "pave", "(II)I"⟩
abbrev cX6_sow : ByteArray := prog_20_method_139_code
def yX6_sow : MethodName := ⟨RX6, "sow", "(II)I"⟩
abbrev cX6_setHaste : ByteArray := prog_20_method_140_code
def yX6_setHaste : MethodName := ⟨RX6, "setHaste", "(II)I"⟩
abbrev cX6_turnRound : ByteArray := prog_20_method_141_code
def yX6_turnRound : MethodName := ⟨RX6, "turnRound", "(I)I"⟩
abbrev cX6_writeLawn : ByteArray := prog_20_method_144_code
def yX6_writeLawn : MethodName := ⟨RX6, "writeLawn", "()I"⟩
abbrev cX6_writes : ByteArray := prog_20_method_142_code
def yX6_writes : MethodName := ⟨RX6, "writes", "(I)V"⟩
abbrev cX6_markOf : ByteArray := prog_20_method_143_code
def yX6_markOf : MethodName := ⟨RX6, "markOf", "(I)I"⟩
abbrev cX6_writeWay : ByteArray := prog_20_method_146_code
def yX6_writeWay : MethodName := ⟨RX6, "writeWay", "(I)I"⟩
abbrev cX6_letterOf : ByteArray := prog_20_method_145_code
def yX6_letterOf : MethodName := ⟨RX6, "letterOf", "(I)I"⟩
abbrev cX6_outputByte : ByteArray := prog_20_method_147_code
def yX6_outputByte : MethodName := ⟨RX6, "outputByte", "(I)I"⟩
abbrev cX6_undo : ByteArray := prog_20_method_148_code
def yX6_undo : MethodName := ⟨RX6, "undo", "()I"⟩
abbrev cX6_save : ByteArray := prog_20_method_149_code
def yX6_save : MethodName := ⟨RX6, "save", "()I"⟩
abbrev cX6_restore : ByteArray := prog_20_method_150_code
def yX6_restore : MethodName := ⟨RX6, "restore", "()I"⟩
theorem q166 : (Jvm.Cond.initialized "LawnPathsModel") ∈ lw_all := lw_g (lw_at lw_m1 19 rfl) rfl
theorem q419 : (Jvm.Cond.selects "LawnPathsModel" ({ cls := "java/lang/Object", name := "getClass", desc := "()Ljava/lang/Class;" } : Jvm.MethodName) ({ cls := "java/lang/Object", name := "getClass", desc := "()Ljava/lang/Class;" } : Jvm.MethodName)) ∈ lw_all := lw_g (lw_at lw_m2 32 rfl) rfl
theorem q2246 : (Jvm.Cond.instantiable "LawnPathsModel" (25 : Nat)) ∈ lw_all := lw_g (lw_at lw_m9 179 rfl) rfl
theorem q2248 : (Jvm.Cond.instanceMethod ({ cls := "LawnPathsModel", name := "<init>", desc := "()V" } : Jvm.MethodName)) ∈ lw_all := lw_g (lw_at lw_m9 181 rfl) rfl
theorem q2249 : (Jvm.Cond.code ({ cls := "LawnPathsModel", name := "<init>", desc := "()V" } : Jvm.MethodName) prog_20_method_1_code (3 : Nat) (Option.none : Option Jvm.ClassFile.FieldType)) ∈ lw_all := lw_g (lw_at lw_m9 182 rfl) rfl
theorem q2250 : (Jvm.Cond.methodLink "LawnPathsModel" (1 : Nat) ({ cls := "java/lang/Object", name := "<init>", desc := "()V" } : Jvm.MethodName)) ∈ lw_all := lw_g (lw_at lw_m9 183 rfl) rfl
theorem q2251 : (Jvm.Cond.stringRef "LawnPathsModel" (44 : Nat) "lawn 5 4 3 2;gate west 0 1;gate east 4 1;gate pond 2 3;walker ada west east 5 1;walker ben east pond 0 2;stone 1 1;stone 1 0;stone 2 0;stone 3 0;stone 4 0") ∈ lw_tbl := lw_at lw_m9 184 rfl
theorem q2252 : (Jvm.Cond.methodLink "LawnPathsModel" (46 : Nat) ({ cls := "java/lang/String", name := "length", desc := "()I" } : Jvm.MethodName)) ∈ lw_all := lw_g (lw_at lw_m9 185 rfl) rfl
theorem q2253 : (Jvm.Cond.methodLink "LawnPathsModel" (52 : Nat) ({ cls := "java/lang/String", name := "charAt", desc := "(I)C" } : Jvm.MethodName)) ∈ lw_all := lw_g (lw_at lw_m9 186 rfl) rfl
theorem q2254 : (Jvm.Cond.methodLink "LawnPathsModel" (58 : Nat) ({ cls := "LawnPathsModel", name := "readText", desc := "()I" } : Jvm.MethodName)) ∈ lw_all := lw_g (lw_at lw_m9 187 rfl) rfl
theorem q2255 : (Jvm.Cond.instanceMethod ({ cls := "LawnPathsModel", name := "readText", desc := "()I" } : Jvm.MethodName)) ∈ lw_all := lw_g (lw_at lw_m9 188 rfl) rfl
theorem q2256 : (Jvm.Cond.selects "LawnPathsModel" ({ cls := "LawnPathsModel", name := "readText", desc := "()I" } : Jvm.MethodName) ({ cls := "LawnPathsModel", name := "readText", desc := "()I" } : Jvm.MethodName)) ∈ lw_all := lw_g (lw_at lw_m9 189 rfl) rfl
theorem q2257 : (Jvm.Cond.code ({ cls := "LawnPathsModel", name := "readText", desc := "()I" } : Jvm.MethodName) prog_20_method_83_code (2 : Nat) (Option.some Jvm.ClassFile.FieldType.int)) ∈ lw_all := lw_g (lw_at lw_m9 190 rfl) rfl
theorem q2258 : (Jvm.Cond.methodLink "LawnPathsModel" (64 : Nat) ({ cls := "LawnPathsModel", name := "copies", desc := "([II[II)V" } : Jvm.MethodName)) ∈ lw_all := lw_g (lw_at lw_m9 191 rfl) rfl
theorem q2259 : (Jvm.Cond.static ({ cls := "LawnPathsModel", name := "copies", desc := "([II[II)V" } : Jvm.MethodName)) ∈ lw_all := lw_g (lw_at lw_m9 192 rfl) rfl
theorem q2260 : (Jvm.Cond.code ({ cls := "LawnPathsModel", name := "copies", desc := "([II[II)V" } : Jvm.MethodName) prog_20_method_7_code (5 : Nat) (Option.none : Option Jvm.ClassFile.FieldType)) ∈ lw_all := lw_g (lw_at lw_m9 193 rfl) rfl
theorem q2261 : (Jvm.Cond.methodLink "LawnPathsModel" (302 : Nat) ({ cls := "LawnPathsModel", name := "startsText", desc := "()V" } : Jvm.MethodName)) ∈ lw_all := lw_g (lw_at lw_m9 194 rfl) rfl
theorem q2262 : (Jvm.Cond.privateMethod ({ cls := "LawnPathsModel", name := "startsText", desc := "()V" } : Jvm.MethodName)) ∈ lw_tbl := lw_at lw_m9 195 rfl
theorem q2263 : (Jvm.Cond.instanceMethod ({ cls := "LawnPathsModel", name := "startsText", desc := "()V" } : Jvm.MethodName)) ∈ lw_all := lw_g (lw_at lw_m9 196 rfl) rfl
theorem q2264 : (Jvm.Cond.code ({ cls := "LawnPathsModel", name := "startsText", desc := "()V" } : Jvm.MethodName) prog_20_method_69_code (1 : Nat) (Option.none : Option Jvm.ClassFile.FieldType)) ∈ lw_all := lw_g (lw_at lw_m9 197 rfl) rfl
theorem q2265 : (Jvm.Cond.methodLink "LawnPathsModel" (305 : Nat) ({ cls := "LawnPathsModel", name := "lawnLine", desc := "()V" } : Jvm.MethodName)) ∈ lw_all := lw_g (lw_at lw_m9 198 rfl) rfl
theorem q2266 : (Jvm.Cond.privateMethod ({ cls := "LawnPathsModel", name := "lawnLine", desc := "()V" } : Jvm.MethodName)) ∈ lw_tbl := lw_at lw_m9 199 rfl
theorem q2267 : (Jvm.Cond.instanceMethod ({ cls := "LawnPathsModel", name := "lawnLine", desc := "()V" } : Jvm.MethodName)) ∈ lw_all := lw_g (lw_at lw_m9 200 rfl) rfl
theorem q2268 : (Jvm.Cond.code ({ cls := "LawnPathsModel", name := "lawnLine", desc := "()V" } : Jvm.MethodName) prog_20_method_73_code (2 : Nat) (Option.none : Option Jvm.ClassFile.FieldType)) ∈ lw_all := lw_g (lw_at lw_m9 201 rfl) rfl
theorem q2269 : (Jvm.Cond.stringRef "LawnPathsModel" (248 : Nat) "lawn") ∈ lw_tbl := lw_at lw_m9 202 rfl
theorem q2270 : (Jvm.Cond.methodLink "LawnPathsModel" (250 : Nat) ({ cls := "LawnPathsModel", name := "sees", desc := "(Ljava/lang/String;)Z" } : Jvm.MethodName)) ∈ lw_all := lw_g (lw_at lw_m9 203 rfl) rfl
theorem q2271 : (Jvm.Cond.privateMethod ({ cls := "LawnPathsModel", name := "sees", desc := "(Ljava/lang/String;)Z" } : Jvm.MethodName)) ∈ lw_tbl := lw_at lw_m9 204 rfl
theorem q2272 : (Jvm.Cond.instanceMethod ({ cls := "LawnPathsModel", name := "sees", desc := "(Ljava/lang/String;)Z" } : Jvm.MethodName)) ∈ lw_all := lw_g (lw_at lw_m9 205 rfl) rfl
theorem q2273 : (Jvm.Cond.code ({ cls := "LawnPathsModel", name := "sees", desc := "(Ljava/lang/String;)Z" } : Jvm.MethodName) prog_20_method_58_code (4 : Nat) (Option.some Jvm.ClassFile.FieldType.boolean)) ∈ lw_all := lw_g (lw_at lw_m9 206 rfl) rfl
theorem q2274 : (Jvm.Cond.methodLink "LawnPathsModel" (214 : Nat) ({ cls := "LawnPathsModel", name := "next", desc := "()I" } : Jvm.MethodName)) ∈ lw_all := lw_g (lw_at lw_m9 207 rfl) rfl
theorem q2275 : (Jvm.Cond.privateMethod ({ cls := "LawnPathsModel", name := "next", desc := "()I" } : Jvm.MethodName)) ∈ lw_tbl := lw_at lw_m9 208 rfl
theorem q2276 : (Jvm.Cond.instanceMethod ({ cls := "LawnPathsModel", name := "next", desc := "()I" } : Jvm.MethodName)) ∈ lw_all := lw_g (lw_at lw_m9 209 rfl) rfl
theorem q2277 : (Jvm.Cond.code ({ cls := "LawnPathsModel", name := "next", desc := "()I" } : Jvm.MethodName) prog_20_method_56_code (1 : Nat) (Option.some Jvm.ClassFile.FieldType.int)) ∈ lw_all := lw_g (lw_at lw_m9 210 rfl) rfl
theorem q2278 : (Jvm.Cond.methodLink "LawnPathsModel" (195 : Nat) ({ cls := "LawnPathsModel", name := "byteAt", desc := "(I)I" } : Jvm.MethodName)) ∈ lw_all := lw_g (lw_at lw_m9 211 rfl) rfl
theorem q2279 : (Jvm.Cond.privateMethod ({ cls := "LawnPathsModel", name := "byteAt", desc := "(I)I" } : Jvm.MethodName)) ∈ lw_tbl := lw_at lw_m9 212 rfl
theorem q2280 : (Jvm.Cond.instanceMethod ({ cls := "LawnPathsModel", name := "byteAt", desc := "(I)I" } : Jvm.MethodName)) ∈ lw_all := lw_g (lw_at lw_m9 213 rfl) rfl
theorem q2281 : (Jvm.Cond.code ({ cls := "LawnPathsModel", name := "byteAt", desc := "(I)I" } : Jvm.MethodName) prog_20_method_55_code (2 : Nat) (Option.some Jvm.ClassFile.FieldType.int)) ∈ lw_all := lw_g (lw_at lw_m9 214 rfl) rfl
theorem q2282 : (Jvm.Cond.constantLong "LawnPathsModel" (204 : Nat) (97 : Int64)) ∈ lw_all := lw_g (lw_at lw_m9 215 rfl) rfl
theorem q2283 : (Jvm.Cond.constantLong "LawnPathsModel" (206 : Nat) (122 : Int64)) ∈ lw_all := lw_g (lw_at lw_m9 216 rfl) rfl
theorem q2284 : (Jvm.Cond.methodLink "LawnPathsModel" (68 : Nat) ({ cls := "LawnPathsModel", name := "in", desc := "(JJJ)Z" } : Jvm.MethodName)) ∈ lw_all := lw_g (lw_at lw_m9 217 rfl) rfl
theorem q2285 : (Jvm.Cond.static ({ cls := "LawnPathsModel", name := "in", desc := "(JJJ)Z" } : Jvm.MethodName)) ∈ lw_all := lw_g (lw_at lw_m9 218 rfl) rfl
theorem q2286 : (Jvm.Cond.code ({ cls := "LawnPathsModel", name := "in", desc := "(JJJ)Z" } : Jvm.MethodName) prog_20_method_3_code (6 : Nat) (Option.some Jvm.ClassFile.FieldType.boolean)) ∈ lw_all := lw_g (lw_at lw_m9 219 rfl) rfl
theorem q2287 : (Jvm.Cond.methodLink "LawnPathsModel" (217 : Nat) ({ cls := "LawnPathsModel", name := "must", desc := "(ZI)V" } : Jvm.MethodName)) ∈ lw_all := lw_g (lw_at lw_m9 220 rfl) rfl
theorem q2288 : (Jvm.Cond.privateMethod ({ cls := "LawnPathsModel", name := "must", desc := "(ZI)V" } : Jvm.MethodName)) ∈ lw_tbl := lw_at lw_m9 221 rfl
theorem q2289 : (Jvm.Cond.instanceMethod ({ cls := "LawnPathsModel", name := "must", desc := "(ZI)V" } : Jvm.MethodName)) ∈ lw_all := lw_g (lw_at lw_m9 222 rfl) rfl
theorem q2290 : (Jvm.Cond.code ({ cls := "LawnPathsModel", name := "must", desc := "(ZI)V" } : Jvm.MethodName) prog_20_method_57_code (3 : Nat) (Option.none : Option Jvm.ClassFile.FieldType)) ∈ lw_all := lw_g (lw_at lw_m9 223 rfl) rfl
theorem q2291 : (Jvm.Cond.methodLink "LawnPathsModel" (242 : Nat) ({ cls := "LawnPathsModel", name := "goesPast", desc := "()V" } : Jvm.MethodName)) ∈ lw_all := lw_g (lw_at lw_m9 224 rfl) rfl
theorem q2292 : (Jvm.Cond.privateMethod ({ cls := "LawnPathsModel", name := "goesPast", desc := "()V" } : Jvm.MethodName)) ∈ lw_tbl := lw_at lw_m9 225 rfl
theorem q2293 : (Jvm.Cond.instanceMethod ({ cls := "LawnPathsModel", name := "goesPast", desc := "()V" } : Jvm.MethodName)) ∈ lw_all := lw_g (lw_at lw_m9 226 rfl) rfl
theorem q2294 : (Jvm.Cond.code ({ cls := "LawnPathsModel", name := "goesPast", desc := "()V" } : Jvm.MethodName) prog_20_method_59_code (1 : Nat) (Option.none : Option Jvm.ClassFile.FieldType)) ∈ lw_all := lw_g (lw_at lw_m9 227 rfl) rfl
theorem q2295 : (Jvm.Cond.methodLink "LawnPathsModel" (254 : Nat) ({ cls := "LawnPathsModel", name := "number", desc := "(II)I" } : Jvm.MethodName)) ∈ lw_all := lw_g (lw_at lw_m9 228 rfl) rfl
theorem q2296 : (Jvm.Cond.privateMethod ({ cls := "LawnPathsModel", name := "number", desc := "(II)I" } : Jvm.MethodName)) ∈ lw_tbl := lw_at lw_m9 229 rfl
theorem q2297 : (Jvm.Cond.instanceMethod ({ cls := "LawnPathsModel", name := "number", desc := "(II)I" } : Jvm.MethodName)) ∈ lw_all := lw_g (lw_at lw_m9 230 rfl) rfl
theorem q2298 : (Jvm.Cond.code ({ cls := "LawnPathsModel", name := "number", desc := "(II)I" } : Jvm.MethodName) prog_20_method_61_code (4 : Nat) (Option.some Jvm.ClassFile.FieldType.int)) ∈ lw_all := lw_g (lw_at lw_m9 231 rfl) rfl
theorem q2299 : (Jvm.Cond.constantLong "LawnPathsModel" (221 : Nat) (48 : Int64)) ∈ lw_all := lw_g (lw_at lw_m9 232 rfl) rfl
theorem q2300 : (Jvm.Cond.constantLong "LawnPathsModel" (223 : Nat) (57 : Int64)) ∈ lw_all := lw_g (lw_at lw_m9 233 rfl) rfl
theorem q2301 : (Jvm.Cond.methodLink "LawnPathsModel" (117 : Nat) ({ cls := "LawnPathsModel", name := "cells", desc := "()I" } : Jvm.MethodName)) ∈ lw_all := lw_g (lw_at lw_m9 234 rfl) rfl
theorem q2302 : (Jvm.Cond.privateMethod ({ cls := "LawnPathsModel", name := "cells", desc := "()I" } : Jvm.MethodName)) ∈ lw_tbl := lw_at lw_m9 235 rfl
theorem q2303 : (Jvm.Cond.instanceMethod ({ cls := "LawnPathsModel", name := "cells", desc := "()I" } : Jvm.MethodName)) ∈ lw_all := lw_g (lw_at lw_m9 236 rfl) rfl
theorem q2304 : (Jvm.Cond.code ({ cls := "LawnPathsModel", name := "cells", desc := "()I" } : Jvm.MethodName) prog_20_method_19_code (1 : Nat) (Option.some Jvm.ClassFile.FieldType.int)) ∈ lw_all := lw_g (lw_at lw_m9 237 rfl) rfl
theorem q2305 : (Jvm.Cond.methodLink "LawnPathsModel" (139 : Nat) ({ cls := "LawnPathsModel", name := "putsCell", desc := "(III)V" } : Jvm.MethodName)) ∈ lw_all := lw_g (lw_at lw_m9 238 rfl) rfl
theorem q2306 : (Jvm.Cond.privateMethod ({ cls := "LawnPathsModel", name := "putsCell", desc := "(III)V" } : Jvm.MethodName)) ∈ lw_tbl := lw_at lw_m9 239 rfl
theorem q2307 : (Jvm.Cond.instanceMethod ({ cls := "LawnPathsModel", name := "putsCell", desc := "(III)V" } : Jvm.MethodName)) ∈ lw_all := lw_g (lw_at lw_m10 0 rfl) rfl
theorem q2308 : (Jvm.Cond.code ({ cls := "LawnPathsModel", name := "putsCell", desc := "(III)V" } : Jvm.MethodName) prog_20_method_14_code (4 : Nat) (Option.none : Option Jvm.ClassFile.FieldType)) ∈ lw_all := lw_g (lw_at lw_m10 1 rfl) rfl
theorem q2309 : (Jvm.Cond.methodLink "LawnPathsModel" (308 : Nat) ({ cls := "LawnPathsModel", name := "sign", desc := "(C)V" } : Jvm.MethodName)) ∈ lw_all := lw_g (lw_at lw_m10 2 rfl) rfl
theorem q2310 : (Jvm.Cond.privateMethod ({ cls := "LawnPathsModel", name := "sign", desc := "(C)V" } : Jvm.MethodName)) ∈ lw_tbl := lw_at lw_m10 3 rfl
theorem q2311 : (Jvm.Cond.instanceMethod ({ cls := "LawnPathsModel", name := "sign", desc := "(C)V" } : Jvm.MethodName)) ∈ lw_all := lw_g (lw_at lw_m10 4 rfl) rfl
theorem q2312 : (Jvm.Cond.code ({ cls := "LawnPathsModel", name := "sign", desc := "(C)V" } : Jvm.MethodName) prog_20_method_60_code (2 : Nat) (Option.none : Option Jvm.ClassFile.FieldType)) ∈ lw_all := lw_g (lw_at lw_m10 5 rfl) rfl
theorem q2313 : (Jvm.Cond.methodLink "LawnPathsModel" (312 : Nat) ({ cls := "LawnPathsModel", name := "statement", desc := "()V" } : Jvm.MethodName)) ∈ lw_all := lw_g (lw_at lw_m10 6 rfl) rfl
theorem q2314 : (Jvm.Cond.privateMethod ({ cls := "LawnPathsModel", name := "statement", desc := "()V" } : Jvm.MethodName)) ∈ lw_tbl := lw_at lw_m10 7 rfl
theorem q2315 : (Jvm.Cond.instanceMethod ({ cls := "LawnPathsModel", name := "statement", desc := "()V" } : Jvm.MethodName)) ∈ lw_all := lw_g (lw_at lw_m10 8 rfl) rfl
theorem q2316 : (Jvm.Cond.code ({ cls := "LawnPathsModel", name := "statement", desc := "()V" } : Jvm.MethodName) prog_20_method_82_code (2 : Nat) (Option.none : Option Jvm.ClassFile.FieldType)) ∈ lw_all := lw_g (lw_at lw_m10 9 rfl) rfl
theorem q2317 : (Jvm.Cond.stringRef "LawnPathsModel" (287 : Nat) "gate") ∈ lw_tbl := lw_at lw_m10 10 rfl
theorem q2318 : (Jvm.Cond.methodLink "LawnPathsModel" (289 : Nat) ({ cls := "LawnPathsModel", name := "gateLine", desc := "()V" } : Jvm.MethodName)) ∈ lw_all := lw_g (lw_at lw_m10 11 rfl) rfl
theorem q2319 : (Jvm.Cond.privateMethod ({ cls := "LawnPathsModel", name := "gateLine", desc := "()V" } : Jvm.MethodName)) ∈ lw_tbl := lw_at lw_m10 12 rfl
theorem q2320 : (Jvm.Cond.instanceMethod ({ cls := "LawnPathsModel", name := "gateLine", desc := "()V" } : Jvm.MethodName)) ∈ lw_all := lw_g (lw_at lw_m10 13 rfl) rfl
theorem q2321 : (Jvm.Cond.code ({ cls := "LawnPathsModel", name := "gateLine", desc := "()V" } : Jvm.MethodName) prog_20_method_75_code (3 : Nat) (Option.none : Option Jvm.ClassFile.FieldType)) ∈ lw_all := lw_g (lw_at lw_m10 14 rfl) rfl
theorem q2322 : (Jvm.Cond.methodLink "LawnPathsModel" (257 : Nat) ({ cls := "LawnPathsModel", name := "newName", desc := "(IZ)V" } : Jvm.MethodName)) ∈ lw_all := lw_g (lw_at lw_m10 15 rfl) rfl
theorem q2323 : (Jvm.Cond.privateMethod ({ cls := "LawnPathsModel", name := "newName", desc := "(IZ)V" } : Jvm.MethodName)) ∈ lw_tbl := lw_at lw_m10 16 rfl
theorem q2324 : (Jvm.Cond.instanceMethod ({ cls := "LawnPathsModel", name := "newName", desc := "(IZ)V" } : Jvm.MethodName)) ∈ lw_all := lw_g (lw_at lw_m10 17 rfl) rfl
theorem q2325 : (Jvm.Cond.code ({ cls := "LawnPathsModel", name := "newName", desc := "(IZ)V" } : Jvm.MethodName) prog_20_method_68_code (4 : Nat) (Option.none : Option Jvm.ClassFile.FieldType)) ∈ lw_all := lw_g (lw_at lw_m10 18 rfl) rfl
theorem q2326 : (Jvm.Cond.methodLink "LawnPathsModel" (236 : Nat) ({ cls := "LawnPathsModel", name := "isName", desc := "()Z" } : Jvm.MethodName)) ∈ lw_all := lw_g (lw_at lw_m10 19 rfl) rfl
theorem q2327 : (Jvm.Cond.privateMethod ({ cls := "LawnPathsModel", name := "isName", desc := "()Z" } : Jvm.MethodName)) ∈ lw_tbl := lw_at lw_m10 20 rfl
theorem q2328 : (Jvm.Cond.instanceMethod ({ cls := "LawnPathsModel", name := "isName", desc := "()Z" } : Jvm.MethodName)) ∈ lw_all := lw_g (lw_at lw_m10 21 rfl) rfl
theorem q2329 : (Jvm.Cond.code ({ cls := "LawnPathsModel", name := "isName", desc := "()Z" } : Jvm.MethodName) prog_20_method_62_code (2 : Nat) (Option.some Jvm.ClassFile.FieldType.boolean)) ∈ lw_all := lw_g (lw_at lw_m10 22 rfl) rfl
theorem q2330 : (Jvm.Cond.constantLong "LawnPathsModel" (225 : Nat) (6 : Int64)) ∈ lw_all := lw_g (lw_at lw_m10 23 rfl) rfl
theorem q2331 : (Jvm.Cond.methodLink "LawnPathsModel" (239 : Nat) ({ cls := "LawnPathsModel", name := "thingHere", desc := "(Z)I" } : Jvm.MethodName)) ∈ lw_all := lw_g (lw_at lw_m10 24 rfl) rfl
theorem q2332 : (Jvm.Cond.privateMethod ({ cls := "LawnPathsModel", name := "thingHere", desc := "(Z)I" } : Jvm.MethodName)) ∈ lw_tbl := lw_at lw_m10 25 rfl
theorem q2333 : (Jvm.Cond.instanceMethod ({ cls := "LawnPathsModel", name := "thingHere", desc := "(Z)I" } : Jvm.MethodName)) ∈ lw_all := lw_g (lw_at lw_m10 26 rfl) rfl
theorem q2334 : (Jvm.Cond.code ({ cls := "LawnPathsModel", name := "thingHere", desc := "(Z)I" } : Jvm.MethodName) prog_20_method_66_code (2 : Nat) (Option.some Jvm.ClassFile.FieldType.int)) ∈ lw_all := lw_g (lw_at lw_m10 27 rfl) rfl
theorem q2335 : (Jvm.Cond.methodLink "LawnPathsModel" (230 : Nat) ({ cls := "LawnPathsModel", name := "gateHere", desc := "()I" } : Jvm.MethodName)) ∈ lw_all := lw_g (lw_at lw_m10 28 rfl) rfl
theorem q2336 : (Jvm.Cond.privateMethod ({ cls := "LawnPathsModel", name := "gateHere", desc := "()I" } : Jvm.MethodName)) ∈ lw_tbl := lw_at lw_m10 29 rfl
theorem q2337 : (Jvm.Cond.instanceMethod ({ cls := "LawnPathsModel", name := "gateHere", desc := "()I" } : Jvm.MethodName)) ∈ lw_all := lw_g (lw_at lw_m10 30 rfl) rfl
theorem q2338 : (Jvm.Cond.code ({ cls := "LawnPathsModel", name := "gateHere", desc := "()I" } : Jvm.MethodName) prog_20_method_64_code (2 : Nat) (Option.some Jvm.ClassFile.FieldType.int)) ∈ lw_all := lw_g (lw_at lw_m10 31 rfl) rfl
theorem q2339 : (Jvm.Cond.methodLink "LawnPathsModel" (227 : Nat) ({ cls := "LawnPathsModel", name := "isNamed", desc := "(I)Z" } : Jvm.MethodName)) ∈ lw_all := lw_g (lw_at lw_m10 32 rfl) rfl
theorem q2340 : (Jvm.Cond.privateMethod ({ cls := "LawnPathsModel", name := "isNamed", desc := "(I)Z" } : Jvm.MethodName)) ∈ lw_tbl := lw_at lw_m10 33 rfl
theorem q2341 : (Jvm.Cond.instanceMethod ({ cls := "LawnPathsModel", name := "isNamed", desc := "(I)Z" } : Jvm.MethodName)) ∈ lw_all := lw_g (lw_at lw_m10 34 rfl) rfl
theorem q2342 : (Jvm.Cond.code ({ cls := "LawnPathsModel", name := "isNamed", desc := "(I)Z" } : Jvm.MethodName) prog_20_method_63_code (3 : Nat) (Option.some Jvm.ClassFile.FieldType.boolean)) ∈ lw_all := lw_g (lw_at lw_m10 35 rfl) rfl
theorem q2343 : (Jvm.Cond.methodLink "LawnPathsModel" (233 : Nat) ({ cls := "LawnPathsModel", name := "walkerHere", desc := "()I" } : Jvm.MethodName)) ∈ lw_all := lw_g (lw_at lw_m10 36 rfl) rfl
theorem q2344 : (Jvm.Cond.privateMethod ({ cls := "LawnPathsModel", name := "walkerHere", desc := "()I" } : Jvm.MethodName)) ∈ lw_tbl := lw_at lw_m10 37 rfl
theorem q2345 : (Jvm.Cond.instanceMethod ({ cls := "LawnPathsModel", name := "walkerHere", desc := "()I" } : Jvm.MethodName)) ∈ lw_all := lw_g (lw_at lw_m10 38 rfl) rfl
theorem q2346 : (Jvm.Cond.code ({ cls := "LawnPathsModel", name := "walkerHere", desc := "()I" } : Jvm.MethodName) prog_20_method_65_code (2 : Nat) (Option.some Jvm.ClassFile.FieldType.int)) ∈ lw_all := lw_g (lw_at lw_m10 39 rfl) rfl
theorem q2347 : (Jvm.Cond.methodLink "LawnPathsModel" (260 : Nat) ({ cls := "LawnPathsModel", name := "cellHere", desc := "()I" } : Jvm.MethodName)) ∈ lw_all := lw_g (lw_at lw_m10 40 rfl) rfl
theorem q2348 : (Jvm.Cond.privateMethod ({ cls := "LawnPathsModel", name := "cellHere", desc := "()I" } : Jvm.MethodName)) ∈ lw_tbl := lw_at lw_m10 41 rfl
theorem q2349 : (Jvm.Cond.instanceMethod ({ cls := "LawnPathsModel", name := "cellHere", desc := "()I" } : Jvm.MethodName)) ∈ lw_all := lw_g (lw_at lw_m10 42 rfl) rfl
theorem q2350 : (Jvm.Cond.code ({ cls := "LawnPathsModel", name := "cellHere", desc := "()I" } : Jvm.MethodName) prog_20_method_74_code (3 : Nat) (Option.some Jvm.ClassFile.FieldType.int)) ∈ lw_all := lw_g (lw_at lw_m10 43 rfl) rfl
theorem q2351 : (Jvm.Cond.methodLink "LawnPathsModel" (83 : Nat) ({ cls := "LawnPathsModel", name := "at", desc := "(II)I" } : Jvm.MethodName)) ∈ lw_all := lw_g (lw_at lw_m10 44 rfl) rfl
theorem q2352 : (Jvm.Cond.privateMethod ({ cls := "LawnPathsModel", name := "at", desc := "(II)I" } : Jvm.MethodName)) ∈ lw_tbl := lw_at lw_m10 45 rfl
theorem q2353 : (Jvm.Cond.instanceMethod ({ cls := "LawnPathsModel", name := "at", desc := "(II)I" } : Jvm.MethodName)) ∈ lw_all := lw_g (lw_at lw_m10 46 rfl) rfl
theorem q2354 : (Jvm.Cond.code ({ cls := "LawnPathsModel", name := "at", desc := "(II)I" } : Jvm.MethodName) prog_20_method_20_code (3 : Nat) (Option.some Jvm.ClassFile.FieldType.int)) ∈ lw_all := lw_g (lw_at lw_m10 47 rfl) rfl
theorem q2355 : (Jvm.Cond.methodLink "LawnPathsModel" (86 : Nat) ({ cls := "LawnPathsModel", name := "ofCell", desc := "(II)I" } : Jvm.MethodName)) ∈ lw_all := lw_g (lw_at lw_m10 48 rfl) rfl
theorem q2356 : (Jvm.Cond.privateMethod ({ cls := "LawnPathsModel", name := "ofCell", desc := "(II)I" } : Jvm.MethodName)) ∈ lw_tbl := lw_at lw_m10 49 rfl
theorem q2357 : (Jvm.Cond.instanceMethod ({ cls := "LawnPathsModel", name := "ofCell", desc := "(II)I" } : Jvm.MethodName)) ∈ lw_all := lw_g (lw_at lw_m10 50 rfl) rfl
theorem q2358 : (Jvm.Cond.code ({ cls := "LawnPathsModel", name := "ofCell", desc := "(II)I" } : Jvm.MethodName) prog_20_method_13_code (3 : Nat) (Option.some Jvm.ClassFile.FieldType.int)) ∈ lw_all := lw_g (lw_at lw_m10 51 rfl) rfl
theorem q2359 : (Jvm.Cond.methodLink "LawnPathsModel" (76 : Nat) ({ cls := "LawnPathsModel", name := "xOf", desc := "(I)I" } : Jvm.MethodName)) ∈ lw_all := lw_g (lw_at lw_m10 52 rfl) rfl
theorem q2360 : (Jvm.Cond.privateMethod ({ cls := "LawnPathsModel", name := "xOf", desc := "(I)I" } : Jvm.MethodName)) ∈ lw_tbl := lw_at lw_m10 53 rfl
theorem q2361 : (Jvm.Cond.instanceMethod ({ cls := "LawnPathsModel", name := "xOf", desc := "(I)I" } : Jvm.MethodName)) ∈ lw_all := lw_g (lw_at lw_m10 54 rfl) rfl
theorem q2362 : (Jvm.Cond.code ({ cls := "LawnPathsModel", name := "xOf", desc := "(I)I" } : Jvm.MethodName) prog_20_method_21_code (2 : Nat) (Option.some Jvm.ClassFile.FieldType.int)) ∈ lw_all := lw_g (lw_at lw_m10 55 rfl) rfl
theorem q2363 : (Jvm.Cond.methodLink "LawnPathsModel" (72 : Nat) ({ cls := "LawnPathsModel", name := "yOf", desc := "(I)I" } : Jvm.MethodName)) ∈ lw_all := lw_g (lw_at lw_m10 56 rfl) rfl
theorem q2364 : (Jvm.Cond.privateMethod ({ cls := "LawnPathsModel", name := "yOf", desc := "(I)I" } : Jvm.MethodName)) ∈ lw_tbl := lw_at lw_m10 57 rfl
theorem q2365 : (Jvm.Cond.instanceMethod ({ cls := "LawnPathsModel", name := "yOf", desc := "(I)I" } : Jvm.MethodName)) ∈ lw_all := lw_g (lw_at lw_m10 58 rfl) rfl
theorem q2366 : (Jvm.Cond.code ({ cls := "LawnPathsModel", name := "yOf", desc := "(I)I" } : Jvm.MethodName) prog_20_method_22_code (2 : Nat) (Option.some Jvm.ClassFile.FieldType.int)) ∈ lw_all := lw_g (lw_at lw_m10 59 rfl) rfl
theorem q2367 : (Jvm.Cond.stringRef "LawnPathsModel" (292 : Nat) "walker") ∈ lw_tbl := lw_at lw_m10 60 rfl
theorem q2368 : (Jvm.Cond.methodLink "LawnPathsModel" (294 : Nat) ({ cls := "LawnPathsModel", name := "walkerLine", desc := "()V" } : Jvm.MethodName)) ∈ lw_all := lw_g (lw_at lw_m10 61 rfl) rfl
theorem q2369 : (Jvm.Cond.privateMethod ({ cls := "LawnPathsModel", name := "walkerLine", desc := "()V" } : Jvm.MethodName)) ∈ lw_tbl := lw_at lw_m10 62 rfl
theorem q2370 : (Jvm.Cond.instanceMethod ({ cls := "LawnPathsModel", name := "walkerLine", desc := "()V" } : Jvm.MethodName)) ∈ lw_all := lw_g (lw_at lw_m10 63 rfl) rfl
theorem q2371 : (Jvm.Cond.code ({ cls := "LawnPathsModel", name := "walkerLine", desc := "()V" } : Jvm.MethodName) prog_20_method_76_code (3 : Nat) (Option.none : Option Jvm.ClassFile.FieldType)) ∈ lw_all := lw_g (lw_at lw_m10 64 rfl) rfl
theorem q2372 : (Jvm.Cond.methodLink "LawnPathsModel" (263 : Nat) ({ cls := "LawnPathsModel", name := "mustBe", desc := "(ZI)I" } : Jvm.MethodName)) ∈ lw_all := lw_g (lw_at lw_m10 65 rfl) rfl
theorem q2373 : (Jvm.Cond.privateMethod ({ cls := "LawnPathsModel", name := "mustBe", desc := "(ZI)I" } : Jvm.MethodName)) ∈ lw_tbl := lw_at lw_m10 66 rfl
theorem q2374 : (Jvm.Cond.instanceMethod ({ cls := "LawnPathsModel", name := "mustBe", desc := "(ZI)I" } : Jvm.MethodName)) ∈ lw_all := lw_g (lw_at lw_m10 67 rfl) rfl
theorem q2375 : (Jvm.Cond.code ({ cls := "LawnPathsModel", name := "mustBe", desc := "(ZI)I" } : Jvm.MethodName) prog_20_method_67_code (4 : Nat) (Option.some Jvm.ClassFile.FieldType.int)) ∈ lw_all := lw_g (lw_at lw_m10 68 rfl) rfl
theorem q2376 : (Jvm.Cond.methodLink "LawnPathsModel" (154 : Nat) ({ cls := "LawnPathsModel", name := "puts", desc := "(III)V" } : Jvm.MethodName)) ∈ lw_all := lw_g (lw_at lw_m10 69 rfl) rfl
theorem q2377 : (Jvm.Cond.privateMethod ({ cls := "LawnPathsModel", name := "puts", desc := "(III)V" } : Jvm.MethodName)) ∈ lw_tbl := lw_at lw_m10 70 rfl
theorem q2378 : (Jvm.Cond.instanceMethod ({ cls := "LawnPathsModel", name := "puts", desc := "(III)V" } : Jvm.MethodName)) ∈ lw_all := lw_g (lw_at lw_m10 71 rfl) rfl
theorem q2379 : (Jvm.Cond.code ({ cls := "LawnPathsModel", name := "puts", desc := "(III)V" } : Jvm.MethodName) prog_20_method_12_code (4 : Nat) (Option.none : Option Jvm.ClassFile.FieldType)) ∈ lw_all := lw_g (lw_at lw_m10 72 rfl) rfl
theorem q2380 : (Jvm.Cond.stringRef "LawnPathsModel" (274 : Nat) "stone") ∈ lw_tbl := lw_at lw_m10 73 rfl
theorem q2381 : (Jvm.Cond.stringRef "LawnPathsModel" (279 : Nat) "grass") ∈ lw_tbl := lw_at lw_m10 74 rfl
theorem q2382 : (Jvm.Cond.stringRef "LawnPathsModel" (297 : Nat) "fence") ∈ lw_tbl := lw_at lw_m10 75 rfl
theorem q2383 : (Jvm.Cond.methodLink "LawnPathsModel" (299 : Nat) ({ cls := "LawnPathsModel", name := "groundLine", desc := "()V" } : Jvm.MethodName)) ∈ lw_all := lw_g (lw_at lw_m10 76 rfl) rfl
theorem q2384 : (Jvm.Cond.privateMethod ({ cls := "LawnPathsModel", name := "groundLine", desc := "()V" } : Jvm.MethodName)) ∈ lw_tbl := lw_at lw_m10 77 rfl
theorem q2385 : (Jvm.Cond.instanceMethod ({ cls := "LawnPathsModel", name := "groundLine", desc := "()V" } : Jvm.MethodName)) ∈ lw_all := lw_g (lw_at lw_m10 78 rfl) rfl
theorem q2386 : (Jvm.Cond.code ({ cls := "LawnPathsModel", name := "groundLine", desc := "()V" } : Jvm.MethodName) prog_20_method_81_code (1 : Nat) (Option.none : Option Jvm.ClassFile.FieldType)) ∈ lw_all := lw_g (lw_at lw_m10 79 rfl) rfl
theorem q2387 : (Jvm.Cond.methodLink "LawnPathsModel" (276 : Nat) ({ cls := "LawnPathsModel", name := "stoneLine", desc := "()V" } : Jvm.MethodName)) ∈ lw_all := lw_g (lw_at lw_m10 80 rfl) rfl
theorem q2388 : (Jvm.Cond.privateMethod ({ cls := "LawnPathsModel", name := "stoneLine", desc := "()V" } : Jvm.MethodName)) ∈ lw_tbl := lw_at lw_m10 81 rfl
theorem q2389 : (Jvm.Cond.instanceMethod ({ cls := "LawnPathsModel", name := "stoneLine", desc := "()V" } : Jvm.MethodName)) ∈ lw_all := lw_g (lw_at lw_m10 82 rfl) rfl
theorem q2390 : (Jvm.Cond.code ({ cls := "LawnPathsModel", name := "stoneLine", desc := "()V" } : Jvm.MethodName) prog_20_method_79_code (2 : Nat) (Option.none : Option Jvm.ClassFile.FieldType)) ∈ lw_all := lw_g (lw_at lw_m10 83 rfl) rfl
theorem q2391 : (Jvm.Cond.methodLink "LawnPathsModel" (267 : Nat) ({ cls := "LawnPathsModel", name := "freeCellHere", desc := "()I" } : Jvm.MethodName)) ∈ lw_all := lw_g (lw_at lw_m10 84 rfl) rfl
theorem q2392 : (Jvm.Cond.privateMethod ({ cls := "LawnPathsModel", name := "freeCellHere", desc := "()I" } : Jvm.MethodName)) ∈ lw_tbl := lw_at lw_m10 85 rfl
theorem q2393 : (Jvm.Cond.instanceMethod ({ cls := "LawnPathsModel", name := "freeCellHere", desc := "()I" } : Jvm.MethodName)) ∈ lw_all := lw_g (lw_at lw_m10 86 rfl) rfl
theorem q2394 : (Jvm.Cond.code ({ cls := "LawnPathsModel", name := "freeCellHere", desc := "()I" } : Jvm.MethodName) prog_20_method_77_code (2 : Nat) (Option.some Jvm.ClassFile.FieldType.int)) ∈ lw_all := lw_g (lw_at lw_m10 87 rfl) rfl
theorem q2395 : (Jvm.Cond.methodLink "LawnPathsModel" (93 : Nat) ({ cls := "LawnPathsModel", name := "isGrass", desc := "(I)Z" } : Jvm.MethodName)) ∈ lw_all := lw_g (lw_at lw_m10 88 rfl) rfl
theorem q2396 : (Jvm.Cond.privateMethod ({ cls := "LawnPathsModel", name := "isGrass", desc := "(I)Z" } : Jvm.MethodName)) ∈ lw_tbl := lw_at lw_m10 89 rfl
theorem q2397 : (Jvm.Cond.instanceMethod ({ cls := "LawnPathsModel", name := "isGrass", desc := "(I)Z" } : Jvm.MethodName)) ∈ lw_all := lw_g (lw_at lw_m10 90 rfl) rfl
theorem q2398 : (Jvm.Cond.code ({ cls := "LawnPathsModel", name := "isGrass", desc := "(I)Z" } : Jvm.MethodName) prog_20_method_25_code (2 : Nat) (Option.some Jvm.ClassFile.FieldType.boolean)) ∈ lw_all := lw_g (lw_at lw_m10 91 rfl) rfl
theorem q2399 : (Jvm.Cond.methodLink "LawnPathsModel" (97 : Nat) ({ cls := "LawnPathsModel", name := "hasFence", desc := "(I)Z" } : Jvm.MethodName)) ∈ lw_all := lw_g (lw_at lw_m10 92 rfl) rfl
theorem q2400 : (Jvm.Cond.privateMethod ({ cls := "LawnPathsModel", name := "hasFence", desc := "(I)Z" } : Jvm.MethodName)) ∈ lw_tbl := lw_at lw_m10 93 rfl
theorem q2401 : (Jvm.Cond.instanceMethod ({ cls := "LawnPathsModel", name := "hasFence", desc := "(I)Z" } : Jvm.MethodName)) ∈ lw_all := lw_g (lw_at lw_m10 94 rfl) rfl
theorem q2402 : (Jvm.Cond.code ({ cls := "LawnPathsModel", name := "hasFence", desc := "(I)Z" } : Jvm.MethodName) prog_20_method_26_code (2 : Nat) (Option.some Jvm.ClassFile.FieldType.boolean)) ∈ lw_all := lw_g (lw_at lw_m10 95 rfl) rfl
theorem q2403 : (Jvm.Cond.methodLink "LawnPathsModel" (180 : Nat) ({ cls := "LawnPathsModel", name := "becomesStone", desc := "(I)V" } : Jvm.MethodName)) ∈ lw_all := lw_g (lw_at lw_m10 96 rfl) rfl
theorem q2404 : (Jvm.Cond.privateMethod ({ cls := "LawnPathsModel", name := "becomesStone", desc := "(I)V" } : Jvm.MethodName)) ∈ lw_tbl := lw_at lw_m10 97 rfl
theorem q2405 : (Jvm.Cond.instanceMethod ({ cls := "LawnPathsModel", name := "becomesStone", desc := "(I)V" } : Jvm.MethodName)) ∈ lw_all := lw_g (lw_at lw_m10 98 rfl) rfl
theorem q2406 : (Jvm.Cond.code ({ cls := "LawnPathsModel", name := "becomesStone", desc := "(I)V" } : Jvm.MethodName) prog_20_method_47_code (2 : Nat) (Option.none : Option Jvm.ClassFile.FieldType)) ∈ lw_all := lw_g (lw_at lw_m10 99 rfl) rfl
theorem q2407 : (Jvm.Cond.methodLink "LawnPathsModel" (281 : Nat) ({ cls := "LawnPathsModel", name := "grassLine", desc := "()V" } : Jvm.MethodName)) ∈ lw_all := lw_g (lw_at lw_m10 100 rfl) rfl
theorem q2408 : (Jvm.Cond.privateMethod ({ cls := "LawnPathsModel", name := "grassLine", desc := "()V" } : Jvm.MethodName)) ∈ lw_tbl := lw_at lw_m10 101 rfl
theorem q2409 : (Jvm.Cond.instanceMethod ({ cls := "LawnPathsModel", name := "grassLine", desc := "()V" } : Jvm.MethodName)) ∈ lw_all := lw_g (lw_at lw_m10 102 rfl) rfl
theorem q2410 : (Jvm.Cond.code ({ cls := "LawnPathsModel", name := "grassLine", desc := "()V" } : Jvm.MethodName) prog_20_method_78_code (3 : Nat) (Option.none : Option Jvm.ClassFile.FieldType)) ∈ lw_all := lw_g (lw_at lw_m10 103 rfl) rfl
theorem q2411 : (Jvm.Cond.methodLink "LawnPathsModel" (284 : Nat) ({ cls := "LawnPathsModel", name := "fenceLine", desc := "()V" } : Jvm.MethodName)) ∈ lw_all := lw_g (lw_at lw_m10 104 rfl) rfl
theorem q2412 : (Jvm.Cond.privateMethod ({ cls := "LawnPathsModel", name := "fenceLine", desc := "()V" } : Jvm.MethodName)) ∈ lw_tbl := lw_at lw_m10 105 rfl
theorem q2413 : (Jvm.Cond.instanceMethod ({ cls := "LawnPathsModel", name := "fenceLine", desc := "()V" } : Jvm.MethodName)) ∈ lw_all := lw_g (lw_at lw_m10 106 rfl) rfl
theorem q2414 : (Jvm.Cond.code ({ cls := "LawnPathsModel", name := "fenceLine", desc := "()V" } : Jvm.MethodName) prog_20_method_80_code (2 : Nat) (Option.none : Option Jvm.ClassFile.FieldType)) ∈ lw_all := lw_g (lw_at lw_m10 107 rfl) rfl
theorem q2415 : (Jvm.Cond.methodLink "LawnPathsModel" (173 : Nat) ({ cls := "LawnPathsModel", name := "areWays", desc := "()Z" } : Jvm.MethodName)) ∈ lw_all := lw_g (lw_at lw_m10 108 rfl) rfl
theorem q2416 : (Jvm.Cond.privateMethod ({ cls := "LawnPathsModel", name := "areWays", desc := "()Z" } : Jvm.MethodName)) ∈ lw_tbl := lw_at lw_m10 109 rfl
theorem q2417 : (Jvm.Cond.instanceMethod ({ cls := "LawnPathsModel", name := "areWays", desc := "()Z" } : Jvm.MethodName)) ∈ lw_all := lw_g (lw_at lw_m10 110 rfl) rfl
theorem q2418 : (Jvm.Cond.code ({ cls := "LawnPathsModel", name := "areWays", desc := "()Z" } : Jvm.MethodName) prog_20_method_33_code (2 : Nat) (Option.some Jvm.ClassFile.FieldType.boolean)) ∈ lw_all := lw_g (lw_at lw_m10 111 rfl) rfl
theorem q2419 : (Jvm.Cond.methodLink "LawnPathsModel" (124 : Nat) ({ cls := "LawnPathsModel", name := "laysCosts", desc := "(II)I" } : Jvm.MethodName)) ∈ lw_all := lw_g (lw_at lw_m10 112 rfl) rfl
theorem q2420 : (Jvm.Cond.privateMethod ({ cls := "LawnPathsModel", name := "laysCosts", desc := "(II)I" } : Jvm.MethodName)) ∈ lw_tbl := lw_at lw_m10 113 rfl
theorem q2421 : (Jvm.Cond.instanceMethod ({ cls := "LawnPathsModel", name := "laysCosts", desc := "(II)I" } : Jvm.MethodName)) ∈ lw_all := lw_g (lw_at lw_m10 114 rfl) rfl
theorem q2422 : (Jvm.Cond.code ({ cls := "LawnPathsModel", name := "laysCosts", desc := "(II)I" } : Jvm.MethodName) prog_20_method_31_code (7 : Nat) (Option.some Jvm.ClassFile.FieldType.int)) ∈ lw_all := lw_g (lw_at lw_m10 115 rfl) rfl
theorem q2423 : (Jvm.Cond.constant "LawnPathsModel" (109 : Nat) (1000000 : Int32)) ∈ lw_all := lw_g (lw_at lw_m10 116 rfl) rfl
theorem q2424 : (Jvm.Cond.methodLink "LawnPathsModel" (103 : Nat) ({ cls := "LawnPathsModel", name := "of", desc := "(II)I" } : Jvm.MethodName)) ∈ lw_all := lw_g (lw_at lw_m10 117 rfl) rfl
theorem q2425 : (Jvm.Cond.privateMethod ({ cls := "LawnPathsModel", name := "of", desc := "(II)I" } : Jvm.MethodName)) ∈ lw_tbl := lw_at lw_m10 118 rfl
theorem q2426 : (Jvm.Cond.instanceMethod ({ cls := "LawnPathsModel", name := "of", desc := "(II)I" } : Jvm.MethodName)) ∈ lw_all := lw_g (lw_at lw_m10 119 rfl) rfl
theorem q2427 : (Jvm.Cond.code ({ cls := "LawnPathsModel", name := "of", desc := "(II)I" } : Jvm.MethodName) prog_20_method_11_code (3 : Nat) (Option.some Jvm.ClassFile.FieldType.int)) ∈ lw_all := lw_g (lw_at lw_m10 120 rfl) rfl
theorem q2428 : (Jvm.Cond.methodLink "LawnPathsModel" (114 : Nat) ({ cls := "LawnPathsModel", name := "gateCell", desc := "(I)I" } : Jvm.MethodName)) ∈ lw_all := lw_g (lw_at lw_m10 121 rfl) rfl
theorem q2429 : (Jvm.Cond.privateMethod ({ cls := "LawnPathsModel", name := "gateCell", desc := "(I)I" } : Jvm.MethodName)) ∈ lw_tbl := lw_at lw_m10 122 rfl
theorem q2430 : (Jvm.Cond.instanceMethod ({ cls := "LawnPathsModel", name := "gateCell", desc := "(I)I" } : Jvm.MethodName)) ∈ lw_all := lw_g (lw_at lw_m10 123 rfl) rfl
theorem q2431 : (Jvm.Cond.code ({ cls := "LawnPathsModel", name := "gateCell", desc := "(I)I" } : Jvm.MethodName) prog_20_method_24_code (2 : Nat) (Option.some Jvm.ClassFile.FieldType.int)) ∈ lw_all := lw_g (lw_at lw_m10 124 rfl) rfl
theorem q2432 : (Jvm.Cond.methodLink "LawnPathsModel" (79 : Nat) ({ cls := "LawnPathsModel", name := "ofGate", desc := "(II)I" } : Jvm.MethodName)) ∈ lw_all := lw_g (lw_at lw_m10 125 rfl) rfl
theorem q2433 : (Jvm.Cond.privateMethod ({ cls := "LawnPathsModel", name := "ofGate", desc := "(II)I" } : Jvm.MethodName)) ∈ lw_tbl := lw_at lw_m10 126 rfl
theorem q2434 : (Jvm.Cond.instanceMethod ({ cls := "LawnPathsModel", name := "ofGate", desc := "(II)I" } : Jvm.MethodName)) ∈ lw_all := lw_g (lw_at lw_m10 127 rfl) rfl
theorem q2435 : (Jvm.Cond.code ({ cls := "LawnPathsModel", name := "ofGate", desc := "(II)I" } : Jvm.MethodName) prog_20_method_10_code (3 : Nat) (Option.some Jvm.ClassFile.FieldType.int)) ∈ lw_all := lw_g (lw_at lw_m10 128 rfl) rfl
theorem q2436 : (Jvm.Cond.methodLink "LawnPathsModel" (120 : Nat) ({ cls := "LawnPathsModel", name := "costBy", desc := "(IIII)I" } : Jvm.MethodName)) ∈ lw_all := lw_g (lw_at lw_m10 129 rfl) rfl
theorem q2437 : (Jvm.Cond.privateMethod ({ cls := "LawnPathsModel", name := "costBy", desc := "(IIII)I" } : Jvm.MethodName)) ∈ lw_tbl := lw_at lw_m10 130 rfl
theorem q2438 : (Jvm.Cond.instanceMethod ({ cls := "LawnPathsModel", name := "costBy", desc := "(IIII)I" } : Jvm.MethodName)) ∈ lw_all := lw_g (lw_at lw_m10 131 rfl) rfl
theorem q2439 : (Jvm.Cond.code ({ cls := "LawnPathsModel", name := "costBy", desc := "(IIII)I" } : Jvm.MethodName) prog_20_method_30_code (7 : Nat) (Option.some Jvm.ClassFile.FieldType.int)) ∈ lw_all := lw_g (lw_at lw_m10 132 rfl) rfl
theorem q2440 : (Jvm.Cond.methodLink "LawnPathsModel" (106 : Nat) ({ cls := "LawnPathsModel", name := "nextTo", desc := "(II)I" } : Jvm.MethodName)) ∈ lw_all := lw_g (lw_at lw_m10 133 rfl) rfl
theorem q2441 : (Jvm.Cond.privateMethod ({ cls := "LawnPathsModel", name := "nextTo", desc := "(II)I" } : Jvm.MethodName)) ∈ lw_tbl := lw_at lw_m10 134 rfl
theorem q2442 : (Jvm.Cond.instanceMethod ({ cls := "LawnPathsModel", name := "nextTo", desc := "(II)I" } : Jvm.MethodName)) ∈ lw_all := lw_g (lw_at lw_m10 135 rfl) rfl
theorem q2443 : (Jvm.Cond.code ({ cls := "LawnPathsModel", name := "nextTo", desc := "(II)I" } : Jvm.MethodName) prog_20_method_28_code (5 : Nat) (Option.some Jvm.ClassFile.FieldType.int)) ∈ lw_all := lw_g (lw_at lw_m10 136 rfl) rfl
theorem q2444 : (Jvm.Cond.methodLink "LawnPathsModel" (89 : Nat) ({ cls := "LawnPathsModel", name := "isCell", desc := "(II)Z" } : Jvm.MethodName)) ∈ lw_all := lw_g (lw_at lw_m10 137 rfl) rfl
theorem q2445 : (Jvm.Cond.privateMethod ({ cls := "LawnPathsModel", name := "isCell", desc := "(II)Z" } : Jvm.MethodName)) ∈ lw_tbl := lw_at lw_m10 138 rfl
theorem q2446 : (Jvm.Cond.instanceMethod ({ cls := "LawnPathsModel", name := "isCell", desc := "(II)Z" } : Jvm.MethodName)) ∈ lw_all := lw_g (lw_at lw_m10 139 rfl) rfl
theorem q2447 : (Jvm.Cond.code ({ cls := "LawnPathsModel", name := "isCell", desc := "(II)Z" } : Jvm.MethodName) prog_20_method_18_code (3 : Nat) (Option.some Jvm.ClassFile.FieldType.boolean)) ∈ lw_all := lw_g (lw_at lw_m10 140 rfl) rfl
theorem q2448 : (Jvm.Cond.methodLink "LawnPathsModel" (110 : Nat) ({ cls := "LawnPathsModel", name := "costOf", desc := "(III)I" } : Jvm.MethodName)) ∈ lw_all := lw_g (lw_at lw_m10 141 rfl) rfl
theorem q2449 : (Jvm.Cond.privateMethod ({ cls := "LawnPathsModel", name := "costOf", desc := "(III)I" } : Jvm.MethodName)) ∈ lw_tbl := lw_at lw_m10 142 rfl
theorem q2450 : (Jvm.Cond.instanceMethod ({ cls := "LawnPathsModel", name := "costOf", desc := "(III)I" } : Jvm.MethodName)) ∈ lw_all := lw_g (lw_at lw_m10 143 rfl) rfl
theorem q2451 : (Jvm.Cond.code ({ cls := "LawnPathsModel", name := "costOf", desc := "(III)I" } : Jvm.MethodName) prog_20_method_29_code (6 : Nat) (Option.some Jvm.ClassFile.FieldType.int)) ∈ lw_all := lw_g (lw_at lw_m10 144 rfl) rfl
theorem q2452 : (Jvm.Cond.methodLink "LawnPathsModel" (100 : Nat) ({ cls := "LawnPathsModel", name := "isWetDay", desc := "(I)Z" } : Jvm.MethodName)) ∈ lw_all := lw_g (lw_at lw_m10 145 rfl) rfl
theorem q2453 : (Jvm.Cond.privateMethod ({ cls := "LawnPathsModel", name := "isWetDay", desc := "(I)Z" } : Jvm.MethodName)) ∈ lw_tbl := lw_at lw_m10 146 rfl
theorem q2454 : (Jvm.Cond.instanceMethod ({ cls := "LawnPathsModel", name := "isWetDay", desc := "(I)Z" } : Jvm.MethodName)) ∈ lw_all := lw_g (lw_at lw_m10 147 rfl) rfl
theorem q2455 : (Jvm.Cond.code ({ cls := "LawnPathsModel", name := "isWetDay", desc := "(I)Z" } : Jvm.MethodName) prog_20_method_27_code (2 : Nat) (Option.some Jvm.ClassFile.FieldType.boolean)) ∈ lw_all := lw_g (lw_at lw_m10 148 rfl) rfl
theorem q2456 : (Jvm.Cond.methodLink "LawnPathsModel" (315 : Nat) ({ cls := "LawnPathsModel", name := "endsText", desc := "()Z" } : Jvm.MethodName)) ∈ lw_all := lw_g (lw_at lw_m10 149 rfl) rfl
theorem q2457 : (Jvm.Cond.privateMethod ({ cls := "LawnPathsModel", name := "endsText", desc := "()Z" } : Jvm.MethodName)) ∈ lw_tbl := lw_at lw_m10 150 rfl
theorem q2458 : (Jvm.Cond.instanceMethod ({ cls := "LawnPathsModel", name := "endsText", desc := "()Z" } : Jvm.MethodName)) ∈ lw_all := lw_g (lw_at lw_m10 151 rfl) rfl
theorem q2459 : (Jvm.Cond.code ({ cls := "LawnPathsModel", name := "endsText", desc := "()Z" } : Jvm.MethodName) prog_20_method_70_code (1 : Nat) (Option.some Jvm.ClassFile.FieldType.boolean)) ∈ lw_all := lw_g (lw_at lw_m10 152 rfl) rfl
theorem q2460 : (Jvm.Cond.methodLink "LawnPathsModel" (186 : Nat) ({ cls := "LawnPathsModel", name := "passes", desc := "(Z)Z" } : Jvm.MethodName)) ∈ lw_all := lw_g (lw_at lw_m10 153 rfl) rfl
theorem q2461 : (Jvm.Cond.privateMethod ({ cls := "LawnPathsModel", name := "passes", desc := "(Z)Z" } : Jvm.MethodName)) ∈ lw_tbl := lw_at lw_m10 154 rfl
theorem q2462 : (Jvm.Cond.instanceMethod ({ cls := "LawnPathsModel", name := "passes", desc := "(Z)Z" } : Jvm.MethodName)) ∈ lw_all := lw_g (lw_at lw_m10 155 rfl) rfl
theorem q2463 : (Jvm.Cond.code ({ cls := "LawnPathsModel", name := "passes", desc := "(Z)Z" } : Jvm.MethodName) prog_20_method_5_code (2 : Nat) (Option.some Jvm.ClassFile.FieldType.boolean)) ∈ lw_all := lw_g (lw_at lw_m10 156 rfl) rfl
theorem q2464 : (Jvm.Cond.methodLink "LawnPathsModel" (318 : Nat) ({ cls := "LawnPathsModel", name := "allGrass", desc := "()I" } : Jvm.MethodName)) ∈ lw_all := lw_g (lw_at lw_m10 157 rfl) rfl
theorem q2465 : (Jvm.Cond.privateMethod ({ cls := "LawnPathsModel", name := "allGrass", desc := "()I" } : Jvm.MethodName)) ∈ lw_tbl := lw_at lw_m10 158 rfl
theorem q2466 : (Jvm.Cond.instanceMethod ({ cls := "LawnPathsModel", name := "allGrass", desc := "()I" } : Jvm.MethodName)) ∈ lw_all := lw_g (lw_at lw_m10 159 rfl) rfl
theorem q2467 : (Jvm.Cond.code ({ cls := "LawnPathsModel", name := "allGrass", desc := "()I" } : Jvm.MethodName) prog_20_method_91_code (3 : Nat) (Option.some Jvm.ClassFile.FieldType.int)) ∈ lw_all := lw_g (lw_at lw_m10 160 rfl) rfl
theorem q2468 : (Jvm.Cond.fieldLink "LawnPathsModel" (7 : Nat) "LawnPathsModel" "s" "[I") ∈ lw_all := lw_g (lw_at lw_m10 161 rfl) rfl
theorem q2469 : (Jvm.Cond.fieldLink "LawnPathsModel" (13 : Nat) "LawnPathsModel" "saved" "[I") ∈ lw_all := lw_g (lw_at lw_m10 162 rfl) rfl
theorem q2470 : (Jvm.Cond.fieldLink "LawnPathsModel" (16 : Nat) "LawnPathsModel" "held" "[I") ∈ lw_all := lw_g (lw_at lw_m10 163 rfl) rfl
theorem q2471 : (Jvm.Cond.fieldLink "LawnPathsModel" (19 : Nat) "LawnPathsModel" "aside" "[I") ∈ lw_all := lw_g (lw_at lw_m10 164 rfl) rfl
theorem q2472 : (Jvm.Cond.fieldLink "LawnPathsModel" (22 : Nat) "LawnPathsModel" "past" "[I") ∈ lw_all := lw_g (lw_at lw_m10 165 rfl) rfl
theorem q2473 : (Jvm.Cond.fieldLink "LawnPathsModel" (321 : Nat) "LawnPathsModel" "pastMany" "I") ∈ lw_all := lw_g (lw_at lw_m10 166 rfl) rfl
theorem q2474 : (Jvm.Cond.fieldLink "LawnPathsModel" (61 : Nat) "LawnPathsModel" "thrown" "I") ∈ lw_all := lw_g (lw_at lw_m10 167 rfl) rfl
theorem q2475 : (Jvm.Cond.fieldLink "LawnPathsModel" (485 : Nat) "LawnPathsModel" "isSaved" "Z") ∈ lw_all := lw_g (lw_at lw_m10 168 rfl) rfl
theorem q2476 : (Jvm.Cond.fieldLink "LawnPathsModel" (25 : Nat) "LawnPathsModel" "costs" "[I") ∈ lw_all := lw_g (lw_at lw_m10 169 rfl) rfl
theorem q2477 : (Jvm.Cond.fieldLink "LawnPathsModel" (28 : Nat) "LawnPathsModel" "way" "[I") ∈ lw_all := lw_g (lw_at lw_m10 170 rfl) rfl
theorem q2478 : (Jvm.Cond.fieldLink "LawnPathsModel" (127 : Nat) "LawnPathsModel" "wayMany" "I") ∈ lw_all := lw_g (lw_at lw_m10 171 rfl) rfl
theorem q2479 : (Jvm.Cond.fieldLink "LawnPathsModel" (31 : Nat) "LawnPathsModel" "buffer" "[I") ∈ lw_all := lw_g (lw_at lw_m10 172 rfl) rfl
theorem q2480 : (Jvm.Cond.fieldLink "LawnPathsModel" (56 : Nat) "LawnPathsModel" "length" "I") ∈ lw_all := lw_g (lw_at lw_m10 173 rfl) rfl
theorem q2481 : (Jvm.Cond.fieldLink "LawnPathsModel" (193 : Nat) "LawnPathsModel" "at" "I") ∈ lw_all := lw_g (lw_at lw_m10 174 rfl) rfl
theorem q2482 : (Jvm.Cond.fieldLink "LawnPathsModel" (198 : Nat) "LawnPathsModel" "begin" "I") ∈ lw_all := lw_g (lw_at lw_m10 175 rfl) rfl
theorem q2483 : (Jvm.Cond.fieldLink "LawnPathsModel" (201 : Nat) "LawnPathsModel" "wordLong" "I") ∈ lw_all := lw_g (lw_at lw_m10 176 rfl) rfl
theorem q2484 : (Jvm.Cond.fieldLink "LawnPathsModel" (208 : Nat) "LawnPathsModel" "error" "I") ∈ lw_all := lw_g (lw_at lw_m10 177 rfl) rfl
theorem q2485 : (Jvm.Cond.fieldLink "LawnPathsModel" (211 : Nat) "LawnPathsModel" "errorAt" "I") ∈ lw_all := lw_g (lw_at lw_m10 178 rfl) rfl
theorem q2486 : (Jvm.Cond.fieldLink "LawnPathsModel" (245 : Nat) "LawnPathsModel" "toldError" "I") ∈ lw_all := lw_g (lw_at lw_m10 179 rfl) rfl
theorem q2487 : (Jvm.Cond.fieldLink "LawnPathsModel" (34 : Nat) "LawnPathsModel" "toldAt" "I") ∈ lw_all := lw_g (lw_at lw_m10 180 rfl) rfl
theorem q2488 : (Jvm.Cond.fieldLink "LawnPathsModel" (270 : Nat) "LawnPathsModel" "mayBeWalker" "Z") ∈ lw_all := lw_g (lw_at lw_m10 181 rfl) rfl
theorem q2489 : (Jvm.Cond.fieldLink "LawnPathsModel" (38 : Nat) "LawnPathsModel" "told" "[I") ∈ lw_all := lw_g (lw_at lw_m10 182 rfl) rfl
theorem q2490 : (Jvm.Cond.fieldLink "LawnPathsModel" (342 : Nat) "LawnPathsModel" "toldMany" "I") ∈ lw_all := lw_g (lw_at lw_m10 183 rfl) rfl
theorem q2491 : (Jvm.Cond.fieldLink "LawnPathsModel" (41 : Nat) "LawnPathsModel" "output" "[I") ∈ lw_all := lw_g (lw_at lw_m10 184 rfl) rfl
theorem q2492 : (Jvm.Cond.fieldLink "LawnPathsModel" (473 : Nat) "LawnPathsModel" "outputLong" "I") ∈ lw_all := lw_g (lw_at lw_m10 185 rfl) rfl
theorem q2493 : (Jvm.Cond.laysFinal "LawnPathsModel" "LawnPathsModel" "s" "[I") ∈ lw_all := lw_g (lw_at lw_m10 186 rfl) rfl
theorem q2494 : (Jvm.Cond.soleField "LawnPathsModel" "s") ∈ lw_all := lw_g (lw_at lw_m10 187 rfl) rfl
theorem q2495 : (Jvm.Cond.laysFinal "LawnPathsModel" "LawnPathsModel" "saved" "[I") ∈ lw_all := lw_g (lw_at lw_m10 188 rfl) rfl
theorem q2496 : (Jvm.Cond.soleField "LawnPathsModel" "saved") ∈ lw_all := lw_g (lw_at lw_m10 189 rfl) rfl
theorem q2497 : (Jvm.Cond.laysFinal "LawnPathsModel" "LawnPathsModel" "held" "[I") ∈ lw_all := lw_g (lw_at lw_m10 190 rfl) rfl
theorem q2498 : (Jvm.Cond.soleField "LawnPathsModel" "held") ∈ lw_all := lw_g (lw_at lw_m10 191 rfl) rfl
theorem q2499 : (Jvm.Cond.laysFinal "LawnPathsModel" "LawnPathsModel" "aside" "[I") ∈ lw_all := lw_g (lw_at lw_m10 192 rfl) rfl
theorem q2500 : (Jvm.Cond.soleField "LawnPathsModel" "aside") ∈ lw_all := lw_g (lw_at lw_m10 193 rfl) rfl
theorem q2501 : (Jvm.Cond.laysFinal "LawnPathsModel" "LawnPathsModel" "past" "[I") ∈ lw_all := lw_g (lw_at lw_m10 194 rfl) rfl
theorem q2502 : (Jvm.Cond.soleField "LawnPathsModel" "past") ∈ lw_all := lw_g (lw_at lw_m10 195 rfl) rfl
theorem q2503 : (Jvm.Cond.lays "LawnPathsModel" "LawnPathsModel" "pastMany" "I") ∈ lw_all := lw_g (lw_at lw_m10 196 rfl) rfl
theorem q2504 : (Jvm.Cond.soleField "LawnPathsModel" "pastMany") ∈ lw_all := lw_g (lw_at lw_m10 197 rfl) rfl
theorem q2505 : (Jvm.Cond.lays "LawnPathsModel" "LawnPathsModel" "thrown" "I") ∈ lw_all := lw_g (lw_at lw_m10 198 rfl) rfl
theorem q2506 : (Jvm.Cond.soleField "LawnPathsModel" "thrown") ∈ lw_all := lw_g (lw_at lw_m10 199 rfl) rfl
theorem q2507 : (Jvm.Cond.lays "LawnPathsModel" "LawnPathsModel" "isSaved" "Z") ∈ lw_all := lw_g (lw_at lw_m10 200 rfl) rfl
theorem q2508 : (Jvm.Cond.soleField "LawnPathsModel" "isSaved") ∈ lw_all := lw_g (lw_at lw_m10 201 rfl) rfl
theorem q2509 : (Jvm.Cond.laysFinal "LawnPathsModel" "LawnPathsModel" "costs" "[I") ∈ lw_all := lw_g (lw_at lw_m10 202 rfl) rfl
theorem q2510 : (Jvm.Cond.soleField "LawnPathsModel" "costs") ∈ lw_all := lw_g (lw_at lw_m10 203 rfl) rfl
theorem q2511 : (Jvm.Cond.laysFinal "LawnPathsModel" "LawnPathsModel" "way" "[I") ∈ lw_all := lw_g (lw_at lw_m10 204 rfl) rfl
theorem q2512 : (Jvm.Cond.soleField "LawnPathsModel" "way") ∈ lw_all := lw_g (lw_at lw_m10 205 rfl) rfl
theorem q2513 : (Jvm.Cond.lays "LawnPathsModel" "LawnPathsModel" "wayMany" "I") ∈ lw_all := lw_g (lw_at lw_m10 206 rfl) rfl
theorem q2514 : (Jvm.Cond.soleField "LawnPathsModel" "wayMany") ∈ lw_all := lw_g (lw_at lw_m10 207 rfl) rfl
theorem q2515 : (Jvm.Cond.laysFinal "LawnPathsModel" "LawnPathsModel" "buffer" "[I") ∈ lw_all := lw_g (lw_at lw_m10 208 rfl) rfl
theorem q2516 : (Jvm.Cond.soleField "LawnPathsModel" "buffer") ∈ lw_all := lw_g (lw_at lw_m10 209 rfl) rfl
theorem q2517 : (Jvm.Cond.lays "LawnPathsModel" "LawnPathsModel" "length" "I") ∈ lw_all := lw_g (lw_at lw_m10 210 rfl) rfl
theorem q2518 : (Jvm.Cond.soleField "LawnPathsModel" "length") ∈ lw_all := lw_g (lw_at lw_m10 211 rfl) rfl
theorem q2519 : (Jvm.Cond.lays "LawnPathsModel" "LawnPathsModel" "at" "I") ∈ lw_all := lw_g (lw_at lw_m10 212 rfl) rfl
theorem q2520 : (Jvm.Cond.soleField "LawnPathsModel" "at") ∈ lw_all := lw_g (lw_at lw_m10 213 rfl) rfl
theorem q2521 : (Jvm.Cond.lays "LawnPathsModel" "LawnPathsModel" "begin" "I") ∈ lw_all := lw_g (lw_at lw_m10 214 rfl) rfl
theorem q2522 : (Jvm.Cond.soleField "LawnPathsModel" "begin") ∈ lw_all := lw_g (lw_at lw_m10 215 rfl) rfl
theorem q2523 : (Jvm.Cond.lays "LawnPathsModel" "LawnPathsModel" "wordLong" "I") ∈ lw_all := lw_g (lw_at lw_m10 216 rfl) rfl
theorem q2524 : (Jvm.Cond.soleField "LawnPathsModel" "wordLong") ∈ lw_all := lw_g (lw_at lw_m10 217 rfl) rfl
theorem q2525 : (Jvm.Cond.lays "LawnPathsModel" "LawnPathsModel" "error" "I") ∈ lw_all := lw_g (lw_at lw_m10 218 rfl) rfl
theorem q2526 : (Jvm.Cond.soleField "LawnPathsModel" "error") ∈ lw_all := lw_g (lw_at lw_m10 219 rfl) rfl
theorem q2527 : (Jvm.Cond.lays "LawnPathsModel" "LawnPathsModel" "errorAt" "I") ∈ lw_all := lw_g (lw_at lw_m10 220 rfl) rfl
theorem q2528 : (Jvm.Cond.soleField "LawnPathsModel" "errorAt") ∈ lw_all := lw_g (lw_at lw_m10 221 rfl) rfl
theorem q2529 : (Jvm.Cond.lays "LawnPathsModel" "LawnPathsModel" "toldError" "I") ∈ lw_all := lw_g (lw_at lw_m10 222 rfl) rfl
theorem q2530 : (Jvm.Cond.soleField "LawnPathsModel" "toldError") ∈ lw_all := lw_g (lw_at lw_m10 223 rfl) rfl
theorem q2531 : (Jvm.Cond.lays "LawnPathsModel" "LawnPathsModel" "toldAt" "I") ∈ lw_all := lw_g (lw_at lw_m10 224 rfl) rfl
theorem q2532 : (Jvm.Cond.soleField "LawnPathsModel" "toldAt") ∈ lw_all := lw_g (lw_at lw_m10 225 rfl) rfl
theorem q2533 : (Jvm.Cond.lays "LawnPathsModel" "LawnPathsModel" "mayBeWalker" "Z") ∈ lw_all := lw_g (lw_at lw_m10 226 rfl) rfl
theorem q2534 : (Jvm.Cond.soleField "LawnPathsModel" "mayBeWalker") ∈ lw_all := lw_g (lw_at lw_m10 227 rfl) rfl
theorem q2535 : (Jvm.Cond.laysFinal "LawnPathsModel" "LawnPathsModel" "told" "[I") ∈ lw_all := lw_g (lw_at lw_m10 228 rfl) rfl
theorem q2536 : (Jvm.Cond.soleField "LawnPathsModel" "told") ∈ lw_all := lw_g (lw_at lw_m10 229 rfl) rfl
theorem q2537 : (Jvm.Cond.lays "LawnPathsModel" "LawnPathsModel" "toldMany" "I") ∈ lw_all := lw_g (lw_at lw_m10 230 rfl) rfl
theorem q2538 : (Jvm.Cond.soleField "LawnPathsModel" "toldMany") ∈ lw_all := lw_g (lw_at lw_m10 231 rfl) rfl
theorem q2539 : (Jvm.Cond.laysFinal "LawnPathsModel" "LawnPathsModel" "output" "[I") ∈ lw_all := lw_g (lw_at lw_m10 232 rfl) rfl
theorem q2540 : (Jvm.Cond.soleField "LawnPathsModel" "output") ∈ lw_all := lw_g (lw_at lw_m10 233 rfl) rfl
theorem q2541 : (Jvm.Cond.lays "LawnPathsModel" "LawnPathsModel" "outputLong" "I") ∈ lw_all := lw_g (lw_at lw_m10 234 rfl) rfl
theorem q2542 : (Jvm.Cond.soleField "LawnPathsModel" "outputLong") ∈ lw_all := lw_g (lw_at lw_m10 235 rfl) rfl
theorem q2543 : (Jvm.Cond.superclass "LawnPathsModel" "java/lang/Object") ∈ lw_all := lw_g (lw_at lw_m10 236 rfl) rfl
theorem q2545 : (Jvm.Cond.instanceMethod ({ cls := "LawnPathsModel", name := "thrown", desc := "()I" } : Jvm.MethodName)) ∈ lw_all := lw_g (lw_at lw_m10 238 rfl) rfl
theorem q2546 : (Jvm.Cond.selects "LawnPathsModel" ({ cls := "LawnPathsModel", name := "thrown", desc := "()I" } : Jvm.MethodName) ({ cls := "LawnPathsModel", name := "thrown", desc := "()I" } : Jvm.MethodName)) ∈ lw_all := lw_g (lw_at lw_m10 239 rfl) rfl
theorem q2547 : (Jvm.Cond.code ({ cls := "LawnPathsModel", name := "thrown", desc := "()I" } : Jvm.MethodName) prog_20_method_2_code (1 : Nat) (Option.some Jvm.ClassFile.FieldType.int)) ∈ lw_all := lw_g (lw_at lw_m11 0 rfl) rfl
theorem q2549 : (Jvm.Cond.instanceMethod ({ cls := "LawnPathsModel", name := "append", desc := "(IIIII)I" } : Jvm.MethodName)) ∈ lw_all := lw_g (lw_at lw_m11 2 rfl) rfl
theorem q2550 : (Jvm.Cond.selects "LawnPathsModel" ({ cls := "LawnPathsModel", name := "append", desc := "(IIIII)I" } : Jvm.MethodName) ({ cls := "LawnPathsModel", name := "append", desc := "(IIIII)I" } : Jvm.MethodName)) ∈ lw_all := lw_g (lw_at lw_m11 3 rfl) rfl
theorem q2551 : (Jvm.Cond.code ({ cls := "LawnPathsModel", name := "append", desc := "(IIIII)I" } : Jvm.MethodName) prog_20_method_53_code (6 : Nat) (Option.some Jvm.ClassFile.FieldType.int)) ∈ lw_all := lw_g (lw_at lw_m11 4 rfl) rfl
theorem q2552 : (Jvm.Cond.methodLink "LawnPathsModel" (190 : Nat) ({ cls := "LawnPathsModel", name := "four", desc := "(I)V" } : Jvm.MethodName)) ∈ lw_all := lw_g (lw_at lw_m11 5 rfl) rfl
theorem q2553 : (Jvm.Cond.privateMethod ({ cls := "LawnPathsModel", name := "four", desc := "(I)V" } : Jvm.MethodName)) ∈ lw_tbl := lw_at lw_m11 6 rfl
theorem q2554 : (Jvm.Cond.instanceMethod ({ cls := "LawnPathsModel", name := "four", desc := "(I)V" } : Jvm.MethodName)) ∈ lw_all := lw_g (lw_at lw_m11 7 rfl) rfl
theorem q2555 : (Jvm.Cond.code ({ cls := "LawnPathsModel", name := "four", desc := "(I)V" } : Jvm.MethodName) prog_20_method_52_code (3 : Nat) (Option.none : Option Jvm.ClassFile.FieldType)) ∈ lw_all := lw_g (lw_at lw_m11 8 rfl) rfl
theorem q2557 : (Jvm.Cond.instanceMethod ({ cls := "LawnPathsModel", name := "truncate", desc := "(I)I" } : Jvm.MethodName)) ∈ lw_all := lw_g (lw_at lw_m11 10 rfl) rfl
theorem q2558 : (Jvm.Cond.selects "LawnPathsModel" ({ cls := "LawnPathsModel", name := "truncate", desc := "(I)I" } : Jvm.MethodName) ({ cls := "LawnPathsModel", name := "truncate", desc := "(I)I" } : Jvm.MethodName)) ∈ lw_all := lw_g (lw_at lw_m11 11 rfl) rfl
theorem q2559 : (Jvm.Cond.code ({ cls := "LawnPathsModel", name := "truncate", desc := "(I)I" } : Jvm.MethodName) prog_20_method_54_code (2 : Nat) (Option.some Jvm.ClassFile.FieldType.int)) ∈ lw_all := lw_g (lw_at lw_m11 12 rfl) rfl
theorem q2561 : (Jvm.Cond.instanceMethod ({ cls := "LawnPathsModel", name := "errorCode", desc := "()I" } : Jvm.MethodName)) ∈ lw_all := lw_g (lw_at lw_m11 14 rfl) rfl
theorem q2562 : (Jvm.Cond.selects "LawnPathsModel" ({ cls := "LawnPathsModel", name := "errorCode", desc := "()I" } : Jvm.MethodName) ({ cls := "LawnPathsModel", name := "errorCode", desc := "()I" } : Jvm.MethodName)) ∈ lw_all := lw_g (lw_at lw_m11 15 rfl) rfl
theorem q2563 : (Jvm.Cond.code ({ cls := "LawnPathsModel", name := "errorCode", desc := "()I" } : Jvm.MethodName) prog_20_method_71_code (1 : Nat) (Option.some Jvm.ClassFile.FieldType.int)) ∈ lw_all := lw_g (lw_at lw_m11 16 rfl) rfl
theorem q2565 : (Jvm.Cond.instanceMethod ({ cls := "LawnPathsModel", name := "errorPosition", desc := "()I" } : Jvm.MethodName)) ∈ lw_all := lw_g (lw_at lw_m11 18 rfl) rfl
theorem q2566 : (Jvm.Cond.selects "LawnPathsModel" ({ cls := "LawnPathsModel", name := "errorPosition", desc := "()I" } : Jvm.MethodName) ({ cls := "LawnPathsModel", name := "errorPosition", desc := "()I" } : Jvm.MethodName)) ∈ lw_all := lw_g (lw_at lw_m11 19 rfl) rfl
theorem q2567 : (Jvm.Cond.code ({ cls := "LawnPathsModel", name := "errorPosition", desc := "()I" } : Jvm.MethodName) prog_20_method_72_code (1 : Nat) (Option.some Jvm.ClassFile.FieldType.int)) ∈ lw_all := lw_g (lw_at lw_m11 20 rfl) rfl
theorem q2570 : (Jvm.Cond.instanceMethod ({ cls := "LawnPathsModel", name := "runOrders", desc := "()I" } : Jvm.MethodName)) ∈ lw_all := lw_g (lw_at lw_m11 23 rfl) rfl
theorem q2571 : (Jvm.Cond.selects "LawnPathsModel" ({ cls := "LawnPathsModel", name := "runOrders", desc := "()I" } : Jvm.MethodName) ({ cls := "LawnPathsModel", name := "runOrders", desc := "()I" } : Jvm.MethodName)) ∈ lw_all := lw_g (lw_at lw_m11 24 rfl) rfl
theorem q2572 : (Jvm.Cond.code ({ cls := "LawnPathsModel", name := "runOrders", desc := "()I" } : Jvm.MethodName) prog_20_method_90_code (2 : Nat) (Option.some Jvm.ClassFile.FieldType.int)) ∈ lw_all := lw_g (lw_at lw_m11 25 rfl) rfl
theorem q2573 : (Jvm.Cond.methodLink "LawnPathsModel" (369 : Nat) ({ cls := "LawnPathsModel", name := "readsOne", desc := "()V" } : Jvm.MethodName)) ∈ lw_all := lw_g (lw_at lw_m11 26 rfl) rfl
theorem q2574 : (Jvm.Cond.privateMethod ({ cls := "LawnPathsModel", name := "readsOne", desc := "()V" } : Jvm.MethodName)) ∈ lw_tbl := lw_at lw_m11 27 rfl
theorem q2575 : (Jvm.Cond.instanceMethod ({ cls := "LawnPathsModel", name := "readsOne", desc := "()V" } : Jvm.MethodName)) ∈ lw_all := lw_g (lw_at lw_m11 28 rfl) rfl
theorem q2576 : (Jvm.Cond.code ({ cls := "LawnPathsModel", name := "readsOne", desc := "()V" } : Jvm.MethodName) prog_20_method_87_code (2 : Nat) (Option.none : Option Jvm.ClassFile.FieldType)) ∈ lw_all := lw_g (lw_at lw_m11 29 rfl) rfl
theorem q2577 : (Jvm.Cond.methodLink "LawnPathsModel" (339 : Nat) ({ cls := "LawnPathsModel", name := "orderHere", desc := "()I" } : Jvm.MethodName)) ∈ lw_all := lw_g (lw_at lw_m11 30 rfl) rfl
theorem q2578 : (Jvm.Cond.privateMethod ({ cls := "LawnPathsModel", name := "orderHere", desc := "()I" } : Jvm.MethodName)) ∈ lw_tbl := lw_at lw_m11 31 rfl
theorem q2579 : (Jvm.Cond.instanceMethod ({ cls := "LawnPathsModel", name := "orderHere", desc := "()I" } : Jvm.MethodName)) ∈ lw_all := lw_g (lw_at lw_m11 32 rfl) rfl
theorem q2580 : (Jvm.Cond.code ({ cls := "LawnPathsModel", name := "orderHere", desc := "()I" } : Jvm.MethodName) prog_20_method_85_code (1 : Nat) (Option.some Jvm.ClassFile.FieldType.int)) ∈ lw_all := lw_g (lw_at lw_m11 33 rfl) rfl
theorem q2581 : (Jvm.Cond.stringRef "LawnPathsModel" (330 : Nat) "run") ∈ lw_tbl := lw_at lw_m11 34 rfl
theorem q2582 : (Jvm.Cond.stringRef "LawnPathsModel" (332 : Nat) "haste") ∈ lw_tbl := lw_at lw_m11 35 rfl
theorem q2583 : (Jvm.Cond.stringRef "LawnPathsModel" (334 : Nat) "turn") ∈ lw_tbl := lw_at lw_m11 36 rfl
theorem q2584 : (Jvm.Cond.methodLink "LawnPathsModel" (336 : Nat) ({ cls := "LawnPathsModel", name := "cellOrder", desc := "()I" } : Jvm.MethodName)) ∈ lw_all := lw_g (lw_at lw_m11 37 rfl) rfl
theorem q2585 : (Jvm.Cond.privateMethod ({ cls := "LawnPathsModel", name := "cellOrder", desc := "()I" } : Jvm.MethodName)) ∈ lw_tbl := lw_at lw_m11 38 rfl
theorem q2586 : (Jvm.Cond.instanceMethod ({ cls := "LawnPathsModel", name := "cellOrder", desc := "()I" } : Jvm.MethodName)) ∈ lw_all := lw_g (lw_at lw_m11 39 rfl) rfl
theorem q2587 : (Jvm.Cond.code ({ cls := "LawnPathsModel", name := "cellOrder", desc := "()I" } : Jvm.MethodName) prog_20_method_84_code (1 : Nat) (Option.some Jvm.ClassFile.FieldType.int)) ∈ lw_all := lw_g (lw_at lw_m11 40 rfl) rfl
theorem q2588 : (Jvm.Cond.stringRef "LawnPathsModel" (324 : Nat) "open") ∈ lw_tbl := lw_at lw_m11 41 rfl
theorem q2589 : (Jvm.Cond.stringRef "LawnPathsModel" (326 : Nat) "pave") ∈ lw_tbl := lw_at lw_m11 42 rfl
theorem q2590 : (Jvm.Cond.stringRef "LawnPathsModel" (328 : Nat) "sow") ∈ lw_tbl := lw_at lw_m11 43 rfl
theorem q2591 : (Jvm.Cond.methodLink "LawnPathsModel" (345 : Nat) ({ cls := "LawnPathsModel", name := "partsOf", desc := "(II)V" } : Jvm.MethodName)) ∈ lw_all := lw_g (lw_at lw_m11 44 rfl) rfl
theorem q2592 : (Jvm.Cond.privateMethod ({ cls := "LawnPathsModel", name := "partsOf", desc := "(II)V" } : Jvm.MethodName)) ∈ lw_tbl := lw_at lw_m11 45 rfl
theorem q2593 : (Jvm.Cond.instanceMethod ({ cls := "LawnPathsModel", name := "partsOf", desc := "(II)V" } : Jvm.MethodName)) ∈ lw_all := lw_g (lw_at lw_m11 46 rfl) rfl
theorem q2594 : (Jvm.Cond.code ({ cls := "LawnPathsModel", name := "partsOf", desc := "(II)V" } : Jvm.MethodName) prog_20_method_86_code (3 : Nat) (Option.none : Option Jvm.ClassFile.FieldType)) ∈ lw_all := lw_g (lw_at lw_m11 47 rfl) rfl
theorem q2595 : (Jvm.Cond.methodLink "LawnPathsModel" (372 : Nat) ({ cls := "LawnPathsModel", name := "keeps", desc := "([I)V" } : Jvm.MethodName)) ∈ lw_all := lw_g (lw_at lw_m11 48 rfl) rfl
theorem q2596 : (Jvm.Cond.privateMethod ({ cls := "LawnPathsModel", name := "keeps", desc := "([I)V" } : Jvm.MethodName)) ∈ lw_tbl := lw_at lw_m11 49 rfl
theorem q2597 : (Jvm.Cond.instanceMethod ({ cls := "LawnPathsModel", name := "keeps", desc := "([I)V" } : Jvm.MethodName)) ∈ lw_all := lw_g (lw_at lw_m11 50 rfl) rfl
theorem q2598 : (Jvm.Cond.code ({ cls := "LawnPathsModel", name := "keeps", desc := "([I)V" } : Jvm.MethodName) prog_20_method_89_code (3 : Nat) (Option.none : Option Jvm.ClassFile.FieldType)) ∈ lw_all := lw_g (lw_at lw_m11 51 rfl) rfl
theorem q2599 : (Jvm.Cond.methodLink "LawnPathsModel" (376 : Nat) ({ cls := "LawnPathsModel", name := "doesOne", desc := "(I)I" } : Jvm.MethodName)) ∈ lw_all := lw_g (lw_at lw_m11 52 rfl) rfl
theorem q2600 : (Jvm.Cond.privateMethod ({ cls := "LawnPathsModel", name := "doesOne", desc := "(I)I" } : Jvm.MethodName)) ∈ lw_tbl := lw_at lw_m11 53 rfl
theorem q2601 : (Jvm.Cond.instanceMethod ({ cls := "LawnPathsModel", name := "doesOne", desc := "(I)I" } : Jvm.MethodName)) ∈ lw_all := lw_g (lw_at lw_m11 54 rfl) rfl
theorem q2602 : (Jvm.Cond.code ({ cls := "LawnPathsModel", name := "doesOne", desc := "(I)I" } : Jvm.MethodName) prog_20_method_88_code (4 : Nat) (Option.some Jvm.ClassFile.FieldType.int)) ∈ lw_all := lw_g (lw_at lw_m11 55 rfl) rfl
theorem q2603 : (Jvm.Cond.methodLink "LawnPathsModel" (348 : Nat) ({ cls := "LawnPathsModel", name := "runNow", desc := "(I)I" } : Jvm.MethodName)) ∈ lw_all := lw_g (lw_at lw_m11 56 rfl) rfl
theorem q2604 : (Jvm.Cond.privateMethod ({ cls := "LawnPathsModel", name := "runNow", desc := "(I)I" } : Jvm.MethodName)) ∈ lw_tbl := lw_at lw_m11 57 rfl
theorem q2605 : (Jvm.Cond.instanceMethod ({ cls := "LawnPathsModel", name := "runNow", desc := "(I)I" } : Jvm.MethodName)) ∈ lw_all := lw_g (lw_at lw_m11 58 rfl) rfl
theorem q2606 : (Jvm.Cond.code ({ cls := "LawnPathsModel", name := "runNow", desc := "(I)I" } : Jvm.MethodName) prog_20_method_42_code (3 : Nat) (Option.some Jvm.ClassFile.FieldType.int)) ∈ lw_all := lw_g (lw_at lw_m11 59 rfl) rfl
theorem q2607 : (Jvm.Cond.methodLink "LawnPathsModel" (170 : Nat) ({ cls := "LawnPathsModel", name := "goBy", desc := "(I)V" } : Jvm.MethodName)) ∈ lw_all := lw_g (lw_at lw_m11 60 rfl) rfl
theorem q2608 : (Jvm.Cond.privateMethod ({ cls := "LawnPathsModel", name := "goBy", desc := "(I)V" } : Jvm.MethodName)) ∈ lw_tbl := lw_at lw_m11 61 rfl
theorem q2609 : (Jvm.Cond.instanceMethod ({ cls := "LawnPathsModel", name := "goBy", desc := "(I)V" } : Jvm.MethodName)) ∈ lw_all := lw_g (lw_at lw_m11 62 rfl) rfl
theorem q2610 : (Jvm.Cond.code ({ cls := "LawnPathsModel", name := "goBy", desc := "(I)V" } : Jvm.MethodName) prog_20_method_41_code (3 : Nat) (Option.none : Option Jvm.ClassFile.FieldType)) ∈ lw_all := lw_g (lw_at lw_m11 63 rfl) rfl
theorem q2611 : (Jvm.Cond.methodLink "LawnPathsModel" (167 : Nat) ({ cls := "LawnPathsModel", name := "dayOnce", desc := "()V" } : Jvm.MethodName)) ∈ lw_all := lw_g (lw_at lw_m11 64 rfl) rfl
theorem q2612 : (Jvm.Cond.privateMethod ({ cls := "LawnPathsModel", name := "dayOnce", desc := "()V" } : Jvm.MethodName)) ∈ lw_tbl := lw_at lw_m11 65 rfl
theorem q2613 : (Jvm.Cond.instanceMethod ({ cls := "LawnPathsModel", name := "dayOnce", desc := "()V" } : Jvm.MethodName)) ∈ lw_all := lw_g (lw_at lw_m11 66 rfl) rfl
theorem q2614 : (Jvm.Cond.code ({ cls := "LawnPathsModel", name := "dayOnce", desc := "()V" } : Jvm.MethodName) prog_20_method_40_code (3 : Nat) (Option.none : Option Jvm.ClassFile.FieldType)) ∈ lw_all := lw_g (lw_at lw_m11 67 rfl) rfl
theorem q2615 : (Jvm.Cond.methodLink "LawnPathsModel" (157 : Nat) ({ cls := "LawnPathsModel", name := "walksOn", desc := "(II)Z" } : Jvm.MethodName)) ∈ lw_all := lw_g (lw_at lw_m11 68 rfl) rfl
theorem q2616 : (Jvm.Cond.privateMethod ({ cls := "LawnPathsModel", name := "walksOn", desc := "(II)Z" } : Jvm.MethodName)) ∈ lw_tbl := lw_at lw_m11 69 rfl
theorem q2617 : (Jvm.Cond.instanceMethod ({ cls := "LawnPathsModel", name := "walksOn", desc := "(II)Z" } : Jvm.MethodName)) ∈ lw_all := lw_g (lw_at lw_m11 70 rfl) rfl
theorem q2618 : (Jvm.Cond.code ({ cls := "LawnPathsModel", name := "walksOn", desc := "(II)Z" } : Jvm.MethodName) prog_20_method_39_code (3 : Nat) (Option.some Jvm.ClassFile.FieldType.boolean)) ∈ lw_all := lw_g (lw_at lw_m11 71 rfl) rfl
theorem q2619 : (Jvm.Cond.methodLink "LawnPathsModel" (160 : Nat) ({ cls := "LawnPathsModel", name := "walks", desc := "(I)V" } : Jvm.MethodName)) ∈ lw_all := lw_g (lw_at lw_m11 72 rfl) rfl
theorem q2620 : (Jvm.Cond.privateMethod ({ cls := "LawnPathsModel", name := "walks", desc := "(I)V" } : Jvm.MethodName)) ∈ lw_tbl := lw_at lw_m11 73 rfl
theorem q2621 : (Jvm.Cond.instanceMethod ({ cls := "LawnPathsModel", name := "walks", desc := "(I)V" } : Jvm.MethodName)) ∈ lw_all := lw_g (lw_at lw_m11 74 rfl) rfl
theorem q2622 : (Jvm.Cond.code ({ cls := "LawnPathsModel", name := "walks", desc := "(I)V" } : Jvm.MethodName) prog_20_method_37_code (4 : Nat) (Option.none : Option Jvm.ClassFile.FieldType)) ∈ lw_all := lw_g (lw_at lw_m11 75 rfl) rfl
theorem q2623 : (Jvm.Cond.methodLink "LawnPathsModel" (147 : Nat) ({ cls := "LawnPathsModel", name := "laysWay", desc := "(I)I" } : Jvm.MethodName)) ∈ lw_all := lw_g (lw_at lw_m11 76 rfl) rfl
theorem q2624 : (Jvm.Cond.privateMethod ({ cls := "LawnPathsModel", name := "laysWay", desc := "(I)I" } : Jvm.MethodName)) ∈ lw_tbl := lw_at lw_m11 77 rfl
theorem q2625 : (Jvm.Cond.instanceMethod ({ cls := "LawnPathsModel", name := "laysWay", desc := "(I)I" } : Jvm.MethodName)) ∈ lw_all := lw_g (lw_at lw_m11 78 rfl) rfl
theorem q2626 : (Jvm.Cond.code ({ cls := "LawnPathsModel", name := "laysWay", desc := "(I)I" } : Jvm.MethodName) prog_20_method_32_code (6 : Nat) (Option.some Jvm.ClassFile.FieldType.int)) ∈ lw_all := lw_g (lw_at lw_m11 79 rfl) rfl
theorem q2627 : (Jvm.Cond.methodLink "LawnPathsModel" (150 : Nat) ({ cls := "LawnPathsModel", name := "treads", desc := "(I)V" } : Jvm.MethodName)) ∈ lw_all := lw_g (lw_at lw_m11 80 rfl) rfl
theorem q2628 : (Jvm.Cond.privateMethod ({ cls := "LawnPathsModel", name := "treads", desc := "(I)V" } : Jvm.MethodName)) ∈ lw_tbl := lw_at lw_m11 81 rfl
theorem q2629 : (Jvm.Cond.instanceMethod ({ cls := "LawnPathsModel", name := "treads", desc := "(I)V" } : Jvm.MethodName)) ∈ lw_all := lw_g (lw_at lw_m11 82 rfl) rfl
theorem q2630 : (Jvm.Cond.code ({ cls := "LawnPathsModel", name := "treads", desc := "(I)V" } : Jvm.MethodName) prog_20_method_36_code (3 : Nat) (Option.none : Option Jvm.ClassFile.FieldType)) ∈ lw_all := lw_g (lw_at lw_m11 83 rfl) rfl
theorem q2631 : (Jvm.Cond.methodLink "LawnPathsModel" (134 : Nat) ({ cls := "java/lang/Math", name := "min", desc := "(II)I" } : Jvm.MethodName)) ∈ lw_all := lw_g (lw_at lw_m11 84 rfl) rfl
theorem q2632 : (Jvm.Cond.methodLink "LawnPathsModel" (143 : Nat) ({ cls := "LawnPathsModel", name := "grows", desc := "(II)V" } : Jvm.MethodName)) ∈ lw_all := lw_g (lw_at lw_m11 85 rfl) rfl
theorem q2633 : (Jvm.Cond.privateMethod ({ cls := "LawnPathsModel", name := "grows", desc := "(II)V" } : Jvm.MethodName)) ∈ lw_tbl := lw_at lw_m11 86 rfl
theorem q2634 : (Jvm.Cond.instanceMethod ({ cls := "LawnPathsModel", name := "grows", desc := "(II)V" } : Jvm.MethodName)) ∈ lw_all := lw_g (lw_at lw_m11 87 rfl) rfl
theorem q2635 : (Jvm.Cond.code ({ cls := "LawnPathsModel", name := "grows", desc := "(II)V" } : Jvm.MethodName) prog_20_method_15_code (3 : Nat) (Option.none : Option Jvm.ClassFile.FieldType)) ∈ lw_all := lw_g (lw_at lw_m11 88 rfl) rfl
theorem q2636 : (Jvm.Cond.methodLink "LawnPathsModel" (163 : Nat) ({ cls := "LawnPathsModel", name := "growsCell", desc := "(IZ)V" } : Jvm.MethodName)) ∈ lw_all := lw_g (lw_at lw_m11 89 rfl) rfl
theorem q2637 : (Jvm.Cond.privateMethod ({ cls := "LawnPathsModel", name := "growsCell", desc := "(IZ)V" } : Jvm.MethodName)) ∈ lw_tbl := lw_at lw_m11 90 rfl
theorem q2638 : (Jvm.Cond.instanceMethod ({ cls := "LawnPathsModel", name := "growsCell", desc := "(IZ)V" } : Jvm.MethodName)) ∈ lw_all := lw_g (lw_at lw_m11 91 rfl) rfl
theorem q2639 : (Jvm.Cond.code ({ cls := "LawnPathsModel", name := "growsCell", desc := "(IZ)V" } : Jvm.MethodName) prog_20_method_38_code (5 : Nat) (Option.none : Option Jvm.ClassFile.FieldType)) ∈ lw_all := lw_g (lw_at lw_m11 92 rfl) rfl
theorem q2640 : (Jvm.Cond.methodLink "LawnPathsModel" (130 : Nat) ({ cls := "LawnPathsModel", name := "truth", desc := "(Z)I" } : Jvm.MethodName)) ∈ lw_all := lw_g (lw_at lw_m11 93 rfl) rfl
theorem q2641 : (Jvm.Cond.static ({ cls := "LawnPathsModel", name := "truth", desc := "(Z)I" } : Jvm.MethodName)) ∈ lw_all := lw_g (lw_at lw_m11 94 rfl) rfl
theorem q2642 : (Jvm.Cond.code ({ cls := "LawnPathsModel", name := "truth", desc := "(Z)I" } : Jvm.MethodName) prog_20_method_4_code (1 : Nat) (Option.some Jvm.ClassFile.FieldType.int)) ∈ lw_all := lw_g (lw_at lw_m11 95 rfl) rfl
theorem q2643 : (Jvm.Cond.methodLink "LawnPathsModel" (351 : Nat) ({ cls := "LawnPathsModel", name := "fenceNow", desc := "(II)I" } : Jvm.MethodName)) ∈ lw_all := lw_g (lw_at lw_m11 96 rfl) rfl
theorem q2644 : (Jvm.Cond.privateMethod ({ cls := "LawnPathsModel", name := "fenceNow", desc := "(II)I" } : Jvm.MethodName)) ∈ lw_tbl := lw_at lw_m11 97 rfl
theorem q2645 : (Jvm.Cond.instanceMethod ({ cls := "LawnPathsModel", name := "fenceNow", desc := "(II)I" } : Jvm.MethodName)) ∈ lw_all := lw_g (lw_at lw_m11 98 rfl) rfl
theorem q2646 : (Jvm.Cond.code ({ cls := "LawnPathsModel", name := "fenceNow", desc := "(II)I" } : Jvm.MethodName) prog_20_method_44_code (4 : Nat) (Option.some Jvm.ClassFile.FieldType.int)) ∈ lw_all := lw_g (lw_at lw_m11 99 rfl) rfl
theorem q2647 : (Jvm.Cond.methodLink "LawnPathsModel" (177 : Nat) ({ cls := "LawnPathsModel", name := "whyNoFence", desc := "(I)I" } : Jvm.MethodName)) ∈ lw_all := lw_g (lw_at lw_m11 100 rfl) rfl
theorem q2648 : (Jvm.Cond.privateMethod ({ cls := "LawnPathsModel", name := "whyNoFence", desc := "(I)I" } : Jvm.MethodName)) ∈ lw_tbl := lw_at lw_m11 101 rfl
theorem q2649 : (Jvm.Cond.instanceMethod ({ cls := "LawnPathsModel", name := "whyNoFence", desc := "(I)I" } : Jvm.MethodName)) ∈ lw_all := lw_g (lw_at lw_m11 102 rfl) rfl
theorem q2650 : (Jvm.Cond.code ({ cls := "LawnPathsModel", name := "whyNoFence", desc := "(I)I" } : Jvm.MethodName) prog_20_method_43_code (3 : Nat) (Option.some Jvm.ClassFile.FieldType.int)) ∈ lw_all := lw_g (lw_at lw_m11 103 rfl) rfl
theorem q2651 : (Jvm.Cond.methodLink "LawnPathsModel" (354 : Nat) ({ cls := "LawnPathsModel", name := "openNow", desc := "(II)I" } : Jvm.MethodName)) ∈ lw_all := lw_g (lw_at lw_m11 104 rfl) rfl
theorem q2652 : (Jvm.Cond.privateMethod ({ cls := "LawnPathsModel", name := "openNow", desc := "(II)I" } : Jvm.MethodName)) ∈ lw_tbl := lw_at lw_m11 105 rfl
theorem q2653 : (Jvm.Cond.instanceMethod ({ cls := "LawnPathsModel", name := "openNow", desc := "(II)I" } : Jvm.MethodName)) ∈ lw_all := lw_g (lw_at lw_m11 106 rfl) rfl
theorem q2654 : (Jvm.Cond.code ({ cls := "LawnPathsModel", name := "openNow", desc := "(II)I" } : Jvm.MethodName) prog_20_method_45_code (3 : Nat) (Option.some Jvm.ClassFile.FieldType.int)) ∈ lw_all := lw_g (lw_at lw_m11 107 rfl) rfl
theorem q2655 : (Jvm.Cond.methodLink "LawnPathsModel" (357 : Nat) ({ cls := "LawnPathsModel", name := "paveNow", desc := "(II)I" } : Jvm.MethodName)) ∈ lw_all := lw_g (lw_at lw_m11 108 rfl) rfl
theorem q2656 : (Jvm.Cond.privateMethod ({ cls := "LawnPathsModel", name := "paveNow", desc := "(II)I" } : Jvm.MethodName)) ∈ lw_tbl := lw_at lw_m11 109 rfl
theorem q2657 : (Jvm.Cond.instanceMethod ({ cls := "LawnPathsModel", name := "paveNow", desc := "(II)I" } : Jvm.MethodName)) ∈ lw_all := lw_g (lw_at lw_m11 110 rfl) rfl
theorem q2658 : (Jvm.Cond.code ({ cls := "LawnPathsModel", name := "paveNow", desc := "(II)I" } : Jvm.MethodName) prog_20_method_48_code (4 : Nat) (Option.some Jvm.ClassFile.FieldType.int)) ∈ lw_all := lw_g (lw_at lw_m11 111 rfl) rfl
theorem q2659 : (Jvm.Cond.methodLink "LawnPathsModel" (183 : Nat) ({ cls := "LawnPathsModel", name := "manyOf", desc := "(I)I" } : Jvm.MethodName)) ∈ lw_all := lw_g (lw_at lw_m11 112 rfl) rfl
theorem q2660 : (Jvm.Cond.privateMethod ({ cls := "LawnPathsModel", name := "manyOf", desc := "(I)I" } : Jvm.MethodName)) ∈ lw_tbl := lw_at lw_m11 113 rfl
theorem q2661 : (Jvm.Cond.instanceMethod ({ cls := "LawnPathsModel", name := "manyOf", desc := "(I)I" } : Jvm.MethodName)) ∈ lw_all := lw_g (lw_at lw_m11 114 rfl) rfl
theorem q2662 : (Jvm.Cond.code ({ cls := "LawnPathsModel", name := "manyOf", desc := "(I)I" } : Jvm.MethodName) prog_20_method_46_code (4 : Nat) (Option.some Jvm.ClassFile.FieldType.int)) ∈ lw_all := lw_g (lw_at lw_m11 115 rfl) rfl
theorem q2663 : (Jvm.Cond.methodLink "LawnPathsModel" (360 : Nat) ({ cls := "LawnPathsModel", name := "sowNow", desc := "(II)I" } : Jvm.MethodName)) ∈ lw_all := lw_g (lw_at lw_m11 116 rfl) rfl
theorem q2664 : (Jvm.Cond.privateMethod ({ cls := "LawnPathsModel", name := "sowNow", desc := "(II)I" } : Jvm.MethodName)) ∈ lw_tbl := lw_at lw_m11 117 rfl
theorem q2665 : (Jvm.Cond.instanceMethod ({ cls := "LawnPathsModel", name := "sowNow", desc := "(II)I" } : Jvm.MethodName)) ∈ lw_all := lw_g (lw_at lw_m11 118 rfl) rfl
theorem q2666 : (Jvm.Cond.code ({ cls := "LawnPathsModel", name := "sowNow", desc := "(II)I" } : Jvm.MethodName) prog_20_method_49_code (5 : Nat) (Option.some Jvm.ClassFile.FieldType.int)) ∈ lw_all := lw_g (lw_at lw_m11 119 rfl) rfl
theorem q2667 : (Jvm.Cond.methodLink "LawnPathsModel" (363 : Nat) ({ cls := "LawnPathsModel", name := "hasteNow", desc := "(II)I" } : Jvm.MethodName)) ∈ lw_all := lw_g (lw_at lw_m11 120 rfl) rfl
theorem q2668 : (Jvm.Cond.privateMethod ({ cls := "LawnPathsModel", name := "hasteNow", desc := "(II)I" } : Jvm.MethodName)) ∈ lw_tbl := lw_at lw_m11 121 rfl
theorem q2669 : (Jvm.Cond.instanceMethod ({ cls := "LawnPathsModel", name := "hasteNow", desc := "(II)I" } : Jvm.MethodName)) ∈ lw_all := lw_g (lw_at lw_m11 122 rfl) rfl
theorem q2670 : (Jvm.Cond.code ({ cls := "LawnPathsModel", name := "hasteNow", desc := "(II)I" } : Jvm.MethodName) prog_20_method_50_code (4 : Nat) (Option.some Jvm.ClassFile.FieldType.int)) ∈ lw_all := lw_g (lw_at lw_m11 123 rfl) rfl
theorem q2671 : (Jvm.Cond.methodLink "LawnPathsModel" (366 : Nat) ({ cls := "LawnPathsModel", name := "turnNow", desc := "(I)I" } : Jvm.MethodName)) ∈ lw_all := lw_g (lw_at lw_m11 124 rfl) rfl
theorem q2672 : (Jvm.Cond.privateMethod ({ cls := "LawnPathsModel", name := "turnNow", desc := "(I)I" } : Jvm.MethodName)) ∈ lw_tbl := lw_at lw_m11 125 rfl
theorem q2673 : (Jvm.Cond.instanceMethod ({ cls := "LawnPathsModel", name := "turnNow", desc := "(I)I" } : Jvm.MethodName)) ∈ lw_all := lw_g (lw_at lw_m11 126 rfl) rfl
theorem q2674 : (Jvm.Cond.code ({ cls := "LawnPathsModel", name := "turnNow", desc := "(I)I" } : Jvm.MethodName) prog_20_method_51_code (3 : Nat) (Option.some Jvm.ClassFile.FieldType.int)) ∈ lw_all := lw_g (lw_at lw_m11 127 rfl) rfl
theorem q2676 : (Jvm.Cond.instanceMethod ({ cls := "LawnPathsModel", name := "size", desc := "(I)I" } : Jvm.MethodName)) ∈ lw_all := lw_g (lw_at lw_m11 129 rfl) rfl
theorem q2677 : (Jvm.Cond.selects "LawnPathsModel" ({ cls := "LawnPathsModel", name := "size", desc := "(I)I" } : Jvm.MethodName) ({ cls := "LawnPathsModel", name := "size", desc := "(I)I" } : Jvm.MethodName)) ∈ lw_all := lw_g (lw_at lw_m11 130 rfl) rfl
theorem q2678 : (Jvm.Cond.code ({ cls := "LawnPathsModel", name := "size", desc := "(I)I" } : Jvm.MethodName) prog_20_method_94_code (2 : Nat) (Option.some Jvm.ClassFile.FieldType.int)) ∈ lw_all := lw_g (lw_at lw_m11 131 rfl) rfl
theorem q2679 : (Jvm.Cond.constantLong "LawnPathsModel" (382 : Nat) (13 : Int64)) ∈ lw_all := lw_g (lw_at lw_m11 132 rfl) rfl
theorem q2680 : (Jvm.Cond.methodLink "LawnPathsModel" (384 : Nat) ({ cls := "LawnPathsModel", name := "bareCells", desc := "()I" } : Jvm.MethodName)) ∈ lw_all := lw_g (lw_at lw_m11 133 rfl) rfl
theorem q2681 : (Jvm.Cond.privateMethod ({ cls := "LawnPathsModel", name := "bareCells", desc := "()I" } : Jvm.MethodName)) ∈ lw_tbl := lw_at lw_m11 134 rfl
theorem q2682 : (Jvm.Cond.instanceMethod ({ cls := "LawnPathsModel", name := "bareCells", desc := "()I" } : Jvm.MethodName)) ∈ lw_all := lw_g (lw_at lw_m11 135 rfl) rfl
theorem q2683 : (Jvm.Cond.code ({ cls := "LawnPathsModel", name := "bareCells", desc := "()I" } : Jvm.MethodName) prog_20_method_93_code (3 : Nat) (Option.some Jvm.ClassFile.FieldType.int)) ∈ lw_all := lw_g (lw_at lw_m11 136 rfl) rfl
theorem q2684 : (Jvm.Cond.methodLink "LawnPathsModel" (379 : Nat) ({ cls := "LawnPathsModel", name := "isBare", desc := "(I)Z" } : Jvm.MethodName)) ∈ lw_all := lw_g (lw_at lw_m11 137 rfl) rfl
theorem q2685 : (Jvm.Cond.privateMethod ({ cls := "LawnPathsModel", name := "isBare", desc := "(I)Z" } : Jvm.MethodName)) ∈ lw_tbl := lw_at lw_m11 138 rfl
theorem q2686 : (Jvm.Cond.instanceMethod ({ cls := "LawnPathsModel", name := "isBare", desc := "(I)Z" } : Jvm.MethodName)) ∈ lw_all := lw_g (lw_at lw_m11 139 rfl) rfl
theorem q2687 : (Jvm.Cond.code ({ cls := "LawnPathsModel", name := "isBare", desc := "(I)Z" } : Jvm.MethodName) prog_20_method_92_code (2 : Nat) (Option.some Jvm.ClassFile.FieldType.boolean)) ∈ lw_all := lw_g (lw_at lw_m11 140 rfl) rfl
theorem q2689 : (Jvm.Cond.instanceMethod ({ cls := "LawnPathsModel", name := "cell", desc := "(III)I" } : Jvm.MethodName)) ∈ lw_all := lw_g (lw_at lw_m11 142 rfl) rfl
theorem q2690 : (Jvm.Cond.selects "LawnPathsModel" ({ cls := "LawnPathsModel", name := "cell", desc := "(III)I" } : Jvm.MethodName) ({ cls := "LawnPathsModel", name := "cell", desc := "(III)I" } : Jvm.MethodName)) ∈ lw_all := lw_g (lw_at lw_m11 143 rfl) rfl
theorem q2691 : (Jvm.Cond.code ({ cls := "LawnPathsModel", name := "cell", desc := "(III)I" } : Jvm.MethodName) prog_20_method_98_code (4 : Nat) (Option.some Jvm.ClassFile.FieldType.int)) ∈ lw_all := lw_g (lw_at lw_m11 144 rfl) rfl
theorem q2692 : (Jvm.Cond.constantLong "LawnPathsModel" (396 : Nat) (5 : Int64)) ∈ lw_all := lw_g (lw_at lw_m11 145 rfl) rfl
theorem q2693 : (Jvm.Cond.methodLink "LawnPathsModel" (398 : Nat) ({ cls := "LawnPathsModel", name := "passesBoth", desc := "(ZZ)Z" } : Jvm.MethodName)) ∈ lw_all := lw_g (lw_at lw_m11 146 rfl) rfl
theorem q2694 : (Jvm.Cond.privateMethod ({ cls := "LawnPathsModel", name := "passesBoth", desc := "(ZZ)Z" } : Jvm.MethodName)) ∈ lw_tbl := lw_at lw_m11 147 rfl
theorem q2695 : (Jvm.Cond.instanceMethod ({ cls := "LawnPathsModel", name := "passesBoth", desc := "(ZZ)Z" } : Jvm.MethodName)) ∈ lw_all := lw_g (lw_at lw_m11 148 rfl) rfl
theorem q2696 : (Jvm.Cond.code ({ cls := "LawnPathsModel", name := "passesBoth", desc := "(ZZ)Z" } : Jvm.MethodName) prog_20_method_6_code (3 : Nat) (Option.some Jvm.ClassFile.FieldType.boolean)) ∈ lw_all := lw_g (lw_at lw_m11 149 rfl) rfl
theorem q2697 : (Jvm.Cond.methodLink "LawnPathsModel" (402 : Nat) ({ cls := "LawnPathsModel", name := "cellNow", desc := "(II)I" } : Jvm.MethodName)) ∈ lw_all := lw_g (lw_at lw_m11 150 rfl) rfl
theorem q2698 : (Jvm.Cond.privateMethod ({ cls := "LawnPathsModel", name := "cellNow", desc := "(II)I" } : Jvm.MethodName)) ∈ lw_tbl := lw_at lw_m11 151 rfl
theorem q2699 : (Jvm.Cond.instanceMethod ({ cls := "LawnPathsModel", name := "cellNow", desc := "(II)I" } : Jvm.MethodName)) ∈ lw_all := lw_g (lw_at lw_m11 152 rfl) rfl
theorem q2700 : (Jvm.Cond.code ({ cls := "LawnPathsModel", name := "cellNow", desc := "(II)I" } : Jvm.MethodName) prog_20_method_97_code (3 : Nat) (Option.some Jvm.ClassFile.FieldType.int)) ∈ lw_all := lw_g (lw_at lw_m11 153 rfl) rfl
theorem q2701 : (Jvm.Cond.methodLink "LawnPathsModel" (390 : Nat) ({ cls := "LawnPathsModel", name := "daysSince", desc := "(I)I" } : Jvm.MethodName)) ∈ lw_all := lw_g (lw_at lw_m11 154 rfl) rfl
theorem q2702 : (Jvm.Cond.privateMethod ({ cls := "LawnPathsModel", name := "daysSince", desc := "(I)I" } : Jvm.MethodName)) ∈ lw_tbl := lw_at lw_m11 155 rfl
theorem q2703 : (Jvm.Cond.instanceMethod ({ cls := "LawnPathsModel", name := "daysSince", desc := "(I)I" } : Jvm.MethodName)) ∈ lw_all := lw_g (lw_at lw_m11 156 rfl) rfl
theorem q2704 : (Jvm.Cond.code ({ cls := "LawnPathsModel", name := "daysSince", desc := "(I)I" } : Jvm.MethodName) prog_20_method_95_code (2 : Nat) (Option.some Jvm.ClassFile.FieldType.int)) ∈ lw_all := lw_g (lw_at lw_m11 157 rfl) rfl
theorem q2705 : (Jvm.Cond.methodLink "LawnPathsModel" (393 : Nat) ({ cls := "LawnPathsModel", name := "walkersOver", desc := "(I)I" } : Jvm.MethodName)) ∈ lw_all := lw_g (lw_at lw_m11 158 rfl) rfl
theorem q2706 : (Jvm.Cond.privateMethod ({ cls := "LawnPathsModel", name := "walkersOver", desc := "(I)I" } : Jvm.MethodName)) ∈ lw_tbl := lw_at lw_m11 159 rfl
theorem q2707 : (Jvm.Cond.instanceMethod ({ cls := "LawnPathsModel", name := "walkersOver", desc := "(I)I" } : Jvm.MethodName)) ∈ lw_all := lw_g (lw_at lw_m11 160 rfl) rfl
theorem q2708 : (Jvm.Cond.code ({ cls := "LawnPathsModel", name := "walkersOver", desc := "(I)I" } : Jvm.MethodName) prog_20_method_96_code (5 : Nat) (Option.some Jvm.ClassFile.FieldType.int)) ∈ lw_all := lw_g (lw_at lw_m11 161 rfl) rfl
theorem q2709 : (Jvm.Cond.methodLink "LawnPathsModel" (387 : Nat) ({ cls := "LawnPathsModel", name := "isOnWay", desc := "(I)Z" } : Jvm.MethodName)) ∈ lw_all := lw_g (lw_at lw_m11 162 rfl) rfl
theorem q2710 : (Jvm.Cond.privateMethod ({ cls := "LawnPathsModel", name := "isOnWay", desc := "(I)Z" } : Jvm.MethodName)) ∈ lw_tbl := lw_at lw_m11 163 rfl
theorem q2711 : (Jvm.Cond.instanceMethod ({ cls := "LawnPathsModel", name := "isOnWay", desc := "(I)Z" } : Jvm.MethodName)) ∈ lw_all := lw_g (lw_at lw_m11 164 rfl) rfl
theorem q2712 : (Jvm.Cond.code ({ cls := "LawnPathsModel", name := "isOnWay", desc := "(I)Z" } : Jvm.MethodName) prog_20_method_34_code (3 : Nat) (Option.some Jvm.ClassFile.FieldType.boolean)) ∈ lw_all := lw_g (lw_at lw_m11 165 rfl) rfl
theorem q2714 : (Jvm.Cond.instanceMethod ({ cls := "LawnPathsModel", name := "gate", desc := "(II)I" } : Jvm.MethodName)) ∈ lw_all := lw_g (lw_at lw_m11 167 rfl) rfl
theorem q2715 : (Jvm.Cond.selects "LawnPathsModel" ({ cls := "LawnPathsModel", name := "gate", desc := "(II)I" } : Jvm.MethodName) ({ cls := "LawnPathsModel", name := "gate", desc := "(II)I" } : Jvm.MethodName)) ∈ lw_all := lw_g (lw_at lw_m11 168 rfl) rfl
theorem q2716 : (Jvm.Cond.code ({ cls := "LawnPathsModel", name := "gate", desc := "(II)I" } : Jvm.MethodName) prog_20_method_100_code (3 : Nat) (Option.some Jvm.ClassFile.FieldType.int)) ∈ lw_all := lw_g (lw_at lw_m11 169 rfl) rfl
theorem q2717 : (Jvm.Cond.methodLink "LawnPathsModel" (405 : Nat) ({ cls := "LawnPathsModel", name := "isGate", desc := "(I)Z" } : Jvm.MethodName)) ∈ lw_all := lw_g (lw_at lw_m11 170 rfl) rfl
theorem q2718 : (Jvm.Cond.privateMethod ({ cls := "LawnPathsModel", name := "isGate", desc := "(I)Z" } : Jvm.MethodName)) ∈ lw_tbl := lw_at lw_m11 171 rfl
theorem q2719 : (Jvm.Cond.instanceMethod ({ cls := "LawnPathsModel", name := "isGate", desc := "(I)Z" } : Jvm.MethodName)) ∈ lw_all := lw_g (lw_at lw_m11 172 rfl) rfl
theorem q2720 : (Jvm.Cond.code ({ cls := "LawnPathsModel", name := "isGate", desc := "(I)Z" } : Jvm.MethodName) prog_20_method_17_code (2 : Nat) (Option.some Jvm.ClassFile.FieldType.boolean)) ∈ lw_all := lw_g (lw_at lw_m11 173 rfl) rfl
theorem q2721 : (Jvm.Cond.constantLong "LawnPathsModel" (408 : Nat) (4 : Int64)) ∈ lw_all := lw_g (lw_at lw_m11 174 rfl) rfl
theorem q2722 : (Jvm.Cond.methodLink "LawnPathsModel" (410 : Nat) ({ cls := "LawnPathsModel", name := "walkersWith", desc := "(II)I" } : Jvm.MethodName)) ∈ lw_all := lw_g (lw_at lw_m11 175 rfl) rfl
theorem q2723 : (Jvm.Cond.privateMethod ({ cls := "LawnPathsModel", name := "walkersWith", desc := "(II)I" } : Jvm.MethodName)) ∈ lw_tbl := lw_at lw_m11 176 rfl
theorem q2724 : (Jvm.Cond.instanceMethod ({ cls := "LawnPathsModel", name := "walkersWith", desc := "(II)I" } : Jvm.MethodName)) ∈ lw_all := lw_g (lw_at lw_m11 177 rfl) rfl
theorem q2725 : (Jvm.Cond.code ({ cls := "LawnPathsModel", name := "walkersWith", desc := "(II)I" } : Jvm.MethodName) prog_20_method_99_code (5 : Nat) (Option.some Jvm.ClassFile.FieldType.int)) ∈ lw_all := lw_g (lw_at lw_m11 178 rfl) rfl
theorem q2727 : (Jvm.Cond.instanceMethod ({ cls := "LawnPathsModel", name := "walker", desc := "(II)I" } : Jvm.MethodName)) ∈ lw_all := lw_g (lw_at lw_m11 180 rfl) rfl
theorem q2728 : (Jvm.Cond.selects "LawnPathsModel" ({ cls := "LawnPathsModel", name := "walker", desc := "(II)I" } : Jvm.MethodName) ({ cls := "LawnPathsModel", name := "walker", desc := "(II)I" } : Jvm.MethodName)) ∈ lw_all := lw_g (lw_at lw_m11 181 rfl) rfl
theorem q2729 : (Jvm.Cond.code ({ cls := "LawnPathsModel", name := "walker", desc := "(II)I" } : Jvm.MethodName) prog_20_method_101_code (3 : Nat) (Option.some Jvm.ClassFile.FieldType.int)) ∈ lw_all := lw_g (lw_at lw_m11 182 rfl) rfl
theorem q2730 : (Jvm.Cond.methodLink "LawnPathsModel" (413 : Nat) ({ cls := "LawnPathsModel", name := "isWalker", desc := "(I)Z" } : Jvm.MethodName)) ∈ lw_all := lw_g (lw_at lw_m11 183 rfl) rfl
theorem q2731 : (Jvm.Cond.privateMethod ({ cls := "LawnPathsModel", name := "isWalker", desc := "(I)Z" } : Jvm.MethodName)) ∈ lw_tbl := lw_at lw_m11 184 rfl
theorem q2732 : (Jvm.Cond.instanceMethod ({ cls := "LawnPathsModel", name := "isWalker", desc := "(I)Z" } : Jvm.MethodName)) ∈ lw_all := lw_g (lw_at lw_m11 185 rfl) rfl
theorem q2733 : (Jvm.Cond.code ({ cls := "LawnPathsModel", name := "isWalker", desc := "(I)Z" } : Jvm.MethodName) prog_20_method_16_code (2 : Nat) (Option.some Jvm.ClassFile.FieldType.boolean)) ∈ lw_all := lw_g (lw_at lw_m11 186 rfl) rfl
theorem q2734 : (Jvm.Cond.constantLong "LawnPathsModel" (416 : Nat) (7 : Int64)) ∈ lw_all := lw_g (lw_at lw_m11 187 rfl) rfl
theorem q2736 : (Jvm.Cond.instanceMethod ({ cls := "LawnPathsModel", name := "nameByte", desc := "(IZI)I" } : Jvm.MethodName)) ∈ lw_all := lw_g (lw_at lw_m11 189 rfl) rfl
theorem q2737 : (Jvm.Cond.selects "LawnPathsModel" ({ cls := "LawnPathsModel", name := "nameByte", desc := "(IZI)I" } : Jvm.MethodName) ({ cls := "LawnPathsModel", name := "nameByte", desc := "(IZI)I" } : Jvm.MethodName)) ∈ lw_all := lw_g (lw_at lw_m11 190 rfl) rfl
theorem q2738 : (Jvm.Cond.code ({ cls := "LawnPathsModel", name := "nameByte", desc := "(IZI)I" } : Jvm.MethodName) prog_20_method_102_code (5 : Nat) (Option.some Jvm.ClassFile.FieldType.int)) ∈ lw_all := lw_g (lw_at lw_m11 191 rfl) rfl
theorem q2740 : (Jvm.Cond.instanceMethod ({ cls := "LawnPathsModel", name := "find", desc := "(Z)I" } : Jvm.MethodName)) ∈ lw_all := lw_g (lw_at lw_m11 193 rfl) rfl
theorem q2741 : (Jvm.Cond.selects "LawnPathsModel" ({ cls := "LawnPathsModel", name := "find", desc := "(Z)I" } : Jvm.MethodName) ({ cls := "LawnPathsModel", name := "find", desc := "(Z)I" } : Jvm.MethodName)) ∈ lw_all := lw_g (lw_at lw_m11 194 rfl) rfl
theorem q2742 : (Jvm.Cond.code ({ cls := "LawnPathsModel", name := "find", desc := "(Z)I" } : Jvm.MethodName) prog_20_method_103_code (3 : Nat) (Option.some Jvm.ClassFile.FieldType.int)) ∈ lw_all := lw_g (lw_at lw_m11 195 rfl) rfl
theorem q2744 : (Jvm.Cond.instanceMethod ({ cls := "LawnPathsModel", name := "isWet", desc := "(I)Z" } : Jvm.MethodName)) ∈ lw_all := lw_g (lw_at lw_m11 197 rfl) rfl
theorem q2745 : (Jvm.Cond.selects "LawnPathsModel" ({ cls := "LawnPathsModel", name := "isWet", desc := "(I)Z" } : Jvm.MethodName) ({ cls := "LawnPathsModel", name := "isWet", desc := "(I)Z" } : Jvm.MethodName)) ∈ lw_all := lw_g (lw_at lw_m11 198 rfl) rfl
theorem q2746 : (Jvm.Cond.code ({ cls := "LawnPathsModel", name := "isWet", desc := "(I)Z" } : Jvm.MethodName) prog_20_method_104_code (2 : Nat) (Option.some Jvm.ClassFile.FieldType.boolean)) ∈ lw_all := lw_g (lw_at lw_m11 199 rfl) rfl
theorem q2747 : (Jvm.Cond.constantLong "LawnPathsModel" (418 : Nat) (9999 : Int64)) ∈ lw_all := lw_g (lw_at lw_m11 200 rfl) rfl
theorem q2749 : (Jvm.Cond.instanceMethod ({ cls := "LawnPathsModel", name := "cost", desc := "(III)I" } : Jvm.MethodName)) ∈ lw_all := lw_g (lw_at lw_m11 202 rfl) rfl
theorem q2750 : (Jvm.Cond.selects "LawnPathsModel" ({ cls := "LawnPathsModel", name := "cost", desc := "(III)I" } : Jvm.MethodName) ({ cls := "LawnPathsModel", name := "cost", desc := "(III)I" } : Jvm.MethodName)) ∈ lw_all := lw_g (lw_at lw_m11 203 rfl) rfl
theorem q2751 : (Jvm.Cond.code ({ cls := "LawnPathsModel", name := "cost", desc := "(III)I" } : Jvm.MethodName) prog_20_method_105_code (4 : Nat) (Option.some Jvm.ClassFile.FieldType.int)) ∈ lw_all := lw_g (lw_at lw_m11 204 rfl) rfl
theorem q2753 : (Jvm.Cond.instanceMethod ({ cls := "LawnPathsModel", name := "wayCost", desc := "(I)I" } : Jvm.MethodName)) ∈ lw_all := lw_g (lw_at lw_m11 206 rfl) rfl
theorem q2754 : (Jvm.Cond.selects "LawnPathsModel" ({ cls := "LawnPathsModel", name := "wayCost", desc := "(I)I" } : Jvm.MethodName) ({ cls := "LawnPathsModel", name := "wayCost", desc := "(I)I" } : Jvm.MethodName)) ∈ lw_all := lw_g (lw_at lw_m11 207 rfl) rfl
theorem q2755 : (Jvm.Cond.code ({ cls := "LawnPathsModel", name := "wayCost", desc := "(I)I" } : Jvm.MethodName) prog_20_method_106_code (2 : Nat) (Option.some Jvm.ClassFile.FieldType.int)) ∈ lw_all := lw_g (lw_at lw_m11 208 rfl) rfl
theorem q2757 : (Jvm.Cond.instanceMethod ({ cls := "LawnPathsModel", name := "waySteps", desc := "(I)I" } : Jvm.MethodName)) ∈ lw_all := lw_g (lw_at lw_m11 210 rfl) rfl
theorem q2758 : (Jvm.Cond.selects "LawnPathsModel" ({ cls := "LawnPathsModel", name := "waySteps", desc := "(I)I" } : Jvm.MethodName) ({ cls := "LawnPathsModel", name := "waySteps", desc := "(I)I" } : Jvm.MethodName)) ∈ lw_all := lw_g (lw_at lw_m11 211 rfl) rfl
theorem q2759 : (Jvm.Cond.code ({ cls := "LawnPathsModel", name := "waySteps", desc := "(I)I" } : Jvm.MethodName) prog_20_method_107_code (3 : Nat) (Option.some Jvm.ClassFile.FieldType.int)) ∈ lw_all := lw_g (lw_at lw_m11 212 rfl) rfl
theorem q2761 : (Jvm.Cond.instanceMethod ({ cls := "LawnPathsModel", name := "wayCell", desc := "(II)I" } : Jvm.MethodName)) ∈ lw_all := lw_g (lw_at lw_m11 214 rfl) rfl
theorem q2762 : (Jvm.Cond.selects "LawnPathsModel" ({ cls := "LawnPathsModel", name := "wayCell", desc := "(II)I" } : Jvm.MethodName) ({ cls := "LawnPathsModel", name := "wayCell", desc := "(II)I" } : Jvm.MethodName)) ∈ lw_all := lw_g (lw_at lw_m11 215 rfl) rfl
theorem q2763 : (Jvm.Cond.code ({ cls := "LawnPathsModel", name := "wayCell", desc := "(II)I" } : Jvm.MethodName) prog_20_method_108_code (4 : Nat) (Option.some Jvm.ClassFile.FieldType.int)) ∈ lw_all := lw_g (lw_at lw_m11 216 rfl) rfl
theorem q2764 : (Jvm.Cond.methodLink "LawnPathsModel" (420 : Nat) ({ cls := "LawnPathsModel", name := "shown", desc := "(I)I" } : Jvm.MethodName)) ∈ lw_all := lw_g (lw_at lw_m11 217 rfl) rfl
theorem q2765 : (Jvm.Cond.privateMethod ({ cls := "LawnPathsModel", name := "shown", desc := "(I)I" } : Jvm.MethodName)) ∈ lw_tbl := lw_at lw_m11 218 rfl
theorem q2766 : (Jvm.Cond.instanceMethod ({ cls := "LawnPathsModel", name := "shown", desc := "(I)I" } : Jvm.MethodName)) ∈ lw_all := lw_g (lw_at lw_m11 219 rfl) rfl
theorem q2767 : (Jvm.Cond.code ({ cls := "LawnPathsModel", name := "shown", desc := "(I)I" } : Jvm.MethodName) prog_20_method_23_code (2 : Nat) (Option.some Jvm.ClassFile.FieldType.int)) ∈ lw_all := lw_g (lw_at lw_m11 220 rfl) rfl
theorem q2769 : (Jvm.Cond.instanceMethod ({ cls := "LawnPathsModel", name := "why", desc := "(II)I" } : Jvm.MethodName)) ∈ lw_all := lw_g (lw_at lw_m11 222 rfl) rfl
theorem q2770 : (Jvm.Cond.selects "LawnPathsModel" ({ cls := "LawnPathsModel", name := "why", desc := "(II)I" } : Jvm.MethodName) ({ cls := "LawnPathsModel", name := "why", desc := "(II)I" } : Jvm.MethodName)) ∈ lw_all := lw_g (lw_at lw_m11 223 rfl) rfl
theorem q2771 : (Jvm.Cond.code ({ cls := "LawnPathsModel", name := "why", desc := "(II)I" } : Jvm.MethodName) prog_20_method_110_code (3 : Nat) (Option.some Jvm.ClassFile.FieldType.int)) ∈ lw_all := lw_g (lw_at lw_m11 224 rfl) rfl
theorem q2772 : (Jvm.Cond.constantLong "LawnPathsModel" (426 : Nat) (2 : Int64)) ∈ lw_all := lw_g (lw_at lw_m11 225 rfl) rfl
theorem q2773 : (Jvm.Cond.methodLink "LawnPathsModel" (428 : Nat) ({ cls := "LawnPathsModel", name := "whyWay", desc := "(II)I" } : Jvm.MethodName)) ∈ lw_all := lw_g (lw_at lw_m11 226 rfl) rfl
theorem q2774 : (Jvm.Cond.privateMethod ({ cls := "LawnPathsModel", name := "whyWay", desc := "(II)I" } : Jvm.MethodName)) ∈ lw_tbl := lw_at lw_m11 227 rfl
theorem q2775 : (Jvm.Cond.instanceMethod ({ cls := "LawnPathsModel", name := "whyWay", desc := "(II)I" } : Jvm.MethodName)) ∈ lw_all := lw_g (lw_at lw_m11 228 rfl) rfl
theorem q2776 : (Jvm.Cond.code ({ cls := "LawnPathsModel", name := "whyWay", desc := "(II)I" } : Jvm.MethodName) prog_20_method_109_code (7 : Nat) (Option.some Jvm.ClassFile.FieldType.int)) ∈ lw_all := lw_g (lw_at lw_m11 229 rfl) rfl
theorem q2777 : (Jvm.Cond.methodLink "LawnPathsModel" (423 : Nat) ({ cls := "LawnPathsModel", name := "grassOnWay", desc := "()I" } : Jvm.MethodName)) ∈ lw_all := lw_g (lw_at lw_m11 230 rfl) rfl
theorem q2778 : (Jvm.Cond.privateMethod ({ cls := "LawnPathsModel", name := "grassOnWay", desc := "()I" } : Jvm.MethodName)) ∈ lw_tbl := lw_at lw_m11 231 rfl
theorem q2779 : (Jvm.Cond.instanceMethod ({ cls := "LawnPathsModel", name := "grassOnWay", desc := "()I" } : Jvm.MethodName)) ∈ lw_all := lw_g (lw_at lw_m11 232 rfl) rfl
theorem q2780 : (Jvm.Cond.code ({ cls := "LawnPathsModel", name := "grassOnWay", desc := "()I" } : Jvm.MethodName) prog_20_method_35_code (3 : Nat) (Option.some Jvm.ClassFile.FieldType.int)) ∈ lw_all := lw_g (lw_at lw_m11 233 rfl) rfl
theorem q2782 : (Jvm.Cond.instanceMethod ({ cls := "LawnPathsModel", name := "keptBy", desc := "(III)I" } : Jvm.MethodName)) ∈ lw_all := lw_g (lw_at lw_m11 235 rfl) rfl
theorem q2783 : (Jvm.Cond.selects "LawnPathsModel" ({ cls := "LawnPathsModel", name := "keptBy", desc := "(III)I" } : Jvm.MethodName) ({ cls := "LawnPathsModel", name := "keptBy", desc := "(III)I" } : Jvm.MethodName)) ∈ lw_all := lw_g (lw_at lw_m11 236 rfl) rfl
theorem q2784 : (Jvm.Cond.code ({ cls := "LawnPathsModel", name := "keptBy", desc := "(III)I" } : Jvm.MethodName) prog_20_method_113_code (4 : Nat) (Option.some Jvm.ClassFile.FieldType.int)) ∈ lw_all := lw_g (lw_at lw_m11 237 rfl) rfl
theorem q2785 : (Jvm.Cond.methodLink "LawnPathsModel" (434 : Nat) ({ cls := "LawnPathsModel", name := "keptNow", desc := "(II)I" } : Jvm.MethodName)) ∈ lw_all := lw_g (lw_at lw_m11 238 rfl) rfl
theorem q2786 : (Jvm.Cond.privateMethod ({ cls := "LawnPathsModel", name := "keptNow", desc := "(II)I" } : Jvm.MethodName)) ∈ lw_tbl := lw_at lw_m11 239 rfl
theorem q2787 : (Jvm.Cond.instanceMethod ({ cls := "LawnPathsModel", name := "keptNow", desc := "(II)I" } : Jvm.MethodName)) ∈ lw_all := lw_g (lw_at lw_m12 0 rfl) rfl
theorem q2788 : (Jvm.Cond.code ({ cls := "LawnPathsModel", name := "keptNow", desc := "(II)I" } : Jvm.MethodName) prog_20_method_112_code (5 : Nat) (Option.some Jvm.ClassFile.FieldType.int)) ∈ lw_all := lw_g (lw_at lw_m12 1 rfl) rfl
theorem q2789 : (Jvm.Cond.methodLink "LawnPathsModel" (431 : Nat) ({ cls := "LawnPathsModel", name := "lowestOver", desc := "(I)I" } : Jvm.MethodName)) ∈ lw_all := lw_g (lw_at lw_m12 2 rfl) rfl
theorem q2790 : (Jvm.Cond.privateMethod ({ cls := "LawnPathsModel", name := "lowestOver", desc := "(I)I" } : Jvm.MethodName)) ∈ lw_tbl := lw_at lw_m12 3 rfl
theorem q2791 : (Jvm.Cond.instanceMethod ({ cls := "LawnPathsModel", name := "lowestOver", desc := "(I)I" } : Jvm.MethodName)) ∈ lw_all := lw_g (lw_at lw_m12 4 rfl) rfl
theorem q2792 : (Jvm.Cond.code ({ cls := "LawnPathsModel", name := "lowestOver", desc := "(I)I" } : Jvm.MethodName) prog_20_method_111_code (4 : Nat) (Option.some Jvm.ClassFile.FieldType.int)) ∈ lw_all := lw_g (lw_at lw_m12 5 rfl) rfl
theorem q2794 : (Jvm.Cond.instanceMethod ({ cls := "LawnPathsModel", name := "account", desc := "(I)I" } : Jvm.MethodName)) ∈ lw_all := lw_g (lw_at lw_m12 7 rfl) rfl
theorem q2795 : (Jvm.Cond.selects "LawnPathsModel" ({ cls := "LawnPathsModel", name := "account", desc := "(I)I" } : Jvm.MethodName) ({ cls := "LawnPathsModel", name := "account", desc := "(I)I" } : Jvm.MethodName)) ∈ lw_all := lw_g (lw_at lw_m12 8 rfl) rfl
theorem q2796 : (Jvm.Cond.code ({ cls := "LawnPathsModel", name := "account", desc := "(I)I" } : Jvm.MethodName) prog_20_method_115_code (2 : Nat) (Option.some Jvm.ClassFile.FieldType.int)) ∈ lw_all := lw_g (lw_at lw_m12 9 rfl) rfl
theorem q2797 : (Jvm.Cond.constantLong "LawnPathsModel" (437 : Nat) (11 : Int64)) ∈ lw_all := lw_g (lw_at lw_m12 10 rfl) rfl
theorem q2798 : (Jvm.Cond.methodLink "LawnPathsModel" (439 : Nat) ({ cls := "LawnPathsModel", name := "account0", desc := "(I)I" } : Jvm.MethodName)) ∈ lw_all := lw_g (lw_at lw_m12 11 rfl) rfl
theorem q2799 : (Jvm.Cond.privateMethod ({ cls := "LawnPathsModel", name := "account0", desc := "(I)I" } : Jvm.MethodName)) ∈ lw_tbl := lw_at lw_m12 12 rfl
theorem q2800 : (Jvm.Cond.instanceMethod ({ cls := "LawnPathsModel", name := "account0", desc := "(I)I" } : Jvm.MethodName)) ∈ lw_all := lw_g (lw_at lw_m12 13 rfl) rfl
theorem q2801 : (Jvm.Cond.code ({ cls := "LawnPathsModel", name := "account0", desc := "(I)I" } : Jvm.MethodName) prog_20_method_114_code (2 : Nat) (Option.some Jvm.ClassFile.FieldType.int)) ∈ lw_all := lw_g (lw_at lw_m12 14 rfl) rfl
theorem q2803 : (Jvm.Cond.instanceMethod ({ cls := "LawnPathsModel", name := "grassBalance", desc := "()I" } : Jvm.MethodName)) ∈ lw_all := lw_g (lw_at lw_m12 16 rfl) rfl
theorem q2804 : (Jvm.Cond.selects "LawnPathsModel" ({ cls := "LawnPathsModel", name := "grassBalance", desc := "()I" } : Jvm.MethodName) ({ cls := "LawnPathsModel", name := "grassBalance", desc := "()I" } : Jvm.MethodName)) ∈ lw_all := lw_g (lw_at lw_m12 17 rfl) rfl
theorem q2805 : (Jvm.Cond.code ({ cls := "LawnPathsModel", name := "grassBalance", desc := "()I" } : Jvm.MethodName) prog_20_method_116_code (1 : Nat) (Option.some Jvm.ClassFile.FieldType.int)) ∈ lw_all := lw_g (lw_at lw_m12 18 rfl) rfl
theorem q2807 : (Jvm.Cond.instanceMethod ({ cls := "LawnPathsModel", name := "walkBalance", desc := "()I" } : Jvm.MethodName)) ∈ lw_all := lw_g (lw_at lw_m12 20 rfl) rfl
theorem q2808 : (Jvm.Cond.selects "LawnPathsModel" ({ cls := "LawnPathsModel", name := "walkBalance", desc := "()I" } : Jvm.MethodName) ({ cls := "LawnPathsModel", name := "walkBalance", desc := "()I" } : Jvm.MethodName)) ∈ lw_all := lw_g (lw_at lw_m12 21 rfl) rfl
theorem q2809 : (Jvm.Cond.code ({ cls := "LawnPathsModel", name := "walkBalance", desc := "()I" } : Jvm.MethodName) prog_20_method_117_code (4 : Nat) (Option.some Jvm.ClassFile.FieldType.int)) ∈ lw_all := lw_g (lw_at lw_m12 22 rfl) rfl
theorem q2810 : (Jvm.Cond.methodLink "LawnPathsModel" (442 : Nat) ({ cls := "java/lang/Math", name := "abs", desc := "(I)I" } : Jvm.MethodName)) ∈ lw_all := lw_g (lw_at lw_m12 23 rfl) rfl
theorem q2812 : (Jvm.Cond.instanceMethod ({ cls := "LawnPathsModel", name := "gap", desc := "()I" } : Jvm.MethodName)) ∈ lw_all := lw_g (lw_at lw_m12 25 rfl) rfl
theorem q2813 : (Jvm.Cond.selects "LawnPathsModel" ({ cls := "LawnPathsModel", name := "gap", desc := "()I" } : Jvm.MethodName) ({ cls := "LawnPathsModel", name := "gap", desc := "()I" } : Jvm.MethodName)) ∈ lw_all := lw_g (lw_at lw_m12 26 rfl) rfl
theorem q2814 : (Jvm.Cond.code ({ cls := "LawnPathsModel", name := "gap", desc := "()I" } : Jvm.MethodName) prog_20_method_119_code (3 : Nat) (Option.some Jvm.ClassFile.FieldType.int)) ∈ lw_all := lw_g (lw_at lw_m12 27 rfl) rfl
theorem q2815 : (Jvm.Cond.methodLink "LawnPathsModel" (445 : Nat) ({ cls := "LawnPathsModel", name := "isBroken", desc := "(I)Z" } : Jvm.MethodName)) ∈ lw_all := lw_g (lw_at lw_m12 28 rfl) rfl
theorem q2816 : (Jvm.Cond.privateMethod ({ cls := "LawnPathsModel", name := "isBroken", desc := "(I)Z" } : Jvm.MethodName)) ∈ lw_tbl := lw_at lw_m12 29 rfl
theorem q2817 : (Jvm.Cond.instanceMethod ({ cls := "LawnPathsModel", name := "isBroken", desc := "(I)Z" } : Jvm.MethodName)) ∈ lw_all := lw_g (lw_at lw_m12 30 rfl) rfl
theorem q2818 : (Jvm.Cond.code ({ cls := "LawnPathsModel", name := "isBroken", desc := "(I)Z" } : Jvm.MethodName) prog_20_method_118_code (3 : Nat) (Option.some Jvm.ClassFile.FieldType.boolean)) ∈ lw_all := lw_g (lw_at lw_m12 31 rfl) rfl
theorem q2820 : (Jvm.Cond.instanceMethod ({ cls := "LawnPathsModel", name := "grassIn", desc := "(III)I" } : Jvm.MethodName)) ∈ lw_all := lw_g (lw_at lw_m12 33 rfl) rfl
theorem q2821 : (Jvm.Cond.selects "LawnPathsModel" ({ cls := "LawnPathsModel", name := "grassIn", desc := "(III)I" } : Jvm.MethodName) ({ cls := "LawnPathsModel", name := "grassIn", desc := "(III)I" } : Jvm.MethodName)) ∈ lw_all := lw_g (lw_at lw_m12 34 rfl) rfl
theorem q2822 : (Jvm.Cond.code ({ cls := "LawnPathsModel", name := "grassIn", desc := "(III)I" } : Jvm.MethodName) prog_20_method_122_code (4 : Nat) (Option.some Jvm.ClassFile.FieldType.int)) ∈ lw_all := lw_g (lw_at lw_m12 35 rfl) rfl
theorem q2823 : (Jvm.Cond.methodLink "LawnPathsModel" (450 : Nat) ({ cls := "LawnPathsModel", name := "areDays", desc := "(I)Z" } : Jvm.MethodName)) ∈ lw_all := lw_g (lw_at lw_m12 36 rfl) rfl
theorem q2824 : (Jvm.Cond.static ({ cls := "LawnPathsModel", name := "areDays", desc := "(I)Z" } : Jvm.MethodName)) ∈ lw_all := lw_g (lw_at lw_m12 37 rfl) rfl
theorem q2825 : (Jvm.Cond.code ({ cls := "LawnPathsModel", name := "areDays", desc := "(I)Z" } : Jvm.MethodName) prog_20_method_120_code (1 : Nat) (Option.some Jvm.ClassFile.FieldType.boolean)) ∈ lw_all := lw_g (lw_at lw_m12 38 rfl) rfl
theorem q2826 : (Jvm.Cond.constantLong "LawnPathsModel" (448 : Nat) (60 : Int64)) ∈ lw_all := lw_g (lw_at lw_m12 39 rfl) rfl
theorem q2827 : (Jvm.Cond.methodLink "LawnPathsModel" (453 : Nat) ({ cls := "LawnPathsModel", name := "tries", desc := "()V" } : Jvm.MethodName)) ∈ lw_all := lw_g (lw_at lw_m12 40 rfl) rfl
theorem q2828 : (Jvm.Cond.privateMethod ({ cls := "LawnPathsModel", name := "tries", desc := "()V" } : Jvm.MethodName)) ∈ lw_tbl := lw_at lw_m12 41 rfl
theorem q2829 : (Jvm.Cond.instanceMethod ({ cls := "LawnPathsModel", name := "tries", desc := "()V" } : Jvm.MethodName)) ∈ lw_all := lw_g (lw_at lw_m12 42 rfl) rfl
theorem q2830 : (Jvm.Cond.code ({ cls := "LawnPathsModel", name := "tries", desc := "()V" } : Jvm.MethodName) prog_20_method_8_code (1 : Nat) (Option.none : Option Jvm.ClassFile.FieldType)) ∈ lw_all := lw_g (lw_at lw_m12 43 rfl) rfl
theorem q2831 : (Jvm.Cond.methodLink "LawnPathsModel" (456 : Nat) ({ cls := "LawnPathsModel", name := "laidBack", desc := "(I)I" } : Jvm.MethodName)) ∈ lw_all := lw_g (lw_at lw_m12 44 rfl) rfl
theorem q2832 : (Jvm.Cond.privateMethod ({ cls := "LawnPathsModel", name := "laidBack", desc := "(I)I" } : Jvm.MethodName)) ∈ lw_tbl := lw_at lw_m12 45 rfl
theorem q2833 : (Jvm.Cond.instanceMethod ({ cls := "LawnPathsModel", name := "laidBack", desc := "(I)I" } : Jvm.MethodName)) ∈ lw_all := lw_g (lw_at lw_m12 46 rfl) rfl
theorem q2834 : (Jvm.Cond.code ({ cls := "LawnPathsModel", name := "laidBack", desc := "(I)I" } : Jvm.MethodName) prog_20_method_9_code (2 : Nat) (Option.some Jvm.ClassFile.FieldType.int)) ∈ lw_all := lw_g (lw_at lw_m12 47 rfl) rfl
theorem q2836 : (Jvm.Cond.instanceMethod ({ cls := "LawnPathsModel", name := "bareIn", desc := "(I)I" } : Jvm.MethodName)) ∈ lw_all := lw_g (lw_at lw_m12 49 rfl) rfl
theorem q2837 : (Jvm.Cond.selects "LawnPathsModel" ({ cls := "LawnPathsModel", name := "bareIn", desc := "(I)I" } : Jvm.MethodName) ({ cls := "LawnPathsModel", name := "bareIn", desc := "(I)I" } : Jvm.MethodName)) ∈ lw_all := lw_g (lw_at lw_m12 50 rfl) rfl
theorem q2838 : (Jvm.Cond.code ({ cls := "LawnPathsModel", name := "bareIn", desc := "(I)I" } : Jvm.MethodName) prog_20_method_123_code (2 : Nat) (Option.some Jvm.ClassFile.FieldType.int)) ∈ lw_all := lw_g (lw_at lw_m12 51 rfl) rfl
theorem q2840 : (Jvm.Cond.instanceMethod ({ cls := "LawnPathsModel", name := "whenBare", desc := "(II)I" } : Jvm.MethodName)) ∈ lw_all := lw_g (lw_at lw_m12 53 rfl) rfl
theorem q2841 : (Jvm.Cond.selects "LawnPathsModel" ({ cls := "LawnPathsModel", name := "whenBare", desc := "(II)I" } : Jvm.MethodName) ({ cls := "LawnPathsModel", name := "whenBare", desc := "(II)I" } : Jvm.MethodName)) ∈ lw_all := lw_g (lw_at lw_m12 54 rfl) rfl
theorem q2842 : (Jvm.Cond.code ({ cls := "LawnPathsModel", name := "whenBare", desc := "(II)I" } : Jvm.MethodName) prog_20_method_124_code (5 : Nat) (Option.some Jvm.ClassFile.FieldType.int)) ∈ lw_all := lw_g (lw_at lw_m12 55 rfl) rfl
theorem q2844 : (Jvm.Cond.instanceMethod ({ cls := "LawnPathsModel", name := "ifFence", desc := "(III)I" } : Jvm.MethodName)) ∈ lw_all := lw_g (lw_at lw_m12 57 rfl) rfl
theorem q2845 : (Jvm.Cond.selects "LawnPathsModel" ({ cls := "LawnPathsModel", name := "ifFence", desc := "(III)I" } : Jvm.MethodName) ({ cls := "LawnPathsModel", name := "ifFence", desc := "(III)I" } : Jvm.MethodName)) ∈ lw_all := lw_g (lw_at lw_m12 58 rfl) rfl
theorem q2846 : (Jvm.Cond.code ({ cls := "LawnPathsModel", name := "ifFence", desc := "(III)I" } : Jvm.MethodName) prog_20_method_125_code (7 : Nat) (Option.some Jvm.ClassFile.FieldType.int)) ∈ lw_all := lw_g (lw_at lw_m12 59 rfl) rfl
theorem q2848 : (Jvm.Cond.instanceMethod ({ cls := "LawnPathsModel", name := "ifOpen", desc := "(I)I" } : Jvm.MethodName)) ∈ lw_all := lw_g (lw_at lw_m12 61 rfl) rfl
theorem q2849 : (Jvm.Cond.selects "LawnPathsModel" ({ cls := "LawnPathsModel", name := "ifOpen", desc := "(I)I" } : Jvm.MethodName) ({ cls := "LawnPathsModel", name := "ifOpen", desc := "(I)I" } : Jvm.MethodName)) ∈ lw_all := lw_g (lw_at lw_m12 62 rfl) rfl
theorem q2850 : (Jvm.Cond.code ({ cls := "LawnPathsModel", name := "ifOpen", desc := "(I)I" } : Jvm.MethodName) prog_20_method_126_code (2 : Nat) (Option.some Jvm.ClassFile.FieldType.int)) ∈ lw_all := lw_g (lw_at lw_m12 63 rfl) rfl
theorem q2852 : (Jvm.Cond.instanceMethod ({ cls := "LawnPathsModel", name := "bestFence", desc := "(I)I" } : Jvm.MethodName)) ∈ lw_all := lw_g (lw_at lw_m12 65 rfl) rfl
theorem q2853 : (Jvm.Cond.selects "LawnPathsModel" ({ cls := "LawnPathsModel", name := "bestFence", desc := "(I)I" } : Jvm.MethodName) ({ cls := "LawnPathsModel", name := "bestFence", desc := "(I)I" } : Jvm.MethodName)) ∈ lw_all := lw_g (lw_at lw_m12 66 rfl) rfl
theorem q2854 : (Jvm.Cond.code ({ cls := "LawnPathsModel", name := "bestFence", desc := "(I)I" } : Jvm.MethodName) prog_20_method_128_code (6 : Nat) (Option.some Jvm.ClassFile.FieldType.int)) ∈ lw_all := lw_g (lw_at lw_m12 67 rfl) rfl
theorem q2855 : (Jvm.Cond.methodLink "LawnPathsModel" (462 : Nat) ({ cls := "LawnPathsModel", name := "grassWithFence", desc := "(II)I" } : Jvm.MethodName)) ∈ lw_all := lw_g (lw_at lw_m12 68 rfl) rfl
theorem q2856 : (Jvm.Cond.privateMethod ({ cls := "LawnPathsModel", name := "grassWithFence", desc := "(II)I" } : Jvm.MethodName)) ∈ lw_tbl := lw_at lw_m12 69 rfl
theorem q2857 : (Jvm.Cond.instanceMethod ({ cls := "LawnPathsModel", name := "grassWithFence", desc := "(II)I" } : Jvm.MethodName)) ∈ lw_all := lw_g (lw_at lw_m12 70 rfl) rfl
theorem q2858 : (Jvm.Cond.code ({ cls := "LawnPathsModel", name := "grassWithFence", desc := "(II)I" } : Jvm.MethodName) prog_20_method_127_code (3 : Nat) (Option.some Jvm.ClassFile.FieldType.int)) ∈ lw_all := lw_g (lw_at lw_m12 71 rfl) rfl
theorem q2859 : (Jvm.Cond.methodLink "LawnPathsModel" (459 : Nat) ({ cls := "LawnPathsModel", name := "grassBehind", desc := "(I)I" } : Jvm.MethodName)) ∈ lw_all := lw_g (lw_at lw_m12 72 rfl) rfl
theorem q2860 : (Jvm.Cond.privateMethod ({ cls := "LawnPathsModel", name := "grassBehind", desc := "(I)I" } : Jvm.MethodName)) ∈ lw_tbl := lw_at lw_m12 73 rfl
theorem q2861 : (Jvm.Cond.instanceMethod ({ cls := "LawnPathsModel", name := "grassBehind", desc := "(I)I" } : Jvm.MethodName)) ∈ lw_all := lw_g (lw_at lw_m12 74 rfl) rfl
theorem q2862 : (Jvm.Cond.code ({ cls := "LawnPathsModel", name := "grassBehind", desc := "(I)I" } : Jvm.MethodName) prog_20_method_121_code (2 : Nat) (Option.some Jvm.ClassFile.FieldType.int)) ∈ lw_all := lw_g (lw_at lw_m12 75 rfl) rfl
theorem q2864 : (Jvm.Cond.instanceMethod ({ cls := "LawnPathsModel", name := "ifHaste", desc := "(III)I" } : Jvm.MethodName)) ∈ lw_all := lw_g (lw_at lw_m12 77 rfl) rfl
theorem q2865 : (Jvm.Cond.selects "LawnPathsModel" ({ cls := "LawnPathsModel", name := "ifHaste", desc := "(III)I" } : Jvm.MethodName) ({ cls := "LawnPathsModel", name := "ifHaste", desc := "(III)I" } : Jvm.MethodName)) ∈ lw_all := lw_g (lw_at lw_m12 78 rfl) rfl
theorem q2866 : (Jvm.Cond.code ({ cls := "LawnPathsModel", name := "ifHaste", desc := "(III)I" } : Jvm.MethodName) prog_20_method_129_code (5 : Nat) (Option.some Jvm.ClassFile.FieldType.int)) ∈ lw_all := lw_g (lw_at lw_m12 79 rfl) rfl
theorem q2867 : (Jvm.Cond.constantLong "LawnPathsModel" (465 : Nat) (9 : Int64)) ∈ lw_all := lw_g (lw_at lw_m12 80 rfl) rfl
theorem q2869 : (Jvm.Cond.instanceMethod ({ cls := "LawnPathsModel", name := "busiest", desc := "()I" } : Jvm.MethodName)) ∈ lw_all := lw_g (lw_at lw_m12 82 rfl) rfl
theorem q2870 : (Jvm.Cond.selects "LawnPathsModel" ({ cls := "LawnPathsModel", name := "busiest", desc := "()I" } : Jvm.MethodName) ({ cls := "LawnPathsModel", name := "busiest", desc := "()I" } : Jvm.MethodName)) ∈ lw_all := lw_g (lw_at lw_m12 83 rfl) rfl
theorem q2871 : (Jvm.Cond.code ({ cls := "LawnPathsModel", name := "busiest", desc := "()I" } : Jvm.MethodName) prog_20_method_130_code (4 : Nat) (Option.some Jvm.ClassFile.FieldType.int)) ∈ lw_all := lw_g (lw_at lw_m12 84 rfl) rfl
theorem q2873 : (Jvm.Cond.instanceMethod ({ cls := "LawnPathsModel", name := "meanGrass", desc := "()D" } : Jvm.MethodName)) ∈ lw_all := lw_g (lw_at lw_m12 86 rfl) rfl
theorem q2874 : (Jvm.Cond.selects "LawnPathsModel" ({ cls := "LawnPathsModel", name := "meanGrass", desc := "()D" } : Jvm.MethodName) ({ cls := "LawnPathsModel", name := "meanGrass", desc := "()D" } : Jvm.MethodName)) ∈ lw_all := lw_g (lw_at lw_m12 87 rfl) rfl
theorem q2875 : (Jvm.Cond.code ({ cls := "LawnPathsModel", name := "meanGrass", desc := "()D" } : Jvm.MethodName) prog_20_method_131_code (2 : Nat) (Option.some Jvm.ClassFile.FieldType.double)) ∈ lw_all := lw_g (lw_at lw_m12 88 rfl) rfl
theorem q2877 : (Jvm.Cond.instanceMethod ({ cls := "LawnPathsModel", name := "bareShare", desc := "()F" } : Jvm.MethodName)) ∈ lw_all := lw_g (lw_at lw_m12 90 rfl) rfl
theorem q2878 : (Jvm.Cond.selects "LawnPathsModel" ({ cls := "LawnPathsModel", name := "bareShare", desc := "()F" } : Jvm.MethodName) ({ cls := "LawnPathsModel", name := "bareShare", desc := "()F" } : Jvm.MethodName)) ∈ lw_all := lw_g (lw_at lw_m12 91 rfl) rfl
theorem q2879 : (Jvm.Cond.code ({ cls := "LawnPathsModel", name := "bareShare", desc := "()F" } : Jvm.MethodName) prog_20_method_132_code (2 : Nat) (Option.some Jvm.ClassFile.FieldType.float)) ∈ lw_all := lw_g (lw_at lw_m12 92 rfl) rfl
theorem q2881 : (Jvm.Cond.instanceMethod ({ cls := "LawnPathsModel", name := "run", desc := "(I)I" } : Jvm.MethodName)) ∈ lw_all := lw_g (lw_at lw_m12 94 rfl) rfl
theorem q2882 : (Jvm.Cond.selects "LawnPathsModel" ({ cls := "LawnPathsModel", name := "run", desc := "(I)I" } : Jvm.MethodName) ({ cls := "LawnPathsModel", name := "run", desc := "(I)I" } : Jvm.MethodName)) ∈ lw_all := lw_g (lw_at lw_m12 95 rfl) rfl
theorem q2883 : (Jvm.Cond.code ({ cls := "LawnPathsModel", name := "run", desc := "(I)I" } : Jvm.MethodName) prog_20_method_135_code (2 : Nat) (Option.some Jvm.ClassFile.FieldType.int)) ∈ lw_all := lw_g (lw_at lw_m12 96 rfl) rfl
theorem q2884 : (Jvm.Cond.methodLink "LawnPathsModel" (467 : Nat) ({ cls := "LawnPathsModel", name := "tried", desc := "(Z)Z" } : Jvm.MethodName)) ∈ lw_all := lw_g (lw_at lw_m12 97 rfl) rfl
theorem q2885 : (Jvm.Cond.privateMethod ({ cls := "LawnPathsModel", name := "tried", desc := "(Z)Z" } : Jvm.MethodName)) ∈ lw_tbl := lw_at lw_m12 98 rfl
theorem q2886 : (Jvm.Cond.instanceMethod ({ cls := "LawnPathsModel", name := "tried", desc := "(Z)Z" } : Jvm.MethodName)) ∈ lw_all := lw_g (lw_at lw_m12 99 rfl) rfl
theorem q2887 : (Jvm.Cond.code ({ cls := "LawnPathsModel", name := "tried", desc := "(Z)Z" } : Jvm.MethodName) prog_20_method_133_code (2 : Nat) (Option.some Jvm.ClassFile.FieldType.boolean)) ∈ lw_all := lw_g (lw_at lw_m12 100 rfl) rfl
theorem q2888 : (Jvm.Cond.methodLink "LawnPathsModel" (470 : Nat) ({ cls := "LawnPathsModel", name := "done", desc := "(I)I" } : Jvm.MethodName)) ∈ lw_all := lw_g (lw_at lw_m12 101 rfl) rfl
theorem q2889 : (Jvm.Cond.privateMethod ({ cls := "LawnPathsModel", name := "done", desc := "(I)I" } : Jvm.MethodName)) ∈ lw_tbl := lw_at lw_m12 102 rfl
theorem q2890 : (Jvm.Cond.instanceMethod ({ cls := "LawnPathsModel", name := "done", desc := "(I)I" } : Jvm.MethodName)) ∈ lw_all := lw_g (lw_at lw_m12 103 rfl) rfl
theorem q2891 : (Jvm.Cond.code ({ cls := "LawnPathsModel", name := "done", desc := "(I)I" } : Jvm.MethodName) prog_20_method_134_code (2 : Nat) (Option.some Jvm.ClassFile.FieldType.int)) ∈ lw_all := lw_g (lw_at lw_m12 104 rfl) rfl
theorem q2893 : (Jvm.Cond.instanceMethod ({ cls := "LawnPathsModel", name := "setFence", desc := "(II)I" } : Jvm.MethodName)) ∈ lw_all := lw_g (lw_at lw_m12 106 rfl) rfl
theorem q2894 : (Jvm.Cond.selects "LawnPathsModel" ({ cls := "LawnPathsModel", name := "setFence", desc := "(II)I" } : Jvm.MethodName) ({ cls := "LawnPathsModel", name := "setFence", desc := "(II)I" } : Jvm.MethodName)) ∈ lw_all := lw_g (lw_at lw_m12 107 rfl) rfl
theorem q2895 : (Jvm.Cond.code ({ cls := "LawnPathsModel", name := "setFence", desc := "(II)I" } : Jvm.MethodName) prog_20_method_136_code (3 : Nat) (Option.some Jvm.ClassFile.FieldType.int)) ∈ lw_all := lw_g (lw_at lw_m12 108 rfl) rfl
theorem q2897 : (Jvm.Cond.instanceMethod ({ cls := "LawnPathsModel", name := "dropFence", desc := "(II)I" } : Jvm.MethodName)) ∈ lw_all := lw_g (lw_at lw_m12 110 rfl) rfl
theorem q2898 : (Jvm.Cond.selects "LawnPathsModel" ({ cls := "LawnPathsModel", name := "dropFence", desc := "(II)I" } : Jvm.MethodName) ({ cls := "LawnPathsModel", name := "dropFence", desc := "(II)I" } : Jvm.MethodName)) ∈ lw_all := lw_g (lw_at lw_m12 111 rfl) rfl
theorem q2899 : (Jvm.Cond.code ({ cls := "LawnPathsModel", name := "dropFence", desc := "(II)I" } : Jvm.MethodName) prog_20_method_137_code (3 : Nat) (Option.some Jvm.ClassFile.FieldType.int)) ∈ lw_all := lw_g (lw_at lw_m12 112 rfl) rfl
theorem q2901 : (Jvm.Cond.instanceMethod ({ cls := "LawnPathsModel", name := "pave", desc := "(II)I" } : Jvm.MethodName)) ∈ lw_all := lw_g (lw_at lw_m12 114 rfl) rfl
theorem q2902 : (Jvm.Cond.selects "LawnPathsModel" ({ cls := "LawnPathsModel", name := "pave", desc := "(II)I" } : Jvm.MethodName) ({ cls := "LawnPathsModel", name := "pave", desc := "(II)I" } : Jvm.MethodName)) ∈ lw_all := lw_g (lw_at lw_m12 115 rfl) rfl
theorem q2903 : (Jvm.Cond.code ({ cls := "LawnPathsModel", name := "pave", desc := "(II)I" } : Jvm.MethodName) prog_20_method_138_code (3 : Nat) (Option.some Jvm.ClassFile.FieldType.int)) ∈ lw_all := lw_g (lw_at lw_m12 116 rfl) rfl
theorem q2905 : (Jvm.Cond.instanceMethod ({ cls := "LawnPathsModel", name := "sow", desc := "(II)I" } : Jvm.MethodName)) ∈ lw_all := lw_g (lw_at lw_m12 118 rfl) rfl
theorem q2906 : (Jvm.Cond.selects "LawnPathsModel" ({ cls := "LawnPathsModel", name := "sow", desc := "(II)I" } : Jvm.MethodName) ({ cls := "LawnPathsModel", name := "sow", desc := "(II)I" } : Jvm.MethodName)) ∈ lw_all := lw_g (lw_at lw_m12 119 rfl) rfl
theorem q2907 : (Jvm.Cond.code ({ cls := "LawnPathsModel", name := "sow", desc := "(II)I" } : Jvm.MethodName) prog_20_method_139_code (3 : Nat) (Option.some Jvm.ClassFile.FieldType.int)) ∈ lw_all := lw_g (lw_at lw_m12 120 rfl) rfl
theorem q2909 : (Jvm.Cond.instanceMethod ({ cls := "LawnPathsModel", name := "setHaste", desc := "(II)I" } : Jvm.MethodName)) ∈ lw_all := lw_g (lw_at lw_m12 122 rfl) rfl
theorem q2910 : (Jvm.Cond.selects "LawnPathsModel" ({ cls := "LawnPathsModel", name := "setHaste", desc := "(II)I" } : Jvm.MethodName) ({ cls := "LawnPathsModel", name := "setHaste", desc := "(II)I" } : Jvm.MethodName)) ∈ lw_all := lw_g (lw_at lw_m12 123 rfl) rfl
theorem q2911 : (Jvm.Cond.code ({ cls := "LawnPathsModel", name := "setHaste", desc := "(II)I" } : Jvm.MethodName) prog_20_method_140_code (3 : Nat) (Option.some Jvm.ClassFile.FieldType.int)) ∈ lw_all := lw_g (lw_at lw_m12 124 rfl) rfl
theorem q2913 : (Jvm.Cond.instanceMethod ({ cls := "LawnPathsModel", name := "turnRound", desc := "(I)I" } : Jvm.MethodName)) ∈ lw_all := lw_g (lw_at lw_m12 126 rfl) rfl
theorem q2914 : (Jvm.Cond.selects "LawnPathsModel" ({ cls := "LawnPathsModel", name := "turnRound", desc := "(I)I" } : Jvm.MethodName) ({ cls := "LawnPathsModel", name := "turnRound", desc := "(I)I" } : Jvm.MethodName)) ∈ lw_all := lw_g (lw_at lw_m12 127 rfl) rfl
theorem q2915 : (Jvm.Cond.code ({ cls := "LawnPathsModel", name := "turnRound", desc := "(I)I" } : Jvm.MethodName) prog_20_method_141_code (2 : Nat) (Option.some Jvm.ClassFile.FieldType.int)) ∈ lw_all := lw_g (lw_at lw_m12 128 rfl) rfl
theorem q2917 : (Jvm.Cond.instanceMethod ({ cls := "LawnPathsModel", name := "writeLawn", desc := "()I" } : Jvm.MethodName)) ∈ lw_all := lw_g (lw_at lw_m12 130 rfl) rfl
theorem q2918 : (Jvm.Cond.selects "LawnPathsModel" ({ cls := "LawnPathsModel", name := "writeLawn", desc := "()I" } : Jvm.MethodName) ({ cls := "LawnPathsModel", name := "writeLawn", desc := "()I" } : Jvm.MethodName)) ∈ lw_all := lw_g (lw_at lw_m12 131 rfl) rfl
theorem q2919 : (Jvm.Cond.code ({ cls := "LawnPathsModel", name := "writeLawn", desc := "()I" } : Jvm.MethodName) prog_20_method_144_code (2 : Nat) (Option.some Jvm.ClassFile.FieldType.int)) ∈ lw_all := lw_g (lw_at lw_m12 132 rfl) rfl
theorem q2920 : (Jvm.Cond.methodLink "LawnPathsModel" (476 : Nat) ({ cls := "LawnPathsModel", name := "writes", desc := "(I)V" } : Jvm.MethodName)) ∈ lw_all := lw_g (lw_at lw_m12 133 rfl) rfl
theorem q2921 : (Jvm.Cond.privateMethod ({ cls := "LawnPathsModel", name := "writes", desc := "(I)V" } : Jvm.MethodName)) ∈ lw_tbl := lw_at lw_m12 134 rfl
theorem q2922 : (Jvm.Cond.instanceMethod ({ cls := "LawnPathsModel", name := "writes", desc := "(I)V" } : Jvm.MethodName)) ∈ lw_all := lw_g (lw_at lw_m12 135 rfl) rfl
theorem q2923 : (Jvm.Cond.code ({ cls := "LawnPathsModel", name := "writes", desc := "(I)V" } : Jvm.MethodName) prog_20_method_142_code (2 : Nat) (Option.none : Option Jvm.ClassFile.FieldType)) ∈ lw_all := lw_g (lw_at lw_m12 136 rfl) rfl
theorem q2924 : (Jvm.Cond.methodLink "LawnPathsModel" (479 : Nat) ({ cls := "LawnPathsModel", name := "markOf", desc := "(I)I" } : Jvm.MethodName)) ∈ lw_all := lw_g (lw_at lw_m12 137 rfl) rfl
theorem q2925 : (Jvm.Cond.privateMethod ({ cls := "LawnPathsModel", name := "markOf", desc := "(I)I" } : Jvm.MethodName)) ∈ lw_tbl := lw_at lw_m12 138 rfl
theorem q2926 : (Jvm.Cond.instanceMethod ({ cls := "LawnPathsModel", name := "markOf", desc := "(I)I" } : Jvm.MethodName)) ∈ lw_all := lw_g (lw_at lw_m12 139 rfl) rfl
theorem q2927 : (Jvm.Cond.code ({ cls := "LawnPathsModel", name := "markOf", desc := "(I)I" } : Jvm.MethodName) prog_20_method_143_code (2 : Nat) (Option.some Jvm.ClassFile.FieldType.int)) ∈ lw_all := lw_g (lw_at lw_m12 140 rfl) rfl
theorem q2929 : (Jvm.Cond.instanceMethod ({ cls := "LawnPathsModel", name := "writeWay", desc := "(I)I" } : Jvm.MethodName)) ∈ lw_all := lw_g (lw_at lw_m12 142 rfl) rfl
theorem q2930 : (Jvm.Cond.selects "LawnPathsModel" ({ cls := "LawnPathsModel", name := "writeWay", desc := "(I)I" } : Jvm.MethodName) ({ cls := "LawnPathsModel", name := "writeWay", desc := "(I)I" } : Jvm.MethodName)) ∈ lw_all := lw_g (lw_at lw_m12 143 rfl) rfl
theorem q2931 : (Jvm.Cond.code ({ cls := "LawnPathsModel", name := "writeWay", desc := "(I)I" } : Jvm.MethodName) prog_20_method_146_code (5 : Nat) (Option.some Jvm.ClassFile.FieldType.int)) ∈ lw_all := lw_g (lw_at lw_m12 144 rfl) rfl
theorem q2932 : (Jvm.Cond.methodLink "LawnPathsModel" (482 : Nat) ({ cls := "LawnPathsModel", name := "letterOf", desc := "(I)I" } : Jvm.MethodName)) ∈ lw_all := lw_g (lw_at lw_m12 145 rfl) rfl
theorem q2933 : (Jvm.Cond.static ({ cls := "LawnPathsModel", name := "letterOf", desc := "(I)I" } : Jvm.MethodName)) ∈ lw_all := lw_g (lw_at lw_m12 146 rfl) rfl
theorem q2934 : (Jvm.Cond.code ({ cls := "LawnPathsModel", name := "letterOf", desc := "(I)I" } : Jvm.MethodName) prog_20_method_145_code (1 : Nat) (Option.some Jvm.ClassFile.FieldType.int)) ∈ lw_all := lw_g (lw_at lw_m12 147 rfl) rfl
theorem q2936 : (Jvm.Cond.instanceMethod ({ cls := "LawnPathsModel", name := "outputByte", desc := "(I)I" } : Jvm.MethodName)) ∈ lw_all := lw_g (lw_at lw_m12 149 rfl) rfl
theorem q2937 : (Jvm.Cond.selects "LawnPathsModel" ({ cls := "LawnPathsModel", name := "outputByte", desc := "(I)I" } : Jvm.MethodName) ({ cls := "LawnPathsModel", name := "outputByte", desc := "(I)I" } : Jvm.MethodName)) ∈ lw_all := lw_g (lw_at lw_m12 150 rfl) rfl
theorem q2938 : (Jvm.Cond.code ({ cls := "LawnPathsModel", name := "outputByte", desc := "(I)I" } : Jvm.MethodName) prog_20_method_147_code (2 : Nat) (Option.some Jvm.ClassFile.FieldType.int)) ∈ lw_all := lw_g (lw_at lw_m12 151 rfl) rfl
theorem q2940 : (Jvm.Cond.instanceMethod ({ cls := "LawnPathsModel", name := "undo", desc := "()I" } : Jvm.MethodName)) ∈ lw_all := lw_g (lw_at lw_m12 153 rfl) rfl
theorem q2941 : (Jvm.Cond.selects "LawnPathsModel" ({ cls := "LawnPathsModel", name := "undo", desc := "()I" } : Jvm.MethodName) ({ cls := "LawnPathsModel", name := "undo", desc := "()I" } : Jvm.MethodName)) ∈ lw_all := lw_g (lw_at lw_m12 154 rfl) rfl
theorem q2942 : (Jvm.Cond.code ({ cls := "LawnPathsModel", name := "undo", desc := "()I" } : Jvm.MethodName) prog_20_method_148_code (1 : Nat) (Option.some Jvm.ClassFile.FieldType.int)) ∈ lw_all := lw_g (lw_at lw_m12 155 rfl) rfl
theorem q2944 : (Jvm.Cond.instanceMethod ({ cls := "LawnPathsModel", name := "save", desc := "()I" } : Jvm.MethodName)) ∈ lw_all := lw_g (lw_at lw_m12 157 rfl) rfl
theorem q2945 : (Jvm.Cond.selects "LawnPathsModel" ({ cls := "LawnPathsModel", name := "save", desc := "()I" } : Jvm.MethodName) ({ cls := "LawnPathsModel", name := "save", desc := "()I" } : Jvm.MethodName)) ∈ lw_all := lw_g (lw_at lw_m12 158 rfl) rfl
theorem q2946 : (Jvm.Cond.code ({ cls := "LawnPathsModel", name := "save", desc := "()I" } : Jvm.MethodName) prog_20_method_149_code (1 : Nat) (Option.some Jvm.ClassFile.FieldType.int)) ∈ lw_all := lw_g (lw_at lw_m12 159 rfl) rfl
theorem q2948 : (Jvm.Cond.instanceMethod ({ cls := "LawnPathsModel", name := "restore", desc := "()I" } : Jvm.MethodName)) ∈ lw_all := lw_g (lw_at lw_m12 161 rfl) rfl
theorem q2949 : (Jvm.Cond.selects "LawnPathsModel" ({ cls := "LawnPathsModel", name := "restore", desc := "()I" } : Jvm.MethodName) ({ cls := "LawnPathsModel", name := "restore", desc := "()I" } : Jvm.MethodName)) ∈ lw_all := lw_g (lw_at lw_m12 162 rfl) rfl
theorem q2950 : (Jvm.Cond.code ({ cls := "LawnPathsModel", name := "restore", desc := "()I" } : Jvm.MethodName) prog_20_method_150_code (1 : Nat) (Option.some Jvm.ClassFile.FieldType.int)) ∈ lw_all := lw_g (lw_at lw_m12 163 rfl) rfl
theorem q2978 : (Jvm.Cond.castable "LawnPathsModel" "java/lang/Object") ∈ lw_tbl := lw_at lw_m12 191 rfl
theorem in_X6 : ∀ w ∈ wsX60, w ∈ lw_all := lw_in wsX60 [2493, 2495, 2497, 2499, 2501, 2503, 2505, 2507, 2509, 2511, 2513, 2515, 2517, 2519, 2521, 2523, 2525, 2527, 2529, 2531, 2533, 2535, 2537, 2539, 2541] (by decide +kernel) (by decide +kernel)
/-! java/lang/StringLatin1 -/
def RJ12 : String := "java/lang/StringLatin1"
abbrev cJ12_canEncode : ByteArray := prog_43_method_3_code
def yJ12_canEncode : MethodName := ⟨RJ12, "canEncode", "(C)Z"⟩
abbrev cJ12_inflate : ByteArray := prog_43_method_50_code
def yJ12_inflate : MethodName := ⟨RJ12, "inflate", "([BI[BII)V"⟩
abbrev cJ12_equals : ByteArray := prog_43_method_13_code
def yJ12_equals : MethodName := ⟨RJ12, "equals", "([B[B)Z"⟩
abbrev cJ12_fillNull : ByteArray := prog_43_method_48_code
def yJ12_fillNull : MethodName := ⟨RJ12, "fillNull", "([BII)V"⟩
abbrev cJ12_hashCode : ByteArray := prog_43_method_21_code
def yJ12_hashCode : MethodName := ⟨RJ12, "hashCode", "([B)I"⟩
abbrev cJ12_charAt : ByteArray := prog_43_method_2_code
def yJ12_charAt : MethodName := ⟨RJ12, "charAt", "([BI)C"⟩
theorem q167 : (Jvm.Cond.initialized "java/lang/StringLatin1") ∈ lw_all := lw_g (lw_at lw_m1 20 rfl) rfl
theorem q631 : (Jvm.Cond.static ({ cls := "java/lang/StringLatin1", name := "canEncode", desc := "(C)Z" } : Jvm.MethodName)) ∈ lw_all := lw_g (lw_at lw_m3 4 rfl) rfl
theorem q632 : (Jvm.Cond.code ({ cls := "java/lang/StringLatin1", name := "canEncode", desc := "(C)Z" } : Jvm.MethodName) prog_43_method_3_code (1 : Nat) (Option.some Jvm.ClassFile.FieldType.boolean)) ∈ lw_all := lw_g (lw_at lw_m3 5 rfl) rfl
theorem q638 : (Jvm.Cond.static ({ cls := "java/lang/StringLatin1", name := "inflate", desc := "([BI[BII)V" } : Jvm.MethodName)) ∈ lw_all := lw_g (lw_at lw_m3 11 rfl) rfl
theorem q639 : (Jvm.Cond.code ({ cls := "java/lang/StringLatin1", name := "inflate", desc := "([BI[BII)V" } : Jvm.MethodName) prog_43_method_50_code (5 : Nat) (Option.none : Option Jvm.ClassFile.FieldType)) ∈ lw_all := lw_g (lw_at lw_m3 12 rfl) rfl
theorem q640 : (Jvm.Cond.methodLink "java/lang/StringLatin1" (240 : Nat) ({ cls := "java/lang/StringUTF16", name := "inflate", desc := "([BI[BII)V" } : Jvm.MethodName)) ∈ lw_all := lw_g (lw_at lw_m3 13 rfl) rfl
theorem q948 : (Jvm.Cond.static ({ cls := "java/lang/StringLatin1", name := "equals", desc := "([B[B)Z" } : Jvm.MethodName)) ∈ lw_all := lw_g (lw_at lw_m4 81 rfl) rfl
theorem q949 : (Jvm.Cond.code ({ cls := "java/lang/StringLatin1", name := "equals", desc := "([B[B)Z" } : Jvm.MethodName) prog_43_method_13_code (3 : Nat) (Option.some Jvm.ClassFile.FieldType.boolean)) ∈ lw_all := lw_g (lw_at lw_m4 82 rfl) rfl
theorem q1303 : (Jvm.Cond.static ({ cls := "java/lang/StringLatin1", name := "fillNull", desc := "([BII)V" } : Jvm.MethodName)) ∈ lw_all := lw_g (lw_at lw_m5 196 rfl) rfl
theorem q1304 : (Jvm.Cond.code ({ cls := "java/lang/StringLatin1", name := "fillNull", desc := "([BII)V" } : Jvm.MethodName) prog_43_method_48_code (3 : Nat) (Option.none : Option Jvm.ClassFile.FieldType)) ∈ lw_all := lw_g (lw_at lw_m5 197 rfl) rfl
theorem q1305 : (Jvm.Cond.methodLink "java/lang/StringLatin1" (236 : Nat) ({ cls := "java/util/Arrays", name := "fill", desc := "([BIIB)V" } : Jvm.MethodName)) ∈ lw_all := lw_g (lw_at lw_m5 198 rfl) rfl
theorem q1669 : (Jvm.Cond.static ({ cls := "java/lang/StringLatin1", name := "hashCode", desc := "([B)I" } : Jvm.MethodName)) ∈ lw_all := lw_g (lw_at lw_m7 82 rfl) rfl
theorem q1670 : (Jvm.Cond.code ({ cls := "java/lang/StringLatin1", name := "hashCode", desc := "([B)I" } : Jvm.MethodName) prog_43_method_21_code (1 : Nat) (Option.some Jvm.ClassFile.FieldType.int)) ∈ lw_all := lw_g (lw_at lw_m7 83 rfl) rfl
theorem q1671 : (Jvm.Cond.methodLink "java/lang/StringLatin1" (84 : Nat) ({ cls := "jdk/internal/util/ArraysSupport", name := "vectorizedHashCode", desc := "(Ljava/lang/Object;IIII)I" } : Jvm.MethodName)) ∈ lw_all := lw_g (lw_at lw_m7 84 rfl) rfl
theorem q2008 : (Jvm.Cond.static ({ cls := "java/lang/StringLatin1", name := "charAt", desc := "([BI)C" } : Jvm.MethodName)) ∈ lw_all := lw_g (lw_at lw_m8 181 rfl) rfl
theorem q2009 : (Jvm.Cond.code ({ cls := "java/lang/StringLatin1", name := "charAt", desc := "([BI)C" } : Jvm.MethodName) prog_43_method_2_code (2 : Nat) (Option.some Jvm.ClassFile.FieldType.char)) ∈ lw_all := lw_g (lw_at lw_m8 182 rfl) rfl
theorem q2010 : (Jvm.Cond.methodLink "java/lang/StringLatin1" (9 : Nat) ({ cls := "java/lang/String", name := "checkIndex", desc := "(II)V" } : Jvm.MethodName)) ∈ lw_all := lw_g (lw_at lw_m8 183 rfl) rfl
/-! jdk/internal/util/Preconditions -/
def RJ13 : String := "jdk/internal/util/Preconditions"
abbrev cJ13_checkFromIndexSize : ByteArray := prog_68_method_13_code
def yJ13_checkFromIndexSize : MethodName := ⟨RJ13, "checkFromIndexSize", "(IIILjava/util/function/BiFunction;)I"⟩
abbrev cJ13_checkIndex : ByteArray := prog_68_method_11_code
def yJ13_checkIndex : MethodName := ⟨RJ13, "checkIndex", "(IILjava/util/function/BiFunction;)I"⟩
abbrev cJ13_checkFromToIndex : ByteArray := prog_68_method_12_code
def yJ13_checkFromToIndex : MethodName := ⟨RJ13, "checkFromToIndex", "(IIILjava/util/function/BiFunction;)I"⟩
theorem q168 : (Jvm.Cond.initialized "jdk/internal/util/Preconditions") ∈ lw_all := lw_g (lw_at lw_m1 21 rfl) rfl
theorem q653 : (Jvm.Cond.laysStatic "jdk/internal/util/Preconditions" "SIOOBE_FORMATTER" "Ljava/util/function/BiFunction;") ∈ lw_tbl := lw_at lw_m3 26 rfl
theorem q655 : (Jvm.Cond.static ({ cls := "jdk/internal/util/Preconditions", name := "checkFromIndexSize", desc := "(IIILjava/util/function/BiFunction;)I" } : Jvm.MethodName)) ∈ lw_all := lw_g (lw_at lw_m3 28 rfl) rfl
theorem q656 : (Jvm.Cond.code ({ cls := "jdk/internal/util/Preconditions", name := "checkFromIndexSize", desc := "(IIILjava/util/function/BiFunction;)I" } : Jvm.MethodName) prog_68_method_13_code (4 : Nat) (Option.some Jvm.ClassFile.FieldType.int)) ∈ lw_all := lw_g (lw_at lw_m3 29 rfl) rfl
theorem q676 : (Jvm.Cond.static ({ cls := "jdk/internal/util/Preconditions", name := "checkIndex", desc := "(IILjava/util/function/BiFunction;)I" } : Jvm.MethodName)) ∈ lw_all := lw_g (lw_at lw_m3 49 rfl) rfl
theorem q677 : (Jvm.Cond.code ({ cls := "jdk/internal/util/Preconditions", name := "checkIndex", desc := "(IILjava/util/function/BiFunction;)I" } : Jvm.MethodName) prog_68_method_11_code (3 : Nat) (Option.some Jvm.ClassFile.FieldType.int)) ∈ lw_all := lw_g (lw_at lw_m3 50 rfl) rfl
theorem q789 : (Jvm.Cond.static ({ cls := "jdk/internal/util/Preconditions", name := "checkFromToIndex", desc := "(IIILjava/util/function/BiFunction;)I" } : Jvm.MethodName)) ∈ lw_all := lw_g (lw_at lw_m3 162 rfl) rfl
theorem q790 : (Jvm.Cond.code ({ cls := "jdk/internal/util/Preconditions", name := "checkFromToIndex", desc := "(IIILjava/util/function/BiFunction;)I" } : Jvm.MethodName) prog_68_method_12_code (4 : Nat) (Option.some Jvm.ClassFile.FieldType.int)) ∈ lw_all := lw_g (lw_at lw_m3 163 rfl) rfl
/-! java/lang/Throwable -/
def RJ14 : String := "java/lang/Throwable"
def TJ14 : u_T := fun k => match k with
  | 0 => ("java/lang/Throwable", "cause", "Ljava/lang/Throwable;", false)
  | 1 => ("java/lang/Throwable", "stackTrace", "[Ljava/lang/StackTraceElement;", false)
  | 2 => ("java/lang/Throwable", "suppressedExceptions", "Ljava/util/List;", false)
  | 3 => ("java/lang/Throwable", "detailMessage", "Ljava/lang/String;", false)
  | _ => ("java/lang/Throwable", "backtrace", "Ljava/lang/Object;", false)
def tyJ14 : Nat → FieldType := fun k => match k with
  | 0 => .object "java/lang/Throwable"
  | 1 => .array (.object "java/lang/StackTraceElement")
  | 2 => .object "java/util/List"
  | 3 => .object "java/lang/String"
  | _ => .object "java/lang/Object"
abbrev wsJ140 : List Cond := u_ws RJ14 TJ14 5
theorem nmJ14 : ∀ a, a < 5 → ∀ b, b < 5 → a ≠ b → (TJ14 a).2.1 ≠ (TJ14 b).2.1 := by decide +kernel
theorem tyJ14_ok : ∀ k, k < 5 → parseFieldDescriptor (TJ14 k).2.2.1 = some (tyJ14 k) := by decide +kernel
abbrev cJ14_init : ByteArray := prog_47_method_1_code
def yJ14_init : MethodName := ⟨RJ14, "<init>", "()V"⟩
abbrev cJ14_init_2 : ByteArray := prog_47_method_2_code
def yJ14_init_2 : MethodName := ⟨RJ14, "<init>", "(Ljava/lang/String;)V"⟩
abbrev cJ14_init_3 : ByteArray := prog_47_method_5_code
def yJ14_init_3 : MethodName := ⟨RJ14, "<init>", "(Ljava/lang/String;Ljava/lang/Throwable;ZZ)V"⟩
theorem q169 : (Jvm.Cond.initialized "java/lang/Throwable") ∈ lw_all := lw_g (lw_at lw_m1 22 rfl) rfl
theorem q721 : (Jvm.Cond.declares ({ cls := "java/lang/Throwable", name := "<init>", desc := "()V" } : Jvm.MethodName)) ∈ lw_tbl := lw_at lw_m3 94 rfl
theorem q722 : (Jvm.Cond.declares ({ cls := "java/lang/Throwable", name := "<init>", desc := "(Ljava/lang/String;)V" } : Jvm.MethodName)) ∈ lw_tbl := lw_at lw_m3 95 rfl
theorem q726 : (Jvm.Cond.lays "java/lang/Throwable" "java/lang/Throwable" "cause" "Ljava/lang/Throwable;") ∈ lw_all := lw_g (lw_at lw_m3 99 rfl) rfl
theorem q728 : (Jvm.Cond.lays "java/lang/Throwable" "java/lang/Throwable" "stackTrace" "[Ljava/lang/StackTraceElement;") ∈ lw_all := lw_g (lw_at lw_m3 101 rfl) rfl
theorem q730 : (Jvm.Cond.lays "java/lang/Throwable" "java/lang/Throwable" "suppressedExceptions" "Ljava/util/List;") ∈ lw_all := lw_g (lw_at lw_m3 103 rfl) rfl
theorem q732 : (Jvm.Cond.lays "java/lang/Throwable" "java/lang/Throwable" "detailMessage" "Ljava/lang/String;") ∈ lw_all := lw_g (lw_at lw_m3 105 rfl) rfl
theorem q734 : (Jvm.Cond.lays "java/lang/Throwable" "java/lang/Throwable" "backtrace" "Ljava/lang/Object;") ∈ lw_all := lw_g (lw_at lw_m3 107 rfl) rfl
theorem q735 : (Jvm.Cond.fieldLink "java/lang/Throwable" (198 : Nat) "java/lang/Throwable" "backtrace" "Ljava/lang/Object;") ∈ lw_all := lw_g (lw_at lw_m3 108 rfl) rfl
theorem q736 : (Jvm.Cond.superclass "java/lang/Throwable" "java/lang/Object") ∈ lw_all := lw_g (lw_at lw_m3 109 rfl) rfl
theorem q737 : (Jvm.Cond.instanceMethod ({ cls := "java/lang/Throwable", name := "<init>", desc := "()V" } : Jvm.MethodName)) ∈ lw_all := lw_g (lw_at lw_m3 110 rfl) rfl
theorem q738 : (Jvm.Cond.code ({ cls := "java/lang/Throwable", name := "<init>", desc := "()V" } : Jvm.MethodName) prog_47_method_1_code (1 : Nat) (Option.none : Option Jvm.ClassFile.FieldType)) ∈ lw_all := lw_g (lw_at lw_m3 111 rfl) rfl
theorem q739 : (Jvm.Cond.methodLink "java/lang/Throwable" (1 : Nat) ({ cls := "java/lang/Object", name := "<init>", desc := "()V" } : Jvm.MethodName)) ∈ lw_all := lw_g (lw_at lw_m3 112 rfl) rfl
theorem q740 : (Jvm.Cond.fieldLink "java/lang/Throwable" (13 : Nat) "java/lang/Throwable" "UNASSIGNED_STACK" "[Ljava/lang/StackTraceElement;") ∈ lw_all := lw_g (lw_at lw_m3 113 rfl) rfl
theorem q741 : (Jvm.Cond.laysStatic "java/lang/Throwable" "UNASSIGNED_STACK" "[Ljava/lang/StackTraceElement;") ∈ lw_tbl := lw_at lw_m3 114 rfl
theorem q742 : (Jvm.Cond.fieldLink "java/lang/Throwable" (20 : Nat) "java/lang/Throwable" "SUPPRESSED_SENTINEL" "Ljava/util/List;") ∈ lw_all := lw_g (lw_at lw_m3 115 rfl) rfl
theorem q743 : (Jvm.Cond.laysStatic "java/lang/Throwable" "SUPPRESSED_SENTINEL" "Ljava/util/List;") ∈ lw_tbl := lw_at lw_m3 116 rfl
theorem q744 : (Jvm.Cond.methodLink "java/lang/Throwable" (27 : Nat) ({ cls := "java/lang/Throwable", name := "fillInStackTrace", desc := "()Ljava/lang/Throwable;" } : Jvm.MethodName)) ∈ lw_all := lw_g (lw_at lw_m3 117 rfl) rfl
theorem q745 : (Jvm.Cond.instanceMethod ({ cls := "java/lang/Throwable", name := "fillInStackTrace", desc := "()Ljava/lang/Throwable;" } : Jvm.MethodName)) ∈ lw_all := lw_g (lw_at lw_m3 118 rfl) rfl
theorem q746 : (Jvm.Cond.sameMethod "java/lang/Throwable" "java/lang/Throwable" "fillInStackTrace" "()Ljava/lang/Throwable;") ∈ lw_all := lw_g (lw_at lw_m3 119 rfl) rfl
theorem q754 : (Jvm.Cond.codeSync ({ cls := "java/lang/Throwable", name := "fillInStackTrace", desc := "()Ljava/lang/Throwable;" } : Jvm.MethodName) prog_47_method_18_code (1 : Nat) (Option.some (Jvm.ClassFile.FieldType.object "java/lang/Throwable"))) ∈ lw_all := lw_g (lw_at lw_m3 127 rfl) rfl
theorem q755 : (Jvm.Cond.methodLink "java/lang/Throwable" (202 : Nat) ({ cls := "java/lang/Throwable", name := "fillInStackTrace", desc := "(I)Ljava/lang/Throwable;" } : Jvm.MethodName)) ∈ lw_all := lw_g (lw_at lw_m3 128 rfl) rfl
theorem q756 : (Jvm.Cond.privateMethod ({ cls := "java/lang/Throwable", name := "fillInStackTrace", desc := "(I)Ljava/lang/Throwable;" } : Jvm.MethodName)) ∈ lw_tbl := lw_at lw_m3 129 rfl
theorem q757 : (Jvm.Cond.instanceMethod ({ cls := "java/lang/Throwable", name := "fillInStackTrace", desc := "(I)Ljava/lang/Throwable;" } : Jvm.MethodName)) ∈ lw_all := lw_g (lw_at lw_m3 130 rfl) rfl
theorem q758 : (Jvm.Cond.instantiable "java/lang/Throwable" (6 : Nat)) ∈ lw_all := lw_g (lw_at lw_m3 131 rfl) rfl
theorem q759 : (Jvm.Cond.native ({ cls := "java/lang/Throwable", name := "fillInStackTrace", desc := "(I)Ljava/lang/Throwable;" } : Jvm.MethodName)) ∈ lw_all := lw_g (lw_at lw_m3 132 rfl) rfl
theorem q846 : (Jvm.Cond.instanceMethod ({ cls := "java/lang/Throwable", name := "<init>", desc := "(Ljava/lang/String;)V" } : Jvm.MethodName)) ∈ lw_all := lw_g (lw_at lw_m3 219 rfl) rfl
theorem q847 : (Jvm.Cond.code ({ cls := "java/lang/Throwable", name := "<init>", desc := "(Ljava/lang/String;)V" } : Jvm.MethodName) prog_47_method_2_code (2 : Nat) (Option.none : Option Jvm.ClassFile.FieldType)) ∈ lw_all := lw_g (lw_at lw_m3 220 rfl) rfl
theorem q848 : (Jvm.Cond.fieldLink "java/lang/Throwable" (198 : Nat) "java/lang/Throwable" "backtrace" "Ljava/lang/Object;") ∈ lw_all := lw_g (lw_at lw_m3 221 rfl) rfl
theorem q849 : (Jvm.Cond.fieldLink "java/lang/Throwable" (31 : Nat) "java/lang/Throwable" "detailMessage" "Ljava/lang/String;") ∈ lw_all := lw_g (lw_at lw_m3 222 rfl) rfl
theorem q850 : (Jvm.Cond.fieldLink "java/lang/Throwable" (7 : Nat) "java/lang/Throwable" "cause" "Ljava/lang/Throwable;") ∈ lw_all := lw_g (lw_at lw_m3 223 rfl) rfl
theorem q851 : (Jvm.Cond.fieldLink "java/lang/Throwable" (17 : Nat) "java/lang/Throwable" "stackTrace" "[Ljava/lang/StackTraceElement;") ∈ lw_all := lw_g (lw_at lw_m3 224 rfl) rfl
theorem q852 : (Jvm.Cond.fieldLink "java/lang/Throwable" (24 : Nat) "java/lang/Throwable" "suppressedExceptions" "Ljava/util/List;") ∈ lw_all := lw_g (lw_at lw_m3 225 rfl) rfl
theorem q853 : (Jvm.Cond.soleField "java/lang/Throwable" "backtrace") ∈ lw_all := lw_g (lw_at lw_m3 226 rfl) rfl
theorem q854 : (Jvm.Cond.soleField "java/lang/Throwable" "detailMessage") ∈ lw_all := lw_g (lw_at lw_m3 227 rfl) rfl
theorem q855 : (Jvm.Cond.soleField "java/lang/Throwable" "cause") ∈ lw_all := lw_g (lw_at lw_m3 228 rfl) rfl
theorem q856 : (Jvm.Cond.soleField "java/lang/Throwable" "stackTrace") ∈ lw_all := lw_g (lw_at lw_m3 229 rfl) rfl
theorem q858 : (Jvm.Cond.soleField "java/lang/Throwable" "depth") ∈ lw_all := lw_g (lw_at lw_m3 231 rfl) rfl
theorem q859 : (Jvm.Cond.soleField "java/lang/Throwable" "suppressedExceptions") ∈ lw_all := lw_g (lw_at lw_m3 232 rfl) rfl
theorem q1545 : (Jvm.Cond.instanceMethod ({ cls := "java/lang/Throwable", name := "<init>", desc := "(Ljava/lang/String;Ljava/lang/Throwable;ZZ)V" } : Jvm.MethodName)) ∈ lw_all := lw_g (lw_at lw_m6 198 rfl) rfl
theorem q1546 : (Jvm.Cond.code ({ cls := "java/lang/Throwable", name := "<init>", desc := "(Ljava/lang/String;Ljava/lang/Throwable;ZZ)V" } : Jvm.MethodName) prog_47_method_5_code (5 : Nat) (Option.none : Option Jvm.ClassFile.FieldType)) ∈ lw_all := lw_g (lw_at lw_m6 199 rfl) rfl
theorem q2956 : (Jvm.Cond.sameMethod "java/lang/Throwable" "java/lang/Throwable" "fillInStackTrace" "(I)Ljava/lang/Throwable;") ∈ lw_all := lw_g (lw_at lw_m12 169 rfl) rfl
theorem q3000 : (Jvm.Cond.castable "java/lang/Throwable" "java/lang/Object") ∈ lw_tbl := lw_at lw_m12 213 rfl
theorem in_J14 : ∀ w ∈ wsJ140, w ∈ lw_all := lw_in wsJ140 [726, 728, 730, 732, 734] (by decide +kernel) (by decide +kernel)
/-! java/lang/Exception -/
def RJ15 : String := "java/lang/Exception"
abbrev cJ15_init : ByteArray := prog_29_method_2_code
def yJ15_init : MethodName := ⟨RJ15, "<init>", "(Ljava/lang/String;)V"⟩
abbrev cJ15_init_2 : ByteArray := prog_29_method_1_code
def yJ15_init_2 : MethodName := ⟨RJ15, "<init>", "()V"⟩
abbrev cJ15_init_3 : ByteArray := prog_29_method_5_code
def yJ15_init_3 : MethodName := ⟨RJ15, "<init>", "(Ljava/lang/String;Ljava/lang/Throwable;ZZ)V"⟩
theorem q170 : (Jvm.Cond.initialized "java/lang/Exception") ∈ lw_all := lw_g (lw_at lw_m1 23 rfl) rfl
theorem q719 : (Jvm.Cond.declares ({ cls := "java/lang/Exception", name := "<init>", desc := "()V" } : Jvm.MethodName)) ∈ lw_tbl := lw_at lw_m3 92 rfl
theorem q720 : (Jvm.Cond.declares ({ cls := "java/lang/Exception", name := "<init>", desc := "(Ljava/lang/String;)V" } : Jvm.MethodName)) ∈ lw_tbl := lw_at lw_m3 93 rfl
theorem q843 : (Jvm.Cond.instanceMethod ({ cls := "java/lang/Exception", name := "<init>", desc := "(Ljava/lang/String;)V" } : Jvm.MethodName)) ∈ lw_all := lw_g (lw_at lw_m3 216 rfl) rfl
theorem q844 : (Jvm.Cond.code ({ cls := "java/lang/Exception", name := "<init>", desc := "(Ljava/lang/String;)V" } : Jvm.MethodName) prog_29_method_2_code (2 : Nat) (Option.none : Option Jvm.ClassFile.FieldType)) ∈ lw_all := lw_g (lw_at lw_m3 217 rfl) rfl
theorem q845 : (Jvm.Cond.methodLink "java/lang/Exception" (7 : Nat) ({ cls := "java/lang/Throwable", name := "<init>", desc := "(Ljava/lang/String;)V" } : Jvm.MethodName)) ∈ lw_all := lw_g (lw_at lw_m3 218 rfl) rfl
theorem q1186 : (Jvm.Cond.instanceMethod ({ cls := "java/lang/Exception", name := "<init>", desc := "()V" } : Jvm.MethodName)) ∈ lw_all := lw_g (lw_at lw_m5 79 rfl) rfl
theorem q1187 : (Jvm.Cond.code ({ cls := "java/lang/Exception", name := "<init>", desc := "()V" } : Jvm.MethodName) prog_29_method_1_code (1 : Nat) (Option.none : Option Jvm.ClassFile.FieldType)) ∈ lw_all := lw_g (lw_at lw_m5 80 rfl) rfl
theorem q1188 : (Jvm.Cond.methodLink "java/lang/Exception" (1 : Nat) ({ cls := "java/lang/Throwable", name := "<init>", desc := "()V" } : Jvm.MethodName)) ∈ lw_all := lw_g (lw_at lw_m5 81 rfl) rfl
theorem q1542 : (Jvm.Cond.instanceMethod ({ cls := "java/lang/Exception", name := "<init>", desc := "(Ljava/lang/String;Ljava/lang/Throwable;ZZ)V" } : Jvm.MethodName)) ∈ lw_all := lw_g (lw_at lw_m6 195 rfl) rfl
theorem q1543 : (Jvm.Cond.code ({ cls := "java/lang/Exception", name := "<init>", desc := "(Ljava/lang/String;Ljava/lang/Throwable;ZZ)V" } : Jvm.MethodName) prog_29_method_5_code (5 : Nat) (Option.none : Option Jvm.ClassFile.FieldType)) ∈ lw_all := lw_g (lw_at lw_m6 196 rfl) rfl
theorem q1544 : (Jvm.Cond.methodLink "java/lang/Exception" (16 : Nat) ({ cls := "java/lang/Throwable", name := "<init>", desc := "(Ljava/lang/String;Ljava/lang/Throwable;ZZ)V" } : Jvm.MethodName)) ∈ lw_all := lw_g (lw_at lw_m6 197 rfl) rfl
/-! java/lang/RuntimeException -/
def RJ16 : String := "java/lang/RuntimeException"
abbrev cJ16_init : ByteArray := prog_39_method_2_code
def yJ16_init : MethodName := ⟨RJ16, "<init>", "(Ljava/lang/String;)V"⟩
abbrev cJ16_init_2 : ByteArray := prog_39_method_1_code
def yJ16_init_2 : MethodName := ⟨RJ16, "<init>", "()V"⟩
theorem q171 : (Jvm.Cond.initialized "java/lang/RuntimeException") ∈ lw_all := lw_g (lw_at lw_m1 24 rfl) rfl
theorem q717 : (Jvm.Cond.declares ({ cls := "java/lang/RuntimeException", name := "<init>", desc := "()V" } : Jvm.MethodName)) ∈ lw_tbl := lw_at lw_m3 90 rfl
theorem q718 : (Jvm.Cond.declares ({ cls := "java/lang/RuntimeException", name := "<init>", desc := "(Ljava/lang/String;)V" } : Jvm.MethodName)) ∈ lw_tbl := lw_at lw_m3 91 rfl
theorem q840 : (Jvm.Cond.instanceMethod ({ cls := "java/lang/RuntimeException", name := "<init>", desc := "(Ljava/lang/String;)V" } : Jvm.MethodName)) ∈ lw_all := lw_g (lw_at lw_m3 213 rfl) rfl
theorem q841 : (Jvm.Cond.code ({ cls := "java/lang/RuntimeException", name := "<init>", desc := "(Ljava/lang/String;)V" } : Jvm.MethodName) prog_39_method_2_code (2 : Nat) (Option.none : Option Jvm.ClassFile.FieldType)) ∈ lw_all := lw_g (lw_at lw_m3 214 rfl) rfl
theorem q842 : (Jvm.Cond.methodLink "java/lang/RuntimeException" (7 : Nat) ({ cls := "java/lang/Exception", name := "<init>", desc := "(Ljava/lang/String;)V" } : Jvm.MethodName)) ∈ lw_all := lw_g (lw_at lw_m3 215 rfl) rfl
theorem q1183 : (Jvm.Cond.instanceMethod ({ cls := "java/lang/RuntimeException", name := "<init>", desc := "()V" } : Jvm.MethodName)) ∈ lw_all := lw_g (lw_at lw_m5 76 rfl) rfl
theorem q1184 : (Jvm.Cond.code ({ cls := "java/lang/RuntimeException", name := "<init>", desc := "()V" } : Jvm.MethodName) prog_39_method_1_code (1 : Nat) (Option.none : Option Jvm.ClassFile.FieldType)) ∈ lw_all := lw_g (lw_at lw_m5 77 rfl) rfl
theorem q1185 : (Jvm.Cond.methodLink "java/lang/RuntimeException" (1 : Nat) ({ cls := "java/lang/Exception", name := "<init>", desc := "()V" } : Jvm.MethodName)) ∈ lw_all := lw_g (lw_at lw_m5 78 rfl) rfl
/-! java/lang/IllegalStateException -/
def RJ17 : String := "java/lang/IllegalStateException"
def TJ17 : u_T := fun k => match k with
  | 0 => ("java/lang/Throwable", "cause", "Ljava/lang/Throwable;", false)
  | 1 => ("java/lang/Throwable", "stackTrace", "[Ljava/lang/StackTraceElement;", false)
  | 2 => ("java/lang/Throwable", "suppressedExceptions", "Ljava/util/List;", false)
  | 3 => ("java/lang/Throwable", "detailMessage", "Ljava/lang/String;", false)
  | 4 => ("java/lang/Throwable", "backtrace", "Ljava/lang/Object;", false)
  | _ => ("java/lang/Throwable", "depth", "I", false)
def tyJ17 : Nat → FieldType := fun k => match k with
  | 0 => .object "java/lang/Throwable"
  | 1 => .array (.object "java/lang/StackTraceElement")
  | 2 => .object "java/util/List"
  | 3 => .object "java/lang/String"
  | 4 => .object "java/lang/Object"
  | _ => .int
abbrev wsJ170 : List Cond := u_ws RJ17 TJ17 6
theorem nmJ17 : ∀ a, a < 6 → ∀ b, b < 6 → a ≠ b → (TJ17 a).2.1 ≠ (TJ17 b).2.1 := by decide +kernel
theorem tyJ17_ok : ∀ k, k < 6 → parseFieldDescriptor (TJ17 k).2.2.1 = some (tyJ17 k) := by decide +kernel
abbrev cJ17_init : ByteArray := prog_31_method_1_code
def yJ17_init : MethodName := ⟨RJ17, "<init>", "()V"⟩
abbrev cJ17_init_2 : ByteArray := prog_31_method_2_code
def yJ17_init_2 : MethodName := ⟨RJ17, "<init>", "(Ljava/lang/String;)V"⟩
theorem q172 : (Jvm.Cond.initialized "java/lang/IllegalStateException") ∈ lw_all := lw_g (lw_at lw_m1 25 rfl) rfl
theorem q422 : (Jvm.Cond.selects "java/lang/IllegalStateException" ({ cls := "java/lang/Object", name := "getClass", desc := "()Ljava/lang/Class;" } : Jvm.MethodName) ({ cls := "java/lang/Object", name := "getClass", desc := "()Ljava/lang/Class;" } : Jvm.MethodName)) ∈ lw_all := lw_g (lw_at lw_m2 35 rfl) rfl
theorem q750 : (Jvm.Cond.selects "java/lang/IllegalStateException" ({ cls := "java/lang/Throwable", name := "fillInStackTrace", desc := "()Ljava/lang/Throwable;" } : Jvm.MethodName) ({ cls := "java/lang/Throwable", name := "fillInStackTrace", desc := "()Ljava/lang/Throwable;" } : Jvm.MethodName)) ∈ lw_all := lw_g (lw_at lw_m3 123 rfl) rfl
theorem q1419 : (Jvm.Cond.instantiable "java/lang/IllegalStateException" (6 : Nat)) ∈ lw_all := lw_g (lw_at lw_m6 72 rfl) rfl
theorem q1420 : (Jvm.Cond.castable "java/lang/IllegalStateException" "java/lang/IllegalStateException") ∈ lw_tbl := lw_at lw_m6 73 rfl
theorem q1421 : (Jvm.Cond.selects "java/lang/IllegalStateException" ({ cls := "java/lang/Throwable", name := "fillInStackTrace", desc := "(I)Ljava/lang/Throwable;" } : Jvm.MethodName) ({ cls := "java/lang/Throwable", name := "fillInStackTrace", desc := "(I)Ljava/lang/Throwable;" } : Jvm.MethodName)) ∈ lw_all := lw_g (lw_at lw_m6 74 rfl) rfl
theorem q1422 : (Jvm.Cond.lays "java/lang/IllegalStateException" "java/lang/Throwable" "cause" "Ljava/lang/Throwable;") ∈ lw_all := lw_g (lw_at lw_m6 75 rfl) rfl
theorem q1423 : (Jvm.Cond.lays "java/lang/IllegalStateException" "java/lang/Throwable" "stackTrace" "[Ljava/lang/StackTraceElement;") ∈ lw_all := lw_g (lw_at lw_m6 76 rfl) rfl
theorem q1424 : (Jvm.Cond.lays "java/lang/IllegalStateException" "java/lang/Throwable" "suppressedExceptions" "Ljava/util/List;") ∈ lw_all := lw_g (lw_at lw_m6 77 rfl) rfl
theorem q1425 : (Jvm.Cond.lays "java/lang/IllegalStateException" "java/lang/Throwable" "detailMessage" "Ljava/lang/String;") ∈ lw_all := lw_g (lw_at lw_m6 78 rfl) rfl
theorem q1426 : (Jvm.Cond.lays "java/lang/IllegalStateException" "java/lang/Throwable" "backtrace" "Ljava/lang/Object;") ∈ lw_all := lw_g (lw_at lw_m6 79 rfl) rfl
theorem q1428 : (Jvm.Cond.instanceMethod ({ cls := "java/lang/IllegalStateException", name := "<init>", desc := "()V" } : Jvm.MethodName)) ∈ lw_all := lw_g (lw_at lw_m6 81 rfl) rfl
theorem q1429 : (Jvm.Cond.code ({ cls := "java/lang/IllegalStateException", name := "<init>", desc := "()V" } : Jvm.MethodName) prog_31_method_1_code (1 : Nat) (Option.none : Option Jvm.ClassFile.FieldType)) ∈ lw_all := lw_g (lw_at lw_m6 82 rfl) rfl
theorem q1430 : (Jvm.Cond.methodLink "java/lang/IllegalStateException" (1 : Nat) ({ cls := "java/lang/RuntimeException", name := "<init>", desc := "()V" } : Jvm.MethodName)) ∈ lw_all := lw_g (lw_at lw_m6 83 rfl) rfl
theorem q1431 : (Jvm.Cond.lays "java/lang/IllegalStateException" "java/lang/Throwable" "depth" "I") ∈ lw_all := lw_g (lw_at lw_m6 84 rfl) rfl
theorem q1432 : (Jvm.Cond.superclass "java/lang/IllegalStateException" "java/lang/RuntimeException") ∈ lw_all := lw_g (lw_at lw_m6 85 rfl) rfl
theorem q1906 : (Jvm.Cond.instanceMethod ({ cls := "java/lang/IllegalStateException", name := "<init>", desc := "(Ljava/lang/String;)V" } : Jvm.MethodName)) ∈ lw_all := lw_g (lw_at lw_m8 79 rfl) rfl
theorem q1907 : (Jvm.Cond.code ({ cls := "java/lang/IllegalStateException", name := "<init>", desc := "(Ljava/lang/String;)V" } : Jvm.MethodName) prog_31_method_2_code (2 : Nat) (Option.none : Option Jvm.ClassFile.FieldType)) ∈ lw_all := lw_g (lw_at lw_m8 80 rfl) rfl
theorem q1908 : (Jvm.Cond.methodLink "java/lang/IllegalStateException" (7 : Nat) ({ cls := "java/lang/RuntimeException", name := "<init>", desc := "(Ljava/lang/String;)V" } : Jvm.MethodName)) ∈ lw_all := lw_g (lw_at lw_m8 81 rfl) rfl
theorem q2979 : (Jvm.Cond.castable "java/lang/IllegalStateException" "java/lang/Object") ∈ lw_tbl := lw_at lw_m12 192 rfl
theorem in_J17 : ∀ w ∈ wsJ170, w ∈ lw_all := lw_in wsJ170 [1422, 1423, 1424, 1425, 1426, 1431] (by decide +kernel) (by decide +kernel)
/-! java/lang/IllegalArgumentException -/
def RJ18 : String := "java/lang/IllegalArgumentException"
def TJ18 : u_T := fun k => match k with
  | 0 => ("java/lang/Throwable", "cause", "Ljava/lang/Throwable;", false)
  | 1 => ("java/lang/Throwable", "stackTrace", "[Ljava/lang/StackTraceElement;", false)
  | 2 => ("java/lang/Throwable", "suppressedExceptions", "Ljava/util/List;", false)
  | 3 => ("java/lang/Throwable", "detailMessage", "Ljava/lang/String;", false)
  | 4 => ("java/lang/Throwable", "backtrace", "Ljava/lang/Object;", false)
  | _ => ("java/lang/Throwable", "depth", "I", false)
def tyJ18 : Nat → FieldType := fun k => match k with
  | 0 => .object "java/lang/Throwable"
  | 1 => .array (.object "java/lang/StackTraceElement")
  | 2 => .object "java/util/List"
  | 3 => .object "java/lang/String"
  | 4 => .object "java/lang/Object"
  | _ => .int
abbrev wsJ180 : List Cond := u_ws RJ18 TJ18 6
theorem nmJ18 : ∀ a, a < 6 → ∀ b, b < 6 → a ≠ b → (TJ18 a).2.1 ≠ (TJ18 b).2.1 := by decide +kernel
theorem tyJ18_ok : ∀ k, k < 6 → parseFieldDescriptor (TJ18 k).2.2.1 = some (tyJ18 k) := by decide +kernel
abbrev cJ18_init : ByteArray := prog_30_method_2_code
def yJ18_init : MethodName := ⟨RJ18, "<init>", "(Ljava/lang/String;)V"⟩
abbrev cJ18_init_2 : ByteArray := prog_30_method_1_code
def yJ18_init_2 : MethodName := ⟨RJ18, "<init>", "()V"⟩
theorem q173 : (Jvm.Cond.initialized "java/lang/IllegalArgumentException") ∈ lw_all := lw_g (lw_at lw_m1 26 rfl) rfl
theorem q421 : (Jvm.Cond.selects "java/lang/IllegalArgumentException" ({ cls := "java/lang/Object", name := "getClass", desc := "()Ljava/lang/Class;" } : Jvm.MethodName) ({ cls := "java/lang/Object", name := "getClass", desc := "()Ljava/lang/Class;" } : Jvm.MethodName)) ∈ lw_all := lw_g (lw_at lw_m2 34 rfl) rfl
theorem q715 : (Jvm.Cond.instantiable "java/lang/IllegalArgumentException" (6 : Nat)) ∈ lw_all := lw_g (lw_at lw_m3 88 rfl) rfl
theorem q716 : (Jvm.Cond.castable "java/lang/IllegalArgumentException" "java/lang/IllegalArgumentException") ∈ lw_tbl := lw_at lw_m3 89 rfl
theorem q723 : (Jvm.Cond.selects "java/lang/IllegalArgumentException" ({ cls := "java/lang/Throwable", name := "fillInStackTrace", desc := "(I)Ljava/lang/Throwable;" } : Jvm.MethodName) ({ cls := "java/lang/Throwable", name := "fillInStackTrace", desc := "(I)Ljava/lang/Throwable;" } : Jvm.MethodName)) ∈ lw_all := lw_g (lw_at lw_m3 96 rfl) rfl
theorem q724 : (Jvm.Cond.selects "java/lang/IllegalArgumentException" ({ cls := "java/lang/Throwable", name := "fillInStackTrace", desc := "()Ljava/lang/Throwable;" } : Jvm.MethodName) ({ cls := "java/lang/Throwable", name := "fillInStackTrace", desc := "()Ljava/lang/Throwable;" } : Jvm.MethodName)) ∈ lw_all := lw_g (lw_at lw_m3 97 rfl) rfl
theorem q725 : (Jvm.Cond.lays "java/lang/IllegalArgumentException" "java/lang/Throwable" "cause" "Ljava/lang/Throwable;") ∈ lw_all := lw_g (lw_at lw_m3 98 rfl) rfl
theorem q727 : (Jvm.Cond.lays "java/lang/IllegalArgumentException" "java/lang/Throwable" "stackTrace" "[Ljava/lang/StackTraceElement;") ∈ lw_all := lw_g (lw_at lw_m3 100 rfl) rfl
theorem q729 : (Jvm.Cond.lays "java/lang/IllegalArgumentException" "java/lang/Throwable" "suppressedExceptions" "Ljava/util/List;") ∈ lw_all := lw_g (lw_at lw_m3 102 rfl) rfl
theorem q731 : (Jvm.Cond.lays "java/lang/IllegalArgumentException" "java/lang/Throwable" "detailMessage" "Ljava/lang/String;") ∈ lw_all := lw_g (lw_at lw_m3 104 rfl) rfl
theorem q733 : (Jvm.Cond.lays "java/lang/IllegalArgumentException" "java/lang/Throwable" "backtrace" "Ljava/lang/Object;") ∈ lw_all := lw_g (lw_at lw_m3 106 rfl) rfl
theorem q837 : (Jvm.Cond.instanceMethod ({ cls := "java/lang/IllegalArgumentException", name := "<init>", desc := "(Ljava/lang/String;)V" } : Jvm.MethodName)) ∈ lw_all := lw_g (lw_at lw_m3 210 rfl) rfl
theorem q838 : (Jvm.Cond.code ({ cls := "java/lang/IllegalArgumentException", name := "<init>", desc := "(Ljava/lang/String;)V" } : Jvm.MethodName) prog_30_method_2_code (2 : Nat) (Option.none : Option Jvm.ClassFile.FieldType)) ∈ lw_all := lw_g (lw_at lw_m3 211 rfl) rfl
theorem q839 : (Jvm.Cond.methodLink "java/lang/IllegalArgumentException" (7 : Nat) ({ cls := "java/lang/RuntimeException", name := "<init>", desc := "(Ljava/lang/String;)V" } : Jvm.MethodName)) ∈ lw_all := lw_g (lw_at lw_m3 212 rfl) rfl
theorem q857 : (Jvm.Cond.lays "java/lang/IllegalArgumentException" "java/lang/Throwable" "depth" "I") ∈ lw_all := lw_g (lw_at lw_m3 230 rfl) rfl
theorem q860 : (Jvm.Cond.superclass "java/lang/IllegalArgumentException" "java/lang/RuntimeException") ∈ lw_all := lw_g (lw_at lw_m3 233 rfl) rfl
theorem q1450 : (Jvm.Cond.instanceMethod ({ cls := "java/lang/IllegalArgumentException", name := "<init>", desc := "()V" } : Jvm.MethodName)) ∈ lw_all := lw_g (lw_at lw_m6 103 rfl) rfl
theorem q1451 : (Jvm.Cond.code ({ cls := "java/lang/IllegalArgumentException", name := "<init>", desc := "()V" } : Jvm.MethodName) prog_30_method_1_code (1 : Nat) (Option.none : Option Jvm.ClassFile.FieldType)) ∈ lw_all := lw_g (lw_at lw_m6 104 rfl) rfl
theorem q1452 : (Jvm.Cond.methodLink "java/lang/IllegalArgumentException" (1 : Nat) ({ cls := "java/lang/RuntimeException", name := "<init>", desc := "()V" } : Jvm.MethodName)) ∈ lw_all := lw_g (lw_at lw_m6 105 rfl) rfl
theorem q2980 : (Jvm.Cond.castable "java/lang/IllegalArgumentException" "java/lang/Object") ∈ lw_tbl := lw_at lw_m12 193 rfl
theorem in_J18 : ∀ w ∈ wsJ180, w ∈ lw_all := lw_in wsJ180 [725, 727, 729, 731, 733, 857] (by decide +kernel) (by decide +kernel)
/-! LawnPaths$TextReader -/
def RX7 : String := "LawnPaths$TextReader"
def TX7 : u_T := fun k => match k with
  | 0 => ("LawnPaths$TextReader", "size", "I", true)
  | 1 => ("LawnPaths$TextReader", "at", "I", false)
  | 2 => ("LawnPaths$TextReader", "from", "I", false)
  | 3 => ("LawnPaths$TextReader", "value", "I", false)
  | 4 => ("LawnPaths$TextReader", "word", "Ljava/lang/String;", false)
  | 5 => ("LawnPaths$TextReader", "token", "LLawnPaths$Token;", false)
  | _ => ("LawnPaths$TextReader", "this$0", "LLawnPaths;", true)
def tyX7 : Nat → FieldType := fun k => match k with
  | 0 => .int
  | 1 => .int
  | 2 => .int
  | 3 => .int
  | 4 => .object "java/lang/String"
  | 5 => .object "LawnPaths$Token"
  | _ => .object "LawnPaths"
abbrev wsX70 : List Cond := u_ws RX7 TX7 7
theorem nmX7 : ∀ a, a < 7 → ∀ b, b < 7 → a ≠ b → (TX7 a).2.1 ≠ (TX7 b).2.1 := by decide +kernel
theorem tyX7_ok : ∀ k, k < 7 → parseFieldDescriptor (TX7 k).2.2.1 = some (tyX7 k) := by decide +kernel
abbrev cX7_init : ByteArray := prog_14_method_1_code
def yX7_init : MethodName := ⟨RX7, "<init>", "(LLawnPaths;)V"⟩
abbrev cX7_next : ByteArray := prog_14_method_4_code
def yX7_next : MethodName := ⟨RX7, "next", "()V"⟩
abbrev cX7_see : ByteArray := prog_14_method_2_code
def yX7_see : MethodName := ⟨RX7, "see", "(I)I"⟩
abbrev cX7_description : ByteArray := prog_14_method_14_code
def yX7_description : MethodName := ⟨RX7, "description", "()LLawnPaths$Lawn;"⟩
abbrev cX7_opens : ByteArray := prog_14_method_13_code
def yX7_opens : MethodName := ⟨RX7, "opens", "(Ljava/lang/String;II)V"⟩
abbrev cX7_need : ByteArray := prog_14_method_5_code
def yX7_need : MethodName := ⟨RX7, "need", "(ZI)V"⟩
abbrev cX7_number : ByteArray := prog_14_method_7_code
def yX7_number : MethodName := ⟨RX7, "number", "(II)I"⟩
abbrev cX7_seen : ByteArray := prog_14_method_6_code
def yX7_seen : MethodName := ⟨RX7, "seen", "(II)I"⟩
abbrev cX7_sign : ByteArray := prog_14_method_9_code
def yX7_sign : MethodName := ⟨RX7, "sign", "()V"⟩
abbrev cX7_goesOn : ByteArray := prog_14_method_8_code
def yX7_goesOn : MethodName := ⟨RX7, "goesOn", "()Z"⟩
abbrev cX7_isSign : ByteArray := prog_14_method_3_code
def yX7_isSign : MethodName := ⟨RX7, "isSign", "(I)Z"⟩
abbrev cX7_newGate : ByteArray := prog_14_method_16_code
def yX7_newGate : MethodName := ⟨RX7, "newGate", "(LLawnPaths$Lawn;)V"⟩
abbrev cX7_newName : ByteArray := prog_14_method_12_code
def yX7_newName : MethodName := ⟨RX7, "newName", "(LLawnPaths$Row;)Ljava/lang/String;"⟩
abbrev cX7_nameSeen : ByteArray := prog_14_method_10_code
def yX7_nameSeen : MethodName := ⟨RX7, "nameSeen", "()Ljava/lang/String;"⟩
abbrev cX7_cell : ByteArray := prog_14_method_15_code
def yX7_cell : MethodName := ⟨RX7, "cell", "(LLawnPaths$Lawn;)I"⟩
abbrev cX7_newWalker : ByteArray := prog_14_method_17_code
def yX7_newWalker : MethodName := ⟨RX7, "newWalker", "(LLawnPaths$Lawn;)V"⟩
abbrev cX7_found : ByteArray := prog_14_method_11_code
def yX7_found : MethodName := ⟨RX7, "found", "(LLawnPaths$Row;I)I"⟩
abbrev cX7_newThing : ByteArray := prog_14_method_18_code
def yX7_newThing : MethodName := ⟨RX7, "newThing", "(LLawnPaths$Lawn;)V"⟩
abbrev cX7_orders : ByteArray := prog_14_method_19_code
def yX7_orders : MethodName := ⟨RX7, "orders", "()[LLawnPaths$Change;"⟩
abbrev cX7_change : ByteArray := prog_14_method_20_code
def yX7_change : MethodName := ⟨RX7, "change", "()LLawnPaths$Change;"⟩
abbrev cX7_running : ByteArray := prog_14_method_21_code
def yX7_running : MethodName := ⟨RX7, "running", "(I)LLawnPaths$Change;"⟩
abbrev cX7_lambda_running_0 : ByteArray := prog_14_method_32_code
def yX7_lambda_running_0 : MethodName := ⟨RX7, "lambda$running$0", "(ILLawnPaths$Lawn;)I"⟩
abbrev cX7_hastening : ByteArray := prog_14_method_22_code
def yX7_hastening : MethodName := ⟨RX7, "hastening", "(I)LLawnPaths$Change;"⟩
abbrev cX7_lambda_hastening_1 : ByteArray := prog_14_method_31_code
def yX7_lambda_hastening_1 : MethodName := ⟨RX7, "lambda$hastening$1", "(IILLawnPaths$Lawn;)I"⟩
abbrev cX7_turning : ByteArray := prog_14_method_23_code
def yX7_turning : MethodName := ⟨RX7, "turning", "(I)LLawnPaths$Change;"⟩
abbrev cX7_lambda_turning_2 : ByteArray := prog_14_method_30_code
def yX7_lambda_turning_2 : MethodName := ⟨RX7, "lambda$turning$2", "(ILLawnPaths$Lawn;)I"⟩
abbrev cX7_atCell : ByteArray := prog_14_method_24_code
def yX7_atCell : MethodName := ⟨RX7, "atCell", "(Ljava/lang/String;II)LLawnPaths$Change;"⟩
abbrev cX7_lambda_atCell_3 : ByteArray := prog_14_method_29_code
def yX7_lambda_atCell_3 : MethodName := ⟨RX7, "lambda$atCell$3", "(LLawnPaths$Lawn;)I"⟩
abbrev cX7_lambda_atCell_4 : ByteArray := prog_14_method_28_code
def yX7_lambda_atCell_4 : MethodName := ⟨RX7, "lambda$atCell$4", "(ILLawnPaths$Lawn;)I"⟩
abbrev cX7_lambda_atCell_5 : ByteArray := prog_14_method_27_code
def yX7_lambda_atCell_5 : MethodName := ⟨RX7, "lambda$atCell$5", "(ILLawnPaths$Lawn;)I"⟩
abbrev cX7_lambda_atCell_6 : ByteArray := prog_14_method_26_code
def yX7_lambda_atCell_6 : MethodName := ⟨RX7, "lambda$atCell$6", "(ILLawnPaths$Lawn;)I"⟩
abbrev cX7_lambda_atCell_7 : ByteArray := prog_14_method_25_code
def yX7_lambda_atCell_7 : MethodName := ⟨RX7, "lambda$atCell$7", "(ILLawnPaths$Lawn;)I"⟩
theorem q174 : (Jvm.Cond.initialized "LawnPaths$TextReader") ∈ lw_all := lw_g (lw_at lw_m1 27 rfl) rfl
theorem q253 : (Jvm.Cond.fieldLinkNest "LawnPaths$TextReader" (159 : Nat) "LawnPaths$Lawn" "wide" "I" "LawnPaths") ∈ lw_tbl := lw_at lw_m1 106 rfl
theorem q256 : (Jvm.Cond.fieldLinkNest "LawnPaths$TextReader" (162 : Nat) "LawnPaths$Lawn" "high" "I" "LawnPaths") ∈ lw_tbl := lw_at lw_m1 109 rfl
theorem q268 : (Jvm.Cond.fieldLinkNest "LawnPaths$TextReader" (224 : Nat) "LawnPaths$Lawn" "grass" "[I" "LawnPaths") ∈ lw_tbl := lw_at lw_m1 121 rfl
theorem q278 : (Jvm.Cond.fieldLinkNest "LawnPaths$TextReader" (211 : Nat) "LawnPaths$Lawn" "fences" "[Z" "LawnPaths") ∈ lw_tbl := lw_at lw_m1 131 rfl
theorem q281 : (Jvm.Cond.fieldLinkNest "LawnPaths$TextReader" (165 : Nat) "LawnPaths$Lawn" "gates" "LLawnPaths$Row;" "LawnPaths") ∈ lw_tbl := lw_at lw_m1 134 rfl
theorem q285 : (Jvm.Cond.fieldLinkNest "LawnPaths$TextReader" (186 : Nat) "LawnPaths$Lawn" "walkers" "LLawnPaths$Row;" "LawnPaths") ∈ lw_tbl := lw_at lw_m1 138 rfl
theorem q289 : (Jvm.Cond.fieldLinkNest "LawnPaths$TextReader" (221 : Nat) "LawnPaths$Lawn" "first" "I" "LawnPaths") ∈ lw_tbl := lw_at lw_m1 142 rfl
theorem q414 : (Jvm.Cond.selects "LawnPaths$TextReader" ({ cls := "java/lang/Object", name := "getClass", desc := "()Ljava/lang/Class;" } : Jvm.MethodName) ({ cls := "java/lang/Object", name := "getClass", desc := "()Ljava/lang/Class;" } : Jvm.MethodName)) ∈ lw_all := lw_g (lw_at lw_m2 27 rfl) rfl
theorem q554 : (Jvm.Cond.fieldLinkNest "LawnPaths$TextReader" (250 : Nat) "LawnPaths" "now" "LLawnPaths$Lawn;" "LawnPaths") ∈ lw_tbl := lw_at lw_m2 167 rfl
theorem q557 : (Jvm.Cond.fieldLinkNest "LawnPaths$TextReader" (31 : Nat) "LawnPaths" "buffer" "[B" "LawnPaths") ∈ lw_tbl := lw_at lw_m2 170 rfl
theorem q559 : (Jvm.Cond.fieldLinkNest "LawnPaths$TextReader" (15 : Nat) "LawnPaths" "length" "I" "LawnPaths") ∈ lw_tbl := lw_at lw_m2 172 rfl
theorem q1462 : (Jvm.Cond.instantiable "LawnPaths$TextReader" (7 : Nat)) ∈ lw_all := lw_g (lw_at lw_m6 115 rfl) rfl
theorem q1464 : (Jvm.Cond.instanceMethod ({ cls := "LawnPaths$TextReader", name := "<init>", desc := "(LLawnPaths;)V" } : Jvm.MethodName)) ∈ lw_all := lw_g (lw_at lw_m6 117 rfl) rfl
theorem q1465 : (Jvm.Cond.code ({ cls := "LawnPaths$TextReader", name := "<init>", desc := "(LLawnPaths;)V" } : Jvm.MethodName) prog_14_method_1_code (2 : Nat) (Option.none : Option Jvm.ClassFile.FieldType)) ∈ lw_all := lw_g (lw_at lw_m6 118 rfl) rfl
theorem q1466 : (Jvm.Cond.methodLink "LawnPaths$TextReader" (9 : Nat) ({ cls := "java/lang/Object", name := "<init>", desc := "()V" } : Jvm.MethodName)) ∈ lw_all := lw_g (lw_at lw_m6 119 rfl) rfl
theorem q1467 : (Jvm.Cond.stringRef "LawnPaths$TextReader" (22 : Nat) "") ∈ lw_tbl := lw_at lw_m6 120 rfl
theorem q1468 : (Jvm.Cond.methodLink "LawnPaths$TextReader" (28 : Nat) ({ cls := "LawnPaths$TextReader", name := "next", desc := "()V" } : Jvm.MethodName)) ∈ lw_all := lw_g (lw_at lw_m6 121 rfl) rfl
theorem q1469 : (Jvm.Cond.instanceMethod ({ cls := "LawnPaths$TextReader", name := "next", desc := "()V" } : Jvm.MethodName)) ∈ lw_all := lw_g (lw_at lw_m6 122 rfl) rfl
theorem q1470 : (Jvm.Cond.selects "LawnPaths$TextReader" ({ cls := "LawnPaths$TextReader", name := "next", desc := "()V" } : Jvm.MethodName) ({ cls := "LawnPaths$TextReader", name := "next", desc := "()V" } : Jvm.MethodName)) ∈ lw_all := lw_g (lw_at lw_m6 123 rfl) rfl
theorem q1471 : (Jvm.Cond.code ({ cls := "LawnPaths$TextReader", name := "next", desc := "()V" } : Jvm.MethodName) prog_14_method_4_code (3 : Nat) (Option.none : Option Jvm.ClassFile.FieldType)) ∈ lw_all := lw_g (lw_at lw_m6 124 rfl) rfl
theorem q1472 : (Jvm.Cond.methodLink "LawnPaths$TextReader" (47 : Nat) ({ cls := "LawnPaths$TextReader", name := "see", desc := "(I)I" } : Jvm.MethodName)) ∈ lw_all := lw_g (lw_at lw_m6 125 rfl) rfl
theorem q1473 : (Jvm.Cond.privateMethod ({ cls := "LawnPaths$TextReader", name := "see", desc := "(I)I" } : Jvm.MethodName)) ∈ lw_tbl := lw_at lw_m6 126 rfl
theorem q1474 : (Jvm.Cond.instanceMethod ({ cls := "LawnPaths$TextReader", name := "see", desc := "(I)I" } : Jvm.MethodName)) ∈ lw_all := lw_g (lw_at lw_m6 127 rfl) rfl
theorem q1475 : (Jvm.Cond.code ({ cls := "LawnPaths$TextReader", name := "see", desc := "(I)I" } : Jvm.MethodName) prog_14_method_2_code (2 : Nat) (Option.some Jvm.ClassFile.FieldType.int)) ∈ lw_all := lw_g (lw_at lw_m6 128 rfl) rfl
theorem q1476 : (Jvm.Cond.fieldLink "LawnPaths$TextReader" (54 : Nat) "LawnPaths$Token" "END" "LLawnPaths$Token;") ∈ lw_all := lw_g (lw_at lw_m6 129 rfl) rfl
theorem q1478 : (Jvm.Cond.constantLong "LawnPaths$TextReader" (57 : Nat) (97 : Int64)) ∈ lw_all := lw_g (lw_at lw_m6 131 rfl) rfl
theorem q1479 : (Jvm.Cond.constantLong "LawnPaths$TextReader" (59 : Nat) (122 : Int64)) ∈ lw_all := lw_g (lw_at lw_m6 132 rfl) rfl
theorem q1480 : (Jvm.Cond.methodLinkNest "LawnPaths$TextReader" (61 : Nat) ({ cls := "LawnPaths", name := "in", desc := "(JJJ)Z" } : Jvm.MethodName) "LawnPaths") ∈ lw_tbl := lw_at lw_m6 133 rfl
theorem q1481 : (Jvm.Cond.fieldLink "LawnPaths$TextReader" (65 : Nat) "LawnPaths$Token" "WORD" "LLawnPaths$Token;") ∈ lw_all := lw_g (lw_at lw_m6 134 rfl) rfl
theorem q1483 : (Jvm.Cond.classLink "LawnPaths$TextReader" (68 : Nat) "java/lang/StringBuilder") ∈ lw_all := lw_g (lw_at lw_m6 136 rfl) rfl
theorem q1484 : (Jvm.Cond.methodLink "LawnPaths$TextReader" (70 : Nat) ({ cls := "java/lang/StringBuilder", name := "<init>", desc := "()V" } : Jvm.MethodName)) ∈ lw_all := lw_g (lw_at lw_m6 137 rfl) rfl
theorem q1485 : (Jvm.Cond.methodLink "LawnPaths$TextReader" (71 : Nat) ({ cls := "java/lang/StringBuilder", name := "append", desc := "(C)Ljava/lang/StringBuilder;" } : Jvm.MethodName)) ∈ lw_all := lw_g (lw_at lw_m6 138 rfl) rfl
theorem q1486 : (Jvm.Cond.methodLink "LawnPaths$TextReader" (75 : Nat) ({ cls := "java/lang/StringBuilder", name := "toString", desc := "()Ljava/lang/String;" } : Jvm.MethodName)) ∈ lw_all := lw_g (lw_at lw_m6 139 rfl) rfl
theorem q1487 : (Jvm.Cond.constantLong "LawnPaths$TextReader" (79 : Nat) (48 : Int64)) ∈ lw_all := lw_g (lw_at lw_m6 140 rfl) rfl
theorem q1488 : (Jvm.Cond.constantLong "LawnPaths$TextReader" (81 : Nat) (57 : Int64)) ∈ lw_all := lw_g (lw_at lw_m6 141 rfl) rfl
theorem q1489 : (Jvm.Cond.fieldLink "LawnPaths$TextReader" (83 : Nat) "LawnPaths$Token" "NUMBER" "LLawnPaths$Token;") ∈ lw_all := lw_g (lw_at lw_m6 142 rfl) rfl
theorem q1491 : (Jvm.Cond.fieldLink "LawnPaths$TextReader" (39 : Nat) "LawnPaths$Token" "SIGN" "LLawnPaths$Token;") ∈ lw_all := lw_g (lw_at lw_m6 144 rfl) rfl
theorem q1493 : (Jvm.Cond.fieldLink "LawnPaths$TextReader" (19 : Nat) "LawnPaths$TextReader" "size" "I") ∈ lw_all := lw_g (lw_at lw_m6 146 rfl) rfl
theorem q1494 : (Jvm.Cond.fieldLink "LawnPaths$TextReader" (51 : Nat) "LawnPaths$TextReader" "at" "I") ∈ lw_all := lw_g (lw_at lw_m6 147 rfl) rfl
theorem q1495 : (Jvm.Cond.fieldLink "LawnPaths$TextReader" (44 : Nat) "LawnPaths$TextReader" "from" "I") ∈ lw_all := lw_g (lw_at lw_m6 148 rfl) rfl
theorem q1496 : (Jvm.Cond.fieldLink "LawnPaths$TextReader" (86 : Nat) "LawnPaths$TextReader" "value" "I") ∈ lw_all := lw_g (lw_at lw_m6 149 rfl) rfl
theorem q1497 : (Jvm.Cond.fieldLink "LawnPaths$TextReader" (24 : Nat) "LawnPaths$TextReader" "word" "Ljava/lang/String;") ∈ lw_all := lw_g (lw_at lw_m6 150 rfl) rfl
theorem q1498 : (Jvm.Cond.fieldLink "LawnPaths$TextReader" (35 : Nat) "LawnPaths$TextReader" "token" "LLawnPaths$Token;") ∈ lw_all := lw_g (lw_at lw_m6 151 rfl) rfl
theorem q1499 : (Jvm.Cond.fieldLink "LawnPaths$TextReader" (3 : Nat) "LawnPaths$TextReader" "this$0" "LLawnPaths;") ∈ lw_all := lw_g (lw_at lw_m6 152 rfl) rfl
theorem q1500 : (Jvm.Cond.laysFinal "LawnPaths$TextReader" "LawnPaths$TextReader" "size" "I") ∈ lw_all := lw_g (lw_at lw_m6 153 rfl) rfl
theorem q1501 : (Jvm.Cond.soleField "LawnPaths$TextReader" "size") ∈ lw_all := lw_g (lw_at lw_m6 154 rfl) rfl
theorem q1502 : (Jvm.Cond.lays "LawnPaths$TextReader" "LawnPaths$TextReader" "at" "I") ∈ lw_all := lw_g (lw_at lw_m6 155 rfl) rfl
theorem q1503 : (Jvm.Cond.soleField "LawnPaths$TextReader" "at") ∈ lw_all := lw_g (lw_at lw_m6 156 rfl) rfl
theorem q1504 : (Jvm.Cond.lays "LawnPaths$TextReader" "LawnPaths$TextReader" "from" "I") ∈ lw_all := lw_g (lw_at lw_m6 157 rfl) rfl
theorem q1505 : (Jvm.Cond.soleField "LawnPaths$TextReader" "from") ∈ lw_all := lw_g (lw_at lw_m6 158 rfl) rfl
theorem q1506 : (Jvm.Cond.lays "LawnPaths$TextReader" "LawnPaths$TextReader" "value" "I") ∈ lw_all := lw_g (lw_at lw_m6 159 rfl) rfl
theorem q1507 : (Jvm.Cond.soleField "LawnPaths$TextReader" "value") ∈ lw_all := lw_g (lw_at lw_m6 160 rfl) rfl
theorem q1508 : (Jvm.Cond.lays "LawnPaths$TextReader" "LawnPaths$TextReader" "word" "Ljava/lang/String;") ∈ lw_all := lw_g (lw_at lw_m6 161 rfl) rfl
theorem q1509 : (Jvm.Cond.soleField "LawnPaths$TextReader" "word") ∈ lw_all := lw_g (lw_at lw_m6 162 rfl) rfl
theorem q1510 : (Jvm.Cond.lays "LawnPaths$TextReader" "LawnPaths$TextReader" "token" "LLawnPaths$Token;") ∈ lw_all := lw_g (lw_at lw_m6 163 rfl) rfl
theorem q1511 : (Jvm.Cond.soleField "LawnPaths$TextReader" "token") ∈ lw_all := lw_g (lw_at lw_m6 164 rfl) rfl
theorem q1512 : (Jvm.Cond.laysFinal "LawnPaths$TextReader" "LawnPaths$TextReader" "this$0" "LLawnPaths;") ∈ lw_all := lw_g (lw_at lw_m6 165 rfl) rfl
theorem q1513 : (Jvm.Cond.soleField "LawnPaths$TextReader" "this$0") ∈ lw_all := lw_g (lw_at lw_m6 166 rfl) rfl
theorem q1514 : (Jvm.Cond.superclass "LawnPaths$TextReader" "java/lang/Object") ∈ lw_all := lw_g (lw_at lw_m6 167 rfl) rfl
theorem q1516 : (Jvm.Cond.instanceMethod ({ cls := "LawnPaths$TextReader", name := "description", desc := "()LLawnPaths$Lawn;" } : Jvm.MethodName)) ∈ lw_all := lw_g (lw_at lw_m6 169 rfl) rfl
theorem q1517 : (Jvm.Cond.selects "LawnPaths$TextReader" ({ cls := "LawnPaths$TextReader", name := "description", desc := "()LLawnPaths$Lawn;" } : Jvm.MethodName) ({ cls := "LawnPaths$TextReader", name := "description", desc := "()LLawnPaths$Lawn;" } : Jvm.MethodName)) ∈ lw_all := lw_g (lw_at lw_m6 170 rfl) rfl
theorem q1518 : (Jvm.Cond.code ({ cls := "LawnPaths$TextReader", name := "description", desc := "()LLawnPaths$Lawn;" } : Jvm.MethodName) prog_14_method_14_code (6 : Nat) (Option.some (Jvm.ClassFile.FieldType.object "LawnPaths$Lawn"))) ∈ lw_all := lw_g (lw_at lw_m6 171 rfl) rfl
theorem q1519 : (Jvm.Cond.stringRef "LawnPaths$TextReader" (128 : Nat) "lawn") ∈ lw_tbl := lw_at lw_m6 172 rfl
theorem q1520 : (Jvm.Cond.methodLink "LawnPaths$TextReader" (130 : Nat) ({ cls := "LawnPaths$TextReader", name := "opens", desc := "(Ljava/lang/String;II)V" } : Jvm.MethodName)) ∈ lw_all := lw_g (lw_at lw_m6 173 rfl) rfl
theorem q1521 : (Jvm.Cond.privateMethod ({ cls := "LawnPaths$TextReader", name := "opens", desc := "(Ljava/lang/String;II)V" } : Jvm.MethodName)) ∈ lw_tbl := lw_at lw_m6 174 rfl
theorem q1522 : (Jvm.Cond.instanceMethod ({ cls := "LawnPaths$TextReader", name := "opens", desc := "(Ljava/lang/String;II)V" } : Jvm.MethodName)) ∈ lw_all := lw_g (lw_at lw_m6 175 rfl) rfl
theorem q1523 : (Jvm.Cond.code ({ cls := "LawnPaths$TextReader", name := "opens", desc := "(Ljava/lang/String;II)V" } : Jvm.MethodName) prog_14_method_13_code (4 : Nat) (Option.none : Option Jvm.ClassFile.FieldType)) ∈ lw_all := lw_g (lw_at lw_m6 176 rfl) rfl
theorem q1524 : (Jvm.Cond.methodLink "LawnPaths$TextReader" (124 : Nat) ({ cls := "java/lang/String", name := "equals", desc := "(Ljava/lang/Object;)Z" } : Jvm.MethodName)) ∈ lw_all := lw_g (lw_at lw_m6 177 rfl) rfl
theorem q1525 : (Jvm.Cond.methodLink "LawnPaths$TextReader" (94 : Nat) ({ cls := "LawnPaths$TextReader", name := "need", desc := "(ZI)V" } : Jvm.MethodName)) ∈ lw_all := lw_g (lw_at lw_m6 178 rfl) rfl
theorem q1526 : (Jvm.Cond.privateMethod ({ cls := "LawnPaths$TextReader", name := "need", desc := "(ZI)V" } : Jvm.MethodName)) ∈ lw_tbl := lw_at lw_m6 179 rfl
theorem q1527 : (Jvm.Cond.instanceMethod ({ cls := "LawnPaths$TextReader", name := "need", desc := "(ZI)V" } : Jvm.MethodName)) ∈ lw_all := lw_g (lw_at lw_m6 180 rfl) rfl
theorem q1528 : (Jvm.Cond.code ({ cls := "LawnPaths$TextReader", name := "need", desc := "(ZI)V" } : Jvm.MethodName) prog_14_method_5_code (3 : Nat) (Option.none : Option Jvm.ClassFile.FieldType)) ∈ lw_all := lw_g (lw_at lw_m6 181 rfl) rfl
theorem q1529 : (Jvm.Cond.classLink "LawnPaths$TextReader" (89 : Nat) "LawnPaths$Unreadable") ∈ lw_all := lw_g (lw_at lw_m6 182 rfl) rfl
theorem q1538 : (Jvm.Cond.methodLink "LawnPaths$TextReader" (91 : Nat) ({ cls := "LawnPaths$Unreadable", name := "<init>", desc := "(II)V" } : Jvm.MethodName)) ∈ lw_all := lw_g (lw_at lw_m6 191 rfl) rfl
theorem q1557 : (Jvm.Cond.methodLink "LawnPaths$TextReader" (134 : Nat) ({ cls := "LawnPaths$TextReader", name := "number", desc := "(II)I" } : Jvm.MethodName)) ∈ lw_all := lw_g (lw_at lw_m6 210 rfl) rfl
theorem q1558 : (Jvm.Cond.privateMethod ({ cls := "LawnPaths$TextReader", name := "number", desc := "(II)I" } : Jvm.MethodName)) ∈ lw_tbl := lw_at lw_m6 211 rfl
theorem q1559 : (Jvm.Cond.instanceMethod ({ cls := "LawnPaths$TextReader", name := "number", desc := "(II)I" } : Jvm.MethodName)) ∈ lw_all := lw_g (lw_at lw_m6 212 rfl) rfl
theorem q1560 : (Jvm.Cond.code ({ cls := "LawnPaths$TextReader", name := "number", desc := "(II)I" } : Jvm.MethodName) prog_14_method_7_code (4 : Nat) (Option.some Jvm.ClassFile.FieldType.int)) ∈ lw_all := lw_g (lw_at lw_m6 213 rfl) rfl
theorem q1561 : (Jvm.Cond.methodLink "LawnPaths$TextReader" (98 : Nat) ({ cls := "LawnPaths$TextReader", name := "seen", desc := "(II)I" } : Jvm.MethodName)) ∈ lw_all := lw_g (lw_at lw_m6 214 rfl) rfl
theorem q1562 : (Jvm.Cond.privateMethod ({ cls := "LawnPaths$TextReader", name := "seen", desc := "(II)I" } : Jvm.MethodName)) ∈ lw_tbl := lw_at lw_m6 215 rfl
theorem q1563 : (Jvm.Cond.instanceMethod ({ cls := "LawnPaths$TextReader", name := "seen", desc := "(II)I" } : Jvm.MethodName)) ∈ lw_all := lw_g (lw_at lw_m6 216 rfl) rfl
theorem q1564 : (Jvm.Cond.code ({ cls := "LawnPaths$TextReader", name := "seen", desc := "(II)I" } : Jvm.MethodName) prog_14_method_6_code (3 : Nat) (Option.some Jvm.ClassFile.FieldType.int)) ∈ lw_all := lw_g (lw_at lw_m6 217 rfl) rfl
theorem q1565 : (Jvm.Cond.classLink "LawnPaths$TextReader" (137 : Nat) "LawnPaths$Lawn") ∈ lw_all := lw_g (lw_at lw_m6 218 rfl) rfl
theorem q1566 : (Jvm.Cond.methodLink "LawnPaths$TextReader" (139 : Nat) ({ cls := "LawnPaths$Lawn", name := "<init>", desc := "(IIII)V" } : Jvm.MethodName)) ∈ lw_all := lw_g (lw_at lw_m6 219 rfl) rfl
theorem q1567 : (Jvm.Cond.methodLink "LawnPaths$TextReader" (142 : Nat) ({ cls := "LawnPaths$TextReader", name := "sign", desc := "()V" } : Jvm.MethodName)) ∈ lw_all := lw_g (lw_at lw_m6 220 rfl) rfl
theorem q1568 : (Jvm.Cond.privateMethod ({ cls := "LawnPaths$TextReader", name := "sign", desc := "()V" } : Jvm.MethodName)) ∈ lw_tbl := lw_at lw_m6 221 rfl
theorem q1569 : (Jvm.Cond.instanceMethod ({ cls := "LawnPaths$TextReader", name := "sign", desc := "()V" } : Jvm.MethodName)) ∈ lw_all := lw_g (lw_at lw_m6 222 rfl) rfl
theorem q1570 : (Jvm.Cond.code ({ cls := "LawnPaths$TextReader", name := "sign", desc := "()V" } : Jvm.MethodName) prog_14_method_9_code (1 : Nat) (Option.none : Option Jvm.ClassFile.FieldType)) ∈ lw_all := lw_g (lw_at lw_m6 223 rfl) rfl
theorem q1571 : (Jvm.Cond.methodLink "LawnPaths$TextReader" (106 : Nat) ({ cls := "LawnPaths$TextReader", name := "goesOn", desc := "()Z" } : Jvm.MethodName)) ∈ lw_all := lw_g (lw_at lw_m6 224 rfl) rfl
theorem q1572 : (Jvm.Cond.privateMethod ({ cls := "LawnPaths$TextReader", name := "goesOn", desc := "()Z" } : Jvm.MethodName)) ∈ lw_tbl := lw_at lw_m6 225 rfl
theorem q1573 : (Jvm.Cond.instanceMethod ({ cls := "LawnPaths$TextReader", name := "goesOn", desc := "()Z" } : Jvm.MethodName)) ∈ lw_all := lw_g (lw_at lw_m6 226 rfl) rfl
theorem q1574 : (Jvm.Cond.code ({ cls := "LawnPaths$TextReader", name := "goesOn", desc := "()Z" } : Jvm.MethodName) prog_14_method_8_code (2 : Nat) (Option.some Jvm.ClassFile.FieldType.boolean)) ∈ lw_all := lw_g (lw_at lw_m6 227 rfl) rfl
theorem q1575 : (Jvm.Cond.methodLink "LawnPaths$TextReader" (102 : Nat) ({ cls := "LawnPaths$TextReader", name := "isSign", desc := "(I)Z" } : Jvm.MethodName)) ∈ lw_all := lw_g (lw_at lw_m6 228 rfl) rfl
theorem q1576 : (Jvm.Cond.privateMethod ({ cls := "LawnPaths$TextReader", name := "isSign", desc := "(I)Z" } : Jvm.MethodName)) ∈ lw_tbl := lw_at lw_m6 229 rfl
theorem q1577 : (Jvm.Cond.instanceMethod ({ cls := "LawnPaths$TextReader", name := "isSign", desc := "(I)Z" } : Jvm.MethodName)) ∈ lw_all := lw_g (lw_at lw_m6 230 rfl) rfl
theorem q1578 : (Jvm.Cond.code ({ cls := "LawnPaths$TextReader", name := "isSign", desc := "(I)Z" } : Jvm.MethodName) prog_14_method_3_code (2 : Nat) (Option.some Jvm.ClassFile.FieldType.boolean)) ∈ lw_all := lw_g (lw_at lw_m6 231 rfl) rfl
theorem q1579 : (Jvm.Cond.methodLink "LawnPaths$TextReader" (145 : Nat) ({ cls := "LawnPaths$TextReader", name := "newGate", desc := "(LLawnPaths$Lawn;)V" } : Jvm.MethodName)) ∈ lw_all := lw_g (lw_at lw_m6 232 rfl) rfl
theorem q1580 : (Jvm.Cond.privateMethod ({ cls := "LawnPaths$TextReader", name := "newGate", desc := "(LLawnPaths$Lawn;)V" } : Jvm.MethodName)) ∈ lw_tbl := lw_at lw_m6 233 rfl
theorem q1581 : (Jvm.Cond.instanceMethod ({ cls := "LawnPaths$TextReader", name := "newGate", desc := "(LLawnPaths$Lawn;)V" } : Jvm.MethodName)) ∈ lw_all := lw_g (lw_at lw_m6 234 rfl) rfl
theorem q1582 : (Jvm.Cond.code ({ cls := "LawnPaths$TextReader", name := "newGate", desc := "(LLawnPaths$Lawn;)V" } : Jvm.MethodName) prog_14_method_16_code (4 : Nat) (Option.none : Option Jvm.ClassFile.FieldType)) ∈ lw_all := lw_g (lw_at lw_m6 235 rfl) rfl
theorem q1583 : (Jvm.Cond.stringRef "LawnPaths$TextReader" (149 : Nat) "gate") ∈ lw_tbl := lw_at lw_m6 236 rfl
theorem q1584 : (Jvm.Cond.methodLink "LawnPaths$TextReader" (169 : Nat) ({ cls := "LawnPaths$Row", name := "size", desc := "()I" } : Jvm.MethodName)) ∈ lw_all := lw_g (lw_at lw_m6 237 rfl) rfl
theorem q1585 : (Jvm.Cond.methodLink "LawnPaths$TextReader" (171 : Nat) ({ cls := "LawnPaths$TextReader", name := "newName", desc := "(LLawnPaths$Row;)Ljava/lang/String;" } : Jvm.MethodName)) ∈ lw_all := lw_g (lw_at lw_m6 238 rfl) rfl
theorem q1586 : (Jvm.Cond.privateMethod ({ cls := "LawnPaths$TextReader", name := "newName", desc := "(LLawnPaths$Row;)Ljava/lang/String;" } : Jvm.MethodName)) ∈ lw_tbl := lw_at lw_m6 239 rfl
theorem q1587 : (Jvm.Cond.instanceMethod ({ cls := "LawnPaths$TextReader", name := "newName", desc := "(LLawnPaths$Row;)Ljava/lang/String;" } : Jvm.MethodName)) ∈ lw_all := lw_g (lw_at lw_m7 0 rfl) rfl
theorem q1588 : (Jvm.Cond.code ({ cls := "LawnPaths$TextReader", name := "newName", desc := "(LLawnPaths$Row;)Ljava/lang/String;" } : Jvm.MethodName) prog_14_method_12_code (3 : Nat) (Option.some (Jvm.ClassFile.FieldType.object "java/lang/String"))) ∈ lw_all := lw_g (lw_at lw_m7 1 rfl) rfl
theorem q1589 : (Jvm.Cond.methodLink "LawnPaths$TextReader" (115 : Nat) ({ cls := "LawnPaths$TextReader", name := "nameSeen", desc := "()Ljava/lang/String;" } : Jvm.MethodName)) ∈ lw_all := lw_g (lw_at lw_m7 2 rfl) rfl
theorem q1590 : (Jvm.Cond.privateMethod ({ cls := "LawnPaths$TextReader", name := "nameSeen", desc := "()Ljava/lang/String;" } : Jvm.MethodName)) ∈ lw_tbl := lw_at lw_m7 3 rfl
theorem q1591 : (Jvm.Cond.instanceMethod ({ cls := "LawnPaths$TextReader", name := "nameSeen", desc := "()Ljava/lang/String;" } : Jvm.MethodName)) ∈ lw_all := lw_g (lw_at lw_m7 4 rfl) rfl
theorem q1592 : (Jvm.Cond.code ({ cls := "LawnPaths$TextReader", name := "nameSeen", desc := "()Ljava/lang/String;" } : Jvm.MethodName) prog_14_method_10_code (1 : Nat) (Option.some (Jvm.ClassFile.FieldType.object "java/lang/String"))) ∈ lw_all := lw_g (lw_at lw_m7 5 rfl) rfl
theorem q1593 : (Jvm.Cond.methodLink "LawnPaths$TextReader" (110 : Nat) ({ cls := "java/lang/String", name := "length", desc := "()I" } : Jvm.MethodName)) ∈ lw_all := lw_g (lw_at lw_m7 6 rfl) rfl
theorem q1594 : (Jvm.Cond.methodLink "LawnPaths$TextReader" (118 : Nat) ({ cls := "LawnPaths$Row", name := "named", desc := "(Ljava/lang/String;)I" } : Jvm.MethodName)) ∈ lw_all := lw_g (lw_at lw_m7 7 rfl) rfl
theorem q1595 : (Jvm.Cond.methodLink "LawnPaths$TextReader" (175 : Nat) ({ cls := "LawnPaths$TextReader", name := "cell", desc := "(LLawnPaths$Lawn;)I" } : Jvm.MethodName)) ∈ lw_all := lw_g (lw_at lw_m7 8 rfl) rfl
theorem q1596 : (Jvm.Cond.privateMethod ({ cls := "LawnPaths$TextReader", name := "cell", desc := "(LLawnPaths$Lawn;)I" } : Jvm.MethodName)) ∈ lw_tbl := lw_at lw_m7 9 rfl
theorem q1597 : (Jvm.Cond.instanceMethod ({ cls := "LawnPaths$TextReader", name := "cell", desc := "(LLawnPaths$Lawn;)I" } : Jvm.MethodName)) ∈ lw_all := lw_g (lw_at lw_m7 10 rfl) rfl
theorem q1598 : (Jvm.Cond.code ({ cls := "LawnPaths$TextReader", name := "cell", desc := "(LLawnPaths$Lawn;)I" } : Jvm.MethodName) prog_14_method_15_code (3 : Nat) (Option.some Jvm.ClassFile.FieldType.int)) ∈ lw_all := lw_g (lw_at lw_m7 11 rfl) rfl
theorem q1599 : (Jvm.Cond.methodLink "LawnPaths$TextReader" (179 : Nat) ({ cls := "LawnPaths$Lawn", name := "isGrass", desc := "(I)Z" } : Jvm.MethodName)) ∈ lw_all := lw_g (lw_at lw_m7 12 rfl) rfl
theorem q1600 : (Jvm.Cond.methodLink "LawnPaths$TextReader" (182 : Nat) ({ cls := "LawnPaths$Lawn", name := "addsGate", desc := "(Ljava/lang/String;I)V" } : Jvm.MethodName)) ∈ lw_all := lw_g (lw_at lw_m7 13 rfl) rfl
theorem q1601 : (Jvm.Cond.methodLink "LawnPaths$TextReader" (151 : Nat) ({ cls := "LawnPaths$TextReader", name := "newWalker", desc := "(LLawnPaths$Lawn;)V" } : Jvm.MethodName)) ∈ lw_all := lw_g (lw_at lw_m7 14 rfl) rfl
theorem q1602 : (Jvm.Cond.privateMethod ({ cls := "LawnPaths$TextReader", name := "newWalker", desc := "(LLawnPaths$Lawn;)V" } : Jvm.MethodName)) ∈ lw_tbl := lw_at lw_m7 15 rfl
theorem q1603 : (Jvm.Cond.instanceMethod ({ cls := "LawnPaths$TextReader", name := "newWalker", desc := "(LLawnPaths$Lawn;)V" } : Jvm.MethodName)) ∈ lw_all := lw_g (lw_at lw_m7 16 rfl) rfl
theorem q1604 : (Jvm.Cond.code ({ cls := "LawnPaths$TextReader", name := "newWalker", desc := "(LLawnPaths$Lawn;)V" } : Jvm.MethodName) prog_14_method_17_code (6 : Nat) (Option.none : Option Jvm.ClassFile.FieldType)) ∈ lw_all := lw_g (lw_at lw_m7 17 rfl) rfl
theorem q1605 : (Jvm.Cond.stringRef "LawnPaths$TextReader" (154 : Nat) "walker") ∈ lw_tbl := lw_at lw_m7 18 rfl
theorem q1606 : (Jvm.Cond.methodLink "LawnPaths$TextReader" (189 : Nat) ({ cls := "LawnPaths$TextReader", name := "found", desc := "(LLawnPaths$Row;I)I" } : Jvm.MethodName)) ∈ lw_all := lw_g (lw_at lw_m7 19 rfl) rfl
theorem q1607 : (Jvm.Cond.privateMethod ({ cls := "LawnPaths$TextReader", name := "found", desc := "(LLawnPaths$Row;I)I" } : Jvm.MethodName)) ∈ lw_tbl := lw_at lw_m7 20 rfl
theorem q1608 : (Jvm.Cond.instanceMethod ({ cls := "LawnPaths$TextReader", name := "found", desc := "(LLawnPaths$Row;I)I" } : Jvm.MethodName)) ∈ lw_all := lw_g (lw_at lw_m7 21 rfl) rfl
theorem q1609 : (Jvm.Cond.code ({ cls := "LawnPaths$TextReader", name := "found", desc := "(LLawnPaths$Row;I)I" } : Jvm.MethodName) prog_14_method_11_code (4 : Nat) (Option.some Jvm.ClassFile.FieldType.int)) ∈ lw_all := lw_g (lw_at lw_m7 22 rfl) rfl
theorem q1610 : (Jvm.Cond.classLink "LawnPaths$TextReader" (193 : Nat) "LawnPaths$Walker") ∈ lw_all := lw_g (lw_at lw_m7 23 rfl) rfl
theorem q1611 : (Jvm.Cond.methodLink "LawnPaths$TextReader" (195 : Nat) ({ cls := "LawnPaths$Walker", name := "<init>", desc := "(Ljava/lang/String;IIII)V" } : Jvm.MethodName)) ∈ lw_all := lw_g (lw_at lw_m7 24 rfl) rfl
theorem q1612 : (Jvm.Cond.methodLink "LawnPaths$TextReader" (198 : Nat) ({ cls := "LawnPaths$Row", name := "add", desc := "(LLawnPaths$Named;)V" } : Jvm.MethodName)) ∈ lw_all := lw_g (lw_at lw_m7 25 rfl) rfl
theorem q1613 : (Jvm.Cond.methodLink "LawnPaths$TextReader" (156 : Nat) ({ cls := "LawnPaths$TextReader", name := "newThing", desc := "(LLawnPaths$Lawn;)V" } : Jvm.MethodName)) ∈ lw_all := lw_g (lw_at lw_m7 26 rfl) rfl
theorem q1614 : (Jvm.Cond.privateMethod ({ cls := "LawnPaths$TextReader", name := "newThing", desc := "(LLawnPaths$Lawn;)V" } : Jvm.MethodName)) ∈ lw_tbl := lw_at lw_m7 27 rfl
theorem q1615 : (Jvm.Cond.instanceMethod ({ cls := "LawnPaths$TextReader", name := "newThing", desc := "(LLawnPaths$Lawn;)V" } : Jvm.MethodName)) ∈ lw_all := lw_g (lw_at lw_m7 28 rfl) rfl
theorem q1616 : (Jvm.Cond.code ({ cls := "LawnPaths$TextReader", name := "newThing", desc := "(LLawnPaths$Lawn;)V" } : Jvm.MethodName) prog_14_method_18_code (6 : Nat) (Option.none : Option Jvm.ClassFile.FieldType)) ∈ lw_all := lw_g (lw_at lw_m7 29 rfl) rfl
theorem q1617 : (Jvm.Cond.stringRef "LawnPaths$TextReader" (202 : Nat) "fence") ∈ lw_tbl := lw_at lw_m7 30 rfl
theorem q1618 : (Jvm.Cond.stringRef "LawnPaths$TextReader" (204 : Nat) "stone") ∈ lw_tbl := lw_at lw_m7 31 rfl
theorem q1619 : (Jvm.Cond.stringRef "LawnPaths$TextReader" (206 : Nat) "grass") ∈ lw_tbl := lw_at lw_m7 32 rfl
theorem q1620 : (Jvm.Cond.methodLink "LawnPaths$TextReader" (208 : Nat) ({ cls := "LawnPaths$Lawn", name := "fencesAll", desc := "()I" } : Jvm.MethodName)) ∈ lw_all := lw_g (lw_at lw_m7 33 rfl) rfl
theorem q1624 : (Jvm.Cond.methodLink "LawnPaths$TextReader" (215 : Nat) ({ cls := "LawnPaths$Lawn", name := "hasWays", desc := "()Z" } : Jvm.MethodName)) ∈ lw_all := lw_g (lw_at lw_m7 37 rfl) rfl
theorem q1628 : (Jvm.Cond.methodLink "LawnPaths$TextReader" (218 : Nat) ({ cls := "LawnPaths$Lawn", name := "hardens", desc := "(II)V" } : Jvm.MethodName)) ∈ lw_all := lw_g (lw_at lw_m7 41 rfl) rfl
theorem q1652 : (Jvm.Cond.instanceMethod ({ cls := "LawnPaths$TextReader", name := "orders", desc := "()[LLawnPaths$Change;" } : Jvm.MethodName)) ∈ lw_all := lw_g (lw_at lw_m7 65 rfl) rfl
theorem q1653 : (Jvm.Cond.selects "LawnPaths$TextReader" ({ cls := "LawnPaths$TextReader", name := "orders", desc := "()[LLawnPaths$Change;" } : Jvm.MethodName) ({ cls := "LawnPaths$TextReader", name := "orders", desc := "()[LLawnPaths$Change;" } : Jvm.MethodName)) ∈ lw_all := lw_g (lw_at lw_m7 66 rfl) rfl
theorem q1654 : (Jvm.Cond.code ({ cls := "LawnPaths$TextReader", name := "orders", desc := "()[LLawnPaths$Change;" } : Jvm.MethodName) prog_14_method_19_code (3 : Nat) (Option.some (Jvm.ClassFile.FieldType.array (Jvm.ClassFile.FieldType.object "LawnPaths$Change")))) ∈ lw_all := lw_g (lw_at lw_m7 67 rfl) rfl
theorem q1655 : (Jvm.Cond.classLink "LawnPaths$TextReader" (227 : Nat) "LawnPaths$Change") ∈ lw_all := lw_g (lw_at lw_m7 68 rfl) rfl
theorem q1657 : (Jvm.Cond.methodLinkNest "LawnPaths$TextReader" (229 : Nat) ({ cls := "LawnPaths", name := "isAct", desc := "(Ljava/lang/String;)Z" } : Jvm.MethodName) "LawnPaths") ∈ lw_tbl := lw_at lw_m7 70 rfl
theorem q1729 : (Jvm.Cond.methodLink "LawnPaths$TextReader" (233 : Nat) ({ cls := "LawnPaths$TextReader", name := "change", desc := "()LLawnPaths$Change;" } : Jvm.MethodName)) ∈ lw_all := lw_g (lw_at lw_m7 142 rfl) rfl
theorem q1730 : (Jvm.Cond.privateMethod ({ cls := "LawnPaths$TextReader", name := "change", desc := "()LLawnPaths$Change;" } : Jvm.MethodName)) ∈ lw_tbl := lw_at lw_m7 143 rfl
theorem q1731 : (Jvm.Cond.instanceMethod ({ cls := "LawnPaths$TextReader", name := "change", desc := "()LLawnPaths$Change;" } : Jvm.MethodName)) ∈ lw_all := lw_g (lw_at lw_m7 144 rfl) rfl
theorem q1732 : (Jvm.Cond.code ({ cls := "LawnPaths$TextReader", name := "change", desc := "()LLawnPaths$Change;" } : Jvm.MethodName) prog_14_method_20_code (4 : Nat) (Option.some (Jvm.ClassFile.FieldType.object "LawnPaths$Change"))) ∈ lw_all := lw_g (lw_at lw_m7 145 rfl) rfl
theorem q1733 : (Jvm.Cond.methodLink "LawnPaths$TextReader" (237 : Nat) ({ cls := "java/lang/String", name := "hashCode", desc := "()I" } : Jvm.MethodName)) ∈ lw_all := lw_g (lw_at lw_m7 146 rfl) rfl
theorem q1734 : (Jvm.Cond.stringRef "LawnPaths$TextReader" (240 : Nat) "run") ∈ lw_tbl := lw_at lw_m7 147 rfl
theorem q1735 : (Jvm.Cond.stringRef "LawnPaths$TextReader" (242 : Nat) "haste") ∈ lw_tbl := lw_at lw_m7 148 rfl
theorem q1736 : (Jvm.Cond.stringRef "LawnPaths$TextReader" (244 : Nat) "turn") ∈ lw_tbl := lw_at lw_m7 149 rfl
theorem q1737 : (Jvm.Cond.methodLink "LawnPaths$TextReader" (246 : Nat) ({ cls := "LawnPaths$TextReader", name := "running", desc := "(I)LLawnPaths$Change;" } : Jvm.MethodName)) ∈ lw_all := lw_g (lw_at lw_m7 150 rfl) rfl
theorem q1738 : (Jvm.Cond.privateMethod ({ cls := "LawnPaths$TextReader", name := "running", desc := "(I)LLawnPaths$Change;" } : Jvm.MethodName)) ∈ lw_tbl := lw_at lw_m7 151 rfl
theorem q1739 : (Jvm.Cond.instanceMethod ({ cls := "LawnPaths$TextReader", name := "running", desc := "(I)LLawnPaths$Change;" } : Jvm.MethodName)) ∈ lw_all := lw_g (lw_at lw_m7 152 rfl) rfl
theorem q1740 : (Jvm.Cond.code ({ cls := "LawnPaths$TextReader", name := "running", desc := "(I)LLawnPaths$Change;" } : Jvm.MethodName) prog_14_method_21_code (2 : Nat) (Option.some (Jvm.ClassFile.FieldType.object "LawnPaths$Change"))) ∈ lw_all := lw_g (lw_at lw_m7 153 rfl) rfl
theorem q1741 : (Jvm.Cond.static ({ cls := "LawnPaths$TextReader", name := "lambda$running$0", desc := "(ILLawnPaths$Lawn;)I" } : Jvm.MethodName)) ∈ lw_all := lw_g (lw_at lw_m7 154 rfl) rfl
theorem q1742 : (Jvm.Cond.code ({ cls := "LawnPaths$TextReader", name := "lambda$running$0", desc := "(ILLawnPaths$Lawn;)I" } : Jvm.MethodName) prog_14_method_32_code (2 : Nat) (Option.some Jvm.ClassFile.FieldType.int)) ∈ lw_all := lw_g (lw_at lw_m7 155 rfl) rfl
theorem q1743 : (Jvm.Cond.methodLink "LawnPaths$TextReader" (299 : Nat) ({ cls := "LawnPaths$Lawn", name := "runs", desc := "(I)I" } : Jvm.MethodName)) ∈ lw_all := lw_g (lw_at lw_m7 156 rfl) rfl
theorem q1794 : (Jvm.Cond.methodLink "LawnPaths$TextReader" (254 : Nat) ({ cls := "LawnPaths$TextReader", name := "hastening", desc := "(I)LLawnPaths$Change;" } : Jvm.MethodName)) ∈ lw_all := lw_g (lw_at lw_m7 207 rfl) rfl
theorem q1795 : (Jvm.Cond.privateMethod ({ cls := "LawnPaths$TextReader", name := "hastening", desc := "(I)LLawnPaths$Change;" } : Jvm.MethodName)) ∈ lw_tbl := lw_at lw_m7 208 rfl
theorem q1796 : (Jvm.Cond.instanceMethod ({ cls := "LawnPaths$TextReader", name := "hastening", desc := "(I)LLawnPaths$Change;" } : Jvm.MethodName)) ∈ lw_all := lw_g (lw_at lw_m7 209 rfl) rfl
theorem q1797 : (Jvm.Cond.code ({ cls := "LawnPaths$TextReader", name := "hastening", desc := "(I)LLawnPaths$Change;" } : Jvm.MethodName) prog_14_method_22_code (3 : Nat) (Option.some (Jvm.ClassFile.FieldType.object "LawnPaths$Change"))) ∈ lw_all := lw_g (lw_at lw_m7 210 rfl) rfl
theorem q1798 : (Jvm.Cond.static ({ cls := "LawnPaths$TextReader", name := "lambda$hastening$1", desc := "(IILLawnPaths$Lawn;)I" } : Jvm.MethodName)) ∈ lw_all := lw_g (lw_at lw_m7 211 rfl) rfl
theorem q1799 : (Jvm.Cond.code ({ cls := "LawnPaths$TextReader", name := "lambda$hastening$1", desc := "(IILLawnPaths$Lawn;)I" } : Jvm.MethodName) prog_14_method_31_code (3 : Nat) (Option.some Jvm.ClassFile.FieldType.int)) ∈ lw_all := lw_g (lw_at lw_m7 212 rfl) rfl
theorem q1800 : (Jvm.Cond.methodLink "LawnPaths$TextReader" (296 : Nat) ({ cls := "LawnPaths$Lawn", name := "hastens", desc := "(II)I" } : Jvm.MethodName)) ∈ lw_all := lw_g (lw_at lw_m7 213 rfl) rfl
theorem q1804 : (Jvm.Cond.methodLink "LawnPaths$TextReader" (257 : Nat) ({ cls := "LawnPaths$TextReader", name := "turning", desc := "(I)LLawnPaths$Change;" } : Jvm.MethodName)) ∈ lw_all := lw_g (lw_at lw_m7 217 rfl) rfl
theorem q1805 : (Jvm.Cond.privateMethod ({ cls := "LawnPaths$TextReader", name := "turning", desc := "(I)LLawnPaths$Change;" } : Jvm.MethodName)) ∈ lw_tbl := lw_at lw_m7 218 rfl
theorem q1806 : (Jvm.Cond.instanceMethod ({ cls := "LawnPaths$TextReader", name := "turning", desc := "(I)LLawnPaths$Change;" } : Jvm.MethodName)) ∈ lw_all := lw_g (lw_at lw_m7 219 rfl) rfl
theorem q1807 : (Jvm.Cond.code ({ cls := "LawnPaths$TextReader", name := "turning", desc := "(I)LLawnPaths$Change;" } : Jvm.MethodName) prog_14_method_23_code (2 : Nat) (Option.some (Jvm.ClassFile.FieldType.object "LawnPaths$Change"))) ∈ lw_all := lw_g (lw_at lw_m7 220 rfl) rfl
theorem q1808 : (Jvm.Cond.static ({ cls := "LawnPaths$TextReader", name := "lambda$turning$2", desc := "(ILLawnPaths$Lawn;)I" } : Jvm.MethodName)) ∈ lw_all := lw_g (lw_at lw_m7 221 rfl) rfl
theorem q1809 : (Jvm.Cond.code ({ cls := "LawnPaths$TextReader", name := "lambda$turning$2", desc := "(ILLawnPaths$Lawn;)I" } : Jvm.MethodName) prog_14_method_30_code (2 : Nat) (Option.some Jvm.ClassFile.FieldType.int)) ∈ lw_all := lw_g (lw_at lw_m7 222 rfl) rfl
theorem q1810 : (Jvm.Cond.methodLink "LawnPaths$TextReader" (293 : Nat) ({ cls := "LawnPaths$Lawn", name := "turns", desc := "(I)I" } : Jvm.MethodName)) ∈ lw_all := lw_g (lw_at lw_m7 223 rfl) rfl
theorem q1814 : (Jvm.Cond.methodLink "LawnPaths$TextReader" (260 : Nat) ({ cls := "LawnPaths$TextReader", name := "atCell", desc := "(Ljava/lang/String;II)LLawnPaths$Change;" } : Jvm.MethodName)) ∈ lw_all := lw_g (lw_at lw_m7 227 rfl) rfl
theorem q1815 : (Jvm.Cond.privateMethod ({ cls := "LawnPaths$TextReader", name := "atCell", desc := "(Ljava/lang/String;II)LLawnPaths$Change;" } : Jvm.MethodName)) ∈ lw_tbl := lw_at lw_m7 228 rfl
theorem q1816 : (Jvm.Cond.instanceMethod ({ cls := "LawnPaths$TextReader", name := "atCell", desc := "(Ljava/lang/String;II)LLawnPaths$Change;" } : Jvm.MethodName)) ∈ lw_all := lw_g (lw_at lw_m7 229 rfl) rfl
theorem q1817 : (Jvm.Cond.code ({ cls := "LawnPaths$TextReader", name := "atCell", desc := "(Ljava/lang/String;II)LLawnPaths$Change;" } : Jvm.MethodName) prog_14_method_24_code (7 : Nat) (Option.some (Jvm.ClassFile.FieldType.object "LawnPaths$Change"))) ∈ lw_all := lw_g (lw_at lw_m7 230 rfl) rfl
theorem q1818 : (Jvm.Cond.static ({ cls := "LawnPaths$TextReader", name := "lambda$atCell$3", desc := "(LLawnPaths$Lawn;)I" } : Jvm.MethodName)) ∈ lw_all := lw_g (lw_at lw_m7 231 rfl) rfl
theorem q1819 : (Jvm.Cond.code ({ cls := "LawnPaths$TextReader", name := "lambda$atCell$3", desc := "(LLawnPaths$Lawn;)I" } : Jvm.MethodName) prog_14_method_29_code (1 : Nat) (Option.some Jvm.ClassFile.FieldType.int)) ∈ lw_all := lw_g (lw_at lw_m7 232 rfl) rfl
theorem q1820 : (Jvm.Cond.stringRef "LawnPaths$TextReader" (273 : Nat) "open") ∈ lw_tbl := lw_at lw_m7 233 rfl
theorem q1821 : (Jvm.Cond.stringRef "LawnPaths$TextReader" (275 : Nat) "pave") ∈ lw_tbl := lw_at lw_m7 234 rfl
theorem q1822 : (Jvm.Cond.static ({ cls := "LawnPaths$TextReader", name := "lambda$atCell$4", desc := "(ILLawnPaths$Lawn;)I" } : Jvm.MethodName)) ∈ lw_all := lw_g (lw_at lw_m7 235 rfl) rfl
theorem q1823 : (Jvm.Cond.code ({ cls := "LawnPaths$TextReader", name := "lambda$atCell$4", desc := "(ILLawnPaths$Lawn;)I" } : Jvm.MethodName) prog_14_method_28_code (2 : Nat) (Option.some Jvm.ClassFile.FieldType.int)) ∈ lw_all := lw_g (lw_at lw_m7 236 rfl) rfl
theorem q1824 : (Jvm.Cond.methodLink "LawnPaths$TextReader" (290 : Nat) ({ cls := "LawnPaths$Lawn", name := "fenced", desc := "(I)I" } : Jvm.MethodName)) ∈ lw_all := lw_g (lw_at lw_m7 237 rfl) rfl
theorem q1830 : (Jvm.Cond.static ({ cls := "LawnPaths$TextReader", name := "lambda$atCell$5", desc := "(ILLawnPaths$Lawn;)I" } : Jvm.MethodName)) ∈ lw_all := lw_g (lw_at lw_m8 3 rfl) rfl
theorem q1831 : (Jvm.Cond.code ({ cls := "LawnPaths$TextReader", name := "lambda$atCell$5", desc := "(ILLawnPaths$Lawn;)I" } : Jvm.MethodName) prog_14_method_27_code (2 : Nat) (Option.some Jvm.ClassFile.FieldType.int)) ∈ lw_all := lw_g (lw_at lw_m8 4 rfl) rfl
theorem q1832 : (Jvm.Cond.methodLink "LawnPaths$TextReader" (287 : Nat) ({ cls := "LawnPaths$Lawn", name := "opened", desc := "(I)I" } : Jvm.MethodName)) ∈ lw_all := lw_g (lw_at lw_m8 5 rfl) rfl
theorem q1836 : (Jvm.Cond.static ({ cls := "LawnPaths$TextReader", name := "lambda$atCell$6", desc := "(ILLawnPaths$Lawn;)I" } : Jvm.MethodName)) ∈ lw_all := lw_g (lw_at lw_m8 9 rfl) rfl
theorem q1837 : (Jvm.Cond.code ({ cls := "LawnPaths$TextReader", name := "lambda$atCell$6", desc := "(ILLawnPaths$Lawn;)I" } : Jvm.MethodName) prog_14_method_26_code (2 : Nat) (Option.some Jvm.ClassFile.FieldType.int)) ∈ lw_all := lw_g (lw_at lw_m8 10 rfl) rfl
theorem q1838 : (Jvm.Cond.methodLink "LawnPaths$TextReader" (284 : Nat) ({ cls := "LawnPaths$Lawn", name := "paves", desc := "(I)I" } : Jvm.MethodName)) ∈ lw_all := lw_g (lw_at lw_m8 11 rfl) rfl
theorem q1843 : (Jvm.Cond.static ({ cls := "LawnPaths$TextReader", name := "lambda$atCell$7", desc := "(ILLawnPaths$Lawn;)I" } : Jvm.MethodName)) ∈ lw_all := lw_g (lw_at lw_m8 16 rfl) rfl
theorem q1844 : (Jvm.Cond.code ({ cls := "LawnPaths$TextReader", name := "lambda$atCell$7", desc := "(ILLawnPaths$Lawn;)I" } : Jvm.MethodName) prog_14_method_25_code (2 : Nat) (Option.some Jvm.ClassFile.FieldType.int)) ∈ lw_all := lw_g (lw_at lw_m8 17 rfl) rfl
theorem q1845 : (Jvm.Cond.methodLink "LawnPaths$TextReader" (281 : Nat) ({ cls := "LawnPaths$Lawn", name := "sows", desc := "(I)I" } : Jvm.MethodName)) ∈ lw_all := lw_g (lw_at lw_m8 18 rfl) rfl
theorem q2981 : (Jvm.Cond.castable "LawnPaths$TextReader" "java/lang/Object") ∈ lw_tbl := lw_at lw_m12 194 rfl
theorem in_X7 : ∀ w ∈ wsX70, w ∈ lw_all := lw_in wsX70 [1500, 1502, 1504, 1506, 1508, 1510, 1512] (by decide +kernel) (by decide +kernel)
/-! java/lang/Number -/
def RJ19 : String := "java/lang/Number"
abbrev cJ19_init : ByteArray := prog_37_method_1_code
def yJ19_init : MethodName := ⟨RJ19, "<init>", "()V"⟩
theorem q177 : (Jvm.Cond.initialized "java/lang/Number") ∈ lw_all := lw_g (lw_at lw_m1 30 rfl) rfl
theorem q1209 : (Jvm.Cond.instanceMethod ({ cls := "java/lang/Number", name := "<init>", desc := "()V" } : Jvm.MethodName)) ∈ lw_all := lw_g (lw_at lw_m5 102 rfl) rfl
theorem q1210 : (Jvm.Cond.code ({ cls := "java/lang/Number", name := "<init>", desc := "()V" } : Jvm.MethodName) prog_37_method_1_code (1 : Nat) (Option.none : Option Jvm.ClassFile.FieldType)) ∈ lw_all := lw_g (lw_at lw_m5 103 rfl) rfl
theorem q1211 : (Jvm.Cond.methodLink "java/lang/Number" (1 : Nat) ({ cls := "java/lang/Object", name := "<init>", desc := "()V" } : Jvm.MethodName)) ∈ lw_all := lw_g (lw_at lw_m5 104 rfl) rfl
/-! java/lang/Integer -/
def RJ20 : String := "java/lang/Integer"
def TJ20 : u_T := fun k => match k with
  | _ => ("java/lang/Integer", "value", "I", true)
def tyJ20 : Nat → FieldType := fun k => match k with
  | _ => .int
abbrev wsJ200 : List Cond := u_ws RJ20 TJ20 1
theorem nmJ20 : ∀ a, a < 1 → ∀ b, b < 1 → a ≠ b → (TJ20 a).2.1 ≠ (TJ20 b).2.1 := by decide +kernel
theorem tyJ20_ok : ∀ k, k < 1 → parseFieldDescriptor (TJ20 k).2.2.1 = some (tyJ20 k) := by decide +kernel
abbrev cJ20_stringSize : ByteArray := prog_33_method_13_code
def yJ20_stringSize : MethodName := ⟨RJ20, "stringSize", "(I)I"⟩
abbrev cJ20_getChars : ByteArray := prog_33_method_12_code
def yJ20_getChars : MethodName := ⟨RJ20, "getChars", "(II[B)I"⟩
abbrev cJ20_valueOf : ByteArray := prog_33_method_22_code
def yJ20_valueOf : MethodName := ⟨RJ20, "valueOf", "(I)Ljava/lang/Integer;"⟩
abbrev cJ20_init : ByteArray := prog_33_method_23_code
def yJ20_init : MethodName := ⟨RJ20, "<init>", "(I)V"⟩
abbrev cJ20_intValue : ByteArray := prog_33_method_27_code
def yJ20_intValue : MethodName := ⟨RJ20, "intValue", "()I"⟩
theorem q178 : (Jvm.Cond.initialized "java/lang/Integer") ∈ lw_all := lw_g (lw_at lw_m1 31 rfl) rfl
theorem q424 : (Jvm.Cond.selects "java/lang/Integer" ({ cls := "java/lang/Object", name := "getClass", desc := "()Ljava/lang/Class;" } : Jvm.MethodName) ({ cls := "java/lang/Object", name := "getClass", desc := "()Ljava/lang/Class;" } : Jvm.MethodName)) ∈ lw_all := lw_g (lw_at lw_m2 37 rfl) rfl
theorem q770 : (Jvm.Cond.static ({ cls := "java/lang/Integer", name := "stringSize", desc := "(I)I" } : Jvm.MethodName)) ∈ lw_all := lw_g (lw_at lw_m3 143 rfl) rfl
theorem q771 : (Jvm.Cond.code ({ cls := "java/lang/Integer", name := "stringSize", desc := "(I)I" } : Jvm.MethodName) prog_33_method_13_code (4 : Nat) (Option.some Jvm.ClassFile.FieldType.int)) ∈ lw_all := lw_g (lw_at lw_m3 144 rfl) rfl
theorem q773 : (Jvm.Cond.static ({ cls := "java/lang/Integer", name := "getChars", desc := "(II[B)I" } : Jvm.MethodName)) ∈ lw_all := lw_g (lw_at lw_m3 146 rfl) rfl
theorem q774 : (Jvm.Cond.code ({ cls := "java/lang/Integer", name := "getChars", desc := "(II[B)I" } : Jvm.MethodName) prog_33_method_12_code (7 : Nat) (Option.some Jvm.ClassFile.FieldType.int)) ∈ lw_all := lw_g (lw_at lw_m3 147 rfl) rfl
theorem q775 : (Jvm.Cond.fieldLink "java/lang/Integer" (83 : Nat) "java/lang/Integer" "DigitOnes" "[B") ∈ lw_all := lw_g (lw_at lw_m3 148 rfl) rfl
theorem q776 : (Jvm.Cond.laysStatic "java/lang/Integer" "DigitOnes" "[B") ∈ lw_tbl := lw_at lw_m3 149 rfl
theorem q777 : (Jvm.Cond.fieldLink "java/lang/Integer" (87 : Nat) "java/lang/Integer" "DigitTens" "[B") ∈ lw_all := lw_g (lw_at lw_m3 150 rfl) rfl
theorem q778 : (Jvm.Cond.laysStatic "java/lang/Integer" "DigitTens" "[B") ∈ lw_tbl := lw_at lw_m3 151 rfl
theorem q1197 : (Jvm.Cond.static ({ cls := "java/lang/Integer", name := "valueOf", desc := "(I)Ljava/lang/Integer;" } : Jvm.MethodName)) ∈ lw_all := lw_g (lw_at lw_m5 90 rfl) rfl
theorem q1198 : (Jvm.Cond.code ({ cls := "java/lang/Integer", name := "valueOf", desc := "(I)Ljava/lang/Integer;" } : Jvm.MethodName) prog_33_method_22_code (1 : Nat) (Option.some (Jvm.ClassFile.FieldType.object "java/lang/Integer"))) ∈ lw_all := lw_g (lw_at lw_m5 91 rfl) rfl
theorem q1199 : (Jvm.Cond.fieldLink "java/lang/Integer" (191 : Nat) "java/lang/Integer$IntegerCache" "high" "I") ∈ lw_all := lw_g (lw_at lw_m5 92 rfl) rfl
theorem q1201 : (Jvm.Cond.fieldLink "java/lang/Integer" (195 : Nat) "java/lang/Integer$IntegerCache" "cache" "[Ljava/lang/Integer;") ∈ lw_all := lw_g (lw_at lw_m5 94 rfl) rfl
theorem q1203 : (Jvm.Cond.classLink "java/lang/Integer" (1 : Nat) "java/lang/Integer") ∈ lw_all := lw_g (lw_at lw_m5 96 rfl) rfl
theorem q1204 : (Jvm.Cond.instantiable "java/lang/Integer" (1 : Nat)) ∈ lw_all := lw_g (lw_at lw_m5 97 rfl) rfl
theorem q1205 : (Jvm.Cond.methodLink "java/lang/Integer" (199 : Nat) ({ cls := "java/lang/Integer", name := "<init>", desc := "(I)V" } : Jvm.MethodName)) ∈ lw_all := lw_g (lw_at lw_m5 98 rfl) rfl
theorem q1206 : (Jvm.Cond.instanceMethod ({ cls := "java/lang/Integer", name := "<init>", desc := "(I)V" } : Jvm.MethodName)) ∈ lw_all := lw_g (lw_at lw_m5 99 rfl) rfl
theorem q1207 : (Jvm.Cond.code ({ cls := "java/lang/Integer", name := "<init>", desc := "(I)V" } : Jvm.MethodName) prog_33_method_23_code (2 : Nat) (Option.none : Option Jvm.ClassFile.FieldType)) ∈ lw_all := lw_g (lw_at lw_m5 100 rfl) rfl
theorem q1208 : (Jvm.Cond.methodLink "java/lang/Integer" (202 : Nat) ({ cls := "java/lang/Number", name := "<init>", desc := "()V" } : Jvm.MethodName)) ∈ lw_all := lw_g (lw_at lw_m5 101 rfl) rfl
theorem q1212 : (Jvm.Cond.fieldLink "java/lang/Integer" (205 : Nat) "java/lang/Integer" "value" "I") ∈ lw_all := lw_g (lw_at lw_m5 105 rfl) rfl
theorem q1213 : (Jvm.Cond.laysFinal "java/lang/Integer" "java/lang/Integer" "value" "I") ∈ lw_all := lw_g (lw_at lw_m5 106 rfl) rfl
theorem q1214 : (Jvm.Cond.soleField "java/lang/Integer" "value") ∈ lw_all := lw_g (lw_at lw_m5 107 rfl) rfl
theorem q1215 : (Jvm.Cond.superclass "java/lang/Integer" "java/lang/Number") ∈ lw_all := lw_g (lw_at lw_m5 108 rfl) rfl
theorem q1238 : (Jvm.Cond.instanceMethod ({ cls := "java/lang/Integer", name := "intValue", desc := "()I" } : Jvm.MethodName)) ∈ lw_all := lw_g (lw_at lw_m5 131 rfl) rfl
theorem q1239 : (Jvm.Cond.selects "java/lang/Integer" ({ cls := "java/lang/Integer", name := "intValue", desc := "()I" } : Jvm.MethodName) ({ cls := "java/lang/Integer", name := "intValue", desc := "()I" } : Jvm.MethodName)) ∈ lw_all := lw_g (lw_at lw_m5 132 rfl) rfl
theorem q1240 : (Jvm.Cond.code ({ cls := "java/lang/Integer", name := "intValue", desc := "()I" } : Jvm.MethodName) prog_33_method_27_code (1 : Nat) (Option.some Jvm.ClassFile.FieldType.int)) ∈ lw_all := lw_g (lw_at lw_m5 133 rfl) rfl
theorem q2996 : (Jvm.Cond.castable "java/lang/Integer" "java/lang/Object") ∈ lw_tbl := lw_at lw_m12 209 rfl
theorem in_J20 : ∀ w ∈ wsJ200, w ∈ lw_all := lw_in wsJ200 [1213] (by decide +kernel) (by decide +kernel)
/-! LawnPaths$Unreadable -/
def RX8 : String := "LawnPaths$Unreadable"
def TX8 : u_T := fun k => match k with
  | 0 => ("java/lang/Throwable", "cause", "Ljava/lang/Throwable;", false)
  | 1 => ("java/lang/Throwable", "stackTrace", "[Ljava/lang/StackTraceElement;", false)
  | 2 => ("java/lang/Throwable", "suppressedExceptions", "Ljava/util/List;", false)
  | 3 => ("java/lang/Throwable", "detailMessage", "Ljava/lang/String;", false)
  | 4 => ("java/lang/Throwable", "backtrace", "Ljava/lang/Object;", false)
  | 5 => ("java/lang/Throwable", "depth", "I", false)
  | 6 => ("LawnPaths$Unreadable", "code", "I", true)
  | _ => ("LawnPaths$Unreadable", "position", "I", true)
def tyX8 : Nat → FieldType := fun k => match k with
  | 0 => .object "java/lang/Throwable"
  | 1 => .array (.object "java/lang/StackTraceElement")
  | 2 => .object "java/util/List"
  | 3 => .object "java/lang/String"
  | 4 => .object "java/lang/Object"
  | 5 => .int
  | 6 => .int
  | _ => .int
abbrev wsX80 : List Cond := u_ws RX8 TX8 8
theorem nmX8 : ∀ a, a < 8 → ∀ b, b < 8 → a ≠ b → (TX8 a).2.1 ≠ (TX8 b).2.1 := by decide +kernel
theorem tyX8_ok : ∀ k, k < 8 → parseFieldDescriptor (TX8 k).2.2.1 = some (tyX8 k) := by decide +kernel
abbrev cX8_init : ByteArray := prog_17_method_1_code
def yX8_init : MethodName := ⟨RX8, "<init>", "(II)V"⟩
theorem q179 : (Jvm.Cond.initialized "LawnPaths$Unreadable") ∈ lw_all := lw_g (lw_at lw_m1 32 rfl) rfl
theorem q417 : (Jvm.Cond.selects "LawnPaths$Unreadable" ({ cls := "java/lang/Object", name := "getClass", desc := "()Ljava/lang/Class;" } : Jvm.MethodName) ({ cls := "java/lang/Object", name := "getClass", desc := "()Ljava/lang/Class;" } : Jvm.MethodName)) ∈ lw_all := lw_g (lw_at lw_m2 30 rfl) rfl
theorem q748 : (Jvm.Cond.selects "LawnPaths$Unreadable" ({ cls := "java/lang/Throwable", name := "fillInStackTrace", desc := "()Ljava/lang/Throwable;" } : Jvm.MethodName) ({ cls := "java/lang/Throwable", name := "fillInStackTrace", desc := "()Ljava/lang/Throwable;" } : Jvm.MethodName)) ∈ lw_all := lw_g (lw_at lw_m3 121 rfl) rfl
theorem q1530 : (Jvm.Cond.instantiable "LawnPaths$Unreadable" (8 : Nat)) ∈ lw_all := lw_g (lw_at lw_m6 183 rfl) rfl
theorem q1531 : (Jvm.Cond.castable "LawnPaths$Unreadable" "LawnPaths$Unreadable") ∈ lw_tbl := lw_at lw_m6 184 rfl
theorem q1532 : (Jvm.Cond.selects "LawnPaths$Unreadable" ({ cls := "java/lang/Throwable", name := "fillInStackTrace", desc := "(I)Ljava/lang/Throwable;" } : Jvm.MethodName) ({ cls := "java/lang/Throwable", name := "fillInStackTrace", desc := "(I)Ljava/lang/Throwable;" } : Jvm.MethodName)) ∈ lw_all := lw_g (lw_at lw_m6 185 rfl) rfl
theorem q1533 : (Jvm.Cond.lays "LawnPaths$Unreadable" "java/lang/Throwable" "cause" "Ljava/lang/Throwable;") ∈ lw_all := lw_g (lw_at lw_m6 186 rfl) rfl
theorem q1534 : (Jvm.Cond.lays "LawnPaths$Unreadable" "java/lang/Throwable" "stackTrace" "[Ljava/lang/StackTraceElement;") ∈ lw_all := lw_g (lw_at lw_m6 187 rfl) rfl
theorem q1535 : (Jvm.Cond.lays "LawnPaths$Unreadable" "java/lang/Throwable" "suppressedExceptions" "Ljava/util/List;") ∈ lw_all := lw_g (lw_at lw_m6 188 rfl) rfl
theorem q1536 : (Jvm.Cond.lays "LawnPaths$Unreadable" "java/lang/Throwable" "detailMessage" "Ljava/lang/String;") ∈ lw_all := lw_g (lw_at lw_m6 189 rfl) rfl
theorem q1537 : (Jvm.Cond.lays "LawnPaths$Unreadable" "java/lang/Throwable" "backtrace" "Ljava/lang/Object;") ∈ lw_all := lw_g (lw_at lw_m6 190 rfl) rfl
theorem q1539 : (Jvm.Cond.instanceMethod ({ cls := "LawnPaths$Unreadable", name := "<init>", desc := "(II)V" } : Jvm.MethodName)) ∈ lw_all := lw_g (lw_at lw_m6 192 rfl) rfl
theorem q1540 : (Jvm.Cond.code ({ cls := "LawnPaths$Unreadable", name := "<init>", desc := "(II)V" } : Jvm.MethodName) prog_17_method_1_code (3 : Nat) (Option.none : Option Jvm.ClassFile.FieldType)) ∈ lw_all := lw_g (lw_at lw_m6 193 rfl) rfl
theorem q1541 : (Jvm.Cond.methodLink "LawnPaths$Unreadable" (1 : Nat) ({ cls := "java/lang/Exception", name := "<init>", desc := "(Ljava/lang/String;Ljava/lang/Throwable;ZZ)V" } : Jvm.MethodName)) ∈ lw_all := lw_g (lw_at lw_m6 194 rfl) rfl
theorem q1547 : (Jvm.Cond.fieldLink "LawnPaths$Unreadable" (7 : Nat) "LawnPaths$Unreadable" "code" "I") ∈ lw_all := lw_g (lw_at lw_m6 200 rfl) rfl
theorem q1549 : (Jvm.Cond.fieldLink "LawnPaths$Unreadable" (13 : Nat) "LawnPaths$Unreadable" "position" "I") ∈ lw_all := lw_g (lw_at lw_m6 202 rfl) rfl
theorem q1551 : (Jvm.Cond.laysFinal "LawnPaths$Unreadable" "LawnPaths$Unreadable" "code" "I") ∈ lw_all := lw_g (lw_at lw_m6 204 rfl) rfl
theorem q1552 : (Jvm.Cond.soleField "LawnPaths$Unreadable" "code") ∈ lw_all := lw_g (lw_at lw_m6 205 rfl) rfl
theorem q1553 : (Jvm.Cond.laysFinal "LawnPaths$Unreadable" "LawnPaths$Unreadable" "position" "I") ∈ lw_all := lw_g (lw_at lw_m6 206 rfl) rfl
theorem q1554 : (Jvm.Cond.soleField "LawnPaths$Unreadable" "position") ∈ lw_all := lw_g (lw_at lw_m6 207 rfl) rfl
theorem q1555 : (Jvm.Cond.lays "LawnPaths$Unreadable" "java/lang/Throwable" "depth" "I") ∈ lw_all := lw_g (lw_at lw_m6 208 rfl) rfl
theorem q1556 : (Jvm.Cond.superclass "LawnPaths$Unreadable" "java/lang/Exception") ∈ lw_all := lw_g (lw_at lw_m6 209 rfl) rfl
theorem q2984 : (Jvm.Cond.castable "LawnPaths$Unreadable" "java/lang/Object") ∈ lw_tbl := lw_at lw_m12 197 rfl
theorem in_X8 : ∀ w ∈ wsX80, w ∈ lw_all := lw_in wsX80 [1533, 1534, 1535, 1536, 1537, 1555, 1551, 1553] (by decide +kernel) (by decide +kernel)
/-! java/util/Objects -/
def RJ21 : String := "java/util/Objects"
abbrev cJ21_checkIndex : ByteArray := prog_62_method_17_code
def yJ21_checkIndex : MethodName := ⟨RJ21, "checkIndex", "(II)I"⟩
theorem q180 : (Jvm.Cond.initialized "java/util/Objects") ∈ lw_all := lw_g (lw_at lw_m1 33 rfl) rfl
theorem q918 : (Jvm.Cond.static ({ cls := "java/util/Objects", name := "checkIndex", desc := "(II)I" } : Jvm.MethodName)) ∈ lw_all := lw_g (lw_at lw_m4 51 rfl) rfl
theorem q919 : (Jvm.Cond.code ({ cls := "java/util/Objects", name := "checkIndex", desc := "(II)I" } : Jvm.MethodName) prog_62_method_17_code (2 : Nat) (Option.some Jvm.ClassFile.FieldType.int)) ∈ lw_all := lw_g (lw_at lw_m4 52 rfl) rfl
theorem q920 : (Jvm.Cond.methodLink "java/util/Objects" (105 : Nat) ({ cls := "jdk/internal/util/Preconditions", name := "checkIndex", desc := "(IILjava/util/function/BiFunction;)I" } : Jvm.MethodName)) ∈ lw_all := lw_g (lw_at lw_m4 53 rfl) rfl
/-! LawnPaths$Unable -/
def RX9 : String := "LawnPaths$Unable"
def TX9 : u_T := fun k => match k with
  | 0 => ("java/lang/Throwable", "cause", "Ljava/lang/Throwable;", false)
  | 1 => ("java/lang/Throwable", "stackTrace", "[Ljava/lang/StackTraceElement;", false)
  | 2 => ("java/lang/Throwable", "suppressedExceptions", "Ljava/util/List;", false)
  | 3 => ("java/lang/Throwable", "detailMessage", "Ljava/lang/String;", false)
  | 4 => ("java/lang/Throwable", "backtrace", "Ljava/lang/Object;", false)
  | 5 => ("java/lang/Throwable", "depth", "I", false)
  | _ => ("LawnPaths$Unable", "reason", "I", true)
def tyX9 : Nat → FieldType := fun k => match k with
  | 0 => .object "java/lang/Throwable"
  | 1 => .array (.object "java/lang/StackTraceElement")
  | 2 => .object "java/util/List"
  | 3 => .object "java/lang/String"
  | 4 => .object "java/lang/Object"
  | 5 => .int
  | _ => .int
abbrev wsX90 : List Cond := u_ws RX9 TX9 7
theorem nmX9 : ∀ a, a < 7 → ∀ b, b < 7 → a ≠ b → (TX9 a).2.1 ≠ (TX9 b).2.1 := by decide +kernel
theorem tyX9_ok : ∀ k, k < 7 → parseFieldDescriptor (TX9 k).2.2.1 = some (tyX9 k) := by decide +kernel
abbrev cX9_init : ByteArray := prog_16_method_1_code
def yX9_init : MethodName := ⟨RX9, "<init>", "(I)V"⟩
theorem q182 : (Jvm.Cond.initialized "LawnPaths$Unable") ∈ lw_all := lw_g (lw_at lw_m1 35 rfl) rfl
theorem q416 : (Jvm.Cond.selects "LawnPaths$Unable" ({ cls := "java/lang/Object", name := "getClass", desc := "()Ljava/lang/Class;" } : Jvm.MethodName) ({ cls := "java/lang/Object", name := "getClass", desc := "()Ljava/lang/Class;" } : Jvm.MethodName)) ∈ lw_all := lw_g (lw_at lw_m2 29 rfl) rfl
theorem q747 : (Jvm.Cond.selects "LawnPaths$Unable" ({ cls := "java/lang/Throwable", name := "fillInStackTrace", desc := "()Ljava/lang/Throwable;" } : Jvm.MethodName) ({ cls := "java/lang/Throwable", name := "fillInStackTrace", desc := "()Ljava/lang/Throwable;" } : Jvm.MethodName)) ∈ lw_all := lw_g (lw_at lw_m3 120 rfl) rfl
theorem q1751 : (Jvm.Cond.instantiable "LawnPaths$Unable" (7 : Nat)) ∈ lw_all := lw_g (lw_at lw_m7 164 rfl) rfl
theorem q1752 : (Jvm.Cond.castable "LawnPaths$Unable" "LawnPaths$Unable") ∈ lw_tbl := lw_at lw_m7 165 rfl
theorem q1753 : (Jvm.Cond.selects "LawnPaths$Unable" ({ cls := "java/lang/Throwable", name := "fillInStackTrace", desc := "(I)Ljava/lang/Throwable;" } : Jvm.MethodName) ({ cls := "java/lang/Throwable", name := "fillInStackTrace", desc := "(I)Ljava/lang/Throwable;" } : Jvm.MethodName)) ∈ lw_all := lw_g (lw_at lw_m7 166 rfl) rfl
theorem q1754 : (Jvm.Cond.lays "LawnPaths$Unable" "java/lang/Throwable" "cause" "Ljava/lang/Throwable;") ∈ lw_all := lw_g (lw_at lw_m7 167 rfl) rfl
theorem q1755 : (Jvm.Cond.lays "LawnPaths$Unable" "java/lang/Throwable" "stackTrace" "[Ljava/lang/StackTraceElement;") ∈ lw_all := lw_g (lw_at lw_m7 168 rfl) rfl
theorem q1756 : (Jvm.Cond.lays "LawnPaths$Unable" "java/lang/Throwable" "suppressedExceptions" "Ljava/util/List;") ∈ lw_all := lw_g (lw_at lw_m7 169 rfl) rfl
theorem q1757 : (Jvm.Cond.lays "LawnPaths$Unable" "java/lang/Throwable" "detailMessage" "Ljava/lang/String;") ∈ lw_all := lw_g (lw_at lw_m7 170 rfl) rfl
theorem q1758 : (Jvm.Cond.lays "LawnPaths$Unable" "java/lang/Throwable" "backtrace" "Ljava/lang/Object;") ∈ lw_all := lw_g (lw_at lw_m7 171 rfl) rfl
theorem q1760 : (Jvm.Cond.instanceMethod ({ cls := "LawnPaths$Unable", name := "<init>", desc := "(I)V" } : Jvm.MethodName)) ∈ lw_all := lw_g (lw_at lw_m7 173 rfl) rfl
theorem q1761 : (Jvm.Cond.code ({ cls := "LawnPaths$Unable", name := "<init>", desc := "(I)V" } : Jvm.MethodName) prog_16_method_1_code (2 : Nat) (Option.none : Option Jvm.ClassFile.FieldType)) ∈ lw_all := lw_g (lw_at lw_m7 174 rfl) rfl
theorem q1762 : (Jvm.Cond.methodLink "LawnPaths$Unable" (1 : Nat) ({ cls := "java/lang/Exception", name := "<init>", desc := "(Ljava/lang/String;Ljava/lang/Throwable;ZZ)V" } : Jvm.MethodName)) ∈ lw_all := lw_g (lw_at lw_m7 175 rfl) rfl
theorem q1763 : (Jvm.Cond.fieldLink "LawnPaths$Unable" (7 : Nat) "LawnPaths$Unable" "reason" "I") ∈ lw_all := lw_g (lw_at lw_m7 176 rfl) rfl
theorem q1765 : (Jvm.Cond.laysFinal "LawnPaths$Unable" "LawnPaths$Unable" "reason" "I") ∈ lw_all := lw_g (lw_at lw_m7 178 rfl) rfl
theorem q1766 : (Jvm.Cond.soleField "LawnPaths$Unable" "reason") ∈ lw_all := lw_g (lw_at lw_m7 179 rfl) rfl
theorem q1767 : (Jvm.Cond.lays "LawnPaths$Unable" "java/lang/Throwable" "depth" "I") ∈ lw_all := lw_g (lw_at lw_m7 180 rfl) rfl
theorem q1768 : (Jvm.Cond.superclass "LawnPaths$Unable" "java/lang/Exception") ∈ lw_all := lw_g (lw_at lw_m7 181 rfl) rfl
theorem q2987 : (Jvm.Cond.castable "LawnPaths$Unable" "java/lang/Object") ∈ lw_tbl := lw_at lw_m12 200 rfl
theorem in_X9 : ∀ w ∈ wsX90, w ∈ lw_all := lw_in wsX90 [1754, 1755, 1756, 1757, 1758, 1767, 1765] (by decide +kernel) (by decide +kernel)
/-! LawnPaths$Script -/
def RX10 : String := "LawnPaths$Script"
def TX10 : u_T := fun k => match k with
  | 0 => ("LawnPaths$Script", "lawn", "LLawnPaths$Lawn;", false)
  | 1 => ("LawnPaths$Script", "done", "I", false)
  | _ => ("LawnPaths$Script", "this$0", "LLawnPaths;", true)
def tyX10 : Nat → FieldType := fun k => match k with
  | 0 => .object "LawnPaths$Lawn"
  | 1 => .int
  | _ => .object "LawnPaths"
abbrev wsX100 : List Cond := u_ws RX10 TX10 3
theorem nmX10 : ∀ a, a < 3 → ∀ b, b < 3 → a ≠ b → (TX10 a).2.1 ≠ (TX10 b).2.1 := by decide +kernel
theorem tyX10_ok : ∀ k, k < 3 → parseFieldDescriptor (TX10 k).2.2.1 = some (tyX10 k) := by decide +kernel
abbrev cX10_init : ByteArray := prog_13_method_1_code
def yX10_init : MethodName := ⟨RX10, "<init>", "(LLawnPaths;[LLawnPaths$Change;)V"⟩
abbrev cX10_isDone : ByteArray := prog_13_method_2_code
def yX10_isDone : MethodName := ⟨RX10, "isDone", "(LLawnPaths$Change;)Z"⟩
theorem q183 : (Jvm.Cond.initialized "LawnPaths$Script") ∈ lw_all := lw_g (lw_at lw_m1 36 rfl) rfl
theorem q413 : (Jvm.Cond.selects "LawnPaths$Script" ({ cls := "java/lang/Object", name := "getClass", desc := "()Ljava/lang/Class;" } : Jvm.MethodName) ({ cls := "java/lang/Object", name := "getClass", desc := "()Ljava/lang/Class;" } : Jvm.MethodName)) ∈ lw_all := lw_g (lw_at lw_m2 26 rfl) rfl
theorem q552 : (Jvm.Cond.fieldLinkNest "LawnPaths$Script" (13 : Nat) "LawnPaths" "now" "LLawnPaths$Lawn;" "LawnPaths") ∈ lw_tbl := lw_at lw_m2 165 rfl
theorem q1850 : (Jvm.Cond.instantiable "LawnPaths$Script" (3 : Nat)) ∈ lw_all := lw_g (lw_at lw_m8 23 rfl) rfl
theorem q1852 : (Jvm.Cond.instanceMethod ({ cls := "LawnPaths$Script", name := "<init>", desc := "(LLawnPaths;[LLawnPaths$Change;)V" } : Jvm.MethodName)) ∈ lw_all := lw_g (lw_at lw_m8 25 rfl) rfl
theorem q1853 : (Jvm.Cond.code ({ cls := "LawnPaths$Script", name := "<init>", desc := "(LLawnPaths;[LLawnPaths$Change;)V" } : Jvm.MethodName) prog_13_method_1_code (3 : Nat) (Option.none : Option Jvm.ClassFile.FieldType)) ∈ lw_all := lw_g (lw_at lw_m8 26 rfl) rfl
theorem q1854 : (Jvm.Cond.methodLink "LawnPaths$Script" (7 : Nat) ({ cls := "java/lang/Object", name := "<init>", desc := "()V" } : Jvm.MethodName)) ∈ lw_all := lw_g (lw_at lw_m8 27 rfl) rfl
theorem q1855 : (Jvm.Cond.methodLink "LawnPaths$Script" (26 : Nat) ({ cls := "LawnPaths$Script", name := "isDone", desc := "(LLawnPaths$Change;)Z" } : Jvm.MethodName)) ∈ lw_all := lw_g (lw_at lw_m8 28 rfl) rfl
theorem q1856 : (Jvm.Cond.privateMethod ({ cls := "LawnPaths$Script", name := "isDone", desc := "(LLawnPaths$Change;)Z" } : Jvm.MethodName)) ∈ lw_tbl := lw_at lw_m8 29 rfl
theorem q1857 : (Jvm.Cond.instanceMethod ({ cls := "LawnPaths$Script", name := "isDone", desc := "(LLawnPaths$Change;)Z" } : Jvm.MethodName)) ∈ lw_all := lw_g (lw_at lw_m8 30 rfl) rfl
theorem q1858 : (Jvm.Cond.codeWith ({ cls := "LawnPaths$Script", name := "isDone", desc := "(LLawnPaths$Change;)Z" } : Jvm.MethodName) prog_13_method_2_code (4 : Nat) (Option.some Jvm.ClassFile.FieldType.boolean) [((8 : Nat), (19 : Nat), (23 : Nat), (42 : Nat))]) ∈ lw_all := lw_g (lw_at lw_m8 31 rfl) rfl
theorem q1859 : (Jvm.Cond.classLink "LawnPaths$Script" (42 : Nat) "LawnPaths$Unable") ∈ lw_all := lw_g (lw_at lw_m8 32 rfl) rfl
theorem q1860 : (Jvm.Cond.methodLink "LawnPaths$Script" (30 : Nat) ({ cls := "LawnPaths$Lawn", name := "copy", desc := "()LLawnPaths$Lawn;" } : Jvm.MethodName)) ∈ lw_all := lw_g (lw_at lw_m8 33 rfl) rfl
theorem q1861 : (Jvm.Cond.interfaceEntry "LawnPaths$Script" (36 : Nat)) ∈ lw_tbl := lw_at lw_m8 34 rfl
theorem q1862 : (Jvm.Cond.methodLink "LawnPaths$Script" (36 : Nat) ({ cls := "LawnPaths$Change", name := "does", desc := "(LLawnPaths$Lawn;)I" } : Jvm.MethodName)) ∈ lw_all := lw_g (lw_at lw_m8 35 rfl) rfl
theorem q1865 : (Jvm.Cond.fieldLink "LawnPaths$Script" (19 : Nat) "LawnPaths$Script" "lawn" "LLawnPaths$Lawn;") ∈ lw_all := lw_g (lw_at lw_m8 38 rfl) rfl
theorem q1867 : (Jvm.Cond.fieldLink "LawnPaths$Script" (22 : Nat) "LawnPaths$Script" "done" "I") ∈ lw_all := lw_g (lw_at lw_m8 40 rfl) rfl
theorem q1869 : (Jvm.Cond.fieldLink "LawnPaths$Script" (1 : Nat) "LawnPaths$Script" "this$0" "LLawnPaths;") ∈ lw_all := lw_g (lw_at lw_m8 42 rfl) rfl
theorem q1870 : (Jvm.Cond.lays "LawnPaths$Script" "LawnPaths$Script" "lawn" "LLawnPaths$Lawn;") ∈ lw_all := lw_g (lw_at lw_m8 43 rfl) rfl
theorem q1871 : (Jvm.Cond.soleField "LawnPaths$Script" "lawn") ∈ lw_all := lw_g (lw_at lw_m8 44 rfl) rfl
theorem q1872 : (Jvm.Cond.lays "LawnPaths$Script" "LawnPaths$Script" "done" "I") ∈ lw_all := lw_g (lw_at lw_m8 45 rfl) rfl
theorem q1873 : (Jvm.Cond.soleField "LawnPaths$Script" "done") ∈ lw_all := lw_g (lw_at lw_m8 46 rfl) rfl
theorem q1874 : (Jvm.Cond.laysFinal "LawnPaths$Script" "LawnPaths$Script" "this$0" "LLawnPaths;") ∈ lw_all := lw_g (lw_at lw_m8 47 rfl) rfl
theorem q1875 : (Jvm.Cond.soleField "LawnPaths$Script" "this$0") ∈ lw_all := lw_g (lw_at lw_m8 48 rfl) rfl
theorem q1876 : (Jvm.Cond.superclass "LawnPaths$Script" "java/lang/Object") ∈ lw_all := lw_g (lw_at lw_m8 49 rfl) rfl
theorem q2988 : (Jvm.Cond.castable "LawnPaths$Script" "java/lang/Object") ∈ lw_tbl := lw_at lw_m12 201 rfl
theorem in_X10 : ∀ w ∈ wsX100, w ∈ lw_all := lw_in wsX100 [1870, 1872, 1874] (by decide +kernel) (by decide +kernel)
/-! java/lang/IndexOutOfBoundsException -/
def RJ22 : String := "java/lang/IndexOutOfBoundsException"
def TJ22 : u_T := fun k => match k with
  | 0 => ("java/lang/Throwable", "cause", "Ljava/lang/Throwable;", false)
  | 1 => ("java/lang/Throwable", "stackTrace", "[Ljava/lang/StackTraceElement;", false)
  | 2 => ("java/lang/Throwable", "suppressedExceptions", "Ljava/util/List;", false)
  | 3 => ("java/lang/Throwable", "detailMessage", "Ljava/lang/String;", false)
  | 4 => ("java/lang/Throwable", "backtrace", "Ljava/lang/Object;", false)
  | _ => ("java/lang/Throwable", "depth", "I", false)
def tyJ22 : Nat → FieldType := fun k => match k with
  | 0 => .object "java/lang/Throwable"
  | 1 => .array (.object "java/lang/StackTraceElement")
  | 2 => .object "java/util/List"
  | 3 => .object "java/lang/String"
  | 4 => .object "java/lang/Object"
  | _ => .int
abbrev wsJ220 : List Cond := u_ws RJ22 TJ22 6
theorem nmJ22 : ∀ a, a < 6 → ∀ b, b < 6 → a ≠ b → (TJ22 a).2.1 ≠ (TJ22 b).2.1 := by decide +kernel
theorem tyJ22_ok : ∀ k, k < 6 → parseFieldDescriptor (TJ22 k).2.2.1 = some (tyJ22 k) := by decide +kernel
abbrev cJ22_init : ByteArray := prog_32_method_2_code
def yJ22_init : MethodName := ⟨RJ22, "<init>", "(Ljava/lang/String;)V"⟩
abbrev cJ22_init_2 : ByteArray := prog_32_method_1_code
def yJ22_init_2 : MethodName := ⟨RJ22, "<init>", "()V"⟩
theorem q184 : (Jvm.Cond.initialized "java/lang/IndexOutOfBoundsException") ∈ lw_all := lw_g (lw_at lw_m1 37 rfl) rfl
theorem q423 : (Jvm.Cond.selects "java/lang/IndexOutOfBoundsException" ({ cls := "java/lang/Object", name := "getClass", desc := "()Ljava/lang/Class;" } : Jvm.MethodName) ({ cls := "java/lang/Object", name := "getClass", desc := "()Ljava/lang/Class;" } : Jvm.MethodName)) ∈ lw_all := lw_g (lw_at lw_m2 36 rfl) rfl
theorem q751 : (Jvm.Cond.selects "java/lang/IndexOutOfBoundsException" ({ cls := "java/lang/Throwable", name := "fillInStackTrace", desc := "()Ljava/lang/Throwable;" } : Jvm.MethodName) ({ cls := "java/lang/Throwable", name := "fillInStackTrace", desc := "()Ljava/lang/Throwable;" } : Jvm.MethodName)) ∈ lw_all := lw_g (lw_at lw_m3 124 rfl) rfl
theorem q1292 : (Jvm.Cond.instanceMethod ({ cls := "java/lang/IndexOutOfBoundsException", name := "<init>", desc := "(Ljava/lang/String;)V" } : Jvm.MethodName)) ∈ lw_all := lw_g (lw_at lw_m5 185 rfl) rfl
theorem q1293 : (Jvm.Cond.code ({ cls := "java/lang/IndexOutOfBoundsException", name := "<init>", desc := "(Ljava/lang/String;)V" } : Jvm.MethodName) prog_32_method_2_code (2 : Nat) (Option.none : Option Jvm.ClassFile.FieldType)) ∈ lw_all := lw_g (lw_at lw_m5 186 rfl) rfl
theorem q1294 : (Jvm.Cond.methodLink "java/lang/IndexOutOfBoundsException" (7 : Nat) ({ cls := "java/lang/RuntimeException", name := "<init>", desc := "(Ljava/lang/String;)V" } : Jvm.MethodName)) ∈ lw_all := lw_g (lw_at lw_m5 187 rfl) rfl
theorem q1317 : (Jvm.Cond.declares ({ cls := "java/lang/IndexOutOfBoundsException", name := "<init>", desc := "()V" } : Jvm.MethodName)) ∈ lw_tbl := lw_at lw_m5 210 rfl
theorem q1318 : (Jvm.Cond.declares ({ cls := "java/lang/IndexOutOfBoundsException", name := "<init>", desc := "(Ljava/lang/String;)V" } : Jvm.MethodName)) ∈ lw_tbl := lw_at lw_m5 211 rfl
theorem q1938 : (Jvm.Cond.instantiable "java/lang/IndexOutOfBoundsException" (6 : Nat)) ∈ lw_all := lw_g (lw_at lw_m8 111 rfl) rfl
theorem q1939 : (Jvm.Cond.castable "java/lang/IndexOutOfBoundsException" "java/lang/IndexOutOfBoundsException") ∈ lw_tbl := lw_at lw_m8 112 rfl
theorem q1940 : (Jvm.Cond.selects "java/lang/IndexOutOfBoundsException" ({ cls := "java/lang/Throwable", name := "fillInStackTrace", desc := "(I)Ljava/lang/Throwable;" } : Jvm.MethodName) ({ cls := "java/lang/Throwable", name := "fillInStackTrace", desc := "(I)Ljava/lang/Throwable;" } : Jvm.MethodName)) ∈ lw_all := lw_g (lw_at lw_m8 113 rfl) rfl
theorem q1941 : (Jvm.Cond.lays "java/lang/IndexOutOfBoundsException" "java/lang/Throwable" "cause" "Ljava/lang/Throwable;") ∈ lw_all := lw_g (lw_at lw_m8 114 rfl) rfl
theorem q1942 : (Jvm.Cond.lays "java/lang/IndexOutOfBoundsException" "java/lang/Throwable" "stackTrace" "[Ljava/lang/StackTraceElement;") ∈ lw_all := lw_g (lw_at lw_m8 115 rfl) rfl
theorem q1943 : (Jvm.Cond.lays "java/lang/IndexOutOfBoundsException" "java/lang/Throwable" "suppressedExceptions" "Ljava/util/List;") ∈ lw_all := lw_g (lw_at lw_m8 116 rfl) rfl
theorem q1944 : (Jvm.Cond.lays "java/lang/IndexOutOfBoundsException" "java/lang/Throwable" "detailMessage" "Ljava/lang/String;") ∈ lw_all := lw_g (lw_at lw_m8 117 rfl) rfl
theorem q1945 : (Jvm.Cond.lays "java/lang/IndexOutOfBoundsException" "java/lang/Throwable" "backtrace" "Ljava/lang/Object;") ∈ lw_all := lw_g (lw_at lw_m8 118 rfl) rfl
theorem q1947 : (Jvm.Cond.instanceMethod ({ cls := "java/lang/IndexOutOfBoundsException", name := "<init>", desc := "()V" } : Jvm.MethodName)) ∈ lw_all := lw_g (lw_at lw_m8 120 rfl) rfl
theorem q1948 : (Jvm.Cond.code ({ cls := "java/lang/IndexOutOfBoundsException", name := "<init>", desc := "()V" } : Jvm.MethodName) prog_32_method_1_code (1 : Nat) (Option.none : Option Jvm.ClassFile.FieldType)) ∈ lw_all := lw_g (lw_at lw_m8 121 rfl) rfl
theorem q1949 : (Jvm.Cond.methodLink "java/lang/IndexOutOfBoundsException" (1 : Nat) ({ cls := "java/lang/RuntimeException", name := "<init>", desc := "()V" } : Jvm.MethodName)) ∈ lw_all := lw_g (lw_at lw_m8 122 rfl) rfl
theorem q1950 : (Jvm.Cond.lays "java/lang/IndexOutOfBoundsException" "java/lang/Throwable" "depth" "I") ∈ lw_all := lw_g (lw_at lw_m8 123 rfl) rfl
theorem q1951 : (Jvm.Cond.superclass "java/lang/IndexOutOfBoundsException" "java/lang/RuntimeException") ∈ lw_all := lw_g (lw_at lw_m8 124 rfl) rfl
theorem q2990 : (Jvm.Cond.castable "java/lang/IndexOutOfBoundsException" "java/lang/Object") ∈ lw_tbl := lw_at lw_m12 203 rfl
theorem in_J22 : ∀ w ∈ wsJ220, w ∈ lw_all := lw_in wsJ220 [1941, 1942, 1943, 1944, 1945, 1950] (by decide +kernel) (by decide +kernel)
/-! java/lang/ArrayIndexOutOfBoundsException -/
def RJ23 : String := "java/lang/ArrayIndexOutOfBoundsException"
def TJ23 : u_T := fun k => match k with
  | 0 => ("java/lang/Throwable", "cause", "Ljava/lang/Throwable;", false)
  | 1 => ("java/lang/Throwable", "stackTrace", "[Ljava/lang/StackTraceElement;", false)
  | 2 => ("java/lang/Throwable", "suppressedExceptions", "Ljava/util/List;", false)
  | 3 => ("java/lang/Throwable", "detailMessage", "Ljava/lang/String;", false)
  | 4 => ("java/lang/Throwable", "backtrace", "Ljava/lang/Object;", false)
  | _ => ("java/lang/Throwable", "depth", "I", false)
def tyJ23 : Nat → FieldType := fun k => match k with
  | 0 => .object "java/lang/Throwable"
  | 1 => .array (.object "java/lang/StackTraceElement")
  | 2 => .object "java/util/List"
  | 3 => .object "java/lang/String"
  | 4 => .object "java/lang/Object"
  | _ => .int
abbrev wsJ230 : List Cond := u_ws RJ23 TJ23 6
theorem nmJ23 : ∀ a, a < 6 → ∀ b, b < 6 → a ≠ b → (TJ23 a).2.1 ≠ (TJ23 b).2.1 := by decide +kernel
theorem tyJ23_ok : ∀ k, k < 6 → parseFieldDescriptor (TJ23 k).2.2.1 = some (tyJ23 k) := by decide +kernel
abbrev cJ23_init : ByteArray := prog_24_method_3_code
def yJ23_init : MethodName := ⟨RJ23, "<init>", "(I)V"⟩
abbrev cJ23_init_2 : ByteArray := prog_24_method_2_code
def yJ23_init_2 : MethodName := ⟨RJ23, "<init>", "(Ljava/lang/String;)V"⟩
theorem q185 : (Jvm.Cond.initialized "java/lang/ArrayIndexOutOfBoundsException") ∈ lw_all := lw_g (lw_at lw_m1 38 rfl) rfl
theorem q420 : (Jvm.Cond.selects "java/lang/ArrayIndexOutOfBoundsException" ({ cls := "java/lang/Object", name := "getClass", desc := "()Ljava/lang/Class;" } : Jvm.MethodName) ({ cls := "java/lang/Object", name := "getClass", desc := "()Ljava/lang/Class;" } : Jvm.MethodName)) ∈ lw_all := lw_g (lw_at lw_m2 33 rfl) rfl
theorem q749 : (Jvm.Cond.selects "java/lang/ArrayIndexOutOfBoundsException" ({ cls := "java/lang/Throwable", name := "fillInStackTrace", desc := "()Ljava/lang/Throwable;" } : Jvm.MethodName) ({ cls := "java/lang/Throwable", name := "fillInStackTrace", desc := "()Ljava/lang/Throwable;" } : Jvm.MethodName)) ∈ lw_all := lw_g (lw_at lw_m3 122 rfl) rfl
theorem q1315 : (Jvm.Cond.instantiable "java/lang/ArrayIndexOutOfBoundsException" (6 : Nat)) ∈ lw_all := lw_g (lw_at lw_m5 208 rfl) rfl
theorem q1316 : (Jvm.Cond.castable "java/lang/ArrayIndexOutOfBoundsException" "java/lang/ArrayIndexOutOfBoundsException") ∈ lw_tbl := lw_at lw_m5 209 rfl
theorem q1319 : (Jvm.Cond.selects "java/lang/ArrayIndexOutOfBoundsException" ({ cls := "java/lang/Throwable", name := "fillInStackTrace", desc := "(I)Ljava/lang/Throwable;" } : Jvm.MethodName) ({ cls := "java/lang/Throwable", name := "fillInStackTrace", desc := "(I)Ljava/lang/Throwable;" } : Jvm.MethodName)) ∈ lw_all := lw_g (lw_at lw_m5 212 rfl) rfl
theorem q1320 : (Jvm.Cond.lays "java/lang/ArrayIndexOutOfBoundsException" "java/lang/Throwable" "cause" "Ljava/lang/Throwable;") ∈ lw_all := lw_g (lw_at lw_m5 213 rfl) rfl
theorem q1321 : (Jvm.Cond.lays "java/lang/ArrayIndexOutOfBoundsException" "java/lang/Throwable" "stackTrace" "[Ljava/lang/StackTraceElement;") ∈ lw_all := lw_g (lw_at lw_m5 214 rfl) rfl
theorem q1322 : (Jvm.Cond.lays "java/lang/ArrayIndexOutOfBoundsException" "java/lang/Throwable" "suppressedExceptions" "Ljava/util/List;") ∈ lw_all := lw_g (lw_at lw_m5 215 rfl) rfl
theorem q1323 : (Jvm.Cond.lays "java/lang/ArrayIndexOutOfBoundsException" "java/lang/Throwable" "detailMessage" "Ljava/lang/String;") ∈ lw_all := lw_g (lw_at lw_m5 216 rfl) rfl
theorem q1324 : (Jvm.Cond.lays "java/lang/ArrayIndexOutOfBoundsException" "java/lang/Throwable" "backtrace" "Ljava/lang/Object;") ∈ lw_all := lw_g (lw_at lw_m5 217 rfl) rfl
theorem q1326 : (Jvm.Cond.instanceMethod ({ cls := "java/lang/ArrayIndexOutOfBoundsException", name := "<init>", desc := "(I)V" } : Jvm.MethodName)) ∈ lw_all := lw_g (lw_at lw_m5 219 rfl) rfl
theorem q1327 : (Jvm.Cond.code ({ cls := "java/lang/ArrayIndexOutOfBoundsException", name := "<init>", desc := "(I)V" } : Jvm.MethodName) prog_24_method_3_code (2 : Nat) (Option.none : Option Jvm.ClassFile.FieldType)) ∈ lw_all := lw_g (lw_at lw_m5 220 rfl) rfl
theorem q1328 : (Jvm.Cond.classLink "java/lang/ArrayIndexOutOfBoundsException" (10 : Nat) "java/lang/StringBuilder") ∈ lw_all := lw_g (lw_at lw_m5 221 rfl) rfl
theorem q1329 : (Jvm.Cond.methodLink "java/lang/ArrayIndexOutOfBoundsException" (12 : Nat) ({ cls := "java/lang/StringBuilder", name := "<init>", desc := "()V" } : Jvm.MethodName)) ∈ lw_all := lw_g (lw_at lw_m5 222 rfl) rfl
theorem q1330 : (Jvm.Cond.stringRef "java/lang/ArrayIndexOutOfBoundsException" (13 : Nat) "Array index out of range: ") ∈ lw_tbl := lw_at lw_m5 223 rfl
theorem q1331 : (Jvm.Cond.methodLink "java/lang/ArrayIndexOutOfBoundsException" (15 : Nat) ({ cls := "java/lang/StringBuilder", name := "append", desc := "(Ljava/lang/String;)Ljava/lang/StringBuilder;" } : Jvm.MethodName)) ∈ lw_all := lw_g (lw_at lw_m5 224 rfl) rfl
theorem q1332 : (Jvm.Cond.methodLink "java/lang/ArrayIndexOutOfBoundsException" (19 : Nat) ({ cls := "java/lang/StringBuilder", name := "append", desc := "(I)Ljava/lang/StringBuilder;" } : Jvm.MethodName)) ∈ lw_all := lw_g (lw_at lw_m5 225 rfl) rfl
theorem q1333 : (Jvm.Cond.methodLink "java/lang/ArrayIndexOutOfBoundsException" (22 : Nat) ({ cls := "java/lang/StringBuilder", name := "toString", desc := "()Ljava/lang/String;" } : Jvm.MethodName)) ∈ lw_all := lw_g (lw_at lw_m5 226 rfl) rfl
theorem q1334 : (Jvm.Cond.methodLink "java/lang/ArrayIndexOutOfBoundsException" (7 : Nat) ({ cls := "java/lang/IndexOutOfBoundsException", name := "<init>", desc := "(Ljava/lang/String;)V" } : Jvm.MethodName)) ∈ lw_all := lw_g (lw_at lw_m5 227 rfl) rfl
theorem q1335 : (Jvm.Cond.lays "java/lang/ArrayIndexOutOfBoundsException" "java/lang/Throwable" "depth" "I") ∈ lw_all := lw_g (lw_at lw_m5 228 rfl) rfl
theorem q1336 : (Jvm.Cond.superclass "java/lang/ArrayIndexOutOfBoundsException" "java/lang/IndexOutOfBoundsException") ∈ lw_all := lw_g (lw_at lw_m5 229 rfl) rfl
theorem q1924 : (Jvm.Cond.instanceMethod ({ cls := "java/lang/ArrayIndexOutOfBoundsException", name := "<init>", desc := "(Ljava/lang/String;)V" } : Jvm.MethodName)) ∈ lw_all := lw_g (lw_at lw_m8 97 rfl) rfl
theorem q1925 : (Jvm.Cond.code ({ cls := "java/lang/ArrayIndexOutOfBoundsException", name := "<init>", desc := "(Ljava/lang/String;)V" } : Jvm.MethodName) prog_24_method_2_code (2 : Nat) (Option.none : Option Jvm.ClassFile.FieldType)) ∈ lw_all := lw_g (lw_at lw_m8 98 rfl) rfl
theorem q2967 : (Jvm.Cond.castable "java/lang/ArrayIndexOutOfBoundsException" "java/lang/IndexOutOfBoundsException") ∈ lw_tbl := lw_at lw_m12 180 rfl
theorem q2989 : (Jvm.Cond.castable "java/lang/ArrayIndexOutOfBoundsException" "java/lang/Object") ∈ lw_tbl := lw_at lw_m12 202 rfl
theorem in_J23 : ∀ w ∈ wsJ230, w ∈ lw_all := lw_in wsJ230 [1320, 1321, 1322, 1323, 1324, 1335] (by decide +kernel) (by decide +kernel)
/-! LawnPaths$Lawn$1 -/
def RX11 : String := "LawnPaths$Lawn$1"
def TX11 : u_T := fun k => match k with
  | 0 => ("LawnPaths$Lawn$1", "val$w", "LLawnPaths$Walker;", true)
  | _ => ("LawnPaths$Lawn$1", "this$0", "LLawnPaths$Lawn;", true)
def tyX11 : Nat → FieldType := fun k => match k with
  | 0 => .object "LawnPaths$Walker"
  | _ => .object "LawnPaths$Lawn"
abbrev wsX110 : List Cond := u_ws RX11 TX11 2
theorem nmX11 : ∀ a, a < 2 → ∀ b, b < 2 → a ≠ b → (TX11 a).2.1 ≠ (TX11 b).2.1 := by decide +kernel
theorem tyX11_ok : ∀ k, k < 2 → parseFieldDescriptor (TX11 k).2.2.1 = some (tyX11 k) := by decide +kernel
abbrev cX11_init : ByteArray := prog_9_method_1_code
def yX11_init : MethodName := ⟨RX11, "<init>", "(LLawnPaths$Lawn;LLawnPaths$Walker;)V"⟩
abbrev cX11_iterator : ByteArray := prog_9_method_2_code
def yX11_iterator : MethodName := ⟨RX11, "iterator", "()Ljava/util/Iterator;"⟩
theorem q186 : (Jvm.Cond.initialized "LawnPaths$Lawn$1") ∈ lw_all := lw_g (lw_at lw_m1 39 rfl) rfl
theorem q410 : (Jvm.Cond.selects "LawnPaths$Lawn$1" ({ cls := "java/lang/Object", name := "getClass", desc := "()Ljava/lang/Class;" } : Jvm.MethodName) ({ cls := "java/lang/Object", name := "getClass", desc := "()Ljava/lang/Class;" } : Jvm.MethodName)) ∈ lw_all := lw_g (lw_at lw_m2 23 rfl) rfl
theorem q1036 : (Jvm.Cond.instantiable "LawnPaths$Lawn$1" (2 : Nat)) ∈ lw_all := lw_g (lw_at lw_m4 169 rfl) rfl
theorem q1038 : (Jvm.Cond.instanceMethod ({ cls := "LawnPaths$Lawn$1", name := "<init>", desc := "(LLawnPaths$Lawn;LLawnPaths$Walker;)V" } : Jvm.MethodName)) ∈ lw_all := lw_g (lw_at lw_m4 171 rfl) rfl
theorem q1039 : (Jvm.Cond.code ({ cls := "LawnPaths$Lawn$1", name := "<init>", desc := "(LLawnPaths$Lawn;LLawnPaths$Walker;)V" } : Jvm.MethodName) prog_9_method_1_code (3 : Nat) (Option.none : Option Jvm.ClassFile.FieldType)) ∈ lw_all := lw_g (lw_at lw_m4 172 rfl) rfl
theorem q1040 : (Jvm.Cond.methodLink "LawnPaths$Lawn$1" (11 : Nat) ({ cls := "java/lang/Object", name := "<init>", desc := "()V" } : Jvm.MethodName)) ∈ lw_all := lw_g (lw_at lw_m4 173 rfl) rfl
theorem q1041 : (Jvm.Cond.fieldLink "LawnPaths$Lawn$1" (7 : Nat) "LawnPaths$Lawn$1" "val$w" "LLawnPaths$Walker;") ∈ lw_all := lw_g (lw_at lw_m4 174 rfl) rfl
theorem q1042 : (Jvm.Cond.fieldLink "LawnPaths$Lawn$1" (1 : Nat) "LawnPaths$Lawn$1" "this$0" "LLawnPaths$Lawn;") ∈ lw_all := lw_g (lw_at lw_m4 175 rfl) rfl
theorem q1043 : (Jvm.Cond.laysFinal "LawnPaths$Lawn$1" "LawnPaths$Lawn$1" "val$w" "LLawnPaths$Walker;") ∈ lw_all := lw_g (lw_at lw_m4 176 rfl) rfl
theorem q1044 : (Jvm.Cond.soleField "LawnPaths$Lawn$1" "val$w") ∈ lw_all := lw_g (lw_at lw_m4 177 rfl) rfl
theorem q1045 : (Jvm.Cond.laysFinal "LawnPaths$Lawn$1" "LawnPaths$Lawn$1" "this$0" "LLawnPaths$Lawn;") ∈ lw_all := lw_g (lw_at lw_m4 178 rfl) rfl
theorem q1046 : (Jvm.Cond.soleField "LawnPaths$Lawn$1" "this$0") ∈ lw_all := lw_g (lw_at lw_m4 179 rfl) rfl
theorem q1047 : (Jvm.Cond.superclass "LawnPaths$Lawn$1" "java/lang/Object") ∈ lw_all := lw_g (lw_at lw_m4 180 rfl) rfl
theorem q1052 : (Jvm.Cond.castable "LawnPaths$Lawn$1" "java/lang/Iterable") ∈ lw_tbl := lw_at lw_m4 185 rfl
theorem q1053 : (Jvm.Cond.selects "LawnPaths$Lawn$1" ({ cls := "java/lang/Iterable", name := "iterator", desc := "()Ljava/util/Iterator;" } : Jvm.MethodName) ({ cls := "LawnPaths$Lawn$1", name := "iterator", desc := "()Ljava/util/Iterator;" } : Jvm.MethodName)) ∈ lw_all := lw_g (lw_at lw_m4 186 rfl) rfl
theorem q1054 : (Jvm.Cond.unhidden "LawnPaths$Lawn$1" "iterator" "()Ljava/util/Iterator;") ∈ lw_tbl := lw_at lw_m4 187 rfl
theorem q1055 : (Jvm.Cond.instanceMethod ({ cls := "LawnPaths$Lawn$1", name := "iterator", desc := "()Ljava/util/Iterator;" } : Jvm.MethodName)) ∈ lw_all := lw_g (lw_at lw_m4 188 rfl) rfl
theorem q1056 : (Jvm.Cond.publicMethod ({ cls := "LawnPaths$Lawn$1", name := "iterator", desc := "()Ljava/util/Iterator;" } : Jvm.MethodName)) ∈ lw_tbl := lw_at lw_m4 189 rfl
theorem q1057 : (Jvm.Cond.code ({ cls := "LawnPaths$Lawn$1", name := "iterator", desc := "()Ljava/util/Iterator;" } : Jvm.MethodName) prog_9_method_2_code (1 : Nat) (Option.some (Jvm.ClassFile.FieldType.object "java/util/Iterator"))) ∈ lw_all := lw_g (lw_at lw_m4 190 rfl) rfl
theorem q1058 : (Jvm.Cond.classLink "LawnPaths$Lawn$1" (17 : Nat) "LawnPaths$Lawn$Steps") ∈ lw_all := lw_g (lw_at lw_m4 191 rfl) rfl
theorem q1060 : (Jvm.Cond.methodLink "LawnPaths$Lawn$1" (19 : Nat) ({ cls := "LawnPaths$Lawn$Steps", name := "<init>", desc := "(LLawnPaths$Lawn;LLawnPaths$Walker;)V" } : Jvm.MethodName)) ∈ lw_all := lw_g (lw_at lw_m4 193 rfl) rfl
theorem q2991 : (Jvm.Cond.castable "LawnPaths$Lawn$1" "java/lang/Object") ∈ lw_tbl := lw_at lw_m12 204 rfl
theorem in_X11 : ∀ w ∈ wsX110, w ∈ lw_all := lw_in wsX110 [1043, 1045] (by decide +kernel) (by decide +kernel)
/-! LawnPaths$Lawn$Steps -/
def RX12 : String := "LawnPaths$Lawn$Steps"
def TX12 : u_T := fun k => match k with
  | 0 => ("LawnPaths$Lawn$Steps", "w", "LLawnPaths$Walker;", true)
  | 1 => ("LawnPaths$Lawn$Steps", "cell", "I", false)
  | 2 => ("LawnPaths$Lawn$Steps", "isDone", "Z", false)
  | _ => ("LawnPaths$Lawn$Steps", "this$0", "LLawnPaths$Lawn;", true)
def tyX12 : Nat → FieldType := fun k => match k with
  | 0 => .object "LawnPaths$Walker"
  | 1 => .int
  | 2 => .boolean
  | _ => .object "LawnPaths$Lawn"
abbrev wsX120 : List Cond := u_ws RX12 TX12 4
theorem nmX12 : ∀ a, a < 4 → ∀ b, b < 4 → a ≠ b → (TX12 a).2.1 ≠ (TX12 b).2.1 := by decide +kernel
theorem tyX12_ok : ∀ k, k < 4 → parseFieldDescriptor (TX12 k).2.2.1 = some (tyX12 k) := by decide +kernel
abbrev cX12_init : ByteArray := prog_10_method_1_code
def yX12_init : MethodName := ⟨RX12, "<init>", "(LLawnPaths$Lawn;LLawnPaths$Walker;)V"⟩
abbrev cX12_hasNext : ByteArray := prog_10_method_2_code
def yX12_hasNext : MethodName := ⟨RX12, "hasNext", "()Z"⟩
abbrev cX12_next : ByteArray := prog_10_method_4_code
def yX12_next : MethodName := ⟨RX12, "next", "()Ljava/lang/Object;"⟩
abbrev cX12_next_2 : ByteArray := prog_10_method_3_code
def yX12_next_2 : MethodName := ⟨RX12, "next", "()Ljava/lang/Integer;"⟩
theorem q187 : (Jvm.Cond.initialized "LawnPaths$Lawn$Steps") ∈ lw_all := lw_g (lw_at lw_m1 40 rfl) rfl
theorem q411 : (Jvm.Cond.selects "LawnPaths$Lawn$Steps" ({ cls := "java/lang/Object", name := "getClass", desc := "()Ljava/lang/Class;" } : Jvm.MethodName) ({ cls := "java/lang/Object", name := "getClass", desc := "()Ljava/lang/Class;" } : Jvm.MethodName)) ∈ lw_all := lw_g (lw_at lw_m2 24 rfl) rfl
theorem q463 : (Jvm.Cond.fieldLinkNest "LawnPaths$Lawn$Steps" (17 : Nat) "LawnPaths$Walker" "from" "I" "LawnPaths") ∈ lw_tbl := lw_at lw_m2 76 rfl
theorem q467 : (Jvm.Cond.fieldLinkNest "LawnPaths$Lawn$Steps" (39 : Nat) "LawnPaths$Walker" "to" "I" "LawnPaths") ∈ lw_tbl := lw_at lw_m2 80 rfl
theorem q1059 : (Jvm.Cond.instantiable "LawnPaths$Lawn$Steps" (4 : Nat)) ∈ lw_all := lw_g (lw_at lw_m4 192 rfl) rfl
theorem q1061 : (Jvm.Cond.instanceMethod ({ cls := "LawnPaths$Lawn$Steps", name := "<init>", desc := "(LLawnPaths$Lawn;LLawnPaths$Walker;)V" } : Jvm.MethodName)) ∈ lw_all := lw_g (lw_at lw_m4 194 rfl) rfl
theorem q1062 : (Jvm.Cond.code ({ cls := "LawnPaths$Lawn$Steps", name := "<init>", desc := "(LLawnPaths$Lawn;LLawnPaths$Walker;)V" } : Jvm.MethodName) prog_10_method_1_code (3 : Nat) (Option.none : Option Jvm.ClassFile.FieldType)) ∈ lw_all := lw_g (lw_at lw_m4 195 rfl) rfl
theorem q1063 : (Jvm.Cond.methodLink "LawnPaths$Lawn$Steps" (7 : Nat) ({ cls := "java/lang/Object", name := "<init>", desc := "()V" } : Jvm.MethodName)) ∈ lw_all := lw_g (lw_at lw_m4 196 rfl) rfl
theorem q1064 : (Jvm.Cond.methodLink "LawnPaths$Lawn$Steps" (23 : Nat) ({ cls := "LawnPaths$Lawn", name := "cellOf", desc := "(I)I" } : Jvm.MethodName)) ∈ lw_all := lw_g (lw_at lw_m4 197 rfl) rfl
theorem q1065 : (Jvm.Cond.fieldLink "LawnPaths$Lawn$Steps" (13 : Nat) "LawnPaths$Lawn$Steps" "w" "LLawnPaths$Walker;") ∈ lw_all := lw_g (lw_at lw_m4 198 rfl) rfl
theorem q1066 : (Jvm.Cond.fieldLink "LawnPaths$Lawn$Steps" (29 : Nat) "LawnPaths$Lawn$Steps" "cell" "I") ∈ lw_all := lw_g (lw_at lw_m4 199 rfl) rfl
theorem q1067 : (Jvm.Cond.fieldLink "LawnPaths$Lawn$Steps" (32 : Nat) "LawnPaths$Lawn$Steps" "isDone" "Z") ∈ lw_all := lw_g (lw_at lw_m4 200 rfl) rfl
theorem q1068 : (Jvm.Cond.fieldLink "LawnPaths$Lawn$Steps" (1 : Nat) "LawnPaths$Lawn$Steps" "this$0" "LLawnPaths$Lawn;") ∈ lw_all := lw_g (lw_at lw_m4 201 rfl) rfl
theorem q1069 : (Jvm.Cond.laysFinal "LawnPaths$Lawn$Steps" "LawnPaths$Lawn$Steps" "w" "LLawnPaths$Walker;") ∈ lw_all := lw_g (lw_at lw_m4 202 rfl) rfl
theorem q1070 : (Jvm.Cond.soleField "LawnPaths$Lawn$Steps" "w") ∈ lw_all := lw_g (lw_at lw_m4 203 rfl) rfl
theorem q1071 : (Jvm.Cond.lays "LawnPaths$Lawn$Steps" "LawnPaths$Lawn$Steps" "cell" "I") ∈ lw_all := lw_g (lw_at lw_m4 204 rfl) rfl
theorem q1072 : (Jvm.Cond.soleField "LawnPaths$Lawn$Steps" "cell") ∈ lw_all := lw_g (lw_at lw_m4 205 rfl) rfl
theorem q1073 : (Jvm.Cond.lays "LawnPaths$Lawn$Steps" "LawnPaths$Lawn$Steps" "isDone" "Z") ∈ lw_all := lw_g (lw_at lw_m4 206 rfl) rfl
theorem q1074 : (Jvm.Cond.soleField "LawnPaths$Lawn$Steps" "isDone") ∈ lw_all := lw_g (lw_at lw_m4 207 rfl) rfl
theorem q1075 : (Jvm.Cond.laysFinal "LawnPaths$Lawn$Steps" "LawnPaths$Lawn$Steps" "this$0" "LLawnPaths$Lawn;") ∈ lw_all := lw_g (lw_at lw_m4 208 rfl) rfl
theorem q1076 : (Jvm.Cond.soleField "LawnPaths$Lawn$Steps" "this$0") ∈ lw_all := lw_g (lw_at lw_m4 209 rfl) rfl
theorem q1077 : (Jvm.Cond.superclass "LawnPaths$Lawn$Steps" "java/lang/Object") ∈ lw_all := lw_g (lw_at lw_m4 210 rfl) rfl
theorem q1139 : (Jvm.Cond.castable "LawnPaths$Lawn$Steps" "java/util/Iterator") ∈ lw_tbl := lw_at lw_m5 32 rfl
theorem q1140 : (Jvm.Cond.selects "LawnPaths$Lawn$Steps" ({ cls := "java/util/Iterator", name := "hasNext", desc := "()Z" } : Jvm.MethodName) ({ cls := "LawnPaths$Lawn$Steps", name := "hasNext", desc := "()Z" } : Jvm.MethodName)) ∈ lw_all := lw_g (lw_at lw_m5 33 rfl) rfl
theorem q1141 : (Jvm.Cond.unhidden "LawnPaths$Lawn$Steps" "hasNext" "()Z") ∈ lw_tbl := lw_at lw_m5 34 rfl
theorem q1142 : (Jvm.Cond.instanceMethod ({ cls := "LawnPaths$Lawn$Steps", name := "hasNext", desc := "()Z" } : Jvm.MethodName)) ∈ lw_all := lw_g (lw_at lw_m5 35 rfl) rfl
theorem q1143 : (Jvm.Cond.publicMethod ({ cls := "LawnPaths$Lawn$Steps", name := "hasNext", desc := "()Z" } : Jvm.MethodName)) ∈ lw_tbl := lw_at lw_m5 36 rfl
theorem q1144 : (Jvm.Cond.code ({ cls := "LawnPaths$Lawn$Steps", name := "hasNext", desc := "()Z" } : Jvm.MethodName) prog_10_method_2_code (1 : Nat) (Option.some Jvm.ClassFile.FieldType.boolean)) ∈ lw_all := lw_g (lw_at lw_m5 37 rfl) rfl
theorem q1161 : (Jvm.Cond.selects "LawnPaths$Lawn$Steps" ({ cls := "java/util/Iterator", name := "next", desc := "()Ljava/lang/Object;" } : Jvm.MethodName) ({ cls := "LawnPaths$Lawn$Steps", name := "next", desc := "()Ljava/lang/Object;" } : Jvm.MethodName)) ∈ lw_all := lw_g (lw_at lw_m5 54 rfl) rfl
theorem q1162 : (Jvm.Cond.unhidden "LawnPaths$Lawn$Steps" "next" "()Ljava/lang/Object;") ∈ lw_tbl := lw_at lw_m5 55 rfl
theorem q1163 : (Jvm.Cond.instanceMethod ({ cls := "LawnPaths$Lawn$Steps", name := "next", desc := "()Ljava/lang/Object;" } : Jvm.MethodName)) ∈ lw_all := lw_g (lw_at lw_m5 56 rfl) rfl
theorem q1164 : (Jvm.Cond.publicMethod ({ cls := "LawnPaths$Lawn$Steps", name := "next", desc := "()Ljava/lang/Object;" } : Jvm.MethodName)) ∈ lw_tbl := lw_at lw_m5 57 rfl
theorem q1165 : (Jvm.Cond.code ({ cls := "LawnPaths$Lawn$Steps", name := "next", desc := "()Ljava/lang/Object;" } : Jvm.MethodName) prog_10_method_4_code (1 : Nat) (Option.some (Jvm.ClassFile.FieldType.object "java/lang/Object"))) ∈ lw_all := lw_g (lw_at lw_m5 58 rfl) rfl
theorem q1166 : (Jvm.Cond.methodLink "LawnPaths$Lawn$Steps" (56 : Nat) ({ cls := "LawnPaths$Lawn$Steps", name := "next", desc := "()Ljava/lang/Integer;" } : Jvm.MethodName)) ∈ lw_all := lw_g (lw_at lw_m5 59 rfl) rfl
theorem q1167 : (Jvm.Cond.instanceMethod ({ cls := "LawnPaths$Lawn$Steps", name := "next", desc := "()Ljava/lang/Integer;" } : Jvm.MethodName)) ∈ lw_all := lw_g (lw_at lw_m5 60 rfl) rfl
theorem q1168 : (Jvm.Cond.selects "LawnPaths$Lawn$Steps" ({ cls := "LawnPaths$Lawn$Steps", name := "next", desc := "()Ljava/lang/Integer;" } : Jvm.MethodName) ({ cls := "LawnPaths$Lawn$Steps", name := "next", desc := "()Ljava/lang/Integer;" } : Jvm.MethodName)) ∈ lw_all := lw_g (lw_at lw_m5 61 rfl) rfl
theorem q1169 : (Jvm.Cond.code ({ cls := "LawnPaths$Lawn$Steps", name := "next", desc := "()Ljava/lang/Integer;" } : Jvm.MethodName) prog_10_method_3_code (2 : Nat) (Option.some (Jvm.ClassFile.FieldType.object "java/lang/Integer"))) ∈ lw_all := lw_g (lw_at lw_m5 62 rfl) rfl
theorem q1170 : (Jvm.Cond.classLink "LawnPaths$Lawn$Steps" (36 : Nat) "java/util/NoSuchElementException") ∈ lw_all := lw_g (lw_at lw_m5 63 rfl) rfl
theorem q1179 : (Jvm.Cond.methodLink "LawnPaths$Lawn$Steps" (38 : Nat) ({ cls := "java/util/NoSuchElementException", name := "<init>", desc := "()V" } : Jvm.MethodName)) ∈ lw_all := lw_g (lw_at lw_m5 72 rfl) rfl
theorem q1191 : (Jvm.Cond.methodLink "LawnPaths$Lawn$Steps" (42 : Nat) ({ cls := "LawnPaths$Lawn", name := "goesOn", desc := "(LLawnPaths$Walker;I)I" } : Jvm.MethodName)) ∈ lw_all := lw_g (lw_at lw_m5 84 rfl) rfl
theorem q1195 : (Jvm.Cond.methodLink "LawnPaths$Lawn$Steps" (46 : Nat) ({ cls := "LawnPaths$Lawn", name := "next", desc := "(II)I" } : Jvm.MethodName)) ∈ lw_all := lw_g (lw_at lw_m5 88 rfl) rfl
theorem q1196 : (Jvm.Cond.methodLink "LawnPaths$Lawn$Steps" (50 : Nat) ({ cls := "java/lang/Integer", name := "valueOf", desc := "(I)Ljava/lang/Integer;" } : Jvm.MethodName)) ∈ lw_all := lw_g (lw_at lw_m5 89 rfl) rfl
theorem q2992 : (Jvm.Cond.castable "LawnPaths$Lawn$Steps" "java/lang/Object") ∈ lw_tbl := lw_at lw_m12 205 rfl
theorem in_X12 : ∀ w ∈ wsX120, w ∈ lw_all := lw_in wsX120 [1069, 1071, 1073, 1075] (by decide +kernel) (by decide +kernel)
/-! java/util/ArrayDeque$DeqIterator -/
def RJ24 : String := "java/util/ArrayDeque$DeqIterator"
def TJ24 : u_T := fun k => match k with
  | 0 => ("java/util/ArrayDeque$DeqIterator", "cursor", "I", false)
  | 1 => ("java/util/ArrayDeque$DeqIterator", "remaining", "I", false)
  | 2 => ("java/util/ArrayDeque$DeqIterator", "lastRet", "I", false)
  | _ => ("java/util/ArrayDeque$DeqIterator", "this$0", "Ljava/util/ArrayDeque;", true)
def tyJ24 : Nat → FieldType := fun k => match k with
  | 0 => .int
  | 1 => .int
  | 2 => .int
  | _ => .object "java/util/ArrayDeque"
abbrev wsJ240 : List Cond := u_ws RJ24 TJ24 4
theorem nmJ24 : ∀ a, a < 4 → ∀ b, b < 4 → a ≠ b → (TJ24 a).2.1 ≠ (TJ24 b).2.1 := by decide +kernel
theorem tyJ24_ok : ∀ k, k < 4 → parseFieldDescriptor (TJ24 k).2.2.1 = some (tyJ24 k) := by decide +kernel
abbrev cJ24_init : ByteArray := prog_53_method_1_code
def yJ24_init : MethodName := ⟨RJ24, "<init>", "(Ljava/util/ArrayDeque;)V"⟩
abbrev cJ24_hasNext : ByteArray := prog_53_method_2_code
def yJ24_hasNext : MethodName := ⟨RJ24, "hasNext", "()Z"⟩
abbrev cJ24_next : ByteArray := prog_53_method_3_code
def yJ24_next : MethodName := ⟨RJ24, "next", "()Ljava/lang/Object;"⟩
theorem q188 : (Jvm.Cond.initialized "java/util/ArrayDeque$DeqIterator") ∈ lw_all := lw_g (lw_at lw_m1 41 rfl) rfl
theorem q430 : (Jvm.Cond.selects "java/util/ArrayDeque$DeqIterator" ({ cls := "java/lang/Object", name := "getClass", desc := "()Ljava/lang/Class;" } : Jvm.MethodName) ({ cls := "java/lang/Object", name := "getClass", desc := "()Ljava/lang/Class;" } : Jvm.MethodName)) ∈ lw_all := lw_g (lw_at lw_m2 43 rfl) rfl
theorem q509 : (Jvm.Cond.fieldLink "java/util/ArrayDeque$DeqIterator" (35 : Nat) "java/util/ArrayDeque" "elements" "[Ljava/lang/Object;") ∈ lw_all := lw_g (lw_at lw_m2 122 rfl) rfl
theorem q510 : (Jvm.Cond.fieldLink "java/util/ArrayDeque$DeqIterator" (26 : Nat) "java/util/ArrayDeque" "head" "I") ∈ lw_all := lw_g (lw_at lw_m2 123 rfl) rfl
theorem q1085 : (Jvm.Cond.instantiable "java/util/ArrayDeque$DeqIterator" (4 : Nat)) ∈ lw_all := lw_g (lw_at lw_m4 218 rfl) rfl
theorem q1087 : (Jvm.Cond.instanceMethod ({ cls := "java/util/ArrayDeque$DeqIterator", name := "<init>", desc := "(Ljava/util/ArrayDeque;)V" } : Jvm.MethodName)) ∈ lw_all := lw_g (lw_at lw_m4 220 rfl) rfl
theorem q1088 : (Jvm.Cond.code ({ cls := "java/util/ArrayDeque$DeqIterator", name := "<init>", desc := "(Ljava/util/ArrayDeque;)V" } : Jvm.MethodName) prog_53_method_1_code (2 : Nat) (Option.none : Option Jvm.ClassFile.FieldType)) ∈ lw_all := lw_g (lw_at lw_m4 221 rfl) rfl
theorem q1089 : (Jvm.Cond.methodLink "java/util/ArrayDeque$DeqIterator" (7 : Nat) ({ cls := "java/lang/Object", name := "<init>", desc := "()V" } : Jvm.MethodName)) ∈ lw_all := lw_g (lw_at lw_m4 222 rfl) rfl
theorem q1090 : (Jvm.Cond.methodLink "java/util/ArrayDeque$DeqIterator" (13 : Nat) ({ cls := "java/util/ArrayDeque", name := "size", desc := "()I" } : Jvm.MethodName)) ∈ lw_all := lw_g (lw_at lw_m4 223 rfl) rfl
theorem q1097 : (Jvm.Cond.fieldLink "java/util/ArrayDeque$DeqIterator" (29 : Nat) "java/util/ArrayDeque$DeqIterator" "cursor" "I") ∈ lw_all := lw_g (lw_at lw_m4 230 rfl) rfl
theorem q1098 : (Jvm.Cond.fieldLink "java/util/ArrayDeque$DeqIterator" (19 : Nat) "java/util/ArrayDeque$DeqIterator" "remaining" "I") ∈ lw_all := lw_g (lw_at lw_m4 231 rfl) rfl
theorem q1099 : (Jvm.Cond.fieldLink "java/util/ArrayDeque$DeqIterator" (23 : Nat) "java/util/ArrayDeque$DeqIterator" "lastRet" "I") ∈ lw_all := lw_g (lw_at lw_m4 232 rfl) rfl
theorem q1100 : (Jvm.Cond.fieldLink "java/util/ArrayDeque$DeqIterator" (1 : Nat) "java/util/ArrayDeque$DeqIterator" "this$0" "Ljava/util/ArrayDeque;") ∈ lw_all := lw_g (lw_at lw_m4 233 rfl) rfl
theorem q1101 : (Jvm.Cond.lays "java/util/ArrayDeque$DeqIterator" "java/util/ArrayDeque$DeqIterator" "cursor" "I") ∈ lw_all := lw_g (lw_at lw_m4 234 rfl) rfl
theorem q1102 : (Jvm.Cond.soleField "java/util/ArrayDeque$DeqIterator" "cursor") ∈ lw_all := lw_g (lw_at lw_m4 235 rfl) rfl
theorem q1103 : (Jvm.Cond.lays "java/util/ArrayDeque$DeqIterator" "java/util/ArrayDeque$DeqIterator" "remaining" "I") ∈ lw_all := lw_g (lw_at lw_m4 236 rfl) rfl
theorem q1104 : (Jvm.Cond.soleField "java/util/ArrayDeque$DeqIterator" "remaining") ∈ lw_all := lw_g (lw_at lw_m4 237 rfl) rfl
theorem q1105 : (Jvm.Cond.lays "java/util/ArrayDeque$DeqIterator" "java/util/ArrayDeque$DeqIterator" "lastRet" "I") ∈ lw_all := lw_g (lw_at lw_m4 238 rfl) rfl
theorem q1106 : (Jvm.Cond.soleField "java/util/ArrayDeque$DeqIterator" "lastRet") ∈ lw_all := lw_g (lw_at lw_m4 239 rfl) rfl
theorem q1107 : (Jvm.Cond.laysFinal "java/util/ArrayDeque$DeqIterator" "java/util/ArrayDeque$DeqIterator" "this$0" "Ljava/util/ArrayDeque;") ∈ lw_all := lw_g (lw_at lw_m5 0 rfl) rfl
theorem q1108 : (Jvm.Cond.soleField "java/util/ArrayDeque$DeqIterator" "this$0") ∈ lw_all := lw_g (lw_at lw_m5 1 rfl) rfl
theorem q1109 : (Jvm.Cond.superclass "java/util/ArrayDeque$DeqIterator" "java/lang/Object") ∈ lw_all := lw_g (lw_at lw_m5 2 rfl) rfl
theorem q1145 : (Jvm.Cond.castable "java/util/ArrayDeque$DeqIterator" "java/util/Iterator") ∈ lw_tbl := lw_at lw_m5 38 rfl
theorem q1146 : (Jvm.Cond.selects "java/util/ArrayDeque$DeqIterator" ({ cls := "java/util/Iterator", name := "hasNext", desc := "()Z" } : Jvm.MethodName) ({ cls := "java/util/ArrayDeque$DeqIterator", name := "hasNext", desc := "()Z" } : Jvm.MethodName)) ∈ lw_all := lw_g (lw_at lw_m5 39 rfl) rfl
theorem q1147 : (Jvm.Cond.unhidden "java/util/ArrayDeque$DeqIterator" "hasNext" "()Z") ∈ lw_tbl := lw_at lw_m5 40 rfl
theorem q1148 : (Jvm.Cond.instanceMethod ({ cls := "java/util/ArrayDeque$DeqIterator", name := "hasNext", desc := "()Z" } : Jvm.MethodName)) ∈ lw_all := lw_g (lw_at lw_m5 41 rfl) rfl
theorem q1149 : (Jvm.Cond.publicMethod ({ cls := "java/util/ArrayDeque$DeqIterator", name := "hasNext", desc := "()Z" } : Jvm.MethodName)) ∈ lw_tbl := lw_at lw_m5 42 rfl
theorem q1150 : (Jvm.Cond.code ({ cls := "java/util/ArrayDeque$DeqIterator", name := "hasNext", desc := "()Z" } : Jvm.MethodName) prog_53_method_2_code (1 : Nat) (Option.some Jvm.ClassFile.FieldType.boolean)) ∈ lw_all := lw_g (lw_at lw_m5 43 rfl) rfl
theorem q1216 : (Jvm.Cond.selects "java/util/ArrayDeque$DeqIterator" ({ cls := "java/util/Iterator", name := "next", desc := "()Ljava/lang/Object;" } : Jvm.MethodName) ({ cls := "java/util/ArrayDeque$DeqIterator", name := "next", desc := "()Ljava/lang/Object;" } : Jvm.MethodName)) ∈ lw_all := lw_g (lw_at lw_m5 109 rfl) rfl
theorem q1217 : (Jvm.Cond.unhidden "java/util/ArrayDeque$DeqIterator" "next" "()Ljava/lang/Object;") ∈ lw_tbl := lw_at lw_m5 110 rfl
theorem q1218 : (Jvm.Cond.instanceMethod ({ cls := "java/util/ArrayDeque$DeqIterator", name := "next", desc := "()Ljava/lang/Object;" } : Jvm.MethodName)) ∈ lw_all := lw_g (lw_at lw_m5 111 rfl) rfl
theorem q1219 : (Jvm.Cond.publicMethod ({ cls := "java/util/ArrayDeque$DeqIterator", name := "next", desc := "()Ljava/lang/Object;" } : Jvm.MethodName)) ∈ lw_tbl := lw_at lw_m5 112 rfl
theorem q1220 : (Jvm.Cond.code ({ cls := "java/util/ArrayDeque$DeqIterator", name := "next", desc := "()Ljava/lang/Object;" } : Jvm.MethodName) prog_53_method_3_code (3 : Nat) (Option.some (Jvm.ClassFile.FieldType.object "java/lang/Object"))) ∈ lw_all := lw_g (lw_at lw_m5 113 rfl) rfl
theorem q1221 : (Jvm.Cond.methodLink "java/util/ArrayDeque$DeqIterator" (39 : Nat) ({ cls := "java/util/ArrayDeque", name := "nonNullElementAt", desc := "([Ljava/lang/Object;I)Ljava/lang/Object;" } : Jvm.MethodName)) ∈ lw_all := lw_g (lw_at lw_m5 114 rfl) rfl
theorem q1224 : (Jvm.Cond.methodLink "java/util/ArrayDeque$DeqIterator" (43 : Nat) ({ cls := "java/util/ArrayDeque", name := "inc", desc := "(II)I" } : Jvm.MethodName)) ∈ lw_all := lw_g (lw_at lw_m5 117 rfl) rfl
theorem q2993 : (Jvm.Cond.castable "java/util/ArrayDeque$DeqIterator" "java/lang/Object") ∈ lw_tbl := lw_at lw_m12 206 rfl
theorem in_J24 : ∀ w ∈ wsJ240, w ∈ lw_all := lw_in wsJ240 [1101, 1103, 1105, 1107] (by decide +kernel) (by decide +kernel)
/-! java/util/ArrayList$Itr -/
def RJ25 : String := "java/util/ArrayList$Itr"
def TJ25 : u_T := fun k => match k with
  | 0 => ("java/util/ArrayList$Itr", "cursor", "I", false)
  | 1 => ("java/util/ArrayList$Itr", "lastRet", "I", false)
  | 2 => ("java/util/ArrayList$Itr", "expectedModCount", "I", false)
  | _ => ("java/util/ArrayList$Itr", "this$0", "Ljava/util/ArrayList;", true)
def tyJ25 : Nat → FieldType := fun k => match k with
  | 0 => .int
  | 1 => .int
  | 2 => .int
  | _ => .object "java/util/ArrayList"
abbrev wsJ250 : List Cond := u_ws RJ25 TJ25 4
theorem nmJ25 : ∀ a, a < 4 → ∀ b, b < 4 → a ≠ b → (TJ25 a).2.1 ≠ (TJ25 b).2.1 := by decide +kernel
theorem tyJ25_ok : ∀ k, k < 4 → parseFieldDescriptor (TJ25 k).2.2.1 = some (tyJ25 k) := by decide +kernel
abbrev cJ25_init : ByteArray := prog_55_method_1_code
def yJ25_init : MethodName := ⟨RJ25, "<init>", "(Ljava/util/ArrayList;)V"⟩
abbrev cJ25_hasNext : ByteArray := prog_55_method_2_code
def yJ25_hasNext : MethodName := ⟨RJ25, "hasNext", "()Z"⟩
abbrev cJ25_next : ByteArray := prog_55_method_3_code
def yJ25_next : MethodName := ⟨RJ25, "next", "()Ljava/lang/Object;"⟩
abbrev cJ25_checkForComodification : ByteArray := prog_55_method_6_code
def yJ25_checkForComodification : MethodName := ⟨RJ25, "checkForComodification", "()V"⟩
theorem q189 : (Jvm.Cond.initialized "java/util/ArrayList$Itr") ∈ lw_all := lw_g (lw_at lw_m1 42 rfl) rfl
theorem q230 : (Jvm.Cond.fieldLink "java/util/ArrayList$Itr" (37 : Nat) "java/util/ArrayList" "elementData" "[Ljava/lang/Object;") ∈ lw_all := lw_g (lw_at lw_m1 83 rfl) rfl
theorem q231 : (Jvm.Cond.fieldLinkNest "java/util/ArrayList$Itr" (28 : Nat) "java/util/ArrayList" "size" "I" "java/util/ArrayList") ∈ lw_tbl := lw_at lw_m1 84 rfl
theorem q234 : (Jvm.Cond.fieldLink "java/util/ArrayList$Itr" (17 : Nat) "java/util/ArrayList" "modCount" "I") ∈ lw_all := lw_g (lw_at lw_m1 87 rfl) rfl
theorem q432 : (Jvm.Cond.selects "java/util/ArrayList$Itr" ({ cls := "java/lang/Object", name := "getClass", desc := "()Ljava/lang/Class;" } : Jvm.MethodName) ({ cls := "java/lang/Object", name := "getClass", desc := "()Ljava/lang/Class;" } : Jvm.MethodName)) ∈ lw_all := lw_g (lw_at lw_m2 45 rfl) rfl
theorem q1117 : (Jvm.Cond.instantiable "java/util/ArrayList$Itr" (4 : Nat)) ∈ lw_all := lw_g (lw_at lw_m5 10 rfl) rfl
theorem q1119 : (Jvm.Cond.instanceMethod ({ cls := "java/util/ArrayList$Itr", name := "<init>", desc := "(Ljava/util/ArrayList;)V" } : Jvm.MethodName)) ∈ lw_all := lw_g (lw_at lw_m5 12 rfl) rfl
theorem q1120 : (Jvm.Cond.code ({ cls := "java/util/ArrayList$Itr", name := "<init>", desc := "(Ljava/util/ArrayList;)V" } : Jvm.MethodName) prog_55_method_1_code (2 : Nat) (Option.none : Option Jvm.ClassFile.FieldType)) ∈ lw_all := lw_g (lw_at lw_m5 13 rfl) rfl
theorem q1121 : (Jvm.Cond.methodLink "java/util/ArrayList$Itr" (7 : Nat) ({ cls := "java/lang/Object", name := "<init>", desc := "()V" } : Jvm.MethodName)) ∈ lw_all := lw_g (lw_at lw_m5 14 rfl) rfl
theorem q1122 : (Jvm.Cond.fieldLink "java/util/ArrayList$Itr" (25 : Nat) "java/util/ArrayList$Itr" "cursor" "I") ∈ lw_all := lw_g (lw_at lw_m5 15 rfl) rfl
theorem q1123 : (Jvm.Cond.fieldLink "java/util/ArrayList$Itr" (13 : Nat) "java/util/ArrayList$Itr" "lastRet" "I") ∈ lw_all := lw_g (lw_at lw_m5 16 rfl) rfl
theorem q1124 : (Jvm.Cond.fieldLink "java/util/ArrayList$Itr" (22 : Nat) "java/util/ArrayList$Itr" "expectedModCount" "I") ∈ lw_all := lw_g (lw_at lw_m5 17 rfl) rfl
theorem q1125 : (Jvm.Cond.fieldLink "java/util/ArrayList$Itr" (1 : Nat) "java/util/ArrayList$Itr" "this$0" "Ljava/util/ArrayList;") ∈ lw_all := lw_g (lw_at lw_m5 18 rfl) rfl
theorem q1126 : (Jvm.Cond.lays "java/util/ArrayList$Itr" "java/util/ArrayList$Itr" "cursor" "I") ∈ lw_all := lw_g (lw_at lw_m5 19 rfl) rfl
theorem q1127 : (Jvm.Cond.soleField "java/util/ArrayList$Itr" "cursor") ∈ lw_all := lw_g (lw_at lw_m5 20 rfl) rfl
theorem q1128 : (Jvm.Cond.lays "java/util/ArrayList$Itr" "java/util/ArrayList$Itr" "lastRet" "I") ∈ lw_all := lw_g (lw_at lw_m5 21 rfl) rfl
theorem q1129 : (Jvm.Cond.soleField "java/util/ArrayList$Itr" "lastRet") ∈ lw_all := lw_g (lw_at lw_m5 22 rfl) rfl
theorem q1130 : (Jvm.Cond.lays "java/util/ArrayList$Itr" "java/util/ArrayList$Itr" "expectedModCount" "I") ∈ lw_all := lw_g (lw_at lw_m5 23 rfl) rfl
theorem q1131 : (Jvm.Cond.soleField "java/util/ArrayList$Itr" "expectedModCount") ∈ lw_all := lw_g (lw_at lw_m5 24 rfl) rfl
theorem q1132 : (Jvm.Cond.laysFinal "java/util/ArrayList$Itr" "java/util/ArrayList$Itr" "this$0" "Ljava/util/ArrayList;") ∈ lw_all := lw_g (lw_at lw_m5 25 rfl) rfl
theorem q1133 : (Jvm.Cond.soleField "java/util/ArrayList$Itr" "this$0") ∈ lw_all := lw_g (lw_at lw_m5 26 rfl) rfl
theorem q1134 : (Jvm.Cond.superclass "java/util/ArrayList$Itr" "java/lang/Object") ∈ lw_all := lw_g (lw_at lw_m5 27 rfl) rfl
theorem q1151 : (Jvm.Cond.castable "java/util/ArrayList$Itr" "java/util/Iterator") ∈ lw_tbl := lw_at lw_m5 44 rfl
theorem q1152 : (Jvm.Cond.selects "java/util/ArrayList$Itr" ({ cls := "java/util/Iterator", name := "hasNext", desc := "()Z" } : Jvm.MethodName) ({ cls := "java/util/ArrayList$Itr", name := "hasNext", desc := "()Z" } : Jvm.MethodName)) ∈ lw_all := lw_g (lw_at lw_m5 45 rfl) rfl
theorem q1153 : (Jvm.Cond.unhidden "java/util/ArrayList$Itr" "hasNext" "()Z") ∈ lw_tbl := lw_at lw_m5 46 rfl
theorem q1154 : (Jvm.Cond.instanceMethod ({ cls := "java/util/ArrayList$Itr", name := "hasNext", desc := "()Z" } : Jvm.MethodName)) ∈ lw_all := lw_g (lw_at lw_m5 47 rfl) rfl
theorem q1155 : (Jvm.Cond.publicMethod ({ cls := "java/util/ArrayList$Itr", name := "hasNext", desc := "()Z" } : Jvm.MethodName)) ∈ lw_tbl := lw_at lw_m5 48 rfl
theorem q1156 : (Jvm.Cond.code ({ cls := "java/util/ArrayList$Itr", name := "hasNext", desc := "()Z" } : Jvm.MethodName) prog_55_method_2_code (1 : Nat) (Option.some Jvm.ClassFile.FieldType.boolean)) ∈ lw_all := lw_g (lw_at lw_m5 49 rfl) rfl
theorem q1227 : (Jvm.Cond.selects "java/util/ArrayList$Itr" ({ cls := "java/util/Iterator", name := "next", desc := "()Ljava/lang/Object;" } : Jvm.MethodName) ({ cls := "java/util/ArrayList$Itr", name := "next", desc := "()Ljava/lang/Object;" } : Jvm.MethodName)) ∈ lw_all := lw_g (lw_at lw_m5 120 rfl) rfl
theorem q1228 : (Jvm.Cond.unhidden "java/util/ArrayList$Itr" "next" "()Ljava/lang/Object;") ∈ lw_tbl := lw_at lw_m5 121 rfl
theorem q1229 : (Jvm.Cond.instanceMethod ({ cls := "java/util/ArrayList$Itr", name := "next", desc := "()Ljava/lang/Object;" } : Jvm.MethodName)) ∈ lw_all := lw_g (lw_at lw_m5 122 rfl) rfl
theorem q1230 : (Jvm.Cond.publicMethod ({ cls := "java/util/ArrayList$Itr", name := "next", desc := "()Ljava/lang/Object;" } : Jvm.MethodName)) ∈ lw_tbl := lw_at lw_m5 123 rfl
theorem q1231 : (Jvm.Cond.code ({ cls := "java/util/ArrayList$Itr", name := "next", desc := "()Ljava/lang/Object;" } : Jvm.MethodName) prog_55_method_3_code (3 : Nat) (Option.some (Jvm.ClassFile.FieldType.object "java/lang/Object"))) ∈ lw_all := lw_g (lw_at lw_m5 124 rfl) rfl
theorem q1232 : (Jvm.Cond.methodLink "java/util/ArrayList$Itr" (31 : Nat) ({ cls := "java/util/ArrayList$Itr", name := "checkForComodification", desc := "()V" } : Jvm.MethodName)) ∈ lw_all := lw_g (lw_at lw_m5 125 rfl) rfl
theorem q1233 : (Jvm.Cond.instanceMethod ({ cls := "java/util/ArrayList$Itr", name := "checkForComodification", desc := "()V" } : Jvm.MethodName)) ∈ lw_all := lw_g (lw_at lw_m5 126 rfl) rfl
theorem q1234 : (Jvm.Cond.selects "java/util/ArrayList$Itr" ({ cls := "java/util/ArrayList$Itr", name := "checkForComodification", desc := "()V" } : Jvm.MethodName) ({ cls := "java/util/ArrayList$Itr", name := "checkForComodification", desc := "()V" } : Jvm.MethodName)) ∈ lw_all := lw_g (lw_at lw_m5 127 rfl) rfl
theorem q1235 : (Jvm.Cond.code ({ cls := "java/util/ArrayList$Itr", name := "checkForComodification", desc := "()V" } : Jvm.MethodName) prog_55_method_6_code (1 : Nat) (Option.none : Option Jvm.ClassFile.FieldType)) ∈ lw_all := lw_g (lw_at lw_m5 128 rfl) rfl
theorem q2994 : (Jvm.Cond.castable "java/util/ArrayList$Itr" "java/lang/Object") ∈ lw_tbl := lw_at lw_m12 207 rfl
theorem in_J25 : ∀ w ∈ wsJ250, w ∈ lw_all := lw_in wsJ250 [1126, 1128, 1130, 1132] (by decide +kernel) (by decide +kernel)
/-! java/util/NoSuchElementException -/
def RJ26 : String := "java/util/NoSuchElementException"
def TJ26 : u_T := fun k => match k with
  | 0 => ("java/lang/Throwable", "cause", "Ljava/lang/Throwable;", false)
  | 1 => ("java/lang/Throwable", "stackTrace", "[Ljava/lang/StackTraceElement;", false)
  | 2 => ("java/lang/Throwable", "suppressedExceptions", "Ljava/util/List;", false)
  | 3 => ("java/lang/Throwable", "detailMessage", "Ljava/lang/String;", false)
  | 4 => ("java/lang/Throwable", "backtrace", "Ljava/lang/Object;", false)
  | _ => ("java/lang/Throwable", "depth", "I", false)
def tyJ26 : Nat → FieldType := fun k => match k with
  | 0 => .object "java/lang/Throwable"
  | 1 => .array (.object "java/lang/StackTraceElement")
  | 2 => .object "java/util/List"
  | 3 => .object "java/lang/String"
  | 4 => .object "java/lang/Object"
  | _ => .int
abbrev wsJ260 : List Cond := u_ws RJ26 TJ26 6
theorem nmJ26 : ∀ a, a < 6 → ∀ b, b < 6 → a ≠ b → (TJ26 a).2.1 ≠ (TJ26 b).2.1 := by decide +kernel
theorem tyJ26_ok : ∀ k, k < 6 → parseFieldDescriptor (TJ26 k).2.2.1 = some (tyJ26 k) := by decide +kernel
abbrev cJ26_init : ByteArray := prog_61_method_1_code
def yJ26_init : MethodName := ⟨RJ26, "<init>", "()V"⟩
theorem q190 : (Jvm.Cond.initialized "java/util/NoSuchElementException") ∈ lw_all := lw_g (lw_at lw_m1 43 rfl) rfl
theorem q433 : (Jvm.Cond.selects "java/util/NoSuchElementException" ({ cls := "java/lang/Object", name := "getClass", desc := "()Ljava/lang/Class;" } : Jvm.MethodName) ({ cls := "java/lang/Object", name := "getClass", desc := "()Ljava/lang/Class;" } : Jvm.MethodName)) ∈ lw_all := lw_g (lw_at lw_m2 46 rfl) rfl
theorem q753 : (Jvm.Cond.selects "java/util/NoSuchElementException" ({ cls := "java/lang/Throwable", name := "fillInStackTrace", desc := "()Ljava/lang/Throwable;" } : Jvm.MethodName) ({ cls := "java/lang/Throwable", name := "fillInStackTrace", desc := "()Ljava/lang/Throwable;" } : Jvm.MethodName)) ∈ lw_all := lw_g (lw_at lw_m3 126 rfl) rfl
theorem q1171 : (Jvm.Cond.instantiable "java/util/NoSuchElementException" (6 : Nat)) ∈ lw_all := lw_g (lw_at lw_m5 64 rfl) rfl
theorem q1172 : (Jvm.Cond.castable "java/util/NoSuchElementException" "java/util/NoSuchElementException") ∈ lw_tbl := lw_at lw_m5 65 rfl
theorem q1173 : (Jvm.Cond.selects "java/util/NoSuchElementException" ({ cls := "java/lang/Throwable", name := "fillInStackTrace", desc := "(I)Ljava/lang/Throwable;" } : Jvm.MethodName) ({ cls := "java/lang/Throwable", name := "fillInStackTrace", desc := "(I)Ljava/lang/Throwable;" } : Jvm.MethodName)) ∈ lw_all := lw_g (lw_at lw_m5 66 rfl) rfl
theorem q1174 : (Jvm.Cond.lays "java/util/NoSuchElementException" "java/lang/Throwable" "cause" "Ljava/lang/Throwable;") ∈ lw_all := lw_g (lw_at lw_m5 67 rfl) rfl
theorem q1175 : (Jvm.Cond.lays "java/util/NoSuchElementException" "java/lang/Throwable" "stackTrace" "[Ljava/lang/StackTraceElement;") ∈ lw_all := lw_g (lw_at lw_m5 68 rfl) rfl
theorem q1176 : (Jvm.Cond.lays "java/util/NoSuchElementException" "java/lang/Throwable" "suppressedExceptions" "Ljava/util/List;") ∈ lw_all := lw_g (lw_at lw_m5 69 rfl) rfl
theorem q1177 : (Jvm.Cond.lays "java/util/NoSuchElementException" "java/lang/Throwable" "detailMessage" "Ljava/lang/String;") ∈ lw_all := lw_g (lw_at lw_m5 70 rfl) rfl
theorem q1178 : (Jvm.Cond.lays "java/util/NoSuchElementException" "java/lang/Throwable" "backtrace" "Ljava/lang/Object;") ∈ lw_all := lw_g (lw_at lw_m5 71 rfl) rfl
theorem q1180 : (Jvm.Cond.instanceMethod ({ cls := "java/util/NoSuchElementException", name := "<init>", desc := "()V" } : Jvm.MethodName)) ∈ lw_all := lw_g (lw_at lw_m5 73 rfl) rfl
theorem q1181 : (Jvm.Cond.code ({ cls := "java/util/NoSuchElementException", name := "<init>", desc := "()V" } : Jvm.MethodName) prog_61_method_1_code (1 : Nat) (Option.none : Option Jvm.ClassFile.FieldType)) ∈ lw_all := lw_g (lw_at lw_m5 74 rfl) rfl
theorem q1182 : (Jvm.Cond.methodLink "java/util/NoSuchElementException" (1 : Nat) ({ cls := "java/lang/RuntimeException", name := "<init>", desc := "()V" } : Jvm.MethodName)) ∈ lw_all := lw_g (lw_at lw_m5 75 rfl) rfl
theorem q1189 : (Jvm.Cond.lays "java/util/NoSuchElementException" "java/lang/Throwable" "depth" "I") ∈ lw_all := lw_g (lw_at lw_m5 82 rfl) rfl
theorem q1190 : (Jvm.Cond.superclass "java/util/NoSuchElementException" "java/lang/RuntimeException") ∈ lw_all := lw_g (lw_at lw_m5 83 rfl) rfl
theorem q2995 : (Jvm.Cond.castable "java/util/NoSuchElementException" "java/lang/Object") ∈ lw_tbl := lw_at lw_m12 208 rfl
theorem in_J26 : ∀ w ∈ wsJ260, w ∈ lw_all := lw_in wsJ260 [1174, 1175, 1176, 1177, 1178, 1189] (by decide +kernel) (by decide +kernel)
/-! java/lang/StringIndexOutOfBoundsException -/
def RJ27 : String := "java/lang/StringIndexOutOfBoundsException"
def TJ27 : u_T := fun k => match k with
  | 0 => ("java/lang/Throwable", "backtrace", "Ljava/lang/Object;", false)
  | 1 => ("java/lang/Throwable", "detailMessage", "Ljava/lang/String;", false)
  | 2 => ("java/lang/Throwable", "cause", "Ljava/lang/Throwable;", false)
  | 3 => ("java/lang/Throwable", "stackTrace", "[Ljava/lang/StackTraceElement;", false)
  | 4 => ("java/lang/Throwable", "depth", "I", false)
  | _ => ("java/lang/Throwable", "suppressedExceptions", "Ljava/util/List;", false)
def tyJ27 : Nat → FieldType := fun k => match k with
  | 0 => .object "java/lang/Object"
  | 1 => .object "java/lang/String"
  | 2 => .object "java/lang/Throwable"
  | 3 => .array (.object "java/lang/StackTraceElement")
  | 4 => .int
  | _ => .object "java/util/List"
abbrev wsJ270 : List Cond := u_ws RJ27 TJ27 6
theorem nmJ27 : ∀ a, a < 6 → ∀ b, b < 6 → a ≠ b → (TJ27 a).2.1 ≠ (TJ27 b).2.1 := by decide +kernel
theorem tyJ27_ok : ∀ k, k < 6 → parseFieldDescriptor (TJ27 k).2.2.1 = some (tyJ27 k) := by decide +kernel
abbrev cJ27_init : ByteArray := prog_42_method_3_code
def yJ27_init : MethodName := ⟨RJ27, "<init>", "(I)V"⟩
theorem q192 : (Jvm.Cond.initialized "java/lang/StringIndexOutOfBoundsException") ∈ lw_all := lw_g (lw_at lw_m1 45 rfl) rfl
theorem q427 : (Jvm.Cond.selects "java/lang/StringIndexOutOfBoundsException" ({ cls := "java/lang/Object", name := "getClass", desc := "()Ljava/lang/Class;" } : Jvm.MethodName) ({ cls := "java/lang/Object", name := "getClass", desc := "()Ljava/lang/Class;" } : Jvm.MethodName)) ∈ lw_all := lw_g (lw_at lw_m2 40 rfl) rfl
theorem q752 : (Jvm.Cond.selects "java/lang/StringIndexOutOfBoundsException" ({ cls := "java/lang/Throwable", name := "fillInStackTrace", desc := "()Ljava/lang/Throwable;" } : Jvm.MethodName) ({ cls := "java/lang/Throwable", name := "fillInStackTrace", desc := "()Ljava/lang/Throwable;" } : Jvm.MethodName)) ∈ lw_all := lw_g (lw_at lw_m3 125 rfl) rfl
theorem q1281 : (Jvm.Cond.instantiable "java/lang/StringIndexOutOfBoundsException" (6 : Nat)) ∈ lw_all := lw_g (lw_at lw_m5 174 rfl) rfl
theorem q1283 : (Jvm.Cond.instanceMethod ({ cls := "java/lang/StringIndexOutOfBoundsException", name := "<init>", desc := "(I)V" } : Jvm.MethodName)) ∈ lw_all := lw_g (lw_at lw_m5 176 rfl) rfl
theorem q1284 : (Jvm.Cond.code ({ cls := "java/lang/StringIndexOutOfBoundsException", name := "<init>", desc := "(I)V" } : Jvm.MethodName) prog_42_method_3_code (2 : Nat) (Option.none : Option Jvm.ClassFile.FieldType)) ∈ lw_all := lw_g (lw_at lw_m5 177 rfl) rfl
theorem q1285 : (Jvm.Cond.classLink "java/lang/StringIndexOutOfBoundsException" (10 : Nat) "java/lang/StringBuilder") ∈ lw_all := lw_g (lw_at lw_m5 178 rfl) rfl
theorem q1286 : (Jvm.Cond.methodLink "java/lang/StringIndexOutOfBoundsException" (12 : Nat) ({ cls := "java/lang/StringBuilder", name := "<init>", desc := "()V" } : Jvm.MethodName)) ∈ lw_all := lw_g (lw_at lw_m5 179 rfl) rfl
theorem q1287 : (Jvm.Cond.stringRef "java/lang/StringIndexOutOfBoundsException" (13 : Nat) "String index out of range: ") ∈ lw_tbl := lw_at lw_m5 180 rfl
theorem q1288 : (Jvm.Cond.methodLink "java/lang/StringIndexOutOfBoundsException" (15 : Nat) ({ cls := "java/lang/StringBuilder", name := "append", desc := "(Ljava/lang/String;)Ljava/lang/StringBuilder;" } : Jvm.MethodName)) ∈ lw_all := lw_g (lw_at lw_m5 181 rfl) rfl
theorem q1289 : (Jvm.Cond.methodLink "java/lang/StringIndexOutOfBoundsException" (19 : Nat) ({ cls := "java/lang/StringBuilder", name := "append", desc := "(I)Ljava/lang/StringBuilder;" } : Jvm.MethodName)) ∈ lw_all := lw_g (lw_at lw_m5 182 rfl) rfl
theorem q1290 : (Jvm.Cond.methodLink "java/lang/StringIndexOutOfBoundsException" (22 : Nat) ({ cls := "java/lang/StringBuilder", name := "toString", desc := "()Ljava/lang/String;" } : Jvm.MethodName)) ∈ lw_all := lw_g (lw_at lw_m5 183 rfl) rfl
theorem q1291 : (Jvm.Cond.methodLink "java/lang/StringIndexOutOfBoundsException" (7 : Nat) ({ cls := "java/lang/IndexOutOfBoundsException", name := "<init>", desc := "(Ljava/lang/String;)V" } : Jvm.MethodName)) ∈ lw_all := lw_g (lw_at lw_m5 184 rfl) rfl
theorem q1295 : (Jvm.Cond.lays "java/lang/StringIndexOutOfBoundsException" "java/lang/Throwable" "backtrace" "Ljava/lang/Object;") ∈ lw_all := lw_g (lw_at lw_m5 188 rfl) rfl
theorem q1296 : (Jvm.Cond.lays "java/lang/StringIndexOutOfBoundsException" "java/lang/Throwable" "detailMessage" "Ljava/lang/String;") ∈ lw_all := lw_g (lw_at lw_m5 189 rfl) rfl
theorem q1297 : (Jvm.Cond.lays "java/lang/StringIndexOutOfBoundsException" "java/lang/Throwable" "cause" "Ljava/lang/Throwable;") ∈ lw_all := lw_g (lw_at lw_m5 190 rfl) rfl
theorem q1298 : (Jvm.Cond.lays "java/lang/StringIndexOutOfBoundsException" "java/lang/Throwable" "stackTrace" "[Ljava/lang/StackTraceElement;") ∈ lw_all := lw_g (lw_at lw_m5 191 rfl) rfl
theorem q1299 : (Jvm.Cond.lays "java/lang/StringIndexOutOfBoundsException" "java/lang/Throwable" "depth" "I") ∈ lw_all := lw_g (lw_at lw_m5 192 rfl) rfl
theorem q1300 : (Jvm.Cond.lays "java/lang/StringIndexOutOfBoundsException" "java/lang/Throwable" "suppressedExceptions" "Ljava/util/List;") ∈ lw_all := lw_g (lw_at lw_m5 193 rfl) rfl
theorem q1301 : (Jvm.Cond.superclass "java/lang/StringIndexOutOfBoundsException" "java/lang/IndexOutOfBoundsException") ∈ lw_all := lw_g (lw_at lw_m5 194 rfl) rfl
theorem q2968 : (Jvm.Cond.castable "java/lang/StringIndexOutOfBoundsException" "java/lang/IndexOutOfBoundsException") ∈ lw_tbl := lw_at lw_m12 181 rfl
theorem q2999 : (Jvm.Cond.castable "java/lang/StringIndexOutOfBoundsException" "java/lang/Object") ∈ lw_tbl := lw_at lw_m12 212 rfl
theorem in_J27 : ∀ w ∈ wsJ270, w ∈ lw_all := lw_in wsJ270 [1295, 1296, 1297, 1298, 1299, 1300] (by decide +kernel) (by decide +kernel)
/-! java/lang/Object -/
def RJ28 : String := "java/lang/Object"
abbrev cJ28_init : ByteArray := object_method_1_code
def yJ28_init : MethodName := ⟨RJ28, "<init>", "()V"⟩
theorem q199 : (Jvm.Cond.instanceMethod ({ cls := "java/lang/Object", name := "<init>", desc := "()V" } : Jvm.MethodName)) ∈ lw_all := lw_g (lw_at lw_m1 52 rfl) rfl
theorem q200 : (Jvm.Cond.code ({ cls := "java/lang/Object", name := "<init>", desc := "()V" } : Jvm.MethodName) object_method_1_code (1 : Nat) (Option.none : Option Jvm.ClassFile.FieldType)) ∈ lw_all := lw_g (lw_at lw_m1 53 rfl) rfl
theorem q402 : (Jvm.Cond.instanceMethod ({ cls := "java/lang/Object", name := "getClass", desc := "()Ljava/lang/Class;" } : Jvm.MethodName)) ∈ lw_all := lw_g (lw_at lw_m2 15 rfl) rfl
theorem q403 : (Jvm.Cond.sameMethod "java/lang/Object" "java/lang/Object" "getClass" "()Ljava/lang/Class;") ∈ lw_all := lw_g (lw_at lw_m2 16 rfl) rfl
theorem q434 : (Jvm.Cond.native ({ cls := "java/lang/Object", name := "getClass", desc := "()Ljava/lang/Class;" } : Jvm.MethodName)) ∈ lw_all := lw_g (lw_at lw_m2 47 rfl) rfl
theorem q620 : (Jvm.Cond.native ({ cls := "java/lang/Object", name := "clone", desc := "()Ljava/lang/Object;" } : Jvm.MethodName)) ∈ lw_all := lw_g (lw_at lw_m2 233 rfl) rfl
theorem q621 : (Jvm.Cond.instanceMethod ({ cls := "java/lang/Object", name := "clone", desc := "()Ljava/lang/Object;" } : Jvm.MethodName)) ∈ lw_all := lw_g (lw_at lw_m2 234 rfl) rfl
theorem q2966 : (Jvm.Cond.initialized "java/lang/Object") ∈ lw_all := lw_g (lw_at lw_m12 179 rfl) rfl
theorem q3003 : (Jvm.Cond.declares ({ cls := "java/lang/Object", name := "getClass", desc := "()Ljava/lang/Class;" } : Jvm.MethodName)) ∈ lw_tbl := lw_at lw_m12 216 rfl
theorem q3013 : (Jvm.Cond.instantiable "java/lang/Object" (0 : Nat)) ∈ lw_all := lw_g (lw_at lw_m12 226 rfl) rfl
/-! LawnPaths$Ground$3 -/
def RX13 : String := "LawnPaths$Ground$3"
abbrev cX13_isOpen : ByteArray := prog_7_method_2_code
def yX13_isOpen : MethodName := ⟨RX13, "isOpen", "(LLawnPaths$Lawn;I)Z"⟩
theorem q264 : (Jvm.Cond.fieldLinkNest "LawnPaths$Ground$3" (9 : Nat) "LawnPaths$Lawn" "kinds" "[I" "LawnPaths") ∈ lw_tbl := lw_at lw_m1 117 rfl
theorem q408 : (Jvm.Cond.selects "LawnPaths$Ground$3" ({ cls := "java/lang/Object", name := "getClass", desc := "()Ljava/lang/Class;" } : Jvm.MethodName) ({ cls := "java/lang/Object", name := "getClass", desc := "()Ljava/lang/Class;" } : Jvm.MethodName)) ∈ lw_all := lw_g (lw_at lw_m2 21 rfl) rfl
theorem q1024 : (Jvm.Cond.selects "LawnPaths$Ground$3" ({ cls := "LawnPaths$Ground", name := "isOpen", desc := "(LLawnPaths$Lawn;I)Z" } : Jvm.MethodName) ({ cls := "LawnPaths$Ground$3", name := "isOpen", desc := "(LLawnPaths$Lawn;I)Z" } : Jvm.MethodName)) ∈ lw_all := lw_g (lw_at lw_m4 157 rfl) rfl
theorem q1025 : (Jvm.Cond.instanceMethod ({ cls := "LawnPaths$Ground$3", name := "isOpen", desc := "(LLawnPaths$Lawn;I)Z" } : Jvm.MethodName)) ∈ lw_all := lw_g (lw_at lw_m4 158 rfl) rfl
theorem q1026 : (Jvm.Cond.code ({ cls := "LawnPaths$Ground$3", name := "isOpen", desc := "(LLawnPaths$Lawn;I)Z" } : Jvm.MethodName) prog_7_method_2_code (3 : Nat) (Option.some Jvm.ClassFile.FieldType.boolean)) ∈ lw_all := lw_g (lw_at lw_m4 159 rfl) rfl
theorem q2998 : (Jvm.Cond.castable "LawnPaths$Ground$3" "java/lang/Object") ∈ lw_tbl := lw_at lw_m12 211 rfl
/-! LawnPaths$Ground$1 -/
def RX14 : String := "LawnPaths$Ground$1"
abbrev cX14_isOpen : ByteArray := prog_5_method_2_code
def yX14_isOpen : MethodName := ⟨RX14, "isOpen", "(LLawnPaths$Lawn;I)Z"⟩
theorem q276 : (Jvm.Cond.fieldLinkNest "LawnPaths$Ground$1" (7 : Nat) "LawnPaths$Lawn" "fences" "[Z" "LawnPaths") ∈ lw_tbl := lw_at lw_m1 129 rfl
theorem q406 : (Jvm.Cond.selects "LawnPaths$Ground$1" ({ cls := "java/lang/Object", name := "getClass", desc := "()Ljava/lang/Class;" } : Jvm.MethodName) ({ cls := "java/lang/Object", name := "getClass", desc := "()Ljava/lang/Class;" } : Jvm.MethodName)) ∈ lw_all := lw_g (lw_at lw_m2 19 rfl) rfl
theorem q1018 : (Jvm.Cond.selects "LawnPaths$Ground$1" ({ cls := "LawnPaths$Ground", name := "isOpen", desc := "(LLawnPaths$Lawn;I)Z" } : Jvm.MethodName) ({ cls := "LawnPaths$Ground$1", name := "isOpen", desc := "(LLawnPaths$Lawn;I)Z" } : Jvm.MethodName)) ∈ lw_all := lw_g (lw_at lw_m4 151 rfl) rfl
theorem q1019 : (Jvm.Cond.instanceMethod ({ cls := "LawnPaths$Ground$1", name := "isOpen", desc := "(LLawnPaths$Lawn;I)Z" } : Jvm.MethodName)) ∈ lw_all := lw_g (lw_at lw_m4 152 rfl) rfl
theorem q1020 : (Jvm.Cond.code ({ cls := "LawnPaths$Ground$1", name := "isOpen", desc := "(LLawnPaths$Lawn;I)Z" } : Jvm.MethodName) prog_5_method_2_code (3 : Nat) (Option.some Jvm.ClassFile.FieldType.boolean)) ∈ lw_all := lw_g (lw_at lw_m4 153 rfl) rfl
theorem q2985 : (Jvm.Cond.castable "LawnPaths$Ground$1" "java/lang/Object") ∈ lw_tbl := lw_at lw_m12 198 rfl
/-! LawnPaths$Ground$2 -/
def RX15 : String := "LawnPaths$Ground$2"
abbrev cX15_isOpen : ByteArray := prog_6_method_2_code
def yX15_isOpen : MethodName := ⟨RX15, "isOpen", "(LLawnPaths$Lawn;I)Z"⟩
theorem q407 : (Jvm.Cond.selects "LawnPaths$Ground$2" ({ cls := "java/lang/Object", name := "getClass", desc := "()Ljava/lang/Class;" } : Jvm.MethodName) ({ cls := "java/lang/Object", name := "getClass", desc := "()Ljava/lang/Class;" } : Jvm.MethodName)) ∈ lw_all := lw_g (lw_at lw_m2 20 rfl) rfl
theorem q1021 : (Jvm.Cond.selects "LawnPaths$Ground$2" ({ cls := "LawnPaths$Ground", name := "isOpen", desc := "(LLawnPaths$Lawn;I)Z" } : Jvm.MethodName) ({ cls := "LawnPaths$Ground$2", name := "isOpen", desc := "(LLawnPaths$Lawn;I)Z" } : Jvm.MethodName)) ∈ lw_all := lw_g (lw_at lw_m4 154 rfl) rfl
theorem q1022 : (Jvm.Cond.instanceMethod ({ cls := "LawnPaths$Ground$2", name := "isOpen", desc := "(LLawnPaths$Lawn;I)Z" } : Jvm.MethodName)) ∈ lw_all := lw_g (lw_at lw_m4 155 rfl) rfl
theorem q1023 : (Jvm.Cond.code ({ cls := "LawnPaths$Ground$2", name := "isOpen", desc := "(LLawnPaths$Lawn;I)Z" } : Jvm.MethodName) prog_6_method_2_code (3 : Nat) (Option.some Jvm.ClassFile.FieldType.boolean)) ∈ lw_all := lw_g (lw_at lw_m4 156 rfl) rfl
theorem q2997 : (Jvm.Cond.castable "LawnPaths$Ground$2" "java/lang/Object") ∈ lw_tbl := lw_at lw_m12 210 rfl
/-! java/lang/System$2 -/
def RJ29 : String := "java/lang/System$2"
abbrev cJ29_getUTF16Char : ByteArray := prog_46_method_45_code
def yJ29_getUTF16Char : MethodName := ⟨RJ29, "getUTF16Char", "([BI)C"⟩
theorem q428 : (Jvm.Cond.selects "java/lang/System$2" ({ cls := "java/lang/Object", name := "getClass", desc := "()Ljava/lang/Class;" } : Jvm.MethodName) ({ cls := "java/lang/Object", name := "getClass", desc := "()Ljava/lang/Class;" } : Jvm.MethodName)) ∈ lw_all := lw_g (lw_at lw_m2 41 rfl) rfl
theorem q1687 : (Jvm.Cond.castable "java/lang/System$2" "jdk/internal/access/JavaLangAccess") ∈ lw_tbl := lw_at lw_m7 100 rfl
theorem q1688 : (Jvm.Cond.selects "java/lang/System$2" ({ cls := "jdk/internal/access/JavaLangAccess", name := "getUTF16Char", desc := "([BI)C" } : Jvm.MethodName) ({ cls := "java/lang/System$2", name := "getUTF16Char", desc := "([BI)C" } : Jvm.MethodName)) ∈ lw_all := lw_g (lw_at lw_m7 101 rfl) rfl
theorem q1689 : (Jvm.Cond.unhidden "java/lang/System$2" "getUTF16Char" "([BI)C") ∈ lw_tbl := lw_at lw_m7 102 rfl
theorem q1690 : (Jvm.Cond.instanceMethod ({ cls := "java/lang/System$2", name := "getUTF16Char", desc := "([BI)C" } : Jvm.MethodName)) ∈ lw_all := lw_g (lw_at lw_m7 103 rfl) rfl
theorem q1691 : (Jvm.Cond.publicMethod ({ cls := "java/lang/System$2", name := "getUTF16Char", desc := "([BI)C" } : Jvm.MethodName)) ∈ lw_tbl := lw_at lw_m7 104 rfl
theorem q1692 : (Jvm.Cond.code ({ cls := "java/lang/System$2", name := "getUTF16Char", desc := "([BI)C" } : Jvm.MethodName) prog_46_method_45_code (3 : Nat) (Option.some Jvm.ClassFile.FieldType.char)) ∈ lw_all := lw_g (lw_at lw_m7 105 rfl) rfl
theorem q1693 : (Jvm.Cond.methodLink "java/lang/System$2" (185 : Nat) ({ cls := "java/lang/StringUTF16", name := "getChar", desc := "([BI)C" } : Jvm.MethodName)) ∈ lw_all := lw_g (lw_at lw_m7 106 rfl) rfl
theorem q2986 : (Jvm.Cond.castable "java/lang/System$2" "java/lang/Object") ∈ lw_tbl := lw_at lw_m12 199 rfl
/-! the law's own entry -/
abbrev cL_law : ByteArray := code
theorem q334 : (Jvm.Cond.arrayClass Jvm.ClassFile.FieldType.int) ∈ lw_all := lw_g (lw_at lw_m1 187 rfl) rfl
theorem q335 : (Jvm.Cond.arrayClass Jvm.ClassFile.FieldType.boolean) ∈ lw_all := lw_g (lw_at lw_m1 188 rfl) rfl
theorem q361 : (Jvm.Cond.arrayClass Jvm.ClassFile.FieldType.byte) ∈ lw_all := lw_g (lw_at lw_m1 214 rfl) rfl
theorem q439 : (Jvm.Cond.arrayOver (Jvm.ClassFile.FieldType.object "java/lang/Object")) ∈ lw_tbl := lw_at lw_m2 52 rfl
theorem q1656 : (Jvm.Cond.arrayOver (Jvm.ClassFile.FieldType.object "LawnPaths$Change")) ∈ lw_tbl := lw_at lw_m7 69 rfl
theorem q2951 : (Jvm.Cond.arrayClass Jvm.ClassFile.FieldType.long) ∈ lw_all := lw_g (lw_at lw_m12 164 rfl) rfl
theorem q3011 : (Jvm.Cond.arrayClass Jvm.ClassFile.FieldType.char) ∈ lw_all := lw_g (lw_at lw_m12 224 rfl) rfl
theorem q3012 : (Jvm.Cond.arrayClass Jvm.ClassFile.FieldType.short) ∈ lw_all := lw_g (lw_at lw_m12 225 rfl) rfl
theorem q159 : (Jvm.Cond.initialized "java/lang/System") ∈ lw_all := lw_g (lw_at lw_m1 12 rfl) rfl
theorem q445 : (Jvm.Cond.static ({ cls := "java/lang/System", name := "arraycopy", desc := "(Ljava/lang/Object;ILjava/lang/Object;II)V" } : Jvm.MethodName)) ∈ lw_all := lw_g (lw_at lw_m2 58 rfl) rfl
theorem q446 : (Jvm.Cond.native ({ cls := "java/lang/System", name := "arraycopy", desc := "(Ljava/lang/Object;ILjava/lang/Object;II)V" } : Jvm.MethodName)) ∈ lw_all := lw_g (lw_at lw_m2 59 rfl) rfl
theorem q175 : (Jvm.Cond.initialized "java/lang/Enum") ∈ lw_all := lw_g (lw_at lw_m1 28 rfl) rfl
theorem q176 : (Jvm.Cond.initialized "LawnPaths$Token") ∈ lw_all := lw_g (lw_at lw_m1 29 rfl) rfl
theorem q415 : (Jvm.Cond.selects "LawnPaths$Token" ({ cls := "java/lang/Object", name := "getClass", desc := "()Ljava/lang/Class;" } : Jvm.MethodName) ({ cls := "java/lang/Object", name := "getClass", desc := "()Ljava/lang/Class;" } : Jvm.MethodName)) ∈ lw_all := lw_g (lw_at lw_m2 28 rfl) rfl
theorem q1477 : (Jvm.Cond.laysStatic "LawnPaths$Token" "END" "LLawnPaths$Token;") ∈ lw_tbl := lw_at lw_m6 130 rfl
theorem q1482 : (Jvm.Cond.laysStatic "LawnPaths$Token" "WORD" "LLawnPaths$Token;") ∈ lw_tbl := lw_at lw_m6 135 rfl
theorem q1490 : (Jvm.Cond.laysStatic "LawnPaths$Token" "NUMBER" "LLawnPaths$Token;") ∈ lw_tbl := lw_at lw_m6 143 rfl
theorem q1492 : (Jvm.Cond.laysStatic "LawnPaths$Token" "SIGN" "LLawnPaths$Token;") ∈ lw_tbl := lw_at lw_m6 145 rfl
theorem q2982 : (Jvm.Cond.castable "LawnPaths$Token" "java/lang/Object") ∈ lw_tbl := lw_at lw_m12 195 rfl
theorem q181 : (Jvm.Cond.initialized "LawnPaths$Ground") ∈ lw_all := lw_g (lw_at lw_m1 34 rfl) rfl
theorem q981 : (Jvm.Cond.laysStatic "LawnPaths$Ground" "AS_IT_IS" "LLawnPaths$Ground;") ∈ lw_tbl := lw_at lw_m4 114 rfl
theorem q1016 : (Jvm.Cond.declares ({ cls := "LawnPaths$Ground", name := "isOpen", desc := "(LLawnPaths$Lawn;I)Z" } : Jvm.MethodName)) ∈ lw_tbl := lw_at lw_m4 149 rfl
theorem q1017 : (Jvm.Cond.sameMethod "LawnPaths$Ground" "LawnPaths$Ground" "isOpen" "(LLawnPaths$Lawn;I)Z") ∈ lw_all := lw_g (lw_at lw_m4 150 rfl) rfl
theorem q2068 : (Jvm.Cond.laysStatic "LawnPaths$Ground" "WITHOUT_FENCES" "LLawnPaths$Ground;") ∈ lw_tbl := lw_at lw_m9 1 rfl
theorem q2077 : (Jvm.Cond.laysStatic "LawnPaths$Ground" "HARD" "LLawnPaths$Ground;") ∈ lw_tbl := lw_at lw_m9 10 rfl
theorem q3004 : (Jvm.Cond.castable "LawnPaths$Ground" "java/lang/Object") ∈ lw_tbl := lw_at lw_m12 217 rfl
theorem q191 : (Jvm.Cond.initialized "java/lang/Integer$IntegerCache") ∈ lw_all := lw_g (lw_at lw_m1 44 rfl) rfl
theorem q1200 : (Jvm.Cond.laysStatic "java/lang/Integer$IntegerCache" "high" "I") ∈ lw_tbl := lw_at lw_m5 93 rfl
theorem q1202 : (Jvm.Cond.laysStatic "java/lang/Integer$IntegerCache" "cache" "[Ljava/lang/Integer;") ∈ lw_tbl := lw_at lw_m5 95 rfl
theorem q368 : (Jvm.Cond.interfaceMethod "java/util/List" "java/util/List" "add" "(Ljava/lang/Object;)Z") ∈ lw_tbl := lw_at lw_m1 221 rfl
theorem q369 : (Jvm.Cond.declares ({ cls := "java/util/List", name := "add", desc := "(Ljava/lang/Object;)Z" } : Jvm.MethodName)) ∈ lw_tbl := lw_at lw_m1 222 rfl
theorem q897 : (Jvm.Cond.interfaceMethod "java/util/List" "java/util/List" "size" "()I") ∈ lw_tbl := lw_at lw_m4 30 rfl
theorem q898 : (Jvm.Cond.declares ({ cls := "java/util/List", name := "size", desc := "()I" } : Jvm.MethodName)) ∈ lw_tbl := lw_at lw_m4 31 rfl
theorem q910 : (Jvm.Cond.interfaceMethod "java/util/List" "java/util/List" "get" "(I)Ljava/lang/Object;") ∈ lw_tbl := lw_at lw_m4 43 rfl
theorem q911 : (Jvm.Cond.declares ({ cls := "java/util/List", name := "get", desc := "(I)Ljava/lang/Object;" } : Jvm.MethodName)) ∈ lw_tbl := lw_at lw_m4 44 rfl
theorem q619 : (Jvm.Cond.sameMethod "[B" "java/lang/Object" "clone" "()Ljava/lang/Object;") ∈ lw_all := lw_g (lw_at lw_m2 232 rfl) rfl
theorem q622 : (Jvm.Cond.selects "[B" ({ cls := "[B", name := "clone", desc := "()Ljava/lang/Object;" } : Jvm.MethodName) ({ cls := "java/lang/Object", name := "clone", desc := "()Ljava/lang/Object;" } : Jvm.MethodName)) ∈ lw_all := lw_g (lw_at lw_m2 235 rfl) rfl
theorem q623 : (Jvm.Cond.castable "[B" "java/lang/Cloneable") ∈ lw_tbl := lw_at lw_m2 236 rfl
theorem q3007 : (Jvm.Cond.castable "[B" "java/lang/Object") ∈ lw_tbl := lw_at lw_m12 220 rfl
theorem q928 : (Jvm.Cond.interfaceMethod "LawnPaths$Named" "LawnPaths$Named" "name" "()Ljava/lang/String;") ∈ lw_tbl := lw_at lw_m4 61 rfl
theorem q929 : (Jvm.Cond.declares ({ cls := "LawnPaths$Named", name := "name", desc := "()Ljava/lang/String;" } : Jvm.MethodName)) ∈ lw_tbl := lw_at lw_m4 62 rfl
theorem q1050 : (Jvm.Cond.interfaceMethod "java/lang/Iterable" "java/lang/Iterable" "iterator" "()Ljava/util/Iterator;") ∈ lw_tbl := lw_at lw_m4 183 rfl
theorem q1051 : (Jvm.Cond.declares ({ cls := "java/lang/Iterable", name := "iterator", desc := "()Ljava/util/Iterator;" } : Jvm.MethodName)) ∈ lw_tbl := lw_at lw_m4 184 rfl
theorem q1137 : (Jvm.Cond.interfaceMethod "java/util/Iterator" "java/util/Iterator" "hasNext" "()Z") ∈ lw_tbl := lw_at lw_m5 30 rfl
theorem q1138 : (Jvm.Cond.declares ({ cls := "java/util/Iterator", name := "hasNext", desc := "()Z" } : Jvm.MethodName)) ∈ lw_tbl := lw_at lw_m5 31 rfl
theorem q1159 : (Jvm.Cond.interfaceMethod "java/util/Iterator" "java/util/Iterator" "next" "()Ljava/lang/Object;") ∈ lw_tbl := lw_at lw_m5 52 rfl
theorem q1160 : (Jvm.Cond.declares ({ cls := "java/util/Iterator", name := "next", desc := "()Ljava/lang/Object;" } : Jvm.MethodName)) ∈ lw_tbl := lw_at lw_m5 53 rfl
theorem q1393 : (Jvm.Cond.sameMethod "[I" "java/lang/Object" "clone" "()Ljava/lang/Object;") ∈ lw_all := lw_g (lw_at lw_m6 46 rfl) rfl
theorem q1394 : (Jvm.Cond.selects "[I" ({ cls := "[I", name := "clone", desc := "()Ljava/lang/Object;" } : Jvm.MethodName) ({ cls := "java/lang/Object", name := "clone", desc := "()Ljava/lang/Object;" } : Jvm.MethodName)) ∈ lw_all := lw_g (lw_at lw_m6 47 rfl) rfl
theorem q1395 : (Jvm.Cond.castable "[I" "java/lang/Cloneable") ∈ lw_tbl := lw_at lw_m6 48 rfl
theorem q3005 : (Jvm.Cond.castable "[I" "java/lang/Object") ∈ lw_tbl := lw_at lw_m12 218 rfl
theorem q1398 : (Jvm.Cond.sameMethod "[Z" "java/lang/Object" "clone" "()Ljava/lang/Object;") ∈ lw_all := lw_g (lw_at lw_m6 51 rfl) rfl
theorem q1399 : (Jvm.Cond.selects "[Z" ({ cls := "[Z", name := "clone", desc := "()Ljava/lang/Object;" } : Jvm.MethodName) ({ cls := "java/lang/Object", name := "clone", desc := "()Ljava/lang/Object;" } : Jvm.MethodName)) ∈ lw_all := lw_g (lw_at lw_m6 52 rfl) rfl
theorem q1400 : (Jvm.Cond.castable "[Z" "java/lang/Cloneable") ∈ lw_tbl := lw_at lw_m6 53 rfl
theorem q3006 : (Jvm.Cond.castable "[Z" "java/lang/Object") ∈ lw_tbl := lw_at lw_m12 219 rfl
theorem q1685 : (Jvm.Cond.interfaceMethod "jdk/internal/access/JavaLangAccess" "jdk/internal/access/JavaLangAccess" "getUTF16Char" "([BI)C") ∈ lw_tbl := lw_at lw_m7 98 rfl
theorem q1686 : (Jvm.Cond.declares ({ cls := "jdk/internal/access/JavaLangAccess", name := "getUTF16Char", desc := "([BI)C" } : Jvm.MethodName)) ∈ lw_tbl := lw_at lw_m7 99 rfl
theorem q1863 : (Jvm.Cond.interfaceMethod "LawnPaths$Change" "LawnPaths$Change" "does" "(LLawnPaths$Lawn;)I") ∈ lw_tbl := lw_at lw_m8 36 rfl
theorem q1864 : (Jvm.Cond.declares ({ cls := "LawnPaths$Change", name := "does", desc := "(LLawnPaths$Lawn;)I" } : Jvm.MethodName)) ∈ lw_tbl := lw_at lw_m8 37 rfl
theorem q2969 : (Jvm.Cond.castable "LawnPaths$Change" "java/lang/Object") ∈ lw_tbl := lw_at lw_m12 182 rfl
theorem q3001 : (Jvm.Cond.sameMethod "[Ljava/lang/Object;" "java/lang/Object" "getClass" "()Ljava/lang/Class;") ∈ lw_all := lw_g (lw_at lw_m12 214 rfl) rfl
theorem q3002 : (Jvm.Cond.selects "[Ljava/lang/Object;" ({ cls := "java/lang/Object", name := "getClass", desc := "()Ljava/lang/Class;" } : Jvm.MethodName) ({ cls := "java/lang/Object", name := "getClass", desc := "()Ljava/lang/Class;" } : Jvm.MethodName)) ∈ lw_all := lw_g (lw_at lw_m12 215 rfl) rfl
theorem q3008 : (Jvm.Cond.castable "[Ljava/lang/Object;" "java/lang/Object") ∈ lw_tbl := lw_at lw_m12 221 rfl
theorem q3009 : (Jvm.Cond.castable "[LLawnPaths$Change;" "java/lang/Object") ∈ lw_tbl := lw_at lw_m12 222 rfl
theorem q3010 : (Jvm.Cond.castable "[J" "java/lang/Object") ∈ lw_tbl := lw_at lw_m12 223 rfl
