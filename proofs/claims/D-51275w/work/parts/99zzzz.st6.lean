/-! THE START, 6: all of it -/
set_option maxRecDepth 100000
/-- the side conditions of a text -/
abbrev tx_ok (l : List Nat) : Prop := l.length ≤ 1000 ∧ ∀ k, k < l.length → chs l k ≤ 127
section
variable {b : Nat} {s : State}
/-- Ground's constants and Token's, found -/
theorem st_enum (hts : ∀ w ∈ lw_tbl, w.before #[Value.ref b] s = true) (hgv : (Jvm.Cond.and given_1 narrow_1).before #[Value.ref b] s = true) : ∃ c0 c1 c2 c3 c4 c5 c6 : Nat,
    (va_Z "LawnPaths$Ground" "AS_IT_IS" "LLawnPaths$Ground;" (.ref c0) (fun q => s.heap.size ≤ q) s s.heap ∧ c0 < s.heap.size ∧ ∃ cell : Cell, s.heap[c0]? = some cell ∧ cell.vm.isStatics = false ∧ s.vm.findClass "LawnPaths$Ground$1" = some cell.cls) ∧ (va_Z "LawnPaths$Ground" "WITHOUT_FENCES" "LLawnPaths$Ground;" (.ref c1) (fun q => s.heap.size ≤ q) s s.heap ∧ c1 < s.heap.size ∧ ∃ cell : Cell, s.heap[c1]? = some cell ∧ cell.vm.isStatics = false ∧ s.vm.findClass "LawnPaths$Ground$2" = some cell.cls) ∧ (va_Z "LawnPaths$Ground" "HARD" "LLawnPaths$Ground;" (.ref c2) (fun q => s.heap.size ≤ q) s s.heap ∧ c2 < s.heap.size ∧ ∃ cell : Cell, s.heap[c2]? = some cell ∧ cell.vm.isStatics = false ∧ s.vm.findClass "LawnPaths$Ground$3" = some cell.cls) ∧ (va_Z "LawnPaths$Token" "END" "LLawnPaths$Token;" (.ref c3) (fun q => s.heap.size ≤ q) s s.heap) ∧ (va_Z "LawnPaths$Token" "WORD" "LLawnPaths$Token;" (.ref c4) (fun q => s.heap.size ≤ q) s s.heap) ∧ (va_Z "LawnPaths$Token" "NUMBER" "LLawnPaths$Token;" (.ref c5) (fun q => s.heap.size ≤ q) s s.heap) ∧ (va_Z "LawnPaths$Token" "SIGN" "LLawnPaths$Token;" (.ref c6) (fun q => s.heap.size ≤ q) s s.heap) ∧ (c3 ≠ c4) ∧ (c3 ≠ c5) ∧ (c3 ≠ c6) ∧ (c4 ≠ c5) ∧ (c4 ≠ c6) ∧ (c5 ≠ c6) := by
  have H : ∀ w ∈ lw_all, w.before #[Value.ref b] s = true := fun w hw => hts w (lw_all_tbl hw)
  have V : ∀ w ∈ GvL, w.before #[Value.ref b] s = true := flat_of_before _ hgv
  obtain ⟨c0, z0, e0, f0, g0, h0, i0⟩ := st_ref (hts _ q981) (H _ q181) (V (.exactly (.static "LawnPaths$Ground" "AS_IT_IS" "LLawnPaths$Ground;") "LawnPaths$Ground$1") (by decide +kernel))
  obtain ⟨c1, z1, e1, f1, g1, h1, i1⟩ := st_ref (hts _ q2068) (H _ q181) (V (.exactly (.static "LawnPaths$Ground" "WITHOUT_FENCES" "LLawnPaths$Ground;") "LawnPaths$Ground$2") (by decide +kernel))
  obtain ⟨c2, z2, e2, f2, g2, h2, i2⟩ := st_ref (hts _ q2077) (H _ q181) (V (.exactly (.static "LawnPaths$Ground" "HARD" "LLawnPaths$Ground;") "LawnPaths$Ground$3") (by decide +kernel))
  obtain ⟨c3, z3, e3, f3, -, -, -⟩ := st_ref (hts _ q1477) (H _ q176) (V (.exactly (.static "LawnPaths$Token" "END" "LLawnPaths$Token;") "LawnPaths$Token") (by decide +kernel))
  obtain ⟨c4, z4, e4, f4, -, -, -⟩ := st_ref (hts _ q1482) (H _ q176) (V (.exactly (.static "LawnPaths$Token" "WORD" "LLawnPaths$Token;") "LawnPaths$Token") (by decide +kernel))
  obtain ⟨c5, z5, e5, f5, -, -, -⟩ := st_ref (hts _ q1490) (H _ q176) (V (.exactly (.static "LawnPaths$Token" "NUMBER" "LLawnPaths$Token;") "LawnPaths$Token") (by decide +kernel))
  obtain ⟨c6, z6, e6, f6, -, -, -⟩ := st_ref (hts _ q1492) (H _ q176) (V (.exactly (.static "LawnPaths$Token" "SIGN" "LLawnPaths$Token;") "LawnPaths$Token") (by decide +kernel))
  exact ⟨c0, c1, c2, c3, c4, c5, c6, ⟨f0, (Array.getElem?_eq_some_iff.mp g0).1, z0, g0, h0, i0⟩, ⟨f1, (Array.getElem?_eq_some_iff.mp g1).1, z1, g1, h1, i1⟩, ⟨f2, (Array.getElem?_eq_some_iff.mp g2).1, z2, g2, h2, i2⟩, f3, f4, f5, f6, st_ne (V (.not (.eq (.static "LawnPaths$Token" "END" "LLawnPaths$Token;") (.static "LawnPaths$Token" "WORD" "LLawnPaths$Token;"))) (by decide +kernel)) e3 e4, st_ne (V (.not (.eq (.static "LawnPaths$Token" "END" "LLawnPaths$Token;") (.static "LawnPaths$Token" "NUMBER" "LLawnPaths$Token;"))) (by decide +kernel)) e3 e5, st_ne (V (.not (.eq (.static "LawnPaths$Token" "END" "LLawnPaths$Token;") (.static "LawnPaths$Token" "SIGN" "LLawnPaths$Token;"))) (by decide +kernel)) e3 e6, st_ne (V (.not (.eq (.static "LawnPaths$Token" "WORD" "LLawnPaths$Token;") (.static "LawnPaths$Token" "NUMBER" "LLawnPaths$Token;"))) (by decide +kernel)) e4 e5, st_ne (V (.not (.eq (.static "LawnPaths$Token" "WORD" "LLawnPaths$Token;") (.static "LawnPaths$Token" "SIGN" "LLawnPaths$Token;"))) (by decide +kernel)) e4 e6, st_ne (V (.not (.eq (.static "LawnPaths$Token" "NUMBER" "LLawnPaths$Token;") (.static "LawnPaths$Token" "SIGN" "LLawnPaths$Token;"))) (by decide +kernel)) e5 e6⟩
/-- the list's empty array and Integer's cache, found -/
theorem st_lib (hts : ∀ w ∈ lw_tbl, w.before #[Value.ref b] s = true) (hgv : (Jvm.Cond.and given_1 narrow_1).before #[Value.ref b] s = true) : ∃ (c0 c1 : Nat) (ad : Nat → Nat),
    (va_Z "java/util/ArrayList" "DEFAULTCAPACITY_EMPTY_ELEMENTDATA" "[Ljava/lang/Object;" (.ref c0) (fun q => s.heap.size ≤ q) s s.heap ∧ ∃ c : Cell, s.heap[c0]? = some c ∧ (c.vm.isStatics = false ∧ c.vm ≠ .unknown) ∧ s.vm.findClass "[Ljava/lang/Object;" = some c.cls ∧ c.slots.size = 0) ∧
    (va_Z "java/lang/Integer$IntegerCache" "high" "I" (.int (nI 127)) (fun q => s.heap.size ≤ q) s s.heap ∧ va_Z "java/lang/Integer$IntegerCache" "cache" "[Ljava/lang/Integer;" (.ref c1) (fun q => s.heap.size ≤ q) s s.heap) ∧
    (∃ c : Cell, s.heap[c1]? = some c ∧ s.isArrayOf c (.object "java/lang/Integer") ∧ (c.vm.isStatics = false ∧ c.vm ≠ .unknown) ∧ c.slots.size = 256 ∧ ∀ j, j < 256 → c.slots[j]? = some (.ref (ad j))) ∧ vb_C ad (fun q => s.heap.size ≤ q) s s.heap := by
  have H : ∀ w ∈ lw_all, w.before #[Value.ref b] s = true := fun w hw => hts w (lw_all_tbl hw)
  have V : ∀ w ∈ GvL, w.before #[Value.ref b] s = true := flat_of_before _ hgv
  obtain ⟨c0, z0, d1, d2, d3, d4, d5, -⟩ := st_arr (N := 0) (f := fun _ => .null) (by decide) (V (.arrayOf (.static "java/util/ArrayList" "DEFAULTCAPACITY_EMPTY_ELEMENTDATA" "[Ljava/lang/Object;") (.object "java/lang/Object")) (by decide +kernel)) (V (.eq (.length (.static "java/util/ArrayList" "DEFAULTCAPACITY_EMPTY_ELEMENTDATA" "[Ljava/lang/Object;")) (.int (Int32.ofNat 0))) (by decide +kernel)) (fun j hj => absurd hj (Nat.not_lt_zero _))
  obtain ⟨q0, cell0, e1, e2, e3, e4, e5⟩ := st_ref (hts _ q228) (H _ q153) (V (.exactly (.static "java/util/ArrayList" "DEFAULTCAPACITY_EMPTY_ELEMENTDATA" "[Ljava/lang/Object;") "[Ljava/lang/Object;") (by decide +kernel))
  cases d1.symm.trans e1
  cases d2.symm.trans e3
  have yl := V (.eq (.length (.static "java/lang/Integer$IntegerCache" "cache" "[Ljava/lang/Integer;")) (.int (Int32.ofNat 256))) (by decide +kernel)
  obtain ⟨ad, hC, hel⟩ := vb_Cof (A := fun q => s.heap.size ≤ q) (st := (.static "java/lang/Integer$IntegerCache" "cache" "[Ljava/lang/Integer;")) rfl (va_eqt yl) (V (.all (.static "java/lang/Integer$IntegerCache" "cache" "[Ljava/lang/Integer;") (.and (.exactly (.elem (.static "java/lang/Integer$IntegerCache" "cache" "[Ljava/lang/Integer;") (.index 0)) "java/lang/Integer") (.eq (.field (.elem (.static "java/lang/Integer$IntegerCache" "cache" "[Ljava/lang/Integer;") (.index 0)) "java/lang/Integer" "value" "I") (.sub (.index 0) (.int 128))))) (by decide +kernel)) (old_not s)
  obtain ⟨c1, z1, t1, t2, t3, t4, t5, t6⟩ := st_arr (N := 256) (f := fun j => .ref (ad j)) (by decide) (V (.arrayOf (.static "java/lang/Integer$IntegerCache" "cache" "[Ljava/lang/Integer;") (.object "java/lang/Integer")) (by decide +kernel)) yl hel
  exact ⟨c0, c1, ad, ⟨e2, z0, d2, d4, e5, d5⟩, ⟨va_Zof (hts _ q1200) (H _ q191) (va_eqt (V (.eq (.static "java/lang/Integer$IntegerCache" "high" "I") (.int (nI 127))) (by decide +kernel))) (old_not s), va_Zref (hts _ q1202) (H _ q191) t1 (old_not s)⟩, ⟨z1, t2, t3, t4, t5, t6⟩, hC⟩
end
set_option maxHeartbeats 8000000 in
theorem st_all {b : Nat} {s : State} (hts : ∀ w ∈ lw_tbl, w.before #[Value.ref b] s = true) (hgv : (Jvm.Cond.and given_1 narrow_1).before #[Value.ref b] s = true) : ∃ g : GZ, g.s = s ∧ fw_ok g ∧ Rp g g.A s.heap ∧ LwG g ∧ LwI g := by
  have H : ∀ w ∈ lw_all, w.before #[Value.ref b] s = true := fun w hw => hts w (lw_all_tbl hw)
  have V : ∀ w ∈ GvL, w.before #[Value.ref b] s = true := flat_of_before _ hgv
  obtain ⟨D, hD⟩ := kn_all hts
  obtain ⟨a1, k1⟩ := ar_int (H _ q334)
  obtain ⟨a2, k2⟩ := ar_byte (H _ q361)
  obtain ⟨a3, k3⟩ := ar_boolean (H _ q335)
  obtain ⟨a4, k4⟩ := ar_long (H _ q2951)
  obtain ⟨a5, k5⟩ := ar_obj (hts _ q439)
  obtain ⟨a6, k6⟩ := ar_obj (hts _ q1656)
  obtain ⟨lm, one, l0, l1, l2, l3, l4, l5, l6, l7, l8, l9, l10, l11, l12, l13, l14⟩ := st_lam hgv
  obtain ⟨c83, z83, u1, u2, u3, u4, u5⟩ := lam_one l3 rfl
  obtain ⟨c60, c61, c62, c63, c64, c65, c66, n0, n1, n2, n3, n4, n5, n6, m01, m02, m03, m12, m13, m23⟩ := st_enum hts hgv
  obtain ⟨c70, c71, ad, ⟨y1, z70, y2, y3, y4, y5⟩, ⟨x1, x2⟩, ⟨z71, t2, t3, t4, t5, t6⟩, hO, hE⟩ := st_lib hts hgv
  obtain ⟨qsM248, vsM248, SsM248⟩ := sM248 hts hgv
  obtain ⟨qsM287, vsM287, SsM287⟩ := sM287 hts hgv
  obtain ⟨qsM292, vsM292, SsM292⟩ := sM292 hts hgv
  obtain ⟨qsM274, vsM274, SsM274⟩ := sM274 hts hgv
  obtain ⟨qsM279, vsM279, SsM279⟩ := sM279 hts hgv
  obtain ⟨qsM297, vsM297, SsM297⟩ := sM297 hts hgv
  obtain ⟨qsM330, vsM330, SsM330⟩ := sM330 hts hgv
  obtain ⟨qsM332, vsM332, SsM332⟩ := sM332 hts hgv
  obtain ⟨qsM334, vsM334, SsM334⟩ := sM334 hts hgv
  obtain ⟨qsM324, vsM324, SsM324⟩ := sM324 hts hgv
  obtain ⟨qsM326, vsM326, SsM326⟩ := sM326 hts hgv
  obtain ⟨qsM328, vsM328, SsM328⟩ := sM328 hts hgv
  obtain ⟨qsP127, vsP127, SsP127⟩ := sP127 hts hgv
  obtain ⟨qsP133, vsP133, SsP133⟩ := sP133 hts hgv
  obtain ⟨qsP135, vsP135, SsP135⟩ := sP135 hts hgv
  obtain ⟨qsP137, vsP137, SsP137⟩ := sP137 hts hgv
  obtain ⟨qsP139, vsP139, SsP139⟩ := sP139 hts hgv
  obtain ⟨qsP141, vsP141, SsP141⟩ := sP141 hts hgv
  obtain ⟨qsP143, vsP143, SsP143⟩ := sP143 hts hgv
  obtain ⟨qsT240, vsT240, SsT240⟩ := sT240 hts hgv
  obtain ⟨qsT242, vsT242, SsT242⟩ := sT242 hts hgv
  obtain ⟨qsT244, vsT244, SsT244⟩ := sT244 hts hgv
  obtain ⟨qsT202, vsT202, SsT202⟩ := sT202 hts hgv
  obtain ⟨qsT273, vsT273, SsT273⟩ := sT273 hts hgv
  obtain ⟨qsT275, vsT275, SsT275⟩ := sT275 hts hgv
  obtain ⟨qsT128, vsT128, SsT128⟩ := sT128 hts hgv
  obtain ⟨qsT149, vsT149, SsT149⟩ := sT149 hts hgv
  obtain ⟨qsT154, vsT154, SsT154⟩ := sT154 hts hgv
  obtain ⟨qsT204, vsT204, SsT204⟩ := sT204 hts hgv
  obtain ⟨qsT206, vsT206, SsT206⟩ := sT206 hts hgv
  obtain ⟨qsP59, vsP59, SsP59⟩ := sP59 hts hgv
  obtain ⟨qsP65, vsP65, SsP65⟩ := sP65 hts hgv
  obtain ⟨qsP67, vsP67, SsP67⟩ := sP67 hts hgv
  obtain ⟨qsP75, vsP75, SsP75⟩ := sP75 hts hgv
  obtain ⟨qsP86, vsP86, SsP86⟩ := sP86 hts hgv
  obtain ⟨qsT22, vsT22, SsT22⟩ := sT22 hts hgv
  obtain ⟨qsM44, vsM44, SsM44⟩ := sM44 hts hgv
  obtain ⟨i14, hm14⟩ := st_mn (H _ q1020)
  obtain ⟨i15, hm15⟩ := st_mn (H _ q1023)
  obtain ⟨i13, hm13⟩ := st_mn (H _ q1026)
  have hz1 := va_Zof (hts _ q530) (H _ q164) (va_eqt (V (.eq (.static "java/lang/String" "COMPACT_STRINGS" "Z") (.int (nI 1))) (by decide +kernel))) (old_not s)
  have hz2 := va_Zqof (hts _ q653) (H _ q168) (V (.isRef (.static "jdk/internal/util/Preconditions" "SIOOBE_FORMATTER" "Ljava/util/function/BiFunction;")) (by decide +kernel)) (old_not s)
  have hx1 : vx_Zq Bundle.tN "UNASSIGNED_STACK" Bundle.steD (fun q => s.heap.size ≤ q) s s.heap := vx_Zqof (hts _ q741) (H _ q169) (V (.isRef (.static "java/lang/Throwable" "UNASSIGNED_STACK" "[Ljava/lang/StackTraceElement;")) (by decide +kernel)) (old_not s)
  have hx2 : vx_Zq Bundle.tN "SUPPRESSED_SENTINEL" Bundle.listD (fun q => s.heap.size ≤ q) s s.heap := vx_Zqof (hts _ q743) (H _ q169) (V (.isRef (.static "java/lang/Throwable" "SUPPRESSED_SENTINEL" "Ljava/util/List;")) (by decide +kernel)) (old_not s)
  have hnc : va_Nc RJ18 RJ22 s := va_Nc.of (V (.not (.castable "java/lang/IllegalArgumentException" "java/lang/IndexOutOfBoundsException")) (by decide +kernel))
  have hD16 : u_Kn s RJ10 TJ10 4 (D.1 16) (D.2 16) := hD 16 (RJ10, TJ10, 4) rfl
  have hD17 : u_Kn s RJ20 TJ20 1 (D.1 17) (D.2 17) := hD 17 (RJ20, TJ20, 1) rfl
  clear V hgv
  obtain ⟨dA, d0, d1, d2, d3, d4, d5, d6, d7⟩ : ∃ dA : Nat → ClassId, dA 0 = a1 ∧ dA 1 = a1 ∧ dA 2 = a2 ∧ dA 3 = a3 ∧ dA 4 = a4 ∧ dA 5 = a5 ∧ dA 6 = a6 ∧ dA 7 = z71.cls := ⟨fun k => match k with | 0 => a1 | 1 => a1 | 2 => a2 | 3 => a3 | 4 => a4 | 5 => a5 | 6 => a6 | _ => z71.cls, rfl, rfl, rfl, rfl, rfl, rfl, rfl, rfl⟩
  subst d1 d2 d3 d4 d5 d6
  have hB : s.vm.findClass "[B" = some (dA 2) := k2.2.1
  have hOb : s.vm.findClass "[Ljava/lang/Object;" = some (dA 5) := k5.2.1
  obtain ⟨A0, z1, z2, z3, z4, z5, z6⟩ := st_A (s := s) (D := D) (dA := dA) (lm := lm) (st_hd fun i hi => by
    rcases (show i = 0 ∨ i = 1 ∨ i = 2 ∨ i = 3 ∨ i = 4 ∨ i = 5 by omega) with rfl | rfl | rfl | rfl | rfl | rfl
    · exact tg_o hD16.2
    · exact tg_o hD17.2
    · obtain ⟨k, comp, e1, e2⟩ := k2.2.2
      exact ⟨k, e1, comp, e2⟩
    · obtain ⟨k, comp, e1, e2⟩ := k5.2.2
      exact ⟨k, e1, comp, e2⟩
    · obtain ⟨-, k, e1, comp, e2⟩ := t3
      exact ⟨k, by show s.vm.classes[dA 7]? = some k; rw [d7]; exact e1, comp, e2⟩
    · obtain ⟨k, e1, e2, e3⟩ := lam_tag l3
      exact ⟨k, e1, e2, e3.trans (by decide +kernel)⟩)
  obtain ⟨cf, w60, w61, w62, w63, w64, w65, w66, w67, w70, w71, w83⟩ : ∃ cf : Nat → Nat, cf 60 = c60 ∧ cf 61 = c61 ∧ cf 62 = c62 ∧ cf 63 = c63 ∧ cf 64 = c64 ∧ cf 65 = c65 ∧ cf 66 = c66 ∧ cf 67 = qsT22 ∧ cf 70 = c70 ∧ cf 71 = c71 ∧ cf 83 = c83 := ⟨fun k => match k with | 60 => c60 | 61 => c61 | 62 => c62 | 63 => c63 | 64 => c64 | 65 => c65 | 66 => c66 | 67 => qsT22 | 70 => c70 | 71 => c71 | 83 => c83 | _ => 0, rfl, rfl, rfl, rfl, rfl, rfl, rfl, rfl, rfl, rfl, rfl⟩
  subst w60 w61 w62 w63 w64 w65 w66 w67 w70 w71 w83
  obtain ⟨g, g1, g2, g3, g4, g5, g6, g7⟩ : ∃ g : GZ, g.s = s ∧ g.D = D ∧ g.dA = dA ∧ g.A = A0 ∧ g.ar = #[.ref b] ∧ g.lm = lm ∧ g.c = cf := ⟨(s, D, dA, A0, #[.ref b], lm, cf), rfl, rfl, rfl, rfl, rfl, rfl, rfl⟩
  subst g1 g2 g3 g4 g6 g7
  have hR : Rp g g.A g.s.heap := st_Rp z1 z2 z3 z4 (z5 g rfl rfl rfl rfl)
  have W : ∀ {own tx : String} {ix : Nat} {l : List Nat} {h z : Int32} {q v : Nat}, SC g.s own ix tx l h z q v → tx_ok l → SV g own ix tx l h z q v := fun S h => st_sv hR z6 hD16 hB S h
  replace SsM248 := W SsM248 ⟨by decide +kernel, by decide +kernel⟩
  replace SsM287 := W SsM287 ⟨by decide +kernel, by decide +kernel⟩
  replace SsM292 := W SsM292 ⟨by decide +kernel, by decide +kernel⟩
  replace SsM274 := W SsM274 ⟨by decide +kernel, by decide +kernel⟩
  replace SsM279 := W SsM279 ⟨by decide +kernel, by decide +kernel⟩
  replace SsM297 := W SsM297 ⟨by decide +kernel, by decide +kernel⟩
  replace SsM330 := W SsM330 ⟨by decide +kernel, by decide +kernel⟩
  replace SsM332 := W SsM332 ⟨by decide +kernel, by decide +kernel⟩
  replace SsM334 := W SsM334 ⟨by decide +kernel, by decide +kernel⟩
  replace SsM324 := W SsM324 ⟨by decide +kernel, by decide +kernel⟩
  replace SsM326 := W SsM326 ⟨by decide +kernel, by decide +kernel⟩
  replace SsM328 := W SsM328 ⟨by decide +kernel, by decide +kernel⟩
  replace SsP127 := W SsP127 ⟨by decide +kernel, by decide +kernel⟩
  replace SsP133 := W SsP133 ⟨by decide +kernel, by decide +kernel⟩
  replace SsP135 := W SsP135 ⟨by decide +kernel, by decide +kernel⟩
  replace SsP137 := W SsP137 ⟨by decide +kernel, by decide +kernel⟩
  replace SsP139 := W SsP139 ⟨by decide +kernel, by decide +kernel⟩
  replace SsP141 := W SsP141 ⟨by decide +kernel, by decide +kernel⟩
  replace SsP143 := W SsP143 ⟨by decide +kernel, by decide +kernel⟩
  replace SsT240 := W SsT240 ⟨by decide +kernel, by decide +kernel⟩
  replace SsT242 := W SsT242 ⟨by decide +kernel, by decide +kernel⟩
  replace SsT244 := W SsT244 ⟨by decide +kernel, by decide +kernel⟩
  replace SsT202 := W SsT202 ⟨by decide +kernel, by decide +kernel⟩
  replace SsT273 := W SsT273 ⟨by decide +kernel, by decide +kernel⟩
  replace SsT275 := W SsT275 ⟨by decide +kernel, by decide +kernel⟩
  replace SsT128 := W SsT128 ⟨by decide +kernel, by decide +kernel⟩
  replace SsT149 := W SsT149 ⟨by decide +kernel, by decide +kernel⟩
  replace SsT154 := W SsT154 ⟨by decide +kernel, by decide +kernel⟩
  replace SsT204 := W SsT204 ⟨by decide +kernel, by decide +kernel⟩
  replace SsT206 := W SsT206 ⟨by decide +kernel, by decide +kernel⟩
  replace SsP59 := W SsP59 ⟨by decide +kernel, by decide +kernel⟩
  replace SsP65 := W SsP65 ⟨by decide +kernel, by decide +kernel⟩
  replace SsP67 := W SsP67 ⟨by decide +kernel, by decide +kernel⟩
  replace SsP75 := W SsP75 ⟨by decide +kernel, by decide +kernel⟩
  replace SsP86 := W SsP86 ⟨by decide +kernel, by decide +kernel⟩
  replace SsT22 := W SsT22 ⟨by decide +kernel, by decide +kernel⟩
  replace SsM44 := W SsM44 ⟨by decide +kernel, by decide +kernel⟩
  have hEm : EmK g := ⟨vsT22, SsT22.2.1, SsT22.2.2.1, SsT22.2.2.2.1, Or.inr (Or.inr ⟨SsT22.2.2.2.2.2.1, SsT22.2.2.2.2.2.2, rfl⟩)⟩
  have hGd : GdK g := fun m hm => by
    rcases (show m = 0 ∨ m = 1 ∨ m = 2 by omega) with rfl | rfl | rfl
    · exact ⟨n0.1, n0.2, i14, hm14⟩
    · exact ⟨n1.1, n1.2, i15, hm15⟩
    · exact ⟨n2.1, n2.2, i13, hm13⟩
  have hTk : TkC g := ⟨fun m hm => by
    rcases (show m = 0 ∨ m = 1 ∨ m = 2 ∨ m = 3 by omega) with rfl | rfl | rfl | rfl
    · exact n3
    · exact n4
    · exact n5
    · exact n6, fun i j hi hj e => by
    rcases (show i = 0 ∨ i = 1 ∨ i = 2 ∨ i = 3 by omega) with rfl | rfl | rfl | rfl <;> rcases (show j = 0 ∨ j = 1 ∨ j = 2 ∨ j = 3 by omega) with rfl | rfl | rfl | rfl <;> first
      | rfl
      | exact absurd e m01 | exact absurd e.symm m01 | exact absurd e m02 | exact absurd e.symm m02 | exact absurd e m03 | exact absurd e.symm m03 | exact absurd e m12 | exact absurd e.symm m12 | exact absurd e m13 | exact absurd e.symm m13 | exact absurd e m23 | exact absurd e.symm m23, SsT22.1⟩
  have hZS : zS g := ⟨hz1, hz2⟩
  have hok : fw_ok g := by
    refine ⟨by rw [g5]; exact hts, ⟨hD, fun k q hk => ?_⟩, hx1, hx2⟩
    have hk7 : k < 7 := (List.getElem?_eq_some_iff.mp hk).1
    rcases (show k = 0 ∨ k = 1 ∨ k = 2 ∨ k = 3 ∨ k = 4 ∨ k = 5 ∨ k = 6 by omega) with rfl | rfl | rfl | rfl | rfl | rfl | rfl
    · cases (show some (g.dA 0, FieldType.int) = some q from hk)
      show ArrOfT g.s (g.dA 0) .int ∧ va_RA g.s (g.dA 0) .int
      rw [d0]
      exact k1.1
    · cases (show some (g.dA 1, FieldType.int) = some q from hk)
      exact k1.1
    · cases (show some (g.dA 2, FieldType.byte) = some q from hk)
      exact k2.1
    · cases (show some (g.dA 3, FieldType.boolean) = some q from hk)
      exact k3.1
    · cases (show some (g.dA 4, FieldType.long) = some q from hk)
      exact k4.1
    · cases (show some (g.dA 5, FieldType.object "java/lang/Object") = some q from hk)
      exact k5.1
    · cases (show some (g.dA 6, FieldType.object "LawnPaths$Change") = some q from hk)
      exact k6.1
  have k83 : (g.A.G (g.c 83)).1 = 83 := z6 5 _ (by decide) ⟨z83, u2, u3, u4, u5⟩
  have n83 : g.A.n (g.c 83) = 0 := by
    obtain ⟨c, e1, e2, e3, e4, -⟩ := (hR.cell (g.c 83)).2.1 (by rw [k83]; decide) (by rw [k83]; decide)
    cases u2.symm.trans e1
    rw [← e4, u5]
    rfl
  have k70 : (g.A.G (g.c 70)).1 = 500 := z6 3 _ (by decide) ⟨z70, y2, Option.some.inj (y4.symm.trans hOb), y3, fun j hj => absurd hj (by rw [y5]; exact Nat.not_lt_zero _)⟩
  have n70 : g.A.n (g.c 70) = 0 := by
    obtain ⟨c, e1, e2, e3, e4, -⟩ := rp_ar hR k70 (by decide)
    cases y2.symm.trans e1
    rw [← e4, y5]
  have hDe : DeK g g.A := ⟨y1, k70, n70⟩
  have k71 : (g.A.G (g.c 71)).1 = 700 := z6 4 _ (by decide) ⟨z71, t2, d7.symm, t4, fun j hj => ⟨_, t6 j (by rw [t5] at hj; exact hj), some (ad j), rfl⟩⟩
  obtain ⟨c, e1, e2, e3, e4, e5⟩ := rp_ar hR k71 (by decide)
  cases t2.symm.trans e1
  have n71 : g.A.n (g.c 71) = 256 := e4.symm.trans t5
  have hIc : IcK g g.A := by
    refine ⟨x1, x2, k71, n71, ?_, fun j hj => ⟨ad j, ?_, ?_⟩⟩
    · obtain ⟨-, k, f1, comp, f2⟩ := t3
      exact ar_T (by rw [d7]; exact f1) f2
    · have r1 : z71.slots[j]? = some (va_rf (g.A.R (g.c 71) j)) := e5 j (by rw [n71]; exact hj)
      exact va_rf_ref (Option.some.inj (r1.symm.trans (t6 j hj)))
    · obtain ⟨cell, o1, o2, o3, o4⟩ := hO j hj
      obtain ⟨cf, k, i, f, cell2, p1, p2, p3, p4, p5, p6⟩ := hE j hj
      cases o1.symm.trans p3
      have f0 : cell.slots[g.D.2 17 0]? = some (.int (vb_c j)) := slot_v (hD17.1 0 (by decide)) ⟨cf, k, i, f, p1, p5⟩
      have kq : (g.A.G (ad j)).1 = 17 := z6 1 _ (by decide) ⟨cell, o1, Option.some.inj (o3.symm.trans hD17.2.1), ⟨o2, p4⟩, fun f hf => by
        rcases (show f = 0 by omega) with rfl
        exact ⟨_, f0, _, rfl⟩⟩
      refine ⟨kq, ?_⟩
      obtain ⟨r, hr, cc, s1, s2, s3, s4⟩ := rp_ob hR kq (by decide) (by decide)
      cases (show some (RJ20, TJ20, 1) = some r from hr)
      cases o1.symm.trans s1
      have v0 : cell.slots[g.D.2 17 0]? = some (.int (g.A.I (ad j) 0)) := s4 0 (by show 0 < 1; decide)
      exact Value.int.inj (Option.some.inj (v0.symm.trans f0))
  have hLm : LamK g := ⟨⟨one 80, l0, fun h => absurd h (by decide)⟩, ⟨one 81, l1, fun h => absurd h (by decide)⟩, ⟨one 82, l2, fun h => absurd h (by decide)⟩, ⟨one 83, l3, fun _ => u1⟩, ⟨one 84, l4, fun h => absurd h (by decide)⟩, ⟨one 85, l5, fun h => absurd h (by decide)⟩, ⟨one 86, l6, fun h => absurd h (by decide)⟩, ⟨one 87, l7, fun h => absurd h (by decide)⟩, ⟨one 88, l8, fun h => absurd h (by decide)⟩, ⟨one 89, l9, fun h => absurd h (by decide)⟩, ⟨one 90, l10, fun h => absurd h (by decide)⟩, ⟨one 91, l11, fun h => absurd h (by decide)⟩, ⟨one 92, l12, fun h => absurd h (by decide)⟩, ⟨one 93, l13, fun h => absurd h (by decide)⟩, ⟨one 94, l14, fun h => absurd h (by decide)⟩⟩
  have hRd : RdC g := ⟨hEm, ⟨SsP127.wk, SsP133.wk, SsP135.wk, SsP137.wk, SsP139.wk, SsP141.wk, SsP143.wk⟩, SsT240.wk, SsT242.wk, SsT244.wk, SsT202.wk, SsT273.wk, SsT275.wk⟩
  have hDs : DsC g := ⟨⟨hEm, hGd⟩, SsT128.wk, SsT149.wk, SsT154.wk, SsT202.wk, SsT204.wk, SsT206.wk⟩
  have hTw : ∀ D, fw_old g D → TwK g D := fun D ho => ⟨hZS, SsM248.we ho, SsM287.we ho, SsM292.we ho, SsM274.we ho, SsM279.we ho, SsM297.we ho, SsM330.we ho, SsM332.we ho, SsM334.we ho, SsM324.we ho, SsM326.we ho, SsM328.we ho⟩
  have hPl : PlC g := ⟨SsP59.pl, SsP65.pl, SsP67.pl, SsP75.pl, SsP86.pl⟩
  refine ⟨g, rfl, hok, hR, ⟨hGd, hZS, hLm, hTk, hRd, hDs, ⟨k83, n83, (Array.getElem?_eq_some_iff.mp u2).1⟩, hTw, hnc⟩, hDe, hIc, hPl, qsM44, vsM44, SsM44.1, ?_, SsM44.2.2.1, SsM44.2.2.2.1⟩
  have e9 := SsM44.2.1
  rw [show plainT.length = 154 by decide +kernel] at e9
  exact e9
