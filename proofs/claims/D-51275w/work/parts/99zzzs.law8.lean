/-! THE LAW, 8: its cases -/
set_option maxRecDepth 100000
set_option maxHeartbeats 2000000 in
theorem k_meanGrass {g : GZ} {z : ZX} {mc ms k n : Nat} {A : HA} (C : CX g z cL_law RX0 9 1734 mc ms) (K : LwG g) {b Ls c t o i : Nat} {xs : Nat → Int32} (S : Scr g b Ls xs) (hP : LwP g c t o A) (hi : i + 6 ≤ Ls) (hk : k + 34340 ≤ mc) (hs : n + 154700 ≤ ms) (hcont : ∀ (k' n' : Nat) (D : HA), k' ≤ k + 34340 → n' ≤ n + 154700 → LwP g c t o D → wa g z k' n' D 2678 [some (.ref b), some (.ref c), some (.ref t), some (.ref o), some (.int (nI i)), none, none, none, none] []) : wa g z k n A 1978 [some (.ref b), some (.ref c), some (.ref t), some (.ref o), some (.int (nI i)), none, none, none, none] [] := by
  have hL4 := S.2.2
  refine r_Z fun hZ0 => ?_
  refine r_Zo fun hZo0 => ?_
  refine r_old fun ho0 => ?_
  refine r_aload_1 (pc := 1978) C dL_law_1978 ?_
  refine r_V0do (pc := 1979) C (lw_meanGrass K hP hZ0 hZo0 ho0) vl_X0_237 hP.kc (by decide) (by omega) (by omega) (Nat.le_of_ble_eq_true rfl) rfl dL_law_1979 (fun u1 B1 hc1 => ?_)
  obtain ⟨ans, hu, ht6, hT⟩ := hc1
  subst hu
  refine r_Z fun hZ1 => ?_
  refine r_Zo fun hZo1 => ?_
  refine r_old fun ho1 => ?_
  refine r_dstore_5 (pc := 1982) C dL_law_1982 rfl ?_
  refine r_aload_2 (pc := 1984) C dL_law_1984 ?_
  refine r_V0do (pc := 1985) C (hT hZ1 hZo1 ho1) vl_X0_241 ht6 (by decide) (by omega) (by omega) (Nat.le_of_ble_eq_true rfl) rfl dL_law_1985 (fun u2 D hc2 => ?_)
  obtain ⟨hv, hLo, hP2⟩ := hc2
  subst hv
  refine r_dstore_7 (pc := 1988) C dL_law_1988 rfl ?_
  refine r_dload_5 (pc := 1990) C dL_law_1990 ?_
  refine r_dload_7 (pc := 1992) C dL_law_1992 ?_
  refine r_dcmp (pc := 1994) C dL_law_1994 ?_
  refine r_if_eq (pc := 1995) (tgt := 2016) C dL_law_1995 (by decide) (fun _ => ?_) (fun h9 => ?_)
  · skip
    refine r_goto (pc := 2016) (tgt := 2678) C dL_law_2016 (by decide) ?_
    refine r_forget (lv' := [some _, some _, some _, some _, some _, none, none, none, none]) ⟨rfl, rfl, rfl, rfl, rfl, trivial⟩ ?_
    exact hcont _ _ _ (by omega) (by omega) hP2
  · skip
    refine r_dload_5 (pc := 1998) C dL_law_1998 ?_
    refine r_dload_5 (pc := 2000) C dL_law_2000 ?_
    refine r_dcmp (pc := 2002) C dL_law_2002 ?_
    refine r_if_eq (pc := 2003) (tgt := 2014) C dL_law_2003 (by decide) (fun h8 => absurd h8 h9) (fun _ => ?_)
    refine r_dload_7 (pc := 2006) C dL_law_2006 ?_
    refine r_dload_7 (pc := 2008) C dL_law_2008 ?_
    refine r_dcmp (pc := 2010) C dL_law_2010 ?_
    refine r_if_ne (pc := 2011) (tgt := 2016) C dL_law_2011 (by decide) (fun _ => ?_) (fun h8 => absurd h8 h9)
    refine r_goto (pc := 2016) (tgt := 2678) C dL_law_2016 (by decide) ?_
    refine r_forget (lv' := [some _, some _, some _, some _, some _, none, none, none, none]) ⟨rfl, rfl, rfl, rfl, rfl, trivial⟩ ?_
    exact hcont _ _ _ (by omega) (by omega) hP2
set_option maxHeartbeats 2000000 in
theorem k_bareShare {g : GZ} {z : ZX} {mc ms k n : Nat} {A : HA} (C : CX g z cL_law RX0 9 1734 mc ms) (K : LwG g) {b Ls c t o i : Nat} {xs : Nat → Int32} (S : Scr g b Ls xs) (hP : LwP g c t o A) (hi : i + 6 ≤ Ls) (hk : k + 34340 ≤ mc) (hs : n + 154700 ≤ ms) (hcont : ∀ (k' n' : Nat) (D : HA), k' ≤ k + 34340 → n' ≤ n + 154700 → LwP g c t o D → wa g z k' n' D 2678 [some (.ref b), some (.ref c), some (.ref t), some (.ref o), some (.int (nI i)), none, none, none, none] []) : wa g z k n A 2019 [some (.ref b), some (.ref c), some (.ref t), some (.ref o), some (.int (nI i)), none, none, none, none] [] := by
  have hL4 := S.2.2
  refine r_Z fun hZ0 => ?_
  refine r_Zo fun hZo0 => ?_
  refine r_old fun ho0 => ?_
  refine r_aload_1 (pc := 2019) C dL_law_2019 ?_
  refine r_V0fo (pc := 2020) C (lw_bareShare K hP hZ0 hZo0 ho0) vl_X0_242 hP.kc (by decide) (by omega) (by omega) (Nat.le_of_ble_eq_true rfl) rfl dL_law_2020 (fun u1 B1 hc1 => ?_)
  obtain ⟨ans, hne, hu, ht6, hT⟩ := hc1
  subst hu
  refine r_Z fun hZ1 => ?_
  refine r_Zo fun hZo1 => ?_
  refine r_old fun ho1 => ?_
  refine r_f2d (pc := 2023) C dL_law_2023 hne ?_
  refine r_dstore_5 (pc := 2024) C dL_law_2024 rfl ?_
  refine r_aload_2 (pc := 2026) C dL_law_2026 ?_
  refine r_V0fo (pc := 2027) C (hT hZ1 hZo1 ho1) vl_X0_246 ht6 (by decide) (by omega) (by omega) (Nat.le_of_ble_eq_true rfl) rfl dL_law_2027 (fun u2 D hc2 => ?_)
  obtain ⟨hv, hLo, hP2⟩ := hc2
  subst hv
  refine r_f2d (pc := 2030) C dL_law_2030 hne ?_
  refine r_dstore_7 (pc := 2031) C dL_law_2031 rfl ?_
  refine r_dload_5 (pc := 2033) C dL_law_2033 ?_
  refine r_dload_7 (pc := 2035) C dL_law_2035 ?_
  refine r_dcmp (pc := 2037) C dL_law_2037 ?_
  refine r_if_eq (pc := 2038) (tgt := 2059) C dL_law_2038 (by decide) (fun _ => ?_) (fun h9 => ?_)
  · skip
    refine r_goto (pc := 2059) (tgt := 2678) C dL_law_2059 (by decide) ?_
    refine r_forget (lv' := [some _, some _, some _, some _, some _, none, none, none, none]) ⟨rfl, rfl, rfl, rfl, rfl, trivial⟩ ?_
    exact hcont _ _ _ (by omega) (by omega) hP2
  · skip
    refine r_dload_5 (pc := 2041) C dL_law_2041 ?_
    refine r_dload_5 (pc := 2043) C dL_law_2043 ?_
    refine r_dcmp (pc := 2045) C dL_law_2045 ?_
    refine r_if_eq (pc := 2046) (tgt := 2057) C dL_law_2046 (by decide) (fun h8 => absurd h8 h9) (fun _ => ?_)
    refine r_dload_7 (pc := 2049) C dL_law_2049 ?_
    refine r_dload_7 (pc := 2051) C dL_law_2051 ?_
    refine r_dcmp (pc := 2053) C dL_law_2053 ?_
    refine r_if_ne (pc := 2054) (tgt := 2059) C dL_law_2054 (by decide) (fun _ => ?_) (fun h8 => absurd h8 h9)
    refine r_goto (pc := 2059) (tgt := 2678) C dL_law_2059 (by decide) ?_
    refine r_forget (lv' := [some _, some _, some _, some _, some _, none, none, none, none]) ⟨rfl, rfl, rfl, rfl, rfl, trivial⟩ ?_
    exact hcont _ _ _ (by omega) (by omega) hP2
set_option maxHeartbeats 2000000 in
theorem k_run {g : GZ} {z : ZX} {mc ms k n : Nat} {A : HA} (C : CX g z cL_law RX0 9 1734 mc ms) (K : LwG g) {b Ls c t o i : Nat} {xs : Nat → Int32} (S : Scr g b Ls xs) (hP : LwP g c t o A) (hi : i + 6 ≤ Ls) (hk : k + 34340 ≤ mc) (hs : n + 154700 ≤ ms) (hcont : ∀ (k' n' : Nat) (D : HA), k' ≤ k + 34340 → n' ≤ n + 154700 → LwP g c t o D → wa g z k' n' D 2678 [some (.ref b), some (.ref c), some (.ref t), some (.ref o), some (.int (nI i)), none, none, none, none] []) : wa g z k n A 2062 [some (.ref b), some (.ref c), some (.ref t), some (.ref o), some (.int (nI i)), none, none, none, none] [] := by
  have hL4 := S.2.2
  refine r_Z fun hZ0 => ?_
  refine r_Zo fun hZo0 => ?_
  refine r_old fun ho0 => ?_
  refine r_aload_1 (pc := 2062) C dL_law_2062 ?_
  refine r_aload_0 (pc := 2063) C dL_law_2063 ?_
  refine r_iload_4 (pc := 2064) C dL_law_2064 ?_
  refine r_iconst (pc := 2066) C dL_law_2066 ci_1 ?_
  refine r_iadd (pc := 2067) C dL_law_2067 ?_
  refine r_top (nI_add _ _) ?_
  refine r_scr (pc := 2068) C S rfl (by omega) dL_law_2068 ?_
  refine r_aload_3 (pc := 2069) C dL_law_2069 ?_
  refine r_SH3i (pc := 2070) C (lw_run K hP hZ0 hZo0 ho0) sl_X0_247 (by decide) (by omega) (by omega) (Nat.le_of_ble_eq_true rfl) rfl dL_law_2070 (fun u1 B1 hc1 => ?_)
  obtain ⟨q, hu, hq2, hL, ht6, hT⟩ := hc1
  refine r_top hu ?_
  refine r_Z fun hZ1 => ?_
  refine r_Zo fun hZo1 => ?_
  refine r_old fun ho1 => ?_
  refine r_istore_5 (pc := 2073) C dL_law_2073 rfl ?_
  refine r_aload_2 (pc := 2075) C dL_law_2075 ?_
  refine r_aload_0 (pc := 2076) C dL_law_2076 ?_
  refine r_iload_4 (pc := 2077) C dL_law_2077 ?_
  refine r_iconst (pc := 2079) C dL_law_2079 ci_1 ?_
  refine r_iadd (pc := 2080) C dL_law_2080 ?_
  refine r_top (nI_add _ _) ?_
  refine r_scr (pc := 2081) C S rfl (by omega) dL_law_2081 ?_
  refine r_V1io (pc := 2082) C (hT hZ1 hZo1 ho1) vl_X0_249 ht6 (by decide) (by omega) (by omega) (Nat.le_of_ble_eq_true rfl) rfl dL_law_2082 (fun u2 D hc2 => ?_)
  obtain ⟨hv, h6, hLo, hP2⟩ := hc2
  refine r_istore_6 (pc := 2085) C dL_law_2085 rfl ?_
  refine r_aload_2 (pc := 2087) C dL_law_2087 ?_
  refine r_V0io (pc := 2088) C (m_thrown hP2.tw) vl_X0_131 (tw_g hP2.tw) (by decide) (by omega) (by omega) (Nat.le_of_ble_eq_true rfl) rfl dL_law_2088 (fun u3 A3 hc3 => ?_)
  refine r_top (hc3.1.trans h6) ?_
  refine r_eqA hc3.2 ?_
  clear hc3 A3 u3
  refine r_iload_5 (pc := 2091) C dL_law_2091 ?_
  refine r_icmp_eq (pc := 2093) (tgt := 2098) C dL_law_2093 (by decide) (fun _ => ?_) (fun h9 => absurd rfl h9)
  refine r_iload_5 (pc := 2098) C dL_law_2098 ?_
  refine r_if_ne (pc := 2100) (tgt := 2115) C dL_law_2100 (by decide) (fun _ => ?_) (fun h9 => ?_)
  · skip
    refine r_goto (pc := 2115) (tgt := 2678) C dL_law_2115 (by decide) ?_
    refine r_forget (lv' := [some _, some _, some _, some _, some _, none, none, none, none]) ⟨rfl, rfl, rfl, rfl, rfl, trivial⟩ ?_
    exact hcont _ _ _ (by omega) (by omega) hP2
  · have hq0 : q.1 = 0 := (nI_eq0 (by omega)).mp h9
    refine r_aload_3 (pc := 2103) C dL_law_2103 ?_
    refine r_iconst (pc := 2104) C dL_law_2104 ci_0 ?_
    refine r_lald (pc := 2105) (j := 0) C hP2.ko.1 rfl rfl (by rw [hP2.ko.2]; exact Nat.one_pos) (by decide) dL_law_2105 ?_
    refine r_iload_6 (pc := 2106) C dL_law_2106 ?_
    have eL : D.L o 0 = u2.toInt64 := by rw [hv hq0, hLo]; exact hL hq0
    refine r_i2l (pc := 2108) C dL_law_2108 ?_
    refine r_lcmp (pc := 2109) C dL_law_2109 ?_
    refine r_top ((lg_eq0 _ _).mpr eL) ?_
    refine r_if_eq (pc := 2110) (tgt := 2115) C dL_law_2110 (by decide) (fun _ => ?_) (fun h9 => absurd rfl h9)
    refine r_goto (pc := 2115) (tgt := 2678) C dL_law_2115 (by decide) ?_
    refine r_forget (lv' := [some _, some _, some _, some _, some _, none, none, none, none]) ⟨rfl, rfl, rfl, rfl, rfl, trivial⟩ ?_
    exact hcont _ _ _ (by omega) (by omega) hP2
set_option maxHeartbeats 2000000 in
theorem k_setFence {g : GZ} {z : ZX} {mc ms k n : Nat} {A : HA} (C : CX g z cL_law RX0 9 1734 mc ms) (K : LwG g) {b Ls c t o i : Nat} {xs : Nat → Int32} (S : Scr g b Ls xs) (hP : LwP g c t o A) (hi : i + 6 ≤ Ls) (hk : k + 34340 ≤ mc) (hs : n + 154700 ≤ ms) (hcont : ∀ (k' n' : Nat) (D : HA), k' ≤ k + 34340 → n' ≤ n + 154700 → LwP g c t o D → wa g z k' n' D 2678 [some (.ref b), some (.ref c), some (.ref t), some (.ref o), some (.int (nI i)), none, none, none, none] []) : wa g z k n A 2118 [some (.ref b), some (.ref c), some (.ref t), some (.ref o), some (.int (nI i)), none, none, none, none] [] := by
  have hL4 := S.2.2
  refine r_Z fun hZ0 => ?_
  refine r_Zo fun hZo0 => ?_
  refine r_old fun ho0 => ?_
  refine r_aload_1 (pc := 2118) C dL_law_2118 ?_
  refine r_aload_0 (pc := 2119) C dL_law_2119 ?_
  refine r_iload_4 (pc := 2120) C dL_law_2120 ?_
  refine r_iconst (pc := 2122) C dL_law_2122 ci_1 ?_
  refine r_iadd (pc := 2123) C dL_law_2123 ?_
  refine r_top (nI_add _ _) ?_
  refine r_scr (pc := 2124) C S rfl (by omega) dL_law_2124 ?_
  refine r_aload_0 (pc := 2125) C dL_law_2125 ?_
  refine r_iload_4 (pc := 2126) C dL_law_2126 ?_
  refine r_iconst (pc := 2128) C dL_law_2128 ci_2 ?_
  refine r_iadd (pc := 2129) C dL_law_2129 ?_
  refine r_top (nI_add _ _) ?_
  refine r_scr (pc := 2130) C S rfl (by omega) dL_law_2130 ?_
  refine r_aload_3 (pc := 2131) C dL_law_2131 ?_
  refine r_SH4i (pc := 2132) C (lw_setFence K hP hZ0 hZo0 ho0) sl_X0_250 (by decide) (by omega) (by omega) (Nat.le_of_ble_eq_true rfl) rfl dL_law_2132 (fun u1 B1 hc1 => ?_)
  obtain ⟨q, hu, hq2, hL, ht6, hT⟩ := hc1
  refine r_top hu ?_
  refine r_Z fun hZ1 => ?_
  refine r_Zo fun hZo1 => ?_
  refine r_old fun ho1 => ?_
  refine r_istore_5 (pc := 2135) C dL_law_2135 rfl ?_
  refine r_aload_2 (pc := 2137) C dL_law_2137 ?_
  refine r_aload_0 (pc := 2138) C dL_law_2138 ?_
  refine r_iload_4 (pc := 2139) C dL_law_2139 ?_
  refine r_iconst (pc := 2141) C dL_law_2141 ci_1 ?_
  refine r_iadd (pc := 2142) C dL_law_2142 ?_
  refine r_top (nI_add _ _) ?_
  refine r_scr (pc := 2143) C S rfl (by omega) dL_law_2143 ?_
  refine r_aload_0 (pc := 2144) C dL_law_2144 ?_
  refine r_iload_4 (pc := 2145) C dL_law_2145 ?_
  refine r_iconst (pc := 2147) C dL_law_2147 ci_2 ?_
  refine r_iadd (pc := 2148) C dL_law_2148 ?_
  refine r_top (nI_add _ _) ?_
  refine r_scr (pc := 2149) C S rfl (by omega) dL_law_2149 ?_
  refine r_V2io (pc := 2150) C (hT hZ1 hZo1 ho1) vl_X0_252 ht6 (by decide) (by omega) (by omega) (Nat.le_of_ble_eq_true rfl) rfl dL_law_2150 (fun u2 D hc2 => ?_)
  obtain ⟨hv, h6, hLo, hP2⟩ := hc2
  refine r_istore_6 (pc := 2153) C dL_law_2153 rfl ?_
  refine r_aload_2 (pc := 2155) C dL_law_2155 ?_
  refine r_V0io (pc := 2156) C (m_thrown hP2.tw) vl_X0_131 (tw_g hP2.tw) (by decide) (by omega) (by omega) (Nat.le_of_ble_eq_true rfl) rfl dL_law_2156 (fun u3 A3 hc3 => ?_)
  refine r_top (hc3.1.trans h6) ?_
  refine r_eqA hc3.2 ?_
  clear hc3 A3 u3
  refine r_iload_5 (pc := 2159) C dL_law_2159 ?_
  refine r_icmp_eq (pc := 2161) (tgt := 2166) C dL_law_2161 (by decide) (fun _ => ?_) (fun h9 => absurd rfl h9)
  refine r_iload_5 (pc := 2166) C dL_law_2166 ?_
  refine r_if_ne (pc := 2168) (tgt := 2183) C dL_law_2168 (by decide) (fun _ => ?_) (fun h9 => ?_)
  · skip
    refine r_goto (pc := 2183) (tgt := 2678) C dL_law_2183 (by decide) ?_
    refine r_forget (lv' := [some _, some _, some _, some _, some _, none, none, none, none]) ⟨rfl, rfl, rfl, rfl, rfl, trivial⟩ ?_
    exact hcont _ _ _ (by omega) (by omega) hP2
  · have hq0 : q.1 = 0 := (nI_eq0 (by omega)).mp h9
    refine r_aload_3 (pc := 2171) C dL_law_2171 ?_
    refine r_iconst (pc := 2172) C dL_law_2172 ci_0 ?_
    refine r_lald (pc := 2173) (j := 0) C hP2.ko.1 rfl rfl (by rw [hP2.ko.2]; exact Nat.one_pos) (by decide) dL_law_2173 ?_
    refine r_iload_6 (pc := 2174) C dL_law_2174 ?_
    have eL : D.L o 0 = u2.toInt64 := by rw [hv hq0, hLo]; exact hL hq0
    refine r_i2l (pc := 2176) C dL_law_2176 ?_
    refine r_lcmp (pc := 2177) C dL_law_2177 ?_
    refine r_top ((lg_eq0 _ _).mpr eL) ?_
    refine r_if_eq (pc := 2178) (tgt := 2183) C dL_law_2178 (by decide) (fun _ => ?_) (fun h9 => absurd rfl h9)
    refine r_goto (pc := 2183) (tgt := 2678) C dL_law_2183 (by decide) ?_
    refine r_forget (lv' := [some _, some _, some _, some _, some _, none, none, none, none]) ⟨rfl, rfl, rfl, rfl, rfl, trivial⟩ ?_
    exact hcont _ _ _ (by omega) (by omega) hP2
set_option maxHeartbeats 2000000 in
theorem k_dropFence {g : GZ} {z : ZX} {mc ms k n : Nat} {A : HA} (C : CX g z cL_law RX0 9 1734 mc ms) (K : LwG g) {b Ls c t o i : Nat} {xs : Nat → Int32} (S : Scr g b Ls xs) (hP : LwP g c t o A) (hi : i + 6 ≤ Ls) (hk : k + 34340 ≤ mc) (hs : n + 154700 ≤ ms) (hcont : ∀ (k' n' : Nat) (D : HA), k' ≤ k + 34340 → n' ≤ n + 154700 → LwP g c t o D → wa g z k' n' D 2678 [some (.ref b), some (.ref c), some (.ref t), some (.ref o), some (.int (nI i)), none, none, none, none] []) : wa g z k n A 2186 [some (.ref b), some (.ref c), some (.ref t), some (.ref o), some (.int (nI i)), none, none, none, none] [] := by
  have hL4 := S.2.2
  refine r_Z fun hZ0 => ?_
  refine r_Zo fun hZo0 => ?_
  refine r_old fun ho0 => ?_
  refine r_aload_1 (pc := 2186) C dL_law_2186 ?_
  refine r_aload_0 (pc := 2187) C dL_law_2187 ?_
  refine r_iload_4 (pc := 2188) C dL_law_2188 ?_
  refine r_iconst (pc := 2190) C dL_law_2190 ci_1 ?_
  refine r_iadd (pc := 2191) C dL_law_2191 ?_
  refine r_top (nI_add _ _) ?_
  refine r_scr (pc := 2192) C S rfl (by omega) dL_law_2192 ?_
  refine r_aload_0 (pc := 2193) C dL_law_2193 ?_
  refine r_iload_4 (pc := 2194) C dL_law_2194 ?_
  refine r_iconst (pc := 2196) C dL_law_2196 ci_2 ?_
  refine r_iadd (pc := 2197) C dL_law_2197 ?_
  refine r_top (nI_add _ _) ?_
  refine r_scr (pc := 2198) C S rfl (by omega) dL_law_2198 ?_
  refine r_aload_3 (pc := 2199) C dL_law_2199 ?_
  refine r_SH4i (pc := 2200) C (lw_dropFence K hP hZ0 hZo0 ho0) sl_X0_253 (by decide) (by omega) (by omega) (Nat.le_of_ble_eq_true rfl) rfl dL_law_2200 (fun u1 B1 hc1 => ?_)
  obtain ⟨q, hu, hq2, hL, ht6, hT⟩ := hc1
  refine r_top hu ?_
  refine r_Z fun hZ1 => ?_
  refine r_Zo fun hZo1 => ?_
  refine r_old fun ho1 => ?_
  refine r_istore_5 (pc := 2203) C dL_law_2203 rfl ?_
  refine r_aload_2 (pc := 2205) C dL_law_2205 ?_
  refine r_aload_0 (pc := 2206) C dL_law_2206 ?_
  refine r_iload_4 (pc := 2207) C dL_law_2207 ?_
  refine r_iconst (pc := 2209) C dL_law_2209 ci_1 ?_
  refine r_iadd (pc := 2210) C dL_law_2210 ?_
  refine r_top (nI_add _ _) ?_
  refine r_scr (pc := 2211) C S rfl (by omega) dL_law_2211 ?_
  refine r_aload_0 (pc := 2212) C dL_law_2212 ?_
  refine r_iload_4 (pc := 2213) C dL_law_2213 ?_
  refine r_iconst (pc := 2215) C dL_law_2215 ci_2 ?_
  refine r_iadd (pc := 2216) C dL_law_2216 ?_
  refine r_top (nI_add _ _) ?_
  refine r_scr (pc := 2217) C S rfl (by omega) dL_law_2217 ?_
  refine r_V2io (pc := 2218) C (hT hZ1 hZo1 ho1) vl_X0_255 ht6 (by decide) (by omega) (by omega) (Nat.le_of_ble_eq_true rfl) rfl dL_law_2218 (fun u2 D hc2 => ?_)
  obtain ⟨hv, h6, hLo, hP2⟩ := hc2
  refine r_istore_6 (pc := 2221) C dL_law_2221 rfl ?_
  refine r_aload_2 (pc := 2223) C dL_law_2223 ?_
  refine r_V0io (pc := 2224) C (m_thrown hP2.tw) vl_X0_131 (tw_g hP2.tw) (by decide) (by omega) (by omega) (Nat.le_of_ble_eq_true rfl) rfl dL_law_2224 (fun u3 A3 hc3 => ?_)
  refine r_top (hc3.1.trans h6) ?_
  refine r_eqA hc3.2 ?_
  clear hc3 A3 u3
  refine r_iload_5 (pc := 2227) C dL_law_2227 ?_
  refine r_icmp_eq (pc := 2229) (tgt := 2234) C dL_law_2229 (by decide) (fun _ => ?_) (fun h9 => absurd rfl h9)
  refine r_iload_5 (pc := 2234) C dL_law_2234 ?_
  refine r_if_ne (pc := 2236) (tgt := 2251) C dL_law_2236 (by decide) (fun _ => ?_) (fun h9 => ?_)
  · skip
    refine r_goto (pc := 2251) (tgt := 2678) C dL_law_2251 (by decide) ?_
    refine r_forget (lv' := [some _, some _, some _, some _, some _, none, none, none, none]) ⟨rfl, rfl, rfl, rfl, rfl, trivial⟩ ?_
    exact hcont _ _ _ (by omega) (by omega) hP2
  · have hq0 : q.1 = 0 := (nI_eq0 (by omega)).mp h9
    refine r_aload_3 (pc := 2239) C dL_law_2239 ?_
    refine r_iconst (pc := 2240) C dL_law_2240 ci_0 ?_
    refine r_lald (pc := 2241) (j := 0) C hP2.ko.1 rfl rfl (by rw [hP2.ko.2]; exact Nat.one_pos) (by decide) dL_law_2241 ?_
    refine r_iload_6 (pc := 2242) C dL_law_2242 ?_
    have eL : D.L o 0 = u2.toInt64 := by rw [hv hq0, hLo]; exact hL hq0
    refine r_i2l (pc := 2244) C dL_law_2244 ?_
    refine r_lcmp (pc := 2245) C dL_law_2245 ?_
    refine r_top ((lg_eq0 _ _).mpr eL) ?_
    refine r_if_eq (pc := 2246) (tgt := 2251) C dL_law_2246 (by decide) (fun _ => ?_) (fun h9 => absurd rfl h9)
    refine r_goto (pc := 2251) (tgt := 2678) C dL_law_2251 (by decide) ?_
    refine r_forget (lv' := [some _, some _, some _, some _, some _, none, none, none, none]) ⟨rfl, rfl, rfl, rfl, rfl, trivial⟩ ?_
    exact hcont _ _ _ (by omega) (by omega) hP2
set_option maxHeartbeats 2000000 in
theorem k_pave {g : GZ} {z : ZX} {mc ms k n : Nat} {A : HA} (C : CX g z cL_law RX0 9 1734 mc ms) (K : LwG g) {b Ls c t o i : Nat} {xs : Nat → Int32} (S : Scr g b Ls xs) (hP : LwP g c t o A) (hi : i + 6 ≤ Ls) (hk : k + 34340 ≤ mc) (hs : n + 154700 ≤ ms) (hcont : ∀ (k' n' : Nat) (D : HA), k' ≤ k + 34340 → n' ≤ n + 154700 → LwP g c t o D → wa g z k' n' D 2678 [some (.ref b), some (.ref c), some (.ref t), some (.ref o), some (.int (nI i)), none, none, none, none] []) : wa g z k n A 2254 [some (.ref b), some (.ref c), some (.ref t), some (.ref o), some (.int (nI i)), none, none, none, none] [] := by
  have hL4 := S.2.2
  refine r_Z fun hZ0 => ?_
  refine r_Zo fun hZo0 => ?_
  refine r_old fun ho0 => ?_
  refine r_aload_1 (pc := 2254) C dL_law_2254 ?_
  refine r_aload_0 (pc := 2255) C dL_law_2255 ?_
  refine r_iload_4 (pc := 2256) C dL_law_2256 ?_
  refine r_iconst (pc := 2258) C dL_law_2258 ci_1 ?_
  refine r_iadd (pc := 2259) C dL_law_2259 ?_
  refine r_top (nI_add _ _) ?_
  refine r_scr (pc := 2260) C S rfl (by omega) dL_law_2260 ?_
  refine r_aload_0 (pc := 2261) C dL_law_2261 ?_
  refine r_iload_4 (pc := 2262) C dL_law_2262 ?_
  refine r_iconst (pc := 2264) C dL_law_2264 ci_2 ?_
  refine r_iadd (pc := 2265) C dL_law_2265 ?_
  refine r_top (nI_add _ _) ?_
  refine r_scr (pc := 2266) C S rfl (by omega) dL_law_2266 ?_
  refine r_aload_3 (pc := 2267) C dL_law_2267 ?_
  refine r_SH4i (pc := 2268) C (lw_pave K hP hZ0 hZo0 ho0) sl_X0_256 (by decide) (by omega) (by omega) (Nat.le_of_ble_eq_true rfl) rfl dL_law_2268 (fun u1 B1 hc1 => ?_)
  obtain ⟨q, hu, hq2, hL, ht6, hT⟩ := hc1
  refine r_top hu ?_
  refine r_Z fun hZ1 => ?_
  refine r_Zo fun hZo1 => ?_
  refine r_old fun ho1 => ?_
  refine r_istore_5 (pc := 2271) C dL_law_2271 rfl ?_
  refine r_aload_2 (pc := 2273) C dL_law_2273 ?_
  refine r_aload_0 (pc := 2274) C dL_law_2274 ?_
  refine r_iload_4 (pc := 2275) C dL_law_2275 ?_
  refine r_iconst (pc := 2277) C dL_law_2277 ci_1 ?_
  refine r_iadd (pc := 2278) C dL_law_2278 ?_
  refine r_top (nI_add _ _) ?_
  refine r_scr (pc := 2279) C S rfl (by omega) dL_law_2279 ?_
  refine r_aload_0 (pc := 2280) C dL_law_2280 ?_
  refine r_iload_4 (pc := 2281) C dL_law_2281 ?_
  refine r_iconst (pc := 2283) C dL_law_2283 ci_2 ?_
  refine r_iadd (pc := 2284) C dL_law_2284 ?_
  refine r_top (nI_add _ _) ?_
  refine r_scr (pc := 2285) C S rfl (by omega) dL_law_2285 ?_
  refine r_V2io (pc := 2286) C (hT hZ1 hZo1 ho1) vl_X0_258 ht6 (by decide) (by omega) (by omega) (Nat.le_of_ble_eq_true rfl) rfl dL_law_2286 (fun u2 D hc2 => ?_)
  obtain ⟨hv, h6, hLo, hP2⟩ := hc2
  refine r_istore_6 (pc := 2289) C dL_law_2289 rfl ?_
  refine r_aload_2 (pc := 2291) C dL_law_2291 ?_
  refine r_V0io (pc := 2292) C (m_thrown hP2.tw) vl_X0_131 (tw_g hP2.tw) (by decide) (by omega) (by omega) (Nat.le_of_ble_eq_true rfl) rfl dL_law_2292 (fun u3 A3 hc3 => ?_)
  refine r_top (hc3.1.trans h6) ?_
  refine r_eqA hc3.2 ?_
  clear hc3 A3 u3
  refine r_iload_5 (pc := 2295) C dL_law_2295 ?_
  refine r_icmp_eq (pc := 2297) (tgt := 2302) C dL_law_2297 (by decide) (fun _ => ?_) (fun h9 => absurd rfl h9)
  refine r_iload_5 (pc := 2302) C dL_law_2302 ?_
  refine r_if_ne (pc := 2304) (tgt := 2319) C dL_law_2304 (by decide) (fun _ => ?_) (fun h9 => ?_)
  · skip
    refine r_goto (pc := 2319) (tgt := 2678) C dL_law_2319 (by decide) ?_
    refine r_forget (lv' := [some _, some _, some _, some _, some _, none, none, none, none]) ⟨rfl, rfl, rfl, rfl, rfl, trivial⟩ ?_
    exact hcont _ _ _ (by omega) (by omega) hP2
  · have hq0 : q.1 = 0 := (nI_eq0 (by omega)).mp h9
    refine r_aload_3 (pc := 2307) C dL_law_2307 ?_
    refine r_iconst (pc := 2308) C dL_law_2308 ci_0 ?_
    refine r_lald (pc := 2309) (j := 0) C hP2.ko.1 rfl rfl (by rw [hP2.ko.2]; exact Nat.one_pos) (by decide) dL_law_2309 ?_
    refine r_iload_6 (pc := 2310) C dL_law_2310 ?_
    have eL : D.L o 0 = u2.toInt64 := by rw [hv hq0, hLo]; exact hL hq0
    refine r_i2l (pc := 2312) C dL_law_2312 ?_
    refine r_lcmp (pc := 2313) C dL_law_2313 ?_
    refine r_top ((lg_eq0 _ _).mpr eL) ?_
    refine r_if_eq (pc := 2314) (tgt := 2319) C dL_law_2314 (by decide) (fun _ => ?_) (fun h9 => absurd rfl h9)
    refine r_goto (pc := 2319) (tgt := 2678) C dL_law_2319 (by decide) ?_
    refine r_forget (lv' := [some _, some _, some _, some _, some _, none, none, none, none]) ⟨rfl, rfl, rfl, rfl, rfl, trivial⟩ ?_
    exact hcont _ _ _ (by omega) (by omega) hP2
set_option maxHeartbeats 2000000 in
theorem k_sow {g : GZ} {z : ZX} {mc ms k n : Nat} {A : HA} (C : CX g z cL_law RX0 9 1734 mc ms) (K : LwG g) {b Ls c t o i : Nat} {xs : Nat → Int32} (S : Scr g b Ls xs) (hP : LwP g c t o A) (hi : i + 6 ≤ Ls) (hk : k + 34340 ≤ mc) (hs : n + 154700 ≤ ms) (hcont : ∀ (k' n' : Nat) (D : HA), k' ≤ k + 34340 → n' ≤ n + 154700 → LwP g c t o D → wa g z k' n' D 2678 [some (.ref b), some (.ref c), some (.ref t), some (.ref o), some (.int (nI i)), none, none, none, none] []) : wa g z k n A 2322 [some (.ref b), some (.ref c), some (.ref t), some (.ref o), some (.int (nI i)), none, none, none, none] [] := by
  have hL4 := S.2.2
  refine r_Z fun hZ0 => ?_
  refine r_Zo fun hZo0 => ?_
  refine r_old fun ho0 => ?_
  refine r_aload_1 (pc := 2322) C dL_law_2322 ?_
  refine r_aload_0 (pc := 2323) C dL_law_2323 ?_
  refine r_iload_4 (pc := 2324) C dL_law_2324 ?_
  refine r_iconst (pc := 2326) C dL_law_2326 ci_1 ?_
  refine r_iadd (pc := 2327) C dL_law_2327 ?_
  refine r_top (nI_add _ _) ?_
  refine r_scr (pc := 2328) C S rfl (by omega) dL_law_2328 ?_
  refine r_aload_0 (pc := 2329) C dL_law_2329 ?_
  refine r_iload_4 (pc := 2330) C dL_law_2330 ?_
  refine r_iconst (pc := 2332) C dL_law_2332 ci_2 ?_
  refine r_iadd (pc := 2333) C dL_law_2333 ?_
  refine r_top (nI_add _ _) ?_
  refine r_scr (pc := 2334) C S rfl (by omega) dL_law_2334 ?_
  refine r_aload_3 (pc := 2335) C dL_law_2335 ?_
  refine r_SH4i (pc := 2336) C (lw_sow K hP hZ0 hZo0 ho0) sl_X0_259 (by decide) (by omega) (by omega) (Nat.le_of_ble_eq_true rfl) rfl dL_law_2336 (fun u1 B1 hc1 => ?_)
  obtain ⟨q, hu, hq2, hL, ht6, hT⟩ := hc1
  refine r_top hu ?_
  refine r_Z fun hZ1 => ?_
  refine r_Zo fun hZo1 => ?_
  refine r_old fun ho1 => ?_
  refine r_istore_5 (pc := 2339) C dL_law_2339 rfl ?_
  refine r_aload_2 (pc := 2341) C dL_law_2341 ?_
  refine r_aload_0 (pc := 2342) C dL_law_2342 ?_
  refine r_iload_4 (pc := 2343) C dL_law_2343 ?_
  refine r_iconst (pc := 2345) C dL_law_2345 ci_1 ?_
  refine r_iadd (pc := 2346) C dL_law_2346 ?_
  refine r_top (nI_add _ _) ?_
  refine r_scr (pc := 2347) C S rfl (by omega) dL_law_2347 ?_
  refine r_aload_0 (pc := 2348) C dL_law_2348 ?_
  refine r_iload_4 (pc := 2349) C dL_law_2349 ?_
  refine r_iconst (pc := 2351) C dL_law_2351 ci_2 ?_
  refine r_iadd (pc := 2352) C dL_law_2352 ?_
  refine r_top (nI_add _ _) ?_
  refine r_scr (pc := 2353) C S rfl (by omega) dL_law_2353 ?_
  refine r_V2io (pc := 2354) C (hT hZ1 hZo1 ho1) vl_X0_261 ht6 (by decide) (by omega) (by omega) (Nat.le_of_ble_eq_true rfl) rfl dL_law_2354 (fun u2 D hc2 => ?_)
  obtain ⟨hv, h6, hLo, hP2⟩ := hc2
  refine r_istore_6 (pc := 2357) C dL_law_2357 rfl ?_
  refine r_aload_2 (pc := 2359) C dL_law_2359 ?_
  refine r_V0io (pc := 2360) C (m_thrown hP2.tw) vl_X0_131 (tw_g hP2.tw) (by decide) (by omega) (by omega) (Nat.le_of_ble_eq_true rfl) rfl dL_law_2360 (fun u3 A3 hc3 => ?_)
  refine r_top (hc3.1.trans h6) ?_
  refine r_eqA hc3.2 ?_
  clear hc3 A3 u3
  refine r_iload_5 (pc := 2363) C dL_law_2363 ?_
  refine r_icmp_eq (pc := 2365) (tgt := 2370) C dL_law_2365 (by decide) (fun _ => ?_) (fun h9 => absurd rfl h9)
  refine r_iload_5 (pc := 2370) C dL_law_2370 ?_
  refine r_if_ne (pc := 2372) (tgt := 2387) C dL_law_2372 (by decide) (fun _ => ?_) (fun h9 => ?_)
  · skip
    refine r_goto (pc := 2387) (tgt := 2678) C dL_law_2387 (by decide) ?_
    refine r_forget (lv' := [some _, some _, some _, some _, some _, none, none, none, none]) ⟨rfl, rfl, rfl, rfl, rfl, trivial⟩ ?_
    exact hcont _ _ _ (by omega) (by omega) hP2
  · have hq0 : q.1 = 0 := (nI_eq0 (by omega)).mp h9
    refine r_aload_3 (pc := 2375) C dL_law_2375 ?_
    refine r_iconst (pc := 2376) C dL_law_2376 ci_0 ?_
    refine r_lald (pc := 2377) (j := 0) C hP2.ko.1 rfl rfl (by rw [hP2.ko.2]; exact Nat.one_pos) (by decide) dL_law_2377 ?_
    refine r_iload_6 (pc := 2378) C dL_law_2378 ?_
    have eL : D.L o 0 = u2.toInt64 := by rw [hv hq0, hLo]; exact hL hq0
    refine r_i2l (pc := 2380) C dL_law_2380 ?_
    refine r_lcmp (pc := 2381) C dL_law_2381 ?_
    refine r_top ((lg_eq0 _ _).mpr eL) ?_
    refine r_if_eq (pc := 2382) (tgt := 2387) C dL_law_2382 (by decide) (fun _ => ?_) (fun h9 => absurd rfl h9)
    refine r_goto (pc := 2387) (tgt := 2678) C dL_law_2387 (by decide) ?_
    refine r_forget (lv' := [some _, some _, some _, some _, some _, none, none, none, none]) ⟨rfl, rfl, rfl, rfl, rfl, trivial⟩ ?_
    exact hcont _ _ _ (by omega) (by omega) hP2
set_option maxHeartbeats 2000000 in
theorem k_setHaste {g : GZ} {z : ZX} {mc ms k n : Nat} {A : HA} (C : CX g z cL_law RX0 9 1734 mc ms) (K : LwG g) {b Ls c t o i : Nat} {xs : Nat → Int32} (S : Scr g b Ls xs) (hP : LwP g c t o A) (hi : i + 6 ≤ Ls) (hk : k + 34340 ≤ mc) (hs : n + 154700 ≤ ms) (hcont : ∀ (k' n' : Nat) (D : HA), k' ≤ k + 34340 → n' ≤ n + 154700 → LwP g c t o D → wa g z k' n' D 2678 [some (.ref b), some (.ref c), some (.ref t), some (.ref o), some (.int (nI i)), none, none, none, none] []) : wa g z k n A 2390 [some (.ref b), some (.ref c), some (.ref t), some (.ref o), some (.int (nI i)), none, none, none, none] [] := by
  have hL4 := S.2.2
  refine r_Z fun hZ0 => ?_
  refine r_Zo fun hZo0 => ?_
  refine r_old fun ho0 => ?_
  refine r_aload_1 (pc := 2390) C dL_law_2390 ?_
  refine r_aload_0 (pc := 2391) C dL_law_2391 ?_
  refine r_iload_4 (pc := 2392) C dL_law_2392 ?_
  refine r_iconst (pc := 2394) C dL_law_2394 ci_1 ?_
  refine r_iadd (pc := 2395) C dL_law_2395 ?_
  refine r_top (nI_add _ _) ?_
  refine r_scr (pc := 2396) C S rfl (by omega) dL_law_2396 ?_
  refine r_aload_0 (pc := 2397) C dL_law_2397 ?_
  refine r_iload_4 (pc := 2398) C dL_law_2398 ?_
  refine r_iconst (pc := 2400) C dL_law_2400 ci_2 ?_
  refine r_iadd (pc := 2401) C dL_law_2401 ?_
  refine r_top (nI_add _ _) ?_
  refine r_scr (pc := 2402) C S rfl (by omega) dL_law_2402 ?_
  refine r_aload_3 (pc := 2403) C dL_law_2403 ?_
  refine r_SH4i (pc := 2404) C (lw_setHaste K hP hZ0 hZo0 ho0) sl_X0_262 (by decide) (by omega) (by omega) (Nat.le_of_ble_eq_true rfl) rfl dL_law_2404 (fun u1 B1 hc1 => ?_)
  obtain ⟨q, hu, hq2, hL, ht6, hT⟩ := hc1
  refine r_top hu ?_
  refine r_Z fun hZ1 => ?_
  refine r_Zo fun hZo1 => ?_
  refine r_old fun ho1 => ?_
  refine r_istore_5 (pc := 2407) C dL_law_2407 rfl ?_
  refine r_aload_2 (pc := 2409) C dL_law_2409 ?_
  refine r_aload_0 (pc := 2410) C dL_law_2410 ?_
  refine r_iload_4 (pc := 2411) C dL_law_2411 ?_
  refine r_iconst (pc := 2413) C dL_law_2413 ci_1 ?_
  refine r_iadd (pc := 2414) C dL_law_2414 ?_
  refine r_top (nI_add _ _) ?_
  refine r_scr (pc := 2415) C S rfl (by omega) dL_law_2415 ?_
  refine r_aload_0 (pc := 2416) C dL_law_2416 ?_
  refine r_iload_4 (pc := 2417) C dL_law_2417 ?_
  refine r_iconst (pc := 2419) C dL_law_2419 ci_2 ?_
  refine r_iadd (pc := 2420) C dL_law_2420 ?_
  refine r_top (nI_add _ _) ?_
  refine r_scr (pc := 2421) C S rfl (by omega) dL_law_2421 ?_
  refine r_V2io (pc := 2422) C (hT hZ1 hZo1 ho1) vl_X0_264 ht6 (by decide) (by omega) (by omega) (Nat.le_of_ble_eq_true rfl) rfl dL_law_2422 (fun u2 D hc2 => ?_)
  obtain ⟨hv, h6, hLo, hP2⟩ := hc2
  refine r_istore_6 (pc := 2425) C dL_law_2425 rfl ?_
  refine r_aload_2 (pc := 2427) C dL_law_2427 ?_
  refine r_V0io (pc := 2428) C (m_thrown hP2.tw) vl_X0_131 (tw_g hP2.tw) (by decide) (by omega) (by omega) (Nat.le_of_ble_eq_true rfl) rfl dL_law_2428 (fun u3 A3 hc3 => ?_)
  refine r_top (hc3.1.trans h6) ?_
  refine r_eqA hc3.2 ?_
  clear hc3 A3 u3
  refine r_iload_5 (pc := 2431) C dL_law_2431 ?_
  refine r_icmp_eq (pc := 2433) (tgt := 2438) C dL_law_2433 (by decide) (fun _ => ?_) (fun h9 => absurd rfl h9)
  refine r_iload_5 (pc := 2438) C dL_law_2438 ?_
  refine r_if_ne (pc := 2440) (tgt := 2455) C dL_law_2440 (by decide) (fun _ => ?_) (fun h9 => ?_)
  · skip
    refine r_goto (pc := 2455) (tgt := 2678) C dL_law_2455 (by decide) ?_
    refine r_forget (lv' := [some _, some _, some _, some _, some _, none, none, none, none]) ⟨rfl, rfl, rfl, rfl, rfl, trivial⟩ ?_
    exact hcont _ _ _ (by omega) (by omega) hP2
  · have hq0 : q.1 = 0 := (nI_eq0 (by omega)).mp h9
    refine r_aload_3 (pc := 2443) C dL_law_2443 ?_
    refine r_iconst (pc := 2444) C dL_law_2444 ci_0 ?_
    refine r_lald (pc := 2445) (j := 0) C hP2.ko.1 rfl rfl (by rw [hP2.ko.2]; exact Nat.one_pos) (by decide) dL_law_2445 ?_
    refine r_iload_6 (pc := 2446) C dL_law_2446 ?_
    have eL : D.L o 0 = u2.toInt64 := by rw [hv hq0, hLo]; exact hL hq0
    refine r_i2l (pc := 2448) C dL_law_2448 ?_
    refine r_lcmp (pc := 2449) C dL_law_2449 ?_
    refine r_top ((lg_eq0 _ _).mpr eL) ?_
    refine r_if_eq (pc := 2450) (tgt := 2455) C dL_law_2450 (by decide) (fun _ => ?_) (fun h9 => absurd rfl h9)
    refine r_goto (pc := 2455) (tgt := 2678) C dL_law_2455 (by decide) ?_
    refine r_forget (lv' := [some _, some _, some _, some _, some _, none, none, none, none]) ⟨rfl, rfl, rfl, rfl, rfl, trivial⟩ ?_
    exact hcont _ _ _ (by omega) (by omega) hP2
set_option maxHeartbeats 2000000 in
theorem k_turnRound {g : GZ} {z : ZX} {mc ms k n : Nat} {A : HA} (C : CX g z cL_law RX0 9 1734 mc ms) (K : LwG g) {b Ls c t o i : Nat} {xs : Nat → Int32} (S : Scr g b Ls xs) (hP : LwP g c t o A) (hi : i + 6 ≤ Ls) (hk : k + 34340 ≤ mc) (hs : n + 154700 ≤ ms) (hcont : ∀ (k' n' : Nat) (D : HA), k' ≤ k + 34340 → n' ≤ n + 154700 → LwP g c t o D → wa g z k' n' D 2678 [some (.ref b), some (.ref c), some (.ref t), some (.ref o), some (.int (nI i)), none, none, none, none] []) : wa g z k n A 2458 [some (.ref b), some (.ref c), some (.ref t), some (.ref o), some (.int (nI i)), none, none, none, none] [] := by
  have hL4 := S.2.2
  refine r_Z fun hZ0 => ?_
  refine r_Zo fun hZo0 => ?_
  refine r_old fun ho0 => ?_
  refine r_aload_1 (pc := 2458) C dL_law_2458 ?_
  refine r_aload_0 (pc := 2459) C dL_law_2459 ?_
  refine r_iload_4 (pc := 2460) C dL_law_2460 ?_
  refine r_iconst (pc := 2462) C dL_law_2462 ci_1 ?_
  refine r_iadd (pc := 2463) C dL_law_2463 ?_
  refine r_top (nI_add _ _) ?_
  refine r_scr (pc := 2464) C S rfl (by omega) dL_law_2464 ?_
  refine r_aload_3 (pc := 2465) C dL_law_2465 ?_
  refine r_SH3i (pc := 2466) C (lw_turnRound K hP hZ0 hZo0 ho0) sl_X0_265 (by decide) (by omega) (by omega) (Nat.le_of_ble_eq_true rfl) rfl dL_law_2466 (fun u1 B1 hc1 => ?_)
  obtain ⟨q, hu, hq2, hL, ht6, hT⟩ := hc1
  refine r_top hu ?_
  refine r_Z fun hZ1 => ?_
  refine r_Zo fun hZo1 => ?_
  refine r_old fun ho1 => ?_
  refine r_istore_5 (pc := 2469) C dL_law_2469 rfl ?_
  refine r_aload_2 (pc := 2471) C dL_law_2471 ?_
  refine r_aload_0 (pc := 2472) C dL_law_2472 ?_
  refine r_iload_4 (pc := 2473) C dL_law_2473 ?_
  refine r_iconst (pc := 2475) C dL_law_2475 ci_1 ?_
  refine r_iadd (pc := 2476) C dL_law_2476 ?_
  refine r_top (nI_add _ _) ?_
  refine r_scr (pc := 2477) C S rfl (by omega) dL_law_2477 ?_
  refine r_V1io (pc := 2478) C (hT hZ1 hZo1 ho1) vl_X0_267 ht6 (by decide) (by omega) (by omega) (Nat.le_of_ble_eq_true rfl) rfl dL_law_2478 (fun u2 D hc2 => ?_)
  obtain ⟨hv, h6, hLo, hP2⟩ := hc2
  refine r_istore_6 (pc := 2481) C dL_law_2481 rfl ?_
  refine r_aload_2 (pc := 2483) C dL_law_2483 ?_
  refine r_V0io (pc := 2484) C (m_thrown hP2.tw) vl_X0_131 (tw_g hP2.tw) (by decide) (by omega) (by omega) (Nat.le_of_ble_eq_true rfl) rfl dL_law_2484 (fun u3 A3 hc3 => ?_)
  refine r_top (hc3.1.trans h6) ?_
  refine r_eqA hc3.2 ?_
  clear hc3 A3 u3
  refine r_iload_5 (pc := 2487) C dL_law_2487 ?_
  refine r_icmp_eq (pc := 2489) (tgt := 2494) C dL_law_2489 (by decide) (fun _ => ?_) (fun h9 => absurd rfl h9)
  refine r_iload_5 (pc := 2494) C dL_law_2494 ?_
  refine r_if_ne (pc := 2496) (tgt := 2511) C dL_law_2496 (by decide) (fun _ => ?_) (fun h9 => ?_)
  · skip
    refine r_goto (pc := 2511) (tgt := 2678) C dL_law_2511 (by decide) ?_
    refine r_forget (lv' := [some _, some _, some _, some _, some _, none, none, none, none]) ⟨rfl, rfl, rfl, rfl, rfl, trivial⟩ ?_
    exact hcont _ _ _ (by omega) (by omega) hP2
  · have hq0 : q.1 = 0 := (nI_eq0 (by omega)).mp h9
    refine r_aload_3 (pc := 2499) C dL_law_2499 ?_
    refine r_iconst (pc := 2500) C dL_law_2500 ci_0 ?_
    refine r_lald (pc := 2501) (j := 0) C hP2.ko.1 rfl rfl (by rw [hP2.ko.2]; exact Nat.one_pos) (by decide) dL_law_2501 ?_
    refine r_iload_6 (pc := 2502) C dL_law_2502 ?_
    have eL : D.L o 0 = u2.toInt64 := by rw [hv hq0, hLo]; exact hL hq0
    refine r_i2l (pc := 2504) C dL_law_2504 ?_
    refine r_lcmp (pc := 2505) C dL_law_2505 ?_
    refine r_top ((lg_eq0 _ _).mpr eL) ?_
    refine r_if_eq (pc := 2506) (tgt := 2511) C dL_law_2506 (by decide) (fun _ => ?_) (fun h9 => absurd rfl h9)
    refine r_goto (pc := 2511) (tgt := 2678) C dL_law_2511 (by decide) ?_
    refine r_forget (lv' := [some _, some _, some _, some _, some _, none, none, none, none]) ⟨rfl, rfl, rfl, rfl, rfl, trivial⟩ ?_
    exact hcont _ _ _ (by omega) (by omega) hP2
set_option maxHeartbeats 2000000 in
theorem k_writeLawn {g : GZ} {z : ZX} {mc ms k n : Nat} {A : HA} (C : CX g z cL_law RX0 9 1734 mc ms) (K : LwG g) {b Ls c t o i : Nat} {xs : Nat → Int32} (S : Scr g b Ls xs) (hP : LwP g c t o A) (hi : i + 6 ≤ Ls) (hk : k + 34340 ≤ mc) (hs : n + 154700 ≤ ms) (hcont : ∀ (k' n' : Nat) (D : HA), k' ≤ k + 34340 → n' ≤ n + 154700 → LwP g c t o D → wa g z k' n' D 2678 [some (.ref b), some (.ref c), some (.ref t), some (.ref o), some (.int (nI i)), none, none, none, none] []) : wa g z k n A 2514 [some (.ref b), some (.ref c), some (.ref t), some (.ref o), some (.int (nI i)), none, none, none, none] [] := by
  have hL4 := S.2.2
  refine r_Z fun hZ0 => ?_
  refine r_Zo fun hZo0 => ?_
  refine r_old fun ho0 => ?_
  refine r_aload_1 (pc := 2514) C dL_law_2514 ?_
  refine r_V0i (pc := 2515) C (lw_writeLawn K hP hZ0 hZo0 ho0) vl_X0_268 hP.kc (by decide) (by omega) (by omega) (Nat.le_of_ble_eq_true rfl) rfl dL_law_2515 (fun u1 B1 hc1 => ?_)
  obtain ⟨ans, hu, ht6, hT⟩ := hc1
  subst hu
  refine r_Z fun hZ1 => ?_
  refine r_Zo fun hZo1 => ?_
  refine r_old fun ho1 => ?_
  refine r_aload_2 (pc := 2518) C dL_law_2518 ?_
  refine r_V0io (pc := 2519) C (hT hZ1 hZo1 ho1) vl_X0_271 ht6 (by decide) (by omega) (by omega) (Nat.le_of_ble_eq_true rfl) rfl dL_law_2519 (fun u2 D hc2 => ?_)
  obtain ⟨hv, hLo, hP2⟩ := hc2
  refine r_top hv ?_
  refine r_icmp_eq (pc := 2522) (tgt := 2678) C dL_law_2522 (by decide) (fun _ => ?_) (fun h9 => absurd rfl h9)
  refine r_forget (lv' := [some _, some _, some _, some _, some _, none, none, none, none]) ⟨rfl, rfl, rfl, rfl, rfl, trivial⟩ ?_
  exact hcont _ _ _ (by omega) (by omega) hP2
set_option maxHeartbeats 2000000 in
theorem k_writeWay {g : GZ} {z : ZX} {mc ms k n : Nat} {A : HA} (C : CX g z cL_law RX0 9 1734 mc ms) (K : LwG g) {b Ls c t o i : Nat} {xs : Nat → Int32} (S : Scr g b Ls xs) (hP : LwP g c t o A) (hi : i + 6 ≤ Ls) (hk : k + 34340 ≤ mc) (hs : n + 154700 ≤ ms) (hcont : ∀ (k' n' : Nat) (D : HA), k' ≤ k + 34340 → n' ≤ n + 154700 → LwP g c t o D → wa g z k' n' D 2678 [some (.ref b), some (.ref c), some (.ref t), some (.ref o), some (.int (nI i)), none, none, none, none] []) : wa g z k n A 2527 [some (.ref b), some (.ref c), some (.ref t), some (.ref o), some (.int (nI i)), none, none, none, none] [] := by
  have hL4 := S.2.2
  refine r_Z fun hZ0 => ?_
  refine r_Zo fun hZo0 => ?_
  refine r_old fun ho0 => ?_
  refine r_aload_1 (pc := 2527) C dL_law_2527 ?_
  refine r_aload_0 (pc := 2528) C dL_law_2528 ?_
  refine r_iload_4 (pc := 2529) C dL_law_2529 ?_
  refine r_iconst (pc := 2531) C dL_law_2531 ci_1 ?_
  refine r_iadd (pc := 2532) C dL_law_2532 ?_
  refine r_top (nI_add _ _) ?_
  refine r_scr (pc := 2533) C S rfl (by omega) dL_law_2533 ?_
  refine r_aload_3 (pc := 2534) C dL_law_2534 ?_
  refine r_SH3i (pc := 2535) C (lw_writeWay K hP hZ0 hZo0 ho0) sl_X0_272 (by decide) (by omega) (by omega) (Nat.le_of_ble_eq_true rfl) rfl dL_law_2535 (fun u1 B1 hc1 => ?_)
  obtain ⟨q, hu, hq2, hL, ht6, hT⟩ := hc1
  refine r_top hu ?_
  refine r_Z fun hZ1 => ?_
  refine r_Zo fun hZo1 => ?_
  refine r_old fun ho1 => ?_
  refine r_istore_5 (pc := 2538) C dL_law_2538 rfl ?_
  refine r_aload_2 (pc := 2540) C dL_law_2540 ?_
  refine r_aload_0 (pc := 2541) C dL_law_2541 ?_
  refine r_iload_4 (pc := 2542) C dL_law_2542 ?_
  refine r_iconst (pc := 2544) C dL_law_2544 ci_1 ?_
  refine r_iadd (pc := 2545) C dL_law_2545 ?_
  refine r_top (nI_add _ _) ?_
  refine r_scr (pc := 2546) C S rfl (by omega) dL_law_2546 ?_
  refine r_V1io (pc := 2547) C (hT hZ1 hZo1 ho1) vl_X0_274 ht6 (by decide) (by omega) (by omega) (Nat.le_of_ble_eq_true rfl) rfl dL_law_2547 (fun u2 D hc2 => ?_)
  obtain ⟨hv, h6, hLo, hP2⟩ := hc2
  refine r_istore_6 (pc := 2550) C dL_law_2550 rfl ?_
  refine r_aload_2 (pc := 2552) C dL_law_2552 ?_
  refine r_V0io (pc := 2553) C (m_thrown hP2.tw) vl_X0_131 (tw_g hP2.tw) (by decide) (by omega) (by omega) (Nat.le_of_ble_eq_true rfl) rfl dL_law_2553 (fun u3 A3 hc3 => ?_)
  refine r_top (hc3.1.trans h6) ?_
  refine r_eqA hc3.2 ?_
  clear hc3 A3 u3
  refine r_iload_5 (pc := 2556) C dL_law_2556 ?_
  refine r_icmp_eq (pc := 2558) (tgt := 2563) C dL_law_2558 (by decide) (fun _ => ?_) (fun h9 => absurd rfl h9)
  refine r_iload_5 (pc := 2563) C dL_law_2563 ?_
  refine r_if_ne (pc := 2565) (tgt := 2580) C dL_law_2565 (by decide) (fun _ => ?_) (fun h9 => ?_)
  · skip
    refine r_goto (pc := 2580) (tgt := 2678) C dL_law_2580 (by decide) ?_
    refine r_forget (lv' := [some _, some _, some _, some _, some _, none, none, none, none]) ⟨rfl, rfl, rfl, rfl, rfl, trivial⟩ ?_
    exact hcont _ _ _ (by omega) (by omega) hP2
  · have hq0 : q.1 = 0 := (nI_eq0 (by omega)).mp h9
    refine r_aload_3 (pc := 2568) C dL_law_2568 ?_
    refine r_iconst (pc := 2569) C dL_law_2569 ci_0 ?_
    refine r_lald (pc := 2570) (j := 0) C hP2.ko.1 rfl rfl (by rw [hP2.ko.2]; exact Nat.one_pos) (by decide) dL_law_2570 ?_
    refine r_iload_6 (pc := 2571) C dL_law_2571 ?_
    have eL : D.L o 0 = u2.toInt64 := by rw [hv hq0, hLo]; exact hL hq0
    refine r_i2l (pc := 2573) C dL_law_2573 ?_
    refine r_lcmp (pc := 2574) C dL_law_2574 ?_
    refine r_top ((lg_eq0 _ _).mpr eL) ?_
    refine r_if_eq (pc := 2575) (tgt := 2580) C dL_law_2575 (by decide) (fun _ => ?_) (fun h9 => absurd rfl h9)
    refine r_goto (pc := 2580) (tgt := 2678) C dL_law_2580 (by decide) ?_
    refine r_forget (lv' := [some _, some _, some _, some _, some _, none, none, none, none]) ⟨rfl, rfl, rfl, rfl, rfl, trivial⟩ ?_
    exact hcont _ _ _ (by omega) (by omega) hP2
set_option maxHeartbeats 2000000 in
theorem k_outputByte {g : GZ} {z : ZX} {mc ms k n : Nat} {A : HA} (C : CX g z cL_law RX0 9 1734 mc ms) (K : LwG g) {b Ls c t o i : Nat} {xs : Nat → Int32} (S : Scr g b Ls xs) (hP : LwP g c t o A) (hi : i + 6 ≤ Ls) (hk : k + 34340 ≤ mc) (hs : n + 154700 ≤ ms) (hcont : ∀ (k' n' : Nat) (D : HA), k' ≤ k + 34340 → n' ≤ n + 154700 → LwP g c t o D → wa g z k' n' D 2678 [some (.ref b), some (.ref c), some (.ref t), some (.ref o), some (.int (nI i)), none, none, none, none] []) : wa g z k n A 2583 [some (.ref b), some (.ref c), some (.ref t), some (.ref o), some (.int (nI i)), none, none, none, none] [] := by
  have hL4 := S.2.2
  refine r_Z fun hZ0 => ?_
  refine r_Zo fun hZo0 => ?_
  refine r_old fun ho0 => ?_
  refine r_aload_1 (pc := 2583) C dL_law_2583 ?_
  refine r_aload_0 (pc := 2584) C dL_law_2584 ?_
  refine r_iload_4 (pc := 2585) C dL_law_2585 ?_
  refine r_iconst (pc := 2587) C dL_law_2587 ci_1 ?_
  refine r_iadd (pc := 2588) C dL_law_2588 ?_
  refine r_top (nI_add _ _) ?_
  refine r_scr (pc := 2589) C S rfl (by omega) dL_law_2589 ?_
  refine r_V1io (pc := 2590) C (lw_outputByte K hP hZ0 hZo0 ho0) vl_X0_275 hP.kc (by decide) (by omega) (by omega) (Nat.le_of_ble_eq_true rfl) rfl dL_law_2590 (fun u1 B1 hc1 => ?_)
  obtain ⟨ans, hu, ht6, hT⟩ := hc1
  subst hu
  refine r_Z fun hZ1 => ?_
  refine r_Zo fun hZo1 => ?_
  refine r_old fun ho1 => ?_
  refine r_aload_2 (pc := 2593) C dL_law_2593 ?_
  refine r_aload_0 (pc := 2594) C dL_law_2594 ?_
  refine r_iload_4 (pc := 2595) C dL_law_2595 ?_
  refine r_iconst (pc := 2597) C dL_law_2597 ci_1 ?_
  refine r_iadd (pc := 2598) C dL_law_2598 ?_
  refine r_top (nI_add _ _) ?_
  refine r_scr (pc := 2599) C S rfl (by omega) dL_law_2599 ?_
  refine r_V1io (pc := 2600) C (hT hZ1 hZo1 ho1) vl_X0_278 ht6 (by decide) (by omega) (by omega) (Nat.le_of_ble_eq_true rfl) rfl dL_law_2600 (fun u2 D hc2 => ?_)
  obtain ⟨hv, hLo, hP2⟩ := hc2
  refine r_top hv ?_
  refine r_icmp_eq (pc := 2603) (tgt := 2678) C dL_law_2603 (by decide) (fun _ => ?_) (fun h9 => absurd rfl h9)
  refine r_forget (lv' := [some _, some _, some _, some _, some _, none, none, none, none]) ⟨rfl, rfl, rfl, rfl, rfl, trivial⟩ ?_
  exact hcont _ _ _ (by omega) (by omega) hP2
set_option maxHeartbeats 2000000 in
theorem k_undo {g : GZ} {z : ZX} {mc ms k n : Nat} {A : HA} (C : CX g z cL_law RX0 9 1734 mc ms) (K : LwG g) {b Ls c t o i : Nat} {xs : Nat → Int32} (S : Scr g b Ls xs) (hP : LwP g c t o A) (hi : i + 6 ≤ Ls) (hk : k + 34340 ≤ mc) (hs : n + 154700 ≤ ms) (hcont : ∀ (k' n' : Nat) (D : HA), k' ≤ k + 34340 → n' ≤ n + 154700 → LwP g c t o D → wa g z k' n' D 2678 [some (.ref b), some (.ref c), some (.ref t), some (.ref o), some (.int (nI i)), none, none, none, none] []) : wa g z k n A 2608 [some (.ref b), some (.ref c), some (.ref t), some (.ref o), some (.int (nI i)), none, none, none, none] [] := by
  have hL4 := S.2.2
  refine r_Z fun hZ0 => ?_
  refine r_Zo fun hZo0 => ?_
  refine r_old fun ho0 => ?_
  refine r_aload_1 (pc := 2608) C dL_law_2608 ?_
  refine r_V0io (pc := 2609) C (lw_undo K hP hZ0 hZo0 ho0) vl_X0_279 hP.kc (by decide) (by omega) (by omega) (Nat.le_of_ble_eq_true rfl) rfl dL_law_2609 (fun u1 B1 hc1 => ?_)
  obtain ⟨ans, hu, ht6, hT⟩ := hc1
  subst hu
  refine r_Z fun hZ1 => ?_
  refine r_Zo fun hZo1 => ?_
  refine r_old fun ho1 => ?_
  refine r_aload_2 (pc := 2612) C dL_law_2612 ?_
  refine r_V0io (pc := 2613) C (hT hZ1 hZo1 ho1) vl_X0_282 ht6 (by decide) (by omega) (by omega) (Nat.le_of_ble_eq_true rfl) rfl dL_law_2613 (fun u2 D hc2 => ?_)
  obtain ⟨hv, hLo, hP2⟩ := hc2
  refine r_top hv ?_
  refine r_icmp_eq (pc := 2616) (tgt := 2678) C dL_law_2616 (by decide) (fun _ => ?_) (fun h9 => absurd rfl h9)
  refine r_forget (lv' := [some _, some _, some _, some _, some _, none, none, none, none]) ⟨rfl, rfl, rfl, rfl, rfl, trivial⟩ ?_
  exact hcont _ _ _ (by omega) (by omega) hP2
set_option maxHeartbeats 2000000 in
theorem k_save {g : GZ} {z : ZX} {mc ms k n : Nat} {A : HA} (C : CX g z cL_law RX0 9 1734 mc ms) (K : LwG g) {b Ls c t o i : Nat} {xs : Nat → Int32} (S : Scr g b Ls xs) (hP : LwP g c t o A) (hi : i + 6 ≤ Ls) (hk : k + 34340 ≤ mc) (hs : n + 154700 ≤ ms) (hcont : ∀ (k' n' : Nat) (D : HA), k' ≤ k + 34340 → n' ≤ n + 154700 → LwP g c t o D → wa g z k' n' D 2678 [some (.ref b), some (.ref c), some (.ref t), some (.ref o), some (.int (nI i)), none, none, none, none] []) : wa g z k n A 2621 [some (.ref b), some (.ref c), some (.ref t), some (.ref o), some (.int (nI i)), none, none, none, none] [] := by
  have hL4 := S.2.2
  refine r_Z fun hZ0 => ?_
  refine r_Zo fun hZo0 => ?_
  refine r_old fun ho0 => ?_
  refine r_aload_1 (pc := 2621) C dL_law_2621 ?_
  refine r_V0i (pc := 2622) C (lw_save K hP hZ0 hZo0 ho0) vl_X0_283 hP.kc (by decide) (by omega) (by omega) (Nat.le_of_ble_eq_true rfl) rfl dL_law_2622 (fun u1 B1 hc1 => ?_)
  obtain ⟨ans, hu, ht6, hT⟩ := hc1
  subst hu
  refine r_Z fun hZ1 => ?_
  refine r_Zo fun hZo1 => ?_
  refine r_old fun ho1 => ?_
  refine r_aload_2 (pc := 2625) C dL_law_2625 ?_
  refine r_V0io (pc := 2626) C (hT hZ1 hZo1 ho1) vl_X0_286 ht6 (by decide) (by omega) (by omega) (Nat.le_of_ble_eq_true rfl) rfl dL_law_2626 (fun u2 D hc2 => ?_)
  obtain ⟨hv, hLo, hP2⟩ := hc2
  refine r_top hv ?_
  refine r_icmp_eq (pc := 2629) (tgt := 2678) C dL_law_2629 (by decide) (fun _ => ?_) (fun h9 => absurd rfl h9)
  refine r_forget (lv' := [some _, some _, some _, some _, some _, none, none, none, none]) ⟨rfl, rfl, rfl, rfl, rfl, trivial⟩ ?_
  exact hcont _ _ _ (by omega) (by omega) hP2
set_option maxHeartbeats 2000000 in
theorem k_restore {g : GZ} {z : ZX} {mc ms k n : Nat} {A : HA} (C : CX g z cL_law RX0 9 1734 mc ms) (K : LwG g) {b Ls c t o i : Nat} {xs : Nat → Int32} (S : Scr g b Ls xs) (hP : LwP g c t o A) (hi : i + 6 ≤ Ls) (hk : k + 34340 ≤ mc) (hs : n + 154700 ≤ ms) (hcont : ∀ (k' n' : Nat) (D : HA), k' ≤ k + 34340 → n' ≤ n + 154700 → LwP g c t o D → wa g z k' n' D 2678 [some (.ref b), some (.ref c), some (.ref t), some (.ref o), some (.int (nI i)), none, none, none, none] []) : wa g z k n A 2634 [some (.ref b), some (.ref c), some (.ref t), some (.ref o), some (.int (nI i)), none, none, none, none] [] := by
  have hL4 := S.2.2
  refine r_Z fun hZ0 => ?_
  refine r_Zo fun hZo0 => ?_
  refine r_old fun ho0 => ?_
  refine r_aload_1 (pc := 2634) C dL_law_2634 ?_
  refine r_aload_3 (pc := 2635) C dL_law_2635 ?_
  obtain ⟨mc9, ms9, hm9, hs9, hCt⟩ := lw_restore K hP hZ0 hZo0 ho0
  refine r_SH2i (pc := 2636) C hCt sl_X0_287 (by decide) (by omega) (by omega) (Nat.le_of_ble_eq_true rfl) rfl dL_law_2636 (fun u1 B1 hc1 => ?_)
  obtain ⟨q, hu, hq2, hL, ht6, hT⟩ := hc1
  refine r_top hu ?_
  refine r_Z fun hZ1 => ?_
  refine r_Zo fun hZo1 => ?_
  refine r_old fun ho1 => ?_
  refine r_istore_5 (pc := 2639) C dL_law_2639 rfl ?_
  refine r_aload_2 (pc := 2641) C dL_law_2641 ?_
  refine r_V0io (pc := 2642) C (hT hZ1 hZo1 ho1) vl_X0_289 ht6 (by decide) (by omega) (by omega) (Nat.le_of_ble_eq_true rfl) rfl dL_law_2642 (fun u2 D hc2 => ?_)
  obtain ⟨hv, h6, hLo, hP2⟩ := hc2
  refine r_istore_6 (pc := 2645) C dL_law_2645 rfl ?_
  refine r_aload_2 (pc := 2647) C dL_law_2647 ?_
  refine r_V0io (pc := 2648) C (m_thrown hP2.tw) vl_X0_131 (tw_g hP2.tw) (by decide) (by omega) (by omega) (Nat.le_of_ble_eq_true rfl) rfl dL_law_2648 (fun u3 A3 hc3 => ?_)
  refine r_top (hc3.1.trans h6) ?_
  refine r_eqA hc3.2 ?_
  clear hc3 A3 u3
  refine r_iload_5 (pc := 2651) C dL_law_2651 ?_
  refine r_icmp_eq (pc := 2653) (tgt := 2658) C dL_law_2653 (by decide) (fun _ => ?_) (fun h9 => absurd rfl h9)
  refine r_iload_5 (pc := 2658) C dL_law_2658 ?_
  refine r_if_ne (pc := 2660) (tgt := 2675) C dL_law_2660 (by decide) (fun _ => ?_) (fun h9 => ?_)
  · skip
    refine r_goto (pc := 2675) (tgt := 2678) C dL_law_2675 (by decide) ?_
    refine r_forget (lv' := [some _, some _, some _, some _, some _, none, none, none, none]) ⟨rfl, rfl, rfl, rfl, rfl, trivial⟩ ?_
    exact hcont _ _ _ (by omega) (by omega) hP2
  · have hq0 : q.1 = 0 := (nI_eq0 (by omega)).mp h9
    refine r_aload_3 (pc := 2663) C dL_law_2663 ?_
    refine r_iconst (pc := 2664) C dL_law_2664 ci_0 ?_
    refine r_lald (pc := 2665) (j := 0) C hP2.ko.1 rfl rfl (by rw [hP2.ko.2]; exact Nat.one_pos) (by decide) dL_law_2665 ?_
    refine r_iload_6 (pc := 2666) C dL_law_2666 ?_
    have eL : D.L o 0 = u2.toInt64 := by rw [hv hq0, hLo]; exact hL hq0
    refine r_i2l (pc := 2668) C dL_law_2668 ?_
    refine r_lcmp (pc := 2669) C dL_law_2669 ?_
    refine r_top ((lg_eq0 _ _).mpr eL) ?_
    refine r_if_eq (pc := 2670) (tgt := 2675) C dL_law_2670 (by decide) (fun _ => ?_) (fun h9 => absurd rfl h9)
    refine r_goto (pc := 2675) (tgt := 2678) C dL_law_2675 (by decide) ?_
    refine r_forget (lv' := [some _, some _, some _, some _, some _, none, none, none, none]) ⟨rfl, rfl, rfl, rfl, rfl, trivial⟩ ?_
    exact hcont _ _ _ (by omega) (by omega) hP2
