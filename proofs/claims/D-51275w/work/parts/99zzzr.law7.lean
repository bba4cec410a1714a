/-! THE LAW, 7: its cases -/
set_option maxRecDepth 100000
set_option maxHeartbeats 2000000 in
theorem k_wayCell {g : GZ} {z : ZX} {mc ms k n : Nat} {A : HA} (C : CX g z cL_law RX0 9 1734 mc ms) (K : LwG g) {b Ls c t o i : Nat} {xs : Nat → Int32} (S : Scr g b Ls xs) (hP : LwP g c t o A) (hi : i + 6 ≤ Ls) (hk : k + 34340 ≤ mc) (hs : n + 154700 ≤ ms) (hcont : ∀ (k' n' : Nat) (D : HA), k' ≤ k + 34340 → n' ≤ n + 154700 → LwP g c t o D → wa g z k' n' D 2678 [some (.ref b), some (.ref c), some (.ref t), some (.ref o), some (.int (nI i)), none, none, none, none] []) : wa g z k n A 1178 [some (.ref b), some (.ref c), some (.ref t), some (.ref o), some (.int (nI i)), none, none, none, none] [] := by
  have hL4 := S.2.2
  refine r_Z fun hZ0 => ?_
  refine r_Zo fun hZo0 => ?_
  refine r_old fun ho0 => ?_
  refine r_aload_1 (pc := 1178) C dL_law_1178 ?_
  refine r_aload_0 (pc := 1179) C dL_law_1179 ?_
  refine r_iload_4 (pc := 1180) C dL_law_1180 ?_
  refine r_iconst (pc := 1182) C dL_law_1182 ci_1 ?_
  refine r_iadd (pc := 1183) C dL_law_1183 ?_
  refine r_top (nI_add _ _) ?_
  refine r_scr (pc := 1184) C S rfl (by omega) dL_law_1184 ?_
  refine r_aload_0 (pc := 1185) C dL_law_1185 ?_
  refine r_iload_4 (pc := 1186) C dL_law_1186 ?_
  refine r_iconst (pc := 1188) C dL_law_1188 ci_2 ?_
  refine r_iadd (pc := 1189) C dL_law_1189 ?_
  refine r_top (nI_add _ _) ?_
  refine r_scr (pc := 1190) C S rfl (by omega) dL_law_1190 ?_
  refine r_aload_3 (pc := 1191) C dL_law_1191 ?_
  refine r_SH4i (pc := 1192) C (lw_wayCell K hP hZ0 hZo0 ho0) sl_X0_188 (by decide) (by omega) (by omega) (Nat.le_of_ble_eq_true rfl) rfl dL_law_1192 (fun u1 B1 hc1 => ?_)
  obtain ⟨q, hu, hq2, hL, ht6, hT⟩ := hc1
  refine r_top hu ?_
  refine r_Z fun hZ1 => ?_
  refine r_Zo fun hZo1 => ?_
  refine r_old fun ho1 => ?_
  refine r_istore_5 (pc := 1195) C dL_law_1195 rfl ?_
  refine r_aload_2 (pc := 1197) C dL_law_1197 ?_
  refine r_aload_0 (pc := 1198) C dL_law_1198 ?_
  refine r_iload_4 (pc := 1199) C dL_law_1199 ?_
  refine r_iconst (pc := 1201) C dL_law_1201 ci_1 ?_
  refine r_iadd (pc := 1202) C dL_law_1202 ?_
  refine r_top (nI_add _ _) ?_
  refine r_scr (pc := 1203) C S rfl (by omega) dL_law_1203 ?_
  refine r_aload_0 (pc := 1204) C dL_law_1204 ?_
  refine r_iload_4 (pc := 1205) C dL_law_1205 ?_
  refine r_iconst (pc := 1207) C dL_law_1207 ci_2 ?_
  refine r_iadd (pc := 1208) C dL_law_1208 ?_
  refine r_top (nI_add _ _) ?_
  refine r_scr (pc := 1209) C S rfl (by omega) dL_law_1209 ?_
  refine r_V2io (pc := 1210) C (hT hZ1 hZo1 ho1) vl_X0_190 ht6 (by decide) (by omega) (by omega) (Nat.le_of_ble_eq_true rfl) rfl dL_law_1210 (fun u2 D hc2 => ?_)
  obtain ⟨hv, h6, hLo, hP2⟩ := hc2
  refine r_istore_6 (pc := 1213) C dL_law_1213 rfl ?_
  refine r_aload_2 (pc := 1215) C dL_law_1215 ?_
  refine r_V0io (pc := 1216) C (m_thrown hP2.tw) vl_X0_131 (tw_g hP2.tw) (by decide) (by omega) (by omega) (Nat.le_of_ble_eq_true rfl) rfl dL_law_1216 (fun u3 A3 hc3 => ?_)
  refine r_top (hc3.1.trans h6) ?_
  refine r_eqA hc3.2 ?_
  clear hc3 A3 u3
  refine r_iload_5 (pc := 1219) C dL_law_1219 ?_
  refine r_icmp_eq (pc := 1221) (tgt := 1226) C dL_law_1221 (by decide) (fun _ => ?_) (fun h9 => absurd rfl h9)
  refine r_iload_5 (pc := 1226) C dL_law_1226 ?_
  refine r_if_ne (pc := 1228) (tgt := 1243) C dL_law_1228 (by decide) (fun _ => ?_) (fun h9 => ?_)
  · skip
    refine r_goto (pc := 1243) (tgt := 2678) C dL_law_1243 (by decide) ?_
    refine r_forget (lv' := [some _, some _, some _, some _, some _, none, none, none, none]) ⟨rfl, rfl, rfl, rfl, rfl, trivial⟩ ?_
    exact hcont _ _ _ (by omega) (by omega) hP2
  · have hq0 : q.1 = 0 := (nI_eq0 (by omega)).mp h9
    refine r_aload_3 (pc := 1231) C dL_law_1231 ?_
    refine r_iconst (pc := 1232) C dL_law_1232 ci_0 ?_
    refine r_lald (pc := 1233) (j := 0) C hP2.ko.1 rfl rfl (by rw [hP2.ko.2]; exact Nat.one_pos) (by decide) dL_law_1233 ?_
    refine r_iload_6 (pc := 1234) C dL_law_1234 ?_
    have eL : D.L o 0 = u2.toInt64 := by rw [hv hq0, hLo]; exact hL hq0
    refine r_i2l (pc := 1236) C dL_law_1236 ?_
    refine r_lcmp (pc := 1237) C dL_law_1237 ?_
    refine r_top ((lg_eq0 _ _).mpr eL) ?_
    refine r_if_eq (pc := 1238) (tgt := 1243) C dL_law_1238 (by decide) (fun _ => ?_) (fun h9 => absurd rfl h9)
    refine r_goto (pc := 1243) (tgt := 2678) C dL_law_1243 (by decide) ?_
    refine r_forget (lv' := [some _, some _, some _, some _, some _, none, none, none, none]) ⟨rfl, rfl, rfl, rfl, rfl, trivial⟩ ?_
    exact hcont _ _ _ (by omega) (by omega) hP2
set_option maxHeartbeats 2000000 in
theorem k_why {g : GZ} {z : ZX} {mc ms k n : Nat} {A : HA} (C : CX g z cL_law RX0 9 1734 mc ms) (K : LwG g) {b Ls c t o i : Nat} {xs : Nat → Int32} (S : Scr g b Ls xs) (hP : LwP g c t o A) (hi : i + 6 ≤ Ls) (hk : k + 34340 ≤ mc) (hs : n + 154700 ≤ ms) (hcont : ∀ (k' n' : Nat) (D : HA), k' ≤ k + 34340 → n' ≤ n + 154700 → LwP g c t o D → wa g z k' n' D 2678 [some (.ref b), some (.ref c), some (.ref t), some (.ref o), some (.int (nI i)), none, none, none, none] []) : wa g z k n A 1246 [some (.ref b), some (.ref c), some (.ref t), some (.ref o), some (.int (nI i)), none, none, none, none] [] := by
  have hL4 := S.2.2
  refine r_Z fun hZ0 => ?_
  refine r_Zo fun hZo0 => ?_
  refine r_old fun ho0 => ?_
  refine r_aload_1 (pc := 1246) C dL_law_1246 ?_
  refine r_aload_0 (pc := 1247) C dL_law_1247 ?_
  refine r_iload_4 (pc := 1248) C dL_law_1248 ?_
  refine r_iconst (pc := 1250) C dL_law_1250 ci_1 ?_
  refine r_iadd (pc := 1251) C dL_law_1251 ?_
  refine r_top (nI_add _ _) ?_
  refine r_scr (pc := 1252) C S rfl (by omega) dL_law_1252 ?_
  refine r_aload_0 (pc := 1253) C dL_law_1253 ?_
  refine r_iload_4 (pc := 1254) C dL_law_1254 ?_
  refine r_iconst (pc := 1256) C dL_law_1256 ci_2 ?_
  refine r_iadd (pc := 1257) C dL_law_1257 ?_
  refine r_top (nI_add _ _) ?_
  refine r_scr (pc := 1258) C S rfl (by omega) dL_law_1258 ?_
  refine r_aload_3 (pc := 1259) C dL_law_1259 ?_
  refine r_SH4i (pc := 1260) C (lw_why K hP hZ0 hZo0 ho0) sl_X0_191 (by decide) (by omega) (by omega) (Nat.le_of_ble_eq_true rfl) rfl dL_law_1260 (fun u1 B1 hc1 => ?_)
  obtain ⟨q, hu, hq2, hL, ht6, hT⟩ := hc1
  refine r_top hu ?_
  refine r_Z fun hZ1 => ?_
  refine r_Zo fun hZo1 => ?_
  refine r_old fun ho1 => ?_
  refine r_istore_5 (pc := 1263) C dL_law_1263 rfl ?_
  refine r_aload_2 (pc := 1265) C dL_law_1265 ?_
  refine r_aload_0 (pc := 1266) C dL_law_1266 ?_
  refine r_iload_4 (pc := 1267) C dL_law_1267 ?_
  refine r_iconst (pc := 1269) C dL_law_1269 ci_1 ?_
  refine r_iadd (pc := 1270) C dL_law_1270 ?_
  refine r_top (nI_add _ _) ?_
  refine r_scr (pc := 1271) C S rfl (by omega) dL_law_1271 ?_
  refine r_aload_0 (pc := 1272) C dL_law_1272 ?_
  refine r_iload_4 (pc := 1273) C dL_law_1273 ?_
  refine r_iconst (pc := 1275) C dL_law_1275 ci_2 ?_
  refine r_iadd (pc := 1276) C dL_law_1276 ?_
  refine r_top (nI_add _ _) ?_
  refine r_scr (pc := 1277) C S rfl (by omega) dL_law_1277 ?_
  refine r_V2io (pc := 1278) C (hT hZ1 hZo1 ho1) vl_X0_193 ht6 (by decide) (by omega) (by omega) (Nat.le_of_ble_eq_true rfl) rfl dL_law_1278 (fun u2 D hc2 => ?_)
  obtain ⟨hv, h6, hLo, hP2⟩ := hc2
  refine r_istore_6 (pc := 1281) C dL_law_1281 rfl ?_
  refine r_aload_2 (pc := 1283) C dL_law_1283 ?_
  refine r_V0io (pc := 1284) C (m_thrown hP2.tw) vl_X0_131 (tw_g hP2.tw) (by decide) (by omega) (by omega) (Nat.le_of_ble_eq_true rfl) rfl dL_law_1284 (fun u3 A3 hc3 => ?_)
  refine r_top (hc3.1.trans h6) ?_
  refine r_eqA hc3.2 ?_
  clear hc3 A3 u3
  refine r_iload_5 (pc := 1287) C dL_law_1287 ?_
  refine r_icmp_eq (pc := 1289) (tgt := 1294) C dL_law_1289 (by decide) (fun _ => ?_) (fun h9 => absurd rfl h9)
  refine r_iload_5 (pc := 1294) C dL_law_1294 ?_
  refine r_if_ne (pc := 1296) (tgt := 1311) C dL_law_1296 (by decide) (fun _ => ?_) (fun h9 => ?_)
  · skip
    refine r_goto (pc := 1311) (tgt := 2678) C dL_law_1311 (by decide) ?_
    refine r_forget (lv' := [some _, some _, some _, some _, some _, none, none, none, none]) ⟨rfl, rfl, rfl, rfl, rfl, trivial⟩ ?_
    exact hcont _ _ _ (by omega) (by omega) hP2
  · have hq0 : q.1 = 0 := (nI_eq0 (by omega)).mp h9
    refine r_aload_3 (pc := 1299) C dL_law_1299 ?_
    refine r_iconst (pc := 1300) C dL_law_1300 ci_0 ?_
    refine r_lald (pc := 1301) (j := 0) C hP2.ko.1 rfl rfl (by rw [hP2.ko.2]; exact Nat.one_pos) (by decide) dL_law_1301 ?_
    refine r_iload_6 (pc := 1302) C dL_law_1302 ?_
    have eL : D.L o 0 = u2.toInt64 := by rw [hv hq0, hLo]; exact hL hq0
    refine r_i2l (pc := 1304) C dL_law_1304 ?_
    refine r_lcmp (pc := 1305) C dL_law_1305 ?_
    refine r_top ((lg_eq0 _ _).mpr eL) ?_
    refine r_if_eq (pc := 1306) (tgt := 1311) C dL_law_1306 (by decide) (fun _ => ?_) (fun h9 => absurd rfl h9)
    refine r_goto (pc := 1311) (tgt := 2678) C dL_law_1311 (by decide) ?_
    refine r_forget (lv' := [some _, some _, some _, some _, some _, none, none, none, none]) ⟨rfl, rfl, rfl, rfl, rfl, trivial⟩ ?_
    exact hcont _ _ _ (by omega) (by omega) hP2
set_option maxHeartbeats 2000000 in
theorem k_keptBy {g : GZ} {z : ZX} {mc ms k n : Nat} {A : HA} (C : CX g z cL_law RX0 9 1734 mc ms) (K : LwG g) {b Ls c t o i : Nat} {xs : Nat → Int32} (S : Scr g b Ls xs) (hP : LwP g c t o A) (hi : i + 6 ≤ Ls) (hk : k + 34340 ≤ mc) (hs : n + 154700 ≤ ms) (hcont : ∀ (k' n' : Nat) (D : HA), k' ≤ k + 34340 → n' ≤ n + 154700 → LwP g c t o D → wa g z k' n' D 2678 [some (.ref b), some (.ref c), some (.ref t), some (.ref o), some (.int (nI i)), none, none, none, none] []) : wa g z k n A 1314 [some (.ref b), some (.ref c), some (.ref t), some (.ref o), some (.int (nI i)), none, none, none, none] [] := by
  have hL4 := S.2.2
  refine r_Z fun hZ0 => ?_
  refine r_Zo fun hZo0 => ?_
  refine r_old fun ho0 => ?_
  refine r_aload_1 (pc := 1314) C dL_law_1314 ?_
  refine r_aload_0 (pc := 1315) C dL_law_1315 ?_
  refine r_iload_4 (pc := 1316) C dL_law_1316 ?_
  refine r_iconst (pc := 1318) C dL_law_1318 ci_1 ?_
  refine r_iadd (pc := 1319) C dL_law_1319 ?_
  refine r_top (nI_add _ _) ?_
  refine r_scr (pc := 1320) C S rfl (by omega) dL_law_1320 ?_
  refine r_aload_0 (pc := 1321) C dL_law_1321 ?_
  refine r_iload_4 (pc := 1322) C dL_law_1322 ?_
  refine r_iconst (pc := 1324) C dL_law_1324 ci_2 ?_
  refine r_iadd (pc := 1325) C dL_law_1325 ?_
  refine r_top (nI_add _ _) ?_
  refine r_scr (pc := 1326) C S rfl (by omega) dL_law_1326 ?_
  refine r_aload_0 (pc := 1327) C dL_law_1327 ?_
  refine r_iload_4 (pc := 1328) C dL_law_1328 ?_
  refine r_iconst (pc := 1330) C dL_law_1330 ci_3 ?_
  refine r_iadd (pc := 1331) C dL_law_1331 ?_
  refine r_top (nI_add _ _) ?_
  refine r_scr (pc := 1332) C S rfl (by omega) dL_law_1332 ?_
  refine r_aload_3 (pc := 1333) C dL_law_1333 ?_
  refine r_SH5i (pc := 1334) C (lw_keptBy K hP hZ0 hZo0 ho0) sl_X0_194 (by decide) (by omega) (by omega) (Nat.le_of_ble_eq_true rfl) rfl dL_law_1334 (fun u1 B1 hc1 => ?_)
  obtain ⟨q, hu, hq2, hL, ht6, hT⟩ := hc1
  refine r_top hu ?_
  refine r_Z fun hZ1 => ?_
  refine r_Zo fun hZo1 => ?_
  refine r_old fun ho1 => ?_
  refine r_istore_5 (pc := 1337) C dL_law_1337 rfl ?_
  refine r_aload_2 (pc := 1339) C dL_law_1339 ?_
  refine r_aload_0 (pc := 1340) C dL_law_1340 ?_
  refine r_iload_4 (pc := 1341) C dL_law_1341 ?_
  refine r_iconst (pc := 1343) C dL_law_1343 ci_1 ?_
  refine r_iadd (pc := 1344) C dL_law_1344 ?_
  refine r_top (nI_add _ _) ?_
  refine r_scr (pc := 1345) C S rfl (by omega) dL_law_1345 ?_
  refine r_aload_0 (pc := 1346) C dL_law_1346 ?_
  refine r_iload_4 (pc := 1347) C dL_law_1347 ?_
  refine r_iconst (pc := 1349) C dL_law_1349 ci_2 ?_
  refine r_iadd (pc := 1350) C dL_law_1350 ?_
  refine r_top (nI_add _ _) ?_
  refine r_scr (pc := 1351) C S rfl (by omega) dL_law_1351 ?_
  refine r_aload_0 (pc := 1352) C dL_law_1352 ?_
  refine r_iload_4 (pc := 1353) C dL_law_1353 ?_
  refine r_iconst (pc := 1355) C dL_law_1355 ci_3 ?_
  refine r_iadd (pc := 1356) C dL_law_1356 ?_
  refine r_top (nI_add _ _) ?_
  refine r_scr (pc := 1357) C S rfl (by omega) dL_law_1357 ?_
  refine r_V3io (pc := 1358) C (hT hZ1 hZo1 ho1) vl_X0_196 ht6 (by decide) (by omega) (by omega) (Nat.le_of_ble_eq_true rfl) rfl dL_law_1358 (fun u2 D hc2 => ?_)
  obtain ⟨hv, h6, hLo, hP2⟩ := hc2
  refine r_istore_6 (pc := 1361) C dL_law_1361 rfl ?_
  refine r_aload_2 (pc := 1363) C dL_law_1363 ?_
  refine r_V0io (pc := 1364) C (m_thrown hP2.tw) vl_X0_131 (tw_g hP2.tw) (by decide) (by omega) (by omega) (Nat.le_of_ble_eq_true rfl) rfl dL_law_1364 (fun u3 A3 hc3 => ?_)
  refine r_top (hc3.1.trans h6) ?_
  refine r_eqA hc3.2 ?_
  clear hc3 A3 u3
  refine r_iload_5 (pc := 1367) C dL_law_1367 ?_
  refine r_icmp_eq (pc := 1369) (tgt := 1374) C dL_law_1369 (by decide) (fun _ => ?_) (fun h9 => absurd rfl h9)
  refine r_iload_5 (pc := 1374) C dL_law_1374 ?_
  refine r_if_ne (pc := 1376) (tgt := 1391) C dL_law_1376 (by decide) (fun _ => ?_) (fun h9 => ?_)
  · skip
    refine r_goto (pc := 1391) (tgt := 2678) C dL_law_1391 (by decide) ?_
    refine r_forget (lv' := [some _, some _, some _, some _, some _, none, none, none, none]) ⟨rfl, rfl, rfl, rfl, rfl, trivial⟩ ?_
    exact hcont _ _ _ (by omega) (by omega) hP2
  · have hq0 : q.1 = 0 := (nI_eq0 (by omega)).mp h9
    refine r_aload_3 (pc := 1379) C dL_law_1379 ?_
    refine r_iconst (pc := 1380) C dL_law_1380 ci_0 ?_
    refine r_lald (pc := 1381) (j := 0) C hP2.ko.1 rfl rfl (by rw [hP2.ko.2]; exact Nat.one_pos) (by decide) dL_law_1381 ?_
    refine r_iload_6 (pc := 1382) C dL_law_1382 ?_
    have eL : D.L o 0 = u2.toInt64 := by rw [hv hq0, hLo]; exact hL hq0
    refine r_i2l (pc := 1384) C dL_law_1384 ?_
    refine r_lcmp (pc := 1385) C dL_law_1385 ?_
    refine r_top ((lg_eq0 _ _).mpr eL) ?_
    refine r_if_eq (pc := 1386) (tgt := 1391) C dL_law_1386 (by decide) (fun _ => ?_) (fun h9 => absurd rfl h9)
    refine r_goto (pc := 1391) (tgt := 2678) C dL_law_1391 (by decide) ?_
    refine r_forget (lv' := [some _, some _, some _, some _, some _, none, none, none, none]) ⟨rfl, rfl, rfl, rfl, rfl, trivial⟩ ?_
    exact hcont _ _ _ (by omega) (by omega) hP2
set_option maxHeartbeats 2000000 in
theorem k_account {g : GZ} {z : ZX} {mc ms k n : Nat} {A : HA} (C : CX g z cL_law RX0 9 1734 mc ms) (K : LwG g) {b Ls c t o i : Nat} {xs : Nat → Int32} (S : Scr g b Ls xs) (hP : LwP g c t o A) (hi : i + 6 ≤ Ls) (hk : k + 34340 ≤ mc) (hs : n + 154700 ≤ ms) (hcont : ∀ (k' n' : Nat) (D : HA), k' ≤ k + 34340 → n' ≤ n + 154700 → LwP g c t o D → wa g z k' n' D 2678 [some (.ref b), some (.ref c), some (.ref t), some (.ref o), some (.int (nI i)), none, none, none, none] []) : wa g z k n A 1394 [some (.ref b), some (.ref c), some (.ref t), some (.ref o), some (.int (nI i)), none, none, none, none] [] := by
  have hL4 := S.2.2
  refine r_Z fun hZ0 => ?_
  refine r_Zo fun hZo0 => ?_
  refine r_old fun ho0 => ?_
  refine r_aload_1 (pc := 1394) C dL_law_1394 ?_
  refine r_aload_0 (pc := 1395) C dL_law_1395 ?_
  refine r_iload_4 (pc := 1396) C dL_law_1396 ?_
  refine r_iconst (pc := 1398) C dL_law_1398 ci_1 ?_
  refine r_iadd (pc := 1399) C dL_law_1399 ?_
  refine r_top (nI_add _ _) ?_
  refine r_scr (pc := 1400) C S rfl (by omega) dL_law_1400 ?_
  refine r_aload_3 (pc := 1401) C dL_law_1401 ?_
  refine r_SH3i (pc := 1402) C (lw_account K hP hZ0 hZo0 ho0) sl_X0_197 (by decide) (by omega) (by omega) (Nat.le_of_ble_eq_true rfl) rfl dL_law_1402 (fun u1 B1 hc1 => ?_)
  obtain ⟨q, hu, hq2, hL, ht6, hT⟩ := hc1
  refine r_top hu ?_
  refine r_Z fun hZ1 => ?_
  refine r_Zo fun hZo1 => ?_
  refine r_old fun ho1 => ?_
  refine r_istore_5 (pc := 1405) C dL_law_1405 rfl ?_
  refine r_aload_2 (pc := 1407) C dL_law_1407 ?_
  refine r_aload_0 (pc := 1408) C dL_law_1408 ?_
  refine r_iload_4 (pc := 1409) C dL_law_1409 ?_
  refine r_iconst (pc := 1411) C dL_law_1411 ci_1 ?_
  refine r_iadd (pc := 1412) C dL_law_1412 ?_
  refine r_top (nI_add _ _) ?_
  refine r_scr (pc := 1413) C S rfl (by omega) dL_law_1413 ?_
  refine r_V1io (pc := 1414) C (hT hZ1 hZo1 ho1) vl_X0_199 ht6 (by decide) (by omega) (by omega) (Nat.le_of_ble_eq_true rfl) rfl dL_law_1414 (fun u2 D hc2 => ?_)
  obtain ⟨hv, h6, hLo, hP2⟩ := hc2
  refine r_istore_6 (pc := 1417) C dL_law_1417 rfl ?_
  refine r_aload_2 (pc := 1419) C dL_law_1419 ?_
  refine r_V0io (pc := 1420) C (m_thrown hP2.tw) vl_X0_131 (tw_g hP2.tw) (by decide) (by omega) (by omega) (Nat.le_of_ble_eq_true rfl) rfl dL_law_1420 (fun u3 A3 hc3 => ?_)
  refine r_top (hc3.1.trans h6) ?_
  refine r_eqA hc3.2 ?_
  clear hc3 A3 u3
  refine r_iload_5 (pc := 1423) C dL_law_1423 ?_
  refine r_icmp_eq (pc := 1425) (tgt := 1430) C dL_law_1425 (by decide) (fun _ => ?_) (fun h9 => absurd rfl h9)
  refine r_iload_5 (pc := 1430) C dL_law_1430 ?_
  refine r_if_ne (pc := 1432) (tgt := 1447) C dL_law_1432 (by decide) (fun _ => ?_) (fun h9 => ?_)
  · skip
    refine r_goto (pc := 1447) (tgt := 2678) C dL_law_1447 (by decide) ?_
    refine r_forget (lv' := [some _, some _, some _, some _, some _, none, none, none, none]) ⟨rfl, rfl, rfl, rfl, rfl, trivial⟩ ?_
    exact hcont _ _ _ (by omega) (by omega) hP2
  · have hq0 : q.1 = 0 := (nI_eq0 (by omega)).mp h9
    refine r_aload_3 (pc := 1435) C dL_law_1435 ?_
    refine r_iconst (pc := 1436) C dL_law_1436 ci_0 ?_
    refine r_lald (pc := 1437) (j := 0) C hP2.ko.1 rfl rfl (by rw [hP2.ko.2]; exact Nat.one_pos) (by decide) dL_law_1437 ?_
    refine r_iload_6 (pc := 1438) C dL_law_1438 ?_
    have eL : D.L o 0 = u2.toInt64 := by rw [hv hq0, hLo]; exact hL hq0
    refine r_i2l (pc := 1440) C dL_law_1440 ?_
    refine r_lcmp (pc := 1441) C dL_law_1441 ?_
    refine r_top ((lg_eq0 _ _).mpr eL) ?_
    refine r_if_eq (pc := 1442) (tgt := 1447) C dL_law_1442 (by decide) (fun _ => ?_) (fun h9 => absurd rfl h9)
    refine r_goto (pc := 1447) (tgt := 2678) C dL_law_1447 (by decide) ?_
    refine r_forget (lv' := [some _, some _, some _, some _, some _, none, none, none, none]) ⟨rfl, rfl, rfl, rfl, rfl, trivial⟩ ?_
    exact hcont _ _ _ (by omega) (by omega) hP2
set_option maxHeartbeats 2000000 in
theorem k_grassBalance {g : GZ} {z : ZX} {mc ms k n : Nat} {A : HA} (C : CX g z cL_law RX0 9 1734 mc ms) (K : LwG g) {b Ls c t o i : Nat} {xs : Nat → Int32} (S : Scr g b Ls xs) (hP : LwP g c t o A) (hi : i + 6 ≤ Ls) (hk : k + 34340 ≤ mc) (hs : n + 154700 ≤ ms) (hcont : ∀ (k' n' : Nat) (D : HA), k' ≤ k + 34340 → n' ≤ n + 154700 → LwP g c t o D → wa g z k' n' D 2678 [some (.ref b), some (.ref c), some (.ref t), some (.ref o), some (.int (nI i)), none, none, none, none] []) : wa g z k n A 1450 [some (.ref b), some (.ref c), some (.ref t), some (.ref o), some (.int (nI i)), none, none, none, none] [] := by
  have hL4 := S.2.2
  refine r_Z fun hZ0 => ?_
  refine r_Zo fun hZo0 => ?_
  refine r_old fun ho0 => ?_
  refine r_aload_1 (pc := 1450) C dL_law_1450 ?_
  refine r_V0io (pc := 1451) C (lw_grassBalance K hP hZ0 hZo0 ho0) vl_X0_200 hP.kc (by decide) (by omega) (by omega) (Nat.le_of_ble_eq_true rfl) rfl dL_law_1451 (fun u1 B1 hc1 => ?_)
  obtain ⟨ans, hu, ht6, hT⟩ := hc1
  subst hu
  refine r_Z fun hZ1 => ?_
  refine r_Zo fun hZo1 => ?_
  refine r_old fun ho1 => ?_
  refine r_aload_2 (pc := 1454) C dL_law_1454 ?_
  refine r_V0io (pc := 1455) C (hT hZ1 hZo1 ho1) vl_X0_203 ht6 (by decide) (by omega) (by omega) (Nat.le_of_ble_eq_true rfl) rfl dL_law_1455 (fun u2 D hc2 => ?_)
  obtain ⟨hv, hLo, hP2⟩ := hc2
  refine r_top hv ?_
  refine r_icmp_eq (pc := 1458) (tgt := 2678) C dL_law_1458 (by decide) (fun _ => ?_) (fun h9 => absurd rfl h9)
  refine r_forget (lv' := [some _, some _, some _, some _, some _, none, none, none, none]) ⟨rfl, rfl, rfl, rfl, rfl, trivial⟩ ?_
  exact hcont _ _ _ (by omega) (by omega) hP2
set_option maxHeartbeats 2000000 in
theorem k_walkBalance {g : GZ} {z : ZX} {mc ms k n : Nat} {A : HA} (C : CX g z cL_law RX0 9 1734 mc ms) (K : LwG g) {b Ls c t o i : Nat} {xs : Nat → Int32} (S : Scr g b Ls xs) (hP : LwP g c t o A) (hi : i + 6 ≤ Ls) (hk : k + 34340 ≤ mc) (hs : n + 154700 ≤ ms) (hcont : ∀ (k' n' : Nat) (D : HA), k' ≤ k + 34340 → n' ≤ n + 154700 → LwP g c t o D → wa g z k' n' D 2678 [some (.ref b), some (.ref c), some (.ref t), some (.ref o), some (.int (nI i)), none, none, none, none] []) : wa g z k n A 1463 [some (.ref b), some (.ref c), some (.ref t), some (.ref o), some (.int (nI i)), none, none, none, none] [] := by
  have hL4 := S.2.2
  refine r_Z fun hZ0 => ?_
  refine r_Zo fun hZo0 => ?_
  refine r_old fun ho0 => ?_
  refine r_aload_1 (pc := 1463) C dL_law_1463 ?_
  refine r_V0io (pc := 1464) C (lw_walkBalance K hP hZ0 hZo0 ho0) vl_X0_204 hP.kc (by decide) (by omega) (by omega) (Nat.le_of_ble_eq_true rfl) rfl dL_law_1464 (fun u1 B1 hc1 => ?_)
  obtain ⟨ans, hu, ht6, hT⟩ := hc1
  subst hu
  refine r_Z fun hZ1 => ?_
  refine r_Zo fun hZo1 => ?_
  refine r_old fun ho1 => ?_
  refine r_aload_2 (pc := 1467) C dL_law_1467 ?_
  refine r_V0io (pc := 1468) C (hT hZ1 hZo1 ho1) vl_X0_207 ht6 (by decide) (by omega) (by omega) (Nat.le_of_ble_eq_true rfl) rfl dL_law_1468 (fun u2 D hc2 => ?_)
  obtain ⟨hv, hLo, hP2⟩ := hc2
  refine r_top hv ?_
  refine r_icmp_eq (pc := 1471) (tgt := 2678) C dL_law_1471 (by decide) (fun _ => ?_) (fun h9 => absurd rfl h9)
  refine r_forget (lv' := [some _, some _, some _, some _, some _, none, none, none, none]) ⟨rfl, rfl, rfl, rfl, rfl, trivial⟩ ?_
  exact hcont _ _ _ (by omega) (by omega) hP2
set_option maxHeartbeats 2000000 in
theorem k_gap {g : GZ} {z : ZX} {mc ms k n : Nat} {A : HA} (C : CX g z cL_law RX0 9 1734 mc ms) (K : LwG g) {b Ls c t o i : Nat} {xs : Nat → Int32} (S : Scr g b Ls xs) (hP : LwP g c t o A) (hi : i + 6 ≤ Ls) (hk : k + 34340 ≤ mc) (hs : n + 154700 ≤ ms) (hcont : ∀ (k' n' : Nat) (D : HA), k' ≤ k + 34340 → n' ≤ n + 154700 → LwP g c t o D → wa g z k' n' D 2678 [some (.ref b), some (.ref c), some (.ref t), some (.ref o), some (.int (nI i)), none, none, none, none] []) : wa g z k n A 1476 [some (.ref b), some (.ref c), some (.ref t), some (.ref o), some (.int (nI i)), none, none, none, none] [] := by
  have hL4 := S.2.2
  refine r_Z fun hZ0 => ?_
  refine r_Zo fun hZo0 => ?_
  refine r_old fun ho0 => ?_
  refine r_aload_1 (pc := 1476) C dL_law_1476 ?_
  refine r_V0i (pc := 1477) C (lw_gap K hP hZ0 hZo0 ho0) vl_X0_208 hP.kc (by decide) (by omega) (by omega) (Nat.le_of_ble_eq_true rfl) rfl dL_law_1477 (fun u1 B1 hc1 => ?_)
  obtain ⟨ans, hu, ht6, hT⟩ := hc1
  subst hu
  refine r_Z fun hZ1 => ?_
  refine r_Zo fun hZo1 => ?_
  refine r_old fun ho1 => ?_
  refine r_aload_2 (pc := 1480) C dL_law_1480 ?_
  refine r_V0io (pc := 1481) C (hT hZ1 hZo1 ho1) vl_X0_211 ht6 (by decide) (by omega) (by omega) (Nat.le_of_ble_eq_true rfl) rfl dL_law_1481 (fun u2 D hc2 => ?_)
  obtain ⟨hv, hLo, hP2⟩ := hc2
  refine r_top hv ?_
  refine r_icmp_eq (pc := 1484) (tgt := 2678) C dL_law_1484 (by decide) (fun _ => ?_) (fun h9 => absurd rfl h9)
  refine r_forget (lv' := [some _, some _, some _, some _, some _, none, none, none, none]) ⟨rfl, rfl, rfl, rfl, rfl, trivial⟩ ?_
  exact hcont _ _ _ (by omega) (by omega) hP2
set_option maxHeartbeats 2000000 in
theorem k_grassIn {g : GZ} {z : ZX} {mc ms k n : Nat} {A : HA} (C : CX g z cL_law RX0 9 1734 mc ms) (K : LwG g) {b Ls c t o i : Nat} {xs : Nat → Int32} (S : Scr g b Ls xs) (hP : LwP g c t o A) (hi : i + 6 ≤ Ls) (hk : k + 34340 ≤ mc) (hs : n + 154700 ≤ ms) (hcont : ∀ (k' n' : Nat) (D : HA), k' ≤ k + 34340 → n' ≤ n + 154700 → LwP g c t o D → wa g z k' n' D 2678 [some (.ref b), some (.ref c), some (.ref t), some (.ref o), some (.int (nI i)), none, none, none, none] []) : wa g z k n A 1489 [some (.ref b), some (.ref c), some (.ref t), some (.ref o), some (.int (nI i)), none, none, none, none] [] := by
  have hL4 := S.2.2
  refine r_Z fun hZ0 => ?_
  refine r_Zo fun hZo0 => ?_
  refine r_old fun ho0 => ?_
  refine r_aload_1 (pc := 1489) C dL_law_1489 ?_
  refine r_aload_0 (pc := 1490) C dL_law_1490 ?_
  refine r_iload_4 (pc := 1491) C dL_law_1491 ?_
  refine r_iconst (pc := 1493) C dL_law_1493 ci_1 ?_
  refine r_iadd (pc := 1494) C dL_law_1494 ?_
  refine r_top (nI_add _ _) ?_
  refine r_scr (pc := 1495) C S rfl (by omega) dL_law_1495 ?_
  refine r_aload_0 (pc := 1496) C dL_law_1496 ?_
  refine r_iload_4 (pc := 1497) C dL_law_1497 ?_
  refine r_iconst (pc := 1499) C dL_law_1499 ci_2 ?_
  refine r_iadd (pc := 1500) C dL_law_1500 ?_
  refine r_top (nI_add _ _) ?_
  refine r_scr (pc := 1501) C S rfl (by omega) dL_law_1501 ?_
  refine r_aload_0 (pc := 1502) C dL_law_1502 ?_
  refine r_iload_4 (pc := 1503) C dL_law_1503 ?_
  refine r_iconst (pc := 1505) C dL_law_1505 ci_3 ?_
  refine r_iadd (pc := 1506) C dL_law_1506 ?_
  refine r_top (nI_add _ _) ?_
  refine r_scr (pc := 1507) C S rfl (by omega) dL_law_1507 ?_
  refine r_aload_3 (pc := 1508) C dL_law_1508 ?_
  refine r_SH5i (pc := 1509) C (lw_grassIn K hP hZ0 hZo0 ho0) sl_X0_212 (by decide) (by omega) (by omega) (Nat.le_of_ble_eq_true rfl) rfl dL_law_1509 (fun u1 B1 hc1 => ?_)
  obtain ⟨q, hu, hq2, hL, ht6, hT⟩ := hc1
  refine r_top hu ?_
  refine r_Z fun hZ1 => ?_
  refine r_Zo fun hZo1 => ?_
  refine r_old fun ho1 => ?_
  refine r_istore_5 (pc := 1512) C dL_law_1512 rfl ?_
  refine r_aload_2 (pc := 1514) C dL_law_1514 ?_
  refine r_aload_0 (pc := 1515) C dL_law_1515 ?_
  refine r_iload_4 (pc := 1516) C dL_law_1516 ?_
  refine r_iconst (pc := 1518) C dL_law_1518 ci_1 ?_
  refine r_iadd (pc := 1519) C dL_law_1519 ?_
  refine r_top (nI_add _ _) ?_
  refine r_scr (pc := 1520) C S rfl (by omega) dL_law_1520 ?_
  refine r_aload_0 (pc := 1521) C dL_law_1521 ?_
  refine r_iload_4 (pc := 1522) C dL_law_1522 ?_
  refine r_iconst (pc := 1524) C dL_law_1524 ci_2 ?_
  refine r_iadd (pc := 1525) C dL_law_1525 ?_
  refine r_top (nI_add _ _) ?_
  refine r_scr (pc := 1526) C S rfl (by omega) dL_law_1526 ?_
  refine r_aload_0 (pc := 1527) C dL_law_1527 ?_
  refine r_iload_4 (pc := 1528) C dL_law_1528 ?_
  refine r_iconst (pc := 1530) C dL_law_1530 ci_3 ?_
  refine r_iadd (pc := 1531) C dL_law_1531 ?_
  refine r_top (nI_add _ _) ?_
  refine r_scr (pc := 1532) C S rfl (by omega) dL_law_1532 ?_
  refine r_V3io (pc := 1533) C (hT hZ1 hZo1 ho1) vl_X0_214 ht6 (by decide) (by omega) (by omega) (Nat.le_of_ble_eq_true rfl) rfl dL_law_1533 (fun u2 D hc2 => ?_)
  obtain ⟨hv, h6, hLo, hP2⟩ := hc2
  refine r_istore_6 (pc := 1536) C dL_law_1536 rfl ?_
  refine r_aload_2 (pc := 1538) C dL_law_1538 ?_
  refine r_V0io (pc := 1539) C (m_thrown hP2.tw) vl_X0_131 (tw_g hP2.tw) (by decide) (by omega) (by omega) (Nat.le_of_ble_eq_true rfl) rfl dL_law_1539 (fun u3 A3 hc3 => ?_)
  refine r_top (hc3.1.trans h6) ?_
  refine r_eqA hc3.2 ?_
  clear hc3 A3 u3
  refine r_iload_5 (pc := 1542) C dL_law_1542 ?_
  refine r_icmp_eq (pc := 1544) (tgt := 1549) C dL_law_1544 (by decide) (fun _ => ?_) (fun h9 => absurd rfl h9)
  refine r_iload_5 (pc := 1549) C dL_law_1549 ?_
  refine r_if_ne (pc := 1551) (tgt := 1566) C dL_law_1551 (by decide) (fun _ => ?_) (fun h9 => ?_)
  · skip
    refine r_goto (pc := 1566) (tgt := 2678) C dL_law_1566 (by decide) ?_
    refine r_forget (lv' := [some _, some _, some _, some _, some _, none, none, none, none]) ⟨rfl, rfl, rfl, rfl, rfl, trivial⟩ ?_
    exact hcont _ _ _ (by omega) (by omega) hP2
  · have hq0 : q.1 = 0 := (nI_eq0 (by omega)).mp h9
    refine r_aload_3 (pc := 1554) C dL_law_1554 ?_
    refine r_iconst (pc := 1555) C dL_law_1555 ci_0 ?_
    refine r_lald (pc := 1556) (j := 0) C hP2.ko.1 rfl rfl (by rw [hP2.ko.2]; exact Nat.one_pos) (by decide) dL_law_1556 ?_
    refine r_iload_6 (pc := 1557) C dL_law_1557 ?_
    have eL : D.L o 0 = u2.toInt64 := by rw [hv hq0, hLo]; exact hL hq0
    refine r_i2l (pc := 1559) C dL_law_1559 ?_
    refine r_lcmp (pc := 1560) C dL_law_1560 ?_
    refine r_top ((lg_eq0 _ _).mpr eL) ?_
    refine r_if_eq (pc := 1561) (tgt := 1566) C dL_law_1561 (by decide) (fun _ => ?_) (fun h9 => absurd rfl h9)
    refine r_goto (pc := 1566) (tgt := 2678) C dL_law_1566 (by decide) ?_
    refine r_forget (lv' := [some _, some _, some _, some _, some _, none, none, none, none]) ⟨rfl, rfl, rfl, rfl, rfl, trivial⟩ ?_
    exact hcont _ _ _ (by omega) (by omega) hP2
set_option maxHeartbeats 2000000 in
theorem k_bareIn {g : GZ} {z : ZX} {mc ms k n : Nat} {A : HA} (C : CX g z cL_law RX0 9 1734 mc ms) (K : LwG g) {b Ls c t o i : Nat} {xs : Nat → Int32} (S : Scr g b Ls xs) (hP : LwP g c t o A) (hi : i + 6 ≤ Ls) (hk : k + 34340 ≤ mc) (hs : n + 154700 ≤ ms) (hcont : ∀ (k' n' : Nat) (D : HA), k' ≤ k + 34340 → n' ≤ n + 154700 → LwP g c t o D → wa g z k' n' D 2678 [some (.ref b), some (.ref c), some (.ref t), some (.ref o), some (.int (nI i)), none, none, none, none] []) : wa g z k n A 1569 [some (.ref b), some (.ref c), some (.ref t), some (.ref o), some (.int (nI i)), none, none, none, none] [] := by
  have hL4 := S.2.2
  refine r_Z fun hZ0 => ?_
  refine r_Zo fun hZo0 => ?_
  refine r_old fun ho0 => ?_
  refine r_aload_1 (pc := 1569) C dL_law_1569 ?_
  refine r_aload_0 (pc := 1570) C dL_law_1570 ?_
  refine r_iload_4 (pc := 1571) C dL_law_1571 ?_
  refine r_iconst (pc := 1573) C dL_law_1573 ci_1 ?_
  refine r_iadd (pc := 1574) C dL_law_1574 ?_
  refine r_top (nI_add _ _) ?_
  refine r_scr (pc := 1575) C S rfl (by omega) dL_law_1575 ?_
  refine r_aload_3 (pc := 1576) C dL_law_1576 ?_
  refine r_SH3i (pc := 1577) C (lw_bareIn K hP hZ0 hZo0 ho0) sl_X0_215 (by decide) (by omega) (by omega) (Nat.le_of_ble_eq_true rfl) rfl dL_law_1577 (fun u1 B1 hc1 => ?_)
  obtain ⟨q, hu, hq2, hL, ht6, hT⟩ := hc1
  refine r_top hu ?_
  refine r_Z fun hZ1 => ?_
  refine r_Zo fun hZo1 => ?_
  refine r_old fun ho1 => ?_
  refine r_istore_5 (pc := 1580) C dL_law_1580 rfl ?_
  refine r_aload_2 (pc := 1582) C dL_law_1582 ?_
  refine r_aload_0 (pc := 1583) C dL_law_1583 ?_
  refine r_iload_4 (pc := 1584) C dL_law_1584 ?_
  refine r_iconst (pc := 1586) C dL_law_1586 ci_1 ?_
  refine r_iadd (pc := 1587) C dL_law_1587 ?_
  refine r_top (nI_add _ _) ?_
  refine r_scr (pc := 1588) C S rfl (by omega) dL_law_1588 ?_
  refine r_V1io (pc := 1589) C (hT hZ1 hZo1 ho1) vl_X0_217 ht6 (by decide) (by omega) (by omega) (Nat.le_of_ble_eq_true rfl) rfl dL_law_1589 (fun u2 D hc2 => ?_)
  obtain ⟨hv, h6, hLo, hP2⟩ := hc2
  refine r_istore_6 (pc := 1592) C dL_law_1592 rfl ?_
  refine r_aload_2 (pc := 1594) C dL_law_1594 ?_
  refine r_V0io (pc := 1595) C (m_thrown hP2.tw) vl_X0_131 (tw_g hP2.tw) (by decide) (by omega) (by omega) (Nat.le_of_ble_eq_true rfl) rfl dL_law_1595 (fun u3 A3 hc3 => ?_)
  refine r_top (hc3.1.trans h6) ?_
  refine r_eqA hc3.2 ?_
  clear hc3 A3 u3
  refine r_iload_5 (pc := 1598) C dL_law_1598 ?_
  refine r_icmp_eq (pc := 1600) (tgt := 1605) C dL_law_1600 (by decide) (fun _ => ?_) (fun h9 => absurd rfl h9)
  refine r_iload_5 (pc := 1605) C dL_law_1605 ?_
  refine r_if_ne (pc := 1607) (tgt := 1622) C dL_law_1607 (by decide) (fun _ => ?_) (fun h9 => ?_)
  · skip
    refine r_goto (pc := 1622) (tgt := 2678) C dL_law_1622 (by decide) ?_
    refine r_forget (lv' := [some _, some _, some _, some _, some _, none, none, none, none]) ⟨rfl, rfl, rfl, rfl, rfl, trivial⟩ ?_
    exact hcont _ _ _ (by omega) (by omega) hP2
  · have hq0 : q.1 = 0 := (nI_eq0 (by omega)).mp h9
    refine r_aload_3 (pc := 1610) C dL_law_1610 ?_
    refine r_iconst (pc := 1611) C dL_law_1611 ci_0 ?_
    refine r_lald (pc := 1612) (j := 0) C hP2.ko.1 rfl rfl (by rw [hP2.ko.2]; exact Nat.one_pos) (by decide) dL_law_1612 ?_
    refine r_iload_6 (pc := 1613) C dL_law_1613 ?_
    have eL : D.L o 0 = u2.toInt64 := by rw [hv hq0, hLo]; exact hL hq0
    refine r_i2l (pc := 1615) C dL_law_1615 ?_
    refine r_lcmp (pc := 1616) C dL_law_1616 ?_
    refine r_top ((lg_eq0 _ _).mpr eL) ?_
    refine r_if_eq (pc := 1617) (tgt := 1622) C dL_law_1617 (by decide) (fun _ => ?_) (fun h9 => absurd rfl h9)
    refine r_goto (pc := 1622) (tgt := 2678) C dL_law_1622 (by decide) ?_
    refine r_forget (lv' := [some _, some _, some _, some _, some _, none, none, none, none]) ⟨rfl, rfl, rfl, rfl, rfl, trivial⟩ ?_
    exact hcont _ _ _ (by omega) (by omega) hP2
set_option maxHeartbeats 2000000 in
theorem k_whenBare {g : GZ} {z : ZX} {mc ms k n : Nat} {A : HA} (C : CX g z cL_law RX0 9 1734 mc ms) (K : LwG g) {b Ls c t o i : Nat} {xs : Nat → Int32} (S : Scr g b Ls xs) (hP : LwP g c t o A) (hi : i + 6 ≤ Ls) (hk : k + 34340 ≤ mc) (hs : n + 154700 ≤ ms) (hcont : ∀ (k' n' : Nat) (D : HA), k' ≤ k + 34340 → n' ≤ n + 154700 → LwP g c t o D → wa g z k' n' D 2678 [some (.ref b), some (.ref c), some (.ref t), some (.ref o), some (.int (nI i)), none, none, none, none] []) : wa g z k n A 1625 [some (.ref b), some (.ref c), some (.ref t), some (.ref o), some (.int (nI i)), none, none, none, none] [] := by
  have hL4 := S.2.2
  refine r_Z fun hZ0 => ?_
  refine r_Zo fun hZo0 => ?_
  refine r_old fun ho0 => ?_
  refine r_aload_1 (pc := 1625) C dL_law_1625 ?_
  refine r_aload_0 (pc := 1626) C dL_law_1626 ?_
  refine r_iload_4 (pc := 1627) C dL_law_1627 ?_
  refine r_iconst (pc := 1629) C dL_law_1629 ci_1 ?_
  refine r_iadd (pc := 1630) C dL_law_1630 ?_
  refine r_top (nI_add _ _) ?_
  refine r_scr (pc := 1631) C S rfl (by omega) dL_law_1631 ?_
  refine r_aload_0 (pc := 1632) C dL_law_1632 ?_
  refine r_iload_4 (pc := 1633) C dL_law_1633 ?_
  refine r_iconst (pc := 1635) C dL_law_1635 ci_2 ?_
  refine r_iadd (pc := 1636) C dL_law_1636 ?_
  refine r_top (nI_add _ _) ?_
  refine r_scr (pc := 1637) C S rfl (by omega) dL_law_1637 ?_
  refine r_aload_3 (pc := 1638) C dL_law_1638 ?_
  refine r_SH4i (pc := 1639) C (lw_whenBare K hP hZ0 hZo0 ho0) sl_X0_218 (by decide) (by omega) (by omega) (Nat.le_of_ble_eq_true rfl) rfl dL_law_1639 (fun u1 B1 hc1 => ?_)
  obtain ⟨q, hu, hq2, hL, ht6, hT⟩ := hc1
  refine r_top hu ?_
  refine r_Z fun hZ1 => ?_
  refine r_Zo fun hZo1 => ?_
  refine r_old fun ho1 => ?_
  refine r_istore_5 (pc := 1642) C dL_law_1642 rfl ?_
  refine r_aload_2 (pc := 1644) C dL_law_1644 ?_
  refine r_aload_0 (pc := 1645) C dL_law_1645 ?_
  refine r_iload_4 (pc := 1646) C dL_law_1646 ?_
  refine r_iconst (pc := 1648) C dL_law_1648 ci_1 ?_
  refine r_iadd (pc := 1649) C dL_law_1649 ?_
  refine r_top (nI_add _ _) ?_
  refine r_scr (pc := 1650) C S rfl (by omega) dL_law_1650 ?_
  refine r_aload_0 (pc := 1651) C dL_law_1651 ?_
  refine r_iload_4 (pc := 1652) C dL_law_1652 ?_
  refine r_iconst (pc := 1654) C dL_law_1654 ci_2 ?_
  refine r_iadd (pc := 1655) C dL_law_1655 ?_
  refine r_top (nI_add _ _) ?_
  refine r_scr (pc := 1656) C S rfl (by omega) dL_law_1656 ?_
  refine r_V2io (pc := 1657) C (hT hZ1 hZo1 ho1) vl_X0_220 ht6 (by decide) (by omega) (by omega) (Nat.le_of_ble_eq_true rfl) rfl dL_law_1657 (fun u2 D hc2 => ?_)
  obtain ⟨hv, h6, hLo, hP2⟩ := hc2
  refine r_istore_6 (pc := 1660) C dL_law_1660 rfl ?_
  refine r_aload_2 (pc := 1662) C dL_law_1662 ?_
  refine r_V0io (pc := 1663) C (m_thrown hP2.tw) vl_X0_131 (tw_g hP2.tw) (by decide) (by omega) (by omega) (Nat.le_of_ble_eq_true rfl) rfl dL_law_1663 (fun u3 A3 hc3 => ?_)
  refine r_top (hc3.1.trans h6) ?_
  refine r_eqA hc3.2 ?_
  clear hc3 A3 u3
  refine r_iload_5 (pc := 1666) C dL_law_1666 ?_
  refine r_icmp_eq (pc := 1668) (tgt := 1673) C dL_law_1668 (by decide) (fun _ => ?_) (fun h9 => absurd rfl h9)
  refine r_iload_5 (pc := 1673) C dL_law_1673 ?_
  refine r_if_ne (pc := 1675) (tgt := 1690) C dL_law_1675 (by decide) (fun _ => ?_) (fun h9 => ?_)
  · skip
    refine r_goto (pc := 1690) (tgt := 2678) C dL_law_1690 (by decide) ?_
    refine r_forget (lv' := [some _, some _, some _, some _, some _, none, none, none, none]) ⟨rfl, rfl, rfl, rfl, rfl, trivial⟩ ?_
    exact hcont _ _ _ (by omega) (by omega) hP2
  · have hq0 : q.1 = 0 := (nI_eq0 (by omega)).mp h9
    refine r_aload_3 (pc := 1678) C dL_law_1678 ?_
    refine r_iconst (pc := 1679) C dL_law_1679 ci_0 ?_
    refine r_lald (pc := 1680) (j := 0) C hP2.ko.1 rfl rfl (by rw [hP2.ko.2]; exact Nat.one_pos) (by decide) dL_law_1680 ?_
    refine r_iload_6 (pc := 1681) C dL_law_1681 ?_
    have eL : D.L o 0 = u2.toInt64 := by rw [hv hq0, hLo]; exact hL hq0
    refine r_i2l (pc := 1683) C dL_law_1683 ?_
    refine r_lcmp (pc := 1684) C dL_law_1684 ?_
    refine r_top ((lg_eq0 _ _).mpr eL) ?_
    refine r_if_eq (pc := 1685) (tgt := 1690) C dL_law_1685 (by decide) (fun _ => ?_) (fun h9 => absurd rfl h9)
    refine r_goto (pc := 1690) (tgt := 2678) C dL_law_1690 (by decide) ?_
    refine r_forget (lv' := [some _, some _, some _, some _, some _, none, none, none, none]) ⟨rfl, rfl, rfl, rfl, rfl, trivial⟩ ?_
    exact hcont _ _ _ (by omega) (by omega) hP2
set_option maxHeartbeats 2000000 in
theorem k_ifFence {g : GZ} {z : ZX} {mc ms k n : Nat} {A : HA} (C : CX g z cL_law RX0 9 1734 mc ms) (K : LwG g) {b Ls c t o i : Nat} {xs : Nat → Int32} (S : Scr g b Ls xs) (hP : LwP g c t o A) (hi : i + 6 ≤ Ls) (hk : k + 34340 ≤ mc) (hs : n + 154700 ≤ ms) (hcont : ∀ (k' n' : Nat) (D : HA), k' ≤ k + 34340 → n' ≤ n + 154700 → LwP g c t o D → wa g z k' n' D 2678 [some (.ref b), some (.ref c), some (.ref t), some (.ref o), some (.int (nI i)), none, none, none, none] []) : wa g z k n A 1693 [some (.ref b), some (.ref c), some (.ref t), some (.ref o), some (.int (nI i)), none, none, none, none] [] := by
  have hL4 := S.2.2
  refine r_Z fun hZ0 => ?_
  refine r_Zo fun hZo0 => ?_
  refine r_old fun ho0 => ?_
  refine r_aload_1 (pc := 1693) C dL_law_1693 ?_
  refine r_aload_0 (pc := 1694) C dL_law_1694 ?_
  refine r_iload_4 (pc := 1695) C dL_law_1695 ?_
  refine r_iconst (pc := 1697) C dL_law_1697 ci_1 ?_
  refine r_iadd (pc := 1698) C dL_law_1698 ?_
  refine r_top (nI_add _ _) ?_
  refine r_scr (pc := 1699) C S rfl (by omega) dL_law_1699 ?_
  refine r_aload_0 (pc := 1700) C dL_law_1700 ?_
  refine r_iload_4 (pc := 1701) C dL_law_1701 ?_
  refine r_iconst (pc := 1703) C dL_law_1703 ci_2 ?_
  refine r_iadd (pc := 1704) C dL_law_1704 ?_
  refine r_top (nI_add _ _) ?_
  refine r_scr (pc := 1705) C S rfl (by omega) dL_law_1705 ?_
  refine r_aload_0 (pc := 1706) C dL_law_1706 ?_
  refine r_iload_4 (pc := 1707) C dL_law_1707 ?_
  refine r_iconst (pc := 1709) C dL_law_1709 ci_3 ?_
  refine r_iadd (pc := 1710) C dL_law_1710 ?_
  refine r_top (nI_add _ _) ?_
  refine r_scr (pc := 1711) C S rfl (by omega) dL_law_1711 ?_
  refine r_aload_3 (pc := 1712) C dL_law_1712 ?_
  refine r_SH5i (pc := 1713) C (lw_ifFence K hP hZ0 hZo0 ho0) sl_X0_221 (by decide) (by omega) (by omega) (Nat.le_of_ble_eq_true rfl) rfl dL_law_1713 (fun u1 B1 hc1 => ?_)
  obtain ⟨q, hu, hq2, hL, ht6, hT⟩ := hc1
  refine r_top hu ?_
  refine r_Z fun hZ1 => ?_
  refine r_Zo fun hZo1 => ?_
  refine r_old fun ho1 => ?_
  refine r_istore_5 (pc := 1716) C dL_law_1716 rfl ?_
  refine r_aload_2 (pc := 1718) C dL_law_1718 ?_
  refine r_aload_0 (pc := 1719) C dL_law_1719 ?_
  refine r_iload_4 (pc := 1720) C dL_law_1720 ?_
  refine r_iconst (pc := 1722) C dL_law_1722 ci_1 ?_
  refine r_iadd (pc := 1723) C dL_law_1723 ?_
  refine r_top (nI_add _ _) ?_
  refine r_scr (pc := 1724) C S rfl (by omega) dL_law_1724 ?_
  refine r_aload_0 (pc := 1725) C dL_law_1725 ?_
  refine r_iload_4 (pc := 1726) C dL_law_1726 ?_
  refine r_iconst (pc := 1728) C dL_law_1728 ci_2 ?_
  refine r_iadd (pc := 1729) C dL_law_1729 ?_
  refine r_top (nI_add _ _) ?_
  refine r_scr (pc := 1730) C S rfl (by omega) dL_law_1730 ?_
  refine r_aload_0 (pc := 1731) C dL_law_1731 ?_
  refine r_iload_4 (pc := 1732) C dL_law_1732 ?_
  refine r_iconst (pc := 1734) C dL_law_1734 ci_3 ?_
  refine r_iadd (pc := 1735) C dL_law_1735 ?_
  refine r_top (nI_add _ _) ?_
  refine r_scr (pc := 1736) C S rfl (by omega) dL_law_1736 ?_
  refine r_V3io (pc := 1737) C (hT hZ1 hZo1 ho1) vl_X0_223 ht6 (by decide) (by omega) (by omega) (Nat.le_of_ble_eq_true rfl) rfl dL_law_1737 (fun u2 D hc2 => ?_)
  obtain ⟨hv, h6, hLo, hP2⟩ := hc2
  refine r_istore_6 (pc := 1740) C dL_law_1740 rfl ?_
  refine r_aload_2 (pc := 1742) C dL_law_1742 ?_
  refine r_V0io (pc := 1743) C (m_thrown hP2.tw) vl_X0_131 (tw_g hP2.tw) (by decide) (by omega) (by omega) (Nat.le_of_ble_eq_true rfl) rfl dL_law_1743 (fun u3 A3 hc3 => ?_)
  refine r_top (hc3.1.trans h6) ?_
  refine r_eqA hc3.2 ?_
  clear hc3 A3 u3
  refine r_iload_5 (pc := 1746) C dL_law_1746 ?_
  refine r_icmp_eq (pc := 1748) (tgt := 1753) C dL_law_1748 (by decide) (fun _ => ?_) (fun h9 => absurd rfl h9)
  refine r_iload_5 (pc := 1753) C dL_law_1753 ?_
  refine r_if_ne (pc := 1755) (tgt := 1770) C dL_law_1755 (by decide) (fun _ => ?_) (fun h9 => ?_)
  · skip
    refine r_goto (pc := 1770) (tgt := 2678) C dL_law_1770 (by decide) ?_
    refine r_forget (lv' := [some _, some _, some _, some _, some _, none, none, none, none]) ⟨rfl, rfl, rfl, rfl, rfl, trivial⟩ ?_
    exact hcont _ _ _ (by omega) (by omega) hP2
  · have hq0 : q.1 = 0 := (nI_eq0 (by omega)).mp h9
    refine r_aload_3 (pc := 1758) C dL_law_1758 ?_
    refine r_iconst (pc := 1759) C dL_law_1759 ci_0 ?_
    refine r_lald (pc := 1760) (j := 0) C hP2.ko.1 rfl rfl (by rw [hP2.ko.2]; exact Nat.one_pos) (by decide) dL_law_1760 ?_
    refine r_iload_6 (pc := 1761) C dL_law_1761 ?_
    have eL : D.L o 0 = u2.toInt64 := by rw [hv hq0, hLo]; exact hL hq0
    refine r_i2l (pc := 1763) C dL_law_1763 ?_
    refine r_lcmp (pc := 1764) C dL_law_1764 ?_
    refine r_top ((lg_eq0 _ _).mpr eL) ?_
    refine r_if_eq (pc := 1765) (tgt := 1770) C dL_law_1765 (by decide) (fun _ => ?_) (fun h9 => absurd rfl h9)
    refine r_goto (pc := 1770) (tgt := 2678) C dL_law_1770 (by decide) ?_
    refine r_forget (lv' := [some _, some _, some _, some _, some _, none, none, none, none]) ⟨rfl, rfl, rfl, rfl, rfl, trivial⟩ ?_
    exact hcont _ _ _ (by omega) (by omega) hP2
set_option maxHeartbeats 2000000 in
theorem k_ifOpen {g : GZ} {z : ZX} {mc ms k n : Nat} {A : HA} (C : CX g z cL_law RX0 9 1734 mc ms) (K : LwG g) {b Ls c t o i : Nat} {xs : Nat → Int32} (S : Scr g b Ls xs) (hP : LwP g c t o A) (hi : i + 6 ≤ Ls) (hk : k + 34340 ≤ mc) (hs : n + 154700 ≤ ms) (hcont : ∀ (k' n' : Nat) (D : HA), k' ≤ k + 34340 → n' ≤ n + 154700 → LwP g c t o D → wa g z k' n' D 2678 [some (.ref b), some (.ref c), some (.ref t), some (.ref o), some (.int (nI i)), none, none, none, none] []) : wa g z k n A 1773 [some (.ref b), some (.ref c), some (.ref t), some (.ref o), some (.int (nI i)), none, none, none, none] [] := by
  have hL4 := S.2.2
  refine r_Z fun hZ0 => ?_
  refine r_Zo fun hZo0 => ?_
  refine r_old fun ho0 => ?_
  refine r_aload_1 (pc := 1773) C dL_law_1773 ?_
  refine r_aload_0 (pc := 1774) C dL_law_1774 ?_
  refine r_iload_4 (pc := 1775) C dL_law_1775 ?_
  refine r_iconst (pc := 1777) C dL_law_1777 ci_1 ?_
  refine r_iadd (pc := 1778) C dL_law_1778 ?_
  refine r_top (nI_add _ _) ?_
  refine r_scr (pc := 1779) C S rfl (by omega) dL_law_1779 ?_
  refine r_aload_3 (pc := 1780) C dL_law_1780 ?_
  refine r_SH3i (pc := 1781) C (lw_ifOpen K hP hZ0 hZo0 ho0) sl_X0_224 (by decide) (by omega) (by omega) (Nat.le_of_ble_eq_true rfl) rfl dL_law_1781 (fun u1 B1 hc1 => ?_)
  obtain ⟨q, hu, hq2, hL, ht6, hT⟩ := hc1
  refine r_top hu ?_
  refine r_Z fun hZ1 => ?_
  refine r_Zo fun hZo1 => ?_
  refine r_old fun ho1 => ?_
  refine r_istore_5 (pc := 1784) C dL_law_1784 rfl ?_
  refine r_aload_2 (pc := 1786) C dL_law_1786 ?_
  refine r_aload_0 (pc := 1787) C dL_law_1787 ?_
  refine r_iload_4 (pc := 1788) C dL_law_1788 ?_
  refine r_iconst (pc := 1790) C dL_law_1790 ci_1 ?_
  refine r_iadd (pc := 1791) C dL_law_1791 ?_
  refine r_top (nI_add _ _) ?_
  refine r_scr (pc := 1792) C S rfl (by omega) dL_law_1792 ?_
  refine r_V1io (pc := 1793) C (hT hZ1 hZo1 ho1) vl_X0_226 ht6 (by decide) (by omega) (by omega) (Nat.le_of_ble_eq_true rfl) rfl dL_law_1793 (fun u2 D hc2 => ?_)
  obtain ⟨hv, h6, hLo, hP2⟩ := hc2
  refine r_istore_6 (pc := 1796) C dL_law_1796 rfl ?_
  refine r_aload_2 (pc := 1798) C dL_law_1798 ?_
  refine r_V0io (pc := 1799) C (m_thrown hP2.tw) vl_X0_131 (tw_g hP2.tw) (by decide) (by omega) (by omega) (Nat.le_of_ble_eq_true rfl) rfl dL_law_1799 (fun u3 A3 hc3 => ?_)
  refine r_top (hc3.1.trans h6) ?_
  refine r_eqA hc3.2 ?_
  clear hc3 A3 u3
  refine r_iload_5 (pc := 1802) C dL_law_1802 ?_
  refine r_icmp_eq (pc := 1804) (tgt := 1809) C dL_law_1804 (by decide) (fun _ => ?_) (fun h9 => absurd rfl h9)
  refine r_iload_5 (pc := 1809) C dL_law_1809 ?_
  refine r_if_ne (pc := 1811) (tgt := 1826) C dL_law_1811 (by decide) (fun _ => ?_) (fun h9 => ?_)
  · skip
    refine r_goto (pc := 1826) (tgt := 2678) C dL_law_1826 (by decide) ?_
    refine r_forget (lv' := [some _, some _, some _, some _, some _, none, none, none, none]) ⟨rfl, rfl, rfl, rfl, rfl, trivial⟩ ?_
    exact hcont _ _ _ (by omega) (by omega) hP2
  · have hq0 : q.1 = 0 := (nI_eq0 (by omega)).mp h9
    refine r_aload_3 (pc := 1814) C dL_law_1814 ?_
    refine r_iconst (pc := 1815) C dL_law_1815 ci_0 ?_
    refine r_lald (pc := 1816) (j := 0) C hP2.ko.1 rfl rfl (by rw [hP2.ko.2]; exact Nat.one_pos) (by decide) dL_law_1816 ?_
    refine r_iload_6 (pc := 1817) C dL_law_1817 ?_
    have eL : D.L o 0 = u2.toInt64 := by rw [hv hq0, hLo]; exact hL hq0
    refine r_i2l (pc := 1819) C dL_law_1819 ?_
    refine r_lcmp (pc := 1820) C dL_law_1820 ?_
    refine r_top ((lg_eq0 _ _).mpr eL) ?_
    refine r_if_eq (pc := 1821) (tgt := 1826) C dL_law_1821 (by decide) (fun _ => ?_) (fun h9 => absurd rfl h9)
    refine r_goto (pc := 1826) (tgt := 2678) C dL_law_1826 (by decide) ?_
    refine r_forget (lv' := [some _, some _, some _, some _, some _, none, none, none, none]) ⟨rfl, rfl, rfl, rfl, rfl, trivial⟩ ?_
    exact hcont _ _ _ (by omega) (by omega) hP2
set_option maxHeartbeats 2000000 in
theorem k_bestFence {g : GZ} {z : ZX} {mc ms k n : Nat} {A : HA} (C : CX g z cL_law RX0 9 1734 mc ms) (K : LwG g) {b Ls c t o i : Nat} {xs : Nat → Int32} (S : Scr g b Ls xs) (hP : LwP g c t o A) (hi : i + 6 ≤ Ls) (hk : k + 34340 ≤ mc) (hs : n + 154700 ≤ ms) (hcont : ∀ (k' n' : Nat) (D : HA), k' ≤ k + 34340 → n' ≤ n + 154700 → LwP g c t o D → wa g z k' n' D 2678 [some (.ref b), some (.ref c), some (.ref t), some (.ref o), some (.int (nI i)), none, none, none, none] []) : wa g z k n A 1829 [some (.ref b), some (.ref c), some (.ref t), some (.ref o), some (.int (nI i)), none, none, none, none] [] := by
  have hL4 := S.2.2
  refine r_Z fun hZ0 => ?_
  refine r_Zo fun hZo0 => ?_
  refine r_old fun ho0 => ?_
  refine r_aload_1 (pc := 1829) C dL_law_1829 ?_
  refine r_aload_0 (pc := 1830) C dL_law_1830 ?_
  refine r_iload_4 (pc := 1831) C dL_law_1831 ?_
  refine r_iconst (pc := 1833) C dL_law_1833 ci_1 ?_
  refine r_iadd (pc := 1834) C dL_law_1834 ?_
  refine r_top (nI_add _ _) ?_
  refine r_scr (pc := 1835) C S rfl (by omega) dL_law_1835 ?_
  refine r_aload_3 (pc := 1836) C dL_law_1836 ?_
  refine r_SH3i (pc := 1837) C (lw_bestFence K hP hZ0 hZo0 ho0) sl_X0_227 (by decide) (by omega) (by omega) (Nat.le_of_ble_eq_true rfl) rfl dL_law_1837 (fun u1 B1 hc1 => ?_)
  obtain ⟨q, hu, hq2, hL, ht6, hT⟩ := hc1
  refine r_top hu ?_
  refine r_Z fun hZ1 => ?_
  refine r_Zo fun hZo1 => ?_
  refine r_old fun ho1 => ?_
  refine r_istore_5 (pc := 1840) C dL_law_1840 rfl ?_
  refine r_aload_2 (pc := 1842) C dL_law_1842 ?_
  refine r_aload_0 (pc := 1843) C dL_law_1843 ?_
  refine r_iload_4 (pc := 1844) C dL_law_1844 ?_
  refine r_iconst (pc := 1846) C dL_law_1846 ci_1 ?_
  refine r_iadd (pc := 1847) C dL_law_1847 ?_
  refine r_top (nI_add _ _) ?_
  refine r_scr (pc := 1848) C S rfl (by omega) dL_law_1848 ?_
  refine r_V1io (pc := 1849) C (hT hZ1 hZo1 ho1) vl_X0_229 ht6 (by decide) (by omega) (by omega) (Nat.le_of_ble_eq_true rfl) rfl dL_law_1849 (fun u2 D hc2 => ?_)
  obtain ⟨hv, h6, hLo, hP2⟩ := hc2
  refine r_istore_6 (pc := 1852) C dL_law_1852 rfl ?_
  refine r_aload_2 (pc := 1854) C dL_law_1854 ?_
  refine r_V0io (pc := 1855) C (m_thrown hP2.tw) vl_X0_131 (tw_g hP2.tw) (by decide) (by omega) (by omega) (Nat.le_of_ble_eq_true rfl) rfl dL_law_1855 (fun u3 A3 hc3 => ?_)
  refine r_top (hc3.1.trans h6) ?_
  refine r_eqA hc3.2 ?_
  clear hc3 A3 u3
  refine r_iload_5 (pc := 1858) C dL_law_1858 ?_
  refine r_icmp_eq (pc := 1860) (tgt := 1865) C dL_law_1860 (by decide) (fun _ => ?_) (fun h9 => absurd rfl h9)
  refine r_iload_5 (pc := 1865) C dL_law_1865 ?_
  refine r_if_ne (pc := 1867) (tgt := 1882) C dL_law_1867 (by decide) (fun _ => ?_) (fun h9 => ?_)
  · skip
    refine r_goto (pc := 1882) (tgt := 2678) C dL_law_1882 (by decide) ?_
    refine r_forget (lv' := [some _, some _, some _, some _, some _, none, none, none, none]) ⟨rfl, rfl, rfl, rfl, rfl, trivial⟩ ?_
    exact hcont _ _ _ (by omega) (by omega) hP2
  · have hq0 : q.1 = 0 := (nI_eq0 (by omega)).mp h9
    refine r_aload_3 (pc := 1870) C dL_law_1870 ?_
    refine r_iconst (pc := 1871) C dL_law_1871 ci_0 ?_
    refine r_lald (pc := 1872) (j := 0) C hP2.ko.1 rfl rfl (by rw [hP2.ko.2]; exact Nat.one_pos) (by decide) dL_law_1872 ?_
    refine r_iload_6 (pc := 1873) C dL_law_1873 ?_
    have eL : D.L o 0 = u2.toInt64 := by rw [hv hq0, hLo]; exact hL hq0
    refine r_i2l (pc := 1875) C dL_law_1875 ?_
    refine r_lcmp (pc := 1876) C dL_law_1876 ?_
    refine r_top ((lg_eq0 _ _).mpr eL) ?_
    refine r_if_eq (pc := 1877) (tgt := 1882) C dL_law_1877 (by decide) (fun _ => ?_) (fun h9 => absurd rfl h9)
    refine r_goto (pc := 1882) (tgt := 2678) C dL_law_1882 (by decide) ?_
    refine r_forget (lv' := [some _, some _, some _, some _, some _, none, none, none, none]) ⟨rfl, rfl, rfl, rfl, rfl, trivial⟩ ?_
    exact hcont _ _ _ (by omega) (by omega) hP2
set_option maxHeartbeats 2000000 in
theorem k_ifHaste {g : GZ} {z : ZX} {mc ms k n : Nat} {A : HA} (C : CX g z cL_law RX0 9 1734 mc ms) (K : LwG g) {b Ls c t o i : Nat} {xs : Nat → Int32} (S : Scr g b Ls xs) (hP : LwP g c t o A) (hi : i + 6 ≤ Ls) (hk : k + 34340 ≤ mc) (hs : n + 154700 ≤ ms) (hcont : ∀ (k' n' : Nat) (D : HA), k' ≤ k + 34340 → n' ≤ n + 154700 → LwP g c t o D → wa g z k' n' D 2678 [some (.ref b), some (.ref c), some (.ref t), some (.ref o), some (.int (nI i)), none, none, none, none] []) : wa g z k n A 1885 [some (.ref b), some (.ref c), some (.ref t), some (.ref o), some (.int (nI i)), none, none, none, none] [] := by
  have hL4 := S.2.2
  refine r_Z fun hZ0 => ?_
  refine r_Zo fun hZo0 => ?_
  refine r_old fun ho0 => ?_
  refine r_aload_1 (pc := 1885) C dL_law_1885 ?_
  refine r_aload_0 (pc := 1886) C dL_law_1886 ?_
  refine r_iload_4 (pc := 1887) C dL_law_1887 ?_
  refine r_iconst (pc := 1889) C dL_law_1889 ci_1 ?_
  refine r_iadd (pc := 1890) C dL_law_1890 ?_
  refine r_top (nI_add _ _) ?_
  refine r_scr (pc := 1891) C S rfl (by omega) dL_law_1891 ?_
  refine r_aload_0 (pc := 1892) C dL_law_1892 ?_
  refine r_iload_4 (pc := 1893) C dL_law_1893 ?_
  refine r_iconst (pc := 1895) C dL_law_1895 ci_2 ?_
  refine r_iadd (pc := 1896) C dL_law_1896 ?_
  refine r_top (nI_add _ _) ?_
  refine r_scr (pc := 1897) C S rfl (by omega) dL_law_1897 ?_
  refine r_aload_0 (pc := 1898) C dL_law_1898 ?_
  refine r_iload_4 (pc := 1899) C dL_law_1899 ?_
  refine r_iconst (pc := 1901) C dL_law_1901 ci_3 ?_
  refine r_iadd (pc := 1902) C dL_law_1902 ?_
  refine r_top (nI_add _ _) ?_
  refine r_scr (pc := 1903) C S rfl (by omega) dL_law_1903 ?_
  refine r_aload_3 (pc := 1904) C dL_law_1904 ?_
  refine r_SH5i (pc := 1905) C (lw_ifHaste K hP hZ0 hZo0 ho0) sl_X0_230 (by decide) (by omega) (by omega) (Nat.le_of_ble_eq_true rfl) rfl dL_law_1905 (fun u1 B1 hc1 => ?_)
  obtain ⟨q, hu, hq2, hL, ht6, hT⟩ := hc1
  refine r_top hu ?_
  refine r_Z fun hZ1 => ?_
  refine r_Zo fun hZo1 => ?_
  refine r_old fun ho1 => ?_
  refine r_istore_5 (pc := 1908) C dL_law_1908 rfl ?_
  refine r_aload_2 (pc := 1910) C dL_law_1910 ?_
  refine r_aload_0 (pc := 1911) C dL_law_1911 ?_
  refine r_iload_4 (pc := 1912) C dL_law_1912 ?_
  refine r_iconst (pc := 1914) C dL_law_1914 ci_1 ?_
  refine r_iadd (pc := 1915) C dL_law_1915 ?_
  refine r_top (nI_add _ _) ?_
  refine r_scr (pc := 1916) C S rfl (by omega) dL_law_1916 ?_
  refine r_aload_0 (pc := 1917) C dL_law_1917 ?_
  refine r_iload_4 (pc := 1918) C dL_law_1918 ?_
  refine r_iconst (pc := 1920) C dL_law_1920 ci_2 ?_
  refine r_iadd (pc := 1921) C dL_law_1921 ?_
  refine r_top (nI_add _ _) ?_
  refine r_scr (pc := 1922) C S rfl (by omega) dL_law_1922 ?_
  refine r_aload_0 (pc := 1923) C dL_law_1923 ?_
  refine r_iload_4 (pc := 1924) C dL_law_1924 ?_
  refine r_iconst (pc := 1926) C dL_law_1926 ci_3 ?_
  refine r_iadd (pc := 1927) C dL_law_1927 ?_
  refine r_top (nI_add _ _) ?_
  refine r_scr (pc := 1928) C S rfl (by omega) dL_law_1928 ?_
  refine r_V3io (pc := 1929) C (hT hZ1 hZo1 ho1) vl_X0_232 ht6 (by decide) (by omega) (by omega) (Nat.le_of_ble_eq_true rfl) rfl dL_law_1929 (fun u2 D hc2 => ?_)
  obtain ⟨hv, h6, hLo, hP2⟩ := hc2
  refine r_istore_6 (pc := 1932) C dL_law_1932 rfl ?_
  refine r_aload_2 (pc := 1934) C dL_law_1934 ?_
  refine r_V0io (pc := 1935) C (m_thrown hP2.tw) vl_X0_131 (tw_g hP2.tw) (by decide) (by omega) (by omega) (Nat.le_of_ble_eq_true rfl) rfl dL_law_1935 (fun u3 A3 hc3 => ?_)
  refine r_top (hc3.1.trans h6) ?_
  refine r_eqA hc3.2 ?_
  clear hc3 A3 u3
  refine r_iload_5 (pc := 1938) C dL_law_1938 ?_
  refine r_icmp_eq (pc := 1940) (tgt := 1945) C dL_law_1940 (by decide) (fun _ => ?_) (fun h9 => absurd rfl h9)
  refine r_iload_5 (pc := 1945) C dL_law_1945 ?_
  refine r_if_ne (pc := 1947) (tgt := 1962) C dL_law_1947 (by decide) (fun _ => ?_) (fun h9 => ?_)
  · skip
    refine r_goto (pc := 1962) (tgt := 2678) C dL_law_1962 (by decide) ?_
    refine r_forget (lv' := [some _, some _, some _, some _, some _, none, none, none, none]) ⟨rfl, rfl, rfl, rfl, rfl, trivial⟩ ?_
    exact hcont _ _ _ (by omega) (by omega) hP2
  · have hq0 : q.1 = 0 := (nI_eq0 (by omega)).mp h9
    refine r_aload_3 (pc := 1950) C dL_law_1950 ?_
    refine r_iconst (pc := 1951) C dL_law_1951 ci_0 ?_
    refine r_lald (pc := 1952) (j := 0) C hP2.ko.1 rfl rfl (by rw [hP2.ko.2]; exact Nat.one_pos) (by decide) dL_law_1952 ?_
    refine r_iload_6 (pc := 1953) C dL_law_1953 ?_
    have eL : D.L o 0 = u2.toInt64 := by rw [hv hq0, hLo]; exact hL hq0
    refine r_i2l (pc := 1955) C dL_law_1955 ?_
    refine r_lcmp (pc := 1956) C dL_law_1956 ?_
    refine r_top ((lg_eq0 _ _).mpr eL) ?_
    refine r_if_eq (pc := 1957) (tgt := 1962) C dL_law_1957 (by decide) (fun _ => ?_) (fun h9 => absurd rfl h9)
    refine r_goto (pc := 1962) (tgt := 2678) C dL_law_1962 (by decide) ?_
    refine r_forget (lv' := [some _, some _, some _, some _, some _, none, none, none, none]) ⟨rfl, rfl, rfl, rfl, rfl, trivial⟩ ?_
    exact hcont _ _ _ (by omega) (by omega) hP2
set_option maxHeartbeats 2000000 in
theorem k_busiest {g : GZ} {z : ZX} {mc ms k n : Nat} {A : HA} (C : CX g z cL_law RX0 9 1734 mc ms) (K : LwG g) {b Ls c t o i : Nat} {xs : Nat → Int32} (S : Scr g b Ls xs) (hP : LwP g c t o A) (hi : i + 6 ≤ Ls) (hk : k + 34340 ≤ mc) (hs : n + 154700 ≤ ms) (hcont : ∀ (k' n' : Nat) (D : HA), k' ≤ k + 34340 → n' ≤ n + 154700 → LwP g c t o D → wa g z k' n' D 2678 [some (.ref b), some (.ref c), some (.ref t), some (.ref o), some (.int (nI i)), none, none, none, none] []) : wa g z k n A 1965 [some (.ref b), some (.ref c), some (.ref t), some (.ref o), some (.int (nI i)), none, none, none, none] [] := by
  have hL4 := S.2.2
  refine r_Z fun hZ0 => ?_
  refine r_Zo fun hZo0 => ?_
  refine r_old fun ho0 => ?_
  refine r_aload_1 (pc := 1965) C dL_law_1965 ?_
  refine r_V0io (pc := 1966) C (lw_busiest K hP hZ0 hZo0 ho0) vl_X0_233 hP.kc (by decide) (by omega) (by omega) (Nat.le_of_ble_eq_true rfl) rfl dL_law_1966 (fun u1 B1 hc1 => ?_)
  obtain ⟨ans, hu, ht6, hT⟩ := hc1
  subst hu
  refine r_Z fun hZ1 => ?_
  refine r_Zo fun hZo1 => ?_
  refine r_old fun ho1 => ?_
  refine r_aload_2 (pc := 1969) C dL_law_1969 ?_
  refine r_V0io (pc := 1970) C (hT hZ1 hZo1 ho1) vl_X0_236 ht6 (by decide) (by omega) (by omega) (Nat.le_of_ble_eq_true rfl) rfl dL_law_1970 (fun u2 D hc2 => ?_)
  obtain ⟨hv, hLo, hP2⟩ := hc2
  refine r_top hv ?_
  refine r_icmp_eq (pc := 1973) (tgt := 2678) C dL_law_1973 (by decide) (fun _ => ?_) (fun h9 => absurd rfl h9)
  refine r_forget (lv' := [some _, some _, some _, some _, some _, none, none, none, none]) ⟨rfl, rfl, rfl, rfl, rfl, trivial⟩ ?_
  exact hcont _ _ _ (by omega) (by omega) hP2
