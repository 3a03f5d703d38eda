section GEN
variable {p : Program} {l : Launch} {e : Env} {R : Room} {s : State} {m : MethodId} {args : Array Value} {below : List Frame} {meth : Method} {c : Code} {H : Heap} {locs : List Loc} {cells slots : Nat} {ls : Array Slot} {D : xD} {s0 : State} {A0 : Array Value} {h : xH}
set_option maxHeartbeats 4000000 in
set_option maxRecDepth 100000 in
theorem w_law_law_1305 {res : (Int32 ⊕ (Nat × Nat)) × xH} (C : x_C l s0 A0 D R_law code 8 [] p s m args meth c) (hr : meth.sig.returnType = (some .boolean)) (hnm : meth.name = "law") (hRf : 10 ≤ R.frames) (hRl : 259 ≤ R.locals) {k43 : Nat → Nat → Nat → Nat → Int32 → xM Int32} (hs43 : ∀ (l0 : Nat) (l1 : Nat) (l2 : Nat) (l3 : Nat) (l4 : Int32) (h : xH) (H : Heap) (locs : List Loc) (cells slots : Nat) (ls : Array Slot), k43 l0 l1 l2 l3 l4 h = some res → x_S s0 D R h H locs cells slots → lv_has ls 8 [(0, .ref l0), (1, .ref l1), (2, .ref l2), (3, .ref l3), (4, .int l4)] → W p l e R s m args below meth c H locs cells slots (x_Q s0 D below s R (x_oc vI res.1) res.2) (F0 m 43 ls [])) (l0 : Nat) (l1 : Nat) (l2 : Nat) (l3 : Nat) (l4 : Int32) (hp : f_law_law_b1305 k43 l0 l1 l2 l3 l4 h = some res) (hH : x_S s0 D R h H locs cells slots) (hl : lv_has ls 8 [(0, .ref l0), (1, .ref l1), (2, .ref l2), (3, .ref l3), (4, .int l4)]) : W p l e R s m args below meth c H locs cells slots (x_Q s0 D below s R (x_oc vI res.1) res.2) (F0 m 1305 ls []) := by
  obtain ⟨hx, hb, hown, hts, hK, hml, hW, Z, -⟩ := id C
  unfold f_law_law_b1305 at hp
  refine lv_aload_n hx hb d_law_law_1305 rfl (lv_at hl 1 rfl) ?_
  refine lv_aload_n hx hb d_law_law_1306 rfl (lv_at hl 0 rfl) ?_
  refine lv_iload hx hb d_law_law_1307 (lv_at hl 4 rfl) ?_
  refine lv_iconst (v := 1) hx hb d_law_law_1309 (by decide) ?_
  refine lv_iadd hx hb d_law_law_1310 ?_
  refine x_lI C hH d_law_law_1311 hp (fun v1 hp => ?_)
  refine lv_aload_n hx hb d_law_law_1312 rfl (lv_at hl 0 rfl) ?_
  refine lv_iload hx hb d_law_law_1313 (lv_at hl 4 rfl) ?_
  refine lv_iconst (v := 2) hx hb d_law_law_1315 (by decide) ?_
  refine lv_iadd hx hb d_law_law_1316 ?_
  refine x_lI C hH d_law_law_1317 hp (fun v2 hp => ?_)
  refine lv_aload_n hx hb d_law_law_1318 rfl (lv_at hl 0 rfl) ?_
  refine lv_iload hx hb d_law_law_1319 (lv_at hl 4 rfl) ?_
  refine lv_iconst (v := 3) hx hb d_law_law_1321 (by decide) ?_
  refine lv_iadd hx hb d_law_law_1322 ?_
  refine x_lI C hH d_law_law_1323 hp (fun v3 hp => ?_)
  refine lv_aload_n hx hb d_law_law_1324 rfl (lv_at hl 3 rfl) ?_
  refine x_callSh (As := [.ref l1, .int v1, .int v2, .int v3, .ref l3]) (rest := []) (cv := vI) C hH kc_law_154 d_law_law_1325 hp (fun o h' e => m_law_logged Z e) rfl hl.1 (Nat.le_trans (Nat.le_of_ble_eq_true rfl) hRf) (Nat.le_trans (Nat.le_of_ble_eq_true rfl) hRl) (Nat.le_of_ble_eq_true rfl) (fun v4 h H locs cells slots hp hH => ?_)
  refine W.eq (g2 := F0 m 1328 ls [.int v4]) rfl ?_
  refine lv_istore (lv' := [(5, .int v4), (0, .ref l0), (1, .ref l1), (2, .ref l2), (3, .ref l3), (4, .int l4)]) hx hb d_law_law_1328 hl (by decide) rfl (fun ls hl => ?_)
  refine lv_aload_n hx hb d_law_law_1330 rfl (lv_at hl 3 rfl) ?_
  refine lv_aload_n hx hb d_law_law_1331 rfl (lv_at hl 1 rfl) ?_
  refine lv_iload hx hb d_law_law_1332 (lv_at hl 5 rfl) ?_
  refine lv_iconst (v := 1) hx hb d_law_law_1334 (by decide) ?_
  refine lv_iadd hx hb d_law_law_1335 ?_
  refine x_lI C hH d_law_law_1336 hp (fun v5 hp => ?_)
  refine lv_aload_n hx hb d_law_law_1337 rfl (lv_at hl 1 rfl) ?_
  refine lv_iload hx hb d_law_law_1338 (lv_at hl 5 rfl) ?_
  refine lv_iconst (v := 2) hx hb d_law_law_1340 (by decide) ?_
  refine lv_iadd hx hb d_law_law_1341 ?_
  refine x_lI C hH d_law_law_1342 hp (fun v6 hp => ?_)
  refine lv_aload_n hx hb d_law_law_1343 rfl (lv_at hl 1 rfl) ?_
  refine lv_iload hx hb d_law_law_1344 (lv_at hl 5 rfl) ?_
  refine lv_iconst (v := 3) hx hb d_law_law_1346 (by decide) ?_
  refine lv_iadd hx hb d_law_law_1347 ?_
  refine x_lI C hH d_law_law_1348 hp (fun v7 hp => ?_)
  refine x_callV (As := [.int v5, .int v6, .int v7]) (rest := []) (cv := vI) C hH kc_law_156 d_law_law_1349 hp (fun o h' e => m_Mdl_logged Z e) rfl hl.1 (Nat.le_trans (Nat.le_of_ble_eq_true rfl) hRf) (Nat.le_trans (Nat.le_of_ble_eq_true rfl) hRl) (Nat.le_of_ble_eq_true rfl) (fun v8 h H locs cells slots hp hH => ?_)
  refine W.eq (g2 := F0 m 1352 ls [.int v8]) rfl ?_
  refine lv_istore (lv' := [(6, .int v8), (5, .int v4), (0, .ref l0), (1, .ref l1), (2, .ref l2), (3, .ref l3), (4, .int l4)]) hx hb d_law_law_1352 hl (by decide) rfl (fun ls hl => ?_)
  refine lv_aload_n hx hb d_law_law_1354 rfl (lv_at hl 4 rfl) ?_
  refine x_callV (As := []) (rest := []) (cv := vI) C hH kc_law_97 d_law_law_1355 hp (fun o h' e => m_Mdl_thrown Z e) rfl hl.1 (Nat.le_trans (Nat.le_of_ble_eq_true rfl) hRf) (Nat.le_trans (Nat.le_of_ble_eq_true rfl) hRl) (Nat.le_of_ble_eq_true rfl) (fun v9 h H locs cells slots hp hH => ?_)
  refine W.eq (g2 := F0 m 1358 ls [.int v9]) rfl ?_
  refine lv_iload hx hb d_law_law_1358 (lv_at hl 1 rfl) ?_
  refine lv_icmp_eq (tgt := 1365) hx hb d_law_law_1360 (by decide) (fun hc => ?_) (fun hc => ?_)
  · replace hp := x_ifp hc hp
    refine lv_iload hx hb d_law_law_1365 (lv_at hl 1 rfl) ?_
    refine lv_if_ne (tgt := 1382) hx hb d_law_law_1367 (by decide) (fun hc => ?_) (fun hc => ?_)
    · replace hp := x_ifn hc hp
      exact w_law_law_1382 C hr hnm hRf hRl hs43 l0 l1 l2 l3 l4 hp hH (lv_sub hl [2, 3, 4, 5, 6] rfl)
    · replace hp := x_ifp hc hp
      refine lv_aload_n hx hb d_law_law_1370 rfl (lv_at hl 5 rfl) ?_
      refine lv_iconst (v := 0) hx hb d_law_law_1371 (by decide) ?_
      refine x_lJ C hH d_law_law_1372 hp (fun v10 hp => ?_)
      refine lv_iload hx hb d_law_law_1373 (lv_at hl 0 rfl) ?_
      refine lv_i2l (v := v8.toInt64) hx hb d_law_law_1375 rfl ?_
      refine W.lcmp hx hb d_law_law_1376 ?_
      refine lv_if_eq (tgt := 1382) hx hb d_law_law_1377 (by decide) (fun hc => ?_) (fun hc => ?_)
      · replace hp := x_ifp hc hp
        exact w_law_law_1382 C hr hnm hRf hRl hs43 l0 l1 l2 l3 l4 hp hH (lv_sub hl [2, 3, 4, 5, 6] rfl)
      · replace hp := x_ifn hc hp
        refine lv_iconst (v := 0) hx hb d_law_law_1380 (by decide) ?_
        exact x_zret C hH hr d_law_law_1381 hp
  · replace hp := x_ifn hc hp
    refine lv_iconst (v := 0) hx hb d_law_law_1363 (by decide) ?_
    exact x_zret C hH hr d_law_law_1364 hp
set_option maxHeartbeats 4000000 in
set_option maxRecDepth 100000 in
theorem w_law_law_1302 {res : (Int32 ⊕ (Nat × Nat)) × xH} (C : x_C l s0 A0 D R_law code 8 [] p s m args meth c) (hr : meth.sig.returnType = (some .boolean)) (hnm : meth.name = "law") (hRf : 10 ≤ R.frames) (hRl : 259 ≤ R.locals) {k43 : Nat → Nat → Nat → Nat → Int32 → xM Int32} (hs43 : ∀ (l0 : Nat) (l1 : Nat) (l2 : Nat) (l3 : Nat) (l4 : Int32) (h : xH) (H : Heap) (locs : List Loc) (cells slots : Nat) (ls : Array Slot), k43 l0 l1 l2 l3 l4 h = some res → x_S s0 D R h H locs cells slots → lv_has ls 8 [(0, .ref l0), (1, .ref l1), (2, .ref l2), (3, .ref l3), (4, .int l4)] → W p l e R s m args below meth c H locs cells slots (x_Q s0 D below s R (x_oc vI res.1) res.2) (F0 m 43 ls [])) (l0 : Nat) (l1 : Nat) (l2 : Nat) (l3 : Nat) (l4 : Int32) (hp : f_law_law_b1302 k43 l0 l1 l2 l3 l4 h = some res) (hH : x_S s0 D R h H locs cells slots) (hl : lv_has ls 8 [(0, .ref l0), (1, .ref l1), (2, .ref l2), (3, .ref l3), (4, .int l4)]) : W p l e R s m args below meth c H locs cells slots (x_Q s0 D below s R (x_oc vI res.1) res.2) (F0 m 1302 ls []) := by
  obtain ⟨hx, hb, hown, hts, hK, hml, hW, Z, -⟩ := id C
  unfold f_law_law_b1302 at hp
  refine lv_goto (tgt := 1621) hx hb d_law_law_1302 (by decide) ?_
  exact w_law_law_1621 C hr hnm hRf hRl hs43 l0 l1 l2 l3 l4 hp hH (lv_sub hl [0, 1, 2, 3, 4] rfl)
set_option maxHeartbeats 4000000 in
set_option maxRecDepth 100000 in
theorem w_law_law_1237 {res : (Int32 ⊕ (Nat × Nat)) × xH} (C : x_C l s0 A0 D R_law code 8 [] p s m args meth c) (hr : meth.sig.returnType = (some .boolean)) (hnm : meth.name = "law") (hRf : 10 ≤ R.frames) (hRl : 259 ≤ R.locals) {k43 : Nat → Nat → Nat → Nat → Int32 → xM Int32} (hs43 : ∀ (l0 : Nat) (l1 : Nat) (l2 : Nat) (l3 : Nat) (l4 : Int32) (h : xH) (H : Heap) (locs : List Loc) (cells slots : Nat) (ls : Array Slot), k43 l0 l1 l2 l3 l4 h = some res → x_S s0 D R h H locs cells slots → lv_has ls 8 [(0, .ref l0), (1, .ref l1), (2, .ref l2), (3, .ref l3), (4, .int l4)] → W p l e R s m args below meth c H locs cells slots (x_Q s0 D below s R (x_oc vI res.1) res.2) (F0 m 43 ls [])) (l0 : Nat) (l1 : Nat) (l2 : Nat) (l3 : Nat) (l4 : Int32) (hp : f_law_law_b1237 k43 l0 l1 l2 l3 l4 h = some res) (hH : x_S s0 D R h H locs cells slots) (hl : lv_has ls 8 [(0, .ref l0), (1, .ref l1), (2, .ref l2), (3, .ref l3), (4, .int l4)]) : W p l e R s m args below meth c H locs cells slots (x_Q s0 D below s R (x_oc vI res.1) res.2) (F0 m 1237 ls []) := by
  obtain ⟨hx, hb, hown, hts, hK, hml, hW, Z, -⟩ := id C
  unfold f_law_law_b1237 at hp
  refine lv_aload_n hx hb d_law_law_1237 rfl (lv_at hl 1 rfl) ?_
  refine lv_aload_n hx hb d_law_law_1238 rfl (lv_at hl 0 rfl) ?_
  refine lv_iload hx hb d_law_law_1239 (lv_at hl 4 rfl) ?_
  refine lv_iconst (v := 1) hx hb d_law_law_1241 (by decide) ?_
  refine lv_iadd hx hb d_law_law_1242 ?_
  refine x_lI C hH d_law_law_1243 hp (fun v1 hp => ?_)
  refine lv_aload_n hx hb d_law_law_1244 rfl (lv_at hl 0 rfl) ?_
  refine lv_iload hx hb d_law_law_1245 (lv_at hl 4 rfl) ?_
  refine lv_iconst (v := 2) hx hb d_law_law_1247 (by decide) ?_
  refine lv_iadd hx hb d_law_law_1248 ?_
  refine x_lI C hH d_law_law_1249 hp (fun v2 hp => ?_)
  refine lv_aload_n hx hb d_law_law_1250 rfl (lv_at hl 3 rfl) ?_
  refine x_callSh (As := [.ref l1, .int v1, .int v2, .ref l3]) (rest := []) (cv := vI) C hH kc_law_151 d_law_law_1251 hp (fun o h' e => m_law_log Z e) rfl hl.1 (Nat.le_trans (Nat.le_of_ble_eq_true rfl) hRf) (Nat.le_trans (Nat.le_of_ble_eq_true rfl) hRl) (Nat.le_of_ble_eq_true rfl) (fun v3 h H locs cells slots hp hH => ?_)
  refine W.eq (g2 := F0 m 1254 ls [.int v3]) rfl ?_
  refine lv_istore (lv' := [(5, .int v3), (0, .ref l0), (1, .ref l1), (2, .ref l2), (3, .ref l3), (4, .int l4)]) hx hb d_law_law_1254 hl (by decide) rfl (fun ls hl => ?_)
  refine lv_aload_n hx hb d_law_law_1256 rfl (lv_at hl 3 rfl) ?_
  refine lv_aload_n hx hb d_law_law_1257 rfl (lv_at hl 1 rfl) ?_
  refine lv_iload hx hb d_law_law_1258 (lv_at hl 5 rfl) ?_
  refine lv_iconst (v := 1) hx hb d_law_law_1260 (by decide) ?_
  refine lv_iadd hx hb d_law_law_1261 ?_
  refine x_lI C hH d_law_law_1262 hp (fun v4 hp => ?_)
  refine lv_aload_n hx hb d_law_law_1263 rfl (lv_at hl 1 rfl) ?_
  refine lv_iload hx hb d_law_law_1264 (lv_at hl 5 rfl) ?_
  refine lv_iconst (v := 2) hx hb d_law_law_1266 (by decide) ?_
  refine lv_iadd hx hb d_law_law_1267 ?_
  refine x_lI C hH d_law_law_1268 hp (fun v5 hp => ?_)
  refine x_callV (As := [.int v4, .int v5]) (rest := []) (cv := vI) C hH kc_law_153 d_law_law_1269 hp (fun o h' e => m_Mdl_log Z e) rfl hl.1 (Nat.le_trans (Nat.le_of_ble_eq_true rfl) hRf) (Nat.le_trans (Nat.le_of_ble_eq_true rfl) hRl) (Nat.le_of_ble_eq_true rfl) (fun v6 h H locs cells slots hp hH => ?_)
  refine W.eq (g2 := F0 m 1272 ls [.int v6]) rfl ?_
  refine lv_istore (lv' := [(6, .int v6), (5, .int v3), (0, .ref l0), (1, .ref l1), (2, .ref l2), (3, .ref l3), (4, .int l4)]) hx hb d_law_law_1272 hl (by decide) rfl (fun ls hl => ?_)
  refine lv_aload_n hx hb d_law_law_1274 rfl (lv_at hl 4 rfl) ?_
  refine x_callV (As := []) (rest := []) (cv := vI) C hH kc_law_97 d_law_law_1275 hp (fun o h' e => m_Mdl_thrown Z e) rfl hl.1 (Nat.le_trans (Nat.le_of_ble_eq_true rfl) hRf) (Nat.le_trans (Nat.le_of_ble_eq_true rfl) hRl) (Nat.le_of_ble_eq_true rfl) (fun v7 h H locs cells slots hp hH => ?_)
  refine W.eq (g2 := F0 m 1278 ls [.int v7]) rfl ?_
  refine lv_iload hx hb d_law_law_1278 (lv_at hl 1 rfl) ?_
  refine lv_icmp_eq (tgt := 1285) hx hb d_law_law_1280 (by decide) (fun hc => ?_) (fun hc => ?_)
  · replace hp := x_ifp hc hp
    refine lv_iload hx hb d_law_law_1285 (lv_at hl 1 rfl) ?_
    refine lv_if_ne (tgt := 1302) hx hb d_law_law_1287 (by decide) (fun hc => ?_) (fun hc => ?_)
    · replace hp := x_ifn hc hp
      exact w_law_law_1302 C hr hnm hRf hRl hs43 l0 l1 l2 l3 l4 hp hH (lv_sub hl [2, 3, 4, 5, 6] rfl)
    · replace hp := x_ifp hc hp
      refine lv_aload_n hx hb d_law_law_1290 rfl (lv_at hl 5 rfl) ?_
      refine lv_iconst (v := 0) hx hb d_law_law_1291 (by decide) ?_
      refine x_lJ C hH d_law_law_1292 hp (fun v8 hp => ?_)
      refine lv_iload hx hb d_law_law_1293 (lv_at hl 0 rfl) ?_
      refine lv_i2l (v := v6.toInt64) hx hb d_law_law_1295 rfl ?_
      refine W.lcmp hx hb d_law_law_1296 ?_
      refine lv_if_eq (tgt := 1302) hx hb d_law_law_1297 (by decide) (fun hc => ?_) (fun hc => ?_)
      · replace hp := x_ifp hc hp
        exact w_law_law_1302 C hr hnm hRf hRl hs43 l0 l1 l2 l3 l4 hp hH (lv_sub hl [2, 3, 4, 5, 6] rfl)
      · replace hp := x_ifn hc hp
        refine lv_iconst (v := 0) hx hb d_law_law_1300 (by decide) ?_
        exact x_zret C hH hr d_law_law_1301 hp
  · replace hp := x_ifn hc hp
    refine lv_iconst (v := 0) hx hb d_law_law_1283 (by decide) ?_
    exact x_zret C hH hr d_law_law_1284 hp
set_option maxHeartbeats 4000000 in
set_option maxRecDepth 100000 in
theorem w_law_law_1234 {res : (Int32 ⊕ (Nat × Nat)) × xH} (C : x_C l s0 A0 D R_law code 8 [] p s m args meth c) (hr : meth.sig.returnType = (some .boolean)) (hnm : meth.name = "law") (hRf : 10 ≤ R.frames) (hRl : 259 ≤ R.locals) {k43 : Nat → Nat → Nat → Nat → Int32 → xM Int32} (hs43 : ∀ (l0 : Nat) (l1 : Nat) (l2 : Nat) (l3 : Nat) (l4 : Int32) (h : xH) (H : Heap) (locs : List Loc) (cells slots : Nat) (ls : Array Slot), k43 l0 l1 l2 l3 l4 h = some res → x_S s0 D R h H locs cells slots → lv_has ls 8 [(0, .ref l0), (1, .ref l1), (2, .ref l2), (3, .ref l3), (4, .int l4)] → W p l e R s m args below meth c H locs cells slots (x_Q s0 D below s R (x_oc vI res.1) res.2) (F0 m 43 ls [])) (l0 : Nat) (l1 : Nat) (l2 : Nat) (l3 : Nat) (l4 : Int32) (hp : f_law_law_b1234 k43 l0 l1 l2 l3 l4 h = some res) (hH : x_S s0 D R h H locs cells slots) (hl : lv_has ls 8 [(0, .ref l0), (1, .ref l1), (2, .ref l2), (3, .ref l3), (4, .int l4)]) : W p l e R s m args below meth c H locs cells slots (x_Q s0 D below s R (x_oc vI res.1) res.2) (F0 m 1234 ls []) := by
  obtain ⟨hx, hb, hown, hts, hK, hml, hW, Z, -⟩ := id C
  unfold f_law_law_b1234 at hp
  refine lv_goto (tgt := 1621) hx hb d_law_law_1234 (by decide) ?_
  exact w_law_law_1621 C hr hnm hRf hRl hs43 l0 l1 l2 l3 l4 hp hH (lv_sub hl [0, 1, 2, 3, 4] rfl)
set_option maxHeartbeats 4000000 in
set_option maxRecDepth 100000 in
theorem w_law_law_1169 {res : (Int32 ⊕ (Nat × Nat)) × xH} (C : x_C l s0 A0 D R_law code 8 [] p s m args meth c) (hr : meth.sig.returnType = (some .boolean)) (hnm : meth.name = "law") (hRf : 10 ≤ R.frames) (hRl : 259 ≤ R.locals) {k43 : Nat → Nat → Nat → Nat → Int32 → xM Int32} (hs43 : ∀ (l0 : Nat) (l1 : Nat) (l2 : Nat) (l3 : Nat) (l4 : Int32) (h : xH) (H : Heap) (locs : List Loc) (cells slots : Nat) (ls : Array Slot), k43 l0 l1 l2 l3 l4 h = some res → x_S s0 D R h H locs cells slots → lv_has ls 8 [(0, .ref l0), (1, .ref l1), (2, .ref l2), (3, .ref l3), (4, .int l4)] → W p l e R s m args below meth c H locs cells slots (x_Q s0 D below s R (x_oc vI res.1) res.2) (F0 m 43 ls [])) (l0 : Nat) (l1 : Nat) (l2 : Nat) (l3 : Nat) (l4 : Int32) (hp : f_law_law_b1169 k43 l0 l1 l2 l3 l4 h = some res) (hH : x_S s0 D R h H locs cells slots) (hl : lv_has ls 8 [(0, .ref l0), (1, .ref l1), (2, .ref l2), (3, .ref l3), (4, .int l4)]) : W p l e R s m args below meth c H locs cells slots (x_Q s0 D below s R (x_oc vI res.1) res.2) (F0 m 1169 ls []) := by
  obtain ⟨hx, hb, hown, hts, hK, hml, hW, Z, -⟩ := id C
  unfold f_law_law_b1169 at hp
  refine lv_aload_n hx hb d_law_law_1169 rfl (lv_at hl 1 rfl) ?_
  refine lv_aload_n hx hb d_law_law_1170 rfl (lv_at hl 0 rfl) ?_
  refine lv_iload hx hb d_law_law_1171 (lv_at hl 4 rfl) ?_
  refine lv_iconst (v := 1) hx hb d_law_law_1173 (by decide) ?_
  refine lv_iadd hx hb d_law_law_1174 ?_
  refine x_lI C hH d_law_law_1175 hp (fun v1 hp => ?_)
  refine lv_aload_n hx hb d_law_law_1176 rfl (lv_at hl 0 rfl) ?_
  refine lv_iload hx hb d_law_law_1177 (lv_at hl 4 rfl) ?_
  refine lv_iconst (v := 2) hx hb d_law_law_1179 (by decide) ?_
  refine lv_iadd hx hb d_law_law_1180 ?_
  refine x_lI C hH d_law_law_1181 hp (fun v2 hp => ?_)
  refine lv_aload_n hx hb d_law_law_1182 rfl (lv_at hl 3 rfl) ?_
  refine x_callSh (As := [.ref l1, .int v1, .int v2, .ref l3]) (rest := []) (cv := vI) C hH kc_law_148 d_law_law_1183 hp (fun o h' e => m_law_kept Z e) rfl hl.1 (Nat.le_trans (Nat.le_of_ble_eq_true rfl) hRf) (Nat.le_trans (Nat.le_of_ble_eq_true rfl) hRl) (Nat.le_of_ble_eq_true rfl) (fun v3 h H locs cells slots hp hH => ?_)
  refine W.eq (g2 := F0 m 1186 ls [.int v3]) rfl ?_
  refine lv_istore (lv' := [(5, .int v3), (0, .ref l0), (1, .ref l1), (2, .ref l2), (3, .ref l3), (4, .int l4)]) hx hb d_law_law_1186 hl (by decide) rfl (fun ls hl => ?_)
  refine lv_aload_n hx hb d_law_law_1188 rfl (lv_at hl 3 rfl) ?_
  refine lv_aload_n hx hb d_law_law_1189 rfl (lv_at hl 1 rfl) ?_
  refine lv_iload hx hb d_law_law_1190 (lv_at hl 5 rfl) ?_
  refine lv_iconst (v := 1) hx hb d_law_law_1192 (by decide) ?_
  refine lv_iadd hx hb d_law_law_1193 ?_
  refine x_lI C hH d_law_law_1194 hp (fun v4 hp => ?_)
  refine lv_aload_n hx hb d_law_law_1195 rfl (lv_at hl 1 rfl) ?_
  refine lv_iload hx hb d_law_law_1196 (lv_at hl 5 rfl) ?_
  refine lv_iconst (v := 2) hx hb d_law_law_1198 (by decide) ?_
  refine lv_iadd hx hb d_law_law_1199 ?_
  refine x_lI C hH d_law_law_1200 hp (fun v5 hp => ?_)
  refine x_callV (As := [.int v4, .int v5]) (rest := []) (cv := vI) C hH kc_law_150 d_law_law_1201 hp (fun o h' e => m_Mdl_kept Z e) rfl hl.1 (Nat.le_trans (Nat.le_of_ble_eq_true rfl) hRf) (Nat.le_trans (Nat.le_of_ble_eq_true rfl) hRl) (Nat.le_of_ble_eq_true rfl) (fun v6 h H locs cells slots hp hH => ?_)
  refine W.eq (g2 := F0 m 1204 ls [.int v6]) rfl ?_
  refine lv_istore (lv' := [(6, .int v6), (5, .int v3), (0, .ref l0), (1, .ref l1), (2, .ref l2), (3, .ref l3), (4, .int l4)]) hx hb d_law_law_1204 hl (by decide) rfl (fun ls hl => ?_)
  refine lv_aload_n hx hb d_law_law_1206 rfl (lv_at hl 4 rfl) ?_
  refine x_callV (As := []) (rest := []) (cv := vI) C hH kc_law_97 d_law_law_1207 hp (fun o h' e => m_Mdl_thrown Z e) rfl hl.1 (Nat.le_trans (Nat.le_of_ble_eq_true rfl) hRf) (Nat.le_trans (Nat.le_of_ble_eq_true rfl) hRl) (Nat.le_of_ble_eq_true rfl) (fun v7 h H locs cells slots hp hH => ?_)
  refine W.eq (g2 := F0 m 1210 ls [.int v7]) rfl ?_
  refine lv_iload hx hb d_law_law_1210 (lv_at hl 1 rfl) ?_
  refine lv_icmp_eq (tgt := 1217) hx hb d_law_law_1212 (by decide) (fun hc => ?_) (fun hc => ?_)
  · replace hp := x_ifp hc hp
    refine lv_iload hx hb d_law_law_1217 (lv_at hl 1 rfl) ?_
    refine lv_if_ne (tgt := 1234) hx hb d_law_law_1219 (by decide) (fun hc => ?_) (fun hc => ?_)
    · replace hp := x_ifn hc hp
      exact w_law_law_1234 C hr hnm hRf hRl hs43 l0 l1 l2 l3 l4 hp hH (lv_sub hl [2, 3, 4, 5, 6] rfl)
    · replace hp := x_ifp hc hp
      refine lv_aload_n hx hb d_law_law_1222 rfl (lv_at hl 5 rfl) ?_
      refine lv_iconst (v := 0) hx hb d_law_law_1223 (by decide) ?_
      refine x_lJ C hH d_law_law_1224 hp (fun v8 hp => ?_)
      refine lv_iload hx hb d_law_law_1225 (lv_at hl 0 rfl) ?_
      refine lv_i2l (v := v6.toInt64) hx hb d_law_law_1227 rfl ?_
      refine W.lcmp hx hb d_law_law_1228 ?_
      refine lv_if_eq (tgt := 1234) hx hb d_law_law_1229 (by decide) (fun hc => ?_) (fun hc => ?_)
      · replace hp := x_ifp hc hp
        exact w_law_law_1234 C hr hnm hRf hRl hs43 l0 l1 l2 l3 l4 hp hH (lv_sub hl [2, 3, 4, 5, 6] rfl)
      · replace hp := x_ifn hc hp
        refine lv_iconst (v := 0) hx hb d_law_law_1232 (by decide) ?_
        exact x_zret C hH hr d_law_law_1233 hp
  · replace hp := x_ifn hc hp
    refine lv_iconst (v := 0) hx hb d_law_law_1215 (by decide) ?_
    exact x_zret C hH hr d_law_law_1216 hp
set_option maxHeartbeats 4000000 in
set_option maxRecDepth 100000 in
theorem w_law_law_1166 {res : (Int32 ⊕ (Nat × Nat)) × xH} (C : x_C l s0 A0 D R_law code 8 [] p s m args meth c) (hr : meth.sig.returnType = (some .boolean)) (hnm : meth.name = "law") (hRf : 10 ≤ R.frames) (hRl : 259 ≤ R.locals) {k43 : Nat → Nat → Nat → Nat → Int32 → xM Int32} (hs43 : ∀ (l0 : Nat) (l1 : Nat) (l2 : Nat) (l3 : Nat) (l4 : Int32) (h : xH) (H : Heap) (locs : List Loc) (cells slots : Nat) (ls : Array Slot), k43 l0 l1 l2 l3 l4 h = some res → x_S s0 D R h H locs cells slots → lv_has ls 8 [(0, .ref l0), (1, .ref l1), (2, .ref l2), (3, .ref l3), (4, .int l4)] → W p l e R s m args below meth c H locs cells slots (x_Q s0 D below s R (x_oc vI res.1) res.2) (F0 m 43 ls [])) (l0 : Nat) (l1 : Nat) (l2 : Nat) (l3 : Nat) (l4 : Int32) (hp : f_law_law_b1166 k43 l0 l1 l2 l3 l4 h = some res) (hH : x_S s0 D R h H locs cells slots) (hl : lv_has ls 8 [(0, .ref l0), (1, .ref l1), (2, .ref l2), (3, .ref l3), (4, .int l4)]) : W p l e R s m args below meth c H locs cells slots (x_Q s0 D below s R (x_oc vI res.1) res.2) (F0 m 1166 ls []) := by
  obtain ⟨hx, hb, hown, hts, hK, hml, hW, Z, -⟩ := id C
  unfold f_law_law_b1166 at hp
  refine lv_goto (tgt := 1621) hx hb d_law_law_1166 (by decide) ?_
  exact w_law_law_1621 C hr hnm hRf hRl hs43 l0 l1 l2 l3 l4 hp hH (lv_sub hl [0, 1, 2, 3, 4] rfl)
set_option maxHeartbeats 4000000 in
set_option maxRecDepth 100000 in
theorem w_law_law_1101 {res : (Int32 ⊕ (Nat × Nat)) × xH} (C : x_C l s0 A0 D R_law code 8 [] p s m args meth c) (hr : meth.sig.returnType = (some .boolean)) (hnm : meth.name = "law") (hRf : 10 ≤ R.frames) (hRl : 259 ≤ R.locals) {k43 : Nat → Nat → Nat → Nat → Int32 → xM Int32} (hs43 : ∀ (l0 : Nat) (l1 : Nat) (l2 : Nat) (l3 : Nat) (l4 : Int32) (h : xH) (H : Heap) (locs : List Loc) (cells slots : Nat) (ls : Array Slot), k43 l0 l1 l2 l3 l4 h = some res → x_S s0 D R h H locs cells slots → lv_has ls 8 [(0, .ref l0), (1, .ref l1), (2, .ref l2), (3, .ref l3), (4, .int l4)] → W p l e R s m args below meth c H locs cells slots (x_Q s0 D below s R (x_oc vI res.1) res.2) (F0 m 43 ls [])) (l0 : Nat) (l1 : Nat) (l2 : Nat) (l3 : Nat) (l4 : Int32) (hp : f_law_law_b1101 k43 l0 l1 l2 l3 l4 h = some res) (hH : x_S s0 D R h H locs cells slots) (hl : lv_has ls 8 [(0, .ref l0), (1, .ref l1), (2, .ref l2), (3, .ref l3), (4, .int l4)]) : W p l e R s m args below meth c H locs cells slots (x_Q s0 D below s R (x_oc vI res.1) res.2) (F0 m 1101 ls []) := by
  obtain ⟨hx, hb, hown, hts, hK, hml, hW, Z, -⟩ := id C
  unfold f_law_law_b1101 at hp
  refine lv_aload_n hx hb d_law_law_1101 rfl (lv_at hl 1 rfl) ?_
  refine lv_aload_n hx hb d_law_law_1102 rfl (lv_at hl 0 rfl) ?_
  refine lv_iload hx hb d_law_law_1103 (lv_at hl 4 rfl) ?_
  refine lv_iconst (v := 1) hx hb d_law_law_1105 (by decide) ?_
  refine lv_iadd hx hb d_law_law_1106 ?_
  refine x_lI C hH d_law_law_1107 hp (fun v1 hp => ?_)
  refine lv_aload_n hx hb d_law_law_1108 rfl (lv_at hl 0 rfl) ?_
  refine lv_iload hx hb d_law_law_1109 (lv_at hl 4 rfl) ?_
  refine lv_iconst (v := 2) hx hb d_law_law_1111 (by decide) ?_
  refine lv_iadd hx hb d_law_law_1112 ?_
  refine x_lI C hH d_law_law_1113 hp (fun v2 hp => ?_)
  refine lv_aload_n hx hb d_law_law_1114 rfl (lv_at hl 3 rfl) ?_
  refine x_callSh (As := [.ref l1, .int v1, .int v2, .ref l3]) (rest := []) (cv := vI) C hH kc_law_145 d_law_law_1115 hp (fun o h' e => m_law_at Z e) rfl hl.1 (Nat.le_trans (Nat.le_of_ble_eq_true rfl) hRf) (Nat.le_trans (Nat.le_of_ble_eq_true rfl) hRl) (Nat.le_of_ble_eq_true rfl) (fun v3 h H locs cells slots hp hH => ?_)
  refine W.eq (g2 := F0 m 1118 ls [.int v3]) rfl ?_
  refine lv_istore (lv' := [(5, .int v3), (0, .ref l0), (1, .ref l1), (2, .ref l2), (3, .ref l3), (4, .int l4)]) hx hb d_law_law_1118 hl (by decide) rfl (fun ls hl => ?_)
  refine lv_aload_n hx hb d_law_law_1120 rfl (lv_at hl 3 rfl) ?_
  refine lv_aload_n hx hb d_law_law_1121 rfl (lv_at hl 1 rfl) ?_
  refine lv_iload hx hb d_law_law_1122 (lv_at hl 5 rfl) ?_
  refine lv_iconst (v := 1) hx hb d_law_law_1124 (by decide) ?_
  refine lv_iadd hx hb d_law_law_1125 ?_
  refine x_lI C hH d_law_law_1126 hp (fun v4 hp => ?_)
  refine lv_aload_n hx hb d_law_law_1127 rfl (lv_at hl 1 rfl) ?_
  refine lv_iload hx hb d_law_law_1128 (lv_at hl 5 rfl) ?_
  refine lv_iconst (v := 2) hx hb d_law_law_1130 (by decide) ?_
  refine lv_iadd hx hb d_law_law_1131 ?_
  refine x_lI C hH d_law_law_1132 hp (fun v5 hp => ?_)
  refine x_callV (As := [.int v4, .int v5]) (rest := []) (cv := vI) C hH kc_law_147 d_law_law_1133 hp (fun o h' e => m_Mdl_at Z e) rfl hl.1 (Nat.le_trans (Nat.le_of_ble_eq_true rfl) hRf) (Nat.le_trans (Nat.le_of_ble_eq_true rfl) hRl) (Nat.le_of_ble_eq_true rfl) (fun v6 h H locs cells slots hp hH => ?_)
  refine W.eq (g2 := F0 m 1136 ls [.int v6]) rfl ?_
  refine lv_istore (lv' := [(6, .int v6), (5, .int v3), (0, .ref l0), (1, .ref l1), (2, .ref l2), (3, .ref l3), (4, .int l4)]) hx hb d_law_law_1136 hl (by decide) rfl (fun ls hl => ?_)
  refine lv_aload_n hx hb d_law_law_1138 rfl (lv_at hl 4 rfl) ?_
  refine x_callV (As := []) (rest := []) (cv := vI) C hH kc_law_97 d_law_law_1139 hp (fun o h' e => m_Mdl_thrown Z e) rfl hl.1 (Nat.le_trans (Nat.le_of_ble_eq_true rfl) hRf) (Nat.le_trans (Nat.le_of_ble_eq_true rfl) hRl) (Nat.le_of_ble_eq_true rfl) (fun v7 h H locs cells slots hp hH => ?_)
  refine W.eq (g2 := F0 m 1142 ls [.int v7]) rfl ?_
  refine lv_iload hx hb d_law_law_1142 (lv_at hl 1 rfl) ?_
  refine lv_icmp_eq (tgt := 1149) hx hb d_law_law_1144 (by decide) (fun hc => ?_) (fun hc => ?_)
  · replace hp := x_ifp hc hp
    refine lv_iload hx hb d_law_law_1149 (lv_at hl 1 rfl) ?_
    refine lv_if_ne (tgt := 1166) hx hb d_law_law_1151 (by decide) (fun hc => ?_) (fun hc => ?_)
    · replace hp := x_ifn hc hp
      exact w_law_law_1166 C hr hnm hRf hRl hs43 l0 l1 l2 l3 l4 hp hH (lv_sub hl [2, 3, 4, 5, 6] rfl)
    · replace hp := x_ifp hc hp
      refine lv_aload_n hx hb d_law_law_1154 rfl (lv_at hl 5 rfl) ?_
      refine lv_iconst (v := 0) hx hb d_law_law_1155 (by decide) ?_
      refine x_lJ C hH d_law_law_1156 hp (fun v8 hp => ?_)
      refine lv_iload hx hb d_law_law_1157 (lv_at hl 0 rfl) ?_
      refine lv_i2l (v := v6.toInt64) hx hb d_law_law_1159 rfl ?_
      refine W.lcmp hx hb d_law_law_1160 ?_
      refine lv_if_eq (tgt := 1166) hx hb d_law_law_1161 (by decide) (fun hc => ?_) (fun hc => ?_)
      · replace hp := x_ifp hc hp
        exact w_law_law_1166 C hr hnm hRf hRl hs43 l0 l1 l2 l3 l4 hp hH (lv_sub hl [2, 3, 4, 5, 6] rfl)
      · replace hp := x_ifn hc hp
        refine lv_iconst (v := 0) hx hb d_law_law_1164 (by decide) ?_
        exact x_zret C hH hr d_law_law_1165 hp
  · replace hp := x_ifn hc hp
    refine lv_iconst (v := 0) hx hb d_law_law_1147 (by decide) ?_
    exact x_zret C hH hr d_law_law_1148 hp
set_option maxHeartbeats 4000000 in
set_option maxRecDepth 100000 in
theorem w_law_law_1098 {res : (Int32 ⊕ (Nat × Nat)) × xH} (C : x_C l s0 A0 D R_law code 8 [] p s m args meth c) (hr : meth.sig.returnType = (some .boolean)) (hnm : meth.name = "law") (hRf : 10 ≤ R.frames) (hRl : 259 ≤ R.locals) {k43 : Nat → Nat → Nat → Nat → Int32 → xM Int32} (hs43 : ∀ (l0 : Nat) (l1 : Nat) (l2 : Nat) (l3 : Nat) (l4 : Int32) (h : xH) (H : Heap) (locs : List Loc) (cells slots : Nat) (ls : Array Slot), k43 l0 l1 l2 l3 l4 h = some res → x_S s0 D R h H locs cells slots → lv_has ls 8 [(0, .ref l0), (1, .ref l1), (2, .ref l2), (3, .ref l3), (4, .int l4)] → W p l e R s m args below meth c H locs cells slots (x_Q s0 D below s R (x_oc vI res.1) res.2) (F0 m 43 ls [])) (l0 : Nat) (l1 : Nat) (l2 : Nat) (l3 : Nat) (l4 : Int32) (hp : f_law_law_b1098 k43 l0 l1 l2 l3 l4 h = some res) (hH : x_S s0 D R h H locs cells slots) (hl : lv_has ls 8 [(0, .ref l0), (1, .ref l1), (2, .ref l2), (3, .ref l3), (4, .int l4)]) : W p l e R s m args below meth c H locs cells slots (x_Q s0 D below s R (x_oc vI res.1) res.2) (F0 m 1098 ls []) := by
  obtain ⟨hx, hb, hown, hts, hK, hml, hW, Z, -⟩ := id C
  unfold f_law_law_b1098 at hp
  refine lv_goto (tgt := 1621) hx hb d_law_law_1098 (by decide) ?_
  exact w_law_law_1621 C hr hnm hRf hRl hs43 l0 l1 l2 l3 l4 hp hH (lv_sub hl [0, 1, 2, 3, 4] rfl)
end GEN
