section GEN
variable {p : Program} {l : Launch} {e : Env} {R : Room} {s : State} {m : MethodId} {args : Array Value} {below : List Frame} {meth : Method} {c : Code} {H : Heap} {locs : List Loc} {cells slots : Nat} {ls : Array Slot} {D : xD} {s0 : State} {A0 : Array Value} {h : xH}
set_option maxHeartbeats 4000000 in
set_option maxRecDepth 100000 in
theorem w_law_law_1621 {res : (Int32 ⊕ (Nat × Nat)) × xH} (C : x_C l s0 A0 D R_law code 8 [] p s m args meth c) (hr : meth.sig.returnType = (some .boolean)) (hnm : meth.name = "law") (hRf : 10 ≤ R.frames) (hRl : 259 ≤ R.locals) {k43 : Nat → Nat → Nat → Nat → Int32 → xM Int32} (hs43 : ∀ (l0 : Nat) (l1 : Nat) (l2 : Nat) (l3 : Nat) (l4 : Int32) (h : xH) (H : Heap) (locs : List Loc) (cells slots : Nat) (ls : Array Slot), k43 l0 l1 l2 l3 l4 h = some res → x_S s0 D R h H locs cells slots → lv_has ls 8 [(0, .ref l0), (1, .ref l1), (2, .ref l2), (3, .ref l3), (4, .int l4)] → W p l e R s m args below meth c H locs cells slots (x_Q s0 D below s R (x_oc vI res.1) res.2) (F0 m 43 ls [])) (l0 : Nat) (l1 : Nat) (l2 : Nat) (l3 : Nat) (l4 : Int32) (hp : f_law_law_b1621 k43 l0 l1 l2 l3 l4 h = some res) (hH : x_S s0 D R h H locs cells slots) (hl : lv_has ls 8 [(0, .ref l0), (1, .ref l1), (2, .ref l2), (3, .ref l3), (4, .int l4)]) : W p l e R s m args below meth c H locs cells slots (x_Q s0 D below s R (x_oc vI res.1) res.2) (F0 m 1621 ls []) := by
  obtain ⟨hx, hb, hown, hts, hK, hml, hW, Z, -⟩ := id C
  unfold f_law_law_b1621 at hp
  refine lv_iinc (v := (l4 + 8)) (lv' := [(4, .int (l4 + 8)), (0, .ref l0), (1, .ref l1), (2, .ref l2), (3, .ref l3)]) hx hb d_law_law_1621 hl (k := 4) rfl rfl (by decide) rfl (fun ls hl => ?_)
  refine lv_goto (tgt := 43) hx hb d_law_law_1624 (by decide) ?_
  exact hs43 l0 l1 l2 l3 (l4 + 8) _ _ _ _ _ _ hp hH (lv_sub hl [1, 2, 3, 4, 0] rfl)
set_option maxHeartbeats 4000000 in
set_option maxRecDepth 100000 in
theorem w_law_law_1618 {res : (Int32 ⊕ (Nat × Nat)) × xH} (C : x_C l s0 A0 D R_law code 8 [] p s m args meth c) (hr : meth.sig.returnType = (some .boolean)) (hnm : meth.name = "law") (hRf : 10 ≤ R.frames) (hRl : 259 ≤ R.locals) {k43 : Nat → Nat → Nat → Nat → Int32 → xM Int32} (hs43 : ∀ (l0 : Nat) (l1 : Nat) (l2 : Nat) (l3 : Nat) (l4 : Int32) (h : xH) (H : Heap) (locs : List Loc) (cells slots : Nat) (ls : Array Slot), k43 l0 l1 l2 l3 l4 h = some res → x_S s0 D R h H locs cells slots → lv_has ls 8 [(0, .ref l0), (1, .ref l1), (2, .ref l2), (3, .ref l3), (4, .int l4)] → W p l e R s m args below meth c H locs cells slots (x_Q s0 D below s R (x_oc vI res.1) res.2) (F0 m 43 ls [])) (l0 : Nat) (l1 : Nat) (l2 : Nat) (l3 : Nat) (l4 : Int32) (hp : f_law_law_b1618 k43 l0 l1 l2 l3 l4 h = some res) (hH : x_S s0 D R h H locs cells slots) (hl : lv_has ls 8 [(0, .ref l0), (1, .ref l1), (2, .ref l2), (3, .ref l3), (4, .int l4)]) : W p l e R s m args below meth c H locs cells slots (x_Q s0 D below s R (x_oc vI res.1) res.2) (F0 m 1618 ls []) := by
  obtain ⟨hx, hb, hown, hts, hK, hml, hW, Z, -⟩ := id C
  unfold f_law_law_b1618 at hp
  refine lv_goto (tgt := 1621) hx hb d_law_law_1618 (by decide) ?_
  exact w_law_law_1621 C hr hnm hRf hRl hs43 l0 l1 l2 l3 l4 hp hH (lv_sub hl [0, 1, 2, 3, 4] rfl)
set_option maxHeartbeats 4000000 in
set_option maxRecDepth 100000 in
theorem w_law_law_1565 {res : (Int32 ⊕ (Nat × Nat)) × xH} (C : x_C l s0 A0 D R_law code 8 [] p s m args meth c) (hr : meth.sig.returnType = (some .boolean)) (hnm : meth.name = "law") (hRf : 10 ≤ R.frames) (hRl : 259 ≤ R.locals) {k43 : Nat → Nat → Nat → Nat → Int32 → xM Int32} (hs43 : ∀ (l0 : Nat) (l1 : Nat) (l2 : Nat) (l3 : Nat) (l4 : Int32) (h : xH) (H : Heap) (locs : List Loc) (cells slots : Nat) (ls : Array Slot), k43 l0 l1 l2 l3 l4 h = some res → x_S s0 D R h H locs cells slots → lv_has ls 8 [(0, .ref l0), (1, .ref l1), (2, .ref l2), (3, .ref l3), (4, .int l4)] → W p l e R s m args below meth c H locs cells slots (x_Q s0 D below s R (x_oc vI res.1) res.2) (F0 m 43 ls [])) (l0 : Nat) (l1 : Nat) (l2 : Nat) (l3 : Nat) (l4 : Int32) (hp : f_law_law_b1565 k43 l0 l1 l2 l3 l4 h = some res) (hH : x_S s0 D R h H locs cells slots) (hl : lv_has ls 8 [(0, .ref l0), (1, .ref l1), (2, .ref l2), (3, .ref l3), (4, .int l4)]) : W p l e R s m args below meth c H locs cells slots (x_Q s0 D below s R (x_oc vI res.1) res.2) (F0 m 1565 ls []) := by
  obtain ⟨hx, hb, hown, hts, hK, hml, hW, Z, -⟩ := id C
  unfold f_law_law_b1565 at hp
  refine lv_aload_n hx hb d_law_law_1565 rfl (lv_at hl 1 rfl) ?_
  refine lv_aload_n hx hb d_law_law_1566 rfl (lv_at hl 0 rfl) ?_
  refine lv_iload hx hb d_law_law_1567 (lv_at hl 4 rfl) ?_
  refine lv_iconst (v := 1) hx hb d_law_law_1569 (by decide) ?_
  refine lv_iadd hx hb d_law_law_1570 ?_
  refine x_lI C hH d_law_law_1571 hp (fun v1 hp => ?_)
  refine lv_aload_n hx hb d_law_law_1572 rfl (lv_at hl 3 rfl) ?_
  refine x_callSh (As := [.ref l1, .int v1, .ref l3]) (rest := []) (cv := vI) C hH kc_law_164 d_law_law_1573 hp (fun o h' e => m_law_count Z e) rfl hl.1 (Nat.le_trans (Nat.le_of_ble_eq_true rfl) hRf) (Nat.le_trans (Nat.le_of_ble_eq_true rfl) hRl) (Nat.le_of_ble_eq_true rfl) (fun v2 h H locs cells slots hp hH => ?_)
  refine W.eq (g2 := F0 m 1576 ls [.int v2]) rfl ?_
  refine lv_istore (lv' := [(5, .int v2), (0, .ref l0), (1, .ref l1), (2, .ref l2), (3, .ref l3), (4, .int l4)]) hx hb d_law_law_1576 hl (by decide) rfl (fun ls hl => ?_)
  refine lv_aload_n hx hb d_law_law_1578 rfl (lv_at hl 3 rfl) ?_
  refine lv_aload_n hx hb d_law_law_1579 rfl (lv_at hl 1 rfl) ?_
  refine lv_iload hx hb d_law_law_1580 (lv_at hl 5 rfl) ?_
  refine lv_iconst (v := 1) hx hb d_law_law_1582 (by decide) ?_
  refine lv_iadd hx hb d_law_law_1583 ?_
  refine x_lI C hH d_law_law_1584 hp (fun v3 hp => ?_)
  refine x_callV (As := [.int v3]) (rest := []) (cv := vI) C hH kc_law_166 d_law_law_1585 hp (fun o h' e => m_Mdl_count Z e) rfl hl.1 (Nat.le_trans (Nat.le_of_ble_eq_true rfl) hRf) (Nat.le_trans (Nat.le_of_ble_eq_true rfl) hRl) (Nat.le_of_ble_eq_true rfl) (fun v4 h H locs cells slots hp hH => ?_)
  refine W.eq (g2 := F0 m 1588 ls [.int v4]) rfl ?_
  refine lv_istore (lv' := [(6, .int v4), (5, .int v2), (0, .ref l0), (1, .ref l1), (2, .ref l2), (3, .ref l3), (4, .int l4)]) hx hb d_law_law_1588 hl (by decide) rfl (fun ls hl => ?_)
  refine lv_aload_n hx hb d_law_law_1590 rfl (lv_at hl 4 rfl) ?_
  refine x_callV (As := []) (rest := []) (cv := vI) C hH kc_law_97 d_law_law_1591 hp (fun o h' e => m_Mdl_thrown Z e) rfl hl.1 (Nat.le_trans (Nat.le_of_ble_eq_true rfl) hRf) (Nat.le_trans (Nat.le_of_ble_eq_true rfl) hRl) (Nat.le_of_ble_eq_true rfl) (fun v5 h H locs cells slots hp hH => ?_)
  refine W.eq (g2 := F0 m 1594 ls [.int v5]) rfl ?_
  refine lv_iload hx hb d_law_law_1594 (lv_at hl 1 rfl) ?_
  refine lv_icmp_eq (tgt := 1601) hx hb d_law_law_1596 (by decide) (fun hc => ?_) (fun hc => ?_)
  · replace hp := x_ifp hc hp
    refine lv_iload hx hb d_law_law_1601 (lv_at hl 1 rfl) ?_
    refine lv_if_ne (tgt := 1618) hx hb d_law_law_1603 (by decide) (fun hc => ?_) (fun hc => ?_)
    · replace hp := x_ifn hc hp
      exact w_law_law_1618 C hr hnm hRf hRl hs43 l0 l1 l2 l3 l4 hp hH (lv_sub hl [2, 3, 4, 5, 6] rfl)
    · replace hp := x_ifp hc hp
      refine lv_aload_n hx hb d_law_law_1606 rfl (lv_at hl 5 rfl) ?_
      refine lv_iconst (v := 0) hx hb d_law_law_1607 (by decide) ?_
      refine x_lJ C hH d_law_law_1608 hp (fun v6 hp => ?_)
      refine lv_iload hx hb d_law_law_1609 (lv_at hl 0 rfl) ?_
      refine lv_i2l (v := v4.toInt64) hx hb d_law_law_1611 rfl ?_
      refine W.lcmp hx hb d_law_law_1612 ?_
      refine lv_if_eq (tgt := 1618) hx hb d_law_law_1613 (by decide) (fun hc => ?_) (fun hc => ?_)
      · replace hp := x_ifp hc hp
        exact w_law_law_1618 C hr hnm hRf hRl hs43 l0 l1 l2 l3 l4 hp hH (lv_sub hl [2, 3, 4, 5, 6] rfl)
      · replace hp := x_ifn hc hp
        refine lv_iconst (v := 0) hx hb d_law_law_1616 (by decide) ?_
        exact x_zret C hH hr d_law_law_1617 hp
  · replace hp := x_ifn hc hp
    refine lv_iconst (v := 0) hx hb d_law_law_1599 (by decide) ?_
    exact x_zret C hH hr d_law_law_1600 hp
set_option maxHeartbeats 4000000 in
set_option maxRecDepth 100000 in
theorem w_law_law_1562 {res : (Int32 ⊕ (Nat × Nat)) × xH} (C : x_C l s0 A0 D R_law code 8 [] p s m args meth c) (hr : meth.sig.returnType = (some .boolean)) (hnm : meth.name = "law") (hRf : 10 ≤ R.frames) (hRl : 259 ≤ R.locals) {k43 : Nat → Nat → Nat → Nat → Int32 → xM Int32} (hs43 : ∀ (l0 : Nat) (l1 : Nat) (l2 : Nat) (l3 : Nat) (l4 : Int32) (h : xH) (H : Heap) (locs : List Loc) (cells slots : Nat) (ls : Array Slot), k43 l0 l1 l2 l3 l4 h = some res → x_S s0 D R h H locs cells slots → lv_has ls 8 [(0, .ref l0), (1, .ref l1), (2, .ref l2), (3, .ref l3), (4, .int l4)] → W p l e R s m args below meth c H locs cells slots (x_Q s0 D below s R (x_oc vI res.1) res.2) (F0 m 43 ls [])) (l0 : Nat) (l1 : Nat) (l2 : Nat) (l3 : Nat) (l4 : Int32) (hp : f_law_law_b1562 k43 l0 l1 l2 l3 l4 h = some res) (hH : x_S s0 D R h H locs cells slots) (hl : lv_has ls 8 [(0, .ref l0), (1, .ref l1), (2, .ref l2), (3, .ref l3), (4, .int l4)]) : W p l e R s m args below meth c H locs cells slots (x_Q s0 D below s R (x_oc vI res.1) res.2) (F0 m 1562 ls []) := by
  obtain ⟨hx, hb, hown, hts, hK, hml, hW, Z, -⟩ := id C
  unfold f_law_law_b1562 at hp
  refine lv_goto (tgt := 1621) hx hb d_law_law_1562 (by decide) ?_
  exact w_law_law_1621 C hr hnm hRf hRl hs43 l0 l1 l2 l3 l4 hp hH (lv_sub hl [0, 1, 2, 3, 4] rfl)
set_option maxHeartbeats 4000000 in
set_option maxRecDepth 100000 in
theorem w_law_law_1465 {res : (Int32 ⊕ (Nat × Nat)) × xH} (C : x_C l s0 A0 D R_law code 8 [] p s m args meth c) (hr : meth.sig.returnType = (some .boolean)) (hnm : meth.name = "law") (hRf : 10 ≤ R.frames) (hRl : 259 ≤ R.locals) {k43 : Nat → Nat → Nat → Nat → Int32 → xM Int32} (hs43 : ∀ (l0 : Nat) (l1 : Nat) (l2 : Nat) (l3 : Nat) (l4 : Int32) (h : xH) (H : Heap) (locs : List Loc) (cells slots : Nat) (ls : Array Slot), k43 l0 l1 l2 l3 l4 h = some res → x_S s0 D R h H locs cells slots → lv_has ls 8 [(0, .ref l0), (1, .ref l1), (2, .ref l2), (3, .ref l3), (4, .int l4)] → W p l e R s m args below meth c H locs cells slots (x_Q s0 D below s R (x_oc vI res.1) res.2) (F0 m 43 ls [])) (l0 : Nat) (l1 : Nat) (l2 : Nat) (l3 : Nat) (l4 : Int32) (hp : f_law_law_b1465 k43 l0 l1 l2 l3 l4 h = some res) (hH : x_S s0 D R h H locs cells slots) (hl : lv_has ls 8 [(0, .ref l0), (1, .ref l1), (2, .ref l2), (3, .ref l3), (4, .int l4)]) : W p l e R s m args below meth c H locs cells slots (x_Q s0 D below s R (x_oc vI res.1) res.2) (F0 m 1465 ls []) := by
  obtain ⟨hx, hb, hown, hts, hK, hml, hW, Z, -⟩ := id C
  unfold f_law_law_b1465 at hp
  refine lv_aload_n hx hb d_law_law_1465 rfl (lv_at hl 1 rfl) ?_
  refine lv_aload_n hx hb d_law_law_1466 rfl (lv_at hl 0 rfl) ?_
  refine lv_iload hx hb d_law_law_1467 (lv_at hl 4 rfl) ?_
  refine lv_iconst (v := 1) hx hb d_law_law_1469 (by decide) ?_
  refine lv_iadd hx hb d_law_law_1470 ?_
  refine x_lI C hH d_law_law_1471 hp (fun v1 hp => ?_)
  refine lv_i2l (v := v1.toInt64) hx hb d_law_law_1472 rfl ?_
  refine lv_bipush (v := 32) hx hb d_law_law_1473 (by decide) ?_
  refine lv_lshl (v := (v1.toInt64 <<< ((32 : Int32).toInt64 &&& 63))) hx hb d_law_law_1475 rfl ?_
  refine lv_aload_n hx hb d_law_law_1476 rfl (lv_at hl 0 rfl) ?_
  refine lv_iload hx hb d_law_law_1477 (lv_at hl 4 rfl) ?_
  refine lv_iconst (v := 2) hx hb d_law_law_1479 (by decide) ?_
  refine lv_iadd hx hb d_law_law_1480 ?_
  refine x_lI C hH d_law_law_1481 hp (fun v2 hp => ?_)
  refine lv_i2l (v := v2.toInt64) hx hb d_law_law_1482 rfl ?_
  refine lv_ldc2 hx hb hown (hts _ k_1031) d_law_law_1483 ?_
  refine lv_land hx hb d_law_law_1486 ?_
  refine lv_lor hx hb d_law_law_1487 ?_
  refine lv_aload_n hx hb d_law_law_1488 rfl (lv_at hl 0 rfl) ?_
  refine lv_iload hx hb d_law_law_1489 (lv_at hl 4 rfl) ?_
  refine lv_iconst (v := 3) hx hb d_law_law_1491 (by decide) ?_
  refine lv_iadd hx hb d_law_law_1492 ?_
  refine x_lI C hH d_law_law_1493 hp (fun v3 hp => ?_)
  refine lv_aload_n hx hb d_law_law_1494 rfl (lv_at hl 3 rfl) ?_
  refine x_callSh (As := [.ref l1, .long ((v1.toInt64 <<< ((32 : Int32).toInt64 &&& 63)) ||| (v2.toInt64 &&& 4294967295)), .int v3, .ref l3]) (rest := []) (cv := vI) C hH kc_law_160 d_law_law_1495 hp (fun o h' e => m_law_told Z e) rfl hl.1 (Nat.le_trans (Nat.le_of_ble_eq_true rfl) hRf) (Nat.le_trans (Nat.le_of_ble_eq_true rfl) hRl) (Nat.le_of_ble_eq_true rfl) (fun v4 h H locs cells slots hp hH => ?_)
  refine W.eq (g2 := F0 m 1498 ls [.int v4]) rfl ?_
  refine lv_istore (lv' := [(5, .int v4), (0, .ref l0), (1, .ref l1), (2, .ref l2), (3, .ref l3), (4, .int l4)]) hx hb d_law_law_1498 hl (by decide) rfl (fun ls hl => ?_)
  refine lv_aload_n hx hb d_law_law_1500 rfl (lv_at hl 3 rfl) ?_
  refine lv_aload_n hx hb d_law_law_1501 rfl (lv_at hl 1 rfl) ?_
  refine lv_iload hx hb d_law_law_1502 (lv_at hl 5 rfl) ?_
  refine lv_iconst (v := 1) hx hb d_law_law_1504 (by decide) ?_
  refine lv_iadd hx hb d_law_law_1505 ?_
  refine x_lI C hH d_law_law_1506 hp (fun v5 hp => ?_)
  refine lv_i2l (v := v5.toInt64) hx hb d_law_law_1507 rfl ?_
  refine lv_bipush (v := 32) hx hb d_law_law_1508 (by decide) ?_
  refine lv_lshl (v := (v5.toInt64 <<< ((32 : Int32).toInt64 &&& 63))) hx hb d_law_law_1510 rfl ?_
  refine lv_aload_n hx hb d_law_law_1511 rfl (lv_at hl 1 rfl) ?_
  refine lv_iload hx hb d_law_law_1512 (lv_at hl 5 rfl) ?_
  refine lv_iconst (v := 2) hx hb d_law_law_1514 (by decide) ?_
  refine lv_iadd hx hb d_law_law_1515 ?_
  refine x_lI C hH d_law_law_1516 hp (fun v6 hp => ?_)
  refine lv_i2l (v := v6.toInt64) hx hb d_law_law_1517 rfl ?_
  refine lv_ldc2 hx hb hown (hts _ k_1031) d_law_law_1518 ?_
  refine lv_land hx hb d_law_law_1521 ?_
  refine lv_lor hx hb d_law_law_1522 ?_
  refine lv_aload_n hx hb d_law_law_1523 rfl (lv_at hl 1 rfl) ?_
  refine lv_iload hx hb d_law_law_1524 (lv_at hl 5 rfl) ?_
  refine lv_iconst (v := 3) hx hb d_law_law_1526 (by decide) ?_
  refine lv_iadd hx hb d_law_law_1527 ?_
  refine x_lI C hH d_law_law_1528 hp (fun v7 hp => ?_)
  refine x_callV (As := [.long ((v5.toInt64 <<< ((32 : Int32).toInt64 &&& 63)) ||| (v6.toInt64 &&& 4294967295)), .int v7]) (rest := []) (cv := vI) C hH kc_law_163 d_law_law_1529 hp (fun o h' e => m_Mdl_told Z e) rfl hl.1 (Nat.le_trans (Nat.le_of_ble_eq_true rfl) hRf) (Nat.le_trans (Nat.le_of_ble_eq_true rfl) hRl) (Nat.le_of_ble_eq_true rfl) (fun v8 h H locs cells slots hp hH => ?_)
  refine W.eq (g2 := F0 m 1532 ls [.int v8]) rfl ?_
  refine lv_istore (lv' := [(6, .int v8), (5, .int v4), (0, .ref l0), (1, .ref l1), (2, .ref l2), (3, .ref l3), (4, .int l4)]) hx hb d_law_law_1532 hl (by decide) rfl (fun ls hl => ?_)
  refine lv_aload_n hx hb d_law_law_1534 rfl (lv_at hl 4 rfl) ?_
  refine x_callV (As := []) (rest := []) (cv := vI) C hH kc_law_97 d_law_law_1535 hp (fun o h' e => m_Mdl_thrown Z e) rfl hl.1 (Nat.le_trans (Nat.le_of_ble_eq_true rfl) hRf) (Nat.le_trans (Nat.le_of_ble_eq_true rfl) hRl) (Nat.le_of_ble_eq_true rfl) (fun v9 h H locs cells slots hp hH => ?_)
  refine W.eq (g2 := F0 m 1538 ls [.int v9]) rfl ?_
  refine lv_iload hx hb d_law_law_1538 (lv_at hl 1 rfl) ?_
  refine lv_icmp_eq (tgt := 1545) hx hb d_law_law_1540 (by decide) (fun hc => ?_) (fun hc => ?_)
  · replace hp := x_ifp hc hp
    refine lv_iload hx hb d_law_law_1545 (lv_at hl 1 rfl) ?_
    refine lv_if_ne (tgt := 1562) hx hb d_law_law_1547 (by decide) (fun hc => ?_) (fun hc => ?_)
    · replace hp := x_ifn hc hp
      exact w_law_law_1562 C hr hnm hRf hRl hs43 l0 l1 l2 l3 l4 hp hH (lv_sub hl [2, 3, 4, 5, 6] rfl)
    · replace hp := x_ifp hc hp
      refine lv_aload_n hx hb d_law_law_1550 rfl (lv_at hl 5 rfl) ?_
      refine lv_iconst (v := 0) hx hb d_law_law_1551 (by decide) ?_
      refine x_lJ C hH d_law_law_1552 hp (fun v10 hp => ?_)
      refine lv_iload hx hb d_law_law_1553 (lv_at hl 0 rfl) ?_
      refine lv_i2l (v := v8.toInt64) hx hb d_law_law_1555 rfl ?_
      refine W.lcmp hx hb d_law_law_1556 ?_
      refine lv_if_eq (tgt := 1562) hx hb d_law_law_1557 (by decide) (fun hc => ?_) (fun hc => ?_)
      · replace hp := x_ifp hc hp
        exact w_law_law_1562 C hr hnm hRf hRl hs43 l0 l1 l2 l3 l4 hp hH (lv_sub hl [2, 3, 4, 5, 6] rfl)
      · replace hp := x_ifn hc hp
        refine lv_iconst (v := 0) hx hb d_law_law_1560 (by decide) ?_
        exact x_zret C hH hr d_law_law_1561 hp
  · replace hp := x_ifn hc hp
    refine lv_iconst (v := 0) hx hb d_law_law_1543 (by decide) ?_
    exact x_zret C hH hr d_law_law_1544 hp
set_option maxHeartbeats 4000000 in
set_option maxRecDepth 100000 in
theorem w_law_law_1462 {res : (Int32 ⊕ (Nat × Nat)) × xH} (C : x_C l s0 A0 D R_law code 8 [] p s m args meth c) (hr : meth.sig.returnType = (some .boolean)) (hnm : meth.name = "law") (hRf : 10 ≤ R.frames) (hRl : 259 ≤ R.locals) {k43 : Nat → Nat → Nat → Nat → Int32 → xM Int32} (hs43 : ∀ (l0 : Nat) (l1 : Nat) (l2 : Nat) (l3 : Nat) (l4 : Int32) (h : xH) (H : Heap) (locs : List Loc) (cells slots : Nat) (ls : Array Slot), k43 l0 l1 l2 l3 l4 h = some res → x_S s0 D R h H locs cells slots → lv_has ls 8 [(0, .ref l0), (1, .ref l1), (2, .ref l2), (3, .ref l3), (4, .int l4)] → W p l e R s m args below meth c H locs cells slots (x_Q s0 D below s R (x_oc vI res.1) res.2) (F0 m 43 ls [])) (l0 : Nat) (l1 : Nat) (l2 : Nat) (l3 : Nat) (l4 : Int32) (hp : f_law_law_b1462 k43 l0 l1 l2 l3 l4 h = some res) (hH : x_S s0 D R h H locs cells slots) (hl : lv_has ls 8 [(0, .ref l0), (1, .ref l1), (2, .ref l2), (3, .ref l3), (4, .int l4)]) : W p l e R s m args below meth c H locs cells slots (x_Q s0 D below s R (x_oc vI res.1) res.2) (F0 m 1462 ls []) := by
  obtain ⟨hx, hb, hown, hts, hK, hml, hW, Z, -⟩ := id C
  unfold f_law_law_b1462 at hp
  refine lv_goto (tgt := 1621) hx hb d_law_law_1462 (by decide) ?_
  exact w_law_law_1621 C hr hnm hRf hRl hs43 l0 l1 l2 l3 l4 hp hH (lv_sub hl [0, 1, 2, 3, 4] rfl)
set_option maxHeartbeats 4000000 in
set_option maxRecDepth 100000 in
theorem w_law_law_1385 {res : (Int32 ⊕ (Nat × Nat)) × xH} (C : x_C l s0 A0 D R_law code 8 [] p s m args meth c) (hr : meth.sig.returnType = (some .boolean)) (hnm : meth.name = "law") (hRf : 10 ≤ R.frames) (hRl : 259 ≤ R.locals) {k43 : Nat → Nat → Nat → Nat → Int32 → xM Int32} (hs43 : ∀ (l0 : Nat) (l1 : Nat) (l2 : Nat) (l3 : Nat) (l4 : Int32) (h : xH) (H : Heap) (locs : List Loc) (cells slots : Nat) (ls : Array Slot), k43 l0 l1 l2 l3 l4 h = some res → x_S s0 D R h H locs cells slots → lv_has ls 8 [(0, .ref l0), (1, .ref l1), (2, .ref l2), (3, .ref l3), (4, .int l4)] → W p l e R s m args below meth c H locs cells slots (x_Q s0 D below s R (x_oc vI res.1) res.2) (F0 m 43 ls [])) (l0 : Nat) (l1 : Nat) (l2 : Nat) (l3 : Nat) (l4 : Int32) (hp : f_law_law_b1385 k43 l0 l1 l2 l3 l4 h = some res) (hH : x_S s0 D R h H locs cells slots) (hl : lv_has ls 8 [(0, .ref l0), (1, .ref l1), (2, .ref l2), (3, .ref l3), (4, .int l4)]) : W p l e R s m args below meth c H locs cells slots (x_Q s0 D below s R (x_oc vI res.1) res.2) (F0 m 1385 ls []) := by
  obtain ⟨hx, hb, hown, hts, hK, hml, hW, Z, -⟩ := id C
  unfold f_law_law_b1385 at hp
  refine lv_aload_n hx hb d_law_law_1385 rfl (lv_at hl 1 rfl) ?_
  refine lv_aload_n hx hb d_law_law_1386 rfl (lv_at hl 0 rfl) ?_
  refine lv_iload hx hb d_law_law_1387 (lv_at hl 4 rfl) ?_
  refine lv_iconst (v := 1) hx hb d_law_law_1389 (by decide) ?_
  refine lv_iadd hx hb d_law_law_1390 ?_
  refine x_lI C hH d_law_law_1391 hp (fun v1 hp => ?_)
  refine lv_aload_n hx hb d_law_law_1392 rfl (lv_at hl 0 rfl) ?_
  refine lv_iload hx hb d_law_law_1393 (lv_at hl 4 rfl) ?_
  refine lv_iconst (v := 2) hx hb d_law_law_1395 (by decide) ?_
  refine lv_iadd hx hb d_law_law_1396 ?_
  refine x_lI C hH d_law_law_1397 hp (fun v2 hp => ?_)
  refine lv_aload_n hx hb d_law_law_1398 rfl (lv_at hl 0 rfl) ?_
  refine lv_iload hx hb d_law_law_1399 (lv_at hl 4 rfl) ?_
  refine lv_iconst (v := 3) hx hb d_law_law_1401 (by decide) ?_
  refine lv_iadd hx hb d_law_law_1402 ?_
  refine x_lI C hH d_law_law_1403 hp (fun v3 hp => ?_)
  refine lv_aload_n hx hb d_law_law_1404 rfl (lv_at hl 3 rfl) ?_
  refine x_callSh (As := [.ref l1, .int v1, .int v2, .int v3, .ref l3]) (rest := []) (cv := vI) C hH kc_law_157 d_law_law_1405 hp (fun o h' e => m_law_session Z e) rfl hl.1 (Nat.le_trans (Nat.le_of_ble_eq_true rfl) hRf) (Nat.le_trans (Nat.le_of_ble_eq_true rfl) hRl) (Nat.le_of_ble_eq_true rfl) (fun v4 h H locs cells slots hp hH => ?_)
  refine W.eq (g2 := F0 m 1408 ls [.int v4]) rfl ?_
  refine lv_istore (lv' := [(5, .int v4), (0, .ref l0), (1, .ref l1), (2, .ref l2), (3, .ref l3), (4, .int l4)]) hx hb d_law_law_1408 hl (by decide) rfl (fun ls hl => ?_)
  refine lv_aload_n hx hb d_law_law_1410 rfl (lv_at hl 3 rfl) ?_
  refine lv_aload_n hx hb d_law_law_1411 rfl (lv_at hl 1 rfl) ?_
  refine lv_iload hx hb d_law_law_1412 (lv_at hl 5 rfl) ?_
  refine lv_iconst (v := 1) hx hb d_law_law_1414 (by decide) ?_
  refine lv_iadd hx hb d_law_law_1415 ?_
  refine x_lI C hH d_law_law_1416 hp (fun v5 hp => ?_)
  refine lv_aload_n hx hb d_law_law_1417 rfl (lv_at hl 1 rfl) ?_
  refine lv_iload hx hb d_law_law_1418 (lv_at hl 5 rfl) ?_
  refine lv_iconst (v := 2) hx hb d_law_law_1420 (by decide) ?_
  refine lv_iadd hx hb d_law_law_1421 ?_
  refine x_lI C hH d_law_law_1422 hp (fun v6 hp => ?_)
  refine lv_aload_n hx hb d_law_law_1423 rfl (lv_at hl 1 rfl) ?_
  refine lv_iload hx hb d_law_law_1424 (lv_at hl 5 rfl) ?_
  refine lv_iconst (v := 3) hx hb d_law_law_1426 (by decide) ?_
  refine lv_iadd hx hb d_law_law_1427 ?_
  refine x_lI C hH d_law_law_1428 hp (fun v7 hp => ?_)
  refine x_callV (As := [.int v5, .int v6, .int v7]) (rest := []) (cv := vI) C hH kc_law_159 d_law_law_1429 hp (fun o h' e => m_Mdl_session Z e) rfl hl.1 (Nat.le_trans (Nat.le_of_ble_eq_true rfl) hRf) (Nat.le_trans (Nat.le_of_ble_eq_true rfl) hRl) (Nat.le_of_ble_eq_true rfl) (fun v8 h H locs cells slots hp hH => ?_)
  refine W.eq (g2 := F0 m 1432 ls [.int v8]) rfl ?_
  refine lv_istore (lv' := [(6, .int v8), (5, .int v4), (0, .ref l0), (1, .ref l1), (2, .ref l2), (3, .ref l3), (4, .int l4)]) hx hb d_law_law_1432 hl (by decide) rfl (fun ls hl => ?_)
  refine lv_aload_n hx hb d_law_law_1434 rfl (lv_at hl 4 rfl) ?_
  refine x_callV (As := []) (rest := []) (cv := vI) C hH kc_law_97 d_law_law_1435 hp (fun o h' e => m_Mdl_thrown Z e) rfl hl.1 (Nat.le_trans (Nat.le_of_ble_eq_true rfl) hRf) (Nat.le_trans (Nat.le_of_ble_eq_true rfl) hRl) (Nat.le_of_ble_eq_true rfl) (fun v9 h H locs cells slots hp hH => ?_)
  refine W.eq (g2 := F0 m 1438 ls [.int v9]) rfl ?_
  refine lv_iload hx hb d_law_law_1438 (lv_at hl 1 rfl) ?_
  refine lv_icmp_eq (tgt := 1445) hx hb d_law_law_1440 (by decide) (fun hc => ?_) (fun hc => ?_)
  · replace hp := x_ifp hc hp
    refine lv_iload hx hb d_law_law_1445 (lv_at hl 1 rfl) ?_
    refine lv_if_ne (tgt := 1462) hx hb d_law_law_1447 (by decide) (fun hc => ?_) (fun hc => ?_)
    · replace hp := x_ifn hc hp
      exact w_law_law_1462 C hr hnm hRf hRl hs43 l0 l1 l2 l3 l4 hp hH (lv_sub hl [2, 3, 4, 5, 6] rfl)
    · replace hp := x_ifp hc hp
      refine lv_aload_n hx hb d_law_law_1450 rfl (lv_at hl 5 rfl) ?_
      refine lv_iconst (v := 0) hx hb d_law_law_1451 (by decide) ?_
      refine x_lJ C hH d_law_law_1452 hp (fun v10 hp => ?_)
      refine lv_iload hx hb d_law_law_1453 (lv_at hl 0 rfl) ?_
      refine lv_i2l (v := v8.toInt64) hx hb d_law_law_1455 rfl ?_
      refine W.lcmp hx hb d_law_law_1456 ?_
      refine lv_if_eq (tgt := 1462) hx hb d_law_law_1457 (by decide) (fun hc => ?_) (fun hc => ?_)
      · replace hp := x_ifp hc hp
        exact w_law_law_1462 C hr hnm hRf hRl hs43 l0 l1 l2 l3 l4 hp hH (lv_sub hl [2, 3, 4, 5, 6] rfl)
      · replace hp := x_ifn hc hp
        refine lv_iconst (v := 0) hx hb d_law_law_1460 (by decide) ?_
        exact x_zret C hH hr d_law_law_1461 hp
  · replace hp := x_ifn hc hp
    refine lv_iconst (v := 0) hx hb d_law_law_1443 (by decide) ?_
    exact x_zret C hH hr d_law_law_1444 hp
set_option maxHeartbeats 4000000 in
set_option maxRecDepth 100000 in
theorem w_law_law_1382 {res : (Int32 ⊕ (Nat × Nat)) × xH} (C : x_C l s0 A0 D R_law code 8 [] p s m args meth c) (hr : meth.sig.returnType = (some .boolean)) (hnm : meth.name = "law") (hRf : 10 ≤ R.frames) (hRl : 259 ≤ R.locals) {k43 : Nat → Nat → Nat → Nat → Int32 → xM Int32} (hs43 : ∀ (l0 : Nat) (l1 : Nat) (l2 : Nat) (l3 : Nat) (l4 : Int32) (h : xH) (H : Heap) (locs : List Loc) (cells slots : Nat) (ls : Array Slot), k43 l0 l1 l2 l3 l4 h = some res → x_S s0 D R h H locs cells slots → lv_has ls 8 [(0, .ref l0), (1, .ref l1), (2, .ref l2), (3, .ref l3), (4, .int l4)] → W p l e R s m args below meth c H locs cells slots (x_Q s0 D below s R (x_oc vI res.1) res.2) (F0 m 43 ls [])) (l0 : Nat) (l1 : Nat) (l2 : Nat) (l3 : Nat) (l4 : Int32) (hp : f_law_law_b1382 k43 l0 l1 l2 l3 l4 h = some res) (hH : x_S s0 D R h H locs cells slots) (hl : lv_has ls 8 [(0, .ref l0), (1, .ref l1), (2, .ref l2), (3, .ref l3), (4, .int l4)]) : W p l e R s m args below meth c H locs cells slots (x_Q s0 D below s R (x_oc vI res.1) res.2) (F0 m 1382 ls []) := by
  obtain ⟨hx, hb, hown, hts, hK, hml, hW, Z, -⟩ := id C
  unfold f_law_law_b1382 at hp
  refine lv_goto (tgt := 1621) hx hb d_law_law_1382 (by decide) ?_
  exact w_law_law_1621 C hr hnm hRf hRl hs43 l0 l1 l2 l3 l4 hp hH (lv_sub hl [0, 1, 2, 3, 4] rfl)
end GEN
