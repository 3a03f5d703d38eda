section GEN
variable {p : Program} {l : Launch} {e : Env} {R : Room} {s : State} {m : MethodId} {args : Array Value} {below : List Frame} {meth : Method} {c : Code} {H : Heap} {locs : List Loc} {cells slots : Nat} {ls : Array Slot} {D : xD} {s0 : State} {A0 : Array Value} {h : xH}
set_option maxHeartbeats 4000000 in
set_option maxRecDepth 100000 in
theorem w_law_law_531 {res : (Int32 ⊕ (Nat × Nat)) × xH} (C : x_C l s0 A0 D R_law code 8 [] p s m args meth c) (hr : meth.sig.returnType = (some .boolean)) (hnm : meth.name = "law") (hRf : 10 ≤ R.frames) (hRl : 259 ≤ R.locals) {k43 : Nat → Nat → Nat → Nat → Int32 → xM Int32} (hs43 : ∀ (l0 : Nat) (l1 : Nat) (l2 : Nat) (l3 : Nat) (l4 : Int32) (h : xH) (H : Heap) (locs : List Loc) (cells slots : Nat) (ls : Array Slot), k43 l0 l1 l2 l3 l4 h = some res → x_S s0 D R h H locs cells slots → lv_has ls 8 [(0, .ref l0), (1, .ref l1), (2, .ref l2), (3, .ref l3), (4, .int l4)] → W p l e R s m args below meth c H locs cells slots (x_Q s0 D below s R (x_oc vI res.1) res.2) (F0 m 43 ls [])) (l0 : Nat) (l1 : Nat) (l2 : Nat) (l3 : Nat) (l4 : Int32) (hp : f_law_law_b531 k43 l0 l1 l2 l3 l4 h = some res) (hH : x_S s0 D R h H locs cells slots) (hl : lv_has ls 8 [(0, .ref l0), (1, .ref l1), (2, .ref l2), (3, .ref l3), (4, .int l4)]) : W p l e R s m args below meth c H locs cells slots (x_Q s0 D below s R (x_oc vI res.1) res.2) (F0 m 531 ls []) := by
  obtain ⟨hx, hb, hown, hts, hK, hml, hW, Z, -⟩ := id C
  unfold f_law_law_b531 at hp
  refine lv_aload_n hx hb d_law_law_531 rfl (lv_at hl 1 rfl) ?_
  refine lv_aload_n hx hb d_law_law_532 rfl (lv_at hl 0 rfl) ?_
  refine lv_iload hx hb d_law_law_533 (lv_at hl 4 rfl) ?_
  refine lv_iconst (v := 1) hx hb d_law_law_535 (by decide) ?_
  refine lv_iadd hx hb d_law_law_536 ?_
  refine x_lI C hH d_law_law_537 hp (fun v1 hp => ?_)
  refine lv_aload_n hx hb d_law_law_538 rfl (lv_at hl 3 rfl) ?_
  refine x_callSh (As := [.ref l1, .int v1, .ref l3]) (rest := []) (cv := vI) C hH kc_law_114 d_law_law_539 hp (fun o h' e => m_law_ticks Z e) rfl hl.1 (Nat.le_trans (Nat.le_of_ble_eq_true rfl) hRf) (Nat.le_trans (Nat.le_of_ble_eq_true rfl) hRl) (Nat.le_of_ble_eq_true rfl) (fun v2 h H locs cells slots hp hH => ?_)
  refine W.eq (g2 := F0 m 542 ls [.int v2]) rfl ?_
  refine lv_istore (lv' := [(5, .int v2), (0, .ref l0), (1, .ref l1), (2, .ref l2), (3, .ref l3), (4, .int l4)]) hx hb d_law_law_542 hl (by decide) rfl (fun ls hl => ?_)
  refine lv_aload_n hx hb d_law_law_544 rfl (lv_at hl 3 rfl) ?_
  refine lv_aload_n hx hb d_law_law_545 rfl (lv_at hl 1 rfl) ?_
  refine lv_iload hx hb d_law_law_546 (lv_at hl 5 rfl) ?_
  refine lv_iconst (v := 1) hx hb d_law_law_548 (by decide) ?_
  refine lv_iadd hx hb d_law_law_549 ?_
  refine x_lI C hH d_law_law_550 hp (fun v3 hp => ?_)
  refine x_callV (As := [.int v3]) (rest := []) (cv := vI) C hH kc_law_117 d_law_law_551 hp (fun o h' e => m_Mdl_ticks Z e) rfl hl.1 (Nat.le_trans (Nat.le_of_ble_eq_true rfl) hRf) (Nat.le_trans (Nat.le_of_ble_eq_true rfl) hRl) (Nat.le_of_ble_eq_true rfl) (fun v4 h H locs cells slots hp hH => ?_)
  refine W.eq (g2 := F0 m 554 ls [.int v4]) rfl ?_
  refine lv_istore (lv' := [(6, .int v4), (5, .int v2), (0, .ref l0), (1, .ref l1), (2, .ref l2), (3, .ref l3), (4, .int l4)]) hx hb d_law_law_554 hl (by decide) rfl (fun ls hl => ?_)
  refine lv_aload_n hx hb d_law_law_556 rfl (lv_at hl 4 rfl) ?_
  refine x_callV (As := []) (rest := []) (cv := vI) C hH kc_law_97 d_law_law_557 hp (fun o h' e => m_Mdl_thrown Z e) rfl hl.1 (Nat.le_trans (Nat.le_of_ble_eq_true rfl) hRf) (Nat.le_trans (Nat.le_of_ble_eq_true rfl) hRl) (Nat.le_of_ble_eq_true rfl) (fun v5 h H locs cells slots hp hH => ?_)
  refine W.eq (g2 := F0 m 560 ls [.int v5]) rfl ?_
  refine lv_iload hx hb d_law_law_560 (lv_at hl 1 rfl) ?_
  refine lv_icmp_eq (tgt := 567) hx hb d_law_law_562 (by decide) (fun hc => ?_) (fun hc => ?_)
  · replace hp := x_ifp hc hp
    refine lv_iload hx hb d_law_law_567 (lv_at hl 1 rfl) ?_
    refine lv_if_ne (tgt := 584) hx hb d_law_law_569 (by decide) (fun hc => ?_) (fun hc => ?_)
    · replace hp := x_ifn hc hp
      exact w_law_law_584 C hr hnm hRf hRl hs43 l0 l1 l2 l3 l4 hp hH (lv_sub hl [2, 3, 4, 5, 6] rfl)
    · replace hp := x_ifp hc hp
      refine lv_aload_n hx hb d_law_law_572 rfl (lv_at hl 5 rfl) ?_
      refine lv_iconst (v := 0) hx hb d_law_law_573 (by decide) ?_
      refine x_lJ C hH d_law_law_574 hp (fun v6 hp => ?_)
      refine lv_iload hx hb d_law_law_575 (lv_at hl 0 rfl) ?_
      refine lv_i2l (v := v4.toInt64) hx hb d_law_law_577 rfl ?_
      refine W.lcmp hx hb d_law_law_578 ?_
      refine lv_if_eq (tgt := 584) hx hb d_law_law_579 (by decide) (fun hc => ?_) (fun hc => ?_)
      · replace hp := x_ifp hc hp
        exact w_law_law_584 C hr hnm hRf hRl hs43 l0 l1 l2 l3 l4 hp hH (lv_sub hl [2, 3, 4, 5, 6] rfl)
      · replace hp := x_ifn hc hp
        refine lv_iconst (v := 0) hx hb d_law_law_582 (by decide) ?_
        exact x_zret C hH hr d_law_law_583 hp
  · replace hp := x_ifn hc hp
    refine lv_iconst (v := 0) hx hb d_law_law_565 (by decide) ?_
    exact x_zret C hH hr d_law_law_566 hp
set_option maxHeartbeats 4000000 in
set_option maxRecDepth 100000 in
theorem w_law_law_528 {res : (Int32 ⊕ (Nat × Nat)) × xH} (C : x_C l s0 A0 D R_law code 8 [] p s m args meth c) (hr : meth.sig.returnType = (some .boolean)) (hnm : meth.name = "law") (hRf : 10 ≤ R.frames) (hRl : 259 ≤ R.locals) {k43 : Nat → Nat → Nat → Nat → Int32 → xM Int32} (hs43 : ∀ (l0 : Nat) (l1 : Nat) (l2 : Nat) (l3 : Nat) (l4 : Int32) (h : xH) (H : Heap) (locs : List Loc) (cells slots : Nat) (ls : Array Slot), k43 l0 l1 l2 l3 l4 h = some res → x_S s0 D R h H locs cells slots → lv_has ls 8 [(0, .ref l0), (1, .ref l1), (2, .ref l2), (3, .ref l3), (4, .int l4)] → W p l e R s m args below meth c H locs cells slots (x_Q s0 D below s R (x_oc vI res.1) res.2) (F0 m 43 ls [])) (l0 : Nat) (l1 : Nat) (l2 : Nat) (l3 : Nat) (l4 : Int32) (hp : f_law_law_b528 k43 l0 l1 l2 l3 l4 h = some res) (hH : x_S s0 D R h H locs cells slots) (hl : lv_has ls 8 [(0, .ref l0), (1, .ref l1), (2, .ref l2), (3, .ref l3), (4, .int l4)]) : W p l e R s m args below meth c H locs cells slots (x_Q s0 D below s R (x_oc vI res.1) res.2) (F0 m 528 ls []) := by
  obtain ⟨hx, hb, hown, hts, hK, hml, hW, Z, -⟩ := id C
  unfold f_law_law_b528 at hp
  refine lv_goto (tgt := 1621) hx hb d_law_law_528 (by decide) ?_
  exact w_law_law_1621 C hr hnm hRf hRl hs43 l0 l1 l2 l3 l4 hp hH (lv_sub hl [0, 1, 2, 3, 4] rfl)
set_option maxHeartbeats 4000000 in
set_option maxRecDepth 100000 in
theorem w_law_law_463 {res : (Int32 ⊕ (Nat × Nat)) × xH} (C : x_C l s0 A0 D R_law code 8 [] p s m args meth c) (hr : meth.sig.returnType = (some .boolean)) (hnm : meth.name = "law") (hRf : 10 ≤ R.frames) (hRl : 259 ≤ R.locals) {k43 : Nat → Nat → Nat → Nat → Int32 → xM Int32} (hs43 : ∀ (l0 : Nat) (l1 : Nat) (l2 : Nat) (l3 : Nat) (l4 : Int32) (h : xH) (H : Heap) (locs : List Loc) (cells slots : Nat) (ls : Array Slot), k43 l0 l1 l2 l3 l4 h = some res → x_S s0 D R h H locs cells slots → lv_has ls 8 [(0, .ref l0), (1, .ref l1), (2, .ref l2), (3, .ref l3), (4, .int l4)] → W p l e R s m args below meth c H locs cells slots (x_Q s0 D below s R (x_oc vI res.1) res.2) (F0 m 43 ls [])) (l0 : Nat) (l1 : Nat) (l2 : Nat) (l3 : Nat) (l4 : Int32) (hp : f_law_law_b463 k43 l0 l1 l2 l3 l4 h = some res) (hH : x_S s0 D R h H locs cells slots) (hl : lv_has ls 8 [(0, .ref l0), (1, .ref l1), (2, .ref l2), (3, .ref l3), (4, .int l4)]) : W p l e R s m args below meth c H locs cells slots (x_Q s0 D below s R (x_oc vI res.1) res.2) (F0 m 463 ls []) := by
  obtain ⟨hx, hb, hown, hts, hK, hml, hW, Z, -⟩ := id C
  unfold f_law_law_b463 at hp
  refine lv_aload_n hx hb d_law_law_463 rfl (lv_at hl 1 rfl) ?_
  refine lv_aload_n hx hb d_law_law_464 rfl (lv_at hl 0 rfl) ?_
  refine lv_iload hx hb d_law_law_465 (lv_at hl 4 rfl) ?_
  refine lv_iconst (v := 1) hx hb d_law_law_467 (by decide) ?_
  refine lv_iadd hx hb d_law_law_468 ?_
  refine x_lI C hH d_law_law_469 hp (fun v1 hp => ?_)
  refine lv_aload_n hx hb d_law_law_470 rfl (lv_at hl 0 rfl) ?_
  refine lv_iload hx hb d_law_law_471 (lv_at hl 4 rfl) ?_
  refine lv_iconst (v := 2) hx hb d_law_law_473 (by decide) ?_
  refine lv_iadd hx hb d_law_law_474 ?_
  refine x_lI C hH d_law_law_475 hp (fun v2 hp => ?_)
  refine lv_aload_n hx hb d_law_law_476 rfl (lv_at hl 3 rfl) ?_
  refine x_callSh (As := [.ref l1, .int v1, .int v2, .ref l3]) (rest := []) (cv := vI) C hH kc_law_111 d_law_law_477 hp (fun o h' e => m_law_speed Z e) rfl hl.1 (Nat.le_trans (Nat.le_of_ble_eq_true rfl) hRf) (Nat.le_trans (Nat.le_of_ble_eq_true rfl) hRl) (Nat.le_of_ble_eq_true rfl) (fun v3 h H locs cells slots hp hH => ?_)
  refine W.eq (g2 := F0 m 480 ls [.int v3]) rfl ?_
  refine lv_istore (lv' := [(5, .int v3), (0, .ref l0), (1, .ref l1), (2, .ref l2), (3, .ref l3), (4, .int l4)]) hx hb d_law_law_480 hl (by decide) rfl (fun ls hl => ?_)
  refine lv_aload_n hx hb d_law_law_482 rfl (lv_at hl 3 rfl) ?_
  refine lv_aload_n hx hb d_law_law_483 rfl (lv_at hl 1 rfl) ?_
  refine lv_iload hx hb d_law_law_484 (lv_at hl 5 rfl) ?_
  refine lv_iconst (v := 1) hx hb d_law_law_486 (by decide) ?_
  refine lv_iadd hx hb d_law_law_487 ?_
  refine x_lI C hH d_law_law_488 hp (fun v4 hp => ?_)
  refine lv_aload_n hx hb d_law_law_489 rfl (lv_at hl 1 rfl) ?_
  refine lv_iload hx hb d_law_law_490 (lv_at hl 5 rfl) ?_
  refine lv_iconst (v := 2) hx hb d_law_law_492 (by decide) ?_
  refine lv_iadd hx hb d_law_law_493 ?_
  refine x_lI C hH d_law_law_494 hp (fun v5 hp => ?_)
  refine x_callV (As := [.int v4, .int v5]) (rest := []) (cv := vI) C hH kc_law_113 d_law_law_495 hp (fun o h' e => m_Mdl_speed Z e) rfl hl.1 (Nat.le_trans (Nat.le_of_ble_eq_true rfl) hRf) (Nat.le_trans (Nat.le_of_ble_eq_true rfl) hRl) (Nat.le_of_ble_eq_true rfl) (fun v6 h H locs cells slots hp hH => ?_)
  refine W.eq (g2 := F0 m 498 ls [.int v6]) rfl ?_
  refine lv_istore (lv' := [(6, .int v6), (5, .int v3), (0, .ref l0), (1, .ref l1), (2, .ref l2), (3, .ref l3), (4, .int l4)]) hx hb d_law_law_498 hl (by decide) rfl (fun ls hl => ?_)
  refine lv_aload_n hx hb d_law_law_500 rfl (lv_at hl 4 rfl) ?_
  refine x_callV (As := []) (rest := []) (cv := vI) C hH kc_law_97 d_law_law_501 hp (fun o h' e => m_Mdl_thrown Z e) rfl hl.1 (Nat.le_trans (Nat.le_of_ble_eq_true rfl) hRf) (Nat.le_trans (Nat.le_of_ble_eq_true rfl) hRl) (Nat.le_of_ble_eq_true rfl) (fun v7 h H locs cells slots hp hH => ?_)
  refine W.eq (g2 := F0 m 504 ls [.int v7]) rfl ?_
  refine lv_iload hx hb d_law_law_504 (lv_at hl 1 rfl) ?_
  refine lv_icmp_eq (tgt := 511) hx hb d_law_law_506 (by decide) (fun hc => ?_) (fun hc => ?_)
  · replace hp := x_ifp hc hp
    refine lv_iload hx hb d_law_law_511 (lv_at hl 1 rfl) ?_
    refine lv_if_ne (tgt := 528) hx hb d_law_law_513 (by decide) (fun hc => ?_) (fun hc => ?_)
    · replace hp := x_ifn hc hp
      exact w_law_law_528 C hr hnm hRf hRl hs43 l0 l1 l2 l3 l4 hp hH (lv_sub hl [2, 3, 4, 5, 6] rfl)
    · replace hp := x_ifp hc hp
      refine lv_aload_n hx hb d_law_law_516 rfl (lv_at hl 5 rfl) ?_
      refine lv_iconst (v := 0) hx hb d_law_law_517 (by decide) ?_
      refine x_lJ C hH d_law_law_518 hp (fun v8 hp => ?_)
      refine lv_iload hx hb d_law_law_519 (lv_at hl 0 rfl) ?_
      refine lv_i2l (v := v6.toInt64) hx hb d_law_law_521 rfl ?_
      refine W.lcmp hx hb d_law_law_522 ?_
      refine lv_if_eq (tgt := 528) hx hb d_law_law_523 (by decide) (fun hc => ?_) (fun hc => ?_)
      · replace hp := x_ifp hc hp
        exact w_law_law_528 C hr hnm hRf hRl hs43 l0 l1 l2 l3 l4 hp hH (lv_sub hl [2, 3, 4, 5, 6] rfl)
      · replace hp := x_ifn hc hp
        refine lv_iconst (v := 0) hx hb d_law_law_526 (by decide) ?_
        exact x_zret C hH hr d_law_law_527 hp
  · replace hp := x_ifn hc hp
    refine lv_iconst (v := 0) hx hb d_law_law_509 (by decide) ?_
    exact x_zret C hH hr d_law_law_510 hp
set_option maxHeartbeats 4000000 in
set_option maxRecDepth 100000 in
theorem w_law_law_460 {res : (Int32 ⊕ (Nat × Nat)) × xH} (C : x_C l s0 A0 D R_law code 8 [] p s m args meth c) (hr : meth.sig.returnType = (some .boolean)) (hnm : meth.name = "law") (hRf : 10 ≤ R.frames) (hRl : 259 ≤ R.locals) {k43 : Nat → Nat → Nat → Nat → Int32 → xM Int32} (hs43 : ∀ (l0 : Nat) (l1 : Nat) (l2 : Nat) (l3 : Nat) (l4 : Int32) (h : xH) (H : Heap) (locs : List Loc) (cells slots : Nat) (ls : Array Slot), k43 l0 l1 l2 l3 l4 h = some res → x_S s0 D R h H locs cells slots → lv_has ls 8 [(0, .ref l0), (1, .ref l1), (2, .ref l2), (3, .ref l3), (4, .int l4)] → W p l e R s m args below meth c H locs cells slots (x_Q s0 D below s R (x_oc vI res.1) res.2) (F0 m 43 ls [])) (l0 : Nat) (l1 : Nat) (l2 : Nat) (l3 : Nat) (l4 : Int32) (hp : f_law_law_b460 k43 l0 l1 l2 l3 l4 h = some res) (hH : x_S s0 D R h H locs cells slots) (hl : lv_has ls 8 [(0, .ref l0), (1, .ref l1), (2, .ref l2), (3, .ref l3), (4, .int l4)]) : W p l e R s m args below meth c H locs cells slots (x_Q s0 D below s R (x_oc vI res.1) res.2) (F0 m 460 ls []) := by
  obtain ⟨hx, hb, hown, hts, hK, hml, hW, Z, -⟩ := id C
  unfold f_law_law_b460 at hp
  refine lv_goto (tgt := 1621) hx hb d_law_law_460 (by decide) ?_
  exact w_law_law_1621 C hr hnm hRf hRl hs43 l0 l1 l2 l3 l4 hp hH (lv_sub hl [0, 1, 2, 3, 4] rfl)
set_option maxHeartbeats 4000000 in
set_option maxRecDepth 100000 in
theorem w_law_law_395 {res : (Int32 ⊕ (Nat × Nat)) × xH} (C : x_C l s0 A0 D R_law code 8 [] p s m args meth c) (hr : meth.sig.returnType = (some .boolean)) (hnm : meth.name = "law") (hRf : 10 ≤ R.frames) (hRl : 259 ≤ R.locals) {k43 : Nat → Nat → Nat → Nat → Int32 → xM Int32} (hs43 : ∀ (l0 : Nat) (l1 : Nat) (l2 : Nat) (l3 : Nat) (l4 : Int32) (h : xH) (H : Heap) (locs : List Loc) (cells slots : Nat) (ls : Array Slot), k43 l0 l1 l2 l3 l4 h = some res → x_S s0 D R h H locs cells slots → lv_has ls 8 [(0, .ref l0), (1, .ref l1), (2, .ref l2), (3, .ref l3), (4, .int l4)] → W p l e R s m args below meth c H locs cells slots (x_Q s0 D below s R (x_oc vI res.1) res.2) (F0 m 43 ls [])) (l0 : Nat) (l1 : Nat) (l2 : Nat) (l3 : Nat) (l4 : Int32) (hp : f_law_law_b395 k43 l0 l1 l2 l3 l4 h = some res) (hH : x_S s0 D R h H locs cells slots) (hl : lv_has ls 8 [(0, .ref l0), (1, .ref l1), (2, .ref l2), (3, .ref l3), (4, .int l4)]) : W p l e R s m args below meth c H locs cells slots (x_Q s0 D below s R (x_oc vI res.1) res.2) (F0 m 395 ls []) := by
  obtain ⟨hx, hb, hown, hts, hK, hml, hW, Z, -⟩ := id C
  unfold f_law_law_b395 at hp
  refine lv_aload_n hx hb d_law_law_395 rfl (lv_at hl 1 rfl) ?_
  refine lv_aload_n hx hb d_law_law_396 rfl (lv_at hl 0 rfl) ?_
  refine lv_iload hx hb d_law_law_397 (lv_at hl 4 rfl) ?_
  refine lv_iconst (v := 1) hx hb d_law_law_399 (by decide) ?_
  refine lv_iadd hx hb d_law_law_400 ?_
  refine x_lI C hH d_law_law_401 hp (fun v1 hp => ?_)
  refine lv_aload_n hx hb d_law_law_402 rfl (lv_at hl 0 rfl) ?_
  refine lv_iload hx hb d_law_law_403 (lv_at hl 4 rfl) ?_
  refine lv_iconst (v := 2) hx hb d_law_law_405 (by decide) ?_
  refine lv_iadd hx hb d_law_law_406 ?_
  refine x_lI C hH d_law_law_407 hp (fun v2 hp => ?_)
  refine lv_aload_n hx hb d_law_law_408 rfl (lv_at hl 3 rfl) ?_
  refine x_callSh (As := [.ref l1, .int v1, .int v2, .ref l3]) (rest := []) (cv := vI) C hH kc_law_108 d_law_law_409 hp (fun o h' e => m_law_step Z e) rfl hl.1 (Nat.le_trans (Nat.le_of_ble_eq_true rfl) hRf) (Nat.le_trans (Nat.le_of_ble_eq_true rfl) hRl) (Nat.le_of_ble_eq_true rfl) (fun v3 h H locs cells slots hp hH => ?_)
  refine W.eq (g2 := F0 m 412 ls [.int v3]) rfl ?_
  refine lv_istore (lv' := [(5, .int v3), (0, .ref l0), (1, .ref l1), (2, .ref l2), (3, .ref l3), (4, .int l4)]) hx hb d_law_law_412 hl (by decide) rfl (fun ls hl => ?_)
  refine lv_aload_n hx hb d_law_law_414 rfl (lv_at hl 3 rfl) ?_
  refine lv_aload_n hx hb d_law_law_415 rfl (lv_at hl 1 rfl) ?_
  refine lv_iload hx hb d_law_law_416 (lv_at hl 5 rfl) ?_
  refine lv_iconst (v := 1) hx hb d_law_law_418 (by decide) ?_
  refine lv_iadd hx hb d_law_law_419 ?_
  refine x_lI C hH d_law_law_420 hp (fun v4 hp => ?_)
  refine lv_aload_n hx hb d_law_law_421 rfl (lv_at hl 1 rfl) ?_
  refine lv_iload hx hb d_law_law_422 (lv_at hl 5 rfl) ?_
  refine lv_iconst (v := 2) hx hb d_law_law_424 (by decide) ?_
  refine lv_iadd hx hb d_law_law_425 ?_
  refine x_lI C hH d_law_law_426 hp (fun v5 hp => ?_)
  refine x_callV (As := [.int v4, .int v5]) (rest := []) (cv := vI) C hH kc_law_110 d_law_law_427 hp (fun o h' e => m_Mdl_step Z e) rfl hl.1 (Nat.le_trans (Nat.le_of_ble_eq_true rfl) hRf) (Nat.le_trans (Nat.le_of_ble_eq_true rfl) hRl) (Nat.le_of_ble_eq_true rfl) (fun v6 h H locs cells slots hp hH => ?_)
  refine W.eq (g2 := F0 m 430 ls [.int v6]) rfl ?_
  refine lv_istore (lv' := [(6, .int v6), (5, .int v3), (0, .ref l0), (1, .ref l1), (2, .ref l2), (3, .ref l3), (4, .int l4)]) hx hb d_law_law_430 hl (by decide) rfl (fun ls hl => ?_)
  refine lv_aload_n hx hb d_law_law_432 rfl (lv_at hl 4 rfl) ?_
  refine x_callV (As := []) (rest := []) (cv := vI) C hH kc_law_97 d_law_law_433 hp (fun o h' e => m_Mdl_thrown Z e) rfl hl.1 (Nat.le_trans (Nat.le_of_ble_eq_true rfl) hRf) (Nat.le_trans (Nat.le_of_ble_eq_true rfl) hRl) (Nat.le_of_ble_eq_true rfl) (fun v7 h H locs cells slots hp hH => ?_)
  refine W.eq (g2 := F0 m 436 ls [.int v7]) rfl ?_
  refine lv_iload hx hb d_law_law_436 (lv_at hl 1 rfl) ?_
  refine lv_icmp_eq (tgt := 443) hx hb d_law_law_438 (by decide) (fun hc => ?_) (fun hc => ?_)
  · replace hp := x_ifp hc hp
    refine lv_iload hx hb d_law_law_443 (lv_at hl 1 rfl) ?_
    refine lv_if_ne (tgt := 460) hx hb d_law_law_445 (by decide) (fun hc => ?_) (fun hc => ?_)
    · replace hp := x_ifn hc hp
      exact w_law_law_460 C hr hnm hRf hRl hs43 l0 l1 l2 l3 l4 hp hH (lv_sub hl [2, 3, 4, 5, 6] rfl)
    · replace hp := x_ifp hc hp
      refine lv_aload_n hx hb d_law_law_448 rfl (lv_at hl 5 rfl) ?_
      refine lv_iconst (v := 0) hx hb d_law_law_449 (by decide) ?_
      refine x_lJ C hH d_law_law_450 hp (fun v8 hp => ?_)
      refine lv_iload hx hb d_law_law_451 (lv_at hl 0 rfl) ?_
      refine lv_i2l (v := v6.toInt64) hx hb d_law_law_453 rfl ?_
      refine W.lcmp hx hb d_law_law_454 ?_
      refine lv_if_eq (tgt := 460) hx hb d_law_law_455 (by decide) (fun hc => ?_) (fun hc => ?_)
      · replace hp := x_ifp hc hp
        exact w_law_law_460 C hr hnm hRf hRl hs43 l0 l1 l2 l3 l4 hp hH (lv_sub hl [2, 3, 4, 5, 6] rfl)
      · replace hp := x_ifn hc hp
        refine lv_iconst (v := 0) hx hb d_law_law_458 (by decide) ?_
        exact x_zret C hH hr d_law_law_459 hp
  · replace hp := x_ifn hc hp
    refine lv_iconst (v := 0) hx hb d_law_law_441 (by decide) ?_
    exact x_zret C hH hr d_law_law_442 hp
set_option maxHeartbeats 4000000 in
set_option maxRecDepth 100000 in
theorem w_law_law_392 {res : (Int32 ⊕ (Nat × Nat)) × xH} (C : x_C l s0 A0 D R_law code 8 [] p s m args meth c) (hr : meth.sig.returnType = (some .boolean)) (hnm : meth.name = "law") (hRf : 10 ≤ R.frames) (hRl : 259 ≤ R.locals) {k43 : Nat → Nat → Nat → Nat → Int32 → xM Int32} (hs43 : ∀ (l0 : Nat) (l1 : Nat) (l2 : Nat) (l3 : Nat) (l4 : Int32) (h : xH) (H : Heap) (locs : List Loc) (cells slots : Nat) (ls : Array Slot), k43 l0 l1 l2 l3 l4 h = some res → x_S s0 D R h H locs cells slots → lv_has ls 8 [(0, .ref l0), (1, .ref l1), (2, .ref l2), (3, .ref l3), (4, .int l4)] → W p l e R s m args below meth c H locs cells slots (x_Q s0 D below s R (x_oc vI res.1) res.2) (F0 m 43 ls [])) (l0 : Nat) (l1 : Nat) (l2 : Nat) (l3 : Nat) (l4 : Int32) (hp : f_law_law_b392 k43 l0 l1 l2 l3 l4 h = some res) (hH : x_S s0 D R h H locs cells slots) (hl : lv_has ls 8 [(0, .ref l0), (1, .ref l1), (2, .ref l2), (3, .ref l3), (4, .int l4)]) : W p l e R s m args below meth c H locs cells slots (x_Q s0 D below s R (x_oc vI res.1) res.2) (F0 m 392 ls []) := by
  obtain ⟨hx, hb, hown, hts, hK, hml, hW, Z, -⟩ := id C
  unfold f_law_law_b392 at hp
  refine lv_goto (tgt := 1621) hx hb d_law_law_392 (by decide) ?_
  exact w_law_law_1621 C hr hnm hRf hRl hs43 l0 l1 l2 l3 l4 hp hH (lv_sub hl [0, 1, 2, 3, 4] rfl)
set_option maxHeartbeats 4000000 in
set_option maxRecDepth 100000 in
theorem w_law_law_292 {res : (Int32 ⊕ (Nat × Nat)) × xH} (C : x_C l s0 A0 D R_law code 8 [] p s m args meth c) (hr : meth.sig.returnType = (some .boolean)) (hnm : meth.name = "law") (hRf : 10 ≤ R.frames) (hRl : 259 ≤ R.locals) {k43 : Nat → Nat → Nat → Nat → Int32 → xM Int32} (hs43 : ∀ (l0 : Nat) (l1 : Nat) (l2 : Nat) (l3 : Nat) (l4 : Int32) (h : xH) (H : Heap) (locs : List Loc) (cells slots : Nat) (ls : Array Slot), k43 l0 l1 l2 l3 l4 h = some res → x_S s0 D R h H locs cells slots → lv_has ls 8 [(0, .ref l0), (1, .ref l1), (2, .ref l2), (3, .ref l3), (4, .int l4)] → W p l e R s m args below meth c H locs cells slots (x_Q s0 D below s R (x_oc vI res.1) res.2) (F0 m 43 ls [])) (l0 : Nat) (l1 : Nat) (l2 : Nat) (l3 : Nat) (l4 : Int32) (hp : f_law_law_b292 k43 l0 l1 l2 l3 l4 h = some res) (hH : x_S s0 D R h H locs cells slots) (hl : lv_has ls 8 [(0, .ref l0), (1, .ref l1), (2, .ref l2), (3, .ref l3), (4, .int l4)]) : W p l e R s m args below meth c H locs cells slots (x_Q s0 D below s R (x_oc vI res.1) res.2) (F0 m 292 ls []) := by
  obtain ⟨hx, hb, hown, hts, hK, hml, hW, Z, -⟩ := id C
  unfold f_law_law_b292 at hp
  refine lv_aload_n hx hb d_law_law_292 rfl (lv_at hl 1 rfl) ?_
  refine lv_aload_n hx hb d_law_law_293 rfl (lv_at hl 0 rfl) ?_
  refine lv_iload hx hb d_law_law_294 (lv_at hl 4 rfl) ?_
  refine lv_iconst (v := 1) hx hb d_law_law_296 (by decide) ?_
  refine lv_iadd hx hb d_law_law_297 ?_
  refine x_lI C hH d_law_law_298 hp (fun v1 hp => ?_)
  refine lv_aload_n hx hb d_law_law_299 rfl (lv_at hl 0 rfl) ?_
  refine lv_iload hx hb d_law_law_300 (lv_at hl 4 rfl) ?_
  refine lv_iconst (v := 2) hx hb d_law_law_302 (by decide) ?_
  refine lv_iadd hx hb d_law_law_303 ?_
  refine x_lI C hH d_law_law_304 hp (fun v2 hp => ?_)
  refine lv_aload_n hx hb d_law_law_305 rfl (lv_at hl 0 rfl) ?_
  refine lv_iload hx hb d_law_law_306 (lv_at hl 4 rfl) ?_
  refine lv_iconst (v := 3) hx hb d_law_law_308 (by decide) ?_
  refine lv_iadd hx hb d_law_law_309 ?_
  refine x_lI C hH d_law_law_310 hp (fun v3 hp => ?_)
  refine lv_aload_n hx hb d_law_law_311 rfl (lv_at hl 0 rfl) ?_
  refine lv_iload hx hb d_law_law_312 (lv_at hl 4 rfl) ?_
  refine lv_iconst (v := 4) hx hb d_law_law_314 (by decide) ?_
  refine lv_iadd hx hb d_law_law_315 ?_
  refine x_lI C hH d_law_law_316 hp (fun v4 hp => ?_)
  refine lv_aload_n hx hb d_law_law_317 rfl (lv_at hl 0 rfl) ?_
  refine lv_iload hx hb d_law_law_318 (lv_at hl 4 rfl) ?_
  refine lv_iconst (v := 5) hx hb d_law_law_320 (by decide) ?_
  refine lv_iadd hx hb d_law_law_321 ?_
  refine x_lI C hH d_law_law_322 hp (fun v5 hp => ?_)
  refine lv_aload_n hx hb d_law_law_323 rfl (lv_at hl 3 rfl) ?_
  refine x_callSh (As := [.ref l1, .int v1, .int v2, .int v3, .int v4, .int v5, .ref l3]) (rest := []) (cv := vI) C hH kc_law_104 d_law_law_324 hp (fun o h' e => m_law_command Z e) rfl hl.1 (Nat.le_trans (Nat.le_of_ble_eq_true rfl) hRf) (Nat.le_trans (Nat.le_of_ble_eq_true rfl) hRl) (Nat.le_of_ble_eq_true rfl) (fun v6 h H locs cells slots hp hH => ?_)
  refine W.eq (g2 := F0 m 327 ls [.int v6]) rfl ?_
  refine lv_istore (lv' := [(5, .int v6), (0, .ref l0), (1, .ref l1), (2, .ref l2), (3, .ref l3), (4, .int l4)]) hx hb d_law_law_327 hl (by decide) rfl (fun ls hl => ?_)
  refine lv_aload_n hx hb d_law_law_329 rfl (lv_at hl 3 rfl) ?_
  refine lv_aload_n hx hb d_law_law_330 rfl (lv_at hl 1 rfl) ?_
  refine lv_iload hx hb d_law_law_331 (lv_at hl 5 rfl) ?_
  refine lv_iconst (v := 1) hx hb d_law_law_333 (by decide) ?_
  refine lv_iadd hx hb d_law_law_334 ?_
  refine x_lI C hH d_law_law_335 hp (fun v7 hp => ?_)
  refine lv_aload_n hx hb d_law_law_336 rfl (lv_at hl 1 rfl) ?_
  refine lv_iload hx hb d_law_law_337 (lv_at hl 5 rfl) ?_
  refine lv_iconst (v := 2) hx hb d_law_law_339 (by decide) ?_
  refine lv_iadd hx hb d_law_law_340 ?_
  refine x_lI C hH d_law_law_341 hp (fun v8 hp => ?_)
  refine lv_aload_n hx hb d_law_law_342 rfl (lv_at hl 1 rfl) ?_
  refine lv_iload hx hb d_law_law_343 (lv_at hl 5 rfl) ?_
  refine lv_iconst (v := 3) hx hb d_law_law_345 (by decide) ?_
  refine lv_iadd hx hb d_law_law_346 ?_
  refine x_lI C hH d_law_law_347 hp (fun v9 hp => ?_)
  refine lv_aload_n hx hb d_law_law_348 rfl (lv_at hl 1 rfl) ?_
  refine lv_iload hx hb d_law_law_349 (lv_at hl 5 rfl) ?_
  refine lv_iconst (v := 4) hx hb d_law_law_351 (by decide) ?_
  refine lv_iadd hx hb d_law_law_352 ?_
  refine x_lI C hH d_law_law_353 hp (fun v10 hp => ?_)
  refine lv_aload_n hx hb d_law_law_354 rfl (lv_at hl 1 rfl) ?_
  refine lv_iload hx hb d_law_law_355 (lv_at hl 5 rfl) ?_
  refine lv_iconst (v := 5) hx hb d_law_law_357 (by decide) ?_
  refine lv_iadd hx hb d_law_law_358 ?_
  refine x_lI C hH d_law_law_359 hp (fun v11 hp => ?_)
  refine x_callV (As := [.int v7, .int v8, .int v9, .int v10, .int v11]) (rest := []) (cv := vJ) C hH kc_law_107 d_law_law_360 hp (fun o h' e => m_Mdl_command Z e) rfl hl.1 (Nat.le_trans (Nat.le_of_ble_eq_true rfl) hRf) (Nat.le_trans (Nat.le_of_ble_eq_true rfl) hRl) (Nat.le_of_ble_eq_true rfl) (fun v12 h H locs cells slots hp hH => ?_)
  refine W.eq (g2 := F0 m 363 ls [.long v12]) rfl ?_
  refine lv_lstore (lv' := [(6, .long v12), (5, .int v6), (0, .ref l0), (1, .ref l1), (2, .ref l2), (3, .ref l3), (4, .int l4)]) hx hb d_law_law_363 hl (by decide) rfl (fun ls hl => ?_)
  refine lv_aload_n hx hb d_law_law_365 rfl (lv_at hl 4 rfl) ?_
  refine x_callV (As := []) (rest := []) (cv := vI) C hH kc_law_97 d_law_law_366 hp (fun o h' e => m_Mdl_thrown Z e) rfl hl.1 (Nat.le_trans (Nat.le_of_ble_eq_true rfl) hRf) (Nat.le_trans (Nat.le_of_ble_eq_true rfl) hRl) (Nat.le_of_ble_eq_true rfl) (fun v13 h H locs cells slots hp hH => ?_)
  refine W.eq (g2 := F0 m 369 ls [.int v13]) rfl ?_
  refine lv_iload hx hb d_law_law_369 (lv_at hl 1 rfl) ?_
  refine lv_icmp_eq (tgt := 376) hx hb d_law_law_371 (by decide) (fun hc => ?_) (fun hc => ?_)
  · replace hp := x_ifp hc hp
    refine lv_iload hx hb d_law_law_376 (lv_at hl 1 rfl) ?_
    refine lv_if_ne (tgt := 392) hx hb d_law_law_378 (by decide) (fun hc => ?_) (fun hc => ?_)
    · replace hp := x_ifn hc hp
      exact w_law_law_392 C hr hnm hRf hRl hs43 l0 l1 l2 l3 l4 hp hH (lv_sub hl [2, 3, 4, 5, 6] rfl)
    · replace hp := x_ifp hc hp
      refine lv_aload_n hx hb d_law_law_381 rfl (lv_at hl 5 rfl) ?_
      refine lv_iconst (v := 0) hx hb d_law_law_382 (by decide) ?_
      refine x_lJ C hH d_law_law_383 hp (fun v14 hp => ?_)
      refine lv_lload hx hb d_law_law_384 (lv_at hl 0 rfl) ?_
      refine W.lcmp hx hb d_law_law_386 ?_
      refine lv_if_eq (tgt := 392) hx hb d_law_law_387 (by decide) (fun hc => ?_) (fun hc => ?_)
      · replace hp := x_ifp hc hp
        exact w_law_law_392 C hr hnm hRf hRl hs43 l0 l1 l2 l3 l4 hp hH (lv_sub hl [2, 3, 4, 5, 6] rfl)
      · replace hp := x_ifn hc hp
        refine lv_iconst (v := 0) hx hb d_law_law_390 (by decide) ?_
        exact x_zret C hH hr d_law_law_391 hp
  · replace hp := x_ifn hc hp
    refine lv_iconst (v := 0) hx hb d_law_law_374 (by decide) ?_
    exact x_zret C hH hr d_law_law_375 hp
set_option maxHeartbeats 4000000 in
set_option maxRecDepth 100000 in
theorem w_law_law_289 {res : (Int32 ⊕ (Nat × Nat)) × xH} (C : x_C l s0 A0 D R_law code 8 [] p s m args meth c) (hr : meth.sig.returnType = (some .boolean)) (hnm : meth.name = "law") (hRf : 10 ≤ R.frames) (hRl : 259 ≤ R.locals) {k43 : Nat → Nat → Nat → Nat → Int32 → xM Int32} (hs43 : ∀ (l0 : Nat) (l1 : Nat) (l2 : Nat) (l3 : Nat) (l4 : Int32) (h : xH) (H : Heap) (locs : List Loc) (cells slots : Nat) (ls : Array Slot), k43 l0 l1 l2 l3 l4 h = some res → x_S s0 D R h H locs cells slots → lv_has ls 8 [(0, .ref l0), (1, .ref l1), (2, .ref l2), (3, .ref l3), (4, .int l4)] → W p l e R s m args below meth c H locs cells slots (x_Q s0 D below s R (x_oc vI res.1) res.2) (F0 m 43 ls [])) (l0 : Nat) (l1 : Nat) (l2 : Nat) (l3 : Nat) (l4 : Int32) (hp : f_law_law_b289 k43 l0 l1 l2 l3 l4 h = some res) (hH : x_S s0 D R h H locs cells slots) (hl : lv_has ls 8 [(0, .ref l0), (1, .ref l1), (2, .ref l2), (3, .ref l3), (4, .int l4)]) : W p l e R s m args below meth c H locs cells slots (x_Q s0 D below s R (x_oc vI res.1) res.2) (F0 m 289 ls []) := by
  obtain ⟨hx, hb, hown, hts, hK, hml, hW, Z, -⟩ := id C
  unfold f_law_law_b289 at hp
  refine lv_goto (tgt := 1621) hx hb d_law_law_289 (by decide) ?_
  exact w_law_law_1621 C hr hnm hRf hRl hs43 l0 l1 l2 l3 l4 hp hH (lv_sub hl [0, 1, 2, 3, 4] rfl)
end GEN
