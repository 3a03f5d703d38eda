section GEN
variable {p : Program} {l : Launch} {e : Env} {R : Room} {s : State} {m : MethodId} {args : Array Value} {below : List Frame} {meth : Method} {c : Code} {H : Heap} {locs : List Loc} {cells slots : Nat} {ls : Array Slot} {D : xD} {s0 : State} {A0 : Array Value} {h : xH}
set_option maxHeartbeats 4000000 in
set_option maxRecDepth 100000 in
theorem w_law_law_731 {res : (Int32 ⊕ (Nat × Nat)) × xH} (C : x_C l s0 A0 D R_law code 8 [] p s m args meth c) (hr : meth.sig.returnType = (some .boolean)) (hnm : meth.name = "law") (hRf : 10 ≤ R.frames) (hRl : 259 ≤ R.locals) {k43 : Nat → Nat → Nat → Nat → Int32 → xM Int32} (hs43 : ∀ (l0 : Nat) (l1 : Nat) (l2 : Nat) (l3 : Nat) (l4 : Int32) (h : xH) (H : Heap) (locs : List Loc) (cells slots : Nat) (ls : Array Slot), k43 l0 l1 l2 l3 l4 h = some res → x_S s0 D R h H locs cells slots → lv_has ls 8 [(0, .ref l0), (1, .ref l1), (2, .ref l2), (3, .ref l3), (4, .int l4)] → W p l e R s m args below meth c H locs cells slots (x_Q s0 D below s R (x_oc vI res.1) res.2) (F0 m 43 ls [])) (l0 : Nat) (l1 : Nat) (l2 : Nat) (l3 : Nat) (l4 : Int32) (hp : f_law_law_b731 k43 l0 l1 l2 l3 l4 h = some res) (hH : x_S s0 D R h H locs cells slots) (hl : lv_has ls 8 [(0, .ref l0), (1, .ref l1), (2, .ref l2), (3, .ref l3), (4, .int l4)]) : W p l e R s m args below meth c H locs cells slots (x_Q s0 D below s R (x_oc vI res.1) res.2) (F0 m 731 ls []) := by
  obtain ⟨hx, hb, hown, hts, hK, hml, hW, Z, -⟩ := id C
  unfold f_law_law_b731 at hp
  refine lv_goto (tgt := 1621) hx hb d_law_law_731 (by decide) ?_
  exact w_law_law_1621 C hr hnm hRf hRl hs43 l0 l1 l2 l3 l4 hp hH (lv_sub hl [0, 1, 2, 3, 4] rfl)
set_option maxHeartbeats 4000000 in
set_option maxRecDepth 100000 in
theorem w_law_law_678 {res : (Int32 ⊕ (Nat × Nat)) × xH} (C : x_C l s0 A0 D R_law code 8 [] p s m args meth c) (hr : meth.sig.returnType = (some .boolean)) (hnm : meth.name = "law") (hRf : 10 ≤ R.frames) (hRl : 259 ≤ R.locals) {k43 : Nat → Nat → Nat → Nat → Int32 → xM Int32} (hs43 : ∀ (l0 : Nat) (l1 : Nat) (l2 : Nat) (l3 : Nat) (l4 : Int32) (h : xH) (H : Heap) (locs : List Loc) (cells slots : Nat) (ls : Array Slot), k43 l0 l1 l2 l3 l4 h = some res → x_S s0 D R h H locs cells slots → lv_has ls 8 [(0, .ref l0), (1, .ref l1), (2, .ref l2), (3, .ref l3), (4, .int l4)] → W p l e R s m args below meth c H locs cells slots (x_Q s0 D below s R (x_oc vI res.1) res.2) (F0 m 43 ls [])) (l0 : Nat) (l1 : Nat) (l2 : Nat) (l3 : Nat) (l4 : Int32) (hp : f_law_law_b678 k43 l0 l1 l2 l3 l4 h = some res) (hH : x_S s0 D R h H locs cells slots) (hl : lv_has ls 8 [(0, .ref l0), (1, .ref l1), (2, .ref l2), (3, .ref l3), (4, .int l4)]) : W p l e R s m args below meth c H locs cells slots (x_Q s0 D below s R (x_oc vI res.1) res.2) (F0 m 678 ls []) := by
  obtain ⟨hx, hb, hown, hts, hK, hml, hW, Z, -⟩ := id C
  unfold f_law_law_b678 at hp
  refine lv_aload_n hx hb d_law_law_678 rfl (lv_at hl 1 rfl) ?_
  refine lv_aload_n hx hb d_law_law_679 rfl (lv_at hl 0 rfl) ?_
  refine lv_iload hx hb d_law_law_680 (lv_at hl 4 rfl) ?_
  refine lv_iconst (v := 1) hx hb d_law_law_682 (by decide) ?_
  refine lv_iadd hx hb d_law_law_683 ?_
  refine x_lI C hH d_law_law_684 hp (fun v1 hp => ?_)
  refine lv_aload_n hx hb d_law_law_685 rfl (lv_at hl 3 rfl) ?_
  refine x_callSh (As := [.ref l1, .int v1, .ref l3]) (rest := []) (cv := vI) C hH kc_law_122 d_law_law_686 hp (fun o h' e => m_law_snapshot Z e) rfl hl.1 (Nat.le_trans (Nat.le_of_ble_eq_true rfl) hRf) (Nat.le_trans (Nat.le_of_ble_eq_true rfl) hRl) (Nat.le_of_ble_eq_true rfl) (fun v2 h H locs cells slots hp hH => ?_)
  refine W.eq (g2 := F0 m 689 ls [.int v2]) rfl ?_
  refine lv_istore (lv' := [(5, .int v2), (0, .ref l0), (1, .ref l1), (2, .ref l2), (3, .ref l3), (4, .int l4)]) hx hb d_law_law_689 hl (by decide) rfl (fun ls hl => ?_)
  refine lv_aload_n hx hb d_law_law_691 rfl (lv_at hl 3 rfl) ?_
  refine lv_aload_n hx hb d_law_law_692 rfl (lv_at hl 1 rfl) ?_
  refine lv_iload hx hb d_law_law_693 (lv_at hl 5 rfl) ?_
  refine lv_iconst (v := 1) hx hb d_law_law_695 (by decide) ?_
  refine lv_iadd hx hb d_law_law_696 ?_
  refine x_lI C hH d_law_law_697 hp (fun v3 hp => ?_)
  refine x_callV (As := [.int v3]) (rest := []) (cv := vI) C hH kc_law_124 d_law_law_698 hp (fun o h' e => m_Mdl_snapshot Z e) rfl hl.1 (Nat.le_trans (Nat.le_of_ble_eq_true rfl) hRf) (Nat.le_trans (Nat.le_of_ble_eq_true rfl) hRl) (Nat.le_of_ble_eq_true rfl) (fun v4 h H locs cells slots hp hH => ?_)
  refine W.eq (g2 := F0 m 701 ls [.int v4]) rfl ?_
  refine lv_istore (lv' := [(6, .int v4), (5, .int v2), (0, .ref l0), (1, .ref l1), (2, .ref l2), (3, .ref l3), (4, .int l4)]) hx hb d_law_law_701 hl (by decide) rfl (fun ls hl => ?_)
  refine lv_aload_n hx hb d_law_law_703 rfl (lv_at hl 4 rfl) ?_
  refine x_callV (As := []) (rest := []) (cv := vI) C hH kc_law_97 d_law_law_704 hp (fun o h' e => m_Mdl_thrown Z e) rfl hl.1 (Nat.le_trans (Nat.le_of_ble_eq_true rfl) hRf) (Nat.le_trans (Nat.le_of_ble_eq_true rfl) hRl) (Nat.le_of_ble_eq_true rfl) (fun v5 h H locs cells slots hp hH => ?_)
  refine W.eq (g2 := F0 m 707 ls [.int v5]) rfl ?_
  refine lv_iload hx hb d_law_law_707 (lv_at hl 1 rfl) ?_
  refine lv_icmp_eq (tgt := 714) hx hb d_law_law_709 (by decide) (fun hc => ?_) (fun hc => ?_)
  · replace hp := x_ifp hc hp
    refine lv_iload hx hb d_law_law_714 (lv_at hl 1 rfl) ?_
    refine lv_if_ne (tgt := 731) hx hb d_law_law_716 (by decide) (fun hc => ?_) (fun hc => ?_)
    · replace hp := x_ifn hc hp
      exact w_law_law_731 C hr hnm hRf hRl hs43 l0 l1 l2 l3 l4 hp hH (lv_sub hl [2, 3, 4, 5, 6] rfl)
    · replace hp := x_ifp hc hp
      refine lv_aload_n hx hb d_law_law_719 rfl (lv_at hl 5 rfl) ?_
      refine lv_iconst (v := 0) hx hb d_law_law_720 (by decide) ?_
      refine x_lJ C hH d_law_law_721 hp (fun v6 hp => ?_)
      refine lv_iload hx hb d_law_law_722 (lv_at hl 0 rfl) ?_
      refine lv_i2l (v := v4.toInt64) hx hb d_law_law_724 rfl ?_
      refine W.lcmp hx hb d_law_law_725 ?_
      refine lv_if_eq (tgt := 731) hx hb d_law_law_726 (by decide) (fun hc => ?_) (fun hc => ?_)
      · replace hp := x_ifp hc hp
        exact w_law_law_731 C hr hnm hRf hRl hs43 l0 l1 l2 l3 l4 hp hH (lv_sub hl [2, 3, 4, 5, 6] rfl)
      · replace hp := x_ifn hc hp
        refine lv_iconst (v := 0) hx hb d_law_law_729 (by decide) ?_
        exact x_zret C hH hr d_law_law_730 hp
  · replace hp := x_ifn hc hp
    refine lv_iconst (v := 0) hx hb d_law_law_712 (by decide) ?_
    exact x_zret C hH hr d_law_law_713 hp
set_option maxHeartbeats 4000000 in
set_option maxRecDepth 100000 in
theorem w_law_law_675 {res : (Int32 ⊕ (Nat × Nat)) × xH} (C : x_C l s0 A0 D R_law code 8 [] p s m args meth c) (hr : meth.sig.returnType = (some .boolean)) (hnm : meth.name = "law") (hRf : 10 ≤ R.frames) (hRl : 259 ≤ R.locals) {k43 : Nat → Nat → Nat → Nat → Int32 → xM Int32} (hs43 : ∀ (l0 : Nat) (l1 : Nat) (l2 : Nat) (l3 : Nat) (l4 : Int32) (h : xH) (H : Heap) (locs : List Loc) (cells slots : Nat) (ls : Array Slot), k43 l0 l1 l2 l3 l4 h = some res → x_S s0 D R h H locs cells slots → lv_has ls 8 [(0, .ref l0), (1, .ref l1), (2, .ref l2), (3, .ref l3), (4, .int l4)] → W p l e R s m args below meth c H locs cells slots (x_Q s0 D below s R (x_oc vI res.1) res.2) (F0 m 43 ls [])) (l0 : Nat) (l1 : Nat) (l2 : Nat) (l3 : Nat) (l4 : Int32) (hp : f_law_law_b675 k43 l0 l1 l2 l3 l4 h = some res) (hH : x_S s0 D R h H locs cells slots) (hl : lv_has ls 8 [(0, .ref l0), (1, .ref l1), (2, .ref l2), (3, .ref l3), (4, .int l4)]) : W p l e R s m args below meth c H locs cells slots (x_Q s0 D below s R (x_oc vI res.1) res.2) (F0 m 675 ls []) := by
  obtain ⟨hx, hb, hown, hts, hK, hml, hW, Z, -⟩ := id C
  unfold f_law_law_b675 at hp
  refine lv_goto (tgt := 1621) hx hb d_law_law_675 (by decide) ?_
  exact w_law_law_1621 C hr hnm hRf hRl hs43 l0 l1 l2 l3 l4 hp hH (lv_sub hl [0, 1, 2, 3, 4] rfl)
set_option maxHeartbeats 4000000 in
set_option maxRecDepth 100000 in
theorem w_law_law_669 {res : (Int32 ⊕ (Nat × Nat)) × xH} (C : x_C l s0 A0 D R_law code 8 [] p s m args meth c) (hr : meth.sig.returnType = (some .boolean)) (hnm : meth.name = "law") (hRf : 10 ≤ R.frames) (hRl : 259 ≤ R.locals) {k43 : Nat → Nat → Nat → Nat → Int32 → xM Int32} (hs43 : ∀ (l0 : Nat) (l1 : Nat) (l2 : Nat) (l3 : Nat) (l4 : Int32) (h : xH) (H : Heap) (locs : List Loc) (cells slots : Nat) (ls : Array Slot), k43 l0 l1 l2 l3 l4 h = some res → x_S s0 D R h H locs cells slots → lv_has ls 8 [(0, .ref l0), (1, .ref l1), (2, .ref l2), (3, .ref l3), (4, .int l4)] → W p l e R s m args below meth c H locs cells slots (x_Q s0 D below s R (x_oc vI res.1) res.2) (F0 m 43 ls [])) (l0 : Nat) (l1 : Nat) (l2 : Nat) (l3 : Nat) (l4 : Int32) (t0 : Int64) (t1 : Int64) (hp : f_law_law_b669 k43 l0 l1 l2 l3 l4 t0 t1 h = some res) (hH : x_S s0 D R h H locs cells slots) (hl : lv_has ls 8 [(0, .ref l0), (1, .ref l1), (2, .ref l2), (3, .ref l3), (4, .int l4)]) : W p l e R s m args below meth c H locs cells slots (x_Q s0 D below s R (x_oc vI res.1) res.2) (F0 m 669 ls [.long t0, .long t1]) := by
  obtain ⟨hx, hb, hown, hts, hK, hml, hW, Z, -⟩ := id C
  unfold f_law_law_b669 at hp
  refine W.lcmp hx hb d_law_law_669 ?_
  refine lv_if_eq (tgt := 675) hx hb d_law_law_670 (by decide) (fun hc => ?_) (fun hc => ?_)
  · replace hp := x_ifp hc hp
    exact w_law_law_675 C hr hnm hRf hRl hs43 l0 l1 l2 l3 l4 hp hH (lv_sub hl [0, 1, 2, 3, 4] rfl)
  · replace hp := x_ifn hc hp
    refine lv_iconst (v := 0) hx hb d_law_law_673 (by decide) ?_
    exact x_zret C hH hr d_law_law_674 hp
set_option maxHeartbeats 4000000 in
set_option maxRecDepth 100000 in
theorem w_law_law_635 {res : (Int32 ⊕ (Nat × Nat)) × xH} (C : x_C l s0 A0 D R_law code 8 [] p s m args meth c) (hr : meth.sig.returnType = (some .boolean)) (hnm : meth.name = "law") (hRf : 10 ≤ R.frames) (hRl : 259 ≤ R.locals) {k43 : Nat → Nat → Nat → Nat → Int32 → xM Int32} (hs43 : ∀ (l0 : Nat) (l1 : Nat) (l2 : Nat) (l3 : Nat) (l4 : Int32) (h : xH) (H : Heap) (locs : List Loc) (cells slots : Nat) (ls : Array Slot), k43 l0 l1 l2 l3 l4 h = some res → x_S s0 D R h H locs cells slots → lv_has ls 8 [(0, .ref l0), (1, .ref l1), (2, .ref l2), (3, .ref l3), (4, .int l4)] → W p l e R s m args below meth c H locs cells slots (x_Q s0 D below s R (x_oc vI res.1) res.2) (F0 m 43 ls [])) (l0 : Nat) (l1 : Nat) (l2 : Nat) (l3 : Nat) (l4 : Int32) (l5 : Int32) (t0 : Int32) (t1 : Int32) (t2 : Nat) (hp : f_law_law_b635 k43 l0 l1 l2 l3 l4 l5 t0 t1 t2 h = some res) (hH : x_S s0 D R h H locs cells slots) (hl : lv_has ls 8 [(0, .ref l0), (1, .ref l1), (2, .ref l2), (3, .ref l3), (4, .int l4), (5, .int l5)]) : W p l e R s m args below meth c H locs cells slots (x_Q s0 D below s R (x_oc vI res.1) res.2) (F0 m 635 ls [.int t0, .int t1, .ref t2]) := by
  obtain ⟨hx, hb, hown, hts, hK, hml, hW, Z, -⟩ := id C
  unfold f_law_law_b635 at hp
  refine x_callV (As := [.int t1, .int t0]) (rest := []) (cv := vI) C hH kc_law_121 d_law_law_635 hp (fun o h' e => m_Mdl_up Z e) rfl hl.1 (Nat.le_trans (Nat.le_of_ble_eq_true rfl) hRf) (Nat.le_trans (Nat.le_of_ble_eq_true rfl) hRl) (Nat.le_of_ble_eq_true rfl) (fun v1 h H locs cells slots hp hH => ?_)
  refine W.eq (g2 := F0 m 638 ls [.int v1]) rfl ?_
  refine lv_istore (lv' := [(6, .int v1), (0, .ref l0), (1, .ref l1), (2, .ref l2), (3, .ref l3), (4, .int l4), (5, .int l5)]) hx hb d_law_law_638 hl (by decide) rfl (fun ls hl => ?_)
  refine lv_aload_n hx hb d_law_law_640 rfl (lv_at hl 3 rfl) ?_
  refine x_callV (As := []) (rest := []) (cv := vI) C hH kc_law_97 d_law_law_641 hp (fun o h' e => m_Mdl_thrown Z e) rfl hl.1 (Nat.le_trans (Nat.le_of_ble_eq_true rfl) hRf) (Nat.le_trans (Nat.le_of_ble_eq_true rfl) hRl) (Nat.le_of_ble_eq_true rfl) (fun v2 h H locs cells slots hp hH => ?_)
  refine W.eq (g2 := F0 m 644 ls [.int v2]) rfl ?_
  refine lv_iload hx hb d_law_law_644 (lv_at hl 6 rfl) ?_
  refine lv_icmp_eq (tgt := 651) hx hb d_law_law_646 (by decide) (fun hc => ?_) (fun hc => ?_)
  · replace hp := x_ifp hc hp
    refine lv_iload hx hb d_law_law_651 (lv_at hl 6 rfl) ?_
    refine lv_if_ne (tgt := 675) hx hb d_law_law_653 (by decide) (fun hc => ?_) (fun hc => ?_)
    · replace hp := x_ifn hc hp
      exact w_law_law_675 C hr hnm hRf hRl hs43 l0 l1 l2 l3 l4 hp hH (lv_sub hl [1, 2, 3, 4, 5] rfl)
    · replace hp := x_ifp hc hp
      refine lv_aload_n hx hb d_law_law_656 rfl (lv_at hl 4 rfl) ?_
      refine lv_iconst (v := 0) hx hb d_law_law_657 (by decide) ?_
      refine x_lJ C hH d_law_law_658 hp (fun v3 hp => ?_)
      refine lv_iload hx hb d_law_law_659 (lv_at hl 0 rfl) ?_
      refine lv_if_eq (tgt := 668) hx hb d_law_law_661 (by decide) (fun hc => ?_) (fun hc => ?_)
      · replace hp := x_ifp hc hp
        refine lv_lconst (v := 0) hx hb d_law_law_668 (by decide) ?_
        exact w_law_law_669 C hr hnm hRf hRl hs43 l0 l1 l2 l3 l4 0 v3 hp hH (lv_sub hl [1, 2, 3, 4, 5] rfl)
      · replace hp := x_ifn hc hp
        refine lv_lconst (v := 1) hx hb d_law_law_664 (by decide) ?_
        refine lv_goto (tgt := 669) hx hb d_law_law_665 (by decide) ?_
        exact w_law_law_669 C hr hnm hRf hRl hs43 l0 l1 l2 l3 l4 1 v3 hp hH (lv_sub hl [1, 2, 3, 4, 5] rfl)
  · replace hp := x_ifn hc hp
    refine lv_iconst (v := 0) hx hb d_law_law_649 (by decide) ?_
    exact x_zret C hH hr d_law_law_650 hp
set_option maxHeartbeats 4000000 in
set_option maxRecDepth 100000 in
theorem w_law_law_608 {res : (Int32 ⊕ (Nat × Nat)) × xH} (C : x_C l s0 A0 D R_law code 8 [] p s m args meth c) (hr : meth.sig.returnType = (some .boolean)) (hnm : meth.name = "law") (hRf : 10 ≤ R.frames) (hRl : 259 ≤ R.locals) {k43 : Nat → Nat → Nat → Nat → Int32 → xM Int32} (hs43 : ∀ (l0 : Nat) (l1 : Nat) (l2 : Nat) (l3 : Nat) (l4 : Int32) (h : xH) (H : Heap) (locs : List Loc) (cells slots : Nat) (ls : Array Slot), k43 l0 l1 l2 l3 l4 h = some res → x_S s0 D R h H locs cells slots → lv_has ls 8 [(0, .ref l0), (1, .ref l1), (2, .ref l2), (3, .ref l3), (4, .int l4)] → W p l e R s m args below meth c H locs cells slots (x_Q s0 D below s R (x_oc vI res.1) res.2) (F0 m 43 ls [])) (l0 : Nat) (l1 : Nat) (l2 : Nat) (l3 : Nat) (l4 : Int32) (t0 : Int32) (t1 : Int32) (t2 : Nat) (hp : f_law_law_b608 k43 l0 l1 l2 l3 l4 t0 t1 t2 h = some res) (hH : x_S s0 D R h H locs cells slots) (hl : lv_has ls 8 [(0, .ref l0), (1, .ref l1), (2, .ref l2), (3, .ref l3), (4, .int l4)]) : W p l e R s m args below meth c H locs cells slots (x_Q s0 D below s R (x_oc vI res.1) res.2) (F0 m 608 ls [.int t0, .int t1, .ref t2]) := by
  obtain ⟨hx, hb, hown, hts, hK, hml, hW, Z, -⟩ := id C
  unfold f_law_law_b608 at hp
  refine lv_aload_n hx hb d_law_law_608 rfl (lv_at hl 3 rfl) ?_
  refine x_callSh (As := [.ref t2, .int t1, .int t0, .ref l3]) (rest := []) (cv := vI) C hH kc_law_118 d_law_law_609 hp (fun o h' e => m_law_up Z e) rfl hl.1 (Nat.le_trans (Nat.le_of_ble_eq_true rfl) hRf) (Nat.le_trans (Nat.le_of_ble_eq_true rfl) hRl) (Nat.le_of_ble_eq_true rfl) (fun v1 h H locs cells slots hp hH => ?_)
  refine W.eq (g2 := F0 m 612 ls [.int v1]) rfl ?_
  refine lv_istore (lv' := [(5, .int v1), (0, .ref l0), (1, .ref l1), (2, .ref l2), (3, .ref l3), (4, .int l4)]) hx hb d_law_law_612 hl (by decide) rfl (fun ls hl => ?_)
  refine lv_aload_n hx hb d_law_law_614 rfl (lv_at hl 3 rfl) ?_
  refine lv_aload_n hx hb d_law_law_615 rfl (lv_at hl 1 rfl) ?_
  refine lv_iload hx hb d_law_law_616 (lv_at hl 5 rfl) ?_
  refine lv_iconst (v := 1) hx hb d_law_law_618 (by decide) ?_
  refine lv_iadd hx hb d_law_law_619 ?_
  refine x_lI C hH d_law_law_620 hp (fun v2 hp => ?_)
  refine lv_aload_n hx hb d_law_law_621 rfl (lv_at hl 1 rfl) ?_
  refine lv_iload hx hb d_law_law_622 (lv_at hl 5 rfl) ?_
  refine lv_iconst (v := 2) hx hb d_law_law_624 (by decide) ?_
  refine lv_iadd hx hb d_law_law_625 ?_
  refine x_lI C hH d_law_law_626 hp (fun v3 hp => ?_)
  refine lv_if_eq (tgt := 634) hx hb d_law_law_627 (by decide) (fun hc => ?_) (fun hc => ?_)
  · replace hp := x_ifp hc hp
    refine lv_iconst (v := 0) hx hb d_law_law_634 (by decide) ?_
    exact w_law_law_635 C hr hnm hRf hRl hs43 l0 l1 l2 l3 l4 v1 0 v2 l2 hp hH (lv_sub hl [1, 2, 3, 4, 5, 0] rfl)
  · replace hp := x_ifn hc hp
    refine lv_iconst (v := 1) hx hb d_law_law_630 (by decide) ?_
    refine lv_goto (tgt := 635) hx hb d_law_law_631 (by decide) ?_
    exact w_law_law_635 C hr hnm hRf hRl hs43 l0 l1 l2 l3 l4 v1 1 v2 l2 hp hH (lv_sub hl [1, 2, 3, 4, 5, 0] rfl)
set_option maxHeartbeats 4000000 in
set_option maxRecDepth 100000 in
theorem w_law_law_587 {res : (Int32 ⊕ (Nat × Nat)) × xH} (C : x_C l s0 A0 D R_law code 8 [] p s m args meth c) (hr : meth.sig.returnType = (some .boolean)) (hnm : meth.name = "law") (hRf : 10 ≤ R.frames) (hRl : 259 ≤ R.locals) {k43 : Nat → Nat → Nat → Nat → Int32 → xM Int32} (hs43 : ∀ (l0 : Nat) (l1 : Nat) (l2 : Nat) (l3 : Nat) (l4 : Int32) (h : xH) (H : Heap) (locs : List Loc) (cells slots : Nat) (ls : Array Slot), k43 l0 l1 l2 l3 l4 h = some res → x_S s0 D R h H locs cells slots → lv_has ls 8 [(0, .ref l0), (1, .ref l1), (2, .ref l2), (3, .ref l3), (4, .int l4)] → W p l e R s m args below meth c H locs cells slots (x_Q s0 D below s R (x_oc vI res.1) res.2) (F0 m 43 ls [])) (l0 : Nat) (l1 : Nat) (l2 : Nat) (l3 : Nat) (l4 : Int32) (hp : f_law_law_b587 k43 l0 l1 l2 l3 l4 h = some res) (hH : x_S s0 D R h H locs cells slots) (hl : lv_has ls 8 [(0, .ref l0), (1, .ref l1), (2, .ref l2), (3, .ref l3), (4, .int l4)]) : W p l e R s m args below meth c H locs cells slots (x_Q s0 D below s R (x_oc vI res.1) res.2) (F0 m 587 ls []) := by
  obtain ⟨hx, hb, hown, hts, hK, hml, hW, Z, -⟩ := id C
  unfold f_law_law_b587 at hp
  refine lv_aload_n hx hb d_law_law_587 rfl (lv_at hl 1 rfl) ?_
  refine lv_aload_n hx hb d_law_law_588 rfl (lv_at hl 0 rfl) ?_
  refine lv_iload hx hb d_law_law_589 (lv_at hl 4 rfl) ?_
  refine lv_iconst (v := 1) hx hb d_law_law_591 (by decide) ?_
  refine lv_iadd hx hb d_law_law_592 ?_
  refine x_lI C hH d_law_law_593 hp (fun v1 hp => ?_)
  refine lv_aload_n hx hb d_law_law_594 rfl (lv_at hl 0 rfl) ?_
  refine lv_iload hx hb d_law_law_595 (lv_at hl 4 rfl) ?_
  refine lv_iconst (v := 2) hx hb d_law_law_597 (by decide) ?_
  refine lv_iadd hx hb d_law_law_598 ?_
  refine x_lI C hH d_law_law_599 hp (fun v2 hp => ?_)
  refine lv_if_eq (tgt := 607) hx hb d_law_law_600 (by decide) (fun hc => ?_) (fun hc => ?_)
  · replace hp := x_ifp hc hp
    refine lv_iconst (v := 0) hx hb d_law_law_607 (by decide) ?_
    exact w_law_law_608 C hr hnm hRf hRl hs43 l0 l1 l2 l3 l4 0 v1 l1 hp hH (lv_sub hl [0, 1, 2, 3, 4] rfl)
  · replace hp := x_ifn hc hp
    refine lv_iconst (v := 1) hx hb d_law_law_603 (by decide) ?_
    refine lv_goto (tgt := 608) hx hb d_law_law_604 (by decide) ?_
    exact w_law_law_608 C hr hnm hRf hRl hs43 l0 l1 l2 l3 l4 1 v1 l1 hp hH (lv_sub hl [0, 1, 2, 3, 4] rfl)
set_option maxHeartbeats 4000000 in
set_option maxRecDepth 100000 in
theorem w_law_law_584 {res : (Int32 ⊕ (Nat × Nat)) × xH} (C : x_C l s0 A0 D R_law code 8 [] p s m args meth c) (hr : meth.sig.returnType = (some .boolean)) (hnm : meth.name = "law") (hRf : 10 ≤ R.frames) (hRl : 259 ≤ R.locals) {k43 : Nat → Nat → Nat → Nat → Int32 → xM Int32} (hs43 : ∀ (l0 : Nat) (l1 : Nat) (l2 : Nat) (l3 : Nat) (l4 : Int32) (h : xH) (H : Heap) (locs : List Loc) (cells slots : Nat) (ls : Array Slot), k43 l0 l1 l2 l3 l4 h = some res → x_S s0 D R h H locs cells slots → lv_has ls 8 [(0, .ref l0), (1, .ref l1), (2, .ref l2), (3, .ref l3), (4, .int l4)] → W p l e R s m args below meth c H locs cells slots (x_Q s0 D below s R (x_oc vI res.1) res.2) (F0 m 43 ls [])) (l0 : Nat) (l1 : Nat) (l2 : Nat) (l3 : Nat) (l4 : Int32) (hp : f_law_law_b584 k43 l0 l1 l2 l3 l4 h = some res) (hH : x_S s0 D R h H locs cells slots) (hl : lv_has ls 8 [(0, .ref l0), (1, .ref l1), (2, .ref l2), (3, .ref l3), (4, .int l4)]) : W p l e R s m args below meth c H locs cells slots (x_Q s0 D below s R (x_oc vI res.1) res.2) (F0 m 584 ls []) := by
  obtain ⟨hx, hb, hown, hts, hK, hml, hW, Z, -⟩ := id C
  unfold f_law_law_b584 at hp
  refine lv_goto (tgt := 1621) hx hb d_law_law_584 (by decide) ?_
  exact w_law_law_1621 C hr hnm hRf hRl hs43 l0 l1 l2 l3 l4 hp hH (lv_sub hl [0, 1, 2, 3, 4] rfl)
end GEN
