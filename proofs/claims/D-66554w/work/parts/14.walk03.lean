section GEN
variable {p : Program} {l : Launch} {e : Env} {R : Room} {s : State} {m : MethodId} {args : Array Value} {below : List Frame} {meth : Method} {c : Code} {H : Heap} {locs : List Loc} {cells slots : Nat} {ls : Array Slot} {D : xD} {s0 : State} {A0 : Array Value} {h : xH}
/-! ReadSide.hurry(LReadSide$Replica;)I -/
theorem d_RS_hurry_0 : decode prog_1_method_16_code 0 = .ok (.iconst 0, 1) := by decide +kernel
theorem d_RS_hurry_1 : decode prog_1_method_16_code 1 = .ok (.istore_n 2, 1) := by decide +kernel
theorem d_RS_hurry_2 : decode prog_1_method_16_code 2 = .ok (.aload_n 1, 1) := by decide +kernel
theorem d_RS_hurry_3 : decode prog_1_method_16_code 3 = .ok (.getfield 170, 3) := by decide +kernel
theorem d_RS_hurry_6 : decode prog_1_method_16_code 6 = .ok (.istore_n 3, 1) := by decide +kernel
theorem d_RS_hurry_7 : decode prog_1_method_16_code 7 = .ok (.iconst 0, 1) := by decide +kernel
theorem d_RS_hurry_8 : decode prog_1_method_16_code 8 = .ok (.istore 4, 2) := by decide +kernel
theorem d_RS_hurry_10 : decode prog_1_method_16_code 10 = .ok (.iload_n 2, 1) := by decide +kernel
theorem d_RS_hurry_11 : decode prog_1_method_16_code 11 = .ok (.aload_n 1, 1) := by decide +kernel
theorem d_RS_hurry_12 : decode prog_1_method_16_code 12 = .ok (.getfield 183, 3) := by decide +kernel
theorem d_RS_hurry_15 : decode prog_1_method_16_code 15 = .ok (.if_icmp .ge 69, 3) := by decide +kernel
theorem d_RS_hurry_18 : decode prog_1_method_16_code 18 = .ok (.iload 4, 2) := by decide +kernel
theorem d_RS_hurry_20 : decode prog_1_method_16_code 20 = .ok (.aload_n 0, 1) := by decide +kernel
theorem d_RS_hurry_21 : decode prog_1_method_16_code 21 = .ok (.getfield 31, 3) := by decide +kernel
theorem d_RS_hurry_24 : decode prog_1_method_16_code 24 = .ok (.if_icmp .ge 60, 3) := by decide +kernel
theorem d_RS_hurry_27 : decode prog_1_method_16_code 27 = .ok (.aload_n 0, 1) := by decide +kernel
theorem d_RS_hurry_28 : decode prog_1_method_16_code 28 = .ok (.aload_n 1, 1) := by decide +kernel
theorem d_RS_hurry_29 : decode prog_1_method_16_code 29 = .ok (.iload_n 3, 1) := by decide +kernel
theorem d_RS_hurry_30 : decode prog_1_method_16_code 30 = .ok (.invokevirtual 177, 3) := by decide +kernel
theorem d_RS_hurry_33 : decode prog_1_method_16_code 33 = .ok (.iconst 1, 1) := by decide +kernel
theorem d_RS_hurry_34 : decode prog_1_method_16_code 34 = .ok (.if_icmp .ne 7, 3) := by decide +kernel
theorem d_RS_hurry_37 : decode prog_1_method_16_code 37 = .ok (.iconst 1, 1) := by decide +kernel
theorem d_RS_hurry_38 : decode prog_1_method_16_code 38 = .ok (.goto 4, 3) := by decide +kernel
theorem d_RS_hurry_41 : decode prog_1_method_16_code 41 = .ok (.iconst 0, 1) := by decide +kernel
theorem d_RS_hurry_42 : decode prog_1_method_16_code 42 = .ok (.istore 5, 2) := by decide +kernel
theorem d_RS_hurry_44 : decode prog_1_method_16_code 44 = .ok (.iload_n 2, 1) := by decide +kernel
theorem d_RS_hurry_45 : decode prog_1_method_16_code 45 = .ok (.iload 5, 2) := by decide +kernel
theorem d_RS_hurry_47 : decode prog_1_method_16_code 47 = .ok (.ifCond .eq 7, 3) := by decide +kernel
theorem d_RS_hurry_50 : decode prog_1_method_16_code 50 = .ok (.iconst 1, 1) := by decide +kernel
theorem d_RS_hurry_51 : decode prog_1_method_16_code 51 = .ok (.goto 4, 3) := by decide +kernel
theorem d_RS_hurry_54 : decode prog_1_method_16_code 54 = .ok (.iconst 0, 1) := by decide +kernel
theorem d_RS_hurry_55 : decode prog_1_method_16_code 55 = .ok (.iadd, 1) := by decide +kernel
theorem d_RS_hurry_56 : decode prog_1_method_16_code 56 = .ok (.istore_n 2, 1) := by decide +kernel
theorem d_RS_hurry_57 : decode prog_1_method_16_code 57 = .ok (.iload 5, 2) := by decide +kernel
theorem d_RS_hurry_59 : decode prog_1_method_16_code 59 = .ok (.ifCond .eq 7, 3) := by decide +kernel
theorem d_RS_hurry_62 : decode prog_1_method_16_code 62 = .ok (.iconst 0, 1) := by decide +kernel
theorem d_RS_hurry_63 : decode prog_1_method_16_code 63 = .ok (.goto 7, 3) := by decide +kernel
theorem d_RS_hurry_66 : decode prog_1_method_16_code 66 = .ok (.iload 4, 2) := by decide +kernel
theorem d_RS_hurry_68 : decode prog_1_method_16_code 68 = .ok (.iconst 1, 1) := by decide +kernel
theorem d_RS_hurry_69 : decode prog_1_method_16_code 69 = .ok (.iadd, 1) := by decide +kernel
theorem d_RS_hurry_70 : decode prog_1_method_16_code 70 = .ok (.istore 4, 2) := by decide +kernel
theorem d_RS_hurry_72 : decode prog_1_method_16_code 72 = .ok (.iload_n 3, 1) := by decide +kernel
theorem d_RS_hurry_73 : decode prog_1_method_16_code 73 = .ok (.iconst 1, 1) := by decide +kernel
theorem d_RS_hurry_74 : decode prog_1_method_16_code 74 = .ok (.iadd, 1) := by decide +kernel
theorem d_RS_hurry_75 : decode prog_1_method_16_code 75 = .ok (.aload_n 0, 1) := by decide +kernel
theorem d_RS_hurry_76 : decode prog_1_method_16_code 76 = .ok (.getfield 31, 3) := by decide +kernel
theorem d_RS_hurry_79 : decode prog_1_method_16_code 79 = .ok (.irem, 1) := by decide +kernel
theorem d_RS_hurry_80 : decode prog_1_method_16_code 80 = .ok (.istore_n 3, 1) := by decide +kernel
theorem d_RS_hurry_81 : decode prog_1_method_16_code 81 = .ok (.goto (-71), 3) := by decide +kernel
theorem d_RS_hurry_84 : decode prog_1_method_16_code 84 = .ok (.iload_n 2, 1) := by decide +kernel
theorem d_RS_hurry_85 : decode prog_1_method_16_code 85 = .ok (.ireturn, 1) := by decide +kernel
set_option maxHeartbeats 4000000 in
set_option maxRecDepth 100000 in
theorem w_RS_hurry_84 {res : (Int32 ⊕ (Nat × Nat)) × xH} (C : x_C l s0 A0 D R_RS prog_1_method_16_code 6 [] p s m args meth c) (hr : meth.sig.returnType = (some .int)) (hnm : meth.name = "hurry") (hRf : 5 ≤ R.frames) (hRl : 160 ≤ R.locals)  (l2 : Int32) (hp : f_RS_hurry_b84 l2 h = some res) (hH : x_S s0 D R h H locs cells slots) (hl : lv_has ls 6 [(2, .int l2)]) : W p l e R s m args below meth c H locs cells slots (x_Q s0 D below s R (x_oc vI res.1) res.2) (F0 m 84 ls []) := by
  obtain ⟨hx, hb, hown, hts, hK, hml, hW, Z, -⟩ := id C
  unfold f_RS_hurry_b84 at hp
  refine lv_iload_n hx hb d_RS_hurry_84 rfl (lv_at hl 0 rfl) ?_
  exact x_iret C hH hr d_RS_hurry_85 hp
set_option maxHeartbeats 4000000 in
set_option maxRecDepth 100000 in
theorem w_RS_hurry_70 {res : (Int32 ⊕ (Nat × Nat)) × xH} (C : x_C l s0 A0 D R_RS prog_1_method_16_code 6 [] p s m args meth c) (hr : meth.sig.returnType = (some .int)) (hnm : meth.name = "hurry") (hRf : 5 ≤ R.frames) (hRl : 160 ≤ R.locals) {k10 : Nat → Nat → Int32 → Int32 → Int32 → xM Int32} (hs10 : ∀ (l0 : Nat) (l1 : Nat) (l2 : Int32) (l3 : Int32) (l4 : Int32) (h : xH) (H : Heap) (locs : List Loc) (cells slots : Nat) (ls : Array Slot), k10 l0 l1 l2 l3 l4 h = some res → x_S s0 D R h H locs cells slots → lv_has ls 6 [(0, .ref l0), (1, .ref l1), (2, .int l2), (3, .int l3), (4, .int l4)] → W p l e R s m args below meth c H locs cells slots (x_Q s0 D below s R (x_oc vI res.1) res.2) (F0 m 10 ls [])) (l0 : Nat) (l1 : Nat) (l2 : Int32) (l3 : Int32) (t0 : Int32) (hp : f_RS_hurry_b70 k10 l0 l1 l2 l3 t0 h = some res) (hH : x_S s0 D R h H locs cells slots) (hl : lv_has ls 6 [(0, .ref l0), (1, .ref l1), (2, .int l2), (3, .int l3)]) : W p l e R s m args below meth c H locs cells slots (x_Q s0 D below s R (x_oc vI res.1) res.2) (F0 m 70 ls [.int t0]) := by
  obtain ⟨hx, hb, hown, hts, hK, hml, hW, Z, -⟩ := id C
  unfold f_RS_hurry_b70 at hp
  refine lv_istore (lv' := [(4, .int t0), (0, .ref l0), (1, .ref l1), (2, .int l2), (3, .int l3)]) hx hb d_RS_hurry_70 hl (by decide) rfl (fun ls hl => ?_)
  refine lv_iload_n hx hb d_RS_hurry_72 rfl (lv_at hl 4 rfl) ?_
  refine lv_iconst (v := 1) hx hb d_RS_hurry_73 (by decide) ?_
  refine lv_iadd hx hb d_RS_hurry_74 ?_
  refine lv_aload_n hx hb d_RS_hurry_75 rfl (lv_at hl 1 rfl) ?_
  refine x_gI C hH fl_RS_31 d_RS_hurry_76 hp (fun v1 hp => ?_)
  obtain ⟨hz, hp⟩ := rI_i hp
  refine lv_irem hx hb d_RS_hurry_79 hz ?_
  generalize ev2 : (l3 + 1) - (l3 + 1) / v1 * v1 = v2 at hp ⊢
  refine lv_istore_n (lv' := [(3, .int v2), (4, .int t0), (0, .ref l0), (1, .ref l1), (2, .int l2)]) hx hb d_RS_hurry_80 rfl hl (by decide) rfl (fun ls hl => ?_)
  refine lv_goto (tgt := 10) hx hb d_RS_hurry_81 (by decide) ?_
  exact hs10 l0 l1 l2 v2 t0 _ _ _ _ _ _ hp hH (lv_sub hl [2, 3, 4, 0, 1] rfl)
set_option maxHeartbeats 4000000 in
set_option maxRecDepth 100000 in
theorem w_RS_hurry_55 {res : (Int32 ⊕ (Nat × Nat)) × xH} (C : x_C l s0 A0 D R_RS prog_1_method_16_code 6 [] p s m args meth c) (hr : meth.sig.returnType = (some .int)) (hnm : meth.name = "hurry") (hRf : 5 ≤ R.frames) (hRl : 160 ≤ R.locals) {k10 : Nat → Nat → Int32 → Int32 → Int32 → xM Int32} (hs10 : ∀ (l0 : Nat) (l1 : Nat) (l2 : Int32) (l3 : Int32) (l4 : Int32) (h : xH) (H : Heap) (locs : List Loc) (cells slots : Nat) (ls : Array Slot), k10 l0 l1 l2 l3 l4 h = some res → x_S s0 D R h H locs cells slots → lv_has ls 6 [(0, .ref l0), (1, .ref l1), (2, .int l2), (3, .int l3), (4, .int l4)] → W p l e R s m args below meth c H locs cells slots (x_Q s0 D below s R (x_oc vI res.1) res.2) (F0 m 10 ls [])) (l0 : Nat) (l1 : Nat) (l3 : Int32) (l4 : Int32) (l5 : Int32) (t0 : Int32) (t1 : Int32) (hp : f_RS_hurry_b55 k10 l0 l1 l3 l4 l5 t0 t1 h = some res) (hH : x_S s0 D R h H locs cells slots) (hl : lv_has ls 6 [(0, .ref l0), (1, .ref l1), (3, .int l3), (4, .int l4), (5, .int l5)]) : W p l e R s m args below meth c H locs cells slots (x_Q s0 D below s R (x_oc vI res.1) res.2) (F0 m 55 ls [.int t0, .int t1]) := by
  obtain ⟨hx, hb, hown, hts, hK, hml, hW, Z, -⟩ := id C
  unfold f_RS_hurry_b55 at hp
  refine lv_iadd hx hb d_RS_hurry_55 ?_
  refine lv_istore_n (lv' := [(2, .int (t1 + t0)), (0, .ref l0), (1, .ref l1), (3, .int l3), (4, .int l4), (5, .int l5)]) hx hb d_RS_hurry_56 rfl hl (by decide) rfl (fun ls hl => ?_)
  refine lv_iload hx hb d_RS_hurry_57 (lv_at hl 5 rfl) ?_
  refine lv_if_eq (tgt := 66) hx hb d_RS_hurry_59 (by decide) (fun hc => ?_) (fun hc => ?_)
  · replace hp := x_ifp hc hp
    refine lv_iload hx hb d_RS_hurry_66 (lv_at hl 4 rfl) ?_
    refine lv_iconst (v := 1) hx hb d_RS_hurry_68 (by decide) ?_
    refine lv_iadd hx hb d_RS_hurry_69 ?_
    exact w_RS_hurry_70 C hr hnm hRf hRl hs10 l0 l1 (t1 + t0) l3 (l4 + 1) hp hH (lv_sub hl [1, 2, 0, 3] rfl)
  · replace hp := x_ifn hc hp
    refine lv_iconst (v := 0) hx hb d_RS_hurry_62 (by decide) ?_
    refine lv_goto (tgt := 70) hx hb d_RS_hurry_63 (by decide) ?_
    exact w_RS_hurry_70 C hr hnm hRf hRl hs10 l0 l1 (t1 + t0) l3 0 hp hH (lv_sub hl [1, 2, 0, 3] rfl)
set_option maxHeartbeats 4000000 in
set_option maxRecDepth 100000 in
theorem w_RS_hurry_42 {res : (Int32 ⊕ (Nat × Nat)) × xH} (C : x_C l s0 A0 D R_RS prog_1_method_16_code 6 [] p s m args meth c) (hr : meth.sig.returnType = (some .int)) (hnm : meth.name = "hurry") (hRf : 5 ≤ R.frames) (hRl : 160 ≤ R.locals) {k10 : Nat → Nat → Int32 → Int32 → Int32 → xM Int32} (hs10 : ∀ (l0 : Nat) (l1 : Nat) (l2 : Int32) (l3 : Int32) (l4 : Int32) (h : xH) (H : Heap) (locs : List Loc) (cells slots : Nat) (ls : Array Slot), k10 l0 l1 l2 l3 l4 h = some res → x_S s0 D R h H locs cells slots → lv_has ls 6 [(0, .ref l0), (1, .ref l1), (2, .int l2), (3, .int l3), (4, .int l4)] → W p l e R s m args below meth c H locs cells slots (x_Q s0 D below s R (x_oc vI res.1) res.2) (F0 m 10 ls [])) (l0 : Nat) (l1 : Nat) (l2 : Int32) (l3 : Int32) (l4 : Int32) (t0 : Int32) (hp : f_RS_hurry_b42 k10 l0 l1 l2 l3 l4 t0 h = some res) (hH : x_S s0 D R h H locs cells slots) (hl : lv_has ls 6 [(0, .ref l0), (1, .ref l1), (2, .int l2), (3, .int l3), (4, .int l4)]) : W p l e R s m args below meth c H locs cells slots (x_Q s0 D below s R (x_oc vI res.1) res.2) (F0 m 42 ls [.int t0]) := by
  obtain ⟨hx, hb, hown, hts, hK, hml, hW, Z, -⟩ := id C
  unfold f_RS_hurry_b42 at hp
  refine lv_istore (lv' := [(5, .int t0), (0, .ref l0), (1, .ref l1), (2, .int l2), (3, .int l3), (4, .int l4)]) hx hb d_RS_hurry_42 hl (by decide) rfl (fun ls hl => ?_)
  refine lv_iload_n hx hb d_RS_hurry_44 rfl (lv_at hl 3 rfl) ?_
  refine lv_iload hx hb d_RS_hurry_45 (lv_at hl 0 rfl) ?_
  refine lv_if_eq (tgt := 54) hx hb d_RS_hurry_47 (by decide) (fun hc => ?_) (fun hc => ?_)
  · replace hp := x_ifp hc hp
    refine lv_iconst (v := 0) hx hb d_RS_hurry_54 (by decide) ?_
    exact w_RS_hurry_55 C hr hnm hRf hRl hs10 l0 l1 l3 l4 t0 0 l2 hp hH (lv_sub hl [1, 2, 4, 5, 0] rfl)
  · replace hp := x_ifn hc hp
    refine lv_iconst (v := 1) hx hb d_RS_hurry_50 (by decide) ?_
    refine lv_goto (tgt := 55) hx hb d_RS_hurry_51 (by decide) ?_
    exact w_RS_hurry_55 C hr hnm hRf hRl hs10 l0 l1 l3 l4 t0 1 l2 hp hH (lv_sub hl [1, 2, 4, 5, 0] rfl)
set_option maxHeartbeats 4000000 in
set_option maxRecDepth 100000 in
theorem w_RS_hurry_10 {res : (Int32 ⊕ (Nat × Nat)) × xH} (C : x_C l s0 A0 D R_RS prog_1_method_16_code 6 [] p s m args meth c) (hr : meth.sig.returnType = (some .int)) (hnm : meth.name = "hurry") (hRf : 5 ≤ R.frames) (hRl : 160 ≤ R.locals) {k10 : Nat → Nat → Int32 → Int32 → Int32 → xM Int32} (hs10 : ∀ (l0 : Nat) (l1 : Nat) (l2 : Int32) (l3 : Int32) (l4 : Int32) (h : xH) (H : Heap) (locs : List Loc) (cells slots : Nat) (ls : Array Slot), k10 l0 l1 l2 l3 l4 h = some res → x_S s0 D R h H locs cells slots → lv_has ls 6 [(0, .ref l0), (1, .ref l1), (2, .int l2), (3, .int l3), (4, .int l4)] → W p l e R s m args below meth c H locs cells slots (x_Q s0 D below s R (x_oc vI res.1) res.2) (F0 m 10 ls [])) (l0 : Nat) (l1 : Nat) (l2 : Int32) (l3 : Int32) (l4 : Int32) (hp : f_RS_hurry_b10 k10 l0 l1 l2 l3 l4 h = some res) (hH : x_S s0 D R h H locs cells slots) (hl : lv_has ls 6 [(0, .ref l0), (1, .ref l1), (2, .int l2), (3, .int l3), (4, .int l4)]) : W p l e R s m args below meth c H locs cells slots (x_Q s0 D below s R (x_oc vI res.1) res.2) (F0 m 10 ls []) := by
  obtain ⟨hx, hb, hown, hts, hK, hml, hW, Z, -⟩ := id C
  unfold f_RS_hurry_b10 at hp
  refine lv_iload_n hx hb d_RS_hurry_10 rfl (lv_at hl 2 rfl) ?_
  refine lv_aload_n hx hb d_RS_hurry_11 rfl (lv_at hl 1 rfl) ?_
  refine x_gI C hH fl_RS_183 d_RS_hurry_12 hp (fun v1 hp => ?_)
  refine lv_icmp_ge (tgt := 84) hx hb d_RS_hurry_15 (by decide) (fun hc => ?_) (fun hc => ?_)
  · replace hp := x_ifp hc hp
    exact w_RS_hurry_84 C hr hnm hRf hRl  l2 hp hH (lv_sub hl [2] rfl)
  · replace hp := x_ifn hc hp
    refine lv_iload hx hb d_RS_hurry_18 (lv_at hl 4 rfl) ?_
    refine lv_aload_n hx hb d_RS_hurry_20 rfl (lv_at hl 0 rfl) ?_
    refine x_gI C hH fl_RS_31 d_RS_hurry_21 hp (fun v2 hp => ?_)
    refine lv_icmp_ge (tgt := 84) hx hb d_RS_hurry_24 (by decide) (fun hc => ?_) (fun hc => ?_)
    · replace hp := x_ifp hc hp
      exact w_RS_hurry_84 C hr hnm hRf hRl  l2 hp hH (lv_sub hl [2] rfl)
    · replace hp := x_ifn hc hp
      refine lv_aload_n hx hb d_RS_hurry_27 rfl (lv_at hl 0 rfl) ?_
      refine lv_aload_n hx hb d_RS_hurry_28 rfl (lv_at hl 1 rfl) ?_
      refine lv_iload_n hx hb d_RS_hurry_29 rfl (lv_at hl 3 rfl) ?_
      refine x_callV (As := [.ref l1, .int l3]) (rest := []) (cv := vI) C hH kc_RS_177 d_RS_hurry_30 hp (fun o h' e => m_RS_advance Z e) rfl hl.1 (Nat.le_trans (Nat.le_of_ble_eq_true rfl) hRf) (Nat.le_trans (Nat.le_of_ble_eq_true rfl) hRl) (Nat.le_of_ble_eq_true rfl) (fun v3 h H locs cells slots hp hH => ?_)
      refine W.eq (g2 := F0 m 33 ls [.int v3]) rfl ?_
      refine lv_iconst (v := 1) hx hb d_RS_hurry_33 (by decide) ?_
      refine lv_icmp_ne (tgt := 41) hx hb d_RS_hurry_34 (by decide) (fun hc => ?_) (fun hc => ?_)
      · replace hp := x_ifn hc hp
        refine lv_iconst (v := 0) hx hb d_RS_hurry_41 (by decide) ?_
        exact w_RS_hurry_42 C hr hnm hRf hRl hs10 l0 l1 l2 l3 l4 0 hp hH (lv_sub hl [0, 1, 2, 3, 4] rfl)
      · replace hp := x_ifp hc hp
        refine lv_iconst (v := 1) hx hb d_RS_hurry_37 (by decide) ?_
        refine lv_goto (tgt := 42) hx hb d_RS_hurry_38 (by decide) ?_
        exact w_RS_hurry_42 C hr hnm hRf hRl hs10 l0 l1 l2 l3 l4 1 hp hH (lv_sub hl [0, 1, 2, 3, 4] rfl)
theorem w_RS_hurry_h10 {res : (Int32 ⊕ (Nat × Nat)) × xH} (C : x_C l s0 A0 D R_RS prog_1_method_16_code 6 [] p s m args meth c) (hr : meth.sig.returnType = (some .int)) (hnm : meth.name = "hurry") (hRf : 5 ≤ R.frames) (hRl : 160 ≤ R.locals)  : ∀ (n : Nat) (l0 : Nat) (l1 : Nat) (l2 : Int32) (l3 : Int32) (l4 : Int32) (h : xH) (H : Heap) (locs : List Loc) (cells slots : Nat) (ls : Array Slot), f_RS_hurry_h10 n l0 l1 l2 l3 l4 h = some res → x_S s0 D R h H locs cells slots → lv_has ls 6 [(0, .ref l0), (1, .ref l1), (2, .int l2), (3, .int l3), (4, .int l4)] → W p l e R s m args below meth c H locs cells slots (x_Q s0 D below s R (x_oc vI res.1) res.2) (F0 m 10 ls []) := by
  intro n
  induction n with
  | zero => intro l0 l1 l2 l3 l4 h H locs cells slots ls hp hH hl; cases hp
  | succ n ih => intro l0 l1 l2 l3 l4 h H locs cells slots ls hp hH hl; exact w_RS_hurry_10 C hr hnm hRf hRl ih l0 l1 l2 l3 l4 hp hH hl
set_option maxHeartbeats 4000000 in
set_option maxRecDepth 100000 in
theorem w_RS_hurry_0 {res : (Int32 ⊕ (Nat × Nat)) × xH} (C : x_C l s0 A0 D R_RS prog_1_method_16_code 6 [] p s m args meth c) (hr : meth.sig.returnType = (some .int)) (hnm : meth.name = "hurry") (hRf : 5 ≤ R.frames) (hRl : 160 ≤ R.locals)  (l0 : Nat) (l1 : Nat) (hp : f_RS_hurry l0 l1 h = some res) (hH : x_S s0 D R h H locs cells slots) (hl : lv_has ls 6 [(0, .ref l0), (1, .ref l1)]) : W p l e R s m args below meth c H locs cells slots (x_Q s0 D below s R (x_oc vI res.1) res.2) (F0 m 0 ls []) := by
  obtain ⟨hx, hb, hown, hts, hK, hml, hW, Z, -⟩ := id C
  unfold f_RS_hurry at hp
  refine lv_iconst (v := 0) hx hb d_RS_hurry_0 (by decide) ?_
  refine lv_istore_n (lv' := [(2, .int 0), (0, .ref l0), (1, .ref l1)]) hx hb d_RS_hurry_1 rfl hl (by decide) rfl (fun ls hl => ?_)
  refine lv_aload_n hx hb d_RS_hurry_2 rfl (lv_at hl 2 rfl) ?_
  refine x_gI C hH fl_RS_170 d_RS_hurry_3 hp (fun v1 hp => ?_)
  refine lv_istore_n (lv' := [(3, .int v1), (2, .int 0), (0, .ref l0), (1, .ref l1)]) hx hb d_RS_hurry_6 rfl hl (by decide) rfl (fun ls hl => ?_)
  refine lv_iconst (v := 0) hx hb d_RS_hurry_7 (by decide) ?_
  refine lv_istore (lv' := [(4, .int 0), (3, .int v1), (2, .int 0), (0, .ref l0), (1, .ref l1)]) hx hb d_RS_hurry_8 hl (by decide) rfl (fun ls hl => ?_)
  exact w_RS_hurry_h10 C hr hnm hRf hRl  1000 l0 l1 0 v1 0 _ _ _ _ _ _ hp hH (lv_sub hl [3, 4, 2, 1, 0] rfl)
set_option maxRecDepth 100000 in
theorem m_RS_hurry (Z : x_Z l s0 A0 D) {l0 : Nat} {l1 : Nat} {res : (Int32 ⊕ (Nat × Nat)) × xH} (hp : f_RS_hurry l0 l1 h = some res) : x_M l s0 D y_RS_hurry (x_cw y_RS_hurry prog_1_method_16_code 6 (some .int) []) 5 160 [.ref l0, .ref l1] h (x_oc vI res.1) res.2 := by
  refine x_M.ofW Z (plainFor_of_name (by decide)) ?_
  intro p e s m below meth c C hnm hr hH
  have hl := lv_entry ([.ref l0, .ref l1]) (n := 6) (Nat.le_of_ble_eq_true rfl)
  rw [lg_entry_eq]
  generalize (lg_sl ([.ref l0, .ref l1]) ++ List.replicate (6 - (lg_sl ([.ref l0, .ref l1])).length) Slot.unset).toArray = ls at hl ⊢
  exact w_RS_hurry_0 C hr hnm (Nat.le_refl _) (Nat.le_refl _) l0 l1 hp hH hl
/-! ReadSide.ticks(I)I -/
theorem d_RS_ticks_0 : decode prog_1_method_17_code 0 = .ok (.iload_n 1, 1) := by decide +kernel
theorem d_RS_ticks_1 : decode prog_1_method_17_code 1 = .ok (.i2l, 1) := by decide +kernel
theorem d_RS_ticks_2 : decode prog_1_method_17_code 2 = .ok (.lconst 0, 1) := by decide +kernel
theorem d_RS_ticks_3 : decode prog_1_method_17_code 3 = .ok (.ldc2_w 186, 3) := by decide +kernel
theorem d_RS_ticks_6 : decode prog_1_method_17_code 6 = .ok (.invokestatic 27, 3) := by decide +kernel
theorem d_RS_ticks_9 : decode prog_1_method_17_code 9 = .ok (.invokestatic 71, 3) := by decide +kernel
theorem d_RS_ticks_12 : decode prog_1_method_17_code 12 = .ok (.iconst 0, 1) := by decide +kernel
theorem d_RS_ticks_13 : decode prog_1_method_17_code 13 = .ok (.istore_n 2, 1) := by decide +kernel
theorem d_RS_ticks_14 : decode prog_1_method_17_code 14 = .ok (.iconst 0, 1) := by decide +kernel
theorem d_RS_ticks_15 : decode prog_1_method_17_code 15 = .ok (.istore_n 3, 1) := by decide +kernel
theorem d_RS_ticks_16 : decode prog_1_method_17_code 16 = .ok (.iload_n 3, 1) := by decide +kernel
theorem d_RS_ticks_17 : decode prog_1_method_17_code 17 = .ok (.iload_n 1, 1) := by decide +kernel
theorem d_RS_ticks_18 : decode prog_1_method_17_code 18 = .ok (.if_icmp .ge 134, 3) := by decide +kernel
theorem d_RS_ticks_21 : decode prog_1_method_17_code 21 = .ok (.aload_n 0, 1) := by decide +kernel
theorem d_RS_ticks_22 : decode prog_1_method_17_code 22 = .ok (.dup, 1) := by decide +kernel
theorem d_RS_ticks_23 : decode prog_1_method_17_code 23 = .ok (.getfield 188, 3) := by decide +kernel
theorem d_RS_ticks_26 : decode prog_1_method_17_code 26 = .ok (.lconst 1, 1) := by decide +kernel
theorem d_RS_ticks_27 : decode prog_1_method_17_code 27 = .ok (.ladd, 1) := by decide +kernel
theorem d_RS_ticks_28 : decode prog_1_method_17_code 28 = .ok (.putfield 188, 3) := by decide +kernel
theorem d_RS_ticks_31 : decode prog_1_method_17_code 31 = .ok (.aload_n 0, 1) := by decide +kernel
theorem d_RS_ticks_32 : decode prog_1_method_17_code 32 = .ok (.getfield 46, 3) := by decide +kernel
theorem d_RS_ticks_35 : decode prog_1_method_17_code 35 = .ok (.astore 4, 2) := by decide +kernel
theorem d_RS_ticks_37 : decode prog_1_method_17_code 37 = .ok (.aload 4, 2) := by decide +kernel
theorem d_RS_ticks_39 : decode prog_1_method_17_code 39 = .ok (.arraylength, 1) := by decide +kernel
theorem d_RS_ticks_40 : decode prog_1_method_17_code 40 = .ok (.istore 5, 2) := by decide +kernel
theorem d_RS_ticks_42 : decode prog_1_method_17_code 42 = .ok (.iconst 0, 1) := by decide +kernel
theorem d_RS_ticks_43 : decode prog_1_method_17_code 43 = .ok (.istore 6, 2) := by decide +kernel
theorem d_RS_ticks_45 : decode prog_1_method_17_code 45 = .ok (.iload 6, 2) := by decide +kernel
theorem d_RS_ticks_47 : decode prog_1_method_17_code 47 = .ok (.iload 5, 2) := by decide +kernel
theorem d_RS_ticks_49 : decode prog_1_method_17_code 49 = .ok (.if_icmp .ge 37, 3) := by decide +kernel
theorem d_RS_ticks_52 : decode prog_1_method_17_code 52 = .ok (.aload 4, 2) := by decide +kernel
theorem d_RS_ticks_54 : decode prog_1_method_17_code 54 = .ok (.iload 6, 2) := by decide +kernel
theorem d_RS_ticks_56 : decode prog_1_method_17_code 56 = .ok (.aaload, 1) := by decide +kernel
theorem d_RS_ticks_57 : decode prog_1_method_17_code 57 = .ok (.astore 7, 2) := by decide +kernel
theorem d_RS_ticks_59 : decode prog_1_method_17_code 59 = .ok (.iload_n 2, 1) := by decide +kernel
theorem d_RS_ticks_60 : decode prog_1_method_17_code 60 = .ok (.aload 7, 2) := by decide +kernel
theorem d_RS_ticks_62 : decode prog_1_method_17_code 62 = .ok (.getfield 173, 3) := by decide +kernel
theorem d_RS_ticks_65 : decode prog_1_method_17_code 65 = .ok (.ifCond .eq 12, 3) := by decide +kernel
theorem d_RS_ticks_68 : decode prog_1_method_17_code 68 = .ok (.aload_n 0, 1) := by decide +kernel
theorem d_RS_ticks_69 : decode prog_1_method_17_code 69 = .ok (.aload 7, 2) := by decide +kernel
theorem d_RS_ticks_71 : decode prog_1_method_17_code 71 = .ok (.invokevirtual 192, 3) := by decide +kernel
theorem d_RS_ticks_74 : decode prog_1_method_17_code 74 = .ok (.goto 4, 3) := by decide +kernel
theorem d_RS_ticks_77 : decode prog_1_method_17_code 77 = .ok (.iconst 0, 1) := by decide +kernel
theorem d_RS_ticks_78 : decode prog_1_method_17_code 78 = .ok (.iadd, 1) := by decide +kernel
theorem d_RS_ticks_79 : decode prog_1_method_17_code 79 = .ok (.istore_n 2, 1) := by decide +kernel
theorem d_RS_ticks_80 : decode prog_1_method_17_code 80 = .ok (.iinc 6 1, 3) := by decide +kernel
theorem d_RS_ticks_83 : decode prog_1_method_17_code 83 = .ok (.goto (-38), 3) := by decide +kernel
theorem d_RS_ticks_86 : decode prog_1_method_17_code 86 = .ok (.iconst 0, 1) := by decide +kernel
theorem d_RS_ticks_87 : decode prog_1_method_17_code 87 = .ok (.istore 4, 2) := by decide +kernel
theorem d_RS_ticks_89 : decode prog_1_method_17_code 89 = .ok (.iload 4, 2) := by decide +kernel
theorem d_RS_ticks_91 : decode prog_1_method_17_code 91 = .ok (.aload_n 0, 1) := by decide +kernel
theorem d_RS_ticks_92 : decode prog_1_method_17_code 92 = .ok (.getfield 196, 3) := by decide +kernel
theorem d_RS_ticks_95 : decode prog_1_method_17_code 95 = .ok (.if_icmp .ge 51, 3) := by decide +kernel
theorem d_RS_ticks_98 : decode prog_1_method_17_code 98 = .ok (.aload_n 0, 1) := by decide +kernel
theorem d_RS_ticks_99 : decode prog_1_method_17_code 99 = .ok (.getfield 17, 3) := by decide +kernel
theorem d_RS_ticks_102 : decode prog_1_method_17_code 102 = .ok (.aload_n 0, 1) := by decide +kernel
theorem d_RS_ticks_103 : decode prog_1_method_17_code 103 = .ok (.getfield 21, 3) := by decide +kernel
theorem d_RS_ticks_106 : decode prog_1_method_17_code 106 = .ok (.iload 4, 2) := by decide +kernel
theorem d_RS_ticks_108 : decode prog_1_method_17_code 108 = .ok (.iaload, 1) := by decide +kernel
theorem d_RS_ticks_109 : decode prog_1_method_17_code 109 = .ok (.aaload, 1) := by decide +kernel
theorem d_RS_ticks_110 : decode prog_1_method_17_code 110 = .ok (.astore 5, 2) := by decide +kernel
theorem d_RS_ticks_112 : decode prog_1_method_17_code 112 = .ok (.aload 5, 2) := by decide +kernel
theorem d_RS_ticks_114 : decode prog_1_method_17_code 114 = .ok (.getfield 199, 3) := by decide +kernel
theorem d_RS_ticks_117 : decode prog_1_method_17_code 117 = .ok (.aload_n 0, 1) := by decide +kernel
theorem d_RS_ticks_118 : decode prog_1_method_17_code 118 = .ok (.getfield 188, 3) := by decide +kernel
theorem d_RS_ticks_121 : decode prog_1_method_17_code 121 = .ok (.lcmp, 1) := by decide +kernel
theorem d_RS_ticks_122 : decode prog_1_method_17_code 122 = .ok (.ifCond .le 9, 3) := by decide +kernel
theorem d_RS_ticks_125 : decode prog_1_method_17_code 125 = .ok (.iinc 4 1, 3) := by decide +kernel
theorem d_RS_ticks_128 : decode prog_1_method_17_code 128 = .ok (.goto 15, 3) := by decide +kernel
theorem d_RS_ticks_131 : decode prog_1_method_17_code 131 = .ok (.aload_n 0, 1) := by decide +kernel
theorem d_RS_ticks_132 : decode prog_1_method_17_code 132 = .ok (.aload 5, 2) := by decide +kernel
theorem d_RS_ticks_134 : decode prog_1_method_17_code 134 = .ok (.invokevirtual 202, 3) := by decide +kernel
theorem d_RS_ticks_137 : decode prog_1_method_17_code 137 = .ok (.aload_n 0, 1) := by decide +kernel
theorem d_RS_ticks_138 : decode prog_1_method_17_code 138 = .ok (.iload 4, 2) := by decide +kernel
theorem d_RS_ticks_140 : decode prog_1_method_17_code 140 = .ok (.invokevirtual 206, 3) := by decide +kernel
theorem d_RS_ticks_143 : decode prog_1_method_17_code 143 = .ok (.goto (-54), 3) := by decide +kernel
theorem d_RS_ticks_146 : decode prog_1_method_17_code 146 = .ok (.iinc 3 1, 3) := by decide +kernel
theorem d_RS_ticks_149 : decode prog_1_method_17_code 149 = .ok (.goto (-133), 3) := by decide +kernel
theorem d_RS_ticks_152 : decode prog_1_method_17_code 152 = .ok (.iload_n 2, 1) := by decide +kernel
theorem d_RS_ticks_153 : decode prog_1_method_17_code 153 = .ok (.ireturn, 1) := by decide +kernel
set_option maxHeartbeats 4000000 in
set_option maxRecDepth 100000 in
theorem w_RS_ticks_143 {res : (Int32 ⊕ (Nat × Nat)) × xH} (C : x_C l s0 A0 D R_RS prog_1_method_17_code 8 [] p s m args meth c) (hr : meth.sig.returnType = (some .int)) (hnm : meth.name = "ticks") (hRf : 7 ≤ R.frames) (hRl : 193 ≤ R.locals) {k16 : Nat → Int32 → Int32 → Int32 → xM Int32} (hs16 : ∀ (l0 : Nat) (l1 : Int32) (l2 : Int32) (l3 : Int32) (h : xH) (H : Heap) (locs : List Loc) (cells slots : Nat) (ls : Array Slot), k16 l0 l1 l2 l3 h = some res → x_S s0 D R h H locs cells slots → lv_has ls 8 [(0, .ref l0), (1, .int l1), (2, .int l2), (3, .int l3)] → W p l e R s m args below meth c H locs cells slots (x_Q s0 D below s R (x_oc vI res.1) res.2) (F0 m 16 ls [])) {k89 : Nat → Int32 → Int32 → Int32 → Int32 → xM Int32} (hs89 : ∀ (l0 : Nat) (l1 : Int32) (l2 : Int32) (l3 : Int32) (l4 : Int32) (h : xH) (H : Heap) (locs : List Loc) (cells slots : Nat) (ls : Array Slot), k89 l0 l1 l2 l3 l4 h = some res → x_S s0 D R h H locs cells slots → lv_has ls 8 [(0, .ref l0), (1, .int l1), (2, .int l2), (3, .int l3), (4, .int l4)] → W p l e R s m args below meth c H locs cells slots (x_Q s0 D below s R (x_oc vI res.1) res.2) (F0 m 89 ls [])) (l0 : Nat) (l1 : Int32) (l2 : Int32) (l3 : Int32) (l4 : Int32) (hp : f_RS_ticks_b143 k16 k89 l0 l1 l2 l3 l4 h = some res) (hH : x_S s0 D R h H locs cells slots) (hl : lv_has ls 8 [(0, .ref l0), (1, .int l1), (2, .int l2), (3, .int l3), (4, .int l4)]) : W p l e R s m args below meth c H locs cells slots (x_Q s0 D below s R (x_oc vI res.1) res.2) (F0 m 143 ls []) := by
  obtain ⟨hx, hb, hown, hts, hK, hml, hW, Z, -⟩ := id C
  unfold f_RS_ticks_b143 at hp
  refine lv_goto (tgt := 89) hx hb d_RS_ticks_143 (by decide) ?_
  exact hs89 l0 l1 l2 l3 l4 _ _ _ _ _ _ hp hH (lv_sub hl [0, 1, 2, 3, 4] rfl)
set_option maxHeartbeats 4000000 in
set_option maxRecDepth 100000 in
theorem w_RS_ticks_89 {res : (Int32 ⊕ (Nat × Nat)) × xH} (C : x_C l s0 A0 D R_RS prog_1_method_17_code 8 [] p s m args meth c) (hr : meth.sig.returnType = (some .int)) (hnm : meth.name = "ticks") (hRf : 7 ≤ R.frames) (hRl : 193 ≤ R.locals) {k16 : Nat → Int32 → Int32 → Int32 → xM Int32} (hs16 : ∀ (l0 : Nat) (l1 : Int32) (l2 : Int32) (l3 : Int32) (h : xH) (H : Heap) (locs : List Loc) (cells slots : Nat) (ls : Array Slot), k16 l0 l1 l2 l3 h = some res → x_S s0 D R h H locs cells slots → lv_has ls 8 [(0, .ref l0), (1, .int l1), (2, .int l2), (3, .int l3)] → W p l e R s m args below meth c H locs cells slots (x_Q s0 D below s R (x_oc vI res.1) res.2) (F0 m 16 ls [])) {k89 : Nat → Int32 → Int32 → Int32 → Int32 → xM Int32} (hs89 : ∀ (l0 : Nat) (l1 : Int32) (l2 : Int32) (l3 : Int32) (l4 : Int32) (h : xH) (H : Heap) (locs : List Loc) (cells slots : Nat) (ls : Array Slot), k89 l0 l1 l2 l3 l4 h = some res → x_S s0 D R h H locs cells slots → lv_has ls 8 [(0, .ref l0), (1, .int l1), (2, .int l2), (3, .int l3), (4, .int l4)] → W p l e R s m args below meth c H locs cells slots (x_Q s0 D below s R (x_oc vI res.1) res.2) (F0 m 89 ls [])) (l0 : Nat) (l1 : Int32) (l2 : Int32) (l3 : Int32) (l4 : Int32) (hp : f_RS_ticks_b89 k16 k89 l0 l1 l2 l3 l4 h = some res) (hH : x_S s0 D R h H locs cells slots) (hl : lv_has ls 8 [(0, .ref l0), (1, .int l1), (2, .int l2), (3, .int l3), (4, .int l4)]) : W p l e R s m args below meth c H locs cells slots (x_Q s0 D below s R (x_oc vI res.1) res.2) (F0 m 89 ls []) := by
  obtain ⟨hx, hb, hown, hts, hK, hml, hW, Z, -⟩ := id C
  unfold f_RS_ticks_b89 at hp
  refine lv_iload hx hb d_RS_ticks_89 (lv_at hl 4 rfl) ?_
  refine lv_aload_n hx hb d_RS_ticks_91 rfl (lv_at hl 0 rfl) ?_
  refine x_gI C hH fl_RS_196 d_RS_ticks_92 hp (fun v1 hp => ?_)
  refine lv_icmp_ge (tgt := 146) hx hb d_RS_ticks_95 (by decide) (fun hc => ?_) (fun hc => ?_)
  · replace hp := x_ifp hc hp
    refine lv_iinc (v := (l3 + 1)) (lv' := [(3, .int (l3 + 1)), (0, .ref l0), (1, .int l1), (2, .int l2), (4, .int l4)]) hx hb d_RS_ticks_146 hl (k := 3) rfl rfl (by decide) rfl (fun ls hl => ?_)
    refine lv_goto (tgt := 16) hx hb d_RS_ticks_149 (by decide) ?_
    exact hs16 l0 l1 l2 (l3 + 1) _ _ _ _ _ _ hp hH (lv_sub hl [1, 2, 3, 0] rfl)
  · replace hp := x_ifn hc hp
    refine lv_aload_n hx hb d_RS_ticks_98 rfl (lv_at hl 0 rfl) ?_
    refine x_gA C hH fl_RS_17 d_RS_ticks_99 hp (fun v2 hp => ?_)
    refine lv_aload_n hx hb d_RS_ticks_102 rfl (lv_at hl 0 rfl) ?_
    refine x_gA C hH fl_RS_21 d_RS_ticks_103 hp (fun v3 hp => ?_)
    refine lv_iload hx hb d_RS_ticks_106 (lv_at hl 4 rfl) ?_
    refine x_lI C hH d_RS_ticks_108 hp (fun v4 hp => ?_)
    refine x_lA C hH (by decide) d_RS_ticks_109 hp (fun v5 hp => ?_)
    refine lv_astore (lv' := [(5, .ref v5), (0, .ref l0), (1, .int l1), (2, .int l2), (3, .int l3), (4, .int l4)]) hx hb d_RS_ticks_110 hl (by decide) rfl (fun ls hl => ?_)
    refine lv_aload hx hb d_RS_ticks_112 (lv_at hl 0 rfl) ?_
    refine x_gJ C hH fl_RS_199 d_RS_ticks_114 hp (fun v6 hp => ?_)
    refine lv_aload_n hx hb d_RS_ticks_117 rfl (lv_at hl 1 rfl) ?_
    refine x_gJ C hH fl_RS_188 d_RS_ticks_118 hp (fun v7 hp => ?_)
    refine W.lcmp hx hb d_RS_ticks_121 ?_
    refine lv_if_le (tgt := 131) hx hb d_RS_ticks_122 (by decide) (fun hc => ?_) (fun hc => ?_)
    · replace hp := x_ifp hc hp
      refine lv_aload_n hx hb d_RS_ticks_131 rfl (lv_at hl 1 rfl) ?_
      refine lv_aload hx hb d_RS_ticks_132 (lv_at hl 0 rfl) ?_
      refine x_callV (As := [.ref v5]) (rest := []) (cv := vU) C hH kc_RS_202 d_RS_ticks_134 hp (fun o h' e => m_RS_fail Z e) rfl hl.1 (Nat.le_trans (Nat.le_of_ble_eq_true rfl) hRf) (Nat.le_trans (Nat.le_of_ble_eq_true rfl) hRl) (Nat.le_of_ble_eq_true rfl) (fun v8 h H locs cells slots hp hH => ?_)
      refine W.eq (g2 := F0 m 137 ls []) rfl ?_
      refine lv_aload_n hx hb d_RS_ticks_137 rfl (lv_at hl 1 rfl) ?_
      refine lv_iload hx hb d_RS_ticks_138 (lv_at hl 5 rfl) ?_
      refine x_callV (As := [.int l4]) (rest := []) (cv := vU) C hH kc_RS_206 d_RS_ticks_140 hp (fun o h' e => m_RS_leave Z e) rfl hl.1 (Nat.le_trans (Nat.le_of_ble_eq_true rfl) hRf) (Nat.le_trans (Nat.le_of_ble_eq_true rfl) hRl) (Nat.le_of_ble_eq_true rfl) (fun v9 h H locs cells slots hp hH => ?_)
      refine W.eq (g2 := F0 m 143 ls []) rfl ?_
      exact w_RS_ticks_143 C hr hnm hRf hRl hs16 hs89 l0 l1 l2 l3 l4 hp hH (lv_sub hl [1, 2, 3, 4, 5] rfl)
    · replace hp := x_ifn hc hp
      refine lv_iinc (v := (l4 + 1)) (lv' := [(4, .int (l4 + 1)), (5, .ref v5), (0, .ref l0), (1, .int l1), (2, .int l2), (3, .int l3)]) hx hb d_RS_ticks_125 hl (k := 5) rfl rfl (by decide) rfl (fun ls hl => ?_)
      refine lv_goto (tgt := 143) hx hb d_RS_ticks_128 (by decide) ?_
      exact w_RS_ticks_143 C hr hnm hRf hRl hs16 hs89 l0 l1 l2 l3 (l4 + 1) hp hH (lv_sub hl [2, 3, 4, 5, 0] rfl)
theorem w_RS_ticks_h89 {res : (Int32 ⊕ (Nat × Nat)) × xH} (C : x_C l s0 A0 D R_RS prog_1_method_17_code 8 [] p s m args meth c) (hr : meth.sig.returnType = (some .int)) (hnm : meth.name = "ticks") (hRf : 7 ≤ R.frames) (hRl : 193 ≤ R.locals) {k16 : Nat → Int32 → Int32 → Int32 → xM Int32} (hs16 : ∀ (l0 : Nat) (l1 : Int32) (l2 : Int32) (l3 : Int32) (h : xH) (H : Heap) (locs : List Loc) (cells slots : Nat) (ls : Array Slot), k16 l0 l1 l2 l3 h = some res → x_S s0 D R h H locs cells slots → lv_has ls 8 [(0, .ref l0), (1, .int l1), (2, .int l2), (3, .int l3)] → W p l e R s m args below meth c H locs cells slots (x_Q s0 D below s R (x_oc vI res.1) res.2) (F0 m 16 ls [])) : ∀ (n : Nat) (l0 : Nat) (l1 : Int32) (l2 : Int32) (l3 : Int32) (l4 : Int32) (h : xH) (H : Heap) (locs : List Loc) (cells slots : Nat) (ls : Array Slot), f_RS_ticks_h89 k16 n l0 l1 l2 l3 l4 h = some res → x_S s0 D R h H locs cells slots → lv_has ls 8 [(0, .ref l0), (1, .int l1), (2, .int l2), (3, .int l3), (4, .int l4)] → W p l e R s m args below meth c H locs cells slots (x_Q s0 D below s R (x_oc vI res.1) res.2) (F0 m 89 ls []) := by
  intro n
  induction n with
  | zero => intro l0 l1 l2 l3 l4 h H locs cells slots ls hp hH hl; cases hp
  | succ n ih => intro l0 l1 l2 l3 l4 h H locs cells slots ls hp hH hl; exact w_RS_ticks_89 C hr hnm hRf hRl hs16 ih l0 l1 l2 l3 l4 hp hH hl
set_option maxHeartbeats 4000000 in
set_option maxRecDepth 100000 in
theorem w_RS_ticks_78 {res : (Int32 ⊕ (Nat × Nat)) × xH} (C : x_C l s0 A0 D R_RS prog_1_method_17_code 8 [] p s m args meth c) (hr : meth.sig.returnType = (some .int)) (hnm : meth.name = "ticks") (hRf : 7 ≤ R.frames) (hRl : 193 ≤ R.locals) {k16 : Nat → Int32 → Int32 → Int32 → xM Int32} (hs16 : ∀ (l0 : Nat) (l1 : Int32) (l2 : Int32) (l3 : Int32) (h : xH) (H : Heap) (locs : List Loc) (cells slots : Nat) (ls : Array Slot), k16 l0 l1 l2 l3 h = some res → x_S s0 D R h H locs cells slots → lv_has ls 8 [(0, .ref l0), (1, .int l1), (2, .int l2), (3, .int l3)] → W p l e R s m args below meth c H locs cells slots (x_Q s0 D below s R (x_oc vI res.1) res.2) (F0 m 16 ls [])) {k45 : Nat → Int32 → Int32 → Int32 → Nat → Int32 → Int32 → xM Int32} (hs45 : ∀ (l0 : Nat) (l1 : Int32) (l2 : Int32) (l3 : Int32) (l4 : Nat) (l5 : Int32) (l6 : Int32) (h : xH) (H : Heap) (locs : List Loc) (cells slots : Nat) (ls : Array Slot), k45 l0 l1 l2 l3 l4 l5 l6 h = some res → x_S s0 D R h H locs cells slots → lv_has ls 8 [(0, .ref l0), (1, .int l1), (2, .int l2), (3, .int l3), (4, .ref l4), (5, .int l5), (6, .int l6)] → W p l e R s m args below meth c H locs cells slots (x_Q s0 D below s R (x_oc vI res.1) res.2) (F0 m 45 ls [])) (l0 : Nat) (l1 : Int32) (l3 : Int32) (l4 : Nat) (l5 : Int32) (l6 : Int32) (t0 : Int32) (t1 : Int32) (hp : f_RS_ticks_b78 k16 k45 l0 l1 l3 l4 l5 l6 t0 t1 h = some res) (hH : x_S s0 D R h H locs cells slots) (hl : lv_has ls 8 [(0, .ref l0), (1, .int l1), (3, .int l3), (4, .ref l4), (5, .int l5), (6, .int l6)]) : W p l e R s m args below meth c H locs cells slots (x_Q s0 D below s R (x_oc vI res.1) res.2) (F0 m 78 ls [.int t0, .int t1]) := by
  obtain ⟨hx, hb, hown, hts, hK, hml, hW, Z, -⟩ := id C
  unfold f_RS_ticks_b78 at hp
  refine lv_iadd hx hb d_RS_ticks_78 ?_
  refine lv_istore_n (lv' := [(2, .int (t1 + t0)), (0, .ref l0), (1, .int l1), (3, .int l3), (4, .ref l4), (5, .int l5), (6, .int l6)]) hx hb d_RS_ticks_79 rfl hl (by decide) rfl (fun ls hl => ?_)
  refine lv_iinc (v := (l6 + 1)) (lv' := [(6, .int (l6 + 1)), (2, .int (t1 + t0)), (0, .ref l0), (1, .int l1), (3, .int l3), (4, .ref l4), (5, .int l5)]) hx hb d_RS_ticks_80 hl (k := 6) rfl rfl (by decide) rfl (fun ls hl => ?_)
  refine lv_goto (tgt := 45) hx hb d_RS_ticks_83 (by decide) ?_
  exact hs45 l0 l1 (t1 + t0) l3 l4 l5 (l6 + 1) _ _ _ _ _ _ hp hH (lv_sub hl [2, 3, 1, 4, 5, 6, 0] rfl)
set_option maxHeartbeats 4000000 in
set_option maxRecDepth 100000 in
theorem w_RS_ticks_45 {res : (Int32 ⊕ (Nat × Nat)) × xH} (C : x_C l s0 A0 D R_RS prog_1_method_17_code 8 [] p s m args meth c) (hr : meth.sig.returnType = (some .int)) (hnm : meth.name = "ticks") (hRf : 7 ≤ R.frames) (hRl : 193 ≤ R.locals) {k16 : Nat → Int32 → Int32 → Int32 → xM Int32} (hs16 : ∀ (l0 : Nat) (l1 : Int32) (l2 : Int32) (l3 : Int32) (h : xH) (H : Heap) (locs : List Loc) (cells slots : Nat) (ls : Array Slot), k16 l0 l1 l2 l3 h = some res → x_S s0 D R h H locs cells slots → lv_has ls 8 [(0, .ref l0), (1, .int l1), (2, .int l2), (3, .int l3)] → W p l e R s m args below meth c H locs cells slots (x_Q s0 D below s R (x_oc vI res.1) res.2) (F0 m 16 ls [])) {k45 : Nat → Int32 → Int32 → Int32 → Nat → Int32 → Int32 → xM Int32} (hs45 : ∀ (l0 : Nat) (l1 : Int32) (l2 : Int32) (l3 : Int32) (l4 : Nat) (l5 : Int32) (l6 : Int32) (h : xH) (H : Heap) (locs : List Loc) (cells slots : Nat) (ls : Array Slot), k45 l0 l1 l2 l3 l4 l5 l6 h = some res → x_S s0 D R h H locs cells slots → lv_has ls 8 [(0, .ref l0), (1, .int l1), (2, .int l2), (3, .int l3), (4, .ref l4), (5, .int l5), (6, .int l6)] → W p l e R s m args below meth c H locs cells slots (x_Q s0 D below s R (x_oc vI res.1) res.2) (F0 m 45 ls [])) (l0 : Nat) (l1 : Int32) (l2 : Int32) (l3 : Int32) (l4 : Nat) (l5 : Int32) (l6 : Int32) (hp : f_RS_ticks_b45 k16 k45 l0 l1 l2 l3 l4 l5 l6 h = some res) (hH : x_S s0 D R h H locs cells slots) (hl : lv_has ls 8 [(0, .ref l0), (1, .int l1), (2, .int l2), (3, .int l3), (4, .ref l4), (5, .int l5), (6, .int l6)]) : W p l e R s m args below meth c H locs cells slots (x_Q s0 D below s R (x_oc vI res.1) res.2) (F0 m 45 ls []) := by
  obtain ⟨hx, hb, hown, hts, hK, hml, hW, Z, -⟩ := id C
  unfold f_RS_ticks_b45 at hp
  refine lv_iload hx hb d_RS_ticks_45 (lv_at hl 6 rfl) ?_
  refine lv_iload hx hb d_RS_ticks_47 (lv_at hl 5 rfl) ?_
  refine lv_icmp_ge (tgt := 86) hx hb d_RS_ticks_49 (by decide) (fun hc => ?_) (fun hc => ?_)
  · replace hp := x_ifp hc hp
    refine lv_iconst (v := 0) hx hb d_RS_ticks_86 (by decide) ?_
    refine lv_istore (lv' := [(4, .int 0), (0, .ref l0), (1, .int l1), (2, .int l2), (3, .int l3), (5, .int l5), (6, .int l6)]) hx hb d_RS_ticks_87 hl (by decide) rfl (fun ls hl => ?_)
    exact w_RS_ticks_h89 C hr hnm hRf hRl hs16 1000 l0 l1 l2 l3 0 _ _ _ _ _ _ hp hH (lv_sub hl [1, 2, 3, 4, 0] rfl)
  · replace hp := x_ifn hc hp
    refine lv_aload hx hb d_RS_ticks_52 (lv_at hl 4 rfl) ?_
    refine lv_iload hx hb d_RS_ticks_54 (lv_at hl 6 rfl) ?_
    refine x_lA C hH (by decide) d_RS_ticks_56 hp (fun v1 hp => ?_)
    refine lv_astore (lv' := [(7, .ref v1), (0, .ref l0), (1, .int l1), (2, .int l2), (3, .int l3), (4, .ref l4), (5, .int l5), (6, .int l6)]) hx hb d_RS_ticks_57 hl (by decide) rfl (fun ls hl => ?_)
    refine lv_iload_n hx hb d_RS_ticks_59 rfl (lv_at hl 3 rfl) ?_
    refine lv_aload hx hb d_RS_ticks_60 (lv_at hl 0 rfl) ?_
    refine x_gI C hH fl_RS_173 d_RS_ticks_62 hp (fun v2 hp => ?_)
    refine lv_if_eq (tgt := 77) hx hb d_RS_ticks_65 (by decide) (fun hc => ?_) (fun hc => ?_)
    · replace hp := x_ifp hc hp
      refine lv_iconst (v := 0) hx hb d_RS_ticks_77 (by decide) ?_
      exact w_RS_ticks_78 C hr hnm hRf hRl hs16 hs45 l0 l1 l3 l4 l5 l6 0 l2 hp hH (lv_sub hl [1, 2, 4, 5, 6, 7] rfl)
    · replace hp := x_ifn hc hp
      refine lv_aload_n hx hb d_RS_ticks_68 rfl (lv_at hl 1 rfl) ?_
      refine lv_aload hx hb d_RS_ticks_69 (lv_at hl 0 rfl) ?_
      refine x_callV (As := [.ref v1]) (rest := [.int l2]) (cv := vI) C hH kc_RS_192 d_RS_ticks_71 hp (fun o h' e => m_RS_hurry Z e) rfl hl.1 (Nat.le_trans (Nat.le_of_ble_eq_true rfl) hRf) (Nat.le_trans (Nat.le_of_ble_eq_true rfl) hRl) (Nat.le_of_ble_eq_true rfl) (fun v3 h H locs cells slots hp hH => ?_)
      refine W.eq (g2 := F0 m 74 ls [.int v3, .int l2]) rfl ?_
      refine lv_goto (tgt := 78) hx hb d_RS_ticks_74 (by decide) ?_
      exact w_RS_ticks_78 C hr hnm hRf hRl hs16 hs45 l0 l1 l3 l4 l5 l6 v3 l2 hp hH (lv_sub hl [1, 2, 4, 5, 6, 7] rfl)
theorem w_RS_ticks_h45 {res : (Int32 ⊕ (Nat × Nat)) × xH} (C : x_C l s0 A0 D R_RS prog_1_method_17_code 8 [] p s m args meth c) (hr : meth.sig.returnType = (some .int)) (hnm : meth.name = "ticks") (hRf : 7 ≤ R.frames) (hRl : 193 ≤ R.locals) {k16 : Nat → Int32 → Int32 → Int32 → xM Int32} (hs16 : ∀ (l0 : Nat) (l1 : Int32) (l2 : Int32) (l3 : Int32) (h : xH) (H : Heap) (locs : List Loc) (cells slots : Nat) (ls : Array Slot), k16 l0 l1 l2 l3 h = some res → x_S s0 D R h H locs cells slots → lv_has ls 8 [(0, .ref l0), (1, .int l1), (2, .int l2), (3, .int l3)] → W p l e R s m args below meth c H locs cells slots (x_Q s0 D below s R (x_oc vI res.1) res.2) (F0 m 16 ls [])) : ∀ (n : Nat) (l0 : Nat) (l1 : Int32) (l2 : Int32) (l3 : Int32) (l4 : Nat) (l5 : Int32) (l6 : Int32) (h : xH) (H : Heap) (locs : List Loc) (cells slots : Nat) (ls : Array Slot), f_RS_ticks_h45 k16 n l0 l1 l2 l3 l4 l5 l6 h = some res → x_S s0 D R h H locs cells slots → lv_has ls 8 [(0, .ref l0), (1, .int l1), (2, .int l2), (3, .int l3), (4, .ref l4), (5, .int l5), (6, .int l6)] → W p l e R s m args below meth c H locs cells slots (x_Q s0 D below s R (x_oc vI res.1) res.2) (F0 m 45 ls []) := by
  intro n
  induction n with
  | zero => intro l0 l1 l2 l3 l4 l5 l6 h H locs cells slots ls hp hH hl; cases hp
  | succ n ih => intro l0 l1 l2 l3 l4 l5 l6 h H locs cells slots ls hp hH hl; exact w_RS_ticks_45 C hr hnm hRf hRl hs16 ih l0 l1 l2 l3 l4 l5 l6 hp hH hl
set_option maxHeartbeats 4000000 in
set_option maxRecDepth 100000 in
theorem w_RS_ticks_16 {res : (Int32 ⊕ (Nat × Nat)) × xH} (C : x_C l s0 A0 D R_RS prog_1_method_17_code 8 [] p s m args meth c) (hr : meth.sig.returnType = (some .int)) (hnm : meth.name = "ticks") (hRf : 7 ≤ R.frames) (hRl : 193 ≤ R.locals) {k16 : Nat → Int32 → Int32 → Int32 → xM Int32} (hs16 : ∀ (l0 : Nat) (l1 : Int32) (l2 : Int32) (l3 : Int32) (h : xH) (H : Heap) (locs : List Loc) (cells slots : Nat) (ls : Array Slot), k16 l0 l1 l2 l3 h = some res → x_S s0 D R h H locs cells slots → lv_has ls 8 [(0, .ref l0), (1, .int l1), (2, .int l2), (3, .int l3)] → W p l e R s m args below meth c H locs cells slots (x_Q s0 D below s R (x_oc vI res.1) res.2) (F0 m 16 ls [])) (l0 : Nat) (l1 : Int32) (l2 : Int32) (l3 : Int32) (hp : f_RS_ticks_b16 k16 l0 l1 l2 l3 h = some res) (hH : x_S s0 D R h H locs cells slots) (hl : lv_has ls 8 [(0, .ref l0), (1, .int l1), (2, .int l2), (3, .int l3)]) : W p l e R s m args below meth c H locs cells slots (x_Q s0 D below s R (x_oc vI res.1) res.2) (F0 m 16 ls []) := by
  obtain ⟨hx, hb, hown, hts, hK, hml, hW, Z, -⟩ := id C
  unfold f_RS_ticks_b16 at hp
  refine lv_iload_n hx hb d_RS_ticks_16 rfl (lv_at hl 3 rfl) ?_
  refine lv_iload_n hx hb d_RS_ticks_17 rfl (lv_at hl 1 rfl) ?_
  refine lv_icmp_ge (tgt := 152) hx hb d_RS_ticks_18 (by decide) (fun hc => ?_) (fun hc => ?_)
  · replace hp := x_ifp hc hp
    refine lv_iload_n hx hb d_RS_ticks_152 rfl (lv_at hl 2 rfl) ?_
    exact x_iret C hH hr d_RS_ticks_153 hp
  · replace hp := x_ifn hc hp
    refine lv_aload_n hx hb d_RS_ticks_21 rfl (lv_at hl 0 rfl) ?_
    refine lv_dup hx hb d_RS_ticks_22 rfl ?_
    refine x_gJ C hH fl_RS_188 d_RS_ticks_23 hp (fun v1 hp => ?_)
    refine lv_lconst (v := 1) hx hb d_RS_ticks_26 (by decide) ?_
    refine lv_ladd hx hb d_RS_ticks_27 ?_
    refine x_pV C hH fp_RS_188 (fun h => Bool.noConfusion h) d_RS_ticks_28 rfl rfl hp (fun h H locs hp hH => ?_)
    refine lv_aload_n hx hb d_RS_ticks_31 rfl (lv_at hl 0 rfl) ?_
    refine x_gA C hH fl_RS_46 d_RS_ticks_32 hp (fun v2 hp => ?_)
    refine lv_astore (lv' := [(4, .ref v2), (0, .ref l0), (1, .int l1), (2, .int l2), (3, .int l3)]) hx hb d_RS_ticks_35 hl (by decide) rfl (fun ls hl => ?_)
    refine lv_aload hx hb d_RS_ticks_37 (lv_at hl 0 rfl) ?_
    refine x_aL C hH d_RS_ticks_39 hp (fun v3 hp => ?_)
    refine lv_istore (lv' := [(5, .int v3), (4, .ref v2), (0, .ref l0), (1, .int l1), (2, .int l2), (3, .int l3)]) hx hb d_RS_ticks_40 hl (by decide) rfl (fun ls hl => ?_)
    refine lv_iconst (v := 0) hx hb d_RS_ticks_42 (by decide) ?_
    refine lv_istore (lv' := [(6, .int 0), (5, .int v3), (4, .ref v2), (0, .ref l0), (1, .int l1), (2, .int l2), (3, .int l3)]) hx hb d_RS_ticks_43 hl (by decide) rfl (fun ls hl => ?_)
    exact w_RS_ticks_h45 C hr hnm hRf hRl hs16 1000 l0 l1 l2 l3 v2 v3 0 _ _ _ _ _ _ hp hH (lv_sub hl [3, 4, 5, 6, 2, 1, 0] rfl)
theorem w_RS_ticks_h16 {res : (Int32 ⊕ (Nat × Nat)) × xH} (C : x_C l s0 A0 D R_RS prog_1_method_17_code 8 [] p s m args meth c) (hr : meth.sig.returnType = (some .int)) (hnm : meth.name = "ticks") (hRf : 7 ≤ R.frames) (hRl : 193 ≤ R.locals)  : ∀ (n : Nat) (l0 : Nat) (l1 : Int32) (l2 : Int32) (l3 : Int32) (h : xH) (H : Heap) (locs : List Loc) (cells slots : Nat) (ls : Array Slot), f_RS_ticks_h16 n l0 l1 l2 l3 h = some res → x_S s0 D R h H locs cells slots → lv_has ls 8 [(0, .ref l0), (1, .int l1), (2, .int l2), (3, .int l3)] → W p l e R s m args below meth c H locs cells slots (x_Q s0 D below s R (x_oc vI res.1) res.2) (F0 m 16 ls []) := by
  intro n
  induction n with
  | zero => intro l0 l1 l2 l3 h H locs cells slots ls hp hH hl; cases hp
  | succ n ih => intro l0 l1 l2 l3 h H locs cells slots ls hp hH hl; exact w_RS_ticks_16 C hr hnm hRf hRl ih l0 l1 l2 l3 hp hH hl
set_option maxHeartbeats 4000000 in
set_option maxRecDepth 100000 in
theorem w_RS_ticks_0 {res : (Int32 ⊕ (Nat × Nat)) × xH} (C : x_C l s0 A0 D R_RS prog_1_method_17_code 8 [] p s m args meth c) (hr : meth.sig.returnType = (some .int)) (hnm : meth.name = "ticks") (hRf : 7 ≤ R.frames) (hRl : 193 ≤ R.locals)  (l0 : Nat) (l1 : Int32) (hp : f_RS_ticks l0 l1 h = some res) (hH : x_S s0 D R h H locs cells slots) (hl : lv_has ls 8 [(0, .ref l0), (1, .int l1)]) : W p l e R s m args below meth c H locs cells slots (x_Q s0 D below s R (x_oc vI res.1) res.2) (F0 m 0 ls []) := by
  obtain ⟨hx, hb, hown, hts, hK, hml, hW, Z, -⟩ := id C
  unfold f_RS_ticks at hp
  refine lv_iload_n hx hb d_RS_ticks_0 rfl (lv_at hl 1 rfl) ?_
  refine lv_i2l (v := l1.toInt64) hx hb d_RS_ticks_1 rfl ?_
  refine lv_lconst (v := 0) hx hb d_RS_ticks_2 (by decide) ?_
  refine lv_ldc2 hx hb hown (hts _ k_518) d_RS_ticks_3 ?_
  refine x_callS (As := [.long l1.toInt64, .long 0, .long 100]) (rest := []) (cv := vI) C hH kc_RS_27 d_RS_ticks_6 hp (fun o h' e => m_RS_isIn Z e) rfl hl.1 (Nat.le_trans (Nat.le_of_ble_eq_true rfl) hRf) (Nat.le_trans (Nat.le_of_ble_eq_true rfl) hRl) (Nat.le_of_ble_eq_true rfl) (fun v1 h H locs cells slots hp hH => ?_)
  refine W.eq (g2 := F0 m 9 ls [.int v1]) rfl ?_
  refine x_callS (As := [.int v1]) (rest := []) (cv := vU) C hH kc_RS_71 d_RS_ticks_9 hp (fun o h' e => m_RS_want Z e) rfl hl.1 (Nat.le_trans (Nat.le_of_ble_eq_true rfl) hRf) (Nat.le_trans (Nat.le_of_ble_eq_true rfl) hRl) (Nat.le_of_ble_eq_true rfl) (fun v2 h H locs cells slots hp hH => ?_)
  refine W.eq (g2 := F0 m 12 ls []) rfl ?_
  refine lv_iconst (v := 0) hx hb d_RS_ticks_12 (by decide) ?_
  refine lv_istore_n (lv' := [(2, .int 0), (0, .ref l0), (1, .int l1)]) hx hb d_RS_ticks_13 rfl hl (by decide) rfl (fun ls hl => ?_)
  refine lv_iconst (v := 0) hx hb d_RS_ticks_14 (by decide) ?_
  refine lv_istore_n (lv' := [(3, .int 0), (2, .int 0), (0, .ref l0), (1, .int l1)]) hx hb d_RS_ticks_15 rfl hl (by decide) rfl (fun ls hl => ?_)
  exact w_RS_ticks_h16 C hr hnm hRf hRl  1000 l0 l1 0 0 _ _ _ _ _ _ hp hH (lv_sub hl [2, 3, 1, 0] rfl)
set_option maxRecDepth 100000 in
theorem m_RS_ticks (Z : x_Z l s0 A0 D) {l0 : Nat} {l1 : Int32} {res : (Int32 ⊕ (Nat × Nat)) × xH} (hp : f_RS_ticks l0 l1 h = some res) : x_M l s0 D y_RS_ticks (x_cw y_RS_ticks prog_1_method_17_code 8 (some .int) []) 7 193 [.ref l0, .int l1] h (x_oc vI res.1) res.2 := by
  refine x_M.ofW Z (plainFor_of_name (by decide)) ?_
  intro p e s m below meth c C hnm hr hH
  have hl := lv_entry ([.ref l0, .int l1]) (n := 8) (Nat.le_of_ble_eq_true rfl)
  rw [lg_entry_eq]
  generalize (lg_sl ([.ref l0, .int l1]) ++ List.replicate (8 - (lg_sl ([.ref l0, .int l1])).length) Slot.unset).toArray = ls at hl ⊢
  exact w_RS_ticks_0 C hr hnm (Nat.le_refl _) (Nat.le_refl _) l0 l1 hp hH hl
/-! ReadSideLaw.ticks(LReadSide;I[J)I -/
theorem d_law_ticks_0 : decode method_8_code 0 = .ok (.aload_n 2, 1) := by decide +kernel
theorem d_law_ticks_1 : decode method_8_code 1 = .ok (.iconst 0, 1) := by decide +kernel
theorem d_law_ticks_2 : decode method_8_code 2 = .ok (.aload_n 0, 1) := by decide +kernel
theorem d_law_ticks_3 : decode method_8_code 3 = .ok (.iload_n 1, 1) := by decide +kernel
theorem d_law_ticks_4 : decode method_8_code 4 = .ok (.invokevirtual 32, 3) := by decide +kernel
theorem d_law_ticks_7 : decode method_8_code 7 = .ok (.i2l, 1) := by decide +kernel
theorem d_law_ticks_8 : decode method_8_code 8 = .ok (.lastore, 1) := by decide +kernel
theorem d_law_ticks_9 : decode method_8_code 9 = .ok (.goto 6, 3) := by decide +kernel
theorem d_law_ticks_12 : decode method_8_code 12 = .ok (.astore_n 3, 1) := by decide +kernel
theorem d_law_ticks_13 : decode method_8_code 13 = .ok (.iconst 1, 1) := by decide +kernel
theorem d_law_ticks_14 : decode method_8_code 14 = .ok (.ireturn, 1) := by decide +kernel
theorem d_law_ticks_15 : decode method_8_code 15 = .ok (.iconst 0, 1) := by decide +kernel
theorem d_law_ticks_16 : decode method_8_code 16 = .ok (.ireturn, 1) := by decide +kernel
set_option maxHeartbeats 4000000 in
set_option maxRecDepth 100000 in
theorem w_law_ticks_0 {res : (Int32 ⊕ (Nat × Nat)) × xH} (C : x_C l s0 A0 D R_law method_8_code 4 [(0, 9, 12, 15)] p s m args meth c) (hr : meth.sig.returnType = (some .int)) (hnm : meth.name = "ticks") (hRf : 8 ≤ R.frames) (hRl : 228 ≤ R.locals)  (l0 : Nat) (l1 : Int32) (l2 : Nat) (hp : f_law_ticks l0 l1 l2 h = some res) (hH : x_S s0 D R h H locs cells slots) (hl : lv_has ls 4 [(0, .ref l0), (1, .int l1), (2, .ref l2)]) : W p l e R s m args below meth c H locs cells slots (x_Q s0 D below s R (x_oc vI res.1) res.2) (F0 m 0 ls []) := by
  obtain ⟨hx, hb, hown, hts, hK, hml, hW, Z, -⟩ := id C
  unfold f_law_ticks at hp
  refine lv_aload_n hx hb d_law_ticks_0 rfl (lv_at hl 2 rfl) ?_
  refine lv_iconst (v := 0) hx hb d_law_ticks_1 (by decide) ?_
  refine lv_aload_n hx hb d_law_ticks_2 rfl (lv_at hl 0 rfl) ?_
  refine lv_iload_n hx hb d_law_ticks_3 rfl (lv_at hl 1 rfl) ?_
  refine x_callVc (As := [.int l1]) (rest := [.int 0, .ref l2]) (cv := vI) C ct_law hH kc_law_32 d_law_ticks_4 hp (fun o h' e => m_RS_ticks Z e) rfl hl.1 (Nat.le_trans (Nat.le_of_ble_eq_true rfl) hRf) (Nat.le_trans (Nat.le_of_ble_eq_true rfl) hRl) (Nat.le_of_ble_eq_true rfl) (fun v1 h H locs cells slots hp hH => ?_) (fun a ci h H locs cells slots hp hH => ?_)
  · refine W.eq (g2 := F0 m 7 ls [.int v1, .int 0, .ref l2]) rfl ?_
    refine lv_i2l (v := v1.toInt64) hx hb d_law_ticks_7 rfl ?_
    refine x_sJ C hH d_law_ticks_8 hp (fun h H locs hp hH => ?_)
    refine lv_goto (tgt := 15) hx hb d_law_ticks_9 (by decide) ?_
    refine lv_iconst (v := 0) hx hb d_law_ticks_15 (by decide) ?_
    exact x_iret C hH hr d_law_ticks_16 hp
  · by_cases hc11 : ci = 11
    · replace hp := x_ifp hc11 hp
      subst hc11
      refine ⟨12, rfl, ?_⟩
      refine lv_astore_n (lv' := [(3, .ref a), (0, .ref l0), (1, .int l1), (2, .ref l2)]) hx hb d_law_ticks_12 rfl hl (by decide) rfl (fun ls hl => ?_)
      refine lv_iconst (v := 1) hx hb d_law_ticks_13 (by decide) ?_
      exact x_iret C hH hr d_law_ticks_14 hp
    replace hp := x_ifn hc11 hp
    cases hp
set_option maxRecDepth 100000 in
theorem m_law_ticks (Z : x_Z l s0 A0 D) {l0 : Nat} {l1 : Int32} {l2 : Nat} {res : (Int32 ⊕ (Nat × Nat)) × xH} (hp : f_law_ticks l0 l1 l2 h = some res) : x_M l s0 D y_law_ticks (x_cw y_law_ticks method_8_code 4 (some .int) [(0, 9, 12, 15)]) 8 228 [.ref l0, .int l1, .ref l2] h (x_oc vI res.1) res.2 := by
  refine x_M.ofW Z (plainFor_of_name (by decide)) ?_
  intro p e s m below meth c C hnm hr hH
  have hl := lv_entry ([.ref l0, .int l1, .ref l2]) (n := 4) (Nat.le_of_ble_eq_true rfl)
  rw [lg_entry_eq]
  generalize (lg_sl ([.ref l0, .int l1, .ref l2]) ++ List.replicate (4 - (lg_sl ([.ref l0, .int l1, .ref l2])).length) Slot.unset).toArray = ls at hl ⊢
  exact w_law_ticks_0 C hr hnm (Nat.le_refl _) (Nat.le_refl _) l0 l1 l2 hp hH hl
/-! ReadSide.up(IZ)Z -/
theorem d_RS_up_0 : decode prog_1_method_18_code 0 = .ok (.aload_n 0, 1) := by decide +kernel
theorem d_RS_up_1 : decode prog_1_method_18_code 1 = .ok (.iload_n 1, 1) := by decide +kernel
theorem d_RS_up_2 : decode prog_1_method_18_code 2 = .ok (.invokevirtual 82, 3) := by decide +kernel
theorem d_RS_up_5 : decode prog_1_method_18_code 5 = .ok (.astore_n 3, 1) := by decide +kernel
theorem d_RS_up_6 : decode prog_1_method_18_code 6 = .ok (.aload_n 3, 1) := by decide +kernel
theorem d_RS_up_7 : decode prog_1_method_18_code 7 = .ok (.getfield 173, 3) := by decide +kernel
theorem d_RS_up_10 : decode prog_1_method_18_code 10 = .ok (.istore 4, 2) := by decide +kernel
theorem d_RS_up_12 : decode prog_1_method_18_code 12 = .ok (.aload_n 3, 1) := by decide +kernel
theorem d_RS_up_13 : decode prog_1_method_18_code 13 = .ok (.iload_n 2, 1) := by decide +kernel
theorem d_RS_up_14 : decode prog_1_method_18_code 14 = .ok (.putfield 173, 3) := by decide +kernel
theorem d_RS_up_17 : decode prog_1_method_18_code 17 = .ok (.iload_n 2, 1) := by decide +kernel
theorem d_RS_up_18 : decode prog_1_method_18_code 18 = .ok (.ifCond .eq 13, 3) := by decide +kernel
theorem d_RS_up_21 : decode prog_1_method_18_code 21 = .ok (.iload 4, 2) := by decide +kernel
theorem d_RS_up_23 : decode prog_1_method_18_code 23 = .ok (.ifCond .ne 8, 3) := by decide +kernel
theorem d_RS_up_26 : decode prog_1_method_18_code 26 = .ok (.aload_n 0, 1) := by decide +kernel
theorem d_RS_up_27 : decode prog_1_method_18_code 27 = .ok (.aload_n 3, 1) := by decide +kernel
theorem d_RS_up_28 : decode prog_1_method_18_code 28 = .ok (.invokevirtual 78, 3) := by decide +kernel
theorem d_RS_up_31 : decode prog_1_method_18_code 31 = .ok (.iload 4, 2) := by decide +kernel
theorem d_RS_up_33 : decode prog_1_method_18_code 33 = .ok (.ireturn, 1) := by decide +kernel
set_option maxHeartbeats 4000000 in
set_option maxRecDepth 100000 in
theorem w_RS_up_31 {res : (Int32 ⊕ (Nat × Nat)) × xH} (C : x_C l s0 A0 D R_RS prog_1_method_18_code 5 [] p s m args meth c) (hr : meth.sig.returnType = (some .boolean)) (hnm : meth.name = "up") (hRf : 8 ≤ R.frames) (hRl : 158 ≤ R.locals)  (l4 : Int32) (hp : f_RS_up_b31 l4 h = some res) (hH : x_S s0 D R h H locs cells slots) (hl : lv_has ls 5 [(4, .int l4)]) : W p l e R s m args below meth c H locs cells slots (x_Q s0 D below s R (x_oc vI res.1) res.2) (F0 m 31 ls []) := by
  obtain ⟨hx, hb, hown, hts, hK, hml, hW, Z, -⟩ := id C
  unfold f_RS_up_b31 at hp
  refine lv_iload hx hb d_RS_up_31 (lv_at hl 0 rfl) ?_
  exact x_zret C hH hr d_RS_up_33 hp
set_option maxHeartbeats 4000000 in
set_option maxRecDepth 100000 in
theorem w_RS_up_0 {res : (Int32 ⊕ (Nat × Nat)) × xH} (C : x_C l s0 A0 D R_RS prog_1_method_18_code 5 [] p s m args meth c) (hr : meth.sig.returnType = (some .boolean)) (hnm : meth.name = "up") (hRf : 8 ≤ R.frames) (hRl : 158 ≤ R.locals)  (l0 : Nat) (l1 : Int32) (l2 : Int32) (hp : f_RS_up l0 l1 l2 h = some res) (hH : x_S s0 D R h H locs cells slots) (hl : lv_has ls 5 [(0, .ref l0), (1, .int l1), (2, .int l2)]) : W p l e R s m args below meth c H locs cells slots (x_Q s0 D below s R (x_oc vI res.1) res.2) (F0 m 0 ls []) := by
  obtain ⟨hx, hb, hown, hts, hK, hml, hW, Z, -⟩ := id C
  unfold f_RS_up at hp
  refine lv_aload_n hx hb d_RS_up_0 rfl (lv_at hl 0 rfl) ?_
  refine lv_iload_n hx hb d_RS_up_1 rfl (lv_at hl 1 rfl) ?_
  refine x_callV (As := [.int l1]) (rest := []) (cv := vA) C hH kc_RS_82 d_RS_up_2 hp (fun o h' e => m_RS_replicaAt Z e) rfl hl.1 (Nat.le_trans (Nat.le_of_ble_eq_true rfl) hRf) (Nat.le_trans (Nat.le_of_ble_eq_true rfl) hRl) (Nat.le_of_ble_eq_true rfl) (fun v1 h H locs cells slots hp hH => ?_)
  refine W.eq (g2 := F0 m 5 ls [.ref v1]) rfl ?_
  refine lv_astore_n (lv' := [(3, .ref v1), (0, .ref l0), (1, .int l1), (2, .int l2)]) hx hb d_RS_up_5 rfl hl (by decide) rfl (fun ls hl => ?_)
  refine lv_aload_n hx hb d_RS_up_6 rfl (lv_at hl 0 rfl) ?_
  refine x_gI C hH fl_RS_173 d_RS_up_7 hp (fun v2 hp => ?_)
  refine lv_istore (lv' := [(4, .int v2), (3, .ref v1), (0, .ref l0), (1, .int l1), (2, .int l2)]) hx hb d_RS_up_10 hl (by decide) rfl (fun ls hl => ?_)
  refine lv_aload_n hx hb d_RS_up_12 rfl (lv_at hl 1 rfl) ?_
  refine lv_iload_n hx hb d_RS_up_13 rfl (lv_at hl 4 rfl) ?_
  obtain ⟨hz, hp⟩ := pZ_i hp
  refine x_pV C hH fp_RS_173 (fun h => Bool.noConfusion h) d_RS_up_14 (by rcases hz with e | e <;> rw [e] <;> rfl) (by rcases hz with e | e <;> rw [e] <;> rfl) hp (fun h H locs hp hH => ?_)
  refine lv_iload_n hx hb d_RS_up_17 rfl (lv_at hl 4 rfl) ?_
  refine lv_if_eq (tgt := 31) hx hb d_RS_up_18 (by decide) (fun hc => ?_) (fun hc => ?_)
  · replace hp := x_ifp hc hp
    exact w_RS_up_31 C hr hnm hRf hRl  v2 hp hH (lv_sub hl [0] rfl)
  · replace hp := x_ifn hc hp
    refine lv_iload hx hb d_RS_up_21 (lv_at hl 0 rfl) ?_
    refine lv_if_ne (tgt := 31) hx hb d_RS_up_23 (by decide) (fun hc => ?_) (fun hc => ?_)
    · replace hp := x_ifn hc hp
      exact w_RS_up_31 C hr hnm hRf hRl  v2 hp hH (lv_sub hl [0] rfl)
    · replace hp := x_ifp hc hp
      refine lv_aload_n hx hb d_RS_up_26 rfl (lv_at hl 2 rfl) ?_
      refine lv_aload_n hx hb d_RS_up_27 rfl (lv_at hl 1 rfl) ?_
      refine x_callV (As := [.ref v1]) (rest := []) (cv := vU) C hH kc_RS_78 d_RS_up_28 hp (fun o h' e => m_RS_look Z e) rfl hl.1 (Nat.le_trans (Nat.le_of_ble_eq_true rfl) hRf) (Nat.le_trans (Nat.le_of_ble_eq_true rfl) hRl) (Nat.le_of_ble_eq_true rfl) (fun v3 h H locs cells slots hp hH => ?_)
      refine W.eq (g2 := F0 m 31 ls []) rfl ?_
      exact w_RS_up_31 C hr hnm hRf hRl  v2 hp hH (lv_sub hl [0] rfl)
set_option maxRecDepth 100000 in
theorem m_RS_up (Z : x_Z l s0 A0 D) {l0 : Nat} {l1 : Int32} {l2 : Int32} {res : (Int32 ⊕ (Nat × Nat)) × xH} (hp : f_RS_up l0 l1 l2 h = some res) : x_M l s0 D y_RS_up (x_cw y_RS_up prog_1_method_18_code 5 (some .boolean) []) 8 158 [.ref l0, .int l1, .int l2] h (x_oc vI res.1) res.2 := by
  refine x_M.ofW Z (plainFor_of_name (by decide)) ?_
  intro p e s m below meth c C hnm hr hH
  have hl := lv_entry ([.ref l0, .int l1, .int l2]) (n := 5) (Nat.le_of_ble_eq_true rfl)
  rw [lg_entry_eq]
  generalize (lg_sl ([.ref l0, .int l1, .int l2]) ++ List.replicate (5 - (lg_sl ([.ref l0, .int l1, .int l2])).length) Slot.unset).toArray = ls at hl ⊢
  exact w_RS_up_0 C hr hnm (Nat.le_refl _) (Nat.le_refl _) l0 l1 l2 hp hH hl
/-! ReadSideLaw.up(LReadSide;IZ[J)I -/
theorem d_law_up_0 : decode method_9_code 0 = .ok (.aload_n 3, 1) := by decide +kernel
theorem d_law_up_1 : decode method_9_code 1 = .ok (.iconst 0, 1) := by decide +kernel
theorem d_law_up_2 : decode method_9_code 2 = .ok (.aload_n 0, 1) := by decide +kernel
theorem d_law_up_3 : decode method_9_code 3 = .ok (.iload_n 1, 1) := by decide +kernel
theorem d_law_up_4 : decode method_9_code 4 = .ok (.iload_n 2, 1) := by decide +kernel
theorem d_law_up_5 : decode method_9_code 5 = .ok (.invokevirtual 36, 3) := by decide +kernel
theorem d_law_up_8 : decode method_9_code 8 = .ok (.ifCond .eq 7, 3) := by decide +kernel
theorem d_law_up_11 : decode method_9_code 11 = .ok (.lconst 1, 1) := by decide +kernel
theorem d_law_up_12 : decode method_9_code 12 = .ok (.goto 4, 3) := by decide +kernel
theorem d_law_up_15 : decode method_9_code 15 = .ok (.lconst 0, 1) := by decide +kernel
theorem d_law_up_16 : decode method_9_code 16 = .ok (.lastore, 1) := by decide +kernel
theorem d_law_up_17 : decode method_9_code 17 = .ok (.goto 7, 3) := by decide +kernel
theorem d_law_up_20 : decode method_9_code 20 = .ok (.astore 4, 2) := by decide +kernel
theorem d_law_up_22 : decode method_9_code 22 = .ok (.iconst 1, 1) := by decide +kernel
theorem d_law_up_23 : decode method_9_code 23 = .ok (.ireturn, 1) := by decide +kernel
theorem d_law_up_24 : decode method_9_code 24 = .ok (.iconst 0, 1) := by decide +kernel
theorem d_law_up_25 : decode method_9_code 25 = .ok (.ireturn, 1) := by decide +kernel
set_option maxHeartbeats 4000000 in
set_option maxRecDepth 100000 in
theorem w_law_up_16 {res : (Int32 ⊕ (Nat × Nat)) × xH} (C : x_C l s0 A0 D R_law method_9_code 5 [(0, 17, 20, 13)] p s m args meth c) (hr : meth.sig.returnType = (some .int)) (hnm : meth.name = "up") (hRf : 9 ≤ R.frames) (hRl : 190 ≤ R.locals)  (t0 : Int64) (t1 : Int32) (t2 : Nat) (hp : f_law_up_b16 t0 t1 t2 h = some res) (hH : x_S s0 D R h H locs cells slots) (hl : lv_has ls 5 []) : W p l e R s m args below meth c H locs cells slots (x_Q s0 D below s R (x_oc vI res.1) res.2) (F0 m 16 ls [.long t0, .int t1, .ref t2]) := by
  obtain ⟨hx, hb, hown, hts, hK, hml, hW, Z, -⟩ := id C
  unfold f_law_up_b16 at hp
  refine x_sJ C hH d_law_up_16 hp (fun h H locs hp hH => ?_)
  refine lv_goto (tgt := 24) hx hb d_law_up_17 (by decide) ?_
  refine lv_iconst (v := 0) hx hb d_law_up_24 (by decide) ?_
  exact x_iret C hH hr d_law_up_25 hp
set_option maxHeartbeats 4000000 in
set_option maxRecDepth 100000 in
theorem w_law_up_0 {res : (Int32 ⊕ (Nat × Nat)) × xH} (C : x_C l s0 A0 D R_law method_9_code 5 [(0, 17, 20, 13)] p s m args meth c) (hr : meth.sig.returnType = (some .int)) (hnm : meth.name = "up") (hRf : 9 ≤ R.frames) (hRl : 190 ≤ R.locals)  (l0 : Nat) (l1 : Int32) (l2 : Int32) (l3 : Nat) (hp : f_law_up l0 l1 l2 l3 h = some res) (hH : x_S s0 D R h H locs cells slots) (hl : lv_has ls 5 [(0, .ref l0), (1, .int l1), (2, .int l2), (3, .ref l3)]) : W p l e R s m args below meth c H locs cells slots (x_Q s0 D below s R (x_oc vI res.1) res.2) (F0 m 0 ls []) := by
  obtain ⟨hx, hb, hown, hts, hK, hml, hW, Z, -⟩ := id C
  unfold f_law_up at hp
  refine lv_aload_n hx hb d_law_up_0 rfl (lv_at hl 3 rfl) ?_
  refine lv_iconst (v := 0) hx hb d_law_up_1 (by decide) ?_
  refine lv_aload_n hx hb d_law_up_2 rfl (lv_at hl 0 rfl) ?_
  refine lv_iload_n hx hb d_law_up_3 rfl (lv_at hl 1 rfl) ?_
  refine lv_iload_n hx hb d_law_up_4 rfl (lv_at hl 2 rfl) ?_
  refine x_callVc (As := [.int l1, .int l2]) (rest := [.int 0, .ref l3]) (cv := vI) C ct_law hH kc_law_36 d_law_up_5 hp (fun o h' e => m_RS_up Z e) rfl hl.1 (Nat.le_trans (Nat.le_of_ble_eq_true rfl) hRf) (Nat.le_trans (Nat.le_of_ble_eq_true rfl) hRl) (Nat.le_of_ble_eq_true rfl) (fun v1 h H locs cells slots hp hH => ?_) (fun a ci h H locs cells slots hp hH => ?_)
  · refine W.eq (g2 := F0 m 8 ls [.int v1, .int 0, .ref l3]) rfl ?_
    refine lv_if_eq (tgt := 15) hx hb d_law_up_8 (by decide) (fun hc => ?_) (fun hc => ?_)
    · replace hp := x_ifp hc hp
      refine lv_lconst (v := 0) hx hb d_law_up_15 (by decide) ?_
      exact w_law_up_16 C hr hnm hRf hRl  0 0 l3 hp hH (lv_sub hl [] rfl)
    · replace hp := x_ifn hc hp
      refine lv_lconst (v := 1) hx hb d_law_up_11 (by decide) ?_
      refine lv_goto (tgt := 16) hx hb d_law_up_12 (by decide) ?_
      exact w_law_up_16 C hr hnm hRf hRl  1 0 l3 hp hH (lv_sub hl [] rfl)
  · by_cases hc10 : ci = 10
    · replace hp := x_ifp hc10 hp
      subst hc10
      refine ⟨20, rfl, ?_⟩
      refine lv_astore (lv' := [(4, .ref a), (0, .ref l0), (1, .int l1), (2, .int l2), (3, .ref l3)]) hx hb d_law_up_20 hl (by decide) rfl (fun ls hl => ?_)
      refine lv_iconst (v := 1) hx hb d_law_up_22 (by decide) ?_
      exact x_iret C hH hr d_law_up_23 hp
    replace hp := x_ifn hc10 hp
    cases hp
set_option maxRecDepth 100000 in
theorem m_law_up (Z : x_Z l s0 A0 D) {l0 : Nat} {l1 : Int32} {l2 : Int32} {l3 : Nat} {res : (Int32 ⊕ (Nat × Nat)) × xH} (hp : f_law_up l0 l1 l2 l3 h = some res) : x_M l s0 D y_law_up (x_cw y_law_up method_9_code 5 (some .int) [(0, 17, 20, 13)]) 9 190 [.ref l0, .int l1, .int l2, .ref l3] h (x_oc vI res.1) res.2 := by
  refine x_M.ofW Z (plainFor_of_name (by decide)) ?_
  intro p e s m below meth c C hnm hr hH
  have hl := lv_entry ([.ref l0, .int l1, .int l2, .ref l3]) (n := 5) (Nat.le_of_ble_eq_true rfl)
  rw [lg_entry_eq]
  generalize (lg_sl ([.ref l0, .int l1, .int l2, .ref l3]) ++ List.replicate (5 - (lg_sl ([.ref l0, .int l1, .int l2, .ref l3])).length) Slot.unset).toArray = ls at hl ⊢
  exact w_law_up_0 C hr hnm (Nat.le_refl _) (Nat.le_refl _) l0 l1 l2 l3 hp hH hl
/-! ReadSide$Item.copy(LReadSide$Item;)V -/
theorem d_Item_copy_0 : decode prog_3_method_2_code 0 = .ok (.aload_n 0, 1) := by decide +kernel
theorem d_Item_copy_1 : decode prog_3_method_2_code 1 = .ok (.aload_n 1, 1) := by decide +kernel
theorem d_Item_copy_2 : decode prog_3_method_2_code 2 = .ok (.getfield 19, 3) := by decide +kernel
theorem d_Item_copy_5 : decode prog_3_method_2_code 5 = .ok (.putfield 19, 3) := by decide +kernel
theorem d_Item_copy_8 : decode prog_3_method_2_code 8 = .ok (.aload_n 0, 1) := by decide +kernel
theorem d_Item_copy_9 : decode prog_3_method_2_code 9 = .ok (.aload_n 1, 1) := by decide +kernel
theorem d_Item_copy_10 : decode prog_3_method_2_code 10 = .ok (.getfield 22, 3) := by decide +kernel
theorem d_Item_copy_13 : decode prog_3_method_2_code 13 = .ok (.putfield 22, 3) := by decide +kernel
theorem d_Item_copy_16 : decode prog_3_method_2_code 16 = .ok (.aload_n 0, 1) := by decide +kernel
theorem d_Item_copy_17 : decode prog_3_method_2_code 17 = .ok (.aload_n 1, 1) := by decide +kernel
theorem d_Item_copy_18 : decode prog_3_method_2_code 18 = .ok (.getfield 25, 3) := by decide +kernel
theorem d_Item_copy_21 : decode prog_3_method_2_code 21 = .ok (.putfield 25, 3) := by decide +kernel
theorem d_Item_copy_24 : decode prog_3_method_2_code 24 = .ok (.aload_n 0, 1) := by decide +kernel
theorem d_Item_copy_25 : decode prog_3_method_2_code 25 = .ok (.aload_n 1, 1) := by decide +kernel
theorem d_Item_copy_26 : decode prog_3_method_2_code 26 = .ok (.getfield 9, 3) := by decide +kernel
theorem d_Item_copy_29 : decode prog_3_method_2_code 29 = .ok (.putfield 9, 3) := by decide +kernel
theorem d_Item_copy_32 : decode prog_3_method_2_code 32 = .ok (.aload_n 1, 1) := by decide +kernel
theorem d_Item_copy_33 : decode prog_3_method_2_code 33 = .ok (.getfield 15, 3) := by decide +kernel
theorem d_Item_copy_36 : decode prog_3_method_2_code 36 = .ok (.iconst 0, 1) := by decide +kernel
theorem d_Item_copy_37 : decode prog_3_method_2_code 37 = .ok (.aload_n 0, 1) := by decide +kernel
theorem d_Item_copy_38 : decode prog_3_method_2_code 38 = .ok (.getfield 15, 3) := by decide +kernel
theorem d_Item_copy_41 : decode prog_3_method_2_code 41 = .ok (.iconst 0, 1) := by decide +kernel
theorem d_Item_copy_42 : decode prog_3_method_2_code 42 = .ok (.bipush 10, 2) := by decide +kernel
theorem d_Item_copy_44 : decode prog_3_method_2_code 44 = .ok (.invokestatic 28, 3) := by decide +kernel
theorem d_Item_copy_47 : decode prog_3_method_2_code 47 = .ok (.return_, 1) := by decide +kernel
set_option maxHeartbeats 4000000 in
set_option maxRecDepth 100000 in
theorem w_Item_copy_0 {res : (Unit ⊕ (Nat × Nat)) × xH} (C : x_C l s0 A0 D R_Item prog_3_method_2_code 2 [] p s m args meth c) (hr : meth.sig.returnType = none) (hnm : meth.name = "copy") (hRf : 1 ≤ R.frames) (hRl : 100 ≤ R.locals)  (l0 : Nat) (l1 : Nat) (hp : f_Item_copy l0 l1 h = some res) (hH : x_S s0 D R h H locs cells slots) (hl : lv_has ls 2 [(0, .ref l0), (1, .ref l1)]) : W p l e R s m args below meth c H locs cells slots (x_Q s0 D below s R (x_oc vU res.1) res.2) (F0 m 0 ls []) := by
  obtain ⟨hx, hb, hown, hts, hK, hml, hW, Z, -⟩ := id C
  unfold f_Item_copy at hp
  refine lv_aload_n hx hb d_Item_copy_0 rfl (lv_at hl 0 rfl) ?_
  refine lv_aload_n hx hb d_Item_copy_1 rfl (lv_at hl 1 rfl) ?_
  refine x_gI C hH fl_Item_19 d_Item_copy_2 hp (fun v1 hp => ?_)
  refine x_pV C hH fp_Item_19 (fun h => Bool.noConfusion h) d_Item_copy_5 rfl rfl hp (fun h H locs hp hH => ?_)
  refine lv_aload_n hx hb d_Item_copy_8 rfl (lv_at hl 0 rfl) ?_
  refine lv_aload_n hx hb d_Item_copy_9 rfl (lv_at hl 1 rfl) ?_
  refine x_gI C hH fl_Item_22 d_Item_copy_10 hp (fun v2 hp => ?_)
  refine x_pV C hH fp_Item_22 (fun h => Bool.noConfusion h) d_Item_copy_13 rfl rfl hp (fun h H locs hp hH => ?_)
  refine lv_aload_n hx hb d_Item_copy_16 rfl (lv_at hl 0 rfl) ?_
  refine lv_aload_n hx hb d_Item_copy_17 rfl (lv_at hl 1 rfl) ?_
  refine x_gI C hH fl_Item_25 d_Item_copy_18 hp (fun v3 hp => ?_)
  refine x_pV C hH fp_Item_25 (fun h => Bool.noConfusion h) d_Item_copy_21 rfl rfl hp (fun h H locs hp hH => ?_)
  refine lv_aload_n hx hb d_Item_copy_24 rfl (lv_at hl 0 rfl) ?_
  refine lv_aload_n hx hb d_Item_copy_25 rfl (lv_at hl 1 rfl) ?_
  refine x_gI C hH fl_Item_9 d_Item_copy_26 hp (fun v4 hp => ?_)
  refine x_pV C hH fp_Item_9 (fun h => Bool.noConfusion h) d_Item_copy_29 rfl rfl hp (fun h H locs hp hH => ?_)
  refine lv_aload_n hx hb d_Item_copy_32 rfl (lv_at hl 1 rfl) ?_
  refine x_gA C hH fl_Item_15 d_Item_copy_33 hp (fun v5 hp => ?_)
  refine lv_iconst (v := 0) hx hb d_Item_copy_36 (by decide) ?_
  refine lv_aload_n hx hb d_Item_copy_37 rfl (lv_at hl 0 rfl) ?_
  refine x_gA C hH fl_Item_15 d_Item_copy_38 hp (fun v6 hp => ?_)
  refine lv_iconst (v := 0) hx hb d_Item_copy_41 (by decide) ?_
  refine lv_bipush (v := 10) hx hb d_Item_copy_42 (by decide) ?_
  refine x_cI C hH ac_Item_28 hl.1 (Nat.le_trans (Nat.le_of_ble_eq_true rfl) hRf) (Nat.le_trans (Nat.le_of_ble_eq_true rfl) hRl) d_Item_copy_44 hp (fun h H locs hp hH => ?_)
  exact x_vret C hH hr d_Item_copy_47 hp
set_option maxRecDepth 100000 in
theorem m_Item_copy (Z : x_Z l s0 A0 D) {l0 : Nat} {l1 : Nat} {res : (Unit ⊕ (Nat × Nat)) × xH} (hp : f_Item_copy l0 l1 h = some res) : x_M l s0 D y_Item_copy (x_cw y_Item_copy prog_3_method_2_code 2 none []) 1 100 [.ref l0, .ref l1] h (x_oc vU res.1) res.2 := by
  refine x_M.ofW Z (plainFor_of_name (by decide)) ?_
  intro p e s m below meth c C hnm hr hH
  have hl := lv_entry ([.ref l0, .ref l1]) (n := 2) (Nat.le_of_ble_eq_true rfl)
  rw [lg_entry_eq]
  generalize (lg_sl ([.ref l0, .ref l1]) ++ List.replicate (2 - (lg_sl ([.ref l0, .ref l1])).length) Slot.unset).toArray = ls at hl ⊢
  exact w_Item_copy_0 C hr hnm (Nat.le_refl _) (Nat.le_refl _) l0 l1 hp hH hl
/-! ReadSide$State.copy(LReadSide$State;)V -/
theorem d_St_copy_0 : decode prog_8_method_2_code 0 = .ok (.iconst 0, 1) := by decide +kernel
theorem d_St_copy_1 : decode prog_8_method_2_code 1 = .ok (.istore_n 2, 1) := by decide +kernel
theorem d_St_copy_2 : decode prog_8_method_2_code 2 = .ok (.iload_n 2, 1) := by decide +kernel
theorem d_St_copy_3 : decode prog_8_method_2_code 3 = .ok (.bipush 30, 2) := by decide +kernel
theorem d_St_copy_5 : decode prog_8_method_2_code 5 = .ok (.if_icmp .ge 24, 3) := by decide +kernel
theorem d_St_copy_8 : decode prog_8_method_2_code 8 = .ok (.aload_n 0, 1) := by decide +kernel
theorem d_St_copy_9 : decode prog_8_method_2_code 9 = .ok (.getfield 11, 3) := by decide +kernel
theorem d_St_copy_12 : decode prog_8_method_2_code 12 = .ok (.iload_n 2, 1) := by decide +kernel
theorem d_St_copy_13 : decode prog_8_method_2_code 13 = .ok (.aaload, 1) := by decide +kernel
theorem d_St_copy_14 : decode prog_8_method_2_code 14 = .ok (.aload_n 1, 1) := by decide +kernel
theorem d_St_copy_15 : decode prog_8_method_2_code 15 = .ok (.getfield 11, 3) := by decide +kernel
theorem d_St_copy_18 : decode prog_8_method_2_code 18 = .ok (.iload_n 2, 1) := by decide +kernel
theorem d_St_copy_19 : decode prog_8_method_2_code 19 = .ok (.aaload, 1) := by decide +kernel
theorem d_St_copy_20 : decode prog_8_method_2_code 20 = .ok (.invokevirtual 33, 3) := by decide +kernel
theorem d_St_copy_23 : decode prog_8_method_2_code 23 = .ok (.iinc 2 1, 3) := by decide +kernel
theorem d_St_copy_26 : decode prog_8_method_2_code 26 = .ok (.goto (-24), 3) := by decide +kernel
theorem d_St_copy_29 : decode prog_8_method_2_code 29 = .ok (.aload_n 1, 1) := by decide +kernel
theorem d_St_copy_30 : decode prog_8_method_2_code 30 = .ok (.getfield 17, 3) := by decide +kernel
theorem d_St_copy_33 : decode prog_8_method_2_code 33 = .ok (.iconst 0, 1) := by decide +kernel
theorem d_St_copy_34 : decode prog_8_method_2_code 34 = .ok (.aload_n 0, 1) := by decide +kernel
theorem d_St_copy_35 : decode prog_8_method_2_code 35 = .ok (.getfield 17, 3) := by decide +kernel
theorem d_St_copy_38 : decode prog_8_method_2_code 38 = .ok (.iconst 0, 1) := by decide +kernel
theorem d_St_copy_39 : decode prog_8_method_2_code 39 = .ok (.bipush 10, 2) := by decide +kernel
theorem d_St_copy_41 : decode prog_8_method_2_code 41 = .ok (.invokestatic 37, 3) := by decide +kernel
theorem d_St_copy_44 : decode prog_8_method_2_code 44 = .ok (.aload_n 1, 1) := by decide +kernel
theorem d_St_copy_45 : decode prog_8_method_2_code 45 = .ok (.getfield 21, 3) := by decide +kernel
theorem d_St_copy_48 : decode prog_8_method_2_code 48 = .ok (.iconst 0, 1) := by decide +kernel
theorem d_St_copy_49 : decode prog_8_method_2_code 49 = .ok (.aload_n 0, 1) := by decide +kernel
theorem d_St_copy_50 : decode prog_8_method_2_code 50 = .ok (.getfield 21, 3) := by decide +kernel
theorem d_St_copy_53 : decode prog_8_method_2_code 53 = .ok (.iconst 0, 1) := by decide +kernel
theorem d_St_copy_54 : decode prog_8_method_2_code 54 = .ok (.bipush 10, 2) := by decide +kernel
theorem d_St_copy_56 : decode prog_8_method_2_code 56 = .ok (.invokestatic 37, 3) := by decide +kernel
theorem d_St_copy_59 : decode prog_8_method_2_code 59 = .ok (.aload_n 0, 1) := by decide +kernel
theorem d_St_copy_60 : decode prog_8_method_2_code 60 = .ok (.getfield 28, 3) := by decide +kernel
theorem d_St_copy_63 : decode prog_8_method_2_code 63 = .ok (.aload_n 1, 1) := by decide +kernel
theorem d_St_copy_64 : decode prog_8_method_2_code 64 = .ok (.getfield 28, 3) := by decide +kernel
theorem d_St_copy_67 : decode prog_8_method_2_code 67 = .ok (.invokevirtual 43, 3) := by decide +kernel
theorem d_St_copy_70 : decode prog_8_method_2_code 70 = .ok (.return_, 1) := by decide +kernel
set_option maxHeartbeats 4000000 in
set_option maxRecDepth 100000 in
theorem w_St_copy_2 {res : (Unit ⊕ (Nat × Nat)) × xH} (C : x_C l s0 A0 D R_St prog_8_method_2_code 3 [] p s m args meth c) (hr : meth.sig.returnType = none) (hnm : meth.name = "copy") (hRf : 2 ≤ R.frames) (hRl : 129 ≤ R.locals) {k2 : Nat → Nat → Int32 → xM Unit} (hs2 : ∀ (l0 : Nat) (l1 : Nat) (l2 : Int32) (h : xH) (H : Heap) (locs : List Loc) (cells slots : Nat) (ls : Array Slot), k2 l0 l1 l2 h = some res → x_S s0 D R h H locs cells slots → lv_has ls 3 [(0, .ref l0), (1, .ref l1), (2, .int l2)] → W p l e R s m args below meth c H locs cells slots (x_Q s0 D below s R (x_oc vU res.1) res.2) (F0 m 2 ls [])) (l0 : Nat) (l1 : Nat) (l2 : Int32) (hp : f_St_copy_b2 k2 l0 l1 l2 h = some res) (hH : x_S s0 D R h H locs cells slots) (hl : lv_has ls 3 [(0, .ref l0), (1, .ref l1), (2, .int l2)]) : W p l e R s m args below meth c H locs cells slots (x_Q s0 D below s R (x_oc vU res.1) res.2) (F0 m 2 ls []) := by
  obtain ⟨hx, hb, hown, hts, hK, hml, hW, Z, -⟩ := id C
  unfold f_St_copy_b2 at hp
  refine lv_iload_n hx hb d_St_copy_2 rfl (lv_at hl 2 rfl) ?_
  refine lv_bipush (v := 30) hx hb d_St_copy_3 (by decide) ?_
  refine lv_icmp_ge (tgt := 29) hx hb d_St_copy_5 (by decide) (fun hc => ?_) (fun hc => ?_)
  · replace hp := x_ifp hc hp
    refine lv_aload_n hx hb d_St_copy_29 rfl (lv_at hl 1 rfl) ?_
    refine x_gA C hH fl_St_17 d_St_copy_30 hp (fun v1 hp => ?_)
    refine lv_iconst (v := 0) hx hb d_St_copy_33 (by decide) ?_
    refine lv_aload_n hx hb d_St_copy_34 rfl (lv_at hl 0 rfl) ?_
    refine x_gA C hH fl_St_17 d_St_copy_35 hp (fun v2 hp => ?_)
    refine lv_iconst (v := 0) hx hb d_St_copy_38 (by decide) ?_
    refine lv_bipush (v := 10) hx hb d_St_copy_39 (by decide) ?_
    refine x_cJ C hH ac_St_37 hl.1 (Nat.le_trans (Nat.le_of_ble_eq_true rfl) hRf) (Nat.le_trans (Nat.le_of_ble_eq_true rfl) hRl) d_St_copy_41 hp (fun h H locs hp hH => ?_)
    refine lv_aload_n hx hb d_St_copy_44 rfl (lv_at hl 1 rfl) ?_
    refine x_gA C hH fl_St_21 d_St_copy_45 hp (fun v3 hp => ?_)
    refine lv_iconst (v := 0) hx hb d_St_copy_48 (by decide) ?_
    refine lv_aload_n hx hb d_St_copy_49 rfl (lv_at hl 0 rfl) ?_
    refine x_gA C hH fl_St_21 d_St_copy_50 hp (fun v4 hp => ?_)
    refine lv_iconst (v := 0) hx hb d_St_copy_53 (by decide) ?_
    refine lv_bipush (v := 10) hx hb d_St_copy_54 (by decide) ?_
    refine x_cI C hH ac_St_37 hl.1 (Nat.le_trans (Nat.le_of_ble_eq_true rfl) hRf) (Nat.le_trans (Nat.le_of_ble_eq_true rfl) hRl) d_St_copy_56 hp (fun h H locs hp hH => ?_)
    refine lv_aload_n hx hb d_St_copy_59 rfl (lv_at hl 0 rfl) ?_
    refine x_gA C hH fl_St_28 d_St_copy_60 hp (fun v5 hp => ?_)
    refine lv_aload_n hx hb d_St_copy_63 rfl (lv_at hl 1 rfl) ?_
    refine x_gA C hH fl_St_28 d_St_copy_64 hp (fun v6 hp => ?_)
    refine x_callV (As := [.ref v6]) (rest := []) (cv := vU) C hH kc_St_43 d_St_copy_67 hp (fun o h' e => m_Vec_copy Z e) rfl hl.1 (Nat.le_trans (Nat.le_of_ble_eq_true rfl) hRf) (Nat.le_trans (Nat.le_of_ble_eq_true rfl) hRl) (Nat.le_of_ble_eq_true rfl) (fun v7 h H locs cells slots hp hH => ?_)
    refine W.eq (g2 := F0 m 70 ls []) rfl ?_
    exact x_vret C hH hr d_St_copy_70 hp
  · replace hp := x_ifn hc hp
    refine lv_aload_n hx hb d_St_copy_8 rfl (lv_at hl 0 rfl) ?_
    refine x_gA C hH fl_St_11 d_St_copy_9 hp (fun v8 hp => ?_)
    refine lv_iload_n hx hb d_St_copy_12 rfl (lv_at hl 2 rfl) ?_
    refine x_lA C hH (by decide) d_St_copy_13 hp (fun v9 hp => ?_)
    refine lv_aload_n hx hb d_St_copy_14 rfl (lv_at hl 1 rfl) ?_
    refine x_gA C hH fl_St_11 d_St_copy_15 hp (fun v10 hp => ?_)
    refine lv_iload_n hx hb d_St_copy_18 rfl (lv_at hl 2 rfl) ?_
    refine x_lA C hH (by decide) d_St_copy_19 hp (fun v11 hp => ?_)
    refine x_callV (As := [.ref v11]) (rest := []) (cv := vU) C hH kc_St_33 d_St_copy_20 hp (fun o h' e => m_Item_copy Z e) rfl hl.1 (Nat.le_trans (Nat.le_of_ble_eq_true rfl) hRf) (Nat.le_trans (Nat.le_of_ble_eq_true rfl) hRl) (Nat.le_of_ble_eq_true rfl) (fun v12 h H locs cells slots hp hH => ?_)
    refine W.eq (g2 := F0 m 23 ls []) rfl ?_
    refine lv_iinc (v := (l2 + 1)) (lv' := [(2, .int (l2 + 1)), (0, .ref l0), (1, .ref l1)]) hx hb d_St_copy_23 hl (k := 2) rfl rfl (by decide) rfl (fun ls hl => ?_)
    refine lv_goto (tgt := 2) hx hb d_St_copy_26 (by decide) ?_
    exact hs2 l0 l1 (l2 + 1) _ _ _ _ _ _ hp hH (lv_sub hl [1, 2, 0] rfl)
theorem w_St_copy_h2 {res : (Unit ⊕ (Nat × Nat)) × xH} (C : x_C l s0 A0 D R_St prog_8_method_2_code 3 [] p s m args meth c) (hr : meth.sig.returnType = none) (hnm : meth.name = "copy") (hRf : 2 ≤ R.frames) (hRl : 129 ≤ R.locals)  : ∀ (n : Nat) (l0 : Nat) (l1 : Nat) (l2 : Int32) (h : xH) (H : Heap) (locs : List Loc) (cells slots : Nat) (ls : Array Slot), f_St_copy_h2 n l0 l1 l2 h = some res → x_S s0 D R h H locs cells slots → lv_has ls 3 [(0, .ref l0), (1, .ref l1), (2, .int l2)] → W p l e R s m args below meth c H locs cells slots (x_Q s0 D below s R (x_oc vU res.1) res.2) (F0 m 2 ls []) := by
  intro n
  induction n with
  | zero => intro l0 l1 l2 h H locs cells slots ls hp hH hl; cases hp
  | succ n ih => intro l0 l1 l2 h H locs cells slots ls hp hH hl; exact w_St_copy_2 C hr hnm hRf hRl ih l0 l1 l2 hp hH hl
set_option maxHeartbeats 4000000 in
set_option maxRecDepth 100000 in
theorem w_St_copy_0 {res : (Unit ⊕ (Nat × Nat)) × xH} (C : x_C l s0 A0 D R_St prog_8_method_2_code 3 [] p s m args meth c) (hr : meth.sig.returnType = none) (hnm : meth.name = "copy") (hRf : 2 ≤ R.frames) (hRl : 129 ≤ R.locals)  (l0 : Nat) (l1 : Nat) (hp : f_St_copy l0 l1 h = some res) (hH : x_S s0 D R h H locs cells slots) (hl : lv_has ls 3 [(0, .ref l0), (1, .ref l1)]) : W p l e R s m args below meth c H locs cells slots (x_Q s0 D below s R (x_oc vU res.1) res.2) (F0 m 0 ls []) := by
  obtain ⟨hx, hb, hown, hts, hK, hml, hW, Z, -⟩ := id C
  unfold f_St_copy at hp
  refine lv_iconst (v := 0) hx hb d_St_copy_0 (by decide) ?_
  refine lv_istore_n (lv' := [(2, .int 0), (0, .ref l0), (1, .ref l1)]) hx hb d_St_copy_1 rfl hl (by decide) rfl (fun ls hl => ?_)
  exact w_St_copy_h2 C hr hnm hRf hRl  1000 l0 l1 0 _ _ _ _ _ _ hp hH (lv_sub hl [1, 2, 0] rfl)
set_option maxRecDepth 100000 in
theorem m_St_copy (Z : x_Z l s0 A0 D) {l0 : Nat} {l1 : Nat} {res : (Unit ⊕ (Nat × Nat)) × xH} (hp : f_St_copy l0 l1 h = some res) : x_M l s0 D y_St_copy (x_cw y_St_copy prog_8_method_2_code 3 none []) 2 129 [.ref l0, .ref l1] h (x_oc vU res.1) res.2 := by
  refine x_M.ofW Z (plainFor_of_name (by decide)) ?_
  intro p e s m below meth c C hnm hr hH
  have hl := lv_entry ([.ref l0, .ref l1]) (n := 3) (Nat.le_of_ble_eq_true rfl)
  rw [lg_entry_eq]
  generalize (lg_sl ([.ref l0, .ref l1]) ++ List.replicate (3 - (lg_sl ([.ref l0, .ref l1])).length) Slot.unset).toArray = ls at hl ⊢
  exact w_St_copy_0 C hr hnm (Nat.le_refl _) (Nat.le_refl _) l0 l1 hp hH hl
/-! ReadSide$Vector.sum()I -/
theorem d_Vec_sum_0 : decode prog_9_method_5_code 0 = .ok (.aload_n 0, 1) := by decide +kernel
theorem d_Vec_sum_1 : decode prog_9_method_5_code 1 = .ok (.getfield 7, 3) := by decide +kernel
theorem d_Vec_sum_4 : decode prog_9_method_5_code 4 = .ok (.iconst 0, 1) := by decide +kernel
theorem d_Vec_sum_5 : decode prog_9_method_5_code 5 = .ok (.iaload, 1) := by decide +kernel
theorem d_Vec_sum_6 : decode prog_9_method_5_code 6 = .ok (.aload_n 0, 1) := by decide +kernel
theorem d_Vec_sum_7 : decode prog_9_method_5_code 7 = .ok (.getfield 7, 3) := by decide +kernel
theorem d_Vec_sum_10 : decode prog_9_method_5_code 10 = .ok (.iconst 1, 1) := by decide +kernel
theorem d_Vec_sum_11 : decode prog_9_method_5_code 11 = .ok (.iaload, 1) := by decide +kernel
theorem d_Vec_sum_12 : decode prog_9_method_5_code 12 = .ok (.iadd, 1) := by decide +kernel
theorem d_Vec_sum_13 : decode prog_9_method_5_code 13 = .ok (.aload_n 0, 1) := by decide +kernel
theorem d_Vec_sum_14 : decode prog_9_method_5_code 14 = .ok (.getfield 7, 3) := by decide +kernel
theorem d_Vec_sum_17 : decode prog_9_method_5_code 17 = .ok (.iconst 2, 1) := by decide +kernel
theorem d_Vec_sum_18 : decode prog_9_method_5_code 18 = .ok (.iaload, 1) := by decide +kernel
theorem d_Vec_sum_19 : decode prog_9_method_5_code 19 = .ok (.iadd, 1) := by decide +kernel
theorem d_Vec_sum_20 : decode prog_9_method_5_code 20 = .ok (.ireturn, 1) := by decide +kernel
set_option maxHeartbeats 4000000 in
set_option maxRecDepth 100000 in
theorem w_Vec_sum_0 {res : (Int32 ⊕ (Nat × Nat)) × xH} (C : x_C l s0 A0 D R_Vec prog_9_method_5_code 1 [] p s m args meth c) (hr : meth.sig.returnType = (some .int)) (hnm : meth.name = "sum") (hRf : 0 ≤ R.frames) (hRl : 0 ≤ R.locals)  (l0 : Nat) (hp : f_Vec_sum l0 h = some res) (hH : x_S s0 D R h H locs cells slots) (hl : lv_has ls 1 [(0, .ref l0)]) : W p l e R s m args below meth c H locs cells slots (x_Q s0 D below s R (x_oc vI res.1) res.2) (F0 m 0 ls []) := by
  obtain ⟨hx, hb, hown, hts, hK, hml, hW, Z, -⟩ := id C
  unfold f_Vec_sum at hp
  refine lv_aload_n hx hb d_Vec_sum_0 rfl (lv_at hl 0 rfl) ?_
  refine x_gA C hH fl_Vec_7 d_Vec_sum_1 hp (fun v1 hp => ?_)
  refine lv_iconst (v := 0) hx hb d_Vec_sum_4 (by decide) ?_
  refine x_lI C hH d_Vec_sum_5 hp (fun v2 hp => ?_)
  refine lv_aload_n hx hb d_Vec_sum_6 rfl (lv_at hl 0 rfl) ?_
  refine x_gA C hH fl_Vec_7 d_Vec_sum_7 hp (fun v3 hp => ?_)
  refine lv_iconst (v := 1) hx hb d_Vec_sum_10 (by decide) ?_
  refine x_lI C hH d_Vec_sum_11 hp (fun v4 hp => ?_)
  refine lv_iadd hx hb d_Vec_sum_12 ?_
  refine lv_aload_n hx hb d_Vec_sum_13 rfl (lv_at hl 0 rfl) ?_
  refine x_gA C hH fl_Vec_7 d_Vec_sum_14 hp (fun v5 hp => ?_)
  refine lv_iconst (v := 2) hx hb d_Vec_sum_17 (by decide) ?_
  refine x_lI C hH d_Vec_sum_18 hp (fun v6 hp => ?_)
  refine lv_iadd hx hb d_Vec_sum_19 ?_
  exact x_iret C hH hr d_Vec_sum_20 hp
set_option maxRecDepth 100000 in
theorem m_Vec_sum (Z : x_Z l s0 A0 D) {l0 : Nat} {res : (Int32 ⊕ (Nat × Nat)) × xH} (hp : f_Vec_sum l0 h = some res) : x_M l s0 D y_Vec_sum (x_cw y_Vec_sum prog_9_method_5_code 1 (some .int) []) 0 0 [.ref l0] h (x_oc vI res.1) res.2 := by
  refine x_M.ofW Z (plainFor_of_name (by decide)) ?_
  intro p e s m below meth c C hnm hr hH
  have hl := lv_entry ([.ref l0]) (n := 1) (Nat.le_of_ble_eq_true rfl)
  rw [lg_entry_eq]
  generalize (lg_sl ([.ref l0]) ++ List.replicate (1 - (lg_sl ([.ref l0])).length) Slot.unset).toArray = ls at hl ⊢
  exact w_Vec_sum_0 C hr hnm (Nat.le_refl _) (Nat.le_refl _) l0 hp hH hl
/-! ReadSide.snapshot(I)I -/
theorem d_RS_snapshot_0 : decode prog_1_method_19_code 0 = .ok (.aload_n 0, 1) := by decide +kernel
theorem d_RS_snapshot_1 : decode prog_1_method_19_code 1 = .ok (.iload_n 1, 1) := by decide +kernel
theorem d_RS_snapshot_2 : decode prog_1_method_19_code 2 = .ok (.invokevirtual 82, 3) := by decide +kernel
theorem d_RS_snapshot_5 : decode prog_1_method_19_code 5 = .ok (.astore_n 2, 1) := by decide +kernel
theorem d_RS_snapshot_6 : decode prog_1_method_19_code 6 = .ok (.aload_n 2, 1) := by decide +kernel
theorem d_RS_snapshot_7 : decode prog_1_method_19_code 7 = .ok (.getfield 210, 3) := by decide +kernel
theorem d_RS_snapshot_10 : decode prog_1_method_19_code 10 = .ok (.aload_n 2, 1) := by decide +kernel
theorem d_RS_snapshot_11 : decode prog_1_method_19_code 11 = .ok (.getfield 150, 3) := by decide +kernel
theorem d_RS_snapshot_14 : decode prog_1_method_19_code 14 = .ok (.invokevirtual 213, 3) := by decide +kernel
theorem d_RS_snapshot_17 : decode prog_1_method_19_code 17 = .ok (.aload_n 2, 1) := by decide +kernel
theorem d_RS_snapshot_18 : decode prog_1_method_19_code 18 = .ok (.getfield 150, 3) := by decide +kernel
theorem d_RS_snapshot_21 : decode prog_1_method_19_code 21 = .ok (.getfield 154, 3) := by decide +kernel
theorem d_RS_snapshot_24 : decode prog_1_method_19_code 24 = .ok (.invokevirtual 216, 3) := by decide +kernel
theorem d_RS_snapshot_27 : decode prog_1_method_19_code 27 = .ok (.ireturn, 1) := by decide +kernel
set_option maxHeartbeats 4000000 in
set_option maxRecDepth 100000 in
theorem w_RS_snapshot_0 {res : (Int32 ⊕ (Nat × Nat)) × xH} (C : x_C l s0 A0 D R_RS prog_1_method_19_code 3 [] p s m args meth c) (hr : meth.sig.returnType = (some .int)) (hnm : meth.name = "snapshot") (hRf : 8 ≤ R.frames) (hRl : 159 ≤ R.locals)  (l0 : Nat) (l1 : Int32) (hp : f_RS_snapshot l0 l1 h = some res) (hH : x_S s0 D R h H locs cells slots) (hl : lv_has ls 3 [(0, .ref l0), (1, .int l1)]) : W p l e R s m args below meth c H locs cells slots (x_Q s0 D below s R (x_oc vI res.1) res.2) (F0 m 0 ls []) := by
  obtain ⟨hx, hb, hown, hts, hK, hml, hW, Z, -⟩ := id C
  unfold f_RS_snapshot at hp
  refine lv_aload_n hx hb d_RS_snapshot_0 rfl (lv_at hl 0 rfl) ?_
  refine lv_iload_n hx hb d_RS_snapshot_1 rfl (lv_at hl 1 rfl) ?_
  refine x_callV (As := [.int l1]) (rest := []) (cv := vA) C hH kc_RS_82 d_RS_snapshot_2 hp (fun o h' e => m_RS_replicaAt Z e) rfl hl.1 (Nat.le_trans (Nat.le_of_ble_eq_true rfl) hRf) (Nat.le_trans (Nat.le_of_ble_eq_true rfl) hRl) (Nat.le_of_ble_eq_true rfl) (fun v1 h H locs cells slots hp hH => ?_)
  refine W.eq (g2 := F0 m 5 ls [.ref v1]) rfl ?_
  refine lv_astore_n (lv' := [(2, .ref v1), (0, .ref l0), (1, .int l1)]) hx hb d_RS_snapshot_5 rfl hl (by decide) rfl (fun ls hl => ?_)
  refine lv_aload_n hx hb d_RS_snapshot_6 rfl (lv_at hl 0 rfl) ?_
  refine x_gA C hH fl_RS_210 d_RS_snapshot_7 hp (fun v2 hp => ?_)
  refine lv_aload_n hx hb d_RS_snapshot_10 rfl (lv_at hl 0 rfl) ?_
  refine x_gA C hH fl_RS_150 d_RS_snapshot_11 hp (fun v3 hp => ?_)
  refine x_callV (As := [.ref v3]) (rest := []) (cv := vU) C hH kc_RS_213 d_RS_snapshot_14 hp (fun o h' e => m_St_copy Z e) rfl hl.1 (Nat.le_trans (Nat.le_of_ble_eq_true rfl) hRf) (Nat.le_trans (Nat.le_of_ble_eq_true rfl) hRl) (Nat.le_of_ble_eq_true rfl) (fun v4 h H locs cells slots hp hH => ?_)
  refine W.eq (g2 := F0 m 17 ls []) rfl ?_
  refine lv_aload_n hx hb d_RS_snapshot_17 rfl (lv_at hl 0 rfl) ?_
  refine x_gA C hH fl_RS_150 d_RS_snapshot_18 hp (fun v5 hp => ?_)
  refine x_gA C hH fl_RS_154 d_RS_snapshot_21 hp (fun v6 hp => ?_)
  refine x_callV (As := []) (rest := []) (cv := vI) C hH kc_RS_216 d_RS_snapshot_24 hp (fun o h' e => m_Vec_sum Z e) rfl hl.1 (Nat.le_trans (Nat.le_of_ble_eq_true rfl) hRf) (Nat.le_trans (Nat.le_of_ble_eq_true rfl) hRl) (Nat.le_of_ble_eq_true rfl) (fun v7 h H locs cells slots hp hH => ?_)
  refine W.eq (g2 := F0 m 27 ls [.int v7]) rfl ?_
  exact x_iret C hH hr d_RS_snapshot_27 hp
set_option maxRecDepth 100000 in
theorem m_RS_snapshot (Z : x_Z l s0 A0 D) {l0 : Nat} {l1 : Int32} {res : (Int32 ⊕ (Nat × Nat)) × xH} (hp : f_RS_snapshot l0 l1 h = some res) : x_M l s0 D y_RS_snapshot (x_cw y_RS_snapshot prog_1_method_19_code 3 (some .int) []) 8 159 [.ref l0, .int l1] h (x_oc vI res.1) res.2 := by
  refine x_M.ofW Z (plainFor_of_name (by decide)) ?_
  intro p e s m below meth c C hnm hr hH
  have hl := lv_entry ([.ref l0, .int l1]) (n := 3) (Nat.le_of_ble_eq_true rfl)
  rw [lg_entry_eq]
  generalize (lg_sl ([.ref l0, .int l1]) ++ List.replicate (3 - (lg_sl ([.ref l0, .int l1])).length) Slot.unset).toArray = ls at hl ⊢
  exact w_RS_snapshot_0 C hr hnm (Nat.le_refl _) (Nat.le_refl _) l0 l1 hp hH hl
/-! ReadSideLaw.snapshot(LReadSide;I[J)I -/
theorem d_law_snapshot_0 : decode method_10_code 0 = .ok (.aload_n 2, 1) := by decide +kernel
theorem d_law_snapshot_1 : decode method_10_code 1 = .ok (.iconst 0, 1) := by decide +kernel
theorem d_law_snapshot_2 : decode method_10_code 2 = .ok (.aload_n 0, 1) := by decide +kernel
theorem d_law_snapshot_3 : decode method_10_code 3 = .ok (.iload_n 1, 1) := by decide +kernel
theorem d_law_snapshot_4 : decode method_10_code 4 = .ok (.invokevirtual 40, 3) := by decide +kernel
theorem d_law_snapshot_7 : decode method_10_code 7 = .ok (.i2l, 1) := by decide +kernel
theorem d_law_snapshot_8 : decode method_10_code 8 = .ok (.lastore, 1) := by decide +kernel
theorem d_law_snapshot_9 : decode method_10_code 9 = .ok (.goto 6, 3) := by decide +kernel
theorem d_law_snapshot_12 : decode method_10_code 12 = .ok (.astore_n 3, 1) := by decide +kernel
theorem d_law_snapshot_13 : decode method_10_code 13 = .ok (.iconst 1, 1) := by decide +kernel
theorem d_law_snapshot_14 : decode method_10_code 14 = .ok (.ireturn, 1) := by decide +kernel
theorem d_law_snapshot_15 : decode method_10_code 15 = .ok (.iconst 0, 1) := by decide +kernel
theorem d_law_snapshot_16 : decode method_10_code 16 = .ok (.ireturn, 1) := by decide +kernel
set_option maxHeartbeats 4000000 in
set_option maxRecDepth 100000 in
theorem w_law_snapshot_0 {res : (Int32 ⊕ (Nat × Nat)) × xH} (C : x_C l s0 A0 D R_law method_10_code 4 [(0, 9, 12, 13)] p s m args meth c) (hr : meth.sig.returnType = (some .int)) (hnm : meth.name = "snapshot") (hRf : 9 ≤ R.frames) (hRl : 189 ≤ R.locals)  (l0 : Nat) (l1 : Int32) (l2 : Nat) (hp : f_law_snapshot l0 l1 l2 h = some res) (hH : x_S s0 D R h H locs cells slots) (hl : lv_has ls 4 [(0, .ref l0), (1, .int l1), (2, .ref l2)]) : W p l e R s m args below meth c H locs cells slots (x_Q s0 D below s R (x_oc vI res.1) res.2) (F0 m 0 ls []) := by
  obtain ⟨hx, hb, hown, hts, hK, hml, hW, Z, -⟩ := id C
  unfold f_law_snapshot at hp
  refine lv_aload_n hx hb d_law_snapshot_0 rfl (lv_at hl 2 rfl) ?_
  refine lv_iconst (v := 0) hx hb d_law_snapshot_1 (by decide) ?_
  refine lv_aload_n hx hb d_law_snapshot_2 rfl (lv_at hl 0 rfl) ?_
  refine lv_iload_n hx hb d_law_snapshot_3 rfl (lv_at hl 1 rfl) ?_
  refine x_callVc (As := [.int l1]) (rest := [.int 0, .ref l2]) (cv := vI) C ct_law hH kc_law_40 d_law_snapshot_4 hp (fun o h' e => m_RS_snapshot Z e) rfl hl.1 (Nat.le_trans (Nat.le_of_ble_eq_true rfl) hRf) (Nat.le_trans (Nat.le_of_ble_eq_true rfl) hRl) (Nat.le_of_ble_eq_true rfl) (fun v1 h H locs cells slots hp hH => ?_) (fun a ci h H locs cells slots hp hH => ?_)
  · refine W.eq (g2 := F0 m 7 ls [.int v1, .int 0, .ref l2]) rfl ?_
    refine lv_i2l (v := v1.toInt64) hx hb d_law_snapshot_7 rfl ?_
    refine x_sJ C hH d_law_snapshot_8 hp (fun h H locs hp hH => ?_)
    refine lv_goto (tgt := 15) hx hb d_law_snapshot_9 (by decide) ?_
    refine lv_iconst (v := 0) hx hb d_law_snapshot_15 (by decide) ?_
    exact x_iret C hH hr d_law_snapshot_16 hp
  · by_cases hc10 : ci = 10
    · replace hp := x_ifp hc10 hp
      subst hc10
      refine ⟨12, rfl, ?_⟩
      refine lv_astore_n (lv' := [(3, .ref a), (0, .ref l0), (1, .int l1), (2, .ref l2)]) hx hb d_law_snapshot_12 rfl hl (by decide) rfl (fun ls hl => ?_)
      refine lv_iconst (v := 1) hx hb d_law_snapshot_13 (by decide) ?_
      exact x_iret C hH hr d_law_snapshot_14 hp
    replace hp := x_ifn hc10 hp
    cases hp
set_option maxRecDepth 100000 in
theorem m_law_snapshot (Z : x_Z l s0 A0 D) {l0 : Nat} {l1 : Int32} {l2 : Nat} {res : (Int32 ⊕ (Nat × Nat)) × xH} (hp : f_law_snapshot l0 l1 l2 h = some res) : x_M l s0 D y_law_snapshot (x_cw y_law_snapshot method_10_code 4 (some .int) [(0, 9, 12, 13)]) 9 189 [.ref l0, .int l1, .ref l2] h (x_oc vI res.1) res.2 := by
  refine x_M.ofW Z (plainFor_of_name (by decide)) ?_
  intro p e s m below meth c C hnm hr hH
  have hl := lv_entry ([.ref l0, .int l1, .ref l2]) (n := 4) (Nat.le_of_ble_eq_true rfl)
  rw [lg_entry_eq]
  generalize (lg_sl ([.ref l0, .int l1, .ref l2]) ++ List.replicate (4 - (lg_sl ([.ref l0, .int l1, .ref l2])).length) Slot.unset).toArray = ls at hl ⊢
  exact w_law_snapshot_0 C hr hnm (Nat.le_refl _) (Nat.le_refl _) l0 l1 l2 hp hH hl
/-! ReadSide.crash(I)I -/
theorem d_RS_crash_0 : decode prog_1_method_20_code 0 = .ok (.aload_n 0, 1) := by decide +kernel
theorem d_RS_crash_1 : decode prog_1_method_20_code 1 = .ok (.iload_n 1, 1) := by decide +kernel
theorem d_RS_crash_2 : decode prog_1_method_20_code 2 = .ok (.invokevirtual 82, 3) := by decide +kernel
theorem d_RS_crash_5 : decode prog_1_method_20_code 5 = .ok (.astore_n 2, 1) := by decide +kernel
theorem d_RS_crash_6 : decode prog_1_method_20_code 6 = .ok (.aload_n 2, 1) := by decide +kernel
theorem d_RS_crash_7 : decode prog_1_method_20_code 7 = .ok (.getfield 150, 3) := by decide +kernel
theorem d_RS_crash_10 : decode prog_1_method_20_code 10 = .ok (.getfield 154, 3) := by decide +kernel
theorem d_RS_crash_13 : decode prog_1_method_20_code 13 = .ok (.invokevirtual 216, 3) := by decide +kernel
theorem d_RS_crash_16 : decode prog_1_method_20_code 16 = .ok (.aload_n 2, 1) := by decide +kernel
theorem d_RS_crash_17 : decode prog_1_method_20_code 17 = .ok (.getfield 210, 3) := by decide +kernel
theorem d_RS_crash_20 : decode prog_1_method_20_code 20 = .ok (.getfield 154, 3) := by decide +kernel
theorem d_RS_crash_23 : decode prog_1_method_20_code 23 = .ok (.invokevirtual 216, 3) := by decide +kernel
theorem d_RS_crash_26 : decode prog_1_method_20_code 26 = .ok (.isub, 1) := by decide +kernel
theorem d_RS_crash_27 : decode prog_1_method_20_code 27 = .ok (.istore_n 3, 1) := by decide +kernel
theorem d_RS_crash_28 : decode prog_1_method_20_code 28 = .ok (.aload_n 2, 1) := by decide +kernel
theorem d_RS_crash_29 : decode prog_1_method_20_code 29 = .ok (.getfield 150, 3) := by decide +kernel
theorem d_RS_crash_32 : decode prog_1_method_20_code 32 = .ok (.aload_n 2, 1) := by decide +kernel
theorem d_RS_crash_33 : decode prog_1_method_20_code 33 = .ok (.getfield 210, 3) := by decide +kernel
theorem d_RS_crash_36 : decode prog_1_method_20_code 36 = .ok (.invokevirtual 213, 3) := by decide +kernel
theorem d_RS_crash_39 : decode prog_1_method_20_code 39 = .ok (.iload_n 3, 1) := by decide +kernel
theorem d_RS_crash_40 : decode prog_1_method_20_code 40 = .ok (.ireturn, 1) := by decide +kernel
set_option maxHeartbeats 4000000 in
set_option maxRecDepth 100000 in
theorem w_RS_crash_0 {res : (Int32 ⊕ (Nat × Nat)) × xH} (C : x_C l s0 A0 D R_RS prog_1_method_20_code 4 [] p s m args meth c) (hr : meth.sig.returnType = (some .int)) (hnm : meth.name = "crash") (hRf : 8 ≤ R.frames) (hRl : 159 ≤ R.locals)  (l0 : Nat) (l1 : Int32) (hp : f_RS_crash l0 l1 h = some res) (hH : x_S s0 D R h H locs cells slots) (hl : lv_has ls 4 [(0, .ref l0), (1, .int l1)]) : W p l e R s m args below meth c H locs cells slots (x_Q s0 D below s R (x_oc vI res.1) res.2) (F0 m 0 ls []) := by
  obtain ⟨hx, hb, hown, hts, hK, hml, hW, Z, -⟩ := id C
  unfold f_RS_crash at hp
  refine lv_aload_n hx hb d_RS_crash_0 rfl (lv_at hl 0 rfl) ?_
  refine lv_iload_n hx hb d_RS_crash_1 rfl (lv_at hl 1 rfl) ?_
  refine x_callV (As := [.int l1]) (rest := []) (cv := vA) C hH kc_RS_82 d_RS_crash_2 hp (fun o h' e => m_RS_replicaAt Z e) rfl hl.1 (Nat.le_trans (Nat.le_of_ble_eq_true rfl) hRf) (Nat.le_trans (Nat.le_of_ble_eq_true rfl) hRl) (Nat.le_of_ble_eq_true rfl) (fun v1 h H locs cells slots hp hH => ?_)
  refine W.eq (g2 := F0 m 5 ls [.ref v1]) rfl ?_
  refine lv_astore_n (lv' := [(2, .ref v1), (0, .ref l0), (1, .int l1)]) hx hb d_RS_crash_5 rfl hl (by decide) rfl (fun ls hl => ?_)
  refine lv_aload_n hx hb d_RS_crash_6 rfl (lv_at hl 0 rfl) ?_
  refine x_gA C hH fl_RS_150 d_RS_crash_7 hp (fun v2 hp => ?_)
  refine x_gA C hH fl_RS_154 d_RS_crash_10 hp (fun v3 hp => ?_)
  refine x_callV (As := []) (rest := []) (cv := vI) C hH kc_RS_216 d_RS_crash_13 hp (fun o h' e => m_Vec_sum Z e) rfl hl.1 (Nat.le_trans (Nat.le_of_ble_eq_true rfl) hRf) (Nat.le_trans (Nat.le_of_ble_eq_true rfl) hRl) (Nat.le_of_ble_eq_true rfl) (fun v4 h H locs cells slots hp hH => ?_)
  refine W.eq (g2 := F0 m 16 ls [.int v4]) rfl ?_
  refine lv_aload_n hx hb d_RS_crash_16 rfl (lv_at hl 0 rfl) ?_
  refine x_gA C hH fl_RS_210 d_RS_crash_17 hp (fun v5 hp => ?_)
  refine x_gA C hH fl_RS_154 d_RS_crash_20 hp (fun v6 hp => ?_)
  refine x_callV (As := []) (rest := [.int v4]) (cv := vI) C hH kc_RS_216 d_RS_crash_23 hp (fun o h' e => m_Vec_sum Z e) rfl hl.1 (Nat.le_trans (Nat.le_of_ble_eq_true rfl) hRf) (Nat.le_trans (Nat.le_of_ble_eq_true rfl) hRl) (Nat.le_of_ble_eq_true rfl) (fun v7 h H locs cells slots hp hH => ?_)
  refine W.eq (g2 := F0 m 26 ls [.int v7, .int v4]) rfl ?_
  refine lv_isub hx hb d_RS_crash_26 ?_
  refine lv_istore_n (lv' := [(3, .int (v4 - v7)), (2, .ref v1), (0, .ref l0), (1, .int l1)]) hx hb d_RS_crash_27 rfl hl (by decide) rfl (fun ls hl => ?_)
  refine lv_aload_n hx hb d_RS_crash_28 rfl (lv_at hl 1 rfl) ?_
  refine x_gA C hH fl_RS_150 d_RS_crash_29 hp (fun v8 hp => ?_)
  refine lv_aload_n hx hb d_RS_crash_32 rfl (lv_at hl 1 rfl) ?_
  refine x_gA C hH fl_RS_210 d_RS_crash_33 hp (fun v9 hp => ?_)
  refine x_callV (As := [.ref v9]) (rest := []) (cv := vU) C hH kc_RS_213 d_RS_crash_36 hp (fun o h' e => m_St_copy Z e) rfl hl.1 (Nat.le_trans (Nat.le_of_ble_eq_true rfl) hRf) (Nat.le_trans (Nat.le_of_ble_eq_true rfl) hRl) (Nat.le_of_ble_eq_true rfl) (fun v10 h H locs cells slots hp hH => ?_)
  refine W.eq (g2 := F0 m 39 ls []) rfl ?_
  refine lv_iload_n hx hb d_RS_crash_39 rfl (lv_at hl 0 rfl) ?_
  exact x_iret C hH hr d_RS_crash_40 hp
set_option maxRecDepth 100000 in
theorem m_RS_crash (Z : x_Z l s0 A0 D) {l0 : Nat} {l1 : Int32} {res : (Int32 ⊕ (Nat × Nat)) × xH} (hp : f_RS_crash l0 l1 h = some res) : x_M l s0 D y_RS_crash (x_cw y_RS_crash prog_1_method_20_code 4 (some .int) []) 8 159 [.ref l0, .int l1] h (x_oc vI res.1) res.2 := by
  refine x_M.ofW Z (plainFor_of_name (by decide)) ?_
  intro p e s m below meth c C hnm hr hH
  have hl := lv_entry ([.ref l0, .int l1]) (n := 4) (Nat.le_of_ble_eq_true rfl)
  rw [lg_entry_eq]
  generalize (lg_sl ([.ref l0, .int l1]) ++ List.replicate (4 - (lg_sl ([.ref l0, .int l1])).length) Slot.unset).toArray = ls at hl ⊢
  exact w_RS_crash_0 C hr hnm (Nat.le_refl _) (Nat.le_refl _) l0 l1 hp hH hl
/-! ReadSideLaw.crash(LReadSide;I[J)I -/
theorem d_law_crash_0 : decode method_11_code 0 = .ok (.aload_n 2, 1) := by decide +kernel
theorem d_law_crash_1 : decode method_11_code 1 = .ok (.iconst 0, 1) := by decide +kernel
theorem d_law_crash_2 : decode method_11_code 2 = .ok (.aload_n 0, 1) := by decide +kernel
theorem d_law_crash_3 : decode method_11_code 3 = .ok (.iload_n 1, 1) := by decide +kernel
theorem d_law_crash_4 : decode method_11_code 4 = .ok (.invokevirtual 43, 3) := by decide +kernel
theorem d_law_crash_7 : decode method_11_code 7 = .ok (.i2l, 1) := by decide +kernel
theorem d_law_crash_8 : decode method_11_code 8 = .ok (.lastore, 1) := by decide +kernel
theorem d_law_crash_9 : decode method_11_code 9 = .ok (.goto 6, 3) := by decide +kernel
theorem d_law_crash_12 : decode method_11_code 12 = .ok (.astore_n 3, 1) := by decide +kernel
theorem d_law_crash_13 : decode method_11_code 13 = .ok (.iconst 1, 1) := by decide +kernel
theorem d_law_crash_14 : decode method_11_code 14 = .ok (.ireturn, 1) := by decide +kernel
theorem d_law_crash_15 : decode method_11_code 15 = .ok (.iconst 0, 1) := by decide +kernel
theorem d_law_crash_16 : decode method_11_code 16 = .ok (.ireturn, 1) := by decide +kernel
set_option maxHeartbeats 4000000 in
set_option maxRecDepth 100000 in
theorem w_law_crash_0 {res : (Int32 ⊕ (Nat × Nat)) × xH} (C : x_C l s0 A0 D R_law method_11_code 4 [(0, 9, 12, 13)] p s m args meth c) (hr : meth.sig.returnType = (some .int)) (hnm : meth.name = "crash") (hRf : 9 ≤ R.frames) (hRl : 190 ≤ R.locals)  (l0 : Nat) (l1 : Int32) (l2 : Nat) (hp : f_law_crash l0 l1 l2 h = some res) (hH : x_S s0 D R h H locs cells slots) (hl : lv_has ls 4 [(0, .ref l0), (1, .int l1), (2, .ref l2)]) : W p l e R s m args below meth c H locs cells slots (x_Q s0 D below s R (x_oc vI res.1) res.2) (F0 m 0 ls []) := by
  obtain ⟨hx, hb, hown, hts, hK, hml, hW, Z, -⟩ := id C
  unfold f_law_crash at hp
  refine lv_aload_n hx hb d_law_crash_0 rfl (lv_at hl 2 rfl) ?_
  refine lv_iconst (v := 0) hx hb d_law_crash_1 (by decide) ?_
  refine lv_aload_n hx hb d_law_crash_2 rfl (lv_at hl 0 rfl) ?_
  refine lv_iload_n hx hb d_law_crash_3 rfl (lv_at hl 1 rfl) ?_
  refine x_callVc (As := [.int l1]) (rest := [.int 0, .ref l2]) (cv := vI) C ct_law hH kc_law_43 d_law_crash_4 hp (fun o h' e => m_RS_crash Z e) rfl hl.1 (Nat.le_trans (Nat.le_of_ble_eq_true rfl) hRf) (Nat.le_trans (Nat.le_of_ble_eq_true rfl) hRl) (Nat.le_of_ble_eq_true rfl) (fun v1 h H locs cells slots hp hH => ?_) (fun a ci h H locs cells slots hp hH => ?_)
  · refine W.eq (g2 := F0 m 7 ls [.int v1, .int 0, .ref l2]) rfl ?_
    refine lv_i2l (v := v1.toInt64) hx hb d_law_crash_7 rfl ?_
    refine x_sJ C hH d_law_crash_8 hp (fun h H locs hp hH => ?_)
    refine lv_goto (tgt := 15) hx hb d_law_crash_9 (by decide) ?_
    refine lv_iconst (v := 0) hx hb d_law_crash_15 (by decide) ?_
    exact x_iret C hH hr d_law_crash_16 hp
  · by_cases hc10 : ci = 10
    · replace hp := x_ifp hc10 hp
      subst hc10
      refine ⟨12, rfl, ?_⟩
      refine lv_astore_n (lv' := [(3, .ref a), (0, .ref l0), (1, .int l1), (2, .ref l2)]) hx hb d_law_crash_12 rfl hl (by decide) rfl (fun ls hl => ?_)
      refine lv_iconst (v := 1) hx hb d_law_crash_13 (by decide) ?_
      exact x_iret C hH hr d_law_crash_14 hp
    replace hp := x_ifn hc10 hp
    cases hp
set_option maxRecDepth 100000 in
theorem m_law_crash (Z : x_Z l s0 A0 D) {l0 : Nat} {l1 : Int32} {l2 : Nat} {res : (Int32 ⊕ (Nat × Nat)) × xH} (hp : f_law_crash l0 l1 l2 h = some res) : x_M l s0 D y_law_crash (x_cw y_law_crash method_11_code 4 (some .int) [(0, 9, 12, 13)]) 9 190 [.ref l0, .int l1, .ref l2] h (x_oc vI res.1) res.2 := by
  refine x_M.ofW Z (plainFor_of_name (by decide)) ?_
  intro p e s m below meth c C hnm hr hH
  have hl := lv_entry ([.ref l0, .int l1, .ref l2]) (n := 4) (Nat.le_of_ble_eq_true rfl)
  rw [lg_entry_eq]
  generalize (lg_sl ([.ref l0, .int l1, .ref l2]) ++ List.replicate (4 - (lg_sl ([.ref l0, .int l1, .ref l2])).length) Slot.unset).toArray = ls at hl ⊢
  exact w_law_crash_0 C hr hnm (Nat.le_refl _) (Nat.le_refl _) l0 l1 l2 hp hH hl
/-! ReadSide$Read.<init>(IILReadSide$Vector;IJII)V -/
theorem d_Read_init_0 : decode prog_5_method_1_code 0 = .ok (.aload_n 0, 1) := by decide +kernel
theorem d_Read_init_1 : decode prog_5_method_1_code 1 = .ok (.invokespecial 3, 3) := by decide +kernel
theorem d_Read_init_4 : decode prog_5_method_1_code 4 = .ok (.aload_n 0, 1) := by decide +kernel
theorem d_Read_init_5 : decode prog_5_method_1_code 5 = .ok (.iconst 0, 1) := by decide +kernel
theorem d_Read_init_6 : decode prog_5_method_1_code 6 = .ok (.putfield 9, 3) := by decide +kernel
theorem d_Read_init_9 : decode prog_5_method_1_code 9 = .ok (.aload_n 0, 1) := by decide +kernel
theorem d_Read_init_10 : decode prog_5_method_1_code 10 = .ok (.iconst (-1), 1) := by decide +kernel
theorem d_Read_init_11 : decode prog_5_method_1_code 11 = .ok (.putfield 15, 3) := by decide +kernel
theorem d_Read_init_14 : decode prog_5_method_1_code 14 = .ok (.aload_n 0, 1) := by decide +kernel
theorem d_Read_init_15 : decode prog_5_method_1_code 15 = .ok (.ldc2_w 18, 3) := by decide +kernel
theorem d_Read_init_18 : decode prog_5_method_1_code 18 = .ok (.putfield 20, 3) := by decide +kernel
theorem d_Read_init_21 : decode prog_5_method_1_code 21 = .ok (.aload_n 0, 1) := by decide +kernel
theorem d_Read_init_22 : decode prog_5_method_1_code 22 = .ok (.iload_n 1, 1) := by decide +kernel
theorem d_Read_init_23 : decode prog_5_method_1_code 23 = .ok (.putfield 24, 3) := by decide +kernel
theorem d_Read_init_26 : decode prog_5_method_1_code 26 = .ok (.aload_n 0, 1) := by decide +kernel
theorem d_Read_init_27 : decode prog_5_method_1_code 27 = .ok (.iload_n 2, 1) := by decide +kernel
theorem d_Read_init_28 : decode prog_5_method_1_code 28 = .ok (.putfield 27, 3) := by decide +kernel
theorem d_Read_init_31 : decode prog_5_method_1_code 31 = .ok (.aload_n 0, 1) := by decide +kernel
theorem d_Read_init_32 : decode prog_5_method_1_code 32 = .ok (.aload_n 3, 1) := by decide +kernel
theorem d_Read_init_33 : decode prog_5_method_1_code 33 = .ok (.putfield 30, 3) := by decide +kernel
theorem d_Read_init_36 : decode prog_5_method_1_code 36 = .ok (.aload_n 0, 1) := by decide +kernel
theorem d_Read_init_37 : decode prog_5_method_1_code 37 = .ok (.iload 4, 2) := by decide +kernel
theorem d_Read_init_39 : decode prog_5_method_1_code 39 = .ok (.putfield 34, 3) := by decide +kernel
theorem d_Read_init_42 : decode prog_5_method_1_code 42 = .ok (.aload_n 0, 1) := by decide +kernel
theorem d_Read_init_43 : decode prog_5_method_1_code 43 = .ok (.lload 5, 2) := by decide +kernel
theorem d_Read_init_45 : decode prog_5_method_1_code 45 = .ok (.putfield 37, 3) := by decide +kernel
theorem d_Read_init_48 : decode prog_5_method_1_code 48 = .ok (.aload_n 0, 1) := by decide +kernel
theorem d_Read_init_49 : decode prog_5_method_1_code 49 = .ok (.iload 7, 2) := by decide +kernel
theorem d_Read_init_51 : decode prog_5_method_1_code 51 = .ok (.putfield 40, 3) := by decide +kernel
theorem d_Read_init_54 : decode prog_5_method_1_code 54 = .ok (.aload_n 0, 1) := by decide +kernel
theorem d_Read_init_55 : decode prog_5_method_1_code 55 = .ok (.iload 8, 2) := by decide +kernel
theorem d_Read_init_57 : decode prog_5_method_1_code 57 = .ok (.putfield 43, 3) := by decide +kernel
theorem d_Read_init_60 : decode prog_5_method_1_code 60 = .ok (.return_, 1) := by decide +kernel
set_option maxHeartbeats 4000000 in
set_option maxRecDepth 100000 in
theorem w_Read_init_0 {res : (Unit ⊕ (Nat × Nat)) × xH} (C : x_C l s0 A0 D R_Read prog_5_method_1_code 9 [] p s m args meth c) (hr : meth.sig.returnType = none) (hnm : meth.name = "<init>") (hRf : 1 ≤ R.frames) (hRl : 40 ≤ R.locals)  (l0 : Nat) (l1 : Int32) (l2 : Int32) (l3 : Nat) (l4 : Int32) (l5 : Int64) (l7 : Int32) (l8 : Int32) (hp : f_Read_init l0 l1 l2 l3 l4 l5 l7 l8 h = some res) (hH : x_S s0 D R h H locs cells slots) (hl : lv_has ls 9 [(0, .ref l0), (1, .int l1), (2, .int l2), (3, .ref l3), (4, .int l4), (5, .long l5), (7, .int l7), (8, .int l8)]) : W p l e R s m args below meth c H locs cells slots (x_Q s0 D below s R (x_oc vU res.1) res.2) (F0 m 0 ls []) := by
  obtain ⟨hx, hb, hown, hts, hK, hml, hW, Z, -⟩ := id C
  unfold f_Read_init at hp
  refine lv_aload_n hx hb d_Read_init_0 rfl (lv_at hl 0 rfl) ?_
  refine W.objInit hx hb hown (hts _ oi_Read_3) (hts _ k_27) (hts _ k_28) rfl (by rw [hml]; exact hl.1) rfl d_Read_init_1 (Nat.le_trans (Nat.le_of_ble_eq_true rfl) hRf) (Nat.le_trans (Nat.le_of_ble_eq_true rfl) hRl) ?_
  refine W.eq (g2 := F0 m 4 ls []) rfl ?_
  refine lv_aload_n hx hb d_Read_init_4 rfl (lv_at hl 0 rfl) ?_
  refine lv_iconst (v := 0) hx hb d_Read_init_5 (by decide) ?_
  refine x_pV C hH fp_Read_9 (fun h => Bool.noConfusion h) d_Read_init_6 rfl rfl hp (fun h H locs hp hH => ?_)
  refine lv_aload_n hx hb d_Read_init_9 rfl (lv_at hl 0 rfl) ?_
  refine lv_iconst (v := (-1)) hx hb d_Read_init_10 (by decide) ?_
  refine x_pV C hH fp_Read_15 (fun h => Bool.noConfusion h) d_Read_init_11 rfl rfl hp (fun h H locs hp hH => ?_)
  refine lv_aload_n hx hb d_Read_init_14 rfl (lv_at hl 0 rfl) ?_
  refine lv_ldc2 hx hb hown (hts _ k_592) d_Read_init_15 ?_
  refine x_pV C hH fp_Read_20 (fun h => Bool.noConfusion h) d_Read_init_18 rfl rfl hp (fun h H locs hp hH => ?_)
  refine lv_aload_n hx hb d_Read_init_21 rfl (lv_at hl 0 rfl) ?_
  refine lv_iload_n hx hb d_Read_init_22 rfl (lv_at hl 1 rfl) ?_
  refine x_pV C hH fp_Read_24 (fun _ => hnm) d_Read_init_23 rfl rfl hp (fun h H locs hp hH => ?_)
  refine lv_aload_n hx hb d_Read_init_26 rfl (lv_at hl 0 rfl) ?_
  refine lv_iload_n hx hb d_Read_init_27 rfl (lv_at hl 2 rfl) ?_
  refine x_pV C hH fp_Read_27 (fun _ => hnm) d_Read_init_28 rfl rfl hp (fun h H locs hp hH => ?_)
  refine lv_aload_n hx hb d_Read_init_31 rfl (lv_at hl 0 rfl) ?_
  refine lv_aload_n hx hb d_Read_init_32 rfl (lv_at hl 3 rfl) ?_
  refine x_pV C hH fp_Read_30 (fun _ => hnm) d_Read_init_33 rfl rfl hp (fun h H locs hp hH => ?_)
  refine lv_aload_n hx hb d_Read_init_36 rfl (lv_at hl 0 rfl) ?_
  refine lv_iload hx hb d_Read_init_37 (lv_at hl 4 rfl) ?_
  refine x_pV C hH fp_Read_34 (fun _ => hnm) d_Read_init_39 rfl rfl hp (fun h H locs hp hH => ?_)
  refine lv_aload_n hx hb d_Read_init_42 rfl (lv_at hl 0 rfl) ?_
  refine lv_lload hx hb d_Read_init_43 (lv_at hl 5 rfl) ?_
  refine x_pV C hH fp_Read_37 (fun _ => hnm) d_Read_init_45 rfl rfl hp (fun h H locs hp hH => ?_)
  refine lv_aload_n hx hb d_Read_init_48 rfl (lv_at hl 0 rfl) ?_
  refine lv_iload hx hb d_Read_init_49 (lv_at hl 6 rfl) ?_
  refine x_pV C hH fp_Read_40 (fun _ => hnm) d_Read_init_51 rfl rfl hp (fun h H locs hp hH => ?_)
  refine lv_aload_n hx hb d_Read_init_54 rfl (lv_at hl 0 rfl) ?_
  refine lv_iload hx hb d_Read_init_55 (lv_at hl 7 rfl) ?_
  refine x_pV C hH fp_Read_43 (fun _ => hnm) d_Read_init_57 rfl rfl hp (fun h H locs hp hH => ?_)
  exact x_vret C hH hr d_Read_init_60 hp
set_option maxRecDepth 100000 in
theorem m_Read_init (Z : x_Z l s0 A0 D) {l0 : Nat} {l1 : Int32} {l2 : Int32} {l3 : Nat} {l4 : Int32} {l5 : Int64} {l7 : Int32} {l8 : Int32} {res : (Unit ⊕ (Nat × Nat)) × xH} (hp : f_Read_init l0 l1 l2 l3 l4 l5 l7 l8 h = some res) : x_M l s0 D y_Read_init (x_cw y_Read_init prog_5_method_1_code 9 none []) 1 40 [.ref l0, .int l1, .int l2, .ref l3, .int l4, .long l5, .int l7, .int l8] h (x_oc vU res.1) res.2 := by
  refine x_M.ofW Z (plainFor_of_name (by decide)) ?_
  intro p e s m below meth c C hnm hr hH
  have hl := lv_entry ([.ref l0, .int l1, .int l2, .ref l3, .int l4, .long l5, .int l7, .int l8]) (n := 9) (Nat.le_of_ble_eq_true rfl)
  rw [lg_entry_eq]
  generalize (lg_sl ([.ref l0, .int l1, .int l2, .ref l3, .int l4, .long l5, .int l7, .int l8]) ++ List.replicate (9 - (lg_sl ([.ref l0, .int l1, .int l2, .ref l3, .int l4, .long l5, .int l7, .int l8])).length) Slot.unset).toArray = ls at hl ⊢
  exact w_Read_init_0 C hr hnm (Nat.le_refl _) (Nat.le_refl _) l0 l1 l2 l3 l4 l5 l7 l8 hp hH hl
/-! ReadSide.question(II)V -/
theorem d_RS_question_0 : decode prog_1_method_28_code 0 = .ok (.iload_n 1, 1) := by decide +kernel
theorem d_RS_question_1 : decode prog_1_method_28_code 1 = .ok (.bipush 9, 2) := by decide +kernel
theorem d_RS_question_3 : decode prog_1_method_28_code 3 = .ok (.invokestatic 61, 3) := by decide +kernel
theorem d_RS_question_6 : decode prog_1_method_28_code 6 = .ok (.pop, 1) := by decide +kernel
theorem d_RS_question_7 : decode prog_1_method_28_code 7 = .ok (.iload_n 1, 1) := by decide +kernel
theorem d_RS_question_8 : decode prog_1_method_28_code 8 = .ok (.bipush 8, 2) := by decide +kernel
theorem d_RS_question_10 : decode prog_1_method_28_code 10 = .ok (.if_icmp .ne 19, 3) := by decide +kernel
theorem d_RS_question_13 : decode prog_1_method_28_code 13 = .ok (.iload_n 2, 1) := by decide +kernel
theorem d_RS_question_14 : decode prog_1_method_28_code 14 = .ok (.iconst 1, 1) := by decide +kernel
theorem d_RS_question_15 : decode prog_1_method_28_code 15 = .ok (.iadd, 1) := by decide +kernel
theorem d_RS_question_16 : decode prog_1_method_28_code 16 = .ok (.aload_n 0, 1) := by decide +kernel
theorem d_RS_question_17 : decode prog_1_method_28_code 17 = .ok (.getfield 31, 3) := by decide +kernel
theorem d_RS_question_20 : decode prog_1_method_28_code 20 = .ok (.iconst 1, 1) := by decide +kernel
theorem d_RS_question_21 : decode prog_1_method_28_code 21 = .ok (.iadd, 1) := by decide +kernel
theorem d_RS_question_22 : decode prog_1_method_28_code 22 = .ok (.invokestatic 61, 3) := by decide +kernel
theorem d_RS_question_25 : decode prog_1_method_28_code 25 = .ok (.pop, 1) := by decide +kernel
theorem d_RS_question_26 : decode prog_1_method_28_code 26 = .ok (.goto 29, 3) := by decide +kernel
theorem d_RS_question_29 : decode prog_1_method_28_code 29 = .ok (.iload_n 2, 1) := by decide +kernel
theorem d_RS_question_30 : decode prog_1_method_28_code 30 = .ok (.iload_n 1, 1) := by decide +kernel
theorem d_RS_question_31 : decode prog_1_method_28_code 31 = .ok (.i2l, 1) := by decide +kernel
theorem d_RS_question_32 : decode prog_1_method_28_code 32 = .ok (.ldc2_w 42, 3) := by decide +kernel
theorem d_RS_question_35 : decode prog_1_method_28_code 35 = .ok (.ldc2_w 273, 3) := by decide +kernel
theorem d_RS_question_38 : decode prog_1_method_28_code 38 = .ok (.invokestatic 27, 3) := by decide +kernel
theorem d_RS_question_41 : decode prog_1_method_28_code 41 = .ok (.ifCond .eq 8, 3) := by decide +kernel
theorem d_RS_question_44 : decode prog_1_method_28_code 44 = .ok (.bipush 10, 2) := by decide +kernel
theorem d_RS_question_46 : decode prog_1_method_28_code 46 = .ok (.goto 5, 3) := by decide +kernel
theorem d_RS_question_49 : decode prog_1_method_28_code 49 = .ok (.bipush 30, 2) := by decide +kernel
theorem d_RS_question_51 : decode prog_1_method_28_code 51 = .ok (.invokestatic 61, 3) := by decide +kernel
theorem d_RS_question_54 : decode prog_1_method_28_code 54 = .ok (.pop, 1) := by decide +kernel
theorem d_RS_question_55 : decode prog_1_method_28_code 55 = .ok (.return_, 1) := by decide +kernel
set_option maxHeartbeats 4000000 in
set_option maxRecDepth 100000 in
theorem w_RS_question_55 {res : (Unit ⊕ (Nat × Nat)) × xH} (C : x_C l s0 A0 D R_RS prog_1_method_28_code 3 [] p s m args meth c) (hr : meth.sig.returnType = none) (hnm : meth.name = "question") (hRf : 7 ≤ R.frames) (hRl : 129 ≤ R.locals)   (hp : f_RS_question_b55 h = some res) (hH : x_S s0 D R h H locs cells slots) (hl : lv_has ls 3 []) : W p l e R s m args below meth c H locs cells slots (x_Q s0 D below s R (x_oc vU res.1) res.2) (F0 m 55 ls []) := by
  obtain ⟨hx, hb, hown, hts, hK, hml, hW, Z, -⟩ := id C
  unfold f_RS_question_b55 at hp
  exact x_vret C hH hr d_RS_question_55 hp
set_option maxHeartbeats 4000000 in
set_option maxRecDepth 100000 in
theorem w_RS_question_51 {res : (Unit ⊕ (Nat × Nat)) × xH} (C : x_C l s0 A0 D R_RS prog_1_method_28_code 3 [] p s m args meth c) (hr : meth.sig.returnType = none) (hnm : meth.name = "question") (hRf : 7 ≤ R.frames) (hRl : 129 ≤ R.locals)  (t0 : Int32) (t1 : Int32) (hp : f_RS_question_b51 t0 t1 h = some res) (hH : x_S s0 D R h H locs cells slots) (hl : lv_has ls 3 []) : W p l e R s m args below meth c H locs cells slots (x_Q s0 D below s R (x_oc vU res.1) res.2) (F0 m 51 ls [.int t0, .int t1]) := by
  obtain ⟨hx, hb, hown, hts, hK, hml, hW, Z, -⟩ := id C
  unfold f_RS_question_b51 at hp
  refine x_callS (As := [.int t1, .int t0]) (rest := []) (cv := vI) C hH kc_RS_61 d_RS_question_51 hp (fun o h' e => m_RS_index Z e) rfl hl.1 (Nat.le_trans (Nat.le_of_ble_eq_true rfl) hRf) (Nat.le_trans (Nat.le_of_ble_eq_true rfl) hRl) (Nat.le_of_ble_eq_true rfl) (fun v1 h H locs cells slots hp hH => ?_)
  refine W.eq (g2 := F0 m 54 ls [.int v1]) rfl ?_
  refine lv_pop hx hb d_RS_question_54 rfl ?_
  exact w_RS_question_55 C hr hnm hRf hRl   hp hH (lv_sub hl [] rfl)
set_option maxHeartbeats 4000000 in
set_option maxRecDepth 100000 in
theorem w_RS_question_0 {res : (Unit ⊕ (Nat × Nat)) × xH} (C : x_C l s0 A0 D R_RS prog_1_method_28_code 3 [] p s m args meth c) (hr : meth.sig.returnType = none) (hnm : meth.name = "question") (hRf : 7 ≤ R.frames) (hRl : 129 ≤ R.locals)  (l0 : Nat) (l1 : Int32) (l2 : Int32) (hp : f_RS_question l0 l1 l2 h = some res) (hH : x_S s0 D R h H locs cells slots) (hl : lv_has ls 3 [(0, .ref l0), (1, .int l1), (2, .int l2)]) : W p l e R s m args below meth c H locs cells slots (x_Q s0 D below s R (x_oc vU res.1) res.2) (F0 m 0 ls []) := by
  obtain ⟨hx, hb, hown, hts, hK, hml, hW, Z, -⟩ := id C
  unfold f_RS_question at hp
  refine lv_iload_n hx hb d_RS_question_0 rfl (lv_at hl 1 rfl) ?_
  refine lv_bipush (v := 9) hx hb d_RS_question_1 (by decide) ?_
  refine x_callS (As := [.int l1, .int 9]) (rest := []) (cv := vI) C hH kc_RS_61 d_RS_question_3 hp (fun o h' e => m_RS_index Z e) rfl hl.1 (Nat.le_trans (Nat.le_of_ble_eq_true rfl) hRf) (Nat.le_trans (Nat.le_of_ble_eq_true rfl) hRl) (Nat.le_of_ble_eq_true rfl) (fun v1 h H locs cells slots hp hH => ?_)
  refine W.eq (g2 := F0 m 6 ls [.int v1]) rfl ?_
  refine lv_pop hx hb d_RS_question_6 rfl ?_
  refine lv_iload_n hx hb d_RS_question_7 rfl (lv_at hl 1 rfl) ?_
  refine lv_bipush (v := 8) hx hb d_RS_question_8 (by decide) ?_
  refine lv_icmp_ne (tgt := 29) hx hb d_RS_question_10 (by decide) (fun hc => ?_) (fun hc => ?_)
  · replace hp := x_ifn hc hp
    refine lv_iload_n hx hb d_RS_question_29 rfl (lv_at hl 2 rfl) ?_
    refine lv_iload_n hx hb d_RS_question_30 rfl (lv_at hl 1 rfl) ?_
    refine lv_i2l (v := l1.toInt64) hx hb d_RS_question_31 rfl ?_
    refine lv_ldc2 hx hb hown (hts _ k_58) d_RS_question_32 ?_
    refine lv_ldc2 hx hb hown (hts _ k_576) d_RS_question_35 ?_
    refine x_callS (As := [.long l1.toInt64, .long 4, .long 6]) (rest := [.int l2]) (cv := vI) C hH kc_RS_27 d_RS_question_38 hp (fun o h' e => m_RS_isIn Z e) rfl hl.1 (Nat.le_trans (Nat.le_of_ble_eq_true rfl) hRf) (Nat.le_trans (Nat.le_of_ble_eq_true rfl) hRl) (Nat.le_of_ble_eq_true rfl) (fun v2 h H locs cells slots hp hH => ?_)
    refine W.eq (g2 := F0 m 41 ls [.int v2, .int l2]) rfl ?_
    refine lv_if_eq (tgt := 49) hx hb d_RS_question_41 (by decide) (fun hc => ?_) (fun hc => ?_)
    · replace hp := x_ifp hc hp
      refine lv_bipush (v := 30) hx hb d_RS_question_49 (by decide) ?_
      exact w_RS_question_51 C hr hnm hRf hRl  30 l2 hp hH (lv_sub hl [] rfl)
    · replace hp := x_ifn hc hp
      refine lv_bipush (v := 10) hx hb d_RS_question_44 (by decide) ?_
      refine lv_goto (tgt := 51) hx hb d_RS_question_46 (by decide) ?_
      exact w_RS_question_51 C hr hnm hRf hRl  10 l2 hp hH (lv_sub hl [] rfl)
  · replace hp := x_ifp hc hp
    refine lv_iload_n hx hb d_RS_question_13 rfl (lv_at hl 2 rfl) ?_
    refine lv_iconst (v := 1) hx hb d_RS_question_14 (by decide) ?_
    refine lv_iadd hx hb d_RS_question_15 ?_
    refine lv_aload_n hx hb d_RS_question_16 rfl (lv_at hl 0 rfl) ?_
    refine x_gI C hH fl_RS_31 d_RS_question_17 hp (fun v3 hp => ?_)
    refine lv_iconst (v := 1) hx hb d_RS_question_20 (by decide) ?_
    refine lv_iadd hx hb d_RS_question_21 ?_
    refine x_callS (As := [.int (l2 + 1), .int (v3 + 1)]) (rest := []) (cv := vI) C hH kc_RS_61 d_RS_question_22 hp (fun o h' e => m_RS_index Z e) rfl hl.1 (Nat.le_trans (Nat.le_of_ble_eq_true rfl) hRf) (Nat.le_trans (Nat.le_of_ble_eq_true rfl) hRl) (Nat.le_of_ble_eq_true rfl) (fun v4 h H locs cells slots hp hH => ?_)
    refine W.eq (g2 := F0 m 25 ls [.int v4]) rfl ?_
    refine lv_pop hx hb d_RS_question_25 rfl ?_
    refine lv_goto (tgt := 55) hx hb d_RS_question_26 (by decide) ?_
    exact w_RS_question_55 C hr hnm hRf hRl   hp hH (lv_sub hl [] rfl)
set_option maxRecDepth 100000 in
theorem m_RS_question (Z : x_Z l s0 A0 D) {l0 : Nat} {l1 : Int32} {l2 : Int32} {res : (Unit ⊕ (Nat × Nat)) × xH} (hp : f_RS_question l0 l1 l2 h = some res) : x_M l s0 D y_RS_question (x_cw y_RS_question prog_1_method_28_code 3 none []) 7 129 [.ref l0, .int l1, .int l2] h (x_oc vU res.1) res.2 := by
  refine x_M.ofW Z (plainFor_of_name (by decide)) ?_
  intro p e s m below meth c C hnm hr hH
  have hl := lv_entry ([.ref l0, .int l1, .int l2]) (n := 3) (Nat.le_of_ble_eq_true rfl)
  rw [lg_entry_eq]
  generalize (lg_sl ([.ref l0, .int l1, .int l2]) ++ List.replicate (3 - (lg_sl ([.ref l0, .int l1, .int l2])).length) Slot.unset).toArray = ls at hl ⊢
  exact w_RS_question_0 C hr hnm (Nat.le_refl _) (Nat.le_refl _) l0 l1 l2 hp hH hl
/-! ReadSide.vectorOf(J)LReadSide$Vector; -/
theorem d_RS_vectorOf_0 : decode prog_1_method_11_code 0 = .ok (.lload_n 1, 1) := by decide +kernel
theorem d_RS_vectorOf_1 : decode prog_1_method_11_code 1 = .ok (.bipush 20, 2) := by decide +kernel
theorem d_RS_vectorOf_3 : decode prog_1_method_11_code 3 = .ok (.lshr, 1) := by decide +kernel
theorem d_RS_vectorOf_4 : decode prog_1_method_11_code 4 = .ok (.lstore_n 3, 1) := by decide +kernel
theorem d_RS_vectorOf_5 : decode prog_1_method_11_code 5 = .ok (.lload_n 3, 1) := by decide +kernel
theorem d_RS_vectorOf_6 : decode prog_1_method_11_code 6 = .ok (.lconst 0, 1) := by decide +kernel
theorem d_RS_vectorOf_7 : decode prog_1_method_11_code 7 = .ok (.lcmp, 1) := by decide +kernel
theorem d_RS_vectorOf_8 : decode prog_1_method_11_code 8 = .ok (.ifCond .lt 24, 3) := by decide +kernel
theorem d_RS_vectorOf_11 : decode prog_1_method_11_code 11 = .ok (.lload_n 3, 1) := by decide +kernel
theorem d_RS_vectorOf_12 : decode prog_1_method_11_code 12 = .ok (.ldc2_w 136, 3) := by decide +kernel
theorem d_RS_vectorOf_15 : decode prog_1_method_11_code 15 = .ok (.lcmp, 1) := by decide +kernel
theorem d_RS_vectorOf_16 : decode prog_1_method_11_code 16 = .ok (.ifCond .ge 16, 3) := by decide +kernel
theorem d_RS_vectorOf_19 : decode prog_1_method_11_code 19 = .ok (.lload_n 1, 1) := by decide +kernel
theorem d_RS_vectorOf_20 : decode prog_1_method_11_code 20 = .ok (.ldc2_w 138, 3) := by decide +kernel
theorem d_RS_vectorOf_23 : decode prog_1_method_11_code 23 = .ok (.land, 1) := by decide +kernel
theorem d_RS_vectorOf_24 : decode prog_1_method_11_code 24 = .ok (.lload_n 3, 1) := by decide +kernel
theorem d_RS_vectorOf_25 : decode prog_1_method_11_code 25 = .ok (.invokestatic 140, 3) := by decide +kernel
theorem d_RS_vectorOf_28 : decode prog_1_method_11_code 28 = .ok (.lcmp, 1) := by decide +kernel
theorem d_RS_vectorOf_29 : decode prog_1_method_11_code 29 = .ok (.ifCond .eq 5, 3) := by decide +kernel
theorem d_RS_vectorOf_32 : decode prog_1_method_11_code 32 = .ok (.aconst_null, 1) := by decide +kernel
theorem d_RS_vectorOf_33 : decode prog_1_method_11_code 33 = .ok (.areturn, 1) := by decide +kernel
theorem d_RS_vectorOf_34 : decode prog_1_method_11_code 34 = .ok (.new 114, 3) := by decide +kernel
theorem d_RS_vectorOf_37 : decode prog_1_method_11_code 37 = .ok (.dup, 1) := by decide +kernel
theorem d_RS_vectorOf_38 : decode prog_1_method_11_code 38 = .ok (.invokespecial 128, 3) := by decide +kernel
theorem d_RS_vectorOf_41 : decode prog_1_method_11_code 41 = .ok (.astore 5, 2) := by decide +kernel
theorem d_RS_vectorOf_43 : decode prog_1_method_11_code 43 = .ok (.iconst 0, 1) := by decide +kernel
theorem d_RS_vectorOf_44 : decode prog_1_method_11_code 44 = .ok (.istore 6, 2) := by decide +kernel
theorem d_RS_vectorOf_46 : decode prog_1_method_11_code 46 = .ok (.iload 6, 2) := by decide +kernel
theorem d_RS_vectorOf_48 : decode prog_1_method_11_code 48 = .ok (.iconst 3, 1) := by decide +kernel
theorem d_RS_vectorOf_49 : decode prog_1_method_11_code 49 = .ok (.if_icmp .ge 65, 3) := by decide +kernel
theorem d_RS_vectorOf_52 : decode prog_1_method_11_code 52 = .ok (.aload 5, 2) := by decide +kernel
theorem d_RS_vectorOf_54 : decode prog_1_method_11_code 54 = .ok (.getfield 126, 3) := by decide +kernel
theorem d_RS_vectorOf_57 : decode prog_1_method_11_code 57 = .ok (.iload 6, 2) := by decide +kernel
theorem d_RS_vectorOf_59 : decode prog_1_method_11_code 59 = .ok (.lload_n 3, 1) := by decide +kernel
theorem d_RS_vectorOf_60 : decode prog_1_method_11_code 60 = .ok (.bipush 9, 2) := by decide +kernel
theorem d_RS_vectorOf_62 : decode prog_1_method_11_code 62 = .ok (.iload 6, 2) := by decide +kernel
theorem d_RS_vectorOf_64 : decode prog_1_method_11_code 64 = .ok (.imul, 1) := by decide +kernel
theorem d_RS_vectorOf_65 : decode prog_1_method_11_code 65 = .ok (.lshr, 1) := by decide +kernel
theorem d_RS_vectorOf_66 : decode prog_1_method_11_code 66 = .ok (.ldc2_w 144, 3) := by decide +kernel
theorem d_RS_vectorOf_69 : decode prog_1_method_11_code 69 = .ok (.land, 1) := by decide +kernel
theorem d_RS_vectorOf_70 : decode prog_1_method_11_code 70 = .ok (.l2i, 1) := by decide +kernel
theorem d_RS_vectorOf_71 : decode prog_1_method_11_code 71 = .ok (.iastore, 1) := by decide +kernel
theorem d_RS_vectorOf_72 : decode prog_1_method_11_code 72 = .ok (.aload 5, 2) := by decide +kernel
theorem d_RS_vectorOf_74 : decode prog_1_method_11_code 74 = .ok (.getfield 126, 3) := by decide +kernel
theorem d_RS_vectorOf_77 : decode prog_1_method_11_code 77 = .ok (.iload 6, 2) := by decide +kernel
theorem d_RS_vectorOf_79 : decode prog_1_method_11_code 79 = .ok (.iaload, 1) := by decide +kernel
theorem d_RS_vectorOf_80 : decode prog_1_method_11_code 80 = .ok (.iload 6, 2) := by decide +kernel
theorem d_RS_vectorOf_82 : decode prog_1_method_11_code 82 = .ok (.aload_n 0, 1) := by decide +kernel
theorem d_RS_vectorOf_83 : decode prog_1_method_11_code 83 = .ok (.getfield 31, 3) := by decide +kernel
theorem d_RS_vectorOf_86 : decode prog_1_method_11_code 86 = .ok (.if_icmp .ge 16, 3) := by decide +kernel
theorem d_RS_vectorOf_89 : decode prog_1_method_11_code 89 = .ok (.aload_n 0, 1) := by decide +kernel
theorem d_RS_vectorOf_90 : decode prog_1_method_11_code 90 = .ok (.getfield 37, 3) := by decide +kernel
theorem d_RS_vectorOf_93 : decode prog_1_method_11_code 93 = .ok (.iload 6, 2) := by decide +kernel
theorem d_RS_vectorOf_95 : decode prog_1_method_11_code 95 = .ok (.aaload, 1) := by decide +kernel
theorem d_RS_vectorOf_96 : decode prog_1_method_11_code 96 = .ok (.getfield 91, 3) := by decide +kernel
theorem d_RS_vectorOf_99 : decode prog_1_method_11_code 99 = .ok (.goto 4, 3) := by decide +kernel
theorem d_RS_vectorOf_102 : decode prog_1_method_11_code 102 = .ok (.iconst 0, 1) := by decide +kernel
theorem d_RS_vectorOf_103 : decode prog_1_method_11_code 103 = .ok (.if_icmp .le 5, 3) := by decide +kernel
theorem d_RS_vectorOf_106 : decode prog_1_method_11_code 106 = .ok (.aconst_null, 1) := by decide +kernel
theorem d_RS_vectorOf_107 : decode prog_1_method_11_code 107 = .ok (.areturn, 1) := by decide +kernel
theorem d_RS_vectorOf_108 : decode prog_1_method_11_code 108 = .ok (.iinc 6 1, 3) := by decide +kernel
theorem d_RS_vectorOf_111 : decode prog_1_method_11_code 111 = .ok (.goto (-65), 3) := by decide +kernel
theorem d_RS_vectorOf_114 : decode prog_1_method_11_code 114 = .ok (.aload 5, 2) := by decide +kernel
theorem d_RS_vectorOf_116 : decode prog_1_method_11_code 116 = .ok (.areturn, 1) := by decide +kernel
set_option maxHeartbeats 4000000 in
set_option maxRecDepth 100000 in
theorem w_RS_vectorOf_103 {res : (Option Nat ⊕ (Nat × Nat)) × xH} (C : x_C l s0 A0 D R_RS prog_1_method_11_code 7 [] p s m args meth c) (hr : meth.sig.returnType = (some (.object "ReadSide$Vector"))) (hnm : meth.name = "vectorOf") (hRf : 2 ≤ R.frames) (hRl : 68 ≤ R.locals) {k46 : Nat → Int64 → Nat → Int32 → xM (Option Nat)} (hs46 : ∀ (l0 : Nat) (l3 : Int64) (l5 : Nat) (l6 : Int32) (h : xH) (H : Heap) (locs : List Loc) (cells slots : Nat) (ls : Array Slot), k46 l0 l3 l5 l6 h = some res → x_S s0 D R h H locs cells slots → lv_has ls 7 [(0, .ref l0), (3, .long l3), (5, .ref l5), (6, .int l6)] → W p l e R s m args below meth c H locs cells slots (x_Q s0 D below s R (x_oc vQ res.1) res.2) (F0 m 46 ls [])) (l0 : Nat) (l3 : Int64) (l5 : Nat) (l6 : Int32) (t0 : Int32) (t1 : Int32) (hp : f_RS_vectorOf_b103 k46 l0 l3 l5 l6 t0 t1 h = some res) (hH : x_S s0 D R h H locs cells slots) (hl : lv_has ls 7 [(0, .ref l0), (3, .long l3), (5, .ref l5), (6, .int l6)]) : W p l e R s m args below meth c H locs cells slots (x_Q s0 D below s R (x_oc vQ res.1) res.2) (F0 m 103 ls [.int t0, .int t1]) := by
  obtain ⟨hx, hb, hown, hts, hK, hml, hW, Z, -⟩ := id C
  unfold f_RS_vectorOf_b103 at hp
  refine lv_icmp_le (tgt := 108) hx hb d_RS_vectorOf_103 (by decide) (fun hc => ?_) (fun hc => ?_)
  · replace hp := x_ifp hc hp
    refine lv_iinc (v := (l6 + 1)) (lv' := [(6, .int (l6 + 1)), (0, .ref l0), (3, .long l3), (5, .ref l5)]) hx hb d_RS_vectorOf_108 hl (k := 3) rfl rfl (by decide) rfl (fun ls hl => ?_)
    refine lv_goto (tgt := 46) hx hb d_RS_vectorOf_111 (by decide) ?_
    exact hs46 l0 l3 l5 (l6 + 1) _ _ _ _ _ _ hp hH (lv_sub hl [1, 2, 3, 0] rfl)
  · replace hp := x_ifn hc hp
    refine lv_null hx hb d_RS_vectorOf_106 ?_
    exact x_qret (v := none) C hH hr ⟨_, rfl⟩ d_RS_vectorOf_107 hp
set_option maxHeartbeats 4000000 in
set_option maxRecDepth 100000 in
theorem w_RS_vectorOf_46 {res : (Option Nat ⊕ (Nat × Nat)) × xH} (C : x_C l s0 A0 D R_RS prog_1_method_11_code 7 [] p s m args meth c) (hr : meth.sig.returnType = (some (.object "ReadSide$Vector"))) (hnm : meth.name = "vectorOf") (hRf : 2 ≤ R.frames) (hRl : 68 ≤ R.locals) {k46 : Nat → Int64 → Nat → Int32 → xM (Option Nat)} (hs46 : ∀ (l0 : Nat) (l3 : Int64) (l5 : Nat) (l6 : Int32) (h : xH) (H : Heap) (locs : List Loc) (cells slots : Nat) (ls : Array Slot), k46 l0 l3 l5 l6 h = some res → x_S s0 D R h H locs cells slots → lv_has ls 7 [(0, .ref l0), (3, .long l3), (5, .ref l5), (6, .int l6)] → W p l e R s m args below meth c H locs cells slots (x_Q s0 D below s R (x_oc vQ res.1) res.2) (F0 m 46 ls [])) (l0 : Nat) (l3 : Int64) (l5 : Nat) (l6 : Int32) (hp : f_RS_vectorOf_b46 k46 l0 l3 l5 l6 h = some res) (hH : x_S s0 D R h H locs cells slots) (hl : lv_has ls 7 [(0, .ref l0), (3, .long l3), (5, .ref l5), (6, .int l6)]) : W p l e R s m args below meth c H locs cells slots (x_Q s0 D below s R (x_oc vQ res.1) res.2) (F0 m 46 ls []) := by
  obtain ⟨hx, hb, hown, hts, hK, hml, hW, Z, -⟩ := id C
  unfold f_RS_vectorOf_b46 at hp
  refine lv_iload hx hb d_RS_vectorOf_46 (lv_at hl 3 rfl) ?_
  refine lv_iconst (v := 3) hx hb d_RS_vectorOf_48 (by decide) ?_
  refine lv_icmp_ge (tgt := 114) hx hb d_RS_vectorOf_49 (by decide) (fun hc => ?_) (fun hc => ?_)
  · replace hp := x_ifp hc hp
    refine lv_aload hx hb d_RS_vectorOf_114 (lv_at hl 2 rfl) ?_
    exact x_qret (v := (some l5)) C hH hr ⟨_, rfl⟩ d_RS_vectorOf_116 hp
  · replace hp := x_ifn hc hp
    refine lv_aload hx hb d_RS_vectorOf_52 (lv_at hl 2 rfl) ?_
    refine x_gA C hH fl_RS_126 d_RS_vectorOf_54 hp (fun v1 hp => ?_)
    refine lv_iload hx hb d_RS_vectorOf_57 (lv_at hl 3 rfl) ?_
    refine lv_lload_n hx hb d_RS_vectorOf_59 rfl (lv_at hl 1 rfl) ?_
    refine lv_bipush (v := 9) hx hb d_RS_vectorOf_60 (by decide) ?_
    refine lv_iload hx hb d_RS_vectorOf_62 (lv_at hl 3 rfl) ?_
    refine lv_imul hx hb d_RS_vectorOf_64 ?_
    refine lv_lshr (v := (l3 >>> ((9 * l6).toInt64 &&& 63))) hx hb d_RS_vectorOf_65 rfl ?_
    refine lv_ldc2 hx hb hown (hts _ k_584) d_RS_vectorOf_66 ?_
    refine lv_land hx hb d_RS_vectorOf_69 ?_
    refine lv_l2i (v := ((l3 >>> ((9 * l6).toInt64 &&& 63)) &&& 511).toInt32) hx hb d_RS_vectorOf_70 rfl ?_
    refine x_sI C hH d_RS_vectorOf_71 hp (fun h H locs hp hH => ?_)
    refine lv_aload hx hb d_RS_vectorOf_72 (lv_at hl 2 rfl) ?_
    refine x_gA C hH fl_RS_126 d_RS_vectorOf_74 hp (fun v2 hp => ?_)
    refine lv_iload hx hb d_RS_vectorOf_77 (lv_at hl 3 rfl) ?_
    refine x_lI C hH d_RS_vectorOf_79 hp (fun v3 hp => ?_)
    refine lv_iload hx hb d_RS_vectorOf_80 (lv_at hl 3 rfl) ?_
    refine lv_aload_n hx hb d_RS_vectorOf_82 rfl (lv_at hl 0 rfl) ?_
    refine x_gI C hH fl_RS_31 d_RS_vectorOf_83 hp (fun v4 hp => ?_)
    refine lv_icmp_ge (tgt := 102) hx hb d_RS_vectorOf_86 (by decide) (fun hc => ?_) (fun hc => ?_)
    · replace hp := x_ifp hc hp
      refine lv_iconst (v := 0) hx hb d_RS_vectorOf_102 (by decide) ?_
      exact w_RS_vectorOf_103 C hr hnm hRf hRl hs46 l0 l3 l5 l6 0 v3 hp hH (lv_sub hl [0, 1, 2, 3] rfl)
    · replace hp := x_ifn hc hp
      refine lv_aload_n hx hb d_RS_vectorOf_89 rfl (lv_at hl 0 rfl) ?_
      refine x_gA C hH fl_RS_37 d_RS_vectorOf_90 hp (fun v5 hp => ?_)
      refine lv_iload hx hb d_RS_vectorOf_93 (lv_at hl 3 rfl) ?_
      refine x_lA C hH (by decide) d_RS_vectorOf_95 hp (fun v6 hp => ?_)
      refine x_gI C hH fl_RS_91 d_RS_vectorOf_96 hp (fun v7 hp => ?_)
      refine lv_goto (tgt := 103) hx hb d_RS_vectorOf_99 (by decide) ?_
      exact w_RS_vectorOf_103 C hr hnm hRf hRl hs46 l0 l3 l5 l6 v7 v3 hp hH (lv_sub hl [0, 1, 2, 3] rfl)
theorem w_RS_vectorOf_h46 {res : (Option Nat ⊕ (Nat × Nat)) × xH} (C : x_C l s0 A0 D R_RS prog_1_method_11_code 7 [] p s m args meth c) (hr : meth.sig.returnType = (some (.object "ReadSide$Vector"))) (hnm : meth.name = "vectorOf") (hRf : 2 ≤ R.frames) (hRl : 68 ≤ R.locals)  : ∀ (n : Nat) (l0 : Nat) (l3 : Int64) (l5 : Nat) (l6 : Int32) (h : xH) (H : Heap) (locs : List Loc) (cells slots : Nat) (ls : Array Slot), f_RS_vectorOf_h46 n l0 l3 l5 l6 h = some res → x_S s0 D R h H locs cells slots → lv_has ls 7 [(0, .ref l0), (3, .long l3), (5, .ref l5), (6, .int l6)] → W p l e R s m args below meth c H locs cells slots (x_Q s0 D below s R (x_oc vQ res.1) res.2) (F0 m 46 ls []) := by
  intro n
  induction n with
  | zero => intro l0 l3 l5 l6 h H locs cells slots ls hp hH hl; cases hp
  | succ n ih => intro l0 l3 l5 l6 h H locs cells slots ls hp hH hl; exact w_RS_vectorOf_46 C hr hnm hRf hRl ih l0 l3 l5 l6 hp hH hl
set_option maxHeartbeats 4000000 in
set_option maxRecDepth 100000 in
theorem w_RS_vectorOf_32 {res : (Option Nat ⊕ (Nat × Nat)) × xH} (C : x_C l s0 A0 D R_RS prog_1_method_11_code 7 [] p s m args meth c) (hr : meth.sig.returnType = (some (.object "ReadSide$Vector"))) (hnm : meth.name = "vectorOf") (hRf : 2 ≤ R.frames) (hRl : 68 ≤ R.locals)   (hp : f_RS_vectorOf_b32 h = some res) (hH : x_S s0 D R h H locs cells slots) (hl : lv_has ls 7 []) : W p l e R s m args below meth c H locs cells slots (x_Q s0 D below s R (x_oc vQ res.1) res.2) (F0 m 32 ls []) := by
  obtain ⟨hx, hb, hown, hts, hK, hml, hW, Z, -⟩ := id C
  unfold f_RS_vectorOf_b32 at hp
  refine lv_null hx hb d_RS_vectorOf_32 ?_
  exact x_qret (v := none) C hH hr ⟨_, rfl⟩ d_RS_vectorOf_33 hp
set_option maxHeartbeats 4000000 in
set_option maxRecDepth 100000 in
theorem w_RS_vectorOf_0 {res : (Option Nat ⊕ (Nat × Nat)) × xH} (C : x_C l s0 A0 D R_RS prog_1_method_11_code 7 [] p s m args meth c) (hr : meth.sig.returnType = (some (.object "ReadSide$Vector"))) (hnm : meth.name = "vectorOf") (hRf : 2 ≤ R.frames) (hRl : 68 ≤ R.locals)  (l0 : Nat) (l1 : Int64) (hp : f_RS_vectorOf l0 l1 h = some res) (hH : x_S s0 D R h H locs cells slots) (hl : lv_has ls 7 [(0, .ref l0), (1, .long l1)]) : W p l e R s m args below meth c H locs cells slots (x_Q s0 D below s R (x_oc vQ res.1) res.2) (F0 m 0 ls []) := by
  obtain ⟨hx, hb, hown, hts, hK, hml, hW, Z, -⟩ := id C
  unfold f_RS_vectorOf at hp
  refine lv_lload_n hx hb d_RS_vectorOf_0 rfl (lv_at hl 1 rfl) ?_
  refine lv_bipush (v := 20) hx hb d_RS_vectorOf_1 (by decide) ?_
  refine lv_lshr (v := (l1 >>> ((20 : Int32).toInt64 &&& 63))) hx hb d_RS_vectorOf_3 rfl ?_
  refine lv_lstore_n (lv' := [(3, .long (l1 >>> ((20 : Int32).toInt64 &&& 63))), (0, .ref l0), (1, .long l1)]) hx hb d_RS_vectorOf_4 rfl hl (by decide) rfl (fun ls hl => ?_)
  refine lv_lload_n hx hb d_RS_vectorOf_5 rfl (lv_at hl 0 rfl) ?_
  refine lv_lconst (v := 0) hx hb d_RS_vectorOf_6 (by decide) ?_
  refine W.lcmp hx hb d_RS_vectorOf_7 ?_
  refine lv_if_lt (tgt := 32) hx hb d_RS_vectorOf_8 (by decide) (fun hc => ?_) (fun hc => ?_)
  · replace hp := x_ifp hc hp
    exact w_RS_vectorOf_32 C hr hnm hRf hRl   hp hH (lv_sub hl [] rfl)
  · replace hp := x_ifn hc hp
    refine lv_lload_n hx hb d_RS_vectorOf_11 rfl (lv_at hl 0 rfl) ?_
    refine lv_ldc2 hx hb hown (hts _ k_581) d_RS_vectorOf_12 ?_
    refine W.lcmp hx hb d_RS_vectorOf_15 ?_
    refine lv_if_ge (tgt := 32) hx hb d_RS_vectorOf_16 (by decide) (fun hc => ?_) (fun hc => ?_)
    · replace hp := x_ifp hc hp
      exact w_RS_vectorOf_32 C hr hnm hRf hRl   hp hH (lv_sub hl [] rfl)
    · replace hp := x_ifn hc hp
      refine lv_lload_n hx hb d_RS_vectorOf_19 rfl (lv_at hl 2 rfl) ?_
      refine lv_ldc2 hx hb hown (hts _ k_582) d_RS_vectorOf_20 ?_
      refine lv_land hx hb d_RS_vectorOf_23 ?_
      refine lv_lload_n hx hb d_RS_vectorOf_24 rfl (lv_at hl 0 rfl) ?_
      refine x_callS (As := [.long (l1 >>> ((20 : Int32).toInt64 &&& 63))]) (rest := [.long (l1 &&& 1048575)]) (cv := vJ) C hH kc_RS_140 d_RS_vectorOf_25 hp (fun o h' e => m_Vec_check Z e) rfl hl.1 (Nat.le_trans (Nat.le_of_ble_eq_true rfl) hRf) (Nat.le_trans (Nat.le_of_ble_eq_true rfl) hRl) (Nat.le_of_ble_eq_true rfl) (fun v1 h H locs cells slots hp hH => ?_)
      refine W.eq (g2 := F0 m 28 ls [.long v1, .long (l1 &&& 1048575)]) rfl ?_
      refine W.lcmp hx hb d_RS_vectorOf_28 ?_
      refine lv_if_eq (tgt := 34) hx hb d_RS_vectorOf_29 (by decide) (fun hc => ?_) (fun hc => ?_)
      · replace hp := x_ifp hc hp
        refine x_nO C hH nw_RS_114 d_RS_vectorOf_34 hp (fun a2 h H cells slots hp hH => ?_)
        refine lv_dup hx hb d_RS_vectorOf_37 rfl ?_
        refine x_callI (As := []) (rest := [.ref a2]) (cv := vU) C hH kc_RS_128 d_RS_vectorOf_38 hp (fun o h' e => m_Vec_init Z e) rfl hl.1 (Nat.le_trans (Nat.le_of_ble_eq_true rfl) hRf) (Nat.le_trans (Nat.le_of_ble_eq_true rfl) hRl) (Nat.le_of_ble_eq_true rfl) (fun v3 h H locs cells slots hp hH => ?_)
        refine W.eq (g2 := F0 m 41 ls [.ref a2]) rfl ?_
        refine lv_astore (lv' := [(5, .ref a2), (3, .long (l1 >>> ((20 : Int32).toInt64 &&& 63))), (0, .ref l0), (1, .long l1)]) hx hb d_RS_vectorOf_41 hl (by decide) rfl (fun ls hl => ?_)
        refine lv_iconst (v := 0) hx hb d_RS_vectorOf_43 (by decide) ?_
        refine lv_istore (lv' := [(6, .int 0), (5, .ref a2), (3, .long (l1 >>> ((20 : Int32).toInt64 &&& 63))), (0, .ref l0), (1, .long l1)]) hx hb d_RS_vectorOf_44 hl (by decide) rfl (fun ls hl => ?_)
        exact w_RS_vectorOf_h46 C hr hnm hRf hRl  1000 l0 (l1 >>> ((20 : Int32).toInt64 &&& 63)) a2 0 _ _ _ _ _ _ hp hH (lv_sub hl [3, 2, 1, 0] rfl)
      · replace hp := x_ifn hc hp
        exact w_RS_vectorOf_32 C hr hnm hRf hRl   hp hH (lv_sub hl [] rfl)
set_option maxRecDepth 100000 in
theorem m_RS_vectorOf (Z : x_Z l s0 A0 D) {l0 : Nat} {l1 : Int64} {res : (Option Nat ⊕ (Nat × Nat)) × xH} (hp : f_RS_vectorOf l0 l1 h = some res) : x_M l s0 D y_RS_vectorOf (x_cw y_RS_vectorOf prog_1_method_11_code 7 (some (.object "ReadSide$Vector")) []) 2 68 [.ref l0, .long l1] h (x_oc vQ res.1) res.2 := by
  refine x_M.ofW Z (plainFor_of_name (by decide)) ?_
  intro p e s m below meth c C hnm hr hH
  have hl := lv_entry ([.ref l0, .long l1]) (n := 7) (Nat.le_of_ble_eq_true rfl)
  rw [lg_entry_eq]
  generalize (lg_sl ([.ref l0, .long l1]) ++ List.replicate (7 - (lg_sl ([.ref l0, .long l1])).length) Slot.unset).toArray = ls at hl ⊢
  exact w_RS_vectorOf_0 C hr hnm (Nat.le_refl _) (Nat.le_refl _) l0 l1 hp hH hl
end GEN
