section GEN
variable {p : Program} {l : Launch} {e : Env} {R : Room} {s : State} {m : MethodId} {args : Array Value} {below : List Frame} {meth : Method} {c : Code} {H : Heap} {locs : List Loc} {cells slots : Nat} {ls : Array Slot} {D : xD} {s0 : State} {A0 : Array Value} {h : xH}
/-! ReadSide$State.ranked(I)I -/
theorem d_St_ranked_0 : decode prog_8_method_7_code 0 = .ok (.iconst 0, 1) := by decide +kernel
theorem d_St_ranked_1 : decode prog_8_method_7_code 1 = .ok (.istore_n 2, 1) := by decide +kernel
theorem d_St_ranked_2 : decode prog_8_method_7_code 2 = .ok (.iload_n 2, 1) := by decide +kernel
theorem d_St_ranked_3 : decode prog_8_method_7_code 3 = .ok (.bipush 30, 2) := by decide +kernel
theorem d_St_ranked_5 : decode prog_8_method_7_code 5 = .ok (.if_icmp .ge 104, 3) := by decide +kernel
theorem d_St_ranked_8 : decode prog_8_method_7_code 8 = .ok (.iconst 0, 1) := by decide +kernel
theorem d_St_ranked_9 : decode prog_8_method_7_code 9 = .ok (.istore_n 3, 1) := by decide +kernel
theorem d_St_ranked_10 : decode prog_8_method_7_code 10 = .ok (.iconst 0, 1) := by decide +kernel
theorem d_St_ranked_11 : decode prog_8_method_7_code 11 = .ok (.istore 4, 2) := by decide +kernel
theorem d_St_ranked_13 : decode prog_8_method_7_code 13 = .ok (.iload 4, 2) := by decide +kernel
theorem d_St_ranked_15 : decode prog_8_method_7_code 15 = .ok (.bipush 30, 2) := by decide +kernel
theorem d_St_ranked_17 : decode prog_8_method_7_code 17 = .ok (.if_icmp .ge 79, 3) := by decide +kernel
theorem d_St_ranked_20 : decode prog_8_method_7_code 20 = .ok (.aload_n 0, 1) := by decide +kernel
theorem d_St_ranked_21 : decode prog_8_method_7_code 21 = .ok (.getfield 11, 3) := by decide +kernel
theorem d_St_ranked_24 : decode prog_8_method_7_code 24 = .ok (.iload 4, 2) := by decide +kernel
theorem d_St_ranked_26 : decode prog_8_method_7_code 26 = .ok (.aaload, 1) := by decide +kernel
theorem d_St_ranked_27 : decode prog_8_method_7_code 27 = .ok (.getfield 75, 3) := by decide +kernel
theorem d_St_ranked_30 : decode prog_8_method_7_code 30 = .ok (.aload_n 0, 1) := by decide +kernel
theorem d_St_ranked_31 : decode prog_8_method_7_code 31 = .ok (.getfield 11, 3) := by decide +kernel
theorem d_St_ranked_34 : decode prog_8_method_7_code 34 = .ok (.iload_n 2, 1) := by decide +kernel
theorem d_St_ranked_35 : decode prog_8_method_7_code 35 = .ok (.aaload, 1) := by decide +kernel
theorem d_St_ranked_36 : decode prog_8_method_7_code 36 = .ok (.getfield 75, 3) := by decide +kernel
theorem d_St_ranked_39 : decode prog_8_method_7_code 39 = .ok (.if_icmp .gt 31, 3) := by decide +kernel
theorem d_St_ranked_42 : decode prog_8_method_7_code 42 = .ok (.aload_n 0, 1) := by decide +kernel
theorem d_St_ranked_43 : decode prog_8_method_7_code 43 = .ok (.getfield 11, 3) := by decide +kernel
theorem d_St_ranked_46 : decode prog_8_method_7_code 46 = .ok (.iload 4, 2) := by decide +kernel
theorem d_St_ranked_48 : decode prog_8_method_7_code 48 = .ok (.aaload, 1) := by decide +kernel
theorem d_St_ranked_49 : decode prog_8_method_7_code 49 = .ok (.getfield 75, 3) := by decide +kernel
theorem d_St_ranked_52 : decode prog_8_method_7_code 52 = .ok (.aload_n 0, 1) := by decide +kernel
theorem d_St_ranked_53 : decode prog_8_method_7_code 53 = .ok (.getfield 11, 3) := by decide +kernel
theorem d_St_ranked_56 : decode prog_8_method_7_code 56 = .ok (.iload_n 2, 1) := by decide +kernel
theorem d_St_ranked_57 : decode prog_8_method_7_code 57 = .ok (.aaload, 1) := by decide +kernel
theorem d_St_ranked_58 : decode prog_8_method_7_code 58 = .ok (.getfield 75, 3) := by decide +kernel
theorem d_St_ranked_61 : decode prog_8_method_7_code 61 = .ok (.if_icmp .ne 13, 3) := by decide +kernel
theorem d_St_ranked_64 : decode prog_8_method_7_code 64 = .ok (.iload 4, 2) := by decide +kernel
theorem d_St_ranked_66 : decode prog_8_method_7_code 66 = .ok (.iload_n 2, 1) := by decide +kernel
theorem d_St_ranked_67 : decode prog_8_method_7_code 67 = .ok (.if_icmp .ge 7, 3) := by decide +kernel
theorem d_St_ranked_70 : decode prog_8_method_7_code 70 = .ok (.iconst 1, 1) := by decide +kernel
theorem d_St_ranked_71 : decode prog_8_method_7_code 71 = .ok (.goto 4, 3) := by decide +kernel
theorem d_St_ranked_74 : decode prog_8_method_7_code 74 = .ok (.iconst 0, 1) := by decide +kernel
theorem d_St_ranked_75 : decode prog_8_method_7_code 75 = .ok (.istore 5, 2) := by decide +kernel
theorem d_St_ranked_77 : decode prog_8_method_7_code 77 = .ok (.iload_n 3, 1) := by decide +kernel
theorem d_St_ranked_78 : decode prog_8_method_7_code 78 = .ok (.iload 5, 2) := by decide +kernel
theorem d_St_ranked_80 : decode prog_8_method_7_code 80 = .ok (.ifCond .eq 7, 3) := by decide +kernel
theorem d_St_ranked_83 : decode prog_8_method_7_code 83 = .ok (.iconst 1, 1) := by decide +kernel
theorem d_St_ranked_84 : decode prog_8_method_7_code 84 = .ok (.goto 4, 3) := by decide +kernel
theorem d_St_ranked_87 : decode prog_8_method_7_code 87 = .ok (.iconst 0, 1) := by decide +kernel
theorem d_St_ranked_88 : decode prog_8_method_7_code 88 = .ok (.iadd, 1) := by decide +kernel
theorem d_St_ranked_89 : decode prog_8_method_7_code 89 = .ok (.istore_n 3, 1) := by decide +kernel
theorem d_St_ranked_90 : decode prog_8_method_7_code 90 = .ok (.iinc 4 1, 3) := by decide +kernel
theorem d_St_ranked_93 : decode prog_8_method_7_code 93 = .ok (.goto (-80), 3) := by decide +kernel
theorem d_St_ranked_96 : decode prog_8_method_7_code 96 = .ok (.iload_n 3, 1) := by decide +kernel
theorem d_St_ranked_97 : decode prog_8_method_7_code 97 = .ok (.iload_n 1, 1) := by decide +kernel
theorem d_St_ranked_98 : decode prog_8_method_7_code 98 = .ok (.if_icmp .ne 5, 3) := by decide +kernel
theorem d_St_ranked_101 : decode prog_8_method_7_code 101 = .ok (.iload_n 2, 1) := by decide +kernel
theorem d_St_ranked_102 : decode prog_8_method_7_code 102 = .ok (.ireturn, 1) := by decide +kernel
theorem d_St_ranked_103 : decode prog_8_method_7_code 103 = .ok (.iinc 2 1, 3) := by decide +kernel
theorem d_St_ranked_106 : decode prog_8_method_7_code 106 = .ok (.goto (-104), 3) := by decide +kernel
theorem d_St_ranked_109 : decode prog_8_method_7_code 109 = .ok (.iconst (-1), 1) := by decide +kernel
theorem d_St_ranked_110 : decode prog_8_method_7_code 110 = .ok (.ireturn, 1) := by decide +kernel
set_option maxHeartbeats 4000000 in
set_option maxRecDepth 100000 in
theorem w_St_ranked_88 {res : (Int32 ⊕ (Nat × Nat)) × xH} (C : x_C l s0 A0 D R_St prog_8_method_7_code 6 [] p s m args meth c) (hr : meth.sig.returnType = (some .int)) (hnm : meth.name = "ranked") (hRf : 0 ≤ R.frames) (hRl : 0 ≤ R.locals) {k2 : Nat → Int32 → Int32 → xM Int32} (hs2 : ∀ (l0 : Nat) (l1 : Int32) (l2 : Int32) (h : xH) (H : Heap) (locs : List Loc) (cells slots : Nat) (ls : Array Slot), k2 l0 l1 l2 h = some res → x_S s0 D R h H locs cells slots → lv_has ls 6 [(0, .ref l0), (1, .int l1), (2, .int l2)] → W p l e R s m args below meth c H locs cells slots (x_Q s0 D below s R (x_oc vI res.1) res.2) (F0 m 2 ls [])) {k13 : Nat → Int32 → Int32 → Int32 → Int32 → xM Int32} (hs13 : ∀ (l0 : Nat) (l1 : Int32) (l2 : Int32) (l3 : Int32) (l4 : Int32) (h : xH) (H : Heap) (locs : List Loc) (cells slots : Nat) (ls : Array Slot), k13 l0 l1 l2 l3 l4 h = some res → x_S s0 D R h H locs cells slots → lv_has ls 6 [(0, .ref l0), (1, .int l1), (2, .int l2), (3, .int l3), (4, .int l4)] → W p l e R s m args below meth c H locs cells slots (x_Q s0 D below s R (x_oc vI res.1) res.2) (F0 m 13 ls [])) (l0 : Nat) (l1 : Int32) (l2 : Int32) (l4 : Int32) (t0 : Int32) (t1 : Int32) (hp : f_St_ranked_b88 k2 k13 l0 l1 l2 l4 t0 t1 h = some res) (hH : x_S s0 D R h H locs cells slots) (hl : lv_has ls 6 [(0, .ref l0), (1, .int l1), (2, .int l2), (4, .int l4)]) : W p l e R s m args below meth c H locs cells slots (x_Q s0 D below s R (x_oc vI res.1) res.2) (F0 m 88 ls [.int t0, .int t1]) := by
  obtain ⟨hx, hb, hown, hts, hK, hml, hW, Z, -⟩ := id C
  unfold f_St_ranked_b88 at hp
  refine lv_iadd hx hb d_St_ranked_88 ?_
  refine lv_istore_n (lv' := [(3, .int (t1 + t0)), (0, .ref l0), (1, .int l1), (2, .int l2), (4, .int l4)]) hx hb d_St_ranked_89 rfl hl (by decide) rfl (fun ls hl => ?_)
  refine lv_iinc (v := (l4 + 1)) (lv' := [(4, .int (l4 + 1)), (3, .int (t1 + t0)), (0, .ref l0), (1, .int l1), (2, .int l2)]) hx hb d_St_ranked_90 hl (k := 4) rfl rfl (by decide) rfl (fun ls hl => ?_)
  refine lv_goto (tgt := 13) hx hb d_St_ranked_93 (by decide) ?_
  exact hs13 l0 l1 l2 (t1 + t0) (l4 + 1) _ _ _ _ _ _ hp hH (lv_sub hl [2, 3, 4, 1, 0] rfl)
set_option maxHeartbeats 4000000 in
set_option maxRecDepth 100000 in
theorem w_St_ranked_75 {res : (Int32 ⊕ (Nat × Nat)) × xH} (C : x_C l s0 A0 D R_St prog_8_method_7_code 6 [] p s m args meth c) (hr : meth.sig.returnType = (some .int)) (hnm : meth.name = "ranked") (hRf : 0 ≤ R.frames) (hRl : 0 ≤ R.locals) {k2 : Nat → Int32 → Int32 → xM Int32} (hs2 : ∀ (l0 : Nat) (l1 : Int32) (l2 : Int32) (h : xH) (H : Heap) (locs : List Loc) (cells slots : Nat) (ls : Array Slot), k2 l0 l1 l2 h = some res → x_S s0 D R h H locs cells slots → lv_has ls 6 [(0, .ref l0), (1, .int l1), (2, .int l2)] → W p l e R s m args below meth c H locs cells slots (x_Q s0 D below s R (x_oc vI res.1) res.2) (F0 m 2 ls [])) {k13 : Nat → Int32 → Int32 → Int32 → Int32 → xM Int32} (hs13 : ∀ (l0 : Nat) (l1 : Int32) (l2 : Int32) (l3 : Int32) (l4 : Int32) (h : xH) (H : Heap) (locs : List Loc) (cells slots : Nat) (ls : Array Slot), k13 l0 l1 l2 l3 l4 h = some res → x_S s0 D R h H locs cells slots → lv_has ls 6 [(0, .ref l0), (1, .int l1), (2, .int l2), (3, .int l3), (4, .int l4)] → W p l e R s m args below meth c H locs cells slots (x_Q s0 D below s R (x_oc vI res.1) res.2) (F0 m 13 ls [])) (l0 : Nat) (l1 : Int32) (l2 : Int32) (l3 : Int32) (l4 : Int32) (t0 : Int32) (hp : f_St_ranked_b75 k2 k13 l0 l1 l2 l3 l4 t0 h = some res) (hH : x_S s0 D R h H locs cells slots) (hl : lv_has ls 6 [(0, .ref l0), (1, .int l1), (2, .int l2), (3, .int l3), (4, .int l4)]) : W p l e R s m args below meth c H locs cells slots (x_Q s0 D below s R (x_oc vI res.1) res.2) (F0 m 75 ls [.int t0]) := by
  obtain ⟨hx, hb, hown, hts, hK, hml, hW, Z, -⟩ := id C
  unfold f_St_ranked_b75 at hp
  refine lv_istore (lv' := [(5, .int t0), (0, .ref l0), (1, .int l1), (2, .int l2), (3, .int l3), (4, .int l4)]) hx hb d_St_ranked_75 hl (by decide) rfl (fun ls hl => ?_)
  refine lv_iload_n hx hb d_St_ranked_77 rfl (lv_at hl 4 rfl) ?_
  refine lv_iload hx hb d_St_ranked_78 (lv_at hl 0 rfl) ?_
  refine lv_if_eq (tgt := 87) hx hb d_St_ranked_80 (by decide) (fun hc => ?_) (fun hc => ?_)
  · replace hp := x_ifp hc hp
    refine lv_iconst (v := 0) hx hb d_St_ranked_87 (by decide) ?_
    exact w_St_ranked_88 C hr hnm hRf hRl hs2 hs13 l0 l1 l2 l4 0 l3 hp hH (lv_sub hl [1, 2, 3, 5] rfl)
  · replace hp := x_ifn hc hp
    refine lv_iconst (v := 1) hx hb d_St_ranked_83 (by decide) ?_
    refine lv_goto (tgt := 88) hx hb d_St_ranked_84 (by decide) ?_
    exact w_St_ranked_88 C hr hnm hRf hRl hs2 hs13 l0 l1 l2 l4 1 l3 hp hH (lv_sub hl [1, 2, 3, 5] rfl)
set_option maxHeartbeats 4000000 in
set_option maxRecDepth 100000 in
theorem w_St_ranked_74 {res : (Int32 ⊕ (Nat × Nat)) × xH} (C : x_C l s0 A0 D R_St prog_8_method_7_code 6 [] p s m args meth c) (hr : meth.sig.returnType = (some .int)) (hnm : meth.name = "ranked") (hRf : 0 ≤ R.frames) (hRl : 0 ≤ R.locals) {k2 : Nat → Int32 → Int32 → xM Int32} (hs2 : ∀ (l0 : Nat) (l1 : Int32) (l2 : Int32) (h : xH) (H : Heap) (locs : List Loc) (cells slots : Nat) (ls : Array Slot), k2 l0 l1 l2 h = some res → x_S s0 D R h H locs cells slots → lv_has ls 6 [(0, .ref l0), (1, .int l1), (2, .int l2)] → W p l e R s m args below meth c H locs cells slots (x_Q s0 D below s R (x_oc vI res.1) res.2) (F0 m 2 ls [])) {k13 : Nat → Int32 → Int32 → Int32 → Int32 → xM Int32} (hs13 : ∀ (l0 : Nat) (l1 : Int32) (l2 : Int32) (l3 : Int32) (l4 : Int32) (h : xH) (H : Heap) (locs : List Loc) (cells slots : Nat) (ls : Array Slot), k13 l0 l1 l2 l3 l4 h = some res → x_S s0 D R h H locs cells slots → lv_has ls 6 [(0, .ref l0), (1, .int l1), (2, .int l2), (3, .int l3), (4, .int l4)] → W p l e R s m args below meth c H locs cells slots (x_Q s0 D below s R (x_oc vI res.1) res.2) (F0 m 13 ls [])) (l0 : Nat) (l1 : Int32) (l2 : Int32) (l3 : Int32) (l4 : Int32) (hp : f_St_ranked_b74 k2 k13 l0 l1 l2 l3 l4 h = some res) (hH : x_S s0 D R h H locs cells slots) (hl : lv_has ls 6 [(0, .ref l0), (1, .int l1), (2, .int l2), (3, .int l3), (4, .int l4)]) : W p l e R s m args below meth c H locs cells slots (x_Q s0 D below s R (x_oc vI res.1) res.2) (F0 m 74 ls []) := by
  obtain ⟨hx, hb, hown, hts, hK, hml, hW, Z, -⟩ := id C
  unfold f_St_ranked_b74 at hp
  refine lv_iconst (v := 0) hx hb d_St_ranked_74 (by decide) ?_
  exact w_St_ranked_75 C hr hnm hRf hRl hs2 hs13 l0 l1 l2 l3 l4 0 hp hH (lv_sub hl [0, 1, 2, 3, 4] rfl)
set_option maxHeartbeats 4000000 in
set_option maxRecDepth 100000 in
theorem w_St_ranked_70 {res : (Int32 ⊕ (Nat × Nat)) × xH} (C : x_C l s0 A0 D R_St prog_8_method_7_code 6 [] p s m args meth c) (hr : meth.sig.returnType = (some .int)) (hnm : meth.name = "ranked") (hRf : 0 ≤ R.frames) (hRl : 0 ≤ R.locals) {k2 : Nat → Int32 → Int32 → xM Int32} (hs2 : ∀ (l0 : Nat) (l1 : Int32) (l2 : Int32) (h : xH) (H : Heap) (locs : List Loc) (cells slots : Nat) (ls : Array Slot), k2 l0 l1 l2 h = some res → x_S s0 D R h H locs cells slots → lv_has ls 6 [(0, .ref l0), (1, .int l1), (2, .int l2)] → W p l e R s m args below meth c H locs cells slots (x_Q s0 D below s R (x_oc vI res.1) res.2) (F0 m 2 ls [])) {k13 : Nat → Int32 → Int32 → Int32 → Int32 → xM Int32} (hs13 : ∀ (l0 : Nat) (l1 : Int32) (l2 : Int32) (l3 : Int32) (l4 : Int32) (h : xH) (H : Heap) (locs : List Loc) (cells slots : Nat) (ls : Array Slot), k13 l0 l1 l2 l3 l4 h = some res → x_S s0 D R h H locs cells slots → lv_has ls 6 [(0, .ref l0), (1, .int l1), (2, .int l2), (3, .int l3), (4, .int l4)] → W p l e R s m args below meth c H locs cells slots (x_Q s0 D below s R (x_oc vI res.1) res.2) (F0 m 13 ls [])) (l0 : Nat) (l1 : Int32) (l2 : Int32) (l3 : Int32) (l4 : Int32) (hp : f_St_ranked_b70 k2 k13 l0 l1 l2 l3 l4 h = some res) (hH : x_S s0 D R h H locs cells slots) (hl : lv_has ls 6 [(0, .ref l0), (1, .int l1), (2, .int l2), (3, .int l3), (4, .int l4)]) : W p l e R s m args below meth c H locs cells slots (x_Q s0 D below s R (x_oc vI res.1) res.2) (F0 m 70 ls []) := by
  obtain ⟨hx, hb, hown, hts, hK, hml, hW, Z, -⟩ := id C
  unfold f_St_ranked_b70 at hp
  refine lv_iconst (v := 1) hx hb d_St_ranked_70 (by decide) ?_
  refine lv_goto (tgt := 75) hx hb d_St_ranked_71 (by decide) ?_
  exact w_St_ranked_75 C hr hnm hRf hRl hs2 hs13 l0 l1 l2 l3 l4 1 hp hH (lv_sub hl [0, 1, 2, 3, 4] rfl)
set_option maxHeartbeats 4000000 in
set_option maxRecDepth 100000 in
theorem w_St_ranked_13 {res : (Int32 ⊕ (Nat × Nat)) × xH} (C : x_C l s0 A0 D R_St prog_8_method_7_code 6 [] p s m args meth c) (hr : meth.sig.returnType = (some .int)) (hnm : meth.name = "ranked") (hRf : 0 ≤ R.frames) (hRl : 0 ≤ R.locals) {k2 : Nat → Int32 → Int32 → xM Int32} (hs2 : ∀ (l0 : Nat) (l1 : Int32) (l2 : Int32) (h : xH) (H : Heap) (locs : List Loc) (cells slots : Nat) (ls : Array Slot), k2 l0 l1 l2 h = some res → x_S s0 D R h H locs cells slots → lv_has ls 6 [(0, .ref l0), (1, .int l1), (2, .int l2)] → W p l e R s m args below meth c H locs cells slots (x_Q s0 D below s R (x_oc vI res.1) res.2) (F0 m 2 ls [])) {k13 : Nat → Int32 → Int32 → Int32 → Int32 → xM Int32} (hs13 : ∀ (l0 : Nat) (l1 : Int32) (l2 : Int32) (l3 : Int32) (l4 : Int32) (h : xH) (H : Heap) (locs : List Loc) (cells slots : Nat) (ls : Array Slot), k13 l0 l1 l2 l3 l4 h = some res → x_S s0 D R h H locs cells slots → lv_has ls 6 [(0, .ref l0), (1, .int l1), (2, .int l2), (3, .int l3), (4, .int l4)] → W p l e R s m args below meth c H locs cells slots (x_Q s0 D below s R (x_oc vI res.1) res.2) (F0 m 13 ls [])) (l0 : Nat) (l1 : Int32) (l2 : Int32) (l3 : Int32) (l4 : Int32) (hp : f_St_ranked_b13 k2 k13 l0 l1 l2 l3 l4 h = some res) (hH : x_S s0 D R h H locs cells slots) (hl : lv_has ls 6 [(0, .ref l0), (1, .int l1), (2, .int l2), (3, .int l3), (4, .int l4)]) : W p l e R s m args below meth c H locs cells slots (x_Q s0 D below s R (x_oc vI res.1) res.2) (F0 m 13 ls []) := by
  obtain ⟨hx, hb, hown, hts, hK, hml, hW, Z, -⟩ := id C
  unfold f_St_ranked_b13 at hp
  refine lv_iload hx hb d_St_ranked_13 (lv_at hl 4 rfl) ?_
  refine lv_bipush (v := 30) hx hb d_St_ranked_15 (by decide) ?_
  refine lv_icmp_ge (tgt := 96) hx hb d_St_ranked_17 (by decide) (fun hc => ?_) (fun hc => ?_)
  · replace hp := x_ifp hc hp
    refine lv_iload_n hx hb d_St_ranked_96 rfl (lv_at hl 3 rfl) ?_
    refine lv_iload_n hx hb d_St_ranked_97 rfl (lv_at hl 1 rfl) ?_
    refine lv_icmp_ne (tgt := 103) hx hb d_St_ranked_98 (by decide) (fun hc => ?_) (fun hc => ?_)
    · replace hp := x_ifn hc hp
      refine lv_iinc (v := (l2 + 1)) (lv' := [(2, .int (l2 + 1)), (0, .ref l0), (1, .int l1), (3, .int l3), (4, .int l4)]) hx hb d_St_ranked_103 hl (k := 2) rfl rfl (by decide) rfl (fun ls hl => ?_)
      refine lv_goto (tgt := 2) hx hb d_St_ranked_106 (by decide) ?_
      exact hs2 l0 l1 (l2 + 1) _ _ _ _ _ _ hp hH (lv_sub hl [1, 2, 0] rfl)
    · replace hp := x_ifp hc hp
      refine lv_iload_n hx hb d_St_ranked_101 rfl (lv_at hl 2 rfl) ?_
      exact x_iret C hH hr d_St_ranked_102 hp
  · replace hp := x_ifn hc hp
    refine lv_aload_n hx hb d_St_ranked_20 rfl (lv_at hl 0 rfl) ?_
    refine x_gA C hH fl_St_11 d_St_ranked_21 hp (fun v1 hp => ?_)
    refine lv_iload hx hb d_St_ranked_24 (lv_at hl 4 rfl) ?_
    refine x_lA C hH (by decide) d_St_ranked_26 hp (fun v2 hp => ?_)
    refine x_gI C hH fl_St_75 d_St_ranked_27 hp (fun v3 hp => ?_)
    refine lv_aload_n hx hb d_St_ranked_30 rfl (lv_at hl 0 rfl) ?_
    refine x_gA C hH fl_St_11 d_St_ranked_31 hp (fun v4 hp => ?_)
    refine lv_iload_n hx hb d_St_ranked_34 rfl (lv_at hl 2 rfl) ?_
    refine x_lA C hH (by decide) d_St_ranked_35 hp (fun v5 hp => ?_)
    refine x_gI C hH fl_St_75 d_St_ranked_36 hp (fun v6 hp => ?_)
    refine lv_icmp_gt (tgt := 70) hx hb d_St_ranked_39 (by decide) (fun hc => ?_) (fun hc => ?_)
    · replace hp := x_ifp hc hp
      exact w_St_ranked_70 C hr hnm hRf hRl hs2 hs13 l0 l1 l2 l3 l4 hp hH (lv_sub hl [0, 1, 2, 3, 4] rfl)
    · replace hp := x_ifn hc hp
      refine lv_aload_n hx hb d_St_ranked_42 rfl (lv_at hl 0 rfl) ?_
      refine x_gA C hH fl_St_11 d_St_ranked_43 hp (fun v7 hp => ?_)
      refine lv_iload hx hb d_St_ranked_46 (lv_at hl 4 rfl) ?_
      refine x_lA C hH (by decide) d_St_ranked_48 hp (fun v8 hp => ?_)
      refine x_gI C hH fl_St_75 d_St_ranked_49 hp (fun v9 hp => ?_)
      refine lv_aload_n hx hb d_St_ranked_52 rfl (lv_at hl 0 rfl) ?_
      refine x_gA C hH fl_St_11 d_St_ranked_53 hp (fun v10 hp => ?_)
      refine lv_iload_n hx hb d_St_ranked_56 rfl (lv_at hl 2 rfl) ?_
      refine x_lA C hH (by decide) d_St_ranked_57 hp (fun v11 hp => ?_)
      refine x_gI C hH fl_St_75 d_St_ranked_58 hp (fun v12 hp => ?_)
      refine lv_icmp_ne (tgt := 74) hx hb d_St_ranked_61 (by decide) (fun hc => ?_) (fun hc => ?_)
      · replace hp := x_ifn hc hp
        exact w_St_ranked_74 C hr hnm hRf hRl hs2 hs13 l0 l1 l2 l3 l4 hp hH (lv_sub hl [0, 1, 2, 3, 4] rfl)
      · replace hp := x_ifp hc hp
        refine lv_iload hx hb d_St_ranked_64 (lv_at hl 4 rfl) ?_
        refine lv_iload_n hx hb d_St_ranked_66 rfl (lv_at hl 2 rfl) ?_
        refine lv_icmp_ge (tgt := 74) hx hb d_St_ranked_67 (by decide) (fun hc => ?_) (fun hc => ?_)
        · replace hp := x_ifp hc hp
          exact w_St_ranked_74 C hr hnm hRf hRl hs2 hs13 l0 l1 l2 l3 l4 hp hH (lv_sub hl [0, 1, 2, 3, 4] rfl)
        · replace hp := x_ifn hc hp
          exact w_St_ranked_70 C hr hnm hRf hRl hs2 hs13 l0 l1 l2 l3 l4 hp hH (lv_sub hl [0, 1, 2, 3, 4] rfl)
theorem w_St_ranked_h13 {res : (Int32 ⊕ (Nat × Nat)) × xH} (C : x_C l s0 A0 D R_St prog_8_method_7_code 6 [] p s m args meth c) (hr : meth.sig.returnType = (some .int)) (hnm : meth.name = "ranked") (hRf : 0 ≤ R.frames) (hRl : 0 ≤ R.locals) {k2 : Nat → Int32 → Int32 → xM Int32} (hs2 : ∀ (l0 : Nat) (l1 : Int32) (l2 : Int32) (h : xH) (H : Heap) (locs : List Loc) (cells slots : Nat) (ls : Array Slot), k2 l0 l1 l2 h = some res → x_S s0 D R h H locs cells slots → lv_has ls 6 [(0, .ref l0), (1, .int l1), (2, .int l2)] → W p l e R s m args below meth c H locs cells slots (x_Q s0 D below s R (x_oc vI res.1) res.2) (F0 m 2 ls [])) : ∀ (n : Nat) (l0 : Nat) (l1 : Int32) (l2 : Int32) (l3 : Int32) (l4 : Int32) (h : xH) (H : Heap) (locs : List Loc) (cells slots : Nat) (ls : Array Slot), f_St_ranked_h13 k2 n l0 l1 l2 l3 l4 h = some res → x_S s0 D R h H locs cells slots → lv_has ls 6 [(0, .ref l0), (1, .int l1), (2, .int l2), (3, .int l3), (4, .int l4)] → W p l e R s m args below meth c H locs cells slots (x_Q s0 D below s R (x_oc vI res.1) res.2) (F0 m 13 ls []) := by
  intro n
  induction n with
  | zero => intro l0 l1 l2 l3 l4 h H locs cells slots ls hp hH hl; cases hp
  | succ n ih => intro l0 l1 l2 l3 l4 h H locs cells slots ls hp hH hl; exact w_St_ranked_13 C hr hnm hRf hRl hs2 ih l0 l1 l2 l3 l4 hp hH hl
set_option maxHeartbeats 4000000 in
set_option maxRecDepth 100000 in
theorem w_St_ranked_2 {res : (Int32 ⊕ (Nat × Nat)) × xH} (C : x_C l s0 A0 D R_St prog_8_method_7_code 6 [] p s m args meth c) (hr : meth.sig.returnType = (some .int)) (hnm : meth.name = "ranked") (hRf : 0 ≤ R.frames) (hRl : 0 ≤ R.locals) {k2 : Nat → Int32 → Int32 → xM Int32} (hs2 : ∀ (l0 : Nat) (l1 : Int32) (l2 : Int32) (h : xH) (H : Heap) (locs : List Loc) (cells slots : Nat) (ls : Array Slot), k2 l0 l1 l2 h = some res → x_S s0 D R h H locs cells slots → lv_has ls 6 [(0, .ref l0), (1, .int l1), (2, .int l2)] → W p l e R s m args below meth c H locs cells slots (x_Q s0 D below s R (x_oc vI res.1) res.2) (F0 m 2 ls [])) (l0 : Nat) (l1 : Int32) (l2 : Int32) (hp : f_St_ranked_b2 k2 l0 l1 l2 h = some res) (hH : x_S s0 D R h H locs cells slots) (hl : lv_has ls 6 [(0, .ref l0), (1, .int l1), (2, .int l2)]) : W p l e R s m args below meth c H locs cells slots (x_Q s0 D below s R (x_oc vI res.1) res.2) (F0 m 2 ls []) := by
  obtain ⟨hx, hb, hown, hts, hK, hml, hW, Z, -⟩ := id C
  unfold f_St_ranked_b2 at hp
  refine lv_iload_n hx hb d_St_ranked_2 rfl (lv_at hl 2 rfl) ?_
  refine lv_bipush (v := 30) hx hb d_St_ranked_3 (by decide) ?_
  refine lv_icmp_ge (tgt := 109) hx hb d_St_ranked_5 (by decide) (fun hc => ?_) (fun hc => ?_)
  · replace hp := x_ifp hc hp
    refine lv_iconst (v := (-1)) hx hb d_St_ranked_109 (by decide) ?_
    exact x_iret C hH hr d_St_ranked_110 hp
  · replace hp := x_ifn hc hp
    refine lv_iconst (v := 0) hx hb d_St_ranked_8 (by decide) ?_
    refine lv_istore_n (lv' := [(3, .int 0), (0, .ref l0), (1, .int l1), (2, .int l2)]) hx hb d_St_ranked_9 rfl hl (by decide) rfl (fun ls hl => ?_)
    refine lv_iconst (v := 0) hx hb d_St_ranked_10 (by decide) ?_
    refine lv_istore (lv' := [(4, .int 0), (3, .int 0), (0, .ref l0), (1, .int l1), (2, .int l2)]) hx hb d_St_ranked_11 hl (by decide) rfl (fun ls hl => ?_)
    exact w_St_ranked_h13 C hr hnm hRf hRl hs2 1000 l0 l1 l2 0 0 _ _ _ _ _ _ hp hH (lv_sub hl [2, 3, 4, 1, 0] rfl)
theorem w_St_ranked_h2 {res : (Int32 ⊕ (Nat × Nat)) × xH} (C : x_C l s0 A0 D R_St prog_8_method_7_code 6 [] p s m args meth c) (hr : meth.sig.returnType = (some .int)) (hnm : meth.name = "ranked") (hRf : 0 ≤ R.frames) (hRl : 0 ≤ R.locals)  : ∀ (n : Nat) (l0 : Nat) (l1 : Int32) (l2 : Int32) (h : xH) (H : Heap) (locs : List Loc) (cells slots : Nat) (ls : Array Slot), f_St_ranked_h2 n l0 l1 l2 h = some res → x_S s0 D R h H locs cells slots → lv_has ls 6 [(0, .ref l0), (1, .int l1), (2, .int l2)] → W p l e R s m args below meth c H locs cells slots (x_Q s0 D below s R (x_oc vI res.1) res.2) (F0 m 2 ls []) := by
  intro n
  induction n with
  | zero => intro l0 l1 l2 h H locs cells slots ls hp hH hl; cases hp
  | succ n ih => intro l0 l1 l2 h H locs cells slots ls hp hH hl; exact w_St_ranked_2 C hr hnm hRf hRl ih l0 l1 l2 hp hH hl
set_option maxHeartbeats 4000000 in
set_option maxRecDepth 100000 in
theorem w_St_ranked_0 {res : (Int32 ⊕ (Nat × Nat)) × xH} (C : x_C l s0 A0 D R_St prog_8_method_7_code 6 [] p s m args meth c) (hr : meth.sig.returnType = (some .int)) (hnm : meth.name = "ranked") (hRf : 0 ≤ R.frames) (hRl : 0 ≤ R.locals)  (l0 : Nat) (l1 : Int32) (hp : f_St_ranked l0 l1 h = some res) (hH : x_S s0 D R h H locs cells slots) (hl : lv_has ls 6 [(0, .ref l0), (1, .int l1)]) : W p l e R s m args below meth c H locs cells slots (x_Q s0 D below s R (x_oc vI res.1) res.2) (F0 m 0 ls []) := by
  obtain ⟨hx, hb, hown, hts, hK, hml, hW, Z, -⟩ := id C
  unfold f_St_ranked at hp
  refine lv_iconst (v := 0) hx hb d_St_ranked_0 (by decide) ?_
  refine lv_istore_n (lv' := [(2, .int 0), (0, .ref l0), (1, .int l1)]) hx hb d_St_ranked_1 rfl hl (by decide) rfl (fun ls hl => ?_)
  exact w_St_ranked_h2 C hr hnm hRf hRl  1000 l0 l1 0 _ _ _ _ _ _ hp hH (lv_sub hl [1, 2, 0] rfl)
set_option maxRecDepth 100000 in
theorem m_St_ranked (Z : x_Z l s0 A0 D) {l0 : Nat} {l1 : Int32} {res : (Int32 ⊕ (Nat × Nat)) × xH} (hp : f_St_ranked l0 l1 h = some res) : x_M l s0 D y_St_ranked (x_cw y_St_ranked prog_8_method_7_code 6 (some .int) []) 0 0 [.ref l0, .int l1] h (x_oc vI res.1) res.2 := by
  refine x_M.ofW Z (plainFor_of_name (by decide)) ?_
  intro p e s m below meth c C hnm hr hH
  have hl := lv_entry ([.ref l0, .int l1]) (n := 6) (Nat.le_of_ble_eq_true rfl)
  rw [lg_entry_eq]
  generalize (lg_sl ([.ref l0, .int l1]) ++ List.replicate (6 - (lg_sl ([.ref l0, .int l1])).length) Slot.unset).toArray = ls at hl ⊢
  exact w_St_ranked_0 C hr hnm (Nat.le_refl _) (Nat.le_refl _) l0 l1 hp hH hl
/-! ReadSide$State.worth(II)J -/
theorem d_St_worth_0 : decode prog_8_method_8_code 0 = .ok (.lconst 0, 1) := by decide +kernel
theorem d_St_worth_1 : decode prog_8_method_8_code 1 = .ok (.lstore_n 3, 1) := by decide +kernel
theorem d_St_worth_2 : decode prog_8_method_8_code 2 = .ok (.iconst 0, 1) := by decide +kernel
theorem d_St_worth_3 : decode prog_8_method_8_code 3 = .ok (.istore 5, 2) := by decide +kernel
theorem d_St_worth_5 : decode prog_8_method_8_code 5 = .ok (.iload 5, 2) := by decide +kernel
theorem d_St_worth_7 : decode prog_8_method_8_code 7 = .ok (.bipush 30, 2) := by decide +kernel
theorem d_St_worth_9 : decode prog_8_method_8_code 9 = .ok (.if_icmp .ge 48, 3) := by decide +kernel
theorem d_St_worth_12 : decode prog_8_method_8_code 12 = .ok (.iload_n 1, 1) := by decide +kernel
theorem d_St_worth_13 : decode prog_8_method_8_code 13 = .ok (.iconst (-1), 1) := by decide +kernel
theorem d_St_worth_14 : decode prog_8_method_8_code 14 = .ok (.if_icmp .eq 11, 3) := by decide +kernel
theorem d_St_worth_17 : decode prog_8_method_8_code 17 = .ok (.iload 5, 2) := by decide +kernel
theorem d_St_worth_19 : decode prog_8_method_8_code 19 = .ok (.iload_n 2, 1) := by decide +kernel
theorem d_St_worth_20 : decode prog_8_method_8_code 20 = .ok (.irem, 1) := by decide +kernel
theorem d_St_worth_21 : decode prog_8_method_8_code 21 = .ok (.iload_n 1, 1) := by decide +kernel
theorem d_St_worth_22 : decode prog_8_method_8_code 22 = .ok (.if_icmp .ne 29, 3) := by decide +kernel
theorem d_St_worth_25 : decode prog_8_method_8_code 25 = .ok (.lload_n 3, 1) := by decide +kernel
theorem d_St_worth_26 : decode prog_8_method_8_code 26 = .ok (.aload_n 0, 1) := by decide +kernel
theorem d_St_worth_27 : decode prog_8_method_8_code 27 = .ok (.getfield 11, 3) := by decide +kernel
theorem d_St_worth_30 : decode prog_8_method_8_code 30 = .ok (.iload 5, 2) := by decide +kernel
theorem d_St_worth_32 : decode prog_8_method_8_code 32 = .ok (.aaload, 1) := by decide +kernel
theorem d_St_worth_33 : decode prog_8_method_8_code 33 = .ok (.getfield 58, 3) := by decide +kernel
theorem d_St_worth_36 : decode prog_8_method_8_code 36 = .ok (.i2l, 1) := by decide +kernel
theorem d_St_worth_37 : decode prog_8_method_8_code 37 = .ok (.aload_n 0, 1) := by decide +kernel
theorem d_St_worth_38 : decode prog_8_method_8_code 38 = .ok (.getfield 11, 3) := by decide +kernel
theorem d_St_worth_41 : decode prog_8_method_8_code 41 = .ok (.iload 5, 2) := by decide +kernel
theorem d_St_worth_43 : decode prog_8_method_8_code 43 = .ok (.aaload, 1) := by decide +kernel
theorem d_St_worth_44 : decode prog_8_method_8_code 44 = .ok (.getfield 78, 3) := by decide +kernel
theorem d_St_worth_47 : decode prog_8_method_8_code 47 = .ok (.i2l, 1) := by decide +kernel
theorem d_St_worth_48 : decode prog_8_method_8_code 48 = .ok (.lmul, 1) := by decide +kernel
theorem d_St_worth_49 : decode prog_8_method_8_code 49 = .ok (.ladd, 1) := by decide +kernel
theorem d_St_worth_50 : decode prog_8_method_8_code 50 = .ok (.lstore_n 3, 1) := by decide +kernel
theorem d_St_worth_51 : decode prog_8_method_8_code 51 = .ok (.iinc 5 1, 3) := by decide +kernel
theorem d_St_worth_54 : decode prog_8_method_8_code 54 = .ok (.goto (-49), 3) := by decide +kernel
theorem d_St_worth_57 : decode prog_8_method_8_code 57 = .ok (.lload_n 3, 1) := by decide +kernel
theorem d_St_worth_58 : decode prog_8_method_8_code 58 = .ok (.lreturn, 1) := by decide +kernel
set_option maxHeartbeats 4000000 in
set_option maxRecDepth 100000 in
theorem w_St_worth_51 {res : (Int64 ⊕ (Nat × Nat)) × xH} (C : x_C l s0 A0 D R_St prog_8_method_8_code 6 [] p s m args meth c) (hr : meth.sig.returnType = (some .long)) (hnm : meth.name = "worth") (hRf : 0 ≤ R.frames) (hRl : 0 ≤ R.locals) {k5 : Nat → Int32 → Int32 → Int64 → Int32 → xM Int64} (hs5 : ∀ (l0 : Nat) (l1 : Int32) (l2 : Int32) (l3 : Int64) (l5 : Int32) (h : xH) (H : Heap) (locs : List Loc) (cells slots : Nat) (ls : Array Slot), k5 l0 l1 l2 l3 l5 h = some res → x_S s0 D R h H locs cells slots → lv_has ls 6 [(0, .ref l0), (1, .int l1), (2, .int l2), (3, .long l3), (5, .int l5)] → W p l e R s m args below meth c H locs cells slots (x_Q s0 D below s R (x_oc vJ res.1) res.2) (F0 m 5 ls [])) (l0 : Nat) (l1 : Int32) (l2 : Int32) (l3 : Int64) (l5 : Int32) (hp : f_St_worth_b51 k5 l0 l1 l2 l3 l5 h = some res) (hH : x_S s0 D R h H locs cells slots) (hl : lv_has ls 6 [(0, .ref l0), (1, .int l1), (2, .int l2), (3, .long l3), (5, .int l5)]) : W p l e R s m args below meth c H locs cells slots (x_Q s0 D below s R (x_oc vJ res.1) res.2) (F0 m 51 ls []) := by
  obtain ⟨hx, hb, hown, hts, hK, hml, hW, Z, -⟩ := id C
  unfold f_St_worth_b51 at hp
  refine lv_iinc (v := (l5 + 1)) (lv' := [(5, .int (l5 + 1)), (0, .ref l0), (1, .int l1), (2, .int l2), (3, .long l3)]) hx hb d_St_worth_51 hl (k := 4) rfl rfl (by decide) rfl (fun ls hl => ?_)
  refine lv_goto (tgt := 5) hx hb d_St_worth_54 (by decide) ?_
  exact hs5 l0 l1 l2 l3 (l5 + 1) _ _ _ _ _ _ hp hH (lv_sub hl [1, 2, 3, 4, 0] rfl)
set_option maxHeartbeats 4000000 in
set_option maxRecDepth 100000 in
theorem w_St_worth_25 {res : (Int64 ⊕ (Nat × Nat)) × xH} (C : x_C l s0 A0 D R_St prog_8_method_8_code 6 [] p s m args meth c) (hr : meth.sig.returnType = (some .long)) (hnm : meth.name = "worth") (hRf : 0 ≤ R.frames) (hRl : 0 ≤ R.locals) {k5 : Nat → Int32 → Int32 → Int64 → Int32 → xM Int64} (hs5 : ∀ (l0 : Nat) (l1 : Int32) (l2 : Int32) (l3 : Int64) (l5 : Int32) (h : xH) (H : Heap) (locs : List Loc) (cells slots : Nat) (ls : Array Slot), k5 l0 l1 l2 l3 l5 h = some res → x_S s0 D R h H locs cells slots → lv_has ls 6 [(0, .ref l0), (1, .int l1), (2, .int l2), (3, .long l3), (5, .int l5)] → W p l e R s m args below meth c H locs cells slots (x_Q s0 D below s R (x_oc vJ res.1) res.2) (F0 m 5 ls [])) (l0 : Nat) (l1 : Int32) (l2 : Int32) (l3 : Int64) (l5 : Int32) (hp : f_St_worth_b25 k5 l0 l1 l2 l3 l5 h = some res) (hH : x_S s0 D R h H locs cells slots) (hl : lv_has ls 6 [(0, .ref l0), (1, .int l1), (2, .int l2), (3, .long l3), (5, .int l5)]) : W p l e R s m args below meth c H locs cells slots (x_Q s0 D below s R (x_oc vJ res.1) res.2) (F0 m 25 ls []) := by
  obtain ⟨hx, hb, hown, hts, hK, hml, hW, Z, -⟩ := id C
  unfold f_St_worth_b25 at hp
  refine lv_lload_n hx hb d_St_worth_25 rfl (lv_at hl 3 rfl) ?_
  refine lv_aload_n hx hb d_St_worth_26 rfl (lv_at hl 0 rfl) ?_
  refine x_gA C hH fl_St_11 d_St_worth_27 hp (fun v1 hp => ?_)
  refine lv_iload hx hb d_St_worth_30 (lv_at hl 4 rfl) ?_
  refine x_lA C hH (by decide) d_St_worth_32 hp (fun v2 hp => ?_)
  refine x_gI C hH fl_St_58 d_St_worth_33 hp (fun v3 hp => ?_)
  refine lv_i2l (v := v3.toInt64) hx hb d_St_worth_36 rfl ?_
  refine lv_aload_n hx hb d_St_worth_37 rfl (lv_at hl 0 rfl) ?_
  refine x_gA C hH fl_St_11 d_St_worth_38 hp (fun v4 hp => ?_)
  refine lv_iload hx hb d_St_worth_41 (lv_at hl 4 rfl) ?_
  refine x_lA C hH (by decide) d_St_worth_43 hp (fun v5 hp => ?_)
  refine x_gI C hH fl_St_78 d_St_worth_44 hp (fun v6 hp => ?_)
  refine lv_i2l (v := v6.toInt64) hx hb d_St_worth_47 rfl ?_
  refine lv_lmul hx hb d_St_worth_48 ?_
  refine lv_ladd hx hb d_St_worth_49 ?_
  refine lv_lstore_n (lv' := [(3, .long (l3 + (v3.toInt64 * v6.toInt64))), (0, .ref l0), (1, .int l1), (2, .int l2), (5, .int l5)]) hx hb d_St_worth_50 rfl hl (by decide) rfl (fun ls hl => ?_)
  exact w_St_worth_51 C hr hnm hRf hRl hs5 l0 l1 l2 (l3 + (v3.toInt64 * v6.toInt64)) l5 hp hH (lv_sub hl [1, 2, 3, 0, 4] rfl)
set_option maxHeartbeats 4000000 in
set_option maxRecDepth 100000 in
theorem w_St_worth_5 {res : (Int64 ⊕ (Nat × Nat)) × xH} (C : x_C l s0 A0 D R_St prog_8_method_8_code 6 [] p s m args meth c) (hr : meth.sig.returnType = (some .long)) (hnm : meth.name = "worth") (hRf : 0 ≤ R.frames) (hRl : 0 ≤ R.locals) {k5 : Nat → Int32 → Int32 → Int64 → Int32 → xM Int64} (hs5 : ∀ (l0 : Nat) (l1 : Int32) (l2 : Int32) (l3 : Int64) (l5 : Int32) (h : xH) (H : Heap) (locs : List Loc) (cells slots : Nat) (ls : Array Slot), k5 l0 l1 l2 l3 l5 h = some res → x_S s0 D R h H locs cells slots → lv_has ls 6 [(0, .ref l0), (1, .int l1), (2, .int l2), (3, .long l3), (5, .int l5)] → W p l e R s m args below meth c H locs cells slots (x_Q s0 D below s R (x_oc vJ res.1) res.2) (F0 m 5 ls [])) (l0 : Nat) (l1 : Int32) (l2 : Int32) (l3 : Int64) (l5 : Int32) (hp : f_St_worth_b5 k5 l0 l1 l2 l3 l5 h = some res) (hH : x_S s0 D R h H locs cells slots) (hl : lv_has ls 6 [(0, .ref l0), (1, .int l1), (2, .int l2), (3, .long l3), (5, .int l5)]) : W p l e R s m args below meth c H locs cells slots (x_Q s0 D below s R (x_oc vJ res.1) res.2) (F0 m 5 ls []) := by
  obtain ⟨hx, hb, hown, hts, hK, hml, hW, Z, -⟩ := id C
  unfold f_St_worth_b5 at hp
  refine lv_iload hx hb d_St_worth_5 (lv_at hl 4 rfl) ?_
  refine lv_bipush (v := 30) hx hb d_St_worth_7 (by decide) ?_
  refine lv_icmp_ge (tgt := 57) hx hb d_St_worth_9 (by decide) (fun hc => ?_) (fun hc => ?_)
  · replace hp := x_ifp hc hp
    refine lv_lload_n hx hb d_St_worth_57 rfl (lv_at hl 3 rfl) ?_
    exact x_lret C hH hr d_St_worth_58 hp
  · replace hp := x_ifn hc hp
    refine lv_iload_n hx hb d_St_worth_12 rfl (lv_at hl 1 rfl) ?_
    refine lv_iconst (v := (-1)) hx hb d_St_worth_13 (by decide) ?_
    refine lv_icmp_eq (tgt := 25) hx hb d_St_worth_14 (by decide) (fun hc => ?_) (fun hc => ?_)
    · replace hp := x_ifp hc hp
      exact w_St_worth_25 C hr hnm hRf hRl hs5 l0 l1 l2 l3 l5 hp hH (lv_sub hl [0, 1, 2, 3, 4] rfl)
    · replace hp := x_ifn hc hp
      refine lv_iload hx hb d_St_worth_17 (lv_at hl 4 rfl) ?_
      refine lv_iload_n hx hb d_St_worth_19 rfl (lv_at hl 2 rfl) ?_
      obtain ⟨hz, hp⟩ := rI_i hp
      refine lv_irem hx hb d_St_worth_20 hz ?_
      generalize ev1 : l5 - l5 / l2 * l2 = v1 at hp ⊢
      refine lv_iload_n hx hb d_St_worth_21 rfl (lv_at hl 1 rfl) ?_
      refine lv_icmp_ne (tgt := 51) hx hb d_St_worth_22 (by decide) (fun hc => ?_) (fun hc => ?_)
      · replace hp := x_ifn hc hp
        exact w_St_worth_51 C hr hnm hRf hRl hs5 l0 l1 l2 l3 l5 hp hH (lv_sub hl [0, 1, 2, 3, 4] rfl)
      · replace hp := x_ifp hc hp
        exact w_St_worth_25 C hr hnm hRf hRl hs5 l0 l1 l2 l3 l5 hp hH (lv_sub hl [0, 1, 2, 3, 4] rfl)
theorem w_St_worth_h5 {res : (Int64 ⊕ (Nat × Nat)) × xH} (C : x_C l s0 A0 D R_St prog_8_method_8_code 6 [] p s m args meth c) (hr : meth.sig.returnType = (some .long)) (hnm : meth.name = "worth") (hRf : 0 ≤ R.frames) (hRl : 0 ≤ R.locals)  : ∀ (n : Nat) (l0 : Nat) (l1 : Int32) (l2 : Int32) (l3 : Int64) (l5 : Int32) (h : xH) (H : Heap) (locs : List Loc) (cells slots : Nat) (ls : Array Slot), f_St_worth_h5 n l0 l1 l2 l3 l5 h = some res → x_S s0 D R h H locs cells slots → lv_has ls 6 [(0, .ref l0), (1, .int l1), (2, .int l2), (3, .long l3), (5, .int l5)] → W p l e R s m args below meth c H locs cells slots (x_Q s0 D below s R (x_oc vJ res.1) res.2) (F0 m 5 ls []) := by
  intro n
  induction n with
  | zero => intro l0 l1 l2 l3 l5 h H locs cells slots ls hp hH hl; cases hp
  | succ n ih => intro l0 l1 l2 l3 l5 h H locs cells slots ls hp hH hl; exact w_St_worth_5 C hr hnm hRf hRl ih l0 l1 l2 l3 l5 hp hH hl
set_option maxHeartbeats 4000000 in
set_option maxRecDepth 100000 in
theorem w_St_worth_0 {res : (Int64 ⊕ (Nat × Nat)) × xH} (C : x_C l s0 A0 D R_St prog_8_method_8_code 6 [] p s m args meth c) (hr : meth.sig.returnType = (some .long)) (hnm : meth.name = "worth") (hRf : 0 ≤ R.frames) (hRl : 0 ≤ R.locals)  (l0 : Nat) (l1 : Int32) (l2 : Int32) (hp : f_St_worth l0 l1 l2 h = some res) (hH : x_S s0 D R h H locs cells slots) (hl : lv_has ls 6 [(0, .ref l0), (1, .int l1), (2, .int l2)]) : W p l e R s m args below meth c H locs cells slots (x_Q s0 D below s R (x_oc vJ res.1) res.2) (F0 m 0 ls []) := by
  obtain ⟨hx, hb, hown, hts, hK, hml, hW, Z, -⟩ := id C
  unfold f_St_worth at hp
  refine lv_lconst (v := 0) hx hb d_St_worth_0 (by decide) ?_
  refine lv_lstore_n (lv' := [(3, .long 0), (0, .ref l0), (1, .int l1), (2, .int l2)]) hx hb d_St_worth_1 rfl hl (by decide) rfl (fun ls hl => ?_)
  refine lv_iconst (v := 0) hx hb d_St_worth_2 (by decide) ?_
  refine lv_istore (lv' := [(5, .int 0), (3, .long 0), (0, .ref l0), (1, .int l1), (2, .int l2)]) hx hb d_St_worth_3 hl (by decide) rfl (fun ls hl => ?_)
  exact w_St_worth_h5 C hr hnm hRf hRl  1000 l0 l1 l2 0 0 _ _ _ _ _ _ hp hH (lv_sub hl [2, 3, 4, 1, 0] rfl)
set_option maxRecDepth 100000 in
theorem m_St_worth (Z : x_Z l s0 A0 D) {l0 : Nat} {l1 : Int32} {l2 : Int32} {res : (Int64 ⊕ (Nat × Nat)) × xH} (hp : f_St_worth l0 l1 l2 h = some res) : x_M l s0 D y_St_worth (x_cw y_St_worth prog_8_method_8_code 6 (some .long) []) 0 0 [.ref l0, .int l1, .int l2] h (x_oc vJ res.1) res.2 := by
  refine x_M.ofW Z (plainFor_of_name (by decide)) ?_
  intro p e s m below meth c C hnm hr hH
  have hl := lv_entry ([.ref l0, .int l1, .int l2]) (n := 6) (Nat.le_of_ble_eq_true rfl)
  rw [lg_entry_eq]
  generalize (lg_sl ([.ref l0, .int l1, .int l2]) ++ List.replicate (6 - (lg_sl ([.ref l0, .int l1, .int l2])).length) Slot.unset).toArray = ls at hl ⊢
  exact w_St_worth_0 C hr hnm (Nat.le_refl _) (Nat.le_refl _) l0 l1 l2 hp hH hl
/-! ReadSide$State.answer(III)J -/
theorem d_St_answer_0 : decode prog_8_method_5_code 0 = .ok (.iload_n 1, 1) := by decide +kernel
theorem d_St_answer_1 : decode prog_8_method_5_code 1 = .ok (.tableswitch 119 0 7 #[47, 58, 69, 80, 91, 98, 104, 112], 47) := by decide +kernel
theorem d_St_answer_48 : decode prog_8_method_5_code 48 = .ok (.aload_n 0, 1) := by decide +kernel
theorem d_St_answer_49 : decode prog_8_method_5_code 49 = .ok (.getfield 11, 3) := by decide +kernel
theorem d_St_answer_52 : decode prog_8_method_5_code 52 = .ok (.iload_n 2, 1) := by decide +kernel
theorem d_St_answer_53 : decode prog_8_method_5_code 53 = .ok (.aaload, 1) := by decide +kernel
theorem d_St_answer_54 : decode prog_8_method_5_code 54 = .ok (.getfield 58, 3) := by decide +kernel
theorem d_St_answer_57 : decode prog_8_method_5_code 57 = .ok (.i2l, 1) := by decide +kernel
theorem d_St_answer_58 : decode prog_8_method_5_code 58 = .ok (.lreturn, 1) := by decide +kernel
theorem d_St_answer_59 : decode prog_8_method_5_code 59 = .ok (.aload_n 0, 1) := by decide +kernel
theorem d_St_answer_60 : decode prog_8_method_5_code 60 = .ok (.getfield 11, 3) := by decide +kernel
theorem d_St_answer_63 : decode prog_8_method_5_code 63 = .ok (.iload_n 2, 1) := by decide +kernel
theorem d_St_answer_64 : decode prog_8_method_5_code 64 = .ok (.aaload, 1) := by decide +kernel
theorem d_St_answer_65 : decode prog_8_method_5_code 65 = .ok (.getfield 62, 3) := by decide +kernel
theorem d_St_answer_68 : decode prog_8_method_5_code 68 = .ok (.i2l, 1) := by decide +kernel
theorem d_St_answer_69 : decode prog_8_method_5_code 69 = .ok (.lreturn, 1) := by decide +kernel
theorem d_St_answer_70 : decode prog_8_method_5_code 70 = .ok (.aload_n 0, 1) := by decide +kernel
theorem d_St_answer_71 : decode prog_8_method_5_code 71 = .ok (.getfield 11, 3) := by decide +kernel
theorem d_St_answer_74 : decode prog_8_method_5_code 74 = .ok (.iload_n 2, 1) := by decide +kernel
theorem d_St_answer_75 : decode prog_8_method_5_code 75 = .ok (.aaload, 1) := by decide +kernel
theorem d_St_answer_76 : decode prog_8_method_5_code 76 = .ok (.getfield 75, 3) := by decide +kernel
theorem d_St_answer_79 : decode prog_8_method_5_code 79 = .ok (.i2l, 1) := by decide +kernel
theorem d_St_answer_80 : decode prog_8_method_5_code 80 = .ok (.lreturn, 1) := by decide +kernel
theorem d_St_answer_81 : decode prog_8_method_5_code 81 = .ok (.aload_n 0, 1) := by decide +kernel
theorem d_St_answer_82 : decode prog_8_method_5_code 82 = .ok (.getfield 11, 3) := by decide +kernel
theorem d_St_answer_85 : decode prog_8_method_5_code 85 = .ok (.iload_n 2, 1) := by decide +kernel
theorem d_St_answer_86 : decode prog_8_method_5_code 86 = .ok (.aaload, 1) := by decide +kernel
theorem d_St_answer_87 : decode prog_8_method_5_code 87 = .ok (.getfield 78, 3) := by decide +kernel
theorem d_St_answer_90 : decode prog_8_method_5_code 90 = .ok (.i2l, 1) := by decide +kernel
theorem d_St_answer_91 : decode prog_8_method_5_code 91 = .ok (.lreturn, 1) := by decide +kernel
theorem d_St_answer_92 : decode prog_8_method_5_code 92 = .ok (.aload_n 0, 1) := by decide +kernel
theorem d_St_answer_93 : decode prog_8_method_5_code 93 = .ok (.getfield 17, 3) := by decide +kernel
theorem d_St_answer_96 : decode prog_8_method_5_code 96 = .ok (.iload_n 2, 1) := by decide +kernel
theorem d_St_answer_97 : decode prog_8_method_5_code 97 = .ok (.laload, 1) := by decide +kernel
theorem d_St_answer_98 : decode prog_8_method_5_code 98 = .ok (.lreturn, 1) := by decide +kernel
theorem d_St_answer_99 : decode prog_8_method_5_code 99 = .ok (.aload_n 0, 1) := by decide +kernel
theorem d_St_answer_100 : decode prog_8_method_5_code 100 = .ok (.iload_n 2, 1) := by decide +kernel
theorem d_St_answer_101 : decode prog_8_method_5_code 101 = .ok (.invokevirtual 87, 3) := by decide +kernel
theorem d_St_answer_104 : decode prog_8_method_5_code 104 = .ok (.lreturn, 1) := by decide +kernel
theorem d_St_answer_105 : decode prog_8_method_5_code 105 = .ok (.aload_n 0, 1) := by decide +kernel
theorem d_St_answer_106 : decode prog_8_method_5_code 106 = .ok (.getfield 21, 3) := by decide +kernel
theorem d_St_answer_109 : decode prog_8_method_5_code 109 = .ok (.iload_n 2, 1) := by decide +kernel
theorem d_St_answer_110 : decode prog_8_method_5_code 110 = .ok (.iaload, 1) := by decide +kernel
theorem d_St_answer_111 : decode prog_8_method_5_code 111 = .ok (.i2l, 1) := by decide +kernel
theorem d_St_answer_112 : decode prog_8_method_5_code 112 = .ok (.lreturn, 1) := by decide +kernel
theorem d_St_answer_113 : decode prog_8_method_5_code 113 = .ok (.aload_n 0, 1) := by decide +kernel
theorem d_St_answer_114 : decode prog_8_method_5_code 114 = .ok (.iload_n 2, 1) := by decide +kernel
theorem d_St_answer_115 : decode prog_8_method_5_code 115 = .ok (.invokevirtual 90, 3) := by decide +kernel
theorem d_St_answer_118 : decode prog_8_method_5_code 118 = .ok (.i2l, 1) := by decide +kernel
theorem d_St_answer_119 : decode prog_8_method_5_code 119 = .ok (.lreturn, 1) := by decide +kernel
theorem d_St_answer_120 : decode prog_8_method_5_code 120 = .ok (.aload_n 0, 1) := by decide +kernel
theorem d_St_answer_121 : decode prog_8_method_5_code 121 = .ok (.iload_n 2, 1) := by decide +kernel
theorem d_St_answer_122 : decode prog_8_method_5_code 122 = .ok (.iload_n 3, 1) := by decide +kernel
theorem d_St_answer_123 : decode prog_8_method_5_code 123 = .ok (.invokevirtual 94, 3) := by decide +kernel
theorem d_St_answer_126 : decode prog_8_method_5_code 126 = .ok (.lreturn, 1) := by decide +kernel
set_option maxHeartbeats 4000000 in
set_option maxRecDepth 100000 in
theorem w_St_answer_0 {res : (Int64 ⊕ (Nat × Nat)) × xH} (C : x_C l s0 A0 D R_St prog_8_method_5_code 4 [] p s m args meth c) (hr : meth.sig.returnType = (some .long)) (hnm : meth.name = "answer") (hRf : 1 ≤ R.frames) (hRl : 35 ≤ R.locals)  (l0 : Nat) (l1 : Int32) (l2 : Int32) (l3 : Int32) (hp : f_St_answer l0 l1 l2 l3 h = some res) (hH : x_S s0 D R h H locs cells slots) (hl : lv_has ls 4 [(0, .ref l0), (1, .int l1), (2, .int l2), (3, .int l3)]) : W p l e R s m args below meth c H locs cells slots (x_Q s0 D below s R (x_oc vJ res.1) res.2) (F0 m 0 ls []) := by
  obtain ⟨hx, hb, hown, hts, hK, hml, hW, Z, -⟩ := id C
  unfold f_St_answer at hp
  refine lv_iload_n hx hb d_St_answer_0 rfl (lv_at hl 1 rfl) ?_
  by_cases hc0 : l1 = 0
  · replace hp := x_ifp hc0 hp
    refine lv_tableIn (off := 47) (tgt := 48) hx hb d_St_answer_1 (by rw [hc0]; decide) (by rw [hc0]; decide) (by rw [hc0]; rfl) (by decide) ?_
    refine lv_aload_n hx hb d_St_answer_48 rfl (lv_at hl 0 rfl) ?_
    refine x_gA C hH fl_St_11 d_St_answer_49 hp (fun v1 hp => ?_)
    refine lv_iload_n hx hb d_St_answer_52 rfl (lv_at hl 2 rfl) ?_
    refine x_lA C hH (by decide) d_St_answer_53 hp (fun v2 hp => ?_)
    refine x_gI C hH fl_St_58 d_St_answer_54 hp (fun v3 hp => ?_)
    refine lv_i2l (v := v3.toInt64) hx hb d_St_answer_57 rfl ?_
    exact x_lret C hH hr d_St_answer_58 hp
  replace hp := x_ifn hc0 hp
  by_cases hc1 : l1 = 1
  · replace hp := x_ifp hc1 hp
    refine lv_tableIn (off := 58) (tgt := 59) hx hb d_St_answer_1 (by rw [hc1]; decide) (by rw [hc1]; decide) (by rw [hc1]; rfl) (by decide) ?_
    refine lv_aload_n hx hb d_St_answer_59 rfl (lv_at hl 0 rfl) ?_
    refine x_gA C hH fl_St_11 d_St_answer_60 hp (fun v4 hp => ?_)
    refine lv_iload_n hx hb d_St_answer_63 rfl (lv_at hl 2 rfl) ?_
    refine x_lA C hH (by decide) d_St_answer_64 hp (fun v5 hp => ?_)
    refine x_gI C hH fl_St_62 d_St_answer_65 hp (fun v6 hp => ?_)
    refine lv_i2l (v := v6.toInt64) hx hb d_St_answer_68 rfl ?_
    exact x_lret C hH hr d_St_answer_69 hp
  replace hp := x_ifn hc1 hp
  by_cases hc2 : l1 = 2
  · replace hp := x_ifp hc2 hp
    refine lv_tableIn (off := 69) (tgt := 70) hx hb d_St_answer_1 (by rw [hc2]; decide) (by rw [hc2]; decide) (by rw [hc2]; rfl) (by decide) ?_
    refine lv_aload_n hx hb d_St_answer_70 rfl (lv_at hl 0 rfl) ?_
    refine x_gA C hH fl_St_11 d_St_answer_71 hp (fun v7 hp => ?_)
    refine lv_iload_n hx hb d_St_answer_74 rfl (lv_at hl 2 rfl) ?_
    refine x_lA C hH (by decide) d_St_answer_75 hp (fun v8 hp => ?_)
    refine x_gI C hH fl_St_75 d_St_answer_76 hp (fun v9 hp => ?_)
    refine lv_i2l (v := v9.toInt64) hx hb d_St_answer_79 rfl ?_
    exact x_lret C hH hr d_St_answer_80 hp
  replace hp := x_ifn hc2 hp
  by_cases hc3 : l1 = 3
  · replace hp := x_ifp hc3 hp
    refine lv_tableIn (off := 80) (tgt := 81) hx hb d_St_answer_1 (by rw [hc3]; decide) (by rw [hc3]; decide) (by rw [hc3]; rfl) (by decide) ?_
    refine lv_aload_n hx hb d_St_answer_81 rfl (lv_at hl 0 rfl) ?_
    refine x_gA C hH fl_St_11 d_St_answer_82 hp (fun v10 hp => ?_)
    refine lv_iload_n hx hb d_St_answer_85 rfl (lv_at hl 2 rfl) ?_
    refine x_lA C hH (by decide) d_St_answer_86 hp (fun v11 hp => ?_)
    refine x_gI C hH fl_St_78 d_St_answer_87 hp (fun v12 hp => ?_)
    refine lv_i2l (v := v12.toInt64) hx hb d_St_answer_90 rfl ?_
    exact x_lret C hH hr d_St_answer_91 hp
  replace hp := x_ifn hc3 hp
  by_cases hc4 : l1 = 4
  · replace hp := x_ifp hc4 hp
    refine lv_tableIn (off := 91) (tgt := 92) hx hb d_St_answer_1 (by rw [hc4]; decide) (by rw [hc4]; decide) (by rw [hc4]; rfl) (by decide) ?_
    refine lv_aload_n hx hb d_St_answer_92 rfl (lv_at hl 0 rfl) ?_
    refine x_gA C hH fl_St_17 d_St_answer_93 hp (fun v13 hp => ?_)
    refine lv_iload_n hx hb d_St_answer_96 rfl (lv_at hl 2 rfl) ?_
    refine x_lJ C hH d_St_answer_97 hp (fun v14 hp => ?_)
    exact x_lret C hH hr d_St_answer_98 hp
  replace hp := x_ifn hc4 hp
  by_cases hc5 : l1 = 5
  · replace hp := x_ifp hc5 hp
    refine lv_tableIn (off := 98) (tgt := 99) hx hb d_St_answer_1 (by rw [hc5]; decide) (by rw [hc5]; decide) (by rw [hc5]; rfl) (by decide) ?_
    refine lv_aload_n hx hb d_St_answer_99 rfl (lv_at hl 0 rfl) ?_
    refine lv_iload_n hx hb d_St_answer_100 rfl (lv_at hl 2 rfl) ?_
    refine x_callV (As := [.int l2]) (rest := []) (cv := vJ) C hH kc_St_87 d_St_answer_101 hp (fun o h' e => m_St_held Z e) rfl hl.1 (Nat.le_trans (Nat.le_of_ble_eq_true rfl) hRf) (Nat.le_trans (Nat.le_of_ble_eq_true rfl) hRl) (Nat.le_of_ble_eq_true rfl) (fun v15 h H locs cells slots hp hH => ?_)
    refine W.eq (g2 := F0 m 104 ls [.long v15]) rfl ?_
    exact x_lret C hH hr d_St_answer_104 hp
  replace hp := x_ifn hc5 hp
  by_cases hc6 : l1 = 6
  · replace hp := x_ifp hc6 hp
    refine lv_tableIn (off := 104) (tgt := 105) hx hb d_St_answer_1 (by rw [hc6]; decide) (by rw [hc6]; decide) (by rw [hc6]; rfl) (by decide) ?_
    refine lv_aload_n hx hb d_St_answer_105 rfl (lv_at hl 0 rfl) ?_
    refine x_gA C hH fl_St_21 d_St_answer_106 hp (fun v16 hp => ?_)
    refine lv_iload_n hx hb d_St_answer_109 rfl (lv_at hl 2 rfl) ?_
    refine x_lI C hH d_St_answer_110 hp (fun v17 hp => ?_)
    refine lv_i2l (v := v17.toInt64) hx hb d_St_answer_111 rfl ?_
    exact x_lret C hH hr d_St_answer_112 hp
  replace hp := x_ifn hc6 hp
  by_cases hc7 : l1 = 7
  · replace hp := x_ifp hc7 hp
    refine lv_tableIn (off := 112) (tgt := 113) hx hb d_St_answer_1 (by rw [hc7]; decide) (by rw [hc7]; decide) (by rw [hc7]; rfl) (by decide) ?_
    refine lv_aload_n hx hb d_St_answer_113 rfl (lv_at hl 0 rfl) ?_
    refine lv_iload_n hx hb d_St_answer_114 rfl (lv_at hl 2 rfl) ?_
    refine x_callV (As := [.int l2]) (rest := []) (cv := vI) C hH kc_St_90 d_St_answer_115 hp (fun o h' e => m_St_ranked Z e) rfl hl.1 (Nat.le_trans (Nat.le_of_ble_eq_true rfl) hRf) (Nat.le_trans (Nat.le_of_ble_eq_true rfl) hRl) (Nat.le_of_ble_eq_true rfl) (fun v18 h H locs cells slots hp hH => ?_)
    refine W.eq (g2 := F0 m 118 ls [.int v18]) rfl ?_
    refine lv_i2l (v := v18.toInt64) hx hb d_St_answer_118 rfl ?_
    exact x_lret C hH hr d_St_answer_119 hp
  replace hp := x_ifn hc7 hp
  have n0 := lv_neT hc0 (k := 0) (a := 0) (by decide)
  have n1 := lv_neT hc1 (k := 1) (a := 1) (by decide)
  have n2 := lv_neT hc2 (k := 2) (a := 2) (by decide)
  have n3 := lv_neT hc3 (k := 3) (a := 3) (by decide)
  have n4 := lv_neT hc4 (k := 4) (a := 4) (by decide)
  have n5 := lv_neT hc5 (k := 5) (a := 5) (by decide)
  have n6 := lv_neT hc6 (k := 6) (a := 6) (by decide)
  have n7 := lv_neT hc7 (k := 7) (a := 7) (by decide)
  refine lv_tableOut (tgt := 120) hx hb d_St_answer_1 (by omega) (by decide) ?_
  refine lv_aload_n hx hb d_St_answer_120 rfl (lv_at hl 0 rfl) ?_
  refine lv_iload_n hx hb d_St_answer_121 rfl (lv_at hl 2 rfl) ?_
  refine lv_iload_n hx hb d_St_answer_122 rfl (lv_at hl 3 rfl) ?_
  refine x_callV (As := [.int l2, .int l3]) (rest := []) (cv := vJ) C hH kc_St_94 d_St_answer_123 hp (fun o h' e => m_St_worth Z e) rfl hl.1 (Nat.le_trans (Nat.le_of_ble_eq_true rfl) hRf) (Nat.le_trans (Nat.le_of_ble_eq_true rfl) hRl) (Nat.le_of_ble_eq_true rfl) (fun v19 h H locs cells slots hp hH => ?_)
  refine W.eq (g2 := F0 m 126 ls [.long v19]) rfl ?_
  exact x_lret C hH hr d_St_answer_126 hp
set_option maxRecDepth 100000 in
theorem m_St_answer (Z : x_Z l s0 A0 D) {l0 : Nat} {l1 : Int32} {l2 : Int32} {l3 : Int32} {res : (Int64 ⊕ (Nat × Nat)) × xH} (hp : f_St_answer l0 l1 l2 l3 h = some res) : x_M l s0 D y_St_answer (x_cw y_St_answer prog_8_method_5_code 4 (some .long) []) 1 35 [.ref l0, .int l1, .int l2, .int l3] h (x_oc vJ res.1) res.2 := by
  refine x_M.ofW Z (plainFor_of_name (by decide)) ?_
  intro p e s m below meth c C hnm hr hH
  have hl := lv_entry ([.ref l0, .int l1, .int l2, .int l3]) (n := 4) (Nat.le_of_ble_eq_true rfl)
  rw [lg_entry_eq]
  generalize (lg_sl ([.ref l0, .int l1, .int l2, .int l3]) ++ List.replicate (4 - (lg_sl ([.ref l0, .int l1, .int l2, .int l3])).length) Slot.unset).toArray = ls at hl ⊢
  exact w_St_answer_0 C hr hnm (Nat.le_refl _) (Nat.le_refl _) l0 l1 l2 l3 hp hH hl
/-! ReadSide$Vector.check(J)J -/
theorem d_Vec_check_0 : decode prog_9_method_7_code 0 = .ok (.lload_n 0, 1) := by decide +kernel
theorem d_Vec_check_1 : decode prog_9_method_7_code 1 = .ok (.ldc2_w 27, 3) := by decide +kernel
theorem d_Vec_check_4 : decode prog_9_method_7_code 4 = .ok (.lmul, 1) := by decide +kernel
theorem d_Vec_check_5 : decode prog_9_method_7_code 5 = .ok (.bipush 44, 2) := by decide +kernel
theorem d_Vec_check_7 : decode prog_9_method_7_code 7 = .ok (.lushr, 1) := by decide +kernel
theorem d_Vec_check_8 : decode prog_9_method_7_code 8 = .ok (.lreturn, 1) := by decide +kernel
set_option maxHeartbeats 4000000 in
set_option maxRecDepth 100000 in
theorem w_Vec_check_0 {res : (Int64 ⊕ (Nat × Nat)) × xH} (C : x_C l s0 A0 D R_Vec prog_9_method_7_code 2 [] p s m args meth c) (hr : meth.sig.returnType = (some .long)) (hnm : meth.name = "check") (hRf : 0 ≤ R.frames) (hRl : 0 ≤ R.locals)  (l0 : Int64) (hp : f_Vec_check l0 h = some res) (hH : x_S s0 D R h H locs cells slots) (hl : lv_has ls 2 [(0, .long l0)]) : W p l e R s m args below meth c H locs cells slots (x_Q s0 D below s R (x_oc vJ res.1) res.2) (F0 m 0 ls []) := by
  obtain ⟨hx, hb, hown, hts, hK, hml, hW, Z, -⟩ := id C
  unfold f_Vec_check at hp
  refine lv_lload_n hx hb d_Vec_check_0 rfl (lv_at hl 0 rfl) ?_
  refine lv_ldc2 hx hb hown (hts _ k_394) d_Vec_check_1 ?_
  refine lv_lmul hx hb d_Vec_check_4 ?_
  refine lv_bipush (v := 44) hx hb d_Vec_check_5 (by decide) ?_
  refine lv_lushr (v := ((l0 * (-7046029254386353131)).toUInt64 >>> ((44 : Int32).toInt64.toUInt64 &&& Int64.toUInt64 63)).toInt64) hx hb d_Vec_check_7 rfl ?_
  exact x_lret C hH hr d_Vec_check_8 hp
set_option maxRecDepth 100000 in
theorem m_Vec_check (Z : x_Z l s0 A0 D) {l0 : Int64} {res : (Int64 ⊕ (Nat × Nat)) × xH} (hp : f_Vec_check l0 h = some res) : x_M l s0 D y_Vec_check (x_cw y_Vec_check prog_9_method_7_code 2 (some .long) []) 0 0 [.long l0] h (x_oc vJ res.1) res.2 := by
  refine x_M.ofW Z (plainFor_of_name (by decide)) ?_
  intro p e s m below meth c C hnm hr hH
  have hl := lv_entry ([.long l0]) (n := 2) (Nat.le_of_ble_eq_true rfl)
  rw [lg_entry_eq]
  generalize (lg_sl ([.long l0]) ++ List.replicate (2 - (lg_sl ([.long l0])).length) Slot.unset).toArray = ls at hl ⊢
  exact w_Vec_check_0 C hr hnm (Nat.le_refl _) (Nat.le_refl _) l0 hp hH hl
/-! ReadSide$Vector.token()J -/
theorem d_Vec_token_0 : decode prog_9_method_6_code 0 = .ok (.aload_n 0, 1) := by decide +kernel
theorem d_Vec_token_1 : decode prog_9_method_6_code 1 = .ok (.getfield 7, 3) := by decide +kernel
theorem d_Vec_token_4 : decode prog_9_method_6_code 4 = .ok (.iconst 0, 1) := by decide +kernel
theorem d_Vec_token_5 : decode prog_9_method_6_code 5 = .ok (.iaload, 1) := by decide +kernel
theorem d_Vec_token_6 : decode prog_9_method_6_code 6 = .ok (.i2l, 1) := by decide +kernel
theorem d_Vec_token_7 : decode prog_9_method_6_code 7 = .ok (.ldc2_w 19, 3) := by decide +kernel
theorem d_Vec_token_10 : decode prog_9_method_6_code 10 = .ok (.aload_n 0, 1) := by decide +kernel
theorem d_Vec_token_11 : decode prog_9_method_6_code 11 = .ok (.getfield 7, 3) := by decide +kernel
theorem d_Vec_token_14 : decode prog_9_method_6_code 14 = .ok (.iconst 1, 1) := by decide +kernel
theorem d_Vec_token_15 : decode prog_9_method_6_code 15 = .ok (.iaload, 1) := by decide +kernel
theorem d_Vec_token_16 : decode prog_9_method_6_code 16 = .ok (.i2l, 1) := by decide +kernel
theorem d_Vec_token_17 : decode prog_9_method_6_code 17 = .ok (.lmul, 1) := by decide +kernel
theorem d_Vec_token_18 : decode prog_9_method_6_code 18 = .ok (.ladd, 1) := by decide +kernel
theorem d_Vec_token_19 : decode prog_9_method_6_code 19 = .ok (.ldc2_w 21, 3) := by decide +kernel
theorem d_Vec_token_22 : decode prog_9_method_6_code 22 = .ok (.aload_n 0, 1) := by decide +kernel
theorem d_Vec_token_23 : decode prog_9_method_6_code 23 = .ok (.getfield 7, 3) := by decide +kernel
theorem d_Vec_token_26 : decode prog_9_method_6_code 26 = .ok (.iconst 2, 1) := by decide +kernel
theorem d_Vec_token_27 : decode prog_9_method_6_code 27 = .ok (.iaload, 1) := by decide +kernel
theorem d_Vec_token_28 : decode prog_9_method_6_code 28 = .ok (.i2l, 1) := by decide +kernel
theorem d_Vec_token_29 : decode prog_9_method_6_code 29 = .ok (.lmul, 1) := by decide +kernel
theorem d_Vec_token_30 : decode prog_9_method_6_code 30 = .ok (.ladd, 1) := by decide +kernel
theorem d_Vec_token_31 : decode prog_9_method_6_code 31 = .ok (.lstore_n 1, 1) := by decide +kernel
theorem d_Vec_token_32 : decode prog_9_method_6_code 32 = .ok (.lload_n 1, 1) := by decide +kernel
theorem d_Vec_token_33 : decode prog_9_method_6_code 33 = .ok (.bipush 20, 2) := by decide +kernel
theorem d_Vec_token_35 : decode prog_9_method_6_code 35 = .ok (.lshl, 1) := by decide +kernel
theorem d_Vec_token_36 : decode prog_9_method_6_code 36 = .ok (.lload_n 1, 1) := by decide +kernel
theorem d_Vec_token_37 : decode prog_9_method_6_code 37 = .ok (.invokestatic 23, 3) := by decide +kernel
theorem d_Vec_token_40 : decode prog_9_method_6_code 40 = .ok (.ladd, 1) := by decide +kernel
theorem d_Vec_token_41 : decode prog_9_method_6_code 41 = .ok (.lreturn, 1) := by decide +kernel
set_option maxHeartbeats 4000000 in
set_option maxRecDepth 100000 in
theorem w_Vec_token_0 {res : (Int64 ⊕ (Nat × Nat)) × xH} (C : x_C l s0 A0 D R_Vec prog_9_method_6_code 3 [] p s m args meth c) (hr : meth.sig.returnType = (some .long)) (hnm : meth.name = "token") (hRf : 1 ≤ R.frames) (hRl : 29 ≤ R.locals)  (l0 : Nat) (hp : f_Vec_token l0 h = some res) (hH : x_S s0 D R h H locs cells slots) (hl : lv_has ls 3 [(0, .ref l0)]) : W p l e R s m args below meth c H locs cells slots (x_Q s0 D below s R (x_oc vJ res.1) res.2) (F0 m 0 ls []) := by
  obtain ⟨hx, hb, hown, hts, hK, hml, hW, Z, -⟩ := id C
  unfold f_Vec_token at hp
  refine lv_aload_n hx hb d_Vec_token_0 rfl (lv_at hl 0 rfl) ?_
  refine x_gA C hH fl_Vec_7 d_Vec_token_1 hp (fun v1 hp => ?_)
  refine lv_iconst (v := 0) hx hb d_Vec_token_4 (by decide) ?_
  refine x_lI C hH d_Vec_token_5 hp (fun v2 hp => ?_)
  refine lv_i2l (v := v2.toInt64) hx hb d_Vec_token_6 rfl ?_
  refine lv_ldc2 hx hb hown (hts _ k_389) d_Vec_token_7 ?_
  refine lv_aload_n hx hb d_Vec_token_10 rfl (lv_at hl 0 rfl) ?_
  refine x_gA C hH fl_Vec_7 d_Vec_token_11 hp (fun v3 hp => ?_)
  refine lv_iconst (v := 1) hx hb d_Vec_token_14 (by decide) ?_
  refine x_lI C hH d_Vec_token_15 hp (fun v4 hp => ?_)
  refine lv_i2l (v := v4.toInt64) hx hb d_Vec_token_16 rfl ?_
  refine lv_lmul hx hb d_Vec_token_17 ?_
  refine lv_ladd hx hb d_Vec_token_18 ?_
  refine lv_ldc2 hx hb hown (hts _ k_390) d_Vec_token_19 ?_
  refine lv_aload_n hx hb d_Vec_token_22 rfl (lv_at hl 0 rfl) ?_
  refine x_gA C hH fl_Vec_7 d_Vec_token_23 hp (fun v5 hp => ?_)
  refine lv_iconst (v := 2) hx hb d_Vec_token_26 (by decide) ?_
  refine x_lI C hH d_Vec_token_27 hp (fun v6 hp => ?_)
  refine lv_i2l (v := v6.toInt64) hx hb d_Vec_token_28 rfl ?_
  refine lv_lmul hx hb d_Vec_token_29 ?_
  refine lv_ladd hx hb d_Vec_token_30 ?_
  refine lv_lstore_n (lv' := [(1, .long ((v2.toInt64 + (512 * v4.toInt64)) + (262144 * v6.toInt64))), (0, .ref l0)]) hx hb d_Vec_token_31 rfl hl (by decide) rfl (fun ls hl => ?_)
  refine lv_lload_n hx hb d_Vec_token_32 rfl (lv_at hl 0 rfl) ?_
  refine lv_bipush (v := 20) hx hb d_Vec_token_33 (by decide) ?_
  refine lv_lshl (v := (((v2.toInt64 + (512 * v4.toInt64)) + (262144 * v6.toInt64)) <<< ((20 : Int32).toInt64 &&& 63))) hx hb d_Vec_token_35 rfl ?_
  refine lv_lload_n hx hb d_Vec_token_36 rfl (lv_at hl 0 rfl) ?_
  refine x_callS (As := [.long ((v2.toInt64 + (512 * v4.toInt64)) + (262144 * v6.toInt64))]) (rest := [.long (((v2.toInt64 + (512 * v4.toInt64)) + (262144 * v6.toInt64)) <<< ((20 : Int32).toInt64 &&& 63))]) (cv := vJ) C hH kc_Vec_23 d_Vec_token_37 hp (fun o h' e => m_Vec_check Z e) rfl hl.1 (Nat.le_trans (Nat.le_of_ble_eq_true rfl) hRf) (Nat.le_trans (Nat.le_of_ble_eq_true rfl) hRl) (Nat.le_of_ble_eq_true rfl) (fun v7 h H locs cells slots hp hH => ?_)
  refine W.eq (g2 := F0 m 40 ls [.long v7, .long (((v2.toInt64 + (512 * v4.toInt64)) + (262144 * v6.toInt64)) <<< ((20 : Int32).toInt64 &&& 63))]) rfl ?_
  refine lv_ladd hx hb d_Vec_token_40 ?_
  exact x_lret C hH hr d_Vec_token_41 hp
set_option maxRecDepth 100000 in
theorem m_Vec_token (Z : x_Z l s0 A0 D) {l0 : Nat} {res : (Int64 ⊕ (Nat × Nat)) × xH} (hp : f_Vec_token l0 h = some res) : x_M l s0 D y_Vec_token (x_cw y_Vec_token prog_9_method_6_code 3 (some .long) []) 1 29 [.ref l0] h (x_oc vJ res.1) res.2 := by
  refine x_M.ofW Z (plainFor_of_name (by decide)) ?_
  intro p e s m below meth c C hnm hr hH
  have hl := lv_entry ([.ref l0]) (n := 3) (Nat.le_of_ble_eq_true rfl)
  rw [lg_entry_eq]
  generalize (lg_sl ([.ref l0]) ++ List.replicate (3 - (lg_sl ([.ref l0])).length) Slot.unset).toArray = ls at hl ⊢
  exact w_Vec_token_0 C hr hnm (Nat.le_refl _) (Nat.le_refl _) l0 hp hH hl
/-! java/lang/Math.max(II)I -/
theorem d_Math_max_0 : decode prog_17_method_65_code 0 = .ok (.iload_n 0, 1) := by decide +kernel
theorem d_Math_max_1 : decode prog_17_method_65_code 1 = .ok (.iload_n 1, 1) := by decide +kernel
theorem d_Math_max_2 : decode prog_17_method_65_code 2 = .ok (.if_icmp .lt 7, 3) := by decide +kernel
theorem d_Math_max_5 : decode prog_17_method_65_code 5 = .ok (.iload_n 0, 1) := by decide +kernel
theorem d_Math_max_6 : decode prog_17_method_65_code 6 = .ok (.goto 4, 3) := by decide +kernel
theorem d_Math_max_9 : decode prog_17_method_65_code 9 = .ok (.iload_n 1, 1) := by decide +kernel
theorem d_Math_max_10 : decode prog_17_method_65_code 10 = .ok (.ireturn, 1) := by decide +kernel
set_option maxHeartbeats 4000000 in
set_option maxRecDepth 100000 in
theorem w_Math_max_10 {res : (Int32 ⊕ (Nat × Nat)) × xH} (C : x_C l s0 A0 D R_Math prog_17_method_65_code 2 [] p s m args meth c) (hr : meth.sig.returnType = (some .int)) (hnm : meth.name = "max") (hRf : 0 ≤ R.frames) (hRl : 0 ≤ R.locals)  (t0 : Int32) (hp : f_Math_max_b10 t0 h = some res) (hH : x_S s0 D R h H locs cells slots) (hl : lv_has ls 2 []) : W p l e R s m args below meth c H locs cells slots (x_Q s0 D below s R (x_oc vI res.1) res.2) (F0 m 10 ls [.int t0]) := by
  obtain ⟨hx, hb, hown, hts, hK, hml, hW, Z, -⟩ := id C
  unfold f_Math_max_b10 at hp
  exact x_iret C hH hr d_Math_max_10 hp
set_option maxHeartbeats 4000000 in
set_option maxRecDepth 100000 in
theorem w_Math_max_0 {res : (Int32 ⊕ (Nat × Nat)) × xH} (C : x_C l s0 A0 D R_Math prog_17_method_65_code 2 [] p s m args meth c) (hr : meth.sig.returnType = (some .int)) (hnm : meth.name = "max") (hRf : 0 ≤ R.frames) (hRl : 0 ≤ R.locals)  (l0 : Int32) (l1 : Int32) (hp : f_Math_max l0 l1 h = some res) (hH : x_S s0 D R h H locs cells slots) (hl : lv_has ls 2 [(0, .int l0), (1, .int l1)]) : W p l e R s m args below meth c H locs cells slots (x_Q s0 D below s R (x_oc vI res.1) res.2) (F0 m 0 ls []) := by
  obtain ⟨hx, hb, hown, hts, hK, hml, hW, Z, -⟩ := id C
  unfold f_Math_max at hp
  refine lv_iload_n hx hb d_Math_max_0 rfl (lv_at hl 0 rfl) ?_
  refine lv_iload_n hx hb d_Math_max_1 rfl (lv_at hl 1 rfl) ?_
  refine lv_icmp_lt (tgt := 9) hx hb d_Math_max_2 (by decide) (fun hc => ?_) (fun hc => ?_)
  · replace hp := x_ifp hc hp
    refine lv_iload_n hx hb d_Math_max_9 rfl (lv_at hl 1 rfl) ?_
    exact w_Math_max_10 C hr hnm hRf hRl  l1 hp hH (lv_sub hl [] rfl)
  · replace hp := x_ifn hc hp
    refine lv_iload_n hx hb d_Math_max_5 rfl (lv_at hl 0 rfl) ?_
    refine lv_goto (tgt := 10) hx hb d_Math_max_6 (by decide) ?_
    exact w_Math_max_10 C hr hnm hRf hRl  l0 hp hH (lv_sub hl [] rfl)
set_option maxRecDepth 100000 in
theorem m_Math_max (Z : x_Z l s0 A0 D) {l0 : Int32} {l1 : Int32} {res : (Int32 ⊕ (Nat × Nat)) × xH} (hp : f_Math_max l0 l1 h = some res) : x_M l s0 D y_Math_max (x_cw y_Math_max prog_17_method_65_code 2 (some .int) []) 0 0 [.int l0, .int l1] h (x_oc vI res.1) res.2 := by
  refine x_M.ofW Z (by decide +kernel) ?_
  intro p e s m below meth c C hnm hr hH
  have hl := lv_entry ([.int l0, .int l1]) (n := 2) (Nat.le_of_ble_eq_true rfl)
  rw [lg_entry_eq]
  generalize (lg_sl ([.int l0, .int l1]) ++ List.replicate (2 - (lg_sl ([.int l0, .int l1])).length) Slot.unset).toArray = ls at hl ⊢
  exact w_Math_max_0 C hr hnm (Nat.le_refl _) (Nat.le_refl _) l0 l1 hp hH hl
/-! ReadSide$Vector.rise(LReadSide$Vector;)V -/
theorem d_Vec_rise_0 : decode prog_9_method_4_code 0 = .ok (.iconst 0, 1) := by decide +kernel
theorem d_Vec_rise_1 : decode prog_9_method_4_code 1 = .ok (.istore_n 2, 1) := by decide +kernel
theorem d_Vec_rise_2 : decode prog_9_method_4_code 2 = .ok (.iload_n 2, 1) := by decide +kernel
theorem d_Vec_rise_3 : decode prog_9_method_4_code 3 = .ok (.iconst 3, 1) := by decide +kernel
theorem d_Vec_rise_4 : decode prog_9_method_4_code 4 = .ok (.if_icmp .ge 30, 3) := by decide +kernel
theorem d_Vec_rise_7 : decode prog_9_method_4_code 7 = .ok (.aload_n 0, 1) := by decide +kernel
theorem d_Vec_rise_8 : decode prog_9_method_4_code 8 = .ok (.getfield 7, 3) := by decide +kernel
theorem d_Vec_rise_11 : decode prog_9_method_4_code 11 = .ok (.iload_n 2, 1) := by decide +kernel
theorem d_Vec_rise_12 : decode prog_9_method_4_code 12 = .ok (.aload_n 0, 1) := by decide +kernel
theorem d_Vec_rise_13 : decode prog_9_method_4_code 13 = .ok (.getfield 7, 3) := by decide +kernel
theorem d_Vec_rise_16 : decode prog_9_method_4_code 16 = .ok (.iload_n 2, 1) := by decide +kernel
theorem d_Vec_rise_17 : decode prog_9_method_4_code 17 = .ok (.iaload, 1) := by decide +kernel
theorem d_Vec_rise_18 : decode prog_9_method_4_code 18 = .ok (.aload_n 1, 1) := by decide +kernel
theorem d_Vec_rise_19 : decode prog_9_method_4_code 19 = .ok (.getfield 7, 3) := by decide +kernel
theorem d_Vec_rise_22 : decode prog_9_method_4_code 22 = .ok (.iload_n 2, 1) := by decide +kernel
theorem d_Vec_rise_23 : decode prog_9_method_4_code 23 = .ok (.iaload, 1) := by decide +kernel
theorem d_Vec_rise_24 : decode prog_9_method_4_code 24 = .ok (.invokestatic 13, 3) := by decide +kernel
theorem d_Vec_rise_27 : decode prog_9_method_4_code 27 = .ok (.iastore, 1) := by decide +kernel
theorem d_Vec_rise_28 : decode prog_9_method_4_code 28 = .ok (.iinc 2 1, 3) := by decide +kernel
theorem d_Vec_rise_31 : decode prog_9_method_4_code 31 = .ok (.goto (-29), 3) := by decide +kernel
theorem d_Vec_rise_34 : decode prog_9_method_4_code 34 = .ok (.return_, 1) := by decide +kernel
set_option maxHeartbeats 4000000 in
set_option maxRecDepth 100000 in
theorem w_Vec_rise_2 {res : (Unit ⊕ (Nat × Nat)) × xH} (C : x_C l s0 A0 D R_Vec prog_9_method_4_code 3 [] p s m args meth c) (hr : meth.sig.returnType = none) (hnm : meth.name = "rise") (hRf : 1 ≤ R.frames) (hRl : 29 ≤ R.locals) {k2 : Nat → Nat → Int32 → xM Unit} (hs2 : ∀ (l0 : Nat) (l1 : Nat) (l2 : Int32) (h : xH) (H : Heap) (locs : List Loc) (cells slots : Nat) (ls : Array Slot), k2 l0 l1 l2 h = some res → x_S s0 D R h H locs cells slots → lv_has ls 3 [(0, .ref l0), (1, .ref l1), (2, .int l2)] → W p l e R s m args below meth c H locs cells slots (x_Q s0 D below s R (x_oc vU res.1) res.2) (F0 m 2 ls [])) (l0 : Nat) (l1 : Nat) (l2 : Int32) (hp : f_Vec_rise_b2 k2 l0 l1 l2 h = some res) (hH : x_S s0 D R h H locs cells slots) (hl : lv_has ls 3 [(0, .ref l0), (1, .ref l1), (2, .int l2)]) : W p l e R s m args below meth c H locs cells slots (x_Q s0 D below s R (x_oc vU res.1) res.2) (F0 m 2 ls []) := by
  obtain ⟨hx, hb, hown, hts, hK, hml, hW, Z, -⟩ := id C
  unfold f_Vec_rise_b2 at hp
  refine lv_iload_n hx hb d_Vec_rise_2 rfl (lv_at hl 2 rfl) ?_
  refine lv_iconst (v := 3) hx hb d_Vec_rise_3 (by decide) ?_
  refine lv_icmp_ge (tgt := 34) hx hb d_Vec_rise_4 (by decide) (fun hc => ?_) (fun hc => ?_)
  · replace hp := x_ifp hc hp
    exact x_vret C hH hr d_Vec_rise_34 hp
  · replace hp := x_ifn hc hp
    refine lv_aload_n hx hb d_Vec_rise_7 rfl (lv_at hl 0 rfl) ?_
    refine x_gA C hH fl_Vec_7 d_Vec_rise_8 hp (fun v1 hp => ?_)
    refine lv_iload_n hx hb d_Vec_rise_11 rfl (lv_at hl 2 rfl) ?_
    refine lv_aload_n hx hb d_Vec_rise_12 rfl (lv_at hl 0 rfl) ?_
    refine x_gA C hH fl_Vec_7 d_Vec_rise_13 hp (fun v2 hp => ?_)
    refine lv_iload_n hx hb d_Vec_rise_16 rfl (lv_at hl 2 rfl) ?_
    refine x_lI C hH d_Vec_rise_17 hp (fun v3 hp => ?_)
    refine lv_aload_n hx hb d_Vec_rise_18 rfl (lv_at hl 1 rfl) ?_
    refine x_gA C hH fl_Vec_7 d_Vec_rise_19 hp (fun v4 hp => ?_)
    refine lv_iload_n hx hb d_Vec_rise_22 rfl (lv_at hl 2 rfl) ?_
    refine x_lI C hH d_Vec_rise_23 hp (fun v5 hp => ?_)
    refine x_callS (As := [.int v3, .int v5]) (rest := [.int l2, .ref v1]) (cv := vI) C hH kc_Vec_13 d_Vec_rise_24 hp (fun o h' e => m_Math_max Z e) rfl hl.1 (Nat.le_trans (Nat.le_of_ble_eq_true rfl) hRf) (Nat.le_trans (Nat.le_of_ble_eq_true rfl) hRl) (Nat.le_of_ble_eq_true rfl) (fun v6 h H locs cells slots hp hH => ?_)
    refine W.eq (g2 := F0 m 27 ls [.int v6, .int l2, .ref v1]) rfl ?_
    refine x_sI C hH d_Vec_rise_27 hp (fun h H locs hp hH => ?_)
    refine lv_iinc (v := (l2 + 1)) (lv' := [(2, .int (l2 + 1)), (0, .ref l0), (1, .ref l1)]) hx hb d_Vec_rise_28 hl (k := 2) rfl rfl (by decide) rfl (fun ls hl => ?_)
    refine lv_goto (tgt := 2) hx hb d_Vec_rise_31 (by decide) ?_
    exact hs2 l0 l1 (l2 + 1) _ _ _ _ _ _ hp hH (lv_sub hl [1, 2, 0] rfl)
theorem w_Vec_rise_h2 {res : (Unit ⊕ (Nat × Nat)) × xH} (C : x_C l s0 A0 D R_Vec prog_9_method_4_code 3 [] p s m args meth c) (hr : meth.sig.returnType = none) (hnm : meth.name = "rise") (hRf : 1 ≤ R.frames) (hRl : 29 ≤ R.locals)  : ∀ (n : Nat) (l0 : Nat) (l1 : Nat) (l2 : Int32) (h : xH) (H : Heap) (locs : List Loc) (cells slots : Nat) (ls : Array Slot), f_Vec_rise_h2 n l0 l1 l2 h = some res → x_S s0 D R h H locs cells slots → lv_has ls 3 [(0, .ref l0), (1, .ref l1), (2, .int l2)] → W p l e R s m args below meth c H locs cells slots (x_Q s0 D below s R (x_oc vU res.1) res.2) (F0 m 2 ls []) := by
  intro n
  induction n with
  | zero => intro l0 l1 l2 h H locs cells slots ls hp hH hl; cases hp
  | succ n ih => intro l0 l1 l2 h H locs cells slots ls hp hH hl; exact w_Vec_rise_2 C hr hnm hRf hRl ih l0 l1 l2 hp hH hl
set_option maxHeartbeats 4000000 in
set_option maxRecDepth 100000 in
theorem w_Vec_rise_0 {res : (Unit ⊕ (Nat × Nat)) × xH} (C : x_C l s0 A0 D R_Vec prog_9_method_4_code 3 [] p s m args meth c) (hr : meth.sig.returnType = none) (hnm : meth.name = "rise") (hRf : 1 ≤ R.frames) (hRl : 29 ≤ R.locals)  (l0 : Nat) (l1 : Nat) (hp : f_Vec_rise l0 l1 h = some res) (hH : x_S s0 D R h H locs cells slots) (hl : lv_has ls 3 [(0, .ref l0), (1, .ref l1)]) : W p l e R s m args below meth c H locs cells slots (x_Q s0 D below s R (x_oc vU res.1) res.2) (F0 m 0 ls []) := by
  obtain ⟨hx, hb, hown, hts, hK, hml, hW, Z, -⟩ := id C
  unfold f_Vec_rise at hp
  refine lv_iconst (v := 0) hx hb d_Vec_rise_0 (by decide) ?_
  refine lv_istore_n (lv' := [(2, .int 0), (0, .ref l0), (1, .ref l1)]) hx hb d_Vec_rise_1 rfl hl (by decide) rfl (fun ls hl => ?_)
  exact w_Vec_rise_h2 C hr hnm hRf hRl  1000 l0 l1 0 _ _ _ _ _ _ hp hH (lv_sub hl [1, 2, 0] rfl)
set_option maxRecDepth 100000 in
theorem m_Vec_rise (Z : x_Z l s0 A0 D) {l0 : Nat} {l1 : Nat} {res : (Unit ⊕ (Nat × Nat)) × xH} (hp : f_Vec_rise l0 l1 h = some res) : x_M l s0 D y_Vec_rise (x_cw y_Vec_rise prog_9_method_4_code 3 none []) 1 29 [.ref l0, .ref l1] h (x_oc vU res.1) res.2 := by
  refine x_M.ofW Z (plainFor_of_name (by decide)) ?_
  intro p e s m below meth c C hnm hr hH
  have hl := lv_entry ([.ref l0, .ref l1]) (n := 3) (Nat.le_of_ble_eq_true rfl)
  rw [lg_entry_eq]
  generalize (lg_sl ([.ref l0, .ref l1]) ++ List.replicate (3 - (lg_sl ([.ref l0, .ref l1])).length) Slot.unset).toArray = ls at hl ⊢
  exact w_Vec_rise_0 C hr hnm (Nat.le_refl _) (Nat.le_refl _) l0 l1 hp hH hl
/-! ReadSide.answer(LReadSide$Read;I)V -/
theorem d_RS_answer_0 : decode prog_1_method_23_code 0 = .ok (.aload_n 0, 1) := by decide +kernel
theorem d_RS_answer_1 : decode prog_1_method_23_code 1 = .ok (.getfield 46, 3) := by decide +kernel
theorem d_RS_answer_4 : decode prog_1_method_23_code 4 = .ok (.iload_n 2, 1) := by decide +kernel
theorem d_RS_answer_5 : decode prog_1_method_23_code 5 = .ok (.aaload, 1) := by decide +kernel
theorem d_RS_answer_6 : decode prog_1_method_23_code 6 = .ok (.astore_n 3, 1) := by decide +kernel
theorem d_RS_answer_7 : decode prog_1_method_23_code 7 = .ok (.aload_n 1, 1) := by decide +kernel
theorem d_RS_answer_8 : decode prog_1_method_23_code 8 = .ok (.iconst 1, 1) := by decide +kernel
theorem d_RS_answer_9 : decode prog_1_method_23_code 9 = .ok (.putfield 236, 3) := by decide +kernel
theorem d_RS_answer_12 : decode prog_1_method_23_code 12 = .ok (.aload_n 1, 1) := by decide +kernel
theorem d_RS_answer_13 : decode prog_1_method_23_code 13 = .ok (.iload_n 2, 1) := by decide +kernel
theorem d_RS_answer_14 : decode prog_1_method_23_code 14 = .ok (.putfield 238, 3) := by decide +kernel
theorem d_RS_answer_17 : decode prog_1_method_23_code 17 = .ok (.aload_n 1, 1) := by decide +kernel
theorem d_RS_answer_18 : decode prog_1_method_23_code 18 = .ok (.aload_n 3, 1) := by decide +kernel
theorem d_RS_answer_19 : decode prog_1_method_23_code 19 = .ok (.getfield 150, 3) := by decide +kernel
theorem d_RS_answer_22 : decode prog_1_method_23_code 22 = .ok (.aload_n 1, 1) := by decide +kernel
theorem d_RS_answer_23 : decode prog_1_method_23_code 23 = .ok (.getfield 241, 3) := by decide +kernel
theorem d_RS_answer_26 : decode prog_1_method_23_code 26 = .ok (.aload_n 1, 1) := by decide +kernel
theorem d_RS_answer_27 : decode prog_1_method_23_code 27 = .ok (.getfield 244, 3) := by decide +kernel
theorem d_RS_answer_30 : decode prog_1_method_23_code 30 = .ok (.aload_n 0, 1) := by decide +kernel
theorem d_RS_answer_31 : decode prog_1_method_23_code 31 = .ok (.getfield 31, 3) := by decide +kernel
theorem d_RS_answer_34 : decode prog_1_method_23_code 34 = .ok (.invokevirtual 247, 3) := by decide +kernel
theorem d_RS_answer_37 : decode prog_1_method_23_code 37 = .ok (.putfield 251, 3) := by decide +kernel
theorem d_RS_answer_40 : decode prog_1_method_23_code 40 = .ok (.aload_n 1, 1) := by decide +kernel
theorem d_RS_answer_41 : decode prog_1_method_23_code 41 = .ok (.aload_n 3, 1) := by decide +kernel
theorem d_RS_answer_42 : decode prog_1_method_23_code 42 = .ok (.getfield 150, 3) := by decide +kernel
theorem d_RS_answer_45 : decode prog_1_method_23_code 45 = .ok (.getfield 154, 3) := by decide +kernel
theorem d_RS_answer_48 : decode prog_1_method_23_code 48 = .ok (.invokevirtual 132, 3) := by decide +kernel
theorem d_RS_answer_51 : decode prog_1_method_23_code 51 = .ok (.putfield 253, 3) := by decide +kernel
theorem d_RS_answer_54 : decode prog_1_method_23_code 54 = .ok (.aload_n 1, 1) := by decide +kernel
theorem d_RS_answer_55 : decode prog_1_method_23_code 55 = .ok (.aload_n 0, 1) := by decide +kernel
theorem d_RS_answer_56 : decode prog_1_method_23_code 56 = .ok (.getfield 188, 3) := by decide +kernel
theorem d_RS_answer_59 : decode prog_1_method_23_code 59 = .ok (.putfield 256, 3) := by decide +kernel
theorem d_RS_answer_62 : decode prog_1_method_23_code 62 = .ok (.aload_n 0, 1) := by decide +kernel
theorem d_RS_answer_63 : decode prog_1_method_23_code 63 = .ok (.getfield 11, 3) := by decide +kernel
theorem d_RS_answer_66 : decode prog_1_method_23_code 66 = .ok (.aload_n 1, 1) := by decide +kernel
theorem d_RS_answer_67 : decode prog_1_method_23_code 67 = .ok (.getfield 228, 3) := by decide +kernel
theorem d_RS_answer_70 : decode prog_1_method_23_code 70 = .ok (.aaload, 1) := by decide +kernel
theorem d_RS_answer_71 : decode prog_1_method_23_code 71 = .ok (.getfield 110, 3) := by decide +kernel
theorem d_RS_answer_74 : decode prog_1_method_23_code 74 = .ok (.aload_n 3, 1) := by decide +kernel
theorem d_RS_answer_75 : decode prog_1_method_23_code 75 = .ok (.getfield 150, 3) := by decide +kernel
theorem d_RS_answer_78 : decode prog_1_method_23_code 78 = .ok (.getfield 154, 3) := by decide +kernel
theorem d_RS_answer_81 : decode prog_1_method_23_code 81 = .ok (.invokevirtual 113, 3) := by decide +kernel
theorem d_RS_answer_84 : decode prog_1_method_23_code 84 = .ok (.aload_n 0, 1) := by decide +kernel
theorem d_RS_answer_85 : decode prog_1_method_23_code 85 = .ok (.dup, 1) := by decide +kernel
theorem d_RS_answer_86 : decode prog_1_method_23_code 86 = .ok (.getfield 257, 3) := by decide +kernel
theorem d_RS_answer_89 : decode prog_1_method_23_code 89 = .ok (.iconst 1, 1) := by decide +kernel
theorem d_RS_answer_90 : decode prog_1_method_23_code 90 = .ok (.iadd, 1) := by decide +kernel
theorem d_RS_answer_91 : decode prog_1_method_23_code 91 = .ok (.putfield 257, 3) := by decide +kernel
theorem d_RS_answer_94 : decode prog_1_method_23_code 94 = .ok (.return_, 1) := by decide +kernel
set_option maxHeartbeats 4000000 in
set_option maxRecDepth 100000 in
theorem w_RS_answer_0 {res : (Unit ⊕ (Nat × Nat)) × xH} (C : x_C l s0 A0 D R_RS prog_1_method_23_code 4 [] p s m args meth c) (hr : meth.sig.returnType = none) (hnm : meth.name = "answer") (hRf : 2 ≤ R.frames) (hRl : 66 ≤ R.locals)  (l0 : Nat) (l1 : Nat) (l2 : Int32) (hp : f_RS_answer l0 l1 l2 h = some res) (hH : x_S s0 D R h H locs cells slots) (hl : lv_has ls 4 [(0, .ref l0), (1, .ref l1), (2, .int l2)]) : W p l e R s m args below meth c H locs cells slots (x_Q s0 D below s R (x_oc vU res.1) res.2) (F0 m 0 ls []) := by
  obtain ⟨hx, hb, hown, hts, hK, hml, hW, Z, -⟩ := id C
  unfold f_RS_answer at hp
  refine lv_aload_n hx hb d_RS_answer_0 rfl (lv_at hl 0 rfl) ?_
  refine x_gA C hH fl_RS_46 d_RS_answer_1 hp (fun v1 hp => ?_)
  refine lv_iload_n hx hb d_RS_answer_4 rfl (lv_at hl 2 rfl) ?_
  refine x_lA C hH (by decide) d_RS_answer_5 hp (fun v2 hp => ?_)
  refine lv_astore_n (lv' := [(3, .ref v2), (0, .ref l0), (1, .ref l1), (2, .int l2)]) hx hb d_RS_answer_6 rfl hl (by decide) rfl (fun ls hl => ?_)
  refine lv_aload_n hx hb d_RS_answer_7 rfl (lv_at hl 2 rfl) ?_
  refine lv_iconst (v := 1) hx hb d_RS_answer_8 (by decide) ?_
  refine x_pV C hH fp_RS_236 (fun h => Bool.noConfusion h) d_RS_answer_9 rfl rfl hp (fun h H locs hp hH => ?_)
  refine lv_aload_n hx hb d_RS_answer_12 rfl (lv_at hl 2 rfl) ?_
  refine lv_iload_n hx hb d_RS_answer_13 rfl (lv_at hl 3 rfl) ?_
  refine x_pV C hH fp_RS_238 (fun h => Bool.noConfusion h) d_RS_answer_14 rfl rfl hp (fun h H locs hp hH => ?_)
  refine lv_aload_n hx hb d_RS_answer_17 rfl (lv_at hl 2 rfl) ?_
  refine lv_aload_n hx hb d_RS_answer_18 rfl (lv_at hl 0 rfl) ?_
  refine x_gA C hH fl_RS_150 d_RS_answer_19 hp (fun v3 hp => ?_)
  refine lv_aload_n hx hb d_RS_answer_22 rfl (lv_at hl 2 rfl) ?_
  refine x_gI C hH fl_RS_241 d_RS_answer_23 hp (fun v4 hp => ?_)
  refine lv_aload_n hx hb d_RS_answer_26 rfl (lv_at hl 2 rfl) ?_
  refine x_gI C hH fl_RS_244 d_RS_answer_27 hp (fun v5 hp => ?_)
  refine lv_aload_n hx hb d_RS_answer_30 rfl (lv_at hl 1 rfl) ?_
  refine x_gI C hH fl_RS_31 d_RS_answer_31 hp (fun v6 hp => ?_)
  refine x_callV (As := [.int v4, .int v5, .int v6]) (rest := [.ref l1]) (cv := vJ) C hH kc_RS_247 d_RS_answer_34 hp (fun o h' e => m_St_answer Z e) rfl hl.1 (Nat.le_trans (Nat.le_of_ble_eq_true rfl) hRf) (Nat.le_trans (Nat.le_of_ble_eq_true rfl) hRl) (Nat.le_of_ble_eq_true rfl) (fun v7 h H locs cells slots hp hH => ?_)
  refine W.eq (g2 := F0 m 37 ls [.long v7, .ref l1]) rfl ?_
  refine x_pV C hH fp_RS_251 (fun h => Bool.noConfusion h) d_RS_answer_37 rfl rfl hp (fun h H locs hp hH => ?_)
  refine lv_aload_n hx hb d_RS_answer_40 rfl (lv_at hl 2 rfl) ?_
  refine lv_aload_n hx hb d_RS_answer_41 rfl (lv_at hl 0 rfl) ?_
  refine x_gA C hH fl_RS_150 d_RS_answer_42 hp (fun v8 hp => ?_)
  refine x_gA C hH fl_RS_154 d_RS_answer_45 hp (fun v9 hp => ?_)
  refine x_callV (As := []) (rest := [.ref l1]) (cv := vJ) C hH kc_RS_132 d_RS_answer_48 hp (fun o h' e => m_Vec_token Z e) rfl hl.1 (Nat.le_trans (Nat.le_of_ble_eq_true rfl) hRf) (Nat.le_trans (Nat.le_of_ble_eq_true rfl) hRl) (Nat.le_of_ble_eq_true rfl) (fun v10 h H locs cells slots hp hH => ?_)
  refine W.eq (g2 := F0 m 51 ls [.long v10, .ref l1]) rfl ?_
  refine x_pV C hH fp_RS_253 (fun h => Bool.noConfusion h) d_RS_answer_51 rfl rfl hp (fun h H locs hp hH => ?_)
  refine lv_aload_n hx hb d_RS_answer_54 rfl (lv_at hl 2 rfl) ?_
  refine lv_aload_n hx hb d_RS_answer_55 rfl (lv_at hl 1 rfl) ?_
  refine x_gJ C hH fl_RS_188 d_RS_answer_56 hp (fun v11 hp => ?_)
  refine x_pV C hH fp_RS_256 (fun h => Bool.noConfusion h) d_RS_answer_59 rfl rfl hp (fun h H locs hp hH => ?_)
  refine lv_aload_n hx hb d_RS_answer_62 rfl (lv_at hl 1 rfl) ?_
  refine x_gA C hH fl_RS_11 d_RS_answer_63 hp (fun v12 hp => ?_)
  refine lv_aload_n hx hb d_RS_answer_66 rfl (lv_at hl 2 rfl) ?_
  refine x_gI C hH fl_RS_228 d_RS_answer_67 hp (fun v13 hp => ?_)
  refine x_lA C hH (by decide) d_RS_answer_70 hp (fun v14 hp => ?_)
  refine x_gA C hH fl_RS_110 d_RS_answer_71 hp (fun v15 hp => ?_)
  refine lv_aload_n hx hb d_RS_answer_74 rfl (lv_at hl 0 rfl) ?_
  refine x_gA C hH fl_RS_150 d_RS_answer_75 hp (fun v16 hp => ?_)
  refine x_gA C hH fl_RS_154 d_RS_answer_78 hp (fun v17 hp => ?_)
  refine x_callV (As := [.ref v17]) (rest := []) (cv := vU) C hH kc_RS_113 d_RS_answer_81 hp (fun o h' e => m_Vec_rise Z e) rfl hl.1 (Nat.le_trans (Nat.le_of_ble_eq_true rfl) hRf) (Nat.le_trans (Nat.le_of_ble_eq_true rfl) hRl) (Nat.le_of_ble_eq_true rfl) (fun v18 h H locs cells slots hp hH => ?_)
  refine W.eq (g2 := F0 m 84 ls []) rfl ?_
  refine lv_aload_n hx hb d_RS_answer_84 rfl (lv_at hl 1 rfl) ?_
  refine lv_dup hx hb d_RS_answer_85 rfl ?_
  refine x_gI C hH fl_RS_257 d_RS_answer_86 hp (fun v19 hp => ?_)
  refine lv_iconst (v := 1) hx hb d_RS_answer_89 (by decide) ?_
  refine lv_iadd hx hb d_RS_answer_90 ?_
  refine x_pV C hH fp_RS_257 (fun h => Bool.noConfusion h) d_RS_answer_91 rfl rfl hp (fun h H locs hp hH => ?_)
  exact x_vret C hH hr d_RS_answer_94 hp
set_option maxRecDepth 100000 in
theorem m_RS_answer (Z : x_Z l s0 A0 D) {l0 : Nat} {l1 : Nat} {l2 : Int32} {res : (Unit ⊕ (Nat × Nat)) × xH} (hp : f_RS_answer l0 l1 l2 h = some res) : x_M l s0 D y_RS_answer (x_cw y_RS_answer prog_1_method_23_code 4 none []) 2 66 [.ref l0, .ref l1, .int l2] h (x_oc vU res.1) res.2 := by
  refine x_M.ofW Z (plainFor_of_name (by decide)) ?_
  intro p e s m below meth c C hnm hr hH
  have hl := lv_entry ([.ref l0, .ref l1, .int l2]) (n := 4) (Nat.le_of_ble_eq_true rfl)
  rw [lg_entry_eq]
  generalize (lg_sl ([.ref l0, .ref l1, .int l2]) ++ List.replicate (4 - (lg_sl ([.ref l0, .ref l1, .int l2])).length) Slot.unset).toArray = ls at hl ⊢
  exact w_RS_answer_0 C hr hnm (Nat.le_refl _) (Nat.le_refl _) l0 l1 l2 hp hH hl
/-! ReadSide.leave(I)V -/
theorem d_RS_leave_0 : decode prog_1_method_25_code 0 = .ok (.aload_n 0, 1) := by decide +kernel
theorem d_RS_leave_1 : decode prog_1_method_25_code 1 = .ok (.dup, 1) := by decide +kernel
theorem d_RS_leave_2 : decode prog_1_method_25_code 2 = .ok (.getfield 196, 3) := by decide +kernel
theorem d_RS_leave_5 : decode prog_1_method_25_code 5 = .ok (.iconst 1, 1) := by decide +kernel
theorem d_RS_leave_6 : decode prog_1_method_25_code 6 = .ok (.isub, 1) := by decide +kernel
theorem d_RS_leave_7 : decode prog_1_method_25_code 7 = .ok (.putfield 196, 3) := by decide +kernel
theorem d_RS_leave_10 : decode prog_1_method_25_code 10 = .ok (.iload_n 1, 1) := by decide +kernel
theorem d_RS_leave_11 : decode prog_1_method_25_code 11 = .ok (.istore_n 2, 1) := by decide +kernel
theorem d_RS_leave_12 : decode prog_1_method_25_code 12 = .ok (.iload_n 2, 1) := by decide +kernel
theorem d_RS_leave_13 : decode prog_1_method_25_code 13 = .ok (.aload_n 0, 1) := by decide +kernel
theorem d_RS_leave_14 : decode prog_1_method_25_code 14 = .ok (.getfield 196, 3) := by decide +kernel
theorem d_RS_leave_17 : decode prog_1_method_25_code 17 = .ok (.if_icmp .ge 23, 3) := by decide +kernel
theorem d_RS_leave_20 : decode prog_1_method_25_code 20 = .ok (.aload_n 0, 1) := by decide +kernel
theorem d_RS_leave_21 : decode prog_1_method_25_code 21 = .ok (.getfield 21, 3) := by decide +kernel
theorem d_RS_leave_24 : decode prog_1_method_25_code 24 = .ok (.iload_n 2, 1) := by decide +kernel
theorem d_RS_leave_25 : decode prog_1_method_25_code 25 = .ok (.aload_n 0, 1) := by decide +kernel
theorem d_RS_leave_26 : decode prog_1_method_25_code 26 = .ok (.getfield 21, 3) := by decide +kernel
theorem d_RS_leave_29 : decode prog_1_method_25_code 29 = .ok (.iload_n 2, 1) := by decide +kernel
theorem d_RS_leave_30 : decode prog_1_method_25_code 30 = .ok (.iconst 1, 1) := by decide +kernel
theorem d_RS_leave_31 : decode prog_1_method_25_code 31 = .ok (.iadd, 1) := by decide +kernel
theorem d_RS_leave_32 : decode prog_1_method_25_code 32 = .ok (.iaload, 1) := by decide +kernel
theorem d_RS_leave_33 : decode prog_1_method_25_code 33 = .ok (.iastore, 1) := by decide +kernel
theorem d_RS_leave_34 : decode prog_1_method_25_code 34 = .ok (.iinc 2 1, 3) := by decide +kernel
theorem d_RS_leave_37 : decode prog_1_method_25_code 37 = .ok (.goto (-25), 3) := by decide +kernel
theorem d_RS_leave_40 : decode prog_1_method_25_code 40 = .ok (.return_, 1) := by decide +kernel
set_option maxHeartbeats 4000000 in
set_option maxRecDepth 100000 in
theorem w_RS_leave_12 {res : (Unit ⊕ (Nat × Nat)) × xH} (C : x_C l s0 A0 D R_RS prog_1_method_25_code 3 [] p s m args meth c) (hr : meth.sig.returnType = none) (hnm : meth.name = "leave") (hRf : 0 ≤ R.frames) (hRl : 0 ≤ R.locals) {k12 : Nat → Int32 → xM Unit} (hs12 : ∀ (l0 : Nat) (l2 : Int32) (h : xH) (H : Heap) (locs : List Loc) (cells slots : Nat) (ls : Array Slot), k12 l0 l2 h = some res → x_S s0 D R h H locs cells slots → lv_has ls 3 [(0, .ref l0), (2, .int l2)] → W p l e R s m args below meth c H locs cells slots (x_Q s0 D below s R (x_oc vU res.1) res.2) (F0 m 12 ls [])) (l0 : Nat) (l2 : Int32) (hp : f_RS_leave_b12 k12 l0 l2 h = some res) (hH : x_S s0 D R h H locs cells slots) (hl : lv_has ls 3 [(0, .ref l0), (2, .int l2)]) : W p l e R s m args below meth c H locs cells slots (x_Q s0 D below s R (x_oc vU res.1) res.2) (F0 m 12 ls []) := by
  obtain ⟨hx, hb, hown, hts, hK, hml, hW, Z, -⟩ := id C
  unfold f_RS_leave_b12 at hp
  refine lv_iload_n hx hb d_RS_leave_12 rfl (lv_at hl 1 rfl) ?_
  refine lv_aload_n hx hb d_RS_leave_13 rfl (lv_at hl 0 rfl) ?_
  refine x_gI C hH fl_RS_196 d_RS_leave_14 hp (fun v1 hp => ?_)
  refine lv_icmp_ge (tgt := 40) hx hb d_RS_leave_17 (by decide) (fun hc => ?_) (fun hc => ?_)
  · replace hp := x_ifp hc hp
    exact x_vret C hH hr d_RS_leave_40 hp
  · replace hp := x_ifn hc hp
    refine lv_aload_n hx hb d_RS_leave_20 rfl (lv_at hl 0 rfl) ?_
    refine x_gA C hH fl_RS_21 d_RS_leave_21 hp (fun v2 hp => ?_)
    refine lv_iload_n hx hb d_RS_leave_24 rfl (lv_at hl 1 rfl) ?_
    refine lv_aload_n hx hb d_RS_leave_25 rfl (lv_at hl 0 rfl) ?_
    refine x_gA C hH fl_RS_21 d_RS_leave_26 hp (fun v3 hp => ?_)
    refine lv_iload_n hx hb d_RS_leave_29 rfl (lv_at hl 1 rfl) ?_
    refine lv_iconst (v := 1) hx hb d_RS_leave_30 (by decide) ?_
    refine lv_iadd hx hb d_RS_leave_31 ?_
    refine x_lI C hH d_RS_leave_32 hp (fun v4 hp => ?_)
    refine x_sI C hH d_RS_leave_33 hp (fun h H locs hp hH => ?_)
    refine lv_iinc (v := (l2 + 1)) (lv' := [(2, .int (l2 + 1)), (0, .ref l0)]) hx hb d_RS_leave_34 hl (k := 1) rfl rfl (by decide) rfl (fun ls hl => ?_)
    refine lv_goto (tgt := 12) hx hb d_RS_leave_37 (by decide) ?_
    exact hs12 l0 (l2 + 1) _ _ _ _ _ _ hp hH (lv_sub hl [1, 0] rfl)
theorem w_RS_leave_h12 {res : (Unit ⊕ (Nat × Nat)) × xH} (C : x_C l s0 A0 D R_RS prog_1_method_25_code 3 [] p s m args meth c) (hr : meth.sig.returnType = none) (hnm : meth.name = "leave") (hRf : 0 ≤ R.frames) (hRl : 0 ≤ R.locals)  : ∀ (n : Nat) (l0 : Nat) (l2 : Int32) (h : xH) (H : Heap) (locs : List Loc) (cells slots : Nat) (ls : Array Slot), f_RS_leave_h12 n l0 l2 h = some res → x_S s0 D R h H locs cells slots → lv_has ls 3 [(0, .ref l0), (2, .int l2)] → W p l e R s m args below meth c H locs cells slots (x_Q s0 D below s R (x_oc vU res.1) res.2) (F0 m 12 ls []) := by
  intro n
  induction n with
  | zero => intro l0 l2 h H locs cells slots ls hp hH hl; cases hp
  | succ n ih => intro l0 l2 h H locs cells slots ls hp hH hl; exact w_RS_leave_12 C hr hnm hRf hRl ih l0 l2 hp hH hl
set_option maxHeartbeats 4000000 in
set_option maxRecDepth 100000 in
theorem w_RS_leave_0 {res : (Unit ⊕ (Nat × Nat)) × xH} (C : x_C l s0 A0 D R_RS prog_1_method_25_code 3 [] p s m args meth c) (hr : meth.sig.returnType = none) (hnm : meth.name = "leave") (hRf : 0 ≤ R.frames) (hRl : 0 ≤ R.locals)  (l0 : Nat) (l1 : Int32) (hp : f_RS_leave l0 l1 h = some res) (hH : x_S s0 D R h H locs cells slots) (hl : lv_has ls 3 [(0, .ref l0), (1, .int l1)]) : W p l e R s m args below meth c H locs cells slots (x_Q s0 D below s R (x_oc vU res.1) res.2) (F0 m 0 ls []) := by
  obtain ⟨hx, hb, hown, hts, hK, hml, hW, Z, -⟩ := id C
  unfold f_RS_leave at hp
  refine lv_aload_n hx hb d_RS_leave_0 rfl (lv_at hl 0 rfl) ?_
  refine lv_dup hx hb d_RS_leave_1 rfl ?_
  refine x_gI C hH fl_RS_196 d_RS_leave_2 hp (fun v1 hp => ?_)
  refine lv_iconst (v := 1) hx hb d_RS_leave_5 (by decide) ?_
  refine lv_isub hx hb d_RS_leave_6 ?_
  refine x_pV C hH fp_RS_196 (fun h => Bool.noConfusion h) d_RS_leave_7 rfl rfl hp (fun h H locs hp hH => ?_)
  refine lv_iload_n hx hb d_RS_leave_10 rfl (lv_at hl 1 rfl) ?_
  refine lv_istore_n (lv' := [(2, .int l1), (0, .ref l0), (1, .int l1)]) hx hb d_RS_leave_11 rfl hl (by decide) rfl (fun ls hl => ?_)
  exact w_RS_leave_h12 C hr hnm hRf hRl  1000 l0 l1 _ _ _ _ _ _ hp hH (lv_sub hl [1, 0] rfl)
set_option maxRecDepth 100000 in
theorem m_RS_leave (Z : x_Z l s0 A0 D) {l0 : Nat} {l1 : Int32} {res : (Unit ⊕ (Nat × Nat)) × xH} (hp : f_RS_leave l0 l1 h = some res) : x_M l s0 D y_RS_leave (x_cw y_RS_leave prog_1_method_25_code 3 none []) 0 0 [.ref l0, .int l1] h (x_oc vU res.1) res.2 := by
  refine x_M.ofW Z (plainFor_of_name (by decide)) ?_
  intro p e s m below meth c C hnm hr hH
  have hl := lv_entry ([.ref l0, .int l1]) (n := 3) (Nat.le_of_ble_eq_true rfl)
  rw [lg_entry_eq]
  generalize (lg_sl ([.ref l0, .int l1]) ++ List.replicate (3 - (lg_sl ([.ref l0, .int l1])).length) Slot.unset).toArray = ls at hl ⊢
  exact w_RS_leave_0 C hr hnm (Nat.le_refl _) (Nat.le_refl _) l0 l1 hp hH hl
/-! ReadSide.look(LReadSide$Replica;)V -/
theorem d_RS_look_0 : decode prog_1_method_27_code 0 = .ok (.iconst 0, 1) := by decide +kernel
theorem d_RS_look_1 : decode prog_1_method_27_code 1 = .ok (.istore_n 2, 1) := by decide +kernel
theorem d_RS_look_2 : decode prog_1_method_27_code 2 = .ok (.iload_n 2, 1) := by decide +kernel
theorem d_RS_look_3 : decode prog_1_method_27_code 3 = .ok (.aload_n 0, 1) := by decide +kernel
theorem d_RS_look_4 : decode prog_1_method_27_code 4 = .ok (.getfield 196, 3) := by decide +kernel
theorem d_RS_look_7 : decode prog_1_method_27_code 7 = .ok (.if_icmp .ge 48, 3) := by decide +kernel
theorem d_RS_look_10 : decode prog_1_method_27_code 10 = .ok (.aload_n 0, 1) := by decide +kernel
theorem d_RS_look_11 : decode prog_1_method_27_code 11 = .ok (.getfield 17, 3) := by decide +kernel
theorem d_RS_look_14 : decode prog_1_method_27_code 14 = .ok (.aload_n 0, 1) := by decide +kernel
theorem d_RS_look_15 : decode prog_1_method_27_code 15 = .ok (.getfield 21, 3) := by decide +kernel
theorem d_RS_look_18 : decode prog_1_method_27_code 18 = .ok (.iload_n 2, 1) := by decide +kernel
theorem d_RS_look_19 : decode prog_1_method_27_code 19 = .ok (.iaload, 1) := by decide +kernel
theorem d_RS_look_20 : decode prog_1_method_27_code 20 = .ok (.aaload, 1) := by decide +kernel
theorem d_RS_look_21 : decode prog_1_method_27_code 21 = .ok (.astore_n 3, 1) := by decide +kernel
theorem d_RS_look_22 : decode prog_1_method_27_code 22 = .ok (.aload_n 0, 1) := by decide +kernel
theorem d_RS_look_23 : decode prog_1_method_27_code 23 = .ok (.aload_n 1, 1) := by decide +kernel
theorem d_RS_look_24 : decode prog_1_method_27_code 24 = .ok (.aload_n 3, 1) := by decide +kernel
theorem d_RS_look_25 : decode prog_1_method_27_code 25 = .ok (.invokevirtual 263, 3) := by decide +kernel
theorem d_RS_look_28 : decode prog_1_method_27_code 28 = .ok (.ifCond .eq 21, 3) := by decide +kernel
theorem d_RS_look_31 : decode prog_1_method_27_code 31 = .ok (.aload_n 0, 1) := by decide +kernel
theorem d_RS_look_32 : decode prog_1_method_27_code 32 = .ok (.aload_n 3, 1) := by decide +kernel
theorem d_RS_look_33 : decode prog_1_method_27_code 33 = .ok (.aload_n 0, 1) := by decide +kernel
theorem d_RS_look_34 : decode prog_1_method_27_code 34 = .ok (.aload_n 1, 1) := by decide +kernel
theorem d_RS_look_35 : decode prog_1_method_27_code 35 = .ok (.invokevirtual 267, 3) := by decide +kernel
theorem d_RS_look_38 : decode prog_1_method_27_code 38 = .ok (.invokevirtual 270, 3) := by decide +kernel
theorem d_RS_look_41 : decode prog_1_method_27_code 41 = .ok (.aload_n 0, 1) := by decide +kernel
theorem d_RS_look_42 : decode prog_1_method_27_code 42 = .ok (.iload_n 2, 1) := by decide +kernel
theorem d_RS_look_43 : decode prog_1_method_27_code 43 = .ok (.invokevirtual 206, 3) := by decide +kernel
theorem d_RS_look_46 : decode prog_1_method_27_code 46 = .ok (.goto 6, 3) := by decide +kernel
theorem d_RS_look_49 : decode prog_1_method_27_code 49 = .ok (.iinc 2 1, 3) := by decide +kernel
theorem d_RS_look_52 : decode prog_1_method_27_code 52 = .ok (.goto (-50), 3) := by decide +kernel
theorem d_RS_look_55 : decode prog_1_method_27_code 55 = .ok (.return_, 1) := by decide +kernel
set_option maxHeartbeats 4000000 in
set_option maxRecDepth 100000 in
theorem w_RS_look_52 {res : (Unit ⊕ (Nat × Nat)) × xH} (C : x_C l s0 A0 D R_RS prog_1_method_27_code 4 [] p s m args meth c) (hr : meth.sig.returnType = none) (hnm : meth.name = "look") (hRf : 3 ≤ R.frames) (hRl : 97 ≤ R.locals) {k2 : Nat → Nat → Int32 → xM Unit} (hs2 : ∀ (l0 : Nat) (l1 : Nat) (l2 : Int32) (h : xH) (H : Heap) (locs : List Loc) (cells slots : Nat) (ls : Array Slot), k2 l0 l1 l2 h = some res → x_S s0 D R h H locs cells slots → lv_has ls 4 [(0, .ref l0), (1, .ref l1), (2, .int l2)] → W p l e R s m args below meth c H locs cells slots (x_Q s0 D below s R (x_oc vU res.1) res.2) (F0 m 2 ls [])) (l0 : Nat) (l1 : Nat) (l2 : Int32) (hp : f_RS_look_b52 k2 l0 l1 l2 h = some res) (hH : x_S s0 D R h H locs cells slots) (hl : lv_has ls 4 [(0, .ref l0), (1, .ref l1), (2, .int l2)]) : W p l e R s m args below meth c H locs cells slots (x_Q s0 D below s R (x_oc vU res.1) res.2) (F0 m 52 ls []) := by
  obtain ⟨hx, hb, hown, hts, hK, hml, hW, Z, -⟩ := id C
  unfold f_RS_look_b52 at hp
  refine lv_goto (tgt := 2) hx hb d_RS_look_52 (by decide) ?_
  exact hs2 l0 l1 l2 _ _ _ _ _ _ hp hH (lv_sub hl [0, 1, 2] rfl)
set_option maxHeartbeats 4000000 in
set_option maxRecDepth 100000 in
theorem w_RS_look_2 {res : (Unit ⊕ (Nat × Nat)) × xH} (C : x_C l s0 A0 D R_RS prog_1_method_27_code 4 [] p s m args meth c) (hr : meth.sig.returnType = none) (hnm : meth.name = "look") (hRf : 3 ≤ R.frames) (hRl : 97 ≤ R.locals) {k2 : Nat → Nat → Int32 → xM Unit} (hs2 : ∀ (l0 : Nat) (l1 : Nat) (l2 : Int32) (h : xH) (H : Heap) (locs : List Loc) (cells slots : Nat) (ls : Array Slot), k2 l0 l1 l2 h = some res → x_S s0 D R h H locs cells slots → lv_has ls 4 [(0, .ref l0), (1, .ref l1), (2, .int l2)] → W p l e R s m args below meth c H locs cells slots (x_Q s0 D below s R (x_oc vU res.1) res.2) (F0 m 2 ls [])) (l0 : Nat) (l1 : Nat) (l2 : Int32) (hp : f_RS_look_b2 k2 l0 l1 l2 h = some res) (hH : x_S s0 D R h H locs cells slots) (hl : lv_has ls 4 [(0, .ref l0), (1, .ref l1), (2, .int l2)]) : W p l e R s m args below meth c H locs cells slots (x_Q s0 D below s R (x_oc vU res.1) res.2) (F0 m 2 ls []) := by
  obtain ⟨hx, hb, hown, hts, hK, hml, hW, Z, -⟩ := id C
  unfold f_RS_look_b2 at hp
  refine lv_iload_n hx hb d_RS_look_2 rfl (lv_at hl 2 rfl) ?_
  refine lv_aload_n hx hb d_RS_look_3 rfl (lv_at hl 0 rfl) ?_
  refine x_gI C hH fl_RS_196 d_RS_look_4 hp (fun v1 hp => ?_)
  refine lv_icmp_ge (tgt := 55) hx hb d_RS_look_7 (by decide) (fun hc => ?_) (fun hc => ?_)
  · replace hp := x_ifp hc hp
    exact x_vret C hH hr d_RS_look_55 hp
  · replace hp := x_ifn hc hp
    refine lv_aload_n hx hb d_RS_look_10 rfl (lv_at hl 0 rfl) ?_
    refine x_gA C hH fl_RS_17 d_RS_look_11 hp (fun v2 hp => ?_)
    refine lv_aload_n hx hb d_RS_look_14 rfl (lv_at hl 0 rfl) ?_
    refine x_gA C hH fl_RS_21 d_RS_look_15 hp (fun v3 hp => ?_)
    refine lv_iload_n hx hb d_RS_look_18 rfl (lv_at hl 2 rfl) ?_
    refine x_lI C hH d_RS_look_19 hp (fun v4 hp => ?_)
    refine x_lA C hH (by decide) d_RS_look_20 hp (fun v5 hp => ?_)
    refine lv_astore_n (lv' := [(3, .ref v5), (0, .ref l0), (1, .ref l1), (2, .int l2)]) hx hb d_RS_look_21 rfl hl (by decide) rfl (fun ls hl => ?_)
    refine lv_aload_n hx hb d_RS_look_22 rfl (lv_at hl 1 rfl) ?_
    refine lv_aload_n hx hb d_RS_look_23 rfl (lv_at hl 2 rfl) ?_
    refine lv_aload_n hx hb d_RS_look_24 rfl (lv_at hl 0 rfl) ?_
    refine x_callV (As := [.ref l1, .ref v5]) (rest := []) (cv := vI) C hH kc_RS_263 d_RS_look_25 hp (fun o h' e => m_RS_may Z e) rfl hl.1 (Nat.le_trans (Nat.le_of_ble_eq_true rfl) hRf) (Nat.le_trans (Nat.le_of_ble_eq_true rfl) hRl) (Nat.le_of_ble_eq_true rfl) (fun v6 h H locs cells slots hp hH => ?_)
    refine W.eq (g2 := F0 m 28 ls [.int v6]) rfl ?_
    refine lv_if_eq (tgt := 49) hx hb d_RS_look_28 (by decide) (fun hc => ?_) (fun hc => ?_)
    · replace hp := x_ifp hc hp
      refine lv_iinc (v := (l2 + 1)) (lv' := [(2, .int (l2 + 1)), (3, .ref v5), (0, .ref l0), (1, .ref l1)]) hx hb d_RS_look_49 hl (k := 3) rfl rfl (by decide) rfl (fun ls hl => ?_)
      exact w_RS_look_52 C hr hnm hRf hRl hs2 l0 l1 (l2 + 1) hp hH (lv_sub hl [2, 3, 0] rfl)
    · replace hp := x_ifn hc hp
      refine lv_aload_n hx hb d_RS_look_31 rfl (lv_at hl 1 rfl) ?_
      refine lv_aload_n hx hb d_RS_look_32 rfl (lv_at hl 0 rfl) ?_
      refine lv_aload_n hx hb d_RS_look_33 rfl (lv_at hl 1 rfl) ?_
      refine lv_aload_n hx hb d_RS_look_34 rfl (lv_at hl 2 rfl) ?_
      refine x_callV (As := [.ref l1]) (rest := [.ref v5, .ref l0]) (cv := vI) C hH kc_RS_267 d_RS_look_35 hp (fun o h' e => m_RS_numberOf Z e) rfl hl.1 (Nat.le_trans (Nat.le_of_ble_eq_true rfl) hRf) (Nat.le_trans (Nat.le_of_ble_eq_true rfl) hRl) (Nat.le_of_ble_eq_true rfl) (fun v7 h H locs cells slots hp hH => ?_)
      refine W.eq (g2 := F0 m 38 ls [.int v7, .ref v5, .ref l0]) rfl ?_
      refine x_callV (As := [.ref v5, .int v7]) (rest := []) (cv := vU) C hH kc_RS_270 d_RS_look_38 hp (fun o h' e => m_RS_answer Z e) rfl hl.1 (Nat.le_trans (Nat.le_of_ble_eq_true rfl) hRf) (Nat.le_trans (Nat.le_of_ble_eq_true rfl) hRl) (Nat.le_of_ble_eq_true rfl) (fun v8 h H locs cells slots hp hH => ?_)
      refine W.eq (g2 := F0 m 41 ls []) rfl ?_
      refine lv_aload_n hx hb d_RS_look_41 rfl (lv_at hl 1 rfl) ?_
      refine lv_iload_n hx hb d_RS_look_42 rfl (lv_at hl 3 rfl) ?_
      refine x_callV (As := [.int l2]) (rest := []) (cv := vU) C hH kc_RS_206 d_RS_look_43 hp (fun o h' e => m_RS_leave Z e) rfl hl.1 (Nat.le_trans (Nat.le_of_ble_eq_true rfl) hRf) (Nat.le_trans (Nat.le_of_ble_eq_true rfl) hRl) (Nat.le_of_ble_eq_true rfl) (fun v9 h H locs cells slots hp hH => ?_)
      refine W.eq (g2 := F0 m 46 ls []) rfl ?_
      refine lv_goto (tgt := 52) hx hb d_RS_look_46 (by decide) ?_
      exact w_RS_look_52 C hr hnm hRf hRl hs2 l0 l1 l2 hp hH (lv_sub hl [1, 2, 3] rfl)
theorem w_RS_look_h2 {res : (Unit ⊕ (Nat × Nat)) × xH} (C : x_C l s0 A0 D R_RS prog_1_method_27_code 4 [] p s m args meth c) (hr : meth.sig.returnType = none) (hnm : meth.name = "look") (hRf : 3 ≤ R.frames) (hRl : 97 ≤ R.locals)  : ∀ (n : Nat) (l0 : Nat) (l1 : Nat) (l2 : Int32) (h : xH) (H : Heap) (locs : List Loc) (cells slots : Nat) (ls : Array Slot), f_RS_look_h2 n l0 l1 l2 h = some res → x_S s0 D R h H locs cells slots → lv_has ls 4 [(0, .ref l0), (1, .ref l1), (2, .int l2)] → W p l e R s m args below meth c H locs cells slots (x_Q s0 D below s R (x_oc vU res.1) res.2) (F0 m 2 ls []) := by
  intro n
  induction n with
  | zero => intro l0 l1 l2 h H locs cells slots ls hp hH hl; cases hp
  | succ n ih => intro l0 l1 l2 h H locs cells slots ls hp hH hl; exact w_RS_look_2 C hr hnm hRf hRl ih l0 l1 l2 hp hH hl
set_option maxHeartbeats 4000000 in
set_option maxRecDepth 100000 in
theorem w_RS_look_0 {res : (Unit ⊕ (Nat × Nat)) × xH} (C : x_C l s0 A0 D R_RS prog_1_method_27_code 4 [] p s m args meth c) (hr : meth.sig.returnType = none) (hnm : meth.name = "look") (hRf : 3 ≤ R.frames) (hRl : 97 ≤ R.locals)  (l0 : Nat) (l1 : Nat) (hp : f_RS_look l0 l1 h = some res) (hH : x_S s0 D R h H locs cells slots) (hl : lv_has ls 4 [(0, .ref l0), (1, .ref l1)]) : W p l e R s m args below meth c H locs cells slots (x_Q s0 D below s R (x_oc vU res.1) res.2) (F0 m 0 ls []) := by
  obtain ⟨hx, hb, hown, hts, hK, hml, hW, Z, -⟩ := id C
  unfold f_RS_look at hp
  refine lv_iconst (v := 0) hx hb d_RS_look_0 (by decide) ?_
  refine lv_istore_n (lv' := [(2, .int 0), (0, .ref l0), (1, .ref l1)]) hx hb d_RS_look_1 rfl hl (by decide) rfl (fun ls hl => ?_)
  exact w_RS_look_h2 C hr hnm hRf hRl  1000 l0 l1 0 _ _ _ _ _ _ hp hH (lv_sub hl [1, 2, 0] rfl)
set_option maxRecDepth 100000 in
theorem m_RS_look (Z : x_Z l s0 A0 D) {l0 : Nat} {l1 : Nat} {res : (Unit ⊕ (Nat × Nat)) × xH} (hp : f_RS_look l0 l1 h = some res) : x_M l s0 D y_RS_look (x_cw y_RS_look prog_1_method_27_code 4 none []) 3 97 [.ref l0, .ref l1] h (x_oc vU res.1) res.2 := by
  refine x_M.ofW Z (plainFor_of_name (by decide)) ?_
  intro p e s m below meth c C hnm hr hH
  have hl := lv_entry ([.ref l0, .ref l1]) (n := 4) (Nat.le_of_ble_eq_true rfl)
  rw [lg_entry_eq]
  generalize (lg_sl ([.ref l0, .ref l1]) ++ List.replicate (4 - (lg_sl ([.ref l0, .ref l1])).length) Slot.unset).toArray = ls at hl ⊢
  exact w_RS_look_0 C hr hnm (Nat.le_refl _) (Nat.le_refl _) l0 l1 hp hH hl
/-! ReadSide.index(II)I -/
theorem d_RS_index_0 : decode prog_1_method_3_code 0 = .ok (.iload_n 0, 1) := by decide +kernel
theorem d_RS_index_1 : decode prog_1_method_3_code 1 = .ok (.ifCond .lt 8, 3) := by decide +kernel
theorem d_RS_index_4 : decode prog_1_method_3_code 4 = .ok (.iload_n 0, 1) := by decide +kernel
theorem d_RS_index_5 : decode prog_1_method_3_code 5 = .ok (.iload_n 1, 1) := by decide +kernel
theorem d_RS_index_6 : decode prog_1_method_3_code 6 = .ok (.if_icmp .lt 11, 3) := by decide +kernel
theorem d_RS_index_9 : decode prog_1_method_3_code 9 = .ok (.new 52, 3) := by decide +kernel
theorem d_RS_index_12 : decode prog_1_method_3_code 12 = .ok (.dup, 1) := by decide +kernel
theorem d_RS_index_13 : decode prog_1_method_3_code 13 = .ok (.invokespecial 54, 3) := by decide +kernel
theorem d_RS_index_16 : decode prog_1_method_3_code 16 = .ok (.athrow, 1) := by decide +kernel
theorem d_RS_index_17 : decode prog_1_method_3_code 17 = .ok (.iload_n 0, 1) := by decide +kernel
theorem d_RS_index_18 : decode prog_1_method_3_code 18 = .ok (.ireturn, 1) := by decide +kernel
set_option maxHeartbeats 4000000 in
set_option maxRecDepth 100000 in
theorem w_RS_index_9 {res : (Int32 ⊕ (Nat × Nat)) × xH} (C : x_C l s0 A0 D R_RS prog_1_method_3_code 2 [] p s m args meth c) (hr : meth.sig.returnType = (some .int)) (hnm : meth.name = "index") (hRf : 6 ≤ R.frames) (hRl : 100 ≤ R.locals)   (hp : f_RS_index_b9 h = some res) (hH : x_S s0 D R h s.heap [] 0 0) (hl : lv_has ls 2 []) : W p l e R s m args below meth c s.heap [] 0 0 (x_Q s0 D below s R (x_oc vI res.1) res.2) (F0 m 9 ls []) := by
  obtain ⟨hx, hb, hown, hts, hK, hml, hW, Z, -⟩ := id C
  unfold f_RS_index_b9 at hp
  exact x_thr C hH tw_RS_52 d_RS_index_9 d_RS_index_12 d_RS_index_13 d_RS_index_16 hl.1 (Nat.le_trans (Nat.le_of_ble_eq_true rfl) hRf) (Nat.le_trans (Nat.le_of_ble_eq_true rfl) hRl) (Nat.le_of_ble_eq_true rfl) hp
set_option maxHeartbeats 4000000 in
set_option maxRecDepth 100000 in
theorem w_RS_index_0 {res : (Int32 ⊕ (Nat × Nat)) × xH} (C : x_C l s0 A0 D R_RS prog_1_method_3_code 2 [] p s m args meth c) (hr : meth.sig.returnType = (some .int)) (hnm : meth.name = "index") (hRf : 6 ≤ R.frames) (hRl : 100 ≤ R.locals)  (l0 : Int32) (l1 : Int32) (hp : f_RS_index l0 l1 h = some res) (hH : x_S s0 D R h s.heap [] 0 0) (hl : lv_has ls 2 [(0, .int l0), (1, .int l1)]) : W p l e R s m args below meth c s.heap [] 0 0 (x_Q s0 D below s R (x_oc vI res.1) res.2) (F0 m 0 ls []) := by
  obtain ⟨hx, hb, hown, hts, hK, hml, hW, Z, -⟩ := id C
  unfold f_RS_index at hp
  refine lv_iload_n hx hb d_RS_index_0 rfl (lv_at hl 0 rfl) ?_
  refine lv_if_lt (tgt := 9) hx hb d_RS_index_1 (by decide) (fun hc => ?_) (fun hc => ?_)
  · replace hp := x_ifp hc hp
    exact w_RS_index_9 C hr hnm hRf hRl   hp hH (lv_sub hl [] rfl)
  · replace hp := x_ifn hc hp
    refine lv_iload_n hx hb d_RS_index_4 rfl (lv_at hl 0 rfl) ?_
    refine lv_iload_n hx hb d_RS_index_5 rfl (lv_at hl 1 rfl) ?_
    refine lv_icmp_lt (tgt := 17) hx hb d_RS_index_6 (by decide) (fun hc => ?_) (fun hc => ?_)
    · replace hp := x_ifp hc hp
      refine lv_iload_n hx hb d_RS_index_17 rfl (lv_at hl 0 rfl) ?_
      exact x_iret C hH hr d_RS_index_18 hp
    · replace hp := x_ifn hc hp
      exact w_RS_index_9 C hr hnm hRf hRl   hp hH (lv_sub hl [] rfl)
set_option maxRecDepth 100000 in
theorem m_RS_index (Z : x_Z l s0 A0 D) {l0 : Int32} {l1 : Int32} {res : (Int32 ⊕ (Nat × Nat)) × xH} (hp : f_RS_index l0 l1 h = some res) : x_M l s0 D y_RS_index (x_cw y_RS_index prog_1_method_3_code 2 (some .int) []) 6 100 [.int l0, .int l1] h (x_oc vI res.1) res.2 := by
  refine x_M.ofW Z (plainFor_of_name (by decide)) ?_
  intro p e s m below meth c C hnm hr hH
  have hl := lv_entry ([.int l0, .int l1]) (n := 2) (Nat.le_of_ble_eq_true rfl)
  rw [lg_entry_eq]
  generalize (lg_sl ([.int l0, .int l1]) ++ List.replicate (2 - (lg_sl ([.int l0, .int l1])).length) Slot.unset).toArray = ls at hl ⊢
  exact w_RS_index_0 C hr hnm (Nat.le_refl _) (Nat.le_refl _) l0 l1 hp hH hl
/-! ReadSide.sessionAt(I)LReadSide$Session; -/
theorem d_RS_sessionAt_0 : decode prog_1_method_7_code 0 = .ok (.aload_n 0, 1) := by decide +kernel
theorem d_RS_sessionAt_1 : decode prog_1_method_7_code 1 = .ok (.getfield 11, 3) := by decide +kernel
theorem d_RS_sessionAt_4 : decode prog_1_method_7_code 4 = .ok (.iload_n 1, 1) := by decide +kernel
theorem d_RS_sessionAt_5 : decode prog_1_method_7_code 5 = .ok (.bipush 8, 2) := by decide +kernel
theorem d_RS_sessionAt_7 : decode prog_1_method_7_code 7 = .ok (.invokestatic 61, 3) := by decide +kernel
theorem d_RS_sessionAt_10 : decode prog_1_method_7_code 10 = .ok (.aaload, 1) := by decide +kernel
theorem d_RS_sessionAt_11 : decode prog_1_method_7_code 11 = .ok (.areturn, 1) := by decide +kernel
set_option maxHeartbeats 4000000 in
set_option maxRecDepth 100000 in
theorem w_RS_sessionAt_0 {res : (Nat ⊕ (Nat × Nat)) × xH} (C : x_C l s0 A0 D R_RS prog_1_method_7_code 2 [] p s m args meth c) (hr : meth.sig.returnType = (some (.object "ReadSide$Session"))) (hnm : meth.name = "sessionAt") (hRf : 7 ≤ R.frames) (hRl : 129 ≤ R.locals)  (l0 : Nat) (l1 : Int32) (hp : f_RS_sessionAt l0 l1 h = some res) (hH : x_S s0 D R h H locs cells slots) (hl : lv_has ls 2 [(0, .ref l0), (1, .int l1)]) : W p l e R s m args below meth c H locs cells slots (x_Q s0 D below s R (x_oc vA res.1) res.2) (F0 m 0 ls []) := by
  obtain ⟨hx, hb, hown, hts, hK, hml, hW, Z, -⟩ := id C
  unfold f_RS_sessionAt at hp
  refine lv_aload_n hx hb d_RS_sessionAt_0 rfl (lv_at hl 0 rfl) ?_
  refine x_gA C hH fl_RS_11 d_RS_sessionAt_1 hp (fun v1 hp => ?_)
  refine lv_iload_n hx hb d_RS_sessionAt_4 rfl (lv_at hl 1 rfl) ?_
  refine lv_bipush (v := 8) hx hb d_RS_sessionAt_5 (by decide) ?_
  refine x_callS (As := [.int l1, .int 8]) (rest := [.ref v1]) (cv := vI) C hH kc_RS_61 d_RS_sessionAt_7 hp (fun o h' e => m_RS_index Z e) rfl hl.1 (Nat.le_trans (Nat.le_of_ble_eq_true rfl) hRf) (Nat.le_trans (Nat.le_of_ble_eq_true rfl) hRl) (Nat.le_of_ble_eq_true rfl) (fun v2 h H locs cells slots hp hH => ?_)
  refine W.eq (g2 := F0 m 10 ls [.int v2, .ref v1]) rfl ?_
  refine x_lA C hH (by decide) d_RS_sessionAt_10 hp (fun v3 hp => ?_)
  exact x_aret C hH hr ⟨_, rfl⟩ d_RS_sessionAt_11 hp
set_option maxRecDepth 100000 in
theorem m_RS_sessionAt (Z : x_Z l s0 A0 D) {l0 : Nat} {l1 : Int32} {res : (Nat ⊕ (Nat × Nat)) × xH} (hp : f_RS_sessionAt l0 l1 h = some res) : x_M l s0 D y_RS_sessionAt (x_cw y_RS_sessionAt prog_1_method_7_code 2 (some (.object "ReadSide$Session")) []) 7 129 [.ref l0, .int l1] h (x_oc vA res.1) res.2 := by
  refine x_M.ofW Z (plainFor_of_name (by decide)) ?_
  intro p e s m below meth c C hnm hr hH
  have hl := lv_entry ([.ref l0, .int l1]) (n := 2) (Nat.le_of_ble_eq_true rfl)
  rw [lg_entry_eq]
  generalize (lg_sl ([.ref l0, .int l1]) ++ List.replicate (2 - (lg_sl ([.ref l0, .int l1])).length) Slot.unset).toArray = ls at hl ⊢
  exact w_RS_sessionAt_0 C hr hnm (Nat.le_refl _) (Nat.le_refl _) l0 l1 hp hH hl
/-! ReadSide.want(Z)V -/
theorem d_RS_want_0 : decode prog_1_method_4_code 0 = .ok (.iload_n 0, 1) := by decide +kernel
theorem d_RS_want_1 : decode prog_1_method_4_code 1 = .ok (.ifCond .ne 11, 3) := by decide +kernel
theorem d_RS_want_4 : decode prog_1_method_4_code 4 = .ok (.new 55, 3) := by decide +kernel
theorem d_RS_want_7 : decode prog_1_method_4_code 7 = .ok (.dup, 1) := by decide +kernel
theorem d_RS_want_8 : decode prog_1_method_4_code 8 = .ok (.invokespecial 57, 3) := by decide +kernel
theorem d_RS_want_11 : decode prog_1_method_4_code 11 = .ok (.athrow, 1) := by decide +kernel
theorem d_RS_want_12 : decode prog_1_method_4_code 12 = .ok (.return_, 1) := by decide +kernel
set_option maxHeartbeats 4000000 in
set_option maxRecDepth 100000 in
theorem w_RS_want_0 {res : (Unit ⊕ (Nat × Nat)) × xH} (C : x_C l s0 A0 D R_RS prog_1_method_4_code 1 [] p s m args meth c) (hr : meth.sig.returnType = none) (hnm : meth.name = "want") (hRf : 6 ≤ R.frames) (hRl : 100 ≤ R.locals)  (l0 : Int32) (hp : f_RS_want l0 h = some res) (hH : x_S s0 D R h s.heap [] 0 0) (hl : lv_has ls 1 [(0, .int l0)]) : W p l e R s m args below meth c s.heap [] 0 0 (x_Q s0 D below s R (x_oc vU res.1) res.2) (F0 m 0 ls []) := by
  obtain ⟨hx, hb, hown, hts, hK, hml, hW, Z, -⟩ := id C
  unfold f_RS_want at hp
  refine lv_iload_n hx hb d_RS_want_0 rfl (lv_at hl 0 rfl) ?_
  refine lv_if_ne (tgt := 12) hx hb d_RS_want_1 (by decide) (fun hc => ?_) (fun hc => ?_)
  · replace hp := x_ifn hc hp
    exact x_vret C hH hr d_RS_want_12 hp
  · replace hp := x_ifp hc hp
    exact x_thr C hH tw_RS_55 d_RS_want_4 d_RS_want_7 d_RS_want_8 d_RS_want_11 hl.1 (Nat.le_trans (Nat.le_of_ble_eq_true rfl) hRf) (Nat.le_trans (Nat.le_of_ble_eq_true rfl) hRl) (Nat.le_of_ble_eq_true rfl) hp
set_option maxRecDepth 100000 in
theorem m_RS_want (Z : x_Z l s0 A0 D) {l0 : Int32} {res : (Unit ⊕ (Nat × Nat)) × xH} (hp : f_RS_want l0 h = some res) : x_M l s0 D y_RS_want (x_cw y_RS_want prog_1_method_4_code 1 none []) 6 100 [.int l0] h (x_oc vU res.1) res.2 := by
  refine x_M.ofW Z (plainFor_of_name (by decide)) ?_
  intro p e s m below meth c C hnm hr hH
  have hl := lv_entry ([.int l0]) (n := 1) (Nat.le_of_ble_eq_true rfl)
  rw [lg_entry_eq]
  generalize (lg_sl ([.int l0]) ++ List.replicate (1 - (lg_sl ([.int l0])).length) Slot.unset).toArray = ls at hl ⊢
  exact w_RS_want_0 C hr hnm (Nat.le_refl _) (Nat.le_refl _) l0 hp hH hl
/-! ReadSide.mode(II)I -/
theorem d_RS_mode_0 : decode prog_1_method_8_code 0 = .ok (.aload_n 0, 1) := by decide +kernel
theorem d_RS_mode_1 : decode prog_1_method_8_code 1 = .ok (.iload_n 1, 1) := by decide +kernel
theorem d_RS_mode_2 : decode prog_1_method_8_code 2 = .ok (.invokevirtual 65, 3) := by decide +kernel
theorem d_RS_mode_5 : decode prog_1_method_8_code 5 = .ok (.astore_n 3, 1) := by decide +kernel
theorem d_RS_mode_6 : decode prog_1_method_8_code 6 = .ok (.iload_n 2, 1) := by decide +kernel
theorem d_RS_mode_7 : decode prog_1_method_8_code 7 = .ok (.i2l, 1) := by decide +kernel
theorem d_RS_mode_8 : decode prog_1_method_8_code 8 = .ok (.lconst 0, 1) := by decide +kernel
theorem d_RS_mode_9 : decode prog_1_method_8_code 9 = .ok (.ldc2_w 69, 3) := by decide +kernel
theorem d_RS_mode_12 : decode prog_1_method_8_code 12 = .ok (.invokestatic 27, 3) := by decide +kernel
theorem d_RS_mode_15 : decode prog_1_method_8_code 15 = .ok (.invokestatic 71, 3) := by decide +kernel
theorem d_RS_mode_18 : decode prog_1_method_8_code 18 = .ok (.aload_n 3, 1) := by decide +kernel
theorem d_RS_mode_19 : decode prog_1_method_8_code 19 = .ok (.getfield 75, 3) := by decide +kernel
theorem d_RS_mode_22 : decode prog_1_method_8_code 22 = .ok (.istore 4, 2) := by decide +kernel
theorem d_RS_mode_24 : decode prog_1_method_8_code 24 = .ok (.aload_n 3, 1) := by decide +kernel
theorem d_RS_mode_25 : decode prog_1_method_8_code 25 = .ok (.iload_n 2, 1) := by decide +kernel
theorem d_RS_mode_26 : decode prog_1_method_8_code 26 = .ok (.putfield 75, 3) := by decide +kernel
theorem d_RS_mode_29 : decode prog_1_method_8_code 29 = .ok (.aload_n 0, 1) := by decide +kernel
theorem d_RS_mode_30 : decode prog_1_method_8_code 30 = .ok (.getfield 46, 3) := by decide +kernel
theorem d_RS_mode_33 : decode prog_1_method_8_code 33 = .ok (.astore 5, 2) := by decide +kernel
theorem d_RS_mode_35 : decode prog_1_method_8_code 35 = .ok (.aload 5, 2) := by decide +kernel
theorem d_RS_mode_37 : decode prog_1_method_8_code 37 = .ok (.arraylength, 1) := by decide +kernel
theorem d_RS_mode_38 : decode prog_1_method_8_code 38 = .ok (.istore 6, 2) := by decide +kernel
theorem d_RS_mode_40 : decode prog_1_method_8_code 40 = .ok (.iconst 0, 1) := by decide +kernel
theorem d_RS_mode_41 : decode prog_1_method_8_code 41 = .ok (.istore 7, 2) := by decide +kernel
theorem d_RS_mode_43 : decode prog_1_method_8_code 43 = .ok (.iload 7, 2) := by decide +kernel
theorem d_RS_mode_45 : decode prog_1_method_8_code 45 = .ok (.iload 6, 2) := by decide +kernel
theorem d_RS_mode_47 : decode prog_1_method_8_code 47 = .ok (.if_icmp .ge 22, 3) := by decide +kernel
theorem d_RS_mode_50 : decode prog_1_method_8_code 50 = .ok (.aload 5, 2) := by decide +kernel
theorem d_RS_mode_52 : decode prog_1_method_8_code 52 = .ok (.iload 7, 2) := by decide +kernel
theorem d_RS_mode_54 : decode prog_1_method_8_code 54 = .ok (.aaload, 1) := by decide +kernel
theorem d_RS_mode_55 : decode prog_1_method_8_code 55 = .ok (.astore 8, 2) := by decide +kernel
theorem d_RS_mode_57 : decode prog_1_method_8_code 57 = .ok (.aload_n 0, 1) := by decide +kernel
theorem d_RS_mode_58 : decode prog_1_method_8_code 58 = .ok (.aload 8, 2) := by decide +kernel
theorem d_RS_mode_60 : decode prog_1_method_8_code 60 = .ok (.invokevirtual 78, 3) := by decide +kernel
theorem d_RS_mode_63 : decode prog_1_method_8_code 63 = .ok (.iinc 7 1, 3) := by decide +kernel
theorem d_RS_mode_66 : decode prog_1_method_8_code 66 = .ok (.goto (-23), 3) := by decide +kernel
theorem d_RS_mode_69 : decode prog_1_method_8_code 69 = .ok (.iload 4, 2) := by decide +kernel
theorem d_RS_mode_71 : decode prog_1_method_8_code 71 = .ok (.ireturn, 1) := by decide +kernel
set_option maxHeartbeats 4000000 in
set_option maxRecDepth 100000 in
theorem w_RS_mode_43 {res : (Int32 ⊕ (Nat × Nat)) × xH} (C : x_C l s0 A0 D R_RS prog_1_method_8_code 9 [] p s m args meth c) (hr : meth.sig.returnType = (some .int)) (hnm : meth.name = "mode") (hRf : 8 ≤ R.frames) (hRl : 158 ≤ R.locals) {k43 : Nat → Int32 → Nat → Int32 → Int32 → xM Int32} (hs43 : ∀ (l0 : Nat) (l4 : Int32) (l5 : Nat) (l6 : Int32) (l7 : Int32) (h : xH) (H : Heap) (locs : List Loc) (cells slots : Nat) (ls : Array Slot), k43 l0 l4 l5 l6 l7 h = some res → x_S s0 D R h H locs cells slots → lv_has ls 9 [(0, .ref l0), (4, .int l4), (5, .ref l5), (6, .int l6), (7, .int l7)] → W p l e R s m args below meth c H locs cells slots (x_Q s0 D below s R (x_oc vI res.1) res.2) (F0 m 43 ls [])) (l0 : Nat) (l4 : Int32) (l5 : Nat) (l6 : Int32) (l7 : Int32) (hp : f_RS_mode_b43 k43 l0 l4 l5 l6 l7 h = some res) (hH : x_S s0 D R h H locs cells slots) (hl : lv_has ls 9 [(0, .ref l0), (4, .int l4), (5, .ref l5), (6, .int l6), (7, .int l7)]) : W p l e R s m args below meth c H locs cells slots (x_Q s0 D below s R (x_oc vI res.1) res.2) (F0 m 43 ls []) := by
  obtain ⟨hx, hb, hown, hts, hK, hml, hW, Z, -⟩ := id C
  unfold f_RS_mode_b43 at hp
  refine lv_iload hx hb d_RS_mode_43 (lv_at hl 4 rfl) ?_
  refine lv_iload hx hb d_RS_mode_45 (lv_at hl 3 rfl) ?_
  refine lv_icmp_ge (tgt := 69) hx hb d_RS_mode_47 (by decide) (fun hc => ?_) (fun hc => ?_)
  · replace hp := x_ifp hc hp
    refine lv_iload hx hb d_RS_mode_69 (lv_at hl 1 rfl) ?_
    exact x_iret C hH hr d_RS_mode_71 hp
  · replace hp := x_ifn hc hp
    refine lv_aload hx hb d_RS_mode_50 (lv_at hl 2 rfl) ?_
    refine lv_iload hx hb d_RS_mode_52 (lv_at hl 4 rfl) ?_
    refine x_lA C hH (by decide) d_RS_mode_54 hp (fun v1 hp => ?_)
    refine lv_astore (lv' := [(8, .ref v1), (0, .ref l0), (4, .int l4), (5, .ref l5), (6, .int l6), (7, .int l7)]) hx hb d_RS_mode_55 hl (by decide) rfl (fun ls hl => ?_)
    refine lv_aload_n hx hb d_RS_mode_57 rfl (lv_at hl 1 rfl) ?_
    refine lv_aload hx hb d_RS_mode_58 (lv_at hl 0 rfl) ?_
    refine x_callV (As := [.ref v1]) (rest := []) (cv := vU) C hH kc_RS_78 d_RS_mode_60 hp (fun o h' e => m_RS_look Z e) rfl hl.1 (Nat.le_trans (Nat.le_of_ble_eq_true rfl) hRf) (Nat.le_trans (Nat.le_of_ble_eq_true rfl) hRl) (Nat.le_of_ble_eq_true rfl) (fun v2 h H locs cells slots hp hH => ?_)
    refine W.eq (g2 := F0 m 63 ls []) rfl ?_
    refine lv_iinc (v := (l7 + 1)) (lv' := [(7, .int (l7 + 1)), (8, .ref v1), (0, .ref l0), (4, .int l4), (5, .ref l5), (6, .int l6)]) hx hb d_RS_mode_63 hl (k := 5) rfl rfl (by decide) rfl (fun ls hl => ?_)
    refine lv_goto (tgt := 43) hx hb d_RS_mode_66 (by decide) ?_
    exact hs43 l0 l4 l5 l6 (l7 + 1) _ _ _ _ _ _ hp hH (lv_sub hl [2, 3, 4, 5, 0] rfl)
theorem w_RS_mode_h43 {res : (Int32 ⊕ (Nat × Nat)) × xH} (C : x_C l s0 A0 D R_RS prog_1_method_8_code 9 [] p s m args meth c) (hr : meth.sig.returnType = (some .int)) (hnm : meth.name = "mode") (hRf : 8 ≤ R.frames) (hRl : 158 ≤ R.locals)  : ∀ (n : Nat) (l0 : Nat) (l4 : Int32) (l5 : Nat) (l6 : Int32) (l7 : Int32) (h : xH) (H : Heap) (locs : List Loc) (cells slots : Nat) (ls : Array Slot), f_RS_mode_h43 n l0 l4 l5 l6 l7 h = some res → x_S s0 D R h H locs cells slots → lv_has ls 9 [(0, .ref l0), (4, .int l4), (5, .ref l5), (6, .int l6), (7, .int l7)] → W p l e R s m args below meth c H locs cells slots (x_Q s0 D below s R (x_oc vI res.1) res.2) (F0 m 43 ls []) := by
  intro n
  induction n with
  | zero => intro l0 l4 l5 l6 l7 h H locs cells slots ls hp hH hl; cases hp
  | succ n ih => intro l0 l4 l5 l6 l7 h H locs cells slots ls hp hH hl; exact w_RS_mode_43 C hr hnm hRf hRl ih l0 l4 l5 l6 l7 hp hH hl
set_option maxHeartbeats 4000000 in
set_option maxRecDepth 100000 in
theorem w_RS_mode_0 {res : (Int32 ⊕ (Nat × Nat)) × xH} (C : x_C l s0 A0 D R_RS prog_1_method_8_code 9 [] p s m args meth c) (hr : meth.sig.returnType = (some .int)) (hnm : meth.name = "mode") (hRf : 8 ≤ R.frames) (hRl : 158 ≤ R.locals)  (l0 : Nat) (l1 : Int32) (l2 : Int32) (hp : f_RS_mode l0 l1 l2 h = some res) (hH : x_S s0 D R h H locs cells slots) (hl : lv_has ls 9 [(0, .ref l0), (1, .int l1), (2, .int l2)]) : W p l e R s m args below meth c H locs cells slots (x_Q s0 D below s R (x_oc vI res.1) res.2) (F0 m 0 ls []) := by
  obtain ⟨hx, hb, hown, hts, hK, hml, hW, Z, -⟩ := id C
  unfold f_RS_mode at hp
  refine lv_aload_n hx hb d_RS_mode_0 rfl (lv_at hl 0 rfl) ?_
  refine lv_iload_n hx hb d_RS_mode_1 rfl (lv_at hl 1 rfl) ?_
  refine x_callV (As := [.int l1]) (rest := []) (cv := vA) C hH kc_RS_65 d_RS_mode_2 hp (fun o h' e => m_RS_sessionAt Z e) rfl hl.1 (Nat.le_trans (Nat.le_of_ble_eq_true rfl) hRf) (Nat.le_trans (Nat.le_of_ble_eq_true rfl) hRl) (Nat.le_of_ble_eq_true rfl) (fun v1 h H locs cells slots hp hH => ?_)
  refine W.eq (g2 := F0 m 5 ls [.ref v1]) rfl ?_
  refine lv_astore_n (lv' := [(3, .ref v1), (0, .ref l0), (1, .int l1), (2, .int l2)]) hx hb d_RS_mode_5 rfl hl (by decide) rfl (fun ls hl => ?_)
  refine lv_iload_n hx hb d_RS_mode_6 rfl (lv_at hl 3 rfl) ?_
  refine lv_i2l (v := l2.toInt64) hx hb d_RS_mode_7 rfl ?_
  refine lv_lconst (v := 0) hx hb d_RS_mode_8 (by decide) ?_
  refine lv_ldc2 hx hb hown (hts _ k_326) d_RS_mode_9 ?_
  refine x_callS (As := [.long l2.toInt64, .long 0, .long 15]) (rest := []) (cv := vI) C hH kc_RS_27 d_RS_mode_12 hp (fun o h' e => m_RS_isIn Z e) rfl hl.1 (Nat.le_trans (Nat.le_of_ble_eq_true rfl) hRf) (Nat.le_trans (Nat.le_of_ble_eq_true rfl) hRl) (Nat.le_of_ble_eq_true rfl) (fun v2 h H locs cells slots hp hH => ?_)
  refine W.eq (g2 := F0 m 15 ls [.int v2]) rfl ?_
  refine x_callS (As := [.int v2]) (rest := []) (cv := vU) C hH kc_RS_71 d_RS_mode_15 hp (fun o h' e => m_RS_want Z e) rfl hl.1 (Nat.le_trans (Nat.le_of_ble_eq_true rfl) hRf) (Nat.le_trans (Nat.le_of_ble_eq_true rfl) hRl) (Nat.le_of_ble_eq_true rfl) (fun v3 h H locs cells slots hp hH => ?_)
  refine W.eq (g2 := F0 m 18 ls []) rfl ?_
  refine lv_aload_n hx hb d_RS_mode_18 rfl (lv_at hl 0 rfl) ?_
  refine x_gI C hH fl_RS_75 d_RS_mode_19 hp (fun v4 hp => ?_)
  refine lv_istore (lv' := [(4, .int v4), (3, .ref v1), (0, .ref l0), (1, .int l1), (2, .int l2)]) hx hb d_RS_mode_22 hl (by decide) rfl (fun ls hl => ?_)
  refine lv_aload_n hx hb d_RS_mode_24 rfl (lv_at hl 1 rfl) ?_
  refine lv_iload_n hx hb d_RS_mode_25 rfl (lv_at hl 4 rfl) ?_
  refine x_pV C hH fp_RS_75 (fun h => Bool.noConfusion h) d_RS_mode_26 rfl rfl hp (fun h H locs hp hH => ?_)
  refine lv_aload_n hx hb d_RS_mode_29 rfl (lv_at hl 2 rfl) ?_
  refine x_gA C hH fl_RS_46 d_RS_mode_30 hp (fun v5 hp => ?_)
  refine lv_astore (lv' := [(5, .ref v5), (4, .int v4), (3, .ref v1), (0, .ref l0), (1, .int l1), (2, .int l2)]) hx hb d_RS_mode_33 hl (by decide) rfl (fun ls hl => ?_)
  refine lv_aload hx hb d_RS_mode_35 (lv_at hl 0 rfl) ?_
  refine x_aL C hH d_RS_mode_37 hp (fun v6 hp => ?_)
  refine lv_istore (lv' := [(6, .int v6), (5, .ref v5), (4, .int v4), (3, .ref v1), (0, .ref l0), (1, .int l1), (2, .int l2)]) hx hb d_RS_mode_38 hl (by decide) rfl (fun ls hl => ?_)
  refine lv_iconst (v := 0) hx hb d_RS_mode_40 (by decide) ?_
  refine lv_istore (lv' := [(7, .int 0), (6, .int v6), (5, .ref v5), (4, .int v4), (3, .ref v1), (0, .ref l0), (1, .int l1), (2, .int l2)]) hx hb d_RS_mode_41 hl (by decide) rfl (fun ls hl => ?_)
  exact w_RS_mode_h43 C hr hnm hRf hRl  1000 l0 v4 v5 v6 0 _ _ _ _ _ _ hp hH (lv_sub hl [5, 3, 2, 1, 0] rfl)
set_option maxRecDepth 100000 in
theorem m_RS_mode (Z : x_Z l s0 A0 D) {l0 : Nat} {l1 : Int32} {l2 : Int32} {res : (Int32 ⊕ (Nat × Nat)) × xH} (hp : f_RS_mode l0 l1 l2 h = some res) : x_M l s0 D y_RS_mode (x_cw y_RS_mode prog_1_method_8_code 9 (some .int) []) 8 158 [.ref l0, .int l1, .int l2] h (x_oc vI res.1) res.2 := by
  refine x_M.ofW Z (plainFor_of_name (by decide)) ?_
  intro p e s m below meth c C hnm hr hH
  have hl := lv_entry ([.ref l0, .int l1, .int l2]) (n := 9) (Nat.le_of_ble_eq_true rfl)
  rw [lg_entry_eq]
  generalize (lg_sl ([.ref l0, .int l1, .int l2]) ++ List.replicate (9 - (lg_sl ([.ref l0, .int l1, .int l2])).length) Slot.unset).toArray = ls at hl ⊢
  exact w_RS_mode_0 C hr hnm (Nat.le_refl _) (Nat.le_refl _) l0 l1 l2 hp hH hl
/-! ReadSideLaw.mode(LReadSide;II[J)I -/
theorem d_law_mode_0 : decode method_3_code 0 = .ok (.aload_n 3, 1) := by decide +kernel
theorem d_law_mode_1 : decode method_3_code 1 = .ok (.iconst 0, 1) := by decide +kernel
theorem d_law_mode_2 : decode method_3_code 2 = .ok (.aload_n 0, 1) := by decide +kernel
theorem d_law_mode_3 : decode method_3_code 3 = .ok (.iload_n 1, 1) := by decide +kernel
theorem d_law_mode_4 : decode method_3_code 4 = .ok (.iload_n 2, 1) := by decide +kernel
theorem d_law_mode_5 : decode method_3_code 5 = .ok (.invokevirtual 7, 3) := by decide +kernel
theorem d_law_mode_8 : decode method_3_code 8 = .ok (.i2l, 1) := by decide +kernel
theorem d_law_mode_9 : decode method_3_code 9 = .ok (.lastore, 1) := by decide +kernel
theorem d_law_mode_10 : decode method_3_code 10 = .ok (.goto 11, 3) := by decide +kernel
theorem d_law_mode_13 : decode method_3_code 13 = .ok (.astore 4, 2) := by decide +kernel
theorem d_law_mode_15 : decode method_3_code 15 = .ok (.iconst 1, 1) := by decide +kernel
theorem d_law_mode_16 : decode method_3_code 16 = .ok (.ireturn, 1) := by decide +kernel
theorem d_law_mode_17 : decode method_3_code 17 = .ok (.astore 4, 2) := by decide +kernel
theorem d_law_mode_19 : decode method_3_code 19 = .ok (.iconst 2, 1) := by decide +kernel
theorem d_law_mode_20 : decode method_3_code 20 = .ok (.ireturn, 1) := by decide +kernel
theorem d_law_mode_21 : decode method_3_code 21 = .ok (.iconst 0, 1) := by decide +kernel
theorem d_law_mode_22 : decode method_3_code 22 = .ok (.ireturn, 1) := by decide +kernel
set_option maxHeartbeats 4000000 in
set_option maxRecDepth 100000 in
theorem w_law_mode_0 {res : (Int32 ⊕ (Nat × Nat)) × xH} (C : x_C l s0 A0 D R_law method_3_code 5 [(0, 10, 13, 13), (0, 10, 17, 15)] p s m args meth c) (hr : meth.sig.returnType = (some .int)) (hnm : meth.name = "mode") (hRf : 9 ≤ R.frames) (hRl : 194 ≤ R.locals)  (l0 : Nat) (l1 : Int32) (l2 : Int32) (l3 : Nat) (hp : f_law_mode l0 l1 l2 l3 h = some res) (hH : x_S s0 D R h H locs cells slots) (hl : lv_has ls 5 [(0, .ref l0), (1, .int l1), (2, .int l2), (3, .ref l3)]) : W p l e R s m args below meth c H locs cells slots (x_Q s0 D below s R (x_oc vI res.1) res.2) (F0 m 0 ls []) := by
  obtain ⟨hx, hb, hown, hts, hK, hml, hW, Z, -⟩ := id C
  unfold f_law_mode at hp
  refine lv_aload_n hx hb d_law_mode_0 rfl (lv_at hl 3 rfl) ?_
  refine lv_iconst (v := 0) hx hb d_law_mode_1 (by decide) ?_
  refine lv_aload_n hx hb d_law_mode_2 rfl (lv_at hl 0 rfl) ?_
  refine lv_iload_n hx hb d_law_mode_3 rfl (lv_at hl 1 rfl) ?_
  refine lv_iload_n hx hb d_law_mode_4 rfl (lv_at hl 2 rfl) ?_
  refine x_callVc (As := [.int l1, .int l2]) (rest := [.int 0, .ref l3]) (cv := vI) C ct_law hH kc_law_7 d_law_mode_5 hp (fun o h' e => m_RS_mode Z e) rfl hl.1 (Nat.le_trans (Nat.le_of_ble_eq_true rfl) hRf) (Nat.le_trans (Nat.le_of_ble_eq_true rfl) hRl) (Nat.le_of_ble_eq_true rfl) (fun v1 h H locs cells slots hp hH => ?_) (fun a ci h H locs cells slots hp hH => ?_)
  · refine W.eq (g2 := F0 m 8 ls [.int v1, .int 0, .ref l3]) rfl ?_
    refine lv_i2l (v := v1.toInt64) hx hb d_law_mode_8 rfl ?_
    refine x_sJ C hH d_law_mode_9 hp (fun h H locs hp hH => ?_)
    refine lv_goto (tgt := 21) hx hb d_law_mode_10 (by decide) ?_
    refine lv_iconst (v := 0) hx hb d_law_mode_21 (by decide) ?_
    exact x_iret C hH hr d_law_mode_22 hp
  · by_cases hc10 : ci = 10
    · replace hp := x_ifp hc10 hp
      subst hc10
      refine ⟨13, rfl, ?_⟩
      refine lv_astore (lv' := [(4, .ref a), (0, .ref l0), (1, .int l1), (2, .int l2), (3, .ref l3)]) hx hb d_law_mode_13 hl (by decide) rfl (fun ls hl => ?_)
      refine lv_iconst (v := 1) hx hb d_law_mode_15 (by decide) ?_
      exact x_iret C hH hr d_law_mode_16 hp
    replace hp := x_ifn hc10 hp
    by_cases hc11 : ci = 11
    · replace hp := x_ifp hc11 hp
      subst hc11
      refine ⟨17, rfl, ?_⟩
      refine lv_astore (lv' := [(4, .ref a), (0, .ref l0), (1, .int l1), (2, .int l2), (3, .ref l3)]) hx hb d_law_mode_17 hl (by decide) rfl (fun ls hl => ?_)
      refine lv_iconst (v := 2) hx hb d_law_mode_19 (by decide) ?_
      exact x_iret C hH hr d_law_mode_20 hp
    replace hp := x_ifn hc11 hp
    cases hp
set_option maxRecDepth 100000 in
theorem m_law_mode (Z : x_Z l s0 A0 D) {l0 : Nat} {l1 : Int32} {l2 : Int32} {l3 : Nat} {res : (Int32 ⊕ (Nat × Nat)) × xH} (hp : f_law_mode l0 l1 l2 l3 h = some res) : x_M l s0 D y_law_mode (x_cw y_law_mode method_3_code 5 (some .int) [(0, 10, 13, 13), (0, 10, 17, 15)]) 9 194 [.ref l0, .int l1, .int l2, .ref l3] h (x_oc vI res.1) res.2 := by
  refine x_M.ofW Z (plainFor_of_name (by decide)) ?_
  intro p e s m below meth c C hnm hr hH
  have hl := lv_entry ([.ref l0, .int l1, .int l2, .ref l3]) (n := 5) (Nat.le_of_ble_eq_true rfl)
  rw [lg_entry_eq]
  generalize (lg_sl ([.ref l0, .int l1, .int l2, .ref l3]) ++ List.replicate (5 - (lg_sl ([.ref l0, .int l1, .int l2, .ref l3])).length) Slot.unset).toArray = ls at hl ⊢
  exact w_law_mode_0 C hr hnm (Nat.le_refl _) (Nat.le_refl _) l0 l1 l2 l3 hp hH hl
/-! ReadSide.replicaAt(I)LReadSide$Replica; -/
theorem d_RS_replicaAt_0 : decode prog_1_method_6_code 0 = .ok (.aload_n 0, 1) := by decide +kernel
theorem d_RS_replicaAt_1 : decode prog_1_method_6_code 1 = .ok (.getfield 46, 3) := by decide +kernel
theorem d_RS_replicaAt_4 : decode prog_1_method_6_code 4 = .ok (.iload_n 1, 1) := by decide +kernel
theorem d_RS_replicaAt_5 : decode prog_1_method_6_code 5 = .ok (.aload_n 0, 1) := by decide +kernel
theorem d_RS_replicaAt_6 : decode prog_1_method_6_code 6 = .ok (.getfield 46, 3) := by decide +kernel
theorem d_RS_replicaAt_9 : decode prog_1_method_6_code 9 = .ok (.arraylength, 1) := by decide +kernel
theorem d_RS_replicaAt_10 : decode prog_1_method_6_code 10 = .ok (.invokestatic 61, 3) := by decide +kernel
theorem d_RS_replicaAt_13 : decode prog_1_method_6_code 13 = .ok (.aaload, 1) := by decide +kernel
theorem d_RS_replicaAt_14 : decode prog_1_method_6_code 14 = .ok (.areturn, 1) := by decide +kernel
set_option maxHeartbeats 4000000 in
set_option maxRecDepth 100000 in
theorem w_RS_replicaAt_0 {res : (Nat ⊕ (Nat × Nat)) × xH} (C : x_C l s0 A0 D R_RS prog_1_method_6_code 2 [] p s m args meth c) (hr : meth.sig.returnType = (some (.object "ReadSide$Replica"))) (hnm : meth.name = "replicaAt") (hRf : 7 ≤ R.frames) (hRl : 129 ≤ R.locals)  (l0 : Nat) (l1 : Int32) (hp : f_RS_replicaAt l0 l1 h = some res) (hH : x_S s0 D R h H locs cells slots) (hl : lv_has ls 2 [(0, .ref l0), (1, .int l1)]) : W p l e R s m args below meth c H locs cells slots (x_Q s0 D below s R (x_oc vA res.1) res.2) (F0 m 0 ls []) := by
  obtain ⟨hx, hb, hown, hts, hK, hml, hW, Z, -⟩ := id C
  unfold f_RS_replicaAt at hp
  refine lv_aload_n hx hb d_RS_replicaAt_0 rfl (lv_at hl 0 rfl) ?_
  refine x_gA C hH fl_RS_46 d_RS_replicaAt_1 hp (fun v1 hp => ?_)
  refine lv_iload_n hx hb d_RS_replicaAt_4 rfl (lv_at hl 1 rfl) ?_
  refine lv_aload_n hx hb d_RS_replicaAt_5 rfl (lv_at hl 0 rfl) ?_
  refine x_gA C hH fl_RS_46 d_RS_replicaAt_6 hp (fun v2 hp => ?_)
  refine x_aL C hH d_RS_replicaAt_9 hp (fun v3 hp => ?_)
  refine x_callS (As := [.int l1, .int v3]) (rest := [.ref v1]) (cv := vI) C hH kc_RS_61 d_RS_replicaAt_10 hp (fun o h' e => m_RS_index Z e) rfl hl.1 (Nat.le_trans (Nat.le_of_ble_eq_true rfl) hRf) (Nat.le_trans (Nat.le_of_ble_eq_true rfl) hRl) (Nat.le_of_ble_eq_true rfl) (fun v4 h H locs cells slots hp hH => ?_)
  refine W.eq (g2 := F0 m 13 ls [.int v4, .ref v1]) rfl ?_
  refine x_lA C hH (by decide) d_RS_replicaAt_13 hp (fun v5 hp => ?_)
  exact x_aret C hH hr ⟨_, rfl⟩ d_RS_replicaAt_14 hp
set_option maxRecDepth 100000 in
theorem m_RS_replicaAt (Z : x_Z l s0 A0 D) {l0 : Nat} {l1 : Int32} {res : (Nat ⊕ (Nat × Nat)) × xH} (hp : f_RS_replicaAt l0 l1 h = some res) : x_M l s0 D y_RS_replicaAt (x_cw y_RS_replicaAt prog_1_method_6_code 2 (some (.object "ReadSide$Replica")) []) 7 129 [.ref l0, .int l1] h (x_oc vA res.1) res.2 := by
  refine x_M.ofW Z (plainFor_of_name (by decide)) ?_
  intro p e s m below meth c C hnm hr hH
  have hl := lv_entry ([.ref l0, .int l1]) (n := 2) (Nat.le_of_ble_eq_true rfl)
  rw [lg_entry_eq]
  generalize (lg_sl ([.ref l0, .int l1]) ++ List.replicate (2 - (lg_sl ([.ref l0, .int l1])).length) Slot.unset).toArray = ls at hl ⊢
  exact w_RS_replicaAt_0 C hr hnm (Nat.le_refl _) (Nat.le_refl _) l0 l1 hp hH hl
/-! ReadSide.home(II)I -/
theorem d_RS_home_0 : decode prog_1_method_9_code 0 = .ok (.aload_n 0, 1) := by decide +kernel
theorem d_RS_home_1 : decode prog_1_method_9_code 1 = .ok (.iload_n 1, 1) := by decide +kernel
theorem d_RS_home_2 : decode prog_1_method_9_code 2 = .ok (.invokevirtual 65, 3) := by decide +kernel
theorem d_RS_home_5 : decode prog_1_method_9_code 5 = .ok (.astore_n 3, 1) := by decide +kernel
theorem d_RS_home_6 : decode prog_1_method_9_code 6 = .ok (.aload_n 0, 1) := by decide +kernel
theorem d_RS_home_7 : decode prog_1_method_9_code 7 = .ok (.iload_n 2, 1) := by decide +kernel
theorem d_RS_home_8 : decode prog_1_method_9_code 8 = .ok (.invokevirtual 82, 3) := by decide +kernel
theorem d_RS_home_11 : decode prog_1_method_9_code 11 = .ok (.pop, 1) := by decide +kernel
theorem d_RS_home_12 : decode prog_1_method_9_code 12 = .ok (.aload_n 3, 1) := by decide +kernel
theorem d_RS_home_13 : decode prog_1_method_9_code 13 = .ok (.getfield 86, 3) := by decide +kernel
theorem d_RS_home_16 : decode prog_1_method_9_code 16 = .ok (.istore 4, 2) := by decide +kernel
theorem d_RS_home_18 : decode prog_1_method_9_code 18 = .ok (.aload_n 3, 1) := by decide +kernel
theorem d_RS_home_19 : decode prog_1_method_9_code 19 = .ok (.iload_n 2, 1) := by decide +kernel
theorem d_RS_home_20 : decode prog_1_method_9_code 20 = .ok (.putfield 86, 3) := by decide +kernel
theorem d_RS_home_23 : decode prog_1_method_9_code 23 = .ok (.iload 4, 2) := by decide +kernel
theorem d_RS_home_25 : decode prog_1_method_9_code 25 = .ok (.ireturn, 1) := by decide +kernel
set_option maxHeartbeats 4000000 in
set_option maxRecDepth 100000 in
theorem w_RS_home_0 {res : (Int32 ⊕ (Nat × Nat)) × xH} (C : x_C l s0 A0 D R_RS prog_1_method_9_code 5 [] p s m args meth c) (hr : meth.sig.returnType = (some .int)) (hnm : meth.name = "home") (hRf : 8 ≤ R.frames) (hRl : 158 ≤ R.locals)  (l0 : Nat) (l1 : Int32) (l2 : Int32) (hp : f_RS_home l0 l1 l2 h = some res) (hH : x_S s0 D R h H locs cells slots) (hl : lv_has ls 5 [(0, .ref l0), (1, .int l1), (2, .int l2)]) : W p l e R s m args below meth c H locs cells slots (x_Q s0 D below s R (x_oc vI res.1) res.2) (F0 m 0 ls []) := by
  obtain ⟨hx, hb, hown, hts, hK, hml, hW, Z, -⟩ := id C
  unfold f_RS_home at hp
  refine lv_aload_n hx hb d_RS_home_0 rfl (lv_at hl 0 rfl) ?_
  refine lv_iload_n hx hb d_RS_home_1 rfl (lv_at hl 1 rfl) ?_
  refine x_callV (As := [.int l1]) (rest := []) (cv := vA) C hH kc_RS_65 d_RS_home_2 hp (fun o h' e => m_RS_sessionAt Z e) rfl hl.1 (Nat.le_trans (Nat.le_of_ble_eq_true rfl) hRf) (Nat.le_trans (Nat.le_of_ble_eq_true rfl) hRl) (Nat.le_of_ble_eq_true rfl) (fun v1 h H locs cells slots hp hH => ?_)
  refine W.eq (g2 := F0 m 5 ls [.ref v1]) rfl ?_
  refine lv_astore_n (lv' := [(3, .ref v1), (0, .ref l0), (1, .int l1), (2, .int l2)]) hx hb d_RS_home_5 rfl hl (by decide) rfl (fun ls hl => ?_)
  refine lv_aload_n hx hb d_RS_home_6 rfl (lv_at hl 1 rfl) ?_
  refine lv_iload_n hx hb d_RS_home_7 rfl (lv_at hl 3 rfl) ?_
  refine x_callV (As := [.int l2]) (rest := []) (cv := vA) C hH kc_RS_82 d_RS_home_8 hp (fun o h' e => m_RS_replicaAt Z e) rfl hl.1 (Nat.le_trans (Nat.le_of_ble_eq_true rfl) hRf) (Nat.le_trans (Nat.le_of_ble_eq_true rfl) hRl) (Nat.le_of_ble_eq_true rfl) (fun v2 h H locs cells slots hp hH => ?_)
  refine W.eq (g2 := F0 m 11 ls [.ref v2]) rfl ?_
  refine lv_pop hx hb d_RS_home_11 rfl ?_
  refine lv_aload_n hx hb d_RS_home_12 rfl (lv_at hl 0 rfl) ?_
  refine x_gI C hH fl_RS_86 d_RS_home_13 hp (fun v3 hp => ?_)
  refine lv_istore (lv' := [(4, .int v3), (3, .ref v1), (0, .ref l0), (1, .int l1), (2, .int l2)]) hx hb d_RS_home_16 hl (by decide) rfl (fun ls hl => ?_)
  refine lv_aload_n hx hb d_RS_home_18 rfl (lv_at hl 1 rfl) ?_
  refine lv_iload_n hx hb d_RS_home_19 rfl (lv_at hl 4 rfl) ?_
  refine x_pV C hH fp_RS_86 (fun h => Bool.noConfusion h) d_RS_home_20 rfl rfl hp (fun h H locs hp hH => ?_)
  refine lv_iload hx hb d_RS_home_23 (lv_at hl 0 rfl) ?_
  exact x_iret C hH hr d_RS_home_25 hp
set_option maxRecDepth 100000 in
theorem m_RS_home (Z : x_Z l s0 A0 D) {l0 : Nat} {l1 : Int32} {l2 : Int32} {res : (Int32 ⊕ (Nat × Nat)) × xH} (hp : f_RS_home l0 l1 l2 h = some res) : x_M l s0 D y_RS_home (x_cw y_RS_home prog_1_method_9_code 5 (some .int) []) 8 158 [.ref l0, .int l1, .int l2] h (x_oc vI res.1) res.2 := by
  refine x_M.ofW Z (plainFor_of_name (by decide)) ?_
  intro p e s m below meth c C hnm hr hH
  have hl := lv_entry ([.ref l0, .int l1, .int l2]) (n := 5) (Nat.le_of_ble_eq_true rfl)
  rw [lg_entry_eq]
  generalize (lg_sl ([.ref l0, .int l1, .int l2]) ++ List.replicate (5 - (lg_sl ([.ref l0, .int l1, .int l2])).length) Slot.unset).toArray = ls at hl ⊢
  exact w_RS_home_0 C hr hnm (Nat.le_refl _) (Nat.le_refl _) l0 l1 l2 hp hH hl
/-! ReadSideLaw.home(LReadSide;II[J)I -/
theorem d_law_home_0 : decode method_4_code 0 = .ok (.aload_n 3, 1) := by decide +kernel
theorem d_law_home_1 : decode method_4_code 1 = .ok (.iconst 0, 1) := by decide +kernel
theorem d_law_home_2 : decode method_4_code 2 = .ok (.aload_n 0, 1) := by decide +kernel
theorem d_law_home_3 : decode method_4_code 3 = .ok (.iload_n 1, 1) := by decide +kernel
theorem d_law_home_4 : decode method_4_code 4 = .ok (.iload_n 2, 1) := by decide +kernel
theorem d_law_home_5 : decode method_4_code 5 = .ok (.invokevirtual 17, 3) := by decide +kernel
theorem d_law_home_8 : decode method_4_code 8 = .ok (.i2l, 1) := by decide +kernel
theorem d_law_home_9 : decode method_4_code 9 = .ok (.lastore, 1) := by decide +kernel
theorem d_law_home_10 : decode method_4_code 10 = .ok (.goto 7, 3) := by decide +kernel
theorem d_law_home_13 : decode method_4_code 13 = .ok (.astore 4, 2) := by decide +kernel
theorem d_law_home_15 : decode method_4_code 15 = .ok (.iconst 1, 1) := by decide +kernel
theorem d_law_home_16 : decode method_4_code 16 = .ok (.ireturn, 1) := by decide +kernel
theorem d_law_home_17 : decode method_4_code 17 = .ok (.iconst 0, 1) := by decide +kernel
theorem d_law_home_18 : decode method_4_code 18 = .ok (.ireturn, 1) := by decide +kernel
set_option maxHeartbeats 4000000 in
set_option maxRecDepth 100000 in
theorem w_law_home_0 {res : (Int32 ⊕ (Nat × Nat)) × xH} (C : x_C l s0 A0 D R_law method_4_code 5 [(0, 10, 13, 13)] p s m args meth c) (hr : meth.sig.returnType = (some .int)) (hnm : meth.name = "home") (hRf : 9 ≤ R.frames) (hRl : 190 ≤ R.locals)  (l0 : Nat) (l1 : Int32) (l2 : Int32) (l3 : Nat) (hp : f_law_home l0 l1 l2 l3 h = some res) (hH : x_S s0 D R h H locs cells slots) (hl : lv_has ls 5 [(0, .ref l0), (1, .int l1), (2, .int l2), (3, .ref l3)]) : W p l e R s m args below meth c H locs cells slots (x_Q s0 D below s R (x_oc vI res.1) res.2) (F0 m 0 ls []) := by
  obtain ⟨hx, hb, hown, hts, hK, hml, hW, Z, -⟩ := id C
  unfold f_law_home at hp
  refine lv_aload_n hx hb d_law_home_0 rfl (lv_at hl 3 rfl) ?_
  refine lv_iconst (v := 0) hx hb d_law_home_1 (by decide) ?_
  refine lv_aload_n hx hb d_law_home_2 rfl (lv_at hl 0 rfl) ?_
  refine lv_iload_n hx hb d_law_home_3 rfl (lv_at hl 1 rfl) ?_
  refine lv_iload_n hx hb d_law_home_4 rfl (lv_at hl 2 rfl) ?_
  refine x_callVc (As := [.int l1, .int l2]) (rest := [.int 0, .ref l3]) (cv := vI) C ct_law hH kc_law_17 d_law_home_5 hp (fun o h' e => m_RS_home Z e) rfl hl.1 (Nat.le_trans (Nat.le_of_ble_eq_true rfl) hRf) (Nat.le_trans (Nat.le_of_ble_eq_true rfl) hRl) (Nat.le_of_ble_eq_true rfl) (fun v1 h H locs cells slots hp hH => ?_) (fun a ci h H locs cells slots hp hH => ?_)
  · refine W.eq (g2 := F0 m 8 ls [.int v1, .int 0, .ref l3]) rfl ?_
    refine lv_i2l (v := v1.toInt64) hx hb d_law_home_8 rfl ?_
    refine x_sJ C hH d_law_home_9 hp (fun h H locs hp hH => ?_)
    refine lv_goto (tgt := 17) hx hb d_law_home_10 (by decide) ?_
    refine lv_iconst (v := 0) hx hb d_law_home_17 (by decide) ?_
    exact x_iret C hH hr d_law_home_18 hp
  · by_cases hc10 : ci = 10
    · replace hp := x_ifp hc10 hp
      subst hc10
      refine ⟨13, rfl, ?_⟩
      refine lv_astore (lv' := [(4, .ref a), (0, .ref l0), (1, .int l1), (2, .int l2), (3, .ref l3)]) hx hb d_law_home_13 hl (by decide) rfl (fun ls hl => ?_)
      refine lv_iconst (v := 1) hx hb d_law_home_15 (by decide) ?_
      exact x_iret C hH hr d_law_home_16 hp
    replace hp := x_ifn hc10 hp
    cases hp
set_option maxRecDepth 100000 in
theorem m_law_home (Z : x_Z l s0 A0 D) {l0 : Nat} {l1 : Int32} {l2 : Int32} {l3 : Nat} {res : (Int32 ⊕ (Nat × Nat)) × xH} (hp : f_law_home l0 l1 l2 l3 h = some res) : x_M l s0 D y_law_home (x_cw y_law_home method_4_code 5 (some .int) [(0, 10, 13, 13)]) 9 190 [.ref l0, .int l1, .int l2, .ref l3] h (x_oc vI res.1) res.2 := by
  refine x_M.ofW Z (plainFor_of_name (by decide)) ?_
  intro p e s m below meth c C hnm hr hH
  have hl := lv_entry ([.ref l0, .int l1, .int l2, .ref l3]) (n := 5) (Nat.le_of_ble_eq_true rfl)
  rw [lg_entry_eq]
  generalize (lg_sl ([.ref l0, .int l1, .int l2, .ref l3]) ++ List.replicate (5 - (lg_sl ([.ref l0, .int l1, .int l2, .ref l3])).length) Slot.unset).toArray = ls at hl ⊢
  exact w_law_home_0 C hr hnm (Nat.le_refl _) (Nat.le_refl _) l0 l1 l2 l3 hp hH hl
end GEN
