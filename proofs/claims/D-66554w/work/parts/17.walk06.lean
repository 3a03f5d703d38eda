section GEN
variable {p : Program} {l : Launch} {e : Env} {R : Room} {s : State} {m : MethodId} {args : Array Value} {below : List Frame} {meth : Method} {c : Code} {H : Heap} {locs : List Loc} {cells slots : Nat} {ls : Array Slot} {D : xD} {s0 : State} {A0 : Array Value} {h : xH}
/-! ReadSideModel.ranked(II)I -/
theorem d_Mdl_ranked_0 : decode prog_11_method_32_code 0 = .ok (.iconst 0, 1) := by decide +kernel
theorem d_Mdl_ranked_1 : decode prog_11_method_32_code 1 = .ok (.istore_n 3, 1) := by decide +kernel
theorem d_Mdl_ranked_2 : decode prog_11_method_32_code 2 = .ok (.iconst 0, 1) := by decide +kernel
theorem d_Mdl_ranked_3 : decode prog_11_method_32_code 3 = .ok (.istore 4, 2) := by decide +kernel
theorem d_Mdl_ranked_5 : decode prog_11_method_32_code 5 = .ok (.iload 4, 2) := by decide +kernel
theorem d_Mdl_ranked_7 : decode prog_11_method_32_code 7 = .ok (.bipush 30, 2) := by decide +kernel
theorem d_Mdl_ranked_9 : decode prog_11_method_32_code 9 = .ok (.if_icmp .ge 84, 3) := by decide +kernel
theorem d_Mdl_ranked_12 : decode prog_11_method_32_code 12 = .ok (.iconst 0, 1) := by decide +kernel
theorem d_Mdl_ranked_13 : decode prog_11_method_32_code 13 = .ok (.istore 5, 2) := by decide +kernel
theorem d_Mdl_ranked_15 : decode prog_11_method_32_code 15 = .ok (.iconst 0, 1) := by decide +kernel
theorem d_Mdl_ranked_16 : decode prog_11_method_32_code 16 = .ok (.istore 6, 2) := by decide +kernel
theorem d_Mdl_ranked_18 : decode prog_11_method_32_code 18 = .ok (.iload 6, 2) := by decide +kernel
theorem d_Mdl_ranked_20 : decode prog_11_method_32_code 20 = .ok (.bipush 30, 2) := by decide +kernel
theorem d_Mdl_ranked_22 : decode prog_11_method_32_code 22 = .ok (.if_icmp .ge 56, 3) := by decide +kernel
theorem d_Mdl_ranked_25 : decode prog_11_method_32_code 25 = .ok (.aload_n 0, 1) := by decide +kernel
theorem d_Mdl_ranked_26 : decode prog_11_method_32_code 26 = .ok (.getfield 37, 3) := by decide +kernel
theorem d_Mdl_ranked_29 : decode prog_11_method_32_code 29 = .ok (.bipush 30, 2) := by decide +kernel
theorem d_Mdl_ranked_31 : decode prog_11_method_32_code 31 = .ok (.iload_n 1, 1) := by decide +kernel
theorem d_Mdl_ranked_32 : decode prog_11_method_32_code 32 = .ok (.imul, 1) := by decide +kernel
theorem d_Mdl_ranked_33 : decode prog_11_method_32_code 33 = .ok (.iload 6, 2) := by decide +kernel
theorem d_Mdl_ranked_35 : decode prog_11_method_32_code 35 = .ok (.iadd, 1) := by decide +kernel
theorem d_Mdl_ranked_36 : decode prog_11_method_32_code 36 = .ok (.iaload, 1) := by decide +kernel
theorem d_Mdl_ranked_37 : decode prog_11_method_32_code 37 = .ok (.aload_n 0, 1) := by decide +kernel
theorem d_Mdl_ranked_38 : decode prog_11_method_32_code 38 = .ok (.getfield 37, 3) := by decide +kernel
theorem d_Mdl_ranked_41 : decode prog_11_method_32_code 41 = .ok (.bipush 30, 2) := by decide +kernel
theorem d_Mdl_ranked_43 : decode prog_11_method_32_code 43 = .ok (.iload_n 1, 1) := by decide +kernel
theorem d_Mdl_ranked_44 : decode prog_11_method_32_code 44 = .ok (.imul, 1) := by decide +kernel
theorem d_Mdl_ranked_45 : decode prog_11_method_32_code 45 = .ok (.iload 4, 2) := by decide +kernel
theorem d_Mdl_ranked_47 : decode prog_11_method_32_code 47 = .ok (.iadd, 1) := by decide +kernel
theorem d_Mdl_ranked_48 : decode prog_11_method_32_code 48 = .ok (.iaload, 1) := by decide +kernel
theorem d_Mdl_ranked_49 : decode prog_11_method_32_code 49 = .ok (.isub, 1) := by decide +kernel
theorem d_Mdl_ranked_50 : decode prog_11_method_32_code 50 = .ok (.istore 7, 2) := by decide +kernel
theorem d_Mdl_ranked_52 : decode prog_11_method_32_code 52 = .ok (.iload 7, 2) := by decide +kernel
theorem d_Mdl_ranked_54 : decode prog_11_method_32_code 54 = .ok (.ifCond .gt 15, 3) := by decide +kernel
theorem d_Mdl_ranked_57 : decode prog_11_method_32_code 57 = .ok (.iload 7, 2) := by decide +kernel
theorem d_Mdl_ranked_59 : decode prog_11_method_32_code 59 = .ok (.ifCond .ne 13, 3) := by decide +kernel
theorem d_Mdl_ranked_62 : decode prog_11_method_32_code 62 = .ok (.iload 6, 2) := by decide +kernel
theorem d_Mdl_ranked_64 : decode prog_11_method_32_code 64 = .ok (.iload 4, 2) := by decide +kernel
theorem d_Mdl_ranked_66 : decode prog_11_method_32_code 66 = .ok (.if_icmp .ge 6, 3) := by decide +kernel
theorem d_Mdl_ranked_69 : decode prog_11_method_32_code 69 = .ok (.iinc 5 1, 3) := by decide +kernel
theorem d_Mdl_ranked_72 : decode prog_11_method_32_code 72 = .ok (.iinc 6 1, 3) := by decide +kernel
theorem d_Mdl_ranked_75 : decode prog_11_method_32_code 75 = .ok (.goto (-57), 3) := by decide +kernel
theorem d_Mdl_ranked_78 : decode prog_11_method_32_code 78 = .ok (.iload 5, 2) := by decide +kernel
theorem d_Mdl_ranked_80 : decode prog_11_method_32_code 80 = .ok (.iload_n 2, 1) := by decide +kernel
theorem d_Mdl_ranked_81 : decode prog_11_method_32_code 81 = .ok (.if_icmp .ne 6, 3) := by decide +kernel
theorem d_Mdl_ranked_84 : decode prog_11_method_32_code 84 = .ok (.iload 4, 2) := by decide +kernel
theorem d_Mdl_ranked_86 : decode prog_11_method_32_code 86 = .ok (.istore_n 3, 1) := by decide +kernel
theorem d_Mdl_ranked_87 : decode prog_11_method_32_code 87 = .ok (.iinc 4 1, 3) := by decide +kernel
theorem d_Mdl_ranked_90 : decode prog_11_method_32_code 90 = .ok (.goto (-85), 3) := by decide +kernel
theorem d_Mdl_ranked_93 : decode prog_11_method_32_code 93 = .ok (.iload_n 3, 1) := by decide +kernel
theorem d_Mdl_ranked_94 : decode prog_11_method_32_code 94 = .ok (.ireturn, 1) := by decide +kernel
set_option maxHeartbeats 4000000 in
set_option maxRecDepth 100000 in
theorem w_Mdl_ranked_87 {res : (Int32 ⊕ (Nat × Nat)) × xH} (C : x_C l s0 A0 D R_Mdl prog_11_method_32_code 8 [] p s m args meth c) (hr : meth.sig.returnType = (some .int)) (hnm : meth.name = "ranked") (hRf : 0 ≤ R.frames) (hRl : 0 ≤ R.locals) {k5 : Nat → Int32 → Int32 → Int32 → Int32 → xM Int32} (hs5 : ∀ (l0 : Nat) (l1 : Int32) (l2 : Int32) (l3 : Int32) (l4 : Int32) (h : xH) (H : Heap) (locs : List Loc) (cells slots : Nat) (ls : Array Slot), k5 l0 l1 l2 l3 l4 h = some res → x_S s0 D R h H locs cells slots → lv_has ls 8 [(0, .ref l0), (1, .int l1), (2, .int l2), (3, .int l3), (4, .int l4)] → W p l e R s m args below meth c H locs cells slots (x_Q s0 D below s R (x_oc vI res.1) res.2) (F0 m 5 ls [])) (l0 : Nat) (l1 : Int32) (l2 : Int32) (l3 : Int32) (l4 : Int32) (hp : f_Mdl_ranked_b87 k5 l0 l1 l2 l3 l4 h = some res) (hH : x_S s0 D R h H locs cells slots) (hl : lv_has ls 8 [(0, .ref l0), (1, .int l1), (2, .int l2), (3, .int l3), (4, .int l4)]) : W p l e R s m args below meth c H locs cells slots (x_Q s0 D below s R (x_oc vI res.1) res.2) (F0 m 87 ls []) := by
  obtain ⟨hx, hb, hown, hts, hK, hml, hW, Z, -⟩ := id C
  unfold f_Mdl_ranked_b87 at hp
  refine lv_iinc (v := (l4 + 1)) (lv' := [(4, .int (l4 + 1)), (0, .ref l0), (1, .int l1), (2, .int l2), (3, .int l3)]) hx hb d_Mdl_ranked_87 hl (k := 4) rfl rfl (by decide) rfl (fun ls hl => ?_)
  refine lv_goto (tgt := 5) hx hb d_Mdl_ranked_90 (by decide) ?_
  exact hs5 l0 l1 l2 l3 (l4 + 1) _ _ _ _ _ _ hp hH (lv_sub hl [1, 2, 3, 4, 0] rfl)
set_option maxHeartbeats 4000000 in
set_option maxRecDepth 100000 in
theorem w_Mdl_ranked_72 {res : (Int32 ⊕ (Nat × Nat)) × xH} (C : x_C l s0 A0 D R_Mdl prog_11_method_32_code 8 [] p s m args meth c) (hr : meth.sig.returnType = (some .int)) (hnm : meth.name = "ranked") (hRf : 0 ≤ R.frames) (hRl : 0 ≤ R.locals) {k5 : Nat → Int32 → Int32 → Int32 → Int32 → xM Int32} (hs5 : ∀ (l0 : Nat) (l1 : Int32) (l2 : Int32) (l3 : Int32) (l4 : Int32) (h : xH) (H : Heap) (locs : List Loc) (cells slots : Nat) (ls : Array Slot), k5 l0 l1 l2 l3 l4 h = some res → x_S s0 D R h H locs cells slots → lv_has ls 8 [(0, .ref l0), (1, .int l1), (2, .int l2), (3, .int l3), (4, .int l4)] → W p l e R s m args below meth c H locs cells slots (x_Q s0 D below s R (x_oc vI res.1) res.2) (F0 m 5 ls [])) {k18 : Nat → Int32 → Int32 → Int32 → Int32 → Int32 → Int32 → xM Int32} (hs18 : ∀ (l0 : Nat) (l1 : Int32) (l2 : Int32) (l3 : Int32) (l4 : Int32) (l5 : Int32) (l6 : Int32) (h : xH) (H : Heap) (locs : List Loc) (cells slots : Nat) (ls : Array Slot), k18 l0 l1 l2 l3 l4 l5 l6 h = some res → x_S s0 D R h H locs cells slots → lv_has ls 8 [(0, .ref l0), (1, .int l1), (2, .int l2), (3, .int l3), (4, .int l4), (5, .int l5), (6, .int l6)] → W p l e R s m args below meth c H locs cells slots (x_Q s0 D below s R (x_oc vI res.1) res.2) (F0 m 18 ls [])) (l0 : Nat) (l1 : Int32) (l2 : Int32) (l3 : Int32) (l4 : Int32) (l5 : Int32) (l6 : Int32) (hp : f_Mdl_ranked_b72 k5 k18 l0 l1 l2 l3 l4 l5 l6 h = some res) (hH : x_S s0 D R h H locs cells slots) (hl : lv_has ls 8 [(0, .ref l0), (1, .int l1), (2, .int l2), (3, .int l3), (4, .int l4), (5, .int l5), (6, .int l6)]) : W p l e R s m args below meth c H locs cells slots (x_Q s0 D below s R (x_oc vI res.1) res.2) (F0 m 72 ls []) := by
  obtain ⟨hx, hb, hown, hts, hK, hml, hW, Z, -⟩ := id C
  unfold f_Mdl_ranked_b72 at hp
  refine lv_iinc (v := (l6 + 1)) (lv' := [(6, .int (l6 + 1)), (0, .ref l0), (1, .int l1), (2, .int l2), (3, .int l3), (4, .int l4), (5, .int l5)]) hx hb d_Mdl_ranked_72 hl (k := 6) rfl rfl (by decide) rfl (fun ls hl => ?_)
  refine lv_goto (tgt := 18) hx hb d_Mdl_ranked_75 (by decide) ?_
  exact hs18 l0 l1 l2 l3 l4 l5 (l6 + 1) _ _ _ _ _ _ hp hH (lv_sub hl [1, 2, 3, 4, 5, 6, 0] rfl)
set_option maxHeartbeats 4000000 in
set_option maxRecDepth 100000 in
theorem w_Mdl_ranked_69 {res : (Int32 ⊕ (Nat × Nat)) × xH} (C : x_C l s0 A0 D R_Mdl prog_11_method_32_code 8 [] p s m args meth c) (hr : meth.sig.returnType = (some .int)) (hnm : meth.name = "ranked") (hRf : 0 ≤ R.frames) (hRl : 0 ≤ R.locals) {k5 : Nat → Int32 → Int32 → Int32 → Int32 → xM Int32} (hs5 : ∀ (l0 : Nat) (l1 : Int32) (l2 : Int32) (l3 : Int32) (l4 : Int32) (h : xH) (H : Heap) (locs : List Loc) (cells slots : Nat) (ls : Array Slot), k5 l0 l1 l2 l3 l4 h = some res → x_S s0 D R h H locs cells slots → lv_has ls 8 [(0, .ref l0), (1, .int l1), (2, .int l2), (3, .int l3), (4, .int l4)] → W p l e R s m args below meth c H locs cells slots (x_Q s0 D below s R (x_oc vI res.1) res.2) (F0 m 5 ls [])) {k18 : Nat → Int32 → Int32 → Int32 → Int32 → Int32 → Int32 → xM Int32} (hs18 : ∀ (l0 : Nat) (l1 : Int32) (l2 : Int32) (l3 : Int32) (l4 : Int32) (l5 : Int32) (l6 : Int32) (h : xH) (H : Heap) (locs : List Loc) (cells slots : Nat) (ls : Array Slot), k18 l0 l1 l2 l3 l4 l5 l6 h = some res → x_S s0 D R h H locs cells slots → lv_has ls 8 [(0, .ref l0), (1, .int l1), (2, .int l2), (3, .int l3), (4, .int l4), (5, .int l5), (6, .int l6)] → W p l e R s m args below meth c H locs cells slots (x_Q s0 D below s R (x_oc vI res.1) res.2) (F0 m 18 ls [])) (l0 : Nat) (l1 : Int32) (l2 : Int32) (l3 : Int32) (l4 : Int32) (l5 : Int32) (l6 : Int32) (hp : f_Mdl_ranked_b69 k5 k18 l0 l1 l2 l3 l4 l5 l6 h = some res) (hH : x_S s0 D R h H locs cells slots) (hl : lv_has ls 8 [(0, .ref l0), (1, .int l1), (2, .int l2), (3, .int l3), (4, .int l4), (5, .int l5), (6, .int l6)]) : W p l e R s m args below meth c H locs cells slots (x_Q s0 D below s R (x_oc vI res.1) res.2) (F0 m 69 ls []) := by
  obtain ⟨hx, hb, hown, hts, hK, hml, hW, Z, -⟩ := id C
  unfold f_Mdl_ranked_b69 at hp
  refine lv_iinc (v := (l5 + 1)) (lv' := [(5, .int (l5 + 1)), (0, .ref l0), (1, .int l1), (2, .int l2), (3, .int l3), (4, .int l4), (6, .int l6)]) hx hb d_Mdl_ranked_69 hl (k := 5) rfl rfl (by decide) rfl (fun ls hl => ?_)
  exact w_Mdl_ranked_72 C hr hnm hRf hRl hs5 hs18 l0 l1 l2 l3 l4 (l5 + 1) l6 hp hH (lv_sub hl [1, 2, 3, 4, 5, 0, 6] rfl)
set_option maxHeartbeats 4000000 in
set_option maxRecDepth 100000 in
theorem w_Mdl_ranked_18 {res : (Int32 ⊕ (Nat × Nat)) × xH} (C : x_C l s0 A0 D R_Mdl prog_11_method_32_code 8 [] p s m args meth c) (hr : meth.sig.returnType = (some .int)) (hnm : meth.name = "ranked") (hRf : 0 ≤ R.frames) (hRl : 0 ≤ R.locals) {k5 : Nat → Int32 → Int32 → Int32 → Int32 → xM Int32} (hs5 : ∀ (l0 : Nat) (l1 : Int32) (l2 : Int32) (l3 : Int32) (l4 : Int32) (h : xH) (H : Heap) (locs : List Loc) (cells slots : Nat) (ls : Array Slot), k5 l0 l1 l2 l3 l4 h = some res → x_S s0 D R h H locs cells slots → lv_has ls 8 [(0, .ref l0), (1, .int l1), (2, .int l2), (3, .int l3), (4, .int l4)] → W p l e R s m args below meth c H locs cells slots (x_Q s0 D below s R (x_oc vI res.1) res.2) (F0 m 5 ls [])) {k18 : Nat → Int32 → Int32 → Int32 → Int32 → Int32 → Int32 → xM Int32} (hs18 : ∀ (l0 : Nat) (l1 : Int32) (l2 : Int32) (l3 : Int32) (l4 : Int32) (l5 : Int32) (l6 : Int32) (h : xH) (H : Heap) (locs : List Loc) (cells slots : Nat) (ls : Array Slot), k18 l0 l1 l2 l3 l4 l5 l6 h = some res → x_S s0 D R h H locs cells slots → lv_has ls 8 [(0, .ref l0), (1, .int l1), (2, .int l2), (3, .int l3), (4, .int l4), (5, .int l5), (6, .int l6)] → W p l e R s m args below meth c H locs cells slots (x_Q s0 D below s R (x_oc vI res.1) res.2) (F0 m 18 ls [])) (l0 : Nat) (l1 : Int32) (l2 : Int32) (l3 : Int32) (l4 : Int32) (l5 : Int32) (l6 : Int32) (hp : f_Mdl_ranked_b18 k5 k18 l0 l1 l2 l3 l4 l5 l6 h = some res) (hH : x_S s0 D R h H locs cells slots) (hl : lv_has ls 8 [(0, .ref l0), (1, .int l1), (2, .int l2), (3, .int l3), (4, .int l4), (5, .int l5), (6, .int l6)]) : W p l e R s m args below meth c H locs cells slots (x_Q s0 D below s R (x_oc vI res.1) res.2) (F0 m 18 ls []) := by
  obtain ⟨hx, hb, hown, hts, hK, hml, hW, Z, -⟩ := id C
  unfold f_Mdl_ranked_b18 at hp
  refine lv_iload hx hb d_Mdl_ranked_18 (lv_at hl 6 rfl) ?_
  refine lv_bipush (v := 30) hx hb d_Mdl_ranked_20 (by decide) ?_
  refine lv_icmp_ge (tgt := 78) hx hb d_Mdl_ranked_22 (by decide) (fun hc => ?_) (fun hc => ?_)
  · replace hp := x_ifp hc hp
    refine lv_iload hx hb d_Mdl_ranked_78 (lv_at hl 5 rfl) ?_
    refine lv_iload_n hx hb d_Mdl_ranked_80 rfl (lv_at hl 2 rfl) ?_
    refine lv_icmp_ne (tgt := 87) hx hb d_Mdl_ranked_81 (by decide) (fun hc => ?_) (fun hc => ?_)
    · replace hp := x_ifn hc hp
      exact w_Mdl_ranked_87 C hr hnm hRf hRl hs5 l0 l1 l2 l3 l4 hp hH (lv_sub hl [0, 1, 2, 3, 4] rfl)
    · replace hp := x_ifp hc hp
      refine lv_iload hx hb d_Mdl_ranked_84 (lv_at hl 4 rfl) ?_
      refine lv_istore_n (lv' := [(3, .int l4), (0, .ref l0), (1, .int l1), (2, .int l2), (4, .int l4), (5, .int l5), (6, .int l6)]) hx hb d_Mdl_ranked_86 rfl hl (by decide) rfl (fun ls hl => ?_)
      exact w_Mdl_ranked_87 C hr hnm hRf hRl hs5 l0 l1 l2 l4 l4 hp hH (lv_sub hl [1, 2, 3, 0, 4] rfl)
  · replace hp := x_ifn hc hp
    refine lv_aload_n hx hb d_Mdl_ranked_25 rfl (lv_at hl 0 rfl) ?_
    refine x_gA C hH fl_Mdl_37 d_Mdl_ranked_26 hp (fun v1 hp => ?_)
    refine lv_bipush (v := 30) hx hb d_Mdl_ranked_29 (by decide) ?_
    refine lv_iload_n hx hb d_Mdl_ranked_31 rfl (lv_at hl 1 rfl) ?_
    refine lv_imul hx hb d_Mdl_ranked_32 ?_
    refine lv_iload hx hb d_Mdl_ranked_33 (lv_at hl 6 rfl) ?_
    refine lv_iadd hx hb d_Mdl_ranked_35 ?_
    refine x_lI C hH d_Mdl_ranked_36 hp (fun v2 hp => ?_)
    refine lv_aload_n hx hb d_Mdl_ranked_37 rfl (lv_at hl 0 rfl) ?_
    refine x_gA C hH fl_Mdl_37 d_Mdl_ranked_38 hp (fun v3 hp => ?_)
    refine lv_bipush (v := 30) hx hb d_Mdl_ranked_41 (by decide) ?_
    refine lv_iload_n hx hb d_Mdl_ranked_43 rfl (lv_at hl 1 rfl) ?_
    refine lv_imul hx hb d_Mdl_ranked_44 ?_
    refine lv_iload hx hb d_Mdl_ranked_45 (lv_at hl 4 rfl) ?_
    refine lv_iadd hx hb d_Mdl_ranked_47 ?_
    refine x_lI C hH d_Mdl_ranked_48 hp (fun v4 hp => ?_)
    refine lv_isub hx hb d_Mdl_ranked_49 ?_
    refine lv_istore (lv' := [(7, .int (v2 - v4)), (0, .ref l0), (1, .int l1), (2, .int l2), (3, .int l3), (4, .int l4), (5, .int l5), (6, .int l6)]) hx hb d_Mdl_ranked_50 hl (by decide) rfl (fun ls hl => ?_)
    refine lv_iload hx hb d_Mdl_ranked_52 (lv_at hl 0 rfl) ?_
    refine lv_if_gt (tgt := 69) hx hb d_Mdl_ranked_54 (by decide) (fun hc => ?_) (fun hc => ?_)
    · replace hp := x_ifp hc hp
      exact w_Mdl_ranked_69 C hr hnm hRf hRl hs5 hs18 l0 l1 l2 l3 l4 l5 l6 hp hH (lv_sub hl [1, 2, 3, 4, 5, 6, 7] rfl)
    · replace hp := x_ifn hc hp
      refine lv_iload hx hb d_Mdl_ranked_57 (lv_at hl 0 rfl) ?_
      refine lv_if_ne (tgt := 72) hx hb d_Mdl_ranked_59 (by decide) (fun hc => ?_) (fun hc => ?_)
      · replace hp := x_ifn hc hp
        exact w_Mdl_ranked_72 C hr hnm hRf hRl hs5 hs18 l0 l1 l2 l3 l4 l5 l6 hp hH (lv_sub hl [1, 2, 3, 4, 5, 6, 7] rfl)
      · replace hp := x_ifp hc hp
        refine lv_iload hx hb d_Mdl_ranked_62 (lv_at hl 7 rfl) ?_
        refine lv_iload hx hb d_Mdl_ranked_64 (lv_at hl 5 rfl) ?_
        refine lv_icmp_ge (tgt := 72) hx hb d_Mdl_ranked_66 (by decide) (fun hc => ?_) (fun hc => ?_)
        · replace hp := x_ifp hc hp
          exact w_Mdl_ranked_72 C hr hnm hRf hRl hs5 hs18 l0 l1 l2 l3 l4 l5 l6 hp hH (lv_sub hl [1, 2, 3, 4, 5, 6, 7] rfl)
        · replace hp := x_ifn hc hp
          exact w_Mdl_ranked_69 C hr hnm hRf hRl hs5 hs18 l0 l1 l2 l3 l4 l5 l6 hp hH (lv_sub hl [1, 2, 3, 4, 5, 6, 7] rfl)
theorem w_Mdl_ranked_h18 {res : (Int32 ⊕ (Nat × Nat)) × xH} (C : x_C l s0 A0 D R_Mdl prog_11_method_32_code 8 [] p s m args meth c) (hr : meth.sig.returnType = (some .int)) (hnm : meth.name = "ranked") (hRf : 0 ≤ R.frames) (hRl : 0 ≤ R.locals) {k5 : Nat → Int32 → Int32 → Int32 → Int32 → xM Int32} (hs5 : ∀ (l0 : Nat) (l1 : Int32) (l2 : Int32) (l3 : Int32) (l4 : Int32) (h : xH) (H : Heap) (locs : List Loc) (cells slots : Nat) (ls : Array Slot), k5 l0 l1 l2 l3 l4 h = some res → x_S s0 D R h H locs cells slots → lv_has ls 8 [(0, .ref l0), (1, .int l1), (2, .int l2), (3, .int l3), (4, .int l4)] → W p l e R s m args below meth c H locs cells slots (x_Q s0 D below s R (x_oc vI res.1) res.2) (F0 m 5 ls [])) : ∀ (n : Nat) (l0 : Nat) (l1 : Int32) (l2 : Int32) (l3 : Int32) (l4 : Int32) (l5 : Int32) (l6 : Int32) (h : xH) (H : Heap) (locs : List Loc) (cells slots : Nat) (ls : Array Slot), f_Mdl_ranked_h18 k5 n l0 l1 l2 l3 l4 l5 l6 h = some res → x_S s0 D R h H locs cells slots → lv_has ls 8 [(0, .ref l0), (1, .int l1), (2, .int l2), (3, .int l3), (4, .int l4), (5, .int l5), (6, .int l6)] → W p l e R s m args below meth c H locs cells slots (x_Q s0 D below s R (x_oc vI res.1) res.2) (F0 m 18 ls []) := by
  intro n
  induction n with
  | zero => intro l0 l1 l2 l3 l4 l5 l6 h H locs cells slots ls hp hH hl; cases hp
  | succ n ih => intro l0 l1 l2 l3 l4 l5 l6 h H locs cells slots ls hp hH hl; exact w_Mdl_ranked_18 C hr hnm hRf hRl hs5 ih l0 l1 l2 l3 l4 l5 l6 hp hH hl
set_option maxHeartbeats 4000000 in
set_option maxRecDepth 100000 in
theorem w_Mdl_ranked_5 {res : (Int32 ⊕ (Nat × Nat)) × xH} (C : x_C l s0 A0 D R_Mdl prog_11_method_32_code 8 [] p s m args meth c) (hr : meth.sig.returnType = (some .int)) (hnm : meth.name = "ranked") (hRf : 0 ≤ R.frames) (hRl : 0 ≤ R.locals) {k5 : Nat → Int32 → Int32 → Int32 → Int32 → xM Int32} (hs5 : ∀ (l0 : Nat) (l1 : Int32) (l2 : Int32) (l3 : Int32) (l4 : Int32) (h : xH) (H : Heap) (locs : List Loc) (cells slots : Nat) (ls : Array Slot), k5 l0 l1 l2 l3 l4 h = some res → x_S s0 D R h H locs cells slots → lv_has ls 8 [(0, .ref l0), (1, .int l1), (2, .int l2), (3, .int l3), (4, .int l4)] → W p l e R s m args below meth c H locs cells slots (x_Q s0 D below s R (x_oc vI res.1) res.2) (F0 m 5 ls [])) (l0 : Nat) (l1 : Int32) (l2 : Int32) (l3 : Int32) (l4 : Int32) (hp : f_Mdl_ranked_b5 k5 l0 l1 l2 l3 l4 h = some res) (hH : x_S s0 D R h H locs cells slots) (hl : lv_has ls 8 [(0, .ref l0), (1, .int l1), (2, .int l2), (3, .int l3), (4, .int l4)]) : W p l e R s m args below meth c H locs cells slots (x_Q s0 D below s R (x_oc vI res.1) res.2) (F0 m 5 ls []) := by
  obtain ⟨hx, hb, hown, hts, hK, hml, hW, Z, -⟩ := id C
  unfold f_Mdl_ranked_b5 at hp
  refine lv_iload hx hb d_Mdl_ranked_5 (lv_at hl 4 rfl) ?_
  refine lv_bipush (v := 30) hx hb d_Mdl_ranked_7 (by decide) ?_
  refine lv_icmp_ge (tgt := 93) hx hb d_Mdl_ranked_9 (by decide) (fun hc => ?_) (fun hc => ?_)
  · replace hp := x_ifp hc hp
    refine lv_iload_n hx hb d_Mdl_ranked_93 rfl (lv_at hl 3 rfl) ?_
    exact x_iret C hH hr d_Mdl_ranked_94 hp
  · replace hp := x_ifn hc hp
    refine lv_iconst (v := 0) hx hb d_Mdl_ranked_12 (by decide) ?_
    refine lv_istore (lv' := [(5, .int 0), (0, .ref l0), (1, .int l1), (2, .int l2), (3, .int l3), (4, .int l4)]) hx hb d_Mdl_ranked_13 hl (by decide) rfl (fun ls hl => ?_)
    refine lv_iconst (v := 0) hx hb d_Mdl_ranked_15 (by decide) ?_
    refine lv_istore (lv' := [(6, .int 0), (5, .int 0), (0, .ref l0), (1, .int l1), (2, .int l2), (3, .int l3), (4, .int l4)]) hx hb d_Mdl_ranked_16 hl (by decide) rfl (fun ls hl => ?_)
    exact w_Mdl_ranked_h18 C hr hnm hRf hRl hs5 1000 l0 l1 l2 l3 l4 0 0 _ _ _ _ _ _ hp hH (lv_sub hl [2, 3, 4, 5, 6, 1, 0] rfl)
theorem w_Mdl_ranked_h5 {res : (Int32 ⊕ (Nat × Nat)) × xH} (C : x_C l s0 A0 D R_Mdl prog_11_method_32_code 8 [] p s m args meth c) (hr : meth.sig.returnType = (some .int)) (hnm : meth.name = "ranked") (hRf : 0 ≤ R.frames) (hRl : 0 ≤ R.locals)  : ∀ (n : Nat) (l0 : Nat) (l1 : Int32) (l2 : Int32) (l3 : Int32) (l4 : Int32) (h : xH) (H : Heap) (locs : List Loc) (cells slots : Nat) (ls : Array Slot), f_Mdl_ranked_h5 n l0 l1 l2 l3 l4 h = some res → x_S s0 D R h H locs cells slots → lv_has ls 8 [(0, .ref l0), (1, .int l1), (2, .int l2), (3, .int l3), (4, .int l4)] → W p l e R s m args below meth c H locs cells slots (x_Q s0 D below s R (x_oc vI res.1) res.2) (F0 m 5 ls []) := by
  intro n
  induction n with
  | zero => intro l0 l1 l2 l3 l4 h H locs cells slots ls hp hH hl; cases hp
  | succ n ih => intro l0 l1 l2 l3 l4 h H locs cells slots ls hp hH hl; exact w_Mdl_ranked_5 C hr hnm hRf hRl ih l0 l1 l2 l3 l4 hp hH hl
set_option maxHeartbeats 4000000 in
set_option maxRecDepth 100000 in
theorem w_Mdl_ranked_0 {res : (Int32 ⊕ (Nat × Nat)) × xH} (C : x_C l s0 A0 D R_Mdl prog_11_method_32_code 8 [] p s m args meth c) (hr : meth.sig.returnType = (some .int)) (hnm : meth.name = "ranked") (hRf : 0 ≤ R.frames) (hRl : 0 ≤ R.locals)  (l0 : Nat) (l1 : Int32) (l2 : Int32) (hp : f_Mdl_ranked l0 l1 l2 h = some res) (hH : x_S s0 D R h H locs cells slots) (hl : lv_has ls 8 [(0, .ref l0), (1, .int l1), (2, .int l2)]) : W p l e R s m args below meth c H locs cells slots (x_Q s0 D below s R (x_oc vI res.1) res.2) (F0 m 0 ls []) := by
  obtain ⟨hx, hb, hown, hts, hK, hml, hW, Z, -⟩ := id C
  unfold f_Mdl_ranked at hp
  refine lv_iconst (v := 0) hx hb d_Mdl_ranked_0 (by decide) ?_
  refine lv_istore_n (lv' := [(3, .int 0), (0, .ref l0), (1, .int l1), (2, .int l2)]) hx hb d_Mdl_ranked_1 rfl hl (by decide) rfl (fun ls hl => ?_)
  refine lv_iconst (v := 0) hx hb d_Mdl_ranked_2 (by decide) ?_
  refine lv_istore (lv' := [(4, .int 0), (3, .int 0), (0, .ref l0), (1, .int l1), (2, .int l2)]) hx hb d_Mdl_ranked_3 hl (by decide) rfl (fun ls hl => ?_)
  exact w_Mdl_ranked_h5 C hr hnm hRf hRl  1000 l0 l1 l2 0 0 _ _ _ _ _ _ hp hH (lv_sub hl [2, 3, 4, 1, 0] rfl)
set_option maxRecDepth 100000 in
theorem m_Mdl_ranked (Z : x_Z l s0 A0 D) {l0 : Nat} {l1 : Int32} {l2 : Int32} {res : (Int32 ⊕ (Nat × Nat)) × xH} (hp : f_Mdl_ranked l0 l1 l2 h = some res) : x_M l s0 D y_Mdl_ranked (x_cw y_Mdl_ranked prog_11_method_32_code 8 (some .int) []) 0 0 [.ref l0, .int l1, .int l2] h (x_oc vI res.1) res.2 := by
  refine x_M.ofW Z (plainFor_of_name (by decide)) ?_
  intro p e s m below meth c C hnm hr hH
  have hl := lv_entry ([.ref l0, .int l1, .int l2]) (n := 8) (Nat.le_of_ble_eq_true rfl)
  rw [lg_entry_eq]
  generalize (lg_sl ([.ref l0, .int l1, .int l2]) ++ List.replicate (8 - (lg_sl ([.ref l0, .int l1, .int l2])).length) Slot.unset).toArray = ls at hl ⊢
  exact w_Mdl_ranked_0 C hr hnm (Nat.le_refl _) (Nat.le_refl _) l0 l1 l2 hp hH hl
/-! ReadSideModel.tell(III)J -/
theorem d_Mdl_tell_0 : decode prog_11_method_31_code 0 = .ok (.bipush 30, 2) := by decide +kernel
theorem d_Mdl_tell_2 : decode prog_11_method_31_code 2 = .ok (.iload_n 1, 1) := by decide +kernel
theorem d_Mdl_tell_3 : decode prog_11_method_31_code 3 = .ok (.imul, 1) := by decide +kernel
theorem d_Mdl_tell_4 : decode prog_11_method_31_code 4 = .ok (.iload_n 3, 1) := by decide +kernel
theorem d_Mdl_tell_5 : decode prog_11_method_31_code 5 = .ok (.iadd, 1) := by decide +kernel
theorem d_Mdl_tell_6 : decode prog_11_method_31_code 6 = .ok (.istore 4, 2) := by decide +kernel
theorem d_Mdl_tell_8 : decode prog_11_method_31_code 8 = .ok (.bipush 10, 2) := by decide +kernel
theorem d_Mdl_tell_10 : decode prog_11_method_31_code 10 = .ok (.iload_n 1, 1) := by decide +kernel
theorem d_Mdl_tell_11 : decode prog_11_method_31_code 11 = .ok (.imul, 1) := by decide +kernel
theorem d_Mdl_tell_12 : decode prog_11_method_31_code 12 = .ok (.iload_n 3, 1) := by decide +kernel
theorem d_Mdl_tell_13 : decode prog_11_method_31_code 13 = .ok (.iadd, 1) := by decide +kernel
theorem d_Mdl_tell_14 : decode prog_11_method_31_code 14 = .ok (.istore 5, 2) := by decide +kernel
theorem d_Mdl_tell_16 : decode prog_11_method_31_code 16 = .ok (.lconst 0, 1) := by decide +kernel
theorem d_Mdl_tell_17 : decode prog_11_method_31_code 17 = .ok (.lstore 6, 2) := by decide +kernel
theorem d_Mdl_tell_19 : decode prog_11_method_31_code 19 = .ok (.iload_n 2, 1) := by decide +kernel
theorem d_Mdl_tell_20 : decode prog_11_method_31_code 20 = .ok (.tableswitch 147 0 7 #[48, 57, 66, 75, 84, 92, 130, 139], 48) := by decide +kernel
theorem d_Mdl_tell_68 : decode prog_11_method_31_code 68 = .ok (.aload_n 0, 1) := by decide +kernel
theorem d_Mdl_tell_69 : decode prog_11_method_31_code 69 = .ok (.getfield 31, 3) := by decide +kernel
theorem d_Mdl_tell_72 : decode prog_11_method_31_code 72 = .ok (.iload 4, 2) := by decide +kernel
theorem d_Mdl_tell_74 : decode prog_11_method_31_code 74 = .ok (.iaload, 1) := by decide +kernel
theorem d_Mdl_tell_75 : decode prog_11_method_31_code 75 = .ok (.i2l, 1) := by decide +kernel
theorem d_Mdl_tell_76 : decode prog_11_method_31_code 76 = .ok (.lreturn, 1) := by decide +kernel
theorem d_Mdl_tell_77 : decode prog_11_method_31_code 77 = .ok (.aload_n 0, 1) := by decide +kernel
theorem d_Mdl_tell_78 : decode prog_11_method_31_code 78 = .ok (.getfield 34, 3) := by decide +kernel
theorem d_Mdl_tell_81 : decode prog_11_method_31_code 81 = .ok (.iload 4, 2) := by decide +kernel
theorem d_Mdl_tell_83 : decode prog_11_method_31_code 83 = .ok (.iaload, 1) := by decide +kernel
theorem d_Mdl_tell_84 : decode prog_11_method_31_code 84 = .ok (.i2l, 1) := by decide +kernel
theorem d_Mdl_tell_85 : decode prog_11_method_31_code 85 = .ok (.lreturn, 1) := by decide +kernel
theorem d_Mdl_tell_86 : decode prog_11_method_31_code 86 = .ok (.aload_n 0, 1) := by decide +kernel
theorem d_Mdl_tell_87 : decode prog_11_method_31_code 87 = .ok (.getfield 37, 3) := by decide +kernel
theorem d_Mdl_tell_90 : decode prog_11_method_31_code 90 = .ok (.iload 4, 2) := by decide +kernel
theorem d_Mdl_tell_92 : decode prog_11_method_31_code 92 = .ok (.iaload, 1) := by decide +kernel
theorem d_Mdl_tell_93 : decode prog_11_method_31_code 93 = .ok (.i2l, 1) := by decide +kernel
theorem d_Mdl_tell_94 : decode prog_11_method_31_code 94 = .ok (.lreturn, 1) := by decide +kernel
theorem d_Mdl_tell_95 : decode prog_11_method_31_code 95 = .ok (.aload_n 0, 1) := by decide +kernel
theorem d_Mdl_tell_96 : decode prog_11_method_31_code 96 = .ok (.getfield 40, 3) := by decide +kernel
theorem d_Mdl_tell_99 : decode prog_11_method_31_code 99 = .ok (.iload 4, 2) := by decide +kernel
theorem d_Mdl_tell_101 : decode prog_11_method_31_code 101 = .ok (.iaload, 1) := by decide +kernel
theorem d_Mdl_tell_102 : decode prog_11_method_31_code 102 = .ok (.i2l, 1) := by decide +kernel
theorem d_Mdl_tell_103 : decode prog_11_method_31_code 103 = .ok (.lreturn, 1) := by decide +kernel
theorem d_Mdl_tell_104 : decode prog_11_method_31_code 104 = .ok (.aload_n 0, 1) := by decide +kernel
theorem d_Mdl_tell_105 : decode prog_11_method_31_code 105 = .ok (.getfield 46, 3) := by decide +kernel
theorem d_Mdl_tell_108 : decode prog_11_method_31_code 108 = .ok (.iload 5, 2) := by decide +kernel
theorem d_Mdl_tell_110 : decode prog_11_method_31_code 110 = .ok (.laload, 1) := by decide +kernel
theorem d_Mdl_tell_111 : decode prog_11_method_31_code 111 = .ok (.lreturn, 1) := by decide +kernel
theorem d_Mdl_tell_112 : decode prog_11_method_31_code 112 = .ok (.iconst 0, 1) := by decide +kernel
theorem d_Mdl_tell_113 : decode prog_11_method_31_code 113 = .ok (.istore 8, 2) := by decide +kernel
theorem d_Mdl_tell_115 : decode prog_11_method_31_code 115 = .ok (.iload 8, 2) := by decide +kernel
theorem d_Mdl_tell_117 : decode prog_11_method_31_code 117 = .ok (.bipush 30, 2) := by decide +kernel
theorem d_Mdl_tell_119 : decode prog_11_method_31_code 119 = .ok (.if_icmp .ge 28, 3) := by decide +kernel
theorem d_Mdl_tell_122 : decode prog_11_method_31_code 122 = .ok (.lload 6, 2) := by decide +kernel
theorem d_Mdl_tell_124 : decode prog_11_method_31_code 124 = .ok (.aload_n 0, 1) := by decide +kernel
theorem d_Mdl_tell_125 : decode prog_11_method_31_code 125 = .ok (.getfield 43, 3) := by decide +kernel
theorem d_Mdl_tell_128 : decode prog_11_method_31_code 128 = .ok (.bipush 30, 2) := by decide +kernel
theorem d_Mdl_tell_130 : decode prog_11_method_31_code 130 = .ok (.iload 5, 2) := by decide +kernel
theorem d_Mdl_tell_132 : decode prog_11_method_31_code 132 = .ok (.imul, 1) := by decide +kernel
theorem d_Mdl_tell_133 : decode prog_11_method_31_code 133 = .ok (.iload 8, 2) := by decide +kernel
theorem d_Mdl_tell_135 : decode prog_11_method_31_code 135 = .ok (.iadd, 1) := by decide +kernel
theorem d_Mdl_tell_136 : decode prog_11_method_31_code 136 = .ok (.iaload, 1) := by decide +kernel
theorem d_Mdl_tell_137 : decode prog_11_method_31_code 137 = .ok (.i2l, 1) := by decide +kernel
theorem d_Mdl_tell_138 : decode prog_11_method_31_code 138 = .ok (.ladd, 1) := by decide +kernel
theorem d_Mdl_tell_139 : decode prog_11_method_31_code 139 = .ok (.lstore 6, 2) := by decide +kernel
theorem d_Mdl_tell_141 : decode prog_11_method_31_code 141 = .ok (.iinc 8 1, 3) := by decide +kernel
theorem d_Mdl_tell_144 : decode prog_11_method_31_code 144 = .ok (.goto (-29), 3) := by decide +kernel
theorem d_Mdl_tell_147 : decode prog_11_method_31_code 147 = .ok (.lload 6, 2) := by decide +kernel
theorem d_Mdl_tell_149 : decode prog_11_method_31_code 149 = .ok (.lreturn, 1) := by decide +kernel
theorem d_Mdl_tell_150 : decode prog_11_method_31_code 150 = .ok (.aload_n 0, 1) := by decide +kernel
theorem d_Mdl_tell_151 : decode prog_11_method_31_code 151 = .ok (.getfield 50, 3) := by decide +kernel
theorem d_Mdl_tell_154 : decode prog_11_method_31_code 154 = .ok (.iload 5, 2) := by decide +kernel
theorem d_Mdl_tell_156 : decode prog_11_method_31_code 156 = .ok (.iaload, 1) := by decide +kernel
theorem d_Mdl_tell_157 : decode prog_11_method_31_code 157 = .ok (.i2l, 1) := by decide +kernel
theorem d_Mdl_tell_158 : decode prog_11_method_31_code 158 = .ok (.lreturn, 1) := by decide +kernel
theorem d_Mdl_tell_159 : decode prog_11_method_31_code 159 = .ok (.aload_n 0, 1) := by decide +kernel
theorem d_Mdl_tell_160 : decode prog_11_method_31_code 160 = .ok (.iload_n 1, 1) := by decide +kernel
theorem d_Mdl_tell_161 : decode prog_11_method_31_code 161 = .ok (.iload_n 3, 1) := by decide +kernel
theorem d_Mdl_tell_162 : decode prog_11_method_31_code 162 = .ok (.invokevirtual 225, 3) := by decide +kernel
theorem d_Mdl_tell_165 : decode prog_11_method_31_code 165 = .ok (.i2l, 1) := by decide +kernel
theorem d_Mdl_tell_166 : decode prog_11_method_31_code 166 = .ok (.lreturn, 1) := by decide +kernel
theorem d_Mdl_tell_167 : decode prog_11_method_31_code 167 = .ok (.iconst 0, 1) := by decide +kernel
theorem d_Mdl_tell_168 : decode prog_11_method_31_code 168 = .ok (.istore 8, 2) := by decide +kernel
theorem d_Mdl_tell_170 : decode prog_11_method_31_code 170 = .ok (.iload 8, 2) := by decide +kernel
theorem d_Mdl_tell_172 : decode prog_11_method_31_code 172 = .ok (.bipush 30, 2) := by decide +kernel
theorem d_Mdl_tell_174 : decode prog_11_method_31_code 174 = .ok (.if_icmp .ge 56, 3) := by decide +kernel
theorem d_Mdl_tell_177 : decode prog_11_method_31_code 177 = .ok (.iload_n 3, 1) := by decide +kernel
theorem d_Mdl_tell_178 : decode prog_11_method_31_code 178 = .ok (.ifCond .lt 14, 3) := by decide +kernel
theorem d_Mdl_tell_181 : decode prog_11_method_31_code 181 = .ok (.iload 8, 2) := by decide +kernel
theorem d_Mdl_tell_183 : decode prog_11_method_31_code 183 = .ok (.aload_n 0, 1) := by decide +kernel
theorem d_Mdl_tell_184 : decode prog_11_method_31_code 184 = .ok (.getfield 114, 3) := by decide +kernel
theorem d_Mdl_tell_187 : decode prog_11_method_31_code 187 = .ok (.irem, 1) := by decide +kernel
theorem d_Mdl_tell_188 : decode prog_11_method_31_code 188 = .ok (.iload_n 3, 1) := by decide +kernel
theorem d_Mdl_tell_189 : decode prog_11_method_31_code 189 = .ok (.if_icmp .ne 35, 3) := by decide +kernel
theorem d_Mdl_tell_192 : decode prog_11_method_31_code 192 = .ok (.lload 6, 2) := by decide +kernel
theorem d_Mdl_tell_194 : decode prog_11_method_31_code 194 = .ok (.aload_n 0, 1) := by decide +kernel
theorem d_Mdl_tell_195 : decode prog_11_method_31_code 195 = .ok (.getfield 31, 3) := by decide +kernel
theorem d_Mdl_tell_198 : decode prog_11_method_31_code 198 = .ok (.bipush 30, 2) := by decide +kernel
theorem d_Mdl_tell_200 : decode prog_11_method_31_code 200 = .ok (.iload_n 1, 1) := by decide +kernel
theorem d_Mdl_tell_201 : decode prog_11_method_31_code 201 = .ok (.imul, 1) := by decide +kernel
theorem d_Mdl_tell_202 : decode prog_11_method_31_code 202 = .ok (.iload 8, 2) := by decide +kernel
theorem d_Mdl_tell_204 : decode prog_11_method_31_code 204 = .ok (.iadd, 1) := by decide +kernel
theorem d_Mdl_tell_205 : decode prog_11_method_31_code 205 = .ok (.iaload, 1) := by decide +kernel
theorem d_Mdl_tell_206 : decode prog_11_method_31_code 206 = .ok (.i2l, 1) := by decide +kernel
theorem d_Mdl_tell_207 : decode prog_11_method_31_code 207 = .ok (.aload_n 0, 1) := by decide +kernel
theorem d_Mdl_tell_208 : decode prog_11_method_31_code 208 = .ok (.getfield 40, 3) := by decide +kernel
theorem d_Mdl_tell_211 : decode prog_11_method_31_code 211 = .ok (.bipush 30, 2) := by decide +kernel
theorem d_Mdl_tell_213 : decode prog_11_method_31_code 213 = .ok (.iload_n 1, 1) := by decide +kernel
theorem d_Mdl_tell_214 : decode prog_11_method_31_code 214 = .ok (.imul, 1) := by decide +kernel
theorem d_Mdl_tell_215 : decode prog_11_method_31_code 215 = .ok (.iload 8, 2) := by decide +kernel
theorem d_Mdl_tell_217 : decode prog_11_method_31_code 217 = .ok (.iadd, 1) := by decide +kernel
theorem d_Mdl_tell_218 : decode prog_11_method_31_code 218 = .ok (.iaload, 1) := by decide +kernel
theorem d_Mdl_tell_219 : decode prog_11_method_31_code 219 = .ok (.i2l, 1) := by decide +kernel
theorem d_Mdl_tell_220 : decode prog_11_method_31_code 220 = .ok (.lmul, 1) := by decide +kernel
theorem d_Mdl_tell_221 : decode prog_11_method_31_code 221 = .ok (.ladd, 1) := by decide +kernel
theorem d_Mdl_tell_222 : decode prog_11_method_31_code 222 = .ok (.lstore 6, 2) := by decide +kernel
theorem d_Mdl_tell_224 : decode prog_11_method_31_code 224 = .ok (.iinc 8 1, 3) := by decide +kernel
theorem d_Mdl_tell_227 : decode prog_11_method_31_code 227 = .ok (.goto (-57), 3) := by decide +kernel
theorem d_Mdl_tell_230 : decode prog_11_method_31_code 230 = .ok (.lload 6, 2) := by decide +kernel
theorem d_Mdl_tell_232 : decode prog_11_method_31_code 232 = .ok (.lreturn, 1) := by decide +kernel
set_option maxHeartbeats 4000000 in
set_option maxRecDepth 100000 in
theorem w_Mdl_tell_224 {res : (Int64 ⊕ (Nat × Nat)) × xH} (C : x_C l s0 A0 D R_Mdl prog_11_method_31_code 9 [] p s m args meth c) (hr : meth.sig.returnType = (some .long)) (hnm : meth.name = "tell") (hRf : 1 ≤ R.frames) (hRl : 35 ≤ R.locals) {k170 : Nat → Int32 → Int32 → Int64 → Int32 → xM Int64} (hs170 : ∀ (l0 : Nat) (l1 : Int32) (l3 : Int32) (l6 : Int64) (l8 : Int32) (h : xH) (H : Heap) (locs : List Loc) (cells slots : Nat) (ls : Array Slot), k170 l0 l1 l3 l6 l8 h = some res → x_S s0 D R h H locs cells slots → lv_has ls 9 [(0, .ref l0), (1, .int l1), (3, .int l3), (6, .long l6), (8, .int l8)] → W p l e R s m args below meth c H locs cells slots (x_Q s0 D below s R (x_oc vJ res.1) res.2) (F0 m 170 ls [])) (l0 : Nat) (l1 : Int32) (l3 : Int32) (l6 : Int64) (l8 : Int32) (hp : f_Mdl_tell_b224 k170 l0 l1 l3 l6 l8 h = some res) (hH : x_S s0 D R h H locs cells slots) (hl : lv_has ls 9 [(0, .ref l0), (1, .int l1), (3, .int l3), (6, .long l6), (8, .int l8)]) : W p l e R s m args below meth c H locs cells slots (x_Q s0 D below s R (x_oc vJ res.1) res.2) (F0 m 224 ls []) := by
  obtain ⟨hx, hb, hown, hts, hK, hml, hW, Z, -⟩ := id C
  unfold f_Mdl_tell_b224 at hp
  refine lv_iinc (v := (l8 + 1)) (lv' := [(8, .int (l8 + 1)), (0, .ref l0), (1, .int l1), (3, .int l3), (6, .long l6)]) hx hb d_Mdl_tell_224 hl (k := 4) rfl rfl (by decide) rfl (fun ls hl => ?_)
  refine lv_goto (tgt := 170) hx hb d_Mdl_tell_227 (by decide) ?_
  exact hs170 l0 l1 l3 l6 (l8 + 1) _ _ _ _ _ _ hp hH (lv_sub hl [1, 2, 3, 4, 0] rfl)
set_option maxHeartbeats 4000000 in
set_option maxRecDepth 100000 in
theorem w_Mdl_tell_192 {res : (Int64 ⊕ (Nat × Nat)) × xH} (C : x_C l s0 A0 D R_Mdl prog_11_method_31_code 9 [] p s m args meth c) (hr : meth.sig.returnType = (some .long)) (hnm : meth.name = "tell") (hRf : 1 ≤ R.frames) (hRl : 35 ≤ R.locals) {k170 : Nat → Int32 → Int32 → Int64 → Int32 → xM Int64} (hs170 : ∀ (l0 : Nat) (l1 : Int32) (l3 : Int32) (l6 : Int64) (l8 : Int32) (h : xH) (H : Heap) (locs : List Loc) (cells slots : Nat) (ls : Array Slot), k170 l0 l1 l3 l6 l8 h = some res → x_S s0 D R h H locs cells slots → lv_has ls 9 [(0, .ref l0), (1, .int l1), (3, .int l3), (6, .long l6), (8, .int l8)] → W p l e R s m args below meth c H locs cells slots (x_Q s0 D below s R (x_oc vJ res.1) res.2) (F0 m 170 ls [])) (l0 : Nat) (l1 : Int32) (l3 : Int32) (l6 : Int64) (l8 : Int32) (hp : f_Mdl_tell_b192 k170 l0 l1 l3 l6 l8 h = some res) (hH : x_S s0 D R h H locs cells slots) (hl : lv_has ls 9 [(0, .ref l0), (1, .int l1), (3, .int l3), (6, .long l6), (8, .int l8)]) : W p l e R s m args below meth c H locs cells slots (x_Q s0 D below s R (x_oc vJ res.1) res.2) (F0 m 192 ls []) := by
  obtain ⟨hx, hb, hown, hts, hK, hml, hW, Z, -⟩ := id C
  unfold f_Mdl_tell_b192 at hp
  refine lv_lload hx hb d_Mdl_tell_192 (lv_at hl 3 rfl) ?_
  refine lv_aload_n hx hb d_Mdl_tell_194 rfl (lv_at hl 0 rfl) ?_
  refine x_gA C hH fl_Mdl_31 d_Mdl_tell_195 hp (fun v1 hp => ?_)
  refine lv_bipush (v := 30) hx hb d_Mdl_tell_198 (by decide) ?_
  refine lv_iload_n hx hb d_Mdl_tell_200 rfl (lv_at hl 1 rfl) ?_
  refine lv_imul hx hb d_Mdl_tell_201 ?_
  refine lv_iload hx hb d_Mdl_tell_202 (lv_at hl 4 rfl) ?_
  refine lv_iadd hx hb d_Mdl_tell_204 ?_
  refine x_lI C hH d_Mdl_tell_205 hp (fun v2 hp => ?_)
  refine lv_i2l (v := v2.toInt64) hx hb d_Mdl_tell_206 rfl ?_
  refine lv_aload_n hx hb d_Mdl_tell_207 rfl (lv_at hl 0 rfl) ?_
  refine x_gA C hH fl_Mdl_40 d_Mdl_tell_208 hp (fun v3 hp => ?_)
  refine lv_bipush (v := 30) hx hb d_Mdl_tell_211 (by decide) ?_
  refine lv_iload_n hx hb d_Mdl_tell_213 rfl (lv_at hl 1 rfl) ?_
  refine lv_imul hx hb d_Mdl_tell_214 ?_
  refine lv_iload hx hb d_Mdl_tell_215 (lv_at hl 4 rfl) ?_
  refine lv_iadd hx hb d_Mdl_tell_217 ?_
  refine x_lI C hH d_Mdl_tell_218 hp (fun v4 hp => ?_)
  refine lv_i2l (v := v4.toInt64) hx hb d_Mdl_tell_219 rfl ?_
  refine lv_lmul hx hb d_Mdl_tell_220 ?_
  refine lv_ladd hx hb d_Mdl_tell_221 ?_
  refine lv_lstore (lv' := [(6, .long (l6 + (v2.toInt64 * v4.toInt64))), (0, .ref l0), (1, .int l1), (3, .int l3), (8, .int l8)]) hx hb d_Mdl_tell_222 hl (by decide) rfl (fun ls hl => ?_)
  exact w_Mdl_tell_224 C hr hnm hRf hRl hs170 l0 l1 l3 (l6 + (v2.toInt64 * v4.toInt64)) l8 hp hH (lv_sub hl [1, 2, 3, 0, 4] rfl)
set_option maxHeartbeats 4000000 in
set_option maxRecDepth 100000 in
theorem w_Mdl_tell_170 {res : (Int64 ⊕ (Nat × Nat)) × xH} (C : x_C l s0 A0 D R_Mdl prog_11_method_31_code 9 [] p s m args meth c) (hr : meth.sig.returnType = (some .long)) (hnm : meth.name = "tell") (hRf : 1 ≤ R.frames) (hRl : 35 ≤ R.locals) {k170 : Nat → Int32 → Int32 → Int64 → Int32 → xM Int64} (hs170 : ∀ (l0 : Nat) (l1 : Int32) (l3 : Int32) (l6 : Int64) (l8 : Int32) (h : xH) (H : Heap) (locs : List Loc) (cells slots : Nat) (ls : Array Slot), k170 l0 l1 l3 l6 l8 h = some res → x_S s0 D R h H locs cells slots → lv_has ls 9 [(0, .ref l0), (1, .int l1), (3, .int l3), (6, .long l6), (8, .int l8)] → W p l e R s m args below meth c H locs cells slots (x_Q s0 D below s R (x_oc vJ res.1) res.2) (F0 m 170 ls [])) (l0 : Nat) (l1 : Int32) (l3 : Int32) (l6 : Int64) (l8 : Int32) (hp : f_Mdl_tell_b170 k170 l0 l1 l3 l6 l8 h = some res) (hH : x_S s0 D R h H locs cells slots) (hl : lv_has ls 9 [(0, .ref l0), (1, .int l1), (3, .int l3), (6, .long l6), (8, .int l8)]) : W p l e R s m args below meth c H locs cells slots (x_Q s0 D below s R (x_oc vJ res.1) res.2) (F0 m 170 ls []) := by
  obtain ⟨hx, hb, hown, hts, hK, hml, hW, Z, -⟩ := id C
  unfold f_Mdl_tell_b170 at hp
  refine lv_iload hx hb d_Mdl_tell_170 (lv_at hl 4 rfl) ?_
  refine lv_bipush (v := 30) hx hb d_Mdl_tell_172 (by decide) ?_
  refine lv_icmp_ge (tgt := 230) hx hb d_Mdl_tell_174 (by decide) (fun hc => ?_) (fun hc => ?_)
  · replace hp := x_ifp hc hp
    refine lv_lload hx hb d_Mdl_tell_230 (lv_at hl 3 rfl) ?_
    exact x_lret C hH hr d_Mdl_tell_232 hp
  · replace hp := x_ifn hc hp
    refine lv_iload_n hx hb d_Mdl_tell_177 rfl (lv_at hl 2 rfl) ?_
    refine lv_if_lt (tgt := 192) hx hb d_Mdl_tell_178 (by decide) (fun hc => ?_) (fun hc => ?_)
    · replace hp := x_ifp hc hp
      exact w_Mdl_tell_192 C hr hnm hRf hRl hs170 l0 l1 l3 l6 l8 hp hH (lv_sub hl [0, 1, 2, 3, 4] rfl)
    · replace hp := x_ifn hc hp
      refine lv_iload hx hb d_Mdl_tell_181 (lv_at hl 4 rfl) ?_
      refine lv_aload_n hx hb d_Mdl_tell_183 rfl (lv_at hl 0 rfl) ?_
      refine x_gI C hH fl_Mdl_114 d_Mdl_tell_184 hp (fun v1 hp => ?_)
      obtain ⟨hz, hp⟩ := rI_i hp
      refine lv_irem hx hb d_Mdl_tell_187 hz ?_
      generalize ev2 : l8 - l8 / v1 * v1 = v2 at hp ⊢
      refine lv_iload_n hx hb d_Mdl_tell_188 rfl (lv_at hl 2 rfl) ?_
      refine lv_icmp_ne (tgt := 224) hx hb d_Mdl_tell_189 (by decide) (fun hc => ?_) (fun hc => ?_)
      · replace hp := x_ifn hc hp
        exact w_Mdl_tell_224 C hr hnm hRf hRl hs170 l0 l1 l3 l6 l8 hp hH (lv_sub hl [0, 1, 2, 3, 4] rfl)
      · replace hp := x_ifp hc hp
        exact w_Mdl_tell_192 C hr hnm hRf hRl hs170 l0 l1 l3 l6 l8 hp hH (lv_sub hl [0, 1, 2, 3, 4] rfl)
theorem w_Mdl_tell_h170 {res : (Int64 ⊕ (Nat × Nat)) × xH} (C : x_C l s0 A0 D R_Mdl prog_11_method_31_code 9 [] p s m args meth c) (hr : meth.sig.returnType = (some .long)) (hnm : meth.name = "tell") (hRf : 1 ≤ R.frames) (hRl : 35 ≤ R.locals)  : ∀ (n : Nat) (l0 : Nat) (l1 : Int32) (l3 : Int32) (l6 : Int64) (l8 : Int32) (h : xH) (H : Heap) (locs : List Loc) (cells slots : Nat) (ls : Array Slot), f_Mdl_tell_h170 n l0 l1 l3 l6 l8 h = some res → x_S s0 D R h H locs cells slots → lv_has ls 9 [(0, .ref l0), (1, .int l1), (3, .int l3), (6, .long l6), (8, .int l8)] → W p l e R s m args below meth c H locs cells slots (x_Q s0 D below s R (x_oc vJ res.1) res.2) (F0 m 170 ls []) := by
  intro n
  induction n with
  | zero => intro l0 l1 l3 l6 l8 h H locs cells slots ls hp hH hl; cases hp
  | succ n ih => intro l0 l1 l3 l6 l8 h H locs cells slots ls hp hH hl; exact w_Mdl_tell_170 C hr hnm hRf hRl ih l0 l1 l3 l6 l8 hp hH hl
set_option maxHeartbeats 4000000 in
set_option maxRecDepth 100000 in
theorem w_Mdl_tell_115 {res : (Int64 ⊕ (Nat × Nat)) × xH} (C : x_C l s0 A0 D R_Mdl prog_11_method_31_code 9 [] p s m args meth c) (hr : meth.sig.returnType = (some .long)) (hnm : meth.name = "tell") (hRf : 1 ≤ R.frames) (hRl : 35 ≤ R.locals) {k115 : Nat → Int32 → Int64 → Int32 → xM Int64} (hs115 : ∀ (l0 : Nat) (l5 : Int32) (l6 : Int64) (l8 : Int32) (h : xH) (H : Heap) (locs : List Loc) (cells slots : Nat) (ls : Array Slot), k115 l0 l5 l6 l8 h = some res → x_S s0 D R h H locs cells slots → lv_has ls 9 [(0, .ref l0), (5, .int l5), (6, .long l6), (8, .int l8)] → W p l e R s m args below meth c H locs cells slots (x_Q s0 D below s R (x_oc vJ res.1) res.2) (F0 m 115 ls [])) (l0 : Nat) (l5 : Int32) (l6 : Int64) (l8 : Int32) (hp : f_Mdl_tell_b115 k115 l0 l5 l6 l8 h = some res) (hH : x_S s0 D R h H locs cells slots) (hl : lv_has ls 9 [(0, .ref l0), (5, .int l5), (6, .long l6), (8, .int l8)]) : W p l e R s m args below meth c H locs cells slots (x_Q s0 D below s R (x_oc vJ res.1) res.2) (F0 m 115 ls []) := by
  obtain ⟨hx, hb, hown, hts, hK, hml, hW, Z, -⟩ := id C
  unfold f_Mdl_tell_b115 at hp
  refine lv_iload hx hb d_Mdl_tell_115 (lv_at hl 3 rfl) ?_
  refine lv_bipush (v := 30) hx hb d_Mdl_tell_117 (by decide) ?_
  refine lv_icmp_ge (tgt := 147) hx hb d_Mdl_tell_119 (by decide) (fun hc => ?_) (fun hc => ?_)
  · replace hp := x_ifp hc hp
    refine lv_lload hx hb d_Mdl_tell_147 (lv_at hl 2 rfl) ?_
    exact x_lret C hH hr d_Mdl_tell_149 hp
  · replace hp := x_ifn hc hp
    refine lv_lload hx hb d_Mdl_tell_122 (lv_at hl 2 rfl) ?_
    refine lv_aload_n hx hb d_Mdl_tell_124 rfl (lv_at hl 0 rfl) ?_
    refine x_gA C hH fl_Mdl_43 d_Mdl_tell_125 hp (fun v1 hp => ?_)
    refine lv_bipush (v := 30) hx hb d_Mdl_tell_128 (by decide) ?_
    refine lv_iload hx hb d_Mdl_tell_130 (lv_at hl 1 rfl) ?_
    refine lv_imul hx hb d_Mdl_tell_132 ?_
    refine lv_iload hx hb d_Mdl_tell_133 (lv_at hl 3 rfl) ?_
    refine lv_iadd hx hb d_Mdl_tell_135 ?_
    refine x_lI C hH d_Mdl_tell_136 hp (fun v2 hp => ?_)
    refine lv_i2l (v := v2.toInt64) hx hb d_Mdl_tell_137 rfl ?_
    refine lv_ladd hx hb d_Mdl_tell_138 ?_
    refine lv_lstore (lv' := [(6, .long (l6 + v2.toInt64)), (0, .ref l0), (5, .int l5), (8, .int l8)]) hx hb d_Mdl_tell_139 hl (by decide) rfl (fun ls hl => ?_)
    refine lv_iinc (v := (l8 + 1)) (lv' := [(8, .int (l8 + 1)), (6, .long (l6 + v2.toInt64)), (0, .ref l0), (5, .int l5)]) hx hb d_Mdl_tell_141 hl (k := 3) rfl rfl (by decide) rfl (fun ls hl => ?_)
    refine lv_goto (tgt := 115) hx hb d_Mdl_tell_144 (by decide) ?_
    exact hs115 l0 l5 (l6 + v2.toInt64) (l8 + 1) _ _ _ _ _ _ hp hH (lv_sub hl [2, 3, 1, 0] rfl)
theorem w_Mdl_tell_h115 {res : (Int64 ⊕ (Nat × Nat)) × xH} (C : x_C l s0 A0 D R_Mdl prog_11_method_31_code 9 [] p s m args meth c) (hr : meth.sig.returnType = (some .long)) (hnm : meth.name = "tell") (hRf : 1 ≤ R.frames) (hRl : 35 ≤ R.locals)  : ∀ (n : Nat) (l0 : Nat) (l5 : Int32) (l6 : Int64) (l8 : Int32) (h : xH) (H : Heap) (locs : List Loc) (cells slots : Nat) (ls : Array Slot), f_Mdl_tell_h115 n l0 l5 l6 l8 h = some res → x_S s0 D R h H locs cells slots → lv_has ls 9 [(0, .ref l0), (5, .int l5), (6, .long l6), (8, .int l8)] → W p l e R s m args below meth c H locs cells slots (x_Q s0 D below s R (x_oc vJ res.1) res.2) (F0 m 115 ls []) := by
  intro n
  induction n with
  | zero => intro l0 l5 l6 l8 h H locs cells slots ls hp hH hl; cases hp
  | succ n ih => intro l0 l5 l6 l8 h H locs cells slots ls hp hH hl; exact w_Mdl_tell_115 C hr hnm hRf hRl ih l0 l5 l6 l8 hp hH hl
set_option maxHeartbeats 4000000 in
set_option maxRecDepth 100000 in
theorem w_Mdl_tell_0 {res : (Int64 ⊕ (Nat × Nat)) × xH} (C : x_C l s0 A0 D R_Mdl prog_11_method_31_code 9 [] p s m args meth c) (hr : meth.sig.returnType = (some .long)) (hnm : meth.name = "tell") (hRf : 1 ≤ R.frames) (hRl : 35 ≤ R.locals)  (l0 : Nat) (l1 : Int32) (l2 : Int32) (l3 : Int32) (hp : f_Mdl_tell l0 l1 l2 l3 h = some res) (hH : x_S s0 D R h H locs cells slots) (hl : lv_has ls 9 [(0, .ref l0), (1, .int l1), (2, .int l2), (3, .int l3)]) : W p l e R s m args below meth c H locs cells slots (x_Q s0 D below s R (x_oc vJ res.1) res.2) (F0 m 0 ls []) := by
  obtain ⟨hx, hb, hown, hts, hK, hml, hW, Z, -⟩ := id C
  unfold f_Mdl_tell at hp
  refine lv_bipush (v := 30) hx hb d_Mdl_tell_0 (by decide) ?_
  refine lv_iload_n hx hb d_Mdl_tell_2 rfl (lv_at hl 1 rfl) ?_
  refine lv_imul hx hb d_Mdl_tell_3 ?_
  refine lv_iload_n hx hb d_Mdl_tell_4 rfl (lv_at hl 3 rfl) ?_
  refine lv_iadd hx hb d_Mdl_tell_5 ?_
  refine lv_istore (lv' := [(4, .int ((30 * l1) + l3)), (0, .ref l0), (1, .int l1), (2, .int l2), (3, .int l3)]) hx hb d_Mdl_tell_6 hl (by decide) rfl (fun ls hl => ?_)
  refine lv_bipush (v := 10) hx hb d_Mdl_tell_8 (by decide) ?_
  refine lv_iload_n hx hb d_Mdl_tell_10 rfl (lv_at hl 2 rfl) ?_
  refine lv_imul hx hb d_Mdl_tell_11 ?_
  refine lv_iload_n hx hb d_Mdl_tell_12 rfl (lv_at hl 4 rfl) ?_
  refine lv_iadd hx hb d_Mdl_tell_13 ?_
  refine lv_istore (lv' := [(5, .int ((10 * l1) + l3)), (4, .int ((30 * l1) + l3)), (0, .ref l0), (1, .int l1), (2, .int l2), (3, .int l3)]) hx hb d_Mdl_tell_14 hl (by decide) rfl (fun ls hl => ?_)
  refine lv_lconst (v := 0) hx hb d_Mdl_tell_16 (by decide) ?_
  refine lv_lstore (lv' := [(6, .long 0), (5, .int ((10 * l1) + l3)), (4, .int ((30 * l1) + l3)), (0, .ref l0), (1, .int l1), (2, .int l2), (3, .int l3)]) hx hb d_Mdl_tell_17 hl (by decide) rfl (fun ls hl => ?_)
  refine lv_iload_n hx hb d_Mdl_tell_19 rfl (lv_at hl 5 rfl) ?_
  by_cases hc0 : l2 = 0
  · replace hp := x_ifp hc0 hp
    refine lv_tableIn (off := 48) (tgt := 68) hx hb d_Mdl_tell_20 (by rw [hc0]; decide) (by rw [hc0]; decide) (by rw [hc0]; rfl) (by decide) ?_
    refine lv_aload_n hx hb d_Mdl_tell_68 rfl (lv_at hl 3 rfl) ?_
    refine x_gA C hH fl_Mdl_31 d_Mdl_tell_69 hp (fun v1 hp => ?_)
    refine lv_iload hx hb d_Mdl_tell_72 (lv_at hl 2 rfl) ?_
    refine x_lI C hH d_Mdl_tell_74 hp (fun v2 hp => ?_)
    refine lv_i2l (v := v2.toInt64) hx hb d_Mdl_tell_75 rfl ?_
    exact x_lret C hH hr d_Mdl_tell_76 hp
  replace hp := x_ifn hc0 hp
  by_cases hc1 : l2 = 1
  · replace hp := x_ifp hc1 hp
    refine lv_tableIn (off := 57) (tgt := 77) hx hb d_Mdl_tell_20 (by rw [hc1]; decide) (by rw [hc1]; decide) (by rw [hc1]; rfl) (by decide) ?_
    refine lv_aload_n hx hb d_Mdl_tell_77 rfl (lv_at hl 3 rfl) ?_
    refine x_gA C hH fl_Mdl_34 d_Mdl_tell_78 hp (fun v3 hp => ?_)
    refine lv_iload hx hb d_Mdl_tell_81 (lv_at hl 2 rfl) ?_
    refine x_lI C hH d_Mdl_tell_83 hp (fun v4 hp => ?_)
    refine lv_i2l (v := v4.toInt64) hx hb d_Mdl_tell_84 rfl ?_
    exact x_lret C hH hr d_Mdl_tell_85 hp
  replace hp := x_ifn hc1 hp
  by_cases hc2 : l2 = 2
  · replace hp := x_ifp hc2 hp
    refine lv_tableIn (off := 66) (tgt := 86) hx hb d_Mdl_tell_20 (by rw [hc2]; decide) (by rw [hc2]; decide) (by rw [hc2]; rfl) (by decide) ?_
    refine lv_aload_n hx hb d_Mdl_tell_86 rfl (lv_at hl 3 rfl) ?_
    refine x_gA C hH fl_Mdl_37 d_Mdl_tell_87 hp (fun v5 hp => ?_)
    refine lv_iload hx hb d_Mdl_tell_90 (lv_at hl 2 rfl) ?_
    refine x_lI C hH d_Mdl_tell_92 hp (fun v6 hp => ?_)
    refine lv_i2l (v := v6.toInt64) hx hb d_Mdl_tell_93 rfl ?_
    exact x_lret C hH hr d_Mdl_tell_94 hp
  replace hp := x_ifn hc2 hp
  by_cases hc3 : l2 = 3
  · replace hp := x_ifp hc3 hp
    refine lv_tableIn (off := 75) (tgt := 95) hx hb d_Mdl_tell_20 (by rw [hc3]; decide) (by rw [hc3]; decide) (by rw [hc3]; rfl) (by decide) ?_
    refine lv_aload_n hx hb d_Mdl_tell_95 rfl (lv_at hl 3 rfl) ?_
    refine x_gA C hH fl_Mdl_40 d_Mdl_tell_96 hp (fun v7 hp => ?_)
    refine lv_iload hx hb d_Mdl_tell_99 (lv_at hl 2 rfl) ?_
    refine x_lI C hH d_Mdl_tell_101 hp (fun v8 hp => ?_)
    refine lv_i2l (v := v8.toInt64) hx hb d_Mdl_tell_102 rfl ?_
    exact x_lret C hH hr d_Mdl_tell_103 hp
  replace hp := x_ifn hc3 hp
  by_cases hc4 : l2 = 4
  · replace hp := x_ifp hc4 hp
    refine lv_tableIn (off := 84) (tgt := 104) hx hb d_Mdl_tell_20 (by rw [hc4]; decide) (by rw [hc4]; decide) (by rw [hc4]; rfl) (by decide) ?_
    refine lv_aload_n hx hb d_Mdl_tell_104 rfl (lv_at hl 3 rfl) ?_
    refine x_gA C hH fl_Mdl_46 d_Mdl_tell_105 hp (fun v9 hp => ?_)
    refine lv_iload hx hb d_Mdl_tell_108 (lv_at hl 1 rfl) ?_
    refine x_lJ C hH d_Mdl_tell_110 hp (fun v10 hp => ?_)
    exact x_lret C hH hr d_Mdl_tell_111 hp
  replace hp := x_ifn hc4 hp
  by_cases hc5 : l2 = 5
  · replace hp := x_ifp hc5 hp
    refine lv_tableIn (off := 92) (tgt := 112) hx hb d_Mdl_tell_20 (by rw [hc5]; decide) (by rw [hc5]; decide) (by rw [hc5]; rfl) (by decide) ?_
    refine lv_iconst (v := 0) hx hb d_Mdl_tell_112 (by decide) ?_
    refine lv_istore (lv' := [(8, .int 0), (6, .long 0), (5, .int ((10 * l1) + l3)), (4, .int ((30 * l1) + l3)), (0, .ref l0), (1, .int l1), (2, .int l2), (3, .int l3)]) hx hb d_Mdl_tell_113 hl (by decide) rfl (fun ls hl => ?_)
    exact w_Mdl_tell_h115 C hr hnm hRf hRl  1000 l0 ((10 * l1) + l3) 0 0 _ _ _ _ _ _ hp hH (lv_sub hl [4, 2, 1, 0] rfl)
  replace hp := x_ifn hc5 hp
  by_cases hc6 : l2 = 6
  · replace hp := x_ifp hc6 hp
    refine lv_tableIn (off := 130) (tgt := 150) hx hb d_Mdl_tell_20 (by rw [hc6]; decide) (by rw [hc6]; decide) (by rw [hc6]; rfl) (by decide) ?_
    refine lv_aload_n hx hb d_Mdl_tell_150 rfl (lv_at hl 3 rfl) ?_
    refine x_gA C hH fl_Mdl_50 d_Mdl_tell_151 hp (fun v11 hp => ?_)
    refine lv_iload hx hb d_Mdl_tell_154 (lv_at hl 1 rfl) ?_
    refine x_lI C hH d_Mdl_tell_156 hp (fun v12 hp => ?_)
    refine lv_i2l (v := v12.toInt64) hx hb d_Mdl_tell_157 rfl ?_
    exact x_lret C hH hr d_Mdl_tell_158 hp
  replace hp := x_ifn hc6 hp
  by_cases hc7 : l2 = 7
  · replace hp := x_ifp hc7 hp
    refine lv_tableIn (off := 139) (tgt := 159) hx hb d_Mdl_tell_20 (by rw [hc7]; decide) (by rw [hc7]; decide) (by rw [hc7]; rfl) (by decide) ?_
    refine lv_aload_n hx hb d_Mdl_tell_159 rfl (lv_at hl 3 rfl) ?_
    refine lv_iload_n hx hb d_Mdl_tell_160 rfl (lv_at hl 4 rfl) ?_
    refine lv_iload_n hx hb d_Mdl_tell_161 rfl (lv_at hl 6 rfl) ?_
    refine x_callV (As := [.int l1, .int l3]) (rest := []) (cv := vI) C hH kc_Mdl_225 d_Mdl_tell_162 hp (fun o h' e => m_Mdl_ranked Z e) rfl hl.1 (Nat.le_trans (Nat.le_of_ble_eq_true rfl) hRf) (Nat.le_trans (Nat.le_of_ble_eq_true rfl) hRl) (Nat.le_of_ble_eq_true rfl) (fun v13 h H locs cells slots hp hH => ?_)
    refine W.eq (g2 := F0 m 165 ls [.int v13]) rfl ?_
    refine lv_i2l (v := v13.toInt64) hx hb d_Mdl_tell_165 rfl ?_
    exact x_lret C hH hr d_Mdl_tell_166 hp
  replace hp := x_ifn hc7 hp
  have n0 := lv_neT hc0 (k := 0) (a := 0) (by decide)
  have n1 := lv_neT hc1 (k := 1) (a := 1) (by decide)
  have n2 := lv_neT hc2 (k := 2) (a := 2) (by decide)
  have n3 := lv_neT hc3 (k := 3) (a := 3) (by decide)
  have n4 := lv_neT hc4 (k := 4) (a := 4) (by decide)
  have n5 := lv_neT hc5 (k := 5) (a := 5) (by decide)
  have n6 := lv_neT hc6 (k := 6) (a := 6) (by decide)
  have n7 := lv_neT hc7 (k := 7) (a := 7) (by decide)
  refine lv_tableOut (tgt := 167) hx hb d_Mdl_tell_20 (by omega) (by decide) ?_
  refine lv_iconst (v := 0) hx hb d_Mdl_tell_167 (by decide) ?_
  refine lv_istore (lv' := [(8, .int 0), (6, .long 0), (5, .int ((10 * l1) + l3)), (4, .int ((30 * l1) + l3)), (0, .ref l0), (1, .int l1), (2, .int l2), (3, .int l3)]) hx hb d_Mdl_tell_168 hl (by decide) rfl (fun ls hl => ?_)
  exact w_Mdl_tell_h170 C hr hnm hRf hRl  1000 l0 l1 l3 0 0 _ _ _ _ _ _ hp hH (lv_sub hl [4, 5, 7, 1, 0] rfl)
set_option maxRecDepth 100000 in
theorem m_Mdl_tell (Z : x_Z l s0 A0 D) {l0 : Nat} {l1 : Int32} {l2 : Int32} {l3 : Int32} {res : (Int64 ⊕ (Nat × Nat)) × xH} (hp : f_Mdl_tell l0 l1 l2 l3 h = some res) : x_M l s0 D y_Mdl_tell (x_cw y_Mdl_tell prog_11_method_31_code 9 (some .long) []) 1 35 [.ref l0, .int l1, .int l2, .int l3] h (x_oc vJ res.1) res.2 := by
  refine x_M.ofW Z (plainFor_of_name (by decide)) ?_
  intro p e s m below meth c C hnm hr hH
  have hl := lv_entry ([.ref l0, .int l1, .int l2, .int l3]) (n := 9) (Nat.le_of_ble_eq_true rfl)
  rw [lg_entry_eq]
  generalize (lg_sl ([.ref l0, .int l1, .int l2, .int l3]) ++ List.replicate (9 - (lg_sl ([.ref l0, .int l1, .int l2, .int l3])).length) Slot.unset).toArray = ls at hl ⊢
  exact w_Mdl_tell_0 C hr hnm (Nat.le_refl _) (Nat.le_refl _) l0 l1 l2 l3 hp hH hl
/-! ReadSideModel.check(J)J -/
theorem d_Mdl_check_0 : decode prog_11_method_6_code 0 = .ok (.lload_n 0, 1) := by decide +kernel
theorem d_Mdl_check_1 : decode prog_11_method_6_code 1 = .ok (.ldc2_w 124, 3) := by decide +kernel
theorem d_Mdl_check_4 : decode prog_11_method_6_code 4 = .ok (.lmul, 1) := by decide +kernel
theorem d_Mdl_check_5 : decode prog_11_method_6_code 5 = .ok (.bipush 44, 2) := by decide +kernel
theorem d_Mdl_check_7 : decode prog_11_method_6_code 7 = .ok (.lushr, 1) := by decide +kernel
theorem d_Mdl_check_8 : decode prog_11_method_6_code 8 = .ok (.lreturn, 1) := by decide +kernel
set_option maxHeartbeats 4000000 in
set_option maxRecDepth 100000 in
theorem w_Mdl_check_0 {res : (Int64 ⊕ (Nat × Nat)) × xH} (C : x_C l s0 A0 D R_Mdl prog_11_method_6_code 2 [] p s m args meth c) (hr : meth.sig.returnType = (some .long)) (hnm : meth.name = "check") (hRf : 0 ≤ R.frames) (hRl : 0 ≤ R.locals)  (l0 : Int64) (hp : f_Mdl_check l0 h = some res) (hH : x_S s0 D R h H locs cells slots) (hl : lv_has ls 2 [(0, .long l0)]) : W p l e R s m args below meth c H locs cells slots (x_Q s0 D below s R (x_oc vJ res.1) res.2) (F0 m 0 ls []) := by
  obtain ⟨hx, hb, hown, hts, hK, hml, hW, Z, -⟩ := id C
  unfold f_Mdl_check at hp
  refine lv_lload_n hx hb d_Mdl_check_0 rfl (lv_at hl 0 rfl) ?_
  refine lv_ldc2 hx hb hown (hts _ k_887) d_Mdl_check_1 ?_
  refine lv_lmul hx hb d_Mdl_check_4 ?_
  refine lv_bipush (v := 44) hx hb d_Mdl_check_5 (by decide) ?_
  refine lv_lushr (v := ((l0 * (-7046029254386353131)).toUInt64 >>> ((44 : Int32).toInt64.toUInt64 &&& Int64.toUInt64 63)).toInt64) hx hb d_Mdl_check_7 rfl ?_
  exact x_lret C hH hr d_Mdl_check_8 hp
set_option maxRecDepth 100000 in
theorem m_Mdl_check (Z : x_Z l s0 A0 D) {l0 : Int64} {res : (Int64 ⊕ (Nat × Nat)) × xH} (hp : f_Mdl_check l0 h = some res) : x_M l s0 D y_Mdl_check (x_cw y_Mdl_check prog_11_method_6_code 2 (some .long) []) 0 0 [.long l0] h (x_oc vJ res.1) res.2 := by
  refine x_M.ofW Z (plainFor_of_name (by decide)) ?_
  intro p e s m below meth c C hnm hr hH
  have hl := lv_entry ([.long l0]) (n := 2) (Nat.le_of_ble_eq_true rfl)
  rw [lg_entry_eq]
  generalize (lg_sl ([.long l0]) ++ List.replicate (2 - (lg_sl ([.long l0])).length) Slot.unset).toArray = ls at hl ⊢
  exact w_Mdl_check_0 C hr hnm (Nat.le_refl _) (Nat.le_refl _) l0 hp hH hl
/-! ReadSideModel.tokenOf(III)J -/
theorem d_Mdl_tokenOf_0 : decode prog_11_method_7_code 0 = .ok (.iload_n 0, 1) := by decide +kernel
theorem d_Mdl_tokenOf_1 : decode prog_11_method_7_code 1 = .ok (.i2l, 1) := by decide +kernel
theorem d_Mdl_tokenOf_2 : decode prog_11_method_7_code 2 = .ok (.ldc2_w 126, 3) := by decide +kernel
theorem d_Mdl_tokenOf_5 : decode prog_11_method_7_code 5 = .ok (.iload_n 1, 1) := by decide +kernel
theorem d_Mdl_tokenOf_6 : decode prog_11_method_7_code 6 = .ok (.i2l, 1) := by decide +kernel
theorem d_Mdl_tokenOf_7 : decode prog_11_method_7_code 7 = .ok (.lmul, 1) := by decide +kernel
theorem d_Mdl_tokenOf_8 : decode prog_11_method_7_code 8 = .ok (.ladd, 1) := by decide +kernel
theorem d_Mdl_tokenOf_9 : decode prog_11_method_7_code 9 = .ok (.ldc2_w 128, 3) := by decide +kernel
theorem d_Mdl_tokenOf_12 : decode prog_11_method_7_code 12 = .ok (.iload_n 2, 1) := by decide +kernel
theorem d_Mdl_tokenOf_13 : decode prog_11_method_7_code 13 = .ok (.i2l, 1) := by decide +kernel
theorem d_Mdl_tokenOf_14 : decode prog_11_method_7_code 14 = .ok (.lmul, 1) := by decide +kernel
theorem d_Mdl_tokenOf_15 : decode prog_11_method_7_code 15 = .ok (.ladd, 1) := by decide +kernel
theorem d_Mdl_tokenOf_16 : decode prog_11_method_7_code 16 = .ok (.lstore_n 3, 1) := by decide +kernel
theorem d_Mdl_tokenOf_17 : decode prog_11_method_7_code 17 = .ok (.lload_n 3, 1) := by decide +kernel
theorem d_Mdl_tokenOf_18 : decode prog_11_method_7_code 18 = .ok (.ldc2_w 130, 3) := by decide +kernel
theorem d_Mdl_tokenOf_21 : decode prog_11_method_7_code 21 = .ok (.lmul, 1) := by decide +kernel
theorem d_Mdl_tokenOf_22 : decode prog_11_method_7_code 22 = .ok (.lload_n 3, 1) := by decide +kernel
theorem d_Mdl_tokenOf_23 : decode prog_11_method_7_code 23 = .ok (.invokestatic 132, 3) := by decide +kernel
theorem d_Mdl_tokenOf_26 : decode prog_11_method_7_code 26 = .ok (.ladd, 1) := by decide +kernel
theorem d_Mdl_tokenOf_27 : decode prog_11_method_7_code 27 = .ok (.lreturn, 1) := by decide +kernel
set_option maxHeartbeats 4000000 in
set_option maxRecDepth 100000 in
theorem w_Mdl_tokenOf_0 {res : (Int64 ⊕ (Nat × Nat)) × xH} (C : x_C l s0 A0 D R_Mdl prog_11_method_7_code 5 [] p s m args meth c) (hr : meth.sig.returnType = (some .long)) (hnm : meth.name = "tokenOf") (hRf : 1 ≤ R.frames) (hRl : 29 ≤ R.locals)  (l0 : Int32) (l1 : Int32) (l2 : Int32) (hp : f_Mdl_tokenOf l0 l1 l2 h = some res) (hH : x_S s0 D R h H locs cells slots) (hl : lv_has ls 5 [(0, .int l0), (1, .int l1), (2, .int l2)]) : W p l e R s m args below meth c H locs cells slots (x_Q s0 D below s R (x_oc vJ res.1) res.2) (F0 m 0 ls []) := by
  obtain ⟨hx, hb, hown, hts, hK, hml, hW, Z, -⟩ := id C
  unfold f_Mdl_tokenOf at hp
  refine lv_iload_n hx hb d_Mdl_tokenOf_0 rfl (lv_at hl 0 rfl) ?_
  refine lv_i2l (v := l0.toInt64) hx hb d_Mdl_tokenOf_1 rfl ?_
  refine lv_ldc2 hx hb hown (hts _ k_881) d_Mdl_tokenOf_2 ?_
  refine lv_iload_n hx hb d_Mdl_tokenOf_5 rfl (lv_at hl 1 rfl) ?_
  refine lv_i2l (v := l1.toInt64) hx hb d_Mdl_tokenOf_6 rfl ?_
  refine lv_lmul hx hb d_Mdl_tokenOf_7 ?_
  refine lv_ladd hx hb d_Mdl_tokenOf_8 ?_
  refine lv_ldc2 hx hb hown (hts _ k_882) d_Mdl_tokenOf_9 ?_
  refine lv_iload_n hx hb d_Mdl_tokenOf_12 rfl (lv_at hl 2 rfl) ?_
  refine lv_i2l (v := l2.toInt64) hx hb d_Mdl_tokenOf_13 rfl ?_
  refine lv_lmul hx hb d_Mdl_tokenOf_14 ?_
  refine lv_ladd hx hb d_Mdl_tokenOf_15 ?_
  refine lv_lstore_n (lv' := [(3, .long ((l0.toInt64 + (512 * l1.toInt64)) + (262144 * l2.toInt64))), (0, .int l0), (1, .int l1), (2, .int l2)]) hx hb d_Mdl_tokenOf_16 rfl hl (by decide) rfl (fun ls hl => ?_)
  refine lv_lload_n hx hb d_Mdl_tokenOf_17 rfl (lv_at hl 0 rfl) ?_
  refine lv_ldc2 hx hb hown (hts _ k_883) d_Mdl_tokenOf_18 ?_
  refine lv_lmul hx hb d_Mdl_tokenOf_21 ?_
  refine lv_lload_n hx hb d_Mdl_tokenOf_22 rfl (lv_at hl 0 rfl) ?_
  refine x_callS (As := [.long ((l0.toInt64 + (512 * l1.toInt64)) + (262144 * l2.toInt64))]) (rest := [.long (((l0.toInt64 + (512 * l1.toInt64)) + (262144 * l2.toInt64)) * 1048576)]) (cv := vJ) C hH kc_Mdl_132 d_Mdl_tokenOf_23 hp (fun o h' e => m_Mdl_check Z e) rfl hl.1 (Nat.le_trans (Nat.le_of_ble_eq_true rfl) hRf) (Nat.le_trans (Nat.le_of_ble_eq_true rfl) hRl) (Nat.le_of_ble_eq_true rfl) (fun v1 h H locs cells slots hp hH => ?_)
  refine W.eq (g2 := F0 m 26 ls [.long v1, .long (((l0.toInt64 + (512 * l1.toInt64)) + (262144 * l2.toInt64)) * 1048576)]) rfl ?_
  refine lv_ladd hx hb d_Mdl_tokenOf_26 ?_
  exact x_lret C hH hr d_Mdl_tokenOf_27 hp
set_option maxRecDepth 100000 in
theorem m_Mdl_tokenOf (Z : x_Z l s0 A0 D) {l0 : Int32} {l1 : Int32} {l2 : Int32} {res : (Int64 ⊕ (Nat × Nat)) × xH} (hp : f_Mdl_tokenOf l0 l1 l2 h = some res) : x_M l s0 D y_Mdl_tokenOf (x_cw y_Mdl_tokenOf prog_11_method_7_code 5 (some .long) []) 1 29 [.int l0, .int l1, .int l2] h (x_oc vJ res.1) res.2 := by
  refine x_M.ofW Z (plainFor_of_name (by decide)) ?_
  intro p e s m below meth c C hnm hr hH
  have hl := lv_entry ([.int l0, .int l1, .int l2]) (n := 5) (Nat.le_of_ble_eq_true rfl)
  rw [lg_entry_eq]
  generalize (lg_sl ([.int l0, .int l1, .int l2]) ++ List.replicate (5 - (lg_sl ([.int l0, .int l1, .int l2])).length) Slot.unset).toArray = ls at hl ⊢
  exact w_Mdl_tokenOf_0 C hr hnm (Nat.le_refl _) (Nat.le_refl _) l0 l1 l2 hp hH hl
/-! ReadSideModel.answer(II)V -/
theorem d_Mdl_answer_0 : decode prog_11_method_34_code 0 = .ok (.aload_n 0, 1) := by decide +kernel
theorem d_Mdl_answer_1 : decode prog_11_method_34_code 1 = .ok (.getfield 78, 3) := by decide +kernel
theorem d_Mdl_answer_4 : decode prog_11_method_34_code 4 = .ok (.iload_n 2, 1) := by decide +kernel
theorem d_Mdl_answer_5 : decode prog_11_method_34_code 5 = .ok (.iconst 1, 1) := by decide +kernel
theorem d_Mdl_answer_6 : decode prog_11_method_34_code 6 = .ok (.iastore, 1) := by decide +kernel
theorem d_Mdl_answer_7 : decode prog_11_method_34_code 7 = .ok (.aload_n 0, 1) := by decide +kernel
theorem d_Mdl_answer_8 : decode prog_11_method_34_code 8 = .ok (.getfield 102, 3) := by decide +kernel
theorem d_Mdl_answer_11 : decode prog_11_method_34_code 11 = .ok (.iload_n 2, 1) := by decide +kernel
theorem d_Mdl_answer_12 : decode prog_11_method_34_code 12 = .ok (.iload_n 1, 1) := by decide +kernel
theorem d_Mdl_answer_13 : decode prog_11_method_34_code 13 = .ok (.iastore, 1) := by decide +kernel
theorem d_Mdl_answer_14 : decode prog_11_method_34_code 14 = .ok (.aload_n 0, 1) := by decide +kernel
theorem d_Mdl_answer_15 : decode prog_11_method_34_code 15 = .ok (.getfield 105, 3) := by decide +kernel
theorem d_Mdl_answer_18 : decode prog_11_method_34_code 18 = .ok (.iload_n 2, 1) := by decide +kernel
theorem d_Mdl_answer_19 : decode prog_11_method_34_code 19 = .ok (.aload_n 0, 1) := by decide +kernel
theorem d_Mdl_answer_20 : decode prog_11_method_34_code 20 = .ok (.iload_n 1, 1) := by decide +kernel
theorem d_Mdl_answer_21 : decode prog_11_method_34_code 21 = .ok (.aload_n 0, 1) := by decide +kernel
theorem d_Mdl_answer_22 : decode prog_11_method_34_code 22 = .ok (.getfield 96, 3) := by decide +kernel
theorem d_Mdl_answer_25 : decode prog_11_method_34_code 25 = .ok (.iload_n 2, 1) := by decide +kernel
theorem d_Mdl_answer_26 : decode prog_11_method_34_code 26 = .ok (.iaload, 1) := by decide +kernel
theorem d_Mdl_answer_27 : decode prog_11_method_34_code 27 = .ok (.aload_n 0, 1) := by decide +kernel
theorem d_Mdl_answer_28 : decode prog_11_method_34_code 28 = .ok (.getfield 99, 3) := by decide +kernel
theorem d_Mdl_answer_31 : decode prog_11_method_34_code 31 = .ok (.iload_n 2, 1) := by decide +kernel
theorem d_Mdl_answer_32 : decode prog_11_method_34_code 32 = .ok (.iaload, 1) := by decide +kernel
theorem d_Mdl_answer_33 : decode prog_11_method_34_code 33 = .ok (.invokevirtual 228, 3) := by decide +kernel
theorem d_Mdl_answer_36 : decode prog_11_method_34_code 36 = .ok (.lastore, 1) := by decide +kernel
theorem d_Mdl_answer_37 : decode prog_11_method_34_code 37 = .ok (.aload_n 0, 1) := by decide +kernel
theorem d_Mdl_answer_38 : decode prog_11_method_34_code 38 = .ok (.getfield 108, 3) := by decide +kernel
theorem d_Mdl_answer_41 : decode prog_11_method_34_code 41 = .ok (.iload_n 2, 1) := by decide +kernel
theorem d_Mdl_answer_42 : decode prog_11_method_34_code 42 = .ok (.aload_n 0, 1) := by decide +kernel
theorem d_Mdl_answer_43 : decode prog_11_method_34_code 43 = .ok (.getfield 53, 3) := by decide +kernel
theorem d_Mdl_answer_46 : decode prog_11_method_34_code 46 = .ok (.iconst 3, 1) := by decide +kernel
theorem d_Mdl_answer_47 : decode prog_11_method_34_code 47 = .ok (.iload_n 1, 1) := by decide +kernel
theorem d_Mdl_answer_48 : decode prog_11_method_34_code 48 = .ok (.imul, 1) := by decide +kernel
theorem d_Mdl_answer_49 : decode prog_11_method_34_code 49 = .ok (.iaload, 1) := by decide +kernel
theorem d_Mdl_answer_50 : decode prog_11_method_34_code 50 = .ok (.aload_n 0, 1) := by decide +kernel
theorem d_Mdl_answer_51 : decode prog_11_method_34_code 51 = .ok (.getfield 53, 3) := by decide +kernel
theorem d_Mdl_answer_54 : decode prog_11_method_34_code 54 = .ok (.iconst 3, 1) := by decide +kernel
theorem d_Mdl_answer_55 : decode prog_11_method_34_code 55 = .ok (.iload_n 1, 1) := by decide +kernel
theorem d_Mdl_answer_56 : decode prog_11_method_34_code 56 = .ok (.imul, 1) := by decide +kernel
theorem d_Mdl_answer_57 : decode prog_11_method_34_code 57 = .ok (.iconst 1, 1) := by decide +kernel
theorem d_Mdl_answer_58 : decode prog_11_method_34_code 58 = .ok (.iadd, 1) := by decide +kernel
theorem d_Mdl_answer_59 : decode prog_11_method_34_code 59 = .ok (.iaload, 1) := by decide +kernel
theorem d_Mdl_answer_60 : decode prog_11_method_34_code 60 = .ok (.aload_n 0, 1) := by decide +kernel
theorem d_Mdl_answer_61 : decode prog_11_method_34_code 61 = .ok (.getfield 53, 3) := by decide +kernel
theorem d_Mdl_answer_64 : decode prog_11_method_34_code 64 = .ok (.iconst 3, 1) := by decide +kernel
theorem d_Mdl_answer_65 : decode prog_11_method_34_code 65 = .ok (.iload_n 1, 1) := by decide +kernel
theorem d_Mdl_answer_66 : decode prog_11_method_34_code 66 = .ok (.imul, 1) := by decide +kernel
theorem d_Mdl_answer_67 : decode prog_11_method_34_code 67 = .ok (.iconst 2, 1) := by decide +kernel
theorem d_Mdl_answer_68 : decode prog_11_method_34_code 68 = .ok (.iadd, 1) := by decide +kernel
theorem d_Mdl_answer_69 : decode prog_11_method_34_code 69 = .ok (.iaload, 1) := by decide +kernel
theorem d_Mdl_answer_70 : decode prog_11_method_34_code 70 = .ok (.invokestatic 177, 3) := by decide +kernel
theorem d_Mdl_answer_73 : decode prog_11_method_34_code 73 = .ok (.lastore, 1) := by decide +kernel
theorem d_Mdl_answer_74 : decode prog_11_method_34_code 74 = .ok (.aload_n 0, 1) := by decide +kernel
theorem d_Mdl_answer_75 : decode prog_11_method_34_code 75 = .ok (.getfield 111, 3) := by decide +kernel
theorem d_Mdl_answer_78 : decode prog_11_method_34_code 78 = .ok (.iload_n 2, 1) := by decide +kernel
theorem d_Mdl_answer_79 : decode prog_11_method_34_code 79 = .ok (.aload_n 0, 1) := by decide +kernel
theorem d_Mdl_answer_80 : decode prog_11_method_34_code 80 = .ok (.getfield 201, 3) := by decide +kernel
theorem d_Mdl_answer_83 : decode prog_11_method_34_code 83 = .ok (.iastore, 1) := by decide +kernel
theorem d_Mdl_answer_84 : decode prog_11_method_34_code 84 = .ok (.iconst 0, 1) := by decide +kernel
theorem d_Mdl_answer_85 : decode prog_11_method_34_code 85 = .ok (.istore_n 3, 1) := by decide +kernel
theorem d_Mdl_answer_86 : decode prog_11_method_34_code 86 = .ok (.iload_n 3, 1) := by decide +kernel
theorem d_Mdl_answer_87 : decode prog_11_method_34_code 87 = .ok (.aload_n 0, 1) := by decide +kernel
theorem d_Mdl_answer_88 : decode prog_11_method_34_code 88 = .ok (.getfield 114, 3) := by decide +kernel
theorem d_Mdl_answer_91 : decode prog_11_method_34_code 91 = .ok (.if_icmp .ge 52, 3) := by decide +kernel
theorem d_Mdl_answer_94 : decode prog_11_method_34_code 94 = .ok (.aload_n 0, 1) := by decide +kernel
theorem d_Mdl_answer_95 : decode prog_11_method_34_code 95 = .ok (.getfield 75, 3) := by decide +kernel
theorem d_Mdl_answer_98 : decode prog_11_method_34_code 98 = .ok (.iconst 3, 1) := by decide +kernel
theorem d_Mdl_answer_99 : decode prog_11_method_34_code 99 = .ok (.aload_n 0, 1) := by decide +kernel
theorem d_Mdl_answer_100 : decode prog_11_method_34_code 100 = .ok (.getfield 81, 3) := by decide +kernel
theorem d_Mdl_answer_103 : decode prog_11_method_34_code 103 = .ok (.iload_n 2, 1) := by decide +kernel
theorem d_Mdl_answer_104 : decode prog_11_method_34_code 104 = .ok (.iaload, 1) := by decide +kernel
theorem d_Mdl_answer_105 : decode prog_11_method_34_code 105 = .ok (.imul, 1) := by decide +kernel
theorem d_Mdl_answer_106 : decode prog_11_method_34_code 106 = .ok (.iload_n 3, 1) := by decide +kernel
theorem d_Mdl_answer_107 : decode prog_11_method_34_code 107 = .ok (.iadd, 1) := by decide +kernel
theorem d_Mdl_answer_108 : decode prog_11_method_34_code 108 = .ok (.aload_n 0, 1) := by decide +kernel
theorem d_Mdl_answer_109 : decode prog_11_method_34_code 109 = .ok (.getfield 75, 3) := by decide +kernel
theorem d_Mdl_answer_112 : decode prog_11_method_34_code 112 = .ok (.iconst 3, 1) := by decide +kernel
theorem d_Mdl_answer_113 : decode prog_11_method_34_code 113 = .ok (.aload_n 0, 1) := by decide +kernel
theorem d_Mdl_answer_114 : decode prog_11_method_34_code 114 = .ok (.getfield 81, 3) := by decide +kernel
theorem d_Mdl_answer_117 : decode prog_11_method_34_code 117 = .ok (.iload_n 2, 1) := by decide +kernel
theorem d_Mdl_answer_118 : decode prog_11_method_34_code 118 = .ok (.iaload, 1) := by decide +kernel
theorem d_Mdl_answer_119 : decode prog_11_method_34_code 119 = .ok (.imul, 1) := by decide +kernel
theorem d_Mdl_answer_120 : decode prog_11_method_34_code 120 = .ok (.iload_n 3, 1) := by decide +kernel
theorem d_Mdl_answer_121 : decode prog_11_method_34_code 121 = .ok (.iadd, 1) := by decide +kernel
theorem d_Mdl_answer_122 : decode prog_11_method_34_code 122 = .ok (.iaload, 1) := by decide +kernel
theorem d_Mdl_answer_123 : decode prog_11_method_34_code 123 = .ok (.aload_n 0, 1) := by decide +kernel
theorem d_Mdl_answer_124 : decode prog_11_method_34_code 124 = .ok (.getfield 53, 3) := by decide +kernel
theorem d_Mdl_answer_127 : decode prog_11_method_34_code 127 = .ok (.iconst 3, 1) := by decide +kernel
theorem d_Mdl_answer_128 : decode prog_11_method_34_code 128 = .ok (.iload_n 1, 1) := by decide +kernel
theorem d_Mdl_answer_129 : decode prog_11_method_34_code 129 = .ok (.imul, 1) := by decide +kernel
theorem d_Mdl_answer_130 : decode prog_11_method_34_code 130 = .ok (.iload_n 3, 1) := by decide +kernel
theorem d_Mdl_answer_131 : decode prog_11_method_34_code 131 = .ok (.iadd, 1) := by decide +kernel
theorem d_Mdl_answer_132 : decode prog_11_method_34_code 132 = .ok (.iaload, 1) := by decide +kernel
theorem d_Mdl_answer_133 : decode prog_11_method_34_code 133 = .ok (.invokestatic 173, 3) := by decide +kernel
theorem d_Mdl_answer_136 : decode prog_11_method_34_code 136 = .ok (.iastore, 1) := by decide +kernel
theorem d_Mdl_answer_137 : decode prog_11_method_34_code 137 = .ok (.iinc 3 1, 3) := by decide +kernel
theorem d_Mdl_answer_140 : decode prog_11_method_34_code 140 = .ok (.goto (-54), 3) := by decide +kernel
theorem d_Mdl_answer_143 : decode prog_11_method_34_code 143 = .ok (.return_, 1) := by decide +kernel
set_option maxHeartbeats 4000000 in
set_option maxRecDepth 100000 in
theorem w_Mdl_answer_86 {res : (Unit ⊕ (Nat × Nat)) × xH} (C : x_C l s0 A0 D R_Mdl prog_11_method_34_code 4 [] p s m args meth c) (hr : meth.sig.returnType = none) (hnm : meth.name = "answer") (hRf : 2 ≤ R.frames) (hRl : 71 ≤ R.locals) {k86 : Nat → Int32 → Int32 → Int32 → xM Unit} (hs86 : ∀ (l0 : Nat) (l1 : Int32) (l2 : Int32) (l3 : Int32) (h : xH) (H : Heap) (locs : List Loc) (cells slots : Nat) (ls : Array Slot), k86 l0 l1 l2 l3 h = some res → x_S s0 D R h H locs cells slots → lv_has ls 4 [(0, .ref l0), (1, .int l1), (2, .int l2), (3, .int l3)] → W p l e R s m args below meth c H locs cells slots (x_Q s0 D below s R (x_oc vU res.1) res.2) (F0 m 86 ls [])) (l0 : Nat) (l1 : Int32) (l2 : Int32) (l3 : Int32) (hp : f_Mdl_answer_b86 k86 l0 l1 l2 l3 h = some res) (hH : x_S s0 D R h H locs cells slots) (hl : lv_has ls 4 [(0, .ref l0), (1, .int l1), (2, .int l2), (3, .int l3)]) : W p l e R s m args below meth c H locs cells slots (x_Q s0 D below s R (x_oc vU res.1) res.2) (F0 m 86 ls []) := by
  obtain ⟨hx, hb, hown, hts, hK, hml, hW, Z, -⟩ := id C
  unfold f_Mdl_answer_b86 at hp
  refine lv_iload_n hx hb d_Mdl_answer_86 rfl (lv_at hl 3 rfl) ?_
  refine lv_aload_n hx hb d_Mdl_answer_87 rfl (lv_at hl 0 rfl) ?_
  refine x_gI C hH fl_Mdl_114 d_Mdl_answer_88 hp (fun v1 hp => ?_)
  refine lv_icmp_ge (tgt := 143) hx hb d_Mdl_answer_91 (by decide) (fun hc => ?_) (fun hc => ?_)
  · replace hp := x_ifp hc hp
    exact x_vret C hH hr d_Mdl_answer_143 hp
  · replace hp := x_ifn hc hp
    refine lv_aload_n hx hb d_Mdl_answer_94 rfl (lv_at hl 0 rfl) ?_
    refine x_gA C hH fl_Mdl_75 d_Mdl_answer_95 hp (fun v2 hp => ?_)
    refine lv_iconst (v := 3) hx hb d_Mdl_answer_98 (by decide) ?_
    refine lv_aload_n hx hb d_Mdl_answer_99 rfl (lv_at hl 0 rfl) ?_
    refine x_gA C hH fl_Mdl_81 d_Mdl_answer_100 hp (fun v3 hp => ?_)
    refine lv_iload_n hx hb d_Mdl_answer_103 rfl (lv_at hl 2 rfl) ?_
    refine x_lI C hH d_Mdl_answer_104 hp (fun v4 hp => ?_)
    refine lv_imul hx hb d_Mdl_answer_105 ?_
    refine lv_iload_n hx hb d_Mdl_answer_106 rfl (lv_at hl 3 rfl) ?_
    refine lv_iadd hx hb d_Mdl_answer_107 ?_
    refine lv_aload_n hx hb d_Mdl_answer_108 rfl (lv_at hl 0 rfl) ?_
    refine x_gA C hH fl_Mdl_75 d_Mdl_answer_109 hp (fun v5 hp => ?_)
    refine lv_iconst (v := 3) hx hb d_Mdl_answer_112 (by decide) ?_
    refine lv_aload_n hx hb d_Mdl_answer_113 rfl (lv_at hl 0 rfl) ?_
    refine x_gA C hH fl_Mdl_81 d_Mdl_answer_114 hp (fun v6 hp => ?_)
    refine lv_iload_n hx hb d_Mdl_answer_117 rfl (lv_at hl 2 rfl) ?_
    refine x_lI C hH d_Mdl_answer_118 hp (fun v7 hp => ?_)
    refine lv_imul hx hb d_Mdl_answer_119 ?_
    refine lv_iload_n hx hb d_Mdl_answer_120 rfl (lv_at hl 3 rfl) ?_
    refine lv_iadd hx hb d_Mdl_answer_121 ?_
    refine x_lI C hH d_Mdl_answer_122 hp (fun v8 hp => ?_)
    refine lv_aload_n hx hb d_Mdl_answer_123 rfl (lv_at hl 0 rfl) ?_
    refine x_gA C hH fl_Mdl_53 d_Mdl_answer_124 hp (fun v9 hp => ?_)
    refine lv_iconst (v := 3) hx hb d_Mdl_answer_127 (by decide) ?_
    refine lv_iload_n hx hb d_Mdl_answer_128 rfl (lv_at hl 1 rfl) ?_
    refine lv_imul hx hb d_Mdl_answer_129 ?_
    refine lv_iload_n hx hb d_Mdl_answer_130 rfl (lv_at hl 3 rfl) ?_
    refine lv_iadd hx hb d_Mdl_answer_131 ?_
    refine x_lI C hH d_Mdl_answer_132 hp (fun v10 hp => ?_)
    refine x_callS (As := [.int v8, .int v10]) (rest := [.int ((3 * v4) + l3), .ref v2]) (cv := vI) C hH kc_Mdl_173 d_Mdl_answer_133 hp (fun o h' e => m_Mdl_greater Z e) rfl hl.1 (Nat.le_trans (Nat.le_of_ble_eq_true rfl) hRf) (Nat.le_trans (Nat.le_of_ble_eq_true rfl) hRl) (Nat.le_of_ble_eq_true rfl) (fun v11 h H locs cells slots hp hH => ?_)
    refine W.eq (g2 := F0 m 136 ls [.int v11, .int ((3 * v4) + l3), .ref v2]) rfl ?_
    refine x_sI C hH d_Mdl_answer_136 hp (fun h H locs hp hH => ?_)
    refine lv_iinc (v := (l3 + 1)) (lv' := [(3, .int (l3 + 1)), (0, .ref l0), (1, .int l1), (2, .int l2)]) hx hb d_Mdl_answer_137 hl (k := 3) rfl rfl (by decide) rfl (fun ls hl => ?_)
    refine lv_goto (tgt := 86) hx hb d_Mdl_answer_140 (by decide) ?_
    exact hs86 l0 l1 l2 (l3 + 1) _ _ _ _ _ _ hp hH (lv_sub hl [1, 2, 3, 0] rfl)
theorem w_Mdl_answer_h86 {res : (Unit ⊕ (Nat × Nat)) × xH} (C : x_C l s0 A0 D R_Mdl prog_11_method_34_code 4 [] p s m args meth c) (hr : meth.sig.returnType = none) (hnm : meth.name = "answer") (hRf : 2 ≤ R.frames) (hRl : 71 ≤ R.locals)  : ∀ (n : Nat) (l0 : Nat) (l1 : Int32) (l2 : Int32) (l3 : Int32) (h : xH) (H : Heap) (locs : List Loc) (cells slots : Nat) (ls : Array Slot), f_Mdl_answer_h86 n l0 l1 l2 l3 h = some res → x_S s0 D R h H locs cells slots → lv_has ls 4 [(0, .ref l0), (1, .int l1), (2, .int l2), (3, .int l3)] → W p l e R s m args below meth c H locs cells slots (x_Q s0 D below s R (x_oc vU res.1) res.2) (F0 m 86 ls []) := by
  intro n
  induction n with
  | zero => intro l0 l1 l2 l3 h H locs cells slots ls hp hH hl; cases hp
  | succ n ih => intro l0 l1 l2 l3 h H locs cells slots ls hp hH hl; exact w_Mdl_answer_86 C hr hnm hRf hRl ih l0 l1 l2 l3 hp hH hl
set_option maxHeartbeats 4000000 in
set_option maxRecDepth 100000 in
theorem w_Mdl_answer_0 {res : (Unit ⊕ (Nat × Nat)) × xH} (C : x_C l s0 A0 D R_Mdl prog_11_method_34_code 4 [] p s m args meth c) (hr : meth.sig.returnType = none) (hnm : meth.name = "answer") (hRf : 2 ≤ R.frames) (hRl : 71 ≤ R.locals)  (l0 : Nat) (l1 : Int32) (l2 : Int32) (hp : f_Mdl_answer l0 l1 l2 h = some res) (hH : x_S s0 D R h H locs cells slots) (hl : lv_has ls 4 [(0, .ref l0), (1, .int l1), (2, .int l2)]) : W p l e R s m args below meth c H locs cells slots (x_Q s0 D below s R (x_oc vU res.1) res.2) (F0 m 0 ls []) := by
  obtain ⟨hx, hb, hown, hts, hK, hml, hW, Z, -⟩ := id C
  unfold f_Mdl_answer at hp
  refine lv_aload_n hx hb d_Mdl_answer_0 rfl (lv_at hl 0 rfl) ?_
  refine x_gA C hH fl_Mdl_78 d_Mdl_answer_1 hp (fun v1 hp => ?_)
  refine lv_iload_n hx hb d_Mdl_answer_4 rfl (lv_at hl 2 rfl) ?_
  refine lv_iconst (v := 1) hx hb d_Mdl_answer_5 (by decide) ?_
  refine x_sI C hH d_Mdl_answer_6 hp (fun h H locs hp hH => ?_)
  refine lv_aload_n hx hb d_Mdl_answer_7 rfl (lv_at hl 0 rfl) ?_
  refine x_gA C hH fl_Mdl_102 d_Mdl_answer_8 hp (fun v2 hp => ?_)
  refine lv_iload_n hx hb d_Mdl_answer_11 rfl (lv_at hl 2 rfl) ?_
  refine lv_iload_n hx hb d_Mdl_answer_12 rfl (lv_at hl 1 rfl) ?_
  refine x_sI C hH d_Mdl_answer_13 hp (fun h H locs hp hH => ?_)
  refine lv_aload_n hx hb d_Mdl_answer_14 rfl (lv_at hl 0 rfl) ?_
  refine x_gA C hH fl_Mdl_105 d_Mdl_answer_15 hp (fun v3 hp => ?_)
  refine lv_iload_n hx hb d_Mdl_answer_18 rfl (lv_at hl 2 rfl) ?_
  refine lv_aload_n hx hb d_Mdl_answer_19 rfl (lv_at hl 0 rfl) ?_
  refine lv_iload_n hx hb d_Mdl_answer_20 rfl (lv_at hl 1 rfl) ?_
  refine lv_aload_n hx hb d_Mdl_answer_21 rfl (lv_at hl 0 rfl) ?_
  refine x_gA C hH fl_Mdl_96 d_Mdl_answer_22 hp (fun v4 hp => ?_)
  refine lv_iload_n hx hb d_Mdl_answer_25 rfl (lv_at hl 2 rfl) ?_
  refine x_lI C hH d_Mdl_answer_26 hp (fun v5 hp => ?_)
  refine lv_aload_n hx hb d_Mdl_answer_27 rfl (lv_at hl 0 rfl) ?_
  refine x_gA C hH fl_Mdl_99 d_Mdl_answer_28 hp (fun v6 hp => ?_)
  refine lv_iload_n hx hb d_Mdl_answer_31 rfl (lv_at hl 2 rfl) ?_
  refine x_lI C hH d_Mdl_answer_32 hp (fun v7 hp => ?_)
  refine x_callV (As := [.int l1, .int v5, .int v7]) (rest := [.int l2, .ref v3]) (cv := vJ) C hH kc_Mdl_228 d_Mdl_answer_33 hp (fun o h' e => m_Mdl_tell Z e) rfl hl.1 (Nat.le_trans (Nat.le_of_ble_eq_true rfl) hRf) (Nat.le_trans (Nat.le_of_ble_eq_true rfl) hRl) (Nat.le_of_ble_eq_true rfl) (fun v8 h H locs cells slots hp hH => ?_)
  refine W.eq (g2 := F0 m 36 ls [.long v8, .int l2, .ref v3]) rfl ?_
  refine x_sJ C hH d_Mdl_answer_36 hp (fun h H locs hp hH => ?_)
  refine lv_aload_n hx hb d_Mdl_answer_37 rfl (lv_at hl 0 rfl) ?_
  refine x_gA C hH fl_Mdl_108 d_Mdl_answer_38 hp (fun v9 hp => ?_)
  refine lv_iload_n hx hb d_Mdl_answer_41 rfl (lv_at hl 2 rfl) ?_
  refine lv_aload_n hx hb d_Mdl_answer_42 rfl (lv_at hl 0 rfl) ?_
  refine x_gA C hH fl_Mdl_53 d_Mdl_answer_43 hp (fun v10 hp => ?_)
  refine lv_iconst (v := 3) hx hb d_Mdl_answer_46 (by decide) ?_
  refine lv_iload_n hx hb d_Mdl_answer_47 rfl (lv_at hl 1 rfl) ?_
  refine lv_imul hx hb d_Mdl_answer_48 ?_
  refine x_lI C hH d_Mdl_answer_49 hp (fun v11 hp => ?_)
  refine lv_aload_n hx hb d_Mdl_answer_50 rfl (lv_at hl 0 rfl) ?_
  refine x_gA C hH fl_Mdl_53 d_Mdl_answer_51 hp (fun v12 hp => ?_)
  refine lv_iconst (v := 3) hx hb d_Mdl_answer_54 (by decide) ?_
  refine lv_iload_n hx hb d_Mdl_answer_55 rfl (lv_at hl 1 rfl) ?_
  refine lv_imul hx hb d_Mdl_answer_56 ?_
  refine lv_iconst (v := 1) hx hb d_Mdl_answer_57 (by decide) ?_
  refine lv_iadd hx hb d_Mdl_answer_58 ?_
  refine x_lI C hH d_Mdl_answer_59 hp (fun v13 hp => ?_)
  refine lv_aload_n hx hb d_Mdl_answer_60 rfl (lv_at hl 0 rfl) ?_
  refine x_gA C hH fl_Mdl_53 d_Mdl_answer_61 hp (fun v14 hp => ?_)
  refine lv_iconst (v := 3) hx hb d_Mdl_answer_64 (by decide) ?_
  refine lv_iload_n hx hb d_Mdl_answer_65 rfl (lv_at hl 1 rfl) ?_
  refine lv_imul hx hb d_Mdl_answer_66 ?_
  refine lv_iconst (v := 2) hx hb d_Mdl_answer_67 (by decide) ?_
  refine lv_iadd hx hb d_Mdl_answer_68 ?_
  refine x_lI C hH d_Mdl_answer_69 hp (fun v15 hp => ?_)
  refine x_callS (As := [.int v11, .int v13, .int v15]) (rest := [.int l2, .ref v9]) (cv := vJ) C hH kc_Mdl_177 d_Mdl_answer_70 hp (fun o h' e => m_Mdl_tokenOf Z e) rfl hl.1 (Nat.le_trans (Nat.le_of_ble_eq_true rfl) hRf) (Nat.le_trans (Nat.le_of_ble_eq_true rfl) hRl) (Nat.le_of_ble_eq_true rfl) (fun v16 h H locs cells slots hp hH => ?_)
  refine W.eq (g2 := F0 m 73 ls [.long v16, .int l2, .ref v9]) rfl ?_
  refine x_sJ C hH d_Mdl_answer_73 hp (fun h H locs hp hH => ?_)
  refine lv_aload_n hx hb d_Mdl_answer_74 rfl (lv_at hl 0 rfl) ?_
  refine x_gA C hH fl_Mdl_111 d_Mdl_answer_75 hp (fun v17 hp => ?_)
  refine lv_iload_n hx hb d_Mdl_answer_78 rfl (lv_at hl 2 rfl) ?_
  refine lv_aload_n hx hb d_Mdl_answer_79 rfl (lv_at hl 0 rfl) ?_
  refine x_gI C hH fl_Mdl_201 d_Mdl_answer_80 hp (fun v18 hp => ?_)
  refine x_sI C hH d_Mdl_answer_83 hp (fun h H locs hp hH => ?_)
  refine lv_iconst (v := 0) hx hb d_Mdl_answer_84 (by decide) ?_
  refine lv_istore_n (lv' := [(3, .int 0), (0, .ref l0), (1, .int l1), (2, .int l2)]) hx hb d_Mdl_answer_85 rfl hl (by decide) rfl (fun ls hl => ?_)
  exact w_Mdl_answer_h86 C hr hnm hRf hRl  1000 l0 l1 l2 0 _ _ _ _ _ _ hp hH (lv_sub hl [1, 2, 3, 0] rfl)
set_option maxRecDepth 100000 in
theorem m_Mdl_answer (Z : x_Z l s0 A0 D) {l0 : Nat} {l1 : Int32} {l2 : Int32} {res : (Unit ⊕ (Nat × Nat)) × xH} (hp : f_Mdl_answer l0 l1 l2 h = some res) : x_M l s0 D y_Mdl_answer (x_cw y_Mdl_answer prog_11_method_34_code 4 none []) 2 71 [.ref l0, .int l1, .int l2] h (x_oc vU res.1) res.2 := by
  refine x_M.ofW Z (plainFor_of_name (by decide)) ?_
  intro p e s m below meth c C hnm hr hH
  have hl := lv_entry ([.ref l0, .int l1, .int l2]) (n := 4) (Nat.le_of_ble_eq_true rfl)
  rw [lg_entry_eq]
  generalize (lg_sl ([.ref l0, .int l1, .int l2]) ++ List.replicate (4 - (lg_sl ([.ref l0, .int l1, .int l2])).length) Slot.unset).toArray = ls at hl ⊢
  exact w_Mdl_answer_0 C hr hnm (Nat.le_refl _) (Nat.le_refl _) l0 l1 l2 hp hH hl
/-! ReadSideModel.look(I)V -/
theorem d_Mdl_look_0 : decode prog_11_method_35_code 0 = .ok (.iconst 0, 1) := by decide +kernel
theorem d_Mdl_look_1 : decode prog_11_method_35_code 1 = .ok (.istore_n 2, 1) := by decide +kernel
theorem d_Mdl_look_2 : decode prog_11_method_35_code 2 = .ok (.iload_n 2, 1) := by decide +kernel
theorem d_Mdl_look_3 : decode prog_11_method_35_code 3 = .ok (.aload_n 0, 1) := by decide +kernel
theorem d_Mdl_look_4 : decode prog_11_method_35_code 4 = .ok (.getfield 204, 3) := by decide +kernel
theorem d_Mdl_look_7 : decode prog_11_method_35_code 7 = .ok (.if_icmp .ge 33, 3) := by decide +kernel
theorem d_Mdl_look_10 : decode prog_11_method_35_code 10 = .ok (.aload_n 0, 1) := by decide +kernel
theorem d_Mdl_look_11 : decode prog_11_method_35_code 11 = .ok (.getfield 78, 3) := by decide +kernel
theorem d_Mdl_look_14 : decode prog_11_method_35_code 14 = .ok (.iload_n 2, 1) := by decide +kernel
theorem d_Mdl_look_15 : decode prog_11_method_35_code 15 = .ok (.iaload, 1) := by decide +kernel
theorem d_Mdl_look_16 : decode prog_11_method_35_code 16 = .ok (.ifCond .ne 18, 3) := by decide +kernel
theorem d_Mdl_look_19 : decode prog_11_method_35_code 19 = .ok (.aload_n 0, 1) := by decide +kernel
theorem d_Mdl_look_20 : decode prog_11_method_35_code 20 = .ok (.iload_n 1, 1) := by decide +kernel
theorem d_Mdl_look_21 : decode prog_11_method_35_code 21 = .ok (.iload_n 2, 1) := by decide +kernel
theorem d_Mdl_look_22 : decode prog_11_method_35_code 22 = .ok (.invokevirtual 231, 3) := by decide +kernel
theorem d_Mdl_look_25 : decode prog_11_method_35_code 25 = .ok (.ifCond .eq 9, 3) := by decide +kernel
theorem d_Mdl_look_28 : decode prog_11_method_35_code 28 = .ok (.aload_n 0, 1) := by decide +kernel
theorem d_Mdl_look_29 : decode prog_11_method_35_code 29 = .ok (.iload_n 1, 1) := by decide +kernel
theorem d_Mdl_look_30 : decode prog_11_method_35_code 30 = .ok (.iload_n 2, 1) := by decide +kernel
theorem d_Mdl_look_31 : decode prog_11_method_35_code 31 = .ok (.invokevirtual 235, 3) := by decide +kernel
theorem d_Mdl_look_34 : decode prog_11_method_35_code 34 = .ok (.iinc 2 1, 3) := by decide +kernel
theorem d_Mdl_look_37 : decode prog_11_method_35_code 37 = .ok (.goto (-35), 3) := by decide +kernel
theorem d_Mdl_look_40 : decode prog_11_method_35_code 40 = .ok (.return_, 1) := by decide +kernel
set_option maxHeartbeats 4000000 in
set_option maxRecDepth 100000 in
theorem w_Mdl_look_34 {res : (Unit ⊕ (Nat × Nat)) × xH} (C : x_C l s0 A0 D R_Mdl prog_11_method_35_code 3 [] p s m args meth c) (hr : meth.sig.returnType = none) (hnm : meth.name = "look") (hRf : 3 ≤ R.frames) (hRl : 102 ≤ R.locals) {k2 : Nat → Int32 → Int32 → xM Unit} (hs2 : ∀ (l0 : Nat) (l1 : Int32) (l2 : Int32) (h : xH) (H : Heap) (locs : List Loc) (cells slots : Nat) (ls : Array Slot), k2 l0 l1 l2 h = some res → x_S s0 D R h H locs cells slots → lv_has ls 3 [(0, .ref l0), (1, .int l1), (2, .int l2)] → W p l e R s m args below meth c H locs cells slots (x_Q s0 D below s R (x_oc vU res.1) res.2) (F0 m 2 ls [])) (l0 : Nat) (l1 : Int32) (l2 : Int32) (hp : f_Mdl_look_b34 k2 l0 l1 l2 h = some res) (hH : x_S s0 D R h H locs cells slots) (hl : lv_has ls 3 [(0, .ref l0), (1, .int l1), (2, .int l2)]) : W p l e R s m args below meth c H locs cells slots (x_Q s0 D below s R (x_oc vU res.1) res.2) (F0 m 34 ls []) := by
  obtain ⟨hx, hb, hown, hts, hK, hml, hW, Z, -⟩ := id C
  unfold f_Mdl_look_b34 at hp
  refine lv_iinc (v := (l2 + 1)) (lv' := [(2, .int (l2 + 1)), (0, .ref l0), (1, .int l1)]) hx hb d_Mdl_look_34 hl (k := 2) rfl rfl (by decide) rfl (fun ls hl => ?_)
  refine lv_goto (tgt := 2) hx hb d_Mdl_look_37 (by decide) ?_
  exact hs2 l0 l1 (l2 + 1) _ _ _ _ _ _ hp hH (lv_sub hl [1, 2, 0] rfl)
set_option maxHeartbeats 4000000 in
set_option maxRecDepth 100000 in
theorem w_Mdl_look_2 {res : (Unit ⊕ (Nat × Nat)) × xH} (C : x_C l s0 A0 D R_Mdl prog_11_method_35_code 3 [] p s m args meth c) (hr : meth.sig.returnType = none) (hnm : meth.name = "look") (hRf : 3 ≤ R.frames) (hRl : 102 ≤ R.locals) {k2 : Nat → Int32 → Int32 → xM Unit} (hs2 : ∀ (l0 : Nat) (l1 : Int32) (l2 : Int32) (h : xH) (H : Heap) (locs : List Loc) (cells slots : Nat) (ls : Array Slot), k2 l0 l1 l2 h = some res → x_S s0 D R h H locs cells slots → lv_has ls 3 [(0, .ref l0), (1, .int l1), (2, .int l2)] → W p l e R s m args below meth c H locs cells slots (x_Q s0 D below s R (x_oc vU res.1) res.2) (F0 m 2 ls [])) (l0 : Nat) (l1 : Int32) (l2 : Int32) (hp : f_Mdl_look_b2 k2 l0 l1 l2 h = some res) (hH : x_S s0 D R h H locs cells slots) (hl : lv_has ls 3 [(0, .ref l0), (1, .int l1), (2, .int l2)]) : W p l e R s m args below meth c H locs cells slots (x_Q s0 D below s R (x_oc vU res.1) res.2) (F0 m 2 ls []) := by
  obtain ⟨hx, hb, hown, hts, hK, hml, hW, Z, -⟩ := id C
  unfold f_Mdl_look_b2 at hp
  refine lv_iload_n hx hb d_Mdl_look_2 rfl (lv_at hl 2 rfl) ?_
  refine lv_aload_n hx hb d_Mdl_look_3 rfl (lv_at hl 0 rfl) ?_
  refine x_gI C hH fl_Mdl_204 d_Mdl_look_4 hp (fun v1 hp => ?_)
  refine lv_icmp_ge (tgt := 40) hx hb d_Mdl_look_7 (by decide) (fun hc => ?_) (fun hc => ?_)
  · replace hp := x_ifp hc hp
    exact x_vret C hH hr d_Mdl_look_40 hp
  · replace hp := x_ifn hc hp
    refine lv_aload_n hx hb d_Mdl_look_10 rfl (lv_at hl 0 rfl) ?_
    refine x_gA C hH fl_Mdl_78 d_Mdl_look_11 hp (fun v2 hp => ?_)
    refine lv_iload_n hx hb d_Mdl_look_14 rfl (lv_at hl 2 rfl) ?_
    refine x_lI C hH d_Mdl_look_15 hp (fun v3 hp => ?_)
    refine lv_if_ne (tgt := 34) hx hb d_Mdl_look_16 (by decide) (fun hc => ?_) (fun hc => ?_)
    · replace hp := x_ifn hc hp
      exact w_Mdl_look_34 C hr hnm hRf hRl hs2 l0 l1 l2 hp hH (lv_sub hl [0, 1, 2] rfl)
    · replace hp := x_ifp hc hp
      refine lv_aload_n hx hb d_Mdl_look_19 rfl (lv_at hl 0 rfl) ?_
      refine lv_iload_n hx hb d_Mdl_look_20 rfl (lv_at hl 1 rfl) ?_
      refine lv_iload_n hx hb d_Mdl_look_21 rfl (lv_at hl 2 rfl) ?_
      refine x_callV (As := [.int l1, .int l2]) (rest := []) (cv := vI) C hH kc_Mdl_231 d_Mdl_look_22 hp (fun o h' e => m_Mdl_may Z e) rfl hl.1 (Nat.le_trans (Nat.le_of_ble_eq_true rfl) hRf) (Nat.le_trans (Nat.le_of_ble_eq_true rfl) hRl) (Nat.le_of_ble_eq_true rfl) (fun v4 h H locs cells slots hp hH => ?_)
      refine W.eq (g2 := F0 m 25 ls [.int v4]) rfl ?_
      refine lv_if_eq (tgt := 34) hx hb d_Mdl_look_25 (by decide) (fun hc => ?_) (fun hc => ?_)
      · replace hp := x_ifp hc hp
        exact w_Mdl_look_34 C hr hnm hRf hRl hs2 l0 l1 l2 hp hH (lv_sub hl [0, 1, 2] rfl)
      · replace hp := x_ifn hc hp
        refine lv_aload_n hx hb d_Mdl_look_28 rfl (lv_at hl 0 rfl) ?_
        refine lv_iload_n hx hb d_Mdl_look_29 rfl (lv_at hl 1 rfl) ?_
        refine lv_iload_n hx hb d_Mdl_look_30 rfl (lv_at hl 2 rfl) ?_
        refine x_callV (As := [.int l1, .int l2]) (rest := []) (cv := vU) C hH kc_Mdl_235 d_Mdl_look_31 hp (fun o h' e => m_Mdl_answer Z e) rfl hl.1 (Nat.le_trans (Nat.le_of_ble_eq_true rfl) hRf) (Nat.le_trans (Nat.le_of_ble_eq_true rfl) hRl) (Nat.le_of_ble_eq_true rfl) (fun v5 h H locs cells slots hp hH => ?_)
        refine W.eq (g2 := F0 m 34 ls []) rfl ?_
        exact w_Mdl_look_34 C hr hnm hRf hRl hs2 l0 l1 l2 hp hH (lv_sub hl [0, 1, 2] rfl)
theorem w_Mdl_look_h2 {res : (Unit ⊕ (Nat × Nat)) × xH} (C : x_C l s0 A0 D R_Mdl prog_11_method_35_code 3 [] p s m args meth c) (hr : meth.sig.returnType = none) (hnm : meth.name = "look") (hRf : 3 ≤ R.frames) (hRl : 102 ≤ R.locals)  : ∀ (n : Nat) (l0 : Nat) (l1 : Int32) (l2 : Int32) (h : xH) (H : Heap) (locs : List Loc) (cells slots : Nat) (ls : Array Slot), f_Mdl_look_h2 n l0 l1 l2 h = some res → x_S s0 D R h H locs cells slots → lv_has ls 3 [(0, .ref l0), (1, .int l1), (2, .int l2)] → W p l e R s m args below meth c H locs cells slots (x_Q s0 D below s R (x_oc vU res.1) res.2) (F0 m 2 ls []) := by
  intro n
  induction n with
  | zero => intro l0 l1 l2 h H locs cells slots ls hp hH hl; cases hp
  | succ n ih => intro l0 l1 l2 h H locs cells slots ls hp hH hl; exact w_Mdl_look_2 C hr hnm hRf hRl ih l0 l1 l2 hp hH hl
set_option maxHeartbeats 4000000 in
set_option maxRecDepth 100000 in
theorem w_Mdl_look_0 {res : (Unit ⊕ (Nat × Nat)) × xH} (C : x_C l s0 A0 D R_Mdl prog_11_method_35_code 3 [] p s m args meth c) (hr : meth.sig.returnType = none) (hnm : meth.name = "look") (hRf : 3 ≤ R.frames) (hRl : 102 ≤ R.locals)  (l0 : Nat) (l1 : Int32) (hp : f_Mdl_look l0 l1 h = some res) (hH : x_S s0 D R h H locs cells slots) (hl : lv_has ls 3 [(0, .ref l0), (1, .int l1)]) : W p l e R s m args below meth c H locs cells slots (x_Q s0 D below s R (x_oc vU res.1) res.2) (F0 m 0 ls []) := by
  obtain ⟨hx, hb, hown, hts, hK, hml, hW, Z, -⟩ := id C
  unfold f_Mdl_look at hp
  refine lv_iconst (v := 0) hx hb d_Mdl_look_0 (by decide) ?_
  refine lv_istore_n (lv' := [(2, .int 0), (0, .ref l0), (1, .int l1)]) hx hb d_Mdl_look_1 rfl hl (by decide) rfl (fun ls hl => ?_)
  exact w_Mdl_look_h2 C hr hnm hRf hRl  1000 l0 l1 0 _ _ _ _ _ _ hp hH (lv_sub hl [1, 2, 0] rfl)
set_option maxRecDepth 100000 in
theorem m_Mdl_look (Z : x_Z l s0 A0 D) {l0 : Nat} {l1 : Int32} {res : (Unit ⊕ (Nat × Nat)) × xH} (hp : f_Mdl_look l0 l1 h = some res) : x_M l s0 D y_Mdl_look (x_cw y_Mdl_look prog_11_method_35_code 3 none []) 3 102 [.ref l0, .int l1] h (x_oc vU res.1) res.2 := by
  refine x_M.ofW Z (plainFor_of_name (by decide)) ?_
  intro p e s m below meth c C hnm hr hH
  have hl := lv_entry ([.ref l0, .int l1]) (n := 3) (Nat.le_of_ble_eq_true rfl)
  rw [lg_entry_eq]
  generalize (lg_sl ([.ref l0, .int l1]) ++ List.replicate (3 - (lg_sl ([.ref l0, .int l1])).length) Slot.unset).toArray = ls at hl ⊢
  exact w_Mdl_look_0 C hr hnm (Nat.le_refl _) (Nat.le_refl _) l0 l1 hp hH hl
/-! ReadSideModel.in(JJJ)Z -/
theorem d_Mdl_in_0 : decode prog_11_method_5_code 0 = .ok (.lload_n 0, 1) := by decide +kernel
theorem d_Mdl_in_1 : decode prog_11_method_5_code 1 = .ok (.lload_n 2, 1) := by decide +kernel
theorem d_Mdl_in_2 : decode prog_11_method_5_code 2 = .ok (.lcmp, 1) := by decide +kernel
theorem d_Mdl_in_3 : decode prog_11_method_5_code 3 = .ok (.ifCond .lt 14, 3) := by decide +kernel
theorem d_Mdl_in_6 : decode prog_11_method_5_code 6 = .ok (.lload_n 0, 1) := by decide +kernel
theorem d_Mdl_in_7 : decode prog_11_method_5_code 7 = .ok (.lload 4, 2) := by decide +kernel
theorem d_Mdl_in_9 : decode prog_11_method_5_code 9 = .ok (.lcmp, 1) := by decide +kernel
theorem d_Mdl_in_10 : decode prog_11_method_5_code 10 = .ok (.ifCond .gt 7, 3) := by decide +kernel
theorem d_Mdl_in_13 : decode prog_11_method_5_code 13 = .ok (.iconst 1, 1) := by decide +kernel
theorem d_Mdl_in_14 : decode prog_11_method_5_code 14 = .ok (.goto 4, 3) := by decide +kernel
theorem d_Mdl_in_17 : decode prog_11_method_5_code 17 = .ok (.iconst 0, 1) := by decide +kernel
theorem d_Mdl_in_18 : decode prog_11_method_5_code 18 = .ok (.ireturn, 1) := by decide +kernel
set_option maxHeartbeats 4000000 in
set_option maxRecDepth 100000 in
theorem w_Mdl_in_18 {res : (Int32 ⊕ (Nat × Nat)) × xH} (C : x_C l s0 A0 D R_Mdl prog_11_method_5_code 6 [] p s m args meth c) (hr : meth.sig.returnType = (some .boolean)) (hnm : meth.name = "in") (hRf : 0 ≤ R.frames) (hRl : 0 ≤ R.locals)  (t0 : Int32) (hp : f_Mdl_in_b18 t0 h = some res) (hH : x_S s0 D R h H locs cells slots) (hl : lv_has ls 6 []) : W p l e R s m args below meth c H locs cells slots (x_Q s0 D below s R (x_oc vI res.1) res.2) (F0 m 18 ls [.int t0]) := by
  obtain ⟨hx, hb, hown, hts, hK, hml, hW, Z, -⟩ := id C
  unfold f_Mdl_in_b18 at hp
  exact x_zret C hH hr d_Mdl_in_18 hp
set_option maxHeartbeats 4000000 in
set_option maxRecDepth 100000 in
theorem w_Mdl_in_17 {res : (Int32 ⊕ (Nat × Nat)) × xH} (C : x_C l s0 A0 D R_Mdl prog_11_method_5_code 6 [] p s m args meth c) (hr : meth.sig.returnType = (some .boolean)) (hnm : meth.name = "in") (hRf : 0 ≤ R.frames) (hRl : 0 ≤ R.locals)   (hp : f_Mdl_in_b17 h = some res) (hH : x_S s0 D R h H locs cells slots) (hl : lv_has ls 6 []) : W p l e R s m args below meth c H locs cells slots (x_Q s0 D below s R (x_oc vI res.1) res.2) (F0 m 17 ls []) := by
  obtain ⟨hx, hb, hown, hts, hK, hml, hW, Z, -⟩ := id C
  unfold f_Mdl_in_b17 at hp
  refine lv_iconst (v := 0) hx hb d_Mdl_in_17 (by decide) ?_
  exact w_Mdl_in_18 C hr hnm hRf hRl  0 hp hH (lv_sub hl [] rfl)
set_option maxHeartbeats 4000000 in
set_option maxRecDepth 100000 in
theorem w_Mdl_in_0 {res : (Int32 ⊕ (Nat × Nat)) × xH} (C : x_C l s0 A0 D R_Mdl prog_11_method_5_code 6 [] p s m args meth c) (hr : meth.sig.returnType = (some .boolean)) (hnm : meth.name = "in") (hRf : 0 ≤ R.frames) (hRl : 0 ≤ R.locals)  (l0 : Int64) (l2 : Int64) (l4 : Int64) (hp : f_Mdl_in l0 l2 l4 h = some res) (hH : x_S s0 D R h H locs cells slots) (hl : lv_has ls 6 [(0, .long l0), (2, .long l2), (4, .long l4)]) : W p l e R s m args below meth c H locs cells slots (x_Q s0 D below s R (x_oc vI res.1) res.2) (F0 m 0 ls []) := by
  obtain ⟨hx, hb, hown, hts, hK, hml, hW, Z, -⟩ := id C
  unfold f_Mdl_in at hp
  refine lv_lload_n hx hb d_Mdl_in_0 rfl (lv_at hl 0 rfl) ?_
  refine lv_lload_n hx hb d_Mdl_in_1 rfl (lv_at hl 1 rfl) ?_
  refine W.lcmp hx hb d_Mdl_in_2 ?_
  refine lv_if_lt (tgt := 17) hx hb d_Mdl_in_3 (by decide) (fun hc => ?_) (fun hc => ?_)
  · replace hp := x_ifp hc hp
    exact w_Mdl_in_17 C hr hnm hRf hRl   hp hH (lv_sub hl [] rfl)
  · replace hp := x_ifn hc hp
    refine lv_lload_n hx hb d_Mdl_in_6 rfl (lv_at hl 0 rfl) ?_
    refine lv_lload hx hb d_Mdl_in_7 (lv_at hl 2 rfl) ?_
    refine W.lcmp hx hb d_Mdl_in_9 ?_
    refine lv_if_gt (tgt := 17) hx hb d_Mdl_in_10 (by decide) (fun hc => ?_) (fun hc => ?_)
    · replace hp := x_ifp hc hp
      exact w_Mdl_in_17 C hr hnm hRf hRl   hp hH (lv_sub hl [] rfl)
    · replace hp := x_ifn hc hp
      refine lv_iconst (v := 1) hx hb d_Mdl_in_13 (by decide) ?_
      refine lv_goto (tgt := 18) hx hb d_Mdl_in_14 (by decide) ?_
      exact w_Mdl_in_18 C hr hnm hRf hRl  1 hp hH (lv_sub hl [] rfl)
set_option maxRecDepth 100000 in
theorem m_Mdl_in (Z : x_Z l s0 A0 D) {l0 : Int64} {l2 : Int64} {l4 : Int64} {res : (Int32 ⊕ (Nat × Nat)) × xH} (hp : f_Mdl_in l0 l2 l4 h = some res) : x_M l s0 D y_Mdl_in (x_cw y_Mdl_in prog_11_method_5_code 6 (some .boolean) []) 0 0 [.long l0, .long l2, .long l4] h (x_oc vI res.1) res.2 := by
  refine x_M.ofW Z (plainFor_of_name (by decide)) ?_
  intro p e s m below meth c C hnm hr hH
  have hl := lv_entry ([.long l0, .long l2, .long l4]) (n := 6) (Nat.le_of_ble_eq_true rfl)
  rw [lg_entry_eq]
  generalize (lg_sl ([.long l0, .long l2, .long l4]) ++ List.replicate (6 - (lg_sl ([.long l0, .long l2, .long l4])).length) Slot.unset).toArray = ls at hl ⊢
  exact w_Mdl_in_0 C hr hnm (Nat.le_refl _) (Nat.le_refl _) l0 l2 l4 hp hH hl
/-! ReadSideModel.isSession(I)Z -/
theorem d_Mdl_isSession_0 : decode prog_11_method_10_code 0 = .ok (.iload_n 0, 1) := by decide +kernel
theorem d_Mdl_isSession_1 : decode prog_11_method_10_code 1 = .ok (.i2l, 1) := by decide +kernel
theorem d_Mdl_isSession_2 : decode prog_11_method_10_code 2 = .ok (.lconst 0, 1) := by decide +kernel
theorem d_Mdl_isSession_3 : decode prog_11_method_10_code 3 = .ok (.ldc2_w 146, 3) := by decide +kernel
theorem d_Mdl_isSession_6 : decode prog_11_method_10_code 6 = .ok (.invokestatic 148, 3) := by decide +kernel
theorem d_Mdl_isSession_9 : decode prog_11_method_10_code 9 = .ok (.ireturn, 1) := by decide +kernel
set_option maxHeartbeats 4000000 in
set_option maxRecDepth 100000 in
theorem w_Mdl_isSession_0 {res : (Int32 ⊕ (Nat × Nat)) × xH} (C : x_C l s0 A0 D R_Mdl prog_11_method_10_code 1 [] p s m args meth c) (hr : meth.sig.returnType = (some .boolean)) (hnm : meth.name = "isSession") (hRf : 1 ≤ R.frames) (hRl : 33 ≤ R.locals)  (l0 : Int32) (hp : f_Mdl_isSession l0 h = some res) (hH : x_S s0 D R h H locs cells slots) (hl : lv_has ls 1 [(0, .int l0)]) : W p l e R s m args below meth c H locs cells slots (x_Q s0 D below s R (x_oc vI res.1) res.2) (F0 m 0 ls []) := by
  obtain ⟨hx, hb, hown, hts, hK, hml, hW, Z, -⟩ := id C
  unfold f_Mdl_isSession at hp
  refine lv_iload_n hx hb d_Mdl_isSession_0 rfl (lv_at hl 0 rfl) ?_
  refine lv_i2l (v := l0.toInt64) hx hb d_Mdl_isSession_1 rfl ?_
  refine lv_lconst (v := 0) hx hb d_Mdl_isSession_2 (by decide) ?_
  refine lv_ldc2 hx hb hown (hts _ k_849) d_Mdl_isSession_3 ?_
  refine x_callS (As := [.long l0.toInt64, .long 0, .long 7]) (rest := []) (cv := vI) C hH kc_Mdl_148 d_Mdl_isSession_6 hp (fun o h' e => m_Mdl_in Z e) rfl hl.1 (Nat.le_trans (Nat.le_of_ble_eq_true rfl) hRf) (Nat.le_trans (Nat.le_of_ble_eq_true rfl) hRl) (Nat.le_of_ble_eq_true rfl) (fun v1 h H locs cells slots hp hH => ?_)
  refine W.eq (g2 := F0 m 9 ls [.int v1]) rfl ?_
  exact x_zret C hH hr d_Mdl_isSession_9 hp
set_option maxRecDepth 100000 in
theorem m_Mdl_isSession (Z : x_Z l s0 A0 D) {l0 : Int32} {res : (Int32 ⊕ (Nat × Nat)) × xH} (hp : f_Mdl_isSession l0 h = some res) : x_M l s0 D y_Mdl_isSession (x_cw y_Mdl_isSession prog_11_method_10_code 1 (some .boolean) []) 1 33 [.int l0] h (x_oc vI res.1) res.2 := by
  refine x_M.ofW Z (plainFor_of_name (by decide)) ?_
  intro p e s m below meth c C hnm hr hH
  have hl := lv_entry ([.int l0]) (n := 1) (Nat.le_of_ble_eq_true rfl)
  rw [lg_entry_eq]
  generalize (lg_sl ([.int l0]) ++ List.replicate (1 - (lg_sl ([.int l0])).length) Slot.unset).toArray = ls at hl ⊢
  exact w_Mdl_isSession_0 C hr hnm (Nat.le_refl _) (Nat.le_refl _) l0 hp hH hl
/-! ReadSideModel.mode(II)I -/
theorem d_Mdl_mode_0 : decode prog_11_method_13_code 0 = .ok (.aload_n 0, 1) := by decide +kernel
theorem d_Mdl_mode_1 : decode prog_11_method_13_code 1 = .ok (.iload_n 1, 1) := by decide +kernel
theorem d_Mdl_mode_2 : decode prog_11_method_13_code 2 = .ok (.invokestatic 152, 3) := by decide +kernel
theorem d_Mdl_mode_5 : decode prog_11_method_13_code 5 = .ok (.ifCond .ne 7, 3) := by decide +kernel
theorem d_Mdl_mode_8 : decode prog_11_method_13_code 8 = .ok (.iconst 1, 1) := by decide +kernel
theorem d_Mdl_mode_9 : decode prog_11_method_13_code 9 = .ok (.goto 20, 3) := by decide +kernel
theorem d_Mdl_mode_12 : decode prog_11_method_13_code 12 = .ok (.iload_n 2, 1) := by decide +kernel
theorem d_Mdl_mode_13 : decode prog_11_method_13_code 13 = .ok (.i2l, 1) := by decide +kernel
theorem d_Mdl_mode_14 : decode prog_11_method_13_code 14 = .ok (.lconst 0, 1) := by decide +kernel
theorem d_Mdl_mode_15 : decode prog_11_method_13_code 15 = .ok (.ldc2_w 156, 3) := by decide +kernel
theorem d_Mdl_mode_18 : decode prog_11_method_13_code 18 = .ok (.invokestatic 148, 3) := by decide +kernel
theorem d_Mdl_mode_21 : decode prog_11_method_13_code 21 = .ok (.ifCond .ne 7, 3) := by decide +kernel
theorem d_Mdl_mode_24 : decode prog_11_method_13_code 24 = .ok (.iconst 2, 1) := by decide +kernel
theorem d_Mdl_mode_25 : decode prog_11_method_13_code 25 = .ok (.goto 4, 3) := by decide +kernel
theorem d_Mdl_mode_28 : decode prog_11_method_13_code 28 = .ok (.iconst 0, 1) := by decide +kernel
theorem d_Mdl_mode_29 : decode prog_11_method_13_code 29 = .ok (.putfield 121, 3) := by decide +kernel
theorem d_Mdl_mode_32 : decode prog_11_method_13_code 32 = .ok (.aload_n 0, 1) := by decide +kernel
theorem d_Mdl_mode_33 : decode prog_11_method_13_code 33 = .ok (.getfield 121, 3) := by decide +kernel
theorem d_Mdl_mode_36 : decode prog_11_method_13_code 36 = .ok (.ifCond .le 5, 3) := by decide +kernel
theorem d_Mdl_mode_39 : decode prog_11_method_13_code 39 = .ok (.iconst 0, 1) := by decide +kernel
theorem d_Mdl_mode_40 : decode prog_11_method_13_code 40 = .ok (.ireturn, 1) := by decide +kernel
theorem d_Mdl_mode_41 : decode prog_11_method_13_code 41 = .ok (.aload_n 0, 1) := by decide +kernel
theorem d_Mdl_mode_42 : decode prog_11_method_13_code 42 = .ok (.getfield 66, 3) := by decide +kernel
theorem d_Mdl_mode_45 : decode prog_11_method_13_code 45 = .ok (.iload_n 1, 1) := by decide +kernel
theorem d_Mdl_mode_46 : decode prog_11_method_13_code 46 = .ok (.iaload, 1) := by decide +kernel
theorem d_Mdl_mode_47 : decode prog_11_method_13_code 47 = .ok (.istore_n 3, 1) := by decide +kernel
theorem d_Mdl_mode_48 : decode prog_11_method_13_code 48 = .ok (.aload_n 0, 1) := by decide +kernel
theorem d_Mdl_mode_49 : decode prog_11_method_13_code 49 = .ok (.getfield 66, 3) := by decide +kernel
theorem d_Mdl_mode_52 : decode prog_11_method_13_code 52 = .ok (.iload_n 1, 1) := by decide +kernel
theorem d_Mdl_mode_53 : decode prog_11_method_13_code 53 = .ok (.iload_n 2, 1) := by decide +kernel
theorem d_Mdl_mode_54 : decode prog_11_method_13_code 54 = .ok (.iastore, 1) := by decide +kernel
theorem d_Mdl_mode_55 : decode prog_11_method_13_code 55 = .ok (.iload_n 3, 1) := by decide +kernel
theorem d_Mdl_mode_56 : decode prog_11_method_13_code 56 = .ok (.iload_n 2, 1) := by decide +kernel
theorem d_Mdl_mode_57 : decode prog_11_method_13_code 57 = .ok (.if_icmp .eq 27, 3) := by decide +kernel
theorem d_Mdl_mode_60 : decode prog_11_method_13_code 60 = .ok (.iconst 0, 1) := by decide +kernel
theorem d_Mdl_mode_61 : decode prog_11_method_13_code 61 = .ok (.istore 4, 2) := by decide +kernel
theorem d_Mdl_mode_63 : decode prog_11_method_13_code 63 = .ok (.iload 4, 2) := by decide +kernel
theorem d_Mdl_mode_65 : decode prog_11_method_13_code 65 = .ok (.aload_n 0, 1) := by decide +kernel
theorem d_Mdl_mode_66 : decode prog_11_method_13_code 66 = .ok (.getfield 118, 3) := by decide +kernel
theorem d_Mdl_mode_69 : decode prog_11_method_13_code 69 = .ok (.if_icmp .ge 15, 3) := by decide +kernel
theorem d_Mdl_mode_72 : decode prog_11_method_13_code 72 = .ok (.aload_n 0, 1) := by decide +kernel
theorem d_Mdl_mode_73 : decode prog_11_method_13_code 73 = .ok (.iload 4, 2) := by decide +kernel
theorem d_Mdl_mode_75 : decode prog_11_method_13_code 75 = .ok (.invokevirtual 158, 3) := by decide +kernel
theorem d_Mdl_mode_78 : decode prog_11_method_13_code 78 = .ok (.iinc 4 1, 3) := by decide +kernel
theorem d_Mdl_mode_81 : decode prog_11_method_13_code 81 = .ok (.goto (-18), 3) := by decide +kernel
theorem d_Mdl_mode_84 : decode prog_11_method_13_code 84 = .ok (.iload_n 3, 1) := by decide +kernel
theorem d_Mdl_mode_85 : decode prog_11_method_13_code 85 = .ok (.ireturn, 1) := by decide +kernel
set_option maxHeartbeats 4000000 in
set_option maxRecDepth 100000 in
theorem w_Mdl_mode_84 {res : (Int32 ⊕ (Nat × Nat)) × xH} (C : x_C l s0 A0 D R_Mdl prog_11_method_13_code 5 [] p s m args meth c) (hr : meth.sig.returnType = (some .int)) (hnm : meth.name = "mode") (hRf : 4 ≤ R.frames) (hRl : 132 ≤ R.locals)  (l3 : Int32) (hp : f_Mdl_mode_b84 l3 h = some res) (hH : x_S s0 D R h H locs cells slots) (hl : lv_has ls 5 [(3, .int l3)]) : W p l e R s m args below meth c H locs cells slots (x_Q s0 D below s R (x_oc vI res.1) res.2) (F0 m 84 ls []) := by
  obtain ⟨hx, hb, hown, hts, hK, hml, hW, Z, -⟩ := id C
  unfold f_Mdl_mode_b84 at hp
  refine lv_iload_n hx hb d_Mdl_mode_84 rfl (lv_at hl 0 rfl) ?_
  exact x_iret C hH hr d_Mdl_mode_85 hp
set_option maxHeartbeats 4000000 in
set_option maxRecDepth 100000 in
theorem w_Mdl_mode_63 {res : (Int32 ⊕ (Nat × Nat)) × xH} (C : x_C l s0 A0 D R_Mdl prog_11_method_13_code 5 [] p s m args meth c) (hr : meth.sig.returnType = (some .int)) (hnm : meth.name = "mode") (hRf : 4 ≤ R.frames) (hRl : 132 ≤ R.locals) {k63 : Nat → Int32 → Int32 → xM Int32} (hs63 : ∀ (l0 : Nat) (l3 : Int32) (l4 : Int32) (h : xH) (H : Heap) (locs : List Loc) (cells slots : Nat) (ls : Array Slot), k63 l0 l3 l4 h = some res → x_S s0 D R h H locs cells slots → lv_has ls 5 [(0, .ref l0), (3, .int l3), (4, .int l4)] → W p l e R s m args below meth c H locs cells slots (x_Q s0 D below s R (x_oc vI res.1) res.2) (F0 m 63 ls [])) (l0 : Nat) (l3 : Int32) (l4 : Int32) (hp : f_Mdl_mode_b63 k63 l0 l3 l4 h = some res) (hH : x_S s0 D R h H locs cells slots) (hl : lv_has ls 5 [(0, .ref l0), (3, .int l3), (4, .int l4)]) : W p l e R s m args below meth c H locs cells slots (x_Q s0 D below s R (x_oc vI res.1) res.2) (F0 m 63 ls []) := by
  obtain ⟨hx, hb, hown, hts, hK, hml, hW, Z, -⟩ := id C
  unfold f_Mdl_mode_b63 at hp
  refine lv_iload hx hb d_Mdl_mode_63 (lv_at hl 2 rfl) ?_
  refine lv_aload_n hx hb d_Mdl_mode_65 rfl (lv_at hl 0 rfl) ?_
  refine x_gI C hH fl_Mdl_118 d_Mdl_mode_66 hp (fun v1 hp => ?_)
  refine lv_icmp_ge (tgt := 84) hx hb d_Mdl_mode_69 (by decide) (fun hc => ?_) (fun hc => ?_)
  · replace hp := x_ifp hc hp
    exact w_Mdl_mode_84 C hr hnm hRf hRl  l3 hp hH (lv_sub hl [1] rfl)
  · replace hp := x_ifn hc hp
    refine lv_aload_n hx hb d_Mdl_mode_72 rfl (lv_at hl 0 rfl) ?_
    refine lv_iload hx hb d_Mdl_mode_73 (lv_at hl 2 rfl) ?_
    refine x_callV (As := [.int l4]) (rest := []) (cv := vU) C hH kc_Mdl_158 d_Mdl_mode_75 hp (fun o h' e => m_Mdl_look Z e) rfl hl.1 (Nat.le_trans (Nat.le_of_ble_eq_true rfl) hRf) (Nat.le_trans (Nat.le_of_ble_eq_true rfl) hRl) (Nat.le_of_ble_eq_true rfl) (fun v2 h H locs cells slots hp hH => ?_)
    refine W.eq (g2 := F0 m 78 ls []) rfl ?_
    refine lv_iinc (v := (l4 + 1)) (lv' := [(4, .int (l4 + 1)), (0, .ref l0), (3, .int l3)]) hx hb d_Mdl_mode_78 hl (k := 2) rfl rfl (by decide) rfl (fun ls hl => ?_)
    refine lv_goto (tgt := 63) hx hb d_Mdl_mode_81 (by decide) ?_
    exact hs63 l0 l3 (l4 + 1) _ _ _ _ _ _ hp hH (lv_sub hl [1, 2, 0] rfl)
theorem w_Mdl_mode_h63 {res : (Int32 ⊕ (Nat × Nat)) × xH} (C : x_C l s0 A0 D R_Mdl prog_11_method_13_code 5 [] p s m args meth c) (hr : meth.sig.returnType = (some .int)) (hnm : meth.name = "mode") (hRf : 4 ≤ R.frames) (hRl : 132 ≤ R.locals)  : ∀ (n : Nat) (l0 : Nat) (l3 : Int32) (l4 : Int32) (h : xH) (H : Heap) (locs : List Loc) (cells slots : Nat) (ls : Array Slot), f_Mdl_mode_h63 n l0 l3 l4 h = some res → x_S s0 D R h H locs cells slots → lv_has ls 5 [(0, .ref l0), (3, .int l3), (4, .int l4)] → W p l e R s m args below meth c H locs cells slots (x_Q s0 D below s R (x_oc vI res.1) res.2) (F0 m 63 ls []) := by
  intro n
  induction n with
  | zero => intro l0 l3 l4 h H locs cells slots ls hp hH hl; cases hp
  | succ n ih => intro l0 l3 l4 h H locs cells slots ls hp hH hl; exact w_Mdl_mode_63 C hr hnm hRf hRl ih l0 l3 l4 hp hH hl
set_option maxHeartbeats 4000000 in
set_option maxRecDepth 100000 in
theorem w_Mdl_mode_29 {res : (Int32 ⊕ (Nat × Nat)) × xH} (C : x_C l s0 A0 D R_Mdl prog_11_method_13_code 5 [] p s m args meth c) (hr : meth.sig.returnType = (some .int)) (hnm : meth.name = "mode") (hRf : 4 ≤ R.frames) (hRl : 132 ≤ R.locals)  (l0 : Nat) (l1 : Int32) (l2 : Int32) (t0 : Int32) (t1 : Nat) (hp : f_Mdl_mode_b29 l0 l1 l2 t0 t1 h = some res) (hH : x_S s0 D R h H locs cells slots) (hl : lv_has ls 5 [(0, .ref l0), (1, .int l1), (2, .int l2)]) : W p l e R s m args below meth c H locs cells slots (x_Q s0 D below s R (x_oc vI res.1) res.2) (F0 m 29 ls [.int t0, .ref t1]) := by
  obtain ⟨hx, hb, hown, hts, hK, hml, hW, Z, -⟩ := id C
  unfold f_Mdl_mode_b29 at hp
  refine x_pV C hH fp_Mdl_121 (fun h => Bool.noConfusion h) d_Mdl_mode_29 rfl rfl hp (fun h H locs hp hH => ?_)
  refine lv_aload_n hx hb d_Mdl_mode_32 rfl (lv_at hl 0 rfl) ?_
  refine x_gI C hH fl_Mdl_121 d_Mdl_mode_33 hp (fun v1 hp => ?_)
  refine lv_if_le (tgt := 41) hx hb d_Mdl_mode_36 (by decide) (fun hc => ?_) (fun hc => ?_)
  · replace hp := x_ifp hc hp
    refine lv_aload_n hx hb d_Mdl_mode_41 rfl (lv_at hl 0 rfl) ?_
    refine x_gA C hH fl_Mdl_66 d_Mdl_mode_42 hp (fun v2 hp => ?_)
    refine lv_iload_n hx hb d_Mdl_mode_45 rfl (lv_at hl 1 rfl) ?_
    refine x_lI C hH d_Mdl_mode_46 hp (fun v3 hp => ?_)
    refine lv_istore_n (lv' := [(3, .int v3), (0, .ref l0), (1, .int l1), (2, .int l2)]) hx hb d_Mdl_mode_47 rfl hl (by decide) rfl (fun ls hl => ?_)
    refine lv_aload_n hx hb d_Mdl_mode_48 rfl (lv_at hl 1 rfl) ?_
    refine x_gA C hH fl_Mdl_66 d_Mdl_mode_49 hp (fun v4 hp => ?_)
    refine lv_iload_n hx hb d_Mdl_mode_52 rfl (lv_at hl 2 rfl) ?_
    refine lv_iload_n hx hb d_Mdl_mode_53 rfl (lv_at hl 3 rfl) ?_
    refine x_sI C hH d_Mdl_mode_54 hp (fun h H locs hp hH => ?_)
    refine lv_iload_n hx hb d_Mdl_mode_55 rfl (lv_at hl 0 rfl) ?_
    refine lv_iload_n hx hb d_Mdl_mode_56 rfl (lv_at hl 3 rfl) ?_
    refine lv_icmp_eq (tgt := 84) hx hb d_Mdl_mode_57 (by decide) (fun hc => ?_) (fun hc => ?_)
    · replace hp := x_ifp hc hp
      exact w_Mdl_mode_84 C hr hnm hRf hRl  v3 hp hH (lv_sub hl [0] rfl)
    · replace hp := x_ifn hc hp
      refine lv_iconst (v := 0) hx hb d_Mdl_mode_60 (by decide) ?_
      refine lv_istore (lv' := [(4, .int 0), (3, .int v3), (0, .ref l0), (1, .int l1), (2, .int l2)]) hx hb d_Mdl_mode_61 hl (by decide) rfl (fun ls hl => ?_)
      exact w_Mdl_mode_h63 C hr hnm hRf hRl  1000 l0 v3 0 _ _ _ _ _ _ hp hH (lv_sub hl [2, 1, 0] rfl)
  · replace hp := x_ifn hc hp
    refine lv_iconst (v := 0) hx hb d_Mdl_mode_39 (by decide) ?_
    exact x_iret C hH hr d_Mdl_mode_40 hp
set_option maxHeartbeats 4000000 in
set_option maxRecDepth 100000 in
theorem w_Mdl_mode_0 {res : (Int32 ⊕ (Nat × Nat)) × xH} (C : x_C l s0 A0 D R_Mdl prog_11_method_13_code 5 [] p s m args meth c) (hr : meth.sig.returnType = (some .int)) (hnm : meth.name = "mode") (hRf : 4 ≤ R.frames) (hRl : 132 ≤ R.locals)  (l0 : Nat) (l1 : Int32) (l2 : Int32) (hp : f_Mdl_mode l0 l1 l2 h = some res) (hH : x_S s0 D R h H locs cells slots) (hl : lv_has ls 5 [(0, .ref l0), (1, .int l1), (2, .int l2)]) : W p l e R s m args below meth c H locs cells slots (x_Q s0 D below s R (x_oc vI res.1) res.2) (F0 m 0 ls []) := by
  obtain ⟨hx, hb, hown, hts, hK, hml, hW, Z, -⟩ := id C
  unfold f_Mdl_mode at hp
  refine lv_aload_n hx hb d_Mdl_mode_0 rfl (lv_at hl 0 rfl) ?_
  refine lv_iload_n hx hb d_Mdl_mode_1 rfl (lv_at hl 1 rfl) ?_
  refine x_callS (As := [.int l1]) (rest := [.ref l0]) (cv := vI) C hH kc_Mdl_152 d_Mdl_mode_2 hp (fun o h' e => m_Mdl_isSession Z e) rfl hl.1 (Nat.le_trans (Nat.le_of_ble_eq_true rfl) hRf) (Nat.le_trans (Nat.le_of_ble_eq_true rfl) hRl) (Nat.le_of_ble_eq_true rfl) (fun v1 h H locs cells slots hp hH => ?_)
  refine W.eq (g2 := F0 m 5 ls [.int v1, .ref l0]) rfl ?_
  refine lv_if_ne (tgt := 12) hx hb d_Mdl_mode_5 (by decide) (fun hc => ?_) (fun hc => ?_)
  · replace hp := x_ifn hc hp
    refine lv_iload_n hx hb d_Mdl_mode_12 rfl (lv_at hl 2 rfl) ?_
    refine lv_i2l (v := l2.toInt64) hx hb d_Mdl_mode_13 rfl ?_
    refine lv_lconst (v := 0) hx hb d_Mdl_mode_14 (by decide) ?_
    refine lv_ldc2 hx hb hown (hts _ k_853) d_Mdl_mode_15 ?_
    refine x_callS (As := [.long l2.toInt64, .long 0, .long 15]) (rest := [.ref l0]) (cv := vI) C hH kc_Mdl_148 d_Mdl_mode_18 hp (fun o h' e => m_Mdl_in Z e) rfl hl.1 (Nat.le_trans (Nat.le_of_ble_eq_true rfl) hRf) (Nat.le_trans (Nat.le_of_ble_eq_true rfl) hRl) (Nat.le_of_ble_eq_true rfl) (fun v2 h H locs cells slots hp hH => ?_)
    refine W.eq (g2 := F0 m 21 ls [.int v2, .ref l0]) rfl ?_
    refine lv_if_ne (tgt := 28) hx hb d_Mdl_mode_21 (by decide) (fun hc => ?_) (fun hc => ?_)
    · replace hp := x_ifn hc hp
      refine lv_iconst (v := 0) hx hb d_Mdl_mode_28 (by decide) ?_
      exact w_Mdl_mode_29 C hr hnm hRf hRl  l0 l1 l2 0 l0 hp hH (lv_sub hl [0, 1, 2] rfl)
    · replace hp := x_ifp hc hp
      refine lv_iconst (v := 2) hx hb d_Mdl_mode_24 (by decide) ?_
      refine lv_goto (tgt := 29) hx hb d_Mdl_mode_25 (by decide) ?_
      exact w_Mdl_mode_29 C hr hnm hRf hRl  l0 l1 l2 2 l0 hp hH (lv_sub hl [0, 1, 2] rfl)
  · replace hp := x_ifp hc hp
    refine lv_iconst (v := 1) hx hb d_Mdl_mode_8 (by decide) ?_
    refine lv_goto (tgt := 29) hx hb d_Mdl_mode_9 (by decide) ?_
    exact w_Mdl_mode_29 C hr hnm hRf hRl  l0 l1 l2 1 l0 hp hH (lv_sub hl [0, 1, 2] rfl)
set_option maxRecDepth 100000 in
theorem m_Mdl_mode (Z : x_Z l s0 A0 D) {l0 : Nat} {l1 : Int32} {l2 : Int32} {res : (Int32 ⊕ (Nat × Nat)) × xH} (hp : f_Mdl_mode l0 l1 l2 h = some res) : x_M l s0 D y_Mdl_mode (x_cw y_Mdl_mode prog_11_method_13_code 5 (some .int) []) 4 132 [.ref l0, .int l1, .int l2] h (x_oc vI res.1) res.2 := by
  refine x_M.ofW Z (plainFor_of_name (by decide)) ?_
  intro p e s m below meth c C hnm hr hH
  have hl := lv_entry ([.ref l0, .int l1, .int l2]) (n := 5) (Nat.le_of_ble_eq_true rfl)
  rw [lg_entry_eq]
  generalize (lg_sl ([.ref l0, .int l1, .int l2]) ++ List.replicate (5 - (lg_sl ([.ref l0, .int l1, .int l2])).length) Slot.unset).toArray = ls at hl ⊢
  exact w_Mdl_mode_0 C hr hnm (Nat.le_refl _) (Nat.le_refl _) l0 l1 l2 hp hH hl
/-! ReadSideModel.isReplica(I)Z -/
theorem d_Mdl_isReplica_0 : decode prog_11_method_11_code 0 = .ok (.iload_n 1, 1) := by decide +kernel
theorem d_Mdl_isReplica_1 : decode prog_11_method_11_code 1 = .ok (.i2l, 1) := by decide +kernel
theorem d_Mdl_isReplica_2 : decode prog_11_method_11_code 2 = .ok (.lconst 0, 1) := by decide +kernel
theorem d_Mdl_isReplica_3 : decode prog_11_method_11_code 3 = .ok (.aload_n 0, 1) := by decide +kernel
theorem d_Mdl_isReplica_4 : decode prog_11_method_11_code 4 = .ok (.getfield 118, 3) := by decide +kernel
theorem d_Mdl_isReplica_7 : decode prog_11_method_11_code 7 = .ok (.iconst 1, 1) := by decide +kernel
theorem d_Mdl_isReplica_8 : decode prog_11_method_11_code 8 = .ok (.isub, 1) := by decide +kernel
theorem d_Mdl_isReplica_9 : decode prog_11_method_11_code 9 = .ok (.i2l, 1) := by decide +kernel
theorem d_Mdl_isReplica_10 : decode prog_11_method_11_code 10 = .ok (.invokestatic 148, 3) := by decide +kernel
theorem d_Mdl_isReplica_13 : decode prog_11_method_11_code 13 = .ok (.ireturn, 1) := by decide +kernel
set_option maxHeartbeats 4000000 in
set_option maxRecDepth 100000 in
theorem w_Mdl_isReplica_0 {res : (Int32 ⊕ (Nat × Nat)) × xH} (C : x_C l s0 A0 D R_Mdl prog_11_method_11_code 2 [] p s m args meth c) (hr : meth.sig.returnType = (some .boolean)) (hnm : meth.name = "isReplica") (hRf : 1 ≤ R.frames) (hRl : 33 ≤ R.locals)  (l0 : Nat) (l1 : Int32) (hp : f_Mdl_isReplica l0 l1 h = some res) (hH : x_S s0 D R h H locs cells slots) (hl : lv_has ls 2 [(0, .ref l0), (1, .int l1)]) : W p l e R s m args below meth c H locs cells slots (x_Q s0 D below s R (x_oc vI res.1) res.2) (F0 m 0 ls []) := by
  obtain ⟨hx, hb, hown, hts, hK, hml, hW, Z, -⟩ := id C
  unfold f_Mdl_isReplica at hp
  refine lv_iload_n hx hb d_Mdl_isReplica_0 rfl (lv_at hl 1 rfl) ?_
  refine lv_i2l (v := l1.toInt64) hx hb d_Mdl_isReplica_1 rfl ?_
  refine lv_lconst (v := 0) hx hb d_Mdl_isReplica_2 (by decide) ?_
  refine lv_aload_n hx hb d_Mdl_isReplica_3 rfl (lv_at hl 0 rfl) ?_
  refine x_gI C hH fl_Mdl_118 d_Mdl_isReplica_4 hp (fun v1 hp => ?_)
  refine lv_iconst (v := 1) hx hb d_Mdl_isReplica_7 (by decide) ?_
  refine lv_isub hx hb d_Mdl_isReplica_8 ?_
  refine lv_i2l (v := (v1 - 1).toInt64) hx hb d_Mdl_isReplica_9 rfl ?_
  refine x_callS (As := [.long l1.toInt64, .long 0, .long ((v1 - 1).toInt64)]) (rest := []) (cv := vI) C hH kc_Mdl_148 d_Mdl_isReplica_10 hp (fun o h' e => m_Mdl_in Z e) rfl hl.1 (Nat.le_trans (Nat.le_of_ble_eq_true rfl) hRf) (Nat.le_trans (Nat.le_of_ble_eq_true rfl) hRl) (Nat.le_of_ble_eq_true rfl) (fun v2 h H locs cells slots hp hH => ?_)
  refine W.eq (g2 := F0 m 13 ls [.int v2]) rfl ?_
  exact x_zret C hH hr d_Mdl_isReplica_13 hp
set_option maxRecDepth 100000 in
theorem m_Mdl_isReplica (Z : x_Z l s0 A0 D) {l0 : Nat} {l1 : Int32} {res : (Int32 ⊕ (Nat × Nat)) × xH} (hp : f_Mdl_isReplica l0 l1 h = some res) : x_M l s0 D y_Mdl_isReplica (x_cw y_Mdl_isReplica prog_11_method_11_code 2 (some .boolean) []) 1 33 [.ref l0, .int l1] h (x_oc vI res.1) res.2 := by
  refine x_M.ofW Z (plainFor_of_name (by decide)) ?_
  intro p e s m below meth c C hnm hr hH
  have hl := lv_entry ([.ref l0, .int l1]) (n := 2) (Nat.le_of_ble_eq_true rfl)
  rw [lg_entry_eq]
  generalize (lg_sl ([.ref l0, .int l1]) ++ List.replicate (2 - (lg_sl ([.ref l0, .int l1])).length) Slot.unset).toArray = ls at hl ⊢
  exact w_Mdl_isReplica_0 C hr hnm (Nat.le_refl _) (Nat.le_refl _) l0 l1 hp hH hl
/-! ReadSideModel.home(II)I -/
theorem d_Mdl_home_0 : decode prog_11_method_14_code 0 = .ok (.aload_n 0, 1) := by decide +kernel
theorem d_Mdl_home_1 : decode prog_11_method_14_code 1 = .ok (.iload_n 1, 1) := by decide +kernel
theorem d_Mdl_home_2 : decode prog_11_method_14_code 2 = .ok (.invokestatic 152, 3) := by decide +kernel
theorem d_Mdl_home_5 : decode prog_11_method_14_code 5 = .ok (.ifCond .eq 15, 3) := by decide +kernel
theorem d_Mdl_home_8 : decode prog_11_method_14_code 8 = .ok (.aload_n 0, 1) := by decide +kernel
theorem d_Mdl_home_9 : decode prog_11_method_14_code 9 = .ok (.iload_n 2, 1) := by decide +kernel
theorem d_Mdl_home_10 : decode prog_11_method_14_code 10 = .ok (.invokevirtual 162, 3) := by decide +kernel
theorem d_Mdl_home_13 : decode prog_11_method_14_code 13 = .ok (.ifCond .eq 7, 3) := by decide +kernel
theorem d_Mdl_home_16 : decode prog_11_method_14_code 16 = .ok (.iconst 0, 1) := by decide +kernel
theorem d_Mdl_home_17 : decode prog_11_method_14_code 17 = .ok (.goto 4, 3) := by decide +kernel
theorem d_Mdl_home_20 : decode prog_11_method_14_code 20 = .ok (.iconst 1, 1) := by decide +kernel
theorem d_Mdl_home_21 : decode prog_11_method_14_code 21 = .ok (.putfield 121, 3) := by decide +kernel
theorem d_Mdl_home_24 : decode prog_11_method_14_code 24 = .ok (.aload_n 0, 1) := by decide +kernel
theorem d_Mdl_home_25 : decode prog_11_method_14_code 25 = .ok (.getfield 121, 3) := by decide +kernel
theorem d_Mdl_home_28 : decode prog_11_method_14_code 28 = .ok (.ifCond .le 5, 3) := by decide +kernel
theorem d_Mdl_home_31 : decode prog_11_method_14_code 31 = .ok (.iconst 0, 1) := by decide +kernel
theorem d_Mdl_home_32 : decode prog_11_method_14_code 32 = .ok (.ireturn, 1) := by decide +kernel
theorem d_Mdl_home_33 : decode prog_11_method_14_code 33 = .ok (.aload_n 0, 1) := by decide +kernel
theorem d_Mdl_home_34 : decode prog_11_method_14_code 34 = .ok (.getfield 69, 3) := by decide +kernel
theorem d_Mdl_home_37 : decode prog_11_method_14_code 37 = .ok (.iload_n 1, 1) := by decide +kernel
theorem d_Mdl_home_38 : decode prog_11_method_14_code 38 = .ok (.iaload, 1) := by decide +kernel
theorem d_Mdl_home_39 : decode prog_11_method_14_code 39 = .ok (.istore_n 3, 1) := by decide +kernel
theorem d_Mdl_home_40 : decode prog_11_method_14_code 40 = .ok (.aload_n 0, 1) := by decide +kernel
theorem d_Mdl_home_41 : decode prog_11_method_14_code 41 = .ok (.getfield 69, 3) := by decide +kernel
theorem d_Mdl_home_44 : decode prog_11_method_14_code 44 = .ok (.iload_n 1, 1) := by decide +kernel
theorem d_Mdl_home_45 : decode prog_11_method_14_code 45 = .ok (.iload_n 2, 1) := by decide +kernel
theorem d_Mdl_home_46 : decode prog_11_method_14_code 46 = .ok (.iastore, 1) := by decide +kernel
theorem d_Mdl_home_47 : decode prog_11_method_14_code 47 = .ok (.iload_n 3, 1) := by decide +kernel
theorem d_Mdl_home_48 : decode prog_11_method_14_code 48 = .ok (.ireturn, 1) := by decide +kernel
set_option maxHeartbeats 4000000 in
set_option maxRecDepth 100000 in
theorem w_Mdl_home_21 {res : (Int32 ⊕ (Nat × Nat)) × xH} (C : x_C l s0 A0 D R_Mdl prog_11_method_14_code 4 [] p s m args meth c) (hr : meth.sig.returnType = (some .int)) (hnm : meth.name = "home") (hRf : 2 ≤ R.frames) (hRl : 62 ≤ R.locals)  (l0 : Nat) (l1 : Int32) (l2 : Int32) (t0 : Int32) (t1 : Nat) (hp : f_Mdl_home_b21 l0 l1 l2 t0 t1 h = some res) (hH : x_S s0 D R h H locs cells slots) (hl : lv_has ls 4 [(0, .ref l0), (1, .int l1), (2, .int l2)]) : W p l e R s m args below meth c H locs cells slots (x_Q s0 D below s R (x_oc vI res.1) res.2) (F0 m 21 ls [.int t0, .ref t1]) := by
  obtain ⟨hx, hb, hown, hts, hK, hml, hW, Z, -⟩ := id C
  unfold f_Mdl_home_b21 at hp
  refine x_pV C hH fp_Mdl_121 (fun h => Bool.noConfusion h) d_Mdl_home_21 rfl rfl hp (fun h H locs hp hH => ?_)
  refine lv_aload_n hx hb d_Mdl_home_24 rfl (lv_at hl 0 rfl) ?_
  refine x_gI C hH fl_Mdl_121 d_Mdl_home_25 hp (fun v1 hp => ?_)
  refine lv_if_le (tgt := 33) hx hb d_Mdl_home_28 (by decide) (fun hc => ?_) (fun hc => ?_)
  · replace hp := x_ifp hc hp
    refine lv_aload_n hx hb d_Mdl_home_33 rfl (lv_at hl 0 rfl) ?_
    refine x_gA C hH fl_Mdl_69 d_Mdl_home_34 hp (fun v2 hp => ?_)
    refine lv_iload_n hx hb d_Mdl_home_37 rfl (lv_at hl 1 rfl) ?_
    refine x_lI C hH d_Mdl_home_38 hp (fun v3 hp => ?_)
    refine lv_istore_n (lv' := [(3, .int v3), (0, .ref l0), (1, .int l1), (2, .int l2)]) hx hb d_Mdl_home_39 rfl hl (by decide) rfl (fun ls hl => ?_)
    refine lv_aload_n hx hb d_Mdl_home_40 rfl (lv_at hl 1 rfl) ?_
    refine x_gA C hH fl_Mdl_69 d_Mdl_home_41 hp (fun v4 hp => ?_)
    refine lv_iload_n hx hb d_Mdl_home_44 rfl (lv_at hl 2 rfl) ?_
    refine lv_iload_n hx hb d_Mdl_home_45 rfl (lv_at hl 3 rfl) ?_
    refine x_sI C hH d_Mdl_home_46 hp (fun h H locs hp hH => ?_)
    refine lv_iload_n hx hb d_Mdl_home_47 rfl (lv_at hl 0 rfl) ?_
    exact x_iret C hH hr d_Mdl_home_48 hp
  · replace hp := x_ifn hc hp
    refine lv_iconst (v := 0) hx hb d_Mdl_home_31 (by decide) ?_
    exact x_iret C hH hr d_Mdl_home_32 hp
set_option maxHeartbeats 4000000 in
set_option maxRecDepth 100000 in
theorem w_Mdl_home_20 {res : (Int32 ⊕ (Nat × Nat)) × xH} (C : x_C l s0 A0 D R_Mdl prog_11_method_14_code 4 [] p s m args meth c) (hr : meth.sig.returnType = (some .int)) (hnm : meth.name = "home") (hRf : 2 ≤ R.frames) (hRl : 62 ≤ R.locals)  (l0 : Nat) (l1 : Int32) (l2 : Int32) (t0 : Nat) (hp : f_Mdl_home_b20 l0 l1 l2 t0 h = some res) (hH : x_S s0 D R h H locs cells slots) (hl : lv_has ls 4 [(0, .ref l0), (1, .int l1), (2, .int l2)]) : W p l e R s m args below meth c H locs cells slots (x_Q s0 D below s R (x_oc vI res.1) res.2) (F0 m 20 ls [.ref t0]) := by
  obtain ⟨hx, hb, hown, hts, hK, hml, hW, Z, -⟩ := id C
  unfold f_Mdl_home_b20 at hp
  refine lv_iconst (v := 1) hx hb d_Mdl_home_20 (by decide) ?_
  exact w_Mdl_home_21 C hr hnm hRf hRl  l0 l1 l2 1 t0 hp hH (lv_sub hl [0, 1, 2] rfl)
set_option maxHeartbeats 4000000 in
set_option maxRecDepth 100000 in
theorem w_Mdl_home_0 {res : (Int32 ⊕ (Nat × Nat)) × xH} (C : x_C l s0 A0 D R_Mdl prog_11_method_14_code 4 [] p s m args meth c) (hr : meth.sig.returnType = (some .int)) (hnm : meth.name = "home") (hRf : 2 ≤ R.frames) (hRl : 62 ≤ R.locals)  (l0 : Nat) (l1 : Int32) (l2 : Int32) (hp : f_Mdl_home l0 l1 l2 h = some res) (hH : x_S s0 D R h H locs cells slots) (hl : lv_has ls 4 [(0, .ref l0), (1, .int l1), (2, .int l2)]) : W p l e R s m args below meth c H locs cells slots (x_Q s0 D below s R (x_oc vI res.1) res.2) (F0 m 0 ls []) := by
  obtain ⟨hx, hb, hown, hts, hK, hml, hW, Z, -⟩ := id C
  unfold f_Mdl_home at hp
  refine lv_aload_n hx hb d_Mdl_home_0 rfl (lv_at hl 0 rfl) ?_
  refine lv_iload_n hx hb d_Mdl_home_1 rfl (lv_at hl 1 rfl) ?_
  refine x_callS (As := [.int l1]) (rest := [.ref l0]) (cv := vI) C hH kc_Mdl_152 d_Mdl_home_2 hp (fun o h' e => m_Mdl_isSession Z e) rfl hl.1 (Nat.le_trans (Nat.le_of_ble_eq_true rfl) hRf) (Nat.le_trans (Nat.le_of_ble_eq_true rfl) hRl) (Nat.le_of_ble_eq_true rfl) (fun v1 h H locs cells slots hp hH => ?_)
  refine W.eq (g2 := F0 m 5 ls [.int v1, .ref l0]) rfl ?_
  refine lv_if_eq (tgt := 20) hx hb d_Mdl_home_5 (by decide) (fun hc => ?_) (fun hc => ?_)
  · replace hp := x_ifp hc hp
    exact w_Mdl_home_20 C hr hnm hRf hRl  l0 l1 l2 l0 hp hH (lv_sub hl [0, 1, 2] rfl)
  · replace hp := x_ifn hc hp
    refine lv_aload_n hx hb d_Mdl_home_8 rfl (lv_at hl 0 rfl) ?_
    refine lv_iload_n hx hb d_Mdl_home_9 rfl (lv_at hl 2 rfl) ?_
    refine x_callV (As := [.int l2]) (rest := [.ref l0]) (cv := vI) C hH kc_Mdl_162 d_Mdl_home_10 hp (fun o h' e => m_Mdl_isReplica Z e) rfl hl.1 (Nat.le_trans (Nat.le_of_ble_eq_true rfl) hRf) (Nat.le_trans (Nat.le_of_ble_eq_true rfl) hRl) (Nat.le_of_ble_eq_true rfl) (fun v2 h H locs cells slots hp hH => ?_)
    refine W.eq (g2 := F0 m 13 ls [.int v2, .ref l0]) rfl ?_
    refine lv_if_eq (tgt := 20) hx hb d_Mdl_home_13 (by decide) (fun hc => ?_) (fun hc => ?_)
    · replace hp := x_ifp hc hp
      exact w_Mdl_home_20 C hr hnm hRf hRl  l0 l1 l2 l0 hp hH (lv_sub hl [0, 1, 2] rfl)
    · replace hp := x_ifn hc hp
      refine lv_iconst (v := 0) hx hb d_Mdl_home_16 (by decide) ?_
      refine lv_goto (tgt := 21) hx hb d_Mdl_home_17 (by decide) ?_
      exact w_Mdl_home_21 C hr hnm hRf hRl  l0 l1 l2 0 l0 hp hH (lv_sub hl [0, 1, 2] rfl)
set_option maxRecDepth 100000 in
theorem m_Mdl_home (Z : x_Z l s0 A0 D) {l0 : Nat} {l1 : Int32} {l2 : Int32} {res : (Int32 ⊕ (Nat × Nat)) × xH} (hp : f_Mdl_home l0 l1 l2 h = some res) : x_M l s0 D y_Mdl_home (x_cw y_Mdl_home prog_11_method_14_code 4 (some .int) []) 2 62 [.ref l0, .int l1, .int l2] h (x_oc vI res.1) res.2 := by
  refine x_M.ofW Z (plainFor_of_name (by decide)) ?_
  intro p e s m below meth c C hnm hr hH
  have hl := lv_entry ([.ref l0, .int l1, .int l2]) (n := 4) (Nat.le_of_ble_eq_true rfl)
  rw [lg_entry_eq]
  generalize (lg_sl ([.ref l0, .int l1, .int l2]) ++ List.replicate (4 - (lg_sl ([.ref l0, .int l1, .int l2])).length) Slot.unset).toArray = ls at hl ⊢
  exact w_Mdl_home_0 C hr hnm (Nat.le_refl _) (Nat.le_refl _) l0 l1 l2 hp hH hl
end GEN
