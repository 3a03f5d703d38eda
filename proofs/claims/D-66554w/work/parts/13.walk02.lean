section GEN
variable {p : Program} {l : Launch} {e : Env} {R : Room} {s : State} {m : MethodId} {args : Array Value} {below : List Frame} {meth : Method} {c : Code} {H : Heap} {locs : List Loc} {cells slots : Nat} {ls : Array Slot} {D : xD} {s0 : State} {A0 : Array Value} {h : xH}
/-! ReadSide$Vector.copy(LReadSide$Vector;)V -/
theorem d_Vec_copy_0 : decode prog_9_method_3_code 0 = .ok (.iconst 0, 1) := by decide +kernel
theorem d_Vec_copy_1 : decode prog_9_method_3_code 1 = .ok (.istore_n 2, 1) := by decide +kernel
theorem d_Vec_copy_2 : decode prog_9_method_3_code 2 = .ok (.iload_n 2, 1) := by decide +kernel
theorem d_Vec_copy_3 : decode prog_9_method_3_code 3 = .ok (.iconst 3, 1) := by decide +kernel
theorem d_Vec_copy_4 : decode prog_9_method_3_code 4 = .ok (.if_icmp .ge 21, 3) := by decide +kernel
theorem d_Vec_copy_7 : decode prog_9_method_3_code 7 = .ok (.aload_n 0, 1) := by decide +kernel
theorem d_Vec_copy_8 : decode prog_9_method_3_code 8 = .ok (.getfield 7, 3) := by decide +kernel
theorem d_Vec_copy_11 : decode prog_9_method_3_code 11 = .ok (.iload_n 2, 1) := by decide +kernel
theorem d_Vec_copy_12 : decode prog_9_method_3_code 12 = .ok (.aload_n 1, 1) := by decide +kernel
theorem d_Vec_copy_13 : decode prog_9_method_3_code 13 = .ok (.getfield 7, 3) := by decide +kernel
theorem d_Vec_copy_16 : decode prog_9_method_3_code 16 = .ok (.iload_n 2, 1) := by decide +kernel
theorem d_Vec_copy_17 : decode prog_9_method_3_code 17 = .ok (.iaload, 1) := by decide +kernel
theorem d_Vec_copy_18 : decode prog_9_method_3_code 18 = .ok (.iastore, 1) := by decide +kernel
theorem d_Vec_copy_19 : decode prog_9_method_3_code 19 = .ok (.iinc 2 1, 3) := by decide +kernel
theorem d_Vec_copy_22 : decode prog_9_method_3_code 22 = .ok (.goto (-20), 3) := by decide +kernel
theorem d_Vec_copy_25 : decode prog_9_method_3_code 25 = .ok (.return_, 1) := by decide +kernel
set_option maxHeartbeats 4000000 in
set_option maxRecDepth 100000 in
theorem w_Vec_copy_2 {res : (Unit ⊕ (Nat × Nat)) × xH} (C : x_C l s0 A0 D R_Vec prog_9_method_3_code 3 [] p s m args meth c) (hr : meth.sig.returnType = none) (hnm : meth.name = "copy") (hRf : 0 ≤ R.frames) (hRl : 0 ≤ R.locals) {k2 : Nat → Nat → Int32 → xM Unit} (hs2 : ∀ (l0 : Nat) (l1 : Nat) (l2 : Int32) (h : xH) (H : Heap) (locs : List Loc) (cells slots : Nat) (ls : Array Slot), k2 l0 l1 l2 h = some res → x_S s0 D R h H locs cells slots → lv_has ls 3 [(0, .ref l0), (1, .ref l1), (2, .int l2)] → W p l e R s m args below meth c H locs cells slots (x_Q s0 D below s R (x_oc vU res.1) res.2) (F0 m 2 ls [])) (l0 : Nat) (l1 : Nat) (l2 : Int32) (hp : f_Vec_copy_b2 k2 l0 l1 l2 h = some res) (hH : x_S s0 D R h H locs cells slots) (hl : lv_has ls 3 [(0, .ref l0), (1, .ref l1), (2, .int l2)]) : W p l e R s m args below meth c H locs cells slots (x_Q s0 D below s R (x_oc vU res.1) res.2) (F0 m 2 ls []) := by
  obtain ⟨hx, hb, hown, hts, hK, hml, hW, Z, -⟩ := id C
  unfold f_Vec_copy_b2 at hp
  refine lv_iload_n hx hb d_Vec_copy_2 rfl (lv_at hl 2 rfl) ?_
  refine lv_iconst (v := 3) hx hb d_Vec_copy_3 (by decide) ?_
  refine lv_icmp_ge (tgt := 25) hx hb d_Vec_copy_4 (by decide) (fun hc => ?_) (fun hc => ?_)
  · replace hp := x_ifp hc hp
    exact x_vret C hH hr d_Vec_copy_25 hp
  · replace hp := x_ifn hc hp
    refine lv_aload_n hx hb d_Vec_copy_7 rfl (lv_at hl 0 rfl) ?_
    refine x_gA C hH fl_Vec_7 d_Vec_copy_8 hp (fun v1 hp => ?_)
    refine lv_iload_n hx hb d_Vec_copy_11 rfl (lv_at hl 2 rfl) ?_
    refine lv_aload_n hx hb d_Vec_copy_12 rfl (lv_at hl 1 rfl) ?_
    refine x_gA C hH fl_Vec_7 d_Vec_copy_13 hp (fun v2 hp => ?_)
    refine lv_iload_n hx hb d_Vec_copy_16 rfl (lv_at hl 2 rfl) ?_
    refine x_lI C hH d_Vec_copy_17 hp (fun v3 hp => ?_)
    refine x_sI C hH d_Vec_copy_18 hp (fun h H locs hp hH => ?_)
    refine lv_iinc (v := (l2 + 1)) (lv' := [(2, .int (l2 + 1)), (0, .ref l0), (1, .ref l1)]) hx hb d_Vec_copy_19 hl (k := 2) rfl rfl (by decide) rfl (fun ls hl => ?_)
    refine lv_goto (tgt := 2) hx hb d_Vec_copy_22 (by decide) ?_
    exact hs2 l0 l1 (l2 + 1) _ _ _ _ _ _ hp hH (lv_sub hl [1, 2, 0] rfl)
theorem w_Vec_copy_h2 {res : (Unit ⊕ (Nat × Nat)) × xH} (C : x_C l s0 A0 D R_Vec prog_9_method_3_code 3 [] p s m args meth c) (hr : meth.sig.returnType = none) (hnm : meth.name = "copy") (hRf : 0 ≤ R.frames) (hRl : 0 ≤ R.locals)  : ∀ (n : Nat) (l0 : Nat) (l1 : Nat) (l2 : Int32) (h : xH) (H : Heap) (locs : List Loc) (cells slots : Nat) (ls : Array Slot), f_Vec_copy_h2 n l0 l1 l2 h = some res → x_S s0 D R h H locs cells slots → lv_has ls 3 [(0, .ref l0), (1, .ref l1), (2, .int l2)] → W p l e R s m args below meth c H locs cells slots (x_Q s0 D below s R (x_oc vU res.1) res.2) (F0 m 2 ls []) := by
  intro n
  induction n with
  | zero => intro l0 l1 l2 h H locs cells slots ls hp hH hl; cases hp
  | succ n ih => intro l0 l1 l2 h H locs cells slots ls hp hH hl; exact w_Vec_copy_2 C hr hnm hRf hRl ih l0 l1 l2 hp hH hl
set_option maxHeartbeats 4000000 in
set_option maxRecDepth 100000 in
theorem w_Vec_copy_0 {res : (Unit ⊕ (Nat × Nat)) × xH} (C : x_C l s0 A0 D R_Vec prog_9_method_3_code 3 [] p s m args meth c) (hr : meth.sig.returnType = none) (hnm : meth.name = "copy") (hRf : 0 ≤ R.frames) (hRl : 0 ≤ R.locals)  (l0 : Nat) (l1 : Nat) (hp : f_Vec_copy l0 l1 h = some res) (hH : x_S s0 D R h H locs cells slots) (hl : lv_has ls 3 [(0, .ref l0), (1, .ref l1)]) : W p l e R s m args below meth c H locs cells slots (x_Q s0 D below s R (x_oc vU res.1) res.2) (F0 m 0 ls []) := by
  obtain ⟨hx, hb, hown, hts, hK, hml, hW, Z, -⟩ := id C
  unfold f_Vec_copy at hp
  refine lv_iconst (v := 0) hx hb d_Vec_copy_0 (by decide) ?_
  refine lv_istore_n (lv' := [(2, .int 0), (0, .ref l0), (1, .ref l1)]) hx hb d_Vec_copy_1 rfl hl (by decide) rfl (fun ls hl => ?_)
  exact w_Vec_copy_h2 C hr hnm hRf hRl  1000 l0 l1 0 _ _ _ _ _ _ hp hH (lv_sub hl [1, 2, 0] rfl)
set_option maxRecDepth 100000 in
theorem m_Vec_copy (Z : x_Z l s0 A0 D) {l0 : Nat} {l1 : Nat} {res : (Unit ⊕ (Nat × Nat)) × xH} (hp : f_Vec_copy l0 l1 h = some res) : x_M l s0 D y_Vec_copy (x_cw y_Vec_copy prog_9_method_3_code 3 none []) 0 0 [.ref l0, .ref l1] h (x_oc vU res.1) res.2 := by
  refine x_M.ofW Z (plainFor_of_name (by decide)) ?_
  intro p e s m below meth c C hnm hr hH
  have hl := lv_entry ([.ref l0, .ref l1]) (n := 3) (Nat.le_of_ble_eq_true rfl)
  rw [lg_entry_eq]
  generalize (lg_sl ([.ref l0, .ref l1]) ++ List.replicate (3 - (lg_sl ([.ref l0, .ref l1])).length) Slot.unset).toArray = ls at hl ⊢
  exact w_Vec_copy_0 C hr hnm (Nat.le_refl _) (Nat.le_refl _) l0 l1 hp hH hl
/-! ReadSide.need(Z)V -/
theorem d_RS_need_0 : decode prog_1_method_5_code 0 = .ok (.iload_n 0, 1) := by decide +kernel
theorem d_RS_need_1 : decode prog_1_method_5_code 1 = .ok (.ifCond .ne 11, 3) := by decide +kernel
theorem d_RS_need_4 : decode prog_1_method_5_code 4 = .ok (.new 58, 3) := by decide +kernel
theorem d_RS_need_7 : decode prog_1_method_5_code 7 = .ok (.dup, 1) := by decide +kernel
theorem d_RS_need_8 : decode prog_1_method_5_code 8 = .ok (.invokespecial 60, 3) := by decide +kernel
theorem d_RS_need_11 : decode prog_1_method_5_code 11 = .ok (.athrow, 1) := by decide +kernel
theorem d_RS_need_12 : decode prog_1_method_5_code 12 = .ok (.return_, 1) := by decide +kernel
set_option maxHeartbeats 4000000 in
set_option maxRecDepth 100000 in
theorem w_RS_need_0 {res : (Unit ⊕ (Nat × Nat)) × xH} (C : x_C l s0 A0 D R_RS prog_1_method_5_code 1 [] p s m args meth c) (hr : meth.sig.returnType = none) (hnm : meth.name = "need") (hRf : 6 ≤ R.frames) (hRl : 100 ≤ R.locals)  (l0 : Int32) (hp : f_RS_need l0 h = some res) (hH : x_S s0 D R h s.heap [] 0 0) (hl : lv_has ls 1 [(0, .int l0)]) : W p l e R s m args below meth c s.heap [] 0 0 (x_Q s0 D below s R (x_oc vU res.1) res.2) (F0 m 0 ls []) := by
  obtain ⟨hx, hb, hown, hts, hK, hml, hW, Z, -⟩ := id C
  unfold f_RS_need at hp
  refine lv_iload_n hx hb d_RS_need_0 rfl (lv_at hl 0 rfl) ?_
  refine lv_if_ne (tgt := 12) hx hb d_RS_need_1 (by decide) (fun hc => ?_) (fun hc => ?_)
  · replace hp := x_ifn hc hp
    exact x_vret C hH hr d_RS_need_12 hp
  · replace hp := x_ifp hc hp
    exact x_thr C hH tw_RS_58 d_RS_need_4 d_RS_need_7 d_RS_need_8 d_RS_need_11 hl.1 (Nat.le_trans (Nat.le_of_ble_eq_true rfl) hRf) (Nat.le_trans (Nat.le_of_ble_eq_true rfl) hRl) (Nat.le_of_ble_eq_true rfl) hp
set_option maxRecDepth 100000 in
theorem m_RS_need (Z : x_Z l s0 A0 D) {l0 : Int32} {res : (Unit ⊕ (Nat × Nat)) × xH} (hp : f_RS_need l0 h = some res) : x_M l s0 D y_RS_need (x_cw y_RS_need prog_1_method_5_code 1 none []) 6 100 [.int l0] h (x_oc vU res.1) res.2 := by
  refine x_M.ofW Z (plainFor_of_name (by decide)) ?_
  intro p e s m below meth c C hnm hr hH
  have hl := lv_entry ([.int l0]) (n := 1) (Nat.le_of_ble_eq_true rfl)
  rw [lg_entry_eq]
  generalize (lg_sl ([.int l0]) ++ List.replicate (1 - (lg_sl ([.int l0])).length) Slot.unset).toArray = ls at hl ⊢
  exact w_RS_need_0 C hr hnm (Nat.le_refl _) (Nat.le_refl _) l0 hp hH hl
/-! ReadSide$Command.<init>(IIII)V -/
theorem d_Cmd_init_0 : decode prog_2_method_1_code 0 = .ok (.aload_n 0, 1) := by decide +kernel
theorem d_Cmd_init_1 : decode prog_2_method_1_code 1 = .ok (.invokespecial 1, 3) := by decide +kernel
theorem d_Cmd_init_4 : decode prog_2_method_1_code 4 = .ok (.aload_n 0, 1) := by decide +kernel
theorem d_Cmd_init_5 : decode prog_2_method_1_code 5 = .ok (.new 7, 3) := by decide +kernel
theorem d_Cmd_init_8 : decode prog_2_method_1_code 8 = .ok (.dup, 1) := by decide +kernel
theorem d_Cmd_init_9 : decode prog_2_method_1_code 9 = .ok (.invokespecial 9, 3) := by decide +kernel
theorem d_Cmd_init_12 : decode prog_2_method_1_code 12 = .ok (.putfield 10, 3) := by decide +kernel
theorem d_Cmd_init_15 : decode prog_2_method_1_code 15 = .ok (.aload_n 0, 1) := by decide +kernel
theorem d_Cmd_init_16 : decode prog_2_method_1_code 16 = .ok (.iload_n 1, 1) := by decide +kernel
theorem d_Cmd_init_17 : decode prog_2_method_1_code 17 = .ok (.putfield 16, 3) := by decide +kernel
theorem d_Cmd_init_20 : decode prog_2_method_1_code 20 = .ok (.aload_n 0, 1) := by decide +kernel
theorem d_Cmd_init_21 : decode prog_2_method_1_code 21 = .ok (.iload_n 2, 1) := by decide +kernel
theorem d_Cmd_init_22 : decode prog_2_method_1_code 22 = .ok (.putfield 20, 3) := by decide +kernel
theorem d_Cmd_init_25 : decode prog_2_method_1_code 25 = .ok (.aload_n 0, 1) := by decide +kernel
theorem d_Cmd_init_26 : decode prog_2_method_1_code 26 = .ok (.iload_n 3, 1) := by decide +kernel
theorem d_Cmd_init_27 : decode prog_2_method_1_code 27 = .ok (.putfield 23, 3) := by decide +kernel
theorem d_Cmd_init_30 : decode prog_2_method_1_code 30 = .ok (.aload_n 0, 1) := by decide +kernel
theorem d_Cmd_init_31 : decode prog_2_method_1_code 31 = .ok (.iload 4, 2) := by decide +kernel
theorem d_Cmd_init_33 : decode prog_2_method_1_code 33 = .ok (.putfield 26, 3) := by decide +kernel
theorem d_Cmd_init_36 : decode prog_2_method_1_code 36 = .ok (.return_, 1) := by decide +kernel
set_option maxHeartbeats 4000000 in
set_option maxRecDepth 100000 in
theorem w_Cmd_init_0 {res : (Unit ⊕ (Nat × Nat)) × xH} (C : x_C l s0 A0 D R_Cmd prog_2_method_1_code 5 [] p s m args meth c) (hr : meth.sig.returnType = none) (hnm : meth.name = "<init>") (hRf : 2 ≤ R.frames) (hRl : 68 ≤ R.locals)  (l0 : Nat) (l1 : Int32) (l2 : Int32) (l3 : Int32) (l4 : Int32) (hp : f_Cmd_init l0 l1 l2 l3 l4 h = some res) (hH : x_S s0 D R h H locs cells slots) (hl : lv_has ls 5 [(0, .ref l0), (1, .int l1), (2, .int l2), (3, .int l3), (4, .int l4)]) : W p l e R s m args below meth c H locs cells slots (x_Q s0 D below s R (x_oc vU res.1) res.2) (F0 m 0 ls []) := by
  obtain ⟨hx, hb, hown, hts, hK, hml, hW, Z, -⟩ := id C
  unfold f_Cmd_init at hp
  refine lv_aload_n hx hb d_Cmd_init_0 rfl (lv_at hl 0 rfl) ?_
  refine W.objInit hx hb hown (hts _ oi_Cmd_1) (hts _ k_27) (hts _ k_28) rfl (by rw [hml]; exact hl.1) rfl d_Cmd_init_1 (Nat.le_trans (Nat.le_of_ble_eq_true rfl) hRf) (Nat.le_trans (Nat.le_of_ble_eq_true rfl) hRl) ?_
  refine W.eq (g2 := F0 m 4 ls []) rfl ?_
  refine lv_aload_n hx hb d_Cmd_init_4 rfl (lv_at hl 0 rfl) ?_
  refine x_nO C hH nw_Cmd_7 d_Cmd_init_5 hp (fun a1 h H cells slots hp hH => ?_)
  refine lv_dup hx hb d_Cmd_init_8 rfl ?_
  refine x_callI (As := []) (rest := [.ref a1, .ref l0]) (cv := vU) C hH kc_Cmd_9 d_Cmd_init_9 hp (fun o h' e => m_Vec_init Z e) rfl hl.1 (Nat.le_trans (Nat.le_of_ble_eq_true rfl) hRf) (Nat.le_trans (Nat.le_of_ble_eq_true rfl) hRl) (Nat.le_of_ble_eq_true rfl) (fun v2 h H locs cells slots hp hH => ?_)
  refine W.eq (g2 := F0 m 12 ls [.ref a1, .ref l0]) rfl ?_
  refine x_pV C hH fp_Cmd_10 (fun _ => hnm) d_Cmd_init_12 rfl rfl hp (fun h H locs hp hH => ?_)
  refine lv_aload_n hx hb d_Cmd_init_15 rfl (lv_at hl 0 rfl) ?_
  refine lv_iload_n hx hb d_Cmd_init_16 rfl (lv_at hl 1 rfl) ?_
  refine x_pV C hH fp_Cmd_16 (fun _ => hnm) d_Cmd_init_17 rfl rfl hp (fun h H locs hp hH => ?_)
  refine lv_aload_n hx hb d_Cmd_init_20 rfl (lv_at hl 0 rfl) ?_
  refine lv_iload_n hx hb d_Cmd_init_21 rfl (lv_at hl 2 rfl) ?_
  refine x_pV C hH fp_Cmd_20 (fun _ => hnm) d_Cmd_init_22 rfl rfl hp (fun h H locs hp hH => ?_)
  refine lv_aload_n hx hb d_Cmd_init_25 rfl (lv_at hl 0 rfl) ?_
  refine lv_iload_n hx hb d_Cmd_init_26 rfl (lv_at hl 3 rfl) ?_
  refine x_pV C hH fp_Cmd_23 (fun _ => hnm) d_Cmd_init_27 rfl rfl hp (fun h H locs hp hH => ?_)
  refine lv_aload_n hx hb d_Cmd_init_30 rfl (lv_at hl 0 rfl) ?_
  refine lv_iload hx hb d_Cmd_init_31 (lv_at hl 4 rfl) ?_
  refine x_pV C hH fp_Cmd_26 (fun _ => hnm) d_Cmd_init_33 rfl rfl hp (fun h H locs hp hH => ?_)
  exact x_vret C hH hr d_Cmd_init_36 hp
set_option maxRecDepth 100000 in
theorem m_Cmd_init (Z : x_Z l s0 A0 D) {l0 : Nat} {l1 : Int32} {l2 : Int32} {l3 : Int32} {l4 : Int32} {res : (Unit ⊕ (Nat × Nat)) × xH} (hp : f_Cmd_init l0 l1 l2 l3 l4 h = some res) : x_M l s0 D y_Cmd_init (x_cw y_Cmd_init prog_2_method_1_code 5 none []) 2 68 [.ref l0, .int l1, .int l2, .int l3, .int l4] h (x_oc vU res.1) res.2 := by
  refine x_M.ofW Z (plainFor_of_name (by decide)) ?_
  intro p e s m below meth c C hnm hr hH
  have hl := lv_entry ([.ref l0, .int l1, .int l2, .int l3, .int l4]) (n := 5) (Nat.le_of_ble_eq_true rfl)
  rw [lg_entry_eq]
  generalize (lg_sl ([.ref l0, .int l1, .int l2, .int l3, .int l4]) ++ List.replicate (5 - (lg_sl ([.ref l0, .int l1, .int l2, .int l3, .int l4])).length) Slot.unset).toArray = ls at hl ⊢
  exact w_Cmd_init_0 C hr hnm (Nat.le_refl _) (Nat.le_refl _) l0 l1 l2 l3 l4 hp hH hl
/-! ReadSide.command(IIIII)J -/
theorem d_RS_command_0 : decode prog_1_method_10_code 0 = .ok (.aload_n 0, 1) := by decide +kernel
theorem d_RS_command_1 : decode prog_1_method_10_code 1 = .ok (.iload_n 1, 1) := by decide +kernel
theorem d_RS_command_2 : decode prog_1_method_10_code 2 = .ok (.invokevirtual 65, 3) := by decide +kernel
theorem d_RS_command_5 : decode prog_1_method_10_code 5 = .ok (.astore 6, 2) := by decide +kernel
theorem d_RS_command_7 : decode prog_1_method_10_code 7 = .ok (.iload_n 3, 1) := by decide +kernel
theorem d_RS_command_8 : decode prog_1_method_10_code 8 = .ok (.bipush 30, 2) := by decide +kernel
theorem d_RS_command_10 : decode prog_1_method_10_code 10 = .ok (.invokestatic 61, 3) := by decide +kernel
theorem d_RS_command_13 : decode prog_1_method_10_code 13 = .ok (.pop, 1) := by decide +kernel
theorem d_RS_command_14 : decode prog_1_method_10_code 14 = .ok (.iload 4, 2) := by decide +kernel
theorem d_RS_command_16 : decode prog_1_method_10_code 16 = .ok (.bipush 10, 2) := by decide +kernel
theorem d_RS_command_18 : decode prog_1_method_10_code 18 = .ok (.invokestatic 61, 3) := by decide +kernel
theorem d_RS_command_21 : decode prog_1_method_10_code 21 = .ok (.pop, 1) := by decide +kernel
theorem d_RS_command_22 : decode prog_1_method_10_code 22 = .ok (.iload_n 2, 1) := by decide +kernel
theorem d_RS_command_23 : decode prog_1_method_10_code 23 = .ok (.i2l, 1) := by decide +kernel
theorem d_RS_command_24 : decode prog_1_method_10_code 24 = .ok (.lconst 0, 1) := by decide +kernel
theorem d_RS_command_25 : decode prog_1_method_10_code 25 = .ok (.ldc2_w 42, 3) := by decide +kernel
theorem d_RS_command_28 : decode prog_1_method_10_code 28 = .ok (.invokestatic 27, 3) := by decide +kernel
theorem d_RS_command_31 : decode prog_1_method_10_code 31 = .ok (.ifCond .eq 20, 3) := by decide +kernel
theorem d_RS_command_34 : decode prog_1_method_10_code 34 = .ok (.iload 5, 2) := by decide +kernel
theorem d_RS_command_36 : decode prog_1_method_10_code 36 = .ok (.i2l, 1) := by decide +kernel
theorem d_RS_command_37 : decode prog_1_method_10_code 37 = .ok (.lconst 1, 1) := by decide +kernel
theorem d_RS_command_38 : decode prog_1_method_10_code 38 = .ok (.ldc2_w 89, 3) := by decide +kernel
theorem d_RS_command_41 : decode prog_1_method_10_code 41 = .ok (.invokestatic 27, 3) := by decide +kernel
theorem d_RS_command_44 : decode prog_1_method_10_code 44 = .ok (.ifCond .eq 7, 3) := by decide +kernel
theorem d_RS_command_47 : decode prog_1_method_10_code 47 = .ok (.iconst 1, 1) := by decide +kernel
theorem d_RS_command_48 : decode prog_1_method_10_code 48 = .ok (.goto 4, 3) := by decide +kernel
theorem d_RS_command_51 : decode prog_1_method_10_code 51 = .ok (.iconst 0, 1) := by decide +kernel
theorem d_RS_command_52 : decode prog_1_method_10_code 52 = .ok (.invokestatic 71, 3) := by decide +kernel
theorem d_RS_command_55 : decode prog_1_method_10_code 55 = .ok (.iload_n 3, 1) := by decide +kernel
theorem d_RS_command_56 : decode prog_1_method_10_code 56 = .ok (.aload_n 0, 1) := by decide +kernel
theorem d_RS_command_57 : decode prog_1_method_10_code 57 = .ok (.getfield 31, 3) := by decide +kernel
theorem d_RS_command_60 : decode prog_1_method_10_code 60 = .ok (.irem, 1) := by decide +kernel
theorem d_RS_command_61 : decode prog_1_method_10_code 61 = .ok (.istore 7, 2) := by decide +kernel
theorem d_RS_command_63 : decode prog_1_method_10_code 63 = .ok (.aload_n 0, 1) := by decide +kernel
theorem d_RS_command_64 : decode prog_1_method_10_code 64 = .ok (.getfield 37, 3) := by decide +kernel
theorem d_RS_command_67 : decode prog_1_method_10_code 67 = .ok (.iload 7, 2) := by decide +kernel
theorem d_RS_command_69 : decode prog_1_method_10_code 69 = .ok (.aaload, 1) := by decide +kernel
theorem d_RS_command_70 : decode prog_1_method_10_code 70 = .ok (.astore 8, 2) := by decide +kernel
theorem d_RS_command_72 : decode prog_1_method_10_code 72 = .ok (.aload 8, 2) := by decide +kernel
theorem d_RS_command_74 : decode prog_1_method_10_code 74 = .ok (.getfield 91, 3) := by decide +kernel
theorem d_RS_command_77 : decode prog_1_method_10_code 77 = .ok (.sipush 400, 3) := by decide +kernel
theorem d_RS_command_80 : decode prog_1_method_10_code 80 = .ok (.if_icmp .ge 7, 3) := by decide +kernel
theorem d_RS_command_83 : decode prog_1_method_10_code 83 = .ok (.iconst 1, 1) := by decide +kernel
theorem d_RS_command_84 : decode prog_1_method_10_code 84 = .ok (.goto 4, 3) := by decide +kernel
theorem d_RS_command_87 : decode prog_1_method_10_code 87 = .ok (.iconst 0, 1) := by decide +kernel
theorem d_RS_command_88 : decode prog_1_method_10_code 88 = .ok (.invokestatic 94, 3) := by decide +kernel
theorem d_RS_command_91 : decode prog_1_method_10_code 91 = .ok (.new 97, 3) := by decide +kernel
theorem d_RS_command_94 : decode prog_1_method_10_code 94 = .ok (.dup, 1) := by decide +kernel
theorem d_RS_command_95 : decode prog_1_method_10_code 95 = .ok (.iload_n 2, 1) := by decide +kernel
theorem d_RS_command_96 : decode prog_1_method_10_code 96 = .ok (.iload_n 3, 1) := by decide +kernel
theorem d_RS_command_97 : decode prog_1_method_10_code 97 = .ok (.iload 4, 2) := by decide +kernel
theorem d_RS_command_99 : decode prog_1_method_10_code 99 = .ok (.iload 5, 2) := by decide +kernel
theorem d_RS_command_101 : decode prog_1_method_10_code 101 = .ok (.invokespecial 99, 3) := by decide +kernel
theorem d_RS_command_104 : decode prog_1_method_10_code 104 = .ok (.astore 9, 2) := by decide +kernel
theorem d_RS_command_106 : decode prog_1_method_10_code 106 = .ok (.aload 6, 2) := by decide +kernel
theorem d_RS_command_108 : decode prog_1_method_10_code 108 = .ok (.iconst 4, 1) := by decide +kernel
theorem d_RS_command_109 : decode prog_1_method_10_code 109 = .ok (.invokevirtual 102, 3) := by decide +kernel
theorem d_RS_command_112 : decode prog_1_method_10_code 112 = .ok (.ifCond .eq 16, 3) := by decide +kernel
theorem d_RS_command_115 : decode prog_1_method_10_code 115 = .ok (.aload 9, 2) := by decide +kernel
theorem d_RS_command_117 : decode prog_1_method_10_code 117 = .ok (.getfield 106, 3) := by decide +kernel
theorem d_RS_command_120 : decode prog_1_method_10_code 120 = .ok (.aload 6, 2) := by decide +kernel
theorem d_RS_command_122 : decode prog_1_method_10_code 122 = .ok (.getfield 110, 3) := by decide +kernel
theorem d_RS_command_125 : decode prog_1_method_10_code 125 = .ok (.invokevirtual 113, 3) := by decide +kernel
theorem d_RS_command_128 : decode prog_1_method_10_code 128 = .ok (.aload 6, 2) := by decide +kernel
theorem d_RS_command_130 : decode prog_1_method_10_code 130 = .ok (.bipush 8, 2) := by decide +kernel
theorem d_RS_command_132 : decode prog_1_method_10_code 132 = .ok (.invokevirtual 102, 3) := by decide +kernel
theorem d_RS_command_135 : decode prog_1_method_10_code 135 = .ok (.ifCond .eq 16, 3) := by decide +kernel
theorem d_RS_command_138 : decode prog_1_method_10_code 138 = .ok (.aload 9, 2) := by decide +kernel
theorem d_RS_command_140 : decode prog_1_method_10_code 140 = .ok (.getfield 106, 3) := by decide +kernel
theorem d_RS_command_143 : decode prog_1_method_10_code 143 = .ok (.aload 6, 2) := by decide +kernel
theorem d_RS_command_145 : decode prog_1_method_10_code 145 = .ok (.getfield 119, 3) := by decide +kernel
theorem d_RS_command_148 : decode prog_1_method_10_code 148 = .ok (.invokevirtual 113, 3) := by decide +kernel
theorem d_RS_command_151 : decode prog_1_method_10_code 151 = .ok (.aload 8, 2) := by decide +kernel
theorem d_RS_command_153 : decode prog_1_method_10_code 153 = .ok (.getfield 122, 3) := by decide +kernel
theorem d_RS_command_156 : decode prog_1_method_10_code 156 = .ok (.aload 8, 2) := by decide +kernel
theorem d_RS_command_158 : decode prog_1_method_10_code 158 = .ok (.dup, 1) := by decide +kernel
theorem d_RS_command_159 : decode prog_1_method_10_code 159 = .ok (.getfield 91, 3) := by decide +kernel
theorem d_RS_command_162 : decode prog_1_method_10_code 162 = .ok (.dup_x1, 1) := by decide +kernel
theorem d_RS_command_163 : decode prog_1_method_10_code 163 = .ok (.iconst 1, 1) := by decide +kernel
theorem d_RS_command_164 : decode prog_1_method_10_code 164 = .ok (.iadd, 1) := by decide +kernel
theorem d_RS_command_165 : decode prog_1_method_10_code 165 = .ok (.putfield 91, 3) := by decide +kernel
theorem d_RS_command_168 : decode prog_1_method_10_code 168 = .ok (.aload 9, 2) := by decide +kernel
theorem d_RS_command_170 : decode prog_1_method_10_code 170 = .ok (.aastore, 1) := by decide +kernel
theorem d_RS_command_171 : decode prog_1_method_10_code 171 = .ok (.aload 6, 2) := by decide +kernel
theorem d_RS_command_173 : decode prog_1_method_10_code 173 = .ok (.getfield 119, 3) := by decide +kernel
theorem d_RS_command_176 : decode prog_1_method_10_code 176 = .ok (.getfield 126, 3) := by decide +kernel
theorem d_RS_command_179 : decode prog_1_method_10_code 179 = .ok (.iload 7, 2) := by decide +kernel
theorem d_RS_command_181 : decode prog_1_method_10_code 181 = .ok (.aload 8, 2) := by decide +kernel
theorem d_RS_command_183 : decode prog_1_method_10_code 183 = .ok (.getfield 91, 3) := by decide +kernel
theorem d_RS_command_186 : decode prog_1_method_10_code 186 = .ok (.iastore, 1) := by decide +kernel
theorem d_RS_command_187 : decode prog_1_method_10_code 187 = .ok (.new 114, 3) := by decide +kernel
theorem d_RS_command_190 : decode prog_1_method_10_code 190 = .ok (.dup, 1) := by decide +kernel
theorem d_RS_command_191 : decode prog_1_method_10_code 191 = .ok (.invokespecial 128, 3) := by decide +kernel
theorem d_RS_command_194 : decode prog_1_method_10_code 194 = .ok (.astore 10, 2) := by decide +kernel
theorem d_RS_command_196 : decode prog_1_method_10_code 196 = .ok (.aload 10, 2) := by decide +kernel
theorem d_RS_command_198 : decode prog_1_method_10_code 198 = .ok (.aload 9, 2) := by decide +kernel
theorem d_RS_command_200 : decode prog_1_method_10_code 200 = .ok (.getfield 106, 3) := by decide +kernel
theorem d_RS_command_203 : decode prog_1_method_10_code 203 = .ok (.invokevirtual 129, 3) := by decide +kernel
theorem d_RS_command_206 : decode prog_1_method_10_code 206 = .ok (.aload 10, 2) := by decide +kernel
theorem d_RS_command_208 : decode prog_1_method_10_code 208 = .ok (.getfield 126, 3) := by decide +kernel
theorem d_RS_command_211 : decode prog_1_method_10_code 211 = .ok (.iload 7, 2) := by decide +kernel
theorem d_RS_command_213 : decode prog_1_method_10_code 213 = .ok (.aload 8, 2) := by decide +kernel
theorem d_RS_command_215 : decode prog_1_method_10_code 215 = .ok (.getfield 91, 3) := by decide +kernel
theorem d_RS_command_218 : decode prog_1_method_10_code 218 = .ok (.iastore, 1) := by decide +kernel
theorem d_RS_command_219 : decode prog_1_method_10_code 219 = .ok (.aload 10, 2) := by decide +kernel
theorem d_RS_command_221 : decode prog_1_method_10_code 221 = .ok (.invokevirtual 132, 3) := by decide +kernel
theorem d_RS_command_224 : decode prog_1_method_10_code 224 = .ok (.lreturn, 1) := by decide +kernel
set_option maxHeartbeats 4000000 in
set_option maxRecDepth 100000 in
theorem w_RS_command_151 {res : (Int64 ⊕ (Nat × Nat)) × xH} (C : x_C l s0 A0 D R_RS prog_1_method_10_code 11 [] p s m args meth c) (hr : meth.sig.returnType = (some .long)) (hnm : meth.name = "command") (hRf : 8 ≤ R.frames) (hRl : 158 ≤ R.locals)  (l6 : Nat) (l7 : Int32) (l8 : Nat) (l9 : Nat) (hp : f_RS_command_b151 l6 l7 l8 l9 h = some res) (hH : x_S s0 D R h H locs cells slots) (hl : lv_has ls 11 [(6, .ref l6), (7, .int l7), (8, .ref l8), (9, .ref l9)]) : W p l e R s m args below meth c H locs cells slots (x_Q s0 D below s R (x_oc vJ res.1) res.2) (F0 m 151 ls []) := by
  obtain ⟨hx, hb, hown, hts, hK, hml, hW, Z, -⟩ := id C
  unfold f_RS_command_b151 at hp
  refine lv_aload hx hb d_RS_command_151 (lv_at hl 2 rfl) ?_
  refine x_gA C hH fl_RS_122 d_RS_command_153 hp (fun v1 hp => ?_)
  refine lv_aload hx hb d_RS_command_156 (lv_at hl 2 rfl) ?_
  refine lv_dup hx hb d_RS_command_158 rfl ?_
  refine x_gI C hH fl_RS_91 d_RS_command_159 hp (fun v2 hp => ?_)
  refine lv_dup_x1 hx hb d_RS_command_162 rfl rfl ?_
  refine lv_iconst (v := 1) hx hb d_RS_command_163 (by decide) ?_
  refine lv_iadd hx hb d_RS_command_164 ?_
  refine x_pV C hH fp_RS_91 (fun h => Bool.noConfusion h) d_RS_command_165 rfl rfl hp (fun h H locs hp hH => ?_)
  refine lv_aload hx hb d_RS_command_168 (lv_at hl 3 rfl) ?_
  refine x_sA C hH (by decide) d_RS_command_170 hp (fun h H locs hp hH => ?_)
  refine lv_aload hx hb d_RS_command_171 (lv_at hl 0 rfl) ?_
  refine x_gA C hH fl_RS_119 d_RS_command_173 hp (fun v3 hp => ?_)
  refine x_gA C hH fl_RS_126 d_RS_command_176 hp (fun v4 hp => ?_)
  refine lv_iload hx hb d_RS_command_179 (lv_at hl 1 rfl) ?_
  refine lv_aload hx hb d_RS_command_181 (lv_at hl 2 rfl) ?_
  refine x_gI C hH fl_RS_91 d_RS_command_183 hp (fun v5 hp => ?_)
  refine x_sI C hH d_RS_command_186 hp (fun h H locs hp hH => ?_)
  refine x_nO C hH nw_RS_114 d_RS_command_187 hp (fun a6 h H cells slots hp hH => ?_)
  refine lv_dup hx hb d_RS_command_190 rfl ?_
  refine x_callI (As := []) (rest := [.ref a6]) (cv := vU) C hH kc_RS_128 d_RS_command_191 hp (fun o h' e => m_Vec_init Z e) rfl hl.1 (Nat.le_trans (Nat.le_of_ble_eq_true rfl) hRf) (Nat.le_trans (Nat.le_of_ble_eq_true rfl) hRl) (Nat.le_of_ble_eq_true rfl) (fun v7 h H locs cells slots hp hH => ?_)
  refine W.eq (g2 := F0 m 194 ls [.ref a6]) rfl ?_
  refine lv_astore (lv' := [(10, .ref a6), (6, .ref l6), (7, .int l7), (8, .ref l8), (9, .ref l9)]) hx hb d_RS_command_194 hl (by decide) rfl (fun ls hl => ?_)
  refine lv_aload hx hb d_RS_command_196 (lv_at hl 0 rfl) ?_
  refine lv_aload hx hb d_RS_command_198 (lv_at hl 4 rfl) ?_
  refine x_gA C hH fl_RS_106 d_RS_command_200 hp (fun v8 hp => ?_)
  refine x_callV (As := [.ref v8]) (rest := []) (cv := vU) C hH kc_RS_129 d_RS_command_203 hp (fun o h' e => m_Vec_copy Z e) rfl hl.1 (Nat.le_trans (Nat.le_of_ble_eq_true rfl) hRf) (Nat.le_trans (Nat.le_of_ble_eq_true rfl) hRl) (Nat.le_of_ble_eq_true rfl) (fun v9 h H locs cells slots hp hH => ?_)
  refine W.eq (g2 := F0 m 206 ls []) rfl ?_
  refine lv_aload hx hb d_RS_command_206 (lv_at hl 0 rfl) ?_
  refine x_gA C hH fl_RS_126 d_RS_command_208 hp (fun v10 hp => ?_)
  refine lv_iload hx hb d_RS_command_211 (lv_at hl 2 rfl) ?_
  refine lv_aload hx hb d_RS_command_213 (lv_at hl 3 rfl) ?_
  refine x_gI C hH fl_RS_91 d_RS_command_215 hp (fun v11 hp => ?_)
  refine x_sI C hH d_RS_command_218 hp (fun h H locs hp hH => ?_)
  refine lv_aload hx hb d_RS_command_219 (lv_at hl 0 rfl) ?_
  refine x_callV (As := []) (rest := []) (cv := vJ) C hH kc_RS_132 d_RS_command_221 hp (fun o h' e => m_Vec_token Z e) rfl hl.1 (Nat.le_trans (Nat.le_of_ble_eq_true rfl) hRf) (Nat.le_trans (Nat.le_of_ble_eq_true rfl) hRl) (Nat.le_of_ble_eq_true rfl) (fun v12 h H locs cells slots hp hH => ?_)
  refine W.eq (g2 := F0 m 224 ls [.long v12]) rfl ?_
  exact x_lret C hH hr d_RS_command_224 hp
set_option maxHeartbeats 4000000 in
set_option maxRecDepth 100000 in
theorem w_RS_command_128 {res : (Int64 ⊕ (Nat × Nat)) × xH} (C : x_C l s0 A0 D R_RS prog_1_method_10_code 11 [] p s m args meth c) (hr : meth.sig.returnType = (some .long)) (hnm : meth.name = "command") (hRf : 8 ≤ R.frames) (hRl : 158 ≤ R.locals)  (l6 : Nat) (l7 : Int32) (l8 : Nat) (l9 : Nat) (hp : f_RS_command_b128 l6 l7 l8 l9 h = some res) (hH : x_S s0 D R h H locs cells slots) (hl : lv_has ls 11 [(6, .ref l6), (7, .int l7), (8, .ref l8), (9, .ref l9)]) : W p l e R s m args below meth c H locs cells slots (x_Q s0 D below s R (x_oc vJ res.1) res.2) (F0 m 128 ls []) := by
  obtain ⟨hx, hb, hown, hts, hK, hml, hW, Z, -⟩ := id C
  unfold f_RS_command_b128 at hp
  refine lv_aload hx hb d_RS_command_128 (lv_at hl 0 rfl) ?_
  refine lv_bipush (v := 8) hx hb d_RS_command_130 (by decide) ?_
  refine x_callV (As := [.int 8]) (rest := []) (cv := vI) C hH kc_RS_102 d_RS_command_132 hp (fun o h' e => m_Sess_has Z e) rfl hl.1 (Nat.le_trans (Nat.le_of_ble_eq_true rfl) hRf) (Nat.le_trans (Nat.le_of_ble_eq_true rfl) hRl) (Nat.le_of_ble_eq_true rfl) (fun v1 h H locs cells slots hp hH => ?_)
  refine W.eq (g2 := F0 m 135 ls [.int v1]) rfl ?_
  refine lv_if_eq (tgt := 151) hx hb d_RS_command_135 (by decide) (fun hc => ?_) (fun hc => ?_)
  · replace hp := x_ifp hc hp
    exact w_RS_command_151 C hr hnm hRf hRl  l6 l7 l8 l9 hp hH (lv_sub hl [0, 1, 2, 3] rfl)
  · replace hp := x_ifn hc hp
    refine lv_aload hx hb d_RS_command_138 (lv_at hl 3 rfl) ?_
    refine x_gA C hH fl_RS_106 d_RS_command_140 hp (fun v2 hp => ?_)
    refine lv_aload hx hb d_RS_command_143 (lv_at hl 0 rfl) ?_
    refine x_gA C hH fl_RS_119 d_RS_command_145 hp (fun v3 hp => ?_)
    refine x_callV (As := [.ref v3]) (rest := []) (cv := vU) C hH kc_RS_113 d_RS_command_148 hp (fun o h' e => m_Vec_rise Z e) rfl hl.1 (Nat.le_trans (Nat.le_of_ble_eq_true rfl) hRf) (Nat.le_trans (Nat.le_of_ble_eq_true rfl) hRl) (Nat.le_of_ble_eq_true rfl) (fun v4 h H locs cells slots hp hH => ?_)
    refine W.eq (g2 := F0 m 151 ls []) rfl ?_
    exact w_RS_command_151 C hr hnm hRf hRl  l6 l7 l8 l9 hp hH (lv_sub hl [0, 1, 2, 3] rfl)
set_option maxHeartbeats 4000000 in
set_option maxRecDepth 100000 in
theorem w_RS_command_88 {res : (Int64 ⊕ (Nat × Nat)) × xH} (C : x_C l s0 A0 D R_RS prog_1_method_10_code 11 [] p s m args meth c) (hr : meth.sig.returnType = (some .long)) (hnm : meth.name = "command") (hRf : 8 ≤ R.frames) (hRl : 158 ≤ R.locals)  (l2 : Int32) (l3 : Int32) (l4 : Int32) (l5 : Int32) (l6 : Nat) (l7 : Int32) (l8 : Nat) (t0 : Int32) (hp : f_RS_command_b88 l2 l3 l4 l5 l6 l7 l8 t0 h = some res) (hH : x_S s0 D R h H locs cells slots) (hl : lv_has ls 11 [(2, .int l2), (3, .int l3), (4, .int l4), (5, .int l5), (6, .ref l6), (7, .int l7), (8, .ref l8)]) : W p l e R s m args below meth c H locs cells slots (x_Q s0 D below s R (x_oc vJ res.1) res.2) (F0 m 88 ls [.int t0]) := by
  obtain ⟨hx, hb, hown, hts, hK, hml, hW, Z, -⟩ := id C
  unfold f_RS_command_b88 at hp
  refine x_callS (As := [.int t0]) (rest := []) (cv := vU) C hH kc_RS_94 d_RS_command_88 hp (fun o h' e => m_RS_need Z e) rfl hl.1 (Nat.le_trans (Nat.le_of_ble_eq_true rfl) hRf) (Nat.le_trans (Nat.le_of_ble_eq_true rfl) hRl) (Nat.le_of_ble_eq_true rfl) (fun v1 h H locs cells slots hp hH => ?_)
  refine W.eq (g2 := F0 m 91 ls []) rfl ?_
  refine x_nO C hH nw_RS_97 d_RS_command_91 hp (fun a2 h H cells slots hp hH => ?_)
  refine lv_dup hx hb d_RS_command_94 rfl ?_
  refine lv_iload_n hx hb d_RS_command_95 rfl (lv_at hl 0 rfl) ?_
  refine lv_iload_n hx hb d_RS_command_96 rfl (lv_at hl 1 rfl) ?_
  refine lv_iload hx hb d_RS_command_97 (lv_at hl 2 rfl) ?_
  refine lv_iload hx hb d_RS_command_99 (lv_at hl 3 rfl) ?_
  refine x_callI (As := [.int l2, .int l3, .int l4, .int l5]) (rest := [.ref a2]) (cv := vU) C hH kc_RS_99 d_RS_command_101 hp (fun o h' e => m_Cmd_init Z e) rfl hl.1 (Nat.le_trans (Nat.le_of_ble_eq_true rfl) hRf) (Nat.le_trans (Nat.le_of_ble_eq_true rfl) hRl) (Nat.le_of_ble_eq_true rfl) (fun v3 h H locs cells slots hp hH => ?_)
  refine W.eq (g2 := F0 m 104 ls [.ref a2]) rfl ?_
  refine lv_astore (lv' := [(9, .ref a2), (2, .int l2), (3, .int l3), (4, .int l4), (5, .int l5), (6, .ref l6), (7, .int l7), (8, .ref l8)]) hx hb d_RS_command_104 hl (by decide) rfl (fun ls hl => ?_)
  refine lv_aload hx hb d_RS_command_106 (lv_at hl 5 rfl) ?_
  refine lv_iconst (v := 4) hx hb d_RS_command_108 (by decide) ?_
  refine x_callV (As := [.int 4]) (rest := []) (cv := vI) C hH kc_RS_102 d_RS_command_109 hp (fun o h' e => m_Sess_has Z e) rfl hl.1 (Nat.le_trans (Nat.le_of_ble_eq_true rfl) hRf) (Nat.le_trans (Nat.le_of_ble_eq_true rfl) hRl) (Nat.le_of_ble_eq_true rfl) (fun v4 h H locs cells slots hp hH => ?_)
  refine W.eq (g2 := F0 m 112 ls [.int v4]) rfl ?_
  refine lv_if_eq (tgt := 128) hx hb d_RS_command_112 (by decide) (fun hc => ?_) (fun hc => ?_)
  · replace hp := x_ifp hc hp
    exact w_RS_command_128 C hr hnm hRf hRl  l6 l7 l8 a2 hp hH (lv_sub hl [5, 6, 7, 0] rfl)
  · replace hp := x_ifn hc hp
    refine lv_aload hx hb d_RS_command_115 (lv_at hl 0 rfl) ?_
    refine x_gA C hH fl_RS_106 d_RS_command_117 hp (fun v5 hp => ?_)
    refine lv_aload hx hb d_RS_command_120 (lv_at hl 5 rfl) ?_
    refine x_gA C hH fl_RS_110 d_RS_command_122 hp (fun v6 hp => ?_)
    refine x_callV (As := [.ref v6]) (rest := []) (cv := vU) C hH kc_RS_113 d_RS_command_125 hp (fun o h' e => m_Vec_rise Z e) rfl hl.1 (Nat.le_trans (Nat.le_of_ble_eq_true rfl) hRf) (Nat.le_trans (Nat.le_of_ble_eq_true rfl) hRl) (Nat.le_of_ble_eq_true rfl) (fun v7 h H locs cells slots hp hH => ?_)
    refine W.eq (g2 := F0 m 128 ls []) rfl ?_
    exact w_RS_command_128 C hr hnm hRf hRl  l6 l7 l8 a2 hp hH (lv_sub hl [5, 6, 7, 0] rfl)
set_option maxHeartbeats 4000000 in
set_option maxRecDepth 100000 in
theorem w_RS_command_52 {res : (Int64 ⊕ (Nat × Nat)) × xH} (C : x_C l s0 A0 D R_RS prog_1_method_10_code 11 [] p s m args meth c) (hr : meth.sig.returnType = (some .long)) (hnm : meth.name = "command") (hRf : 8 ≤ R.frames) (hRl : 158 ≤ R.locals)  (l0 : Nat) (l2 : Int32) (l3 : Int32) (l4 : Int32) (l5 : Int32) (l6 : Nat) (t0 : Int32) (hp : f_RS_command_b52 l0 l2 l3 l4 l5 l6 t0 h = some res) (hH : x_S s0 D R h H locs cells slots) (hl : lv_has ls 11 [(0, .ref l0), (2, .int l2), (3, .int l3), (4, .int l4), (5, .int l5), (6, .ref l6)]) : W p l e R s m args below meth c H locs cells slots (x_Q s0 D below s R (x_oc vJ res.1) res.2) (F0 m 52 ls [.int t0]) := by
  obtain ⟨hx, hb, hown, hts, hK, hml, hW, Z, -⟩ := id C
  unfold f_RS_command_b52 at hp
  refine x_callS (As := [.int t0]) (rest := []) (cv := vU) C hH kc_RS_71 d_RS_command_52 hp (fun o h' e => m_RS_want Z e) rfl hl.1 (Nat.le_trans (Nat.le_of_ble_eq_true rfl) hRf) (Nat.le_trans (Nat.le_of_ble_eq_true rfl) hRl) (Nat.le_of_ble_eq_true rfl) (fun v1 h H locs cells slots hp hH => ?_)
  refine W.eq (g2 := F0 m 55 ls []) rfl ?_
  refine lv_iload_n hx hb d_RS_command_55 rfl (lv_at hl 2 rfl) ?_
  refine lv_aload_n hx hb d_RS_command_56 rfl (lv_at hl 0 rfl) ?_
  refine x_gI C hH fl_RS_31 d_RS_command_57 hp (fun v2 hp => ?_)
  obtain ⟨hz, hp⟩ := rI_i hp
  refine lv_irem hx hb d_RS_command_60 hz ?_
  generalize ev3 : l3 - l3 / v2 * v2 = v3 at hp ⊢
  refine lv_istore (lv' := [(7, .int v3), (0, .ref l0), (2, .int l2), (3, .int l3), (4, .int l4), (5, .int l5), (6, .ref l6)]) hx hb d_RS_command_61 hl (by decide) rfl (fun ls hl => ?_)
  refine lv_aload_n hx hb d_RS_command_63 rfl (lv_at hl 1 rfl) ?_
  refine x_gA C hH fl_RS_37 d_RS_command_64 hp (fun v4 hp => ?_)
  refine lv_iload hx hb d_RS_command_67 (lv_at hl 0 rfl) ?_
  refine x_lA C hH (by decide) d_RS_command_69 hp (fun v5 hp => ?_)
  refine lv_astore (lv' := [(8, .ref v5), (7, .int v3), (0, .ref l0), (2, .int l2), (3, .int l3), (4, .int l4), (5, .int l5), (6, .ref l6)]) hx hb d_RS_command_70 hl (by decide) rfl (fun ls hl => ?_)
  refine lv_aload hx hb d_RS_command_72 (lv_at hl 0 rfl) ?_
  refine x_gI C hH fl_RS_91 d_RS_command_74 hp (fun v6 hp => ?_)
  refine lv_sipush (v := 400) hx hb d_RS_command_77 (by decide) ?_
  refine lv_icmp_ge (tgt := 87) hx hb d_RS_command_80 (by decide) (fun hc => ?_) (fun hc => ?_)
  · replace hp := x_ifp hc hp
    refine lv_iconst (v := 0) hx hb d_RS_command_87 (by decide) ?_
    exact w_RS_command_88 C hr hnm hRf hRl  l2 l3 l4 l5 l6 v3 v5 0 hp hH (lv_sub hl [3, 4, 5, 6, 7, 1, 0] rfl)
  · replace hp := x_ifn hc hp
    refine lv_iconst (v := 1) hx hb d_RS_command_83 (by decide) ?_
    refine lv_goto (tgt := 88) hx hb d_RS_command_84 (by decide) ?_
    exact w_RS_command_88 C hr hnm hRf hRl  l2 l3 l4 l5 l6 v3 v5 1 hp hH (lv_sub hl [3, 4, 5, 6, 7, 1, 0] rfl)
set_option maxHeartbeats 4000000 in
set_option maxRecDepth 100000 in
theorem w_RS_command_51 {res : (Int64 ⊕ (Nat × Nat)) × xH} (C : x_C l s0 A0 D R_RS prog_1_method_10_code 11 [] p s m args meth c) (hr : meth.sig.returnType = (some .long)) (hnm : meth.name = "command") (hRf : 8 ≤ R.frames) (hRl : 158 ≤ R.locals)  (l0 : Nat) (l2 : Int32) (l3 : Int32) (l4 : Int32) (l5 : Int32) (l6 : Nat) (hp : f_RS_command_b51 l0 l2 l3 l4 l5 l6 h = some res) (hH : x_S s0 D R h H locs cells slots) (hl : lv_has ls 11 [(0, .ref l0), (2, .int l2), (3, .int l3), (4, .int l4), (5, .int l5), (6, .ref l6)]) : W p l e R s m args below meth c H locs cells slots (x_Q s0 D below s R (x_oc vJ res.1) res.2) (F0 m 51 ls []) := by
  obtain ⟨hx, hb, hown, hts, hK, hml, hW, Z, -⟩ := id C
  unfold f_RS_command_b51 at hp
  refine lv_iconst (v := 0) hx hb d_RS_command_51 (by decide) ?_
  exact w_RS_command_52 C hr hnm hRf hRl  l0 l2 l3 l4 l5 l6 0 hp hH (lv_sub hl [0, 1, 2, 3, 4, 5] rfl)
set_option maxHeartbeats 4000000 in
set_option maxRecDepth 100000 in
theorem w_RS_command_0 {res : (Int64 ⊕ (Nat × Nat)) × xH} (C : x_C l s0 A0 D R_RS prog_1_method_10_code 11 [] p s m args meth c) (hr : meth.sig.returnType = (some .long)) (hnm : meth.name = "command") (hRf : 8 ≤ R.frames) (hRl : 158 ≤ R.locals)  (l0 : Nat) (l1 : Int32) (l2 : Int32) (l3 : Int32) (l4 : Int32) (l5 : Int32) (hp : f_RS_command l0 l1 l2 l3 l4 l5 h = some res) (hH : x_S s0 D R h H locs cells slots) (hl : lv_has ls 11 [(0, .ref l0), (1, .int l1), (2, .int l2), (3, .int l3), (4, .int l4), (5, .int l5)]) : W p l e R s m args below meth c H locs cells slots (x_Q s0 D below s R (x_oc vJ res.1) res.2) (F0 m 0 ls []) := by
  obtain ⟨hx, hb, hown, hts, hK, hml, hW, Z, -⟩ := id C
  unfold f_RS_command at hp
  refine lv_aload_n hx hb d_RS_command_0 rfl (lv_at hl 0 rfl) ?_
  refine lv_iload_n hx hb d_RS_command_1 rfl (lv_at hl 1 rfl) ?_
  refine x_callV (As := [.int l1]) (rest := []) (cv := vA) C hH kc_RS_65 d_RS_command_2 hp (fun o h' e => m_RS_sessionAt Z e) rfl hl.1 (Nat.le_trans (Nat.le_of_ble_eq_true rfl) hRf) (Nat.le_trans (Nat.le_of_ble_eq_true rfl) hRl) (Nat.le_of_ble_eq_true rfl) (fun v1 h H locs cells slots hp hH => ?_)
  refine W.eq (g2 := F0 m 5 ls [.ref v1]) rfl ?_
  refine lv_astore (lv' := [(6, .ref v1), (0, .ref l0), (1, .int l1), (2, .int l2), (3, .int l3), (4, .int l4), (5, .int l5)]) hx hb d_RS_command_5 hl (by decide) rfl (fun ls hl => ?_)
  refine lv_iload_n hx hb d_RS_command_7 rfl (lv_at hl 4 rfl) ?_
  refine lv_bipush (v := 30) hx hb d_RS_command_8 (by decide) ?_
  refine x_callS (As := [.int l3, .int 30]) (rest := []) (cv := vI) C hH kc_RS_61 d_RS_command_10 hp (fun o h' e => m_RS_index Z e) rfl hl.1 (Nat.le_trans (Nat.le_of_ble_eq_true rfl) hRf) (Nat.le_trans (Nat.le_of_ble_eq_true rfl) hRl) (Nat.le_of_ble_eq_true rfl) (fun v2 h H locs cells slots hp hH => ?_)
  refine W.eq (g2 := F0 m 13 ls [.int v2]) rfl ?_
  refine lv_pop hx hb d_RS_command_13 rfl ?_
  refine lv_iload hx hb d_RS_command_14 (lv_at hl 5 rfl) ?_
  refine lv_bipush (v := 10) hx hb d_RS_command_16 (by decide) ?_
  refine x_callS (As := [.int l4, .int 10]) (rest := []) (cv := vI) C hH kc_RS_61 d_RS_command_18 hp (fun o h' e => m_RS_index Z e) rfl hl.1 (Nat.le_trans (Nat.le_of_ble_eq_true rfl) hRf) (Nat.le_trans (Nat.le_of_ble_eq_true rfl) hRl) (Nat.le_of_ble_eq_true rfl) (fun v3 h H locs cells slots hp hH => ?_)
  refine W.eq (g2 := F0 m 21 ls [.int v3]) rfl ?_
  refine lv_pop hx hb d_RS_command_21 rfl ?_
  refine lv_iload_n hx hb d_RS_command_22 rfl (lv_at hl 3 rfl) ?_
  refine lv_i2l (v := l2.toInt64) hx hb d_RS_command_23 rfl ?_
  refine lv_lconst (v := 0) hx hb d_RS_command_24 (by decide) ?_
  refine lv_ldc2 hx hb hown (hts _ k_58) d_RS_command_25 ?_
  refine x_callS (As := [.long l2.toInt64, .long 0, .long 4]) (rest := []) (cv := vI) C hH kc_RS_27 d_RS_command_28 hp (fun o h' e => m_RS_isIn Z e) rfl hl.1 (Nat.le_trans (Nat.le_of_ble_eq_true rfl) hRf) (Nat.le_trans (Nat.le_of_ble_eq_true rfl) hRl) (Nat.le_of_ble_eq_true rfl) (fun v4 h H locs cells slots hp hH => ?_)
  refine W.eq (g2 := F0 m 31 ls [.int v4]) rfl ?_
  refine lv_if_eq (tgt := 51) hx hb d_RS_command_31 (by decide) (fun hc => ?_) (fun hc => ?_)
  · replace hp := x_ifp hc hp
    exact w_RS_command_51 C hr hnm hRf hRl  l0 l2 l3 l4 l5 v1 hp hH (lv_sub hl [1, 3, 4, 5, 6, 0] rfl)
  · replace hp := x_ifn hc hp
    refine lv_iload hx hb d_RS_command_34 (lv_at hl 6 rfl) ?_
    refine lv_i2l (v := l5.toInt64) hx hb d_RS_command_36 rfl ?_
    refine lv_lconst (v := 1) hx hb d_RS_command_37 (by decide) ?_
    refine lv_ldc2 hx hb hown (hts _ k_425) d_RS_command_38 ?_
    refine x_callS (As := [.long l5.toInt64, .long 1, .long 1000]) (rest := []) (cv := vI) C hH kc_RS_27 d_RS_command_41 hp (fun o h' e => m_RS_isIn Z e) rfl hl.1 (Nat.le_trans (Nat.le_of_ble_eq_true rfl) hRf) (Nat.le_trans (Nat.le_of_ble_eq_true rfl) hRl) (Nat.le_of_ble_eq_true rfl) (fun v5 h H locs cells slots hp hH => ?_)
    refine W.eq (g2 := F0 m 44 ls [.int v5]) rfl ?_
    refine lv_if_eq (tgt := 51) hx hb d_RS_command_44 (by decide) (fun hc => ?_) (fun hc => ?_)
    · replace hp := x_ifp hc hp
      exact w_RS_command_51 C hr hnm hRf hRl  l0 l2 l3 l4 l5 v1 hp hH (lv_sub hl [1, 3, 4, 5, 6, 0] rfl)
    · replace hp := x_ifn hc hp
      refine lv_iconst (v := 1) hx hb d_RS_command_47 (by decide) ?_
      refine lv_goto (tgt := 52) hx hb d_RS_command_48 (by decide) ?_
      exact w_RS_command_52 C hr hnm hRf hRl  l0 l2 l3 l4 l5 v1 1 hp hH (lv_sub hl [1, 3, 4, 5, 6, 0] rfl)
set_option maxRecDepth 100000 in
theorem m_RS_command (Z : x_Z l s0 A0 D) {l0 : Nat} {l1 : Int32} {l2 : Int32} {l3 : Int32} {l4 : Int32} {l5 : Int32} {res : (Int64 ⊕ (Nat × Nat)) × xH} (hp : f_RS_command l0 l1 l2 l3 l4 l5 h = some res) : x_M l s0 D y_RS_command (x_cw y_RS_command prog_1_method_10_code 11 (some .long) []) 8 158 [.ref l0, .int l1, .int l2, .int l3, .int l4, .int l5] h (x_oc vJ res.1) res.2 := by
  refine x_M.ofW Z (plainFor_of_name (by decide)) ?_
  intro p e s m below meth c C hnm hr hH
  have hl := lv_entry ([.ref l0, .int l1, .int l2, .int l3, .int l4, .int l5]) (n := 11) (Nat.le_of_ble_eq_true rfl)
  rw [lg_entry_eq]
  generalize (lg_sl ([.ref l0, .int l1, .int l2, .int l3, .int l4, .int l5]) ++ List.replicate (11 - (lg_sl ([.ref l0, .int l1, .int l2, .int l3, .int l4, .int l5])).length) Slot.unset).toArray = ls at hl ⊢
  exact w_RS_command_0 C hr hnm (Nat.le_refl _) (Nat.le_refl _) l0 l1 l2 l3 l4 l5 hp hH hl
/-! ReadSideLaw.command(LReadSide;IIIII[J)I -/
theorem d_law_command_0 : decode method_5_code 0 = .ok (.aload 6, 2) := by decide +kernel
theorem d_law_command_2 : decode method_5_code 2 = .ok (.iconst 0, 1) := by decide +kernel
theorem d_law_command_3 : decode method_5_code 3 = .ok (.aload_n 0, 1) := by decide +kernel
theorem d_law_command_4 : decode method_5_code 4 = .ok (.iload_n 1, 1) := by decide +kernel
theorem d_law_command_5 : decode method_5_code 5 = .ok (.iload_n 2, 1) := by decide +kernel
theorem d_law_command_6 : decode method_5_code 6 = .ok (.iload_n 3, 1) := by decide +kernel
theorem d_law_command_7 : decode method_5_code 7 = .ok (.iload 4, 2) := by decide +kernel
theorem d_law_command_9 : decode method_5_code 9 = .ok (.iload 5, 2) := by decide +kernel
theorem d_law_command_11 : decode method_5_code 11 = .ok (.invokevirtual 20, 3) := by decide +kernel
theorem d_law_command_14 : decode method_5_code 14 = .ok (.lastore, 1) := by decide +kernel
theorem d_law_command_15 : decode method_5_code 15 = .ok (.goto 15, 3) := by decide +kernel
theorem d_law_command_18 : decode method_5_code 18 = .ok (.astore 7, 2) := by decide +kernel
theorem d_law_command_20 : decode method_5_code 20 = .ok (.iconst 1, 1) := by decide +kernel
theorem d_law_command_21 : decode method_5_code 21 = .ok (.ireturn, 1) := by decide +kernel
theorem d_law_command_22 : decode method_5_code 22 = .ok (.astore 7, 2) := by decide +kernel
theorem d_law_command_24 : decode method_5_code 24 = .ok (.iconst 2, 1) := by decide +kernel
theorem d_law_command_25 : decode method_5_code 25 = .ok (.ireturn, 1) := by decide +kernel
theorem d_law_command_26 : decode method_5_code 26 = .ok (.astore 7, 2) := by decide +kernel
theorem d_law_command_28 : decode method_5_code 28 = .ok (.iconst 3, 1) := by decide +kernel
theorem d_law_command_29 : decode method_5_code 29 = .ok (.ireturn, 1) := by decide +kernel
theorem d_law_command_30 : decode method_5_code 30 = .ok (.iconst 0, 1) := by decide +kernel
theorem d_law_command_31 : decode method_5_code 31 = .ok (.ireturn, 1) := by decide +kernel
set_option maxHeartbeats 4000000 in
set_option maxRecDepth 100000 in
theorem w_law_command_0 {res : (Int32 ⊕ (Nat × Nat)) × xH} (C : x_C l s0 A0 D R_law method_5_code 8 [(0, 15, 18, 13), (0, 15, 22, 15), (0, 15, 26, 24)] p s m args meth c) (hr : meth.sig.returnType = (some .int)) (hnm : meth.name = "command") (hRf : 9 ≤ R.frames) (hRl : 196 ≤ R.locals)  (l0 : Nat) (l1 : Int32) (l2 : Int32) (l3 : Int32) (l4 : Int32) (l5 : Int32) (l6 : Nat) (hp : f_law_command l0 l1 l2 l3 l4 l5 l6 h = some res) (hH : x_S s0 D R h H locs cells slots) (hl : lv_has ls 8 [(0, .ref l0), (1, .int l1), (2, .int l2), (3, .int l3), (4, .int l4), (5, .int l5), (6, .ref l6)]) : W p l e R s m args below meth c H locs cells slots (x_Q s0 D below s R (x_oc vI res.1) res.2) (F0 m 0 ls []) := by
  obtain ⟨hx, hb, hown, hts, hK, hml, hW, Z, -⟩ := id C
  unfold f_law_command at hp
  refine lv_aload hx hb d_law_command_0 (lv_at hl 6 rfl) ?_
  refine lv_iconst (v := 0) hx hb d_law_command_2 (by decide) ?_
  refine lv_aload_n hx hb d_law_command_3 rfl (lv_at hl 0 rfl) ?_
  refine lv_iload_n hx hb d_law_command_4 rfl (lv_at hl 1 rfl) ?_
  refine lv_iload_n hx hb d_law_command_5 rfl (lv_at hl 2 rfl) ?_
  refine lv_iload_n hx hb d_law_command_6 rfl (lv_at hl 3 rfl) ?_
  refine lv_iload hx hb d_law_command_7 (lv_at hl 4 rfl) ?_
  refine lv_iload hx hb d_law_command_9 (lv_at hl 5 rfl) ?_
  refine x_callVc (As := [.int l1, .int l2, .int l3, .int l4, .int l5]) (rest := [.int 0, .ref l6]) (cv := vJ) C ct_law hH kc_law_20 d_law_command_11 hp (fun o h' e => m_RS_command Z e) rfl hl.1 (Nat.le_trans (Nat.le_of_ble_eq_true rfl) hRf) (Nat.le_trans (Nat.le_of_ble_eq_true rfl) hRl) (Nat.le_of_ble_eq_true rfl) (fun v1 h H locs cells slots hp hH => ?_) (fun a ci h H locs cells slots hp hH => ?_)
  · refine W.eq (g2 := F0 m 14 ls [.long v1, .int 0, .ref l6]) rfl ?_
    refine x_sJ C hH d_law_command_14 hp (fun h H locs hp hH => ?_)
    refine lv_goto (tgt := 30) hx hb d_law_command_15 (by decide) ?_
    refine lv_iconst (v := 0) hx hb d_law_command_30 (by decide) ?_
    exact x_iret C hH hr d_law_command_31 hp
  · by_cases hc10 : ci = 10
    · replace hp := x_ifp hc10 hp
      subst hc10
      refine ⟨18, rfl, ?_⟩
      refine lv_astore (lv' := [(7, .ref a), (0, .ref l0), (1, .int l1), (2, .int l2), (3, .int l3), (4, .int l4), (5, .int l5), (6, .ref l6)]) hx hb d_law_command_18 hl (by decide) rfl (fun ls hl => ?_)
      refine lv_iconst (v := 1) hx hb d_law_command_20 (by decide) ?_
      exact x_iret C hH hr d_law_command_21 hp
    replace hp := x_ifn hc10 hp
    by_cases hc11 : ci = 11
    · replace hp := x_ifp hc11 hp
      subst hc11
      refine ⟨22, rfl, ?_⟩
      refine lv_astore (lv' := [(7, .ref a), (0, .ref l0), (1, .int l1), (2, .int l2), (3, .int l3), (4, .int l4), (5, .int l5), (6, .ref l6)]) hx hb d_law_command_22 hl (by decide) rfl (fun ls hl => ?_)
      refine lv_iconst (v := 2) hx hb d_law_command_24 (by decide) ?_
      exact x_iret C hH hr d_law_command_25 hp
    replace hp := x_ifn hc11 hp
    by_cases hc12 : ci = 12
    · replace hp := x_ifp hc12 hp
      subst hc12
      refine ⟨26, rfl, ?_⟩
      refine lv_astore (lv' := [(7, .ref a), (0, .ref l0), (1, .int l1), (2, .int l2), (3, .int l3), (4, .int l4), (5, .int l5), (6, .ref l6)]) hx hb d_law_command_26 hl (by decide) rfl (fun ls hl => ?_)
      refine lv_iconst (v := 3) hx hb d_law_command_28 (by decide) ?_
      exact x_iret C hH hr d_law_command_29 hp
    replace hp := x_ifn hc12 hp
    cases hp
set_option maxRecDepth 100000 in
theorem m_law_command (Z : x_Z l s0 A0 D) {l0 : Nat} {l1 : Int32} {l2 : Int32} {l3 : Int32} {l4 : Int32} {l5 : Int32} {l6 : Nat} {res : (Int32 ⊕ (Nat × Nat)) × xH} (hp : f_law_command l0 l1 l2 l3 l4 l5 l6 h = some res) : x_M l s0 D y_law_command (x_cw y_law_command method_5_code 8 (some .int) [(0, 15, 18, 13), (0, 15, 22, 15), (0, 15, 26, 24)]) 9 196 [.ref l0, .int l1, .int l2, .int l3, .int l4, .int l5, .ref l6] h (x_oc vI res.1) res.2 := by
  refine x_M.ofW Z (plainFor_of_name (by decide)) ?_
  intro p e s m below meth c C hnm hr hH
  have hl := lv_entry ([.ref l0, .int l1, .int l2, .int l3, .int l4, .int l5, .ref l6]) (n := 8) (Nat.le_of_ble_eq_true rfl)
  rw [lg_entry_eq]
  generalize (lg_sl ([.ref l0, .int l1, .int l2, .int l3, .int l4, .int l5, .ref l6]) ++ List.replicate (8 - (lg_sl ([.ref l0, .int l1, .int l2, .int l3, .int l4, .int l5, .ref l6])).length) Slot.unset).toArray = ls at hl ⊢
  exact w_law_command_0 C hr hnm (Nat.le_refl _) (Nat.le_refl _) l0 l1 l2 l3 l4 l5 l6 hp hH hl
/-! ReadSide$Log.at(I)LReadSide$Command; -/
theorem d_Log_at_0 : decode prog_4_method_2_code 0 = .ok (.aload_n 0, 1) := by decide +kernel
theorem d_Log_at_1 : decode prog_4_method_2_code 1 = .ok (.getfield 11, 3) := by decide +kernel
theorem d_Log_at_4 : decode prog_4_method_2_code 4 = .ok (.iload_n 1, 1) := by decide +kernel
theorem d_Log_at_5 : decode prog_4_method_2_code 5 = .ok (.iconst 1, 1) := by decide +kernel
theorem d_Log_at_6 : decode prog_4_method_2_code 6 = .ok (.isub, 1) := by decide +kernel
theorem d_Log_at_7 : decode prog_4_method_2_code 7 = .ok (.aaload, 1) := by decide +kernel
theorem d_Log_at_8 : decode prog_4_method_2_code 8 = .ok (.areturn, 1) := by decide +kernel
set_option maxHeartbeats 4000000 in
set_option maxRecDepth 100000 in
theorem w_Log_at_0 {res : (Nat ⊕ (Nat × Nat)) × xH} (C : x_C l s0 A0 D R_Log prog_4_method_2_code 2 [] p s m args meth c) (hr : meth.sig.returnType = (some (.object "ReadSide$Command"))) (hnm : meth.name = "at") (hRf : 0 ≤ R.frames) (hRl : 0 ≤ R.locals)  (l0 : Nat) (l1 : Int32) (hp : f_Log_at l0 l1 h = some res) (hH : x_S s0 D R h H locs cells slots) (hl : lv_has ls 2 [(0, .ref l0), (1, .int l1)]) : W p l e R s m args below meth c H locs cells slots (x_Q s0 D below s R (x_oc vA res.1) res.2) (F0 m 0 ls []) := by
  obtain ⟨hx, hb, hown, hts, hK, hml, hW, Z, -⟩ := id C
  unfold f_Log_at at hp
  refine lv_aload_n hx hb d_Log_at_0 rfl (lv_at hl 0 rfl) ?_
  refine x_gA C hH fl_Log_11 d_Log_at_1 hp (fun v1 hp => ?_)
  refine lv_iload_n hx hb d_Log_at_4 rfl (lv_at hl 1 rfl) ?_
  refine lv_iconst (v := 1) hx hb d_Log_at_5 (by decide) ?_
  refine lv_isub hx hb d_Log_at_6 ?_
  refine x_lA C hH (by decide) d_Log_at_7 hp (fun v2 hp => ?_)
  exact x_aret C hH hr ⟨_, rfl⟩ d_Log_at_8 hp
set_option maxRecDepth 100000 in
theorem m_Log_at (Z : x_Z l s0 A0 D) {l0 : Nat} {l1 : Int32} {res : (Nat ⊕ (Nat × Nat)) × xH} (hp : f_Log_at l0 l1 h = some res) : x_M l s0 D y_Log_at (x_cw y_Log_at prog_4_method_2_code 2 (some (.object "ReadSide$Command")) []) 0 0 [.ref l0, .int l1] h (x_oc vA res.1) res.2 := by
  refine x_M.ofW Z (plainFor_of_name (by decide)) ?_
  intro p e s m below meth c C hnm hr hH
  have hl := lv_entry ([.ref l0, .int l1]) (n := 2) (Nat.le_of_ble_eq_true rfl)
  rw [lg_entry_eq]
  generalize (lg_sl ([.ref l0, .int l1]) ++ List.replicate (2 - (lg_sl ([.ref l0, .int l1])).length) Slot.unset).toArray = ls at hl ⊢
  exact w_Log_at_0 C hr hnm (Nat.le_refl _) (Nat.le_refl _) l0 l1 hp hH hl
/-! ReadSide$State.hold(LReadSide$Item;II)V -/
theorem d_St_hold_0 : decode prog_8_method_4_code 0 = .ok (.aload_n 0, 1) := by decide +kernel
theorem d_St_hold_1 : decode prog_8_method_4_code 1 = .ok (.getfield 72, 3) := by decide +kernel
theorem d_St_hold_4 : decode prog_8_method_4_code 4 = .ok (.iload_n 1, 1) := by decide +kernel
theorem d_St_hold_5 : decode prog_8_method_4_code 5 = .ok (.dup2, 1) := by decide +kernel
theorem d_St_hold_6 : decode prog_8_method_4_code 6 = .ok (.iaload, 1) := by decide +kernel
theorem d_St_hold_7 : decode prog_8_method_4_code 7 = .ok (.iload_n 2, 1) := by decide +kernel
theorem d_St_hold_8 : decode prog_8_method_4_code 8 = .ok (.iadd, 1) := by decide +kernel
theorem d_St_hold_9 : decode prog_8_method_4_code 9 = .ok (.iastore, 1) := by decide +kernel
theorem d_St_hold_10 : decode prog_8_method_4_code 10 = .ok (.aload_n 0, 1) := by decide +kernel
theorem d_St_hold_11 : decode prog_8_method_4_code 11 = .ok (.dup, 1) := by decide +kernel
theorem d_St_hold_12 : decode prog_8_method_4_code 12 = .ok (.getfield 62, 3) := by decide +kernel
theorem d_St_hold_15 : decode prog_8_method_4_code 15 = .ok (.iload_n 2, 1) := by decide +kernel
theorem d_St_hold_16 : decode prog_8_method_4_code 16 = .ok (.iadd, 1) := by decide +kernel
theorem d_St_hold_17 : decode prog_8_method_4_code 17 = .ok (.putfield 62, 3) := by decide +kernel
theorem d_St_hold_20 : decode prog_8_method_4_code 20 = .ok (.return_, 1) := by decide +kernel
set_option maxHeartbeats 4000000 in
set_option maxRecDepth 100000 in
theorem w_St_hold_0 {res : (Unit ⊕ (Nat × Nat)) × xH} (C : x_C l s0 A0 D R_St prog_8_method_4_code 3 [] p s m args meth c) (hr : meth.sig.returnType = none) (hnm : meth.name = "hold") (hRf : 0 ≤ R.frames) (hRl : 0 ≤ R.locals)  (l0 : Nat) (l1 : Int32) (l2 : Int32) (hp : f_St_hold l0 l1 l2 h = some res) (hH : x_S s0 D R h H locs cells slots) (hl : lv_has ls 3 [(0, .ref l0), (1, .int l1), (2, .int l2)]) : W p l e R s m args below meth c H locs cells slots (x_Q s0 D below s R (x_oc vU res.1) res.2) (F0 m 0 ls []) := by
  obtain ⟨hx, hb, hown, hts, hK, hml, hW, Z, -⟩ := id C
  unfold f_St_hold at hp
  refine lv_aload_n hx hb d_St_hold_0 rfl (lv_at hl 0 rfl) ?_
  refine x_gA C hH fl_St_72 d_St_hold_1 hp (fun v1 hp => ?_)
  refine lv_iload_n hx hb d_St_hold_4 rfl (lv_at hl 1 rfl) ?_
  refine lv_dup2_11 hx hb d_St_hold_5 rfl rfl ?_
  refine x_lI C hH d_St_hold_6 hp (fun v2 hp => ?_)
  refine lv_iload_n hx hb d_St_hold_7 rfl (lv_at hl 2 rfl) ?_
  refine lv_iadd hx hb d_St_hold_8 ?_
  refine x_sI C hH d_St_hold_9 hp (fun h H locs hp hH => ?_)
  refine lv_aload_n hx hb d_St_hold_10 rfl (lv_at hl 0 rfl) ?_
  refine lv_dup hx hb d_St_hold_11 rfl ?_
  refine x_gI C hH fl_St_62 d_St_hold_12 hp (fun v3 hp => ?_)
  refine lv_iload_n hx hb d_St_hold_15 rfl (lv_at hl 2 rfl) ?_
  refine lv_iadd hx hb d_St_hold_16 ?_
  refine x_pV C hH fp_St_62 (fun h => Bool.noConfusion h) d_St_hold_17 rfl rfl hp (fun h H locs hp hH => ?_)
  exact x_vret C hH hr d_St_hold_20 hp
set_option maxRecDepth 100000 in
theorem m_St_hold (Z : x_Z l s0 A0 D) {l0 : Nat} {l1 : Int32} {l2 : Int32} {res : (Unit ⊕ (Nat × Nat)) × xH} (hp : f_St_hold l0 l1 l2 h = some res) : x_M l s0 D y_St_hold (x_cw y_St_hold prog_8_method_4_code 3 none []) 0 0 [.ref l0, .int l1, .int l2] h (x_oc vU res.1) res.2 := by
  refine x_M.ofW Z (plainFor_of_name (by decide)) ?_
  intro p e s m below meth c C hnm hr hH
  have hl := lv_entry ([.ref l0, .int l1, .int l2]) (n := 3) (Nat.le_of_ble_eq_true rfl)
  rw [lg_entry_eq]
  generalize (lg_sl ([.ref l0, .int l1, .int l2]) ++ List.replicate (3 - (lg_sl ([.ref l0, .int l1, .int l2])).length) Slot.unset).toArray = ls at hl ⊢
  exact w_St_hold_0 C hr hnm (Nat.le_refl _) (Nat.le_refl _) l0 l1 l2 hp hH hl
/-! ReadSide$State.take(LReadSide$Command;)V -/
theorem d_St_take_0 : decode prog_8_method_3_code 0 = .ok (.aload_n 0, 1) := by decide +kernel
theorem d_St_take_1 : decode prog_8_method_3_code 1 = .ok (.getfield 11, 3) := by decide +kernel
theorem d_St_take_4 : decode prog_8_method_3_code 4 = .ok (.aload_n 1, 1) := by decide +kernel
theorem d_St_take_5 : decode prog_8_method_3_code 5 = .ok (.getfield 46, 3) := by decide +kernel
theorem d_St_take_8 : decode prog_8_method_3_code 8 = .ok (.aaload, 1) := by decide +kernel
theorem d_St_take_9 : decode prog_8_method_3_code 9 = .ok (.astore_n 2, 1) := by decide +kernel
theorem d_St_take_10 : decode prog_8_method_3_code 10 = .ok (.aload_n 1, 1) := by decide +kernel
theorem d_St_take_11 : decode prog_8_method_3_code 11 = .ok (.getfield 52, 3) := by decide +kernel
theorem d_St_take_14 : decode prog_8_method_3_code 14 = .ok (.istore_n 3, 1) := by decide +kernel
theorem d_St_take_15 : decode prog_8_method_3_code 15 = .ok (.aload_n 1, 1) := by decide +kernel
theorem d_St_take_16 : decode prog_8_method_3_code 16 = .ok (.getfield 55, 3) := by decide +kernel
theorem d_St_take_19 : decode prog_8_method_3_code 19 = .ok (.tableswitch 188 0 3 #[29, 53, 94, 163], 29) := by decide +kernel
theorem d_St_take_48 : decode prog_8_method_3_code 48 = .ok (.aload_n 2, 1) := by decide +kernel
theorem d_St_take_49 : decode prog_8_method_3_code 49 = .ok (.getfield 58, 3) := by decide +kernel
theorem d_St_take_52 : decode prog_8_method_3_code 52 = .ok (.iload_n 3, 1) := by decide +kernel
theorem d_St_take_53 : decode prog_8_method_3_code 53 = .ok (.iadd, 1) := by decide +kernel
theorem d_St_take_54 : decode prog_8_method_3_code 54 = .ok (.ldc 61, 2) := by decide +kernel
theorem d_St_take_56 : decode prog_8_method_3_code 56 = .ok (.if_icmp .gt 156, 3) := by decide +kernel
theorem d_St_take_59 : decode prog_8_method_3_code 59 = .ok (.aload_n 2, 1) := by decide +kernel
theorem d_St_take_60 : decode prog_8_method_3_code 60 = .ok (.dup, 1) := by decide +kernel
theorem d_St_take_61 : decode prog_8_method_3_code 61 = .ok (.getfield 58, 3) := by decide +kernel
theorem d_St_take_64 : decode prog_8_method_3_code 64 = .ok (.iload_n 3, 1) := by decide +kernel
theorem d_St_take_65 : decode prog_8_method_3_code 65 = .ok (.iadd, 1) := by decide +kernel
theorem d_St_take_66 : decode prog_8_method_3_code 66 = .ok (.putfield 58, 3) := by decide +kernel
theorem d_St_take_69 : decode prog_8_method_3_code 69 = .ok (.goto 143, 3) := by decide +kernel
theorem d_St_take_72 : decode prog_8_method_3_code 72 = .ok (.aload_n 2, 1) := by decide +kernel
theorem d_St_take_73 : decode prog_8_method_3_code 73 = .ok (.getfield 58, 3) := by decide +kernel
theorem d_St_take_76 : decode prog_8_method_3_code 76 = .ok (.aload_n 2, 1) := by decide +kernel
theorem d_St_take_77 : decode prog_8_method_3_code 77 = .ok (.getfield 62, 3) := by decide +kernel
theorem d_St_take_80 : decode prog_8_method_3_code 80 = .ok (.isub, 1) := by decide +kernel
theorem d_St_take_81 : decode prog_8_method_3_code 81 = .ok (.iload_n 3, 1) := by decide +kernel
theorem d_St_take_82 : decode prog_8_method_3_code 82 = .ok (.if_icmp .ge 19, 3) := by decide +kernel
theorem d_St_take_85 : decode prog_8_method_3_code 85 = .ok (.aload_n 0, 1) := by decide +kernel
theorem d_St_take_86 : decode prog_8_method_3_code 86 = .ok (.getfield 21, 3) := by decide +kernel
theorem d_St_take_89 : decode prog_8_method_3_code 89 = .ok (.aload_n 1, 1) := by decide +kernel
theorem d_St_take_90 : decode prog_8_method_3_code 90 = .ok (.getfield 65, 3) := by decide +kernel
theorem d_St_take_93 : decode prog_8_method_3_code 93 = .ok (.dup2, 1) := by decide +kernel
theorem d_St_take_94 : decode prog_8_method_3_code 94 = .ok (.iaload, 1) := by decide +kernel
theorem d_St_take_95 : decode prog_8_method_3_code 95 = .ok (.iconst 1, 1) := by decide +kernel
theorem d_St_take_96 : decode prog_8_method_3_code 96 = .ok (.iadd, 1) := by decide +kernel
theorem d_St_take_97 : decode prog_8_method_3_code 97 = .ok (.iastore, 1) := by decide +kernel
theorem d_St_take_98 : decode prog_8_method_3_code 98 = .ok (.goto 114, 3) := by decide +kernel
theorem d_St_take_101 : decode prog_8_method_3_code 101 = .ok (.aload_n 2, 1) := by decide +kernel
theorem d_St_take_102 : decode prog_8_method_3_code 102 = .ok (.aload_n 1, 1) := by decide +kernel
theorem d_St_take_103 : decode prog_8_method_3_code 103 = .ok (.getfield 65, 3) := by decide +kernel
theorem d_St_take_106 : decode prog_8_method_3_code 106 = .ok (.iload_n 3, 1) := by decide +kernel
theorem d_St_take_107 : decode prog_8_method_3_code 107 = .ok (.invokestatic 68, 3) := by decide +kernel
theorem d_St_take_110 : decode prog_8_method_3_code 110 = .ok (.goto 102, 3) := by decide +kernel
theorem d_St_take_113 : decode prog_8_method_3_code 113 = .ok (.aload_n 2, 1) := by decide +kernel
theorem d_St_take_114 : decode prog_8_method_3_code 114 = .ok (.getfield 72, 3) := by decide +kernel
theorem d_St_take_117 : decode prog_8_method_3_code 117 = .ok (.aload_n 1, 1) := by decide +kernel
theorem d_St_take_118 : decode prog_8_method_3_code 118 = .ok (.getfield 65, 3) := by decide +kernel
theorem d_St_take_121 : decode prog_8_method_3_code 121 = .ok (.iaload, 1) := by decide +kernel
theorem d_St_take_122 : decode prog_8_method_3_code 122 = .ok (.iload_n 3, 1) := by decide +kernel
theorem d_St_take_123 : decode prog_8_method_3_code 123 = .ok (.if_icmp .ge 6, 3) := by decide +kernel
theorem d_St_take_126 : decode prog_8_method_3_code 126 = .ok (.goto 86, 3) := by decide +kernel
theorem d_St_take_129 : decode prog_8_method_3_code 129 = .ok (.aload_n 2, 1) := by decide +kernel
theorem d_St_take_130 : decode prog_8_method_3_code 130 = .ok (.aload_n 1, 1) := by decide +kernel
theorem d_St_take_131 : decode prog_8_method_3_code 131 = .ok (.getfield 65, 3) := by decide +kernel
theorem d_St_take_134 : decode prog_8_method_3_code 134 = .ok (.iload_n 3, 1) := by decide +kernel
theorem d_St_take_135 : decode prog_8_method_3_code 135 = .ok (.ineg, 1) := by decide +kernel
theorem d_St_take_136 : decode prog_8_method_3_code 136 = .ok (.invokestatic 68, 3) := by decide +kernel
theorem d_St_take_139 : decode prog_8_method_3_code 139 = .ok (.aload_n 2, 1) := by decide +kernel
theorem d_St_take_140 : decode prog_8_method_3_code 140 = .ok (.dup, 1) := by decide +kernel
theorem d_St_take_141 : decode prog_8_method_3_code 141 = .ok (.getfield 58, 3) := by decide +kernel
theorem d_St_take_144 : decode prog_8_method_3_code 144 = .ok (.iload_n 3, 1) := by decide +kernel
theorem d_St_take_145 : decode prog_8_method_3_code 145 = .ok (.isub, 1) := by decide +kernel
theorem d_St_take_146 : decode prog_8_method_3_code 146 = .ok (.putfield 58, 3) := by decide +kernel
theorem d_St_take_149 : decode prog_8_method_3_code 149 = .ok (.aload_n 2, 1) := by decide +kernel
theorem d_St_take_150 : decode prog_8_method_3_code 150 = .ok (.dup, 1) := by decide +kernel
theorem d_St_take_151 : decode prog_8_method_3_code 151 = .ok (.getfield 75, 3) := by decide +kernel
theorem d_St_take_154 : decode prog_8_method_3_code 154 = .ok (.iload_n 3, 1) := by decide +kernel
theorem d_St_take_155 : decode prog_8_method_3_code 155 = .ok (.iadd, 1) := by decide +kernel
theorem d_St_take_156 : decode prog_8_method_3_code 156 = .ok (.putfield 75, 3) := by decide +kernel
theorem d_St_take_159 : decode prog_8_method_3_code 159 = .ok (.aload_n 0, 1) := by decide +kernel
theorem d_St_take_160 : decode prog_8_method_3_code 160 = .ok (.getfield 17, 3) := by decide +kernel
theorem d_St_take_163 : decode prog_8_method_3_code 163 = .ok (.aload_n 1, 1) := by decide +kernel
theorem d_St_take_164 : decode prog_8_method_3_code 164 = .ok (.getfield 65, 3) := by decide +kernel
theorem d_St_take_167 : decode prog_8_method_3_code 167 = .ok (.dup2, 1) := by decide +kernel
theorem d_St_take_168 : decode prog_8_method_3_code 168 = .ok (.laload, 1) := by decide +kernel
theorem d_St_take_169 : decode prog_8_method_3_code 169 = .ok (.iload_n 3, 1) := by decide +kernel
theorem d_St_take_170 : decode prog_8_method_3_code 170 = .ok (.i2l, 1) := by decide +kernel
theorem d_St_take_171 : decode prog_8_method_3_code 171 = .ok (.aload_n 2, 1) := by decide +kernel
theorem d_St_take_172 : decode prog_8_method_3_code 172 = .ok (.getfield 78, 3) := by decide +kernel
theorem d_St_take_175 : decode prog_8_method_3_code 175 = .ok (.i2l, 1) := by decide +kernel
theorem d_St_take_176 : decode prog_8_method_3_code 176 = .ok (.lmul, 1) := by decide +kernel
theorem d_St_take_177 : decode prog_8_method_3_code 177 = .ok (.ladd, 1) := by decide +kernel
theorem d_St_take_178 : decode prog_8_method_3_code 178 = .ok (.lastore, 1) := by decide +kernel
theorem d_St_take_179 : decode prog_8_method_3_code 179 = .ok (.goto 33, 3) := by decide +kernel
theorem d_St_take_182 : decode prog_8_method_3_code 182 = .ok (.aload_n 2, 1) := by decide +kernel
theorem d_St_take_183 : decode prog_8_method_3_code 183 = .ok (.aload_n 1, 1) := by decide +kernel
theorem d_St_take_184 : decode prog_8_method_3_code 184 = .ok (.getfield 65, 3) := by decide +kernel
theorem d_St_take_187 : decode prog_8_method_3_code 187 = .ok (.iload_n 3, 1) := by decide +kernel
theorem d_St_take_188 : decode prog_8_method_3_code 188 = .ok (.aload_n 2, 1) := by decide +kernel
theorem d_St_take_189 : decode prog_8_method_3_code 189 = .ok (.getfield 72, 3) := by decide +kernel
theorem d_St_take_192 : decode prog_8_method_3_code 192 = .ok (.aload_n 1, 1) := by decide +kernel
theorem d_St_take_193 : decode prog_8_method_3_code 193 = .ok (.getfield 65, 3) := by decide +kernel
theorem d_St_take_196 : decode prog_8_method_3_code 196 = .ok (.iaload, 1) := by decide +kernel
theorem d_St_take_197 : decode prog_8_method_3_code 197 = .ok (.invokestatic 81, 3) := by decide +kernel
theorem d_St_take_200 : decode prog_8_method_3_code 200 = .ok (.ineg, 1) := by decide +kernel
theorem d_St_take_201 : decode prog_8_method_3_code 201 = .ok (.invokestatic 68, 3) := by decide +kernel
theorem d_St_take_204 : decode prog_8_method_3_code 204 = .ok (.goto 8, 3) := by decide +kernel
theorem d_St_take_207 : decode prog_8_method_3_code 207 = .ok (.aload_n 2, 1) := by decide +kernel
theorem d_St_take_208 : decode prog_8_method_3_code 208 = .ok (.iload_n 3, 1) := by decide +kernel
theorem d_St_take_209 : decode prog_8_method_3_code 209 = .ok (.putfield 78, 3) := by decide +kernel
theorem d_St_take_212 : decode prog_8_method_3_code 212 = .ok (.return_, 1) := by decide +kernel
set_option maxHeartbeats 4000000 in
set_option maxRecDepth 100000 in
theorem w_St_take_212 {res : (Unit ⊕ (Nat × Nat)) × xH} (C : x_C l s0 A0 D R_St prog_8_method_3_code 4 [] p s m args meth c) (hr : meth.sig.returnType = none) (hnm : meth.name = "take") (hRf : 1 ≤ R.frames) (hRl : 30 ≤ R.locals)   (hp : f_St_take_b212 h = some res) (hH : x_S s0 D R h H locs cells slots) (hl : lv_has ls 4 []) : W p l e R s m args below meth c H locs cells slots (x_Q s0 D below s R (x_oc vU res.1) res.2) (F0 m 212 ls []) := by
  obtain ⟨hx, hb, hown, hts, hK, hml, hW, Z, -⟩ := id C
  unfold f_St_take_b212 at hp
  exact x_vret C hH hr d_St_take_212 hp
set_option maxHeartbeats 4000000 in
set_option maxRecDepth 100000 in
theorem w_St_take_0 {res : (Unit ⊕ (Nat × Nat)) × xH} (C : x_C l s0 A0 D R_St prog_8_method_3_code 4 [] p s m args meth c) (hr : meth.sig.returnType = none) (hnm : meth.name = "take") (hRf : 1 ≤ R.frames) (hRl : 30 ≤ R.locals)  (l0 : Nat) (l1 : Nat) (hp : f_St_take l0 l1 h = some res) (hH : x_S s0 D R h H locs cells slots) (hl : lv_has ls 4 [(0, .ref l0), (1, .ref l1)]) : W p l e R s m args below meth c H locs cells slots (x_Q s0 D below s R (x_oc vU res.1) res.2) (F0 m 0 ls []) := by
  obtain ⟨hx, hb, hown, hts, hK, hml, hW, Z, -⟩ := id C
  unfold f_St_take at hp
  refine lv_aload_n hx hb d_St_take_0 rfl (lv_at hl 0 rfl) ?_
  refine x_gA C hH fl_St_11 d_St_take_1 hp (fun v1 hp => ?_)
  refine lv_aload_n hx hb d_St_take_4 rfl (lv_at hl 1 rfl) ?_
  refine x_gI C hH fl_St_46 d_St_take_5 hp (fun v2 hp => ?_)
  refine x_lA C hH (by decide) d_St_take_8 hp (fun v3 hp => ?_)
  refine lv_astore_n (lv' := [(2, .ref v3), (0, .ref l0), (1, .ref l1)]) hx hb d_St_take_9 rfl hl (by decide) rfl (fun ls hl => ?_)
  refine lv_aload_n hx hb d_St_take_10 rfl (lv_at hl 2 rfl) ?_
  refine x_gI C hH fl_St_52 d_St_take_11 hp (fun v4 hp => ?_)
  refine lv_istore_n (lv' := [(3, .int v4), (2, .ref v3), (0, .ref l0), (1, .ref l1)]) hx hb d_St_take_14 rfl hl (by decide) rfl (fun ls hl => ?_)
  refine lv_aload_n hx hb d_St_take_15 rfl (lv_at hl 3 rfl) ?_
  refine x_gI C hH fl_St_55 d_St_take_16 hp (fun v5 hp => ?_)
  by_cases hc0 : v5 = 0
  · replace hp := x_ifp hc0 hp
    refine lv_tableIn (off := 29) (tgt := 48) hx hb d_St_take_19 (by rw [hc0]; decide) (by rw [hc0]; decide) (by rw [hc0]; rfl) (by decide) ?_
    refine lv_aload_n hx hb d_St_take_48 rfl (lv_at hl 1 rfl) ?_
    refine x_gI C hH fl_St_58 d_St_take_49 hp (fun v6 hp => ?_)
    refine lv_iload_n hx hb d_St_take_52 rfl (lv_at hl 0 rfl) ?_
    refine lv_iadd hx hb d_St_take_53 ?_
    refine lv_ldc hx hb hown (hts _ k_498) d_St_take_54 ?_
    refine lv_icmp_gt (tgt := 212) hx hb d_St_take_56 (by decide) (fun hc => ?_) (fun hc => ?_)
    · replace hp := x_ifp hc hp
      exact w_St_take_212 C hr hnm hRf hRl   hp hH (lv_sub hl [] rfl)
    · replace hp := x_ifn hc hp
      refine lv_aload_n hx hb d_St_take_59 rfl (lv_at hl 1 rfl) ?_
      refine lv_dup hx hb d_St_take_60 rfl ?_
      refine x_gI C hH fl_St_58 d_St_take_61 hp (fun v7 hp => ?_)
      refine lv_iload_n hx hb d_St_take_64 rfl (lv_at hl 0 rfl) ?_
      refine lv_iadd hx hb d_St_take_65 ?_
      refine x_pV C hH fp_St_58 (fun h => Bool.noConfusion h) d_St_take_66 rfl rfl hp (fun h H locs hp hH => ?_)
      refine lv_goto (tgt := 212) hx hb d_St_take_69 (by decide) ?_
      exact w_St_take_212 C hr hnm hRf hRl   hp hH (lv_sub hl [] rfl)
  replace hp := x_ifn hc0 hp
  by_cases hc1 : v5 = 1
  · replace hp := x_ifp hc1 hp
    refine lv_tableIn (off := 53) (tgt := 72) hx hb d_St_take_19 (by rw [hc1]; decide) (by rw [hc1]; decide) (by rw [hc1]; rfl) (by decide) ?_
    refine lv_aload_n hx hb d_St_take_72 rfl (lv_at hl 1 rfl) ?_
    refine x_gI C hH fl_St_58 d_St_take_73 hp (fun v8 hp => ?_)
    refine lv_aload_n hx hb d_St_take_76 rfl (lv_at hl 1 rfl) ?_
    refine x_gI C hH fl_St_62 d_St_take_77 hp (fun v9 hp => ?_)
    refine lv_isub hx hb d_St_take_80 ?_
    refine lv_iload_n hx hb d_St_take_81 rfl (lv_at hl 0 rfl) ?_
    refine lv_icmp_ge (tgt := 101) hx hb d_St_take_82 (by decide) (fun hc => ?_) (fun hc => ?_)
    · replace hp := x_ifp hc hp
      refine lv_aload_n hx hb d_St_take_101 rfl (lv_at hl 1 rfl) ?_
      refine lv_aload_n hx hb d_St_take_102 rfl (lv_at hl 3 rfl) ?_
      refine x_gI C hH fl_St_65 d_St_take_103 hp (fun v10 hp => ?_)
      refine lv_iload_n hx hb d_St_take_106 rfl (lv_at hl 0 rfl) ?_
      refine x_callS (As := [.ref v3, .int v10, .int v4]) (rest := []) (cv := vU) C hH kc_St_68 d_St_take_107 hp (fun o h' e => m_St_hold Z e) rfl hl.1 (Nat.le_trans (Nat.le_of_ble_eq_true rfl) hRf) (Nat.le_trans (Nat.le_of_ble_eq_true rfl) hRl) (Nat.le_of_ble_eq_true rfl) (fun v11 h H locs cells slots hp hH => ?_)
      refine W.eq (g2 := F0 m 110 ls []) rfl ?_
      refine lv_goto (tgt := 212) hx hb d_St_take_110 (by decide) ?_
      exact w_St_take_212 C hr hnm hRf hRl   hp hH (lv_sub hl [] rfl)
    · replace hp := x_ifn hc hp
      refine lv_aload_n hx hb d_St_take_85 rfl (lv_at hl 2 rfl) ?_
      refine x_gA C hH fl_St_21 d_St_take_86 hp (fun v12 hp => ?_)
      refine lv_aload_n hx hb d_St_take_89 rfl (lv_at hl 3 rfl) ?_
      refine x_gI C hH fl_St_65 d_St_take_90 hp (fun v13 hp => ?_)
      refine lv_dup2_11 hx hb d_St_take_93 rfl rfl ?_
      refine x_lI C hH d_St_take_94 hp (fun v14 hp => ?_)
      refine lv_iconst (v := 1) hx hb d_St_take_95 (by decide) ?_
      refine lv_iadd hx hb d_St_take_96 ?_
      refine x_sI C hH d_St_take_97 hp (fun h H locs hp hH => ?_)
      refine lv_goto (tgt := 212) hx hb d_St_take_98 (by decide) ?_
      exact w_St_take_212 C hr hnm hRf hRl   hp hH (lv_sub hl [] rfl)
  replace hp := x_ifn hc1 hp
  by_cases hc2 : v5 = 2
  · replace hp := x_ifp hc2 hp
    refine lv_tableIn (off := 94) (tgt := 113) hx hb d_St_take_19 (by rw [hc2]; decide) (by rw [hc2]; decide) (by rw [hc2]; rfl) (by decide) ?_
    refine lv_aload_n hx hb d_St_take_113 rfl (lv_at hl 1 rfl) ?_
    refine x_gA C hH fl_St_72 d_St_take_114 hp (fun v15 hp => ?_)
    refine lv_aload_n hx hb d_St_take_117 rfl (lv_at hl 3 rfl) ?_
    refine x_gI C hH fl_St_65 d_St_take_118 hp (fun v16 hp => ?_)
    refine x_lI C hH d_St_take_121 hp (fun v17 hp => ?_)
    refine lv_iload_n hx hb d_St_take_122 rfl (lv_at hl 0 rfl) ?_
    refine lv_icmp_ge (tgt := 129) hx hb d_St_take_123 (by decide) (fun hc => ?_) (fun hc => ?_)
    · replace hp := x_ifp hc hp
      refine lv_aload_n hx hb d_St_take_129 rfl (lv_at hl 1 rfl) ?_
      refine lv_aload_n hx hb d_St_take_130 rfl (lv_at hl 3 rfl) ?_
      refine x_gI C hH fl_St_65 d_St_take_131 hp (fun v18 hp => ?_)
      refine lv_iload_n hx hb d_St_take_134 rfl (lv_at hl 0 rfl) ?_
      refine lv_ineg hx hb d_St_take_135 ?_
      refine x_callS (As := [.ref v3, .int v18, .int (-v4)]) (rest := []) (cv := vU) C hH kc_St_68 d_St_take_136 hp (fun o h' e => m_St_hold Z e) rfl hl.1 (Nat.le_trans (Nat.le_of_ble_eq_true rfl) hRf) (Nat.le_trans (Nat.le_of_ble_eq_true rfl) hRl) (Nat.le_of_ble_eq_true rfl) (fun v19 h H locs cells slots hp hH => ?_)
      refine W.eq (g2 := F0 m 139 ls []) rfl ?_
      refine lv_aload_n hx hb d_St_take_139 rfl (lv_at hl 1 rfl) ?_
      refine lv_dup hx hb d_St_take_140 rfl ?_
      refine x_gI C hH fl_St_58 d_St_take_141 hp (fun v20 hp => ?_)
      refine lv_iload_n hx hb d_St_take_144 rfl (lv_at hl 0 rfl) ?_
      refine lv_isub hx hb d_St_take_145 ?_
      refine x_pV C hH fp_St_58 (fun h => Bool.noConfusion h) d_St_take_146 rfl rfl hp (fun h H locs hp hH => ?_)
      refine lv_aload_n hx hb d_St_take_149 rfl (lv_at hl 1 rfl) ?_
      refine lv_dup hx hb d_St_take_150 rfl ?_
      refine x_gI C hH fl_St_75 d_St_take_151 hp (fun v21 hp => ?_)
      refine lv_iload_n hx hb d_St_take_154 rfl (lv_at hl 0 rfl) ?_
      refine lv_iadd hx hb d_St_take_155 ?_
      refine x_pV C hH fp_St_75 (fun h => Bool.noConfusion h) d_St_take_156 rfl rfl hp (fun h H locs hp hH => ?_)
      refine lv_aload_n hx hb d_St_take_159 rfl (lv_at hl 2 rfl) ?_
      refine x_gA C hH fl_St_17 d_St_take_160 hp (fun v22 hp => ?_)
      refine lv_aload_n hx hb d_St_take_163 rfl (lv_at hl 3 rfl) ?_
      refine x_gI C hH fl_St_65 d_St_take_164 hp (fun v23 hp => ?_)
      refine lv_dup2_11 hx hb d_St_take_167 rfl rfl ?_
      refine x_lJ C hH d_St_take_168 hp (fun v24 hp => ?_)
      refine lv_iload_n hx hb d_St_take_169 rfl (lv_at hl 0 rfl) ?_
      refine lv_i2l (v := v4.toInt64) hx hb d_St_take_170 rfl ?_
      refine lv_aload_n hx hb d_St_take_171 rfl (lv_at hl 1 rfl) ?_
      refine x_gI C hH fl_St_78 d_St_take_172 hp (fun v25 hp => ?_)
      refine lv_i2l (v := v25.toInt64) hx hb d_St_take_175 rfl ?_
      refine lv_lmul hx hb d_St_take_176 ?_
      refine lv_ladd hx hb d_St_take_177 ?_
      refine x_sJ C hH d_St_take_178 hp (fun h H locs hp hH => ?_)
      refine lv_goto (tgt := 212) hx hb d_St_take_179 (by decide) ?_
      exact w_St_take_212 C hr hnm hRf hRl   hp hH (lv_sub hl [] rfl)
    · replace hp := x_ifn hc hp
      refine lv_goto (tgt := 212) hx hb d_St_take_126 (by decide) ?_
      exact w_St_take_212 C hr hnm hRf hRl   hp hH (lv_sub hl [] rfl)
  replace hp := x_ifn hc2 hp
  by_cases hc3 : v5 = 3
  · replace hp := x_ifp hc3 hp
    refine lv_tableIn (off := 163) (tgt := 182) hx hb d_St_take_19 (by rw [hc3]; decide) (by rw [hc3]; decide) (by rw [hc3]; rfl) (by decide) ?_
    refine lv_aload_n hx hb d_St_take_182 rfl (lv_at hl 1 rfl) ?_
    refine lv_aload_n hx hb d_St_take_183 rfl (lv_at hl 3 rfl) ?_
    refine x_gI C hH fl_St_65 d_St_take_184 hp (fun v26 hp => ?_)
    refine lv_iload_n hx hb d_St_take_187 rfl (lv_at hl 0 rfl) ?_
    refine lv_aload_n hx hb d_St_take_188 rfl (lv_at hl 1 rfl) ?_
    refine x_gA C hH fl_St_72 d_St_take_189 hp (fun v27 hp => ?_)
    refine lv_aload_n hx hb d_St_take_192 rfl (lv_at hl 3 rfl) ?_
    refine x_gI C hH fl_St_65 d_St_take_193 hp (fun v28 hp => ?_)
    refine x_lI C hH d_St_take_196 hp (fun v29 hp => ?_)
    refine x_callS (As := [.int v4, .int v29]) (rest := [.int v26, .ref v3]) (cv := vI) C hH kc_St_81 d_St_take_197 hp (fun o h' e => m_Math_min Z e) rfl hl.1 (Nat.le_trans (Nat.le_of_ble_eq_true rfl) hRf) (Nat.le_trans (Nat.le_of_ble_eq_true rfl) hRl) (Nat.le_of_ble_eq_true rfl) (fun v30 h H locs cells slots hp hH => ?_)
    refine W.eq (g2 := F0 m 200 ls [.int v30, .int v26, .ref v3]) rfl ?_
    refine lv_ineg hx hb d_St_take_200 ?_
    refine x_callS (As := [.ref v3, .int v26, .int (-v30)]) (rest := []) (cv := vU) C hH kc_St_68 d_St_take_201 hp (fun o h' e => m_St_hold Z e) rfl hl.1 (Nat.le_trans (Nat.le_of_ble_eq_true rfl) hRf) (Nat.le_trans (Nat.le_of_ble_eq_true rfl) hRl) (Nat.le_of_ble_eq_true rfl) (fun v31 h H locs cells slots hp hH => ?_)
    refine W.eq (g2 := F0 m 204 ls []) rfl ?_
    refine lv_goto (tgt := 212) hx hb d_St_take_204 (by decide) ?_
    exact w_St_take_212 C hr hnm hRf hRl   hp hH (lv_sub hl [] rfl)
  replace hp := x_ifn hc3 hp
  have n0 := lv_neT hc0 (k := 0) (a := 0) (by decide)
  have n1 := lv_neT hc1 (k := 1) (a := 1) (by decide)
  have n2 := lv_neT hc2 (k := 2) (a := 2) (by decide)
  have n3 := lv_neT hc3 (k := 3) (a := 3) (by decide)
  refine lv_tableOut (tgt := 207) hx hb d_St_take_19 (by omega) (by decide) ?_
  refine lv_aload_n hx hb d_St_take_207 rfl (lv_at hl 1 rfl) ?_
  refine lv_iload_n hx hb d_St_take_208 rfl (lv_at hl 0 rfl) ?_
  refine x_pV C hH fp_St_78 (fun h => Bool.noConfusion h) d_St_take_209 rfl rfl hp (fun h H locs hp hH => ?_)
  exact w_St_take_212 C hr hnm hRf hRl   hp hH (lv_sub hl [] rfl)
set_option maxRecDepth 100000 in
theorem m_St_take (Z : x_Z l s0 A0 D) {l0 : Nat} {l1 : Nat} {res : (Unit ⊕ (Nat × Nat)) × xH} (hp : f_St_take l0 l1 h = some res) : x_M l s0 D y_St_take (x_cw y_St_take prog_8_method_3_code 4 none []) 1 30 [.ref l0, .ref l1] h (x_oc vU res.1) res.2 := by
  refine x_M.ofW Z (plainFor_of_name (by decide)) ?_
  intro p e s m below meth c C hnm hr hH
  have hl := lv_entry ([.ref l0, .ref l1]) (n := 4) (Nat.le_of_ble_eq_true rfl)
  rw [lg_entry_eq]
  generalize (lg_sl ([.ref l0, .ref l1]) ++ List.replicate (4 - (lg_sl ([.ref l0, .ref l1])).length) Slot.unset).toArray = ls at hl ⊢
  exact w_St_take_0 C hr hnm (Nat.le_refl _) (Nat.le_refl _) l0 l1 hp hH hl
/-! ReadSide.advance(LReadSide$Replica;I)I -/
theorem d_RS_advance_0 : decode prog_1_method_13_code 0 = .ok (.aload_n 1, 1) := by decide +kernel
theorem d_RS_advance_1 : decode prog_1_method_13_code 1 = .ok (.getfield 150, 3) := by decide +kernel
theorem d_RS_advance_4 : decode prog_1_method_13_code 4 = .ok (.getfield 154, 3) := by decide +kernel
theorem d_RS_advance_7 : decode prog_1_method_13_code 7 = .ok (.getfield 126, 3) := by decide +kernel
theorem d_RS_advance_10 : decode prog_1_method_13_code 10 = .ok (.iload_n 2, 1) := by decide +kernel
theorem d_RS_advance_11 : decode prog_1_method_13_code 11 = .ok (.iaload, 1) := by decide +kernel
theorem d_RS_advance_12 : decode prog_1_method_13_code 12 = .ok (.istore_n 3, 1) := by decide +kernel
theorem d_RS_advance_13 : decode prog_1_method_13_code 13 = .ok (.iload_n 3, 1) := by decide +kernel
theorem d_RS_advance_14 : decode prog_1_method_13_code 14 = .ok (.aload_n 0, 1) := by decide +kernel
theorem d_RS_advance_15 : decode prog_1_method_13_code 15 = .ok (.getfield 37, 3) := by decide +kernel
theorem d_RS_advance_18 : decode prog_1_method_13_code 18 = .ok (.iload_n 2, 1) := by decide +kernel
theorem d_RS_advance_19 : decode prog_1_method_13_code 19 = .ok (.aaload, 1) := by decide +kernel
theorem d_RS_advance_20 : decode prog_1_method_13_code 20 = .ok (.getfield 91, 3) := by decide +kernel
theorem d_RS_advance_23 : decode prog_1_method_13_code 23 = .ok (.if_icmp .ne 5, 3) := by decide +kernel
theorem d_RS_advance_26 : decode prog_1_method_13_code 26 = .ok (.iconst 0, 1) := by decide +kernel
theorem d_RS_advance_27 : decode prog_1_method_13_code 27 = .ok (.ireturn, 1) := by decide +kernel
theorem d_RS_advance_28 : decode prog_1_method_13_code 28 = .ok (.aload_n 0, 1) := by decide +kernel
theorem d_RS_advance_29 : decode prog_1_method_13_code 29 = .ok (.getfield 37, 3) := by decide +kernel
theorem d_RS_advance_32 : decode prog_1_method_13_code 32 = .ok (.iload_n 2, 1) := by decide +kernel
theorem d_RS_advance_33 : decode prog_1_method_13_code 33 = .ok (.aaload, 1) := by decide +kernel
theorem d_RS_advance_34 : decode prog_1_method_13_code 34 = .ok (.iload_n 3, 1) := by decide +kernel
theorem d_RS_advance_35 : decode prog_1_method_13_code 35 = .ok (.iconst 1, 1) := by decide +kernel
theorem d_RS_advance_36 : decode prog_1_method_13_code 36 = .ok (.iadd, 1) := by decide +kernel
theorem d_RS_advance_37 : decode prog_1_method_13_code 37 = .ok (.invokevirtual 159, 3) := by decide +kernel
theorem d_RS_advance_40 : decode prog_1_method_13_code 40 = .ok (.astore 4, 2) := by decide +kernel
theorem d_RS_advance_42 : decode prog_1_method_13_code 42 = .ok (.aload_n 1, 1) := by decide +kernel
theorem d_RS_advance_43 : decode prog_1_method_13_code 43 = .ok (.getfield 150, 3) := by decide +kernel
theorem d_RS_advance_46 : decode prog_1_method_13_code 46 = .ok (.getfield 154, 3) := by decide +kernel
theorem d_RS_advance_49 : decode prog_1_method_13_code 49 = .ok (.aload 4, 2) := by decide +kernel
theorem d_RS_advance_51 : decode prog_1_method_13_code 51 = .ok (.getfield 106, 3) := by decide +kernel
theorem d_RS_advance_54 : decode prog_1_method_13_code 54 = .ok (.invokevirtual 162, 3) := by decide +kernel
theorem d_RS_advance_57 : decode prog_1_method_13_code 57 = .ok (.ifCond .ne 5, 3) := by decide +kernel
theorem d_RS_advance_60 : decode prog_1_method_13_code 60 = .ok (.iconst (-1), 1) := by decide +kernel
theorem d_RS_advance_61 : decode prog_1_method_13_code 61 = .ok (.ireturn, 1) := by decide +kernel
theorem d_RS_advance_62 : decode prog_1_method_13_code 62 = .ok (.aload_n 1, 1) := by decide +kernel
theorem d_RS_advance_63 : decode prog_1_method_13_code 63 = .ok (.getfield 150, 3) := by decide +kernel
theorem d_RS_advance_66 : decode prog_1_method_13_code 66 = .ok (.aload 4, 2) := by decide +kernel
theorem d_RS_advance_68 : decode prog_1_method_13_code 68 = .ok (.invokevirtual 166, 3) := by decide +kernel
theorem d_RS_advance_71 : decode prog_1_method_13_code 71 = .ok (.aload_n 1, 1) := by decide +kernel
theorem d_RS_advance_72 : decode prog_1_method_13_code 72 = .ok (.getfield 150, 3) := by decide +kernel
theorem d_RS_advance_75 : decode prog_1_method_13_code 75 = .ok (.getfield 154, 3) := by decide +kernel
theorem d_RS_advance_78 : decode prog_1_method_13_code 78 = .ok (.getfield 126, 3) := by decide +kernel
theorem d_RS_advance_81 : decode prog_1_method_13_code 81 = .ok (.iload_n 2, 1) := by decide +kernel
theorem d_RS_advance_82 : decode prog_1_method_13_code 82 = .ok (.dup2, 1) := by decide +kernel
theorem d_RS_advance_83 : decode prog_1_method_13_code 83 = .ok (.iaload, 1) := by decide +kernel
theorem d_RS_advance_84 : decode prog_1_method_13_code 84 = .ok (.iconst 1, 1) := by decide +kernel
theorem d_RS_advance_85 : decode prog_1_method_13_code 85 = .ok (.iadd, 1) := by decide +kernel
theorem d_RS_advance_86 : decode prog_1_method_13_code 86 = .ok (.iastore, 1) := by decide +kernel
theorem d_RS_advance_87 : decode prog_1_method_13_code 87 = .ok (.aload_n 1, 1) := by decide +kernel
theorem d_RS_advance_88 : decode prog_1_method_13_code 88 = .ok (.iload_n 2, 1) := by decide +kernel
theorem d_RS_advance_89 : decode prog_1_method_13_code 89 = .ok (.iconst 1, 1) := by decide +kernel
theorem d_RS_advance_90 : decode prog_1_method_13_code 90 = .ok (.iadd, 1) := by decide +kernel
theorem d_RS_advance_91 : decode prog_1_method_13_code 91 = .ok (.aload_n 0, 1) := by decide +kernel
theorem d_RS_advance_92 : decode prog_1_method_13_code 92 = .ok (.getfield 31, 3) := by decide +kernel
theorem d_RS_advance_95 : decode prog_1_method_13_code 95 = .ok (.irem, 1) := by decide +kernel
theorem d_RS_advance_96 : decode prog_1_method_13_code 96 = .ok (.putfield 170, 3) := by decide +kernel
theorem d_RS_advance_99 : decode prog_1_method_13_code 99 = .ok (.aload_n 0, 1) := by decide +kernel
theorem d_RS_advance_100 : decode prog_1_method_13_code 100 = .ok (.aload_n 1, 1) := by decide +kernel
theorem d_RS_advance_101 : decode prog_1_method_13_code 101 = .ok (.invokevirtual 78, 3) := by decide +kernel
theorem d_RS_advance_104 : decode prog_1_method_13_code 104 = .ok (.iconst 1, 1) := by decide +kernel
theorem d_RS_advance_105 : decode prog_1_method_13_code 105 = .ok (.ireturn, 1) := by decide +kernel
set_option maxHeartbeats 4000000 in
set_option maxRecDepth 100000 in
theorem w_RS_advance_0 {res : (Int32 ⊕ (Nat × Nat)) × xH} (C : x_C l s0 A0 D R_RS prog_1_method_13_code 5 [] p s m args meth c) (hr : meth.sig.returnType = (some .int)) (hnm : meth.name = "advance") (hRf : 4 ≤ R.frames) (hRl : 128 ≤ R.locals)  (l0 : Nat) (l1 : Nat) (l2 : Int32) (hp : f_RS_advance l0 l1 l2 h = some res) (hH : x_S s0 D R h H locs cells slots) (hl : lv_has ls 5 [(0, .ref l0), (1, .ref l1), (2, .int l2)]) : W p l e R s m args below meth c H locs cells slots (x_Q s0 D below s R (x_oc vI res.1) res.2) (F0 m 0 ls []) := by
  obtain ⟨hx, hb, hown, hts, hK, hml, hW, Z, -⟩ := id C
  unfold f_RS_advance at hp
  refine lv_aload_n hx hb d_RS_advance_0 rfl (lv_at hl 1 rfl) ?_
  refine x_gA C hH fl_RS_150 d_RS_advance_1 hp (fun v1 hp => ?_)
  refine x_gA C hH fl_RS_154 d_RS_advance_4 hp (fun v2 hp => ?_)
  refine x_gA C hH fl_RS_126 d_RS_advance_7 hp (fun v3 hp => ?_)
  refine lv_iload_n hx hb d_RS_advance_10 rfl (lv_at hl 2 rfl) ?_
  refine x_lI C hH d_RS_advance_11 hp (fun v4 hp => ?_)
  refine lv_istore_n (lv' := [(3, .int v4), (0, .ref l0), (1, .ref l1), (2, .int l2)]) hx hb d_RS_advance_12 rfl hl (by decide) rfl (fun ls hl => ?_)
  refine lv_iload_n hx hb d_RS_advance_13 rfl (lv_at hl 0 rfl) ?_
  refine lv_aload_n hx hb d_RS_advance_14 rfl (lv_at hl 1 rfl) ?_
  refine x_gA C hH fl_RS_37 d_RS_advance_15 hp (fun v5 hp => ?_)
  refine lv_iload_n hx hb d_RS_advance_18 rfl (lv_at hl 3 rfl) ?_
  refine x_lA C hH (by decide) d_RS_advance_19 hp (fun v6 hp => ?_)
  refine x_gI C hH fl_RS_91 d_RS_advance_20 hp (fun v7 hp => ?_)
  refine lv_icmp_ne (tgt := 28) hx hb d_RS_advance_23 (by decide) (fun hc => ?_) (fun hc => ?_)
  · replace hp := x_ifn hc hp
    refine lv_aload_n hx hb d_RS_advance_28 rfl (lv_at hl 1 rfl) ?_
    refine x_gA C hH fl_RS_37 d_RS_advance_29 hp (fun v8 hp => ?_)
    refine lv_iload_n hx hb d_RS_advance_32 rfl (lv_at hl 3 rfl) ?_
    refine x_lA C hH (by decide) d_RS_advance_33 hp (fun v9 hp => ?_)
    refine lv_iload_n hx hb d_RS_advance_34 rfl (lv_at hl 0 rfl) ?_
    refine lv_iconst (v := 1) hx hb d_RS_advance_35 (by decide) ?_
    refine lv_iadd hx hb d_RS_advance_36 ?_
    refine x_callV (As := [.int (v4 + 1)]) (rest := []) (cv := vA) C hH kc_RS_159 d_RS_advance_37 hp (fun o h' e => m_Log_at Z e) rfl hl.1 (Nat.le_trans (Nat.le_of_ble_eq_true rfl) hRf) (Nat.le_trans (Nat.le_of_ble_eq_true rfl) hRl) (Nat.le_of_ble_eq_true rfl) (fun v10 h H locs cells slots hp hH => ?_)
    refine W.eq (g2 := F0 m 40 ls [.ref v10]) rfl ?_
    refine lv_astore (lv' := [(4, .ref v10), (3, .int v4), (0, .ref l0), (1, .ref l1), (2, .int l2)]) hx hb d_RS_advance_40 hl (by decide) rfl (fun ls hl => ?_)
    refine lv_aload_n hx hb d_RS_advance_42 rfl (lv_at hl 3 rfl) ?_
    refine x_gA C hH fl_RS_150 d_RS_advance_43 hp (fun v11 hp => ?_)
    refine x_gA C hH fl_RS_154 d_RS_advance_46 hp (fun v12 hp => ?_)
    refine lv_aload hx hb d_RS_advance_49 (lv_at hl 0 rfl) ?_
    refine x_gA C hH fl_RS_106 d_RS_advance_51 hp (fun v13 hp => ?_)
    refine x_callV (As := [.ref v13]) (rest := []) (cv := vI) C hH kc_RS_162 d_RS_advance_54 hp (fun o h' e => m_Vec_covers Z e) rfl hl.1 (Nat.le_trans (Nat.le_of_ble_eq_true rfl) hRf) (Nat.le_trans (Nat.le_of_ble_eq_true rfl) hRl) (Nat.le_of_ble_eq_true rfl) (fun v14 h H locs cells slots hp hH => ?_)
    refine W.eq (g2 := F0 m 57 ls [.int v14]) rfl ?_
    refine lv_if_ne (tgt := 62) hx hb d_RS_advance_57 (by decide) (fun hc => ?_) (fun hc => ?_)
    · replace hp := x_ifn hc hp
      refine lv_aload_n hx hb d_RS_advance_62 rfl (lv_at hl 3 rfl) ?_
      refine x_gA C hH fl_RS_150 d_RS_advance_63 hp (fun v15 hp => ?_)
      refine lv_aload hx hb d_RS_advance_66 (lv_at hl 0 rfl) ?_
      refine x_callV (As := [.ref v10]) (rest := []) (cv := vU) C hH kc_RS_166 d_RS_advance_68 hp (fun o h' e => m_St_take Z e) rfl hl.1 (Nat.le_trans (Nat.le_of_ble_eq_true rfl) hRf) (Nat.le_trans (Nat.le_of_ble_eq_true rfl) hRl) (Nat.le_of_ble_eq_true rfl) (fun v16 h H locs cells slots hp hH => ?_)
      refine W.eq (g2 := F0 m 71 ls []) rfl ?_
      refine lv_aload_n hx hb d_RS_advance_71 rfl (lv_at hl 3 rfl) ?_
      refine x_gA C hH fl_RS_150 d_RS_advance_72 hp (fun v17 hp => ?_)
      refine x_gA C hH fl_RS_154 d_RS_advance_75 hp (fun v18 hp => ?_)
      refine x_gA C hH fl_RS_126 d_RS_advance_78 hp (fun v19 hp => ?_)
      refine lv_iload_n hx hb d_RS_advance_81 rfl (lv_at hl 4 rfl) ?_
      refine lv_dup2_11 hx hb d_RS_advance_82 rfl rfl ?_
      refine x_lI C hH d_RS_advance_83 hp (fun v20 hp => ?_)
      refine lv_iconst (v := 1) hx hb d_RS_advance_84 (by decide) ?_
      refine lv_iadd hx hb d_RS_advance_85 ?_
      refine x_sI C hH d_RS_advance_86 hp (fun h H locs hp hH => ?_)
      refine lv_aload_n hx hb d_RS_advance_87 rfl (lv_at hl 3 rfl) ?_
      refine lv_iload_n hx hb d_RS_advance_88 rfl (lv_at hl 4 rfl) ?_
      refine lv_iconst (v := 1) hx hb d_RS_advance_89 (by decide) ?_
      refine lv_iadd hx hb d_RS_advance_90 ?_
      refine lv_aload_n hx hb d_RS_advance_91 rfl (lv_at hl 2 rfl) ?_
      refine x_gI C hH fl_RS_31 d_RS_advance_92 hp (fun v21 hp => ?_)
      obtain ⟨hz, hp⟩ := rI_i hp
      refine lv_irem hx hb d_RS_advance_95 hz ?_
      generalize ev22 : (l2 + 1) - (l2 + 1) / v21 * v21 = v22 at hp ⊢
      refine x_pV C hH fp_RS_170 (fun h => Bool.noConfusion h) d_RS_advance_96 rfl rfl hp (fun h H locs hp hH => ?_)
      refine lv_aload_n hx hb d_RS_advance_99 rfl (lv_at hl 2 rfl) ?_
      refine lv_aload_n hx hb d_RS_advance_100 rfl (lv_at hl 3 rfl) ?_
      refine x_callV (As := [.ref l1]) (rest := []) (cv := vU) C hH kc_RS_78 d_RS_advance_101 hp (fun o h' e => m_RS_look Z e) rfl hl.1 (Nat.le_trans (Nat.le_of_ble_eq_true rfl) hRf) (Nat.le_trans (Nat.le_of_ble_eq_true rfl) hRl) (Nat.le_of_ble_eq_true rfl) (fun v23 h H locs cells slots hp hH => ?_)
      refine W.eq (g2 := F0 m 104 ls []) rfl ?_
      refine lv_iconst (v := 1) hx hb d_RS_advance_104 (by decide) ?_
      exact x_iret C hH hr d_RS_advance_105 hp
    · replace hp := x_ifp hc hp
      refine lv_iconst (v := (-1)) hx hb d_RS_advance_60 (by decide) ?_
      exact x_iret C hH hr d_RS_advance_61 hp
  · replace hp := x_ifp hc hp
    refine lv_iconst (v := 0) hx hb d_RS_advance_26 (by decide) ?_
    exact x_iret C hH hr d_RS_advance_27 hp
set_option maxRecDepth 100000 in
theorem m_RS_advance (Z : x_Z l s0 A0 D) {l0 : Nat} {l1 : Nat} {l2 : Int32} {res : (Int32 ⊕ (Nat × Nat)) × xH} (hp : f_RS_advance l0 l1 l2 h = some res) : x_M l s0 D y_RS_advance (x_cw y_RS_advance prog_1_method_13_code 5 (some .int) []) 4 128 [.ref l0, .ref l1, .int l2] h (x_oc vI res.1) res.2 := by
  refine x_M.ofW Z (plainFor_of_name (by decide)) ?_
  intro p e s m below meth c C hnm hr hH
  have hl := lv_entry ([.ref l0, .ref l1, .int l2]) (n := 5) (Nat.le_of_ble_eq_true rfl)
  rw [lg_entry_eq]
  generalize (lg_sl ([.ref l0, .ref l1, .int l2]) ++ List.replicate (5 - (lg_sl ([.ref l0, .ref l1, .int l2])).length) Slot.unset).toArray = ls at hl ⊢
  exact w_RS_advance_0 C hr hnm (Nat.le_refl _) (Nat.le_refl _) l0 l1 l2 hp hH hl
/-! ReadSide.step(II)I -/
theorem d_RS_step_0 : decode prog_1_method_14_code 0 = .ok (.aload_n 0, 1) := by decide +kernel
theorem d_RS_step_1 : decode prog_1_method_14_code 1 = .ok (.iload_n 1, 1) := by decide +kernel
theorem d_RS_step_2 : decode prog_1_method_14_code 2 = .ok (.invokevirtual 82, 3) := by decide +kernel
theorem d_RS_step_5 : decode prog_1_method_14_code 5 = .ok (.astore_n 3, 1) := by decide +kernel
theorem d_RS_step_6 : decode prog_1_method_14_code 6 = .ok (.iload_n 2, 1) := by decide +kernel
theorem d_RS_step_7 : decode prog_1_method_14_code 7 = .ok (.aload_n 0, 1) := by decide +kernel
theorem d_RS_step_8 : decode prog_1_method_14_code 8 = .ok (.getfield 31, 3) := by decide +kernel
theorem d_RS_step_11 : decode prog_1_method_14_code 11 = .ok (.invokestatic 61, 3) := by decide +kernel
theorem d_RS_step_14 : decode prog_1_method_14_code 14 = .ok (.pop, 1) := by decide +kernel
theorem d_RS_step_15 : decode prog_1_method_14_code 15 = .ok (.aload_n 3, 1) := by decide +kernel
theorem d_RS_step_16 : decode prog_1_method_14_code 16 = .ok (.getfield 173, 3) := by decide +kernel
theorem d_RS_step_19 : decode prog_1_method_14_code 19 = .ok (.ifCond .eq 12, 3) := by decide +kernel
theorem d_RS_step_22 : decode prog_1_method_14_code 22 = .ok (.aload_n 0, 1) := by decide +kernel
theorem d_RS_step_23 : decode prog_1_method_14_code 23 = .ok (.aload_n 3, 1) := by decide +kernel
theorem d_RS_step_24 : decode prog_1_method_14_code 24 = .ok (.iload_n 2, 1) := by decide +kernel
theorem d_RS_step_25 : decode prog_1_method_14_code 25 = .ok (.invokevirtual 177, 3) := by decide +kernel
theorem d_RS_step_28 : decode prog_1_method_14_code 28 = .ok (.goto 5, 3) := by decide +kernel
theorem d_RS_step_31 : decode prog_1_method_14_code 31 = .ok (.bipush (-2), 2) := by decide +kernel
theorem d_RS_step_33 : decode prog_1_method_14_code 33 = .ok (.ireturn, 1) := by decide +kernel
set_option maxHeartbeats 4000000 in
set_option maxRecDepth 100000 in
theorem w_RS_step_33 {res : (Int32 ⊕ (Nat × Nat)) × xH} (C : x_C l s0 A0 D R_RS prog_1_method_14_code 4 [] p s m args meth c) (hr : meth.sig.returnType = (some .int)) (hnm : meth.name = "step") (hRf : 8 ≤ R.frames) (hRl : 160 ≤ R.locals)  (t0 : Int32) (hp : f_RS_step_b33 t0 h = some res) (hH : x_S s0 D R h H locs cells slots) (hl : lv_has ls 4 []) : W p l e R s m args below meth c H locs cells slots (x_Q s0 D below s R (x_oc vI res.1) res.2) (F0 m 33 ls [.int t0]) := by
  obtain ⟨hx, hb, hown, hts, hK, hml, hW, Z, -⟩ := id C
  unfold f_RS_step_b33 at hp
  exact x_iret C hH hr d_RS_step_33 hp
set_option maxHeartbeats 4000000 in
set_option maxRecDepth 100000 in
theorem w_RS_step_0 {res : (Int32 ⊕ (Nat × Nat)) × xH} (C : x_C l s0 A0 D R_RS prog_1_method_14_code 4 [] p s m args meth c) (hr : meth.sig.returnType = (some .int)) (hnm : meth.name = "step") (hRf : 8 ≤ R.frames) (hRl : 160 ≤ R.locals)  (l0 : Nat) (l1 : Int32) (l2 : Int32) (hp : f_RS_step l0 l1 l2 h = some res) (hH : x_S s0 D R h H locs cells slots) (hl : lv_has ls 4 [(0, .ref l0), (1, .int l1), (2, .int l2)]) : W p l e R s m args below meth c H locs cells slots (x_Q s0 D below s R (x_oc vI res.1) res.2) (F0 m 0 ls []) := by
  obtain ⟨hx, hb, hown, hts, hK, hml, hW, Z, -⟩ := id C
  unfold f_RS_step at hp
  refine lv_aload_n hx hb d_RS_step_0 rfl (lv_at hl 0 rfl) ?_
  refine lv_iload_n hx hb d_RS_step_1 rfl (lv_at hl 1 rfl) ?_
  refine x_callV (As := [.int l1]) (rest := []) (cv := vA) C hH kc_RS_82 d_RS_step_2 hp (fun o h' e => m_RS_replicaAt Z e) rfl hl.1 (Nat.le_trans (Nat.le_of_ble_eq_true rfl) hRf) (Nat.le_trans (Nat.le_of_ble_eq_true rfl) hRl) (Nat.le_of_ble_eq_true rfl) (fun v1 h H locs cells slots hp hH => ?_)
  refine W.eq (g2 := F0 m 5 ls [.ref v1]) rfl ?_
  refine lv_astore_n (lv' := [(3, .ref v1), (0, .ref l0), (1, .int l1), (2, .int l2)]) hx hb d_RS_step_5 rfl hl (by decide) rfl (fun ls hl => ?_)
  refine lv_iload_n hx hb d_RS_step_6 rfl (lv_at hl 3 rfl) ?_
  refine lv_aload_n hx hb d_RS_step_7 rfl (lv_at hl 1 rfl) ?_
  refine x_gI C hH fl_RS_31 d_RS_step_8 hp (fun v2 hp => ?_)
  refine x_callS (As := [.int l2, .int v2]) (rest := []) (cv := vI) C hH kc_RS_61 d_RS_step_11 hp (fun o h' e => m_RS_index Z e) rfl hl.1 (Nat.le_trans (Nat.le_of_ble_eq_true rfl) hRf) (Nat.le_trans (Nat.le_of_ble_eq_true rfl) hRl) (Nat.le_of_ble_eq_true rfl) (fun v3 h H locs cells slots hp hH => ?_)
  refine W.eq (g2 := F0 m 14 ls [.int v3]) rfl ?_
  refine lv_pop hx hb d_RS_step_14 rfl ?_
  refine lv_aload_n hx hb d_RS_step_15 rfl (lv_at hl 0 rfl) ?_
  refine x_gI C hH fl_RS_173 d_RS_step_16 hp (fun v4 hp => ?_)
  refine lv_if_eq (tgt := 31) hx hb d_RS_step_19 (by decide) (fun hc => ?_) (fun hc => ?_)
  · replace hp := x_ifp hc hp
    refine lv_bipush (v := (-2)) hx hb d_RS_step_31 (by decide) ?_
    exact w_RS_step_33 C hr hnm hRf hRl  (-2) hp hH (lv_sub hl [] rfl)
  · replace hp := x_ifn hc hp
    refine lv_aload_n hx hb d_RS_step_22 rfl (lv_at hl 1 rfl) ?_
    refine lv_aload_n hx hb d_RS_step_23 rfl (lv_at hl 0 rfl) ?_
    refine lv_iload_n hx hb d_RS_step_24 rfl (lv_at hl 3 rfl) ?_
    refine x_callV (As := [.ref v1, .int l2]) (rest := []) (cv := vI) C hH kc_RS_177 d_RS_step_25 hp (fun o h' e => m_RS_advance Z e) rfl hl.1 (Nat.le_trans (Nat.le_of_ble_eq_true rfl) hRf) (Nat.le_trans (Nat.le_of_ble_eq_true rfl) hRl) (Nat.le_of_ble_eq_true rfl) (fun v5 h H locs cells slots hp hH => ?_)
    refine W.eq (g2 := F0 m 28 ls [.int v5]) rfl ?_
    refine lv_goto (tgt := 33) hx hb d_RS_step_28 (by decide) ?_
    exact w_RS_step_33 C hr hnm hRf hRl  v5 hp hH (lv_sub hl [] rfl)
set_option maxRecDepth 100000 in
theorem m_RS_step (Z : x_Z l s0 A0 D) {l0 : Nat} {l1 : Int32} {l2 : Int32} {res : (Int32 ⊕ (Nat × Nat)) × xH} (hp : f_RS_step l0 l1 l2 h = some res) : x_M l s0 D y_RS_step (x_cw y_RS_step prog_1_method_14_code 4 (some .int) []) 8 160 [.ref l0, .int l1, .int l2] h (x_oc vI res.1) res.2 := by
  refine x_M.ofW Z (plainFor_of_name (by decide)) ?_
  intro p e s m below meth c C hnm hr hH
  have hl := lv_entry ([.ref l0, .int l1, .int l2]) (n := 4) (Nat.le_of_ble_eq_true rfl)
  rw [lg_entry_eq]
  generalize (lg_sl ([.ref l0, .int l1, .int l2]) ++ List.replicate (4 - (lg_sl ([.ref l0, .int l1, .int l2])).length) Slot.unset).toArray = ls at hl ⊢
  exact w_RS_step_0 C hr hnm (Nat.le_refl _) (Nat.le_refl _) l0 l1 l2 hp hH hl
/-! ReadSideLaw.step(LReadSide;II[J)I -/
theorem d_law_step_0 : decode method_6_code 0 = .ok (.aload_n 3, 1) := by decide +kernel
theorem d_law_step_1 : decode method_6_code 1 = .ok (.iconst 0, 1) := by decide +kernel
theorem d_law_step_2 : decode method_6_code 2 = .ok (.aload_n 0, 1) := by decide +kernel
theorem d_law_step_3 : decode method_6_code 3 = .ok (.iload_n 1, 1) := by decide +kernel
theorem d_law_step_4 : decode method_6_code 4 = .ok (.iload_n 2, 1) := by decide +kernel
theorem d_law_step_5 : decode method_6_code 5 = .ok (.invokevirtual 26, 3) := by decide +kernel
theorem d_law_step_8 : decode method_6_code 8 = .ok (.i2l, 1) := by decide +kernel
theorem d_law_step_9 : decode method_6_code 9 = .ok (.lastore, 1) := by decide +kernel
theorem d_law_step_10 : decode method_6_code 10 = .ok (.goto 7, 3) := by decide +kernel
theorem d_law_step_13 : decode method_6_code 13 = .ok (.astore 4, 2) := by decide +kernel
theorem d_law_step_15 : decode method_6_code 15 = .ok (.iconst 1, 1) := by decide +kernel
theorem d_law_step_16 : decode method_6_code 16 = .ok (.ireturn, 1) := by decide +kernel
theorem d_law_step_17 : decode method_6_code 17 = .ok (.iconst 0, 1) := by decide +kernel
theorem d_law_step_18 : decode method_6_code 18 = .ok (.ireturn, 1) := by decide +kernel
set_option maxHeartbeats 4000000 in
set_option maxRecDepth 100000 in
theorem w_law_step_0 {res : (Int32 ⊕ (Nat × Nat)) × xH} (C : x_C l s0 A0 D R_law method_6_code 5 [(0, 10, 13, 13)] p s m args meth c) (hr : meth.sig.returnType = (some .int)) (hnm : meth.name = "step") (hRf : 9 ≤ R.frames) (hRl : 191 ≤ R.locals)  (l0 : Nat) (l1 : Int32) (l2 : Int32) (l3 : Nat) (hp : f_law_step l0 l1 l2 l3 h = some res) (hH : x_S s0 D R h H locs cells slots) (hl : lv_has ls 5 [(0, .ref l0), (1, .int l1), (2, .int l2), (3, .ref l3)]) : W p l e R s m args below meth c H locs cells slots (x_Q s0 D below s R (x_oc vI res.1) res.2) (F0 m 0 ls []) := by
  obtain ⟨hx, hb, hown, hts, hK, hml, hW, Z, -⟩ := id C
  unfold f_law_step at hp
  refine lv_aload_n hx hb d_law_step_0 rfl (lv_at hl 3 rfl) ?_
  refine lv_iconst (v := 0) hx hb d_law_step_1 (by decide) ?_
  refine lv_aload_n hx hb d_law_step_2 rfl (lv_at hl 0 rfl) ?_
  refine lv_iload_n hx hb d_law_step_3 rfl (lv_at hl 1 rfl) ?_
  refine lv_iload_n hx hb d_law_step_4 rfl (lv_at hl 2 rfl) ?_
  refine x_callVc (As := [.int l1, .int l2]) (rest := [.int 0, .ref l3]) (cv := vI) C ct_law hH kc_law_26 d_law_step_5 hp (fun o h' e => m_RS_step Z e) rfl hl.1 (Nat.le_trans (Nat.le_of_ble_eq_true rfl) hRf) (Nat.le_trans (Nat.le_of_ble_eq_true rfl) hRl) (Nat.le_of_ble_eq_true rfl) (fun v1 h H locs cells slots hp hH => ?_) (fun a ci h H locs cells slots hp hH => ?_)
  · refine W.eq (g2 := F0 m 8 ls [.int v1, .int 0, .ref l3]) rfl ?_
    refine lv_i2l (v := v1.toInt64) hx hb d_law_step_8 rfl ?_
    refine x_sJ C hH d_law_step_9 hp (fun h H locs hp hH => ?_)
    refine lv_goto (tgt := 17) hx hb d_law_step_10 (by decide) ?_
    refine lv_iconst (v := 0) hx hb d_law_step_17 (by decide) ?_
    exact x_iret C hH hr d_law_step_18 hp
  · by_cases hc10 : ci = 10
    · replace hp := x_ifp hc10 hp
      subst hc10
      refine ⟨13, rfl, ?_⟩
      refine lv_astore (lv' := [(4, .ref a), (0, .ref l0), (1, .int l1), (2, .int l2), (3, .ref l3)]) hx hb d_law_step_13 hl (by decide) rfl (fun ls hl => ?_)
      refine lv_iconst (v := 1) hx hb d_law_step_15 (by decide) ?_
      exact x_iret C hH hr d_law_step_16 hp
    replace hp := x_ifn hc10 hp
    cases hp
set_option maxRecDepth 100000 in
theorem m_law_step (Z : x_Z l s0 A0 D) {l0 : Nat} {l1 : Int32} {l2 : Int32} {l3 : Nat} {res : (Int32 ⊕ (Nat × Nat)) × xH} (hp : f_law_step l0 l1 l2 l3 h = some res) : x_M l s0 D y_law_step (x_cw y_law_step method_6_code 5 (some .int) [(0, 10, 13, 13)]) 9 191 [.ref l0, .int l1, .int l2, .ref l3] h (x_oc vI res.1) res.2 := by
  refine x_M.ofW Z (plainFor_of_name (by decide)) ?_
  intro p e s m below meth c C hnm hr hH
  have hl := lv_entry ([.ref l0, .int l1, .int l2, .ref l3]) (n := 5) (Nat.le_of_ble_eq_true rfl)
  rw [lg_entry_eq]
  generalize (lg_sl ([.ref l0, .int l1, .int l2, .ref l3]) ++ List.replicate (5 - (lg_sl ([.ref l0, .int l1, .int l2, .ref l3])).length) Slot.unset).toArray = ls at hl ⊢
  exact w_law_step_0 C hr hnm (Nat.le_refl _) (Nat.le_refl _) l0 l1 l2 l3 hp hH hl
/-! ReadSide.speed(II)I -/
theorem d_RS_speed_0 : decode prog_1_method_15_code 0 = .ok (.aload_n 0, 1) := by decide +kernel
theorem d_RS_speed_1 : decode prog_1_method_15_code 1 = .ok (.iload_n 1, 1) := by decide +kernel
theorem d_RS_speed_2 : decode prog_1_method_15_code 2 = .ok (.invokevirtual 82, 3) := by decide +kernel
theorem d_RS_speed_5 : decode prog_1_method_15_code 5 = .ok (.astore_n 3, 1) := by decide +kernel
theorem d_RS_speed_6 : decode prog_1_method_15_code 6 = .ok (.iload_n 2, 1) := by decide +kernel
theorem d_RS_speed_7 : decode prog_1_method_15_code 7 = .ok (.i2l, 1) := by decide +kernel
theorem d_RS_speed_8 : decode prog_1_method_15_code 8 = .ok (.lconst 0, 1) := by decide +kernel
theorem d_RS_speed_9 : decode prog_1_method_15_code 9 = .ok (.ldc2_w 181, 3) := by decide +kernel
theorem d_RS_speed_12 : decode prog_1_method_15_code 12 = .ok (.invokestatic 27, 3) := by decide +kernel
theorem d_RS_speed_15 : decode prog_1_method_15_code 15 = .ok (.invokestatic 71, 3) := by decide +kernel
theorem d_RS_speed_18 : decode prog_1_method_15_code 18 = .ok (.aload_n 3, 1) := by decide +kernel
theorem d_RS_speed_19 : decode prog_1_method_15_code 19 = .ok (.getfield 183, 3) := by decide +kernel
theorem d_RS_speed_22 : decode prog_1_method_15_code 22 = .ok (.istore 4, 2) := by decide +kernel
theorem d_RS_speed_24 : decode prog_1_method_15_code 24 = .ok (.aload_n 3, 1) := by decide +kernel
theorem d_RS_speed_25 : decode prog_1_method_15_code 25 = .ok (.iload_n 2, 1) := by decide +kernel
theorem d_RS_speed_26 : decode prog_1_method_15_code 26 = .ok (.putfield 183, 3) := by decide +kernel
theorem d_RS_speed_29 : decode prog_1_method_15_code 29 = .ok (.iload 4, 2) := by decide +kernel
theorem d_RS_speed_31 : decode prog_1_method_15_code 31 = .ok (.ireturn, 1) := by decide +kernel
set_option maxHeartbeats 4000000 in
set_option maxRecDepth 100000 in
theorem w_RS_speed_0 {res : (Int32 ⊕ (Nat × Nat)) × xH} (C : x_C l s0 A0 D R_RS prog_1_method_15_code 5 [] p s m args meth c) (hr : meth.sig.returnType = (some .int)) (hnm : meth.name = "speed") (hRf : 8 ≤ R.frames) (hRl : 158 ≤ R.locals)  (l0 : Nat) (l1 : Int32) (l2 : Int32) (hp : f_RS_speed l0 l1 l2 h = some res) (hH : x_S s0 D R h H locs cells slots) (hl : lv_has ls 5 [(0, .ref l0), (1, .int l1), (2, .int l2)]) : W p l e R s m args below meth c H locs cells slots (x_Q s0 D below s R (x_oc vI res.1) res.2) (F0 m 0 ls []) := by
  obtain ⟨hx, hb, hown, hts, hK, hml, hW, Z, -⟩ := id C
  unfold f_RS_speed at hp
  refine lv_aload_n hx hb d_RS_speed_0 rfl (lv_at hl 0 rfl) ?_
  refine lv_iload_n hx hb d_RS_speed_1 rfl (lv_at hl 1 rfl) ?_
  refine x_callV (As := [.int l1]) (rest := []) (cv := vA) C hH kc_RS_82 d_RS_speed_2 hp (fun o h' e => m_RS_replicaAt Z e) rfl hl.1 (Nat.le_trans (Nat.le_of_ble_eq_true rfl) hRf) (Nat.le_trans (Nat.le_of_ble_eq_true rfl) hRl) (Nat.le_of_ble_eq_true rfl) (fun v1 h H locs cells slots hp hH => ?_)
  refine W.eq (g2 := F0 m 5 ls [.ref v1]) rfl ?_
  refine lv_astore_n (lv' := [(3, .ref v1), (0, .ref l0), (1, .int l1), (2, .int l2)]) hx hb d_RS_speed_5 rfl hl (by decide) rfl (fun ls hl => ?_)
  refine lv_iload_n hx hb d_RS_speed_6 rfl (lv_at hl 3 rfl) ?_
  refine lv_i2l (v := l2.toInt64) hx hb d_RS_speed_7 rfl ?_
  refine lv_lconst (v := 0) hx hb d_RS_speed_8 (by decide) ?_
  refine lv_ldc2 hx hb hown (hts _ k_510) d_RS_speed_9 ?_
  refine x_callS (As := [.long l2.toInt64, .long 0, .long 10]) (rest := []) (cv := vI) C hH kc_RS_27 d_RS_speed_12 hp (fun o h' e => m_RS_isIn Z e) rfl hl.1 (Nat.le_trans (Nat.le_of_ble_eq_true rfl) hRf) (Nat.le_trans (Nat.le_of_ble_eq_true rfl) hRl) (Nat.le_of_ble_eq_true rfl) (fun v2 h H locs cells slots hp hH => ?_)
  refine W.eq (g2 := F0 m 15 ls [.int v2]) rfl ?_
  refine x_callS (As := [.int v2]) (rest := []) (cv := vU) C hH kc_RS_71 d_RS_speed_15 hp (fun o h' e => m_RS_want Z e) rfl hl.1 (Nat.le_trans (Nat.le_of_ble_eq_true rfl) hRf) (Nat.le_trans (Nat.le_of_ble_eq_true rfl) hRl) (Nat.le_of_ble_eq_true rfl) (fun v3 h H locs cells slots hp hH => ?_)
  refine W.eq (g2 := F0 m 18 ls []) rfl ?_
  refine lv_aload_n hx hb d_RS_speed_18 rfl (lv_at hl 0 rfl) ?_
  refine x_gI C hH fl_RS_183 d_RS_speed_19 hp (fun v4 hp => ?_)
  refine lv_istore (lv' := [(4, .int v4), (3, .ref v1), (0, .ref l0), (1, .int l1), (2, .int l2)]) hx hb d_RS_speed_22 hl (by decide) rfl (fun ls hl => ?_)
  refine lv_aload_n hx hb d_RS_speed_24 rfl (lv_at hl 1 rfl) ?_
  refine lv_iload_n hx hb d_RS_speed_25 rfl (lv_at hl 4 rfl) ?_
  refine x_pV C hH fp_RS_183 (fun h => Bool.noConfusion h) d_RS_speed_26 rfl rfl hp (fun h H locs hp hH => ?_)
  refine lv_iload hx hb d_RS_speed_29 (lv_at hl 0 rfl) ?_
  exact x_iret C hH hr d_RS_speed_31 hp
set_option maxRecDepth 100000 in
theorem m_RS_speed (Z : x_Z l s0 A0 D) {l0 : Nat} {l1 : Int32} {l2 : Int32} {res : (Int32 ⊕ (Nat × Nat)) × xH} (hp : f_RS_speed l0 l1 l2 h = some res) : x_M l s0 D y_RS_speed (x_cw y_RS_speed prog_1_method_15_code 5 (some .int) []) 8 158 [.ref l0, .int l1, .int l2] h (x_oc vI res.1) res.2 := by
  refine x_M.ofW Z (plainFor_of_name (by decide)) ?_
  intro p e s m below meth c C hnm hr hH
  have hl := lv_entry ([.ref l0, .int l1, .int l2]) (n := 5) (Nat.le_of_ble_eq_true rfl)
  rw [lg_entry_eq]
  generalize (lg_sl ([.ref l0, .int l1, .int l2]) ++ List.replicate (5 - (lg_sl ([.ref l0, .int l1, .int l2])).length) Slot.unset).toArray = ls at hl ⊢
  exact w_RS_speed_0 C hr hnm (Nat.le_refl _) (Nat.le_refl _) l0 l1 l2 hp hH hl
/-! ReadSideLaw.speed(LReadSide;II[J)I -/
theorem d_law_speed_0 : decode method_7_code 0 = .ok (.aload_n 3, 1) := by decide +kernel
theorem d_law_speed_1 : decode method_7_code 1 = .ok (.iconst 0, 1) := by decide +kernel
theorem d_law_speed_2 : decode method_7_code 2 = .ok (.aload_n 0, 1) := by decide +kernel
theorem d_law_speed_3 : decode method_7_code 3 = .ok (.iload_n 1, 1) := by decide +kernel
theorem d_law_speed_4 : decode method_7_code 4 = .ok (.iload_n 2, 1) := by decide +kernel
theorem d_law_speed_5 : decode method_7_code 5 = .ok (.invokevirtual 29, 3) := by decide +kernel
theorem d_law_speed_8 : decode method_7_code 8 = .ok (.i2l, 1) := by decide +kernel
theorem d_law_speed_9 : decode method_7_code 9 = .ok (.lastore, 1) := by decide +kernel
theorem d_law_speed_10 : decode method_7_code 10 = .ok (.goto 11, 3) := by decide +kernel
theorem d_law_speed_13 : decode method_7_code 13 = .ok (.astore 4, 2) := by decide +kernel
theorem d_law_speed_15 : decode method_7_code 15 = .ok (.iconst 1, 1) := by decide +kernel
theorem d_law_speed_16 : decode method_7_code 16 = .ok (.ireturn, 1) := by decide +kernel
theorem d_law_speed_17 : decode method_7_code 17 = .ok (.astore 4, 2) := by decide +kernel
theorem d_law_speed_19 : decode method_7_code 19 = .ok (.iconst 2, 1) := by decide +kernel
theorem d_law_speed_20 : decode method_7_code 20 = .ok (.ireturn, 1) := by decide +kernel
theorem d_law_speed_21 : decode method_7_code 21 = .ok (.iconst 0, 1) := by decide +kernel
theorem d_law_speed_22 : decode method_7_code 22 = .ok (.ireturn, 1) := by decide +kernel
set_option maxHeartbeats 4000000 in
set_option maxRecDepth 100000 in
theorem w_law_speed_0 {res : (Int32 ⊕ (Nat × Nat)) × xH} (C : x_C l s0 A0 D R_law method_7_code 5 [(0, 10, 13, 13), (0, 10, 17, 15)] p s m args meth c) (hr : meth.sig.returnType = (some .int)) (hnm : meth.name = "speed") (hRf : 9 ≤ R.frames) (hRl : 190 ≤ R.locals)  (l0 : Nat) (l1 : Int32) (l2 : Int32) (l3 : Nat) (hp : f_law_speed l0 l1 l2 l3 h = some res) (hH : x_S s0 D R h H locs cells slots) (hl : lv_has ls 5 [(0, .ref l0), (1, .int l1), (2, .int l2), (3, .ref l3)]) : W p l e R s m args below meth c H locs cells slots (x_Q s0 D below s R (x_oc vI res.1) res.2) (F0 m 0 ls []) := by
  obtain ⟨hx, hb, hown, hts, hK, hml, hW, Z, -⟩ := id C
  unfold f_law_speed at hp
  refine lv_aload_n hx hb d_law_speed_0 rfl (lv_at hl 3 rfl) ?_
  refine lv_iconst (v := 0) hx hb d_law_speed_1 (by decide) ?_
  refine lv_aload_n hx hb d_law_speed_2 rfl (lv_at hl 0 rfl) ?_
  refine lv_iload_n hx hb d_law_speed_3 rfl (lv_at hl 1 rfl) ?_
  refine lv_iload_n hx hb d_law_speed_4 rfl (lv_at hl 2 rfl) ?_
  refine x_callVc (As := [.int l1, .int l2]) (rest := [.int 0, .ref l3]) (cv := vI) C ct_law hH kc_law_29 d_law_speed_5 hp (fun o h' e => m_RS_speed Z e) rfl hl.1 (Nat.le_trans (Nat.le_of_ble_eq_true rfl) hRf) (Nat.le_trans (Nat.le_of_ble_eq_true rfl) hRl) (Nat.le_of_ble_eq_true rfl) (fun v1 h H locs cells slots hp hH => ?_) (fun a ci h H locs cells slots hp hH => ?_)
  · refine W.eq (g2 := F0 m 8 ls [.int v1, .int 0, .ref l3]) rfl ?_
    refine lv_i2l (v := v1.toInt64) hx hb d_law_speed_8 rfl ?_
    refine x_sJ C hH d_law_speed_9 hp (fun h H locs hp hH => ?_)
    refine lv_goto (tgt := 21) hx hb d_law_speed_10 (by decide) ?_
    refine lv_iconst (v := 0) hx hb d_law_speed_21 (by decide) ?_
    exact x_iret C hH hr d_law_speed_22 hp
  · by_cases hc10 : ci = 10
    · replace hp := x_ifp hc10 hp
      subst hc10
      refine ⟨13, rfl, ?_⟩
      refine lv_astore (lv' := [(4, .ref a), (0, .ref l0), (1, .int l1), (2, .int l2), (3, .ref l3)]) hx hb d_law_speed_13 hl (by decide) rfl (fun ls hl => ?_)
      refine lv_iconst (v := 1) hx hb d_law_speed_15 (by decide) ?_
      exact x_iret C hH hr d_law_speed_16 hp
    replace hp := x_ifn hc10 hp
    by_cases hc11 : ci = 11
    · replace hp := x_ifp hc11 hp
      subst hc11
      refine ⟨17, rfl, ?_⟩
      refine lv_astore (lv' := [(4, .ref a), (0, .ref l0), (1, .int l1), (2, .int l2), (3, .ref l3)]) hx hb d_law_speed_17 hl (by decide) rfl (fun ls hl => ?_)
      refine lv_iconst (v := 2) hx hb d_law_speed_19 (by decide) ?_
      exact x_iret C hH hr d_law_speed_20 hp
    replace hp := x_ifn hc11 hp
    cases hp
set_option maxRecDepth 100000 in
theorem m_law_speed (Z : x_Z l s0 A0 D) {l0 : Nat} {l1 : Int32} {l2 : Int32} {l3 : Nat} {res : (Int32 ⊕ (Nat × Nat)) × xH} (hp : f_law_speed l0 l1 l2 l3 h = some res) : x_M l s0 D y_law_speed (x_cw y_law_speed method_7_code 5 (some .int) [(0, 10, 13, 13), (0, 10, 17, 15)]) 9 190 [.ref l0, .int l1, .int l2, .ref l3] h (x_oc vI res.1) res.2 := by
  refine x_M.ofW Z (plainFor_of_name (by decide)) ?_
  intro p e s m below meth c C hnm hr hH
  have hl := lv_entry ([.ref l0, .int l1, .int l2, .ref l3]) (n := 5) (Nat.le_of_ble_eq_true rfl)
  rw [lg_entry_eq]
  generalize (lg_sl ([.ref l0, .int l1, .int l2, .ref l3]) ++ List.replicate (5 - (lg_sl ([.ref l0, .int l1, .int l2, .ref l3])).length) Slot.unset).toArray = ls at hl ⊢
  exact w_law_speed_0 C hr hnm (Nat.le_refl _) (Nat.le_refl _) l0 l1 l2 l3 hp hH hl
/-! ReadSide.fail(LReadSide$Read;)V -/
theorem d_RS_fail_0 : decode prog_1_method_24_code 0 = .ok (.aload_n 1, 1) := by decide +kernel
theorem d_RS_fail_1 : decode prog_1_method_24_code 1 = .ok (.iconst 2, 1) := by decide +kernel
theorem d_RS_fail_2 : decode prog_1_method_24_code 2 = .ok (.putfield 236, 3) := by decide +kernel
theorem d_RS_fail_5 : decode prog_1_method_24_code 5 = .ok (.aload_n 1, 1) := by decide +kernel
theorem d_RS_fail_6 : decode prog_1_method_24_code 6 = .ok (.aload_n 0, 1) := by decide +kernel
theorem d_RS_fail_7 : decode prog_1_method_24_code 7 = .ok (.getfield 188, 3) := by decide +kernel
theorem d_RS_fail_10 : decode prog_1_method_24_code 10 = .ok (.putfield 256, 3) := by decide +kernel
theorem d_RS_fail_13 : decode prog_1_method_24_code 13 = .ok (.aload_n 0, 1) := by decide +kernel
theorem d_RS_fail_14 : decode prog_1_method_24_code 14 = .ok (.dup, 1) := by decide +kernel
theorem d_RS_fail_15 : decode prog_1_method_24_code 15 = .ok (.getfield 260, 3) := by decide +kernel
theorem d_RS_fail_18 : decode prog_1_method_24_code 18 = .ok (.iconst 1, 1) := by decide +kernel
theorem d_RS_fail_19 : decode prog_1_method_24_code 19 = .ok (.iadd, 1) := by decide +kernel
theorem d_RS_fail_20 : decode prog_1_method_24_code 20 = .ok (.putfield 260, 3) := by decide +kernel
theorem d_RS_fail_23 : decode prog_1_method_24_code 23 = .ok (.return_, 1) := by decide +kernel
set_option maxHeartbeats 4000000 in
set_option maxRecDepth 100000 in
theorem w_RS_fail_0 {res : (Unit ⊕ (Nat × Nat)) × xH} (C : x_C l s0 A0 D R_RS prog_1_method_24_code 2 [] p s m args meth c) (hr : meth.sig.returnType = none) (hnm : meth.name = "fail") (hRf : 0 ≤ R.frames) (hRl : 0 ≤ R.locals)  (l0 : Nat) (l1 : Nat) (hp : f_RS_fail l0 l1 h = some res) (hH : x_S s0 D R h H locs cells slots) (hl : lv_has ls 2 [(0, .ref l0), (1, .ref l1)]) : W p l e R s m args below meth c H locs cells slots (x_Q s0 D below s R (x_oc vU res.1) res.2) (F0 m 0 ls []) := by
  obtain ⟨hx, hb, hown, hts, hK, hml, hW, Z, -⟩ := id C
  unfold f_RS_fail at hp
  refine lv_aload_n hx hb d_RS_fail_0 rfl (lv_at hl 1 rfl) ?_
  refine lv_iconst (v := 2) hx hb d_RS_fail_1 (by decide) ?_
  refine x_pV C hH fp_RS_236 (fun h => Bool.noConfusion h) d_RS_fail_2 rfl rfl hp (fun h H locs hp hH => ?_)
  refine lv_aload_n hx hb d_RS_fail_5 rfl (lv_at hl 1 rfl) ?_
  refine lv_aload_n hx hb d_RS_fail_6 rfl (lv_at hl 0 rfl) ?_
  refine x_gJ C hH fl_RS_188 d_RS_fail_7 hp (fun v1 hp => ?_)
  refine x_pV C hH fp_RS_256 (fun h => Bool.noConfusion h) d_RS_fail_10 rfl rfl hp (fun h H locs hp hH => ?_)
  refine lv_aload_n hx hb d_RS_fail_13 rfl (lv_at hl 0 rfl) ?_
  refine lv_dup hx hb d_RS_fail_14 rfl ?_
  refine x_gI C hH fl_RS_260 d_RS_fail_15 hp (fun v2 hp => ?_)
  refine lv_iconst (v := 1) hx hb d_RS_fail_18 (by decide) ?_
  refine lv_iadd hx hb d_RS_fail_19 ?_
  refine x_pV C hH fp_RS_260 (fun h => Bool.noConfusion h) d_RS_fail_20 rfl rfl hp (fun h H locs hp hH => ?_)
  exact x_vret C hH hr d_RS_fail_23 hp
set_option maxRecDepth 100000 in
theorem m_RS_fail (Z : x_Z l s0 A0 D) {l0 : Nat} {l1 : Nat} {res : (Unit ⊕ (Nat × Nat)) × xH} (hp : f_RS_fail l0 l1 h = some res) : x_M l s0 D y_RS_fail (x_cw y_RS_fail prog_1_method_24_code 2 none []) 0 0 [.ref l0, .ref l1] h (x_oc vU res.1) res.2 := by
  refine x_M.ofW Z (plainFor_of_name (by decide)) ?_
  intro p e s m below meth c C hnm hr hH
  have hl := lv_entry ([.ref l0, .ref l1]) (n := 2) (Nat.le_of_ble_eq_true rfl)
  rw [lg_entry_eq]
  generalize (lg_sl ([.ref l0, .ref l1]) ++ List.replicate (2 - (lg_sl ([.ref l0, .ref l1])).length) Slot.unset).toArray = ls at hl ⊢
  exact w_RS_fail_0 C hr hnm (Nat.le_refl _) (Nat.le_refl _) l0 l1 hp hH hl
end GEN
