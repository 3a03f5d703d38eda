section GEN
variable {p : Program} {l : Launch} {e : Env} {R : Room} {s : State} {m : MethodId} {args : Array Value} {below : List Frame} {meth : Method} {c : Code} {H : Heap} {locs : List Loc} {cells slots : Nat} {ls : Array Slot} {D : xD} {s0 : State} {A0 : Array Value} {h : xH}
/-! ReadSide$Vector.<init>()V -/
theorem d_Vec_init_0 : decode prog_9_method_1_code 0 = .ok (.aload_n 0, 1) := by decide +kernel
theorem d_Vec_init_1 : decode prog_9_method_1_code 1 = .ok (.invokespecial 1, 3) := by decide +kernel
theorem d_Vec_init_4 : decode prog_9_method_1_code 4 = .ok (.aload_n 0, 1) := by decide +kernel
theorem d_Vec_init_5 : decode prog_9_method_1_code 5 = .ok (.iconst 3, 1) := by decide +kernel
theorem d_Vec_init_6 : decode prog_9_method_1_code 6 = .ok (.newarray .int, 2) := by decide +kernel
theorem d_Vec_init_8 : decode prog_9_method_1_code 8 = .ok (.putfield 7, 3) := by decide +kernel
theorem d_Vec_init_11 : decode prog_9_method_1_code 11 = .ok (.return_, 1) := by decide +kernel
set_option maxHeartbeats 4000000 in
set_option maxRecDepth 100000 in
theorem w_Vec_init_0 {res : (Unit ⊕ (Nat × Nat)) × xH} (C : x_C l s0 A0 D R_Vec prog_9_method_1_code 1 [] p s m args meth c) (hr : meth.sig.returnType = none) (hnm : meth.name = "<init>") (hRf : 1 ≤ R.frames) (hRl : 40 ≤ R.locals)  (l0 : Nat) (hp : f_Vec_init l0 h = some res) (hH : x_S s0 D R h H locs cells slots) (hl : lv_has ls 1 [(0, .ref l0)]) : W p l e R s m args below meth c H locs cells slots (x_Q s0 D below s R (x_oc vU res.1) res.2) (F0 m 0 ls []) := by
  obtain ⟨hx, hb, hown, hts, hK, hml, hW, Z, -⟩ := id C
  unfold f_Vec_init at hp
  refine lv_aload_n hx hb d_Vec_init_0 rfl (lv_at hl 0 rfl) ?_
  refine W.objInit hx hb hown (hts _ oi_Vec_1) (hts _ k_27) (hts _ k_28) rfl (by rw [hml]; exact hl.1) rfl d_Vec_init_1 (Nat.le_trans (Nat.le_of_ble_eq_true rfl) hRf) (Nat.le_trans (Nat.le_of_ble_eq_true rfl) hRl) ?_
  refine W.eq (g2 := F0 m 4 ls []) rfl ?_
  refine lv_aload_n hx hb d_Vec_init_4 rfl (lv_at hl 0 rfl) ?_
  refine lv_iconst (v := 3) hx hb d_Vec_init_5 (by decide) ?_
  refine x_nAI C hH k_57 d_Vec_init_6 hp (fun a1 h H cells slots hp hH => ?_)
  refine x_pV C hH fp_Vec_7 (fun _ => hnm) d_Vec_init_8 rfl rfl hp (fun h H locs hp hH => ?_)
  exact x_vret C hH hr d_Vec_init_11 hp
set_option maxRecDepth 100000 in
theorem m_Vec_init (Z : x_Z l s0 A0 D) {l0 : Nat} {res : (Unit ⊕ (Nat × Nat)) × xH} (hp : f_Vec_init l0 h = some res) : x_M l s0 D y_Vec_init (x_cw y_Vec_init prog_9_method_1_code 1 none []) 1 40 [.ref l0] h (x_oc vU res.1) res.2 := by
  refine x_M.ofW Z (plainFor_of_name (by decide)) ?_
  intro p e s m below meth c C hnm hr hH
  have hl := lv_entry ([.ref l0]) (n := 1) (Nat.le_of_ble_eq_true rfl)
  rw [lg_entry_eq]
  generalize (lg_sl ([.ref l0]) ++ List.replicate (1 - (lg_sl ([.ref l0])).length) Slot.unset).toArray = ls at hl ⊢
  exact w_Vec_init_0 C hr hnm (Nat.le_refl _) (Nat.le_refl _) l0 hp hH hl
/-! ReadSide$Session.<init>()V -/
theorem d_Sess_init_0 : decode prog_7_method_1_code 0 = .ok (.aload_n 0, 1) := by decide +kernel
theorem d_Sess_init_1 : decode prog_7_method_1_code 1 = .ok (.invokespecial 1, 3) := by decide +kernel
theorem d_Sess_init_4 : decode prog_7_method_1_code 4 = .ok (.aload_n 0, 1) := by decide +kernel
theorem d_Sess_init_5 : decode prog_7_method_1_code 5 = .ok (.new 7, 3) := by decide +kernel
theorem d_Sess_init_8 : decode prog_7_method_1_code 8 = .ok (.dup, 1) := by decide +kernel
theorem d_Sess_init_9 : decode prog_7_method_1_code 9 = .ok (.invokespecial 9, 3) := by decide +kernel
theorem d_Sess_init_12 : decode prog_7_method_1_code 12 = .ok (.putfield 10, 3) := by decide +kernel
theorem d_Sess_init_15 : decode prog_7_method_1_code 15 = .ok (.aload_n 0, 1) := by decide +kernel
theorem d_Sess_init_16 : decode prog_7_method_1_code 16 = .ok (.new 7, 3) := by decide +kernel
theorem d_Sess_init_19 : decode prog_7_method_1_code 19 = .ok (.dup, 1) := by decide +kernel
theorem d_Sess_init_20 : decode prog_7_method_1_code 20 = .ok (.invokespecial 9, 3) := by decide +kernel
theorem d_Sess_init_23 : decode prog_7_method_1_code 23 = .ok (.putfield 16, 3) := by decide +kernel
theorem d_Sess_init_26 : decode prog_7_method_1_code 26 = .ok (.return_, 1) := by decide +kernel
set_option maxHeartbeats 4000000 in
set_option maxRecDepth 100000 in
theorem w_Sess_init_0 {res : (Unit ⊕ (Nat × Nat)) × xH} (C : x_C l s0 A0 D R_Sess prog_7_method_1_code 1 [] p s m args meth c) (hr : meth.sig.returnType = none) (hnm : meth.name = "<init>") (hRf : 2 ≤ R.frames) (hRl : 68 ≤ R.locals)  (l0 : Nat) (hp : f_Sess_init l0 h = some res) (hH : x_S s0 D R h H locs cells slots) (hl : lv_has ls 1 [(0, .ref l0)]) : W p l e R s m args below meth c H locs cells slots (x_Q s0 D below s R (x_oc vU res.1) res.2) (F0 m 0 ls []) := by
  obtain ⟨hx, hb, hown, hts, hK, hml, hW, Z, -⟩ := id C
  unfold f_Sess_init at hp
  refine lv_aload_n hx hb d_Sess_init_0 rfl (lv_at hl 0 rfl) ?_
  refine W.objInit hx hb hown (hts _ oi_Sess_1) (hts _ k_27) (hts _ k_28) rfl (by rw [hml]; exact hl.1) rfl d_Sess_init_1 (Nat.le_trans (Nat.le_of_ble_eq_true rfl) hRf) (Nat.le_trans (Nat.le_of_ble_eq_true rfl) hRl) ?_
  refine W.eq (g2 := F0 m 4 ls []) rfl ?_
  refine lv_aload_n hx hb d_Sess_init_4 rfl (lv_at hl 0 rfl) ?_
  refine x_nO C hH nw_Sess_7 d_Sess_init_5 hp (fun a1 h H cells slots hp hH => ?_)
  refine lv_dup hx hb d_Sess_init_8 rfl ?_
  refine x_callI (As := []) (rest := [.ref a1, .ref l0]) (cv := vU) C hH kc_Sess_9 d_Sess_init_9 hp (fun o h' e => m_Vec_init Z e) rfl hl.1 (Nat.le_trans (Nat.le_of_ble_eq_true rfl) hRf) (Nat.le_trans (Nat.le_of_ble_eq_true rfl) hRl) (Nat.le_of_ble_eq_true rfl) (fun v2 h H locs cells slots hp hH => ?_)
  refine W.eq (g2 := F0 m 12 ls [.ref a1, .ref l0]) rfl ?_
  refine x_pV C hH fp_Sess_10 (fun _ => hnm) d_Sess_init_12 rfl rfl hp (fun h H locs hp hH => ?_)
  refine lv_aload_n hx hb d_Sess_init_15 rfl (lv_at hl 0 rfl) ?_
  refine x_nO C hH nw_Sess_7 d_Sess_init_16 hp (fun a3 h H cells slots hp hH => ?_)
  refine lv_dup hx hb d_Sess_init_19 rfl ?_
  refine x_callI (As := []) (rest := [.ref a3, .ref l0]) (cv := vU) C hH kc_Sess_9 d_Sess_init_20 hp (fun o h' e => m_Vec_init Z e) rfl hl.1 (Nat.le_trans (Nat.le_of_ble_eq_true rfl) hRf) (Nat.le_trans (Nat.le_of_ble_eq_true rfl) hRl) (Nat.le_of_ble_eq_true rfl) (fun v4 h H locs cells slots hp hH => ?_)
  refine W.eq (g2 := F0 m 23 ls [.ref a3, .ref l0]) rfl ?_
  refine x_pV C hH fp_Sess_16 (fun _ => hnm) d_Sess_init_23 rfl rfl hp (fun h H locs hp hH => ?_)
  exact x_vret C hH hr d_Sess_init_26 hp
set_option maxRecDepth 100000 in
theorem m_Sess_init (Z : x_Z l s0 A0 D) {l0 : Nat} {res : (Unit ⊕ (Nat × Nat)) × xH} (hp : f_Sess_init l0 h = some res) : x_M l s0 D y_Sess_init (x_cw y_Sess_init prog_7_method_1_code 1 none []) 2 68 [.ref l0] h (x_oc vU res.1) res.2 := by
  refine x_M.ofW Z (plainFor_of_name (by decide)) ?_
  intro p e s m below meth c C hnm hr hH
  have hl := lv_entry ([.ref l0]) (n := 1) (Nat.le_of_ble_eq_true rfl)
  rw [lg_entry_eq]
  generalize (lg_sl ([.ref l0]) ++ List.replicate (1 - (lg_sl ([.ref l0])).length) Slot.unset).toArray = ls at hl ⊢
  exact w_Sess_init_0 C hr hnm (Nat.le_refl _) (Nat.le_refl _) l0 hp hH hl
/-! ReadSide$Item.<init>()V -/
theorem d_Item_init_0 : decode prog_3_method_1_code 0 = .ok (.aload_n 0, 1) := by decide +kernel
theorem d_Item_init_1 : decode prog_3_method_1_code 1 = .ok (.invokespecial 3, 3) := by decide +kernel
theorem d_Item_init_4 : decode prog_3_method_1_code 4 = .ok (.aload_n 0, 1) := by decide +kernel
theorem d_Item_init_5 : decode prog_3_method_1_code 5 = .ok (.iconst 1, 1) := by decide +kernel
theorem d_Item_init_6 : decode prog_3_method_1_code 6 = .ok (.putfield 9, 3) := by decide +kernel
theorem d_Item_init_9 : decode prog_3_method_1_code 9 = .ok (.aload_n 0, 1) := by decide +kernel
theorem d_Item_init_10 : decode prog_3_method_1_code 10 = .ok (.bipush 10, 2) := by decide +kernel
theorem d_Item_init_12 : decode prog_3_method_1_code 12 = .ok (.newarray .int, 2) := by decide +kernel
theorem d_Item_init_14 : decode prog_3_method_1_code 14 = .ok (.putfield 15, 3) := by decide +kernel
theorem d_Item_init_17 : decode prog_3_method_1_code 17 = .ok (.return_, 1) := by decide +kernel
set_option maxHeartbeats 4000000 in
set_option maxRecDepth 100000 in
theorem w_Item_init_0 {res : (Unit ⊕ (Nat × Nat)) × xH} (C : x_C l s0 A0 D R_Item prog_3_method_1_code 1 [] p s m args meth c) (hr : meth.sig.returnType = none) (hnm : meth.name = "<init>") (hRf : 1 ≤ R.frames) (hRl : 40 ≤ R.locals)  (l0 : Nat) (hp : f_Item_init l0 h = some res) (hH : x_S s0 D R h H locs cells slots) (hl : lv_has ls 1 [(0, .ref l0)]) : W p l e R s m args below meth c H locs cells slots (x_Q s0 D below s R (x_oc vU res.1) res.2) (F0 m 0 ls []) := by
  obtain ⟨hx, hb, hown, hts, hK, hml, hW, Z, -⟩ := id C
  unfold f_Item_init at hp
  refine lv_aload_n hx hb d_Item_init_0 rfl (lv_at hl 0 rfl) ?_
  refine W.objInit hx hb hown (hts _ oi_Item_3) (hts _ k_27) (hts _ k_28) rfl (by rw [hml]; exact hl.1) rfl d_Item_init_1 (Nat.le_trans (Nat.le_of_ble_eq_true rfl) hRf) (Nat.le_trans (Nat.le_of_ble_eq_true rfl) hRl) ?_
  refine W.eq (g2 := F0 m 4 ls []) rfl ?_
  refine lv_aload_n hx hb d_Item_init_4 rfl (lv_at hl 0 rfl) ?_
  refine lv_iconst (v := 1) hx hb d_Item_init_5 (by decide) ?_
  refine x_pV C hH fp_Item_9 (fun h => Bool.noConfusion h) d_Item_init_6 rfl rfl hp (fun h H locs hp hH => ?_)
  refine lv_aload_n hx hb d_Item_init_9 rfl (lv_at hl 0 rfl) ?_
  refine lv_bipush (v := 10) hx hb d_Item_init_10 (by decide) ?_
  refine x_nAI C hH k_57 d_Item_init_12 hp (fun a1 h H cells slots hp hH => ?_)
  refine x_pV C hH fp_Item_15 (fun _ => hnm) d_Item_init_14 rfl rfl hp (fun h H locs hp hH => ?_)
  exact x_vret C hH hr d_Item_init_17 hp
set_option maxRecDepth 100000 in
theorem m_Item_init (Z : x_Z l s0 A0 D) {l0 : Nat} {res : (Unit ⊕ (Nat × Nat)) × xH} (hp : f_Item_init l0 h = some res) : x_M l s0 D y_Item_init (x_cw y_Item_init prog_3_method_1_code 1 none []) 1 40 [.ref l0] h (x_oc vU res.1) res.2 := by
  refine x_M.ofW Z (plainFor_of_name (by decide)) ?_
  intro p e s m below meth c C hnm hr hH
  have hl := lv_entry ([.ref l0]) (n := 1) (Nat.le_of_ble_eq_true rfl)
  rw [lg_entry_eq]
  generalize (lg_sl ([.ref l0]) ++ List.replicate (1 - (lg_sl ([.ref l0])).length) Slot.unset).toArray = ls at hl ⊢
  exact w_Item_init_0 C hr hnm (Nat.le_refl _) (Nat.le_refl _) l0 hp hH hl
/-! ReadSide$State.<init>()V -/
theorem d_St_init_0 : decode prog_8_method_1_code 0 = .ok (.aload_n 0, 1) := by decide +kernel
theorem d_St_init_1 : decode prog_8_method_1_code 1 = .ok (.invokespecial 3, 3) := by decide +kernel
theorem d_St_init_4 : decode prog_8_method_1_code 4 = .ok (.aload_n 0, 1) := by decide +kernel
theorem d_St_init_5 : decode prog_8_method_1_code 5 = .ok (.bipush 30, 2) := by decide +kernel
theorem d_St_init_7 : decode prog_8_method_1_code 7 = .ok (.anewarray 9, 3) := by decide +kernel
theorem d_St_init_10 : decode prog_8_method_1_code 10 = .ok (.putfield 11, 3) := by decide +kernel
theorem d_St_init_13 : decode prog_8_method_1_code 13 = .ok (.aload_n 0, 1) := by decide +kernel
theorem d_St_init_14 : decode prog_8_method_1_code 14 = .ok (.bipush 10, 2) := by decide +kernel
theorem d_St_init_16 : decode prog_8_method_1_code 16 = .ok (.newarray .long, 2) := by decide +kernel
theorem d_St_init_18 : decode prog_8_method_1_code 18 = .ok (.putfield 17, 3) := by decide +kernel
theorem d_St_init_21 : decode prog_8_method_1_code 21 = .ok (.aload_n 0, 1) := by decide +kernel
theorem d_St_init_22 : decode prog_8_method_1_code 22 = .ok (.bipush 10, 2) := by decide +kernel
theorem d_St_init_24 : decode prog_8_method_1_code 24 = .ok (.newarray .int, 2) := by decide +kernel
theorem d_St_init_26 : decode prog_8_method_1_code 26 = .ok (.putfield 21, 3) := by decide +kernel
theorem d_St_init_29 : decode prog_8_method_1_code 29 = .ok (.aload_n 0, 1) := by decide +kernel
theorem d_St_init_30 : decode prog_8_method_1_code 30 = .ok (.new 25, 3) := by decide +kernel
theorem d_St_init_33 : decode prog_8_method_1_code 33 = .ok (.dup, 1) := by decide +kernel
theorem d_St_init_34 : decode prog_8_method_1_code 34 = .ok (.invokespecial 27, 3) := by decide +kernel
theorem d_St_init_37 : decode prog_8_method_1_code 37 = .ok (.putfield 28, 3) := by decide +kernel
theorem d_St_init_40 : decode prog_8_method_1_code 40 = .ok (.iconst 0, 1) := by decide +kernel
theorem d_St_init_41 : decode prog_8_method_1_code 41 = .ok (.istore_n 1, 1) := by decide +kernel
theorem d_St_init_42 : decode prog_8_method_1_code 42 = .ok (.iload_n 1, 1) := by decide +kernel
theorem d_St_init_43 : decode prog_8_method_1_code 43 = .ok (.bipush 30, 2) := by decide +kernel
theorem d_St_init_45 : decode prog_8_method_1_code 45 = .ok (.if_icmp .ge 22, 3) := by decide +kernel
theorem d_St_init_48 : decode prog_8_method_1_code 48 = .ok (.aload_n 0, 1) := by decide +kernel
theorem d_St_init_49 : decode prog_8_method_1_code 49 = .ok (.getfield 11, 3) := by decide +kernel
theorem d_St_init_52 : decode prog_8_method_1_code 52 = .ok (.iload_n 1, 1) := by decide +kernel
theorem d_St_init_53 : decode prog_8_method_1_code 53 = .ok (.new 9, 3) := by decide +kernel
theorem d_St_init_56 : decode prog_8_method_1_code 56 = .ok (.dup, 1) := by decide +kernel
theorem d_St_init_57 : decode prog_8_method_1_code 57 = .ok (.invokespecial 32, 3) := by decide +kernel
theorem d_St_init_60 : decode prog_8_method_1_code 60 = .ok (.aastore, 1) := by decide +kernel
theorem d_St_init_61 : decode prog_8_method_1_code 61 = .ok (.iinc 1 1, 3) := by decide +kernel
theorem d_St_init_64 : decode prog_8_method_1_code 64 = .ok (.goto (-22), 3) := by decide +kernel
theorem d_St_init_67 : decode prog_8_method_1_code 67 = .ok (.return_, 1) := by decide +kernel
set_option maxHeartbeats 4000000 in
set_option maxRecDepth 100000 in
theorem w_St_init_42 {res : (Unit ⊕ (Nat × Nat)) × xH} (C : x_C l s0 A0 D R_St prog_8_method_1_code 2 [] p s m args meth c) (hr : meth.sig.returnType = none) (hnm : meth.name = "<init>") (hRf : 2 ≤ R.frames) (hRl : 68 ≤ R.locals) {k42 : Nat → Int32 → xM Unit} (hs42 : ∀ (l0 : Nat) (l1 : Int32) (h : xH) (H : Heap) (locs : List Loc) (cells slots : Nat) (ls : Array Slot), k42 l0 l1 h = some res → x_S s0 D R h H locs cells slots → lv_has ls 2 [(0, .ref l0), (1, .int l1)] → W p l e R s m args below meth c H locs cells slots (x_Q s0 D below s R (x_oc vU res.1) res.2) (F0 m 42 ls [])) (l0 : Nat) (l1 : Int32) (hp : f_St_init_b42 k42 l0 l1 h = some res) (hH : x_S s0 D R h H locs cells slots) (hl : lv_has ls 2 [(0, .ref l0), (1, .int l1)]) : W p l e R s m args below meth c H locs cells slots (x_Q s0 D below s R (x_oc vU res.1) res.2) (F0 m 42 ls []) := by
  obtain ⟨hx, hb, hown, hts, hK, hml, hW, Z, -⟩ := id C
  unfold f_St_init_b42 at hp
  refine lv_iload_n hx hb d_St_init_42 rfl (lv_at hl 1 rfl) ?_
  refine lv_bipush (v := 30) hx hb d_St_init_43 (by decide) ?_
  refine lv_icmp_ge (tgt := 67) hx hb d_St_init_45 (by decide) (fun hc => ?_) (fun hc => ?_)
  · replace hp := x_ifp hc hp
    exact x_vret C hH hr d_St_init_67 hp
  · replace hp := x_ifn hc hp
    refine lv_aload_n hx hb d_St_init_48 rfl (lv_at hl 0 rfl) ?_
    refine x_gA C hH fl_St_11 d_St_init_49 hp (fun v1 hp => ?_)
    refine lv_iload_n hx hb d_St_init_52 rfl (lv_at hl 1 rfl) ?_
    refine x_nO C hH nw_St_9 d_St_init_53 hp (fun a2 h H cells slots hp hH => ?_)
    refine lv_dup hx hb d_St_init_56 rfl ?_
    refine x_callI (As := []) (rest := [.ref a2, .int l1, .ref v1]) (cv := vU) C hH kc_St_32 d_St_init_57 hp (fun o h' e => m_Item_init Z e) rfl hl.1 (Nat.le_trans (Nat.le_of_ble_eq_true rfl) hRf) (Nat.le_trans (Nat.le_of_ble_eq_true rfl) hRl) (Nat.le_of_ble_eq_true rfl) (fun v3 h H locs cells slots hp hH => ?_)
    refine W.eq (g2 := F0 m 60 ls [.ref a2, .int l1, .ref v1]) rfl ?_
    refine x_sA C hH (by decide) d_St_init_60 hp (fun h H locs hp hH => ?_)
    refine lv_iinc (v := (l1 + 1)) (lv' := [(1, .int (l1 + 1)), (0, .ref l0)]) hx hb d_St_init_61 hl (k := 1) rfl rfl (by decide) rfl (fun ls hl => ?_)
    refine lv_goto (tgt := 42) hx hb d_St_init_64 (by decide) ?_
    exact hs42 l0 (l1 + 1) _ _ _ _ _ _ hp hH (lv_sub hl [1, 0] rfl)
theorem w_St_init_h42 {res : (Unit ⊕ (Nat × Nat)) × xH} (C : x_C l s0 A0 D R_St prog_8_method_1_code 2 [] p s m args meth c) (hr : meth.sig.returnType = none) (hnm : meth.name = "<init>") (hRf : 2 ≤ R.frames) (hRl : 68 ≤ R.locals)  : ∀ (n : Nat) (l0 : Nat) (l1 : Int32) (h : xH) (H : Heap) (locs : List Loc) (cells slots : Nat) (ls : Array Slot), f_St_init_h42 n l0 l1 h = some res → x_S s0 D R h H locs cells slots → lv_has ls 2 [(0, .ref l0), (1, .int l1)] → W p l e R s m args below meth c H locs cells slots (x_Q s0 D below s R (x_oc vU res.1) res.2) (F0 m 42 ls []) := by
  intro n
  induction n with
  | zero => intro l0 l1 h H locs cells slots ls hp hH hl; cases hp
  | succ n ih => intro l0 l1 h H locs cells slots ls hp hH hl; exact w_St_init_42 C hr hnm hRf hRl ih l0 l1 hp hH hl
set_option maxHeartbeats 4000000 in
set_option maxRecDepth 100000 in
theorem w_St_init_0 {res : (Unit ⊕ (Nat × Nat)) × xH} (C : x_C l s0 A0 D R_St prog_8_method_1_code 2 [] p s m args meth c) (hr : meth.sig.returnType = none) (hnm : meth.name = "<init>") (hRf : 2 ≤ R.frames) (hRl : 68 ≤ R.locals)  (l0 : Nat) (hp : f_St_init l0 h = some res) (hH : x_S s0 D R h H locs cells slots) (hl : lv_has ls 2 [(0, .ref l0)]) : W p l e R s m args below meth c H locs cells slots (x_Q s0 D below s R (x_oc vU res.1) res.2) (F0 m 0 ls []) := by
  obtain ⟨hx, hb, hown, hts, hK, hml, hW, Z, -⟩ := id C
  unfold f_St_init at hp
  refine lv_aload_n hx hb d_St_init_0 rfl (lv_at hl 0 rfl) ?_
  refine W.objInit hx hb hown (hts _ oi_St_3) (hts _ k_27) (hts _ k_28) rfl (by rw [hml]; exact hl.1) rfl d_St_init_1 (Nat.le_trans (Nat.le_of_ble_eq_true rfl) hRf) (Nat.le_trans (Nat.le_of_ble_eq_true rfl) hRl) ?_
  refine W.eq (g2 := F0 m 4 ls []) rfl ?_
  refine lv_aload_n hx hb d_St_init_4 rfl (lv_at hl 0 rfl) ?_
  refine lv_bipush (v := 30) hx hb d_St_init_5 (by decide) ?_
  refine x_nAA C hH na_St_9 d_St_init_7 hp (fun a1 h H cells slots hp hH => ?_)
  refine x_pV C hH fp_St_11 (fun _ => hnm) d_St_init_10 rfl rfl hp (fun h H locs hp hH => ?_)
  refine lv_aload_n hx hb d_St_init_13 rfl (lv_at hl 0 rfl) ?_
  refine lv_bipush (v := 10) hx hb d_St_init_14 (by decide) ?_
  refine x_nAJ C hH k_86 d_St_init_16 hp (fun a2 h H cells slots hp hH => ?_)
  refine x_pV C hH fp_St_17 (fun _ => hnm) d_St_init_18 rfl rfl hp (fun h H locs hp hH => ?_)
  refine lv_aload_n hx hb d_St_init_21 rfl (lv_at hl 0 rfl) ?_
  refine lv_bipush (v := 10) hx hb d_St_init_22 (by decide) ?_
  refine x_nAI C hH k_57 d_St_init_24 hp (fun a3 h H cells slots hp hH => ?_)
  refine x_pV C hH fp_St_21 (fun _ => hnm) d_St_init_26 rfl rfl hp (fun h H locs hp hH => ?_)
  refine lv_aload_n hx hb d_St_init_29 rfl (lv_at hl 0 rfl) ?_
  refine x_nO C hH nw_St_25 d_St_init_30 hp (fun a4 h H cells slots hp hH => ?_)
  refine lv_dup hx hb d_St_init_33 rfl ?_
  refine x_callI (As := []) (rest := [.ref a4, .ref l0]) (cv := vU) C hH kc_St_27 d_St_init_34 hp (fun o h' e => m_Vec_init Z e) rfl hl.1 (Nat.le_trans (Nat.le_of_ble_eq_true rfl) hRf) (Nat.le_trans (Nat.le_of_ble_eq_true rfl) hRl) (Nat.le_of_ble_eq_true rfl) (fun v5 h H locs cells slots hp hH => ?_)
  refine W.eq (g2 := F0 m 37 ls [.ref a4, .ref l0]) rfl ?_
  refine x_pV C hH fp_St_28 (fun _ => hnm) d_St_init_37 rfl rfl hp (fun h H locs hp hH => ?_)
  refine lv_iconst (v := 0) hx hb d_St_init_40 (by decide) ?_
  refine lv_istore_n (lv' := [(1, .int 0), (0, .ref l0)]) hx hb d_St_init_41 rfl hl (by decide) rfl (fun ls hl => ?_)
  exact w_St_init_h42 C hr hnm hRf hRl  1000 l0 0 _ _ _ _ _ _ hp hH (lv_sub hl [1, 0] rfl)
set_option maxRecDepth 100000 in
theorem m_St_init (Z : x_Z l s0 A0 D) {l0 : Nat} {res : (Unit ⊕ (Nat × Nat)) × xH} (hp : f_St_init l0 h = some res) : x_M l s0 D y_St_init (x_cw y_St_init prog_8_method_1_code 2 none []) 2 68 [.ref l0] h (x_oc vU res.1) res.2 := by
  refine x_M.ofW Z (plainFor_of_name (by decide)) ?_
  intro p e s m below meth c C hnm hr hH
  have hl := lv_entry ([.ref l0]) (n := 2) (Nat.le_of_ble_eq_true rfl)
  rw [lg_entry_eq]
  generalize (lg_sl ([.ref l0]) ++ List.replicate (2 - (lg_sl ([.ref l0])).length) Slot.unset).toArray = ls at hl ⊢
  exact w_St_init_0 C hr hnm (Nat.le_refl _) (Nat.le_refl _) l0 hp hH hl
/-! ReadSide$Replica.<init>()V -/
theorem d_Repl_init_0 : decode prog_6_method_1_code 0 = .ok (.aload_n 0, 1) := by decide +kernel
theorem d_Repl_init_1 : decode prog_6_method_1_code 1 = .ok (.invokespecial 1, 3) := by decide +kernel
theorem d_Repl_init_4 : decode prog_6_method_1_code 4 = .ok (.aload_n 0, 1) := by decide +kernel
theorem d_Repl_init_5 : decode prog_6_method_1_code 5 = .ok (.new 7, 3) := by decide +kernel
theorem d_Repl_init_8 : decode prog_6_method_1_code 8 = .ok (.dup, 1) := by decide +kernel
theorem d_Repl_init_9 : decode prog_6_method_1_code 9 = .ok (.invokespecial 9, 3) := by decide +kernel
theorem d_Repl_init_12 : decode prog_6_method_1_code 12 = .ok (.putfield 10, 3) := by decide +kernel
theorem d_Repl_init_15 : decode prog_6_method_1_code 15 = .ok (.aload_n 0, 1) := by decide +kernel
theorem d_Repl_init_16 : decode prog_6_method_1_code 16 = .ok (.new 7, 3) := by decide +kernel
theorem d_Repl_init_19 : decode prog_6_method_1_code 19 = .ok (.dup, 1) := by decide +kernel
theorem d_Repl_init_20 : decode prog_6_method_1_code 20 = .ok (.invokespecial 9, 3) := by decide +kernel
theorem d_Repl_init_23 : decode prog_6_method_1_code 23 = .ok (.putfield 16, 3) := by decide +kernel
theorem d_Repl_init_26 : decode prog_6_method_1_code 26 = .ok (.aload_n 0, 1) := by decide +kernel
theorem d_Repl_init_27 : decode prog_6_method_1_code 27 = .ok (.iconst 1, 1) := by decide +kernel
theorem d_Repl_init_28 : decode prog_6_method_1_code 28 = .ok (.putfield 19, 3) := by decide +kernel
theorem d_Repl_init_31 : decode prog_6_method_1_code 31 = .ok (.return_, 1) := by decide +kernel
set_option maxHeartbeats 4000000 in
set_option maxRecDepth 100000 in
theorem w_Repl_init_0 {res : (Unit ⊕ (Nat × Nat)) × xH} (C : x_C l s0 A0 D R_Repl prog_6_method_1_code 1 [] p s m args meth c) (hr : meth.sig.returnType = none) (hnm : meth.name = "<init>") (hRf : 3 ≤ R.frames) (hRl : 97 ≤ R.locals)  (l0 : Nat) (hp : f_Repl_init l0 h = some res) (hH : x_S s0 D R h H locs cells slots) (hl : lv_has ls 1 [(0, .ref l0)]) : W p l e R s m args below meth c H locs cells slots (x_Q s0 D below s R (x_oc vU res.1) res.2) (F0 m 0 ls []) := by
  obtain ⟨hx, hb, hown, hts, hK, hml, hW, Z, -⟩ := id C
  unfold f_Repl_init at hp
  refine lv_aload_n hx hb d_Repl_init_0 rfl (lv_at hl 0 rfl) ?_
  refine W.objInit hx hb hown (hts _ oi_Repl_1) (hts _ k_27) (hts _ k_28) rfl (by rw [hml]; exact hl.1) rfl d_Repl_init_1 (Nat.le_trans (Nat.le_of_ble_eq_true rfl) hRf) (Nat.le_trans (Nat.le_of_ble_eq_true rfl) hRl) ?_
  refine W.eq (g2 := F0 m 4 ls []) rfl ?_
  refine lv_aload_n hx hb d_Repl_init_4 rfl (lv_at hl 0 rfl) ?_
  refine x_nO C hH nw_Repl_7 d_Repl_init_5 hp (fun a1 h H cells slots hp hH => ?_)
  refine lv_dup hx hb d_Repl_init_8 rfl ?_
  refine x_callI (As := []) (rest := [.ref a1, .ref l0]) (cv := vU) C hH kc_Repl_9 d_Repl_init_9 hp (fun o h' e => m_St_init Z e) rfl hl.1 (Nat.le_trans (Nat.le_of_ble_eq_true rfl) hRf) (Nat.le_trans (Nat.le_of_ble_eq_true rfl) hRl) (Nat.le_of_ble_eq_true rfl) (fun v2 h H locs cells slots hp hH => ?_)
  refine W.eq (g2 := F0 m 12 ls [.ref a1, .ref l0]) rfl ?_
  refine x_pV C hH fp_Repl_10 (fun _ => hnm) d_Repl_init_12 rfl rfl hp (fun h H locs hp hH => ?_)
  refine lv_aload_n hx hb d_Repl_init_15 rfl (lv_at hl 0 rfl) ?_
  refine x_nO C hH nw_Repl_7 d_Repl_init_16 hp (fun a3 h H cells slots hp hH => ?_)
  refine lv_dup hx hb d_Repl_init_19 rfl ?_
  refine x_callI (As := []) (rest := [.ref a3, .ref l0]) (cv := vU) C hH kc_Repl_9 d_Repl_init_20 hp (fun o h' e => m_St_init Z e) rfl hl.1 (Nat.le_trans (Nat.le_of_ble_eq_true rfl) hRf) (Nat.le_trans (Nat.le_of_ble_eq_true rfl) hRl) (Nat.le_of_ble_eq_true rfl) (fun v4 h H locs cells slots hp hH => ?_)
  refine W.eq (g2 := F0 m 23 ls [.ref a3, .ref l0]) rfl ?_
  refine x_pV C hH fp_Repl_16 (fun _ => hnm) d_Repl_init_23 rfl rfl hp (fun h H locs hp hH => ?_)
  refine lv_aload_n hx hb d_Repl_init_26 rfl (lv_at hl 0 rfl) ?_
  refine lv_iconst (v := 1) hx hb d_Repl_init_27 (by decide) ?_
  obtain ⟨hz, hp⟩ := pZ_i hp
  refine x_pV C hH fp_Repl_19 (fun h => Bool.noConfusion h) d_Repl_init_28 (by rcases hz with e | e <;> rw [e] <;> rfl) (by rcases hz with e | e <;> rw [e] <;> rfl) hp (fun h H locs hp hH => ?_)
  exact x_vret C hH hr d_Repl_init_31 hp
set_option maxRecDepth 100000 in
theorem m_Repl_init (Z : x_Z l s0 A0 D) {l0 : Nat} {res : (Unit ⊕ (Nat × Nat)) × xH} (hp : f_Repl_init l0 h = some res) : x_M l s0 D y_Repl_init (x_cw y_Repl_init prog_6_method_1_code 1 none []) 3 97 [.ref l0] h (x_oc vU res.1) res.2 := by
  refine x_M.ofW Z (plainFor_of_name (by decide)) ?_
  intro p e s m below meth c C hnm hr hH
  have hl := lv_entry ([.ref l0]) (n := 1) (Nat.le_of_ble_eq_true rfl)
  rw [lg_entry_eq]
  generalize (lg_sl ([.ref l0]) ++ List.replicate (1 - (lg_sl ([.ref l0])).length) Slot.unset).toArray = ls at hl ⊢
  exact w_Repl_init_0 C hr hnm (Nat.le_refl _) (Nat.le_refl _) l0 hp hH hl
/-! ReadSide.isIn(JJJ)Z -/
theorem d_RS_isIn_0 : decode prog_1_method_1_code 0 = .ok (.lload_n 0, 1) := by decide +kernel
theorem d_RS_isIn_1 : decode prog_1_method_1_code 1 = .ok (.lload_n 2, 1) := by decide +kernel
theorem d_RS_isIn_2 : decode prog_1_method_1_code 2 = .ok (.lcmp, 1) := by decide +kernel
theorem d_RS_isIn_3 : decode prog_1_method_1_code 3 = .ok (.ifCond .lt 14, 3) := by decide +kernel
theorem d_RS_isIn_6 : decode prog_1_method_1_code 6 = .ok (.lload_n 0, 1) := by decide +kernel
theorem d_RS_isIn_7 : decode prog_1_method_1_code 7 = .ok (.lload 4, 2) := by decide +kernel
theorem d_RS_isIn_9 : decode prog_1_method_1_code 9 = .ok (.lcmp, 1) := by decide +kernel
theorem d_RS_isIn_10 : decode prog_1_method_1_code 10 = .ok (.ifCond .gt 7, 3) := by decide +kernel
theorem d_RS_isIn_13 : decode prog_1_method_1_code 13 = .ok (.iconst 1, 1) := by decide +kernel
theorem d_RS_isIn_14 : decode prog_1_method_1_code 14 = .ok (.goto 4, 3) := by decide +kernel
theorem d_RS_isIn_17 : decode prog_1_method_1_code 17 = .ok (.iconst 0, 1) := by decide +kernel
theorem d_RS_isIn_18 : decode prog_1_method_1_code 18 = .ok (.ireturn, 1) := by decide +kernel
set_option maxHeartbeats 4000000 in
set_option maxRecDepth 100000 in
theorem w_RS_isIn_18 {res : (Int32 ⊕ (Nat × Nat)) × xH} (C : x_C l s0 A0 D R_RS prog_1_method_1_code 6 [] p s m args meth c) (hr : meth.sig.returnType = (some .boolean)) (hnm : meth.name = "isIn") (hRf : 0 ≤ R.frames) (hRl : 0 ≤ R.locals)  (t0 : Int32) (hp : f_RS_isIn_b18 t0 h = some res) (hH : x_S s0 D R h H locs cells slots) (hl : lv_has ls 6 []) : W p l e R s m args below meth c H locs cells slots (x_Q s0 D below s R (x_oc vI res.1) res.2) (F0 m 18 ls [.int t0]) := by
  obtain ⟨hx, hb, hown, hts, hK, hml, hW, Z, -⟩ := id C
  unfold f_RS_isIn_b18 at hp
  exact x_zret C hH hr d_RS_isIn_18 hp
set_option maxHeartbeats 4000000 in
set_option maxRecDepth 100000 in
theorem w_RS_isIn_17 {res : (Int32 ⊕ (Nat × Nat)) × xH} (C : x_C l s0 A0 D R_RS prog_1_method_1_code 6 [] p s m args meth c) (hr : meth.sig.returnType = (some .boolean)) (hnm : meth.name = "isIn") (hRf : 0 ≤ R.frames) (hRl : 0 ≤ R.locals)   (hp : f_RS_isIn_b17 h = some res) (hH : x_S s0 D R h H locs cells slots) (hl : lv_has ls 6 []) : W p l e R s m args below meth c H locs cells slots (x_Q s0 D below s R (x_oc vI res.1) res.2) (F0 m 17 ls []) := by
  obtain ⟨hx, hb, hown, hts, hK, hml, hW, Z, -⟩ := id C
  unfold f_RS_isIn_b17 at hp
  refine lv_iconst (v := 0) hx hb d_RS_isIn_17 (by decide) ?_
  exact w_RS_isIn_18 C hr hnm hRf hRl  0 hp hH (lv_sub hl [] rfl)
set_option maxHeartbeats 4000000 in
set_option maxRecDepth 100000 in
theorem w_RS_isIn_0 {res : (Int32 ⊕ (Nat × Nat)) × xH} (C : x_C l s0 A0 D R_RS prog_1_method_1_code 6 [] p s m args meth c) (hr : meth.sig.returnType = (some .boolean)) (hnm : meth.name = "isIn") (hRf : 0 ≤ R.frames) (hRl : 0 ≤ R.locals)  (l0 : Int64) (l2 : Int64) (l4 : Int64) (hp : f_RS_isIn l0 l2 l4 h = some res) (hH : x_S s0 D R h H locs cells slots) (hl : lv_has ls 6 [(0, .long l0), (2, .long l2), (4, .long l4)]) : W p l e R s m args below meth c H locs cells slots (x_Q s0 D below s R (x_oc vI res.1) res.2) (F0 m 0 ls []) := by
  obtain ⟨hx, hb, hown, hts, hK, hml, hW, Z, -⟩ := id C
  unfold f_RS_isIn at hp
  refine lv_lload_n hx hb d_RS_isIn_0 rfl (lv_at hl 0 rfl) ?_
  refine lv_lload_n hx hb d_RS_isIn_1 rfl (lv_at hl 1 rfl) ?_
  refine W.lcmp hx hb d_RS_isIn_2 ?_
  refine lv_if_lt (tgt := 17) hx hb d_RS_isIn_3 (by decide) (fun hc => ?_) (fun hc => ?_)
  · replace hp := x_ifp hc hp
    exact w_RS_isIn_17 C hr hnm hRf hRl   hp hH (lv_sub hl [] rfl)
  · replace hp := x_ifn hc hp
    refine lv_lload_n hx hb d_RS_isIn_6 rfl (lv_at hl 0 rfl) ?_
    refine lv_lload hx hb d_RS_isIn_7 (lv_at hl 2 rfl) ?_
    refine W.lcmp hx hb d_RS_isIn_9 ?_
    refine lv_if_gt (tgt := 17) hx hb d_RS_isIn_10 (by decide) (fun hc => ?_) (fun hc => ?_)
    · replace hp := x_ifp hc hp
      exact w_RS_isIn_17 C hr hnm hRf hRl   hp hH (lv_sub hl [] rfl)
    · replace hp := x_ifn hc hp
      refine lv_iconst (v := 1) hx hb d_RS_isIn_13 (by decide) ?_
      refine lv_goto (tgt := 18) hx hb d_RS_isIn_14 (by decide) ?_
      exact w_RS_isIn_18 C hr hnm hRf hRl  1 hp hH (lv_sub hl [] rfl)
set_option maxRecDepth 100000 in
theorem m_RS_isIn (Z : x_Z l s0 A0 D) {l0 : Int64} {l2 : Int64} {l4 : Int64} {res : (Int32 ⊕ (Nat × Nat)) × xH} (hp : f_RS_isIn l0 l2 l4 h = some res) : x_M l s0 D y_RS_isIn (x_cw y_RS_isIn prog_1_method_1_code 6 (some .boolean) []) 0 0 [.long l0, .long l2, .long l4] h (x_oc vI res.1) res.2 := by
  refine x_M.ofW Z (plainFor_of_name (by decide)) ?_
  intro p e s m below meth c C hnm hr hH
  have hl := lv_entry ([.long l0, .long l2, .long l4]) (n := 6) (Nat.le_of_ble_eq_true rfl)
  rw [lg_entry_eq]
  generalize (lg_sl ([.long l0, .long l2, .long l4]) ++ List.replicate (6 - (lg_sl ([.long l0, .long l2, .long l4])).length) Slot.unset).toArray = ls at hl ⊢
  exact w_RS_isIn_0 C hr hnm (Nat.le_refl _) (Nat.le_refl _) l0 l2 l4 hp hH hl
/-! ReadSide$Log.<init>()V -/
theorem d_Log_init_0 : decode prog_4_method_1_code 0 = .ok (.aload_n 0, 1) := by decide +kernel
theorem d_Log_init_1 : decode prog_4_method_1_code 1 = .ok (.invokespecial 3, 3) := by decide +kernel
theorem d_Log_init_4 : decode prog_4_method_1_code 4 = .ok (.aload_n 0, 1) := by decide +kernel
theorem d_Log_init_5 : decode prog_4_method_1_code 5 = .ok (.sipush 400, 3) := by decide +kernel
theorem d_Log_init_8 : decode prog_4_method_1_code 8 = .ok (.anewarray 9, 3) := by decide +kernel
theorem d_Log_init_11 : decode prog_4_method_1_code 11 = .ok (.putfield 11, 3) := by decide +kernel
theorem d_Log_init_14 : decode prog_4_method_1_code 14 = .ok (.return_, 1) := by decide +kernel
set_option maxHeartbeats 4000000 in
set_option maxRecDepth 100000 in
theorem w_Log_init_0 {res : (Unit ⊕ (Nat × Nat)) × xH} (C : x_C l s0 A0 D R_Log prog_4_method_1_code 1 [] p s m args meth c) (hr : meth.sig.returnType = none) (hnm : meth.name = "<init>") (hRf : 1 ≤ R.frames) (hRl : 40 ≤ R.locals)  (l0 : Nat) (hp : f_Log_init l0 h = some res) (hH : x_S s0 D R h H locs cells slots) (hl : lv_has ls 1 [(0, .ref l0)]) : W p l e R s m args below meth c H locs cells slots (x_Q s0 D below s R (x_oc vU res.1) res.2) (F0 m 0 ls []) := by
  obtain ⟨hx, hb, hown, hts, hK, hml, hW, Z, -⟩ := id C
  unfold f_Log_init at hp
  refine lv_aload_n hx hb d_Log_init_0 rfl (lv_at hl 0 rfl) ?_
  refine W.objInit hx hb hown (hts _ oi_Log_3) (hts _ k_27) (hts _ k_28) rfl (by rw [hml]; exact hl.1) rfl d_Log_init_1 (Nat.le_trans (Nat.le_of_ble_eq_true rfl) hRf) (Nat.le_trans (Nat.le_of_ble_eq_true rfl) hRl) ?_
  refine W.eq (g2 := F0 m 4 ls []) rfl ?_
  refine lv_aload_n hx hb d_Log_init_4 rfl (lv_at hl 0 rfl) ?_
  refine lv_sipush (v := 400) hx hb d_Log_init_5 (by decide) ?_
  refine x_nAA C hH na_Log_9 d_Log_init_8 hp (fun a1 h H cells slots hp hH => ?_)
  refine x_pV C hH fp_Log_11 (fun _ => hnm) d_Log_init_11 rfl rfl hp (fun h H locs hp hH => ?_)
  exact x_vret C hH hr d_Log_init_14 hp
set_option maxRecDepth 100000 in
theorem m_Log_init (Z : x_Z l s0 A0 D) {l0 : Nat} {res : (Unit ⊕ (Nat × Nat)) × xH} (hp : f_Log_init l0 h = some res) : x_M l s0 D y_Log_init (x_cw y_Log_init prog_4_method_1_code 1 none []) 1 40 [.ref l0] h (x_oc vU res.1) res.2 := by
  refine x_M.ofW Z (plainFor_of_name (by decide)) ?_
  intro p e s m below meth c C hnm hr hH
  have hl := lv_entry ([.ref l0]) (n := 1) (Nat.le_of_ble_eq_true rfl)
  rw [lg_entry_eq]
  generalize (lg_sl ([.ref l0]) ++ List.replicate (1 - (lg_sl ([.ref l0])).length) Slot.unset).toArray = ls at hl ⊢
  exact w_Log_init_0 C hr hnm (Nat.le_refl _) (Nat.le_refl _) l0 hp hH hl
/-! ReadSide.<init>(II)V -/
theorem d_RS_init_0 : decode prog_1_method_2_code 0 = .ok (.aload_n 0, 1) := by decide +kernel
theorem d_RS_init_1 : decode prog_1_method_2_code 1 = .ok (.invokespecial 1, 3) := by decide +kernel
theorem d_RS_init_4 : decode prog_1_method_2_code 4 = .ok (.aload_n 0, 1) := by decide +kernel
theorem d_RS_init_5 : decode prog_1_method_2_code 5 = .ok (.bipush 8, 2) := by decide +kernel
theorem d_RS_init_7 : decode prog_1_method_2_code 7 = .ok (.anewarray 9, 3) := by decide +kernel
theorem d_RS_init_10 : decode prog_1_method_2_code 10 = .ok (.putfield 11, 3) := by decide +kernel
theorem d_RS_init_13 : decode prog_1_method_2_code 13 = .ok (.aload_n 0, 1) := by decide +kernel
theorem d_RS_init_14 : decode prog_1_method_2_code 14 = .ok (.sipush 500, 3) := by decide +kernel
theorem d_RS_init_17 : decode prog_1_method_2_code 17 = .ok (.anewarray 15, 3) := by decide +kernel
theorem d_RS_init_20 : decode prog_1_method_2_code 20 = .ok (.putfield 17, 3) := by decide +kernel
theorem d_RS_init_23 : decode prog_1_method_2_code 23 = .ok (.aload_n 0, 1) := by decide +kernel
theorem d_RS_init_24 : decode prog_1_method_2_code 24 = .ok (.bipush 40, 2) := by decide +kernel
theorem d_RS_init_26 : decode prog_1_method_2_code 26 = .ok (.newarray .int, 2) := by decide +kernel
theorem d_RS_init_28 : decode prog_1_method_2_code 28 = .ok (.putfield 21, 3) := by decide +kernel
theorem d_RS_init_31 : decode prog_1_method_2_code 31 = .ok (.aload_n 0, 1) := by decide +kernel
theorem d_RS_init_32 : decode prog_1_method_2_code 32 = .ok (.iload_n 1, 1) := by decide +kernel
theorem d_RS_init_33 : decode prog_1_method_2_code 33 = .ok (.i2l, 1) := by decide +kernel
theorem d_RS_init_34 : decode prog_1_method_2_code 34 = .ok (.lconst 1, 1) := by decide +kernel
theorem d_RS_init_35 : decode prog_1_method_2_code 35 = .ok (.ldc2_w 25, 3) := by decide +kernel
theorem d_RS_init_38 : decode prog_1_method_2_code 38 = .ok (.invokestatic 27, 3) := by decide +kernel
theorem d_RS_init_41 : decode prog_1_method_2_code 41 = .ok (.ifCond .eq 7, 3) := by decide +kernel
theorem d_RS_init_44 : decode prog_1_method_2_code 44 = .ok (.iload_n 1, 1) := by decide +kernel
theorem d_RS_init_45 : decode prog_1_method_2_code 45 = .ok (.goto 4, 3) := by decide +kernel
theorem d_RS_init_48 : decode prog_1_method_2_code 48 = .ok (.iconst 2, 1) := by decide +kernel
theorem d_RS_init_49 : decode prog_1_method_2_code 49 = .ok (.putfield 31, 3) := by decide +kernel
theorem d_RS_init_52 : decode prog_1_method_2_code 52 = .ok (.aload_n 0, 1) := by decide +kernel
theorem d_RS_init_53 : decode prog_1_method_2_code 53 = .ok (.aload_n 0, 1) := by decide +kernel
theorem d_RS_init_54 : decode prog_1_method_2_code 54 = .ok (.getfield 31, 3) := by decide +kernel
theorem d_RS_init_57 : decode prog_1_method_2_code 57 = .ok (.anewarray 35, 3) := by decide +kernel
theorem d_RS_init_60 : decode prog_1_method_2_code 60 = .ok (.putfield 37, 3) := by decide +kernel
theorem d_RS_init_63 : decode prog_1_method_2_code 63 = .ok (.iconst 0, 1) := by decide +kernel
theorem d_RS_init_64 : decode prog_1_method_2_code 64 = .ok (.istore_n 3, 1) := by decide +kernel
theorem d_RS_init_65 : decode prog_1_method_2_code 65 = .ok (.iload_n 3, 1) := by decide +kernel
theorem d_RS_init_66 : decode prog_1_method_2_code 66 = .ok (.aload_n 0, 1) := by decide +kernel
theorem d_RS_init_67 : decode prog_1_method_2_code 67 = .ok (.getfield 37, 3) := by decide +kernel
theorem d_RS_init_70 : decode prog_1_method_2_code 70 = .ok (.arraylength, 1) := by decide +kernel
theorem d_RS_init_71 : decode prog_1_method_2_code 71 = .ok (.if_icmp .ge 22, 3) := by decide +kernel
theorem d_RS_init_74 : decode prog_1_method_2_code 74 = .ok (.aload_n 0, 1) := by decide +kernel
theorem d_RS_init_75 : decode prog_1_method_2_code 75 = .ok (.getfield 37, 3) := by decide +kernel
theorem d_RS_init_78 : decode prog_1_method_2_code 78 = .ok (.iload_n 3, 1) := by decide +kernel
theorem d_RS_init_79 : decode prog_1_method_2_code 79 = .ok (.new 35, 3) := by decide +kernel
theorem d_RS_init_82 : decode prog_1_method_2_code 82 = .ok (.dup, 1) := by decide +kernel
theorem d_RS_init_83 : decode prog_1_method_2_code 83 = .ok (.invokespecial 41, 3) := by decide +kernel
theorem d_RS_init_86 : decode prog_1_method_2_code 86 = .ok (.aastore, 1) := by decide +kernel
theorem d_RS_init_87 : decode prog_1_method_2_code 87 = .ok (.iinc 3 1, 3) := by decide +kernel
theorem d_RS_init_90 : decode prog_1_method_2_code 90 = .ok (.goto (-25), 3) := by decide +kernel
theorem d_RS_init_93 : decode prog_1_method_2_code 93 = .ok (.aload_n 0, 1) := by decide +kernel
theorem d_RS_init_94 : decode prog_1_method_2_code 94 = .ok (.iload_n 2, 1) := by decide +kernel
theorem d_RS_init_95 : decode prog_1_method_2_code 95 = .ok (.i2l, 1) := by decide +kernel
theorem d_RS_init_96 : decode prog_1_method_2_code 96 = .ok (.lconst 1, 1) := by decide +kernel
theorem d_RS_init_97 : decode prog_1_method_2_code 97 = .ok (.ldc2_w 42, 3) := by decide +kernel
theorem d_RS_init_100 : decode prog_1_method_2_code 100 = .ok (.invokestatic 27, 3) := by decide +kernel
theorem d_RS_init_103 : decode prog_1_method_2_code 103 = .ok (.ifCond .eq 7, 3) := by decide +kernel
theorem d_RS_init_106 : decode prog_1_method_2_code 106 = .ok (.iload_n 2, 1) := by decide +kernel
theorem d_RS_init_107 : decode prog_1_method_2_code 107 = .ok (.goto 4, 3) := by decide +kernel
theorem d_RS_init_110 : decode prog_1_method_2_code 110 = .ok (.iconst 2, 1) := by decide +kernel
theorem d_RS_init_111 : decode prog_1_method_2_code 111 = .ok (.anewarray 44, 3) := by decide +kernel
theorem d_RS_init_114 : decode prog_1_method_2_code 114 = .ok (.putfield 46, 3) := by decide +kernel
theorem d_RS_init_117 : decode prog_1_method_2_code 117 = .ok (.iconst 0, 1) := by decide +kernel
theorem d_RS_init_118 : decode prog_1_method_2_code 118 = .ok (.istore_n 3, 1) := by decide +kernel
theorem d_RS_init_119 : decode prog_1_method_2_code 119 = .ok (.iload_n 3, 1) := by decide +kernel
theorem d_RS_init_120 : decode prog_1_method_2_code 120 = .ok (.aload_n 0, 1) := by decide +kernel
theorem d_RS_init_121 : decode prog_1_method_2_code 121 = .ok (.getfield 46, 3) := by decide +kernel
theorem d_RS_init_124 : decode prog_1_method_2_code 124 = .ok (.arraylength, 1) := by decide +kernel
theorem d_RS_init_125 : decode prog_1_method_2_code 125 = .ok (.if_icmp .ge 22, 3) := by decide +kernel
theorem d_RS_init_128 : decode prog_1_method_2_code 128 = .ok (.aload_n 0, 1) := by decide +kernel
theorem d_RS_init_129 : decode prog_1_method_2_code 129 = .ok (.getfield 46, 3) := by decide +kernel
theorem d_RS_init_132 : decode prog_1_method_2_code 132 = .ok (.iload_n 3, 1) := by decide +kernel
theorem d_RS_init_133 : decode prog_1_method_2_code 133 = .ok (.new 44, 3) := by decide +kernel
theorem d_RS_init_136 : decode prog_1_method_2_code 136 = .ok (.dup, 1) := by decide +kernel
theorem d_RS_init_137 : decode prog_1_method_2_code 137 = .ok (.invokespecial 50, 3) := by decide +kernel
theorem d_RS_init_140 : decode prog_1_method_2_code 140 = .ok (.aastore, 1) := by decide +kernel
theorem d_RS_init_141 : decode prog_1_method_2_code 141 = .ok (.iinc 3 1, 3) := by decide +kernel
theorem d_RS_init_144 : decode prog_1_method_2_code 144 = .ok (.goto (-25), 3) := by decide +kernel
theorem d_RS_init_147 : decode prog_1_method_2_code 147 = .ok (.iconst 0, 1) := by decide +kernel
theorem d_RS_init_148 : decode prog_1_method_2_code 148 = .ok (.istore_n 3, 1) := by decide +kernel
theorem d_RS_init_149 : decode prog_1_method_2_code 149 = .ok (.iload_n 3, 1) := by decide +kernel
theorem d_RS_init_150 : decode prog_1_method_2_code 150 = .ok (.bipush 8, 2) := by decide +kernel
theorem d_RS_init_152 : decode prog_1_method_2_code 152 = .ok (.if_icmp .ge 22, 3) := by decide +kernel
theorem d_RS_init_155 : decode prog_1_method_2_code 155 = .ok (.aload_n 0, 1) := by decide +kernel
theorem d_RS_init_156 : decode prog_1_method_2_code 156 = .ok (.getfield 11, 3) := by decide +kernel
theorem d_RS_init_159 : decode prog_1_method_2_code 159 = .ok (.iload_n 3, 1) := by decide +kernel
theorem d_RS_init_160 : decode prog_1_method_2_code 160 = .ok (.new 9, 3) := by decide +kernel
theorem d_RS_init_163 : decode prog_1_method_2_code 163 = .ok (.dup, 1) := by decide +kernel
theorem d_RS_init_164 : decode prog_1_method_2_code 164 = .ok (.invokespecial 51, 3) := by decide +kernel
theorem d_RS_init_167 : decode prog_1_method_2_code 167 = .ok (.aastore, 1) := by decide +kernel
theorem d_RS_init_168 : decode prog_1_method_2_code 168 = .ok (.iinc 3 1, 3) := by decide +kernel
theorem d_RS_init_171 : decode prog_1_method_2_code 171 = .ok (.goto (-22), 3) := by decide +kernel
theorem d_RS_init_174 : decode prog_1_method_2_code 174 = .ok (.return_, 1) := by decide +kernel
set_option maxHeartbeats 4000000 in
set_option maxRecDepth 100000 in
theorem w_RS_init_149 {res : (Unit ⊕ (Nat × Nat)) × xH} (C : x_C l s0 A0 D R_RS prog_1_method_2_code 4 [] p s m args meth c) (hr : meth.sig.returnType = none) (hnm : meth.name = "<init>") (hRf : 4 ≤ R.frames) (hRl : 125 ≤ R.locals) {k149 : Nat → Int32 → xM Unit} (hs149 : ∀ (l0 : Nat) (l3 : Int32) (h : xH) (H : Heap) (locs : List Loc) (cells slots : Nat) (ls : Array Slot), k149 l0 l3 h = some res → x_S s0 D R h H locs cells slots → lv_has ls 4 [(0, .ref l0), (3, .int l3)] → W p l e R s m args below meth c H locs cells slots (x_Q s0 D below s R (x_oc vU res.1) res.2) (F0 m 149 ls [])) (l0 : Nat) (l3 : Int32) (hp : f_RS_init_b149 k149 l0 l3 h = some res) (hH : x_S s0 D R h H locs cells slots) (hl : lv_has ls 4 [(0, .ref l0), (3, .int l3)]) : W p l e R s m args below meth c H locs cells slots (x_Q s0 D below s R (x_oc vU res.1) res.2) (F0 m 149 ls []) := by
  obtain ⟨hx, hb, hown, hts, hK, hml, hW, Z, -⟩ := id C
  unfold f_RS_init_b149 at hp
  refine lv_iload_n hx hb d_RS_init_149 rfl (lv_at hl 1 rfl) ?_
  refine lv_bipush (v := 8) hx hb d_RS_init_150 (by decide) ?_
  refine lv_icmp_ge (tgt := 174) hx hb d_RS_init_152 (by decide) (fun hc => ?_) (fun hc => ?_)
  · replace hp := x_ifp hc hp
    exact x_vret C hH hr d_RS_init_174 hp
  · replace hp := x_ifn hc hp
    refine lv_aload_n hx hb d_RS_init_155 rfl (lv_at hl 0 rfl) ?_
    refine x_gA C hH fl_RS_11 d_RS_init_156 hp (fun v1 hp => ?_)
    refine lv_iload_n hx hb d_RS_init_159 rfl (lv_at hl 1 rfl) ?_
    refine x_nO C hH nw_RS_9 d_RS_init_160 hp (fun a2 h H cells slots hp hH => ?_)
    refine lv_dup hx hb d_RS_init_163 rfl ?_
    refine x_callI (As := []) (rest := [.ref a2, .int l3, .ref v1]) (cv := vU) C hH kc_RS_51 d_RS_init_164 hp (fun o h' e => m_Sess_init Z e) rfl hl.1 (Nat.le_trans (Nat.le_of_ble_eq_true rfl) hRf) (Nat.le_trans (Nat.le_of_ble_eq_true rfl) hRl) (Nat.le_of_ble_eq_true rfl) (fun v3 h H locs cells slots hp hH => ?_)
    refine W.eq (g2 := F0 m 167 ls [.ref a2, .int l3, .ref v1]) rfl ?_
    refine x_sA C hH (by decide) d_RS_init_167 hp (fun h H locs hp hH => ?_)
    refine lv_iinc (v := (l3 + 1)) (lv' := [(3, .int (l3 + 1)), (0, .ref l0)]) hx hb d_RS_init_168 hl (k := 1) rfl rfl (by decide) rfl (fun ls hl => ?_)
    refine lv_goto (tgt := 149) hx hb d_RS_init_171 (by decide) ?_
    exact hs149 l0 (l3 + 1) _ _ _ _ _ _ hp hH (lv_sub hl [1, 0] rfl)
theorem w_RS_init_h149 {res : (Unit ⊕ (Nat × Nat)) × xH} (C : x_C l s0 A0 D R_RS prog_1_method_2_code 4 [] p s m args meth c) (hr : meth.sig.returnType = none) (hnm : meth.name = "<init>") (hRf : 4 ≤ R.frames) (hRl : 125 ≤ R.locals)  : ∀ (n : Nat) (l0 : Nat) (l3 : Int32) (h : xH) (H : Heap) (locs : List Loc) (cells slots : Nat) (ls : Array Slot), f_RS_init_h149 n l0 l3 h = some res → x_S s0 D R h H locs cells slots → lv_has ls 4 [(0, .ref l0), (3, .int l3)] → W p l e R s m args below meth c H locs cells slots (x_Q s0 D below s R (x_oc vU res.1) res.2) (F0 m 149 ls []) := by
  intro n
  induction n with
  | zero => intro l0 l3 h H locs cells slots ls hp hH hl; cases hp
  | succ n ih => intro l0 l3 h H locs cells slots ls hp hH hl; exact w_RS_init_149 C hr hnm hRf hRl ih l0 l3 hp hH hl
set_option maxHeartbeats 4000000 in
set_option maxRecDepth 100000 in
theorem w_RS_init_119 {res : (Unit ⊕ (Nat × Nat)) × xH} (C : x_C l s0 A0 D R_RS prog_1_method_2_code 4 [] p s m args meth c) (hr : meth.sig.returnType = none) (hnm : meth.name = "<init>") (hRf : 4 ≤ R.frames) (hRl : 125 ≤ R.locals) {k119 : Nat → Int32 → xM Unit} (hs119 : ∀ (l0 : Nat) (l3 : Int32) (h : xH) (H : Heap) (locs : List Loc) (cells slots : Nat) (ls : Array Slot), k119 l0 l3 h = some res → x_S s0 D R h H locs cells slots → lv_has ls 4 [(0, .ref l0), (3, .int l3)] → W p l e R s m args below meth c H locs cells slots (x_Q s0 D below s R (x_oc vU res.1) res.2) (F0 m 119 ls [])) (l0 : Nat) (l3 : Int32) (hp : f_RS_init_b119 k119 l0 l3 h = some res) (hH : x_S s0 D R h H locs cells slots) (hl : lv_has ls 4 [(0, .ref l0), (3, .int l3)]) : W p l e R s m args below meth c H locs cells slots (x_Q s0 D below s R (x_oc vU res.1) res.2) (F0 m 119 ls []) := by
  obtain ⟨hx, hb, hown, hts, hK, hml, hW, Z, -⟩ := id C
  unfold f_RS_init_b119 at hp
  refine lv_iload_n hx hb d_RS_init_119 rfl (lv_at hl 1 rfl) ?_
  refine lv_aload_n hx hb d_RS_init_120 rfl (lv_at hl 0 rfl) ?_
  refine x_gA C hH fl_RS_46 d_RS_init_121 hp (fun v1 hp => ?_)
  refine x_aL C hH d_RS_init_124 hp (fun v2 hp => ?_)
  refine lv_icmp_ge (tgt := 147) hx hb d_RS_init_125 (by decide) (fun hc => ?_) (fun hc => ?_)
  · replace hp := x_ifp hc hp
    refine lv_iconst (v := 0) hx hb d_RS_init_147 (by decide) ?_
    refine lv_istore_n (lv' := [(3, .int 0), (0, .ref l0)]) hx hb d_RS_init_148 rfl hl (by decide) rfl (fun ls hl => ?_)
    exact w_RS_init_h149 C hr hnm hRf hRl  1000 l0 0 _ _ _ _ _ _ hp hH (lv_sub hl [1, 0] rfl)
  · replace hp := x_ifn hc hp
    refine lv_aload_n hx hb d_RS_init_128 rfl (lv_at hl 0 rfl) ?_
    refine x_gA C hH fl_RS_46 d_RS_init_129 hp (fun v3 hp => ?_)
    refine lv_iload_n hx hb d_RS_init_132 rfl (lv_at hl 1 rfl) ?_
    refine x_nO C hH nw_RS_44 d_RS_init_133 hp (fun a4 h H cells slots hp hH => ?_)
    refine lv_dup hx hb d_RS_init_136 rfl ?_
    refine x_callI (As := []) (rest := [.ref a4, .int l3, .ref v3]) (cv := vU) C hH kc_RS_50 d_RS_init_137 hp (fun o h' e => m_Repl_init Z e) rfl hl.1 (Nat.le_trans (Nat.le_of_ble_eq_true rfl) hRf) (Nat.le_trans (Nat.le_of_ble_eq_true rfl) hRl) (Nat.le_of_ble_eq_true rfl) (fun v5 h H locs cells slots hp hH => ?_)
    refine W.eq (g2 := F0 m 140 ls [.ref a4, .int l3, .ref v3]) rfl ?_
    refine x_sA C hH (by decide) d_RS_init_140 hp (fun h H locs hp hH => ?_)
    refine lv_iinc (v := (l3 + 1)) (lv' := [(3, .int (l3 + 1)), (0, .ref l0)]) hx hb d_RS_init_141 hl (k := 1) rfl rfl (by decide) rfl (fun ls hl => ?_)
    refine lv_goto (tgt := 119) hx hb d_RS_init_144 (by decide) ?_
    exact hs119 l0 (l3 + 1) _ _ _ _ _ _ hp hH (lv_sub hl [1, 0] rfl)
theorem w_RS_init_h119 {res : (Unit ⊕ (Nat × Nat)) × xH} (C : x_C l s0 A0 D R_RS prog_1_method_2_code 4 [] p s m args meth c) (hr : meth.sig.returnType = none) (hnm : meth.name = "<init>") (hRf : 4 ≤ R.frames) (hRl : 125 ≤ R.locals)  : ∀ (n : Nat) (l0 : Nat) (l3 : Int32) (h : xH) (H : Heap) (locs : List Loc) (cells slots : Nat) (ls : Array Slot), f_RS_init_h119 n l0 l3 h = some res → x_S s0 D R h H locs cells slots → lv_has ls 4 [(0, .ref l0), (3, .int l3)] → W p l e R s m args below meth c H locs cells slots (x_Q s0 D below s R (x_oc vU res.1) res.2) (F0 m 119 ls []) := by
  intro n
  induction n with
  | zero => intro l0 l3 h H locs cells slots ls hp hH hl; cases hp
  | succ n ih => intro l0 l3 h H locs cells slots ls hp hH hl; exact w_RS_init_119 C hr hnm hRf hRl ih l0 l3 hp hH hl
set_option maxHeartbeats 4000000 in
set_option maxRecDepth 100000 in
theorem w_RS_init_111 {res : (Unit ⊕ (Nat × Nat)) × xH} (C : x_C l s0 A0 D R_RS prog_1_method_2_code 4 [] p s m args meth c) (hr : meth.sig.returnType = none) (hnm : meth.name = "<init>") (hRf : 4 ≤ R.frames) (hRl : 125 ≤ R.locals)  (l0 : Nat) (t0 : Int32) (t1 : Nat) (hp : f_RS_init_b111 l0 t0 t1 h = some res) (hH : x_S s0 D R h H locs cells slots) (hl : lv_has ls 4 [(0, .ref l0)]) : W p l e R s m args below meth c H locs cells slots (x_Q s0 D below s R (x_oc vU res.1) res.2) (F0 m 111 ls [.int t0, .ref t1]) := by
  obtain ⟨hx, hb, hown, hts, hK, hml, hW, Z, -⟩ := id C
  unfold f_RS_init_b111 at hp
  refine x_nAA C hH na_RS_44 d_RS_init_111 hp (fun a1 h H cells slots hp hH => ?_)
  refine x_pV C hH fp_RS_46 (fun _ => hnm) d_RS_init_114 rfl rfl hp (fun h H locs hp hH => ?_)
  refine lv_iconst (v := 0) hx hb d_RS_init_117 (by decide) ?_
  refine lv_istore_n (lv' := [(3, .int 0), (0, .ref l0)]) hx hb d_RS_init_118 rfl hl (by decide) rfl (fun ls hl => ?_)
  exact w_RS_init_h119 C hr hnm hRf hRl  1000 l0 0 _ _ _ _ _ _ hp hH (lv_sub hl [1, 0] rfl)
set_option maxHeartbeats 4000000 in
set_option maxRecDepth 100000 in
theorem w_RS_init_65 {res : (Unit ⊕ (Nat × Nat)) × xH} (C : x_C l s0 A0 D R_RS prog_1_method_2_code 4 [] p s m args meth c) (hr : meth.sig.returnType = none) (hnm : meth.name = "<init>") (hRf : 4 ≤ R.frames) (hRl : 125 ≤ R.locals) {k65 : Nat → Int32 → Int32 → xM Unit} (hs65 : ∀ (l0 : Nat) (l2 : Int32) (l3 : Int32) (h : xH) (H : Heap) (locs : List Loc) (cells slots : Nat) (ls : Array Slot), k65 l0 l2 l3 h = some res → x_S s0 D R h H locs cells slots → lv_has ls 4 [(0, .ref l0), (2, .int l2), (3, .int l3)] → W p l e R s m args below meth c H locs cells slots (x_Q s0 D below s R (x_oc vU res.1) res.2) (F0 m 65 ls [])) (l0 : Nat) (l2 : Int32) (l3 : Int32) (hp : f_RS_init_b65 k65 l0 l2 l3 h = some res) (hH : x_S s0 D R h H locs cells slots) (hl : lv_has ls 4 [(0, .ref l0), (2, .int l2), (3, .int l3)]) : W p l e R s m args below meth c H locs cells slots (x_Q s0 D below s R (x_oc vU res.1) res.2) (F0 m 65 ls []) := by
  obtain ⟨hx, hb, hown, hts, hK, hml, hW, Z, -⟩ := id C
  unfold f_RS_init_b65 at hp
  refine lv_iload_n hx hb d_RS_init_65 rfl (lv_at hl 2 rfl) ?_
  refine lv_aload_n hx hb d_RS_init_66 rfl (lv_at hl 0 rfl) ?_
  refine x_gA C hH fl_RS_37 d_RS_init_67 hp (fun v1 hp => ?_)
  refine x_aL C hH d_RS_init_70 hp (fun v2 hp => ?_)
  refine lv_icmp_ge (tgt := 93) hx hb d_RS_init_71 (by decide) (fun hc => ?_) (fun hc => ?_)
  · replace hp := x_ifp hc hp
    refine lv_aload_n hx hb d_RS_init_93 rfl (lv_at hl 0 rfl) ?_
    refine lv_iload_n hx hb d_RS_init_94 rfl (lv_at hl 1 rfl) ?_
    refine lv_i2l (v := l2.toInt64) hx hb d_RS_init_95 rfl ?_
    refine lv_lconst (v := 1) hx hb d_RS_init_96 (by decide) ?_
    refine lv_ldc2 hx hb hown (hts _ k_58) d_RS_init_97 ?_
    refine x_callS (As := [.long l2.toInt64, .long 1, .long 4]) (rest := [.ref l0]) (cv := vI) C hH kc_RS_27 d_RS_init_100 hp (fun o h' e => m_RS_isIn Z e) rfl hl.1 (Nat.le_trans (Nat.le_of_ble_eq_true rfl) hRf) (Nat.le_trans (Nat.le_of_ble_eq_true rfl) hRl) (Nat.le_of_ble_eq_true rfl) (fun v3 h H locs cells slots hp hH => ?_)
    refine W.eq (g2 := F0 m 103 ls [.int v3, .ref l0]) rfl ?_
    refine lv_if_eq (tgt := 110) hx hb d_RS_init_103 (by decide) (fun hc => ?_) (fun hc => ?_)
    · replace hp := x_ifp hc hp
      refine lv_iconst (v := 2) hx hb d_RS_init_110 (by decide) ?_
      exact w_RS_init_111 C hr hnm hRf hRl  l0 2 l0 hp hH (lv_sub hl [0] rfl)
    · replace hp := x_ifn hc hp
      refine lv_iload_n hx hb d_RS_init_106 rfl (lv_at hl 1 rfl) ?_
      refine lv_goto (tgt := 111) hx hb d_RS_init_107 (by decide) ?_
      exact w_RS_init_111 C hr hnm hRf hRl  l0 l2 l0 hp hH (lv_sub hl [0] rfl)
  · replace hp := x_ifn hc hp
    refine lv_aload_n hx hb d_RS_init_74 rfl (lv_at hl 0 rfl) ?_
    refine x_gA C hH fl_RS_37 d_RS_init_75 hp (fun v4 hp => ?_)
    refine lv_iload_n hx hb d_RS_init_78 rfl (lv_at hl 2 rfl) ?_
    refine x_nO C hH nw_RS_35 d_RS_init_79 hp (fun a5 h H cells slots hp hH => ?_)
    refine lv_dup hx hb d_RS_init_82 rfl ?_
    refine x_callI (As := []) (rest := [.ref a5, .int l3, .ref v4]) (cv := vU) C hH kc_RS_41 d_RS_init_83 hp (fun o h' e => m_Log_init Z e) rfl hl.1 (Nat.le_trans (Nat.le_of_ble_eq_true rfl) hRf) (Nat.le_trans (Nat.le_of_ble_eq_true rfl) hRl) (Nat.le_of_ble_eq_true rfl) (fun v6 h H locs cells slots hp hH => ?_)
    refine W.eq (g2 := F0 m 86 ls [.ref a5, .int l3, .ref v4]) rfl ?_
    refine x_sA C hH (by decide) d_RS_init_86 hp (fun h H locs hp hH => ?_)
    refine lv_iinc (v := (l3 + 1)) (lv' := [(3, .int (l3 + 1)), (0, .ref l0), (2, .int l2)]) hx hb d_RS_init_87 hl (k := 2) rfl rfl (by decide) rfl (fun ls hl => ?_)
    refine lv_goto (tgt := 65) hx hb d_RS_init_90 (by decide) ?_
    exact hs65 l0 l2 (l3 + 1) _ _ _ _ _ _ hp hH (lv_sub hl [1, 2, 0] rfl)
theorem w_RS_init_h65 {res : (Unit ⊕ (Nat × Nat)) × xH} (C : x_C l s0 A0 D R_RS prog_1_method_2_code 4 [] p s m args meth c) (hr : meth.sig.returnType = none) (hnm : meth.name = "<init>") (hRf : 4 ≤ R.frames) (hRl : 125 ≤ R.locals)  : ∀ (n : Nat) (l0 : Nat) (l2 : Int32) (l3 : Int32) (h : xH) (H : Heap) (locs : List Loc) (cells slots : Nat) (ls : Array Slot), f_RS_init_h65 n l0 l2 l3 h = some res → x_S s0 D R h H locs cells slots → lv_has ls 4 [(0, .ref l0), (2, .int l2), (3, .int l3)] → W p l e R s m args below meth c H locs cells slots (x_Q s0 D below s R (x_oc vU res.1) res.2) (F0 m 65 ls []) := by
  intro n
  induction n with
  | zero => intro l0 l2 l3 h H locs cells slots ls hp hH hl; cases hp
  | succ n ih => intro l0 l2 l3 h H locs cells slots ls hp hH hl; exact w_RS_init_65 C hr hnm hRf hRl ih l0 l2 l3 hp hH hl
set_option maxHeartbeats 4000000 in
set_option maxRecDepth 100000 in
theorem w_RS_init_49 {res : (Unit ⊕ (Nat × Nat)) × xH} (C : x_C l s0 A0 D R_RS prog_1_method_2_code 4 [] p s m args meth c) (hr : meth.sig.returnType = none) (hnm : meth.name = "<init>") (hRf : 4 ≤ R.frames) (hRl : 125 ≤ R.locals)  (l0 : Nat) (l2 : Int32) (t0 : Int32) (t1 : Nat) (hp : f_RS_init_b49 l0 l2 t0 t1 h = some res) (hH : x_S s0 D R h H locs cells slots) (hl : lv_has ls 4 [(0, .ref l0), (2, .int l2)]) : W p l e R s m args below meth c H locs cells slots (x_Q s0 D below s R (x_oc vU res.1) res.2) (F0 m 49 ls [.int t0, .ref t1]) := by
  obtain ⟨hx, hb, hown, hts, hK, hml, hW, Z, -⟩ := id C
  unfold f_RS_init_b49 at hp
  refine x_pV C hH fp_RS_31 (fun _ => hnm) d_RS_init_49 rfl rfl hp (fun h H locs hp hH => ?_)
  refine lv_aload_n hx hb d_RS_init_52 rfl (lv_at hl 0 rfl) ?_
  refine lv_aload_n hx hb d_RS_init_53 rfl (lv_at hl 0 rfl) ?_
  refine x_gI C hH fl_RS_31 d_RS_init_54 hp (fun v1 hp => ?_)
  refine x_nAA C hH na_RS_35 d_RS_init_57 hp (fun a2 h H cells slots hp hH => ?_)
  refine x_pV C hH fp_RS_37 (fun _ => hnm) d_RS_init_60 rfl rfl hp (fun h H locs hp hH => ?_)
  refine lv_iconst (v := 0) hx hb d_RS_init_63 (by decide) ?_
  refine lv_istore_n (lv' := [(3, .int 0), (0, .ref l0), (2, .int l2)]) hx hb d_RS_init_64 rfl hl (by decide) rfl (fun ls hl => ?_)
  exact w_RS_init_h65 C hr hnm hRf hRl  1000 l0 l2 0 _ _ _ _ _ _ hp hH (lv_sub hl [1, 2, 0] rfl)
set_option maxHeartbeats 4000000 in
set_option maxRecDepth 100000 in
theorem w_RS_init_0 {res : (Unit ⊕ (Nat × Nat)) × xH} (C : x_C l s0 A0 D R_RS prog_1_method_2_code 4 [] p s m args meth c) (hr : meth.sig.returnType = none) (hnm : meth.name = "<init>") (hRf : 4 ≤ R.frames) (hRl : 125 ≤ R.locals)  (l0 : Nat) (l1 : Int32) (l2 : Int32) (hp : f_RS_init l0 l1 l2 h = some res) (hH : x_S s0 D R h H locs cells slots) (hl : lv_has ls 4 [(0, .ref l0), (1, .int l1), (2, .int l2)]) : W p l e R s m args below meth c H locs cells slots (x_Q s0 D below s R (x_oc vU res.1) res.2) (F0 m 0 ls []) := by
  obtain ⟨hx, hb, hown, hts, hK, hml, hW, Z, -⟩ := id C
  unfold f_RS_init at hp
  refine lv_aload_n hx hb d_RS_init_0 rfl (lv_at hl 0 rfl) ?_
  refine W.objInit hx hb hown (hts _ oi_RS_1) (hts _ k_27) (hts _ k_28) rfl (by rw [hml]; exact hl.1) rfl d_RS_init_1 (Nat.le_trans (Nat.le_of_ble_eq_true rfl) hRf) (Nat.le_trans (Nat.le_of_ble_eq_true rfl) hRl) ?_
  refine W.eq (g2 := F0 m 4 ls []) rfl ?_
  refine lv_aload_n hx hb d_RS_init_4 rfl (lv_at hl 0 rfl) ?_
  refine lv_bipush (v := 8) hx hb d_RS_init_5 (by decide) ?_
  refine x_nAA C hH na_RS_9 d_RS_init_7 hp (fun a1 h H cells slots hp hH => ?_)
  refine x_pV C hH fp_RS_11 (fun _ => hnm) d_RS_init_10 rfl rfl hp (fun h H locs hp hH => ?_)
  refine lv_aload_n hx hb d_RS_init_13 rfl (lv_at hl 0 rfl) ?_
  refine lv_sipush (v := 500) hx hb d_RS_init_14 (by decide) ?_
  refine x_nAA C hH na_RS_15 d_RS_init_17 hp (fun a2 h H cells slots hp hH => ?_)
  refine x_pV C hH fp_RS_17 (fun _ => hnm) d_RS_init_20 rfl rfl hp (fun h H locs hp hH => ?_)
  refine lv_aload_n hx hb d_RS_init_23 rfl (lv_at hl 0 rfl) ?_
  refine lv_bipush (v := 40) hx hb d_RS_init_24 (by decide) ?_
  refine x_nAI C hH k_57 d_RS_init_26 hp (fun a3 h H cells slots hp hH => ?_)
  refine x_pV C hH fp_RS_21 (fun _ => hnm) d_RS_init_28 rfl rfl hp (fun h H locs hp hH => ?_)
  refine lv_aload_n hx hb d_RS_init_31 rfl (lv_at hl 0 rfl) ?_
  refine lv_iload_n hx hb d_RS_init_32 rfl (lv_at hl 1 rfl) ?_
  refine lv_i2l (v := l1.toInt64) hx hb d_RS_init_33 rfl ?_
  refine lv_lconst (v := 1) hx hb d_RS_init_34 (by decide) ?_
  refine lv_ldc2 hx hb hown (hts _ k_33) d_RS_init_35 ?_
  refine x_callS (As := [.long l1.toInt64, .long 1, .long 3]) (rest := [.ref l0]) (cv := vI) C hH kc_RS_27 d_RS_init_38 hp (fun o h' e => m_RS_isIn Z e) rfl hl.1 (Nat.le_trans (Nat.le_of_ble_eq_true rfl) hRf) (Nat.le_trans (Nat.le_of_ble_eq_true rfl) hRl) (Nat.le_of_ble_eq_true rfl) (fun v4 h H locs cells slots hp hH => ?_)
  refine W.eq (g2 := F0 m 41 ls [.int v4, .ref l0]) rfl ?_
  refine lv_if_eq (tgt := 48) hx hb d_RS_init_41 (by decide) (fun hc => ?_) (fun hc => ?_)
  · replace hp := x_ifp hc hp
    refine lv_iconst (v := 2) hx hb d_RS_init_48 (by decide) ?_
    exact w_RS_init_49 C hr hnm hRf hRl  l0 l2 2 l0 hp hH (lv_sub hl [0, 2] rfl)
  · replace hp := x_ifn hc hp
    refine lv_iload_n hx hb d_RS_init_44 rfl (lv_at hl 1 rfl) ?_
    refine lv_goto (tgt := 49) hx hb d_RS_init_45 (by decide) ?_
    exact w_RS_init_49 C hr hnm hRf hRl  l0 l2 l1 l0 hp hH (lv_sub hl [0, 2] rfl)
set_option maxRecDepth 100000 in
theorem m_RS_init (Z : x_Z l s0 A0 D) {l0 : Nat} {l1 : Int32} {l2 : Int32} {res : (Unit ⊕ (Nat × Nat)) × xH} (hp : f_RS_init l0 l1 l2 h = some res) : x_M l s0 D y_RS_init (x_cw y_RS_init prog_1_method_2_code 4 none []) 4 125 [.ref l0, .int l1, .int l2] h (x_oc vU res.1) res.2 := by
  refine x_M.ofW Z (plainFor_of_name (by decide)) ?_
  intro p e s m below meth c C hnm hr hH
  have hl := lv_entry ([.ref l0, .int l1, .int l2]) (n := 4) (Nat.le_of_ble_eq_true rfl)
  rw [lg_entry_eq]
  generalize (lg_sl ([.ref l0, .int l1, .int l2]) ++ List.replicate (4 - (lg_sl ([.ref l0, .int l1, .int l2])).length) Slot.unset).toArray = ls at hl ⊢
  exact w_RS_init_0 C hr hnm (Nat.le_refl _) (Nat.le_refl _) l0 l1 l2 hp hH hl
/-! java/lang/Math.min(II)I -/
theorem d_Math_min_0 : decode prog_17_method_69_code 0 = .ok (.iload_n 0, 1) := by decide +kernel
theorem d_Math_min_1 : decode prog_17_method_69_code 1 = .ok (.iload_n 1, 1) := by decide +kernel
theorem d_Math_min_2 : decode prog_17_method_69_code 2 = .ok (.if_icmp .gt 7, 3) := by decide +kernel
theorem d_Math_min_5 : decode prog_17_method_69_code 5 = .ok (.iload_n 0, 1) := by decide +kernel
theorem d_Math_min_6 : decode prog_17_method_69_code 6 = .ok (.goto 4, 3) := by decide +kernel
theorem d_Math_min_9 : decode prog_17_method_69_code 9 = .ok (.iload_n 1, 1) := by decide +kernel
theorem d_Math_min_10 : decode prog_17_method_69_code 10 = .ok (.ireturn, 1) := by decide +kernel
set_option maxHeartbeats 4000000 in
set_option maxRecDepth 100000 in
theorem w_Math_min_10 {res : (Int32 ⊕ (Nat × Nat)) × xH} (C : x_C l s0 A0 D R_Math prog_17_method_69_code 2 [] p s m args meth c) (hr : meth.sig.returnType = (some .int)) (hnm : meth.name = "min") (hRf : 0 ≤ R.frames) (hRl : 0 ≤ R.locals)  (t0 : Int32) (hp : f_Math_min_b10 t0 h = some res) (hH : x_S s0 D R h H locs cells slots) (hl : lv_has ls 2 []) : W p l e R s m args below meth c H locs cells slots (x_Q s0 D below s R (x_oc vI res.1) res.2) (F0 m 10 ls [.int t0]) := by
  obtain ⟨hx, hb, hown, hts, hK, hml, hW, Z, -⟩ := id C
  unfold f_Math_min_b10 at hp
  exact x_iret C hH hr d_Math_min_10 hp
set_option maxHeartbeats 4000000 in
set_option maxRecDepth 100000 in
theorem w_Math_min_0 {res : (Int32 ⊕ (Nat × Nat)) × xH} (C : x_C l s0 A0 D R_Math prog_17_method_69_code 2 [] p s m args meth c) (hr : meth.sig.returnType = (some .int)) (hnm : meth.name = "min") (hRf : 0 ≤ R.frames) (hRl : 0 ≤ R.locals)  (l0 : Int32) (l1 : Int32) (hp : f_Math_min l0 l1 h = some res) (hH : x_S s0 D R h H locs cells slots) (hl : lv_has ls 2 [(0, .int l0), (1, .int l1)]) : W p l e R s m args below meth c H locs cells slots (x_Q s0 D below s R (x_oc vI res.1) res.2) (F0 m 0 ls []) := by
  obtain ⟨hx, hb, hown, hts, hK, hml, hW, Z, -⟩ := id C
  unfold f_Math_min at hp
  refine lv_iload_n hx hb d_Math_min_0 rfl (lv_at hl 0 rfl) ?_
  refine lv_iload_n hx hb d_Math_min_1 rfl (lv_at hl 1 rfl) ?_
  refine lv_icmp_gt (tgt := 9) hx hb d_Math_min_2 (by decide) (fun hc => ?_) (fun hc => ?_)
  · replace hp := x_ifp hc hp
    refine lv_iload_n hx hb d_Math_min_9 rfl (lv_at hl 1 rfl) ?_
    exact w_Math_min_10 C hr hnm hRf hRl  l1 hp hH (lv_sub hl [] rfl)
  · replace hp := x_ifn hc hp
    refine lv_iload_n hx hb d_Math_min_5 rfl (lv_at hl 0 rfl) ?_
    refine lv_goto (tgt := 10) hx hb d_Math_min_6 (by decide) ?_
    exact w_Math_min_10 C hr hnm hRf hRl  l0 hp hH (lv_sub hl [] rfl)
set_option maxRecDepth 100000 in
theorem m_Math_min (Z : x_Z l s0 A0 D) {l0 : Int32} {l1 : Int32} {res : (Int32 ⊕ (Nat × Nat)) × xH} (hp : f_Math_min l0 l1 h = some res) : x_M l s0 D y_Math_min (x_cw y_Math_min prog_17_method_69_code 2 (some .int) []) 0 0 [.int l0, .int l1] h (x_oc vI res.1) res.2 := by
  refine x_M.ofW Z (by decide +kernel) ?_
  intro p e s m below meth c C hnm hr hH
  have hl := lv_entry ([.int l0, .int l1]) (n := 2) (Nat.le_of_ble_eq_true rfl)
  rw [lg_entry_eq]
  generalize (lg_sl ([.int l0, .int l1]) ++ List.replicate (2 - (lg_sl ([.int l0, .int l1])).length) Slot.unset).toArray = ls at hl ⊢
  exact w_Math_min_0 C hr hnm (Nat.le_refl _) (Nat.le_refl _) l0 l1 hp hH hl
/-! ReadSide.trim()I -/
theorem d_RS_trim_0 : decode prog_1_method_21_code 0 = .ok (.iconst 0, 1) := by decide +kernel
theorem d_RS_trim_1 : decode prog_1_method_21_code 1 = .ok (.istore_n 1, 1) := by decide +kernel
theorem d_RS_trim_2 : decode prog_1_method_21_code 2 = .ok (.iconst 0, 1) := by decide +kernel
theorem d_RS_trim_3 : decode prog_1_method_21_code 3 = .ok (.istore_n 2, 1) := by decide +kernel
theorem d_RS_trim_4 : decode prog_1_method_21_code 4 = .ok (.iload_n 2, 1) := by decide +kernel
theorem d_RS_trim_5 : decode prog_1_method_21_code 5 = .ok (.aload_n 0, 1) := by decide +kernel
theorem d_RS_trim_6 : decode prog_1_method_21_code 6 = .ok (.getfield 31, 3) := by decide +kernel
theorem d_RS_trim_9 : decode prog_1_method_21_code 9 = .ok (.if_icmp .ge 111, 3) := by decide +kernel
theorem d_RS_trim_12 : decode prog_1_method_21_code 12 = .ok (.sipush 400, 3) := by decide +kernel
theorem d_RS_trim_15 : decode prog_1_method_21_code 15 = .ok (.istore_n 3, 1) := by decide +kernel
theorem d_RS_trim_16 : decode prog_1_method_21_code 16 = .ok (.aload_n 0, 1) := by decide +kernel
theorem d_RS_trim_17 : decode prog_1_method_21_code 17 = .ok (.getfield 46, 3) := by decide +kernel
theorem d_RS_trim_20 : decode prog_1_method_21_code 20 = .ok (.astore 4, 2) := by decide +kernel
theorem d_RS_trim_22 : decode prog_1_method_21_code 22 = .ok (.aload 4, 2) := by decide +kernel
theorem d_RS_trim_24 : decode prog_1_method_21_code 24 = .ok (.arraylength, 1) := by decide +kernel
theorem d_RS_trim_25 : decode prog_1_method_21_code 25 = .ok (.istore 5, 2) := by decide +kernel
theorem d_RS_trim_27 : decode prog_1_method_21_code 27 = .ok (.iconst 0, 1) := by decide +kernel
theorem d_RS_trim_28 : decode prog_1_method_21_code 28 = .ok (.istore 6, 2) := by decide +kernel
theorem d_RS_trim_30 : decode prog_1_method_21_code 30 = .ok (.iload 6, 2) := by decide +kernel
theorem d_RS_trim_32 : decode prog_1_method_21_code 32 = .ok (.iload 5, 2) := by decide +kernel
theorem d_RS_trim_34 : decode prog_1_method_21_code 34 = .ok (.if_icmp .ge 34, 3) := by decide +kernel
theorem d_RS_trim_37 : decode prog_1_method_21_code 37 = .ok (.aload 4, 2) := by decide +kernel
theorem d_RS_trim_39 : decode prog_1_method_21_code 39 = .ok (.iload 6, 2) := by decide +kernel
theorem d_RS_trim_41 : decode prog_1_method_21_code 41 = .ok (.aaload, 1) := by decide +kernel
theorem d_RS_trim_42 : decode prog_1_method_21_code 42 = .ok (.astore 7, 2) := by decide +kernel
theorem d_RS_trim_44 : decode prog_1_method_21_code 44 = .ok (.iload_n 3, 1) := by decide +kernel
theorem d_RS_trim_45 : decode prog_1_method_21_code 45 = .ok (.aload 7, 2) := by decide +kernel
theorem d_RS_trim_47 : decode prog_1_method_21_code 47 = .ok (.getfield 210, 3) := by decide +kernel
theorem d_RS_trim_50 : decode prog_1_method_21_code 50 = .ok (.getfield 154, 3) := by decide +kernel
theorem d_RS_trim_53 : decode prog_1_method_21_code 53 = .ok (.getfield 126, 3) := by decide +kernel
theorem d_RS_trim_56 : decode prog_1_method_21_code 56 = .ok (.iload_n 2, 1) := by decide +kernel
theorem d_RS_trim_57 : decode prog_1_method_21_code 57 = .ok (.iaload, 1) := by decide +kernel
theorem d_RS_trim_58 : decode prog_1_method_21_code 58 = .ok (.invokestatic 220, 3) := by decide +kernel
theorem d_RS_trim_61 : decode prog_1_method_21_code 61 = .ok (.istore_n 3, 1) := by decide +kernel
theorem d_RS_trim_62 : decode prog_1_method_21_code 62 = .ok (.iinc 6 1, 3) := by decide +kernel
theorem d_RS_trim_65 : decode prog_1_method_21_code 65 = .ok (.goto (-35), 3) := by decide +kernel
theorem d_RS_trim_68 : decode prog_1_method_21_code 68 = .ok (.aload_n 0, 1) := by decide +kernel
theorem d_RS_trim_69 : decode prog_1_method_21_code 69 = .ok (.getfield 37, 3) := by decide +kernel
theorem d_RS_trim_72 : decode prog_1_method_21_code 72 = .ok (.iload_n 2, 1) := by decide +kernel
theorem d_RS_trim_73 : decode prog_1_method_21_code 73 = .ok (.aaload, 1) := by decide +kernel
theorem d_RS_trim_74 : decode prog_1_method_21_code 74 = .ok (.getfield 225, 3) := by decide +kernel
theorem d_RS_trim_77 : decode prog_1_method_21_code 77 = .ok (.iload_n 3, 1) := by decide +kernel
theorem d_RS_trim_78 : decode prog_1_method_21_code 78 = .ok (.if_icmp .ge 36, 3) := by decide +kernel
theorem d_RS_trim_81 : decode prog_1_method_21_code 81 = .ok (.aload_n 0, 1) := by decide +kernel
theorem d_RS_trim_82 : decode prog_1_method_21_code 82 = .ok (.getfield 37, 3) := by decide +kernel
theorem d_RS_trim_85 : decode prog_1_method_21_code 85 = .ok (.iload_n 2, 1) := by decide +kernel
theorem d_RS_trim_86 : decode prog_1_method_21_code 86 = .ok (.aaload, 1) := by decide +kernel
theorem d_RS_trim_87 : decode prog_1_method_21_code 87 = .ok (.getfield 122, 3) := by decide +kernel
theorem d_RS_trim_90 : decode prog_1_method_21_code 90 = .ok (.aload_n 0, 1) := by decide +kernel
theorem d_RS_trim_91 : decode prog_1_method_21_code 91 = .ok (.getfield 37, 3) := by decide +kernel
theorem d_RS_trim_94 : decode prog_1_method_21_code 94 = .ok (.iload_n 2, 1) := by decide +kernel
theorem d_RS_trim_95 : decode prog_1_method_21_code 95 = .ok (.aaload, 1) := by decide +kernel
theorem d_RS_trim_96 : decode prog_1_method_21_code 96 = .ok (.dup, 1) := by decide +kernel
theorem d_RS_trim_97 : decode prog_1_method_21_code 97 = .ok (.getfield 225, 3) := by decide +kernel
theorem d_RS_trim_100 : decode prog_1_method_21_code 100 = .ok (.dup_x1, 1) := by decide +kernel
theorem d_RS_trim_101 : decode prog_1_method_21_code 101 = .ok (.iconst 1, 1) := by decide +kernel
theorem d_RS_trim_102 : decode prog_1_method_21_code 102 = .ok (.iadd, 1) := by decide +kernel
theorem d_RS_trim_103 : decode prog_1_method_21_code 103 = .ok (.putfield 225, 3) := by decide +kernel
theorem d_RS_trim_106 : decode prog_1_method_21_code 106 = .ok (.aconst_null, 1) := by decide +kernel
theorem d_RS_trim_107 : decode prog_1_method_21_code 107 = .ok (.aastore, 1) := by decide +kernel
theorem d_RS_trim_108 : decode prog_1_method_21_code 108 = .ok (.iinc 1 1, 3) := by decide +kernel
theorem d_RS_trim_111 : decode prog_1_method_21_code 111 = .ok (.goto (-43), 3) := by decide +kernel
theorem d_RS_trim_114 : decode prog_1_method_21_code 114 = .ok (.iinc 2 1, 3) := by decide +kernel
theorem d_RS_trim_117 : decode prog_1_method_21_code 117 = .ok (.goto (-113), 3) := by decide +kernel
theorem d_RS_trim_120 : decode prog_1_method_21_code 120 = .ok (.iload_n 1, 1) := by decide +kernel
theorem d_RS_trim_121 : decode prog_1_method_21_code 121 = .ok (.ireturn, 1) := by decide +kernel
set_option maxHeartbeats 4000000 in
set_option maxRecDepth 100000 in
theorem w_RS_trim_68 {res : (Int32 ⊕ (Nat × Nat)) × xH} (C : x_C l s0 A0 D R_RS prog_1_method_21_code 8 [] p s m args meth c) (hr : meth.sig.returnType = (some .int)) (hnm : meth.name = "trim") (hRf : 1 ≤ R.frames) (hRl : 29 ≤ R.locals) {k4 : Nat → Int32 → Int32 → xM Int32} (hs4 : ∀ (l0 : Nat) (l1 : Int32) (l2 : Int32) (h : xH) (H : Heap) (locs : List Loc) (cells slots : Nat) (ls : Array Slot), k4 l0 l1 l2 h = some res → x_S s0 D R h H locs cells slots → lv_has ls 8 [(0, .ref l0), (1, .int l1), (2, .int l2)] → W p l e R s m args below meth c H locs cells slots (x_Q s0 D below s R (x_oc vI res.1) res.2) (F0 m 4 ls [])) {k68 : Nat → Int32 → Int32 → Int32 → xM Int32} (hs68 : ∀ (l0 : Nat) (l1 : Int32) (l2 : Int32) (l3 : Int32) (h : xH) (H : Heap) (locs : List Loc) (cells slots : Nat) (ls : Array Slot), k68 l0 l1 l2 l3 h = some res → x_S s0 D R h H locs cells slots → lv_has ls 8 [(0, .ref l0), (1, .int l1), (2, .int l2), (3, .int l3)] → W p l e R s m args below meth c H locs cells slots (x_Q s0 D below s R (x_oc vI res.1) res.2) (F0 m 68 ls [])) (l0 : Nat) (l1 : Int32) (l2 : Int32) (l3 : Int32) (hp : f_RS_trim_b68 k4 k68 l0 l1 l2 l3 h = some res) (hH : x_S s0 D R h H locs cells slots) (hl : lv_has ls 8 [(0, .ref l0), (1, .int l1), (2, .int l2), (3, .int l3)]) : W p l e R s m args below meth c H locs cells slots (x_Q s0 D below s R (x_oc vI res.1) res.2) (F0 m 68 ls []) := by
  obtain ⟨hx, hb, hown, hts, hK, hml, hW, Z, -⟩ := id C
  unfold f_RS_trim_b68 at hp
  refine lv_aload_n hx hb d_RS_trim_68 rfl (lv_at hl 0 rfl) ?_
  refine x_gA C hH fl_RS_37 d_RS_trim_69 hp (fun v1 hp => ?_)
  refine lv_iload_n hx hb d_RS_trim_72 rfl (lv_at hl 2 rfl) ?_
  refine x_lA C hH (by decide) d_RS_trim_73 hp (fun v2 hp => ?_)
  refine x_gI C hH fl_RS_225 d_RS_trim_74 hp (fun v3 hp => ?_)
  refine lv_iload_n hx hb d_RS_trim_77 rfl (lv_at hl 3 rfl) ?_
  refine lv_icmp_ge (tgt := 114) hx hb d_RS_trim_78 (by decide) (fun hc => ?_) (fun hc => ?_)
  · replace hp := x_ifp hc hp
    refine lv_iinc (v := (l2 + 1)) (lv' := [(2, .int (l2 + 1)), (0, .ref l0), (1, .int l1), (3, .int l3)]) hx hb d_RS_trim_114 hl (k := 2) rfl rfl (by decide) rfl (fun ls hl => ?_)
    refine lv_goto (tgt := 4) hx hb d_RS_trim_117 (by decide) ?_
    exact hs4 l0 l1 (l2 + 1) _ _ _ _ _ _ hp hH (lv_sub hl [1, 2, 0] rfl)
  · replace hp := x_ifn hc hp
    refine lv_aload_n hx hb d_RS_trim_81 rfl (lv_at hl 0 rfl) ?_
    refine x_gA C hH fl_RS_37 d_RS_trim_82 hp (fun v4 hp => ?_)
    refine lv_iload_n hx hb d_RS_trim_85 rfl (lv_at hl 2 rfl) ?_
    refine x_lA C hH (by decide) d_RS_trim_86 hp (fun v5 hp => ?_)
    refine x_gA C hH fl_RS_122 d_RS_trim_87 hp (fun v6 hp => ?_)
    refine lv_aload_n hx hb d_RS_trim_90 rfl (lv_at hl 0 rfl) ?_
    refine x_gA C hH fl_RS_37 d_RS_trim_91 hp (fun v7 hp => ?_)
    refine lv_iload_n hx hb d_RS_trim_94 rfl (lv_at hl 2 rfl) ?_
    refine x_lA C hH (by decide) d_RS_trim_95 hp (fun v8 hp => ?_)
    refine lv_dup hx hb d_RS_trim_96 rfl ?_
    refine x_gI C hH fl_RS_225 d_RS_trim_97 hp (fun v9 hp => ?_)
    refine lv_dup_x1 hx hb d_RS_trim_100 rfl rfl ?_
    refine lv_iconst (v := 1) hx hb d_RS_trim_101 (by decide) ?_
    refine lv_iadd hx hb d_RS_trim_102 ?_
    refine x_pV C hH fp_RS_225 (fun h => Bool.noConfusion h) d_RS_trim_103 rfl rfl hp (fun h H locs hp hH => ?_)
    refine lv_null hx hb d_RS_trim_106 ?_
    refine x_sN C hH (by decide) d_RS_trim_107 hp (fun h H locs hp hH => ?_)
    refine lv_iinc (v := (l1 + 1)) (lv' := [(1, .int (l1 + 1)), (0, .ref l0), (2, .int l2), (3, .int l3)]) hx hb d_RS_trim_108 hl (k := 1) rfl rfl (by decide) rfl (fun ls hl => ?_)
    refine lv_goto (tgt := 68) hx hb d_RS_trim_111 (by decide) ?_
    exact hs68 l0 (l1 + 1) l2 l3 _ _ _ _ _ _ hp hH (lv_sub hl [1, 0, 2, 3] rfl)
theorem w_RS_trim_h68 {res : (Int32 ⊕ (Nat × Nat)) × xH} (C : x_C l s0 A0 D R_RS prog_1_method_21_code 8 [] p s m args meth c) (hr : meth.sig.returnType = (some .int)) (hnm : meth.name = "trim") (hRf : 1 ≤ R.frames) (hRl : 29 ≤ R.locals) {k4 : Nat → Int32 → Int32 → xM Int32} (hs4 : ∀ (l0 : Nat) (l1 : Int32) (l2 : Int32) (h : xH) (H : Heap) (locs : List Loc) (cells slots : Nat) (ls : Array Slot), k4 l0 l1 l2 h = some res → x_S s0 D R h H locs cells slots → lv_has ls 8 [(0, .ref l0), (1, .int l1), (2, .int l2)] → W p l e R s m args below meth c H locs cells slots (x_Q s0 D below s R (x_oc vI res.1) res.2) (F0 m 4 ls [])) : ∀ (n : Nat) (l0 : Nat) (l1 : Int32) (l2 : Int32) (l3 : Int32) (h : xH) (H : Heap) (locs : List Loc) (cells slots : Nat) (ls : Array Slot), f_RS_trim_h68 k4 n l0 l1 l2 l3 h = some res → x_S s0 D R h H locs cells slots → lv_has ls 8 [(0, .ref l0), (1, .int l1), (2, .int l2), (3, .int l3)] → W p l e R s m args below meth c H locs cells slots (x_Q s0 D below s R (x_oc vI res.1) res.2) (F0 m 68 ls []) := by
  intro n
  induction n with
  | zero => intro l0 l1 l2 l3 h H locs cells slots ls hp hH hl; cases hp
  | succ n ih => intro l0 l1 l2 l3 h H locs cells slots ls hp hH hl; exact w_RS_trim_68 C hr hnm hRf hRl hs4 ih l0 l1 l2 l3 hp hH hl
set_option maxHeartbeats 4000000 in
set_option maxRecDepth 100000 in
theorem w_RS_trim_30 {res : (Int32 ⊕ (Nat × Nat)) × xH} (C : x_C l s0 A0 D R_RS prog_1_method_21_code 8 [] p s m args meth c) (hr : meth.sig.returnType = (some .int)) (hnm : meth.name = "trim") (hRf : 1 ≤ R.frames) (hRl : 29 ≤ R.locals) {k4 : Nat → Int32 → Int32 → xM Int32} (hs4 : ∀ (l0 : Nat) (l1 : Int32) (l2 : Int32) (h : xH) (H : Heap) (locs : List Loc) (cells slots : Nat) (ls : Array Slot), k4 l0 l1 l2 h = some res → x_S s0 D R h H locs cells slots → lv_has ls 8 [(0, .ref l0), (1, .int l1), (2, .int l2)] → W p l e R s m args below meth c H locs cells slots (x_Q s0 D below s R (x_oc vI res.1) res.2) (F0 m 4 ls [])) {k30 : Nat → Int32 → Int32 → Int32 → Nat → Int32 → Int32 → xM Int32} (hs30 : ∀ (l0 : Nat) (l1 : Int32) (l2 : Int32) (l3 : Int32) (l4 : Nat) (l5 : Int32) (l6 : Int32) (h : xH) (H : Heap) (locs : List Loc) (cells slots : Nat) (ls : Array Slot), k30 l0 l1 l2 l3 l4 l5 l6 h = some res → x_S s0 D R h H locs cells slots → lv_has ls 8 [(0, .ref l0), (1, .int l1), (2, .int l2), (3, .int l3), (4, .ref l4), (5, .int l5), (6, .int l6)] → W p l e R s m args below meth c H locs cells slots (x_Q s0 D below s R (x_oc vI res.1) res.2) (F0 m 30 ls [])) (l0 : Nat) (l1 : Int32) (l2 : Int32) (l3 : Int32) (l4 : Nat) (l5 : Int32) (l6 : Int32) (hp : f_RS_trim_b30 k4 k30 l0 l1 l2 l3 l4 l5 l6 h = some res) (hH : x_S s0 D R h H locs cells slots) (hl : lv_has ls 8 [(0, .ref l0), (1, .int l1), (2, .int l2), (3, .int l3), (4, .ref l4), (5, .int l5), (6, .int l6)]) : W p l e R s m args below meth c H locs cells slots (x_Q s0 D below s R (x_oc vI res.1) res.2) (F0 m 30 ls []) := by
  obtain ⟨hx, hb, hown, hts, hK, hml, hW, Z, -⟩ := id C
  unfold f_RS_trim_b30 at hp
  refine lv_iload hx hb d_RS_trim_30 (lv_at hl 6 rfl) ?_
  refine lv_iload hx hb d_RS_trim_32 (lv_at hl 5 rfl) ?_
  refine lv_icmp_ge (tgt := 68) hx hb d_RS_trim_34 (by decide) (fun hc => ?_) (fun hc => ?_)
  · replace hp := x_ifp hc hp
    exact w_RS_trim_h68 C hr hnm hRf hRl hs4 1000 l0 l1 l2 l3 _ _ _ _ _ _ hp hH (lv_sub hl [0, 1, 2, 3] rfl)
  · replace hp := x_ifn hc hp
    refine lv_aload hx hb d_RS_trim_37 (lv_at hl 4 rfl) ?_
    refine lv_iload hx hb d_RS_trim_39 (lv_at hl 6 rfl) ?_
    refine x_lA C hH (by decide) d_RS_trim_41 hp (fun v1 hp => ?_)
    refine lv_astore (lv' := [(7, .ref v1), (0, .ref l0), (1, .int l1), (2, .int l2), (3, .int l3), (4, .ref l4), (5, .int l5), (6, .int l6)]) hx hb d_RS_trim_42 hl (by decide) rfl (fun ls hl => ?_)
    refine lv_iload_n hx hb d_RS_trim_44 rfl (lv_at hl 4 rfl) ?_
    refine lv_aload hx hb d_RS_trim_45 (lv_at hl 0 rfl) ?_
    refine x_gA C hH fl_RS_210 d_RS_trim_47 hp (fun v2 hp => ?_)
    refine x_gA C hH fl_RS_154 d_RS_trim_50 hp (fun v3 hp => ?_)
    refine x_gA C hH fl_RS_126 d_RS_trim_53 hp (fun v4 hp => ?_)
    refine lv_iload_n hx hb d_RS_trim_56 rfl (lv_at hl 3 rfl) ?_
    refine x_lI C hH d_RS_trim_57 hp (fun v5 hp => ?_)
    refine x_callS (As := [.int l3, .int v5]) (rest := []) (cv := vI) C hH kc_RS_220 d_RS_trim_58 hp (fun o h' e => m_Math_min Z e) rfl hl.1 (Nat.le_trans (Nat.le_of_ble_eq_true rfl) hRf) (Nat.le_trans (Nat.le_of_ble_eq_true rfl) hRl) (Nat.le_of_ble_eq_true rfl) (fun v6 h H locs cells slots hp hH => ?_)
    refine W.eq (g2 := F0 m 61 ls [.int v6]) rfl ?_
    refine lv_istore_n (lv' := [(3, .int v6), (7, .ref v1), (0, .ref l0), (1, .int l1), (2, .int l2), (4, .ref l4), (5, .int l5), (6, .int l6)]) hx hb d_RS_trim_61 rfl hl (by decide) rfl (fun ls hl => ?_)
    refine lv_iinc (v := (l6 + 1)) (lv' := [(6, .int (l6 + 1)), (3, .int v6), (7, .ref v1), (0, .ref l0), (1, .int l1), (2, .int l2), (4, .ref l4), (5, .int l5)]) hx hb d_RS_trim_62 hl (k := 7) rfl rfl (by decide) rfl (fun ls hl => ?_)
    refine lv_goto (tgt := 30) hx hb d_RS_trim_65 (by decide) ?_
    exact hs30 l0 l1 l2 v6 l4 l5 (l6 + 1) _ _ _ _ _ _ hp hH (lv_sub hl [3, 4, 5, 1, 6, 7, 0] rfl)
theorem w_RS_trim_h30 {res : (Int32 ⊕ (Nat × Nat)) × xH} (C : x_C l s0 A0 D R_RS prog_1_method_21_code 8 [] p s m args meth c) (hr : meth.sig.returnType = (some .int)) (hnm : meth.name = "trim") (hRf : 1 ≤ R.frames) (hRl : 29 ≤ R.locals) {k4 : Nat → Int32 → Int32 → xM Int32} (hs4 : ∀ (l0 : Nat) (l1 : Int32) (l2 : Int32) (h : xH) (H : Heap) (locs : List Loc) (cells slots : Nat) (ls : Array Slot), k4 l0 l1 l2 h = some res → x_S s0 D R h H locs cells slots → lv_has ls 8 [(0, .ref l0), (1, .int l1), (2, .int l2)] → W p l e R s m args below meth c H locs cells slots (x_Q s0 D below s R (x_oc vI res.1) res.2) (F0 m 4 ls [])) : ∀ (n : Nat) (l0 : Nat) (l1 : Int32) (l2 : Int32) (l3 : Int32) (l4 : Nat) (l5 : Int32) (l6 : Int32) (h : xH) (H : Heap) (locs : List Loc) (cells slots : Nat) (ls : Array Slot), f_RS_trim_h30 k4 n l0 l1 l2 l3 l4 l5 l6 h = some res → x_S s0 D R h H locs cells slots → lv_has ls 8 [(0, .ref l0), (1, .int l1), (2, .int l2), (3, .int l3), (4, .ref l4), (5, .int l5), (6, .int l6)] → W p l e R s m args below meth c H locs cells slots (x_Q s0 D below s R (x_oc vI res.1) res.2) (F0 m 30 ls []) := by
  intro n
  induction n with
  | zero => intro l0 l1 l2 l3 l4 l5 l6 h H locs cells slots ls hp hH hl; cases hp
  | succ n ih => intro l0 l1 l2 l3 l4 l5 l6 h H locs cells slots ls hp hH hl; exact w_RS_trim_30 C hr hnm hRf hRl hs4 ih l0 l1 l2 l3 l4 l5 l6 hp hH hl
set_option maxHeartbeats 4000000 in
set_option maxRecDepth 100000 in
theorem w_RS_trim_4 {res : (Int32 ⊕ (Nat × Nat)) × xH} (C : x_C l s0 A0 D R_RS prog_1_method_21_code 8 [] p s m args meth c) (hr : meth.sig.returnType = (some .int)) (hnm : meth.name = "trim") (hRf : 1 ≤ R.frames) (hRl : 29 ≤ R.locals) {k4 : Nat → Int32 → Int32 → xM Int32} (hs4 : ∀ (l0 : Nat) (l1 : Int32) (l2 : Int32) (h : xH) (H : Heap) (locs : List Loc) (cells slots : Nat) (ls : Array Slot), k4 l0 l1 l2 h = some res → x_S s0 D R h H locs cells slots → lv_has ls 8 [(0, .ref l0), (1, .int l1), (2, .int l2)] → W p l e R s m args below meth c H locs cells slots (x_Q s0 D below s R (x_oc vI res.1) res.2) (F0 m 4 ls [])) (l0 : Nat) (l1 : Int32) (l2 : Int32) (hp : f_RS_trim_b4 k4 l0 l1 l2 h = some res) (hH : x_S s0 D R h H locs cells slots) (hl : lv_has ls 8 [(0, .ref l0), (1, .int l1), (2, .int l2)]) : W p l e R s m args below meth c H locs cells slots (x_Q s0 D below s R (x_oc vI res.1) res.2) (F0 m 4 ls []) := by
  obtain ⟨hx, hb, hown, hts, hK, hml, hW, Z, -⟩ := id C
  unfold f_RS_trim_b4 at hp
  refine lv_iload_n hx hb d_RS_trim_4 rfl (lv_at hl 2 rfl) ?_
  refine lv_aload_n hx hb d_RS_trim_5 rfl (lv_at hl 0 rfl) ?_
  refine x_gI C hH fl_RS_31 d_RS_trim_6 hp (fun v1 hp => ?_)
  refine lv_icmp_ge (tgt := 120) hx hb d_RS_trim_9 (by decide) (fun hc => ?_) (fun hc => ?_)
  · replace hp := x_ifp hc hp
    refine lv_iload_n hx hb d_RS_trim_120 rfl (lv_at hl 1 rfl) ?_
    exact x_iret C hH hr d_RS_trim_121 hp
  · replace hp := x_ifn hc hp
    refine lv_sipush (v := 400) hx hb d_RS_trim_12 (by decide) ?_
    refine lv_istore_n (lv' := [(3, .int 400), (0, .ref l0), (1, .int l1), (2, .int l2)]) hx hb d_RS_trim_15 rfl hl (by decide) rfl (fun ls hl => ?_)
    refine lv_aload_n hx hb d_RS_trim_16 rfl (lv_at hl 1 rfl) ?_
    refine x_gA C hH fl_RS_46 d_RS_trim_17 hp (fun v2 hp => ?_)
    refine lv_astore (lv' := [(4, .ref v2), (3, .int 400), (0, .ref l0), (1, .int l1), (2, .int l2)]) hx hb d_RS_trim_20 hl (by decide) rfl (fun ls hl => ?_)
    refine lv_aload hx hb d_RS_trim_22 (lv_at hl 0 rfl) ?_
    refine x_aL C hH d_RS_trim_24 hp (fun v3 hp => ?_)
    refine lv_istore (lv' := [(5, .int v3), (4, .ref v2), (3, .int 400), (0, .ref l0), (1, .int l1), (2, .int l2)]) hx hb d_RS_trim_25 hl (by decide) rfl (fun ls hl => ?_)
    refine lv_iconst (v := 0) hx hb d_RS_trim_27 (by decide) ?_
    refine lv_istore (lv' := [(6, .int 0), (5, .int v3), (4, .ref v2), (3, .int 400), (0, .ref l0), (1, .int l1), (2, .int l2)]) hx hb d_RS_trim_28 hl (by decide) rfl (fun ls hl => ?_)
    exact w_RS_trim_h30 C hr hnm hRf hRl hs4 1000 l0 l1 l2 400 v2 v3 0 _ _ _ _ _ _ hp hH (lv_sub hl [4, 5, 6, 3, 2, 1, 0] rfl)
theorem w_RS_trim_h4 {res : (Int32 ⊕ (Nat × Nat)) × xH} (C : x_C l s0 A0 D R_RS prog_1_method_21_code 8 [] p s m args meth c) (hr : meth.sig.returnType = (some .int)) (hnm : meth.name = "trim") (hRf : 1 ≤ R.frames) (hRl : 29 ≤ R.locals)  : ∀ (n : Nat) (l0 : Nat) (l1 : Int32) (l2 : Int32) (h : xH) (H : Heap) (locs : List Loc) (cells slots : Nat) (ls : Array Slot), f_RS_trim_h4 n l0 l1 l2 h = some res → x_S s0 D R h H locs cells slots → lv_has ls 8 [(0, .ref l0), (1, .int l1), (2, .int l2)] → W p l e R s m args below meth c H locs cells slots (x_Q s0 D below s R (x_oc vI res.1) res.2) (F0 m 4 ls []) := by
  intro n
  induction n with
  | zero => intro l0 l1 l2 h H locs cells slots ls hp hH hl; cases hp
  | succ n ih => intro l0 l1 l2 h H locs cells slots ls hp hH hl; exact w_RS_trim_4 C hr hnm hRf hRl ih l0 l1 l2 hp hH hl
set_option maxHeartbeats 4000000 in
set_option maxRecDepth 100000 in
theorem w_RS_trim_0 {res : (Int32 ⊕ (Nat × Nat)) × xH} (C : x_C l s0 A0 D R_RS prog_1_method_21_code 8 [] p s m args meth c) (hr : meth.sig.returnType = (some .int)) (hnm : meth.name = "trim") (hRf : 1 ≤ R.frames) (hRl : 29 ≤ R.locals)  (l0 : Nat) (hp : f_RS_trim l0 h = some res) (hH : x_S s0 D R h H locs cells slots) (hl : lv_has ls 8 [(0, .ref l0)]) : W p l e R s m args below meth c H locs cells slots (x_Q s0 D below s R (x_oc vI res.1) res.2) (F0 m 0 ls []) := by
  obtain ⟨hx, hb, hown, hts, hK, hml, hW, Z, -⟩ := id C
  unfold f_RS_trim at hp
  refine lv_iconst (v := 0) hx hb d_RS_trim_0 (by decide) ?_
  refine lv_istore_n (lv' := [(1, .int 0), (0, .ref l0)]) hx hb d_RS_trim_1 rfl hl (by decide) rfl (fun ls hl => ?_)
  refine lv_iconst (v := 0) hx hb d_RS_trim_2 (by decide) ?_
  refine lv_istore_n (lv' := [(2, .int 0), (1, .int 0), (0, .ref l0)]) hx hb d_RS_trim_3 rfl hl (by decide) rfl (fun ls hl => ?_)
  exact w_RS_trim_h4 C hr hnm hRf hRl  1000 l0 0 0 _ _ _ _ _ _ hp hH (lv_sub hl [2, 1, 0] rfl)
set_option maxRecDepth 100000 in
theorem m_RS_trim (Z : x_Z l s0 A0 D) {l0 : Nat} {res : (Int32 ⊕ (Nat × Nat)) × xH} (hp : f_RS_trim l0 h = some res) : x_M l s0 D y_RS_trim (x_cw y_RS_trim prog_1_method_21_code 8 (some .int) []) 1 29 [.ref l0] h (x_oc vI res.1) res.2 := by
  refine x_M.ofW Z (plainFor_of_name (by decide)) ?_
  intro p e s m below meth c C hnm hr hH
  have hl := lv_entry ([.ref l0]) (n := 8) (Nat.le_of_ble_eq_true rfl)
  rw [lg_entry_eq]
  generalize (lg_sl ([.ref l0]) ++ List.replicate (8 - (lg_sl ([.ref l0])).length) Slot.unset).toArray = ls at hl ⊢
  exact w_RS_trim_0 C hr hnm (Nat.le_refl _) (Nat.le_refl _) l0 hp hH hl
/-! ReadSideLaw.cell([II)I -/
theorem d_law_cell_0 : decode method_2_code 0 = .ok (.iload_n 1, 1) := by decide +kernel
theorem d_law_cell_1 : decode method_2_code 1 = .ok (.aload_n 0, 1) := by decide +kernel
theorem d_law_cell_2 : decode method_2_code 2 = .ok (.arraylength, 1) := by decide +kernel
theorem d_law_cell_3 : decode method_2_code 3 = .ok (.if_icmp .ge 9, 3) := by decide +kernel
theorem d_law_cell_6 : decode method_2_code 6 = .ok (.aload_n 0, 1) := by decide +kernel
theorem d_law_cell_7 : decode method_2_code 7 = .ok (.iload_n 1, 1) := by decide +kernel
theorem d_law_cell_8 : decode method_2_code 8 = .ok (.iaload, 1) := by decide +kernel
theorem d_law_cell_9 : decode method_2_code 9 = .ok (.goto 4, 3) := by decide +kernel
theorem d_law_cell_12 : decode method_2_code 12 = .ok (.iconst 0, 1) := by decide +kernel
theorem d_law_cell_13 : decode method_2_code 13 = .ok (.ireturn, 1) := by decide +kernel
set_option maxHeartbeats 4000000 in
set_option maxRecDepth 100000 in
theorem w_law_cell_13 {res : (Int32 ⊕ (Nat × Nat)) × xH} (C : x_C l s0 A0 D R_law method_2_code 2 [] p s m args meth c) (hr : meth.sig.returnType = (some .int)) (hnm : meth.name = "cell") (hRf : 0 ≤ R.frames) (hRl : 0 ≤ R.locals)  (t0 : Int32) (hp : f_law_cell_b13 t0 h = some res) (hH : x_S s0 D R h H locs cells slots) (hl : lv_has ls 2 []) : W p l e R s m args below meth c H locs cells slots (x_Q s0 D below s R (x_oc vI res.1) res.2) (F0 m 13 ls [.int t0]) := by
  obtain ⟨hx, hb, hown, hts, hK, hml, hW, Z, -⟩ := id C
  unfold f_law_cell_b13 at hp
  exact x_iret C hH hr d_law_cell_13 hp
set_option maxHeartbeats 4000000 in
set_option maxRecDepth 100000 in
theorem w_law_cell_0 {res : (Int32 ⊕ (Nat × Nat)) × xH} (C : x_C l s0 A0 D R_law method_2_code 2 [] p s m args meth c) (hr : meth.sig.returnType = (some .int)) (hnm : meth.name = "cell") (hRf : 0 ≤ R.frames) (hRl : 0 ≤ R.locals)  (l0 : Nat) (l1 : Int32) (hp : f_law_cell l0 l1 h = some res) (hH : x_S s0 D R h H locs cells slots) (hl : lv_has ls 2 [(0, .ref l0), (1, .int l1)]) : W p l e R s m args below meth c H locs cells slots (x_Q s0 D below s R (x_oc vI res.1) res.2) (F0 m 0 ls []) := by
  obtain ⟨hx, hb, hown, hts, hK, hml, hW, Z, -⟩ := id C
  unfold f_law_cell at hp
  refine lv_iload_n hx hb d_law_cell_0 rfl (lv_at hl 1 rfl) ?_
  refine lv_aload_n hx hb d_law_cell_1 rfl (lv_at hl 0 rfl) ?_
  refine x_aL C hH d_law_cell_2 hp (fun v1 hp => ?_)
  refine lv_icmp_ge (tgt := 12) hx hb d_law_cell_3 (by decide) (fun hc => ?_) (fun hc => ?_)
  · replace hp := x_ifp hc hp
    refine lv_iconst (v := 0) hx hb d_law_cell_12 (by decide) ?_
    exact w_law_cell_13 C hr hnm hRf hRl  0 hp hH (lv_sub hl [] rfl)
  · replace hp := x_ifn hc hp
    refine lv_aload_n hx hb d_law_cell_6 rfl (lv_at hl 0 rfl) ?_
    refine lv_iload_n hx hb d_law_cell_7 rfl (lv_at hl 1 rfl) ?_
    refine x_lI C hH d_law_cell_8 hp (fun v2 hp => ?_)
    refine lv_goto (tgt := 13) hx hb d_law_cell_9 (by decide) ?_
    exact w_law_cell_13 C hr hnm hRf hRl  v2 hp hH (lv_sub hl [] rfl)
set_option maxRecDepth 100000 in
theorem m_law_cell (Z : x_Z l s0 A0 D) {l0 : Nat} {l1 : Int32} {res : (Int32 ⊕ (Nat × Nat)) × xH} (hp : f_law_cell l0 l1 h = some res) : x_M l s0 D y_law_cell (x_cw y_law_cell method_2_code 2 (some .int) []) 0 0 [.ref l0, .int l1] h (x_oc vI res.1) res.2 := by
  refine x_M.ofW Z (plainFor_of_name (by decide)) ?_
  intro p e s m below meth c C hnm hr hH
  have hl := lv_entry ([.ref l0, .int l1]) (n := 2) (Nat.le_of_ble_eq_true rfl)
  rw [lg_entry_eq]
  generalize (lg_sl ([.ref l0, .int l1]) ++ List.replicate (2 - (lg_sl ([.ref l0, .int l1])).length) Slot.unset).toArray = ls at hl ⊢
  exact w_law_cell_0 C hr hnm (Nat.le_refl _) (Nat.le_refl _) l0 l1 hp hH hl
/-! ReadSide$Session.has(I)Z -/
theorem d_Sess_has_0 : decode prog_7_method_2_code 0 = .ok (.aload_n 0, 1) := by decide +kernel
theorem d_Sess_has_1 : decode prog_7_method_2_code 1 = .ok (.getfield 19, 3) := by decide +kernel
theorem d_Sess_has_4 : decode prog_7_method_2_code 4 = .ok (.iload_n 1, 1) := by decide +kernel
theorem d_Sess_has_5 : decode prog_7_method_2_code 5 = .ok (.iand, 1) := by decide +kernel
theorem d_Sess_has_6 : decode prog_7_method_2_code 6 = .ok (.ifCond .eq 7, 3) := by decide +kernel
theorem d_Sess_has_9 : decode prog_7_method_2_code 9 = .ok (.iconst 1, 1) := by decide +kernel
theorem d_Sess_has_10 : decode prog_7_method_2_code 10 = .ok (.goto 4, 3) := by decide +kernel
theorem d_Sess_has_13 : decode prog_7_method_2_code 13 = .ok (.iconst 0, 1) := by decide +kernel
theorem d_Sess_has_14 : decode prog_7_method_2_code 14 = .ok (.ireturn, 1) := by decide +kernel
set_option maxHeartbeats 4000000 in
set_option maxRecDepth 100000 in
theorem w_Sess_has_14 {res : (Int32 ⊕ (Nat × Nat)) × xH} (C : x_C l s0 A0 D R_Sess prog_7_method_2_code 2 [] p s m args meth c) (hr : meth.sig.returnType = (some .boolean)) (hnm : meth.name = "has") (hRf : 0 ≤ R.frames) (hRl : 0 ≤ R.locals)  (t0 : Int32) (hp : f_Sess_has_b14 t0 h = some res) (hH : x_S s0 D R h H locs cells slots) (hl : lv_has ls 2 []) : W p l e R s m args below meth c H locs cells slots (x_Q s0 D below s R (x_oc vI res.1) res.2) (F0 m 14 ls [.int t0]) := by
  obtain ⟨hx, hb, hown, hts, hK, hml, hW, Z, -⟩ := id C
  unfold f_Sess_has_b14 at hp
  exact x_zret C hH hr d_Sess_has_14 hp
set_option maxHeartbeats 4000000 in
set_option maxRecDepth 100000 in
theorem w_Sess_has_0 {res : (Int32 ⊕ (Nat × Nat)) × xH} (C : x_C l s0 A0 D R_Sess prog_7_method_2_code 2 [] p s m args meth c) (hr : meth.sig.returnType = (some .boolean)) (hnm : meth.name = "has") (hRf : 0 ≤ R.frames) (hRl : 0 ≤ R.locals)  (l0 : Nat) (l1 : Int32) (hp : f_Sess_has l0 l1 h = some res) (hH : x_S s0 D R h H locs cells slots) (hl : lv_has ls 2 [(0, .ref l0), (1, .int l1)]) : W p l e R s m args below meth c H locs cells slots (x_Q s0 D below s R (x_oc vI res.1) res.2) (F0 m 0 ls []) := by
  obtain ⟨hx, hb, hown, hts, hK, hml, hW, Z, -⟩ := id C
  unfold f_Sess_has at hp
  refine lv_aload_n hx hb d_Sess_has_0 rfl (lv_at hl 0 rfl) ?_
  refine x_gI C hH fl_Sess_19 d_Sess_has_1 hp (fun v1 hp => ?_)
  refine lv_iload_n hx hb d_Sess_has_4 rfl (lv_at hl 1 rfl) ?_
  refine lv_iand hx hb d_Sess_has_5 ?_
  refine lv_if_eq (tgt := 13) hx hb d_Sess_has_6 (by decide) (fun hc => ?_) (fun hc => ?_)
  · replace hp := x_ifp hc hp
    refine lv_iconst (v := 0) hx hb d_Sess_has_13 (by decide) ?_
    exact w_Sess_has_14 C hr hnm hRf hRl  0 hp hH (lv_sub hl [] rfl)
  · replace hp := x_ifn hc hp
    refine lv_iconst (v := 1) hx hb d_Sess_has_9 (by decide) ?_
    refine lv_goto (tgt := 14) hx hb d_Sess_has_10 (by decide) ?_
    exact w_Sess_has_14 C hr hnm hRf hRl  1 hp hH (lv_sub hl [] rfl)
set_option maxRecDepth 100000 in
theorem m_Sess_has (Z : x_Z l s0 A0 D) {l0 : Nat} {l1 : Int32} {res : (Int32 ⊕ (Nat × Nat)) × xH} (hp : f_Sess_has l0 l1 h = some res) : x_M l s0 D y_Sess_has (x_cw y_Sess_has prog_7_method_2_code 2 (some .boolean) []) 0 0 [.ref l0, .int l1] h (x_oc vI res.1) res.2 := by
  refine x_M.ofW Z (plainFor_of_name (by decide)) ?_
  intro p e s m below meth c C hnm hr hH
  have hl := lv_entry ([.ref l0, .int l1]) (n := 2) (Nat.le_of_ble_eq_true rfl)
  rw [lg_entry_eq]
  generalize (lg_sl ([.ref l0, .int l1]) ++ List.replicate (2 - (lg_sl ([.ref l0, .int l1])).length) Slot.unset).toArray = ls at hl ⊢
  exact w_Sess_has_0 C hr hnm (Nat.le_refl _) (Nat.le_refl _) l0 l1 hp hH hl
/-! ReadSide$Vector.covers(LReadSide$Vector;)Z -/
theorem d_Vec_covers_0 : decode prog_9_method_2_code 0 = .ok (.aload_n 0, 1) := by decide +kernel
theorem d_Vec_covers_1 : decode prog_9_method_2_code 1 = .ok (.getfield 7, 3) := by decide +kernel
theorem d_Vec_covers_4 : decode prog_9_method_2_code 4 = .ok (.iconst 0, 1) := by decide +kernel
theorem d_Vec_covers_5 : decode prog_9_method_2_code 5 = .ok (.iaload, 1) := by decide +kernel
theorem d_Vec_covers_6 : decode prog_9_method_2_code 6 = .ok (.aload_n 1, 1) := by decide +kernel
theorem d_Vec_covers_7 : decode prog_9_method_2_code 7 = .ok (.getfield 7, 3) := by decide +kernel
theorem d_Vec_covers_10 : decode prog_9_method_2_code 10 = .ok (.iconst 0, 1) := by decide +kernel
theorem d_Vec_covers_11 : decode prog_9_method_2_code 11 = .ok (.iaload, 1) := by decide +kernel
theorem d_Vec_covers_12 : decode prog_9_method_2_code 12 = .ok (.if_icmp .lt 37, 3) := by decide +kernel
theorem d_Vec_covers_15 : decode prog_9_method_2_code 15 = .ok (.aload_n 0, 1) := by decide +kernel
theorem d_Vec_covers_16 : decode prog_9_method_2_code 16 = .ok (.getfield 7, 3) := by decide +kernel
theorem d_Vec_covers_19 : decode prog_9_method_2_code 19 = .ok (.iconst 1, 1) := by decide +kernel
theorem d_Vec_covers_20 : decode prog_9_method_2_code 20 = .ok (.iaload, 1) := by decide +kernel
theorem d_Vec_covers_21 : decode prog_9_method_2_code 21 = .ok (.aload_n 1, 1) := by decide +kernel
theorem d_Vec_covers_22 : decode prog_9_method_2_code 22 = .ok (.getfield 7, 3) := by decide +kernel
theorem d_Vec_covers_25 : decode prog_9_method_2_code 25 = .ok (.iconst 1, 1) := by decide +kernel
theorem d_Vec_covers_26 : decode prog_9_method_2_code 26 = .ok (.iaload, 1) := by decide +kernel
theorem d_Vec_covers_27 : decode prog_9_method_2_code 27 = .ok (.if_icmp .lt 22, 3) := by decide +kernel
theorem d_Vec_covers_30 : decode prog_9_method_2_code 30 = .ok (.aload_n 0, 1) := by decide +kernel
theorem d_Vec_covers_31 : decode prog_9_method_2_code 31 = .ok (.getfield 7, 3) := by decide +kernel
theorem d_Vec_covers_34 : decode prog_9_method_2_code 34 = .ok (.iconst 2, 1) := by decide +kernel
theorem d_Vec_covers_35 : decode prog_9_method_2_code 35 = .ok (.iaload, 1) := by decide +kernel
theorem d_Vec_covers_36 : decode prog_9_method_2_code 36 = .ok (.aload_n 1, 1) := by decide +kernel
theorem d_Vec_covers_37 : decode prog_9_method_2_code 37 = .ok (.getfield 7, 3) := by decide +kernel
theorem d_Vec_covers_40 : decode prog_9_method_2_code 40 = .ok (.iconst 2, 1) := by decide +kernel
theorem d_Vec_covers_41 : decode prog_9_method_2_code 41 = .ok (.iaload, 1) := by decide +kernel
theorem d_Vec_covers_42 : decode prog_9_method_2_code 42 = .ok (.if_icmp .lt 7, 3) := by decide +kernel
theorem d_Vec_covers_45 : decode prog_9_method_2_code 45 = .ok (.iconst 1, 1) := by decide +kernel
theorem d_Vec_covers_46 : decode prog_9_method_2_code 46 = .ok (.goto 4, 3) := by decide +kernel
theorem d_Vec_covers_49 : decode prog_9_method_2_code 49 = .ok (.iconst 0, 1) := by decide +kernel
theorem d_Vec_covers_50 : decode prog_9_method_2_code 50 = .ok (.ireturn, 1) := by decide +kernel
set_option maxHeartbeats 4000000 in
set_option maxRecDepth 100000 in
theorem w_Vec_covers_50 {res : (Int32 ⊕ (Nat × Nat)) × xH} (C : x_C l s0 A0 D R_Vec prog_9_method_2_code 2 [] p s m args meth c) (hr : meth.sig.returnType = (some .boolean)) (hnm : meth.name = "covers") (hRf : 0 ≤ R.frames) (hRl : 0 ≤ R.locals)  (t0 : Int32) (hp : f_Vec_covers_b50 t0 h = some res) (hH : x_S s0 D R h H locs cells slots) (hl : lv_has ls 2 []) : W p l e R s m args below meth c H locs cells slots (x_Q s0 D below s R (x_oc vI res.1) res.2) (F0 m 50 ls [.int t0]) := by
  obtain ⟨hx, hb, hown, hts, hK, hml, hW, Z, -⟩ := id C
  unfold f_Vec_covers_b50 at hp
  exact x_zret C hH hr d_Vec_covers_50 hp
set_option maxHeartbeats 4000000 in
set_option maxRecDepth 100000 in
theorem w_Vec_covers_49 {res : (Int32 ⊕ (Nat × Nat)) × xH} (C : x_C l s0 A0 D R_Vec prog_9_method_2_code 2 [] p s m args meth c) (hr : meth.sig.returnType = (some .boolean)) (hnm : meth.name = "covers") (hRf : 0 ≤ R.frames) (hRl : 0 ≤ R.locals)   (hp : f_Vec_covers_b49 h = some res) (hH : x_S s0 D R h H locs cells slots) (hl : lv_has ls 2 []) : W p l e R s m args below meth c H locs cells slots (x_Q s0 D below s R (x_oc vI res.1) res.2) (F0 m 49 ls []) := by
  obtain ⟨hx, hb, hown, hts, hK, hml, hW, Z, -⟩ := id C
  unfold f_Vec_covers_b49 at hp
  refine lv_iconst (v := 0) hx hb d_Vec_covers_49 (by decide) ?_
  exact w_Vec_covers_50 C hr hnm hRf hRl  0 hp hH (lv_sub hl [] rfl)
set_option maxHeartbeats 4000000 in
set_option maxRecDepth 100000 in
theorem w_Vec_covers_0 {res : (Int32 ⊕ (Nat × Nat)) × xH} (C : x_C l s0 A0 D R_Vec prog_9_method_2_code 2 [] p s m args meth c) (hr : meth.sig.returnType = (some .boolean)) (hnm : meth.name = "covers") (hRf : 0 ≤ R.frames) (hRl : 0 ≤ R.locals)  (l0 : Nat) (l1 : Nat) (hp : f_Vec_covers l0 l1 h = some res) (hH : x_S s0 D R h H locs cells slots) (hl : lv_has ls 2 [(0, .ref l0), (1, .ref l1)]) : W p l e R s m args below meth c H locs cells slots (x_Q s0 D below s R (x_oc vI res.1) res.2) (F0 m 0 ls []) := by
  obtain ⟨hx, hb, hown, hts, hK, hml, hW, Z, -⟩ := id C
  unfold f_Vec_covers at hp
  refine lv_aload_n hx hb d_Vec_covers_0 rfl (lv_at hl 0 rfl) ?_
  refine x_gA C hH fl_Vec_7 d_Vec_covers_1 hp (fun v1 hp => ?_)
  refine lv_iconst (v := 0) hx hb d_Vec_covers_4 (by decide) ?_
  refine x_lI C hH d_Vec_covers_5 hp (fun v2 hp => ?_)
  refine lv_aload_n hx hb d_Vec_covers_6 rfl (lv_at hl 1 rfl) ?_
  refine x_gA C hH fl_Vec_7 d_Vec_covers_7 hp (fun v3 hp => ?_)
  refine lv_iconst (v := 0) hx hb d_Vec_covers_10 (by decide) ?_
  refine x_lI C hH d_Vec_covers_11 hp (fun v4 hp => ?_)
  refine lv_icmp_lt (tgt := 49) hx hb d_Vec_covers_12 (by decide) (fun hc => ?_) (fun hc => ?_)
  · replace hp := x_ifp hc hp
    exact w_Vec_covers_49 C hr hnm hRf hRl   hp hH (lv_sub hl [] rfl)
  · replace hp := x_ifn hc hp
    refine lv_aload_n hx hb d_Vec_covers_15 rfl (lv_at hl 0 rfl) ?_
    refine x_gA C hH fl_Vec_7 d_Vec_covers_16 hp (fun v5 hp => ?_)
    refine lv_iconst (v := 1) hx hb d_Vec_covers_19 (by decide) ?_
    refine x_lI C hH d_Vec_covers_20 hp (fun v6 hp => ?_)
    refine lv_aload_n hx hb d_Vec_covers_21 rfl (lv_at hl 1 rfl) ?_
    refine x_gA C hH fl_Vec_7 d_Vec_covers_22 hp (fun v7 hp => ?_)
    refine lv_iconst (v := 1) hx hb d_Vec_covers_25 (by decide) ?_
    refine x_lI C hH d_Vec_covers_26 hp (fun v8 hp => ?_)
    refine lv_icmp_lt (tgt := 49) hx hb d_Vec_covers_27 (by decide) (fun hc => ?_) (fun hc => ?_)
    · replace hp := x_ifp hc hp
      exact w_Vec_covers_49 C hr hnm hRf hRl   hp hH (lv_sub hl [] rfl)
    · replace hp := x_ifn hc hp
      refine lv_aload_n hx hb d_Vec_covers_30 rfl (lv_at hl 0 rfl) ?_
      refine x_gA C hH fl_Vec_7 d_Vec_covers_31 hp (fun v9 hp => ?_)
      refine lv_iconst (v := 2) hx hb d_Vec_covers_34 (by decide) ?_
      refine x_lI C hH d_Vec_covers_35 hp (fun v10 hp => ?_)
      refine lv_aload_n hx hb d_Vec_covers_36 rfl (lv_at hl 1 rfl) ?_
      refine x_gA C hH fl_Vec_7 d_Vec_covers_37 hp (fun v11 hp => ?_)
      refine lv_iconst (v := 2) hx hb d_Vec_covers_40 (by decide) ?_
      refine x_lI C hH d_Vec_covers_41 hp (fun v12 hp => ?_)
      refine lv_icmp_lt (tgt := 49) hx hb d_Vec_covers_42 (by decide) (fun hc => ?_) (fun hc => ?_)
      · replace hp := x_ifp hc hp
        exact w_Vec_covers_49 C hr hnm hRf hRl   hp hH (lv_sub hl [] rfl)
      · replace hp := x_ifn hc hp
        refine lv_iconst (v := 1) hx hb d_Vec_covers_45 (by decide) ?_
        refine lv_goto (tgt := 50) hx hb d_Vec_covers_46 (by decide) ?_
        exact w_Vec_covers_50 C hr hnm hRf hRl  1 hp hH (lv_sub hl [] rfl)
set_option maxRecDepth 100000 in
theorem m_Vec_covers (Z : x_Z l s0 A0 D) {l0 : Nat} {l1 : Nat} {res : (Int32 ⊕ (Nat × Nat)) × xH} (hp : f_Vec_covers l0 l1 h = some res) : x_M l s0 D y_Vec_covers (x_cw y_Vec_covers prog_9_method_2_code 2 (some .boolean) []) 0 0 [.ref l0, .ref l1] h (x_oc vI res.1) res.2 := by
  refine x_M.ofW Z (plainFor_of_name (by decide)) ?_
  intro p e s m below meth c C hnm hr hH
  have hl := lv_entry ([.ref l0, .ref l1]) (n := 2) (Nat.le_of_ble_eq_true rfl)
  rw [lg_entry_eq]
  generalize (lg_sl ([.ref l0, .ref l1]) ++ List.replicate (2 - (lg_sl ([.ref l0, .ref l1])).length) Slot.unset).toArray = ls at hl ⊢
  exact w_Vec_covers_0 C hr hnm (Nat.le_refl _) (Nat.le_refl _) l0 l1 hp hH hl
/-! ReadSide.may(LReadSide$Replica;LReadSide$Read;)Z -/
theorem d_RS_may_0 : decode prog_1_method_22_code 0 = .ok (.aload_n 0, 1) := by decide +kernel
theorem d_RS_may_1 : decode prog_1_method_22_code 1 = .ok (.getfield 11, 3) := by decide +kernel
theorem d_RS_may_4 : decode prog_1_method_22_code 4 = .ok (.aload_n 2, 1) := by decide +kernel
theorem d_RS_may_5 : decode prog_1_method_22_code 5 = .ok (.getfield 228, 3) := by decide +kernel
theorem d_RS_may_8 : decode prog_1_method_22_code 8 = .ok (.aaload, 1) := by decide +kernel
theorem d_RS_may_9 : decode prog_1_method_22_code 9 = .ok (.astore_n 3, 1) := by decide +kernel
theorem d_RS_may_10 : decode prog_1_method_22_code 10 = .ok (.aload_n 1, 1) := by decide +kernel
theorem d_RS_may_11 : decode prog_1_method_22_code 11 = .ok (.getfield 150, 3) := by decide +kernel
theorem d_RS_may_14 : decode prog_1_method_22_code 14 = .ok (.getfield 154, 3) := by decide +kernel
theorem d_RS_may_17 : decode prog_1_method_22_code 17 = .ok (.astore 4, 2) := by decide +kernel
theorem d_RS_may_19 : decode prog_1_method_22_code 19 = .ok (.aload_n 1, 1) := by decide +kernel
theorem d_RS_may_20 : decode prog_1_method_22_code 20 = .ok (.getfield 173, 3) := by decide +kernel
theorem d_RS_may_23 : decode prog_1_method_22_code 23 = .ok (.ifCond .eq 59, 3) := by decide +kernel
theorem d_RS_may_26 : decode prog_1_method_22_code 26 = .ok (.aload 4, 2) := by decide +kernel
theorem d_RS_may_28 : decode prog_1_method_22_code 28 = .ok (.aload_n 2, 1) := by decide +kernel
theorem d_RS_may_29 : decode prog_1_method_22_code 29 = .ok (.getfield 231, 3) := by decide +kernel
theorem d_RS_may_32 : decode prog_1_method_22_code 32 = .ok (.invokevirtual 162, 3) := by decide +kernel
theorem d_RS_may_35 : decode prog_1_method_22_code 35 = .ok (.ifCond .eq 47, 3) := by decide +kernel
theorem d_RS_may_38 : decode prog_1_method_22_code 38 = .ok (.aload_n 3, 1) := by decide +kernel
theorem d_RS_may_39 : decode prog_1_method_22_code 39 = .ok (.iconst 1, 1) := by decide +kernel
theorem d_RS_may_40 : decode prog_1_method_22_code 40 = .ok (.invokevirtual 102, 3) := by decide +kernel
theorem d_RS_may_43 : decode prog_1_method_22_code 43 = .ok (.ifCond .eq 15, 3) := by decide +kernel
theorem d_RS_may_46 : decode prog_1_method_22_code 46 = .ok (.aload 4, 2) := by decide +kernel
theorem d_RS_may_48 : decode prog_1_method_22_code 48 = .ok (.aload_n 3, 1) := by decide +kernel
theorem d_RS_may_49 : decode prog_1_method_22_code 49 = .ok (.getfield 119, 3) := by decide +kernel
theorem d_RS_may_52 : decode prog_1_method_22_code 52 = .ok (.invokevirtual 162, 3) := by decide +kernel
theorem d_RS_may_55 : decode prog_1_method_22_code 55 = .ok (.ifCond .eq 27, 3) := by decide +kernel
theorem d_RS_may_58 : decode prog_1_method_22_code 58 = .ok (.aload_n 3, 1) := by decide +kernel
theorem d_RS_may_59 : decode prog_1_method_22_code 59 = .ok (.iconst 2, 1) := by decide +kernel
theorem d_RS_may_60 : decode prog_1_method_22_code 60 = .ok (.invokevirtual 102, 3) := by decide +kernel
theorem d_RS_may_63 : decode prog_1_method_22_code 63 = .ok (.ifCond .eq 15, 3) := by decide +kernel
theorem d_RS_may_66 : decode prog_1_method_22_code 66 = .ok (.aload 4, 2) := by decide +kernel
theorem d_RS_may_68 : decode prog_1_method_22_code 68 = .ok (.aload_n 3, 1) := by decide +kernel
theorem d_RS_may_69 : decode prog_1_method_22_code 69 = .ok (.getfield 110, 3) := by decide +kernel
theorem d_RS_may_72 : decode prog_1_method_22_code 72 = .ok (.invokevirtual 162, 3) := by decide +kernel
theorem d_RS_may_75 : decode prog_1_method_22_code 75 = .ok (.ifCond .eq 7, 3) := by decide +kernel
theorem d_RS_may_78 : decode prog_1_method_22_code 78 = .ok (.iconst 1, 1) := by decide +kernel
theorem d_RS_may_79 : decode prog_1_method_22_code 79 = .ok (.goto 4, 3) := by decide +kernel
theorem d_RS_may_82 : decode prog_1_method_22_code 82 = .ok (.iconst 0, 1) := by decide +kernel
theorem d_RS_may_83 : decode prog_1_method_22_code 83 = .ok (.istore 5, 2) := by decide +kernel
theorem d_RS_may_85 : decode prog_1_method_22_code 85 = .ok (.iconst 0, 1) := by decide +kernel
theorem d_RS_may_86 : decode prog_1_method_22_code 86 = .ok (.istore 6, 2) := by decide +kernel
theorem d_RS_may_88 : decode prog_1_method_22_code 88 = .ok (.iload 6, 2) := by decide +kernel
theorem d_RS_may_90 : decode prog_1_method_22_code 90 = .ok (.aload_n 0, 1) := by decide +kernel
theorem d_RS_may_91 : decode prog_1_method_22_code 91 = .ok (.getfield 31, 3) := by decide +kernel
theorem d_RS_may_94 : decode prog_1_method_22_code 94 = .ok (.if_icmp .ge 55, 3) := by decide +kernel
theorem d_RS_may_97 : decode prog_1_method_22_code 97 = .ok (.iload 5, 2) := by decide +kernel
theorem d_RS_may_99 : decode prog_1_method_22_code 99 = .ok (.ifCond .eq 50, 3) := by decide +kernel
theorem d_RS_may_102 : decode prog_1_method_22_code 102 = .ok (.aload_n 2, 1) := by decide +kernel
theorem d_RS_may_103 : decode prog_1_method_22_code 103 = .ok (.getfield 233, 3) := by decide +kernel
theorem d_RS_may_106 : decode prog_1_method_22_code 106 = .ok (.iconst (-1), 1) := by decide +kernel
theorem d_RS_may_107 : decode prog_1_method_22_code 107 = .ok (.if_icmp .eq 42, 3) := by decide +kernel
theorem d_RS_may_110 : decode prog_1_method_22_code 110 = .ok (.aload_n 0, 1) := by decide +kernel
theorem d_RS_may_111 : decode prog_1_method_22_code 111 = .ok (.getfield 37, 3) := by decide +kernel
theorem d_RS_may_114 : decode prog_1_method_22_code 114 = .ok (.iload 6, 2) := by decide +kernel
theorem d_RS_may_116 : decode prog_1_method_22_code 116 = .ok (.aaload, 1) := by decide +kernel
theorem d_RS_may_117 : decode prog_1_method_22_code 117 = .ok (.getfield 91, 3) := by decide +kernel
theorem d_RS_may_120 : decode prog_1_method_22_code 120 = .ok (.aload 4, 2) := by decide +kernel
theorem d_RS_may_122 : decode prog_1_method_22_code 122 = .ok (.getfield 126, 3) := by decide +kernel
theorem d_RS_may_125 : decode prog_1_method_22_code 125 = .ok (.iload 6, 2) := by decide +kernel
theorem d_RS_may_127 : decode prog_1_method_22_code 127 = .ok (.iaload, 1) := by decide +kernel
theorem d_RS_may_128 : decode prog_1_method_22_code 128 = .ok (.isub, 1) := by decide +kernel
theorem d_RS_may_129 : decode prog_1_method_22_code 129 = .ok (.aload_n 2, 1) := by decide +kernel
theorem d_RS_may_130 : decode prog_1_method_22_code 130 = .ok (.getfield 233, 3) := by decide +kernel
theorem d_RS_may_133 : decode prog_1_method_22_code 133 = .ok (.if_icmp .gt 7, 3) := by decide +kernel
theorem d_RS_may_136 : decode prog_1_method_22_code 136 = .ok (.iconst 1, 1) := by decide +kernel
theorem d_RS_may_137 : decode prog_1_method_22_code 137 = .ok (.goto 4, 3) := by decide +kernel
theorem d_RS_may_140 : decode prog_1_method_22_code 140 = .ok (.iconst 0, 1) := by decide +kernel
theorem d_RS_may_141 : decode prog_1_method_22_code 141 = .ok (.istore 5, 2) := by decide +kernel
theorem d_RS_may_143 : decode prog_1_method_22_code 143 = .ok (.iinc 6 1, 3) := by decide +kernel
theorem d_RS_may_146 : decode prog_1_method_22_code 146 = .ok (.goto (-58), 3) := by decide +kernel
theorem d_RS_may_149 : decode prog_1_method_22_code 149 = .ok (.iload 5, 2) := by decide +kernel
theorem d_RS_may_151 : decode prog_1_method_22_code 151 = .ok (.ireturn, 1) := by decide +kernel
set_option maxHeartbeats 4000000 in
set_option maxRecDepth 100000 in
theorem w_RS_may_149 {res : (Int32 ⊕ (Nat × Nat)) × xH} (C : x_C l s0 A0 D R_RS prog_1_method_22_code 7 [] p s m args meth c) (hr : meth.sig.returnType = (some .boolean)) (hnm : meth.name = "may") (hRf : 1 ≤ R.frames) (hRl : 29 ≤ R.locals)  (l5 : Int32) (hp : f_RS_may_b149 l5 h = some res) (hH : x_S s0 D R h H locs cells slots) (hl : lv_has ls 7 [(5, .int l5)]) : W p l e R s m args below meth c H locs cells slots (x_Q s0 D below s R (x_oc vI res.1) res.2) (F0 m 149 ls []) := by
  obtain ⟨hx, hb, hown, hts, hK, hml, hW, Z, -⟩ := id C
  unfold f_RS_may_b149 at hp
  refine lv_iload hx hb d_RS_may_149 (lv_at hl 0 rfl) ?_
  exact x_zret C hH hr d_RS_may_151 hp
set_option maxHeartbeats 4000000 in
set_option maxRecDepth 100000 in
theorem w_RS_may_141 {res : (Int32 ⊕ (Nat × Nat)) × xH} (C : x_C l s0 A0 D R_RS prog_1_method_22_code 7 [] p s m args meth c) (hr : meth.sig.returnType = (some .boolean)) (hnm : meth.name = "may") (hRf : 1 ≤ R.frames) (hRl : 29 ≤ R.locals) {k88 : Nat → Nat → Nat → Int32 → Int32 → xM Int32} (hs88 : ∀ (l0 : Nat) (l2 : Nat) (l4 : Nat) (l5 : Int32) (l6 : Int32) (h : xH) (H : Heap) (locs : List Loc) (cells slots : Nat) (ls : Array Slot), k88 l0 l2 l4 l5 l6 h = some res → x_S s0 D R h H locs cells slots → lv_has ls 7 [(0, .ref l0), (2, .ref l2), (4, .ref l4), (5, .int l5), (6, .int l6)] → W p l e R s m args below meth c H locs cells slots (x_Q s0 D below s R (x_oc vI res.1) res.2) (F0 m 88 ls [])) (l0 : Nat) (l2 : Nat) (l4 : Nat) (l6 : Int32) (t0 : Int32) (hp : f_RS_may_b141 k88 l0 l2 l4 l6 t0 h = some res) (hH : x_S s0 D R h H locs cells slots) (hl : lv_has ls 7 [(0, .ref l0), (2, .ref l2), (4, .ref l4), (6, .int l6)]) : W p l e R s m args below meth c H locs cells slots (x_Q s0 D below s R (x_oc vI res.1) res.2) (F0 m 141 ls [.int t0]) := by
  obtain ⟨hx, hb, hown, hts, hK, hml, hW, Z, -⟩ := id C
  unfold f_RS_may_b141 at hp
  refine lv_istore (lv' := [(5, .int t0), (0, .ref l0), (2, .ref l2), (4, .ref l4), (6, .int l6)]) hx hb d_RS_may_141 hl (by decide) rfl (fun ls hl => ?_)
  refine lv_iinc (v := (l6 + 1)) (lv' := [(6, .int (l6 + 1)), (5, .int t0), (0, .ref l0), (2, .ref l2), (4, .ref l4)]) hx hb d_RS_may_143 hl (k := 4) rfl rfl (by decide) rfl (fun ls hl => ?_)
  refine lv_goto (tgt := 88) hx hb d_RS_may_146 (by decide) ?_
  exact hs88 l0 l2 l4 t0 (l6 + 1) _ _ _ _ _ _ hp hH (lv_sub hl [2, 3, 4, 1, 0] rfl)
set_option maxHeartbeats 4000000 in
set_option maxRecDepth 100000 in
theorem w_RS_may_88 {res : (Int32 ⊕ (Nat × Nat)) × xH} (C : x_C l s0 A0 D R_RS prog_1_method_22_code 7 [] p s m args meth c) (hr : meth.sig.returnType = (some .boolean)) (hnm : meth.name = "may") (hRf : 1 ≤ R.frames) (hRl : 29 ≤ R.locals) {k88 : Nat → Nat → Nat → Int32 → Int32 → xM Int32} (hs88 : ∀ (l0 : Nat) (l2 : Nat) (l4 : Nat) (l5 : Int32) (l6 : Int32) (h : xH) (H : Heap) (locs : List Loc) (cells slots : Nat) (ls : Array Slot), k88 l0 l2 l4 l5 l6 h = some res → x_S s0 D R h H locs cells slots → lv_has ls 7 [(0, .ref l0), (2, .ref l2), (4, .ref l4), (5, .int l5), (6, .int l6)] → W p l e R s m args below meth c H locs cells slots (x_Q s0 D below s R (x_oc vI res.1) res.2) (F0 m 88 ls [])) (l0 : Nat) (l2 : Nat) (l4 : Nat) (l5 : Int32) (l6 : Int32) (hp : f_RS_may_b88 k88 l0 l2 l4 l5 l6 h = some res) (hH : x_S s0 D R h H locs cells slots) (hl : lv_has ls 7 [(0, .ref l0), (2, .ref l2), (4, .ref l4), (5, .int l5), (6, .int l6)]) : W p l e R s m args below meth c H locs cells slots (x_Q s0 D below s R (x_oc vI res.1) res.2) (F0 m 88 ls []) := by
  obtain ⟨hx, hb, hown, hts, hK, hml, hW, Z, -⟩ := id C
  unfold f_RS_may_b88 at hp
  refine lv_iload hx hb d_RS_may_88 (lv_at hl 4 rfl) ?_
  refine lv_aload_n hx hb d_RS_may_90 rfl (lv_at hl 0 rfl) ?_
  refine x_gI C hH fl_RS_31 d_RS_may_91 hp (fun v1 hp => ?_)
  refine lv_icmp_ge (tgt := 149) hx hb d_RS_may_94 (by decide) (fun hc => ?_) (fun hc => ?_)
  · replace hp := x_ifp hc hp
    exact w_RS_may_149 C hr hnm hRf hRl  l5 hp hH (lv_sub hl [3] rfl)
  · replace hp := x_ifn hc hp
    refine lv_iload hx hb d_RS_may_97 (lv_at hl 3 rfl) ?_
    refine lv_if_eq (tgt := 149) hx hb d_RS_may_99 (by decide) (fun hc => ?_) (fun hc => ?_)
    · replace hp := x_ifp hc hp
      exact w_RS_may_149 C hr hnm hRf hRl  l5 hp hH (lv_sub hl [3] rfl)
    · replace hp := x_ifn hc hp
      refine lv_aload_n hx hb d_RS_may_102 rfl (lv_at hl 1 rfl) ?_
      refine x_gI C hH fl_RS_233 d_RS_may_103 hp (fun v2 hp => ?_)
      refine lv_iconst (v := (-1)) hx hb d_RS_may_106 (by decide) ?_
      refine lv_icmp_eq (tgt := 149) hx hb d_RS_may_107 (by decide) (fun hc => ?_) (fun hc => ?_)
      · replace hp := x_ifp hc hp
        exact w_RS_may_149 C hr hnm hRf hRl  l5 hp hH (lv_sub hl [3] rfl)
      · replace hp := x_ifn hc hp
        refine lv_aload_n hx hb d_RS_may_110 rfl (lv_at hl 0 rfl) ?_
        refine x_gA C hH fl_RS_37 d_RS_may_111 hp (fun v3 hp => ?_)
        refine lv_iload hx hb d_RS_may_114 (lv_at hl 4 rfl) ?_
        refine x_lA C hH (by decide) d_RS_may_116 hp (fun v4 hp => ?_)
        refine x_gI C hH fl_RS_91 d_RS_may_117 hp (fun v5 hp => ?_)
        refine lv_aload hx hb d_RS_may_120 (lv_at hl 2 rfl) ?_
        refine x_gA C hH fl_RS_126 d_RS_may_122 hp (fun v6 hp => ?_)
        refine lv_iload hx hb d_RS_may_125 (lv_at hl 4 rfl) ?_
        refine x_lI C hH d_RS_may_127 hp (fun v7 hp => ?_)
        refine lv_isub hx hb d_RS_may_128 ?_
        refine lv_aload_n hx hb d_RS_may_129 rfl (lv_at hl 1 rfl) ?_
        refine x_gI C hH fl_RS_233 d_RS_may_130 hp (fun v8 hp => ?_)
        refine lv_icmp_gt (tgt := 140) hx hb d_RS_may_133 (by decide) (fun hc => ?_) (fun hc => ?_)
        · replace hp := x_ifp hc hp
          refine lv_iconst (v := 0) hx hb d_RS_may_140 (by decide) ?_
          exact w_RS_may_141 C hr hnm hRf hRl hs88 l0 l2 l4 l6 0 hp hH (lv_sub hl [0, 1, 2, 4] rfl)
        · replace hp := x_ifn hc hp
          refine lv_iconst (v := 1) hx hb d_RS_may_136 (by decide) ?_
          refine lv_goto (tgt := 141) hx hb d_RS_may_137 (by decide) ?_
          exact w_RS_may_141 C hr hnm hRf hRl hs88 l0 l2 l4 l6 1 hp hH (lv_sub hl [0, 1, 2, 4] rfl)
theorem w_RS_may_h88 {res : (Int32 ⊕ (Nat × Nat)) × xH} (C : x_C l s0 A0 D R_RS prog_1_method_22_code 7 [] p s m args meth c) (hr : meth.sig.returnType = (some .boolean)) (hnm : meth.name = "may") (hRf : 1 ≤ R.frames) (hRl : 29 ≤ R.locals)  : ∀ (n : Nat) (l0 : Nat) (l2 : Nat) (l4 : Nat) (l5 : Int32) (l6 : Int32) (h : xH) (H : Heap) (locs : List Loc) (cells slots : Nat) (ls : Array Slot), f_RS_may_h88 n l0 l2 l4 l5 l6 h = some res → x_S s0 D R h H locs cells slots → lv_has ls 7 [(0, .ref l0), (2, .ref l2), (4, .ref l4), (5, .int l5), (6, .int l6)] → W p l e R s m args below meth c H locs cells slots (x_Q s0 D below s R (x_oc vI res.1) res.2) (F0 m 88 ls []) := by
  intro n
  induction n with
  | zero => intro l0 l2 l4 l5 l6 h H locs cells slots ls hp hH hl; cases hp
  | succ n ih => intro l0 l2 l4 l5 l6 h H locs cells slots ls hp hH hl; exact w_RS_may_88 C hr hnm hRf hRl ih l0 l2 l4 l5 l6 hp hH hl
set_option maxHeartbeats 4000000 in
set_option maxRecDepth 100000 in
theorem w_RS_may_83 {res : (Int32 ⊕ (Nat × Nat)) × xH} (C : x_C l s0 A0 D R_RS prog_1_method_22_code 7 [] p s m args meth c) (hr : meth.sig.returnType = (some .boolean)) (hnm : meth.name = "may") (hRf : 1 ≤ R.frames) (hRl : 29 ≤ R.locals)  (l0 : Nat) (l2 : Nat) (l4 : Nat) (t0 : Int32) (hp : f_RS_may_b83 l0 l2 l4 t0 h = some res) (hH : x_S s0 D R h H locs cells slots) (hl : lv_has ls 7 [(0, .ref l0), (2, .ref l2), (4, .ref l4)]) : W p l e R s m args below meth c H locs cells slots (x_Q s0 D below s R (x_oc vI res.1) res.2) (F0 m 83 ls [.int t0]) := by
  obtain ⟨hx, hb, hown, hts, hK, hml, hW, Z, -⟩ := id C
  unfold f_RS_may_b83 at hp
  refine lv_istore (lv' := [(5, .int t0), (0, .ref l0), (2, .ref l2), (4, .ref l4)]) hx hb d_RS_may_83 hl (by decide) rfl (fun ls hl => ?_)
  refine lv_iconst (v := 0) hx hb d_RS_may_85 (by decide) ?_
  refine lv_istore (lv' := [(6, .int 0), (5, .int t0), (0, .ref l0), (2, .ref l2), (4, .ref l4)]) hx hb d_RS_may_86 hl (by decide) rfl (fun ls hl => ?_)
  exact w_RS_may_h88 C hr hnm hRf hRl  1000 l0 l2 l4 t0 0 _ _ _ _ _ _ hp hH (lv_sub hl [2, 3, 4, 1, 0] rfl)
set_option maxHeartbeats 4000000 in
set_option maxRecDepth 100000 in
theorem w_RS_may_82 {res : (Int32 ⊕ (Nat × Nat)) × xH} (C : x_C l s0 A0 D R_RS prog_1_method_22_code 7 [] p s m args meth c) (hr : meth.sig.returnType = (some .boolean)) (hnm : meth.name = "may") (hRf : 1 ≤ R.frames) (hRl : 29 ≤ R.locals)  (l0 : Nat) (l2 : Nat) (l4 : Nat) (hp : f_RS_may_b82 l0 l2 l4 h = some res) (hH : x_S s0 D R h H locs cells slots) (hl : lv_has ls 7 [(0, .ref l0), (2, .ref l2), (4, .ref l4)]) : W p l e R s m args below meth c H locs cells slots (x_Q s0 D below s R (x_oc vI res.1) res.2) (F0 m 82 ls []) := by
  obtain ⟨hx, hb, hown, hts, hK, hml, hW, Z, -⟩ := id C
  unfold f_RS_may_b82 at hp
  refine lv_iconst (v := 0) hx hb d_RS_may_82 (by decide) ?_
  exact w_RS_may_83 C hr hnm hRf hRl  l0 l2 l4 0 hp hH (lv_sub hl [0, 1, 2] rfl)
set_option maxHeartbeats 4000000 in
set_option maxRecDepth 100000 in
theorem w_RS_may_78 {res : (Int32 ⊕ (Nat × Nat)) × xH} (C : x_C l s0 A0 D R_RS prog_1_method_22_code 7 [] p s m args meth c) (hr : meth.sig.returnType = (some .boolean)) (hnm : meth.name = "may") (hRf : 1 ≤ R.frames) (hRl : 29 ≤ R.locals)  (l0 : Nat) (l2 : Nat) (l4 : Nat) (hp : f_RS_may_b78 l0 l2 l4 h = some res) (hH : x_S s0 D R h H locs cells slots) (hl : lv_has ls 7 [(0, .ref l0), (2, .ref l2), (4, .ref l4)]) : W p l e R s m args below meth c H locs cells slots (x_Q s0 D below s R (x_oc vI res.1) res.2) (F0 m 78 ls []) := by
  obtain ⟨hx, hb, hown, hts, hK, hml, hW, Z, -⟩ := id C
  unfold f_RS_may_b78 at hp
  refine lv_iconst (v := 1) hx hb d_RS_may_78 (by decide) ?_
  refine lv_goto (tgt := 83) hx hb d_RS_may_79 (by decide) ?_
  exact w_RS_may_83 C hr hnm hRf hRl  l0 l2 l4 1 hp hH (lv_sub hl [0, 1, 2] rfl)
set_option maxHeartbeats 4000000 in
set_option maxRecDepth 100000 in
theorem w_RS_may_58 {res : (Int32 ⊕ (Nat × Nat)) × xH} (C : x_C l s0 A0 D R_RS prog_1_method_22_code 7 [] p s m args meth c) (hr : meth.sig.returnType = (some .boolean)) (hnm : meth.name = "may") (hRf : 1 ≤ R.frames) (hRl : 29 ≤ R.locals)  (l0 : Nat) (l2 : Nat) (l3 : Nat) (l4 : Nat) (hp : f_RS_may_b58 l0 l2 l3 l4 h = some res) (hH : x_S s0 D R h H locs cells slots) (hl : lv_has ls 7 [(0, .ref l0), (2, .ref l2), (3, .ref l3), (4, .ref l4)]) : W p l e R s m args below meth c H locs cells slots (x_Q s0 D below s R (x_oc vI res.1) res.2) (F0 m 58 ls []) := by
  obtain ⟨hx, hb, hown, hts, hK, hml, hW, Z, -⟩ := id C
  unfold f_RS_may_b58 at hp
  refine lv_aload_n hx hb d_RS_may_58 rfl (lv_at hl 2 rfl) ?_
  refine lv_iconst (v := 2) hx hb d_RS_may_59 (by decide) ?_
  refine x_callV (As := [.int 2]) (rest := []) (cv := vI) C hH kc_RS_102 d_RS_may_60 hp (fun o h' e => m_Sess_has Z e) rfl hl.1 (Nat.le_trans (Nat.le_of_ble_eq_true rfl) hRf) (Nat.le_trans (Nat.le_of_ble_eq_true rfl) hRl) (Nat.le_of_ble_eq_true rfl) (fun v1 h H locs cells slots hp hH => ?_)
  refine W.eq (g2 := F0 m 63 ls [.int v1]) rfl ?_
  refine lv_if_eq (tgt := 78) hx hb d_RS_may_63 (by decide) (fun hc => ?_) (fun hc => ?_)
  · replace hp := x_ifp hc hp
    exact w_RS_may_78 C hr hnm hRf hRl  l0 l2 l4 hp hH (lv_sub hl [0, 1, 3] rfl)
  · replace hp := x_ifn hc hp
    refine lv_aload hx hb d_RS_may_66 (lv_at hl 3 rfl) ?_
    refine lv_aload_n hx hb d_RS_may_68 rfl (lv_at hl 2 rfl) ?_
    refine x_gA C hH fl_RS_110 d_RS_may_69 hp (fun v2 hp => ?_)
    refine x_callV (As := [.ref v2]) (rest := []) (cv := vI) C hH kc_RS_162 d_RS_may_72 hp (fun o h' e => m_Vec_covers Z e) rfl hl.1 (Nat.le_trans (Nat.le_of_ble_eq_true rfl) hRf) (Nat.le_trans (Nat.le_of_ble_eq_true rfl) hRl) (Nat.le_of_ble_eq_true rfl) (fun v3 h H locs cells slots hp hH => ?_)
    refine W.eq (g2 := F0 m 75 ls [.int v3]) rfl ?_
    refine lv_if_eq (tgt := 82) hx hb d_RS_may_75 (by decide) (fun hc => ?_) (fun hc => ?_)
    · replace hp := x_ifp hc hp
      exact w_RS_may_82 C hr hnm hRf hRl  l0 l2 l4 hp hH (lv_sub hl [0, 1, 3] rfl)
    · replace hp := x_ifn hc hp
      exact w_RS_may_78 C hr hnm hRf hRl  l0 l2 l4 hp hH (lv_sub hl [0, 1, 3] rfl)
set_option maxHeartbeats 4000000 in
set_option maxRecDepth 100000 in
theorem w_RS_may_0 {res : (Int32 ⊕ (Nat × Nat)) × xH} (C : x_C l s0 A0 D R_RS prog_1_method_22_code 7 [] p s m args meth c) (hr : meth.sig.returnType = (some .boolean)) (hnm : meth.name = "may") (hRf : 1 ≤ R.frames) (hRl : 29 ≤ R.locals)  (l0 : Nat) (l1 : Nat) (l2 : Nat) (hp : f_RS_may l0 l1 l2 h = some res) (hH : x_S s0 D R h H locs cells slots) (hl : lv_has ls 7 [(0, .ref l0), (1, .ref l1), (2, .ref l2)]) : W p l e R s m args below meth c H locs cells slots (x_Q s0 D below s R (x_oc vI res.1) res.2) (F0 m 0 ls []) := by
  obtain ⟨hx, hb, hown, hts, hK, hml, hW, Z, -⟩ := id C
  unfold f_RS_may at hp
  refine lv_aload_n hx hb d_RS_may_0 rfl (lv_at hl 0 rfl) ?_
  refine x_gA C hH fl_RS_11 d_RS_may_1 hp (fun v1 hp => ?_)
  refine lv_aload_n hx hb d_RS_may_4 rfl (lv_at hl 2 rfl) ?_
  refine x_gI C hH fl_RS_228 d_RS_may_5 hp (fun v2 hp => ?_)
  refine x_lA C hH (by decide) d_RS_may_8 hp (fun v3 hp => ?_)
  refine lv_astore_n (lv' := [(3, .ref v3), (0, .ref l0), (1, .ref l1), (2, .ref l2)]) hx hb d_RS_may_9 rfl hl (by decide) rfl (fun ls hl => ?_)
  refine lv_aload_n hx hb d_RS_may_10 rfl (lv_at hl 2 rfl) ?_
  refine x_gA C hH fl_RS_150 d_RS_may_11 hp (fun v4 hp => ?_)
  refine x_gA C hH fl_RS_154 d_RS_may_14 hp (fun v5 hp => ?_)
  refine lv_astore (lv' := [(4, .ref v5), (3, .ref v3), (0, .ref l0), (1, .ref l1), (2, .ref l2)]) hx hb d_RS_may_17 hl (by decide) rfl (fun ls hl => ?_)
  refine lv_aload_n hx hb d_RS_may_19 rfl (lv_at hl 3 rfl) ?_
  refine x_gI C hH fl_RS_173 d_RS_may_20 hp (fun v6 hp => ?_)
  refine lv_if_eq (tgt := 82) hx hb d_RS_may_23 (by decide) (fun hc => ?_) (fun hc => ?_)
  · replace hp := x_ifp hc hp
    exact w_RS_may_82 C hr hnm hRf hRl  l0 l2 v5 hp hH (lv_sub hl [2, 4, 0] rfl)
  · replace hp := x_ifn hc hp
    refine lv_aload hx hb d_RS_may_26 (lv_at hl 0 rfl) ?_
    refine lv_aload_n hx hb d_RS_may_28 rfl (lv_at hl 4 rfl) ?_
    refine x_gA C hH fl_RS_231 d_RS_may_29 hp (fun v7 hp => ?_)
    refine x_callV (As := [.ref v7]) (rest := []) (cv := vI) C hH kc_RS_162 d_RS_may_32 hp (fun o h' e => m_Vec_covers Z e) rfl hl.1 (Nat.le_trans (Nat.le_of_ble_eq_true rfl) hRf) (Nat.le_trans (Nat.le_of_ble_eq_true rfl) hRl) (Nat.le_of_ble_eq_true rfl) (fun v8 h H locs cells slots hp hH => ?_)
    refine W.eq (g2 := F0 m 35 ls [.int v8]) rfl ?_
    refine lv_if_eq (tgt := 82) hx hb d_RS_may_35 (by decide) (fun hc => ?_) (fun hc => ?_)
    · replace hp := x_ifp hc hp
      exact w_RS_may_82 C hr hnm hRf hRl  l0 l2 v5 hp hH (lv_sub hl [2, 4, 0] rfl)
    · replace hp := x_ifn hc hp
      refine lv_aload_n hx hb d_RS_may_38 rfl (lv_at hl 1 rfl) ?_
      refine lv_iconst (v := 1) hx hb d_RS_may_39 (by decide) ?_
      refine x_callV (As := [.int 1]) (rest := []) (cv := vI) C hH kc_RS_102 d_RS_may_40 hp (fun o h' e => m_Sess_has Z e) rfl hl.1 (Nat.le_trans (Nat.le_of_ble_eq_true rfl) hRf) (Nat.le_trans (Nat.le_of_ble_eq_true rfl) hRl) (Nat.le_of_ble_eq_true rfl) (fun v9 h H locs cells slots hp hH => ?_)
      refine W.eq (g2 := F0 m 43 ls [.int v9]) rfl ?_
      refine lv_if_eq (tgt := 58) hx hb d_RS_may_43 (by decide) (fun hc => ?_) (fun hc => ?_)
      · replace hp := x_ifp hc hp
        exact w_RS_may_58 C hr hnm hRf hRl  l0 l2 v3 v5 hp hH (lv_sub hl [2, 4, 1, 0] rfl)
      · replace hp := x_ifn hc hp
        refine lv_aload hx hb d_RS_may_46 (lv_at hl 0 rfl) ?_
        refine lv_aload_n hx hb d_RS_may_48 rfl (lv_at hl 1 rfl) ?_
        refine x_gA C hH fl_RS_119 d_RS_may_49 hp (fun v10 hp => ?_)
        refine x_callV (As := [.ref v10]) (rest := []) (cv := vI) C hH kc_RS_162 d_RS_may_52 hp (fun o h' e => m_Vec_covers Z e) rfl hl.1 (Nat.le_trans (Nat.le_of_ble_eq_true rfl) hRf) (Nat.le_trans (Nat.le_of_ble_eq_true rfl) hRl) (Nat.le_of_ble_eq_true rfl) (fun v11 h H locs cells slots hp hH => ?_)
        refine W.eq (g2 := F0 m 55 ls [.int v11]) rfl ?_
        refine lv_if_eq (tgt := 82) hx hb d_RS_may_55 (by decide) (fun hc => ?_) (fun hc => ?_)
        · replace hp := x_ifp hc hp
          exact w_RS_may_82 C hr hnm hRf hRl  l0 l2 v5 hp hH (lv_sub hl [2, 4, 0] rfl)
        · replace hp := x_ifn hc hp
          exact w_RS_may_58 C hr hnm hRf hRl  l0 l2 v3 v5 hp hH (lv_sub hl [2, 4, 1, 0] rfl)
set_option maxRecDepth 100000 in
theorem m_RS_may (Z : x_Z l s0 A0 D) {l0 : Nat} {l1 : Nat} {l2 : Nat} {res : (Int32 ⊕ (Nat × Nat)) × xH} (hp : f_RS_may l0 l1 l2 h = some res) : x_M l s0 D y_RS_may (x_cw y_RS_may prog_1_method_22_code 7 (some .boolean) []) 1 29 [.ref l0, .ref l1, .ref l2] h (x_oc vI res.1) res.2 := by
  refine x_M.ofW Z (plainFor_of_name (by decide)) ?_
  intro p e s m below meth c C hnm hr hH
  have hl := lv_entry ([.ref l0, .ref l1, .ref l2]) (n := 7) (Nat.le_of_ble_eq_true rfl)
  rw [lg_entry_eq]
  generalize (lg_sl ([.ref l0, .ref l1, .ref l2]) ++ List.replicate (7 - (lg_sl ([.ref l0, .ref l1, .ref l2])).length) Slot.unset).toArray = ls at hl ⊢
  exact w_RS_may_0 C hr hnm (Nat.le_refl _) (Nat.le_refl _) l0 l1 l2 hp hH hl
/-! ReadSide.numberOf(LReadSide$Replica;)I -/
theorem d_RS_numberOf_0 : decode prog_1_method_26_code 0 = .ok (.iconst 0, 1) := by decide +kernel
theorem d_RS_numberOf_1 : decode prog_1_method_26_code 1 = .ok (.istore_n 2, 1) := by decide +kernel
theorem d_RS_numberOf_2 : decode prog_1_method_26_code 2 = .ok (.aload_n 0, 1) := by decide +kernel
theorem d_RS_numberOf_3 : decode prog_1_method_26_code 3 = .ok (.getfield 46, 3) := by decide +kernel
theorem d_RS_numberOf_6 : decode prog_1_method_26_code 6 = .ok (.iload_n 2, 1) := by decide +kernel
theorem d_RS_numberOf_7 : decode prog_1_method_26_code 7 = .ok (.aaload, 1) := by decide +kernel
theorem d_RS_numberOf_8 : decode prog_1_method_26_code 8 = .ok (.aload_n 1, 1) := by decide +kernel
theorem d_RS_numberOf_9 : decode prog_1_method_26_code 9 = .ok (.if_acmp .eq 9, 3) := by decide +kernel
theorem d_RS_numberOf_12 : decode prog_1_method_26_code 12 = .ok (.iinc 2 1, 3) := by decide +kernel
theorem d_RS_numberOf_15 : decode prog_1_method_26_code 15 = .ok (.goto (-13), 3) := by decide +kernel
theorem d_RS_numberOf_18 : decode prog_1_method_26_code 18 = .ok (.iload_n 2, 1) := by decide +kernel
theorem d_RS_numberOf_19 : decode prog_1_method_26_code 19 = .ok (.ireturn, 1) := by decide +kernel
set_option maxHeartbeats 4000000 in
set_option maxRecDepth 100000 in
theorem w_RS_numberOf_2 {res : (Int32 ⊕ (Nat × Nat)) × xH} (C : x_C l s0 A0 D R_RS prog_1_method_26_code 3 [] p s m args meth c) (hr : meth.sig.returnType = (some .int)) (hnm : meth.name = "numberOf") (hRf : 0 ≤ R.frames) (hRl : 0 ≤ R.locals) {k2 : Nat → Nat → Int32 → xM Int32} (hs2 : ∀ (l0 : Nat) (l1 : Nat) (l2 : Int32) (h : xH) (H : Heap) (locs : List Loc) (cells slots : Nat) (ls : Array Slot), k2 l0 l1 l2 h = some res → x_S s0 D R h H locs cells slots → lv_has ls 3 [(0, .ref l0), (1, .ref l1), (2, .int l2)] → W p l e R s m args below meth c H locs cells slots (x_Q s0 D below s R (x_oc vI res.1) res.2) (F0 m 2 ls [])) (l0 : Nat) (l1 : Nat) (l2 : Int32) (hp : f_RS_numberOf_b2 k2 l0 l1 l2 h = some res) (hH : x_S s0 D R h H locs cells slots) (hl : lv_has ls 3 [(0, .ref l0), (1, .ref l1), (2, .int l2)]) : W p l e R s m args below meth c H locs cells slots (x_Q s0 D below s R (x_oc vI res.1) res.2) (F0 m 2 ls []) := by
  obtain ⟨hx, hb, hown, hts, hK, hml, hW, Z, -⟩ := id C
  unfold f_RS_numberOf_b2 at hp
  refine lv_aload_n hx hb d_RS_numberOf_2 rfl (lv_at hl 0 rfl) ?_
  refine x_gA C hH fl_RS_46 d_RS_numberOf_3 hp (fun v1 hp => ?_)
  refine lv_iload_n hx hb d_RS_numberOf_6 rfl (lv_at hl 2 rfl) ?_
  refine x_lA C hH (by decide) d_RS_numberOf_7 hp (fun v2 hp => ?_)
  refine lv_aload_n hx hb d_RS_numberOf_8 rfl (lv_at hl 1 rfl) ?_
  refine lv_acmp_eq (rx := some v2) (ry := some l1) (tgt := 18) hx hb d_RS_numberOf_9 (by decide) (fun hc => ?_) (fun hc => ?_)
  · replace hp := x_ifp (Option.some.inj hc) hp
    refine lv_iload_n hx hb d_RS_numberOf_18 rfl (lv_at hl 2 rfl) ?_
    exact x_iret C hH hr d_RS_numberOf_19 hp
  · replace hp := x_ifn (fun q => hc (congrArg some q)) hp
    refine lv_iinc (v := (l2 + 1)) (lv' := [(2, .int (l2 + 1)), (0, .ref l0), (1, .ref l1)]) hx hb d_RS_numberOf_12 hl (k := 2) rfl rfl (by decide) rfl (fun ls hl => ?_)
    refine lv_goto (tgt := 2) hx hb d_RS_numberOf_15 (by decide) ?_
    exact hs2 l0 l1 (l2 + 1) _ _ _ _ _ _ hp hH (lv_sub hl [1, 2, 0] rfl)
theorem w_RS_numberOf_h2 {res : (Int32 ⊕ (Nat × Nat)) × xH} (C : x_C l s0 A0 D R_RS prog_1_method_26_code 3 [] p s m args meth c) (hr : meth.sig.returnType = (some .int)) (hnm : meth.name = "numberOf") (hRf : 0 ≤ R.frames) (hRl : 0 ≤ R.locals)  : ∀ (n : Nat) (l0 : Nat) (l1 : Nat) (l2 : Int32) (h : xH) (H : Heap) (locs : List Loc) (cells slots : Nat) (ls : Array Slot), f_RS_numberOf_h2 n l0 l1 l2 h = some res → x_S s0 D R h H locs cells slots → lv_has ls 3 [(0, .ref l0), (1, .ref l1), (2, .int l2)] → W p l e R s m args below meth c H locs cells slots (x_Q s0 D below s R (x_oc vI res.1) res.2) (F0 m 2 ls []) := by
  intro n
  induction n with
  | zero => intro l0 l1 l2 h H locs cells slots ls hp hH hl; cases hp
  | succ n ih => intro l0 l1 l2 h H locs cells slots ls hp hH hl; exact w_RS_numberOf_2 C hr hnm hRf hRl ih l0 l1 l2 hp hH hl
set_option maxHeartbeats 4000000 in
set_option maxRecDepth 100000 in
theorem w_RS_numberOf_0 {res : (Int32 ⊕ (Nat × Nat)) × xH} (C : x_C l s0 A0 D R_RS prog_1_method_26_code 3 [] p s m args meth c) (hr : meth.sig.returnType = (some .int)) (hnm : meth.name = "numberOf") (hRf : 0 ≤ R.frames) (hRl : 0 ≤ R.locals)  (l0 : Nat) (l1 : Nat) (hp : f_RS_numberOf l0 l1 h = some res) (hH : x_S s0 D R h H locs cells slots) (hl : lv_has ls 3 [(0, .ref l0), (1, .ref l1)]) : W p l e R s m args below meth c H locs cells slots (x_Q s0 D below s R (x_oc vI res.1) res.2) (F0 m 0 ls []) := by
  obtain ⟨hx, hb, hown, hts, hK, hml, hW, Z, -⟩ := id C
  unfold f_RS_numberOf at hp
  refine lv_iconst (v := 0) hx hb d_RS_numberOf_0 (by decide) ?_
  refine lv_istore_n (lv' := [(2, .int 0), (0, .ref l0), (1, .ref l1)]) hx hb d_RS_numberOf_1 rfl hl (by decide) rfl (fun ls hl => ?_)
  exact w_RS_numberOf_h2 C hr hnm hRf hRl  1000 l0 l1 0 _ _ _ _ _ _ hp hH (lv_sub hl [1, 2, 0] rfl)
set_option maxRecDepth 100000 in
theorem m_RS_numberOf (Z : x_Z l s0 A0 D) {l0 : Nat} {l1 : Nat} {res : (Int32 ⊕ (Nat × Nat)) × xH} (hp : f_RS_numberOf l0 l1 h = some res) : x_M l s0 D y_RS_numberOf (x_cw y_RS_numberOf prog_1_method_26_code 3 (some .int) []) 0 0 [.ref l0, .ref l1] h (x_oc vI res.1) res.2 := by
  refine x_M.ofW Z (plainFor_of_name (by decide)) ?_
  intro p e s m below meth c C hnm hr hH
  have hl := lv_entry ([.ref l0, .ref l1]) (n := 3) (Nat.le_of_ble_eq_true rfl)
  rw [lg_entry_eq]
  generalize (lg_sl ([.ref l0, .ref l1]) ++ List.replicate (3 - (lg_sl ([.ref l0, .ref l1])).length) Slot.unset).toArray = ls at hl ⊢
  exact w_RS_numberOf_0 C hr hnm (Nat.le_refl _) (Nat.le_refl _) l0 l1 hp hH hl
/-! ReadSide$State.held(I)J -/
theorem d_St_held_0 : decode prog_8_method_6_code 0 = .ok (.lconst 0, 1) := by decide +kernel
theorem d_St_held_1 : decode prog_8_method_6_code 1 = .ok (.lstore_n 2, 1) := by decide +kernel
theorem d_St_held_2 : decode prog_8_method_6_code 2 = .ok (.aload_n 0, 1) := by decide +kernel
theorem d_St_held_3 : decode prog_8_method_6_code 3 = .ok (.getfield 11, 3) := by decide +kernel
theorem d_St_held_6 : decode prog_8_method_6_code 6 = .ok (.astore 4, 2) := by decide +kernel
theorem d_St_held_8 : decode prog_8_method_6_code 8 = .ok (.aload 4, 2) := by decide +kernel
theorem d_St_held_10 : decode prog_8_method_6_code 10 = .ok (.arraylength, 1) := by decide +kernel
theorem d_St_held_11 : decode prog_8_method_6_code 11 = .ok (.istore 5, 2) := by decide +kernel
theorem d_St_held_13 : decode prog_8_method_6_code 13 = .ok (.iconst 0, 1) := by decide +kernel
theorem d_St_held_14 : decode prog_8_method_6_code 14 = .ok (.istore 6, 2) := by decide +kernel
theorem d_St_held_16 : decode prog_8_method_6_code 16 = .ok (.iload 6, 2) := by decide +kernel
theorem d_St_held_18 : decode prog_8_method_6_code 18 = .ok (.iload 5, 2) := by decide +kernel
theorem d_St_held_20 : decode prog_8_method_6_code 20 = .ok (.if_icmp .ge 27, 3) := by decide +kernel
theorem d_St_held_23 : decode prog_8_method_6_code 23 = .ok (.aload 4, 2) := by decide +kernel
theorem d_St_held_25 : decode prog_8_method_6_code 25 = .ok (.iload 6, 2) := by decide +kernel
theorem d_St_held_27 : decode prog_8_method_6_code 27 = .ok (.aaload, 1) := by decide +kernel
theorem d_St_held_28 : decode prog_8_method_6_code 28 = .ok (.astore 7, 2) := by decide +kernel
theorem d_St_held_30 : decode prog_8_method_6_code 30 = .ok (.lload_n 2, 1) := by decide +kernel
theorem d_St_held_31 : decode prog_8_method_6_code 31 = .ok (.aload 7, 2) := by decide +kernel
theorem d_St_held_33 : decode prog_8_method_6_code 33 = .ok (.getfield 72, 3) := by decide +kernel
theorem d_St_held_36 : decode prog_8_method_6_code 36 = .ok (.iload_n 1, 1) := by decide +kernel
theorem d_St_held_37 : decode prog_8_method_6_code 37 = .ok (.iaload, 1) := by decide +kernel
theorem d_St_held_38 : decode prog_8_method_6_code 38 = .ok (.i2l, 1) := by decide +kernel
theorem d_St_held_39 : decode prog_8_method_6_code 39 = .ok (.ladd, 1) := by decide +kernel
theorem d_St_held_40 : decode prog_8_method_6_code 40 = .ok (.lstore_n 2, 1) := by decide +kernel
theorem d_St_held_41 : decode prog_8_method_6_code 41 = .ok (.iinc 6 1, 3) := by decide +kernel
theorem d_St_held_44 : decode prog_8_method_6_code 44 = .ok (.goto (-28), 3) := by decide +kernel
theorem d_St_held_47 : decode prog_8_method_6_code 47 = .ok (.lload_n 2, 1) := by decide +kernel
theorem d_St_held_48 : decode prog_8_method_6_code 48 = .ok (.lreturn, 1) := by decide +kernel
set_option maxHeartbeats 4000000 in
set_option maxRecDepth 100000 in
theorem w_St_held_16 {res : (Int64 ⊕ (Nat × Nat)) × xH} (C : x_C l s0 A0 D R_St prog_8_method_6_code 8 [] p s m args meth c) (hr : meth.sig.returnType = (some .long)) (hnm : meth.name = "held") (hRf : 0 ≤ R.frames) (hRl : 0 ≤ R.locals) {k16 : Int32 → Int64 → Nat → Int32 → Int32 → xM Int64} (hs16 : ∀ (l1 : Int32) (l2 : Int64) (l4 : Nat) (l5 : Int32) (l6 : Int32) (h : xH) (H : Heap) (locs : List Loc) (cells slots : Nat) (ls : Array Slot), k16 l1 l2 l4 l5 l6 h = some res → x_S s0 D R h H locs cells slots → lv_has ls 8 [(1, .int l1), (2, .long l2), (4, .ref l4), (5, .int l5), (6, .int l6)] → W p l e R s m args below meth c H locs cells slots (x_Q s0 D below s R (x_oc vJ res.1) res.2) (F0 m 16 ls [])) (l1 : Int32) (l2 : Int64) (l4 : Nat) (l5 : Int32) (l6 : Int32) (hp : f_St_held_b16 k16 l1 l2 l4 l5 l6 h = some res) (hH : x_S s0 D R h H locs cells slots) (hl : lv_has ls 8 [(1, .int l1), (2, .long l2), (4, .ref l4), (5, .int l5), (6, .int l6)]) : W p l e R s m args below meth c H locs cells slots (x_Q s0 D below s R (x_oc vJ res.1) res.2) (F0 m 16 ls []) := by
  obtain ⟨hx, hb, hown, hts, hK, hml, hW, Z, -⟩ := id C
  unfold f_St_held_b16 at hp
  refine lv_iload hx hb d_St_held_16 (lv_at hl 4 rfl) ?_
  refine lv_iload hx hb d_St_held_18 (lv_at hl 3 rfl) ?_
  refine lv_icmp_ge (tgt := 47) hx hb d_St_held_20 (by decide) (fun hc => ?_) (fun hc => ?_)
  · replace hp := x_ifp hc hp
    refine lv_lload_n hx hb d_St_held_47 rfl (lv_at hl 1 rfl) ?_
    exact x_lret C hH hr d_St_held_48 hp
  · replace hp := x_ifn hc hp
    refine lv_aload hx hb d_St_held_23 (lv_at hl 2 rfl) ?_
    refine lv_iload hx hb d_St_held_25 (lv_at hl 4 rfl) ?_
    refine x_lA C hH (by decide) d_St_held_27 hp (fun v1 hp => ?_)
    refine lv_astore (lv' := [(7, .ref v1), (1, .int l1), (2, .long l2), (4, .ref l4), (5, .int l5), (6, .int l6)]) hx hb d_St_held_28 hl (by decide) rfl (fun ls hl => ?_)
    refine lv_lload_n hx hb d_St_held_30 rfl (lv_at hl 2 rfl) ?_
    refine lv_aload hx hb d_St_held_31 (lv_at hl 0 rfl) ?_
    refine x_gA C hH fl_St_72 d_St_held_33 hp (fun v2 hp => ?_)
    refine lv_iload_n hx hb d_St_held_36 rfl (lv_at hl 1 rfl) ?_
    refine x_lI C hH d_St_held_37 hp (fun v3 hp => ?_)
    refine lv_i2l (v := v3.toInt64) hx hb d_St_held_38 rfl ?_
    refine lv_ladd hx hb d_St_held_39 ?_
    refine lv_lstore_n (lv' := [(2, .long (l2 + v3.toInt64)), (7, .ref v1), (1, .int l1), (4, .ref l4), (5, .int l5), (6, .int l6)]) hx hb d_St_held_40 rfl hl (by decide) rfl (fun ls hl => ?_)
    refine lv_iinc (v := (l6 + 1)) (lv' := [(6, .int (l6 + 1)), (2, .long (l2 + v3.toInt64)), (7, .ref v1), (1, .int l1), (4, .ref l4), (5, .int l5)]) hx hb d_St_held_41 hl (k := 5) rfl rfl (by decide) rfl (fun ls hl => ?_)
    refine lv_goto (tgt := 16) hx hb d_St_held_44 (by decide) ?_
    exact hs16 l1 (l2 + v3.toInt64) l4 l5 (l6 + 1) _ _ _ _ _ _ hp hH (lv_sub hl [3, 1, 4, 5, 0] rfl)
theorem w_St_held_h16 {res : (Int64 ⊕ (Nat × Nat)) × xH} (C : x_C l s0 A0 D R_St prog_8_method_6_code 8 [] p s m args meth c) (hr : meth.sig.returnType = (some .long)) (hnm : meth.name = "held") (hRf : 0 ≤ R.frames) (hRl : 0 ≤ R.locals)  : ∀ (n : Nat) (l1 : Int32) (l2 : Int64) (l4 : Nat) (l5 : Int32) (l6 : Int32) (h : xH) (H : Heap) (locs : List Loc) (cells slots : Nat) (ls : Array Slot), f_St_held_h16 n l1 l2 l4 l5 l6 h = some res → x_S s0 D R h H locs cells slots → lv_has ls 8 [(1, .int l1), (2, .long l2), (4, .ref l4), (5, .int l5), (6, .int l6)] → W p l e R s m args below meth c H locs cells slots (x_Q s0 D below s R (x_oc vJ res.1) res.2) (F0 m 16 ls []) := by
  intro n
  induction n with
  | zero => intro l1 l2 l4 l5 l6 h H locs cells slots ls hp hH hl; cases hp
  | succ n ih => intro l1 l2 l4 l5 l6 h H locs cells slots ls hp hH hl; exact w_St_held_16 C hr hnm hRf hRl ih l1 l2 l4 l5 l6 hp hH hl
set_option maxHeartbeats 4000000 in
set_option maxRecDepth 100000 in
theorem w_St_held_0 {res : (Int64 ⊕ (Nat × Nat)) × xH} (C : x_C l s0 A0 D R_St prog_8_method_6_code 8 [] p s m args meth c) (hr : meth.sig.returnType = (some .long)) (hnm : meth.name = "held") (hRf : 0 ≤ R.frames) (hRl : 0 ≤ R.locals)  (l0 : Nat) (l1 : Int32) (hp : f_St_held l0 l1 h = some res) (hH : x_S s0 D R h H locs cells slots) (hl : lv_has ls 8 [(0, .ref l0), (1, .int l1)]) : W p l e R s m args below meth c H locs cells slots (x_Q s0 D below s R (x_oc vJ res.1) res.2) (F0 m 0 ls []) := by
  obtain ⟨hx, hb, hown, hts, hK, hml, hW, Z, -⟩ := id C
  unfold f_St_held at hp
  refine lv_lconst (v := 0) hx hb d_St_held_0 (by decide) ?_
  refine lv_lstore_n (lv' := [(2, .long 0), (0, .ref l0), (1, .int l1)]) hx hb d_St_held_1 rfl hl (by decide) rfl (fun ls hl => ?_)
  refine lv_aload_n hx hb d_St_held_2 rfl (lv_at hl 1 rfl) ?_
  refine x_gA C hH fl_St_11 d_St_held_3 hp (fun v1 hp => ?_)
  refine lv_astore (lv' := [(4, .ref v1), (2, .long 0), (0, .ref l0), (1, .int l1)]) hx hb d_St_held_6 hl (by decide) rfl (fun ls hl => ?_)
  refine lv_aload hx hb d_St_held_8 (lv_at hl 0 rfl) ?_
  refine x_aL C hH d_St_held_10 hp (fun v2 hp => ?_)
  refine lv_istore (lv' := [(5, .int v2), (4, .ref v1), (2, .long 0), (0, .ref l0), (1, .int l1)]) hx hb d_St_held_11 hl (by decide) rfl (fun ls hl => ?_)
  refine lv_iconst (v := 0) hx hb d_St_held_13 (by decide) ?_
  refine lv_istore (lv' := [(6, .int 0), (5, .int v2), (4, .ref v1), (2, .long 0), (0, .ref l0), (1, .int l1)]) hx hb d_St_held_14 hl (by decide) rfl (fun ls hl => ?_)
  exact w_St_held_h16 C hr hnm hRf hRl  1000 l1 0 v1 v2 0 _ _ _ _ _ _ hp hH (lv_sub hl [5, 3, 2, 1, 0] rfl)
set_option maxRecDepth 100000 in
theorem m_St_held (Z : x_Z l s0 A0 D) {l0 : Nat} {l1 : Int32} {res : (Int64 ⊕ (Nat × Nat)) × xH} (hp : f_St_held l0 l1 h = some res) : x_M l s0 D y_St_held (x_cw y_St_held prog_8_method_6_code 8 (some .long) []) 0 0 [.ref l0, .int l1] h (x_oc vJ res.1) res.2 := by
  refine x_M.ofW Z (plainFor_of_name (by decide)) ?_
  intro p e s m below meth c C hnm hr hH
  have hl := lv_entry ([.ref l0, .int l1]) (n := 8) (Nat.le_of_ble_eq_true rfl)
  rw [lg_entry_eq]
  generalize (lg_sl ([.ref l0, .int l1]) ++ List.replicate (8 - (lg_sl ([.ref l0, .int l1])).length) Slot.unset).toArray = ls at hl ⊢
  exact w_St_held_0 C hr hnm (Nat.le_refl _) (Nat.le_refl _) l0 l1 hp hH hl
end GEN
