section GEN
variable {p : Program} {l : Launch} {e : Env} {R : Room} {s : State} {m : MethodId} {args : Array Value} {below : List Frame} {meth : Method} {c : Code} {H : Heap} {locs : List Loc} {cells slots : Nat} {ls : Array Slot} {D : xD} {s0 : State} {A0 : Array Value} {h : xH}
/-! ReadSideModel.advance(II)I -/
theorem d_Mdl_advance_0 : decode prog_11_method_18_code 0 = .ok (.aload_n 0, 1) := by decide +kernel
theorem d_Mdl_advance_1 : decode prog_11_method_18_code 1 = .ok (.getfield 53, 3) := by decide +kernel
theorem d_Mdl_advance_4 : decode prog_11_method_18_code 4 = .ok (.iconst 3, 1) := by decide +kernel
theorem d_Mdl_advance_5 : decode prog_11_method_18_code 5 = .ok (.iload_n 1, 1) := by decide +kernel
theorem d_Mdl_advance_6 : decode prog_11_method_18_code 6 = .ok (.imul, 1) := by decide +kernel
theorem d_Mdl_advance_7 : decode prog_11_method_18_code 7 = .ok (.iload_n 2, 1) := by decide +kernel
theorem d_Mdl_advance_8 : decode prog_11_method_18_code 8 = .ok (.iadd, 1) := by decide +kernel
theorem d_Mdl_advance_9 : decode prog_11_method_18_code 9 = .ok (.iaload, 1) := by decide +kernel
theorem d_Mdl_advance_10 : decode prog_11_method_18_code 10 = .ok (.aload_n 0, 1) := by decide +kernel
theorem d_Mdl_advance_11 : decode prog_11_method_18_code 11 = .ok (.getfield 7, 3) := by decide +kernel
theorem d_Mdl_advance_14 : decode prog_11_method_18_code 14 = .ok (.iload_n 2, 1) := by decide +kernel
theorem d_Mdl_advance_15 : decode prog_11_method_18_code 15 = .ok (.iaload, 1) := by decide +kernel
theorem d_Mdl_advance_16 : decode prog_11_method_18_code 16 = .ok (.if_icmp .ne 5, 3) := by decide +kernel
theorem d_Mdl_advance_19 : decode prog_11_method_18_code 19 = .ok (.iconst 0, 1) := by decide +kernel
theorem d_Mdl_advance_20 : decode prog_11_method_18_code 20 = .ok (.ireturn, 1) := by decide +kernel
theorem d_Mdl_advance_21 : decode prog_11_method_18_code 21 = .ok (.sipush 401, 3) := by decide +kernel
theorem d_Mdl_advance_24 : decode prog_11_method_18_code 24 = .ok (.iload_n 2, 1) := by decide +kernel
theorem d_Mdl_advance_25 : decode prog_11_method_18_code 25 = .ok (.imul, 1) := by decide +kernel
theorem d_Mdl_advance_26 : decode prog_11_method_18_code 26 = .ok (.aload_n 0, 1) := by decide +kernel
theorem d_Mdl_advance_27 : decode prog_11_method_18_code 27 = .ok (.getfield 53, 3) := by decide +kernel
theorem d_Mdl_advance_30 : decode prog_11_method_18_code 30 = .ok (.iconst 3, 1) := by decide +kernel
theorem d_Mdl_advance_31 : decode prog_11_method_18_code 31 = .ok (.iload_n 1, 1) := by decide +kernel
theorem d_Mdl_advance_32 : decode prog_11_method_18_code 32 = .ok (.imul, 1) := by decide +kernel
theorem d_Mdl_advance_33 : decode prog_11_method_18_code 33 = .ok (.iload_n 2, 1) := by decide +kernel
theorem d_Mdl_advance_34 : decode prog_11_method_18_code 34 = .ok (.iadd, 1) := by decide +kernel
theorem d_Mdl_advance_35 : decode prog_11_method_18_code 35 = .ok (.iaload, 1) := by decide +kernel
theorem d_Mdl_advance_36 : decode prog_11_method_18_code 36 = .ok (.iadd, 1) := by decide +kernel
theorem d_Mdl_advance_37 : decode prog_11_method_18_code 37 = .ok (.iconst 1, 1) := by decide +kernel
theorem d_Mdl_advance_38 : decode prog_11_method_18_code 38 = .ok (.iadd, 1) := by decide +kernel
theorem d_Mdl_advance_39 : decode prog_11_method_18_code 39 = .ok (.istore_n 3, 1) := by decide +kernel
theorem d_Mdl_advance_40 : decode prog_11_method_18_code 40 = .ok (.aload_n 0, 1) := by decide +kernel
theorem d_Mdl_advance_41 : decode prog_11_method_18_code 41 = .ok (.aload_n 0, 1) := by decide +kernel
theorem d_Mdl_advance_42 : decode prog_11_method_18_code 42 = .ok (.getfield 28, 3) := by decide +kernel
theorem d_Mdl_advance_45 : decode prog_11_method_18_code 45 = .ok (.iconst 3, 1) := by decide +kernel
theorem d_Mdl_advance_46 : decode prog_11_method_18_code 46 = .ok (.iload_n 3, 1) := by decide +kernel
theorem d_Mdl_advance_47 : decode prog_11_method_18_code 47 = .ok (.imul, 1) := by decide +kernel
theorem d_Mdl_advance_48 : decode prog_11_method_18_code 48 = .ok (.iload_n 1, 1) := by decide +kernel
theorem d_Mdl_advance_49 : decode prog_11_method_18_code 49 = .ok (.invokevirtual 185, 3) := by decide +kernel
theorem d_Mdl_advance_52 : decode prog_11_method_18_code 52 = .ok (.ifCond .ne 5, 3) := by decide +kernel
theorem d_Mdl_advance_55 : decode prog_11_method_18_code 55 = .ok (.iconst (-1), 1) := by decide +kernel
theorem d_Mdl_advance_56 : decode prog_11_method_18_code 56 = .ok (.ireturn, 1) := by decide +kernel
theorem d_Mdl_advance_57 : decode prog_11_method_18_code 57 = .ok (.aload_n 0, 1) := by decide +kernel
theorem d_Mdl_advance_58 : decode prog_11_method_18_code 58 = .ok (.iload_n 1, 1) := by decide +kernel
theorem d_Mdl_advance_59 : decode prog_11_method_18_code 59 = .ok (.iload_n 3, 1) := by decide +kernel
theorem d_Mdl_advance_60 : decode prog_11_method_18_code 60 = .ok (.invokevirtual 189, 3) := by decide +kernel
theorem d_Mdl_advance_63 : decode prog_11_method_18_code 63 = .ok (.aload_n 0, 1) := by decide +kernel
theorem d_Mdl_advance_64 : decode prog_11_method_18_code 64 = .ok (.getfield 53, 3) := by decide +kernel
theorem d_Mdl_advance_67 : decode prog_11_method_18_code 67 = .ok (.iconst 3, 1) := by decide +kernel
theorem d_Mdl_advance_68 : decode prog_11_method_18_code 68 = .ok (.iload_n 1, 1) := by decide +kernel
theorem d_Mdl_advance_69 : decode prog_11_method_18_code 69 = .ok (.imul, 1) := by decide +kernel
theorem d_Mdl_advance_70 : decode prog_11_method_18_code 70 = .ok (.iload_n 2, 1) := by decide +kernel
theorem d_Mdl_advance_71 : decode prog_11_method_18_code 71 = .ok (.iadd, 1) := by decide +kernel
theorem d_Mdl_advance_72 : decode prog_11_method_18_code 72 = .ok (.dup2, 1) := by decide +kernel
theorem d_Mdl_advance_73 : decode prog_11_method_18_code 73 = .ok (.iaload, 1) := by decide +kernel
theorem d_Mdl_advance_74 : decode prog_11_method_18_code 74 = .ok (.iconst 1, 1) := by decide +kernel
theorem d_Mdl_advance_75 : decode prog_11_method_18_code 75 = .ok (.iadd, 1) := by decide +kernel
theorem d_Mdl_advance_76 : decode prog_11_method_18_code 76 = .ok (.iastore, 1) := by decide +kernel
theorem d_Mdl_advance_77 : decode prog_11_method_18_code 77 = .ok (.aload_n 0, 1) := by decide +kernel
theorem d_Mdl_advance_78 : decode prog_11_method_18_code 78 = .ok (.getfield 59, 3) := by decide +kernel
theorem d_Mdl_advance_81 : decode prog_11_method_18_code 81 = .ok (.iload_n 1, 1) := by decide +kernel
theorem d_Mdl_advance_82 : decode prog_11_method_18_code 82 = .ok (.iload_n 2, 1) := by decide +kernel
theorem d_Mdl_advance_83 : decode prog_11_method_18_code 83 = .ok (.iconst 1, 1) := by decide +kernel
theorem d_Mdl_advance_84 : decode prog_11_method_18_code 84 = .ok (.iadd, 1) := by decide +kernel
theorem d_Mdl_advance_85 : decode prog_11_method_18_code 85 = .ok (.aload_n 0, 1) := by decide +kernel
theorem d_Mdl_advance_86 : decode prog_11_method_18_code 86 = .ok (.getfield 114, 3) := by decide +kernel
theorem d_Mdl_advance_89 : decode prog_11_method_18_code 89 = .ok (.irem, 1) := by decide +kernel
theorem d_Mdl_advance_90 : decode prog_11_method_18_code 90 = .ok (.iastore, 1) := by decide +kernel
theorem d_Mdl_advance_91 : decode prog_11_method_18_code 91 = .ok (.aload_n 0, 1) := by decide +kernel
theorem d_Mdl_advance_92 : decode prog_11_method_18_code 92 = .ok (.iload_n 1, 1) := by decide +kernel
theorem d_Mdl_advance_93 : decode prog_11_method_18_code 93 = .ok (.invokevirtual 158, 3) := by decide +kernel
theorem d_Mdl_advance_96 : decode prog_11_method_18_code 96 = .ok (.iconst 1, 1) := by decide +kernel
theorem d_Mdl_advance_97 : decode prog_11_method_18_code 97 = .ok (.ireturn, 1) := by decide +kernel
set_option maxHeartbeats 4000000 in
set_option maxRecDepth 100000 in
theorem w_Mdl_advance_0 {res : (Int32 ⊕ (Nat × Nat)) × xH} (C : x_C l s0 A0 D R_Mdl prog_11_method_18_code 4 [] p s m args meth c) (hr : meth.sig.returnType = (some .int)) (hnm : meth.name = "advance") (hRf : 4 ≤ R.frames) (hRl : 132 ≤ R.locals)  (l0 : Nat) (l1 : Int32) (l2 : Int32) (hp : f_Mdl_advance l0 l1 l2 h = some res) (hH : x_S s0 D R h H locs cells slots) (hl : lv_has ls 4 [(0, .ref l0), (1, .int l1), (2, .int l2)]) : W p l e R s m args below meth c H locs cells slots (x_Q s0 D below s R (x_oc vI res.1) res.2) (F0 m 0 ls []) := by
  obtain ⟨hx, hb, hown, hts, hK, hml, hW, Z, -⟩ := id C
  unfold f_Mdl_advance at hp
  refine lv_aload_n hx hb d_Mdl_advance_0 rfl (lv_at hl 0 rfl) ?_
  refine x_gA C hH fl_Mdl_53 d_Mdl_advance_1 hp (fun v1 hp => ?_)
  refine lv_iconst (v := 3) hx hb d_Mdl_advance_4 (by decide) ?_
  refine lv_iload_n hx hb d_Mdl_advance_5 rfl (lv_at hl 1 rfl) ?_
  refine lv_imul hx hb d_Mdl_advance_6 ?_
  refine lv_iload_n hx hb d_Mdl_advance_7 rfl (lv_at hl 2 rfl) ?_
  refine lv_iadd hx hb d_Mdl_advance_8 ?_
  refine x_lI C hH d_Mdl_advance_9 hp (fun v2 hp => ?_)
  refine lv_aload_n hx hb d_Mdl_advance_10 rfl (lv_at hl 0 rfl) ?_
  refine x_gA C hH fl_Mdl_7 d_Mdl_advance_11 hp (fun v3 hp => ?_)
  refine lv_iload_n hx hb d_Mdl_advance_14 rfl (lv_at hl 2 rfl) ?_
  refine x_lI C hH d_Mdl_advance_15 hp (fun v4 hp => ?_)
  refine lv_icmp_ne (tgt := 21) hx hb d_Mdl_advance_16 (by decide) (fun hc => ?_) (fun hc => ?_)
  · replace hp := x_ifn hc hp
    refine lv_sipush (v := 401) hx hb d_Mdl_advance_21 (by decide) ?_
    refine lv_iload_n hx hb d_Mdl_advance_24 rfl (lv_at hl 2 rfl) ?_
    refine lv_imul hx hb d_Mdl_advance_25 ?_
    refine lv_aload_n hx hb d_Mdl_advance_26 rfl (lv_at hl 0 rfl) ?_
    refine x_gA C hH fl_Mdl_53 d_Mdl_advance_27 hp (fun v5 hp => ?_)
    refine lv_iconst (v := 3) hx hb d_Mdl_advance_30 (by decide) ?_
    refine lv_iload_n hx hb d_Mdl_advance_31 rfl (lv_at hl 1 rfl) ?_
    refine lv_imul hx hb d_Mdl_advance_32 ?_
    refine lv_iload_n hx hb d_Mdl_advance_33 rfl (lv_at hl 2 rfl) ?_
    refine lv_iadd hx hb d_Mdl_advance_34 ?_
    refine x_lI C hH d_Mdl_advance_35 hp (fun v6 hp => ?_)
    refine lv_iadd hx hb d_Mdl_advance_36 ?_
    refine lv_iconst (v := 1) hx hb d_Mdl_advance_37 (by decide) ?_
    refine lv_iadd hx hb d_Mdl_advance_38 ?_
    refine lv_istore_n (lv' := [(3, .int (((401 * l2) + v6) + 1)), (0, .ref l0), (1, .int l1), (2, .int l2)]) hx hb d_Mdl_advance_39 rfl hl (by decide) rfl (fun ls hl => ?_)
    refine lv_aload_n hx hb d_Mdl_advance_40 rfl (lv_at hl 1 rfl) ?_
    refine lv_aload_n hx hb d_Mdl_advance_41 rfl (lv_at hl 1 rfl) ?_
    refine x_gA C hH fl_Mdl_28 d_Mdl_advance_42 hp (fun v7 hp => ?_)
    refine lv_iconst (v := 3) hx hb d_Mdl_advance_45 (by decide) ?_
    refine lv_iload_n hx hb d_Mdl_advance_46 rfl (lv_at hl 0 rfl) ?_
    refine lv_imul hx hb d_Mdl_advance_47 ?_
    refine lv_iload_n hx hb d_Mdl_advance_48 rfl (lv_at hl 2 rfl) ?_
    refine x_callV (As := [.ref v7, .int (3 * (((401 * l2) + v6) + 1)), .int l1]) (rest := []) (cv := vI) C hH kc_Mdl_185 d_Mdl_advance_49 hp (fun o h' e => m_Mdl_covers Z e) rfl hl.1 (Nat.le_trans (Nat.le_of_ble_eq_true rfl) hRf) (Nat.le_trans (Nat.le_of_ble_eq_true rfl) hRl) (Nat.le_of_ble_eq_true rfl) (fun v8 h H locs cells slots hp hH => ?_)
    refine W.eq (g2 := F0 m 52 ls [.int v8]) rfl ?_
    refine lv_if_ne (tgt := 57) hx hb d_Mdl_advance_52 (by decide) (fun hc => ?_) (fun hc => ?_)
    · replace hp := x_ifn hc hp
      refine lv_aload_n hx hb d_Mdl_advance_57 rfl (lv_at hl 1 rfl) ?_
      refine lv_iload_n hx hb d_Mdl_advance_58 rfl (lv_at hl 2 rfl) ?_
      refine lv_iload_n hx hb d_Mdl_advance_59 rfl (lv_at hl 0 rfl) ?_
      refine x_callV (As := [.int l1, .int (((401 * l2) + v6) + 1)]) (rest := []) (cv := vU) C hH kc_Mdl_189 d_Mdl_advance_60 hp (fun o h' e => m_Mdl_take Z e) rfl hl.1 (Nat.le_trans (Nat.le_of_ble_eq_true rfl) hRf) (Nat.le_trans (Nat.le_of_ble_eq_true rfl) hRl) (Nat.le_of_ble_eq_true rfl) (fun v9 h H locs cells slots hp hH => ?_)
      refine W.eq (g2 := F0 m 63 ls []) rfl ?_
      refine lv_aload_n hx hb d_Mdl_advance_63 rfl (lv_at hl 1 rfl) ?_
      refine x_gA C hH fl_Mdl_53 d_Mdl_advance_64 hp (fun v10 hp => ?_)
      refine lv_iconst (v := 3) hx hb d_Mdl_advance_67 (by decide) ?_
      refine lv_iload_n hx hb d_Mdl_advance_68 rfl (lv_at hl 2 rfl) ?_
      refine lv_imul hx hb d_Mdl_advance_69 ?_
      refine lv_iload_n hx hb d_Mdl_advance_70 rfl (lv_at hl 3 rfl) ?_
      refine lv_iadd hx hb d_Mdl_advance_71 ?_
      refine lv_dup2_11 hx hb d_Mdl_advance_72 rfl rfl ?_
      refine x_lI C hH d_Mdl_advance_73 hp (fun v11 hp => ?_)
      refine lv_iconst (v := 1) hx hb d_Mdl_advance_74 (by decide) ?_
      refine lv_iadd hx hb d_Mdl_advance_75 ?_
      refine x_sI C hH d_Mdl_advance_76 hp (fun h H locs hp hH => ?_)
      refine lv_aload_n hx hb d_Mdl_advance_77 rfl (lv_at hl 1 rfl) ?_
      refine x_gA C hH fl_Mdl_59 d_Mdl_advance_78 hp (fun v12 hp => ?_)
      refine lv_iload_n hx hb d_Mdl_advance_81 rfl (lv_at hl 2 rfl) ?_
      refine lv_iload_n hx hb d_Mdl_advance_82 rfl (lv_at hl 3 rfl) ?_
      refine lv_iconst (v := 1) hx hb d_Mdl_advance_83 (by decide) ?_
      refine lv_iadd hx hb d_Mdl_advance_84 ?_
      refine lv_aload_n hx hb d_Mdl_advance_85 rfl (lv_at hl 1 rfl) ?_
      refine x_gI C hH fl_Mdl_114 d_Mdl_advance_86 hp (fun v13 hp => ?_)
      obtain ⟨hz, hp⟩ := rI_i hp
      refine lv_irem hx hb d_Mdl_advance_89 hz ?_
      generalize ev14 : (l2 + 1) - (l2 + 1) / v13 * v13 = v14 at hp ⊢
      refine x_sI C hH d_Mdl_advance_90 hp (fun h H locs hp hH => ?_)
      refine lv_aload_n hx hb d_Mdl_advance_91 rfl (lv_at hl 1 rfl) ?_
      refine lv_iload_n hx hb d_Mdl_advance_92 rfl (lv_at hl 2 rfl) ?_
      refine x_callV (As := [.int l1]) (rest := []) (cv := vU) C hH kc_Mdl_158 d_Mdl_advance_93 hp (fun o h' e => m_Mdl_look Z e) rfl hl.1 (Nat.le_trans (Nat.le_of_ble_eq_true rfl) hRf) (Nat.le_trans (Nat.le_of_ble_eq_true rfl) hRl) (Nat.le_of_ble_eq_true rfl) (fun v15 h H locs cells slots hp hH => ?_)
      refine W.eq (g2 := F0 m 96 ls []) rfl ?_
      refine lv_iconst (v := 1) hx hb d_Mdl_advance_96 (by decide) ?_
      exact x_iret C hH hr d_Mdl_advance_97 hp
    · replace hp := x_ifp hc hp
      refine lv_iconst (v := (-1)) hx hb d_Mdl_advance_55 (by decide) ?_
      exact x_iret C hH hr d_Mdl_advance_56 hp
  · replace hp := x_ifp hc hp
    refine lv_iconst (v := 0) hx hb d_Mdl_advance_19 (by decide) ?_
    exact x_iret C hH hr d_Mdl_advance_20 hp
set_option maxRecDepth 100000 in
theorem m_Mdl_advance (Z : x_Z l s0 A0 D) {l0 : Nat} {l1 : Int32} {l2 : Int32} {res : (Int32 ⊕ (Nat × Nat)) × xH} (hp : f_Mdl_advance l0 l1 l2 h = some res) : x_M l s0 D y_Mdl_advance (x_cw y_Mdl_advance prog_11_method_18_code 4 (some .int) []) 4 132 [.ref l0, .int l1, .int l2] h (x_oc vI res.1) res.2 := by
  refine x_M.ofW Z (plainFor_of_name (by decide)) ?_
  intro p e s m below meth c C hnm hr hH
  have hl := lv_entry ([.ref l0, .int l1, .int l2]) (n := 4) (Nat.le_of_ble_eq_true rfl)
  rw [lg_entry_eq]
  generalize (lg_sl ([.ref l0, .int l1, .int l2]) ++ List.replicate (4 - (lg_sl ([.ref l0, .int l1, .int l2])).length) Slot.unset).toArray = ls at hl ⊢
  exact w_Mdl_advance_0 C hr hnm (Nat.le_refl _) (Nat.le_refl _) l0 l1 l2 hp hH hl
/-! ReadSideModel.isPart(I)Z -/
theorem d_Mdl_isPart_0 : decode prog_11_method_12_code 0 = .ok (.iload_n 1, 1) := by decide +kernel
theorem d_Mdl_isPart_1 : decode prog_11_method_12_code 1 = .ok (.i2l, 1) := by decide +kernel
theorem d_Mdl_isPart_2 : decode prog_11_method_12_code 2 = .ok (.lconst 0, 1) := by decide +kernel
theorem d_Mdl_isPart_3 : decode prog_11_method_12_code 3 = .ok (.aload_n 0, 1) := by decide +kernel
theorem d_Mdl_isPart_4 : decode prog_11_method_12_code 4 = .ok (.getfield 114, 3) := by decide +kernel
theorem d_Mdl_isPart_7 : decode prog_11_method_12_code 7 = .ok (.iconst 1, 1) := by decide +kernel
theorem d_Mdl_isPart_8 : decode prog_11_method_12_code 8 = .ok (.isub, 1) := by decide +kernel
theorem d_Mdl_isPart_9 : decode prog_11_method_12_code 9 = .ok (.i2l, 1) := by decide +kernel
theorem d_Mdl_isPart_10 : decode prog_11_method_12_code 10 = .ok (.invokestatic 148, 3) := by decide +kernel
theorem d_Mdl_isPart_13 : decode prog_11_method_12_code 13 = .ok (.ireturn, 1) := by decide +kernel
set_option maxHeartbeats 4000000 in
set_option maxRecDepth 100000 in
theorem w_Mdl_isPart_0 {res : (Int32 ⊕ (Nat × Nat)) × xH} (C : x_C l s0 A0 D R_Mdl prog_11_method_12_code 2 [] p s m args meth c) (hr : meth.sig.returnType = (some .boolean)) (hnm : meth.name = "isPart") (hRf : 1 ≤ R.frames) (hRl : 33 ≤ R.locals)  (l0 : Nat) (l1 : Int32) (hp : f_Mdl_isPart l0 l1 h = some res) (hH : x_S s0 D R h H locs cells slots) (hl : lv_has ls 2 [(0, .ref l0), (1, .int l1)]) : W p l e R s m args below meth c H locs cells slots (x_Q s0 D below s R (x_oc vI res.1) res.2) (F0 m 0 ls []) := by
  obtain ⟨hx, hb, hown, hts, hK, hml, hW, Z, -⟩ := id C
  unfold f_Mdl_isPart at hp
  refine lv_iload_n hx hb d_Mdl_isPart_0 rfl (lv_at hl 1 rfl) ?_
  refine lv_i2l (v := l1.toInt64) hx hb d_Mdl_isPart_1 rfl ?_
  refine lv_lconst (v := 0) hx hb d_Mdl_isPart_2 (by decide) ?_
  refine lv_aload_n hx hb d_Mdl_isPart_3 rfl (lv_at hl 0 rfl) ?_
  refine x_gI C hH fl_Mdl_114 d_Mdl_isPart_4 hp (fun v1 hp => ?_)
  refine lv_iconst (v := 1) hx hb d_Mdl_isPart_7 (by decide) ?_
  refine lv_isub hx hb d_Mdl_isPart_8 ?_
  refine lv_i2l (v := (v1 - 1).toInt64) hx hb d_Mdl_isPart_9 rfl ?_
  refine x_callS (As := [.long l1.toInt64, .long 0, .long ((v1 - 1).toInt64)]) (rest := []) (cv := vI) C hH kc_Mdl_148 d_Mdl_isPart_10 hp (fun o h' e => m_Mdl_in Z e) rfl hl.1 (Nat.le_trans (Nat.le_of_ble_eq_true rfl) hRf) (Nat.le_trans (Nat.le_of_ble_eq_true rfl) hRl) (Nat.le_of_ble_eq_true rfl) (fun v2 h H locs cells slots hp hH => ?_)
  refine W.eq (g2 := F0 m 13 ls [.int v2]) rfl ?_
  exact x_zret C hH hr d_Mdl_isPart_13 hp
set_option maxRecDepth 100000 in
theorem m_Mdl_isPart (Z : x_Z l s0 A0 D) {l0 : Nat} {l1 : Int32} {res : (Int32 ⊕ (Nat × Nat)) × xH} (hp : f_Mdl_isPart l0 l1 h = some res) : x_M l s0 D y_Mdl_isPart (x_cw y_Mdl_isPart prog_11_method_12_code 2 (some .boolean) []) 1 33 [.ref l0, .int l1] h (x_oc vI res.1) res.2 := by
  refine x_M.ofW Z (plainFor_of_name (by decide)) ?_
  intro p e s m below meth c C hnm hr hH
  have hl := lv_entry ([.ref l0, .int l1]) (n := 2) (Nat.le_of_ble_eq_true rfl)
  rw [lg_entry_eq]
  generalize (lg_sl ([.ref l0, .int l1]) ++ List.replicate (2 - (lg_sl ([.ref l0, .int l1])).length) Slot.unset).toArray = ls at hl ⊢
  exact w_Mdl_isPart_0 C hr hnm (Nat.le_refl _) (Nat.le_refl _) l0 l1 hp hH hl
/-! ReadSideModel.step(II)I -/
theorem d_Mdl_step_0 : decode prog_11_method_19_code 0 = .ok (.aload_n 0, 1) := by decide +kernel
theorem d_Mdl_step_1 : decode prog_11_method_19_code 1 = .ok (.aload_n 0, 1) := by decide +kernel
theorem d_Mdl_step_2 : decode prog_11_method_19_code 2 = .ok (.iload_n 1, 1) := by decide +kernel
theorem d_Mdl_step_3 : decode prog_11_method_19_code 3 = .ok (.invokevirtual 162, 3) := by decide +kernel
theorem d_Mdl_step_6 : decode prog_11_method_19_code 6 = .ok (.ifCond .eq 15, 3) := by decide +kernel
theorem d_Mdl_step_9 : decode prog_11_method_19_code 9 = .ok (.aload_n 0, 1) := by decide +kernel
theorem d_Mdl_step_10 : decode prog_11_method_19_code 10 = .ok (.iload_n 2, 1) := by decide +kernel
theorem d_Mdl_step_11 : decode prog_11_method_19_code 11 = .ok (.invokevirtual 193, 3) := by decide +kernel
theorem d_Mdl_step_14 : decode prog_11_method_19_code 14 = .ok (.ifCond .eq 7, 3) := by decide +kernel
theorem d_Mdl_step_17 : decode prog_11_method_19_code 17 = .ok (.iconst 0, 1) := by decide +kernel
theorem d_Mdl_step_18 : decode prog_11_method_19_code 18 = .ok (.goto 4, 3) := by decide +kernel
theorem d_Mdl_step_21 : decode prog_11_method_19_code 21 = .ok (.iconst 1, 1) := by decide +kernel
theorem d_Mdl_step_22 : decode prog_11_method_19_code 22 = .ok (.putfield 121, 3) := by decide +kernel
theorem d_Mdl_step_25 : decode prog_11_method_19_code 25 = .ok (.aload_n 0, 1) := by decide +kernel
theorem d_Mdl_step_26 : decode prog_11_method_19_code 26 = .ok (.getfield 121, 3) := by decide +kernel
theorem d_Mdl_step_29 : decode prog_11_method_19_code 29 = .ok (.ifCond .le 7, 3) := by decide +kernel
theorem d_Mdl_step_32 : decode prog_11_method_19_code 32 = .ok (.iconst 0, 1) := by decide +kernel
theorem d_Mdl_step_33 : decode prog_11_method_19_code 33 = .ok (.goto 23, 3) := by decide +kernel
theorem d_Mdl_step_36 : decode prog_11_method_19_code 36 = .ok (.aload_n 0, 1) := by decide +kernel
theorem d_Mdl_step_37 : decode prog_11_method_19_code 37 = .ok (.getfield 62, 3) := by decide +kernel
theorem d_Mdl_step_40 : decode prog_11_method_19_code 40 = .ok (.iload_n 1, 1) := by decide +kernel
theorem d_Mdl_step_41 : decode prog_11_method_19_code 41 = .ok (.baload, 1) := by decide +kernel
theorem d_Mdl_step_42 : decode prog_11_method_19_code 42 = .ok (.ifCond .eq 12, 3) := by decide +kernel
theorem d_Mdl_step_45 : decode prog_11_method_19_code 45 = .ok (.aload_n 0, 1) := by decide +kernel
theorem d_Mdl_step_46 : decode prog_11_method_19_code 46 = .ok (.iload_n 1, 1) := by decide +kernel
theorem d_Mdl_step_47 : decode prog_11_method_19_code 47 = .ok (.iload_n 2, 1) := by decide +kernel
theorem d_Mdl_step_48 : decode prog_11_method_19_code 48 = .ok (.invokevirtual 196, 3) := by decide +kernel
theorem d_Mdl_step_51 : decode prog_11_method_19_code 51 = .ok (.goto 5, 3) := by decide +kernel
theorem d_Mdl_step_54 : decode prog_11_method_19_code 54 = .ok (.bipush (-2), 2) := by decide +kernel
theorem d_Mdl_step_56 : decode prog_11_method_19_code 56 = .ok (.ireturn, 1) := by decide +kernel
set_option maxHeartbeats 4000000 in
set_option maxRecDepth 100000 in
theorem w_Mdl_step_56 {res : (Int32 ⊕ (Nat × Nat)) × xH} (C : x_C l s0 A0 D R_Mdl prog_11_method_19_code 3 [] p s m args meth c) (hr : meth.sig.returnType = (some .int)) (hnm : meth.name = "step") (hRf : 5 ≤ R.frames) (hRl : 163 ≤ R.locals)  (t0 : Int32) (hp : f_Mdl_step_b56 t0 h = some res) (hH : x_S s0 D R h H locs cells slots) (hl : lv_has ls 3 []) : W p l e R s m args below meth c H locs cells slots (x_Q s0 D below s R (x_oc vI res.1) res.2) (F0 m 56 ls [.int t0]) := by
  obtain ⟨hx, hb, hown, hts, hK, hml, hW, Z, -⟩ := id C
  unfold f_Mdl_step_b56 at hp
  exact x_iret C hH hr d_Mdl_step_56 hp
set_option maxHeartbeats 4000000 in
set_option maxRecDepth 100000 in
theorem w_Mdl_step_22 {res : (Int32 ⊕ (Nat × Nat)) × xH} (C : x_C l s0 A0 D R_Mdl prog_11_method_19_code 3 [] p s m args meth c) (hr : meth.sig.returnType = (some .int)) (hnm : meth.name = "step") (hRf : 5 ≤ R.frames) (hRl : 163 ≤ R.locals)  (l0 : Nat) (l1 : Int32) (l2 : Int32) (t0 : Int32) (t1 : Nat) (hp : f_Mdl_step_b22 l0 l1 l2 t0 t1 h = some res) (hH : x_S s0 D R h H locs cells slots) (hl : lv_has ls 3 [(0, .ref l0), (1, .int l1), (2, .int l2)]) : W p l e R s m args below meth c H locs cells slots (x_Q s0 D below s R (x_oc vI res.1) res.2) (F0 m 22 ls [.int t0, .ref t1]) := by
  obtain ⟨hx, hb, hown, hts, hK, hml, hW, Z, -⟩ := id C
  unfold f_Mdl_step_b22 at hp
  refine x_pV C hH fp_Mdl_121 (fun h => Bool.noConfusion h) d_Mdl_step_22 rfl rfl hp (fun h H locs hp hH => ?_)
  refine lv_aload_n hx hb d_Mdl_step_25 rfl (lv_at hl 0 rfl) ?_
  refine x_gI C hH fl_Mdl_121 d_Mdl_step_26 hp (fun v1 hp => ?_)
  refine lv_if_le (tgt := 36) hx hb d_Mdl_step_29 (by decide) (fun hc => ?_) (fun hc => ?_)
  · replace hp := x_ifp hc hp
    refine lv_aload_n hx hb d_Mdl_step_36 rfl (lv_at hl 0 rfl) ?_
    refine x_gA C hH fl_Mdl_62 d_Mdl_step_37 hp (fun v2 hp => ?_)
    refine lv_iload_n hx hb d_Mdl_step_40 rfl (lv_at hl 1 rfl) ?_
    refine x_lZ C hH d_Mdl_step_41 hp (fun v3 hp => ?_)
    refine lv_if_eq (tgt := 54) hx hb d_Mdl_step_42 (by decide) (fun hc => ?_) (fun hc => ?_)
    · replace hp := x_ifp hc hp
      refine lv_bipush (v := (-2)) hx hb d_Mdl_step_54 (by decide) ?_
      exact w_Mdl_step_56 C hr hnm hRf hRl  (-2) hp hH (lv_sub hl [] rfl)
    · replace hp := x_ifn hc hp
      refine lv_aload_n hx hb d_Mdl_step_45 rfl (lv_at hl 0 rfl) ?_
      refine lv_iload_n hx hb d_Mdl_step_46 rfl (lv_at hl 1 rfl) ?_
      refine lv_iload_n hx hb d_Mdl_step_47 rfl (lv_at hl 2 rfl) ?_
      refine x_callV (As := [.int l1, .int l2]) (rest := []) (cv := vI) C hH kc_Mdl_196 d_Mdl_step_48 hp (fun o h' e => m_Mdl_advance Z e) rfl hl.1 (Nat.le_trans (Nat.le_of_ble_eq_true rfl) hRf) (Nat.le_trans (Nat.le_of_ble_eq_true rfl) hRl) (Nat.le_of_ble_eq_true rfl) (fun v4 h H locs cells slots hp hH => ?_)
      refine W.eq (g2 := F0 m 51 ls [.int v4]) rfl ?_
      refine lv_goto (tgt := 56) hx hb d_Mdl_step_51 (by decide) ?_
      exact w_Mdl_step_56 C hr hnm hRf hRl  v4 hp hH (lv_sub hl [] rfl)
  · replace hp := x_ifn hc hp
    refine lv_iconst (v := 0) hx hb d_Mdl_step_32 (by decide) ?_
    refine lv_goto (tgt := 56) hx hb d_Mdl_step_33 (by decide) ?_
    exact w_Mdl_step_56 C hr hnm hRf hRl  0 hp hH (lv_sub hl [] rfl)
set_option maxHeartbeats 4000000 in
set_option maxRecDepth 100000 in
theorem w_Mdl_step_21 {res : (Int32 ⊕ (Nat × Nat)) × xH} (C : x_C l s0 A0 D R_Mdl prog_11_method_19_code 3 [] p s m args meth c) (hr : meth.sig.returnType = (some .int)) (hnm : meth.name = "step") (hRf : 5 ≤ R.frames) (hRl : 163 ≤ R.locals)  (l0 : Nat) (l1 : Int32) (l2 : Int32) (t0 : Nat) (hp : f_Mdl_step_b21 l0 l1 l2 t0 h = some res) (hH : x_S s0 D R h H locs cells slots) (hl : lv_has ls 3 [(0, .ref l0), (1, .int l1), (2, .int l2)]) : W p l e R s m args below meth c H locs cells slots (x_Q s0 D below s R (x_oc vI res.1) res.2) (F0 m 21 ls [.ref t0]) := by
  obtain ⟨hx, hb, hown, hts, hK, hml, hW, Z, -⟩ := id C
  unfold f_Mdl_step_b21 at hp
  refine lv_iconst (v := 1) hx hb d_Mdl_step_21 (by decide) ?_
  exact w_Mdl_step_22 C hr hnm hRf hRl  l0 l1 l2 1 t0 hp hH (lv_sub hl [0, 1, 2] rfl)
set_option maxHeartbeats 4000000 in
set_option maxRecDepth 100000 in
theorem w_Mdl_step_0 {res : (Int32 ⊕ (Nat × Nat)) × xH} (C : x_C l s0 A0 D R_Mdl prog_11_method_19_code 3 [] p s m args meth c) (hr : meth.sig.returnType = (some .int)) (hnm : meth.name = "step") (hRf : 5 ≤ R.frames) (hRl : 163 ≤ R.locals)  (l0 : Nat) (l1 : Int32) (l2 : Int32) (hp : f_Mdl_step l0 l1 l2 h = some res) (hH : x_S s0 D R h H locs cells slots) (hl : lv_has ls 3 [(0, .ref l0), (1, .int l1), (2, .int l2)]) : W p l e R s m args below meth c H locs cells slots (x_Q s0 D below s R (x_oc vI res.1) res.2) (F0 m 0 ls []) := by
  obtain ⟨hx, hb, hown, hts, hK, hml, hW, Z, -⟩ := id C
  unfold f_Mdl_step at hp
  refine lv_aload_n hx hb d_Mdl_step_0 rfl (lv_at hl 0 rfl) ?_
  refine lv_aload_n hx hb d_Mdl_step_1 rfl (lv_at hl 0 rfl) ?_
  refine lv_iload_n hx hb d_Mdl_step_2 rfl (lv_at hl 1 rfl) ?_
  refine x_callV (As := [.int l1]) (rest := [.ref l0]) (cv := vI) C hH kc_Mdl_162 d_Mdl_step_3 hp (fun o h' e => m_Mdl_isReplica Z e) rfl hl.1 (Nat.le_trans (Nat.le_of_ble_eq_true rfl) hRf) (Nat.le_trans (Nat.le_of_ble_eq_true rfl) hRl) (Nat.le_of_ble_eq_true rfl) (fun v1 h H locs cells slots hp hH => ?_)
  refine W.eq (g2 := F0 m 6 ls [.int v1, .ref l0]) rfl ?_
  refine lv_if_eq (tgt := 21) hx hb d_Mdl_step_6 (by decide) (fun hc => ?_) (fun hc => ?_)
  · replace hp := x_ifp hc hp
    exact w_Mdl_step_21 C hr hnm hRf hRl  l0 l1 l2 l0 hp hH (lv_sub hl [0, 1, 2] rfl)
  · replace hp := x_ifn hc hp
    refine lv_aload_n hx hb d_Mdl_step_9 rfl (lv_at hl 0 rfl) ?_
    refine lv_iload_n hx hb d_Mdl_step_10 rfl (lv_at hl 2 rfl) ?_
    refine x_callV (As := [.int l2]) (rest := [.ref l0]) (cv := vI) C hH kc_Mdl_193 d_Mdl_step_11 hp (fun o h' e => m_Mdl_isPart Z e) rfl hl.1 (Nat.le_trans (Nat.le_of_ble_eq_true rfl) hRf) (Nat.le_trans (Nat.le_of_ble_eq_true rfl) hRl) (Nat.le_of_ble_eq_true rfl) (fun v2 h H locs cells slots hp hH => ?_)
    refine W.eq (g2 := F0 m 14 ls [.int v2, .ref l0]) rfl ?_
    refine lv_if_eq (tgt := 21) hx hb d_Mdl_step_14 (by decide) (fun hc => ?_) (fun hc => ?_)
    · replace hp := x_ifp hc hp
      exact w_Mdl_step_21 C hr hnm hRf hRl  l0 l1 l2 l0 hp hH (lv_sub hl [0, 1, 2] rfl)
    · replace hp := x_ifn hc hp
      refine lv_iconst (v := 0) hx hb d_Mdl_step_17 (by decide) ?_
      refine lv_goto (tgt := 22) hx hb d_Mdl_step_18 (by decide) ?_
      exact w_Mdl_step_22 C hr hnm hRf hRl  l0 l1 l2 0 l0 hp hH (lv_sub hl [0, 1, 2] rfl)
set_option maxRecDepth 100000 in
theorem m_Mdl_step (Z : x_Z l s0 A0 D) {l0 : Nat} {l1 : Int32} {l2 : Int32} {res : (Int32 ⊕ (Nat × Nat)) × xH} (hp : f_Mdl_step l0 l1 l2 h = some res) : x_M l s0 D y_Mdl_step (x_cw y_Mdl_step prog_11_method_19_code 3 (some .int) []) 5 163 [.ref l0, .int l1, .int l2] h (x_oc vI res.1) res.2 := by
  refine x_M.ofW Z (plainFor_of_name (by decide)) ?_
  intro p e s m below meth c C hnm hr hH
  have hl := lv_entry ([.ref l0, .int l1, .int l2]) (n := 3) (Nat.le_of_ble_eq_true rfl)
  rw [lg_entry_eq]
  generalize (lg_sl ([.ref l0, .int l1, .int l2]) ++ List.replicate (3 - (lg_sl ([.ref l0, .int l1, .int l2])).length) Slot.unset).toArray = ls at hl ⊢
  exact w_Mdl_step_0 C hr hnm (Nat.le_refl _) (Nat.le_refl _) l0 l1 l2 hp hH hl
/-! ReadSideModel.speed(II)I -/
theorem d_Mdl_speed_0 : decode prog_11_method_20_code 0 = .ok (.aload_n 0, 1) := by decide +kernel
theorem d_Mdl_speed_1 : decode prog_11_method_20_code 1 = .ok (.aload_n 0, 1) := by decide +kernel
theorem d_Mdl_speed_2 : decode prog_11_method_20_code 2 = .ok (.iload_n 1, 1) := by decide +kernel
theorem d_Mdl_speed_3 : decode prog_11_method_20_code 3 = .ok (.invokevirtual 162, 3) := by decide +kernel
theorem d_Mdl_speed_6 : decode prog_11_method_20_code 6 = .ok (.ifCond .ne 7, 3) := by decide +kernel
theorem d_Mdl_speed_9 : decode prog_11_method_20_code 9 = .ok (.iconst 1, 1) := by decide +kernel
theorem d_Mdl_speed_10 : decode prog_11_method_20_code 10 = .ok (.goto 20, 3) := by decide +kernel
theorem d_Mdl_speed_13 : decode prog_11_method_20_code 13 = .ok (.iload_n 2, 1) := by decide +kernel
theorem d_Mdl_speed_14 : decode prog_11_method_20_code 14 = .ok (.i2l, 1) := by decide +kernel
theorem d_Mdl_speed_15 : decode prog_11_method_20_code 15 = .ok (.lconst 0, 1) := by decide +kernel
theorem d_Mdl_speed_16 : decode prog_11_method_20_code 16 = .ok (.ldc2_w 199, 3) := by decide +kernel
theorem d_Mdl_speed_19 : decode prog_11_method_20_code 19 = .ok (.invokestatic 148, 3) := by decide +kernel
theorem d_Mdl_speed_22 : decode prog_11_method_20_code 22 = .ok (.ifCond .ne 7, 3) := by decide +kernel
theorem d_Mdl_speed_25 : decode prog_11_method_20_code 25 = .ok (.iconst 2, 1) := by decide +kernel
theorem d_Mdl_speed_26 : decode prog_11_method_20_code 26 = .ok (.goto 4, 3) := by decide +kernel
theorem d_Mdl_speed_29 : decode prog_11_method_20_code 29 = .ok (.iconst 0, 1) := by decide +kernel
theorem d_Mdl_speed_30 : decode prog_11_method_20_code 30 = .ok (.putfield 121, 3) := by decide +kernel
theorem d_Mdl_speed_33 : decode prog_11_method_20_code 33 = .ok (.aload_n 0, 1) := by decide +kernel
theorem d_Mdl_speed_34 : decode prog_11_method_20_code 34 = .ok (.getfield 121, 3) := by decide +kernel
theorem d_Mdl_speed_37 : decode prog_11_method_20_code 37 = .ok (.ifCond .le 5, 3) := by decide +kernel
theorem d_Mdl_speed_40 : decode prog_11_method_20_code 40 = .ok (.iconst 0, 1) := by decide +kernel
theorem d_Mdl_speed_41 : decode prog_11_method_20_code 41 = .ok (.ireturn, 1) := by decide +kernel
theorem d_Mdl_speed_42 : decode prog_11_method_20_code 42 = .ok (.aload_n 0, 1) := by decide +kernel
theorem d_Mdl_speed_43 : decode prog_11_method_20_code 43 = .ok (.getfield 56, 3) := by decide +kernel
theorem d_Mdl_speed_46 : decode prog_11_method_20_code 46 = .ok (.iload_n 1, 1) := by decide +kernel
theorem d_Mdl_speed_47 : decode prog_11_method_20_code 47 = .ok (.iaload, 1) := by decide +kernel
theorem d_Mdl_speed_48 : decode prog_11_method_20_code 48 = .ok (.istore_n 3, 1) := by decide +kernel
theorem d_Mdl_speed_49 : decode prog_11_method_20_code 49 = .ok (.aload_n 0, 1) := by decide +kernel
theorem d_Mdl_speed_50 : decode prog_11_method_20_code 50 = .ok (.getfield 56, 3) := by decide +kernel
theorem d_Mdl_speed_53 : decode prog_11_method_20_code 53 = .ok (.iload_n 1, 1) := by decide +kernel
theorem d_Mdl_speed_54 : decode prog_11_method_20_code 54 = .ok (.iload_n 2, 1) := by decide +kernel
theorem d_Mdl_speed_55 : decode prog_11_method_20_code 55 = .ok (.iastore, 1) := by decide +kernel
theorem d_Mdl_speed_56 : decode prog_11_method_20_code 56 = .ok (.iload_n 3, 1) := by decide +kernel
theorem d_Mdl_speed_57 : decode prog_11_method_20_code 57 = .ok (.ireturn, 1) := by decide +kernel
set_option maxHeartbeats 4000000 in
set_option maxRecDepth 100000 in
theorem w_Mdl_speed_30 {res : (Int32 ⊕ (Nat × Nat)) × xH} (C : x_C l s0 A0 D R_Mdl prog_11_method_20_code 4 [] p s m args meth c) (hr : meth.sig.returnType = (some .int)) (hnm : meth.name = "speed") (hRf : 2 ≤ R.frames) (hRl : 62 ≤ R.locals)  (l0 : Nat) (l1 : Int32) (l2 : Int32) (t0 : Int32) (t1 : Nat) (hp : f_Mdl_speed_b30 l0 l1 l2 t0 t1 h = some res) (hH : x_S s0 D R h H locs cells slots) (hl : lv_has ls 4 [(0, .ref l0), (1, .int l1), (2, .int l2)]) : W p l e R s m args below meth c H locs cells slots (x_Q s0 D below s R (x_oc vI res.1) res.2) (F0 m 30 ls [.int t0, .ref t1]) := by
  obtain ⟨hx, hb, hown, hts, hK, hml, hW, Z, -⟩ := id C
  unfold f_Mdl_speed_b30 at hp
  refine x_pV C hH fp_Mdl_121 (fun h => Bool.noConfusion h) d_Mdl_speed_30 rfl rfl hp (fun h H locs hp hH => ?_)
  refine lv_aload_n hx hb d_Mdl_speed_33 rfl (lv_at hl 0 rfl) ?_
  refine x_gI C hH fl_Mdl_121 d_Mdl_speed_34 hp (fun v1 hp => ?_)
  refine lv_if_le (tgt := 42) hx hb d_Mdl_speed_37 (by decide) (fun hc => ?_) (fun hc => ?_)
  · replace hp := x_ifp hc hp
    refine lv_aload_n hx hb d_Mdl_speed_42 rfl (lv_at hl 0 rfl) ?_
    refine x_gA C hH fl_Mdl_56 d_Mdl_speed_43 hp (fun v2 hp => ?_)
    refine lv_iload_n hx hb d_Mdl_speed_46 rfl (lv_at hl 1 rfl) ?_
    refine x_lI C hH d_Mdl_speed_47 hp (fun v3 hp => ?_)
    refine lv_istore_n (lv' := [(3, .int v3), (0, .ref l0), (1, .int l1), (2, .int l2)]) hx hb d_Mdl_speed_48 rfl hl (by decide) rfl (fun ls hl => ?_)
    refine lv_aload_n hx hb d_Mdl_speed_49 rfl (lv_at hl 1 rfl) ?_
    refine x_gA C hH fl_Mdl_56 d_Mdl_speed_50 hp (fun v4 hp => ?_)
    refine lv_iload_n hx hb d_Mdl_speed_53 rfl (lv_at hl 2 rfl) ?_
    refine lv_iload_n hx hb d_Mdl_speed_54 rfl (lv_at hl 3 rfl) ?_
    refine x_sI C hH d_Mdl_speed_55 hp (fun h H locs hp hH => ?_)
    refine lv_iload_n hx hb d_Mdl_speed_56 rfl (lv_at hl 0 rfl) ?_
    exact x_iret C hH hr d_Mdl_speed_57 hp
  · replace hp := x_ifn hc hp
    refine lv_iconst (v := 0) hx hb d_Mdl_speed_40 (by decide) ?_
    exact x_iret C hH hr d_Mdl_speed_41 hp
set_option maxHeartbeats 4000000 in
set_option maxRecDepth 100000 in
theorem w_Mdl_speed_0 {res : (Int32 ⊕ (Nat × Nat)) × xH} (C : x_C l s0 A0 D R_Mdl prog_11_method_20_code 4 [] p s m args meth c) (hr : meth.sig.returnType = (some .int)) (hnm : meth.name = "speed") (hRf : 2 ≤ R.frames) (hRl : 62 ≤ R.locals)  (l0 : Nat) (l1 : Int32) (l2 : Int32) (hp : f_Mdl_speed l0 l1 l2 h = some res) (hH : x_S s0 D R h H locs cells slots) (hl : lv_has ls 4 [(0, .ref l0), (1, .int l1), (2, .int l2)]) : W p l e R s m args below meth c H locs cells slots (x_Q s0 D below s R (x_oc vI res.1) res.2) (F0 m 0 ls []) := by
  obtain ⟨hx, hb, hown, hts, hK, hml, hW, Z, -⟩ := id C
  unfold f_Mdl_speed at hp
  refine lv_aload_n hx hb d_Mdl_speed_0 rfl (lv_at hl 0 rfl) ?_
  refine lv_aload_n hx hb d_Mdl_speed_1 rfl (lv_at hl 0 rfl) ?_
  refine lv_iload_n hx hb d_Mdl_speed_2 rfl (lv_at hl 1 rfl) ?_
  refine x_callV (As := [.int l1]) (rest := [.ref l0]) (cv := vI) C hH kc_Mdl_162 d_Mdl_speed_3 hp (fun o h' e => m_Mdl_isReplica Z e) rfl hl.1 (Nat.le_trans (Nat.le_of_ble_eq_true rfl) hRf) (Nat.le_trans (Nat.le_of_ble_eq_true rfl) hRl) (Nat.le_of_ble_eq_true rfl) (fun v1 h H locs cells slots hp hH => ?_)
  refine W.eq (g2 := F0 m 6 ls [.int v1, .ref l0]) rfl ?_
  refine lv_if_ne (tgt := 13) hx hb d_Mdl_speed_6 (by decide) (fun hc => ?_) (fun hc => ?_)
  · replace hp := x_ifn hc hp
    refine lv_iload_n hx hb d_Mdl_speed_13 rfl (lv_at hl 2 rfl) ?_
    refine lv_i2l (v := l2.toInt64) hx hb d_Mdl_speed_14 rfl ?_
    refine lv_lconst (v := 0) hx hb d_Mdl_speed_15 (by decide) ?_
    refine lv_ldc2 hx hb hown (hts _ k_931) d_Mdl_speed_16 ?_
    refine x_callS (As := [.long l2.toInt64, .long 0, .long 10]) (rest := [.ref l0]) (cv := vI) C hH kc_Mdl_148 d_Mdl_speed_19 hp (fun o h' e => m_Mdl_in Z e) rfl hl.1 (Nat.le_trans (Nat.le_of_ble_eq_true rfl) hRf) (Nat.le_trans (Nat.le_of_ble_eq_true rfl) hRl) (Nat.le_of_ble_eq_true rfl) (fun v2 h H locs cells slots hp hH => ?_)
    refine W.eq (g2 := F0 m 22 ls [.int v2, .ref l0]) rfl ?_
    refine lv_if_ne (tgt := 29) hx hb d_Mdl_speed_22 (by decide) (fun hc => ?_) (fun hc => ?_)
    · replace hp := x_ifn hc hp
      refine lv_iconst (v := 0) hx hb d_Mdl_speed_29 (by decide) ?_
      exact w_Mdl_speed_30 C hr hnm hRf hRl  l0 l1 l2 0 l0 hp hH (lv_sub hl [0, 1, 2] rfl)
    · replace hp := x_ifp hc hp
      refine lv_iconst (v := 2) hx hb d_Mdl_speed_25 (by decide) ?_
      refine lv_goto (tgt := 30) hx hb d_Mdl_speed_26 (by decide) ?_
      exact w_Mdl_speed_30 C hr hnm hRf hRl  l0 l1 l2 2 l0 hp hH (lv_sub hl [0, 1, 2] rfl)
  · replace hp := x_ifp hc hp
    refine lv_iconst (v := 1) hx hb d_Mdl_speed_9 (by decide) ?_
    refine lv_goto (tgt := 30) hx hb d_Mdl_speed_10 (by decide) ?_
    exact w_Mdl_speed_30 C hr hnm hRf hRl  l0 l1 l2 1 l0 hp hH (lv_sub hl [0, 1, 2] rfl)
set_option maxRecDepth 100000 in
theorem m_Mdl_speed (Z : x_Z l s0 A0 D) {l0 : Nat} {l1 : Int32} {l2 : Int32} {res : (Int32 ⊕ (Nat × Nat)) × xH} (hp : f_Mdl_speed l0 l1 l2 h = some res) : x_M l s0 D y_Mdl_speed (x_cw y_Mdl_speed prog_11_method_20_code 4 (some .int) []) 2 62 [.ref l0, .int l1, .int l2] h (x_oc vI res.1) res.2 := by
  refine x_M.ofW Z (plainFor_of_name (by decide)) ?_
  intro p e s m below meth c C hnm hr hH
  have hl := lv_entry ([.ref l0, .int l1, .int l2]) (n := 4) (Nat.le_of_ble_eq_true rfl)
  rw [lg_entry_eq]
  generalize (lg_sl ([.ref l0, .int l1, .int l2]) ++ List.replicate (4 - (lg_sl ([.ref l0, .int l1, .int l2])).length) Slot.unset).toArray = ls at hl ⊢
  exact w_Mdl_speed_0 C hr hnm (Nat.le_refl _) (Nat.le_refl _) l0 l1 l2 hp hH hl
/-! ReadSideModel.fail(I)V -/
theorem d_Mdl_fail_0 : decode prog_11_method_22_code 0 = .ok (.aload_n 0, 1) := by decide +kernel
theorem d_Mdl_fail_1 : decode prog_11_method_22_code 1 = .ok (.getfield 78, 3) := by decide +kernel
theorem d_Mdl_fail_4 : decode prog_11_method_22_code 4 = .ok (.iload_n 1, 1) := by decide +kernel
theorem d_Mdl_fail_5 : decode prog_11_method_22_code 5 = .ok (.iconst 2, 1) := by decide +kernel
theorem d_Mdl_fail_6 : decode prog_11_method_22_code 6 = .ok (.iastore, 1) := by decide +kernel
theorem d_Mdl_fail_7 : decode prog_11_method_22_code 7 = .ok (.aload_n 0, 1) := by decide +kernel
theorem d_Mdl_fail_8 : decode prog_11_method_22_code 8 = .ok (.getfield 111, 3) := by decide +kernel
theorem d_Mdl_fail_11 : decode prog_11_method_22_code 11 = .ok (.iload_n 1, 1) := by decide +kernel
theorem d_Mdl_fail_12 : decode prog_11_method_22_code 12 = .ok (.aload_n 0, 1) := by decide +kernel
theorem d_Mdl_fail_13 : decode prog_11_method_22_code 13 = .ok (.getfield 201, 3) := by decide +kernel
theorem d_Mdl_fail_16 : decode prog_11_method_22_code 16 = .ok (.iastore, 1) := by decide +kernel
theorem d_Mdl_fail_17 : decode prog_11_method_22_code 17 = .ok (.return_, 1) := by decide +kernel
set_option maxHeartbeats 4000000 in
set_option maxRecDepth 100000 in
theorem w_Mdl_fail_0 {res : (Unit ⊕ (Nat × Nat)) × xH} (C : x_C l s0 A0 D R_Mdl prog_11_method_22_code 2 [] p s m args meth c) (hr : meth.sig.returnType = none) (hnm : meth.name = "fail") (hRf : 0 ≤ R.frames) (hRl : 0 ≤ R.locals)  (l0 : Nat) (l1 : Int32) (hp : f_Mdl_fail l0 l1 h = some res) (hH : x_S s0 D R h H locs cells slots) (hl : lv_has ls 2 [(0, .ref l0), (1, .int l1)]) : W p l e R s m args below meth c H locs cells slots (x_Q s0 D below s R (x_oc vU res.1) res.2) (F0 m 0 ls []) := by
  obtain ⟨hx, hb, hown, hts, hK, hml, hW, Z, -⟩ := id C
  unfold f_Mdl_fail at hp
  refine lv_aload_n hx hb d_Mdl_fail_0 rfl (lv_at hl 0 rfl) ?_
  refine x_gA C hH fl_Mdl_78 d_Mdl_fail_1 hp (fun v1 hp => ?_)
  refine lv_iload_n hx hb d_Mdl_fail_4 rfl (lv_at hl 1 rfl) ?_
  refine lv_iconst (v := 2) hx hb d_Mdl_fail_5 (by decide) ?_
  refine x_sI C hH d_Mdl_fail_6 hp (fun h H locs hp hH => ?_)
  refine lv_aload_n hx hb d_Mdl_fail_7 rfl (lv_at hl 0 rfl) ?_
  refine x_gA C hH fl_Mdl_111 d_Mdl_fail_8 hp (fun v2 hp => ?_)
  refine lv_iload_n hx hb d_Mdl_fail_11 rfl (lv_at hl 1 rfl) ?_
  refine lv_aload_n hx hb d_Mdl_fail_12 rfl (lv_at hl 0 rfl) ?_
  refine x_gI C hH fl_Mdl_201 d_Mdl_fail_13 hp (fun v3 hp => ?_)
  refine x_sI C hH d_Mdl_fail_16 hp (fun h H locs hp hH => ?_)
  exact x_vret C hH hr d_Mdl_fail_17 hp
set_option maxRecDepth 100000 in
theorem m_Mdl_fail (Z : x_Z l s0 A0 D) {l0 : Nat} {l1 : Int32} {res : (Unit ⊕ (Nat × Nat)) × xH} (hp : f_Mdl_fail l0 l1 h = some res) : x_M l s0 D y_Mdl_fail (x_cw y_Mdl_fail prog_11_method_22_code 2 none []) 0 0 [.ref l0, .int l1] h (x_oc vU res.1) res.2 := by
  refine x_M.ofW Z (plainFor_of_name (by decide)) ?_
  intro p e s m below meth c C hnm hr hH
  have hl := lv_entry ([.ref l0, .int l1]) (n := 2) (Nat.le_of_ble_eq_true rfl)
  rw [lg_entry_eq]
  generalize (lg_sl ([.ref l0, .int l1]) ++ List.replicate (2 - (lg_sl ([.ref l0, .int l1])).length) Slot.unset).toArray = ls at hl ⊢
  exact w_Mdl_fail_0 C hr hnm (Nat.le_refl _) (Nat.le_refl _) l0 l1 hp hH hl
/-! ReadSideModel.tick()I -/
theorem d_Mdl_tick_0 : decode prog_11_method_21_code 0 = .ok (.aload_n 0, 1) := by decide +kernel
theorem d_Mdl_tick_1 : decode prog_11_method_21_code 1 = .ok (.dup, 1) := by decide +kernel
theorem d_Mdl_tick_2 : decode prog_11_method_21_code 2 = .ok (.getfield 201, 3) := by decide +kernel
theorem d_Mdl_tick_5 : decode prog_11_method_21_code 5 = .ok (.iconst 1, 1) := by decide +kernel
theorem d_Mdl_tick_6 : decode prog_11_method_21_code 6 = .ok (.iadd, 1) := by decide +kernel
theorem d_Mdl_tick_7 : decode prog_11_method_21_code 7 = .ok (.putfield 201, 3) := by decide +kernel
theorem d_Mdl_tick_10 : decode prog_11_method_21_code 10 = .ok (.iconst 0, 1) := by decide +kernel
theorem d_Mdl_tick_11 : decode prog_11_method_21_code 11 = .ok (.istore_n 1, 1) := by decide +kernel
theorem d_Mdl_tick_12 : decode prog_11_method_21_code 12 = .ok (.iconst 0, 1) := by decide +kernel
theorem d_Mdl_tick_13 : decode prog_11_method_21_code 13 = .ok (.istore_n 2, 1) := by decide +kernel
theorem d_Mdl_tick_14 : decode prog_11_method_21_code 14 = .ok (.iload_n 2, 1) := by decide +kernel
theorem d_Mdl_tick_15 : decode prog_11_method_21_code 15 = .ok (.aload_n 0, 1) := by decide +kernel
theorem d_Mdl_tick_16 : decode prog_11_method_21_code 16 = .ok (.getfield 118, 3) := by decide +kernel
theorem d_Mdl_tick_19 : decode prog_11_method_21_code 19 = .ok (.if_icmp .ge 91, 3) := by decide +kernel
theorem d_Mdl_tick_22 : decode prog_11_method_21_code 22 = .ok (.iconst 0, 1) := by decide +kernel
theorem d_Mdl_tick_23 : decode prog_11_method_21_code 23 = .ok (.istore_n 3, 1) := by decide +kernel
theorem d_Mdl_tick_24 : decode prog_11_method_21_code 24 = .ok (.iconst 0, 1) := by decide +kernel
theorem d_Mdl_tick_25 : decode prog_11_method_21_code 25 = .ok (.istore 4, 2) := by decide +kernel
theorem d_Mdl_tick_27 : decode prog_11_method_21_code 27 = .ok (.aload_n 0, 1) := by decide +kernel
theorem d_Mdl_tick_28 : decode prog_11_method_21_code 28 = .ok (.getfield 59, 3) := by decide +kernel
theorem d_Mdl_tick_31 : decode prog_11_method_21_code 31 = .ok (.iload_n 2, 1) := by decide +kernel
theorem d_Mdl_tick_32 : decode prog_11_method_21_code 32 = .ok (.iaload, 1) := by decide +kernel
theorem d_Mdl_tick_33 : decode prog_11_method_21_code 33 = .ok (.istore 5, 2) := by decide +kernel
theorem d_Mdl_tick_35 : decode prog_11_method_21_code 35 = .ok (.aload_n 0, 1) := by decide +kernel
theorem d_Mdl_tick_36 : decode prog_11_method_21_code 36 = .ok (.getfield 62, 3) := by decide +kernel
theorem d_Mdl_tick_39 : decode prog_11_method_21_code 39 = .ok (.iload_n 2, 1) := by decide +kernel
theorem d_Mdl_tick_40 : decode prog_11_method_21_code 40 = .ok (.baload, 1) := by decide +kernel
theorem d_Mdl_tick_41 : decode prog_11_method_21_code 41 = .ok (.ifCond .eq 59, 3) := by decide +kernel
theorem d_Mdl_tick_44 : decode prog_11_method_21_code 44 = .ok (.iload_n 3, 1) := by decide +kernel
theorem d_Mdl_tick_45 : decode prog_11_method_21_code 45 = .ok (.aload_n 0, 1) := by decide +kernel
theorem d_Mdl_tick_46 : decode prog_11_method_21_code 46 = .ok (.getfield 56, 3) := by decide +kernel
theorem d_Mdl_tick_49 : decode prog_11_method_21_code 49 = .ok (.iload_n 2, 1) := by decide +kernel
theorem d_Mdl_tick_50 : decode prog_11_method_21_code 50 = .ok (.iaload, 1) := by decide +kernel
theorem d_Mdl_tick_51 : decode prog_11_method_21_code 51 = .ok (.if_icmp .ge 49, 3) := by decide +kernel
theorem d_Mdl_tick_54 : decode prog_11_method_21_code 54 = .ok (.iload 4, 2) := by decide +kernel
theorem d_Mdl_tick_56 : decode prog_11_method_21_code 56 = .ok (.aload_n 0, 1) := by decide +kernel
theorem d_Mdl_tick_57 : decode prog_11_method_21_code 57 = .ok (.getfield 114, 3) := by decide +kernel
theorem d_Mdl_tick_60 : decode prog_11_method_21_code 60 = .ok (.if_icmp .ge 40, 3) := by decide +kernel
theorem d_Mdl_tick_63 : decode prog_11_method_21_code 63 = .ok (.aload_n 0, 1) := by decide +kernel
theorem d_Mdl_tick_64 : decode prog_11_method_21_code 64 = .ok (.iload_n 2, 1) := by decide +kernel
theorem d_Mdl_tick_65 : decode prog_11_method_21_code 65 = .ok (.iload 5, 2) := by decide +kernel
theorem d_Mdl_tick_67 : decode prog_11_method_21_code 67 = .ok (.invokevirtual 196, 3) := by decide +kernel
theorem d_Mdl_tick_70 : decode prog_11_method_21_code 70 = .ok (.iconst 1, 1) := by decide +kernel
theorem d_Mdl_tick_71 : decode prog_11_method_21_code 71 = .ok (.if_icmp .ne 12, 3) := by decide +kernel
theorem d_Mdl_tick_74 : decode prog_11_method_21_code 74 = .ok (.iinc 3 1, 3) := by decide +kernel
theorem d_Mdl_tick_77 : decode prog_11_method_21_code 77 = .ok (.iconst 0, 1) := by decide +kernel
theorem d_Mdl_tick_78 : decode prog_11_method_21_code 78 = .ok (.istore 4, 2) := by decide +kernel
theorem d_Mdl_tick_80 : decode prog_11_method_21_code 80 = .ok (.goto 6, 3) := by decide +kernel
theorem d_Mdl_tick_83 : decode prog_11_method_21_code 83 = .ok (.iinc 4 1, 3) := by decide +kernel
theorem d_Mdl_tick_86 : decode prog_11_method_21_code 86 = .ok (.iload 5, 2) := by decide +kernel
theorem d_Mdl_tick_88 : decode prog_11_method_21_code 88 = .ok (.iconst 1, 1) := by decide +kernel
theorem d_Mdl_tick_89 : decode prog_11_method_21_code 89 = .ok (.iadd, 1) := by decide +kernel
theorem d_Mdl_tick_90 : decode prog_11_method_21_code 90 = .ok (.aload_n 0, 1) := by decide +kernel
theorem d_Mdl_tick_91 : decode prog_11_method_21_code 91 = .ok (.getfield 114, 3) := by decide +kernel
theorem d_Mdl_tick_94 : decode prog_11_method_21_code 94 = .ok (.irem, 1) := by decide +kernel
theorem d_Mdl_tick_95 : decode prog_11_method_21_code 95 = .ok (.istore 5, 2) := by decide +kernel
theorem d_Mdl_tick_97 : decode prog_11_method_21_code 97 = .ok (.goto (-62), 3) := by decide +kernel
theorem d_Mdl_tick_100 : decode prog_11_method_21_code 100 = .ok (.iload_n 1, 1) := by decide +kernel
theorem d_Mdl_tick_101 : decode prog_11_method_21_code 101 = .ok (.iload_n 3, 1) := by decide +kernel
theorem d_Mdl_tick_102 : decode prog_11_method_21_code 102 = .ok (.iadd, 1) := by decide +kernel
theorem d_Mdl_tick_103 : decode prog_11_method_21_code 103 = .ok (.istore_n 1, 1) := by decide +kernel
theorem d_Mdl_tick_104 : decode prog_11_method_21_code 104 = .ok (.iinc 2 1, 3) := by decide +kernel
theorem d_Mdl_tick_107 : decode prog_11_method_21_code 107 = .ok (.goto (-93), 3) := by decide +kernel
theorem d_Mdl_tick_110 : decode prog_11_method_21_code 110 = .ok (.iconst 0, 1) := by decide +kernel
theorem d_Mdl_tick_111 : decode prog_11_method_21_code 111 = .ok (.istore_n 2, 1) := by decide +kernel
theorem d_Mdl_tick_112 : decode prog_11_method_21_code 112 = .ok (.iload_n 2, 1) := by decide +kernel
theorem d_Mdl_tick_113 : decode prog_11_method_21_code 113 = .ok (.aload_n 0, 1) := by decide +kernel
theorem d_Mdl_tick_114 : decode prog_11_method_21_code 114 = .ok (.getfield 204, 3) := by decide +kernel
theorem d_Mdl_tick_117 : decode prog_11_method_21_code 117 = .ok (.if_icmp .ge 43, 3) := by decide +kernel
theorem d_Mdl_tick_120 : decode prog_11_method_21_code 120 = .ok (.aload_n 0, 1) := by decide +kernel
theorem d_Mdl_tick_121 : decode prog_11_method_21_code 121 = .ok (.getfield 78, 3) := by decide +kernel
theorem d_Mdl_tick_124 : decode prog_11_method_21_code 124 = .ok (.iload_n 2, 1) := by decide +kernel
theorem d_Mdl_tick_125 : decode prog_11_method_21_code 125 = .ok (.iaload, 1) := by decide +kernel
theorem d_Mdl_tick_126 : decode prog_11_method_21_code 126 = .ok (.ifCond .ne 28, 3) := by decide +kernel
theorem d_Mdl_tick_129 : decode prog_11_method_21_code 129 = .ok (.aload_n 0, 1) := by decide +kernel
theorem d_Mdl_tick_130 : decode prog_11_method_21_code 130 = .ok (.getfield 201, 3) := by decide +kernel
theorem d_Mdl_tick_133 : decode prog_11_method_21_code 133 = .ok (.aload_n 0, 1) := by decide +kernel
theorem d_Mdl_tick_134 : decode prog_11_method_21_code 134 = .ok (.getfield 93, 3) := by decide +kernel
theorem d_Mdl_tick_137 : decode prog_11_method_21_code 137 = .ok (.iload_n 2, 1) := by decide +kernel
theorem d_Mdl_tick_138 : decode prog_11_method_21_code 138 = .ok (.iaload, 1) := by decide +kernel
theorem d_Mdl_tick_139 : decode prog_11_method_21_code 139 = .ok (.isub, 1) := by decide +kernel
theorem d_Mdl_tick_140 : decode prog_11_method_21_code 140 = .ok (.aload_n 0, 1) := by decide +kernel
theorem d_Mdl_tick_141 : decode prog_11_method_21_code 141 = .ok (.getfield 90, 3) := by decide +kernel
theorem d_Mdl_tick_144 : decode prog_11_method_21_code 144 = .ok (.iload_n 2, 1) := by decide +kernel
theorem d_Mdl_tick_145 : decode prog_11_method_21_code 145 = .ok (.iaload, 1) := by decide +kernel
theorem d_Mdl_tick_146 : decode prog_11_method_21_code 146 = .ok (.if_icmp .lt 8, 3) := by decide +kernel
theorem d_Mdl_tick_149 : decode prog_11_method_21_code 149 = .ok (.aload_n 0, 1) := by decide +kernel
theorem d_Mdl_tick_150 : decode prog_11_method_21_code 150 = .ok (.iload_n 2, 1) := by decide +kernel
theorem d_Mdl_tick_151 : decode prog_11_method_21_code 151 = .ok (.invokevirtual 207, 3) := by decide +kernel
theorem d_Mdl_tick_154 : decode prog_11_method_21_code 154 = .ok (.iinc 2 1, 3) := by decide +kernel
theorem d_Mdl_tick_157 : decode prog_11_method_21_code 157 = .ok (.goto (-45), 3) := by decide +kernel
theorem d_Mdl_tick_160 : decode prog_11_method_21_code 160 = .ok (.iload_n 1, 1) := by decide +kernel
theorem d_Mdl_tick_161 : decode prog_11_method_21_code 161 = .ok (.ireturn, 1) := by decide +kernel
set_option maxHeartbeats 4000000 in
set_option maxRecDepth 100000 in
theorem w_Mdl_tick_154 {res : (Int32 ⊕ (Nat × Nat)) × xH} (C : x_C l s0 A0 D R_Mdl prog_11_method_21_code 6 [] p s m args meth c) (hr : meth.sig.returnType = (some .int)) (hnm : meth.name = "tick") (hRf : 5 ≤ R.frames) (hRl : 163 ≤ R.locals) {k112 : Nat → Int32 → Int32 → xM Int32} (hs112 : ∀ (l0 : Nat) (l1 : Int32) (l2 : Int32) (h : xH) (H : Heap) (locs : List Loc) (cells slots : Nat) (ls : Array Slot), k112 l0 l1 l2 h = some res → x_S s0 D R h H locs cells slots → lv_has ls 6 [(0, .ref l0), (1, .int l1), (2, .int l2)] → W p l e R s m args below meth c H locs cells slots (x_Q s0 D below s R (x_oc vI res.1) res.2) (F0 m 112 ls [])) (l0 : Nat) (l1 : Int32) (l2 : Int32) (hp : f_Mdl_tick_b154 k112 l0 l1 l2 h = some res) (hH : x_S s0 D R h H locs cells slots) (hl : lv_has ls 6 [(0, .ref l0), (1, .int l1), (2, .int l2)]) : W p l e R s m args below meth c H locs cells slots (x_Q s0 D below s R (x_oc vI res.1) res.2) (F0 m 154 ls []) := by
  obtain ⟨hx, hb, hown, hts, hK, hml, hW, Z, -⟩ := id C
  unfold f_Mdl_tick_b154 at hp
  refine lv_iinc (v := (l2 + 1)) (lv' := [(2, .int (l2 + 1)), (0, .ref l0), (1, .int l1)]) hx hb d_Mdl_tick_154 hl (k := 2) rfl rfl (by decide) rfl (fun ls hl => ?_)
  refine lv_goto (tgt := 112) hx hb d_Mdl_tick_157 (by decide) ?_
  exact hs112 l0 l1 (l2 + 1) _ _ _ _ _ _ hp hH (lv_sub hl [1, 2, 0] rfl)
set_option maxHeartbeats 4000000 in
set_option maxRecDepth 100000 in
theorem w_Mdl_tick_112 {res : (Int32 ⊕ (Nat × Nat)) × xH} (C : x_C l s0 A0 D R_Mdl prog_11_method_21_code 6 [] p s m args meth c) (hr : meth.sig.returnType = (some .int)) (hnm : meth.name = "tick") (hRf : 5 ≤ R.frames) (hRl : 163 ≤ R.locals) {k112 : Nat → Int32 → Int32 → xM Int32} (hs112 : ∀ (l0 : Nat) (l1 : Int32) (l2 : Int32) (h : xH) (H : Heap) (locs : List Loc) (cells slots : Nat) (ls : Array Slot), k112 l0 l1 l2 h = some res → x_S s0 D R h H locs cells slots → lv_has ls 6 [(0, .ref l0), (1, .int l1), (2, .int l2)] → W p l e R s m args below meth c H locs cells slots (x_Q s0 D below s R (x_oc vI res.1) res.2) (F0 m 112 ls [])) (l0 : Nat) (l1 : Int32) (l2 : Int32) (hp : f_Mdl_tick_b112 k112 l0 l1 l2 h = some res) (hH : x_S s0 D R h H locs cells slots) (hl : lv_has ls 6 [(0, .ref l0), (1, .int l1), (2, .int l2)]) : W p l e R s m args below meth c H locs cells slots (x_Q s0 D below s R (x_oc vI res.1) res.2) (F0 m 112 ls []) := by
  obtain ⟨hx, hb, hown, hts, hK, hml, hW, Z, -⟩ := id C
  unfold f_Mdl_tick_b112 at hp
  refine lv_iload_n hx hb d_Mdl_tick_112 rfl (lv_at hl 2 rfl) ?_
  refine lv_aload_n hx hb d_Mdl_tick_113 rfl (lv_at hl 0 rfl) ?_
  refine x_gI C hH fl_Mdl_204 d_Mdl_tick_114 hp (fun v1 hp => ?_)
  refine lv_icmp_ge (tgt := 160) hx hb d_Mdl_tick_117 (by decide) (fun hc => ?_) (fun hc => ?_)
  · replace hp := x_ifp hc hp
    refine lv_iload_n hx hb d_Mdl_tick_160 rfl (lv_at hl 1 rfl) ?_
    exact x_iret C hH hr d_Mdl_tick_161 hp
  · replace hp := x_ifn hc hp
    refine lv_aload_n hx hb d_Mdl_tick_120 rfl (lv_at hl 0 rfl) ?_
    refine x_gA C hH fl_Mdl_78 d_Mdl_tick_121 hp (fun v2 hp => ?_)
    refine lv_iload_n hx hb d_Mdl_tick_124 rfl (lv_at hl 2 rfl) ?_
    refine x_lI C hH d_Mdl_tick_125 hp (fun v3 hp => ?_)
    refine lv_if_ne (tgt := 154) hx hb d_Mdl_tick_126 (by decide) (fun hc => ?_) (fun hc => ?_)
    · replace hp := x_ifn hc hp
      exact w_Mdl_tick_154 C hr hnm hRf hRl hs112 l0 l1 l2 hp hH (lv_sub hl [0, 1, 2] rfl)
    · replace hp := x_ifp hc hp
      refine lv_aload_n hx hb d_Mdl_tick_129 rfl (lv_at hl 0 rfl) ?_
      refine x_gI C hH fl_Mdl_201 d_Mdl_tick_130 hp (fun v4 hp => ?_)
      refine lv_aload_n hx hb d_Mdl_tick_133 rfl (lv_at hl 0 rfl) ?_
      refine x_gA C hH fl_Mdl_93 d_Mdl_tick_134 hp (fun v5 hp => ?_)
      refine lv_iload_n hx hb d_Mdl_tick_137 rfl (lv_at hl 2 rfl) ?_
      refine x_lI C hH d_Mdl_tick_138 hp (fun v6 hp => ?_)
      refine lv_isub hx hb d_Mdl_tick_139 ?_
      refine lv_aload_n hx hb d_Mdl_tick_140 rfl (lv_at hl 0 rfl) ?_
      refine x_gA C hH fl_Mdl_90 d_Mdl_tick_141 hp (fun v7 hp => ?_)
      refine lv_iload_n hx hb d_Mdl_tick_144 rfl (lv_at hl 2 rfl) ?_
      refine x_lI C hH d_Mdl_tick_145 hp (fun v8 hp => ?_)
      refine lv_icmp_lt (tgt := 154) hx hb d_Mdl_tick_146 (by decide) (fun hc => ?_) (fun hc => ?_)
      · replace hp := x_ifp hc hp
        exact w_Mdl_tick_154 C hr hnm hRf hRl hs112 l0 l1 l2 hp hH (lv_sub hl [0, 1, 2] rfl)
      · replace hp := x_ifn hc hp
        refine lv_aload_n hx hb d_Mdl_tick_149 rfl (lv_at hl 0 rfl) ?_
        refine lv_iload_n hx hb d_Mdl_tick_150 rfl (lv_at hl 2 rfl) ?_
        refine x_callV (As := [.int l2]) (rest := []) (cv := vU) C hH kc_Mdl_207 d_Mdl_tick_151 hp (fun o h' e => m_Mdl_fail Z e) rfl hl.1 (Nat.le_trans (Nat.le_of_ble_eq_true rfl) hRf) (Nat.le_trans (Nat.le_of_ble_eq_true rfl) hRl) (Nat.le_of_ble_eq_true rfl) (fun v9 h H locs cells slots hp hH => ?_)
        refine W.eq (g2 := F0 m 154 ls []) rfl ?_
        exact w_Mdl_tick_154 C hr hnm hRf hRl hs112 l0 l1 l2 hp hH (lv_sub hl [0, 1, 2] rfl)
theorem w_Mdl_tick_h112 {res : (Int32 ⊕ (Nat × Nat)) × xH} (C : x_C l s0 A0 D R_Mdl prog_11_method_21_code 6 [] p s m args meth c) (hr : meth.sig.returnType = (some .int)) (hnm : meth.name = "tick") (hRf : 5 ≤ R.frames) (hRl : 163 ≤ R.locals)  : ∀ (n : Nat) (l0 : Nat) (l1 : Int32) (l2 : Int32) (h : xH) (H : Heap) (locs : List Loc) (cells slots : Nat) (ls : Array Slot), f_Mdl_tick_h112 n l0 l1 l2 h = some res → x_S s0 D R h H locs cells slots → lv_has ls 6 [(0, .ref l0), (1, .int l1), (2, .int l2)] → W p l e R s m args below meth c H locs cells slots (x_Q s0 D below s R (x_oc vI res.1) res.2) (F0 m 112 ls []) := by
  intro n
  induction n with
  | zero => intro l0 l1 l2 h H locs cells slots ls hp hH hl; cases hp
  | succ n ih => intro l0 l1 l2 h H locs cells slots ls hp hH hl; exact w_Mdl_tick_112 C hr hnm hRf hRl ih l0 l1 l2 hp hH hl
set_option maxHeartbeats 4000000 in
set_option maxRecDepth 100000 in
theorem w_Mdl_tick_100 {res : (Int32 ⊕ (Nat × Nat)) × xH} (C : x_C l s0 A0 D R_Mdl prog_11_method_21_code 6 [] p s m args meth c) (hr : meth.sig.returnType = (some .int)) (hnm : meth.name = "tick") (hRf : 5 ≤ R.frames) (hRl : 163 ≤ R.locals) {k14 : Nat → Int32 → Int32 → xM Int32} (hs14 : ∀ (l0 : Nat) (l1 : Int32) (l2 : Int32) (h : xH) (H : Heap) (locs : List Loc) (cells slots : Nat) (ls : Array Slot), k14 l0 l1 l2 h = some res → x_S s0 D R h H locs cells slots → lv_has ls 6 [(0, .ref l0), (1, .int l1), (2, .int l2)] → W p l e R s m args below meth c H locs cells slots (x_Q s0 D below s R (x_oc vI res.1) res.2) (F0 m 14 ls [])) (l0 : Nat) (l1 : Int32) (l2 : Int32) (l3 : Int32) (hp : f_Mdl_tick_b100 k14 l0 l1 l2 l3 h = some res) (hH : x_S s0 D R h H locs cells slots) (hl : lv_has ls 6 [(0, .ref l0), (1, .int l1), (2, .int l2), (3, .int l3)]) : W p l e R s m args below meth c H locs cells slots (x_Q s0 D below s R (x_oc vI res.1) res.2) (F0 m 100 ls []) := by
  obtain ⟨hx, hb, hown, hts, hK, hml, hW, Z, -⟩ := id C
  unfold f_Mdl_tick_b100 at hp
  refine lv_iload_n hx hb d_Mdl_tick_100 rfl (lv_at hl 1 rfl) ?_
  refine lv_iload_n hx hb d_Mdl_tick_101 rfl (lv_at hl 3 rfl) ?_
  refine lv_iadd hx hb d_Mdl_tick_102 ?_
  refine lv_istore_n (lv' := [(1, .int (l1 + l3)), (0, .ref l0), (2, .int l2), (3, .int l3)]) hx hb d_Mdl_tick_103 rfl hl (by decide) rfl (fun ls hl => ?_)
  refine lv_iinc (v := (l2 + 1)) (lv' := [(2, .int (l2 + 1)), (1, .int (l1 + l3)), (0, .ref l0), (3, .int l3)]) hx hb d_Mdl_tick_104 hl (k := 2) rfl rfl (by decide) rfl (fun ls hl => ?_)
  refine lv_goto (tgt := 14) hx hb d_Mdl_tick_107 (by decide) ?_
  exact hs14 l0 (l1 + l3) (l2 + 1) _ _ _ _ _ _ hp hH (lv_sub hl [2, 1, 0] rfl)
set_option maxHeartbeats 4000000 in
set_option maxRecDepth 100000 in
theorem w_Mdl_tick_86 {res : (Int32 ⊕ (Nat × Nat)) × xH} (C : x_C l s0 A0 D R_Mdl prog_11_method_21_code 6 [] p s m args meth c) (hr : meth.sig.returnType = (some .int)) (hnm : meth.name = "tick") (hRf : 5 ≤ R.frames) (hRl : 163 ≤ R.locals) {k14 : Nat → Int32 → Int32 → xM Int32} (hs14 : ∀ (l0 : Nat) (l1 : Int32) (l2 : Int32) (h : xH) (H : Heap) (locs : List Loc) (cells slots : Nat) (ls : Array Slot), k14 l0 l1 l2 h = some res → x_S s0 D R h H locs cells slots → lv_has ls 6 [(0, .ref l0), (1, .int l1), (2, .int l2)] → W p l e R s m args below meth c H locs cells slots (x_Q s0 D below s R (x_oc vI res.1) res.2) (F0 m 14 ls [])) {k35 : Nat → Int32 → Int32 → Int32 → Int32 → Int32 → xM Int32} (hs35 : ∀ (l0 : Nat) (l1 : Int32) (l2 : Int32) (l3 : Int32) (l4 : Int32) (l5 : Int32) (h : xH) (H : Heap) (locs : List Loc) (cells slots : Nat) (ls : Array Slot), k35 l0 l1 l2 l3 l4 l5 h = some res → x_S s0 D R h H locs cells slots → lv_has ls 6 [(0, .ref l0), (1, .int l1), (2, .int l2), (3, .int l3), (4, .int l4), (5, .int l5)] → W p l e R s m args below meth c H locs cells slots (x_Q s0 D below s R (x_oc vI res.1) res.2) (F0 m 35 ls [])) (l0 : Nat) (l1 : Int32) (l2 : Int32) (l3 : Int32) (l4 : Int32) (l5 : Int32) (hp : f_Mdl_tick_b86 k14 k35 l0 l1 l2 l3 l4 l5 h = some res) (hH : x_S s0 D R h H locs cells slots) (hl : lv_has ls 6 [(0, .ref l0), (1, .int l1), (2, .int l2), (3, .int l3), (4, .int l4), (5, .int l5)]) : W p l e R s m args below meth c H locs cells slots (x_Q s0 D below s R (x_oc vI res.1) res.2) (F0 m 86 ls []) := by
  obtain ⟨hx, hb, hown, hts, hK, hml, hW, Z, -⟩ := id C
  unfold f_Mdl_tick_b86 at hp
  refine lv_iload hx hb d_Mdl_tick_86 (lv_at hl 5 rfl) ?_
  refine lv_iconst (v := 1) hx hb d_Mdl_tick_88 (by decide) ?_
  refine lv_iadd hx hb d_Mdl_tick_89 ?_
  refine lv_aload_n hx hb d_Mdl_tick_90 rfl (lv_at hl 0 rfl) ?_
  refine x_gI C hH fl_Mdl_114 d_Mdl_tick_91 hp (fun v1 hp => ?_)
  obtain ⟨hz, hp⟩ := rI_i hp
  refine lv_irem hx hb d_Mdl_tick_94 hz ?_
  generalize ev2 : (l5 + 1) - (l5 + 1) / v1 * v1 = v2 at hp ⊢
  refine lv_istore (lv' := [(5, .int v2), (0, .ref l0), (1, .int l1), (2, .int l2), (3, .int l3), (4, .int l4)]) hx hb d_Mdl_tick_95 hl (by decide) rfl (fun ls hl => ?_)
  refine lv_goto (tgt := 35) hx hb d_Mdl_tick_97 (by decide) ?_
  exact hs35 l0 l1 l2 l3 l4 v2 _ _ _ _ _ _ hp hH (lv_sub hl [1, 2, 3, 4, 5, 0] rfl)
set_option maxHeartbeats 4000000 in
set_option maxRecDepth 100000 in
theorem w_Mdl_tick_35 {res : (Int32 ⊕ (Nat × Nat)) × xH} (C : x_C l s0 A0 D R_Mdl prog_11_method_21_code 6 [] p s m args meth c) (hr : meth.sig.returnType = (some .int)) (hnm : meth.name = "tick") (hRf : 5 ≤ R.frames) (hRl : 163 ≤ R.locals) {k14 : Nat → Int32 → Int32 → xM Int32} (hs14 : ∀ (l0 : Nat) (l1 : Int32) (l2 : Int32) (h : xH) (H : Heap) (locs : List Loc) (cells slots : Nat) (ls : Array Slot), k14 l0 l1 l2 h = some res → x_S s0 D R h H locs cells slots → lv_has ls 6 [(0, .ref l0), (1, .int l1), (2, .int l2)] → W p l e R s m args below meth c H locs cells slots (x_Q s0 D below s R (x_oc vI res.1) res.2) (F0 m 14 ls [])) {k35 : Nat → Int32 → Int32 → Int32 → Int32 → Int32 → xM Int32} (hs35 : ∀ (l0 : Nat) (l1 : Int32) (l2 : Int32) (l3 : Int32) (l4 : Int32) (l5 : Int32) (h : xH) (H : Heap) (locs : List Loc) (cells slots : Nat) (ls : Array Slot), k35 l0 l1 l2 l3 l4 l5 h = some res → x_S s0 D R h H locs cells slots → lv_has ls 6 [(0, .ref l0), (1, .int l1), (2, .int l2), (3, .int l3), (4, .int l4), (5, .int l5)] → W p l e R s m args below meth c H locs cells slots (x_Q s0 D below s R (x_oc vI res.1) res.2) (F0 m 35 ls [])) (l0 : Nat) (l1 : Int32) (l2 : Int32) (l3 : Int32) (l4 : Int32) (l5 : Int32) (hp : f_Mdl_tick_b35 k14 k35 l0 l1 l2 l3 l4 l5 h = some res) (hH : x_S s0 D R h H locs cells slots) (hl : lv_has ls 6 [(0, .ref l0), (1, .int l1), (2, .int l2), (3, .int l3), (4, .int l4), (5, .int l5)]) : W p l e R s m args below meth c H locs cells slots (x_Q s0 D below s R (x_oc vI res.1) res.2) (F0 m 35 ls []) := by
  obtain ⟨hx, hb, hown, hts, hK, hml, hW, Z, -⟩ := id C
  unfold f_Mdl_tick_b35 at hp
  refine lv_aload_n hx hb d_Mdl_tick_35 rfl (lv_at hl 0 rfl) ?_
  refine x_gA C hH fl_Mdl_62 d_Mdl_tick_36 hp (fun v1 hp => ?_)
  refine lv_iload_n hx hb d_Mdl_tick_39 rfl (lv_at hl 2 rfl) ?_
  refine x_lZ C hH d_Mdl_tick_40 hp (fun v2 hp => ?_)
  refine lv_if_eq (tgt := 100) hx hb d_Mdl_tick_41 (by decide) (fun hc => ?_) (fun hc => ?_)
  · replace hp := x_ifp hc hp
    exact w_Mdl_tick_100 C hr hnm hRf hRl hs14 l0 l1 l2 l3 hp hH (lv_sub hl [0, 1, 2, 3] rfl)
  · replace hp := x_ifn hc hp
    refine lv_iload_n hx hb d_Mdl_tick_44 rfl (lv_at hl 3 rfl) ?_
    refine lv_aload_n hx hb d_Mdl_tick_45 rfl (lv_at hl 0 rfl) ?_
    refine x_gA C hH fl_Mdl_56 d_Mdl_tick_46 hp (fun v3 hp => ?_)
    refine lv_iload_n hx hb d_Mdl_tick_49 rfl (lv_at hl 2 rfl) ?_
    refine x_lI C hH d_Mdl_tick_50 hp (fun v4 hp => ?_)
    refine lv_icmp_ge (tgt := 100) hx hb d_Mdl_tick_51 (by decide) (fun hc => ?_) (fun hc => ?_)
    · replace hp := x_ifp hc hp
      exact w_Mdl_tick_100 C hr hnm hRf hRl hs14 l0 l1 l2 l3 hp hH (lv_sub hl [0, 1, 2, 3] rfl)
    · replace hp := x_ifn hc hp
      refine lv_iload hx hb d_Mdl_tick_54 (lv_at hl 4 rfl) ?_
      refine lv_aload_n hx hb d_Mdl_tick_56 rfl (lv_at hl 0 rfl) ?_
      refine x_gI C hH fl_Mdl_114 d_Mdl_tick_57 hp (fun v5 hp => ?_)
      refine lv_icmp_ge (tgt := 100) hx hb d_Mdl_tick_60 (by decide) (fun hc => ?_) (fun hc => ?_)
      · replace hp := x_ifp hc hp
        exact w_Mdl_tick_100 C hr hnm hRf hRl hs14 l0 l1 l2 l3 hp hH (lv_sub hl [0, 1, 2, 3] rfl)
      · replace hp := x_ifn hc hp
        refine lv_aload_n hx hb d_Mdl_tick_63 rfl (lv_at hl 0 rfl) ?_
        refine lv_iload_n hx hb d_Mdl_tick_64 rfl (lv_at hl 2 rfl) ?_
        refine lv_iload hx hb d_Mdl_tick_65 (lv_at hl 5 rfl) ?_
        refine x_callV (As := [.int l2, .int l5]) (rest := []) (cv := vI) C hH kc_Mdl_196 d_Mdl_tick_67 hp (fun o h' e => m_Mdl_advance Z e) rfl hl.1 (Nat.le_trans (Nat.le_of_ble_eq_true rfl) hRf) (Nat.le_trans (Nat.le_of_ble_eq_true rfl) hRl) (Nat.le_of_ble_eq_true rfl) (fun v6 h H locs cells slots hp hH => ?_)
        refine W.eq (g2 := F0 m 70 ls [.int v6]) rfl ?_
        refine lv_iconst (v := 1) hx hb d_Mdl_tick_70 (by decide) ?_
        refine lv_icmp_ne (tgt := 83) hx hb d_Mdl_tick_71 (by decide) (fun hc => ?_) (fun hc => ?_)
        · replace hp := x_ifn hc hp
          refine lv_iinc (v := (l4 + 1)) (lv' := [(4, .int (l4 + 1)), (0, .ref l0), (1, .int l1), (2, .int l2), (3, .int l3), (5, .int l5)]) hx hb d_Mdl_tick_83 hl (k := 4) rfl rfl (by decide) rfl (fun ls hl => ?_)
          exact w_Mdl_tick_86 C hr hnm hRf hRl hs14 hs35 l0 l1 l2 l3 (l4 + 1) l5 hp hH (lv_sub hl [1, 2, 3, 4, 0, 5] rfl)
        · replace hp := x_ifp hc hp
          refine lv_iinc (v := (l3 + 1)) (lv' := [(3, .int (l3 + 1)), (0, .ref l0), (1, .int l1), (2, .int l2), (4, .int l4), (5, .int l5)]) hx hb d_Mdl_tick_74 hl (k := 3) rfl rfl (by decide) rfl (fun ls hl => ?_)
          refine lv_iconst (v := 0) hx hb d_Mdl_tick_77 (by decide) ?_
          refine lv_istore (lv' := [(4, .int 0), (3, .int (l3 + 1)), (0, .ref l0), (1, .int l1), (2, .int l2), (5, .int l5)]) hx hb d_Mdl_tick_78 hl (by decide) rfl (fun ls hl => ?_)
          refine lv_goto (tgt := 86) hx hb d_Mdl_tick_80 (by decide) ?_
          exact w_Mdl_tick_86 C hr hnm hRf hRl hs14 hs35 l0 l1 l2 (l3 + 1) 0 l5 hp hH (lv_sub hl [2, 3, 4, 1, 0, 5] rfl)
theorem w_Mdl_tick_h35 {res : (Int32 ⊕ (Nat × Nat)) × xH} (C : x_C l s0 A0 D R_Mdl prog_11_method_21_code 6 [] p s m args meth c) (hr : meth.sig.returnType = (some .int)) (hnm : meth.name = "tick") (hRf : 5 ≤ R.frames) (hRl : 163 ≤ R.locals) {k14 : Nat → Int32 → Int32 → xM Int32} (hs14 : ∀ (l0 : Nat) (l1 : Int32) (l2 : Int32) (h : xH) (H : Heap) (locs : List Loc) (cells slots : Nat) (ls : Array Slot), k14 l0 l1 l2 h = some res → x_S s0 D R h H locs cells slots → lv_has ls 6 [(0, .ref l0), (1, .int l1), (2, .int l2)] → W p l e R s m args below meth c H locs cells slots (x_Q s0 D below s R (x_oc vI res.1) res.2) (F0 m 14 ls [])) : ∀ (n : Nat) (l0 : Nat) (l1 : Int32) (l2 : Int32) (l3 : Int32) (l4 : Int32) (l5 : Int32) (h : xH) (H : Heap) (locs : List Loc) (cells slots : Nat) (ls : Array Slot), f_Mdl_tick_h35 k14 n l0 l1 l2 l3 l4 l5 h = some res → x_S s0 D R h H locs cells slots → lv_has ls 6 [(0, .ref l0), (1, .int l1), (2, .int l2), (3, .int l3), (4, .int l4), (5, .int l5)] → W p l e R s m args below meth c H locs cells slots (x_Q s0 D below s R (x_oc vI res.1) res.2) (F0 m 35 ls []) := by
  intro n
  induction n with
  | zero => intro l0 l1 l2 l3 l4 l5 h H locs cells slots ls hp hH hl; cases hp
  | succ n ih => intro l0 l1 l2 l3 l4 l5 h H locs cells slots ls hp hH hl; exact w_Mdl_tick_35 C hr hnm hRf hRl hs14 ih l0 l1 l2 l3 l4 l5 hp hH hl
set_option maxHeartbeats 4000000 in
set_option maxRecDepth 100000 in
theorem w_Mdl_tick_14 {res : (Int32 ⊕ (Nat × Nat)) × xH} (C : x_C l s0 A0 D R_Mdl prog_11_method_21_code 6 [] p s m args meth c) (hr : meth.sig.returnType = (some .int)) (hnm : meth.name = "tick") (hRf : 5 ≤ R.frames) (hRl : 163 ≤ R.locals) {k14 : Nat → Int32 → Int32 → xM Int32} (hs14 : ∀ (l0 : Nat) (l1 : Int32) (l2 : Int32) (h : xH) (H : Heap) (locs : List Loc) (cells slots : Nat) (ls : Array Slot), k14 l0 l1 l2 h = some res → x_S s0 D R h H locs cells slots → lv_has ls 6 [(0, .ref l0), (1, .int l1), (2, .int l2)] → W p l e R s m args below meth c H locs cells slots (x_Q s0 D below s R (x_oc vI res.1) res.2) (F0 m 14 ls [])) (l0 : Nat) (l1 : Int32) (l2 : Int32) (hp : f_Mdl_tick_b14 k14 l0 l1 l2 h = some res) (hH : x_S s0 D R h H locs cells slots) (hl : lv_has ls 6 [(0, .ref l0), (1, .int l1), (2, .int l2)]) : W p l e R s m args below meth c H locs cells slots (x_Q s0 D below s R (x_oc vI res.1) res.2) (F0 m 14 ls []) := by
  obtain ⟨hx, hb, hown, hts, hK, hml, hW, Z, -⟩ := id C
  unfold f_Mdl_tick_b14 at hp
  refine lv_iload_n hx hb d_Mdl_tick_14 rfl (lv_at hl 2 rfl) ?_
  refine lv_aload_n hx hb d_Mdl_tick_15 rfl (lv_at hl 0 rfl) ?_
  refine x_gI C hH fl_Mdl_118 d_Mdl_tick_16 hp (fun v1 hp => ?_)
  refine lv_icmp_ge (tgt := 110) hx hb d_Mdl_tick_19 (by decide) (fun hc => ?_) (fun hc => ?_)
  · replace hp := x_ifp hc hp
    refine lv_iconst (v := 0) hx hb d_Mdl_tick_110 (by decide) ?_
    refine lv_istore_n (lv' := [(2, .int 0), (0, .ref l0), (1, .int l1)]) hx hb d_Mdl_tick_111 rfl hl (by decide) rfl (fun ls hl => ?_)
    exact w_Mdl_tick_h112 C hr hnm hRf hRl  1000 l0 l1 0 _ _ _ _ _ _ hp hH (lv_sub hl [1, 2, 0] rfl)
  · replace hp := x_ifn hc hp
    refine lv_iconst (v := 0) hx hb d_Mdl_tick_22 (by decide) ?_
    refine lv_istore_n (lv' := [(3, .int 0), (0, .ref l0), (1, .int l1), (2, .int l2)]) hx hb d_Mdl_tick_23 rfl hl (by decide) rfl (fun ls hl => ?_)
    refine lv_iconst (v := 0) hx hb d_Mdl_tick_24 (by decide) ?_
    refine lv_istore (lv' := [(4, .int 0), (3, .int 0), (0, .ref l0), (1, .int l1), (2, .int l2)]) hx hb d_Mdl_tick_25 hl (by decide) rfl (fun ls hl => ?_)
    refine lv_aload_n hx hb d_Mdl_tick_27 rfl (lv_at hl 2 rfl) ?_
    refine x_gA C hH fl_Mdl_59 d_Mdl_tick_28 hp (fun v2 hp => ?_)
    refine lv_iload_n hx hb d_Mdl_tick_31 rfl (lv_at hl 4 rfl) ?_
    refine x_lI C hH d_Mdl_tick_32 hp (fun v3 hp => ?_)
    refine lv_istore (lv' := [(5, .int v3), (4, .int 0), (3, .int 0), (0, .ref l0), (1, .int l1), (2, .int l2)]) hx hb d_Mdl_tick_33 hl (by decide) rfl (fun ls hl => ?_)
    exact w_Mdl_tick_h35 C hr hnm hRf hRl hs14 1000 l0 l1 l2 0 0 v3 _ _ _ _ _ _ hp hH (lv_sub hl [3, 4, 5, 2, 1, 0] rfl)
theorem w_Mdl_tick_h14 {res : (Int32 ⊕ (Nat × Nat)) × xH} (C : x_C l s0 A0 D R_Mdl prog_11_method_21_code 6 [] p s m args meth c) (hr : meth.sig.returnType = (some .int)) (hnm : meth.name = "tick") (hRf : 5 ≤ R.frames) (hRl : 163 ≤ R.locals)  : ∀ (n : Nat) (l0 : Nat) (l1 : Int32) (l2 : Int32) (h : xH) (H : Heap) (locs : List Loc) (cells slots : Nat) (ls : Array Slot), f_Mdl_tick_h14 n l0 l1 l2 h = some res → x_S s0 D R h H locs cells slots → lv_has ls 6 [(0, .ref l0), (1, .int l1), (2, .int l2)] → W p l e R s m args below meth c H locs cells slots (x_Q s0 D below s R (x_oc vI res.1) res.2) (F0 m 14 ls []) := by
  intro n
  induction n with
  | zero => intro l0 l1 l2 h H locs cells slots ls hp hH hl; cases hp
  | succ n ih => intro l0 l1 l2 h H locs cells slots ls hp hH hl; exact w_Mdl_tick_14 C hr hnm hRf hRl ih l0 l1 l2 hp hH hl
set_option maxHeartbeats 4000000 in
set_option maxRecDepth 100000 in
theorem w_Mdl_tick_0 {res : (Int32 ⊕ (Nat × Nat)) × xH} (C : x_C l s0 A0 D R_Mdl prog_11_method_21_code 6 [] p s m args meth c) (hr : meth.sig.returnType = (some .int)) (hnm : meth.name = "tick") (hRf : 5 ≤ R.frames) (hRl : 163 ≤ R.locals)  (l0 : Nat) (hp : f_Mdl_tick l0 h = some res) (hH : x_S s0 D R h H locs cells slots) (hl : lv_has ls 6 [(0, .ref l0)]) : W p l e R s m args below meth c H locs cells slots (x_Q s0 D below s R (x_oc vI res.1) res.2) (F0 m 0 ls []) := by
  obtain ⟨hx, hb, hown, hts, hK, hml, hW, Z, -⟩ := id C
  unfold f_Mdl_tick at hp
  refine lv_aload_n hx hb d_Mdl_tick_0 rfl (lv_at hl 0 rfl) ?_
  refine lv_dup hx hb d_Mdl_tick_1 rfl ?_
  refine x_gI C hH fl_Mdl_201 d_Mdl_tick_2 hp (fun v1 hp => ?_)
  refine lv_iconst (v := 1) hx hb d_Mdl_tick_5 (by decide) ?_
  refine lv_iadd hx hb d_Mdl_tick_6 ?_
  refine x_pV C hH fp_Mdl_201 (fun h => Bool.noConfusion h) d_Mdl_tick_7 rfl rfl hp (fun h H locs hp hH => ?_)
  refine lv_iconst (v := 0) hx hb d_Mdl_tick_10 (by decide) ?_
  refine lv_istore_n (lv' := [(1, .int 0), (0, .ref l0)]) hx hb d_Mdl_tick_11 rfl hl (by decide) rfl (fun ls hl => ?_)
  refine lv_iconst (v := 0) hx hb d_Mdl_tick_12 (by decide) ?_
  refine lv_istore_n (lv' := [(2, .int 0), (1, .int 0), (0, .ref l0)]) hx hb d_Mdl_tick_13 rfl hl (by decide) rfl (fun ls hl => ?_)
  exact w_Mdl_tick_h14 C hr hnm hRf hRl  1000 l0 0 0 _ _ _ _ _ _ hp hH (lv_sub hl [2, 1, 0] rfl)
set_option maxRecDepth 100000 in
theorem m_Mdl_tick (Z : x_Z l s0 A0 D) {l0 : Nat} {res : (Int32 ⊕ (Nat × Nat)) × xH} (hp : f_Mdl_tick l0 h = some res) : x_M l s0 D y_Mdl_tick (x_cw y_Mdl_tick prog_11_method_21_code 6 (some .int) []) 5 163 [.ref l0] h (x_oc vI res.1) res.2 := by
  refine x_M.ofW Z (plainFor_of_name (by decide)) ?_
  intro p e s m below meth c C hnm hr hH
  have hl := lv_entry ([.ref l0]) (n := 6) (Nat.le_of_ble_eq_true rfl)
  rw [lg_entry_eq]
  generalize (lg_sl ([.ref l0]) ++ List.replicate (6 - (lg_sl ([.ref l0])).length) Slot.unset).toArray = ls at hl ⊢
  exact w_Mdl_tick_0 C hr hnm (Nat.le_refl _) (Nat.le_refl _) l0 hp hH hl
/-! ReadSideModel.ticks(I)I -/
theorem d_Mdl_ticks_0 : decode prog_11_method_23_code 0 = .ok (.aload_n 0, 1) := by decide +kernel
theorem d_Mdl_ticks_1 : decode prog_11_method_23_code 1 = .ok (.iload_n 1, 1) := by decide +kernel
theorem d_Mdl_ticks_2 : decode prog_11_method_23_code 2 = .ok (.i2l, 1) := by decide +kernel
theorem d_Mdl_ticks_3 : decode prog_11_method_23_code 3 = .ok (.lconst 0, 1) := by decide +kernel
theorem d_Mdl_ticks_4 : decode prog_11_method_23_code 4 = .ok (.ldc2_w 210, 3) := by decide +kernel
theorem d_Mdl_ticks_7 : decode prog_11_method_23_code 7 = .ok (.invokestatic 148, 3) := by decide +kernel
theorem d_Mdl_ticks_10 : decode prog_11_method_23_code 10 = .ok (.ifCond .eq 7, 3) := by decide +kernel
theorem d_Mdl_ticks_13 : decode prog_11_method_23_code 13 = .ok (.iconst 0, 1) := by decide +kernel
theorem d_Mdl_ticks_14 : decode prog_11_method_23_code 14 = .ok (.goto 4, 3) := by decide +kernel
theorem d_Mdl_ticks_17 : decode prog_11_method_23_code 17 = .ok (.iconst 1, 1) := by decide +kernel
theorem d_Mdl_ticks_18 : decode prog_11_method_23_code 18 = .ok (.putfield 121, 3) := by decide +kernel
theorem d_Mdl_ticks_21 : decode prog_11_method_23_code 21 = .ok (.iconst 0, 1) := by decide +kernel
theorem d_Mdl_ticks_22 : decode prog_11_method_23_code 22 = .ok (.istore_n 2, 1) := by decide +kernel
theorem d_Mdl_ticks_23 : decode prog_11_method_23_code 23 = .ok (.iconst 0, 1) := by decide +kernel
theorem d_Mdl_ticks_24 : decode prog_11_method_23_code 24 = .ok (.istore_n 3, 1) := by decide +kernel
theorem d_Mdl_ticks_25 : decode prog_11_method_23_code 25 = .ok (.iload_n 3, 1) := by decide +kernel
theorem d_Mdl_ticks_26 : decode prog_11_method_23_code 26 = .ok (.iload_n 1, 1) := by decide +kernel
theorem d_Mdl_ticks_27 : decode prog_11_method_23_code 27 = .ok (.if_icmp .ge 23, 3) := by decide +kernel
theorem d_Mdl_ticks_30 : decode prog_11_method_23_code 30 = .ok (.aload_n 0, 1) := by decide +kernel
theorem d_Mdl_ticks_31 : decode prog_11_method_23_code 31 = .ok (.getfield 121, 3) := by decide +kernel
theorem d_Mdl_ticks_34 : decode prog_11_method_23_code 34 = .ok (.ifCond .ne 16, 3) := by decide +kernel
theorem d_Mdl_ticks_37 : decode prog_11_method_23_code 37 = .ok (.iload_n 2, 1) := by decide +kernel
theorem d_Mdl_ticks_38 : decode prog_11_method_23_code 38 = .ok (.aload_n 0, 1) := by decide +kernel
theorem d_Mdl_ticks_39 : decode prog_11_method_23_code 39 = .ok (.invokevirtual 212, 3) := by decide +kernel
theorem d_Mdl_ticks_42 : decode prog_11_method_23_code 42 = .ok (.iadd, 1) := by decide +kernel
theorem d_Mdl_ticks_43 : decode prog_11_method_23_code 43 = .ok (.istore_n 2, 1) := by decide +kernel
theorem d_Mdl_ticks_44 : decode prog_11_method_23_code 44 = .ok (.iinc 3 1, 3) := by decide +kernel
theorem d_Mdl_ticks_47 : decode prog_11_method_23_code 47 = .ok (.goto (-22), 3) := by decide +kernel
theorem d_Mdl_ticks_50 : decode prog_11_method_23_code 50 = .ok (.iload_n 2, 1) := by decide +kernel
theorem d_Mdl_ticks_51 : decode prog_11_method_23_code 51 = .ok (.ireturn, 1) := by decide +kernel
set_option maxHeartbeats 4000000 in
set_option maxRecDepth 100000 in
theorem w_Mdl_ticks_50 {res : (Int32 ⊕ (Nat × Nat)) × xH} (C : x_C l s0 A0 D R_Mdl prog_11_method_23_code 4 [] p s m args meth c) (hr : meth.sig.returnType = (some .int)) (hnm : meth.name = "ticks") (hRf : 6 ≤ R.frames) (hRl : 196 ≤ R.locals)  (l2 : Int32) (hp : f_Mdl_ticks_b50 l2 h = some res) (hH : x_S s0 D R h H locs cells slots) (hl : lv_has ls 4 [(2, .int l2)]) : W p l e R s m args below meth c H locs cells slots (x_Q s0 D below s R (x_oc vI res.1) res.2) (F0 m 50 ls []) := by
  obtain ⟨hx, hb, hown, hts, hK, hml, hW, Z, -⟩ := id C
  unfold f_Mdl_ticks_b50 at hp
  refine lv_iload_n hx hb d_Mdl_ticks_50 rfl (lv_at hl 0 rfl) ?_
  exact x_iret C hH hr d_Mdl_ticks_51 hp
set_option maxHeartbeats 4000000 in
set_option maxRecDepth 100000 in
theorem w_Mdl_ticks_25 {res : (Int32 ⊕ (Nat × Nat)) × xH} (C : x_C l s0 A0 D R_Mdl prog_11_method_23_code 4 [] p s m args meth c) (hr : meth.sig.returnType = (some .int)) (hnm : meth.name = "ticks") (hRf : 6 ≤ R.frames) (hRl : 196 ≤ R.locals) {k25 : Nat → Int32 → Int32 → Int32 → xM Int32} (hs25 : ∀ (l0 : Nat) (l1 : Int32) (l2 : Int32) (l3 : Int32) (h : xH) (H : Heap) (locs : List Loc) (cells slots : Nat) (ls : Array Slot), k25 l0 l1 l2 l3 h = some res → x_S s0 D R h H locs cells slots → lv_has ls 4 [(0, .ref l0), (1, .int l1), (2, .int l2), (3, .int l3)] → W p l e R s m args below meth c H locs cells slots (x_Q s0 D below s R (x_oc vI res.1) res.2) (F0 m 25 ls [])) (l0 : Nat) (l1 : Int32) (l2 : Int32) (l3 : Int32) (hp : f_Mdl_ticks_b25 k25 l0 l1 l2 l3 h = some res) (hH : x_S s0 D R h H locs cells slots) (hl : lv_has ls 4 [(0, .ref l0), (1, .int l1), (2, .int l2), (3, .int l3)]) : W p l e R s m args below meth c H locs cells slots (x_Q s0 D below s R (x_oc vI res.1) res.2) (F0 m 25 ls []) := by
  obtain ⟨hx, hb, hown, hts, hK, hml, hW, Z, -⟩ := id C
  unfold f_Mdl_ticks_b25 at hp
  refine lv_iload_n hx hb d_Mdl_ticks_25 rfl (lv_at hl 3 rfl) ?_
  refine lv_iload_n hx hb d_Mdl_ticks_26 rfl (lv_at hl 1 rfl) ?_
  refine lv_icmp_ge (tgt := 50) hx hb d_Mdl_ticks_27 (by decide) (fun hc => ?_) (fun hc => ?_)
  · replace hp := x_ifp hc hp
    exact w_Mdl_ticks_50 C hr hnm hRf hRl  l2 hp hH (lv_sub hl [2] rfl)
  · replace hp := x_ifn hc hp
    refine lv_aload_n hx hb d_Mdl_ticks_30 rfl (lv_at hl 0 rfl) ?_
    refine x_gI C hH fl_Mdl_121 d_Mdl_ticks_31 hp (fun v1 hp => ?_)
    refine lv_if_ne (tgt := 50) hx hb d_Mdl_ticks_34 (by decide) (fun hc => ?_) (fun hc => ?_)
    · replace hp := x_ifn hc hp
      exact w_Mdl_ticks_50 C hr hnm hRf hRl  l2 hp hH (lv_sub hl [2] rfl)
    · replace hp := x_ifp hc hp
      refine lv_iload_n hx hb d_Mdl_ticks_37 rfl (lv_at hl 2 rfl) ?_
      refine lv_aload_n hx hb d_Mdl_ticks_38 rfl (lv_at hl 0 rfl) ?_
      refine x_callV (As := []) (rest := [.int l2]) (cv := vI) C hH kc_Mdl_212 d_Mdl_ticks_39 hp (fun o h' e => m_Mdl_tick Z e) rfl hl.1 (Nat.le_trans (Nat.le_of_ble_eq_true rfl) hRf) (Nat.le_trans (Nat.le_of_ble_eq_true rfl) hRl) (Nat.le_of_ble_eq_true rfl) (fun v2 h H locs cells slots hp hH => ?_)
      refine W.eq (g2 := F0 m 42 ls [.int v2, .int l2]) rfl ?_
      refine lv_iadd hx hb d_Mdl_ticks_42 ?_
      refine lv_istore_n (lv' := [(2, .int (l2 + v2)), (0, .ref l0), (1, .int l1), (3, .int l3)]) hx hb d_Mdl_ticks_43 rfl hl (by decide) rfl (fun ls hl => ?_)
      refine lv_iinc (v := (l3 + 1)) (lv' := [(3, .int (l3 + 1)), (2, .int (l2 + v2)), (0, .ref l0), (1, .int l1)]) hx hb d_Mdl_ticks_44 hl (k := 3) rfl rfl (by decide) rfl (fun ls hl => ?_)
      refine lv_goto (tgt := 25) hx hb d_Mdl_ticks_47 (by decide) ?_
      exact hs25 l0 l1 (l2 + v2) (l3 + 1) _ _ _ _ _ _ hp hH (lv_sub hl [2, 3, 1, 0] rfl)
theorem w_Mdl_ticks_h25 {res : (Int32 ⊕ (Nat × Nat)) × xH} (C : x_C l s0 A0 D R_Mdl prog_11_method_23_code 4 [] p s m args meth c) (hr : meth.sig.returnType = (some .int)) (hnm : meth.name = "ticks") (hRf : 6 ≤ R.frames) (hRl : 196 ≤ R.locals)  : ∀ (n : Nat) (l0 : Nat) (l1 : Int32) (l2 : Int32) (l3 : Int32) (h : xH) (H : Heap) (locs : List Loc) (cells slots : Nat) (ls : Array Slot), f_Mdl_ticks_h25 n l0 l1 l2 l3 h = some res → x_S s0 D R h H locs cells slots → lv_has ls 4 [(0, .ref l0), (1, .int l1), (2, .int l2), (3, .int l3)] → W p l e R s m args below meth c H locs cells slots (x_Q s0 D below s R (x_oc vI res.1) res.2) (F0 m 25 ls []) := by
  intro n
  induction n with
  | zero => intro l0 l1 l2 l3 h H locs cells slots ls hp hH hl; cases hp
  | succ n ih => intro l0 l1 l2 l3 h H locs cells slots ls hp hH hl; exact w_Mdl_ticks_25 C hr hnm hRf hRl ih l0 l1 l2 l3 hp hH hl
set_option maxHeartbeats 4000000 in
set_option maxRecDepth 100000 in
theorem w_Mdl_ticks_18 {res : (Int32 ⊕ (Nat × Nat)) × xH} (C : x_C l s0 A0 D R_Mdl prog_11_method_23_code 4 [] p s m args meth c) (hr : meth.sig.returnType = (some .int)) (hnm : meth.name = "ticks") (hRf : 6 ≤ R.frames) (hRl : 196 ≤ R.locals)  (l0 : Nat) (l1 : Int32) (t0 : Int32) (t1 : Nat) (hp : f_Mdl_ticks_b18 l0 l1 t0 t1 h = some res) (hH : x_S s0 D R h H locs cells slots) (hl : lv_has ls 4 [(0, .ref l0), (1, .int l1)]) : W p l e R s m args below meth c H locs cells slots (x_Q s0 D below s R (x_oc vI res.1) res.2) (F0 m 18 ls [.int t0, .ref t1]) := by
  obtain ⟨hx, hb, hown, hts, hK, hml, hW, Z, -⟩ := id C
  unfold f_Mdl_ticks_b18 at hp
  refine x_pV C hH fp_Mdl_121 (fun h => Bool.noConfusion h) d_Mdl_ticks_18 rfl rfl hp (fun h H locs hp hH => ?_)
  refine lv_iconst (v := 0) hx hb d_Mdl_ticks_21 (by decide) ?_
  refine lv_istore_n (lv' := [(2, .int 0), (0, .ref l0), (1, .int l1)]) hx hb d_Mdl_ticks_22 rfl hl (by decide) rfl (fun ls hl => ?_)
  refine lv_iconst (v := 0) hx hb d_Mdl_ticks_23 (by decide) ?_
  refine lv_istore_n (lv' := [(3, .int 0), (2, .int 0), (0, .ref l0), (1, .int l1)]) hx hb d_Mdl_ticks_24 rfl hl (by decide) rfl (fun ls hl => ?_)
  exact w_Mdl_ticks_h25 C hr hnm hRf hRl  1000 l0 l1 0 0 _ _ _ _ _ _ hp hH (lv_sub hl [2, 3, 1, 0] rfl)
set_option maxHeartbeats 4000000 in
set_option maxRecDepth 100000 in
theorem w_Mdl_ticks_0 {res : (Int32 ⊕ (Nat × Nat)) × xH} (C : x_C l s0 A0 D R_Mdl prog_11_method_23_code 4 [] p s m args meth c) (hr : meth.sig.returnType = (some .int)) (hnm : meth.name = "ticks") (hRf : 6 ≤ R.frames) (hRl : 196 ≤ R.locals)  (l0 : Nat) (l1 : Int32) (hp : f_Mdl_ticks l0 l1 h = some res) (hH : x_S s0 D R h H locs cells slots) (hl : lv_has ls 4 [(0, .ref l0), (1, .int l1)]) : W p l e R s m args below meth c H locs cells slots (x_Q s0 D below s R (x_oc vI res.1) res.2) (F0 m 0 ls []) := by
  obtain ⟨hx, hb, hown, hts, hK, hml, hW, Z, -⟩ := id C
  unfold f_Mdl_ticks at hp
  refine lv_aload_n hx hb d_Mdl_ticks_0 rfl (lv_at hl 0 rfl) ?_
  refine lv_iload_n hx hb d_Mdl_ticks_1 rfl (lv_at hl 1 rfl) ?_
  refine lv_i2l (v := l1.toInt64) hx hb d_Mdl_ticks_2 rfl ?_
  refine lv_lconst (v := 0) hx hb d_Mdl_ticks_3 (by decide) ?_
  refine lv_ldc2 hx hb hown (hts _ k_936) d_Mdl_ticks_4 ?_
  refine x_callS (As := [.long l1.toInt64, .long 0, .long 100]) (rest := [.ref l0]) (cv := vI) C hH kc_Mdl_148 d_Mdl_ticks_7 hp (fun o h' e => m_Mdl_in Z e) rfl hl.1 (Nat.le_trans (Nat.le_of_ble_eq_true rfl) hRf) (Nat.le_trans (Nat.le_of_ble_eq_true rfl) hRl) (Nat.le_of_ble_eq_true rfl) (fun v1 h H locs cells slots hp hH => ?_)
  refine W.eq (g2 := F0 m 10 ls [.int v1, .ref l0]) rfl ?_
  refine lv_if_eq (tgt := 17) hx hb d_Mdl_ticks_10 (by decide) (fun hc => ?_) (fun hc => ?_)
  · replace hp := x_ifp hc hp
    refine lv_iconst (v := 1) hx hb d_Mdl_ticks_17 (by decide) ?_
    exact w_Mdl_ticks_18 C hr hnm hRf hRl  l0 l1 1 l0 hp hH (lv_sub hl [0, 1] rfl)
  · replace hp := x_ifn hc hp
    refine lv_iconst (v := 0) hx hb d_Mdl_ticks_13 (by decide) ?_
    refine lv_goto (tgt := 18) hx hb d_Mdl_ticks_14 (by decide) ?_
    exact w_Mdl_ticks_18 C hr hnm hRf hRl  l0 l1 0 l0 hp hH (lv_sub hl [0, 1] rfl)
set_option maxRecDepth 100000 in
theorem m_Mdl_ticks (Z : x_Z l s0 A0 D) {l0 : Nat} {l1 : Int32} {res : (Int32 ⊕ (Nat × Nat)) × xH} (hp : f_Mdl_ticks l0 l1 h = some res) : x_M l s0 D y_Mdl_ticks (x_cw y_Mdl_ticks prog_11_method_23_code 4 (some .int) []) 6 196 [.ref l0, .int l1] h (x_oc vI res.1) res.2 := by
  refine x_M.ofW Z (plainFor_of_name (by decide)) ?_
  intro p e s m below meth c C hnm hr hH
  have hl := lv_entry ([.ref l0, .int l1]) (n := 4) (Nat.le_of_ble_eq_true rfl)
  rw [lg_entry_eq]
  generalize (lg_sl ([.ref l0, .int l1]) ++ List.replicate (4 - (lg_sl ([.ref l0, .int l1])).length) Slot.unset).toArray = ls at hl ⊢
  exact w_Mdl_ticks_0 C hr hnm (Nat.le_refl _) (Nat.le_refl _) l0 l1 hp hH hl
/-! ReadSideModel.up(IZ)Z -/
theorem d_Mdl_up_0 : decode prog_11_method_24_code 0 = .ok (.aload_n 0, 1) := by decide +kernel
theorem d_Mdl_up_1 : decode prog_11_method_24_code 1 = .ok (.aload_n 0, 1) := by decide +kernel
theorem d_Mdl_up_2 : decode prog_11_method_24_code 2 = .ok (.iload_n 1, 1) := by decide +kernel
theorem d_Mdl_up_3 : decode prog_11_method_24_code 3 = .ok (.invokevirtual 162, 3) := by decide +kernel
theorem d_Mdl_up_6 : decode prog_11_method_24_code 6 = .ok (.ifCond .eq 7, 3) := by decide +kernel
theorem d_Mdl_up_9 : decode prog_11_method_24_code 9 = .ok (.iconst 0, 1) := by decide +kernel
theorem d_Mdl_up_10 : decode prog_11_method_24_code 10 = .ok (.goto 4, 3) := by decide +kernel
theorem d_Mdl_up_13 : decode prog_11_method_24_code 13 = .ok (.iconst 1, 1) := by decide +kernel
theorem d_Mdl_up_14 : decode prog_11_method_24_code 14 = .ok (.putfield 121, 3) := by decide +kernel
theorem d_Mdl_up_17 : decode prog_11_method_24_code 17 = .ok (.aload_n 0, 1) := by decide +kernel
theorem d_Mdl_up_18 : decode prog_11_method_24_code 18 = .ok (.getfield 121, 3) := by decide +kernel
theorem d_Mdl_up_21 : decode prog_11_method_24_code 21 = .ok (.ifCond .le 5, 3) := by decide +kernel
theorem d_Mdl_up_24 : decode prog_11_method_24_code 24 = .ok (.iconst 0, 1) := by decide +kernel
theorem d_Mdl_up_25 : decode prog_11_method_24_code 25 = .ok (.ireturn, 1) := by decide +kernel
theorem d_Mdl_up_26 : decode prog_11_method_24_code 26 = .ok (.aload_n 0, 1) := by decide +kernel
theorem d_Mdl_up_27 : decode prog_11_method_24_code 27 = .ok (.getfield 62, 3) := by decide +kernel
theorem d_Mdl_up_30 : decode prog_11_method_24_code 30 = .ok (.iload_n 1, 1) := by decide +kernel
theorem d_Mdl_up_31 : decode prog_11_method_24_code 31 = .ok (.baload, 1) := by decide +kernel
theorem d_Mdl_up_32 : decode prog_11_method_24_code 32 = .ok (.istore_n 3, 1) := by decide +kernel
theorem d_Mdl_up_33 : decode prog_11_method_24_code 33 = .ok (.aload_n 0, 1) := by decide +kernel
theorem d_Mdl_up_34 : decode prog_11_method_24_code 34 = .ok (.getfield 62, 3) := by decide +kernel
theorem d_Mdl_up_37 : decode prog_11_method_24_code 37 = .ok (.iload_n 1, 1) := by decide +kernel
theorem d_Mdl_up_38 : decode prog_11_method_24_code 38 = .ok (.iload_n 2, 1) := by decide +kernel
theorem d_Mdl_up_39 : decode prog_11_method_24_code 39 = .ok (.bastore, 1) := by decide +kernel
theorem d_Mdl_up_40 : decode prog_11_method_24_code 40 = .ok (.iload_n 2, 1) := by decide +kernel
theorem d_Mdl_up_41 : decode prog_11_method_24_code 41 = .ok (.ifCond .eq 12, 3) := by decide +kernel
theorem d_Mdl_up_44 : decode prog_11_method_24_code 44 = .ok (.iload_n 3, 1) := by decide +kernel
theorem d_Mdl_up_45 : decode prog_11_method_24_code 45 = .ok (.ifCond .ne 8, 3) := by decide +kernel
theorem d_Mdl_up_48 : decode prog_11_method_24_code 48 = .ok (.aload_n 0, 1) := by decide +kernel
theorem d_Mdl_up_49 : decode prog_11_method_24_code 49 = .ok (.iload_n 1, 1) := by decide +kernel
theorem d_Mdl_up_50 : decode prog_11_method_24_code 50 = .ok (.invokevirtual 158, 3) := by decide +kernel
theorem d_Mdl_up_53 : decode prog_11_method_24_code 53 = .ok (.iload_n 3, 1) := by decide +kernel
theorem d_Mdl_up_54 : decode prog_11_method_24_code 54 = .ok (.ireturn, 1) := by decide +kernel
set_option maxHeartbeats 4000000 in
set_option maxRecDepth 100000 in
theorem w_Mdl_up_53 {res : (Int32 ⊕ (Nat × Nat)) × xH} (C : x_C l s0 A0 D R_Mdl prog_11_method_24_code 4 [] p s m args meth c) (hr : meth.sig.returnType = (some .boolean)) (hnm : meth.name = "up") (hRf : 4 ≤ R.frames) (hRl : 132 ≤ R.locals)  (l3 : Int32) (hp : f_Mdl_up_b53 l3 h = some res) (hH : x_S s0 D R h H locs cells slots) (hl : lv_has ls 4 [(3, .int l3)]) : W p l e R s m args below meth c H locs cells slots (x_Q s0 D below s R (x_oc vI res.1) res.2) (F0 m 53 ls []) := by
  obtain ⟨hx, hb, hown, hts, hK, hml, hW, Z, -⟩ := id C
  unfold f_Mdl_up_b53 at hp
  refine lv_iload_n hx hb d_Mdl_up_53 rfl (lv_at hl 0 rfl) ?_
  exact x_zret C hH hr d_Mdl_up_54 hp
set_option maxHeartbeats 4000000 in
set_option maxRecDepth 100000 in
theorem w_Mdl_up_14 {res : (Int32 ⊕ (Nat × Nat)) × xH} (C : x_C l s0 A0 D R_Mdl prog_11_method_24_code 4 [] p s m args meth c) (hr : meth.sig.returnType = (some .boolean)) (hnm : meth.name = "up") (hRf : 4 ≤ R.frames) (hRl : 132 ≤ R.locals)  (l0 : Nat) (l1 : Int32) (l2 : Int32) (t0 : Int32) (t1 : Nat) (hp : f_Mdl_up_b14 l0 l1 l2 t0 t1 h = some res) (hH : x_S s0 D R h H locs cells slots) (hl : lv_has ls 4 [(0, .ref l0), (1, .int l1), (2, .int l2)]) : W p l e R s m args below meth c H locs cells slots (x_Q s0 D below s R (x_oc vI res.1) res.2) (F0 m 14 ls [.int t0, .ref t1]) := by
  obtain ⟨hx, hb, hown, hts, hK, hml, hW, Z, -⟩ := id C
  unfold f_Mdl_up_b14 at hp
  refine x_pV C hH fp_Mdl_121 (fun h => Bool.noConfusion h) d_Mdl_up_14 rfl rfl hp (fun h H locs hp hH => ?_)
  refine lv_aload_n hx hb d_Mdl_up_17 rfl (lv_at hl 0 rfl) ?_
  refine x_gI C hH fl_Mdl_121 d_Mdl_up_18 hp (fun v1 hp => ?_)
  refine lv_if_le (tgt := 26) hx hb d_Mdl_up_21 (by decide) (fun hc => ?_) (fun hc => ?_)
  · replace hp := x_ifp hc hp
    refine lv_aload_n hx hb d_Mdl_up_26 rfl (lv_at hl 0 rfl) ?_
    refine x_gA C hH fl_Mdl_62 d_Mdl_up_27 hp (fun v2 hp => ?_)
    refine lv_iload_n hx hb d_Mdl_up_30 rfl (lv_at hl 1 rfl) ?_
    refine x_lZ C hH d_Mdl_up_31 hp (fun v3 hp => ?_)
    refine lv_istore_n (lv' := [(3, .int v3), (0, .ref l0), (1, .int l1), (2, .int l2)]) hx hb d_Mdl_up_32 rfl hl (by decide) rfl (fun ls hl => ?_)
    refine lv_aload_n hx hb d_Mdl_up_33 rfl (lv_at hl 1 rfl) ?_
    refine x_gA C hH fl_Mdl_62 d_Mdl_up_34 hp (fun v4 hp => ?_)
    refine lv_iload_n hx hb d_Mdl_up_37 rfl (lv_at hl 2 rfl) ?_
    refine lv_iload_n hx hb d_Mdl_up_38 rfl (lv_at hl 3 rfl) ?_
    refine x_sZ C hH d_Mdl_up_39 hp (fun h H locs hp hH => ?_)
    refine lv_iload_n hx hb d_Mdl_up_40 rfl (lv_at hl 3 rfl) ?_
    refine lv_if_eq (tgt := 53) hx hb d_Mdl_up_41 (by decide) (fun hc => ?_) (fun hc => ?_)
    · replace hp := x_ifp hc hp
      exact w_Mdl_up_53 C hr hnm hRf hRl  v3 hp hH (lv_sub hl [0] rfl)
    · replace hp := x_ifn hc hp
      refine lv_iload_n hx hb d_Mdl_up_44 rfl (lv_at hl 0 rfl) ?_
      refine lv_if_ne (tgt := 53) hx hb d_Mdl_up_45 (by decide) (fun hc => ?_) (fun hc => ?_)
      · replace hp := x_ifn hc hp
        exact w_Mdl_up_53 C hr hnm hRf hRl  v3 hp hH (lv_sub hl [0] rfl)
      · replace hp := x_ifp hc hp
        refine lv_aload_n hx hb d_Mdl_up_48 rfl (lv_at hl 1 rfl) ?_
        refine lv_iload_n hx hb d_Mdl_up_49 rfl (lv_at hl 2 rfl) ?_
        refine x_callV (As := [.int l1]) (rest := []) (cv := vU) C hH kc_Mdl_158 d_Mdl_up_50 hp (fun o h' e => m_Mdl_look Z e) rfl hl.1 (Nat.le_trans (Nat.le_of_ble_eq_true rfl) hRf) (Nat.le_trans (Nat.le_of_ble_eq_true rfl) hRl) (Nat.le_of_ble_eq_true rfl) (fun v5 h H locs cells slots hp hH => ?_)
        refine W.eq (g2 := F0 m 53 ls []) rfl ?_
        exact w_Mdl_up_53 C hr hnm hRf hRl  v3 hp hH (lv_sub hl [0] rfl)
  · replace hp := x_ifn hc hp
    refine lv_iconst (v := 0) hx hb d_Mdl_up_24 (by decide) ?_
    exact x_zret C hH hr d_Mdl_up_25 hp
set_option maxHeartbeats 4000000 in
set_option maxRecDepth 100000 in
theorem w_Mdl_up_0 {res : (Int32 ⊕ (Nat × Nat)) × xH} (C : x_C l s0 A0 D R_Mdl prog_11_method_24_code 4 [] p s m args meth c) (hr : meth.sig.returnType = (some .boolean)) (hnm : meth.name = "up") (hRf : 4 ≤ R.frames) (hRl : 132 ≤ R.locals)  (l0 : Nat) (l1 : Int32) (l2 : Int32) (hp : f_Mdl_up l0 l1 l2 h = some res) (hH : x_S s0 D R h H locs cells slots) (hl : lv_has ls 4 [(0, .ref l0), (1, .int l1), (2, .int l2)]) : W p l e R s m args below meth c H locs cells slots (x_Q s0 D below s R (x_oc vI res.1) res.2) (F0 m 0 ls []) := by
  obtain ⟨hx, hb, hown, hts, hK, hml, hW, Z, -⟩ := id C
  unfold f_Mdl_up at hp
  refine lv_aload_n hx hb d_Mdl_up_0 rfl (lv_at hl 0 rfl) ?_
  refine lv_aload_n hx hb d_Mdl_up_1 rfl (lv_at hl 0 rfl) ?_
  refine lv_iload_n hx hb d_Mdl_up_2 rfl (lv_at hl 1 rfl) ?_
  refine x_callV (As := [.int l1]) (rest := [.ref l0]) (cv := vI) C hH kc_Mdl_162 d_Mdl_up_3 hp (fun o h' e => m_Mdl_isReplica Z e) rfl hl.1 (Nat.le_trans (Nat.le_of_ble_eq_true rfl) hRf) (Nat.le_trans (Nat.le_of_ble_eq_true rfl) hRl) (Nat.le_of_ble_eq_true rfl) (fun v1 h H locs cells slots hp hH => ?_)
  refine W.eq (g2 := F0 m 6 ls [.int v1, .ref l0]) rfl ?_
  refine lv_if_eq (tgt := 13) hx hb d_Mdl_up_6 (by decide) (fun hc => ?_) (fun hc => ?_)
  · replace hp := x_ifp hc hp
    refine lv_iconst (v := 1) hx hb d_Mdl_up_13 (by decide) ?_
    exact w_Mdl_up_14 C hr hnm hRf hRl  l0 l1 l2 1 l0 hp hH (lv_sub hl [0, 1, 2] rfl)
  · replace hp := x_ifn hc hp
    refine lv_iconst (v := 0) hx hb d_Mdl_up_9 (by decide) ?_
    refine lv_goto (tgt := 14) hx hb d_Mdl_up_10 (by decide) ?_
    exact w_Mdl_up_14 C hr hnm hRf hRl  l0 l1 l2 0 l0 hp hH (lv_sub hl [0, 1, 2] rfl)
set_option maxRecDepth 100000 in
theorem m_Mdl_up (Z : x_Z l s0 A0 D) {l0 : Nat} {l1 : Int32} {l2 : Int32} {res : (Int32 ⊕ (Nat × Nat)) × xH} (hp : f_Mdl_up l0 l1 l2 h = some res) : x_M l s0 D y_Mdl_up (x_cw y_Mdl_up prog_11_method_24_code 4 (some .boolean) []) 4 132 [.ref l0, .int l1, .int l2] h (x_oc vI res.1) res.2 := by
  refine x_M.ofW Z (plainFor_of_name (by decide)) ?_
  intro p e s m below meth c C hnm hr hH
  have hl := lv_entry ([.ref l0, .int l1, .int l2]) (n := 4) (Nat.le_of_ble_eq_true rfl)
  rw [lg_entry_eq]
  generalize (lg_sl ([.ref l0, .int l1, .int l2]) ++ List.replicate (4 - (lg_sl ([.ref l0, .int l1, .int l2])).length) Slot.unset).toArray = ls at hl ⊢
  exact w_Mdl_up_0 C hr hnm (Nat.le_refl _) (Nat.le_refl _) l0 l1 l2 hp hH hl
end GEN
