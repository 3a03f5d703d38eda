section GEN
variable {p : Program} {l : Launch} {e : Env} {R : Room} {s : State} {m : MethodId} {args : Array Value} {below : List Frame} {meth : Method} {c : Code} {H : Heap} {locs : List Loc} {cells slots : Nat} {ls : Array Slot} {D : xD} {s0 : State} {A0 : Array Value} {h : xH}
/-! ReadSideModel.session(III)I -/
theorem d_Mdl_session_0 : decode prog_11_method_44_code 0 = .ok (.aload_n 0, 1) := by decide +kernel
theorem d_Mdl_session_1 : decode prog_11_method_44_code 1 = .ok (.iload_n 1, 1) := by decide +kernel
theorem d_Mdl_session_2 : decode prog_11_method_44_code 2 = .ok (.invokestatic 152, 3) := by decide +kernel
theorem d_Mdl_session_5 : decode prog_11_method_44_code 5 = .ok (.ifCond .eq 25, 3) := by decide +kernel
theorem d_Mdl_session_8 : decode prog_11_method_44_code 8 = .ok (.iload_n 2, 1) := by decide +kernel
theorem d_Mdl_session_9 : decode prog_11_method_44_code 9 = .ok (.i2l, 1) := by decide +kernel
theorem d_Mdl_session_10 : decode prog_11_method_44_code 10 = .ok (.lconst 0, 1) := by decide +kernel
theorem d_Mdl_session_11 : decode prog_11_method_44_code 11 = .ok (.lconst 1, 1) := by decide +kernel
theorem d_Mdl_session_12 : decode prog_11_method_44_code 12 = .ok (.invokestatic 148, 3) := by decide +kernel
theorem d_Mdl_session_15 : decode prog_11_method_44_code 15 = .ok (.ifCond .eq 15, 3) := by decide +kernel
theorem d_Mdl_session_18 : decode prog_11_method_44_code 18 = .ok (.aload_n 0, 1) := by decide +kernel
theorem d_Mdl_session_19 : decode prog_11_method_44_code 19 = .ok (.iload_n 3, 1) := by decide +kernel
theorem d_Mdl_session_20 : decode prog_11_method_44_code 20 = .ok (.invokevirtual 193, 3) := by decide +kernel
theorem d_Mdl_session_23 : decode prog_11_method_44_code 23 = .ok (.ifCond .eq 7, 3) := by decide +kernel
theorem d_Mdl_session_26 : decode prog_11_method_44_code 26 = .ok (.iconst 0, 1) := by decide +kernel
theorem d_Mdl_session_27 : decode prog_11_method_44_code 27 = .ok (.goto 4, 3) := by decide +kernel
theorem d_Mdl_session_30 : decode prog_11_method_44_code 30 = .ok (.iconst 1, 1) := by decide +kernel
theorem d_Mdl_session_31 : decode prog_11_method_44_code 31 = .ok (.putfield 121, 3) := by decide +kernel
theorem d_Mdl_session_34 : decode prog_11_method_44_code 34 = .ok (.aload_n 0, 1) := by decide +kernel
theorem d_Mdl_session_35 : decode prog_11_method_44_code 35 = .ok (.getfield 121, 3) := by decide +kernel
theorem d_Mdl_session_38 : decode prog_11_method_44_code 38 = .ok (.ifCond .le 7, 3) := by decide +kernel
theorem d_Mdl_session_41 : decode prog_11_method_44_code 41 = .ok (.iconst 0, 1) := by decide +kernel
theorem d_Mdl_session_42 : decode prog_11_method_44_code 42 = .ok (.goto 30, 3) := by decide +kernel
theorem d_Mdl_session_45 : decode prog_11_method_44_code 45 = .ok (.iload_n 2, 1) := by decide +kernel
theorem d_Mdl_session_46 : decode prog_11_method_44_code 46 = .ok (.ifCond .ne 16, 3) := by decide +kernel
theorem d_Mdl_session_49 : decode prog_11_method_44_code 49 = .ok (.aload_n 0, 1) := by decide +kernel
theorem d_Mdl_session_50 : decode prog_11_method_44_code 50 = .ok (.getfield 72, 3) := by decide +kernel
theorem d_Mdl_session_53 : decode prog_11_method_44_code 53 = .ok (.iconst 3, 1) := by decide +kernel
theorem d_Mdl_session_54 : decode prog_11_method_44_code 54 = .ok (.iload_n 1, 1) := by decide +kernel
theorem d_Mdl_session_55 : decode prog_11_method_44_code 55 = .ok (.imul, 1) := by decide +kernel
theorem d_Mdl_session_56 : decode prog_11_method_44_code 56 = .ok (.iload_n 3, 1) := by decide +kernel
theorem d_Mdl_session_57 : decode prog_11_method_44_code 57 = .ok (.iadd, 1) := by decide +kernel
theorem d_Mdl_session_58 : decode prog_11_method_44_code 58 = .ok (.iaload, 1) := by decide +kernel
theorem d_Mdl_session_59 : decode prog_11_method_44_code 59 = .ok (.goto 13, 3) := by decide +kernel
theorem d_Mdl_session_62 : decode prog_11_method_44_code 62 = .ok (.aload_n 0, 1) := by decide +kernel
theorem d_Mdl_session_63 : decode prog_11_method_44_code 63 = .ok (.getfield 75, 3) := by decide +kernel
theorem d_Mdl_session_66 : decode prog_11_method_44_code 66 = .ok (.iconst 3, 1) := by decide +kernel
theorem d_Mdl_session_67 : decode prog_11_method_44_code 67 = .ok (.iload_n 1, 1) := by decide +kernel
theorem d_Mdl_session_68 : decode prog_11_method_44_code 68 = .ok (.imul, 1) := by decide +kernel
theorem d_Mdl_session_69 : decode prog_11_method_44_code 69 = .ok (.iload_n 3, 1) := by decide +kernel
theorem d_Mdl_session_70 : decode prog_11_method_44_code 70 = .ok (.iadd, 1) := by decide +kernel
theorem d_Mdl_session_71 : decode prog_11_method_44_code 71 = .ok (.iaload, 1) := by decide +kernel
theorem d_Mdl_session_72 : decode prog_11_method_44_code 72 = .ok (.ireturn, 1) := by decide +kernel
set_option maxHeartbeats 4000000 in
set_option maxRecDepth 100000 in
theorem w_Mdl_session_72 {res : (Int32 ⊕ (Nat × Nat)) × xH} (C : x_C l s0 A0 D R_Mdl prog_11_method_44_code 4 [] p s m args meth c) (hr : meth.sig.returnType = (some .int)) (hnm : meth.name = "session") (hRf : 2 ≤ R.frames) (hRl : 62 ≤ R.locals)  (t0 : Int32) (hp : f_Mdl_session_b72 t0 h = some res) (hH : x_S s0 D R h H locs cells slots) (hl : lv_has ls 4 []) : W p l e R s m args below meth c H locs cells slots (x_Q s0 D below s R (x_oc vI res.1) res.2) (F0 m 72 ls [.int t0]) := by
  obtain ⟨hx, hb, hown, hts, hK, hml, hW, Z, -⟩ := id C
  unfold f_Mdl_session_b72 at hp
  exact x_iret C hH hr d_Mdl_session_72 hp
set_option maxHeartbeats 4000000 in
set_option maxRecDepth 100000 in
theorem w_Mdl_session_31 {res : (Int32 ⊕ (Nat × Nat)) × xH} (C : x_C l s0 A0 D R_Mdl prog_11_method_44_code 4 [] p s m args meth c) (hr : meth.sig.returnType = (some .int)) (hnm : meth.name = "session") (hRf : 2 ≤ R.frames) (hRl : 62 ≤ R.locals)  (l0 : Nat) (l1 : Int32) (l2 : Int32) (l3 : Int32) (t0 : Int32) (t1 : Nat) (hp : f_Mdl_session_b31 l0 l1 l2 l3 t0 t1 h = some res) (hH : x_S s0 D R h H locs cells slots) (hl : lv_has ls 4 [(0, .ref l0), (1, .int l1), (2, .int l2), (3, .int l3)]) : W p l e R s m args below meth c H locs cells slots (x_Q s0 D below s R (x_oc vI res.1) res.2) (F0 m 31 ls [.int t0, .ref t1]) := by
  obtain ⟨hx, hb, hown, hts, hK, hml, hW, Z, -⟩ := id C
  unfold f_Mdl_session_b31 at hp
  refine x_pV C hH fp_Mdl_121 (fun h => Bool.noConfusion h) d_Mdl_session_31 rfl rfl hp (fun h H locs hp hH => ?_)
  refine lv_aload_n hx hb d_Mdl_session_34 rfl (lv_at hl 0 rfl) ?_
  refine x_gI C hH fl_Mdl_121 d_Mdl_session_35 hp (fun v1 hp => ?_)
  refine lv_if_le (tgt := 45) hx hb d_Mdl_session_38 (by decide) (fun hc => ?_) (fun hc => ?_)
  · replace hp := x_ifp hc hp
    refine lv_iload_n hx hb d_Mdl_session_45 rfl (lv_at hl 2 rfl) ?_
    refine lv_if_ne (tgt := 62) hx hb d_Mdl_session_46 (by decide) (fun hc => ?_) (fun hc => ?_)
    · replace hp := x_ifn hc hp
      refine lv_aload_n hx hb d_Mdl_session_62 rfl (lv_at hl 0 rfl) ?_
      refine x_gA C hH fl_Mdl_75 d_Mdl_session_63 hp (fun v2 hp => ?_)
      refine lv_iconst (v := 3) hx hb d_Mdl_session_66 (by decide) ?_
      refine lv_iload_n hx hb d_Mdl_session_67 rfl (lv_at hl 1 rfl) ?_
      refine lv_imul hx hb d_Mdl_session_68 ?_
      refine lv_iload_n hx hb d_Mdl_session_69 rfl (lv_at hl 3 rfl) ?_
      refine lv_iadd hx hb d_Mdl_session_70 ?_
      refine x_lI C hH d_Mdl_session_71 hp (fun v3 hp => ?_)
      exact w_Mdl_session_72 C hr hnm hRf hRl  v3 hp hH (lv_sub hl [] rfl)
    · replace hp := x_ifp hc hp
      refine lv_aload_n hx hb d_Mdl_session_49 rfl (lv_at hl 0 rfl) ?_
      refine x_gA C hH fl_Mdl_72 d_Mdl_session_50 hp (fun v4 hp => ?_)
      refine lv_iconst (v := 3) hx hb d_Mdl_session_53 (by decide) ?_
      refine lv_iload_n hx hb d_Mdl_session_54 rfl (lv_at hl 1 rfl) ?_
      refine lv_imul hx hb d_Mdl_session_55 ?_
      refine lv_iload_n hx hb d_Mdl_session_56 rfl (lv_at hl 3 rfl) ?_
      refine lv_iadd hx hb d_Mdl_session_57 ?_
      refine x_lI C hH d_Mdl_session_58 hp (fun v5 hp => ?_)
      refine lv_goto (tgt := 72) hx hb d_Mdl_session_59 (by decide) ?_
      exact w_Mdl_session_72 C hr hnm hRf hRl  v5 hp hH (lv_sub hl [] rfl)
  · replace hp := x_ifn hc hp
    refine lv_iconst (v := 0) hx hb d_Mdl_session_41 (by decide) ?_
    refine lv_goto (tgt := 72) hx hb d_Mdl_session_42 (by decide) ?_
    exact w_Mdl_session_72 C hr hnm hRf hRl  0 hp hH (lv_sub hl [] rfl)
set_option maxHeartbeats 4000000 in
set_option maxRecDepth 100000 in
theorem w_Mdl_session_30 {res : (Int32 ⊕ (Nat × Nat)) × xH} (C : x_C l s0 A0 D R_Mdl prog_11_method_44_code 4 [] p s m args meth c) (hr : meth.sig.returnType = (some .int)) (hnm : meth.name = "session") (hRf : 2 ≤ R.frames) (hRl : 62 ≤ R.locals)  (l0 : Nat) (l1 : Int32) (l2 : Int32) (l3 : Int32) (t0 : Nat) (hp : f_Mdl_session_b30 l0 l1 l2 l3 t0 h = some res) (hH : x_S s0 D R h H locs cells slots) (hl : lv_has ls 4 [(0, .ref l0), (1, .int l1), (2, .int l2), (3, .int l3)]) : W p l e R s m args below meth c H locs cells slots (x_Q s0 D below s R (x_oc vI res.1) res.2) (F0 m 30 ls [.ref t0]) := by
  obtain ⟨hx, hb, hown, hts, hK, hml, hW, Z, -⟩ := id C
  unfold f_Mdl_session_b30 at hp
  refine lv_iconst (v := 1) hx hb d_Mdl_session_30 (by decide) ?_
  exact w_Mdl_session_31 C hr hnm hRf hRl  l0 l1 l2 l3 1 t0 hp hH (lv_sub hl [0, 1, 2, 3] rfl)
set_option maxHeartbeats 4000000 in
set_option maxRecDepth 100000 in
theorem w_Mdl_session_0 {res : (Int32 ⊕ (Nat × Nat)) × xH} (C : x_C l s0 A0 D R_Mdl prog_11_method_44_code 4 [] p s m args meth c) (hr : meth.sig.returnType = (some .int)) (hnm : meth.name = "session") (hRf : 2 ≤ R.frames) (hRl : 62 ≤ R.locals)  (l0 : Nat) (l1 : Int32) (l2 : Int32) (l3 : Int32) (hp : f_Mdl_session l0 l1 l2 l3 h = some res) (hH : x_S s0 D R h H locs cells slots) (hl : lv_has ls 4 [(0, .ref l0), (1, .int l1), (2, .int l2), (3, .int l3)]) : W p l e R s m args below meth c H locs cells slots (x_Q s0 D below s R (x_oc vI res.1) res.2) (F0 m 0 ls []) := by
  obtain ⟨hx, hb, hown, hts, hK, hml, hW, Z, -⟩ := id C
  unfold f_Mdl_session at hp
  refine lv_aload_n hx hb d_Mdl_session_0 rfl (lv_at hl 0 rfl) ?_
  refine lv_iload_n hx hb d_Mdl_session_1 rfl (lv_at hl 1 rfl) ?_
  refine x_callS (As := [.int l1]) (rest := [.ref l0]) (cv := vI) C hH kc_Mdl_152 d_Mdl_session_2 hp (fun o h' e => m_Mdl_isSession Z e) rfl hl.1 (Nat.le_trans (Nat.le_of_ble_eq_true rfl) hRf) (Nat.le_trans (Nat.le_of_ble_eq_true rfl) hRl) (Nat.le_of_ble_eq_true rfl) (fun v1 h H locs cells slots hp hH => ?_)
  refine W.eq (g2 := F0 m 5 ls [.int v1, .ref l0]) rfl ?_
  refine lv_if_eq (tgt := 30) hx hb d_Mdl_session_5 (by decide) (fun hc => ?_) (fun hc => ?_)
  · replace hp := x_ifp hc hp
    exact w_Mdl_session_30 C hr hnm hRf hRl  l0 l1 l2 l3 l0 hp hH (lv_sub hl [0, 1, 2, 3] rfl)
  · replace hp := x_ifn hc hp
    refine lv_iload_n hx hb d_Mdl_session_8 rfl (lv_at hl 2 rfl) ?_
    refine lv_i2l (v := l2.toInt64) hx hb d_Mdl_session_9 rfl ?_
    refine lv_lconst (v := 0) hx hb d_Mdl_session_10 (by decide) ?_
    refine lv_lconst (v := 1) hx hb d_Mdl_session_11 (by decide) ?_
    refine x_callS (As := [.long l2.toInt64, .long 0, .long 1]) (rest := [.ref l0]) (cv := vI) C hH kc_Mdl_148 d_Mdl_session_12 hp (fun o h' e => m_Mdl_in Z e) rfl hl.1 (Nat.le_trans (Nat.le_of_ble_eq_true rfl) hRf) (Nat.le_trans (Nat.le_of_ble_eq_true rfl) hRl) (Nat.le_of_ble_eq_true rfl) (fun v2 h H locs cells slots hp hH => ?_)
    refine W.eq (g2 := F0 m 15 ls [.int v2, .ref l0]) rfl ?_
    refine lv_if_eq (tgt := 30) hx hb d_Mdl_session_15 (by decide) (fun hc => ?_) (fun hc => ?_)
    · replace hp := x_ifp hc hp
      exact w_Mdl_session_30 C hr hnm hRf hRl  l0 l1 l2 l3 l0 hp hH (lv_sub hl [0, 1, 2, 3] rfl)
    · replace hp := x_ifn hc hp
      refine lv_aload_n hx hb d_Mdl_session_18 rfl (lv_at hl 0 rfl) ?_
      refine lv_iload_n hx hb d_Mdl_session_19 rfl (lv_at hl 3 rfl) ?_
      refine x_callV (As := [.int l3]) (rest := [.ref l0]) (cv := vI) C hH kc_Mdl_193 d_Mdl_session_20 hp (fun o h' e => m_Mdl_isPart Z e) rfl hl.1 (Nat.le_trans (Nat.le_of_ble_eq_true rfl) hRf) (Nat.le_trans (Nat.le_of_ble_eq_true rfl) hRl) (Nat.le_of_ble_eq_true rfl) (fun v3 h H locs cells slots hp hH => ?_)
      refine W.eq (g2 := F0 m 23 ls [.int v3, .ref l0]) rfl ?_
      refine lv_if_eq (tgt := 30) hx hb d_Mdl_session_23 (by decide) (fun hc => ?_) (fun hc => ?_)
      · replace hp := x_ifp hc hp
        exact w_Mdl_session_30 C hr hnm hRf hRl  l0 l1 l2 l3 l0 hp hH (lv_sub hl [0, 1, 2, 3] rfl)
      · replace hp := x_ifn hc hp
        refine lv_iconst (v := 0) hx hb d_Mdl_session_26 (by decide) ?_
        refine lv_goto (tgt := 31) hx hb d_Mdl_session_27 (by decide) ?_
        exact w_Mdl_session_31 C hr hnm hRf hRl  l0 l1 l2 l3 0 l0 hp hH (lv_sub hl [0, 1, 2, 3] rfl)
set_option maxRecDepth 100000 in
theorem m_Mdl_session (Z : x_Z l s0 A0 D) {l0 : Nat} {l1 : Int32} {l2 : Int32} {l3 : Int32} {res : (Int32 ⊕ (Nat × Nat)) × xH} (hp : f_Mdl_session l0 l1 l2 l3 h = some res) : x_M l s0 D y_Mdl_session (x_cw y_Mdl_session prog_11_method_44_code 4 (some .int) []) 2 62 [.ref l0, .int l1, .int l2, .int l3] h (x_oc vI res.1) res.2 := by
  refine x_M.ofW Z (plainFor_of_name (by decide)) ?_
  intro p e s m below meth c C hnm hr hH
  have hl := lv_entry ([.ref l0, .int l1, .int l2, .int l3]) (n := 4) (Nat.le_of_ble_eq_true rfl)
  rw [lg_entry_eq]
  generalize (lg_sl ([.ref l0, .int l1, .int l2, .int l3]) ++ List.replicate (4 - (lg_sl ([.ref l0, .int l1, .int l2, .int l3])).length) Slot.unset).toArray = ls at hl ⊢
  exact w_Mdl_session_0 C hr hnm (Nat.le_refl _) (Nat.le_refl _) l0 l1 l2 l3 hp hH hl
/-! ReadSideModel.told(JI)I -/
theorem d_Mdl_told_0 : decode prog_11_method_45_code 0 = .ok (.aload_n 0, 1) := by decide +kernel
theorem d_Mdl_told_1 : decode prog_11_method_45_code 1 = .ok (.aload_n 0, 1) := by decide +kernel
theorem d_Mdl_told_2 : decode prog_11_method_45_code 2 = .ok (.iload_n 3, 1) := by decide +kernel
theorem d_Mdl_told_3 : decode prog_11_method_45_code 3 = .ok (.invokevirtual 193, 3) := by decide +kernel
theorem d_Mdl_told_6 : decode prog_11_method_45_code 6 = .ok (.ifCond .ne 7, 3) := by decide +kernel
theorem d_Mdl_told_9 : decode prog_11_method_45_code 9 = .ok (.iconst 1, 1) := by decide +kernel
theorem d_Mdl_told_10 : decode prog_11_method_45_code 10 = .ok (.goto 16, 3) := by decide +kernel
theorem d_Mdl_told_13 : decode prog_11_method_45_code 13 = .ok (.aload_n 0, 1) := by decide +kernel
theorem d_Mdl_told_14 : decode prog_11_method_45_code 14 = .ok (.lload_n 1, 1) := by decide +kernel
theorem d_Mdl_told_15 : decode prog_11_method_45_code 15 = .ok (.invokevirtual 237, 3) := by decide +kernel
theorem d_Mdl_told_18 : decode prog_11_method_45_code 18 = .ok (.ifCond .ne 7, 3) := by decide +kernel
theorem d_Mdl_told_21 : decode prog_11_method_45_code 21 = .ok (.iconst 2, 1) := by decide +kernel
theorem d_Mdl_told_22 : decode prog_11_method_45_code 22 = .ok (.goto 4, 3) := by decide +kernel
theorem d_Mdl_told_25 : decode prog_11_method_45_code 25 = .ok (.iconst 0, 1) := by decide +kernel
theorem d_Mdl_told_26 : decode prog_11_method_45_code 26 = .ok (.putfield 121, 3) := by decide +kernel
theorem d_Mdl_told_29 : decode prog_11_method_45_code 29 = .ok (.aload_n 0, 1) := by decide +kernel
theorem d_Mdl_told_30 : decode prog_11_method_45_code 30 = .ok (.getfield 121, 3) := by decide +kernel
theorem d_Mdl_told_33 : decode prog_11_method_45_code 33 = .ok (.ifCond .le 7, 3) := by decide +kernel
theorem d_Mdl_told_36 : decode prog_11_method_45_code 36 = .ok (.iconst 0, 1) := by decide +kernel
theorem d_Mdl_told_37 : decode prog_11_method_45_code 37 = .ok (.goto 8, 3) := by decide +kernel
theorem d_Mdl_told_40 : decode prog_11_method_45_code 40 = .ok (.lload_n 1, 1) := by decide +kernel
theorem d_Mdl_told_41 : decode prog_11_method_45_code 41 = .ok (.iload_n 3, 1) := by decide +kernel
theorem d_Mdl_told_42 : decode prog_11_method_45_code 42 = .ok (.invokestatic 142, 3) := by decide +kernel
theorem d_Mdl_told_45 : decode prog_11_method_45_code 45 = .ok (.ireturn, 1) := by decide +kernel
set_option maxHeartbeats 4000000 in
set_option maxRecDepth 100000 in
theorem w_Mdl_told_45 {res : (Int32 ⊕ (Nat × Nat)) × xH} (C : x_C l s0 A0 D R_Mdl prog_11_method_45_code 4 [] p s m args meth c) (hr : meth.sig.returnType = (some .int)) (hnm : meth.name = "told") (hRf : 2 ≤ R.frames) (hRl : 64 ≤ R.locals)  (t0 : Int32) (hp : f_Mdl_told_b45 t0 h = some res) (hH : x_S s0 D R h H locs cells slots) (hl : lv_has ls 4 []) : W p l e R s m args below meth c H locs cells slots (x_Q s0 D below s R (x_oc vI res.1) res.2) (F0 m 45 ls [.int t0]) := by
  obtain ⟨hx, hb, hown, hts, hK, hml, hW, Z, -⟩ := id C
  unfold f_Mdl_told_b45 at hp
  exact x_iret C hH hr d_Mdl_told_45 hp
set_option maxHeartbeats 4000000 in
set_option maxRecDepth 100000 in
theorem w_Mdl_told_26 {res : (Int32 ⊕ (Nat × Nat)) × xH} (C : x_C l s0 A0 D R_Mdl prog_11_method_45_code 4 [] p s m args meth c) (hr : meth.sig.returnType = (some .int)) (hnm : meth.name = "told") (hRf : 2 ≤ R.frames) (hRl : 64 ≤ R.locals)  (l0 : Nat) (l1 : Int64) (l3 : Int32) (t0 : Int32) (t1 : Nat) (hp : f_Mdl_told_b26 l0 l1 l3 t0 t1 h = some res) (hH : x_S s0 D R h H locs cells slots) (hl : lv_has ls 4 [(0, .ref l0), (1, .long l1), (3, .int l3)]) : W p l e R s m args below meth c H locs cells slots (x_Q s0 D below s R (x_oc vI res.1) res.2) (F0 m 26 ls [.int t0, .ref t1]) := by
  obtain ⟨hx, hb, hown, hts, hK, hml, hW, Z, -⟩ := id C
  unfold f_Mdl_told_b26 at hp
  refine x_pV C hH fp_Mdl_121 (fun h => Bool.noConfusion h) d_Mdl_told_26 rfl rfl hp (fun h H locs hp hH => ?_)
  refine lv_aload_n hx hb d_Mdl_told_29 rfl (lv_at hl 0 rfl) ?_
  refine x_gI C hH fl_Mdl_121 d_Mdl_told_30 hp (fun v1 hp => ?_)
  refine lv_if_le (tgt := 40) hx hb d_Mdl_told_33 (by decide) (fun hc => ?_) (fun hc => ?_)
  · replace hp := x_ifp hc hp
    refine lv_lload_n hx hb d_Mdl_told_40 rfl (lv_at hl 1 rfl) ?_
    refine lv_iload_n hx hb d_Mdl_told_41 rfl (lv_at hl 2 rfl) ?_
    refine x_callS (As := [.long l1, .int l3]) (rest := []) (cv := vI) C hH kc_Mdl_142 d_Mdl_told_42 hp (fun o h' e => m_Mdl_position Z e) rfl hl.1 (Nat.le_trans (Nat.le_of_ble_eq_true rfl) hRf) (Nat.le_trans (Nat.le_of_ble_eq_true rfl) hRl) (Nat.le_of_ble_eq_true rfl) (fun v2 h H locs cells slots hp hH => ?_)
    refine W.eq (g2 := F0 m 45 ls [.int v2]) rfl ?_
    exact w_Mdl_told_45 C hr hnm hRf hRl  v2 hp hH (lv_sub hl [] rfl)
  · replace hp := x_ifn hc hp
    refine lv_iconst (v := 0) hx hb d_Mdl_told_36 (by decide) ?_
    refine lv_goto (tgt := 45) hx hb d_Mdl_told_37 (by decide) ?_
    exact w_Mdl_told_45 C hr hnm hRf hRl  0 hp hH (lv_sub hl [] rfl)
set_option maxHeartbeats 4000000 in
set_option maxRecDepth 100000 in
theorem w_Mdl_told_0 {res : (Int32 ⊕ (Nat × Nat)) × xH} (C : x_C l s0 A0 D R_Mdl prog_11_method_45_code 4 [] p s m args meth c) (hr : meth.sig.returnType = (some .int)) (hnm : meth.name = "told") (hRf : 2 ≤ R.frames) (hRl : 64 ≤ R.locals)  (l0 : Nat) (l1 : Int64) (l3 : Int32) (hp : f_Mdl_told l0 l1 l3 h = some res) (hH : x_S s0 D R h H locs cells slots) (hl : lv_has ls 4 [(0, .ref l0), (1, .long l1), (3, .int l3)]) : W p l e R s m args below meth c H locs cells slots (x_Q s0 D below s R (x_oc vI res.1) res.2) (F0 m 0 ls []) := by
  obtain ⟨hx, hb, hown, hts, hK, hml, hW, Z, -⟩ := id C
  unfold f_Mdl_told at hp
  refine lv_aload_n hx hb d_Mdl_told_0 rfl (lv_at hl 0 rfl) ?_
  refine lv_aload_n hx hb d_Mdl_told_1 rfl (lv_at hl 0 rfl) ?_
  refine lv_iload_n hx hb d_Mdl_told_2 rfl (lv_at hl 2 rfl) ?_
  refine x_callV (As := [.int l3]) (rest := [.ref l0]) (cv := vI) C hH kc_Mdl_193 d_Mdl_told_3 hp (fun o h' e => m_Mdl_isPart Z e) rfl hl.1 (Nat.le_trans (Nat.le_of_ble_eq_true rfl) hRf) (Nat.le_trans (Nat.le_of_ble_eq_true rfl) hRl) (Nat.le_of_ble_eq_true rfl) (fun v1 h H locs cells slots hp hH => ?_)
  refine W.eq (g2 := F0 m 6 ls [.int v1, .ref l0]) rfl ?_
  refine lv_if_ne (tgt := 13) hx hb d_Mdl_told_6 (by decide) (fun hc => ?_) (fun hc => ?_)
  · replace hp := x_ifn hc hp
    refine lv_aload_n hx hb d_Mdl_told_13 rfl (lv_at hl 0 rfl) ?_
    refine lv_lload_n hx hb d_Mdl_told_14 rfl (lv_at hl 1 rfl) ?_
    refine x_callV (As := [.long l1]) (rest := [.ref l0]) (cv := vI) C hH kc_Mdl_237 d_Mdl_told_15 hp (fun o h' e => m_Mdl_isToken Z e) rfl hl.1 (Nat.le_trans (Nat.le_of_ble_eq_true rfl) hRf) (Nat.le_trans (Nat.le_of_ble_eq_true rfl) hRl) (Nat.le_of_ble_eq_true rfl) (fun v2 h H locs cells slots hp hH => ?_)
    refine W.eq (g2 := F0 m 18 ls [.int v2, .ref l0]) rfl ?_
    refine lv_if_ne (tgt := 25) hx hb d_Mdl_told_18 (by decide) (fun hc => ?_) (fun hc => ?_)
    · replace hp := x_ifn hc hp
      refine lv_iconst (v := 0) hx hb d_Mdl_told_25 (by decide) ?_
      exact w_Mdl_told_26 C hr hnm hRf hRl  l0 l1 l3 0 l0 hp hH (lv_sub hl [0, 1, 2] rfl)
    · replace hp := x_ifp hc hp
      refine lv_iconst (v := 2) hx hb d_Mdl_told_21 (by decide) ?_
      refine lv_goto (tgt := 26) hx hb d_Mdl_told_22 (by decide) ?_
      exact w_Mdl_told_26 C hr hnm hRf hRl  l0 l1 l3 2 l0 hp hH (lv_sub hl [0, 1, 2] rfl)
  · replace hp := x_ifp hc hp
    refine lv_iconst (v := 1) hx hb d_Mdl_told_9 (by decide) ?_
    refine lv_goto (tgt := 26) hx hb d_Mdl_told_10 (by decide) ?_
    exact w_Mdl_told_26 C hr hnm hRf hRl  l0 l1 l3 1 l0 hp hH (lv_sub hl [0, 1, 2] rfl)
set_option maxRecDepth 100000 in
theorem m_Mdl_told (Z : x_Z l s0 A0 D) {l0 : Nat} {l1 : Int64} {l3 : Int32} {res : (Int32 ⊕ (Nat × Nat)) × xH} (hp : f_Mdl_told l0 l1 l3 h = some res) : x_M l s0 D y_Mdl_told (x_cw y_Mdl_told prog_11_method_45_code 4 (some .int) []) 2 64 [.ref l0, .long l1, .int l3] h (x_oc vI res.1) res.2 := by
  refine x_M.ofW Z (plainFor_of_name (by decide)) ?_
  intro p e s m below meth c C hnm hr hH
  have hl := lv_entry ([.ref l0, .long l1, .int l3]) (n := 4) (Nat.le_of_ble_eq_true rfl)
  rw [lg_entry_eq]
  generalize (lg_sl ([.ref l0, .long l1, .int l3]) ++ List.replicate (4 - (lg_sl ([.ref l0, .long l1, .int l3])).length) Slot.unset).toArray = ls at hl ⊢
  exact w_Mdl_told_0 C hr hnm (Nat.le_refl _) (Nat.le_refl _) l0 l1 l3 hp hH hl
/-! ReadSideModel.count(I)I -/
theorem d_Mdl_count_0 : decode prog_11_method_46_code 0 = .ok (.aload_n 0, 1) := by decide +kernel
theorem d_Mdl_count_1 : decode prog_11_method_46_code 1 = .ok (.iload_n 1, 1) := by decide +kernel
theorem d_Mdl_count_2 : decode prog_11_method_46_code 2 = .ok (.i2l, 1) := by decide +kernel
theorem d_Mdl_count_3 : decode prog_11_method_46_code 3 = .ok (.lconst 0, 1) := by decide +kernel
theorem d_Mdl_count_4 : decode prog_11_method_46_code 4 = .ok (.ldc2_w 169, 3) := by decide +kernel
theorem d_Mdl_count_7 : decode prog_11_method_46_code 7 = .ok (.invokestatic 148, 3) := by decide +kernel
theorem d_Mdl_count_10 : decode prog_11_method_46_code 10 = .ok (.ifCond .eq 7, 3) := by decide +kernel
theorem d_Mdl_count_13 : decode prog_11_method_46_code 13 = .ok (.iconst 0, 1) := by decide +kernel
theorem d_Mdl_count_14 : decode prog_11_method_46_code 14 = .ok (.goto 4, 3) := by decide +kernel
theorem d_Mdl_count_17 : decode prog_11_method_46_code 17 = .ok (.iconst 1, 1) := by decide +kernel
theorem d_Mdl_count_18 : decode prog_11_method_46_code 18 = .ok (.putfield 121, 3) := by decide +kernel
theorem d_Mdl_count_21 : decode prog_11_method_46_code 21 = .ok (.aload_n 0, 1) := by decide +kernel
theorem d_Mdl_count_22 : decode prog_11_method_46_code 22 = .ok (.getfield 121, 3) := by decide +kernel
theorem d_Mdl_count_25 : decode prog_11_method_46_code 25 = .ok (.ifCond .le 5, 3) := by decide +kernel
theorem d_Mdl_count_28 : decode prog_11_method_46_code 28 = .ok (.iconst 0, 1) := by decide +kernel
theorem d_Mdl_count_29 : decode prog_11_method_46_code 29 = .ok (.ireturn, 1) := by decide +kernel
theorem d_Mdl_count_30 : decode prog_11_method_46_code 30 = .ok (.iload_n 1, 1) := by decide +kernel
theorem d_Mdl_count_31 : decode prog_11_method_46_code 31 = .ok (.ifCond .eq 8, 3) := by decide +kernel
theorem d_Mdl_count_34 : decode prog_11_method_46_code 34 = .ok (.iload_n 1, 1) := by decide +kernel
theorem d_Mdl_count_35 : decode prog_11_method_46_code 35 = .ok (.iconst 4, 1) := by decide +kernel
theorem d_Mdl_count_36 : decode prog_11_method_46_code 36 = .ok (.if_icmp .ne 19, 3) := by decide +kernel
theorem d_Mdl_count_39 : decode prog_11_method_46_code 39 = .ok (.iload_n 1, 1) := by decide +kernel
theorem d_Mdl_count_40 : decode prog_11_method_46_code 40 = .ok (.ifCond .ne 10, 3) := by decide +kernel
theorem d_Mdl_count_43 : decode prog_11_method_46_code 43 = .ok (.aload_n 0, 1) := by decide +kernel
theorem d_Mdl_count_44 : decode prog_11_method_46_code 44 = .ok (.getfield 204, 3) := by decide +kernel
theorem d_Mdl_count_47 : decode prog_11_method_46_code 47 = .ok (.goto 7, 3) := by decide +kernel
theorem d_Mdl_count_50 : decode prog_11_method_46_code 50 = .ok (.aload_n 0, 1) := by decide +kernel
theorem d_Mdl_count_51 : decode prog_11_method_46_code 51 = .ok (.getfield 201, 3) := by decide +kernel
theorem d_Mdl_count_54 : decode prog_11_method_46_code 54 = .ok (.ireturn, 1) := by decide +kernel
theorem d_Mdl_count_55 : decode prog_11_method_46_code 55 = .ok (.iconst 0, 1) := by decide +kernel
theorem d_Mdl_count_56 : decode prog_11_method_46_code 56 = .ok (.istore_n 2, 1) := by decide +kernel
theorem d_Mdl_count_57 : decode prog_11_method_46_code 57 = .ok (.iconst 0, 1) := by decide +kernel
theorem d_Mdl_count_58 : decode prog_11_method_46_code 58 = .ok (.istore_n 3, 1) := by decide +kernel
theorem d_Mdl_count_59 : decode prog_11_method_46_code 59 = .ok (.iload_n 3, 1) := by decide +kernel
theorem d_Mdl_count_60 : decode prog_11_method_46_code 60 = .ok (.aload_n 0, 1) := by decide +kernel
theorem d_Mdl_count_61 : decode prog_11_method_46_code 61 = .ok (.getfield 204, 3) := by decide +kernel
theorem d_Mdl_count_64 : decode prog_11_method_46_code 64 = .ok (.if_icmp .ge 29, 3) := by decide +kernel
theorem d_Mdl_count_67 : decode prog_11_method_46_code 67 = .ok (.iload_n 2, 1) := by decide +kernel
theorem d_Mdl_count_68 : decode prog_11_method_46_code 68 = .ok (.aload_n 0, 1) := by decide +kernel
theorem d_Mdl_count_69 : decode prog_11_method_46_code 69 = .ok (.getfield 78, 3) := by decide +kernel
theorem d_Mdl_count_72 : decode prog_11_method_46_code 72 = .ok (.iload_n 3, 1) := by decide +kernel
theorem d_Mdl_count_73 : decode prog_11_method_46_code 73 = .ok (.iaload, 1) := by decide +kernel
theorem d_Mdl_count_74 : decode prog_11_method_46_code 74 = .ok (.iload_n 1, 1) := by decide +kernel
theorem d_Mdl_count_75 : decode prog_11_method_46_code 75 = .ok (.iconst 1, 1) := by decide +kernel
theorem d_Mdl_count_76 : decode prog_11_method_46_code 76 = .ok (.isub, 1) := by decide +kernel
theorem d_Mdl_count_77 : decode prog_11_method_46_code 77 = .ok (.if_icmp .ne 7, 3) := by decide +kernel
theorem d_Mdl_count_80 : decode prog_11_method_46_code 80 = .ok (.iconst 1, 1) := by decide +kernel
theorem d_Mdl_count_81 : decode prog_11_method_46_code 81 = .ok (.goto 4, 3) := by decide +kernel
theorem d_Mdl_count_84 : decode prog_11_method_46_code 84 = .ok (.iconst 0, 1) := by decide +kernel
theorem d_Mdl_count_85 : decode prog_11_method_46_code 85 = .ok (.iadd, 1) := by decide +kernel
theorem d_Mdl_count_86 : decode prog_11_method_46_code 86 = .ok (.istore_n 2, 1) := by decide +kernel
theorem d_Mdl_count_87 : decode prog_11_method_46_code 87 = .ok (.iinc 3 1, 3) := by decide +kernel
theorem d_Mdl_count_90 : decode prog_11_method_46_code 90 = .ok (.goto (-31), 3) := by decide +kernel
theorem d_Mdl_count_93 : decode prog_11_method_46_code 93 = .ok (.iload_n 2, 1) := by decide +kernel
theorem d_Mdl_count_94 : decode prog_11_method_46_code 94 = .ok (.ireturn, 1) := by decide +kernel
set_option maxHeartbeats 4000000 in
set_option maxRecDepth 100000 in
theorem w_Mdl_count_85 {res : (Int32 ⊕ (Nat × Nat)) × xH} (C : x_C l s0 A0 D R_Mdl prog_11_method_46_code 4 [] p s m args meth c) (hr : meth.sig.returnType = (some .int)) (hnm : meth.name = "count") (hRf : 1 ≤ R.frames) (hRl : 33 ≤ R.locals) {k59 : Nat → Int32 → Int32 → Int32 → xM Int32} (hs59 : ∀ (l0 : Nat) (l1 : Int32) (l2 : Int32) (l3 : Int32) (h : xH) (H : Heap) (locs : List Loc) (cells slots : Nat) (ls : Array Slot), k59 l0 l1 l2 l3 h = some res → x_S s0 D R h H locs cells slots → lv_has ls 4 [(0, .ref l0), (1, .int l1), (2, .int l2), (3, .int l3)] → W p l e R s m args below meth c H locs cells slots (x_Q s0 D below s R (x_oc vI res.1) res.2) (F0 m 59 ls [])) (l0 : Nat) (l1 : Int32) (l3 : Int32) (t0 : Int32) (t1 : Int32) (hp : f_Mdl_count_b85 k59 l0 l1 l3 t0 t1 h = some res) (hH : x_S s0 D R h H locs cells slots) (hl : lv_has ls 4 [(0, .ref l0), (1, .int l1), (3, .int l3)]) : W p l e R s m args below meth c H locs cells slots (x_Q s0 D below s R (x_oc vI res.1) res.2) (F0 m 85 ls [.int t0, .int t1]) := by
  obtain ⟨hx, hb, hown, hts, hK, hml, hW, Z, -⟩ := id C
  unfold f_Mdl_count_b85 at hp
  refine lv_iadd hx hb d_Mdl_count_85 ?_
  refine lv_istore_n (lv' := [(2, .int (t1 + t0)), (0, .ref l0), (1, .int l1), (3, .int l3)]) hx hb d_Mdl_count_86 rfl hl (by decide) rfl (fun ls hl => ?_)
  refine lv_iinc (v := (l3 + 1)) (lv' := [(3, .int (l3 + 1)), (2, .int (t1 + t0)), (0, .ref l0), (1, .int l1)]) hx hb d_Mdl_count_87 hl (k := 3) rfl rfl (by decide) rfl (fun ls hl => ?_)
  refine lv_goto (tgt := 59) hx hb d_Mdl_count_90 (by decide) ?_
  exact hs59 l0 l1 (t1 + t0) (l3 + 1) _ _ _ _ _ _ hp hH (lv_sub hl [2, 3, 1, 0] rfl)
set_option maxHeartbeats 4000000 in
set_option maxRecDepth 100000 in
theorem w_Mdl_count_59 {res : (Int32 ⊕ (Nat × Nat)) × xH} (C : x_C l s0 A0 D R_Mdl prog_11_method_46_code 4 [] p s m args meth c) (hr : meth.sig.returnType = (some .int)) (hnm : meth.name = "count") (hRf : 1 ≤ R.frames) (hRl : 33 ≤ R.locals) {k59 : Nat → Int32 → Int32 → Int32 → xM Int32} (hs59 : ∀ (l0 : Nat) (l1 : Int32) (l2 : Int32) (l3 : Int32) (h : xH) (H : Heap) (locs : List Loc) (cells slots : Nat) (ls : Array Slot), k59 l0 l1 l2 l3 h = some res → x_S s0 D R h H locs cells slots → lv_has ls 4 [(0, .ref l0), (1, .int l1), (2, .int l2), (3, .int l3)] → W p l e R s m args below meth c H locs cells slots (x_Q s0 D below s R (x_oc vI res.1) res.2) (F0 m 59 ls [])) (l0 : Nat) (l1 : Int32) (l2 : Int32) (l3 : Int32) (hp : f_Mdl_count_b59 k59 l0 l1 l2 l3 h = some res) (hH : x_S s0 D R h H locs cells slots) (hl : lv_has ls 4 [(0, .ref l0), (1, .int l1), (2, .int l2), (3, .int l3)]) : W p l e R s m args below meth c H locs cells slots (x_Q s0 D below s R (x_oc vI res.1) res.2) (F0 m 59 ls []) := by
  obtain ⟨hx, hb, hown, hts, hK, hml, hW, Z, -⟩ := id C
  unfold f_Mdl_count_b59 at hp
  refine lv_iload_n hx hb d_Mdl_count_59 rfl (lv_at hl 3 rfl) ?_
  refine lv_aload_n hx hb d_Mdl_count_60 rfl (lv_at hl 0 rfl) ?_
  refine x_gI C hH fl_Mdl_204 d_Mdl_count_61 hp (fun v1 hp => ?_)
  refine lv_icmp_ge (tgt := 93) hx hb d_Mdl_count_64 (by decide) (fun hc => ?_) (fun hc => ?_)
  · replace hp := x_ifp hc hp
    refine lv_iload_n hx hb d_Mdl_count_93 rfl (lv_at hl 2 rfl) ?_
    exact x_iret C hH hr d_Mdl_count_94 hp
  · replace hp := x_ifn hc hp
    refine lv_iload_n hx hb d_Mdl_count_67 rfl (lv_at hl 2 rfl) ?_
    refine lv_aload_n hx hb d_Mdl_count_68 rfl (lv_at hl 0 rfl) ?_
    refine x_gA C hH fl_Mdl_78 d_Mdl_count_69 hp (fun v2 hp => ?_)
    refine lv_iload_n hx hb d_Mdl_count_72 rfl (lv_at hl 3 rfl) ?_
    refine x_lI C hH d_Mdl_count_73 hp (fun v3 hp => ?_)
    refine lv_iload_n hx hb d_Mdl_count_74 rfl (lv_at hl 1 rfl) ?_
    refine lv_iconst (v := 1) hx hb d_Mdl_count_75 (by decide) ?_
    refine lv_isub hx hb d_Mdl_count_76 ?_
    refine lv_icmp_ne (tgt := 84) hx hb d_Mdl_count_77 (by decide) (fun hc => ?_) (fun hc => ?_)
    · replace hp := x_ifn hc hp
      refine lv_iconst (v := 0) hx hb d_Mdl_count_84 (by decide) ?_
      exact w_Mdl_count_85 C hr hnm hRf hRl hs59 l0 l1 l3 0 l2 hp hH (lv_sub hl [0, 1, 3] rfl)
    · replace hp := x_ifp hc hp
      refine lv_iconst (v := 1) hx hb d_Mdl_count_80 (by decide) ?_
      refine lv_goto (tgt := 85) hx hb d_Mdl_count_81 (by decide) ?_
      exact w_Mdl_count_85 C hr hnm hRf hRl hs59 l0 l1 l3 1 l2 hp hH (lv_sub hl [0, 1, 3] rfl)
theorem w_Mdl_count_h59 {res : (Int32 ⊕ (Nat × Nat)) × xH} (C : x_C l s0 A0 D R_Mdl prog_11_method_46_code 4 [] p s m args meth c) (hr : meth.sig.returnType = (some .int)) (hnm : meth.name = "count") (hRf : 1 ≤ R.frames) (hRl : 33 ≤ R.locals)  : ∀ (n : Nat) (l0 : Nat) (l1 : Int32) (l2 : Int32) (l3 : Int32) (h : xH) (H : Heap) (locs : List Loc) (cells slots : Nat) (ls : Array Slot), f_Mdl_count_h59 n l0 l1 l2 l3 h = some res → x_S s0 D R h H locs cells slots → lv_has ls 4 [(0, .ref l0), (1, .int l1), (2, .int l2), (3, .int l3)] → W p l e R s m args below meth c H locs cells slots (x_Q s0 D below s R (x_oc vI res.1) res.2) (F0 m 59 ls []) := by
  intro n
  induction n with
  | zero => intro l0 l1 l2 l3 h H locs cells slots ls hp hH hl; cases hp
  | succ n ih => intro l0 l1 l2 l3 h H locs cells slots ls hp hH hl; exact w_Mdl_count_59 C hr hnm hRf hRl ih l0 l1 l2 l3 hp hH hl
set_option maxHeartbeats 4000000 in
set_option maxRecDepth 100000 in
theorem w_Mdl_count_54 {res : (Int32 ⊕ (Nat × Nat)) × xH} (C : x_C l s0 A0 D R_Mdl prog_11_method_46_code 4 [] p s m args meth c) (hr : meth.sig.returnType = (some .int)) (hnm : meth.name = "count") (hRf : 1 ≤ R.frames) (hRl : 33 ≤ R.locals)  (t0 : Int32) (hp : f_Mdl_count_b54 t0 h = some res) (hH : x_S s0 D R h H locs cells slots) (hl : lv_has ls 4 []) : W p l e R s m args below meth c H locs cells slots (x_Q s0 D below s R (x_oc vI res.1) res.2) (F0 m 54 ls [.int t0]) := by
  obtain ⟨hx, hb, hown, hts, hK, hml, hW, Z, -⟩ := id C
  unfold f_Mdl_count_b54 at hp
  exact x_iret C hH hr d_Mdl_count_54 hp
set_option maxHeartbeats 4000000 in
set_option maxRecDepth 100000 in
theorem w_Mdl_count_39 {res : (Int32 ⊕ (Nat × Nat)) × xH} (C : x_C l s0 A0 D R_Mdl prog_11_method_46_code 4 [] p s m args meth c) (hr : meth.sig.returnType = (some .int)) (hnm : meth.name = "count") (hRf : 1 ≤ R.frames) (hRl : 33 ≤ R.locals)  (l0 : Nat) (l1 : Int32) (hp : f_Mdl_count_b39 l0 l1 h = some res) (hH : x_S s0 D R h H locs cells slots) (hl : lv_has ls 4 [(0, .ref l0), (1, .int l1)]) : W p l e R s m args below meth c H locs cells slots (x_Q s0 D below s R (x_oc vI res.1) res.2) (F0 m 39 ls []) := by
  obtain ⟨hx, hb, hown, hts, hK, hml, hW, Z, -⟩ := id C
  unfold f_Mdl_count_b39 at hp
  refine lv_iload_n hx hb d_Mdl_count_39 rfl (lv_at hl 1 rfl) ?_
  refine lv_if_ne (tgt := 50) hx hb d_Mdl_count_40 (by decide) (fun hc => ?_) (fun hc => ?_)
  · replace hp := x_ifn hc hp
    refine lv_aload_n hx hb d_Mdl_count_50 rfl (lv_at hl 0 rfl) ?_
    refine x_gI C hH fl_Mdl_201 d_Mdl_count_51 hp (fun v1 hp => ?_)
    exact w_Mdl_count_54 C hr hnm hRf hRl  v1 hp hH (lv_sub hl [] rfl)
  · replace hp := x_ifp hc hp
    refine lv_aload_n hx hb d_Mdl_count_43 rfl (lv_at hl 0 rfl) ?_
    refine x_gI C hH fl_Mdl_204 d_Mdl_count_44 hp (fun v2 hp => ?_)
    refine lv_goto (tgt := 54) hx hb d_Mdl_count_47 (by decide) ?_
    exact w_Mdl_count_54 C hr hnm hRf hRl  v2 hp hH (lv_sub hl [] rfl)
set_option maxHeartbeats 4000000 in
set_option maxRecDepth 100000 in
theorem w_Mdl_count_18 {res : (Int32 ⊕ (Nat × Nat)) × xH} (C : x_C l s0 A0 D R_Mdl prog_11_method_46_code 4 [] p s m args meth c) (hr : meth.sig.returnType = (some .int)) (hnm : meth.name = "count") (hRf : 1 ≤ R.frames) (hRl : 33 ≤ R.locals)  (l0 : Nat) (l1 : Int32) (t0 : Int32) (t1 : Nat) (hp : f_Mdl_count_b18 l0 l1 t0 t1 h = some res) (hH : x_S s0 D R h H locs cells slots) (hl : lv_has ls 4 [(0, .ref l0), (1, .int l1)]) : W p l e R s m args below meth c H locs cells slots (x_Q s0 D below s R (x_oc vI res.1) res.2) (F0 m 18 ls [.int t0, .ref t1]) := by
  obtain ⟨hx, hb, hown, hts, hK, hml, hW, Z, -⟩ := id C
  unfold f_Mdl_count_b18 at hp
  refine x_pV C hH fp_Mdl_121 (fun h => Bool.noConfusion h) d_Mdl_count_18 rfl rfl hp (fun h H locs hp hH => ?_)
  refine lv_aload_n hx hb d_Mdl_count_21 rfl (lv_at hl 0 rfl) ?_
  refine x_gI C hH fl_Mdl_121 d_Mdl_count_22 hp (fun v1 hp => ?_)
  refine lv_if_le (tgt := 30) hx hb d_Mdl_count_25 (by decide) (fun hc => ?_) (fun hc => ?_)
  · replace hp := x_ifp hc hp
    refine lv_iload_n hx hb d_Mdl_count_30 rfl (lv_at hl 1 rfl) ?_
    refine lv_if_eq (tgt := 39) hx hb d_Mdl_count_31 (by decide) (fun hc => ?_) (fun hc => ?_)
    · replace hp := x_ifp hc hp
      exact w_Mdl_count_39 C hr hnm hRf hRl  l0 l1 hp hH (lv_sub hl [0, 1] rfl)
    · replace hp := x_ifn hc hp
      refine lv_iload_n hx hb d_Mdl_count_34 rfl (lv_at hl 1 rfl) ?_
      refine lv_iconst (v := 4) hx hb d_Mdl_count_35 (by decide) ?_
      refine lv_icmp_ne (tgt := 55) hx hb d_Mdl_count_36 (by decide) (fun hc => ?_) (fun hc => ?_)
      · replace hp := x_ifn hc hp
        refine lv_iconst (v := 0) hx hb d_Mdl_count_55 (by decide) ?_
        refine lv_istore_n (lv' := [(2, .int 0), (0, .ref l0), (1, .int l1)]) hx hb d_Mdl_count_56 rfl hl (by decide) rfl (fun ls hl => ?_)
        refine lv_iconst (v := 0) hx hb d_Mdl_count_57 (by decide) ?_
        refine lv_istore_n (lv' := [(3, .int 0), (2, .int 0), (0, .ref l0), (1, .int l1)]) hx hb d_Mdl_count_58 rfl hl (by decide) rfl (fun ls hl => ?_)
        exact w_Mdl_count_h59 C hr hnm hRf hRl  1000 l0 l1 0 0 _ _ _ _ _ _ hp hH (lv_sub hl [2, 3, 1, 0] rfl)
      · replace hp := x_ifp hc hp
        exact w_Mdl_count_39 C hr hnm hRf hRl  l0 l1 hp hH (lv_sub hl [0, 1] rfl)
  · replace hp := x_ifn hc hp
    refine lv_iconst (v := 0) hx hb d_Mdl_count_28 (by decide) ?_
    exact x_iret C hH hr d_Mdl_count_29 hp
set_option maxHeartbeats 4000000 in
set_option maxRecDepth 100000 in
theorem w_Mdl_count_0 {res : (Int32 ⊕ (Nat × Nat)) × xH} (C : x_C l s0 A0 D R_Mdl prog_11_method_46_code 4 [] p s m args meth c) (hr : meth.sig.returnType = (some .int)) (hnm : meth.name = "count") (hRf : 1 ≤ R.frames) (hRl : 33 ≤ R.locals)  (l0 : Nat) (l1 : Int32) (hp : f_Mdl_count l0 l1 h = some res) (hH : x_S s0 D R h H locs cells slots) (hl : lv_has ls 4 [(0, .ref l0), (1, .int l1)]) : W p l e R s m args below meth c H locs cells slots (x_Q s0 D below s R (x_oc vI res.1) res.2) (F0 m 0 ls []) := by
  obtain ⟨hx, hb, hown, hts, hK, hml, hW, Z, -⟩ := id C
  unfold f_Mdl_count at hp
  refine lv_aload_n hx hb d_Mdl_count_0 rfl (lv_at hl 0 rfl) ?_
  refine lv_iload_n hx hb d_Mdl_count_1 rfl (lv_at hl 1 rfl) ?_
  refine lv_i2l (v := l1.toInt64) hx hb d_Mdl_count_2 rfl ?_
  refine lv_lconst (v := 0) hx hb d_Mdl_count_3 (by decide) ?_
  refine lv_ldc2 hx hb hown (hts _ k_905) d_Mdl_count_4 ?_
  refine x_callS (As := [.long l1.toInt64, .long 0, .long 4]) (rest := [.ref l0]) (cv := vI) C hH kc_Mdl_148 d_Mdl_count_7 hp (fun o h' e => m_Mdl_in Z e) rfl hl.1 (Nat.le_trans (Nat.le_of_ble_eq_true rfl) hRf) (Nat.le_trans (Nat.le_of_ble_eq_true rfl) hRl) (Nat.le_of_ble_eq_true rfl) (fun v1 h H locs cells slots hp hH => ?_)
  refine W.eq (g2 := F0 m 10 ls [.int v1, .ref l0]) rfl ?_
  refine lv_if_eq (tgt := 17) hx hb d_Mdl_count_10 (by decide) (fun hc => ?_) (fun hc => ?_)
  · replace hp := x_ifp hc hp
    refine lv_iconst (v := 1) hx hb d_Mdl_count_17 (by decide) ?_
    exact w_Mdl_count_18 C hr hnm hRf hRl  l0 l1 1 l0 hp hH (lv_sub hl [0, 1] rfl)
  · replace hp := x_ifn hc hp
    refine lv_iconst (v := 0) hx hb d_Mdl_count_13 (by decide) ?_
    refine lv_goto (tgt := 18) hx hb d_Mdl_count_14 (by decide) ?_
    exact w_Mdl_count_18 C hr hnm hRf hRl  l0 l1 0 l0 hp hH (lv_sub hl [0, 1] rfl)
set_option maxRecDepth 100000 in
theorem m_Mdl_count (Z : x_Z l s0 A0 D) {l0 : Nat} {l1 : Int32} {res : (Int32 ⊕ (Nat × Nat)) × xH} (hp : f_Mdl_count l0 l1 h = some res) : x_M l s0 D y_Mdl_count (x_cw y_Mdl_count prog_11_method_46_code 4 (some .int) []) 1 33 [.ref l0, .int l1] h (x_oc vI res.1) res.2 := by
  refine x_M.ofW Z (plainFor_of_name (by decide)) ?_
  intro p e s m below meth c C hnm hr hH
  have hl := lv_entry ([.ref l0, .int l1]) (n := 4) (Nat.le_of_ble_eq_true rfl)
  rw [lg_entry_eq]
  generalize (lg_sl ([.ref l0, .int l1]) ++ List.replicate (4 - (lg_sl ([.ref l0, .int l1])).length) Slot.unset).toArray = ls at hl ⊢
  exact w_Mdl_count_0 C hr hnm (Nat.le_refl _) (Nat.le_refl _) l0 l1 hp hH hl
end GEN
