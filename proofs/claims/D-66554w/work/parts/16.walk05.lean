section GEN
variable {p : Program} {l : Launch} {e : Env} {R : Room} {s : State} {m : MethodId} {args : Array Value} {below : List Frame} {meth : Method} {c : Code} {H : Heap} {locs : List Loc} {cells slots : Nat} {ls : Array Slot} {D : xD} {s0 : State} {A0 : Array Value} {h : xH}
/-! ReadSide.told(JI)I -/
theorem d_RS_told_0 : decode prog_1_method_12_code 0 = .ok (.iload_n 3, 1) := by decide +kernel
theorem d_RS_told_1 : decode prog_1_method_12_code 1 = .ok (.aload_n 0, 1) := by decide +kernel
theorem d_RS_told_2 : decode prog_1_method_12_code 2 = .ok (.getfield 31, 3) := by decide +kernel
theorem d_RS_told_5 : decode prog_1_method_12_code 5 = .ok (.invokestatic 61, 3) := by decide +kernel
theorem d_RS_told_8 : decode prog_1_method_12_code 8 = .ok (.pop, 1) := by decide +kernel
theorem d_RS_told_9 : decode prog_1_method_12_code 9 = .ok (.aload_n 0, 1) := by decide +kernel
theorem d_RS_told_10 : decode prog_1_method_12_code 10 = .ok (.lload_n 1, 1) := by decide +kernel
theorem d_RS_told_11 : decode prog_1_method_12_code 11 = .ok (.invokevirtual 146, 3) := by decide +kernel
theorem d_RS_told_14 : decode prog_1_method_12_code 14 = .ok (.astore 4, 2) := by decide +kernel
theorem d_RS_told_16 : decode prog_1_method_12_code 16 = .ok (.aload 4, 2) := by decide +kernel
theorem d_RS_told_18 : decode prog_1_method_12_code 18 = .ok (.ifnull 7, 3) := by decide +kernel
theorem d_RS_told_21 : decode prog_1_method_12_code 21 = .ok (.iconst 1, 1) := by decide +kernel
theorem d_RS_told_22 : decode prog_1_method_12_code 22 = .ok (.goto 4, 3) := by decide +kernel
theorem d_RS_told_25 : decode prog_1_method_12_code 25 = .ok (.iconst 0, 1) := by decide +kernel
theorem d_RS_told_26 : decode prog_1_method_12_code 26 = .ok (.invokestatic 71, 3) := by decide +kernel
theorem d_RS_told_29 : decode prog_1_method_12_code 29 = .ok (.aload 4, 2) := by decide +kernel
theorem d_RS_told_31 : decode prog_1_method_12_code 31 = .ok (.getfield 126, 3) := by decide +kernel
theorem d_RS_told_34 : decode prog_1_method_12_code 34 = .ok (.iload_n 3, 1) := by decide +kernel
theorem d_RS_told_35 : decode prog_1_method_12_code 35 = .ok (.iaload, 1) := by decide +kernel
theorem d_RS_told_36 : decode prog_1_method_12_code 36 = .ok (.ireturn, 1) := by decide +kernel
set_option maxHeartbeats 4000000 in
set_option maxRecDepth 100000 in
theorem w_RS_told_26 {res : (Int32 ⊕ (Nat × Nat)) × xH} (C : x_C l s0 A0 D R_RS prog_1_method_12_code 5 [] p s m args meth c) (hr : meth.sig.returnType = (some .int)) (hnm : meth.name = "told") (hRf : 7 ≤ R.frames) (hRl : 129 ≤ R.locals)  (l3 : Int32) (l4 : Option Nat) (t0 : Int32) (hp : f_RS_told_b26 l3 l4 t0 h = some res) (hH : x_S s0 D R h H locs cells slots) (hl : lv_has ls 5 [(3, .int l3), (4, va_rf l4)]) : W p l e R s m args below meth c H locs cells slots (x_Q s0 D below s R (x_oc vI res.1) res.2) (F0 m 26 ls [.int t0]) := by
  obtain ⟨hx, hb, hown, hts, hK, hml, hW, Z, -⟩ := id C
  unfold f_RS_told_b26 at hp
  refine x_callS (As := [.int t0]) (rest := []) (cv := vU) C hH kc_RS_71 d_RS_told_26 hp (fun o h' e => m_RS_want Z e) rfl hl.1 (Nat.le_trans (Nat.le_of_ble_eq_true rfl) hRf) (Nat.le_trans (Nat.le_of_ble_eq_true rfl) hRl) (Nat.le_of_ble_eq_true rfl) (fun v1 h H locs cells slots hp hH => ?_)
  refine W.eq (g2 := F0 m 29 ls []) rfl ?_
  refine x_aloadq hx hb d_RS_told_29 (lv_at hl 1 rfl) ?_
  obtain ⟨a2, ea, hp⟩ := xn_i hp
  subst ea
  have hl : lv_has ls 5 [(3, .int l3), (4, .ref a2)] := hl
  refine x_gA C hH fl_RS_126 d_RS_told_31 hp (fun v3 hp => ?_)
  refine lv_iload_n hx hb d_RS_told_34 rfl (lv_at hl 0 rfl) ?_
  refine x_lI C hH d_RS_told_35 hp (fun v4 hp => ?_)
  exact x_iret C hH hr d_RS_told_36 hp
set_option maxHeartbeats 4000000 in
set_option maxRecDepth 100000 in
theorem w_RS_told_0 {res : (Int32 ⊕ (Nat × Nat)) × xH} (C : x_C l s0 A0 D R_RS prog_1_method_12_code 5 [] p s m args meth c) (hr : meth.sig.returnType = (some .int)) (hnm : meth.name = "told") (hRf : 7 ≤ R.frames) (hRl : 129 ≤ R.locals)  (l0 : Nat) (l1 : Int64) (l3 : Int32) (hp : f_RS_told l0 l1 l3 h = some res) (hH : x_S s0 D R h H locs cells slots) (hl : lv_has ls 5 [(0, .ref l0), (1, .long l1), (3, .int l3)]) : W p l e R s m args below meth c H locs cells slots (x_Q s0 D below s R (x_oc vI res.1) res.2) (F0 m 0 ls []) := by
  obtain ⟨hx, hb, hown, hts, hK, hml, hW, Z, -⟩ := id C
  unfold f_RS_told at hp
  refine lv_iload_n hx hb d_RS_told_0 rfl (lv_at hl 2 rfl) ?_
  refine lv_aload_n hx hb d_RS_told_1 rfl (lv_at hl 0 rfl) ?_
  refine x_gI C hH fl_RS_31 d_RS_told_2 hp (fun v1 hp => ?_)
  refine x_callS (As := [.int l3, .int v1]) (rest := []) (cv := vI) C hH kc_RS_61 d_RS_told_5 hp (fun o h' e => m_RS_index Z e) rfl hl.1 (Nat.le_trans (Nat.le_of_ble_eq_true rfl) hRf) (Nat.le_trans (Nat.le_of_ble_eq_true rfl) hRl) (Nat.le_of_ble_eq_true rfl) (fun v2 h H locs cells slots hp hH => ?_)
  refine W.eq (g2 := F0 m 8 ls [.int v2]) rfl ?_
  refine lv_pop hx hb d_RS_told_8 rfl ?_
  refine lv_aload_n hx hb d_RS_told_9 rfl (lv_at hl 0 rfl) ?_
  refine lv_lload_n hx hb d_RS_told_10 rfl (lv_at hl 1 rfl) ?_
  refine x_callV (As := [.long l1]) (rest := []) (cv := vQ) C hH kc_RS_146 d_RS_told_11 hp (fun o h' e => m_RS_vectorOf Z e) rfl hl.1 (Nat.le_trans (Nat.le_of_ble_eq_true rfl) hRf) (Nat.le_trans (Nat.le_of_ble_eq_true rfl) hRl) (Nat.le_of_ble_eq_true rfl) (fun v3 h H locs cells slots hp hH => ?_)
  refine W.eq (g2 := F0 m 14 ls [va_rf v3]) rfl ?_
  refine x_astoreq (lv' := [(4, va_rf v3), (0, .ref l0), (1, .long l1), (3, .int l3)]) hx hb d_RS_told_14 hl (by decide) rfl (fun ls hl => ?_)
  refine x_aloadq hx hb d_RS_told_16 (lv_at hl 0 rfl) ?_
  refine x_ifnullq (tgt := 25) hx hb d_RS_told_18 (by decide) hp (fun hc hp => ?_) (fun a4 hc hp => ?_)
  · refine lv_iconst (v := 0) hx hb d_RS_told_25 (by decide) ?_
    exact w_RS_told_26 C hr hnm hRf hRl  l3 v3 0 hp hH (lv_sub hl [3, 0] rfl)
  · refine lv_iconst (v := 1) hx hb d_RS_told_21 (by decide) ?_
    refine lv_goto (tgt := 26) hx hb d_RS_told_22 (by decide) ?_
    exact w_RS_told_26 C hr hnm hRf hRl  l3 v3 1 hp hH (lv_sub hl [3, 0] rfl)
set_option maxRecDepth 100000 in
theorem m_RS_told (Z : x_Z l s0 A0 D) {l0 : Nat} {l1 : Int64} {l3 : Int32} {res : (Int32 ⊕ (Nat × Nat)) × xH} (hp : f_RS_told l0 l1 l3 h = some res) : x_M l s0 D y_RS_told (x_cw y_RS_told prog_1_method_12_code 5 (some .int) []) 7 129 [.ref l0, .long l1, .int l3] h (x_oc vI res.1) res.2 := by
  refine x_M.ofW Z (plainFor_of_name (by decide)) ?_
  intro p e s m below meth c C hnm hr hH
  have hl := lv_entry ([.ref l0, .long l1, .int l3]) (n := 5) (Nat.le_of_ble_eq_true rfl)
  rw [lg_entry_eq]
  generalize (lg_sl ([.ref l0, .long l1, .int l3]) ++ List.replicate (5 - (lg_sl ([.ref l0, .long l1, .int l3])).length) Slot.unset).toArray = ls at hl ⊢
  exact w_RS_told_0 C hr hnm (Nat.le_refl _) (Nat.le_refl _) l0 l1 l3 hp hH hl
/-! ReadSideLaw.told(LReadSide;JI[J)I -/
theorem d_law_told_0 : decode method_20_code 0 = .ok (.aload 4, 2) := by decide +kernel
theorem d_law_told_2 : decode method_20_code 2 = .ok (.iconst 0, 1) := by decide +kernel
theorem d_law_told_3 : decode method_20_code 3 = .ok (.aload_n 0, 1) := by decide +kernel
theorem d_law_told_4 : decode method_20_code 4 = .ok (.lload_n 1, 1) := by decide +kernel
theorem d_law_told_5 : decode method_20_code 5 = .ok (.iload_n 3, 1) := by decide +kernel
theorem d_law_told_6 : decode method_20_code 6 = .ok (.invokevirtual 74, 3) := by decide +kernel
theorem d_law_told_9 : decode method_20_code 9 = .ok (.i2l, 1) := by decide +kernel
theorem d_law_told_10 : decode method_20_code 10 = .ok (.lastore, 1) := by decide +kernel
theorem d_law_told_11 : decode method_20_code 11 = .ok (.goto 11, 3) := by decide +kernel
theorem d_law_told_14 : decode method_20_code 14 = .ok (.astore 5, 2) := by decide +kernel
theorem d_law_told_16 : decode method_20_code 16 = .ok (.iconst 1, 1) := by decide +kernel
theorem d_law_told_17 : decode method_20_code 17 = .ok (.ireturn, 1) := by decide +kernel
theorem d_law_told_18 : decode method_20_code 18 = .ok (.astore 5, 2) := by decide +kernel
theorem d_law_told_20 : decode method_20_code 20 = .ok (.iconst 2, 1) := by decide +kernel
theorem d_law_told_21 : decode method_20_code 21 = .ok (.ireturn, 1) := by decide +kernel
theorem d_law_told_22 : decode method_20_code 22 = .ok (.iconst 0, 1) := by decide +kernel
theorem d_law_told_23 : decode method_20_code 23 = .ok (.ireturn, 1) := by decide +kernel
set_option maxHeartbeats 4000000 in
set_option maxRecDepth 100000 in
theorem w_law_told_0 {res : (Int32 ⊕ (Nat × Nat)) × xH} (C : x_C l s0 A0 D R_law method_20_code 6 [(0, 11, 14, 13), (0, 11, 18, 15)] p s m args meth c) (hr : meth.sig.returnType = (some .int)) (hnm : meth.name = "told") (hRf : 8 ≤ R.frames) (hRl : 161 ≤ R.locals)  (l0 : Nat) (l1 : Int64) (l3 : Int32) (l4 : Nat) (hp : f_law_told l0 l1 l3 l4 h = some res) (hH : x_S s0 D R h H locs cells slots) (hl : lv_has ls 6 [(0, .ref l0), (1, .long l1), (3, .int l3), (4, .ref l4)]) : W p l e R s m args below meth c H locs cells slots (x_Q s0 D below s R (x_oc vI res.1) res.2) (F0 m 0 ls []) := by
  obtain ⟨hx, hb, hown, hts, hK, hml, hW, Z, -⟩ := id C
  unfold f_law_told at hp
  refine lv_aload hx hb d_law_told_0 (lv_at hl 3 rfl) ?_
  refine lv_iconst (v := 0) hx hb d_law_told_2 (by decide) ?_
  refine lv_aload_n hx hb d_law_told_3 rfl (lv_at hl 0 rfl) ?_
  refine lv_lload_n hx hb d_law_told_4 rfl (lv_at hl 1 rfl) ?_
  refine lv_iload_n hx hb d_law_told_5 rfl (lv_at hl 2 rfl) ?_
  refine x_callVc (As := [.long l1, .int l3]) (rest := [.int 0, .ref l4]) (cv := vI) C ct_law hH kc_law_74 d_law_told_6 hp (fun o h' e => m_RS_told Z e) rfl hl.1 (Nat.le_trans (Nat.le_of_ble_eq_true rfl) hRf) (Nat.le_trans (Nat.le_of_ble_eq_true rfl) hRl) (Nat.le_of_ble_eq_true rfl) (fun v1 h H locs cells slots hp hH => ?_) (fun a ci h H locs cells slots hp hH => ?_)
  · refine W.eq (g2 := F0 m 9 ls [.int v1, .int 0, .ref l4]) rfl ?_
    refine lv_i2l (v := v1.toInt64) hx hb d_law_told_9 rfl ?_
    refine x_sJ C hH d_law_told_10 hp (fun h H locs hp hH => ?_)
    refine lv_goto (tgt := 22) hx hb d_law_told_11 (by decide) ?_
    refine lv_iconst (v := 0) hx hb d_law_told_22 (by decide) ?_
    exact x_iret C hH hr d_law_told_23 hp
  · by_cases hc10 : ci = 10
    · replace hp := x_ifp hc10 hp
      subst hc10
      refine ⟨14, rfl, ?_⟩
      refine lv_astore (lv' := [(5, .ref a), (0, .ref l0), (1, .long l1), (3, .int l3), (4, .ref l4)]) hx hb d_law_told_14 hl (by decide) rfl (fun ls hl => ?_)
      refine lv_iconst (v := 1) hx hb d_law_told_16 (by decide) ?_
      exact x_iret C hH hr d_law_told_17 hp
    replace hp := x_ifn hc10 hp
    by_cases hc11 : ci = 11
    · replace hp := x_ifp hc11 hp
      subst hc11
      refine ⟨18, rfl, ?_⟩
      refine lv_astore (lv' := [(5, .ref a), (0, .ref l0), (1, .long l1), (3, .int l3), (4, .ref l4)]) hx hb d_law_told_18 hl (by decide) rfl (fun ls hl => ?_)
      refine lv_iconst (v := 2) hx hb d_law_told_20 (by decide) ?_
      exact x_iret C hH hr d_law_told_21 hp
    replace hp := x_ifn hc11 hp
    cases hp
set_option maxRecDepth 100000 in
theorem m_law_told (Z : x_Z l s0 A0 D) {l0 : Nat} {l1 : Int64} {l3 : Int32} {l4 : Nat} {res : (Int32 ⊕ (Nat × Nat)) × xH} (hp : f_law_told l0 l1 l3 l4 h = some res) : x_M l s0 D y_law_told (x_cw y_law_told method_20_code 6 (some .int) [(0, 11, 14, 13), (0, 11, 18, 15)]) 8 161 [.ref l0, .long l1, .int l3, .ref l4] h (x_oc vI res.1) res.2 := by
  refine x_M.ofW Z (plainFor_of_name (by decide)) ?_
  intro p e s m below meth c C hnm hr hH
  have hl := lv_entry ([.ref l0, .long l1, .int l3, .ref l4]) (n := 6) (Nat.le_of_ble_eq_true rfl)
  rw [lg_entry_eq]
  generalize (lg_sl ([.ref l0, .long l1, .int l3, .ref l4]) ++ List.replicate (6 - (lg_sl ([.ref l0, .long l1, .int l3, .ref l4])).length) Slot.unset).toArray = ls at hl ⊢
  exact w_law_told_0 C hr hnm (Nat.le_refl _) (Nat.le_refl _) l0 l1 l3 l4 hp hH hl
/-! ReadSide.count(I)I -/
theorem d_RS_count_0 : decode prog_1_method_37_code 0 = .ok (.iload_n 1, 1) := by decide +kernel
theorem d_RS_count_1 : decode prog_1_method_37_code 1 = .ok (.iconst 5, 1) := by decide +kernel
theorem d_RS_count_2 : decode prog_1_method_37_code 2 = .ok (.invokestatic 61, 3) := by decide +kernel
theorem d_RS_count_5 : decode prog_1_method_37_code 5 = .ok (.pop, 1) := by decide +kernel
theorem d_RS_count_6 : decode prog_1_method_37_code 6 = .ok (.iload_n 1, 1) := by decide +kernel
theorem d_RS_count_7 : decode prog_1_method_37_code 7 = .ok (.ifCond .ne 10, 3) := by decide +kernel
theorem d_RS_count_10 : decode prog_1_method_37_code 10 = .ok (.aload_n 0, 1) := by decide +kernel
theorem d_RS_count_11 : decode prog_1_method_37_code 11 = .ok (.getfield 283, 3) := by decide +kernel
theorem d_RS_count_14 : decode prog_1_method_37_code 14 = .ok (.goto 44, 3) := by decide +kernel
theorem d_RS_count_17 : decode prog_1_method_37_code 17 = .ok (.iload_n 1, 1) := by decide +kernel
theorem d_RS_count_18 : decode prog_1_method_37_code 18 = .ok (.iconst 1, 1) := by decide +kernel
theorem d_RS_count_19 : decode prog_1_method_37_code 19 = .ok (.if_icmp .ne 10, 3) := by decide +kernel
theorem d_RS_count_22 : decode prog_1_method_37_code 22 = .ok (.aload_n 0, 1) := by decide +kernel
theorem d_RS_count_23 : decode prog_1_method_37_code 23 = .ok (.getfield 196, 3) := by decide +kernel
theorem d_RS_count_26 : decode prog_1_method_37_code 26 = .ok (.goto 32, 3) := by decide +kernel
theorem d_RS_count_29 : decode prog_1_method_37_code 29 = .ok (.iload_n 1, 1) := by decide +kernel
theorem d_RS_count_30 : decode prog_1_method_37_code 30 = .ok (.iconst 2, 1) := by decide +kernel
theorem d_RS_count_31 : decode prog_1_method_37_code 31 = .ok (.if_icmp .ne 10, 3) := by decide +kernel
theorem d_RS_count_34 : decode prog_1_method_37_code 34 = .ok (.aload_n 0, 1) := by decide +kernel
theorem d_RS_count_35 : decode prog_1_method_37_code 35 = .ok (.getfield 257, 3) := by decide +kernel
theorem d_RS_count_38 : decode prog_1_method_37_code 38 = .ok (.goto 20, 3) := by decide +kernel
theorem d_RS_count_41 : decode prog_1_method_37_code 41 = .ok (.iload_n 1, 1) := by decide +kernel
theorem d_RS_count_42 : decode prog_1_method_37_code 42 = .ok (.iconst 3, 1) := by decide +kernel
theorem d_RS_count_43 : decode prog_1_method_37_code 43 = .ok (.if_icmp .ne 10, 3) := by decide +kernel
theorem d_RS_count_46 : decode prog_1_method_37_code 46 = .ok (.aload_n 0, 1) := by decide +kernel
theorem d_RS_count_47 : decode prog_1_method_37_code 47 = .ok (.getfield 260, 3) := by decide +kernel
theorem d_RS_count_50 : decode prog_1_method_37_code 50 = .ok (.goto 8, 3) := by decide +kernel
theorem d_RS_count_53 : decode prog_1_method_37_code 53 = .ok (.aload_n 0, 1) := by decide +kernel
theorem d_RS_count_54 : decode prog_1_method_37_code 54 = .ok (.getfield 188, 3) := by decide +kernel
theorem d_RS_count_57 : decode prog_1_method_37_code 57 = .ok (.l2i, 1) := by decide +kernel
theorem d_RS_count_58 : decode prog_1_method_37_code 58 = .ok (.ireturn, 1) := by decide +kernel
set_option maxHeartbeats 4000000 in
set_option maxRecDepth 100000 in
theorem w_RS_count_58 {res : (Int32 ⊕ (Nat × Nat)) × xH} (C : x_C l s0 A0 D R_RS prog_1_method_37_code 2 [] p s m args meth c) (hr : meth.sig.returnType = (some .int)) (hnm : meth.name = "count") (hRf : 7 ≤ R.frames) (hRl : 129 ≤ R.locals)  (t0 : Int32) (hp : f_RS_count_b58 t0 h = some res) (hH : x_S s0 D R h H locs cells slots) (hl : lv_has ls 2 []) : W p l e R s m args below meth c H locs cells slots (x_Q s0 D below s R (x_oc vI res.1) res.2) (F0 m 58 ls [.int t0]) := by
  obtain ⟨hx, hb, hown, hts, hK, hml, hW, Z, -⟩ := id C
  unfold f_RS_count_b58 at hp
  exact x_iret C hH hr d_RS_count_58 hp
set_option maxHeartbeats 4000000 in
set_option maxRecDepth 100000 in
theorem w_RS_count_0 {res : (Int32 ⊕ (Nat × Nat)) × xH} (C : x_C l s0 A0 D R_RS prog_1_method_37_code 2 [] p s m args meth c) (hr : meth.sig.returnType = (some .int)) (hnm : meth.name = "count") (hRf : 7 ≤ R.frames) (hRl : 129 ≤ R.locals)  (l0 : Nat) (l1 : Int32) (hp : f_RS_count l0 l1 h = some res) (hH : x_S s0 D R h H locs cells slots) (hl : lv_has ls 2 [(0, .ref l0), (1, .int l1)]) : W p l e R s m args below meth c H locs cells slots (x_Q s0 D below s R (x_oc vI res.1) res.2) (F0 m 0 ls []) := by
  obtain ⟨hx, hb, hown, hts, hK, hml, hW, Z, -⟩ := id C
  unfold f_RS_count at hp
  refine lv_iload_n hx hb d_RS_count_0 rfl (lv_at hl 1 rfl) ?_
  refine lv_iconst (v := 5) hx hb d_RS_count_1 (by decide) ?_
  refine x_callS (As := [.int l1, .int 5]) (rest := []) (cv := vI) C hH kc_RS_61 d_RS_count_2 hp (fun o h' e => m_RS_index Z e) rfl hl.1 (Nat.le_trans (Nat.le_of_ble_eq_true rfl) hRf) (Nat.le_trans (Nat.le_of_ble_eq_true rfl) hRl) (Nat.le_of_ble_eq_true rfl) (fun v1 h H locs cells slots hp hH => ?_)
  refine W.eq (g2 := F0 m 5 ls [.int v1]) rfl ?_
  refine lv_pop hx hb d_RS_count_5 rfl ?_
  refine lv_iload_n hx hb d_RS_count_6 rfl (lv_at hl 1 rfl) ?_
  refine lv_if_ne (tgt := 17) hx hb d_RS_count_7 (by decide) (fun hc => ?_) (fun hc => ?_)
  · replace hp := x_ifn hc hp
    refine lv_iload_n hx hb d_RS_count_17 rfl (lv_at hl 1 rfl) ?_
    refine lv_iconst (v := 1) hx hb d_RS_count_18 (by decide) ?_
    refine lv_icmp_ne (tgt := 29) hx hb d_RS_count_19 (by decide) (fun hc => ?_) (fun hc => ?_)
    · replace hp := x_ifn hc hp
      refine lv_iload_n hx hb d_RS_count_29 rfl (lv_at hl 1 rfl) ?_
      refine lv_iconst (v := 2) hx hb d_RS_count_30 (by decide) ?_
      refine lv_icmp_ne (tgt := 41) hx hb d_RS_count_31 (by decide) (fun hc => ?_) (fun hc => ?_)
      · replace hp := x_ifn hc hp
        refine lv_iload_n hx hb d_RS_count_41 rfl (lv_at hl 1 rfl) ?_
        refine lv_iconst (v := 3) hx hb d_RS_count_42 (by decide) ?_
        refine lv_icmp_ne (tgt := 53) hx hb d_RS_count_43 (by decide) (fun hc => ?_) (fun hc => ?_)
        · replace hp := x_ifn hc hp
          refine lv_aload_n hx hb d_RS_count_53 rfl (lv_at hl 0 rfl) ?_
          refine x_gJ C hH fl_RS_188 d_RS_count_54 hp (fun v2 hp => ?_)
          refine lv_l2i (v := v2.toInt32) hx hb d_RS_count_57 rfl ?_
          exact w_RS_count_58 C hr hnm hRf hRl  v2.toInt32 hp hH (lv_sub hl [] rfl)
        · replace hp := x_ifp hc hp
          refine lv_aload_n hx hb d_RS_count_46 rfl (lv_at hl 0 rfl) ?_
          refine x_gI C hH fl_RS_260 d_RS_count_47 hp (fun v3 hp => ?_)
          refine lv_goto (tgt := 58) hx hb d_RS_count_50 (by decide) ?_
          exact w_RS_count_58 C hr hnm hRf hRl  v3 hp hH (lv_sub hl [] rfl)
      · replace hp := x_ifp hc hp
        refine lv_aload_n hx hb d_RS_count_34 rfl (lv_at hl 0 rfl) ?_
        refine x_gI C hH fl_RS_257 d_RS_count_35 hp (fun v4 hp => ?_)
        refine lv_goto (tgt := 58) hx hb d_RS_count_38 (by decide) ?_
        exact w_RS_count_58 C hr hnm hRf hRl  v4 hp hH (lv_sub hl [] rfl)
    · replace hp := x_ifp hc hp
      refine lv_aload_n hx hb d_RS_count_22 rfl (lv_at hl 0 rfl) ?_
      refine x_gI C hH fl_RS_196 d_RS_count_23 hp (fun v5 hp => ?_)
      refine lv_goto (tgt := 58) hx hb d_RS_count_26 (by decide) ?_
      exact w_RS_count_58 C hr hnm hRf hRl  v5 hp hH (lv_sub hl [] rfl)
  · replace hp := x_ifp hc hp
    refine lv_aload_n hx hb d_RS_count_10 rfl (lv_at hl 0 rfl) ?_
    refine x_gI C hH fl_RS_283 d_RS_count_11 hp (fun v6 hp => ?_)
    refine lv_goto (tgt := 58) hx hb d_RS_count_14 (by decide) ?_
    exact w_RS_count_58 C hr hnm hRf hRl  v6 hp hH (lv_sub hl [] rfl)
set_option maxRecDepth 100000 in
theorem m_RS_count (Z : x_Z l s0 A0 D) {l0 : Nat} {l1 : Int32} {res : (Int32 ⊕ (Nat × Nat)) × xH} (hp : f_RS_count l0 l1 h = some res) : x_M l s0 D y_RS_count (x_cw y_RS_count prog_1_method_37_code 2 (some .int) []) 7 129 [.ref l0, .int l1] h (x_oc vI res.1) res.2 := by
  refine x_M.ofW Z (plainFor_of_name (by decide)) ?_
  intro p e s m below meth c C hnm hr hH
  have hl := lv_entry ([.ref l0, .int l1]) (n := 2) (Nat.le_of_ble_eq_true rfl)
  rw [lg_entry_eq]
  generalize (lg_sl ([.ref l0, .int l1]) ++ List.replicate (2 - (lg_sl ([.ref l0, .int l1])).length) Slot.unset).toArray = ls at hl ⊢
  exact w_RS_count_0 C hr hnm (Nat.le_refl _) (Nat.le_refl _) l0 l1 hp hH hl
/-! ReadSideLaw.count(LReadSide;I[J)I -/
theorem d_law_count_0 : decode method_21_code 0 = .ok (.aload_n 2, 1) := by decide +kernel
theorem d_law_count_1 : decode method_21_code 1 = .ok (.iconst 0, 1) := by decide +kernel
theorem d_law_count_2 : decode method_21_code 2 = .ok (.aload_n 0, 1) := by decide +kernel
theorem d_law_count_3 : decode method_21_code 3 = .ok (.iload_n 1, 1) := by decide +kernel
theorem d_law_count_4 : decode method_21_code 4 = .ok (.invokevirtual 78, 3) := by decide +kernel
theorem d_law_count_7 : decode method_21_code 7 = .ok (.i2l, 1) := by decide +kernel
theorem d_law_count_8 : decode method_21_code 8 = .ok (.lastore, 1) := by decide +kernel
theorem d_law_count_9 : decode method_21_code 9 = .ok (.goto 6, 3) := by decide +kernel
theorem d_law_count_12 : decode method_21_code 12 = .ok (.astore_n 3, 1) := by decide +kernel
theorem d_law_count_13 : decode method_21_code 13 = .ok (.iconst 1, 1) := by decide +kernel
theorem d_law_count_14 : decode method_21_code 14 = .ok (.ireturn, 1) := by decide +kernel
theorem d_law_count_15 : decode method_21_code 15 = .ok (.iconst 0, 1) := by decide +kernel
theorem d_law_count_16 : decode method_21_code 16 = .ok (.ireturn, 1) := by decide +kernel
set_option maxHeartbeats 4000000 in
set_option maxRecDepth 100000 in
theorem w_law_count_0 {res : (Int32 ⊕ (Nat × Nat)) × xH} (C : x_C l s0 A0 D R_law method_21_code 4 [(0, 9, 12, 13)] p s m args meth c) (hr : meth.sig.returnType = (some .int)) (hnm : meth.name = "count") (hRf : 8 ≤ R.frames) (hRl : 158 ≤ R.locals)  (l0 : Nat) (l1 : Int32) (l2 : Nat) (hp : f_law_count l0 l1 l2 h = some res) (hH : x_S s0 D R h H locs cells slots) (hl : lv_has ls 4 [(0, .ref l0), (1, .int l1), (2, .ref l2)]) : W p l e R s m args below meth c H locs cells slots (x_Q s0 D below s R (x_oc vI res.1) res.2) (F0 m 0 ls []) := by
  obtain ⟨hx, hb, hown, hts, hK, hml, hW, Z, -⟩ := id C
  unfold f_law_count at hp
  refine lv_aload_n hx hb d_law_count_0 rfl (lv_at hl 2 rfl) ?_
  refine lv_iconst (v := 0) hx hb d_law_count_1 (by decide) ?_
  refine lv_aload_n hx hb d_law_count_2 rfl (lv_at hl 0 rfl) ?_
  refine lv_iload_n hx hb d_law_count_3 rfl (lv_at hl 1 rfl) ?_
  refine x_callVc (As := [.int l1]) (rest := [.int 0, .ref l2]) (cv := vI) C ct_law hH kc_law_78 d_law_count_4 hp (fun o h' e => m_RS_count Z e) rfl hl.1 (Nat.le_trans (Nat.le_of_ble_eq_true rfl) hRf) (Nat.le_trans (Nat.le_of_ble_eq_true rfl) hRl) (Nat.le_of_ble_eq_true rfl) (fun v1 h H locs cells slots hp hH => ?_) (fun a ci h H locs cells slots hp hH => ?_)
  · refine W.eq (g2 := F0 m 7 ls [.int v1, .int 0, .ref l2]) rfl ?_
    refine lv_i2l (v := v1.toInt64) hx hb d_law_count_7 rfl ?_
    refine x_sJ C hH d_law_count_8 hp (fun h H locs hp hH => ?_)
    refine lv_goto (tgt := 15) hx hb d_law_count_9 (by decide) ?_
    refine lv_iconst (v := 0) hx hb d_law_count_15 (by decide) ?_
    exact x_iret C hH hr d_law_count_16 hp
  · by_cases hc10 : ci = 10
    · replace hp := x_ifp hc10 hp
      subst hc10
      refine ⟨12, rfl, ?_⟩
      refine lv_astore_n (lv' := [(3, .ref a), (0, .ref l0), (1, .int l1), (2, .ref l2)]) hx hb d_law_count_12 rfl hl (by decide) rfl (fun ls hl => ?_)
      refine lv_iconst (v := 1) hx hb d_law_count_13 (by decide) ?_
      exact x_iret C hH hr d_law_count_14 hp
    replace hp := x_ifn hc10 hp
    cases hp
set_option maxRecDepth 100000 in
theorem m_law_count (Z : x_Z l s0 A0 D) {l0 : Nat} {l1 : Int32} {l2 : Nat} {res : (Int32 ⊕ (Nat × Nat)) × xH} (hp : f_law_count l0 l1 l2 h = some res) : x_M l s0 D y_law_count (x_cw y_law_count method_21_code 4 (some .int) [(0, 9, 12, 13)]) 8 158 [.ref l0, .int l1, .ref l2] h (x_oc vI res.1) res.2 := by
  refine x_M.ofW Z (plainFor_of_name (by decide)) ?_
  intro p e s m below meth c C hnm hr hH
  have hl := lv_entry ([.ref l0, .int l1, .ref l2]) (n := 4) (Nat.le_of_ble_eq_true rfl)
  rw [lg_entry_eq]
  generalize (lg_sl ([.ref l0, .int l1, .ref l2]) ++ List.replicate (4 - (lg_sl ([.ref l0, .int l1, .ref l2])).length) Slot.unset).toArray = ls at hl ⊢
  exact w_law_count_0 C hr hnm (Nat.le_refl _) (Nat.le_refl _) l0 l1 l2 hp hH hl
/-! ReadSideModel.<init>(II)V -/
theorem d_Mdl_init_0 : decode prog_11_method_1_code 0 = .ok (.aload_n 0, 1) := by decide +kernel
theorem d_Mdl_init_1 : decode prog_11_method_1_code 1 = .ok (.invokespecial 1, 3) := by decide +kernel
theorem d_Mdl_init_4 : decode prog_11_method_1_code 4 = .ok (.aload_n 0, 1) := by decide +kernel
theorem d_Mdl_init_5 : decode prog_11_method_1_code 5 = .ok (.iconst 3, 1) := by decide +kernel
theorem d_Mdl_init_6 : decode prog_11_method_1_code 6 = .ok (.newarray .int, 2) := by decide +kernel
theorem d_Mdl_init_8 : decode prog_11_method_1_code 8 = .ok (.putfield 7, 3) := by decide +kernel
theorem d_Mdl_init_11 : decode prog_11_method_1_code 11 = .ok (.aload_n 0, 1) := by decide +kernel
theorem d_Mdl_init_12 : decode prog_11_method_1_code 12 = .ok (.iconst 3, 1) := by decide +kernel
theorem d_Mdl_init_13 : decode prog_11_method_1_code 13 = .ok (.newarray .int, 2) := by decide +kernel
theorem d_Mdl_init_15 : decode prog_11_method_1_code 15 = .ok (.putfield 13, 3) := by decide +kernel
theorem d_Mdl_init_18 : decode prog_11_method_1_code 18 = .ok (.aload_n 0, 1) := by decide +kernel
theorem d_Mdl_init_19 : decode prog_11_method_1_code 19 = .ok (.sipush 1203, 3) := by decide +kernel
theorem d_Mdl_init_22 : decode prog_11_method_1_code 22 = .ok (.newarray .int, 2) := by decide +kernel
theorem d_Mdl_init_24 : decode prog_11_method_1_code 24 = .ok (.putfield 16, 3) := by decide +kernel
theorem d_Mdl_init_27 : decode prog_11_method_1_code 27 = .ok (.aload_n 0, 1) := by decide +kernel
theorem d_Mdl_init_28 : decode prog_11_method_1_code 28 = .ok (.sipush 1203, 3) := by decide +kernel
theorem d_Mdl_init_31 : decode prog_11_method_1_code 31 = .ok (.newarray .int, 2) := by decide +kernel
theorem d_Mdl_init_33 : decode prog_11_method_1_code 33 = .ok (.putfield 19, 3) := by decide +kernel
theorem d_Mdl_init_36 : decode prog_11_method_1_code 36 = .ok (.aload_n 0, 1) := by decide +kernel
theorem d_Mdl_init_37 : decode prog_11_method_1_code 37 = .ok (.sipush 1203, 3) := by decide +kernel
theorem d_Mdl_init_40 : decode prog_11_method_1_code 40 = .ok (.newarray .int, 2) := by decide +kernel
theorem d_Mdl_init_42 : decode prog_11_method_1_code 42 = .ok (.putfield 22, 3) := by decide +kernel
theorem d_Mdl_init_45 : decode prog_11_method_1_code 45 = .ok (.aload_n 0, 1) := by decide +kernel
theorem d_Mdl_init_46 : decode prog_11_method_1_code 46 = .ok (.sipush 1203, 3) := by decide +kernel
theorem d_Mdl_init_49 : decode prog_11_method_1_code 49 = .ok (.newarray .int, 2) := by decide +kernel
theorem d_Mdl_init_51 : decode prog_11_method_1_code 51 = .ok (.putfield 25, 3) := by decide +kernel
theorem d_Mdl_init_54 : decode prog_11_method_1_code 54 = .ok (.aload_n 0, 1) := by decide +kernel
theorem d_Mdl_init_55 : decode prog_11_method_1_code 55 = .ok (.sipush 3609, 3) := by decide +kernel
theorem d_Mdl_init_58 : decode prog_11_method_1_code 58 = .ok (.newarray .int, 2) := by decide +kernel
theorem d_Mdl_init_60 : decode prog_11_method_1_code 60 = .ok (.putfield 28, 3) := by decide +kernel
theorem d_Mdl_init_63 : decode prog_11_method_1_code 63 = .ok (.aload_n 0, 1) := by decide +kernel
theorem d_Mdl_init_64 : decode prog_11_method_1_code 64 = .ok (.sipush 240, 3) := by decide +kernel
theorem d_Mdl_init_67 : decode prog_11_method_1_code 67 = .ok (.newarray .int, 2) := by decide +kernel
theorem d_Mdl_init_69 : decode prog_11_method_1_code 69 = .ok (.putfield 31, 3) := by decide +kernel
theorem d_Mdl_init_72 : decode prog_11_method_1_code 72 = .ok (.aload_n 0, 1) := by decide +kernel
theorem d_Mdl_init_73 : decode prog_11_method_1_code 73 = .ok (.sipush 240, 3) := by decide +kernel
theorem d_Mdl_init_76 : decode prog_11_method_1_code 76 = .ok (.newarray .int, 2) := by decide +kernel
theorem d_Mdl_init_78 : decode prog_11_method_1_code 78 = .ok (.putfield 34, 3) := by decide +kernel
theorem d_Mdl_init_81 : decode prog_11_method_1_code 81 = .ok (.aload_n 0, 1) := by decide +kernel
theorem d_Mdl_init_82 : decode prog_11_method_1_code 82 = .ok (.sipush 240, 3) := by decide +kernel
theorem d_Mdl_init_85 : decode prog_11_method_1_code 85 = .ok (.newarray .int, 2) := by decide +kernel
theorem d_Mdl_init_87 : decode prog_11_method_1_code 87 = .ok (.putfield 37, 3) := by decide +kernel
theorem d_Mdl_init_90 : decode prog_11_method_1_code 90 = .ok (.aload_n 0, 1) := by decide +kernel
theorem d_Mdl_init_91 : decode prog_11_method_1_code 91 = .ok (.sipush 240, 3) := by decide +kernel
theorem d_Mdl_init_94 : decode prog_11_method_1_code 94 = .ok (.newarray .int, 2) := by decide +kernel
theorem d_Mdl_init_96 : decode prog_11_method_1_code 96 = .ok (.putfield 40, 3) := by decide +kernel
theorem d_Mdl_init_99 : decode prog_11_method_1_code 99 = .ok (.aload_n 0, 1) := by decide +kernel
theorem d_Mdl_init_100 : decode prog_11_method_1_code 100 = .ok (.sipush 2400, 3) := by decide +kernel
theorem d_Mdl_init_103 : decode prog_11_method_1_code 103 = .ok (.newarray .int, 2) := by decide +kernel
theorem d_Mdl_init_105 : decode prog_11_method_1_code 105 = .ok (.putfield 43, 3) := by decide +kernel
theorem d_Mdl_init_108 : decode prog_11_method_1_code 108 = .ok (.aload_n 0, 1) := by decide +kernel
theorem d_Mdl_init_109 : decode prog_11_method_1_code 109 = .ok (.bipush 80, 2) := by decide +kernel
theorem d_Mdl_init_111 : decode prog_11_method_1_code 111 = .ok (.newarray .long, 2) := by decide +kernel
theorem d_Mdl_init_113 : decode prog_11_method_1_code 113 = .ok (.putfield 46, 3) := by decide +kernel
theorem d_Mdl_init_116 : decode prog_11_method_1_code 116 = .ok (.aload_n 0, 1) := by decide +kernel
theorem d_Mdl_init_117 : decode prog_11_method_1_code 117 = .ok (.bipush 80, 2) := by decide +kernel
theorem d_Mdl_init_119 : decode prog_11_method_1_code 119 = .ok (.newarray .int, 2) := by decide +kernel
theorem d_Mdl_init_121 : decode prog_11_method_1_code 121 = .ok (.putfield 50, 3) := by decide +kernel
theorem d_Mdl_init_124 : decode prog_11_method_1_code 124 = .ok (.aload_n 0, 1) := by decide +kernel
theorem d_Mdl_init_125 : decode prog_11_method_1_code 125 = .ok (.bipush 24, 2) := by decide +kernel
theorem d_Mdl_init_127 : decode prog_11_method_1_code 127 = .ok (.newarray .int, 2) := by decide +kernel
theorem d_Mdl_init_129 : decode prog_11_method_1_code 129 = .ok (.putfield 53, 3) := by decide +kernel
theorem d_Mdl_init_132 : decode prog_11_method_1_code 132 = .ok (.aload_n 0, 1) := by decide +kernel
theorem d_Mdl_init_133 : decode prog_11_method_1_code 133 = .ok (.iconst 4, 1) := by decide +kernel
theorem d_Mdl_init_134 : decode prog_11_method_1_code 134 = .ok (.newarray .int, 2) := by decide +kernel
theorem d_Mdl_init_136 : decode prog_11_method_1_code 136 = .ok (.putfield 56, 3) := by decide +kernel
theorem d_Mdl_init_139 : decode prog_11_method_1_code 139 = .ok (.aload_n 0, 1) := by decide +kernel
theorem d_Mdl_init_140 : decode prog_11_method_1_code 140 = .ok (.iconst 4, 1) := by decide +kernel
theorem d_Mdl_init_141 : decode prog_11_method_1_code 141 = .ok (.newarray .int, 2) := by decide +kernel
theorem d_Mdl_init_143 : decode prog_11_method_1_code 143 = .ok (.putfield 59, 3) := by decide +kernel
theorem d_Mdl_init_146 : decode prog_11_method_1_code 146 = .ok (.aload_n 0, 1) := by decide +kernel
theorem d_Mdl_init_147 : decode prog_11_method_1_code 147 = .ok (.iconst 4, 1) := by decide +kernel
theorem d_Mdl_init_148 : decode prog_11_method_1_code 148 = .ok (.newarray .boolean, 2) := by decide +kernel
theorem d_Mdl_init_150 : decode prog_11_method_1_code 150 = .ok (.putfield 62, 3) := by decide +kernel
theorem d_Mdl_init_153 : decode prog_11_method_1_code 153 = .ok (.aload_n 0, 1) := by decide +kernel
theorem d_Mdl_init_154 : decode prog_11_method_1_code 154 = .ok (.bipush 8, 2) := by decide +kernel
theorem d_Mdl_init_156 : decode prog_11_method_1_code 156 = .ok (.newarray .int, 2) := by decide +kernel
theorem d_Mdl_init_158 : decode prog_11_method_1_code 158 = .ok (.putfield 66, 3) := by decide +kernel
theorem d_Mdl_init_161 : decode prog_11_method_1_code 161 = .ok (.aload_n 0, 1) := by decide +kernel
theorem d_Mdl_init_162 : decode prog_11_method_1_code 162 = .ok (.bipush 8, 2) := by decide +kernel
theorem d_Mdl_init_164 : decode prog_11_method_1_code 164 = .ok (.newarray .int, 2) := by decide +kernel
theorem d_Mdl_init_166 : decode prog_11_method_1_code 166 = .ok (.putfield 69, 3) := by decide +kernel
theorem d_Mdl_init_169 : decode prog_11_method_1_code 169 = .ok (.aload_n 0, 1) := by decide +kernel
theorem d_Mdl_init_170 : decode prog_11_method_1_code 170 = .ok (.bipush 24, 2) := by decide +kernel
theorem d_Mdl_init_172 : decode prog_11_method_1_code 172 = .ok (.newarray .int, 2) := by decide +kernel
theorem d_Mdl_init_174 : decode prog_11_method_1_code 174 = .ok (.putfield 72, 3) := by decide +kernel
theorem d_Mdl_init_177 : decode prog_11_method_1_code 177 = .ok (.aload_n 0, 1) := by decide +kernel
theorem d_Mdl_init_178 : decode prog_11_method_1_code 178 = .ok (.bipush 24, 2) := by decide +kernel
theorem d_Mdl_init_180 : decode prog_11_method_1_code 180 = .ok (.newarray .int, 2) := by decide +kernel
theorem d_Mdl_init_182 : decode prog_11_method_1_code 182 = .ok (.putfield 75, 3) := by decide +kernel
theorem d_Mdl_init_185 : decode prog_11_method_1_code 185 = .ok (.aload_n 0, 1) := by decide +kernel
theorem d_Mdl_init_186 : decode prog_11_method_1_code 186 = .ok (.sipush 500, 3) := by decide +kernel
theorem d_Mdl_init_189 : decode prog_11_method_1_code 189 = .ok (.newarray .int, 2) := by decide +kernel
theorem d_Mdl_init_191 : decode prog_11_method_1_code 191 = .ok (.putfield 78, 3) := by decide +kernel
theorem d_Mdl_init_194 : decode prog_11_method_1_code 194 = .ok (.aload_n 0, 1) := by decide +kernel
theorem d_Mdl_init_195 : decode prog_11_method_1_code 195 = .ok (.sipush 500, 3) := by decide +kernel
theorem d_Mdl_init_198 : decode prog_11_method_1_code 198 = .ok (.newarray .int, 2) := by decide +kernel
theorem d_Mdl_init_200 : decode prog_11_method_1_code 200 = .ok (.putfield 81, 3) := by decide +kernel
theorem d_Mdl_init_203 : decode prog_11_method_1_code 203 = .ok (.aload_n 0, 1) := by decide +kernel
theorem d_Mdl_init_204 : decode prog_11_method_1_code 204 = .ok (.sipush 1500, 3) := by decide +kernel
theorem d_Mdl_init_207 : decode prog_11_method_1_code 207 = .ok (.newarray .int, 2) := by decide +kernel
theorem d_Mdl_init_209 : decode prog_11_method_1_code 209 = .ok (.putfield 84, 3) := by decide +kernel
theorem d_Mdl_init_212 : decode prog_11_method_1_code 212 = .ok (.aload_n 0, 1) := by decide +kernel
theorem d_Mdl_init_213 : decode prog_11_method_1_code 213 = .ok (.sipush 500, 3) := by decide +kernel
theorem d_Mdl_init_216 : decode prog_11_method_1_code 216 = .ok (.newarray .int, 2) := by decide +kernel
theorem d_Mdl_init_218 : decode prog_11_method_1_code 218 = .ok (.putfield 87, 3) := by decide +kernel
theorem d_Mdl_init_221 : decode prog_11_method_1_code 221 = .ok (.aload_n 0, 1) := by decide +kernel
theorem d_Mdl_init_222 : decode prog_11_method_1_code 222 = .ok (.sipush 500, 3) := by decide +kernel
theorem d_Mdl_init_225 : decode prog_11_method_1_code 225 = .ok (.newarray .int, 2) := by decide +kernel
theorem d_Mdl_init_227 : decode prog_11_method_1_code 227 = .ok (.putfield 90, 3) := by decide +kernel
theorem d_Mdl_init_230 : decode prog_11_method_1_code 230 = .ok (.aload_n 0, 1) := by decide +kernel
theorem d_Mdl_init_231 : decode prog_11_method_1_code 231 = .ok (.sipush 500, 3) := by decide +kernel
theorem d_Mdl_init_234 : decode prog_11_method_1_code 234 = .ok (.newarray .int, 2) := by decide +kernel
theorem d_Mdl_init_236 : decode prog_11_method_1_code 236 = .ok (.putfield 93, 3) := by decide +kernel
theorem d_Mdl_init_239 : decode prog_11_method_1_code 239 = .ok (.aload_n 0, 1) := by decide +kernel
theorem d_Mdl_init_240 : decode prog_11_method_1_code 240 = .ok (.sipush 500, 3) := by decide +kernel
theorem d_Mdl_init_243 : decode prog_11_method_1_code 243 = .ok (.newarray .int, 2) := by decide +kernel
theorem d_Mdl_init_245 : decode prog_11_method_1_code 245 = .ok (.putfield 96, 3) := by decide +kernel
theorem d_Mdl_init_248 : decode prog_11_method_1_code 248 = .ok (.aload_n 0, 1) := by decide +kernel
theorem d_Mdl_init_249 : decode prog_11_method_1_code 249 = .ok (.sipush 500, 3) := by decide +kernel
theorem d_Mdl_init_252 : decode prog_11_method_1_code 252 = .ok (.newarray .int, 2) := by decide +kernel
theorem d_Mdl_init_254 : decode prog_11_method_1_code 254 = .ok (.putfield 99, 3) := by decide +kernel
theorem d_Mdl_init_257 : decode prog_11_method_1_code 257 = .ok (.aload_n 0, 1) := by decide +kernel
theorem d_Mdl_init_258 : decode prog_11_method_1_code 258 = .ok (.sipush 500, 3) := by decide +kernel
theorem d_Mdl_init_261 : decode prog_11_method_1_code 261 = .ok (.newarray .int, 2) := by decide +kernel
theorem d_Mdl_init_263 : decode prog_11_method_1_code 263 = .ok (.putfield 102, 3) := by decide +kernel
theorem d_Mdl_init_266 : decode prog_11_method_1_code 266 = .ok (.aload_n 0, 1) := by decide +kernel
theorem d_Mdl_init_267 : decode prog_11_method_1_code 267 = .ok (.sipush 500, 3) := by decide +kernel
theorem d_Mdl_init_270 : decode prog_11_method_1_code 270 = .ok (.newarray .long, 2) := by decide +kernel
theorem d_Mdl_init_272 : decode prog_11_method_1_code 272 = .ok (.putfield 105, 3) := by decide +kernel
theorem d_Mdl_init_275 : decode prog_11_method_1_code 275 = .ok (.aload_n 0, 1) := by decide +kernel
theorem d_Mdl_init_276 : decode prog_11_method_1_code 276 = .ok (.sipush 500, 3) := by decide +kernel
theorem d_Mdl_init_279 : decode prog_11_method_1_code 279 = .ok (.newarray .long, 2) := by decide +kernel
theorem d_Mdl_init_281 : decode prog_11_method_1_code 281 = .ok (.putfield 108, 3) := by decide +kernel
theorem d_Mdl_init_284 : decode prog_11_method_1_code 284 = .ok (.aload_n 0, 1) := by decide +kernel
theorem d_Mdl_init_285 : decode prog_11_method_1_code 285 = .ok (.sipush 500, 3) := by decide +kernel
theorem d_Mdl_init_288 : decode prog_11_method_1_code 288 = .ok (.newarray .int, 2) := by decide +kernel
theorem d_Mdl_init_290 : decode prog_11_method_1_code 290 = .ok (.putfield 111, 3) := by decide +kernel
theorem d_Mdl_init_293 : decode prog_11_method_1_code 293 = .ok (.aload_n 0, 1) := by decide +kernel
theorem d_Mdl_init_294 : decode prog_11_method_1_code 294 = .ok (.iload_n 1, 1) := by decide +kernel
theorem d_Mdl_init_295 : decode prog_11_method_1_code 295 = .ok (.iconst 1, 1) := by decide +kernel
theorem d_Mdl_init_296 : decode prog_11_method_1_code 296 = .ok (.if_icmp .lt 12, 3) := by decide +kernel
theorem d_Mdl_init_299 : decode prog_11_method_1_code 299 = .ok (.iload_n 1, 1) := by decide +kernel
theorem d_Mdl_init_300 : decode prog_11_method_1_code 300 = .ok (.iconst 3, 1) := by decide +kernel
theorem d_Mdl_init_301 : decode prog_11_method_1_code 301 = .ok (.if_icmp .gt 7, 3) := by decide +kernel
theorem d_Mdl_init_304 : decode prog_11_method_1_code 304 = .ok (.iload_n 1, 1) := by decide +kernel
theorem d_Mdl_init_305 : decode prog_11_method_1_code 305 = .ok (.goto 4, 3) := by decide +kernel
theorem d_Mdl_init_308 : decode prog_11_method_1_code 308 = .ok (.iconst 2, 1) := by decide +kernel
theorem d_Mdl_init_309 : decode prog_11_method_1_code 309 = .ok (.putfield 114, 3) := by decide +kernel
theorem d_Mdl_init_312 : decode prog_11_method_1_code 312 = .ok (.aload_n 0, 1) := by decide +kernel
theorem d_Mdl_init_313 : decode prog_11_method_1_code 313 = .ok (.iload_n 2, 1) := by decide +kernel
theorem d_Mdl_init_314 : decode prog_11_method_1_code 314 = .ok (.iconst 1, 1) := by decide +kernel
theorem d_Mdl_init_315 : decode prog_11_method_1_code 315 = .ok (.if_icmp .lt 12, 3) := by decide +kernel
theorem d_Mdl_init_318 : decode prog_11_method_1_code 318 = .ok (.iload_n 2, 1) := by decide +kernel
theorem d_Mdl_init_319 : decode prog_11_method_1_code 319 = .ok (.iconst 4, 1) := by decide +kernel
theorem d_Mdl_init_320 : decode prog_11_method_1_code 320 = .ok (.if_icmp .gt 7, 3) := by decide +kernel
theorem d_Mdl_init_323 : decode prog_11_method_1_code 323 = .ok (.iload_n 2, 1) := by decide +kernel
theorem d_Mdl_init_324 : decode prog_11_method_1_code 324 = .ok (.goto 4, 3) := by decide +kernel
theorem d_Mdl_init_327 : decode prog_11_method_1_code 327 = .ok (.iconst 2, 1) := by decide +kernel
theorem d_Mdl_init_328 : decode prog_11_method_1_code 328 = .ok (.putfield 118, 3) := by decide +kernel
theorem d_Mdl_init_331 : decode prog_11_method_1_code 331 = .ok (.iconst 0, 1) := by decide +kernel
theorem d_Mdl_init_332 : decode prog_11_method_1_code 332 = .ok (.istore_n 3, 1) := by decide +kernel
theorem d_Mdl_init_333 : decode prog_11_method_1_code 333 = .ok (.iload_n 3, 1) := by decide +kernel
theorem d_Mdl_init_334 : decode prog_11_method_1_code 334 = .ok (.aload_n 0, 1) := by decide +kernel
theorem d_Mdl_init_335 : decode prog_11_method_1_code 335 = .ok (.getfield 118, 3) := by decide +kernel
theorem d_Mdl_init_338 : decode prog_11_method_1_code 338 = .ok (.if_icmp .ge 16, 3) := by decide +kernel
theorem d_Mdl_init_341 : decode prog_11_method_1_code 341 = .ok (.aload_n 0, 1) := by decide +kernel
theorem d_Mdl_init_342 : decode prog_11_method_1_code 342 = .ok (.getfield 62, 3) := by decide +kernel
theorem d_Mdl_init_345 : decode prog_11_method_1_code 345 = .ok (.iload_n 3, 1) := by decide +kernel
theorem d_Mdl_init_346 : decode prog_11_method_1_code 346 = .ok (.iconst 1, 1) := by decide +kernel
theorem d_Mdl_init_347 : decode prog_11_method_1_code 347 = .ok (.bastore, 1) := by decide +kernel
theorem d_Mdl_init_348 : decode prog_11_method_1_code 348 = .ok (.iinc 3 1, 3) := by decide +kernel
theorem d_Mdl_init_351 : decode prog_11_method_1_code 351 = .ok (.goto (-18), 3) := by decide +kernel
theorem d_Mdl_init_354 : decode prog_11_method_1_code 354 = .ok (.iconst 0, 1) := by decide +kernel
theorem d_Mdl_init_355 : decode prog_11_method_1_code 355 = .ok (.istore_n 3, 1) := by decide +kernel
theorem d_Mdl_init_356 : decode prog_11_method_1_code 356 = .ok (.iload_n 3, 1) := by decide +kernel
theorem d_Mdl_init_357 : decode prog_11_method_1_code 357 = .ok (.sipush 240, 3) := by decide +kernel
theorem d_Mdl_init_360 : decode prog_11_method_1_code 360 = .ok (.if_icmp .ge 16, 3) := by decide +kernel
theorem d_Mdl_init_363 : decode prog_11_method_1_code 363 = .ok (.aload_n 0, 1) := by decide +kernel
theorem d_Mdl_init_364 : decode prog_11_method_1_code 364 = .ok (.getfield 40, 3) := by decide +kernel
theorem d_Mdl_init_367 : decode prog_11_method_1_code 367 = .ok (.iload_n 3, 1) := by decide +kernel
theorem d_Mdl_init_368 : decode prog_11_method_1_code 368 = .ok (.iconst 1, 1) := by decide +kernel
theorem d_Mdl_init_369 : decode prog_11_method_1_code 369 = .ok (.iastore, 1) := by decide +kernel
theorem d_Mdl_init_370 : decode prog_11_method_1_code 370 = .ok (.iinc 3 1, 3) := by decide +kernel
theorem d_Mdl_init_373 : decode prog_11_method_1_code 373 = .ok (.goto (-17), 3) := by decide +kernel
theorem d_Mdl_init_376 : decode prog_11_method_1_code 376 = .ok (.return_, 1) := by decide +kernel
set_option maxHeartbeats 4000000 in
set_option maxRecDepth 100000 in
theorem w_Mdl_init_356 {res : (Unit ⊕ (Nat × Nat)) × xH} (C : x_C l s0 A0 D R_Mdl prog_11_method_1_code 4 [] p s m args meth c) (hr : meth.sig.returnType = none) (hnm : meth.name = "<init>") (hRf : 1 ≤ R.frames) (hRl : 40 ≤ R.locals) {k356 : Nat → Int32 → xM Unit} (hs356 : ∀ (l0 : Nat) (l3 : Int32) (h : xH) (H : Heap) (locs : List Loc) (cells slots : Nat) (ls : Array Slot), k356 l0 l3 h = some res → x_S s0 D R h H locs cells slots → lv_has ls 4 [(0, .ref l0), (3, .int l3)] → W p l e R s m args below meth c H locs cells slots (x_Q s0 D below s R (x_oc vU res.1) res.2) (F0 m 356 ls [])) (l0 : Nat) (l3 : Int32) (hp : f_Mdl_init_b356 k356 l0 l3 h = some res) (hH : x_S s0 D R h H locs cells slots) (hl : lv_has ls 4 [(0, .ref l0), (3, .int l3)]) : W p l e R s m args below meth c H locs cells slots (x_Q s0 D below s R (x_oc vU res.1) res.2) (F0 m 356 ls []) := by
  obtain ⟨hx, hb, hown, hts, hK, hml, hW, Z, -⟩ := id C
  unfold f_Mdl_init_b356 at hp
  refine lv_iload_n hx hb d_Mdl_init_356 rfl (lv_at hl 1 rfl) ?_
  refine lv_sipush (v := 240) hx hb d_Mdl_init_357 (by decide) ?_
  refine lv_icmp_ge (tgt := 376) hx hb d_Mdl_init_360 (by decide) (fun hc => ?_) (fun hc => ?_)
  · replace hp := x_ifp hc hp
    exact x_vret C hH hr d_Mdl_init_376 hp
  · replace hp := x_ifn hc hp
    refine lv_aload_n hx hb d_Mdl_init_363 rfl (lv_at hl 0 rfl) ?_
    refine x_gA C hH fl_Mdl_40 d_Mdl_init_364 hp (fun v1 hp => ?_)
    refine lv_iload_n hx hb d_Mdl_init_367 rfl (lv_at hl 1 rfl) ?_
    refine lv_iconst (v := 1) hx hb d_Mdl_init_368 (by decide) ?_
    refine x_sI C hH d_Mdl_init_369 hp (fun h H locs hp hH => ?_)
    refine lv_iinc (v := (l3 + 1)) (lv' := [(3, .int (l3 + 1)), (0, .ref l0)]) hx hb d_Mdl_init_370 hl (k := 1) rfl rfl (by decide) rfl (fun ls hl => ?_)
    refine lv_goto (tgt := 356) hx hb d_Mdl_init_373 (by decide) ?_
    exact hs356 l0 (l3 + 1) _ _ _ _ _ _ hp hH (lv_sub hl [1, 0] rfl)
theorem w_Mdl_init_h356 {res : (Unit ⊕ (Nat × Nat)) × xH} (C : x_C l s0 A0 D R_Mdl prog_11_method_1_code 4 [] p s m args meth c) (hr : meth.sig.returnType = none) (hnm : meth.name = "<init>") (hRf : 1 ≤ R.frames) (hRl : 40 ≤ R.locals)  : ∀ (n : Nat) (l0 : Nat) (l3 : Int32) (h : xH) (H : Heap) (locs : List Loc) (cells slots : Nat) (ls : Array Slot), f_Mdl_init_h356 n l0 l3 h = some res → x_S s0 D R h H locs cells slots → lv_has ls 4 [(0, .ref l0), (3, .int l3)] → W p l e R s m args below meth c H locs cells slots (x_Q s0 D below s R (x_oc vU res.1) res.2) (F0 m 356 ls []) := by
  intro n
  induction n with
  | zero => intro l0 l3 h H locs cells slots ls hp hH hl; cases hp
  | succ n ih => intro l0 l3 h H locs cells slots ls hp hH hl; exact w_Mdl_init_356 C hr hnm hRf hRl ih l0 l3 hp hH hl
set_option maxHeartbeats 4000000 in
set_option maxRecDepth 100000 in
theorem w_Mdl_init_333 {res : (Unit ⊕ (Nat × Nat)) × xH} (C : x_C l s0 A0 D R_Mdl prog_11_method_1_code 4 [] p s m args meth c) (hr : meth.sig.returnType = none) (hnm : meth.name = "<init>") (hRf : 1 ≤ R.frames) (hRl : 40 ≤ R.locals) {k333 : Nat → Int32 → xM Unit} (hs333 : ∀ (l0 : Nat) (l3 : Int32) (h : xH) (H : Heap) (locs : List Loc) (cells slots : Nat) (ls : Array Slot), k333 l0 l3 h = some res → x_S s0 D R h H locs cells slots → lv_has ls 4 [(0, .ref l0), (3, .int l3)] → W p l e R s m args below meth c H locs cells slots (x_Q s0 D below s R (x_oc vU res.1) res.2) (F0 m 333 ls [])) (l0 : Nat) (l3 : Int32) (hp : f_Mdl_init_b333 k333 l0 l3 h = some res) (hH : x_S s0 D R h H locs cells slots) (hl : lv_has ls 4 [(0, .ref l0), (3, .int l3)]) : W p l e R s m args below meth c H locs cells slots (x_Q s0 D below s R (x_oc vU res.1) res.2) (F0 m 333 ls []) := by
  obtain ⟨hx, hb, hown, hts, hK, hml, hW, Z, -⟩ := id C
  unfold f_Mdl_init_b333 at hp
  refine lv_iload_n hx hb d_Mdl_init_333 rfl (lv_at hl 1 rfl) ?_
  refine lv_aload_n hx hb d_Mdl_init_334 rfl (lv_at hl 0 rfl) ?_
  refine x_gI C hH fl_Mdl_118 d_Mdl_init_335 hp (fun v1 hp => ?_)
  refine lv_icmp_ge (tgt := 354) hx hb d_Mdl_init_338 (by decide) (fun hc => ?_) (fun hc => ?_)
  · replace hp := x_ifp hc hp
    refine lv_iconst (v := 0) hx hb d_Mdl_init_354 (by decide) ?_
    refine lv_istore_n (lv' := [(3, .int 0), (0, .ref l0)]) hx hb d_Mdl_init_355 rfl hl (by decide) rfl (fun ls hl => ?_)
    exact w_Mdl_init_h356 C hr hnm hRf hRl  1000 l0 0 _ _ _ _ _ _ hp hH (lv_sub hl [1, 0] rfl)
  · replace hp := x_ifn hc hp
    refine lv_aload_n hx hb d_Mdl_init_341 rfl (lv_at hl 0 rfl) ?_
    refine x_gA C hH fl_Mdl_62 d_Mdl_init_342 hp (fun v2 hp => ?_)
    refine lv_iload_n hx hb d_Mdl_init_345 rfl (lv_at hl 1 rfl) ?_
    refine lv_iconst (v := 1) hx hb d_Mdl_init_346 (by decide) ?_
    refine x_sZ C hH d_Mdl_init_347 hp (fun h H locs hp hH => ?_)
    refine lv_iinc (v := (l3 + 1)) (lv' := [(3, .int (l3 + 1)), (0, .ref l0)]) hx hb d_Mdl_init_348 hl (k := 1) rfl rfl (by decide) rfl (fun ls hl => ?_)
    refine lv_goto (tgt := 333) hx hb d_Mdl_init_351 (by decide) ?_
    exact hs333 l0 (l3 + 1) _ _ _ _ _ _ hp hH (lv_sub hl [1, 0] rfl)
theorem w_Mdl_init_h333 {res : (Unit ⊕ (Nat × Nat)) × xH} (C : x_C l s0 A0 D R_Mdl prog_11_method_1_code 4 [] p s m args meth c) (hr : meth.sig.returnType = none) (hnm : meth.name = "<init>") (hRf : 1 ≤ R.frames) (hRl : 40 ≤ R.locals)  : ∀ (n : Nat) (l0 : Nat) (l3 : Int32) (h : xH) (H : Heap) (locs : List Loc) (cells slots : Nat) (ls : Array Slot), f_Mdl_init_h333 n l0 l3 h = some res → x_S s0 D R h H locs cells slots → lv_has ls 4 [(0, .ref l0), (3, .int l3)] → W p l e R s m args below meth c H locs cells slots (x_Q s0 D below s R (x_oc vU res.1) res.2) (F0 m 333 ls []) := by
  intro n
  induction n with
  | zero => intro l0 l3 h H locs cells slots ls hp hH hl; cases hp
  | succ n ih => intro l0 l3 h H locs cells slots ls hp hH hl; exact w_Mdl_init_333 C hr hnm hRf hRl ih l0 l3 hp hH hl
set_option maxHeartbeats 4000000 in
set_option maxRecDepth 100000 in
theorem w_Mdl_init_328 {res : (Unit ⊕ (Nat × Nat)) × xH} (C : x_C l s0 A0 D R_Mdl prog_11_method_1_code 4 [] p s m args meth c) (hr : meth.sig.returnType = none) (hnm : meth.name = "<init>") (hRf : 1 ≤ R.frames) (hRl : 40 ≤ R.locals)  (l0 : Nat) (t0 : Int32) (t1 : Nat) (hp : f_Mdl_init_b328 l0 t0 t1 h = some res) (hH : x_S s0 D R h H locs cells slots) (hl : lv_has ls 4 [(0, .ref l0)]) : W p l e R s m args below meth c H locs cells slots (x_Q s0 D below s R (x_oc vU res.1) res.2) (F0 m 328 ls [.int t0, .ref t1]) := by
  obtain ⟨hx, hb, hown, hts, hK, hml, hW, Z, -⟩ := id C
  unfold f_Mdl_init_b328 at hp
  refine x_pV C hH fp_Mdl_118 (fun _ => hnm) d_Mdl_init_328 rfl rfl hp (fun h H locs hp hH => ?_)
  refine lv_iconst (v := 0) hx hb d_Mdl_init_331 (by decide) ?_
  refine lv_istore_n (lv' := [(3, .int 0), (0, .ref l0)]) hx hb d_Mdl_init_332 rfl hl (by decide) rfl (fun ls hl => ?_)
  exact w_Mdl_init_h333 C hr hnm hRf hRl  1000 l0 0 _ _ _ _ _ _ hp hH (lv_sub hl [1, 0] rfl)
set_option maxHeartbeats 4000000 in
set_option maxRecDepth 100000 in
theorem w_Mdl_init_327 {res : (Unit ⊕ (Nat × Nat)) × xH} (C : x_C l s0 A0 D R_Mdl prog_11_method_1_code 4 [] p s m args meth c) (hr : meth.sig.returnType = none) (hnm : meth.name = "<init>") (hRf : 1 ≤ R.frames) (hRl : 40 ≤ R.locals)  (l0 : Nat) (t0 : Nat) (hp : f_Mdl_init_b327 l0 t0 h = some res) (hH : x_S s0 D R h H locs cells slots) (hl : lv_has ls 4 [(0, .ref l0)]) : W p l e R s m args below meth c H locs cells slots (x_Q s0 D below s R (x_oc vU res.1) res.2) (F0 m 327 ls [.ref t0]) := by
  obtain ⟨hx, hb, hown, hts, hK, hml, hW, Z, -⟩ := id C
  unfold f_Mdl_init_b327 at hp
  refine lv_iconst (v := 2) hx hb d_Mdl_init_327 (by decide) ?_
  exact w_Mdl_init_328 C hr hnm hRf hRl  l0 2 t0 hp hH (lv_sub hl [0] rfl)
set_option maxHeartbeats 4000000 in
set_option maxRecDepth 100000 in
theorem w_Mdl_init_309 {res : (Unit ⊕ (Nat × Nat)) × xH} (C : x_C l s0 A0 D R_Mdl prog_11_method_1_code 4 [] p s m args meth c) (hr : meth.sig.returnType = none) (hnm : meth.name = "<init>") (hRf : 1 ≤ R.frames) (hRl : 40 ≤ R.locals)  (l0 : Nat) (l2 : Int32) (t0 : Int32) (t1 : Nat) (hp : f_Mdl_init_b309 l0 l2 t0 t1 h = some res) (hH : x_S s0 D R h H locs cells slots) (hl : lv_has ls 4 [(0, .ref l0), (2, .int l2)]) : W p l e R s m args below meth c H locs cells slots (x_Q s0 D below s R (x_oc vU res.1) res.2) (F0 m 309 ls [.int t0, .ref t1]) := by
  obtain ⟨hx, hb, hown, hts, hK, hml, hW, Z, -⟩ := id C
  unfold f_Mdl_init_b309 at hp
  refine x_pV C hH fp_Mdl_114 (fun _ => hnm) d_Mdl_init_309 rfl rfl hp (fun h H locs hp hH => ?_)
  refine lv_aload_n hx hb d_Mdl_init_312 rfl (lv_at hl 0 rfl) ?_
  refine lv_iload_n hx hb d_Mdl_init_313 rfl (lv_at hl 1 rfl) ?_
  refine lv_iconst (v := 1) hx hb d_Mdl_init_314 (by decide) ?_
  refine lv_icmp_lt (tgt := 327) hx hb d_Mdl_init_315 (by decide) (fun hc => ?_) (fun hc => ?_)
  · replace hp := x_ifp hc hp
    exact w_Mdl_init_327 C hr hnm hRf hRl  l0 l0 hp hH (lv_sub hl [0] rfl)
  · replace hp := x_ifn hc hp
    refine lv_iload_n hx hb d_Mdl_init_318 rfl (lv_at hl 1 rfl) ?_
    refine lv_iconst (v := 4) hx hb d_Mdl_init_319 (by decide) ?_
    refine lv_icmp_gt (tgt := 327) hx hb d_Mdl_init_320 (by decide) (fun hc => ?_) (fun hc => ?_)
    · replace hp := x_ifp hc hp
      exact w_Mdl_init_327 C hr hnm hRf hRl  l0 l0 hp hH (lv_sub hl [0] rfl)
    · replace hp := x_ifn hc hp
      refine lv_iload_n hx hb d_Mdl_init_323 rfl (lv_at hl 1 rfl) ?_
      refine lv_goto (tgt := 328) hx hb d_Mdl_init_324 (by decide) ?_
      exact w_Mdl_init_328 C hr hnm hRf hRl  l0 l2 l0 hp hH (lv_sub hl [0] rfl)
set_option maxHeartbeats 4000000 in
set_option maxRecDepth 100000 in
theorem w_Mdl_init_308 {res : (Unit ⊕ (Nat × Nat)) × xH} (C : x_C l s0 A0 D R_Mdl prog_11_method_1_code 4 [] p s m args meth c) (hr : meth.sig.returnType = none) (hnm : meth.name = "<init>") (hRf : 1 ≤ R.frames) (hRl : 40 ≤ R.locals)  (l0 : Nat) (l2 : Int32) (t0 : Nat) (hp : f_Mdl_init_b308 l0 l2 t0 h = some res) (hH : x_S s0 D R h H locs cells slots) (hl : lv_has ls 4 [(0, .ref l0), (2, .int l2)]) : W p l e R s m args below meth c H locs cells slots (x_Q s0 D below s R (x_oc vU res.1) res.2) (F0 m 308 ls [.ref t0]) := by
  obtain ⟨hx, hb, hown, hts, hK, hml, hW, Z, -⟩ := id C
  unfold f_Mdl_init_b308 at hp
  refine lv_iconst (v := 2) hx hb d_Mdl_init_308 (by decide) ?_
  exact w_Mdl_init_309 C hr hnm hRf hRl  l0 l2 2 t0 hp hH (lv_sub hl [0, 1] rfl)
set_option maxHeartbeats 4000000 in
set_option maxRecDepth 100000 in
theorem w_Mdl_init_0 {res : (Unit ⊕ (Nat × Nat)) × xH} (C : x_C l s0 A0 D R_Mdl prog_11_method_1_code 4 [] p s m args meth c) (hr : meth.sig.returnType = none) (hnm : meth.name = "<init>") (hRf : 1 ≤ R.frames) (hRl : 40 ≤ R.locals)  (l0 : Nat) (l1 : Int32) (l2 : Int32) (hp : f_Mdl_init l0 l1 l2 h = some res) (hH : x_S s0 D R h H locs cells slots) (hl : lv_has ls 4 [(0, .ref l0), (1, .int l1), (2, .int l2)]) : W p l e R s m args below meth c H locs cells slots (x_Q s0 D below s R (x_oc vU res.1) res.2) (F0 m 0 ls []) := by
  obtain ⟨hx, hb, hown, hts, hK, hml, hW, Z, -⟩ := id C
  unfold f_Mdl_init at hp
  refine lv_aload_n hx hb d_Mdl_init_0 rfl (lv_at hl 0 rfl) ?_
  refine W.objInit hx hb hown (hts _ oi_Mdl_1) (hts _ k_27) (hts _ k_28) rfl (by rw [hml]; exact hl.1) rfl d_Mdl_init_1 (Nat.le_trans (Nat.le_of_ble_eq_true rfl) hRf) (Nat.le_trans (Nat.le_of_ble_eq_true rfl) hRl) ?_
  refine W.eq (g2 := F0 m 4 ls []) rfl ?_
  refine lv_aload_n hx hb d_Mdl_init_4 rfl (lv_at hl 0 rfl) ?_
  refine lv_iconst (v := 3) hx hb d_Mdl_init_5 (by decide) ?_
  refine x_nAI C hH k_57 d_Mdl_init_6 hp (fun a1 h H cells slots hp hH => ?_)
  refine x_pV C hH fp_Mdl_7 (fun _ => hnm) d_Mdl_init_8 rfl rfl hp (fun h H locs hp hH => ?_)
  refine lv_aload_n hx hb d_Mdl_init_11 rfl (lv_at hl 0 rfl) ?_
  refine lv_iconst (v := 3) hx hb d_Mdl_init_12 (by decide) ?_
  refine x_nAI C hH k_57 d_Mdl_init_13 hp (fun a2 h H cells slots hp hH => ?_)
  refine x_pV C hH fp_Mdl_13 (fun _ => hnm) d_Mdl_init_15 rfl rfl hp (fun h H locs hp hH => ?_)
  refine lv_aload_n hx hb d_Mdl_init_18 rfl (lv_at hl 0 rfl) ?_
  refine lv_sipush (v := 1203) hx hb d_Mdl_init_19 (by decide) ?_
  refine x_nAI C hH k_57 d_Mdl_init_22 hp (fun a3 h H cells slots hp hH => ?_)
  refine x_pV C hH fp_Mdl_16 (fun _ => hnm) d_Mdl_init_24 rfl rfl hp (fun h H locs hp hH => ?_)
  refine lv_aload_n hx hb d_Mdl_init_27 rfl (lv_at hl 0 rfl) ?_
  refine lv_sipush (v := 1203) hx hb d_Mdl_init_28 (by decide) ?_
  refine x_nAI C hH k_57 d_Mdl_init_31 hp (fun a4 h H cells slots hp hH => ?_)
  refine x_pV C hH fp_Mdl_19 (fun _ => hnm) d_Mdl_init_33 rfl rfl hp (fun h H locs hp hH => ?_)
  refine lv_aload_n hx hb d_Mdl_init_36 rfl (lv_at hl 0 rfl) ?_
  refine lv_sipush (v := 1203) hx hb d_Mdl_init_37 (by decide) ?_
  refine x_nAI C hH k_57 d_Mdl_init_40 hp (fun a5 h H cells slots hp hH => ?_)
  refine x_pV C hH fp_Mdl_22 (fun _ => hnm) d_Mdl_init_42 rfl rfl hp (fun h H locs hp hH => ?_)
  refine lv_aload_n hx hb d_Mdl_init_45 rfl (lv_at hl 0 rfl) ?_
  refine lv_sipush (v := 1203) hx hb d_Mdl_init_46 (by decide) ?_
  refine x_nAI C hH k_57 d_Mdl_init_49 hp (fun a6 h H cells slots hp hH => ?_)
  refine x_pV C hH fp_Mdl_25 (fun _ => hnm) d_Mdl_init_51 rfl rfl hp (fun h H locs hp hH => ?_)
  refine lv_aload_n hx hb d_Mdl_init_54 rfl (lv_at hl 0 rfl) ?_
  refine lv_sipush (v := 3609) hx hb d_Mdl_init_55 (by decide) ?_
  refine x_nAI C hH k_57 d_Mdl_init_58 hp (fun a7 h H cells slots hp hH => ?_)
  refine x_pV C hH fp_Mdl_28 (fun _ => hnm) d_Mdl_init_60 rfl rfl hp (fun h H locs hp hH => ?_)
  refine lv_aload_n hx hb d_Mdl_init_63 rfl (lv_at hl 0 rfl) ?_
  refine lv_sipush (v := 240) hx hb d_Mdl_init_64 (by decide) ?_
  refine x_nAI C hH k_57 d_Mdl_init_67 hp (fun a8 h H cells slots hp hH => ?_)
  refine x_pV C hH fp_Mdl_31 (fun _ => hnm) d_Mdl_init_69 rfl rfl hp (fun h H locs hp hH => ?_)
  refine lv_aload_n hx hb d_Mdl_init_72 rfl (lv_at hl 0 rfl) ?_
  refine lv_sipush (v := 240) hx hb d_Mdl_init_73 (by decide) ?_
  refine x_nAI C hH k_57 d_Mdl_init_76 hp (fun a9 h H cells slots hp hH => ?_)
  refine x_pV C hH fp_Mdl_34 (fun _ => hnm) d_Mdl_init_78 rfl rfl hp (fun h H locs hp hH => ?_)
  refine lv_aload_n hx hb d_Mdl_init_81 rfl (lv_at hl 0 rfl) ?_
  refine lv_sipush (v := 240) hx hb d_Mdl_init_82 (by decide) ?_
  refine x_nAI C hH k_57 d_Mdl_init_85 hp (fun a10 h H cells slots hp hH => ?_)
  refine x_pV C hH fp_Mdl_37 (fun _ => hnm) d_Mdl_init_87 rfl rfl hp (fun h H locs hp hH => ?_)
  refine lv_aload_n hx hb d_Mdl_init_90 rfl (lv_at hl 0 rfl) ?_
  refine lv_sipush (v := 240) hx hb d_Mdl_init_91 (by decide) ?_
  refine x_nAI C hH k_57 d_Mdl_init_94 hp (fun a11 h H cells slots hp hH => ?_)
  refine x_pV C hH fp_Mdl_40 (fun _ => hnm) d_Mdl_init_96 rfl rfl hp (fun h H locs hp hH => ?_)
  refine lv_aload_n hx hb d_Mdl_init_99 rfl (lv_at hl 0 rfl) ?_
  refine lv_sipush (v := 2400) hx hb d_Mdl_init_100 (by decide) ?_
  refine x_nAI C hH k_57 d_Mdl_init_103 hp (fun a12 h H cells slots hp hH => ?_)
  refine x_pV C hH fp_Mdl_43 (fun _ => hnm) d_Mdl_init_105 rfl rfl hp (fun h H locs hp hH => ?_)
  refine lv_aload_n hx hb d_Mdl_init_108 rfl (lv_at hl 0 rfl) ?_
  refine lv_bipush (v := 80) hx hb d_Mdl_init_109 (by decide) ?_
  refine x_nAJ C hH k_86 d_Mdl_init_111 hp (fun a13 h H cells slots hp hH => ?_)
  refine x_pV C hH fp_Mdl_46 (fun _ => hnm) d_Mdl_init_113 rfl rfl hp (fun h H locs hp hH => ?_)
  refine lv_aload_n hx hb d_Mdl_init_116 rfl (lv_at hl 0 rfl) ?_
  refine lv_bipush (v := 80) hx hb d_Mdl_init_117 (by decide) ?_
  refine x_nAI C hH k_57 d_Mdl_init_119 hp (fun a14 h H cells slots hp hH => ?_)
  refine x_pV C hH fp_Mdl_50 (fun _ => hnm) d_Mdl_init_121 rfl rfl hp (fun h H locs hp hH => ?_)
  refine lv_aload_n hx hb d_Mdl_init_124 rfl (lv_at hl 0 rfl) ?_
  refine lv_bipush (v := 24) hx hb d_Mdl_init_125 (by decide) ?_
  refine x_nAI C hH k_57 d_Mdl_init_127 hp (fun a15 h H cells slots hp hH => ?_)
  refine x_pV C hH fp_Mdl_53 (fun _ => hnm) d_Mdl_init_129 rfl rfl hp (fun h H locs hp hH => ?_)
  refine lv_aload_n hx hb d_Mdl_init_132 rfl (lv_at hl 0 rfl) ?_
  refine lv_iconst (v := 4) hx hb d_Mdl_init_133 (by decide) ?_
  refine x_nAI C hH k_57 d_Mdl_init_134 hp (fun a16 h H cells slots hp hH => ?_)
  refine x_pV C hH fp_Mdl_56 (fun _ => hnm) d_Mdl_init_136 rfl rfl hp (fun h H locs hp hH => ?_)
  refine lv_aload_n hx hb d_Mdl_init_139 rfl (lv_at hl 0 rfl) ?_
  refine lv_iconst (v := 4) hx hb d_Mdl_init_140 (by decide) ?_
  refine x_nAI C hH k_57 d_Mdl_init_141 hp (fun a17 h H cells slots hp hH => ?_)
  refine x_pV C hH fp_Mdl_59 (fun _ => hnm) d_Mdl_init_143 rfl rfl hp (fun h H locs hp hH => ?_)
  refine lv_aload_n hx hb d_Mdl_init_146 rfl (lv_at hl 0 rfl) ?_
  refine lv_iconst (v := 4) hx hb d_Mdl_init_147 (by decide) ?_
  refine x_nAZ C hH k_837 d_Mdl_init_148 hp (fun a18 h H cells slots hp hH => ?_)
  refine x_pV C hH fp_Mdl_62 (fun _ => hnm) d_Mdl_init_150 rfl rfl hp (fun h H locs hp hH => ?_)
  refine lv_aload_n hx hb d_Mdl_init_153 rfl (lv_at hl 0 rfl) ?_
  refine lv_bipush (v := 8) hx hb d_Mdl_init_154 (by decide) ?_
  refine x_nAI C hH k_57 d_Mdl_init_156 hp (fun a19 h H cells slots hp hH => ?_)
  refine x_pV C hH fp_Mdl_66 (fun _ => hnm) d_Mdl_init_158 rfl rfl hp (fun h H locs hp hH => ?_)
  refine lv_aload_n hx hb d_Mdl_init_161 rfl (lv_at hl 0 rfl) ?_
  refine lv_bipush (v := 8) hx hb d_Mdl_init_162 (by decide) ?_
  refine x_nAI C hH k_57 d_Mdl_init_164 hp (fun a20 h H cells slots hp hH => ?_)
  refine x_pV C hH fp_Mdl_69 (fun _ => hnm) d_Mdl_init_166 rfl rfl hp (fun h H locs hp hH => ?_)
  refine lv_aload_n hx hb d_Mdl_init_169 rfl (lv_at hl 0 rfl) ?_
  refine lv_bipush (v := 24) hx hb d_Mdl_init_170 (by decide) ?_
  refine x_nAI C hH k_57 d_Mdl_init_172 hp (fun a21 h H cells slots hp hH => ?_)
  refine x_pV C hH fp_Mdl_72 (fun _ => hnm) d_Mdl_init_174 rfl rfl hp (fun h H locs hp hH => ?_)
  refine lv_aload_n hx hb d_Mdl_init_177 rfl (lv_at hl 0 rfl) ?_
  refine lv_bipush (v := 24) hx hb d_Mdl_init_178 (by decide) ?_
  refine x_nAI C hH k_57 d_Mdl_init_180 hp (fun a22 h H cells slots hp hH => ?_)
  refine x_pV C hH fp_Mdl_75 (fun _ => hnm) d_Mdl_init_182 rfl rfl hp (fun h H locs hp hH => ?_)
  refine lv_aload_n hx hb d_Mdl_init_185 rfl (lv_at hl 0 rfl) ?_
  refine lv_sipush (v := 500) hx hb d_Mdl_init_186 (by decide) ?_
  refine x_nAI C hH k_57 d_Mdl_init_189 hp (fun a23 h H cells slots hp hH => ?_)
  refine x_pV C hH fp_Mdl_78 (fun _ => hnm) d_Mdl_init_191 rfl rfl hp (fun h H locs hp hH => ?_)
  refine lv_aload_n hx hb d_Mdl_init_194 rfl (lv_at hl 0 rfl) ?_
  refine lv_sipush (v := 500) hx hb d_Mdl_init_195 (by decide) ?_
  refine x_nAI C hH k_57 d_Mdl_init_198 hp (fun a24 h H cells slots hp hH => ?_)
  refine x_pV C hH fp_Mdl_81 (fun _ => hnm) d_Mdl_init_200 rfl rfl hp (fun h H locs hp hH => ?_)
  refine lv_aload_n hx hb d_Mdl_init_203 rfl (lv_at hl 0 rfl) ?_
  refine lv_sipush (v := 1500) hx hb d_Mdl_init_204 (by decide) ?_
  refine x_nAI C hH k_57 d_Mdl_init_207 hp (fun a25 h H cells slots hp hH => ?_)
  refine x_pV C hH fp_Mdl_84 (fun _ => hnm) d_Mdl_init_209 rfl rfl hp (fun h H locs hp hH => ?_)
  refine lv_aload_n hx hb d_Mdl_init_212 rfl (lv_at hl 0 rfl) ?_
  refine lv_sipush (v := 500) hx hb d_Mdl_init_213 (by decide) ?_
  refine x_nAI C hH k_57 d_Mdl_init_216 hp (fun a26 h H cells slots hp hH => ?_)
  refine x_pV C hH fp_Mdl_87 (fun _ => hnm) d_Mdl_init_218 rfl rfl hp (fun h H locs hp hH => ?_)
  refine lv_aload_n hx hb d_Mdl_init_221 rfl (lv_at hl 0 rfl) ?_
  refine lv_sipush (v := 500) hx hb d_Mdl_init_222 (by decide) ?_
  refine x_nAI C hH k_57 d_Mdl_init_225 hp (fun a27 h H cells slots hp hH => ?_)
  refine x_pV C hH fp_Mdl_90 (fun _ => hnm) d_Mdl_init_227 rfl rfl hp (fun h H locs hp hH => ?_)
  refine lv_aload_n hx hb d_Mdl_init_230 rfl (lv_at hl 0 rfl) ?_
  refine lv_sipush (v := 500) hx hb d_Mdl_init_231 (by decide) ?_
  refine x_nAI C hH k_57 d_Mdl_init_234 hp (fun a28 h H cells slots hp hH => ?_)
  refine x_pV C hH fp_Mdl_93 (fun _ => hnm) d_Mdl_init_236 rfl rfl hp (fun h H locs hp hH => ?_)
  refine lv_aload_n hx hb d_Mdl_init_239 rfl (lv_at hl 0 rfl) ?_
  refine lv_sipush (v := 500) hx hb d_Mdl_init_240 (by decide) ?_
  refine x_nAI C hH k_57 d_Mdl_init_243 hp (fun a29 h H cells slots hp hH => ?_)
  refine x_pV C hH fp_Mdl_96 (fun _ => hnm) d_Mdl_init_245 rfl rfl hp (fun h H locs hp hH => ?_)
  refine lv_aload_n hx hb d_Mdl_init_248 rfl (lv_at hl 0 rfl) ?_
  refine lv_sipush (v := 500) hx hb d_Mdl_init_249 (by decide) ?_
  refine x_nAI C hH k_57 d_Mdl_init_252 hp (fun a30 h H cells slots hp hH => ?_)
  refine x_pV C hH fp_Mdl_99 (fun _ => hnm) d_Mdl_init_254 rfl rfl hp (fun h H locs hp hH => ?_)
  refine lv_aload_n hx hb d_Mdl_init_257 rfl (lv_at hl 0 rfl) ?_
  refine lv_sipush (v := 500) hx hb d_Mdl_init_258 (by decide) ?_
  refine x_nAI C hH k_57 d_Mdl_init_261 hp (fun a31 h H cells slots hp hH => ?_)
  refine x_pV C hH fp_Mdl_102 (fun _ => hnm) d_Mdl_init_263 rfl rfl hp (fun h H locs hp hH => ?_)
  refine lv_aload_n hx hb d_Mdl_init_266 rfl (lv_at hl 0 rfl) ?_
  refine lv_sipush (v := 500) hx hb d_Mdl_init_267 (by decide) ?_
  refine x_nAJ C hH k_86 d_Mdl_init_270 hp (fun a32 h H cells slots hp hH => ?_)
  refine x_pV C hH fp_Mdl_105 (fun _ => hnm) d_Mdl_init_272 rfl rfl hp (fun h H locs hp hH => ?_)
  refine lv_aload_n hx hb d_Mdl_init_275 rfl (lv_at hl 0 rfl) ?_
  refine lv_sipush (v := 500) hx hb d_Mdl_init_276 (by decide) ?_
  refine x_nAJ C hH k_86 d_Mdl_init_279 hp (fun a33 h H cells slots hp hH => ?_)
  refine x_pV C hH fp_Mdl_108 (fun _ => hnm) d_Mdl_init_281 rfl rfl hp (fun h H locs hp hH => ?_)
  refine lv_aload_n hx hb d_Mdl_init_284 rfl (lv_at hl 0 rfl) ?_
  refine lv_sipush (v := 500) hx hb d_Mdl_init_285 (by decide) ?_
  refine x_nAI C hH k_57 d_Mdl_init_288 hp (fun a34 h H cells slots hp hH => ?_)
  refine x_pV C hH fp_Mdl_111 (fun _ => hnm) d_Mdl_init_290 rfl rfl hp (fun h H locs hp hH => ?_)
  refine lv_aload_n hx hb d_Mdl_init_293 rfl (lv_at hl 0 rfl) ?_
  refine lv_iload_n hx hb d_Mdl_init_294 rfl (lv_at hl 1 rfl) ?_
  refine lv_iconst (v := 1) hx hb d_Mdl_init_295 (by decide) ?_
  refine lv_icmp_lt (tgt := 308) hx hb d_Mdl_init_296 (by decide) (fun hc => ?_) (fun hc => ?_)
  · replace hp := x_ifp hc hp
    exact w_Mdl_init_308 C hr hnm hRf hRl  l0 l2 l0 hp hH (lv_sub hl [0, 2] rfl)
  · replace hp := x_ifn hc hp
    refine lv_iload_n hx hb d_Mdl_init_299 rfl (lv_at hl 1 rfl) ?_
    refine lv_iconst (v := 3) hx hb d_Mdl_init_300 (by decide) ?_
    refine lv_icmp_gt (tgt := 308) hx hb d_Mdl_init_301 (by decide) (fun hc => ?_) (fun hc => ?_)
    · replace hp := x_ifp hc hp
      exact w_Mdl_init_308 C hr hnm hRf hRl  l0 l2 l0 hp hH (lv_sub hl [0, 2] rfl)
    · replace hp := x_ifn hc hp
      refine lv_iload_n hx hb d_Mdl_init_304 rfl (lv_at hl 1 rfl) ?_
      refine lv_goto (tgt := 309) hx hb d_Mdl_init_305 (by decide) ?_
      exact w_Mdl_init_309 C hr hnm hRf hRl  l0 l2 l1 l0 hp hH (lv_sub hl [0, 2] rfl)
set_option maxRecDepth 100000 in
theorem m_Mdl_init (Z : x_Z l s0 A0 D) {l0 : Nat} {l1 : Int32} {l2 : Int32} {res : (Unit ⊕ (Nat × Nat)) × xH} (hp : f_Mdl_init l0 l1 l2 h = some res) : x_M l s0 D y_Mdl_init (x_cw y_Mdl_init prog_11_method_1_code 4 none []) 1 40 [.ref l0, .int l1, .int l2] h (x_oc vU res.1) res.2 := by
  refine x_M.ofW Z (plainFor_of_name (by decide)) ?_
  intro p e s m below meth c C hnm hr hH
  have hl := lv_entry ([.ref l0, .int l1, .int l2]) (n := 4) (Nat.le_of_ble_eq_true rfl)
  rw [lg_entry_eq]
  generalize (lg_sl ([.ref l0, .int l1, .int l2]) ++ List.replicate (4 - (lg_sl ([.ref l0, .int l1, .int l2])).length) Slot.unset).toArray = ls at hl ⊢
  exact w_Mdl_init_0 C hr hnm (Nat.le_refl _) (Nat.le_refl _) l0 l1 l2 hp hH hl
/-! ReadSideModel.thrown()I -/
theorem d_Mdl_thrown_0 : decode prog_11_method_4_code 0 = .ok (.aload_n 0, 1) := by decide +kernel
theorem d_Mdl_thrown_1 : decode prog_11_method_4_code 1 = .ok (.getfield 121, 3) := by decide +kernel
theorem d_Mdl_thrown_4 : decode prog_11_method_4_code 4 = .ok (.ireturn, 1) := by decide +kernel
set_option maxHeartbeats 4000000 in
set_option maxRecDepth 100000 in
theorem w_Mdl_thrown_0 {res : (Int32 ⊕ (Nat × Nat)) × xH} (C : x_C l s0 A0 D R_Mdl prog_11_method_4_code 1 [] p s m args meth c) (hr : meth.sig.returnType = (some .int)) (hnm : meth.name = "thrown") (hRf : 0 ≤ R.frames) (hRl : 0 ≤ R.locals)  (l0 : Nat) (hp : f_Mdl_thrown l0 h = some res) (hH : x_S s0 D R h H locs cells slots) (hl : lv_has ls 1 [(0, .ref l0)]) : W p l e R s m args below meth c H locs cells slots (x_Q s0 D below s R (x_oc vI res.1) res.2) (F0 m 0 ls []) := by
  obtain ⟨hx, hb, hown, hts, hK, hml, hW, Z, -⟩ := id C
  unfold f_Mdl_thrown at hp
  refine lv_aload_n hx hb d_Mdl_thrown_0 rfl (lv_at hl 0 rfl) ?_
  refine x_gI C hH fl_Mdl_121 d_Mdl_thrown_1 hp (fun v1 hp => ?_)
  exact x_iret C hH hr d_Mdl_thrown_4 hp
set_option maxRecDepth 100000 in
theorem m_Mdl_thrown (Z : x_Z l s0 A0 D) {l0 : Nat} {res : (Int32 ⊕ (Nat × Nat)) × xH} (hp : f_Mdl_thrown l0 h = some res) : x_M l s0 D y_Mdl_thrown (x_cw y_Mdl_thrown prog_11_method_4_code 1 (some .int) []) 0 0 [.ref l0] h (x_oc vI res.1) res.2 := by
  refine x_M.ofW Z (plainFor_of_name (by decide)) ?_
  intro p e s m below meth c C hnm hr hH
  have hl := lv_entry ([.ref l0]) (n := 1) (Nat.le_of_ble_eq_true rfl)
  rw [lg_entry_eq]
  generalize (lg_sl ([.ref l0]) ++ List.replicate (1 - (lg_sl ([.ref l0])).length) Slot.unset).toArray = ls at hl ⊢
  exact w_Mdl_thrown_0 C hr hnm (Nat.le_refl _) (Nat.le_refl _) l0 hp hH hl
/-! ReadSideModel.covers([III)Z -/
theorem d_Mdl_covers_0 : decode prog_11_method_17_code 0 = .ok (.iconst 1, 1) := by decide +kernel
theorem d_Mdl_covers_1 : decode prog_11_method_17_code 1 = .ok (.istore 4, 2) := by decide +kernel
theorem d_Mdl_covers_3 : decode prog_11_method_17_code 3 = .ok (.iconst 0, 1) := by decide +kernel
theorem d_Mdl_covers_4 : decode prog_11_method_17_code 4 = .ok (.istore 5, 2) := by decide +kernel
theorem d_Mdl_covers_6 : decode prog_11_method_17_code 6 = .ok (.iload 5, 2) := by decide +kernel
theorem d_Mdl_covers_8 : decode prog_11_method_17_code 8 = .ok (.aload_n 0, 1) := by decide +kernel
theorem d_Mdl_covers_9 : decode prog_11_method_17_code 9 = .ok (.getfield 114, 3) := by decide +kernel
theorem d_Mdl_covers_12 : decode prog_11_method_17_code 12 = .ok (.if_icmp .ge 39, 3) := by decide +kernel
theorem d_Mdl_covers_15 : decode prog_11_method_17_code 15 = .ok (.iload 4, 2) := by decide +kernel
theorem d_Mdl_covers_17 : decode prog_11_method_17_code 17 = .ok (.aload_n 0, 1) := by decide +kernel
theorem d_Mdl_covers_18 : decode prog_11_method_17_code 18 = .ok (.getfield 53, 3) := by decide +kernel
theorem d_Mdl_covers_21 : decode prog_11_method_17_code 21 = .ok (.iconst 3, 1) := by decide +kernel
theorem d_Mdl_covers_22 : decode prog_11_method_17_code 22 = .ok (.iload_n 3, 1) := by decide +kernel
theorem d_Mdl_covers_23 : decode prog_11_method_17_code 23 = .ok (.imul, 1) := by decide +kernel
theorem d_Mdl_covers_24 : decode prog_11_method_17_code 24 = .ok (.iload 5, 2) := by decide +kernel
theorem d_Mdl_covers_26 : decode prog_11_method_17_code 26 = .ok (.iadd, 1) := by decide +kernel
theorem d_Mdl_covers_27 : decode prog_11_method_17_code 27 = .ok (.iaload, 1) := by decide +kernel
theorem d_Mdl_covers_28 : decode prog_11_method_17_code 28 = .ok (.aload_n 1, 1) := by decide +kernel
theorem d_Mdl_covers_29 : decode prog_11_method_17_code 29 = .ok (.iload_n 2, 1) := by decide +kernel
theorem d_Mdl_covers_30 : decode prog_11_method_17_code 30 = .ok (.iload 5, 2) := by decide +kernel
theorem d_Mdl_covers_32 : decode prog_11_method_17_code 32 = .ok (.iadd, 1) := by decide +kernel
theorem d_Mdl_covers_33 : decode prog_11_method_17_code 33 = .ok (.iaload, 1) := by decide +kernel
theorem d_Mdl_covers_34 : decode prog_11_method_17_code 34 = .ok (.if_icmp .lt 7, 3) := by decide +kernel
theorem d_Mdl_covers_37 : decode prog_11_method_17_code 37 = .ok (.iconst 1, 1) := by decide +kernel
theorem d_Mdl_covers_38 : decode prog_11_method_17_code 38 = .ok (.goto 4, 3) := by decide +kernel
theorem d_Mdl_covers_41 : decode prog_11_method_17_code 41 = .ok (.iconst 0, 1) := by decide +kernel
theorem d_Mdl_covers_42 : decode prog_11_method_17_code 42 = .ok (.iand, 1) := by decide +kernel
theorem d_Mdl_covers_43 : decode prog_11_method_17_code 43 = .ok (.istore 4, 2) := by decide +kernel
theorem d_Mdl_covers_45 : decode prog_11_method_17_code 45 = .ok (.iinc 5 1, 3) := by decide +kernel
theorem d_Mdl_covers_48 : decode prog_11_method_17_code 48 = .ok (.goto (-42), 3) := by decide +kernel
theorem d_Mdl_covers_51 : decode prog_11_method_17_code 51 = .ok (.iload 4, 2) := by decide +kernel
theorem d_Mdl_covers_53 : decode prog_11_method_17_code 53 = .ok (.ireturn, 1) := by decide +kernel
set_option maxHeartbeats 4000000 in
set_option maxRecDepth 100000 in
theorem w_Mdl_covers_42 {res : (Int32 ⊕ (Nat × Nat)) × xH} (C : x_C l s0 A0 D R_Mdl prog_11_method_17_code 6 [] p s m args meth c) (hr : meth.sig.returnType = (some .boolean)) (hnm : meth.name = "covers") (hRf : 0 ≤ R.frames) (hRl : 0 ≤ R.locals) {k6 : Nat → Nat → Int32 → Int32 → Int32 → Int32 → xM Int32} (hs6 : ∀ (l0 : Nat) (l1 : Nat) (l2 : Int32) (l3 : Int32) (l4 : Int32) (l5 : Int32) (h : xH) (H : Heap) (locs : List Loc) (cells slots : Nat) (ls : Array Slot), k6 l0 l1 l2 l3 l4 l5 h = some res → x_S s0 D R h H locs cells slots → lv_has ls 6 [(0, .ref l0), (1, .ref l1), (2, .int l2), (3, .int l3), (4, .int l4), (5, .int l5)] → W p l e R s m args below meth c H locs cells slots (x_Q s0 D below s R (x_oc vI res.1) res.2) (F0 m 6 ls [])) (l0 : Nat) (l1 : Nat) (l2 : Int32) (l3 : Int32) (l5 : Int32) (t0 : Int32) (t1 : Int32) (hp : f_Mdl_covers_b42 k6 l0 l1 l2 l3 l5 t0 t1 h = some res) (hH : x_S s0 D R h H locs cells slots) (hl : lv_has ls 6 [(0, .ref l0), (1, .ref l1), (2, .int l2), (3, .int l3), (5, .int l5)]) : W p l e R s m args below meth c H locs cells slots (x_Q s0 D below s R (x_oc vI res.1) res.2) (F0 m 42 ls [.int t0, .int t1]) := by
  obtain ⟨hx, hb, hown, hts, hK, hml, hW, Z, -⟩ := id C
  unfold f_Mdl_covers_b42 at hp
  refine lv_iand hx hb d_Mdl_covers_42 ?_
  refine lv_istore (lv' := [(4, .int (t1 &&& t0)), (0, .ref l0), (1, .ref l1), (2, .int l2), (3, .int l3), (5, .int l5)]) hx hb d_Mdl_covers_43 hl (by decide) rfl (fun ls hl => ?_)
  refine lv_iinc (v := (l5 + 1)) (lv' := [(5, .int (l5 + 1)), (4, .int (t1 &&& t0)), (0, .ref l0), (1, .ref l1), (2, .int l2), (3, .int l3)]) hx hb d_Mdl_covers_45 hl (k := 5) rfl rfl (by decide) rfl (fun ls hl => ?_)
  refine lv_goto (tgt := 6) hx hb d_Mdl_covers_48 (by decide) ?_
  exact hs6 l0 l1 l2 l3 (t1 &&& t0) (l5 + 1) _ _ _ _ _ _ hp hH (lv_sub hl [2, 3, 4, 5, 1, 0] rfl)
set_option maxHeartbeats 4000000 in
set_option maxRecDepth 100000 in
theorem w_Mdl_covers_6 {res : (Int32 ⊕ (Nat × Nat)) × xH} (C : x_C l s0 A0 D R_Mdl prog_11_method_17_code 6 [] p s m args meth c) (hr : meth.sig.returnType = (some .boolean)) (hnm : meth.name = "covers") (hRf : 0 ≤ R.frames) (hRl : 0 ≤ R.locals) {k6 : Nat → Nat → Int32 → Int32 → Int32 → Int32 → xM Int32} (hs6 : ∀ (l0 : Nat) (l1 : Nat) (l2 : Int32) (l3 : Int32) (l4 : Int32) (l5 : Int32) (h : xH) (H : Heap) (locs : List Loc) (cells slots : Nat) (ls : Array Slot), k6 l0 l1 l2 l3 l4 l5 h = some res → x_S s0 D R h H locs cells slots → lv_has ls 6 [(0, .ref l0), (1, .ref l1), (2, .int l2), (3, .int l3), (4, .int l4), (5, .int l5)] → W p l e R s m args below meth c H locs cells slots (x_Q s0 D below s R (x_oc vI res.1) res.2) (F0 m 6 ls [])) (l0 : Nat) (l1 : Nat) (l2 : Int32) (l3 : Int32) (l4 : Int32) (l5 : Int32) (hp : f_Mdl_covers_b6 k6 l0 l1 l2 l3 l4 l5 h = some res) (hH : x_S s0 D R h H locs cells slots) (hl : lv_has ls 6 [(0, .ref l0), (1, .ref l1), (2, .int l2), (3, .int l3), (4, .int l4), (5, .int l5)]) : W p l e R s m args below meth c H locs cells slots (x_Q s0 D below s R (x_oc vI res.1) res.2) (F0 m 6 ls []) := by
  obtain ⟨hx, hb, hown, hts, hK, hml, hW, Z, -⟩ := id C
  unfold f_Mdl_covers_b6 at hp
  refine lv_iload hx hb d_Mdl_covers_6 (lv_at hl 5 rfl) ?_
  refine lv_aload_n hx hb d_Mdl_covers_8 rfl (lv_at hl 0 rfl) ?_
  refine x_gI C hH fl_Mdl_114 d_Mdl_covers_9 hp (fun v1 hp => ?_)
  refine lv_icmp_ge (tgt := 51) hx hb d_Mdl_covers_12 (by decide) (fun hc => ?_) (fun hc => ?_)
  · replace hp := x_ifp hc hp
    refine lv_iload hx hb d_Mdl_covers_51 (lv_at hl 4 rfl) ?_
    exact x_zret C hH hr d_Mdl_covers_53 hp
  · replace hp := x_ifn hc hp
    refine lv_iload hx hb d_Mdl_covers_15 (lv_at hl 4 rfl) ?_
    refine lv_aload_n hx hb d_Mdl_covers_17 rfl (lv_at hl 0 rfl) ?_
    refine x_gA C hH fl_Mdl_53 d_Mdl_covers_18 hp (fun v2 hp => ?_)
    refine lv_iconst (v := 3) hx hb d_Mdl_covers_21 (by decide) ?_
    refine lv_iload_n hx hb d_Mdl_covers_22 rfl (lv_at hl 3 rfl) ?_
    refine lv_imul hx hb d_Mdl_covers_23 ?_
    refine lv_iload hx hb d_Mdl_covers_24 (lv_at hl 5 rfl) ?_
    refine lv_iadd hx hb d_Mdl_covers_26 ?_
    refine x_lI C hH d_Mdl_covers_27 hp (fun v3 hp => ?_)
    refine lv_aload_n hx hb d_Mdl_covers_28 rfl (lv_at hl 1 rfl) ?_
    refine lv_iload_n hx hb d_Mdl_covers_29 rfl (lv_at hl 2 rfl) ?_
    refine lv_iload hx hb d_Mdl_covers_30 (lv_at hl 5 rfl) ?_
    refine lv_iadd hx hb d_Mdl_covers_32 ?_
    refine x_lI C hH d_Mdl_covers_33 hp (fun v4 hp => ?_)
    refine lv_icmp_lt (tgt := 41) hx hb d_Mdl_covers_34 (by decide) (fun hc => ?_) (fun hc => ?_)
    · replace hp := x_ifp hc hp
      refine lv_iconst (v := 0) hx hb d_Mdl_covers_41 (by decide) ?_
      exact w_Mdl_covers_42 C hr hnm hRf hRl hs6 l0 l1 l2 l3 l5 0 l4 hp hH (lv_sub hl [0, 1, 2, 3, 5] rfl)
    · replace hp := x_ifn hc hp
      refine lv_iconst (v := 1) hx hb d_Mdl_covers_37 (by decide) ?_
      refine lv_goto (tgt := 42) hx hb d_Mdl_covers_38 (by decide) ?_
      exact w_Mdl_covers_42 C hr hnm hRf hRl hs6 l0 l1 l2 l3 l5 1 l4 hp hH (lv_sub hl [0, 1, 2, 3, 5] rfl)
theorem w_Mdl_covers_h6 {res : (Int32 ⊕ (Nat × Nat)) × xH} (C : x_C l s0 A0 D R_Mdl prog_11_method_17_code 6 [] p s m args meth c) (hr : meth.sig.returnType = (some .boolean)) (hnm : meth.name = "covers") (hRf : 0 ≤ R.frames) (hRl : 0 ≤ R.locals)  : ∀ (n : Nat) (l0 : Nat) (l1 : Nat) (l2 : Int32) (l3 : Int32) (l4 : Int32) (l5 : Int32) (h : xH) (H : Heap) (locs : List Loc) (cells slots : Nat) (ls : Array Slot), f_Mdl_covers_h6 n l0 l1 l2 l3 l4 l5 h = some res → x_S s0 D R h H locs cells slots → lv_has ls 6 [(0, .ref l0), (1, .ref l1), (2, .int l2), (3, .int l3), (4, .int l4), (5, .int l5)] → W p l e R s m args below meth c H locs cells slots (x_Q s0 D below s R (x_oc vI res.1) res.2) (F0 m 6 ls []) := by
  intro n
  induction n with
  | zero => intro l0 l1 l2 l3 l4 l5 h H locs cells slots ls hp hH hl; cases hp
  | succ n ih => intro l0 l1 l2 l3 l4 l5 h H locs cells slots ls hp hH hl; exact w_Mdl_covers_6 C hr hnm hRf hRl ih l0 l1 l2 l3 l4 l5 hp hH hl
set_option maxHeartbeats 4000000 in
set_option maxRecDepth 100000 in
theorem w_Mdl_covers_0 {res : (Int32 ⊕ (Nat × Nat)) × xH} (C : x_C l s0 A0 D R_Mdl prog_11_method_17_code 6 [] p s m args meth c) (hr : meth.sig.returnType = (some .boolean)) (hnm : meth.name = "covers") (hRf : 0 ≤ R.frames) (hRl : 0 ≤ R.locals)  (l0 : Nat) (l1 : Nat) (l2 : Int32) (l3 : Int32) (hp : f_Mdl_covers l0 l1 l2 l3 h = some res) (hH : x_S s0 D R h H locs cells slots) (hl : lv_has ls 6 [(0, .ref l0), (1, .ref l1), (2, .int l2), (3, .int l3)]) : W p l e R s m args below meth c H locs cells slots (x_Q s0 D below s R (x_oc vI res.1) res.2) (F0 m 0 ls []) := by
  obtain ⟨hx, hb, hown, hts, hK, hml, hW, Z, -⟩ := id C
  unfold f_Mdl_covers at hp
  refine lv_iconst (v := 1) hx hb d_Mdl_covers_0 (by decide) ?_
  refine lv_istore (lv' := [(4, .int 1), (0, .ref l0), (1, .ref l1), (2, .int l2), (3, .int l3)]) hx hb d_Mdl_covers_1 hl (by decide) rfl (fun ls hl => ?_)
  refine lv_iconst (v := 0) hx hb d_Mdl_covers_3 (by decide) ?_
  refine lv_istore (lv' := [(5, .int 0), (4, .int 1), (0, .ref l0), (1, .ref l1), (2, .int l2), (3, .int l3)]) hx hb d_Mdl_covers_4 hl (by decide) rfl (fun ls hl => ?_)
  exact w_Mdl_covers_h6 C hr hnm hRf hRl  1000 l0 l1 l2 l3 1 0 _ _ _ _ _ _ hp hH (lv_sub hl [2, 3, 4, 5, 1, 0] rfl)
set_option maxRecDepth 100000 in
theorem m_Mdl_covers (Z : x_Z l s0 A0 D) {l0 : Nat} {l1 : Nat} {l2 : Int32} {l3 : Int32} {res : (Int32 ⊕ (Nat × Nat)) × xH} (hp : f_Mdl_covers l0 l1 l2 l3 h = some res) : x_M l s0 D y_Mdl_covers (x_cw y_Mdl_covers prog_11_method_17_code 6 (some .boolean) []) 0 0 [.ref l0, .ref l1, .int l2, .int l3] h (x_oc vI res.1) res.2 := by
  refine x_M.ofW Z (plainFor_of_name (by decide)) ?_
  intro p e s m below meth c C hnm hr hH
  have hl := lv_entry ([.ref l0, .ref l1, .int l2, .int l3]) (n := 6) (Nat.le_of_ble_eq_true rfl)
  rw [lg_entry_eq]
  generalize (lg_sl ([.ref l0, .ref l1, .int l2, .int l3]) ++ List.replicate (6 - (lg_sl ([.ref l0, .ref l1, .int l2, .int l3])).length) Slot.unset).toArray = ls at hl ⊢
  exact w_Mdl_covers_0 C hr hnm (Nat.le_refl _) (Nat.le_refl _) l0 l1 l2 l3 hp hH hl
/-! ReadSideModel.may(II)Z -/
theorem d_Mdl_may_0 : decode prog_11_method_33_code 0 = .ok (.aload_n 0, 1) := by decide +kernel
theorem d_Mdl_may_1 : decode prog_11_method_33_code 1 = .ok (.getfield 81, 3) := by decide +kernel
theorem d_Mdl_may_4 : decode prog_11_method_33_code 4 = .ok (.iload_n 2, 1) := by decide +kernel
theorem d_Mdl_may_5 : decode prog_11_method_33_code 5 = .ok (.iaload, 1) := by decide +kernel
theorem d_Mdl_may_6 : decode prog_11_method_33_code 6 = .ok (.istore_n 3, 1) := by decide +kernel
theorem d_Mdl_may_7 : decode prog_11_method_33_code 7 = .ok (.aload_n 0, 1) := by decide +kernel
theorem d_Mdl_may_8 : decode prog_11_method_33_code 8 = .ok (.getfield 62, 3) := by decide +kernel
theorem d_Mdl_may_11 : decode prog_11_method_33_code 11 = .ok (.iload_n 1, 1) := by decide +kernel
theorem d_Mdl_may_12 : decode prog_11_method_33_code 12 = .ok (.baload, 1) := by decide +kernel
theorem d_Mdl_may_13 : decode prog_11_method_33_code 13 = .ok (.ifCond .eq 74, 3) := by decide +kernel
theorem d_Mdl_may_16 : decode prog_11_method_33_code 16 = .ok (.aload_n 0, 1) := by decide +kernel
theorem d_Mdl_may_17 : decode prog_11_method_33_code 17 = .ok (.aload_n 0, 1) := by decide +kernel
theorem d_Mdl_may_18 : decode prog_11_method_33_code 18 = .ok (.getfield 84, 3) := by decide +kernel
theorem d_Mdl_may_21 : decode prog_11_method_33_code 21 = .ok (.iconst 3, 1) := by decide +kernel
theorem d_Mdl_may_22 : decode prog_11_method_33_code 22 = .ok (.iload_n 2, 1) := by decide +kernel
theorem d_Mdl_may_23 : decode prog_11_method_33_code 23 = .ok (.imul, 1) := by decide +kernel
theorem d_Mdl_may_24 : decode prog_11_method_33_code 24 = .ok (.iload_n 1, 1) := by decide +kernel
theorem d_Mdl_may_25 : decode prog_11_method_33_code 25 = .ok (.invokevirtual 185, 3) := by decide +kernel
theorem d_Mdl_may_28 : decode prog_11_method_33_code 28 = .ok (.ifCond .eq 59, 3) := by decide +kernel
theorem d_Mdl_may_31 : decode prog_11_method_33_code 31 = .ok (.aload_n 0, 1) := by decide +kernel
theorem d_Mdl_may_32 : decode prog_11_method_33_code 32 = .ok (.getfield 66, 3) := by decide +kernel
theorem d_Mdl_may_35 : decode prog_11_method_33_code 35 = .ok (.iload_n 3, 1) := by decide +kernel
theorem d_Mdl_may_36 : decode prog_11_method_33_code 36 = .ok (.iaload, 1) := by decide +kernel
theorem d_Mdl_may_37 : decode prog_11_method_33_code 37 = .ok (.iconst 1, 1) := by decide +kernel
theorem d_Mdl_may_38 : decode prog_11_method_33_code 38 = .ok (.iand, 1) := by decide +kernel
theorem d_Mdl_may_39 : decode prog_11_method_33_code 39 = .ok (.ifCond .eq 18, 3) := by decide +kernel
theorem d_Mdl_may_42 : decode prog_11_method_33_code 42 = .ok (.aload_n 0, 1) := by decide +kernel
theorem d_Mdl_may_43 : decode prog_11_method_33_code 43 = .ok (.aload_n 0, 1) := by decide +kernel
theorem d_Mdl_may_44 : decode prog_11_method_33_code 44 = .ok (.getfield 72, 3) := by decide +kernel
theorem d_Mdl_may_47 : decode prog_11_method_33_code 47 = .ok (.iconst 3, 1) := by decide +kernel
theorem d_Mdl_may_48 : decode prog_11_method_33_code 48 = .ok (.iload_n 3, 1) := by decide +kernel
theorem d_Mdl_may_49 : decode prog_11_method_33_code 49 = .ok (.imul, 1) := by decide +kernel
theorem d_Mdl_may_50 : decode prog_11_method_33_code 50 = .ok (.iload_n 1, 1) := by decide +kernel
theorem d_Mdl_may_51 : decode prog_11_method_33_code 51 = .ok (.invokevirtual 185, 3) := by decide +kernel
theorem d_Mdl_may_54 : decode prog_11_method_33_code 54 = .ok (.ifCond .eq 33, 3) := by decide +kernel
theorem d_Mdl_may_57 : decode prog_11_method_33_code 57 = .ok (.aload_n 0, 1) := by decide +kernel
theorem d_Mdl_may_58 : decode prog_11_method_33_code 58 = .ok (.getfield 66, 3) := by decide +kernel
theorem d_Mdl_may_61 : decode prog_11_method_33_code 61 = .ok (.iload_n 3, 1) := by decide +kernel
theorem d_Mdl_may_62 : decode prog_11_method_33_code 62 = .ok (.iaload, 1) := by decide +kernel
theorem d_Mdl_may_63 : decode prog_11_method_33_code 63 = .ok (.iconst 2, 1) := by decide +kernel
theorem d_Mdl_may_64 : decode prog_11_method_33_code 64 = .ok (.iand, 1) := by decide +kernel
theorem d_Mdl_may_65 : decode prog_11_method_33_code 65 = .ok (.ifCond .eq 18, 3) := by decide +kernel
theorem d_Mdl_may_68 : decode prog_11_method_33_code 68 = .ok (.aload_n 0, 1) := by decide +kernel
theorem d_Mdl_may_69 : decode prog_11_method_33_code 69 = .ok (.aload_n 0, 1) := by decide +kernel
theorem d_Mdl_may_70 : decode prog_11_method_33_code 70 = .ok (.getfield 75, 3) := by decide +kernel
theorem d_Mdl_may_73 : decode prog_11_method_33_code 73 = .ok (.iconst 3, 1) := by decide +kernel
theorem d_Mdl_may_74 : decode prog_11_method_33_code 74 = .ok (.iload_n 3, 1) := by decide +kernel
theorem d_Mdl_may_75 : decode prog_11_method_33_code 75 = .ok (.imul, 1) := by decide +kernel
theorem d_Mdl_may_76 : decode prog_11_method_33_code 76 = .ok (.iload_n 1, 1) := by decide +kernel
theorem d_Mdl_may_77 : decode prog_11_method_33_code 77 = .ok (.invokevirtual 185, 3) := by decide +kernel
theorem d_Mdl_may_80 : decode prog_11_method_33_code 80 = .ok (.ifCond .eq 7, 3) := by decide +kernel
theorem d_Mdl_may_83 : decode prog_11_method_33_code 83 = .ok (.iconst 1, 1) := by decide +kernel
theorem d_Mdl_may_84 : decode prog_11_method_33_code 84 = .ok (.goto 4, 3) := by decide +kernel
theorem d_Mdl_may_87 : decode prog_11_method_33_code 87 = .ok (.iconst 0, 1) := by decide +kernel
theorem d_Mdl_may_88 : decode prog_11_method_33_code 88 = .ok (.istore 4, 2) := by decide +kernel
theorem d_Mdl_may_90 : decode prog_11_method_33_code 90 = .ok (.iconst 0, 1) := by decide +kernel
theorem d_Mdl_may_91 : decode prog_11_method_33_code 91 = .ok (.istore 5, 2) := by decide +kernel
theorem d_Mdl_may_93 : decode prog_11_method_33_code 93 = .ok (.iload 5, 2) := by decide +kernel
theorem d_Mdl_may_95 : decode prog_11_method_33_code 95 = .ok (.aload_n 0, 1) := by decide +kernel
theorem d_Mdl_may_96 : decode prog_11_method_33_code 96 = .ok (.getfield 114, 3) := by decide +kernel
theorem d_Mdl_may_99 : decode prog_11_method_33_code 99 = .ok (.if_icmp .ge 56, 3) := by decide +kernel
theorem d_Mdl_may_102 : decode prog_11_method_33_code 102 = .ok (.aload_n 0, 1) := by decide +kernel
theorem d_Mdl_may_103 : decode prog_11_method_33_code 103 = .ok (.getfield 87, 3) := by decide +kernel
theorem d_Mdl_may_106 : decode prog_11_method_33_code 106 = .ok (.iload_n 2, 1) := by decide +kernel
theorem d_Mdl_may_107 : decode prog_11_method_33_code 107 = .ok (.iaload, 1) := by decide +kernel
theorem d_Mdl_may_108 : decode prog_11_method_33_code 108 = .ok (.ifCond .lt 47, 3) := by decide +kernel
theorem d_Mdl_may_111 : decode prog_11_method_33_code 111 = .ok (.iload 4, 2) := by decide +kernel
theorem d_Mdl_may_113 : decode prog_11_method_33_code 113 = .ok (.aload_n 0, 1) := by decide +kernel
theorem d_Mdl_may_114 : decode prog_11_method_33_code 114 = .ok (.getfield 7, 3) := by decide +kernel
theorem d_Mdl_may_117 : decode prog_11_method_33_code 117 = .ok (.iload 5, 2) := by decide +kernel
theorem d_Mdl_may_119 : decode prog_11_method_33_code 119 = .ok (.iaload, 1) := by decide +kernel
theorem d_Mdl_may_120 : decode prog_11_method_33_code 120 = .ok (.aload_n 0, 1) := by decide +kernel
theorem d_Mdl_may_121 : decode prog_11_method_33_code 121 = .ok (.getfield 53, 3) := by decide +kernel
theorem d_Mdl_may_124 : decode prog_11_method_33_code 124 = .ok (.iconst 3, 1) := by decide +kernel
theorem d_Mdl_may_125 : decode prog_11_method_33_code 125 = .ok (.iload_n 1, 1) := by decide +kernel
theorem d_Mdl_may_126 : decode prog_11_method_33_code 126 = .ok (.imul, 1) := by decide +kernel
theorem d_Mdl_may_127 : decode prog_11_method_33_code 127 = .ok (.iload 5, 2) := by decide +kernel
theorem d_Mdl_may_129 : decode prog_11_method_33_code 129 = .ok (.iadd, 1) := by decide +kernel
theorem d_Mdl_may_130 : decode prog_11_method_33_code 130 = .ok (.iaload, 1) := by decide +kernel
theorem d_Mdl_may_131 : decode prog_11_method_33_code 131 = .ok (.isub, 1) := by decide +kernel
theorem d_Mdl_may_132 : decode prog_11_method_33_code 132 = .ok (.aload_n 0, 1) := by decide +kernel
theorem d_Mdl_may_133 : decode prog_11_method_33_code 133 = .ok (.getfield 87, 3) := by decide +kernel
theorem d_Mdl_may_136 : decode prog_11_method_33_code 136 = .ok (.iload_n 2, 1) := by decide +kernel
theorem d_Mdl_may_137 : decode prog_11_method_33_code 137 = .ok (.iaload, 1) := by decide +kernel
theorem d_Mdl_may_138 : decode prog_11_method_33_code 138 = .ok (.if_icmp .gt 7, 3) := by decide +kernel
theorem d_Mdl_may_141 : decode prog_11_method_33_code 141 = .ok (.iconst 1, 1) := by decide +kernel
theorem d_Mdl_may_142 : decode prog_11_method_33_code 142 = .ok (.goto 4, 3) := by decide +kernel
theorem d_Mdl_may_145 : decode prog_11_method_33_code 145 = .ok (.iconst 0, 1) := by decide +kernel
theorem d_Mdl_may_146 : decode prog_11_method_33_code 146 = .ok (.iand, 1) := by decide +kernel
theorem d_Mdl_may_147 : decode prog_11_method_33_code 147 = .ok (.istore 4, 2) := by decide +kernel
theorem d_Mdl_may_149 : decode prog_11_method_33_code 149 = .ok (.iinc 5 1, 3) := by decide +kernel
theorem d_Mdl_may_152 : decode prog_11_method_33_code 152 = .ok (.goto (-59), 3) := by decide +kernel
theorem d_Mdl_may_155 : decode prog_11_method_33_code 155 = .ok (.iload 4, 2) := by decide +kernel
theorem d_Mdl_may_157 : decode prog_11_method_33_code 157 = .ok (.ireturn, 1) := by decide +kernel
set_option maxHeartbeats 4000000 in
set_option maxRecDepth 100000 in
theorem w_Mdl_may_155 {res : (Int32 ⊕ (Nat × Nat)) × xH} (C : x_C l s0 A0 D R_Mdl prog_11_method_33_code 6 [] p s m args meth c) (hr : meth.sig.returnType = (some .boolean)) (hnm : meth.name = "may") (hRf : 1 ≤ R.frames) (hRl : 33 ≤ R.locals)  (l4 : Int32) (hp : f_Mdl_may_b155 l4 h = some res) (hH : x_S s0 D R h H locs cells slots) (hl : lv_has ls 6 [(4, .int l4)]) : W p l e R s m args below meth c H locs cells slots (x_Q s0 D below s R (x_oc vI res.1) res.2) (F0 m 155 ls []) := by
  obtain ⟨hx, hb, hown, hts, hK, hml, hW, Z, -⟩ := id C
  unfold f_Mdl_may_b155 at hp
  refine lv_iload hx hb d_Mdl_may_155 (lv_at hl 0 rfl) ?_
  exact x_zret C hH hr d_Mdl_may_157 hp
set_option maxHeartbeats 4000000 in
set_option maxRecDepth 100000 in
theorem w_Mdl_may_146 {res : (Int32 ⊕ (Nat × Nat)) × xH} (C : x_C l s0 A0 D R_Mdl prog_11_method_33_code 6 [] p s m args meth c) (hr : meth.sig.returnType = (some .boolean)) (hnm : meth.name = "may") (hRf : 1 ≤ R.frames) (hRl : 33 ≤ R.locals) {k93 : Nat → Int32 → Int32 → Int32 → Int32 → xM Int32} (hs93 : ∀ (l0 : Nat) (l1 : Int32) (l2 : Int32) (l4 : Int32) (l5 : Int32) (h : xH) (H : Heap) (locs : List Loc) (cells slots : Nat) (ls : Array Slot), k93 l0 l1 l2 l4 l5 h = some res → x_S s0 D R h H locs cells slots → lv_has ls 6 [(0, .ref l0), (1, .int l1), (2, .int l2), (4, .int l4), (5, .int l5)] → W p l e R s m args below meth c H locs cells slots (x_Q s0 D below s R (x_oc vI res.1) res.2) (F0 m 93 ls [])) (l0 : Nat) (l1 : Int32) (l2 : Int32) (l5 : Int32) (t0 : Int32) (t1 : Int32) (hp : f_Mdl_may_b146 k93 l0 l1 l2 l5 t0 t1 h = some res) (hH : x_S s0 D R h H locs cells slots) (hl : lv_has ls 6 [(0, .ref l0), (1, .int l1), (2, .int l2), (5, .int l5)]) : W p l e R s m args below meth c H locs cells slots (x_Q s0 D below s R (x_oc vI res.1) res.2) (F0 m 146 ls [.int t0, .int t1]) := by
  obtain ⟨hx, hb, hown, hts, hK, hml, hW, Z, -⟩ := id C
  unfold f_Mdl_may_b146 at hp
  refine lv_iand hx hb d_Mdl_may_146 ?_
  refine lv_istore (lv' := [(4, .int (t1 &&& t0)), (0, .ref l0), (1, .int l1), (2, .int l2), (5, .int l5)]) hx hb d_Mdl_may_147 hl (by decide) rfl (fun ls hl => ?_)
  refine lv_iinc (v := (l5 + 1)) (lv' := [(5, .int (l5 + 1)), (4, .int (t1 &&& t0)), (0, .ref l0), (1, .int l1), (2, .int l2)]) hx hb d_Mdl_may_149 hl (k := 4) rfl rfl (by decide) rfl (fun ls hl => ?_)
  refine lv_goto (tgt := 93) hx hb d_Mdl_may_152 (by decide) ?_
  exact hs93 l0 l1 l2 (t1 &&& t0) (l5 + 1) _ _ _ _ _ _ hp hH (lv_sub hl [2, 3, 4, 1, 0] rfl)
set_option maxHeartbeats 4000000 in
set_option maxRecDepth 100000 in
theorem w_Mdl_may_93 {res : (Int32 ⊕ (Nat × Nat)) × xH} (C : x_C l s0 A0 D R_Mdl prog_11_method_33_code 6 [] p s m args meth c) (hr : meth.sig.returnType = (some .boolean)) (hnm : meth.name = "may") (hRf : 1 ≤ R.frames) (hRl : 33 ≤ R.locals) {k93 : Nat → Int32 → Int32 → Int32 → Int32 → xM Int32} (hs93 : ∀ (l0 : Nat) (l1 : Int32) (l2 : Int32) (l4 : Int32) (l5 : Int32) (h : xH) (H : Heap) (locs : List Loc) (cells slots : Nat) (ls : Array Slot), k93 l0 l1 l2 l4 l5 h = some res → x_S s0 D R h H locs cells slots → lv_has ls 6 [(0, .ref l0), (1, .int l1), (2, .int l2), (4, .int l4), (5, .int l5)] → W p l e R s m args below meth c H locs cells slots (x_Q s0 D below s R (x_oc vI res.1) res.2) (F0 m 93 ls [])) (l0 : Nat) (l1 : Int32) (l2 : Int32) (l4 : Int32) (l5 : Int32) (hp : f_Mdl_may_b93 k93 l0 l1 l2 l4 l5 h = some res) (hH : x_S s0 D R h H locs cells slots) (hl : lv_has ls 6 [(0, .ref l0), (1, .int l1), (2, .int l2), (4, .int l4), (5, .int l5)]) : W p l e R s m args below meth c H locs cells slots (x_Q s0 D below s R (x_oc vI res.1) res.2) (F0 m 93 ls []) := by
  obtain ⟨hx, hb, hown, hts, hK, hml, hW, Z, -⟩ := id C
  unfold f_Mdl_may_b93 at hp
  refine lv_iload hx hb d_Mdl_may_93 (lv_at hl 4 rfl) ?_
  refine lv_aload_n hx hb d_Mdl_may_95 rfl (lv_at hl 0 rfl) ?_
  refine x_gI C hH fl_Mdl_114 d_Mdl_may_96 hp (fun v1 hp => ?_)
  refine lv_icmp_ge (tgt := 155) hx hb d_Mdl_may_99 (by decide) (fun hc => ?_) (fun hc => ?_)
  · replace hp := x_ifp hc hp
    exact w_Mdl_may_155 C hr hnm hRf hRl  l4 hp hH (lv_sub hl [3] rfl)
  · replace hp := x_ifn hc hp
    refine lv_aload_n hx hb d_Mdl_may_102 rfl (lv_at hl 0 rfl) ?_
    refine x_gA C hH fl_Mdl_87 d_Mdl_may_103 hp (fun v2 hp => ?_)
    refine lv_iload_n hx hb d_Mdl_may_106 rfl (lv_at hl 2 rfl) ?_
    refine x_lI C hH d_Mdl_may_107 hp (fun v3 hp => ?_)
    refine lv_if_lt (tgt := 155) hx hb d_Mdl_may_108 (by decide) (fun hc => ?_) (fun hc => ?_)
    · replace hp := x_ifp hc hp
      exact w_Mdl_may_155 C hr hnm hRf hRl  l4 hp hH (lv_sub hl [3] rfl)
    · replace hp := x_ifn hc hp
      refine lv_iload hx hb d_Mdl_may_111 (lv_at hl 3 rfl) ?_
      refine lv_aload_n hx hb d_Mdl_may_113 rfl (lv_at hl 0 rfl) ?_
      refine x_gA C hH fl_Mdl_7 d_Mdl_may_114 hp (fun v4 hp => ?_)
      refine lv_iload hx hb d_Mdl_may_117 (lv_at hl 4 rfl) ?_
      refine x_lI C hH d_Mdl_may_119 hp (fun v5 hp => ?_)
      refine lv_aload_n hx hb d_Mdl_may_120 rfl (lv_at hl 0 rfl) ?_
      refine x_gA C hH fl_Mdl_53 d_Mdl_may_121 hp (fun v6 hp => ?_)
      refine lv_iconst (v := 3) hx hb d_Mdl_may_124 (by decide) ?_
      refine lv_iload_n hx hb d_Mdl_may_125 rfl (lv_at hl 1 rfl) ?_
      refine lv_imul hx hb d_Mdl_may_126 ?_
      refine lv_iload hx hb d_Mdl_may_127 (lv_at hl 4 rfl) ?_
      refine lv_iadd hx hb d_Mdl_may_129 ?_
      refine x_lI C hH d_Mdl_may_130 hp (fun v7 hp => ?_)
      refine lv_isub hx hb d_Mdl_may_131 ?_
      refine lv_aload_n hx hb d_Mdl_may_132 rfl (lv_at hl 0 rfl) ?_
      refine x_gA C hH fl_Mdl_87 d_Mdl_may_133 hp (fun v8 hp => ?_)
      refine lv_iload_n hx hb d_Mdl_may_136 rfl (lv_at hl 2 rfl) ?_
      refine x_lI C hH d_Mdl_may_137 hp (fun v9 hp => ?_)
      refine lv_icmp_gt (tgt := 145) hx hb d_Mdl_may_138 (by decide) (fun hc => ?_) (fun hc => ?_)
      · replace hp := x_ifp hc hp
        refine lv_iconst (v := 0) hx hb d_Mdl_may_145 (by decide) ?_
        exact w_Mdl_may_146 C hr hnm hRf hRl hs93 l0 l1 l2 l5 0 l4 hp hH (lv_sub hl [0, 1, 2, 4] rfl)
      · replace hp := x_ifn hc hp
        refine lv_iconst (v := 1) hx hb d_Mdl_may_141 (by decide) ?_
        refine lv_goto (tgt := 146) hx hb d_Mdl_may_142 (by decide) ?_
        exact w_Mdl_may_146 C hr hnm hRf hRl hs93 l0 l1 l2 l5 1 l4 hp hH (lv_sub hl [0, 1, 2, 4] rfl)
theorem w_Mdl_may_h93 {res : (Int32 ⊕ (Nat × Nat)) × xH} (C : x_C l s0 A0 D R_Mdl prog_11_method_33_code 6 [] p s m args meth c) (hr : meth.sig.returnType = (some .boolean)) (hnm : meth.name = "may") (hRf : 1 ≤ R.frames) (hRl : 33 ≤ R.locals)  : ∀ (n : Nat) (l0 : Nat) (l1 : Int32) (l2 : Int32) (l4 : Int32) (l5 : Int32) (h : xH) (H : Heap) (locs : List Loc) (cells slots : Nat) (ls : Array Slot), f_Mdl_may_h93 n l0 l1 l2 l4 l5 h = some res → x_S s0 D R h H locs cells slots → lv_has ls 6 [(0, .ref l0), (1, .int l1), (2, .int l2), (4, .int l4), (5, .int l5)] → W p l e R s m args below meth c H locs cells slots (x_Q s0 D below s R (x_oc vI res.1) res.2) (F0 m 93 ls []) := by
  intro n
  induction n with
  | zero => intro l0 l1 l2 l4 l5 h H locs cells slots ls hp hH hl; cases hp
  | succ n ih => intro l0 l1 l2 l4 l5 h H locs cells slots ls hp hH hl; exact w_Mdl_may_93 C hr hnm hRf hRl ih l0 l1 l2 l4 l5 hp hH hl
set_option maxHeartbeats 4000000 in
set_option maxRecDepth 100000 in
theorem w_Mdl_may_88 {res : (Int32 ⊕ (Nat × Nat)) × xH} (C : x_C l s0 A0 D R_Mdl prog_11_method_33_code 6 [] p s m args meth c) (hr : meth.sig.returnType = (some .boolean)) (hnm : meth.name = "may") (hRf : 1 ≤ R.frames) (hRl : 33 ≤ R.locals)  (l0 : Nat) (l1 : Int32) (l2 : Int32) (t0 : Int32) (hp : f_Mdl_may_b88 l0 l1 l2 t0 h = some res) (hH : x_S s0 D R h H locs cells slots) (hl : lv_has ls 6 [(0, .ref l0), (1, .int l1), (2, .int l2)]) : W p l e R s m args below meth c H locs cells slots (x_Q s0 D below s R (x_oc vI res.1) res.2) (F0 m 88 ls [.int t0]) := by
  obtain ⟨hx, hb, hown, hts, hK, hml, hW, Z, -⟩ := id C
  unfold f_Mdl_may_b88 at hp
  refine lv_istore (lv' := [(4, .int t0), (0, .ref l0), (1, .int l1), (2, .int l2)]) hx hb d_Mdl_may_88 hl (by decide) rfl (fun ls hl => ?_)
  refine lv_iconst (v := 0) hx hb d_Mdl_may_90 (by decide) ?_
  refine lv_istore (lv' := [(5, .int 0), (4, .int t0), (0, .ref l0), (1, .int l1), (2, .int l2)]) hx hb d_Mdl_may_91 hl (by decide) rfl (fun ls hl => ?_)
  exact w_Mdl_may_h93 C hr hnm hRf hRl  1000 l0 l1 l2 t0 0 _ _ _ _ _ _ hp hH (lv_sub hl [2, 3, 4, 1, 0] rfl)
set_option maxHeartbeats 4000000 in
set_option maxRecDepth 100000 in
theorem w_Mdl_may_87 {res : (Int32 ⊕ (Nat × Nat)) × xH} (C : x_C l s0 A0 D R_Mdl prog_11_method_33_code 6 [] p s m args meth c) (hr : meth.sig.returnType = (some .boolean)) (hnm : meth.name = "may") (hRf : 1 ≤ R.frames) (hRl : 33 ≤ R.locals)  (l0 : Nat) (l1 : Int32) (l2 : Int32) (hp : f_Mdl_may_b87 l0 l1 l2 h = some res) (hH : x_S s0 D R h H locs cells slots) (hl : lv_has ls 6 [(0, .ref l0), (1, .int l1), (2, .int l2)]) : W p l e R s m args below meth c H locs cells slots (x_Q s0 D below s R (x_oc vI res.1) res.2) (F0 m 87 ls []) := by
  obtain ⟨hx, hb, hown, hts, hK, hml, hW, Z, -⟩ := id C
  unfold f_Mdl_may_b87 at hp
  refine lv_iconst (v := 0) hx hb d_Mdl_may_87 (by decide) ?_
  exact w_Mdl_may_88 C hr hnm hRf hRl  l0 l1 l2 0 hp hH (lv_sub hl [0, 1, 2] rfl)
set_option maxHeartbeats 4000000 in
set_option maxRecDepth 100000 in
theorem w_Mdl_may_83 {res : (Int32 ⊕ (Nat × Nat)) × xH} (C : x_C l s0 A0 D R_Mdl prog_11_method_33_code 6 [] p s m args meth c) (hr : meth.sig.returnType = (some .boolean)) (hnm : meth.name = "may") (hRf : 1 ≤ R.frames) (hRl : 33 ≤ R.locals)  (l0 : Nat) (l1 : Int32) (l2 : Int32) (hp : f_Mdl_may_b83 l0 l1 l2 h = some res) (hH : x_S s0 D R h H locs cells slots) (hl : lv_has ls 6 [(0, .ref l0), (1, .int l1), (2, .int l2)]) : W p l e R s m args below meth c H locs cells slots (x_Q s0 D below s R (x_oc vI res.1) res.2) (F0 m 83 ls []) := by
  obtain ⟨hx, hb, hown, hts, hK, hml, hW, Z, -⟩ := id C
  unfold f_Mdl_may_b83 at hp
  refine lv_iconst (v := 1) hx hb d_Mdl_may_83 (by decide) ?_
  refine lv_goto (tgt := 88) hx hb d_Mdl_may_84 (by decide) ?_
  exact w_Mdl_may_88 C hr hnm hRf hRl  l0 l1 l2 1 hp hH (lv_sub hl [0, 1, 2] rfl)
set_option maxHeartbeats 4000000 in
set_option maxRecDepth 100000 in
theorem w_Mdl_may_57 {res : (Int32 ⊕ (Nat × Nat)) × xH} (C : x_C l s0 A0 D R_Mdl prog_11_method_33_code 6 [] p s m args meth c) (hr : meth.sig.returnType = (some .boolean)) (hnm : meth.name = "may") (hRf : 1 ≤ R.frames) (hRl : 33 ≤ R.locals)  (l0 : Nat) (l1 : Int32) (l2 : Int32) (l3 : Int32) (hp : f_Mdl_may_b57 l0 l1 l2 l3 h = some res) (hH : x_S s0 D R h H locs cells slots) (hl : lv_has ls 6 [(0, .ref l0), (1, .int l1), (2, .int l2), (3, .int l3)]) : W p l e R s m args below meth c H locs cells slots (x_Q s0 D below s R (x_oc vI res.1) res.2) (F0 m 57 ls []) := by
  obtain ⟨hx, hb, hown, hts, hK, hml, hW, Z, -⟩ := id C
  unfold f_Mdl_may_b57 at hp
  refine lv_aload_n hx hb d_Mdl_may_57 rfl (lv_at hl 0 rfl) ?_
  refine x_gA C hH fl_Mdl_66 d_Mdl_may_58 hp (fun v1 hp => ?_)
  refine lv_iload_n hx hb d_Mdl_may_61 rfl (lv_at hl 3 rfl) ?_
  refine x_lI C hH d_Mdl_may_62 hp (fun v2 hp => ?_)
  refine lv_iconst (v := 2) hx hb d_Mdl_may_63 (by decide) ?_
  refine lv_iand hx hb d_Mdl_may_64 ?_
  refine lv_if_eq (tgt := 83) hx hb d_Mdl_may_65 (by decide) (fun hc => ?_) (fun hc => ?_)
  · replace hp := x_ifp hc hp
    exact w_Mdl_may_83 C hr hnm hRf hRl  l0 l1 l2 hp hH (lv_sub hl [0, 1, 2] rfl)
  · replace hp := x_ifn hc hp
    refine lv_aload_n hx hb d_Mdl_may_68 rfl (lv_at hl 0 rfl) ?_
    refine lv_aload_n hx hb d_Mdl_may_69 rfl (lv_at hl 0 rfl) ?_
    refine x_gA C hH fl_Mdl_75 d_Mdl_may_70 hp (fun v3 hp => ?_)
    refine lv_iconst (v := 3) hx hb d_Mdl_may_73 (by decide) ?_
    refine lv_iload_n hx hb d_Mdl_may_74 rfl (lv_at hl 3 rfl) ?_
    refine lv_imul hx hb d_Mdl_may_75 ?_
    refine lv_iload_n hx hb d_Mdl_may_76 rfl (lv_at hl 1 rfl) ?_
    refine x_callV (As := [.ref v3, .int (3 * l3), .int l1]) (rest := []) (cv := vI) C hH kc_Mdl_185 d_Mdl_may_77 hp (fun o h' e => m_Mdl_covers Z e) rfl hl.1 (Nat.le_trans (Nat.le_of_ble_eq_true rfl) hRf) (Nat.le_trans (Nat.le_of_ble_eq_true rfl) hRl) (Nat.le_of_ble_eq_true rfl) (fun v4 h H locs cells slots hp hH => ?_)
    refine W.eq (g2 := F0 m 80 ls [.int v4]) rfl ?_
    refine lv_if_eq (tgt := 87) hx hb d_Mdl_may_80 (by decide) (fun hc => ?_) (fun hc => ?_)
    · replace hp := x_ifp hc hp
      exact w_Mdl_may_87 C hr hnm hRf hRl  l0 l1 l2 hp hH (lv_sub hl [0, 1, 2] rfl)
    · replace hp := x_ifn hc hp
      exact w_Mdl_may_83 C hr hnm hRf hRl  l0 l1 l2 hp hH (lv_sub hl [0, 1, 2] rfl)
set_option maxHeartbeats 4000000 in
set_option maxRecDepth 100000 in
theorem w_Mdl_may_0 {res : (Int32 ⊕ (Nat × Nat)) × xH} (C : x_C l s0 A0 D R_Mdl prog_11_method_33_code 6 [] p s m args meth c) (hr : meth.sig.returnType = (some .boolean)) (hnm : meth.name = "may") (hRf : 1 ≤ R.frames) (hRl : 33 ≤ R.locals)  (l0 : Nat) (l1 : Int32) (l2 : Int32) (hp : f_Mdl_may l0 l1 l2 h = some res) (hH : x_S s0 D R h H locs cells slots) (hl : lv_has ls 6 [(0, .ref l0), (1, .int l1), (2, .int l2)]) : W p l e R s m args below meth c H locs cells slots (x_Q s0 D below s R (x_oc vI res.1) res.2) (F0 m 0 ls []) := by
  obtain ⟨hx, hb, hown, hts, hK, hml, hW, Z, -⟩ := id C
  unfold f_Mdl_may at hp
  refine lv_aload_n hx hb d_Mdl_may_0 rfl (lv_at hl 0 rfl) ?_
  refine x_gA C hH fl_Mdl_81 d_Mdl_may_1 hp (fun v1 hp => ?_)
  refine lv_iload_n hx hb d_Mdl_may_4 rfl (lv_at hl 2 rfl) ?_
  refine x_lI C hH d_Mdl_may_5 hp (fun v2 hp => ?_)
  refine lv_istore_n (lv' := [(3, .int v2), (0, .ref l0), (1, .int l1), (2, .int l2)]) hx hb d_Mdl_may_6 rfl hl (by decide) rfl (fun ls hl => ?_)
  refine lv_aload_n hx hb d_Mdl_may_7 rfl (lv_at hl 1 rfl) ?_
  refine x_gA C hH fl_Mdl_62 d_Mdl_may_8 hp (fun v3 hp => ?_)
  refine lv_iload_n hx hb d_Mdl_may_11 rfl (lv_at hl 2 rfl) ?_
  refine x_lZ C hH d_Mdl_may_12 hp (fun v4 hp => ?_)
  refine lv_if_eq (tgt := 87) hx hb d_Mdl_may_13 (by decide) (fun hc => ?_) (fun hc => ?_)
  · replace hp := x_ifp hc hp
    exact w_Mdl_may_87 C hr hnm hRf hRl  l0 l1 l2 hp hH (lv_sub hl [1, 2, 3] rfl)
  · replace hp := x_ifn hc hp
    refine lv_aload_n hx hb d_Mdl_may_16 rfl (lv_at hl 1 rfl) ?_
    refine lv_aload_n hx hb d_Mdl_may_17 rfl (lv_at hl 1 rfl) ?_
    refine x_gA C hH fl_Mdl_84 d_Mdl_may_18 hp (fun v5 hp => ?_)
    refine lv_iconst (v := 3) hx hb d_Mdl_may_21 (by decide) ?_
    refine lv_iload_n hx hb d_Mdl_may_22 rfl (lv_at hl 3 rfl) ?_
    refine lv_imul hx hb d_Mdl_may_23 ?_
    refine lv_iload_n hx hb d_Mdl_may_24 rfl (lv_at hl 2 rfl) ?_
    refine x_callV (As := [.ref v5, .int (3 * l2), .int l1]) (rest := []) (cv := vI) C hH kc_Mdl_185 d_Mdl_may_25 hp (fun o h' e => m_Mdl_covers Z e) rfl hl.1 (Nat.le_trans (Nat.le_of_ble_eq_true rfl) hRf) (Nat.le_trans (Nat.le_of_ble_eq_true rfl) hRl) (Nat.le_of_ble_eq_true rfl) (fun v6 h H locs cells slots hp hH => ?_)
    refine W.eq (g2 := F0 m 28 ls [.int v6]) rfl ?_
    refine lv_if_eq (tgt := 87) hx hb d_Mdl_may_28 (by decide) (fun hc => ?_) (fun hc => ?_)
    · replace hp := x_ifp hc hp
      exact w_Mdl_may_87 C hr hnm hRf hRl  l0 l1 l2 hp hH (lv_sub hl [1, 2, 3] rfl)
    · replace hp := x_ifn hc hp
      refine lv_aload_n hx hb d_Mdl_may_31 rfl (lv_at hl 1 rfl) ?_
      refine x_gA C hH fl_Mdl_66 d_Mdl_may_32 hp (fun v7 hp => ?_)
      refine lv_iload_n hx hb d_Mdl_may_35 rfl (lv_at hl 0 rfl) ?_
      refine x_lI C hH d_Mdl_may_36 hp (fun v8 hp => ?_)
      refine lv_iconst (v := 1) hx hb d_Mdl_may_37 (by decide) ?_
      refine lv_iand hx hb d_Mdl_may_38 ?_
      refine lv_if_eq (tgt := 57) hx hb d_Mdl_may_39 (by decide) (fun hc => ?_) (fun hc => ?_)
      · replace hp := x_ifp hc hp
        exact w_Mdl_may_57 C hr hnm hRf hRl  l0 l1 l2 v2 hp hH (lv_sub hl [1, 2, 3, 0] rfl)
      · replace hp := x_ifn hc hp
        refine lv_aload_n hx hb d_Mdl_may_42 rfl (lv_at hl 1 rfl) ?_
        refine lv_aload_n hx hb d_Mdl_may_43 rfl (lv_at hl 1 rfl) ?_
        refine x_gA C hH fl_Mdl_72 d_Mdl_may_44 hp (fun v9 hp => ?_)
        refine lv_iconst (v := 3) hx hb d_Mdl_may_47 (by decide) ?_
        refine lv_iload_n hx hb d_Mdl_may_48 rfl (lv_at hl 0 rfl) ?_
        refine lv_imul hx hb d_Mdl_may_49 ?_
        refine lv_iload_n hx hb d_Mdl_may_50 rfl (lv_at hl 2 rfl) ?_
        refine x_callV (As := [.ref v9, .int (3 * v2), .int l1]) (rest := []) (cv := vI) C hH kc_Mdl_185 d_Mdl_may_51 hp (fun o h' e => m_Mdl_covers Z e) rfl hl.1 (Nat.le_trans (Nat.le_of_ble_eq_true rfl) hRf) (Nat.le_trans (Nat.le_of_ble_eq_true rfl) hRl) (Nat.le_of_ble_eq_true rfl) (fun v10 h H locs cells slots hp hH => ?_)
        refine W.eq (g2 := F0 m 54 ls [.int v10]) rfl ?_
        refine lv_if_eq (tgt := 87) hx hb d_Mdl_may_54 (by decide) (fun hc => ?_) (fun hc => ?_)
        · replace hp := x_ifp hc hp
          exact w_Mdl_may_87 C hr hnm hRf hRl  l0 l1 l2 hp hH (lv_sub hl [1, 2, 3] rfl)
        · replace hp := x_ifn hc hp
          exact w_Mdl_may_57 C hr hnm hRf hRl  l0 l1 l2 v2 hp hH (lv_sub hl [1, 2, 3, 0] rfl)
set_option maxRecDepth 100000 in
theorem m_Mdl_may (Z : x_Z l s0 A0 D) {l0 : Nat} {l1 : Int32} {l2 : Int32} {res : (Int32 ⊕ (Nat × Nat)) × xH} (hp : f_Mdl_may l0 l1 l2 h = some res) : x_M l s0 D y_Mdl_may (x_cw y_Mdl_may prog_11_method_33_code 6 (some .boolean) []) 1 33 [.ref l0, .int l1, .int l2] h (x_oc vI res.1) res.2 := by
  refine x_M.ofW Z (plainFor_of_name (by decide)) ?_
  intro p e s m below meth c C hnm hr hH
  have hl := lv_entry ([.ref l0, .int l1, .int l2]) (n := 6) (Nat.le_of_ble_eq_true rfl)
  rw [lg_entry_eq]
  generalize (lg_sl ([.ref l0, .int l1, .int l2]) ++ List.replicate (6 - (lg_sl ([.ref l0, .int l1, .int l2])).length) Slot.unset).toArray = ls at hl ⊢
  exact w_Mdl_may_0 C hr hnm (Nat.le_refl _) (Nat.le_refl _) l0 l1 l2 hp hH hl
/-! ReadSideModel.greater(II)I -/
theorem d_Mdl_greater_0 : decode prog_11_method_3_code 0 = .ok (.iload_n 0, 1) := by decide +kernel
theorem d_Mdl_greater_1 : decode prog_11_method_3_code 1 = .ok (.iload_n 1, 1) := by decide +kernel
theorem d_Mdl_greater_2 : decode prog_11_method_3_code 2 = .ok (.if_icmp .le 7, 3) := by decide +kernel
theorem d_Mdl_greater_5 : decode prog_11_method_3_code 5 = .ok (.iload_n 0, 1) := by decide +kernel
theorem d_Mdl_greater_6 : decode prog_11_method_3_code 6 = .ok (.goto 4, 3) := by decide +kernel
theorem d_Mdl_greater_9 : decode prog_11_method_3_code 9 = .ok (.iload_n 1, 1) := by decide +kernel
theorem d_Mdl_greater_10 : decode prog_11_method_3_code 10 = .ok (.ireturn, 1) := by decide +kernel
set_option maxHeartbeats 4000000 in
set_option maxRecDepth 100000 in
theorem w_Mdl_greater_10 {res : (Int32 ⊕ (Nat × Nat)) × xH} (C : x_C l s0 A0 D R_Mdl prog_11_method_3_code 2 [] p s m args meth c) (hr : meth.sig.returnType = (some .int)) (hnm : meth.name = "greater") (hRf : 0 ≤ R.frames) (hRl : 0 ≤ R.locals)  (t0 : Int32) (hp : f_Mdl_greater_b10 t0 h = some res) (hH : x_S s0 D R h H locs cells slots) (hl : lv_has ls 2 []) : W p l e R s m args below meth c H locs cells slots (x_Q s0 D below s R (x_oc vI res.1) res.2) (F0 m 10 ls [.int t0]) := by
  obtain ⟨hx, hb, hown, hts, hK, hml, hW, Z, -⟩ := id C
  unfold f_Mdl_greater_b10 at hp
  exact x_iret C hH hr d_Mdl_greater_10 hp
set_option maxHeartbeats 4000000 in
set_option maxRecDepth 100000 in
theorem w_Mdl_greater_0 {res : (Int32 ⊕ (Nat × Nat)) × xH} (C : x_C l s0 A0 D R_Mdl prog_11_method_3_code 2 [] p s m args meth c) (hr : meth.sig.returnType = (some .int)) (hnm : meth.name = "greater") (hRf : 0 ≤ R.frames) (hRl : 0 ≤ R.locals)  (l0 : Int32) (l1 : Int32) (hp : f_Mdl_greater l0 l1 h = some res) (hH : x_S s0 D R h H locs cells slots) (hl : lv_has ls 2 [(0, .int l0), (1, .int l1)]) : W p l e R s m args below meth c H locs cells slots (x_Q s0 D below s R (x_oc vI res.1) res.2) (F0 m 0 ls []) := by
  obtain ⟨hx, hb, hown, hts, hK, hml, hW, Z, -⟩ := id C
  unfold f_Mdl_greater at hp
  refine lv_iload_n hx hb d_Mdl_greater_0 rfl (lv_at hl 0 rfl) ?_
  refine lv_iload_n hx hb d_Mdl_greater_1 rfl (lv_at hl 1 rfl) ?_
  refine lv_icmp_le (tgt := 9) hx hb d_Mdl_greater_2 (by decide) (fun hc => ?_) (fun hc => ?_)
  · replace hp := x_ifp hc hp
    refine lv_iload_n hx hb d_Mdl_greater_9 rfl (lv_at hl 1 rfl) ?_
    exact w_Mdl_greater_10 C hr hnm hRf hRl  l1 hp hH (lv_sub hl [] rfl)
  · replace hp := x_ifn hc hp
    refine lv_iload_n hx hb d_Mdl_greater_5 rfl (lv_at hl 0 rfl) ?_
    refine lv_goto (tgt := 10) hx hb d_Mdl_greater_6 (by decide) ?_
    exact w_Mdl_greater_10 C hr hnm hRf hRl  l0 hp hH (lv_sub hl [] rfl)
set_option maxRecDepth 100000 in
theorem m_Mdl_greater (Z : x_Z l s0 A0 D) {l0 : Int32} {l1 : Int32} {res : (Int32 ⊕ (Nat × Nat)) × xH} (hp : f_Mdl_greater l0 l1 h = some res) : x_M l s0 D y_Mdl_greater (x_cw y_Mdl_greater prog_11_method_3_code 2 (some .int) []) 0 0 [.int l0, .int l1] h (x_oc vI res.1) res.2 := by
  refine x_M.ofW Z (plainFor_of_name (by decide)) ?_
  intro p e s m below meth c C hnm hr hH
  have hl := lv_entry ([.int l0, .int l1]) (n := 2) (Nat.le_of_ble_eq_true rfl)
  rw [lg_entry_eq]
  generalize (lg_sl ([.int l0, .int l1]) ++ List.replicate (2 - (lg_sl ([.int l0, .int l1])).length) Slot.unset).toArray = ls at hl ⊢
  exact w_Mdl_greater_0 C hr hnm (Nat.le_refl _) (Nat.le_refl _) l0 l1 hp hH hl
end GEN
