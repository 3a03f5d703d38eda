section GEN
variable {p : Program} {l : Launch} {e : Env} {R : Room} {s : State} {m : MethodId} {args : Array Value} {below : List Frame} {meth : Method} {c : Code} {H : Heap} {locs : List Loc} {cells slots : Nat} {ls : Array Slot} {D : xD} {s0 : State} {A0 : Array Value} {h : xH}
set_option maxHeartbeats 4000000 in
set_option maxRecDepth 100000 in
theorem w_law_law_1022 {res : (Int32 ⊕ (Nat × Nat)) × xH} (C : x_C l s0 A0 D R_law code 8 [] p s m args meth c) (hr : meth.sig.returnType = (some .boolean)) (hnm : meth.name = "law") (hRf : 10 ≤ R.frames) (hRl : 259 ≤ R.locals) {k43 : Nat → Nat → Nat → Nat → Int32 → xM Int32} (hs43 : ∀ (l0 : Nat) (l1 : Nat) (l2 : Nat) (l3 : Nat) (l4 : Int32) (h : xH) (H : Heap) (locs : List Loc) (cells slots : Nat) (ls : Array Slot), k43 l0 l1 l2 l3 l4 h = some res → x_S s0 D R h H locs cells slots → lv_has ls 8 [(0, .ref l0), (1, .ref l1), (2, .ref l2), (3, .ref l3), (4, .int l4)] → W p l e R s m args below meth c H locs cells slots (x_Q s0 D below s R (x_oc vI res.1) res.2) (F0 m 43 ls [])) (l0 : Nat) (l1 : Nat) (l2 : Nat) (l3 : Nat) (l4 : Int32) (hp : f_law_law_b1022 k43 l0 l1 l2 l3 l4 h = some res) (hH : x_S s0 D R h H locs cells slots) (hl : lv_has ls 8 [(0, .ref l0), (1, .ref l1), (2, .ref l2), (3, .ref l3), (4, .int l4)]) : W p l e R s m args below meth c H locs cells slots (x_Q s0 D below s R (x_oc vI res.1) res.2) (F0 m 1022 ls []) := by
  obtain ⟨hx, hb, hown, hts, hK, hml, hW, Z, -⟩ := id C
  unfold f_law_law_b1022 at hp
  refine lv_aload_n hx hb d_law_law_1022 rfl (lv_at hl 1 rfl) ?_
  refine lv_aload_n hx hb d_law_law_1023 rfl (lv_at hl 0 rfl) ?_
  refine lv_iload hx hb d_law_law_1024 (lv_at hl 4 rfl) ?_
  refine lv_iconst (v := 1) hx hb d_law_law_1026 (by decide) ?_
  refine lv_iadd hx hb d_law_law_1027 ?_
  refine x_lI C hH d_law_law_1028 hp (fun v1 hp => ?_)
  refine lv_aload_n hx hb d_law_law_1029 rfl (lv_at hl 0 rfl) ?_
  refine lv_iload hx hb d_law_law_1030 (lv_at hl 4 rfl) ?_
  refine lv_iconst (v := 2) hx hb d_law_law_1032 (by decide) ?_
  refine lv_iadd hx hb d_law_law_1033 ?_
  refine x_lI C hH d_law_law_1034 hp (fun v2 hp => ?_)
  refine lv_aload_n hx hb d_law_law_1035 rfl (lv_at hl 0 rfl) ?_
  refine lv_iload hx hb d_law_law_1036 (lv_at hl 4 rfl) ?_
  refine lv_iconst (v := 3) hx hb d_law_law_1038 (by decide) ?_
  refine lv_iadd hx hb d_law_law_1039 ?_
  refine x_lI C hH d_law_law_1040 hp (fun v3 hp => ?_)
  refine lv_aload_n hx hb d_law_law_1041 rfl (lv_at hl 3 rfl) ?_
  refine x_callSh (As := [.ref l1, .int v1, .int v2, .int v3, .ref l3]) (rest := []) (cv := vI) C hH kc_law_141 d_law_law_1042 hp (fun o h' e => m_law_value Z e) rfl hl.1 (Nat.le_trans (Nat.le_of_ble_eq_true rfl) hRf) (Nat.le_trans (Nat.le_of_ble_eq_true rfl) hRl) (Nat.le_of_ble_eq_true rfl) (fun v4 h H locs cells slots hp hH => ?_)
  refine W.eq (g2 := F0 m 1045 ls [.int v4]) rfl ?_
  refine lv_istore (lv' := [(5, .int v4), (0, .ref l0), (1, .ref l1), (2, .ref l2), (3, .ref l3), (4, .int l4)]) hx hb d_law_law_1045 hl (by decide) rfl (fun ls hl => ?_)
  refine lv_aload_n hx hb d_law_law_1047 rfl (lv_at hl 3 rfl) ?_
  refine lv_aload_n hx hb d_law_law_1048 rfl (lv_at hl 1 rfl) ?_
  refine lv_iload hx hb d_law_law_1049 (lv_at hl 5 rfl) ?_
  refine lv_iconst (v := 1) hx hb d_law_law_1051 (by decide) ?_
  refine lv_iadd hx hb d_law_law_1052 ?_
  refine x_lI C hH d_law_law_1053 hp (fun v5 hp => ?_)
  refine lv_aload_n hx hb d_law_law_1054 rfl (lv_at hl 1 rfl) ?_
  refine lv_iload hx hb d_law_law_1055 (lv_at hl 5 rfl) ?_
  refine lv_iconst (v := 2) hx hb d_law_law_1057 (by decide) ?_
  refine lv_iadd hx hb d_law_law_1058 ?_
  refine x_lI C hH d_law_law_1059 hp (fun v6 hp => ?_)
  refine lv_aload_n hx hb d_law_law_1060 rfl (lv_at hl 1 rfl) ?_
  refine lv_iload hx hb d_law_law_1061 (lv_at hl 5 rfl) ?_
  refine lv_iconst (v := 3) hx hb d_law_law_1063 (by decide) ?_
  refine lv_iadd hx hb d_law_law_1064 ?_
  refine x_lI C hH d_law_law_1065 hp (fun v7 hp => ?_)
  refine x_callV (As := [.int v5, .int v6, .int v7]) (rest := []) (cv := vJ) C hH kc_law_144 d_law_law_1066 hp (fun o h' e => m_Mdl_value Z e) rfl hl.1 (Nat.le_trans (Nat.le_of_ble_eq_true rfl) hRf) (Nat.le_trans (Nat.le_of_ble_eq_true rfl) hRl) (Nat.le_of_ble_eq_true rfl) (fun v8 h H locs cells slots hp hH => ?_)
  refine W.eq (g2 := F0 m 1069 ls [.long v8]) rfl ?_
  refine lv_lstore (lv' := [(6, .long v8), (5, .int v4), (0, .ref l0), (1, .ref l1), (2, .ref l2), (3, .ref l3), (4, .int l4)]) hx hb d_law_law_1069 hl (by decide) rfl (fun ls hl => ?_)
  refine lv_aload_n hx hb d_law_law_1071 rfl (lv_at hl 4 rfl) ?_
  refine x_callV (As := []) (rest := []) (cv := vI) C hH kc_law_97 d_law_law_1072 hp (fun o h' e => m_Mdl_thrown Z e) rfl hl.1 (Nat.le_trans (Nat.le_of_ble_eq_true rfl) hRf) (Nat.le_trans (Nat.le_of_ble_eq_true rfl) hRl) (Nat.le_of_ble_eq_true rfl) (fun v9 h H locs cells slots hp hH => ?_)
  refine W.eq (g2 := F0 m 1075 ls [.int v9]) rfl ?_
  refine lv_iload hx hb d_law_law_1075 (lv_at hl 1 rfl) ?_
  refine lv_icmp_eq (tgt := 1082) hx hb d_law_law_1077 (by decide) (fun hc => ?_) (fun hc => ?_)
  · replace hp := x_ifp hc hp
    refine lv_iload hx hb d_law_law_1082 (lv_at hl 1 rfl) ?_
    refine lv_if_ne (tgt := 1098) hx hb d_law_law_1084 (by decide) (fun hc => ?_) (fun hc => ?_)
    · replace hp := x_ifn hc hp
      exact w_law_law_1098 C hr hnm hRf hRl hs43 l0 l1 l2 l3 l4 hp hH (lv_sub hl [2, 3, 4, 5, 6] rfl)
    · replace hp := x_ifp hc hp
      refine lv_aload_n hx hb d_law_law_1087 rfl (lv_at hl 5 rfl) ?_
      refine lv_iconst (v := 0) hx hb d_law_law_1088 (by decide) ?_
      refine x_lJ C hH d_law_law_1089 hp (fun v10 hp => ?_)
      refine lv_lload hx hb d_law_law_1090 (lv_at hl 0 rfl) ?_
      refine W.lcmp hx hb d_law_law_1092 ?_
      refine lv_if_eq (tgt := 1098) hx hb d_law_law_1093 (by decide) (fun hc => ?_) (fun hc => ?_)
      · replace hp := x_ifp hc hp
        exact w_law_law_1098 C hr hnm hRf hRl hs43 l0 l1 l2 l3 l4 hp hH (lv_sub hl [2, 3, 4, 5, 6] rfl)
      · replace hp := x_ifn hc hp
        refine lv_iconst (v := 0) hx hb d_law_law_1096 (by decide) ?_
        exact x_zret C hH hr d_law_law_1097 hp
  · replace hp := x_ifn hc hp
    refine lv_iconst (v := 0) hx hb d_law_law_1080 (by decide) ?_
    exact x_zret C hH hr d_law_law_1081 hp
set_option maxHeartbeats 4000000 in
set_option maxRecDepth 100000 in
theorem w_law_law_1019 {res : (Int32 ⊕ (Nat × Nat)) × xH} (C : x_C l s0 A0 D R_law code 8 [] p s m args meth c) (hr : meth.sig.returnType = (some .boolean)) (hnm : meth.name = "law") (hRf : 10 ≤ R.frames) (hRl : 259 ≤ R.locals) {k43 : Nat → Nat → Nat → Nat → Int32 → xM Int32} (hs43 : ∀ (l0 : Nat) (l1 : Nat) (l2 : Nat) (l3 : Nat) (l4 : Int32) (h : xH) (H : Heap) (locs : List Loc) (cells slots : Nat) (ls : Array Slot), k43 l0 l1 l2 l3 l4 h = some res → x_S s0 D R h H locs cells slots → lv_has ls 8 [(0, .ref l0), (1, .ref l1), (2, .ref l2), (3, .ref l3), (4, .int l4)] → W p l e R s m args below meth c H locs cells slots (x_Q s0 D below s R (x_oc vI res.1) res.2) (F0 m 43 ls [])) (l0 : Nat) (l1 : Nat) (l2 : Nat) (l3 : Nat) (l4 : Int32) (hp : f_law_law_b1019 k43 l0 l1 l2 l3 l4 h = some res) (hH : x_S s0 D R h H locs cells slots) (hl : lv_has ls 8 [(0, .ref l0), (1, .ref l1), (2, .ref l2), (3, .ref l3), (4, .int l4)]) : W p l e R s m args below meth c H locs cells slots (x_Q s0 D below s R (x_oc vI res.1) res.2) (F0 m 1019 ls []) := by
  obtain ⟨hx, hb, hown, hts, hK, hml, hW, Z, -⟩ := id C
  unfold f_law_law_b1019 at hp
  refine lv_goto (tgt := 1621) hx hb d_law_law_1019 (by decide) ?_
  exact w_law_law_1621 C hr hnm hRf hRl hs43 l0 l1 l2 l3 l4 hp hH (lv_sub hl [0, 1, 2, 3, 4] rfl)
set_option maxHeartbeats 4000000 in
set_option maxRecDepth 100000 in
theorem w_law_law_955 {res : (Int32 ⊕ (Nat × Nat)) × xH} (C : x_C l s0 A0 D R_law code 8 [] p s m args meth c) (hr : meth.sig.returnType = (some .boolean)) (hnm : meth.name = "law") (hRf : 10 ≤ R.frames) (hRl : 259 ≤ R.locals) {k43 : Nat → Nat → Nat → Nat → Int32 → xM Int32} (hs43 : ∀ (l0 : Nat) (l1 : Nat) (l2 : Nat) (l3 : Nat) (l4 : Int32) (h : xH) (H : Heap) (locs : List Loc) (cells slots : Nat) (ls : Array Slot), k43 l0 l1 l2 l3 l4 h = some res → x_S s0 D R h H locs cells slots → lv_has ls 8 [(0, .ref l0), (1, .ref l1), (2, .ref l2), (3, .ref l3), (4, .int l4)] → W p l e R s m args below meth c H locs cells slots (x_Q s0 D below s R (x_oc vI res.1) res.2) (F0 m 43 ls [])) (l0 : Nat) (l1 : Nat) (l2 : Nat) (l3 : Nat) (l4 : Int32) (hp : f_law_law_b955 k43 l0 l1 l2 l3 l4 h = some res) (hH : x_S s0 D R h H locs cells slots) (hl : lv_has ls 8 [(0, .ref l0), (1, .ref l1), (2, .ref l2), (3, .ref l3), (4, .int l4)]) : W p l e R s m args below meth c H locs cells slots (x_Q s0 D below s R (x_oc vI res.1) res.2) (F0 m 955 ls []) := by
  obtain ⟨hx, hb, hown, hts, hK, hml, hW, Z, -⟩ := id C
  unfold f_law_law_b955 at hp
  refine lv_aload_n hx hb d_law_law_955 rfl (lv_at hl 1 rfl) ?_
  refine lv_aload_n hx hb d_law_law_956 rfl (lv_at hl 0 rfl) ?_
  refine lv_iload hx hb d_law_law_957 (lv_at hl 4 rfl) ?_
  refine lv_iconst (v := 1) hx hb d_law_law_959 (by decide) ?_
  refine lv_iadd hx hb d_law_law_960 ?_
  refine x_lI C hH d_law_law_961 hp (fun v1 hp => ?_)
  refine lv_aload_n hx hb d_law_law_962 rfl (lv_at hl 0 rfl) ?_
  refine lv_iload hx hb d_law_law_963 (lv_at hl 4 rfl) ?_
  refine lv_iconst (v := 2) hx hb d_law_law_965 (by decide) ?_
  refine lv_iadd hx hb d_law_law_966 ?_
  refine x_lI C hH d_law_law_967 hp (fun v2 hp => ?_)
  refine lv_aload_n hx hb d_law_law_968 rfl (lv_at hl 3 rfl) ?_
  refine x_callSh (As := [.ref l1, .int v1, .int v2, .ref l3]) (rest := []) (cv := vI) C hH kc_law_138 d_law_law_969 hp (fun o h' e => m_law_read Z e) rfl hl.1 (Nat.le_trans (Nat.le_of_ble_eq_true rfl) hRf) (Nat.le_trans (Nat.le_of_ble_eq_true rfl) hRl) (Nat.le_of_ble_eq_true rfl) (fun v3 h H locs cells slots hp hH => ?_)
  refine W.eq (g2 := F0 m 972 ls [.int v3]) rfl ?_
  refine lv_istore (lv' := [(5, .int v3), (0, .ref l0), (1, .ref l1), (2, .ref l2), (3, .ref l3), (4, .int l4)]) hx hb d_law_law_972 hl (by decide) rfl (fun ls hl => ?_)
  refine lv_aload_n hx hb d_law_law_974 rfl (lv_at hl 3 rfl) ?_
  refine lv_aload_n hx hb d_law_law_975 rfl (lv_at hl 1 rfl) ?_
  refine lv_iload hx hb d_law_law_976 (lv_at hl 5 rfl) ?_
  refine lv_iconst (v := 1) hx hb d_law_law_978 (by decide) ?_
  refine lv_iadd hx hb d_law_law_979 ?_
  refine x_lI C hH d_law_law_980 hp (fun v4 hp => ?_)
  refine lv_aload_n hx hb d_law_law_981 rfl (lv_at hl 1 rfl) ?_
  refine lv_iload hx hb d_law_law_982 (lv_at hl 5 rfl) ?_
  refine lv_iconst (v := 2) hx hb d_law_law_984 (by decide) ?_
  refine lv_iadd hx hb d_law_law_985 ?_
  refine x_lI C hH d_law_law_986 hp (fun v5 hp => ?_)
  refine x_callV (As := [.int v4, .int v5]) (rest := []) (cv := vJ) C hH kc_law_140 d_law_law_987 hp (fun o h' e => m_Mdl_read Z e) rfl hl.1 (Nat.le_trans (Nat.le_of_ble_eq_true rfl) hRf) (Nat.le_trans (Nat.le_of_ble_eq_true rfl) hRl) (Nat.le_of_ble_eq_true rfl) (fun v6 h H locs cells slots hp hH => ?_)
  refine W.eq (g2 := F0 m 990 ls [.long v6]) rfl ?_
  refine lv_lstore (lv' := [(6, .long v6), (5, .int v3), (0, .ref l0), (1, .ref l1), (2, .ref l2), (3, .ref l3), (4, .int l4)]) hx hb d_law_law_990 hl (by decide) rfl (fun ls hl => ?_)
  refine lv_aload_n hx hb d_law_law_992 rfl (lv_at hl 4 rfl) ?_
  refine x_callV (As := []) (rest := []) (cv := vI) C hH kc_law_97 d_law_law_993 hp (fun o h' e => m_Mdl_thrown Z e) rfl hl.1 (Nat.le_trans (Nat.le_of_ble_eq_true rfl) hRf) (Nat.le_trans (Nat.le_of_ble_eq_true rfl) hRl) (Nat.le_of_ble_eq_true rfl) (fun v7 h H locs cells slots hp hH => ?_)
  refine W.eq (g2 := F0 m 996 ls [.int v7]) rfl ?_
  refine lv_iload hx hb d_law_law_996 (lv_at hl 1 rfl) ?_
  refine lv_icmp_eq (tgt := 1003) hx hb d_law_law_998 (by decide) (fun hc => ?_) (fun hc => ?_)
  · replace hp := x_ifp hc hp
    refine lv_iload hx hb d_law_law_1003 (lv_at hl 1 rfl) ?_
    refine lv_if_ne (tgt := 1019) hx hb d_law_law_1005 (by decide) (fun hc => ?_) (fun hc => ?_)
    · replace hp := x_ifn hc hp
      exact w_law_law_1019 C hr hnm hRf hRl hs43 l0 l1 l2 l3 l4 hp hH (lv_sub hl [2, 3, 4, 5, 6] rfl)
    · replace hp := x_ifp hc hp
      refine lv_aload_n hx hb d_law_law_1008 rfl (lv_at hl 5 rfl) ?_
      refine lv_iconst (v := 0) hx hb d_law_law_1009 (by decide) ?_
      refine x_lJ C hH d_law_law_1010 hp (fun v8 hp => ?_)
      refine lv_lload hx hb d_law_law_1011 (lv_at hl 0 rfl) ?_
      refine W.lcmp hx hb d_law_law_1013 ?_
      refine lv_if_eq (tgt := 1019) hx hb d_law_law_1014 (by decide) (fun hc => ?_) (fun hc => ?_)
      · replace hp := x_ifp hc hp
        exact w_law_law_1019 C hr hnm hRf hRl hs43 l0 l1 l2 l3 l4 hp hH (lv_sub hl [2, 3, 4, 5, 6] rfl)
      · replace hp := x_ifn hc hp
        refine lv_iconst (v := 0) hx hb d_law_law_1017 (by decide) ?_
        exact x_zret C hH hr d_law_law_1018 hp
  · replace hp := x_ifn hc hp
    refine lv_iconst (v := 0) hx hb d_law_law_1001 (by decide) ?_
    exact x_zret C hH hr d_law_law_1002 hp
set_option maxHeartbeats 4000000 in
set_option maxRecDepth 100000 in
theorem w_law_law_952 {res : (Int32 ⊕ (Nat × Nat)) × xH} (C : x_C l s0 A0 D R_law code 8 [] p s m args meth c) (hr : meth.sig.returnType = (some .boolean)) (hnm : meth.name = "law") (hRf : 10 ≤ R.frames) (hRl : 259 ≤ R.locals) {k43 : Nat → Nat → Nat → Nat → Int32 → xM Int32} (hs43 : ∀ (l0 : Nat) (l1 : Nat) (l2 : Nat) (l3 : Nat) (l4 : Int32) (h : xH) (H : Heap) (locs : List Loc) (cells slots : Nat) (ls : Array Slot), k43 l0 l1 l2 l3 l4 h = some res → x_S s0 D R h H locs cells slots → lv_has ls 8 [(0, .ref l0), (1, .ref l1), (2, .ref l2), (3, .ref l3), (4, .int l4)] → W p l e R s m args below meth c H locs cells slots (x_Q s0 D below s R (x_oc vI res.1) res.2) (F0 m 43 ls [])) (l0 : Nat) (l1 : Nat) (l2 : Nat) (l3 : Nat) (l4 : Int32) (hp : f_law_law_b952 k43 l0 l1 l2 l3 l4 h = some res) (hH : x_S s0 D R h H locs cells slots) (hl : lv_has ls 8 [(0, .ref l0), (1, .ref l1), (2, .ref l2), (3, .ref l3), (4, .int l4)]) : W p l e R s m args below meth c H locs cells slots (x_Q s0 D below s R (x_oc vI res.1) res.2) (F0 m 952 ls []) := by
  obtain ⟨hx, hb, hown, hts, hK, hml, hW, Z, -⟩ := id C
  unfold f_law_law_b952 at hp
  refine lv_goto (tgt := 1621) hx hb d_law_law_952 (by decide) ?_
  exact w_law_law_1621 C hr hnm hRf hRl hs43 l0 l1 l2 l3 l4 hp hH (lv_sub hl [0, 1, 2, 3, 4] rfl)
set_option maxHeartbeats 4000000 in
set_option maxRecDepth 100000 in
theorem w_law_law_803 {res : (Int32 ⊕ (Nat × Nat)) × xH} (C : x_C l s0 A0 D R_law code 8 [] p s m args meth c) (hr : meth.sig.returnType = (some .boolean)) (hnm : meth.name = "law") (hRf : 10 ≤ R.frames) (hRl : 259 ≤ R.locals) {k43 : Nat → Nat → Nat → Nat → Int32 → xM Int32} (hs43 : ∀ (l0 : Nat) (l1 : Nat) (l2 : Nat) (l3 : Nat) (l4 : Int32) (h : xH) (H : Heap) (locs : List Loc) (cells slots : Nat) (ls : Array Slot), k43 l0 l1 l2 l3 l4 h = some res → x_S s0 D R h H locs cells slots → lv_has ls 8 [(0, .ref l0), (1, .ref l1), (2, .ref l2), (3, .ref l3), (4, .int l4)] → W p l e R s m args below meth c H locs cells slots (x_Q s0 D below s R (x_oc vI res.1) res.2) (F0 m 43 ls [])) (l0 : Nat) (l1 : Nat) (l2 : Nat) (l3 : Nat) (l4 : Int32) (hp : f_law_law_b803 k43 l0 l1 l2 l3 l4 h = some res) (hH : x_S s0 D R h H locs cells slots) (hl : lv_has ls 8 [(0, .ref l0), (1, .ref l1), (2, .ref l2), (3, .ref l3), (4, .int l4)]) : W p l e R s m args below meth c H locs cells slots (x_Q s0 D below s R (x_oc vI res.1) res.2) (F0 m 803 ls []) := by
  obtain ⟨hx, hb, hown, hts, hK, hml, hW, Z, -⟩ := id C
  unfold f_law_law_b803 at hp
  refine lv_aload_n hx hb d_law_law_803 rfl (lv_at hl 1 rfl) ?_
  refine lv_aload_n hx hb d_law_law_804 rfl (lv_at hl 0 rfl) ?_
  refine lv_iload hx hb d_law_law_805 (lv_at hl 4 rfl) ?_
  refine lv_iconst (v := 1) hx hb d_law_law_807 (by decide) ?_
  refine lv_iadd hx hb d_law_law_808 ?_
  refine x_lI C hH d_law_law_809 hp (fun v1 hp => ?_)
  refine lv_aload_n hx hb d_law_law_810 rfl (lv_at hl 0 rfl) ?_
  refine lv_iload hx hb d_law_law_811 (lv_at hl 4 rfl) ?_
  refine lv_iconst (v := 2) hx hb d_law_law_813 (by decide) ?_
  refine lv_iadd hx hb d_law_law_814 ?_
  refine x_lI C hH d_law_law_815 hp (fun v2 hp => ?_)
  refine lv_i2l (v := v2.toInt64) hx hb d_law_law_816 rfl ?_
  refine lv_bipush (v := 32) hx hb d_law_law_817 (by decide) ?_
  refine lv_lshl (v := (v2.toInt64 <<< ((32 : Int32).toInt64 &&& 63))) hx hb d_law_law_819 rfl ?_
  refine lv_aload_n hx hb d_law_law_820 rfl (lv_at hl 0 rfl) ?_
  refine lv_iload hx hb d_law_law_821 (lv_at hl 4 rfl) ?_
  refine lv_iconst (v := 3) hx hb d_law_law_823 (by decide) ?_
  refine lv_iadd hx hb d_law_law_824 ?_
  refine x_lI C hH d_law_law_825 hp (fun v3 hp => ?_)
  refine lv_i2l (v := v3.toInt64) hx hb d_law_law_826 rfl ?_
  refine lv_ldc2 hx hb hown (hts _ k_1031) d_law_law_827 ?_
  refine lv_land hx hb d_law_law_830 ?_
  refine lv_lor hx hb d_law_law_831 ?_
  refine lv_aload_n hx hb d_law_law_832 rfl (lv_at hl 0 rfl) ?_
  refine lv_iload hx hb d_law_law_833 (lv_at hl 4 rfl) ?_
  refine lv_iconst (v := 4) hx hb d_law_law_835 (by decide) ?_
  refine lv_iadd hx hb d_law_law_836 ?_
  refine x_lI C hH d_law_law_837 hp (fun v4 hp => ?_)
  refine lv_aload_n hx hb d_law_law_838 rfl (lv_at hl 0 rfl) ?_
  refine lv_iload hx hb d_law_law_839 (lv_at hl 4 rfl) ?_
  refine lv_iconst (v := 5) hx hb d_law_law_841 (by decide) ?_
  refine lv_iadd hx hb d_law_law_842 ?_
  refine x_lI C hH d_law_law_843 hp (fun v5 hp => ?_)
  refine lv_aload_n hx hb d_law_law_844 rfl (lv_at hl 0 rfl) ?_
  refine lv_iload hx hb d_law_law_845 (lv_at hl 4 rfl) ?_
  refine lv_bipush (v := 6) hx hb d_law_law_847 (by decide) ?_
  refine lv_iadd hx hb d_law_law_849 ?_
  refine x_lI C hH d_law_law_850 hp (fun v6 hp => ?_)
  refine lv_aload_n hx hb d_law_law_851 rfl (lv_at hl 0 rfl) ?_
  refine lv_iload hx hb d_law_law_852 (lv_at hl 4 rfl) ?_
  refine lv_bipush (v := 7) hx hb d_law_law_854 (by decide) ?_
  refine lv_iadd hx hb d_law_law_856 ?_
  refine x_lI C hH d_law_law_857 hp (fun v7 hp => ?_)
  refine lv_aload_n hx hb d_law_law_858 rfl (lv_at hl 3 rfl) ?_
  refine x_callSh (As := [.ref l1, .int v1, .long ((v2.toInt64 <<< ((32 : Int32).toInt64 &&& 63)) ||| (v3.toInt64 &&& 4294967295)), .int v4, .int v5, .int v6, .int v7, .ref l3]) (rest := []) (cv := vI) C hH kc_law_134 d_law_law_859 hp (fun o h' e => m_law_ask Z e) rfl hl.1 (Nat.le_trans (Nat.le_of_ble_eq_true rfl) hRf) (Nat.le_trans (Nat.le_of_ble_eq_true rfl) hRl) (Nat.le_of_ble_eq_true rfl) (fun v8 h H locs cells slots hp hH => ?_)
  refine W.eq (g2 := F0 m 862 ls [.int v8]) rfl ?_
  refine lv_istore (lv' := [(5, .int v8), (0, .ref l0), (1, .ref l1), (2, .ref l2), (3, .ref l3), (4, .int l4)]) hx hb d_law_law_862 hl (by decide) rfl (fun ls hl => ?_)
  refine lv_aload_n hx hb d_law_law_864 rfl (lv_at hl 3 rfl) ?_
  refine lv_aload_n hx hb d_law_law_865 rfl (lv_at hl 1 rfl) ?_
  refine lv_iload hx hb d_law_law_866 (lv_at hl 5 rfl) ?_
  refine lv_iconst (v := 1) hx hb d_law_law_868 (by decide) ?_
  refine lv_iadd hx hb d_law_law_869 ?_
  refine x_lI C hH d_law_law_870 hp (fun v9 hp => ?_)
  refine lv_aload_n hx hb d_law_law_871 rfl (lv_at hl 1 rfl) ?_
  refine lv_iload hx hb d_law_law_872 (lv_at hl 5 rfl) ?_
  refine lv_iconst (v := 2) hx hb d_law_law_874 (by decide) ?_
  refine lv_iadd hx hb d_law_law_875 ?_
  refine x_lI C hH d_law_law_876 hp (fun v10 hp => ?_)
  refine lv_i2l (v := v10.toInt64) hx hb d_law_law_877 rfl ?_
  refine lv_bipush (v := 32) hx hb d_law_law_878 (by decide) ?_
  refine lv_lshl (v := (v10.toInt64 <<< ((32 : Int32).toInt64 &&& 63))) hx hb d_law_law_880 rfl ?_
  refine lv_aload_n hx hb d_law_law_881 rfl (lv_at hl 1 rfl) ?_
  refine lv_iload hx hb d_law_law_882 (lv_at hl 5 rfl) ?_
  refine lv_iconst (v := 3) hx hb d_law_law_884 (by decide) ?_
  refine lv_iadd hx hb d_law_law_885 ?_
  refine x_lI C hH d_law_law_886 hp (fun v11 hp => ?_)
  refine lv_i2l (v := v11.toInt64) hx hb d_law_law_887 rfl ?_
  refine lv_ldc2 hx hb hown (hts _ k_1031) d_law_law_888 ?_
  refine lv_land hx hb d_law_law_891 ?_
  refine lv_lor hx hb d_law_law_892 ?_
  refine lv_aload_n hx hb d_law_law_893 rfl (lv_at hl 1 rfl) ?_
  refine lv_iload hx hb d_law_law_894 (lv_at hl 5 rfl) ?_
  refine lv_iconst (v := 4) hx hb d_law_law_896 (by decide) ?_
  refine lv_iadd hx hb d_law_law_897 ?_
  refine x_lI C hH d_law_law_898 hp (fun v12 hp => ?_)
  refine lv_aload_n hx hb d_law_law_899 rfl (lv_at hl 1 rfl) ?_
  refine lv_iload hx hb d_law_law_900 (lv_at hl 5 rfl) ?_
  refine lv_iconst (v := 5) hx hb d_law_law_902 (by decide) ?_
  refine lv_iadd hx hb d_law_law_903 ?_
  refine x_lI C hH d_law_law_904 hp (fun v13 hp => ?_)
  refine lv_aload_n hx hb d_law_law_905 rfl (lv_at hl 1 rfl) ?_
  refine lv_iload hx hb d_law_law_906 (lv_at hl 5 rfl) ?_
  refine lv_bipush (v := 6) hx hb d_law_law_908 (by decide) ?_
  refine lv_iadd hx hb d_law_law_910 ?_
  refine x_lI C hH d_law_law_911 hp (fun v14 hp => ?_)
  refine lv_aload_n hx hb d_law_law_912 rfl (lv_at hl 1 rfl) ?_
  refine lv_iload hx hb d_law_law_913 (lv_at hl 5 rfl) ?_
  refine lv_bipush (v := 7) hx hb d_law_law_915 (by decide) ?_
  refine lv_iadd hx hb d_law_law_917 ?_
  refine x_lI C hH d_law_law_918 hp (fun v15 hp => ?_)
  refine x_callV (As := [.int v9, .long ((v10.toInt64 <<< ((32 : Int32).toInt64 &&& 63)) ||| (v11.toInt64 &&& 4294967295)), .int v12, .int v13, .int v14, .int v15]) (rest := []) (cv := vI) C hH kc_law_137 d_law_law_919 hp (fun o h' e => m_Mdl_ask Z e) rfl hl.1 (Nat.le_trans (Nat.le_of_ble_eq_true rfl) hRf) (Nat.le_trans (Nat.le_of_ble_eq_true rfl) hRl) (Nat.le_of_ble_eq_true rfl) (fun v16 h H locs cells slots hp hH => ?_)
  refine W.eq (g2 := F0 m 922 ls [.int v16]) rfl ?_
  refine lv_istore (lv' := [(6, .int v16), (5, .int v8), (0, .ref l0), (1, .ref l1), (2, .ref l2), (3, .ref l3), (4, .int l4)]) hx hb d_law_law_922 hl (by decide) rfl (fun ls hl => ?_)
  refine lv_aload_n hx hb d_law_law_924 rfl (lv_at hl 4 rfl) ?_
  refine x_callV (As := []) (rest := []) (cv := vI) C hH kc_law_97 d_law_law_925 hp (fun o h' e => m_Mdl_thrown Z e) rfl hl.1 (Nat.le_trans (Nat.le_of_ble_eq_true rfl) hRf) (Nat.le_trans (Nat.le_of_ble_eq_true rfl) hRl) (Nat.le_of_ble_eq_true rfl) (fun v17 h H locs cells slots hp hH => ?_)
  refine W.eq (g2 := F0 m 928 ls [.int v17]) rfl ?_
  refine lv_iload hx hb d_law_law_928 (lv_at hl 1 rfl) ?_
  refine lv_icmp_eq (tgt := 935) hx hb d_law_law_930 (by decide) (fun hc => ?_) (fun hc => ?_)
  · replace hp := x_ifp hc hp
    refine lv_iload hx hb d_law_law_935 (lv_at hl 1 rfl) ?_
    refine lv_if_ne (tgt := 952) hx hb d_law_law_937 (by decide) (fun hc => ?_) (fun hc => ?_)
    · replace hp := x_ifn hc hp
      exact w_law_law_952 C hr hnm hRf hRl hs43 l0 l1 l2 l3 l4 hp hH (lv_sub hl [2, 3, 4, 5, 6] rfl)
    · replace hp := x_ifp hc hp
      refine lv_aload_n hx hb d_law_law_940 rfl (lv_at hl 5 rfl) ?_
      refine lv_iconst (v := 0) hx hb d_law_law_941 (by decide) ?_
      refine x_lJ C hH d_law_law_942 hp (fun v18 hp => ?_)
      refine lv_iload hx hb d_law_law_943 (lv_at hl 0 rfl) ?_
      refine lv_i2l (v := v16.toInt64) hx hb d_law_law_945 rfl ?_
      refine W.lcmp hx hb d_law_law_946 ?_
      refine lv_if_eq (tgt := 952) hx hb d_law_law_947 (by decide) (fun hc => ?_) (fun hc => ?_)
      · replace hp := x_ifp hc hp
        exact w_law_law_952 C hr hnm hRf hRl hs43 l0 l1 l2 l3 l4 hp hH (lv_sub hl [2, 3, 4, 5, 6] rfl)
      · replace hp := x_ifn hc hp
        refine lv_iconst (v := 0) hx hb d_law_law_950 (by decide) ?_
        exact x_zret C hH hr d_law_law_951 hp
  · replace hp := x_ifn hc hp
    refine lv_iconst (v := 0) hx hb d_law_law_933 (by decide) ?_
    exact x_zret C hH hr d_law_law_934 hp
set_option maxHeartbeats 4000000 in
set_option maxRecDepth 100000 in
theorem w_law_law_790 {res : (Int32 ⊕ (Nat × Nat)) × xH} (C : x_C l s0 A0 D R_law code 8 [] p s m args meth c) (hr : meth.sig.returnType = (some .boolean)) (hnm : meth.name = "law") (hRf : 10 ≤ R.frames) (hRl : 259 ≤ R.locals) {k43 : Nat → Nat → Nat → Nat → Int32 → xM Int32} (hs43 : ∀ (l0 : Nat) (l1 : Nat) (l2 : Nat) (l3 : Nat) (l4 : Int32) (h : xH) (H : Heap) (locs : List Loc) (cells slots : Nat) (ls : Array Slot), k43 l0 l1 l2 l3 l4 h = some res → x_S s0 D R h H locs cells slots → lv_has ls 8 [(0, .ref l0), (1, .ref l1), (2, .ref l2), (3, .ref l3), (4, .int l4)] → W p l e R s m args below meth c H locs cells slots (x_Q s0 D below s R (x_oc vI res.1) res.2) (F0 m 43 ls [])) (l0 : Nat) (l1 : Nat) (l2 : Nat) (l3 : Nat) (l4 : Int32) (hp : f_law_law_b790 k43 l0 l1 l2 l3 l4 h = some res) (hH : x_S s0 D R h H locs cells slots) (hl : lv_has ls 8 [(0, .ref l0), (1, .ref l1), (2, .ref l2), (3, .ref l3), (4, .int l4)]) : W p l e R s m args below meth c H locs cells slots (x_Q s0 D below s R (x_oc vI res.1) res.2) (F0 m 790 ls []) := by
  obtain ⟨hx, hb, hown, hts, hK, hml, hW, Z, -⟩ := id C
  unfold f_law_law_b790 at hp
  refine lv_aload_n hx hb d_law_law_790 rfl (lv_at hl 1 rfl) ?_
  refine x_callV (As := []) (rest := []) (cv := vI) C hH kc_law_128 d_law_law_791 hp (fun o h' e => m_RS_trim Z e) rfl hl.1 (Nat.le_trans (Nat.le_of_ble_eq_true rfl) hRf) (Nat.le_trans (Nat.le_of_ble_eq_true rfl) hRl) (Nat.le_of_ble_eq_true rfl) (fun v1 h H locs cells slots hp hH => ?_)
  refine W.eq (g2 := F0 m 794 ls [.int v1]) rfl ?_
  refine lv_aload_n hx hb d_law_law_794 rfl (lv_at hl 2 rfl) ?_
  refine x_callV (As := []) (rest := [.int v1]) (cv := vI) C hH kc_law_131 d_law_law_795 hp (fun o h' e => m_Mdl_trim Z e) rfl hl.1 (Nat.le_trans (Nat.le_of_ble_eq_true rfl) hRf) (Nat.le_trans (Nat.le_of_ble_eq_true rfl) hRl) (Nat.le_of_ble_eq_true rfl) (fun v2 h H locs cells slots hp hH => ?_)
  refine W.eq (g2 := F0 m 798 ls [.int v2, .int v1]) rfl ?_
  refine lv_icmp_eq (tgt := 1621) hx hb d_law_law_798 (by decide) (fun hc => ?_) (fun hc => ?_)
  · replace hp := x_ifp hc hp
    exact w_law_law_1621 C hr hnm hRf hRl hs43 l0 l1 l2 l3 l4 hp hH (lv_sub hl [0, 1, 2, 3, 4] rfl)
  · replace hp := x_ifn hc hp
    refine lv_iconst (v := 0) hx hb d_law_law_801 (by decide) ?_
    exact x_zret C hH hr d_law_law_802 hp
set_option maxHeartbeats 4000000 in
set_option maxRecDepth 100000 in
theorem w_law_law_787 {res : (Int32 ⊕ (Nat × Nat)) × xH} (C : x_C l s0 A0 D R_law code 8 [] p s m args meth c) (hr : meth.sig.returnType = (some .boolean)) (hnm : meth.name = "law") (hRf : 10 ≤ R.frames) (hRl : 259 ≤ R.locals) {k43 : Nat → Nat → Nat → Nat → Int32 → xM Int32} (hs43 : ∀ (l0 : Nat) (l1 : Nat) (l2 : Nat) (l3 : Nat) (l4 : Int32) (h : xH) (H : Heap) (locs : List Loc) (cells slots : Nat) (ls : Array Slot), k43 l0 l1 l2 l3 l4 h = some res → x_S s0 D R h H locs cells slots → lv_has ls 8 [(0, .ref l0), (1, .ref l1), (2, .ref l2), (3, .ref l3), (4, .int l4)] → W p l e R s m args below meth c H locs cells slots (x_Q s0 D below s R (x_oc vI res.1) res.2) (F0 m 43 ls [])) (l0 : Nat) (l1 : Nat) (l2 : Nat) (l3 : Nat) (l4 : Int32) (hp : f_law_law_b787 k43 l0 l1 l2 l3 l4 h = some res) (hH : x_S s0 D R h H locs cells slots) (hl : lv_has ls 8 [(0, .ref l0), (1, .ref l1), (2, .ref l2), (3, .ref l3), (4, .int l4)]) : W p l e R s m args below meth c H locs cells slots (x_Q s0 D below s R (x_oc vI res.1) res.2) (F0 m 787 ls []) := by
  obtain ⟨hx, hb, hown, hts, hK, hml, hW, Z, -⟩ := id C
  unfold f_law_law_b787 at hp
  refine lv_goto (tgt := 1621) hx hb d_law_law_787 (by decide) ?_
  exact w_law_law_1621 C hr hnm hRf hRl hs43 l0 l1 l2 l3 l4 hp hH (lv_sub hl [0, 1, 2, 3, 4] rfl)
set_option maxHeartbeats 4000000 in
set_option maxRecDepth 100000 in
theorem w_law_law_734 {res : (Int32 ⊕ (Nat × Nat)) × xH} (C : x_C l s0 A0 D R_law code 8 [] p s m args meth c) (hr : meth.sig.returnType = (some .boolean)) (hnm : meth.name = "law") (hRf : 10 ≤ R.frames) (hRl : 259 ≤ R.locals) {k43 : Nat → Nat → Nat → Nat → Int32 → xM Int32} (hs43 : ∀ (l0 : Nat) (l1 : Nat) (l2 : Nat) (l3 : Nat) (l4 : Int32) (h : xH) (H : Heap) (locs : List Loc) (cells slots : Nat) (ls : Array Slot), k43 l0 l1 l2 l3 l4 h = some res → x_S s0 D R h H locs cells slots → lv_has ls 8 [(0, .ref l0), (1, .ref l1), (2, .ref l2), (3, .ref l3), (4, .int l4)] → W p l e R s m args below meth c H locs cells slots (x_Q s0 D below s R (x_oc vI res.1) res.2) (F0 m 43 ls [])) (l0 : Nat) (l1 : Nat) (l2 : Nat) (l3 : Nat) (l4 : Int32) (hp : f_law_law_b734 k43 l0 l1 l2 l3 l4 h = some res) (hH : x_S s0 D R h H locs cells slots) (hl : lv_has ls 8 [(0, .ref l0), (1, .ref l1), (2, .ref l2), (3, .ref l3), (4, .int l4)]) : W p l e R s m args below meth c H locs cells slots (x_Q s0 D below s R (x_oc vI res.1) res.2) (F0 m 734 ls []) := by
  obtain ⟨hx, hb, hown, hts, hK, hml, hW, Z, -⟩ := id C
  unfold f_law_law_b734 at hp
  refine lv_aload_n hx hb d_law_law_734 rfl (lv_at hl 1 rfl) ?_
  refine lv_aload_n hx hb d_law_law_735 rfl (lv_at hl 0 rfl) ?_
  refine lv_iload hx hb d_law_law_736 (lv_at hl 4 rfl) ?_
  refine lv_iconst (v := 1) hx hb d_law_law_738 (by decide) ?_
  refine lv_iadd hx hb d_law_law_739 ?_
  refine x_lI C hH d_law_law_740 hp (fun v1 hp => ?_)
  refine lv_aload_n hx hb d_law_law_741 rfl (lv_at hl 3 rfl) ?_
  refine x_callSh (As := [.ref l1, .int v1, .ref l3]) (rest := []) (cv := vI) C hH kc_law_125 d_law_law_742 hp (fun o h' e => m_law_crash Z e) rfl hl.1 (Nat.le_trans (Nat.le_of_ble_eq_true rfl) hRf) (Nat.le_trans (Nat.le_of_ble_eq_true rfl) hRl) (Nat.le_of_ble_eq_true rfl) (fun v2 h H locs cells slots hp hH => ?_)
  refine W.eq (g2 := F0 m 745 ls [.int v2]) rfl ?_
  refine lv_istore (lv' := [(5, .int v2), (0, .ref l0), (1, .ref l1), (2, .ref l2), (3, .ref l3), (4, .int l4)]) hx hb d_law_law_745 hl (by decide) rfl (fun ls hl => ?_)
  refine lv_aload_n hx hb d_law_law_747 rfl (lv_at hl 3 rfl) ?_
  refine lv_aload_n hx hb d_law_law_748 rfl (lv_at hl 1 rfl) ?_
  refine lv_iload hx hb d_law_law_749 (lv_at hl 5 rfl) ?_
  refine lv_iconst (v := 1) hx hb d_law_law_751 (by decide) ?_
  refine lv_iadd hx hb d_law_law_752 ?_
  refine x_lI C hH d_law_law_753 hp (fun v3 hp => ?_)
  refine x_callV (As := [.int v3]) (rest := []) (cv := vI) C hH kc_law_127 d_law_law_754 hp (fun o h' e => m_Mdl_crash Z e) rfl hl.1 (Nat.le_trans (Nat.le_of_ble_eq_true rfl) hRf) (Nat.le_trans (Nat.le_of_ble_eq_true rfl) hRl) (Nat.le_of_ble_eq_true rfl) (fun v4 h H locs cells slots hp hH => ?_)
  refine W.eq (g2 := F0 m 757 ls [.int v4]) rfl ?_
  refine lv_istore (lv' := [(6, .int v4), (5, .int v2), (0, .ref l0), (1, .ref l1), (2, .ref l2), (3, .ref l3), (4, .int l4)]) hx hb d_law_law_757 hl (by decide) rfl (fun ls hl => ?_)
  refine lv_aload_n hx hb d_law_law_759 rfl (lv_at hl 4 rfl) ?_
  refine x_callV (As := []) (rest := []) (cv := vI) C hH kc_law_97 d_law_law_760 hp (fun o h' e => m_Mdl_thrown Z e) rfl hl.1 (Nat.le_trans (Nat.le_of_ble_eq_true rfl) hRf) (Nat.le_trans (Nat.le_of_ble_eq_true rfl) hRl) (Nat.le_of_ble_eq_true rfl) (fun v5 h H locs cells slots hp hH => ?_)
  refine W.eq (g2 := F0 m 763 ls [.int v5]) rfl ?_
  refine lv_iload hx hb d_law_law_763 (lv_at hl 1 rfl) ?_
  refine lv_icmp_eq (tgt := 770) hx hb d_law_law_765 (by decide) (fun hc => ?_) (fun hc => ?_)
  · replace hp := x_ifp hc hp
    refine lv_iload hx hb d_law_law_770 (lv_at hl 1 rfl) ?_
    refine lv_if_ne (tgt := 787) hx hb d_law_law_772 (by decide) (fun hc => ?_) (fun hc => ?_)
    · replace hp := x_ifn hc hp
      exact w_law_law_787 C hr hnm hRf hRl hs43 l0 l1 l2 l3 l4 hp hH (lv_sub hl [2, 3, 4, 5, 6] rfl)
    · replace hp := x_ifp hc hp
      refine lv_aload_n hx hb d_law_law_775 rfl (lv_at hl 5 rfl) ?_
      refine lv_iconst (v := 0) hx hb d_law_law_776 (by decide) ?_
      refine x_lJ C hH d_law_law_777 hp (fun v6 hp => ?_)
      refine lv_iload hx hb d_law_law_778 (lv_at hl 0 rfl) ?_
      refine lv_i2l (v := v4.toInt64) hx hb d_law_law_780 rfl ?_
      refine W.lcmp hx hb d_law_law_781 ?_
      refine lv_if_eq (tgt := 787) hx hb d_law_law_782 (by decide) (fun hc => ?_) (fun hc => ?_)
      · replace hp := x_ifp hc hp
        exact w_law_law_787 C hr hnm hRf hRl hs43 l0 l1 l2 l3 l4 hp hH (lv_sub hl [2, 3, 4, 5, 6] rfl)
      · replace hp := x_ifn hc hp
        refine lv_iconst (v := 0) hx hb d_law_law_785 (by decide) ?_
        exact x_zret C hH hr d_law_law_786 hp
  · replace hp := x_ifn hc hp
    refine lv_iconst (v := 0) hx hb d_law_law_768 (by decide) ?_
    exact x_zret C hH hr d_law_law_769 hp
end GEN
