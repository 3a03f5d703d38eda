section GEN
variable {p : Program} {l : Launch} {e : Env} {R : Room} {s : State} {m : MethodId} {args : Array Value} {below : List Frame} {meth : Method} {c : Code} {H : Heap} {locs : List Loc} {cells slots : Nat} {ls : Array Slot} {D : xD} {s0 : State} {A0 : Array Value} {h : xH}
set_option maxHeartbeats 4000000 in
set_option maxRecDepth 100000 in
theorem w_law_law_224 {res : (Int32 ⊕ (Nat × Nat)) × xH} (C : x_C l s0 A0 D R_law code 8 [] p s m args meth c) (hr : meth.sig.returnType = (some .boolean)) (hnm : meth.name = "law") (hRf : 10 ≤ R.frames) (hRl : 259 ≤ R.locals) {k43 : Nat → Nat → Nat → Nat → Int32 → xM Int32} (hs43 : ∀ (l0 : Nat) (l1 : Nat) (l2 : Nat) (l3 : Nat) (l4 : Int32) (h : xH) (H : Heap) (locs : List Loc) (cells slots : Nat) (ls : Array Slot), k43 l0 l1 l2 l3 l4 h = some res → x_S s0 D R h H locs cells slots → lv_has ls 8 [(0, .ref l0), (1, .ref l1), (2, .ref l2), (3, .ref l3), (4, .int l4)] → W p l e R s m args below meth c H locs cells slots (x_Q s0 D below s R (x_oc vI res.1) res.2) (F0 m 43 ls [])) (l0 : Nat) (l1 : Nat) (l2 : Nat) (l3 : Nat) (l4 : Int32) (hp : f_law_law_b224 k43 l0 l1 l2 l3 l4 h = some res) (hH : x_S s0 D R h H locs cells slots) (hl : lv_has ls 8 [(0, .ref l0), (1, .ref l1), (2, .ref l2), (3, .ref l3), (4, .int l4)]) : W p l e R s m args below meth c H locs cells slots (x_Q s0 D below s R (x_oc vI res.1) res.2) (F0 m 224 ls []) := by
  obtain ⟨hx, hb, hown, hts, hK, hml, hW, Z, -⟩ := id C
  unfold f_law_law_b224 at hp
  refine lv_aload_n hx hb d_law_law_224 rfl (lv_at hl 1 rfl) ?_
  refine lv_aload_n hx hb d_law_law_225 rfl (lv_at hl 0 rfl) ?_
  refine lv_iload hx hb d_law_law_226 (lv_at hl 4 rfl) ?_
  refine lv_iconst (v := 1) hx hb d_law_law_228 (by decide) ?_
  refine lv_iadd hx hb d_law_law_229 ?_
  refine x_lI C hH d_law_law_230 hp (fun v1 hp => ?_)
  refine lv_aload_n hx hb d_law_law_231 rfl (lv_at hl 0 rfl) ?_
  refine lv_iload hx hb d_law_law_232 (lv_at hl 4 rfl) ?_
  refine lv_iconst (v := 2) hx hb d_law_law_234 (by decide) ?_
  refine lv_iadd hx hb d_law_law_235 ?_
  refine x_lI C hH d_law_law_236 hp (fun v2 hp => ?_)
  refine lv_aload_n hx hb d_law_law_237 rfl (lv_at hl 3 rfl) ?_
  refine x_callSh (As := [.ref l1, .int v1, .int v2, .ref l3]) (rest := []) (cv := vI) C hH kc_law_101 d_law_law_238 hp (fun o h' e => m_law_home Z e) rfl hl.1 (Nat.le_trans (Nat.le_of_ble_eq_true rfl) hRf) (Nat.le_trans (Nat.le_of_ble_eq_true rfl) hRl) (Nat.le_of_ble_eq_true rfl) (fun v3 h H locs cells slots hp hH => ?_)
  refine W.eq (g2 := F0 m 241 ls [.int v3]) rfl ?_
  refine lv_istore (lv' := [(5, .int v3), (0, .ref l0), (1, .ref l1), (2, .ref l2), (3, .ref l3), (4, .int l4)]) hx hb d_law_law_241 hl (by decide) rfl (fun ls hl => ?_)
  refine lv_aload_n hx hb d_law_law_243 rfl (lv_at hl 3 rfl) ?_
  refine lv_aload_n hx hb d_law_law_244 rfl (lv_at hl 1 rfl) ?_
  refine lv_iload hx hb d_law_law_245 (lv_at hl 5 rfl) ?_
  refine lv_iconst (v := 1) hx hb d_law_law_247 (by decide) ?_
  refine lv_iadd hx hb d_law_law_248 ?_
  refine x_lI C hH d_law_law_249 hp (fun v4 hp => ?_)
  refine lv_aload_n hx hb d_law_law_250 rfl (lv_at hl 1 rfl) ?_
  refine lv_iload hx hb d_law_law_251 (lv_at hl 5 rfl) ?_
  refine lv_iconst (v := 2) hx hb d_law_law_253 (by decide) ?_
  refine lv_iadd hx hb d_law_law_254 ?_
  refine x_lI C hH d_law_law_255 hp (fun v5 hp => ?_)
  refine x_callV (As := [.int v4, .int v5]) (rest := []) (cv := vI) C hH kc_law_103 d_law_law_256 hp (fun o h' e => m_Mdl_home Z e) rfl hl.1 (Nat.le_trans (Nat.le_of_ble_eq_true rfl) hRf) (Nat.le_trans (Nat.le_of_ble_eq_true rfl) hRl) (Nat.le_of_ble_eq_true rfl) (fun v6 h H locs cells slots hp hH => ?_)
  refine W.eq (g2 := F0 m 259 ls [.int v6]) rfl ?_
  refine lv_istore (lv' := [(6, .int v6), (5, .int v3), (0, .ref l0), (1, .ref l1), (2, .ref l2), (3, .ref l3), (4, .int l4)]) hx hb d_law_law_259 hl (by decide) rfl (fun ls hl => ?_)
  refine lv_aload_n hx hb d_law_law_261 rfl (lv_at hl 4 rfl) ?_
  refine x_callV (As := []) (rest := []) (cv := vI) C hH kc_law_97 d_law_law_262 hp (fun o h' e => m_Mdl_thrown Z e) rfl hl.1 (Nat.le_trans (Nat.le_of_ble_eq_true rfl) hRf) (Nat.le_trans (Nat.le_of_ble_eq_true rfl) hRl) (Nat.le_of_ble_eq_true rfl) (fun v7 h H locs cells slots hp hH => ?_)
  refine W.eq (g2 := F0 m 265 ls [.int v7]) rfl ?_
  refine lv_iload hx hb d_law_law_265 (lv_at hl 1 rfl) ?_
  refine lv_icmp_eq (tgt := 272) hx hb d_law_law_267 (by decide) (fun hc => ?_) (fun hc => ?_)
  · replace hp := x_ifp hc hp
    refine lv_iload hx hb d_law_law_272 (lv_at hl 1 rfl) ?_
    refine lv_if_ne (tgt := 289) hx hb d_law_law_274 (by decide) (fun hc => ?_) (fun hc => ?_)
    · replace hp := x_ifn hc hp
      exact w_law_law_289 C hr hnm hRf hRl hs43 l0 l1 l2 l3 l4 hp hH (lv_sub hl [2, 3, 4, 5, 6] rfl)
    · replace hp := x_ifp hc hp
      refine lv_aload_n hx hb d_law_law_277 rfl (lv_at hl 5 rfl) ?_
      refine lv_iconst (v := 0) hx hb d_law_law_278 (by decide) ?_
      refine x_lJ C hH d_law_law_279 hp (fun v8 hp => ?_)
      refine lv_iload hx hb d_law_law_280 (lv_at hl 0 rfl) ?_
      refine lv_i2l (v := v6.toInt64) hx hb d_law_law_282 rfl ?_
      refine W.lcmp hx hb d_law_law_283 ?_
      refine lv_if_eq (tgt := 289) hx hb d_law_law_284 (by decide) (fun hc => ?_) (fun hc => ?_)
      · replace hp := x_ifp hc hp
        exact w_law_law_289 C hr hnm hRf hRl hs43 l0 l1 l2 l3 l4 hp hH (lv_sub hl [2, 3, 4, 5, 6] rfl)
      · replace hp := x_ifn hc hp
        refine lv_iconst (v := 0) hx hb d_law_law_287 (by decide) ?_
        exact x_zret C hH hr d_law_law_288 hp
  · replace hp := x_ifn hc hp
    refine lv_iconst (v := 0) hx hb d_law_law_270 (by decide) ?_
    exact x_zret C hH hr d_law_law_271 hp
set_option maxHeartbeats 4000000 in
set_option maxRecDepth 100000 in
theorem w_law_law_221 {res : (Int32 ⊕ (Nat × Nat)) × xH} (C : x_C l s0 A0 D R_law code 8 [] p s m args meth c) (hr : meth.sig.returnType = (some .boolean)) (hnm : meth.name = "law") (hRf : 10 ≤ R.frames) (hRl : 259 ≤ R.locals) {k43 : Nat → Nat → Nat → Nat → Int32 → xM Int32} (hs43 : ∀ (l0 : Nat) (l1 : Nat) (l2 : Nat) (l3 : Nat) (l4 : Int32) (h : xH) (H : Heap) (locs : List Loc) (cells slots : Nat) (ls : Array Slot), k43 l0 l1 l2 l3 l4 h = some res → x_S s0 D R h H locs cells slots → lv_has ls 8 [(0, .ref l0), (1, .ref l1), (2, .ref l2), (3, .ref l3), (4, .int l4)] → W p l e R s m args below meth c H locs cells slots (x_Q s0 D below s R (x_oc vI res.1) res.2) (F0 m 43 ls [])) (l0 : Nat) (l1 : Nat) (l2 : Nat) (l3 : Nat) (l4 : Int32) (hp : f_law_law_b221 k43 l0 l1 l2 l3 l4 h = some res) (hH : x_S s0 D R h H locs cells slots) (hl : lv_has ls 8 [(0, .ref l0), (1, .ref l1), (2, .ref l2), (3, .ref l3), (4, .int l4)]) : W p l e R s m args below meth c H locs cells slots (x_Q s0 D below s R (x_oc vI res.1) res.2) (F0 m 221 ls []) := by
  obtain ⟨hx, hb, hown, hts, hK, hml, hW, Z, -⟩ := id C
  unfold f_law_law_b221 at hp
  refine lv_goto (tgt := 1621) hx hb d_law_law_221 (by decide) ?_
  exact w_law_law_1621 C hr hnm hRf hRl hs43 l0 l1 l2 l3 l4 hp hH (lv_sub hl [0, 1, 2, 3, 4] rfl)
set_option maxHeartbeats 4000000 in
set_option maxRecDepth 100000 in
theorem w_law_law_156 {res : (Int32 ⊕ (Nat × Nat)) × xH} (C : x_C l s0 A0 D R_law code 8 [] p s m args meth c) (hr : meth.sig.returnType = (some .boolean)) (hnm : meth.name = "law") (hRf : 10 ≤ R.frames) (hRl : 259 ≤ R.locals) {k43 : Nat → Nat → Nat → Nat → Int32 → xM Int32} (hs43 : ∀ (l0 : Nat) (l1 : Nat) (l2 : Nat) (l3 : Nat) (l4 : Int32) (h : xH) (H : Heap) (locs : List Loc) (cells slots : Nat) (ls : Array Slot), k43 l0 l1 l2 l3 l4 h = some res → x_S s0 D R h H locs cells slots → lv_has ls 8 [(0, .ref l0), (1, .ref l1), (2, .ref l2), (3, .ref l3), (4, .int l4)] → W p l e R s m args below meth c H locs cells slots (x_Q s0 D below s R (x_oc vI res.1) res.2) (F0 m 43 ls [])) (l0 : Nat) (l1 : Nat) (l2 : Nat) (l3 : Nat) (l4 : Int32) (hp : f_law_law_b156 k43 l0 l1 l2 l3 l4 h = some res) (hH : x_S s0 D R h H locs cells slots) (hl : lv_has ls 8 [(0, .ref l0), (1, .ref l1), (2, .ref l2), (3, .ref l3), (4, .int l4)]) : W p l e R s m args below meth c H locs cells slots (x_Q s0 D below s R (x_oc vI res.1) res.2) (F0 m 156 ls []) := by
  obtain ⟨hx, hb, hown, hts, hK, hml, hW, Z, -⟩ := id C
  unfold f_law_law_b156 at hp
  refine lv_aload_n hx hb d_law_law_156 rfl (lv_at hl 1 rfl) ?_
  refine lv_aload_n hx hb d_law_law_157 rfl (lv_at hl 0 rfl) ?_
  refine lv_iload hx hb d_law_law_158 (lv_at hl 4 rfl) ?_
  refine lv_iconst (v := 1) hx hb d_law_law_160 (by decide) ?_
  refine lv_iadd hx hb d_law_law_161 ?_
  refine x_lI C hH d_law_law_162 hp (fun v1 hp => ?_)
  refine lv_aload_n hx hb d_law_law_163 rfl (lv_at hl 0 rfl) ?_
  refine lv_iload hx hb d_law_law_164 (lv_at hl 4 rfl) ?_
  refine lv_iconst (v := 2) hx hb d_law_law_166 (by decide) ?_
  refine lv_iadd hx hb d_law_law_167 ?_
  refine x_lI C hH d_law_law_168 hp (fun v2 hp => ?_)
  refine lv_aload_n hx hb d_law_law_169 rfl (lv_at hl 3 rfl) ?_
  refine x_callSh (As := [.ref l1, .int v1, .int v2, .ref l3]) (rest := []) (cv := vI) C hH kc_law_93 d_law_law_170 hp (fun o h' e => m_law_mode Z e) rfl hl.1 (Nat.le_trans (Nat.le_of_ble_eq_true rfl) hRf) (Nat.le_trans (Nat.le_of_ble_eq_true rfl) hRl) (Nat.le_of_ble_eq_true rfl) (fun v3 h H locs cells slots hp hH => ?_)
  refine W.eq (g2 := F0 m 173 ls [.int v3]) rfl ?_
  refine lv_istore (lv' := [(5, .int v3), (0, .ref l0), (1, .ref l1), (2, .ref l2), (3, .ref l3), (4, .int l4)]) hx hb d_law_law_173 hl (by decide) rfl (fun ls hl => ?_)
  refine lv_aload_n hx hb d_law_law_175 rfl (lv_at hl 3 rfl) ?_
  refine lv_aload_n hx hb d_law_law_176 rfl (lv_at hl 1 rfl) ?_
  refine lv_iload hx hb d_law_law_177 (lv_at hl 5 rfl) ?_
  refine lv_iconst (v := 1) hx hb d_law_law_179 (by decide) ?_
  refine lv_iadd hx hb d_law_law_180 ?_
  refine x_lI C hH d_law_law_181 hp (fun v4 hp => ?_)
  refine lv_aload_n hx hb d_law_law_182 rfl (lv_at hl 1 rfl) ?_
  refine lv_iload hx hb d_law_law_183 (lv_at hl 5 rfl) ?_
  refine lv_iconst (v := 2) hx hb d_law_law_185 (by decide) ?_
  refine lv_iadd hx hb d_law_law_186 ?_
  refine x_lI C hH d_law_law_187 hp (fun v5 hp => ?_)
  refine x_callV (As := [.int v4, .int v5]) (rest := []) (cv := vI) C hH kc_law_96 d_law_law_188 hp (fun o h' e => m_Mdl_mode Z e) rfl hl.1 (Nat.le_trans (Nat.le_of_ble_eq_true rfl) hRf) (Nat.le_trans (Nat.le_of_ble_eq_true rfl) hRl) (Nat.le_of_ble_eq_true rfl) (fun v6 h H locs cells slots hp hH => ?_)
  refine W.eq (g2 := F0 m 191 ls [.int v6]) rfl ?_
  refine lv_istore (lv' := [(6, .int v6), (5, .int v3), (0, .ref l0), (1, .ref l1), (2, .ref l2), (3, .ref l3), (4, .int l4)]) hx hb d_law_law_191 hl (by decide) rfl (fun ls hl => ?_)
  refine lv_aload_n hx hb d_law_law_193 rfl (lv_at hl 4 rfl) ?_
  refine x_callV (As := []) (rest := []) (cv := vI) C hH kc_law_97 d_law_law_194 hp (fun o h' e => m_Mdl_thrown Z e) rfl hl.1 (Nat.le_trans (Nat.le_of_ble_eq_true rfl) hRf) (Nat.le_trans (Nat.le_of_ble_eq_true rfl) hRl) (Nat.le_of_ble_eq_true rfl) (fun v7 h H locs cells slots hp hH => ?_)
  refine W.eq (g2 := F0 m 197 ls [.int v7]) rfl ?_
  refine lv_iload hx hb d_law_law_197 (lv_at hl 1 rfl) ?_
  refine lv_icmp_eq (tgt := 204) hx hb d_law_law_199 (by decide) (fun hc => ?_) (fun hc => ?_)
  · replace hp := x_ifp hc hp
    refine lv_iload hx hb d_law_law_204 (lv_at hl 1 rfl) ?_
    refine lv_if_ne (tgt := 221) hx hb d_law_law_206 (by decide) (fun hc => ?_) (fun hc => ?_)
    · replace hp := x_ifn hc hp
      exact w_law_law_221 C hr hnm hRf hRl hs43 l0 l1 l2 l3 l4 hp hH (lv_sub hl [2, 3, 4, 5, 6] rfl)
    · replace hp := x_ifp hc hp
      refine lv_aload_n hx hb d_law_law_209 rfl (lv_at hl 5 rfl) ?_
      refine lv_iconst (v := 0) hx hb d_law_law_210 (by decide) ?_
      refine x_lJ C hH d_law_law_211 hp (fun v8 hp => ?_)
      refine lv_iload hx hb d_law_law_212 (lv_at hl 0 rfl) ?_
      refine lv_i2l (v := v6.toInt64) hx hb d_law_law_214 rfl ?_
      refine W.lcmp hx hb d_law_law_215 ?_
      refine lv_if_eq (tgt := 221) hx hb d_law_law_216 (by decide) (fun hc => ?_) (fun hc => ?_)
      · replace hp := x_ifp hc hp
        exact w_law_law_221 C hr hnm hRf hRl hs43 l0 l1 l2 l3 l4 hp hH (lv_sub hl [2, 3, 4, 5, 6] rfl)
      · replace hp := x_ifn hc hp
        refine lv_iconst (v := 0) hx hb d_law_law_219 (by decide) ?_
        exact x_zret C hH hr d_law_law_220 hp
  · replace hp := x_ifn hc hp
    refine lv_iconst (v := 0) hx hb d_law_law_202 (by decide) ?_
    exact x_zret C hH hr d_law_law_203 hp
set_option maxHeartbeats 4000000 in
set_option maxRecDepth 100000 in
theorem w_law_law_43 {res : (Int32 ⊕ (Nat × Nat)) × xH} (C : x_C l s0 A0 D R_law code 8 [] p s m args meth c) (hr : meth.sig.returnType = (some .boolean)) (hnm : meth.name = "law") (hRf : 10 ≤ R.frames) (hRl : 259 ≤ R.locals) {k43 : Nat → Nat → Nat → Nat → Int32 → xM Int32} (hs43 : ∀ (l0 : Nat) (l1 : Nat) (l2 : Nat) (l3 : Nat) (l4 : Int32) (h : xH) (H : Heap) (locs : List Loc) (cells slots : Nat) (ls : Array Slot), k43 l0 l1 l2 l3 l4 h = some res → x_S s0 D R h H locs cells slots → lv_has ls 8 [(0, .ref l0), (1, .ref l1), (2, .ref l2), (3, .ref l3), (4, .int l4)] → W p l e R s m args below meth c H locs cells slots (x_Q s0 D below s R (x_oc vI res.1) res.2) (F0 m 43 ls [])) (l0 : Nat) (l1 : Nat) (l2 : Nat) (l3 : Nat) (l4 : Int32) (hp : f_law_law_b43 k43 l0 l1 l2 l3 l4 h = some res) (hH : x_S s0 D R h H locs cells slots) (hl : lv_has ls 8 [(0, .ref l0), (1, .ref l1), (2, .ref l2), (3, .ref l3), (4, .int l4)]) : W p l e R s m args below meth c H locs cells slots (x_Q s0 D below s R (x_oc vI res.1) res.2) (F0 m 43 ls []) := by
  obtain ⟨hx, hb, hown, hts, hK, hml, hW, Z, -⟩ := id C
  unfold f_law_law_b43 at hp
  refine lv_iload hx hb d_law_law_43 (lv_at hl 4 rfl) ?_
  refine lv_aload_n hx hb d_law_law_45 rfl (lv_at hl 0 rfl) ?_
  refine x_aL C hH d_law_law_46 hp (fun v1 hp => ?_)
  refine lv_bipush (v := 8) hx hb d_law_law_47 (by decide) ?_
  refine lv_isub hx hb d_law_law_49 ?_
  refine lv_icmp_gt (tgt := 1627) hx hb d_law_law_50 (by decide) (fun hc => ?_) (fun hc => ?_)
  · replace hp := x_ifp hc hp
    refine lv_iconst (v := 1) hx hb d_law_law_1627 (by decide) ?_
    exact x_zret C hH hr d_law_law_1628 hp
  · replace hp := x_ifn hc hp
    refine lv_aload_n hx hb d_law_law_53 rfl (lv_at hl 0 rfl) ?_
    refine lv_iload hx hb d_law_law_54 (lv_at hl 4 rfl) ?_
    refine x_lI C hH d_law_law_56 hp (fun v2 hp => ?_)
    refine lv_bipush (v := 31) hx hb d_law_law_57 (by decide) ?_
    refine lv_iand hx hb d_law_law_59 ?_
    by_cases hc0 : (v2 &&& 31) = 0
    · replace hp := x_ifp hc0 hp
      refine lv_tableIn (off := 96) (tgt := 156) hx hb d_law_law_60 (by rw [hc0]; decide) (by rw [hc0]; decide) (by rw [hc0]; rfl) (by decide) ?_
      exact w_law_law_156 C hr hnm hRf hRl hs43 l0 l1 l2 l3 l4 hp hH (lv_sub hl [0, 1, 2, 3, 4] rfl)
    replace hp := x_ifn hc0 hp
    by_cases hc1 : (v2 &&& 31) = 1
    · replace hp := x_ifp hc1 hp
      refine lv_tableIn (off := 164) (tgt := 224) hx hb d_law_law_60 (by rw [hc1]; decide) (by rw [hc1]; decide) (by rw [hc1]; rfl) (by decide) ?_
      exact w_law_law_224 C hr hnm hRf hRl hs43 l0 l1 l2 l3 l4 hp hH (lv_sub hl [0, 1, 2, 3, 4] rfl)
    replace hp := x_ifn hc1 hp
    by_cases hc2 : (v2 &&& 31) = 2
    · replace hp := x_ifp hc2 hp
      refine lv_tableIn (off := 232) (tgt := 292) hx hb d_law_law_60 (by rw [hc2]; decide) (by rw [hc2]; decide) (by rw [hc2]; rfl) (by decide) ?_
      exact w_law_law_292 C hr hnm hRf hRl hs43 l0 l1 l2 l3 l4 hp hH (lv_sub hl [0, 1, 2, 3, 4] rfl)
    replace hp := x_ifn hc2 hp
    by_cases hc3 : (v2 &&& 31) = 3
    · replace hp := x_ifp hc3 hp
      refine lv_tableIn (off := 335) (tgt := 395) hx hb d_law_law_60 (by rw [hc3]; decide) (by rw [hc3]; decide) (by rw [hc3]; rfl) (by decide) ?_
      exact w_law_law_395 C hr hnm hRf hRl hs43 l0 l1 l2 l3 l4 hp hH (lv_sub hl [0, 1, 2, 3, 4] rfl)
    replace hp := x_ifn hc3 hp
    by_cases hc4 : (v2 &&& 31) = 4
    · replace hp := x_ifp hc4 hp
      refine lv_tableIn (off := 403) (tgt := 463) hx hb d_law_law_60 (by rw [hc4]; decide) (by rw [hc4]; decide) (by rw [hc4]; rfl) (by decide) ?_
      exact w_law_law_463 C hr hnm hRf hRl hs43 l0 l1 l2 l3 l4 hp hH (lv_sub hl [0, 1, 2, 3, 4] rfl)
    replace hp := x_ifn hc4 hp
    by_cases hc5 : (v2 &&& 31) = 5
    · replace hp := x_ifp hc5 hp
      refine lv_tableIn (off := 471) (tgt := 531) hx hb d_law_law_60 (by rw [hc5]; decide) (by rw [hc5]; decide) (by rw [hc5]; rfl) (by decide) ?_
      exact w_law_law_531 C hr hnm hRf hRl hs43 l0 l1 l2 l3 l4 hp hH (lv_sub hl [0, 1, 2, 3, 4] rfl)
    replace hp := x_ifn hc5 hp
    by_cases hc6 : (v2 &&& 31) = 6
    · replace hp := x_ifp hc6 hp
      refine lv_tableIn (off := 527) (tgt := 587) hx hb d_law_law_60 (by rw [hc6]; decide) (by rw [hc6]; decide) (by rw [hc6]; rfl) (by decide) ?_
      exact w_law_law_587 C hr hnm hRf hRl hs43 l0 l1 l2 l3 l4 hp hH (lv_sub hl [0, 1, 2, 3, 4] rfl)
    replace hp := x_ifn hc6 hp
    by_cases hc7 : (v2 &&& 31) = 7
    · replace hp := x_ifp hc7 hp
      refine lv_tableIn (off := 618) (tgt := 678) hx hb d_law_law_60 (by rw [hc7]; decide) (by rw [hc7]; decide) (by rw [hc7]; rfl) (by decide) ?_
      exact w_law_law_678 C hr hnm hRf hRl hs43 l0 l1 l2 l3 l4 hp hH (lv_sub hl [0, 1, 2, 3, 4] rfl)
    replace hp := x_ifn hc7 hp
    by_cases hc8 : (v2 &&& 31) = 8
    · replace hp := x_ifp hc8 hp
      refine lv_tableIn (off := 674) (tgt := 734) hx hb d_law_law_60 (by rw [hc8]; decide) (by rw [hc8]; decide) (by rw [hc8]; rfl) (by decide) ?_
      exact w_law_law_734 C hr hnm hRf hRl hs43 l0 l1 l2 l3 l4 hp hH (lv_sub hl [0, 1, 2, 3, 4] rfl)
    replace hp := x_ifn hc8 hp
    by_cases hc9 : (v2 &&& 31) = 9
    · replace hp := x_ifp hc9 hp
      refine lv_tableIn (off := 730) (tgt := 790) hx hb d_law_law_60 (by rw [hc9]; decide) (by rw [hc9]; decide) (by rw [hc9]; rfl) (by decide) ?_
      exact w_law_law_790 C hr hnm hRf hRl hs43 l0 l1 l2 l3 l4 hp hH (lv_sub hl [0, 1, 2, 3, 4] rfl)
    replace hp := x_ifn hc9 hp
    by_cases hc10 : (v2 &&& 31) = 10
    · replace hp := x_ifp hc10 hp
      refine lv_tableIn (off := 743) (tgt := 803) hx hb d_law_law_60 (by rw [hc10]; decide) (by rw [hc10]; decide) (by rw [hc10]; rfl) (by decide) ?_
      exact w_law_law_803 C hr hnm hRf hRl hs43 l0 l1 l2 l3 l4 hp hH (lv_sub hl [0, 1, 2, 3, 4] rfl)
    replace hp := x_ifn hc10 hp
    by_cases hc11 : (v2 &&& 31) = 11
    · replace hp := x_ifp hc11 hp
      refine lv_tableIn (off := 895) (tgt := 955) hx hb d_law_law_60 (by rw [hc11]; decide) (by rw [hc11]; decide) (by rw [hc11]; rfl) (by decide) ?_
      exact w_law_law_955 C hr hnm hRf hRl hs43 l0 l1 l2 l3 l4 hp hH (lv_sub hl [0, 1, 2, 3, 4] rfl)
    replace hp := x_ifn hc11 hp
    by_cases hc12 : (v2 &&& 31) = 12
    · replace hp := x_ifp hc12 hp
      refine lv_tableIn (off := 962) (tgt := 1022) hx hb d_law_law_60 (by rw [hc12]; decide) (by rw [hc12]; decide) (by rw [hc12]; rfl) (by decide) ?_
      exact w_law_law_1022 C hr hnm hRf hRl hs43 l0 l1 l2 l3 l4 hp hH (lv_sub hl [0, 1, 2, 3, 4] rfl)
    replace hp := x_ifn hc12 hp
    by_cases hc13 : (v2 &&& 31) = 13
    · replace hp := x_ifp hc13 hp
      refine lv_tableIn (off := 1041) (tgt := 1101) hx hb d_law_law_60 (by rw [hc13]; decide) (by rw [hc13]; decide) (by rw [hc13]; rfl) (by decide) ?_
      exact w_law_law_1101 C hr hnm hRf hRl hs43 l0 l1 l2 l3 l4 hp hH (lv_sub hl [0, 1, 2, 3, 4] rfl)
    replace hp := x_ifn hc13 hp
    by_cases hc14 : (v2 &&& 31) = 14
    · replace hp := x_ifp hc14 hp
      refine lv_tableIn (off := 1109) (tgt := 1169) hx hb d_law_law_60 (by rw [hc14]; decide) (by rw [hc14]; decide) (by rw [hc14]; rfl) (by decide) ?_
      exact w_law_law_1169 C hr hnm hRf hRl hs43 l0 l1 l2 l3 l4 hp hH (lv_sub hl [0, 1, 2, 3, 4] rfl)
    replace hp := x_ifn hc14 hp
    by_cases hc15 : (v2 &&& 31) = 15
    · replace hp := x_ifp hc15 hp
      refine lv_tableIn (off := 1177) (tgt := 1237) hx hb d_law_law_60 (by rw [hc15]; decide) (by rw [hc15]; decide) (by rw [hc15]; rfl) (by decide) ?_
      exact w_law_law_1237 C hr hnm hRf hRl hs43 l0 l1 l2 l3 l4 hp hH (lv_sub hl [0, 1, 2, 3, 4] rfl)
    replace hp := x_ifn hc15 hp
    by_cases hc16 : (v2 &&& 31) = 16
    · replace hp := x_ifp hc16 hp
      refine lv_tableIn (off := 1245) (tgt := 1305) hx hb d_law_law_60 (by rw [hc16]; decide) (by rw [hc16]; decide) (by rw [hc16]; rfl) (by decide) ?_
      exact w_law_law_1305 C hr hnm hRf hRl hs43 l0 l1 l2 l3 l4 hp hH (lv_sub hl [0, 1, 2, 3, 4] rfl)
    replace hp := x_ifn hc16 hp
    by_cases hc17 : (v2 &&& 31) = 17
    · replace hp := x_ifp hc17 hp
      refine lv_tableIn (off := 1325) (tgt := 1385) hx hb d_law_law_60 (by rw [hc17]; decide) (by rw [hc17]; decide) (by rw [hc17]; rfl) (by decide) ?_
      exact w_law_law_1385 C hr hnm hRf hRl hs43 l0 l1 l2 l3 l4 hp hH (lv_sub hl [0, 1, 2, 3, 4] rfl)
    replace hp := x_ifn hc17 hp
    by_cases hc18 : (v2 &&& 31) = 18
    · replace hp := x_ifp hc18 hp
      refine lv_tableIn (off := 1405) (tgt := 1465) hx hb d_law_law_60 (by rw [hc18]; decide) (by rw [hc18]; decide) (by rw [hc18]; rfl) (by decide) ?_
      exact w_law_law_1465 C hr hnm hRf hRl hs43 l0 l1 l2 l3 l4 hp hH (lv_sub hl [0, 1, 2, 3, 4] rfl)
    replace hp := x_ifn hc18 hp
    by_cases hc19 : (v2 &&& 31) = 19
    · replace hp := x_ifp hc19 hp
      refine lv_tableIn (off := 1505) (tgt := 1565) hx hb d_law_law_60 (by rw [hc19]; decide) (by rw [hc19]; decide) (by rw [hc19]; rfl) (by decide) ?_
      exact w_law_law_1565 C hr hnm hRf hRl hs43 l0 l1 l2 l3 l4 hp hH (lv_sub hl [0, 1, 2, 3, 4] rfl)
    replace hp := x_ifn hc19 hp
    have n0 := lv_neT hc0 (k := 0) (a := 0) (by decide)
    have n1 := lv_neT hc1 (k := 1) (a := 1) (by decide)
    have n2 := lv_neT hc2 (k := 2) (a := 2) (by decide)
    have n3 := lv_neT hc3 (k := 3) (a := 3) (by decide)
    have n4 := lv_neT hc4 (k := 4) (a := 4) (by decide)
    have n5 := lv_neT hc5 (k := 5) (a := 5) (by decide)
    have n6 := lv_neT hc6 (k := 6) (a := 6) (by decide)
    have n7 := lv_neT hc7 (k := 7) (a := 7) (by decide)
    have n8 := lv_neT hc8 (k := 8) (a := 8) (by decide)
    have n9 := lv_neT hc9 (k := 9) (a := 9) (by decide)
    have n10 := lv_neT hc10 (k := 10) (a := 10) (by decide)
    have n11 := lv_neT hc11 (k := 11) (a := 11) (by decide)
    have n12 := lv_neT hc12 (k := 12) (a := 12) (by decide)
    have n13 := lv_neT hc13 (k := 13) (a := 13) (by decide)
    have n14 := lv_neT hc14 (k := 14) (a := 14) (by decide)
    have n15 := lv_neT hc15 (k := 15) (a := 15) (by decide)
    have n16 := lv_neT hc16 (k := 16) (a := 16) (by decide)
    have n17 := lv_neT hc17 (k := 17) (a := 17) (by decide)
    have n18 := lv_neT hc18 (k := 18) (a := 18) (by decide)
    have n19 := lv_neT hc19 (k := 19) (a := 19) (by decide)
    refine lv_tableOut (tgt := 1621) hx hb d_law_law_60 (by omega) (by decide) ?_
    exact w_law_law_1621 C hr hnm hRf hRl hs43 l0 l1 l2 l3 l4 hp hH (lv_sub hl [0, 1, 2, 3, 4] rfl)
theorem w_law_law_h43 {res : (Int32 ⊕ (Nat × Nat)) × xH} (C : x_C l s0 A0 D R_law code 8 [] p s m args meth c) (hr : meth.sig.returnType = (some .boolean)) (hnm : meth.name = "law") (hRf : 10 ≤ R.frames) (hRl : 259 ≤ R.locals)  : ∀ (n : Nat) (l0 : Nat) (l1 : Nat) (l2 : Nat) (l3 : Nat) (l4 : Int32) (h : xH) (H : Heap) (locs : List Loc) (cells slots : Nat) (ls : Array Slot), f_law_law_h43 n l0 l1 l2 l3 l4 h = some res → x_S s0 D R h H locs cells slots → lv_has ls 8 [(0, .ref l0), (1, .ref l1), (2, .ref l2), (3, .ref l3), (4, .int l4)] → W p l e R s m args below meth c H locs cells slots (x_Q s0 D below s R (x_oc vI res.1) res.2) (F0 m 43 ls []) := by
  intro n
  induction n with
  | zero => intro l0 l1 l2 l3 l4 h H locs cells slots ls hp hH hl; cases hp
  | succ n ih => intro l0 l1 l2 l3 l4 h H locs cells slots ls hp hH hl; exact w_law_law_43 C hr hnm hRf hRl ih l0 l1 l2 l3 l4 hp hH hl
set_option maxHeartbeats 4000000 in
set_option maxRecDepth 100000 in
theorem w_law_law_0 {res : (Int32 ⊕ (Nat × Nat)) × xH} (C : x_C l s0 A0 D R_law code 8 [] p s m args meth c) (hr : meth.sig.returnType = (some .boolean)) (hnm : meth.name = "law") (hRf : 10 ≤ R.frames) (hRl : 259 ≤ R.locals)  (l0 : Nat) (hp : f_law_law l0 h = some res) (hH : x_S s0 D R h H locs cells slots) (hl : lv_has ls 8 [(0, .ref l0)]) : W p l e R s m args below meth c H locs cells slots (x_Q s0 D below s R (x_oc vI res.1) res.2) (F0 m 0 ls []) := by
  obtain ⟨hx, hb, hown, hts, hK, hml, hW, Z, -⟩ := id C
  unfold f_law_law at hp
  refine x_nO C hH nw_law_8 d_law_law_0 hp (fun a1 h H cells slots hp hH => ?_)
  refine lv_dup hx hb d_law_law_3 rfl ?_
  refine lv_aload_n hx hb d_law_law_4 rfl (lv_at hl 0 rfl) ?_
  refine lv_iconst (v := 0) hx hb d_law_law_5 (by decide) ?_
  refine x_callSh (As := [.ref l0, .int 0]) (rest := [.ref a1, .ref a1]) (cv := vI) C hH kc_law_81 d_law_law_6 hp (fun o h' e => m_law_cell Z e) rfl hl.1 (Nat.le_trans (Nat.le_of_ble_eq_true rfl) hRf) (Nat.le_trans (Nat.le_of_ble_eq_true rfl) hRl) (Nat.le_of_ble_eq_true rfl) (fun v2 h H locs cells slots hp hH => ?_)
  refine W.eq (g2 := F0 m 9 ls [.int v2, .ref a1, .ref a1]) rfl ?_
  refine lv_aload_n hx hb d_law_law_9 rfl (lv_at hl 0 rfl) ?_
  refine lv_iconst (v := 1) hx hb d_law_law_10 (by decide) ?_
  refine x_callSh (As := [.ref l0, .int 1]) (rest := [.int v2, .ref a1, .ref a1]) (cv := vI) C hH kc_law_81 d_law_law_11 hp (fun o h' e => m_law_cell Z e) rfl hl.1 (Nat.le_trans (Nat.le_of_ble_eq_true rfl) hRf) (Nat.le_trans (Nat.le_of_ble_eq_true rfl) hRl) (Nat.le_of_ble_eq_true rfl) (fun v3 h H locs cells slots hp hH => ?_)
  refine W.eq (g2 := F0 m 14 ls [.int v3, .int v2, .ref a1, .ref a1]) rfl ?_
  refine x_callI (As := [.int v2, .int v3]) (rest := [.ref a1]) (cv := vU) C hH kc_law_87 d_law_law_14 hp (fun o h' e => m_RS_init Z e) rfl hl.1 (Nat.le_trans (Nat.le_of_ble_eq_true rfl) hRf) (Nat.le_trans (Nat.le_of_ble_eq_true rfl) hRl) (Nat.le_of_ble_eq_true rfl) (fun v4 h H locs cells slots hp hH => ?_)
  refine W.eq (g2 := F0 m 17 ls [.ref a1]) rfl ?_
  refine lv_astore_n (lv' := [(1, .ref a1), (0, .ref l0)]) hx hb d_law_law_17 rfl hl (by decide) rfl (fun ls hl => ?_)
  refine x_nO C hH nw_law_90 d_law_law_18 hp (fun a5 h H cells slots hp hH => ?_)
  refine lv_dup hx hb d_law_law_21 rfl ?_
  refine lv_aload_n hx hb d_law_law_22 rfl (lv_at hl 1 rfl) ?_
  refine lv_iconst (v := 0) hx hb d_law_law_23 (by decide) ?_
  refine x_callSh (As := [.ref l0, .int 0]) (rest := [.ref a5, .ref a5]) (cv := vI) C hH kc_law_81 d_law_law_24 hp (fun o h' e => m_law_cell Z e) rfl hl.1 (Nat.le_trans (Nat.le_of_ble_eq_true rfl) hRf) (Nat.le_trans (Nat.le_of_ble_eq_true rfl) hRl) (Nat.le_of_ble_eq_true rfl) (fun v6 h H locs cells slots hp hH => ?_)
  refine W.eq (g2 := F0 m 27 ls [.int v6, .ref a5, .ref a5]) rfl ?_
  refine lv_aload_n hx hb d_law_law_27 rfl (lv_at hl 1 rfl) ?_
  refine lv_iconst (v := 1) hx hb d_law_law_28 (by decide) ?_
  refine x_callSh (As := [.ref l0, .int 1]) (rest := [.int v6, .ref a5, .ref a5]) (cv := vI) C hH kc_law_81 d_law_law_29 hp (fun o h' e => m_law_cell Z e) rfl hl.1 (Nat.le_trans (Nat.le_of_ble_eq_true rfl) hRf) (Nat.le_trans (Nat.le_of_ble_eq_true rfl) hRl) (Nat.le_of_ble_eq_true rfl) (fun v7 h H locs cells slots hp hH => ?_)
  refine W.eq (g2 := F0 m 32 ls [.int v7, .int v6, .ref a5, .ref a5]) rfl ?_
  refine x_callI (As := [.int v6, .int v7]) (rest := [.ref a5]) (cv := vU) C hH kc_law_92 d_law_law_32 hp (fun o h' e => m_Mdl_init Z e) rfl hl.1 (Nat.le_trans (Nat.le_of_ble_eq_true rfl) hRf) (Nat.le_trans (Nat.le_of_ble_eq_true rfl) hRl) (Nat.le_of_ble_eq_true rfl) (fun v8 h H locs cells slots hp hH => ?_)
  refine W.eq (g2 := F0 m 35 ls [.ref a5]) rfl ?_
  refine lv_astore_n (lv' := [(2, .ref a5), (1, .ref a1), (0, .ref l0)]) hx hb d_law_law_35 rfl hl (by decide) rfl (fun ls hl => ?_)
  refine lv_iconst (v := 1) hx hb d_law_law_36 (by decide) ?_
  refine x_nAJ C hH k_86 d_law_law_37 hp (fun a9 h H cells slots hp hH => ?_)
  refine lv_astore_n (lv' := [(3, .ref a9), (2, .ref a5), (1, .ref a1), (0, .ref l0)]) hx hb d_law_law_39 rfl hl (by decide) rfl (fun ls hl => ?_)
  refine lv_iconst (v := 2) hx hb d_law_law_40 (by decide) ?_
  refine lv_istore (lv' := [(4, .int 2), (3, .ref a9), (2, .ref a5), (1, .ref a1), (0, .ref l0)]) hx hb d_law_law_41 hl (by decide) rfl (fun ls hl => ?_)
  exact w_law_law_h43 C hr hnm hRf hRl  1000 l0 a1 a5 a9 2 _ _ _ _ _ _ hp hH (lv_sub hl [4, 3, 2, 1, 0] rfl)
end GEN
