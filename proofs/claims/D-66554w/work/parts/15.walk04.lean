section GEN
variable {p : Program} {l : Launch} {e : Env} {R : Room} {s : State} {m : MethodId} {args : Array Value} {below : List Frame} {meth : Method} {c : Code} {H : Heap} {locs : List Loc} {cells slots : Nat} {ls : Array Slot} {D : xD} {s0 : State} {A0 : Array Value} {h : xH}
/-! ReadSide.ask(IJIIII)I -/
theorem d_RS_ask_0 : decode prog_1_method_29_code 0 = .ok (.aload_n 0, 1) := by decide +kernel
theorem d_RS_ask_1 : decode prog_1_method_29_code 1 = .ok (.iload_n 1, 1) := by decide +kernel
theorem d_RS_ask_2 : decode prog_1_method_29_code 2 = .ok (.invokevirtual 65, 3) := by decide +kernel
theorem d_RS_ask_5 : decode prog_1_method_29_code 5 = .ok (.astore 8, 2) := by decide +kernel
theorem d_RS_ask_7 : decode prog_1_method_29_code 7 = .ok (.aload_n 0, 1) := by decide +kernel
theorem d_RS_ask_8 : decode prog_1_method_29_code 8 = .ok (.iload 6, 2) := by decide +kernel
theorem d_RS_ask_10 : decode prog_1_method_29_code 10 = .ok (.iload 7, 2) := by decide +kernel
theorem d_RS_ask_12 : decode prog_1_method_29_code 12 = .ok (.invokevirtual 275, 3) := by decide +kernel
theorem d_RS_ask_15 : decode prog_1_method_29_code 15 = .ok (.lload_n 2, 1) := by decide +kernel
theorem d_RS_ask_16 : decode prog_1_method_29_code 16 = .ok (.lconst 0, 1) := by decide +kernel
theorem d_RS_ask_17 : decode prog_1_method_29_code 17 = .ok (.lcmp, 1) := by decide +kernel
theorem d_RS_ask_18 : decode prog_1_method_29_code 18 = .ok (.ifCond .ne 13, 3) := by decide +kernel
theorem d_RS_ask_21 : decode prog_1_method_29_code 21 = .ok (.new 114, 3) := by decide +kernel
theorem d_RS_ask_24 : decode prog_1_method_29_code 24 = .ok (.dup, 1) := by decide +kernel
theorem d_RS_ask_25 : decode prog_1_method_29_code 25 = .ok (.invokespecial 128, 3) := by decide +kernel
theorem d_RS_ask_28 : decode prog_1_method_29_code 28 = .ok (.goto 8, 3) := by decide +kernel
theorem d_RS_ask_31 : decode prog_1_method_29_code 31 = .ok (.aload_n 0, 1) := by decide +kernel
theorem d_RS_ask_32 : decode prog_1_method_29_code 32 = .ok (.lload_n 2, 1) := by decide +kernel
theorem d_RS_ask_33 : decode prog_1_method_29_code 33 = .ok (.invokevirtual 146, 3) := by decide +kernel
theorem d_RS_ask_36 : decode prog_1_method_29_code 36 = .ok (.astore 9, 2) := by decide +kernel
theorem d_RS_ask_38 : decode prog_1_method_29_code 38 = .ok (.aload 9, 2) := by decide +kernel
theorem d_RS_ask_40 : decode prog_1_method_29_code 40 = .ok (.ifnull 35, 3) := by decide +kernel
theorem d_RS_ask_43 : decode prog_1_method_29_code 43 = .ok (.iload 4, 2) := by decide +kernel
theorem d_RS_ask_45 : decode prog_1_method_29_code 45 = .ok (.i2l, 1) := by decide +kernel
theorem d_RS_ask_46 : decode prog_1_method_29_code 46 = .ok (.ldc2_w 279, 3) := by decide +kernel
theorem d_RS_ask_49 : decode prog_1_method_29_code 49 = .ok (.ldc2_w 281, 3) := by decide +kernel
theorem d_RS_ask_52 : decode prog_1_method_29_code 52 = .ok (.invokestatic 27, 3) := by decide +kernel
theorem d_RS_ask_55 : decode prog_1_method_29_code 55 = .ok (.ifCond .eq 20, 3) := by decide +kernel
theorem d_RS_ask_58 : decode prog_1_method_29_code 58 = .ok (.iload 5, 2) := by decide +kernel
theorem d_RS_ask_60 : decode prog_1_method_29_code 60 = .ok (.i2l, 1) := by decide +kernel
theorem d_RS_ask_61 : decode prog_1_method_29_code 61 = .ok (.lconst 0, 1) := by decide +kernel
theorem d_RS_ask_62 : decode prog_1_method_29_code 62 = .ok (.ldc2_w 89, 3) := by decide +kernel
theorem d_RS_ask_65 : decode prog_1_method_29_code 65 = .ok (.invokestatic 27, 3) := by decide +kernel
theorem d_RS_ask_68 : decode prog_1_method_29_code 68 = .ok (.ifCond .eq 7, 3) := by decide +kernel
theorem d_RS_ask_71 : decode prog_1_method_29_code 71 = .ok (.iconst 1, 1) := by decide +kernel
theorem d_RS_ask_72 : decode prog_1_method_29_code 72 = .ok (.goto 4, 3) := by decide +kernel
theorem d_RS_ask_75 : decode prog_1_method_29_code 75 = .ok (.iconst 0, 1) := by decide +kernel
theorem d_RS_ask_76 : decode prog_1_method_29_code 76 = .ok (.invokestatic 71, 3) := by decide +kernel
theorem d_RS_ask_79 : decode prog_1_method_29_code 79 = .ok (.aload_n 0, 1) := by decide +kernel
theorem d_RS_ask_80 : decode prog_1_method_29_code 80 = .ok (.getfield 283, 3) := by decide +kernel
theorem d_RS_ask_83 : decode prog_1_method_29_code 83 = .ok (.sipush 500, 3) := by decide +kernel
theorem d_RS_ask_86 : decode prog_1_method_29_code 86 = .ok (.if_icmp .ge 7, 3) := by decide +kernel
theorem d_RS_ask_89 : decode prog_1_method_29_code 89 = .ok (.iconst 1, 1) := by decide +kernel
theorem d_RS_ask_90 : decode prog_1_method_29_code 90 = .ok (.goto 4, 3) := by decide +kernel
theorem d_RS_ask_93 : decode prog_1_method_29_code 93 = .ok (.iconst 0, 1) := by decide +kernel
theorem d_RS_ask_94 : decode prog_1_method_29_code 94 = .ok (.invokestatic 94, 3) := by decide +kernel
theorem d_RS_ask_97 : decode prog_1_method_29_code 97 = .ok (.new 15, 3) := by decide +kernel
theorem d_RS_ask_100 : decode prog_1_method_29_code 100 = .ok (.dup, 1) := by decide +kernel
theorem d_RS_ask_101 : decode prog_1_method_29_code 101 = .ok (.aload_n 0, 1) := by decide +kernel
theorem d_RS_ask_102 : decode prog_1_method_29_code 102 = .ok (.getfield 283, 3) := by decide +kernel
theorem d_RS_ask_105 : decode prog_1_method_29_code 105 = .ok (.iload_n 1, 1) := by decide +kernel
theorem d_RS_ask_106 : decode prog_1_method_29_code 106 = .ok (.aload 9, 2) := by decide +kernel
theorem d_RS_ask_108 : decode prog_1_method_29_code 108 = .ok (.iload 4, 2) := by decide +kernel
theorem d_RS_ask_110 : decode prog_1_method_29_code 110 = .ok (.aload_n 0, 1) := by decide +kernel
theorem d_RS_ask_111 : decode prog_1_method_29_code 111 = .ok (.getfield 188, 3) := by decide +kernel
theorem d_RS_ask_114 : decode prog_1_method_29_code 114 = .ok (.iload 5, 2) := by decide +kernel
theorem d_RS_ask_116 : decode prog_1_method_29_code 116 = .ok (.i2l, 1) := by decide +kernel
theorem d_RS_ask_117 : decode prog_1_method_29_code 117 = .ok (.ladd, 1) := by decide +kernel
theorem d_RS_ask_118 : decode prog_1_method_29_code 118 = .ok (.iload 6, 2) := by decide +kernel
theorem d_RS_ask_120 : decode prog_1_method_29_code 120 = .ok (.iload 7, 2) := by decide +kernel
theorem d_RS_ask_122 : decode prog_1_method_29_code 122 = .ok (.invokespecial 286, 3) := by decide +kernel
theorem d_RS_ask_125 : decode prog_1_method_29_code 125 = .ok (.astore 10, 2) := by decide +kernel
theorem d_RS_ask_127 : decode prog_1_method_29_code 127 = .ok (.iconst (-1), 1) := by decide +kernel
theorem d_RS_ask_128 : decode prog_1_method_29_code 128 = .ok (.istore 11, 2) := by decide +kernel
theorem d_RS_ask_130 : decode prog_1_method_29_code 130 = .ok (.iconst 0, 1) := by decide +kernel
theorem d_RS_ask_131 : decode prog_1_method_29_code 131 = .ok (.istore 12, 2) := by decide +kernel
theorem d_RS_ask_133 : decode prog_1_method_29_code 133 = .ok (.iload 12, 2) := by decide +kernel
theorem d_RS_ask_135 : decode prog_1_method_29_code 135 = .ok (.aload_n 0, 1) := by decide +kernel
theorem d_RS_ask_136 : decode prog_1_method_29_code 136 = .ok (.getfield 46, 3) := by decide +kernel
theorem d_RS_ask_139 : decode prog_1_method_29_code 139 = .ok (.arraylength, 1) := by decide +kernel
theorem d_RS_ask_140 : decode prog_1_method_29_code 140 = .ok (.if_icmp .ge 55, 3) := by decide +kernel
theorem d_RS_ask_143 : decode prog_1_method_29_code 143 = .ok (.iload 11, 2) := by decide +kernel
theorem d_RS_ask_145 : decode prog_1_method_29_code 145 = .ok (.iconst (-1), 1) := by decide +kernel
theorem d_RS_ask_146 : decode prog_1_method_29_code 146 = .ok (.if_icmp .ne 49, 3) := by decide +kernel
theorem d_RS_ask_149 : decode prog_1_method_29_code 149 = .ok (.aload 8, 2) := by decide +kernel
theorem d_RS_ask_151 : decode prog_1_method_29_code 151 = .ok (.getfield 86, 3) := by decide +kernel
theorem d_RS_ask_154 : decode prog_1_method_29_code 154 = .ok (.iload 12, 2) := by decide +kernel
theorem d_RS_ask_156 : decode prog_1_method_29_code 156 = .ok (.iadd, 1) := by decide +kernel
theorem d_RS_ask_157 : decode prog_1_method_29_code 157 = .ok (.aload_n 0, 1) := by decide +kernel
theorem d_RS_ask_158 : decode prog_1_method_29_code 158 = .ok (.getfield 46, 3) := by decide +kernel
theorem d_RS_ask_161 : decode prog_1_method_29_code 161 = .ok (.arraylength, 1) := by decide +kernel
theorem d_RS_ask_162 : decode prog_1_method_29_code 162 = .ok (.irem, 1) := by decide +kernel
theorem d_RS_ask_163 : decode prog_1_method_29_code 163 = .ok (.istore 13, 2) := by decide +kernel
theorem d_RS_ask_165 : decode prog_1_method_29_code 165 = .ok (.aload_n 0, 1) := by decide +kernel
theorem d_RS_ask_166 : decode prog_1_method_29_code 166 = .ok (.aload_n 0, 1) := by decide +kernel
theorem d_RS_ask_167 : decode prog_1_method_29_code 167 = .ok (.getfield 46, 3) := by decide +kernel
theorem d_RS_ask_170 : decode prog_1_method_29_code 170 = .ok (.iload 13, 2) := by decide +kernel
theorem d_RS_ask_172 : decode prog_1_method_29_code 172 = .ok (.aaload, 1) := by decide +kernel
theorem d_RS_ask_173 : decode prog_1_method_29_code 173 = .ok (.aload 10, 2) := by decide +kernel
theorem d_RS_ask_175 : decode prog_1_method_29_code 175 = .ok (.invokevirtual 263, 3) := by decide +kernel
theorem d_RS_ask_178 : decode prog_1_method_29_code 178 = .ok (.ifCond .eq 8, 3) := by decide +kernel
theorem d_RS_ask_181 : decode prog_1_method_29_code 181 = .ok (.iload 13, 2) := by decide +kernel
theorem d_RS_ask_183 : decode prog_1_method_29_code 183 = .ok (.goto 4, 3) := by decide +kernel
theorem d_RS_ask_186 : decode prog_1_method_29_code 186 = .ok (.iconst (-1), 1) := by decide +kernel
theorem d_RS_ask_187 : decode prog_1_method_29_code 187 = .ok (.istore 11, 2) := by decide +kernel
theorem d_RS_ask_189 : decode prog_1_method_29_code 189 = .ok (.iinc 12 1, 3) := by decide +kernel
theorem d_RS_ask_192 : decode prog_1_method_29_code 192 = .ok (.goto (-59), 3) := by decide +kernel
theorem d_RS_ask_195 : decode prog_1_method_29_code 195 = .ok (.iload 11, 2) := by decide +kernel
theorem d_RS_ask_197 : decode prog_1_method_29_code 197 = .ok (.iconst (-1), 1) := by decide +kernel
theorem d_RS_ask_198 : decode prog_1_method_29_code 198 = .ok (.if_icmp .ne 17, 3) := by decide +kernel
theorem d_RS_ask_201 : decode prog_1_method_29_code 201 = .ok (.iload 5, 2) := by decide +kernel
theorem d_RS_ask_203 : decode prog_1_method_29_code 203 = .ok (.ifCond .eq 12, 3) := by decide +kernel
theorem d_RS_ask_206 : decode prog_1_method_29_code 206 = .ok (.aload_n 0, 1) := by decide +kernel
theorem d_RS_ask_207 : decode prog_1_method_29_code 207 = .ok (.getfield 196, 3) := by decide +kernel
theorem d_RS_ask_210 : decode prog_1_method_29_code 210 = .ok (.bipush 40, 2) := by decide +kernel
theorem d_RS_ask_212 : decode prog_1_method_29_code 212 = .ok (.if_icmp .ge 7, 3) := by decide +kernel
theorem d_RS_ask_215 : decode prog_1_method_29_code 215 = .ok (.iconst 1, 1) := by decide +kernel
theorem d_RS_ask_216 : decode prog_1_method_29_code 216 = .ok (.goto 4, 3) := by decide +kernel
theorem d_RS_ask_219 : decode prog_1_method_29_code 219 = .ok (.iconst 0, 1) := by decide +kernel
theorem d_RS_ask_220 : decode prog_1_method_29_code 220 = .ok (.invokestatic 94, 3) := by decide +kernel
theorem d_RS_ask_223 : decode prog_1_method_29_code 223 = .ok (.aload_n 0, 1) := by decide +kernel
theorem d_RS_ask_224 : decode prog_1_method_29_code 224 = .ok (.getfield 17, 3) := by decide +kernel
theorem d_RS_ask_227 : decode prog_1_method_29_code 227 = .ok (.aload_n 0, 1) := by decide +kernel
theorem d_RS_ask_228 : decode prog_1_method_29_code 228 = .ok (.dup, 1) := by decide +kernel
theorem d_RS_ask_229 : decode prog_1_method_29_code 229 = .ok (.getfield 283, 3) := by decide +kernel
theorem d_RS_ask_232 : decode prog_1_method_29_code 232 = .ok (.dup_x1, 1) := by decide +kernel
theorem d_RS_ask_233 : decode prog_1_method_29_code 233 = .ok (.iconst 1, 1) := by decide +kernel
theorem d_RS_ask_234 : decode prog_1_method_29_code 234 = .ok (.iadd, 1) := by decide +kernel
theorem d_RS_ask_235 : decode prog_1_method_29_code 235 = .ok (.putfield 283, 3) := by decide +kernel
theorem d_RS_ask_238 : decode prog_1_method_29_code 238 = .ok (.aload 10, 2) := by decide +kernel
theorem d_RS_ask_240 : decode prog_1_method_29_code 240 = .ok (.aastore, 1) := by decide +kernel
theorem d_RS_ask_241 : decode prog_1_method_29_code 241 = .ok (.iload 11, 2) := by decide +kernel
theorem d_RS_ask_243 : decode prog_1_method_29_code 243 = .ok (.iconst (-1), 1) := by decide +kernel
theorem d_RS_ask_244 : decode prog_1_method_29_code 244 = .ok (.if_icmp .eq 14, 3) := by decide +kernel
theorem d_RS_ask_247 : decode prog_1_method_29_code 247 = .ok (.aload_n 0, 1) := by decide +kernel
theorem d_RS_ask_248 : decode prog_1_method_29_code 248 = .ok (.aload 10, 2) := by decide +kernel
theorem d_RS_ask_250 : decode prog_1_method_29_code 250 = .ok (.iload 11, 2) := by decide +kernel
theorem d_RS_ask_252 : decode prog_1_method_29_code 252 = .ok (.invokevirtual 270, 3) := by decide +kernel
theorem d_RS_ask_255 : decode prog_1_method_29_code 255 = .ok (.goto 38, 3) := by decide +kernel
theorem d_RS_ask_258 : decode prog_1_method_29_code 258 = .ok (.iload 5, 2) := by decide +kernel
theorem d_RS_ask_260 : decode prog_1_method_29_code 260 = .ok (.ifCond .ne 12, 3) := by decide +kernel
theorem d_RS_ask_263 : decode prog_1_method_29_code 263 = .ok (.aload_n 0, 1) := by decide +kernel
theorem d_RS_ask_264 : decode prog_1_method_29_code 264 = .ok (.aload 10, 2) := by decide +kernel
theorem d_RS_ask_266 : decode prog_1_method_29_code 266 = .ok (.invokevirtual 202, 3) := by decide +kernel
theorem d_RS_ask_269 : decode prog_1_method_29_code 269 = .ok (.goto 24, 3) := by decide +kernel
theorem d_RS_ask_272 : decode prog_1_method_29_code 272 = .ok (.aload_n 0, 1) := by decide +kernel
theorem d_RS_ask_273 : decode prog_1_method_29_code 273 = .ok (.getfield 21, 3) := by decide +kernel
theorem d_RS_ask_276 : decode prog_1_method_29_code 276 = .ok (.aload_n 0, 1) := by decide +kernel
theorem d_RS_ask_277 : decode prog_1_method_29_code 277 = .ok (.dup, 1) := by decide +kernel
theorem d_RS_ask_278 : decode prog_1_method_29_code 278 = .ok (.getfield 196, 3) := by decide +kernel
theorem d_RS_ask_281 : decode prog_1_method_29_code 281 = .ok (.dup_x1, 1) := by decide +kernel
theorem d_RS_ask_282 : decode prog_1_method_29_code 282 = .ok (.iconst 1, 1) := by decide +kernel
theorem d_RS_ask_283 : decode prog_1_method_29_code 283 = .ok (.iadd, 1) := by decide +kernel
theorem d_RS_ask_284 : decode prog_1_method_29_code 284 = .ok (.putfield 196, 3) := by decide +kernel
theorem d_RS_ask_287 : decode prog_1_method_29_code 287 = .ok (.aload 10, 2) := by decide +kernel
theorem d_RS_ask_289 : decode prog_1_method_29_code 289 = .ok (.getfield 289, 3) := by decide +kernel
theorem d_RS_ask_292 : decode prog_1_method_29_code 292 = .ok (.iastore, 1) := by decide +kernel
theorem d_RS_ask_293 : decode prog_1_method_29_code 293 = .ok (.aload 10, 2) := by decide +kernel
theorem d_RS_ask_295 : decode prog_1_method_29_code 295 = .ok (.getfield 289, 3) := by decide +kernel
theorem d_RS_ask_298 : decode prog_1_method_29_code 298 = .ok (.ireturn, 1) := by decide +kernel
set_option maxHeartbeats 4000000 in
set_option maxRecDepth 100000 in
theorem w_RS_ask_293 {res : (Int32 ⊕ (Nat × Nat)) × xH} (C : x_C l s0 A0 D R_RS prog_1_method_29_code 14 [] p s m args meth c) (hr : meth.sig.returnType = (some .int)) (hnm : meth.name = "ask") (hRf : 8 ≤ R.frames) (hRl : 159 ≤ R.locals)  (l10 : Nat) (hp : f_RS_ask_b293 l10 h = some res) (hH : x_S s0 D R h H locs cells slots) (hl : lv_has ls 14 [(10, .ref l10)]) : W p l e R s m args below meth c H locs cells slots (x_Q s0 D below s R (x_oc vI res.1) res.2) (F0 m 293 ls []) := by
  obtain ⟨hx, hb, hown, hts, hK, hml, hW, Z, -⟩ := id C
  unfold f_RS_ask_b293 at hp
  refine lv_aload hx hb d_RS_ask_293 (lv_at hl 0 rfl) ?_
  refine x_gI C hH fl_RS_289 d_RS_ask_295 hp (fun v1 hp => ?_)
  exact x_iret C hH hr d_RS_ask_298 hp
set_option maxHeartbeats 4000000 in
set_option maxRecDepth 100000 in
theorem w_RS_ask_220 {res : (Int32 ⊕ (Nat × Nat)) × xH} (C : x_C l s0 A0 D R_RS prog_1_method_29_code 14 [] p s m args meth c) (hr : meth.sig.returnType = (some .int)) (hnm : meth.name = "ask") (hRf : 8 ≤ R.frames) (hRl : 159 ≤ R.locals)  (l0 : Nat) (l5 : Int32) (l10 : Nat) (l11 : Int32) (t0 : Int32) (hp : f_RS_ask_b220 l0 l5 l10 l11 t0 h = some res) (hH : x_S s0 D R h H locs cells slots) (hl : lv_has ls 14 [(0, .ref l0), (5, .int l5), (10, .ref l10), (11, .int l11)]) : W p l e R s m args below meth c H locs cells slots (x_Q s0 D below s R (x_oc vI res.1) res.2) (F0 m 220 ls [.int t0]) := by
  obtain ⟨hx, hb, hown, hts, hK, hml, hW, Z, -⟩ := id C
  unfold f_RS_ask_b220 at hp
  refine x_callS (As := [.int t0]) (rest := []) (cv := vU) C hH kc_RS_94 d_RS_ask_220 hp (fun o h' e => m_RS_need Z e) rfl hl.1 (Nat.le_trans (Nat.le_of_ble_eq_true rfl) hRf) (Nat.le_trans (Nat.le_of_ble_eq_true rfl) hRl) (Nat.le_of_ble_eq_true rfl) (fun v1 h H locs cells slots hp hH => ?_)
  refine W.eq (g2 := F0 m 223 ls []) rfl ?_
  refine lv_aload_n hx hb d_RS_ask_223 rfl (lv_at hl 0 rfl) ?_
  refine x_gA C hH fl_RS_17 d_RS_ask_224 hp (fun v2 hp => ?_)
  refine lv_aload_n hx hb d_RS_ask_227 rfl (lv_at hl 0 rfl) ?_
  refine lv_dup hx hb d_RS_ask_228 rfl ?_
  refine x_gI C hH fl_RS_283 d_RS_ask_229 hp (fun v3 hp => ?_)
  refine lv_dup_x1 hx hb d_RS_ask_232 rfl rfl ?_
  refine lv_iconst (v := 1) hx hb d_RS_ask_233 (by decide) ?_
  refine lv_iadd hx hb d_RS_ask_234 ?_
  refine x_pV C hH fp_RS_283 (fun h => Bool.noConfusion h) d_RS_ask_235 rfl rfl hp (fun h H locs hp hH => ?_)
  refine lv_aload hx hb d_RS_ask_238 (lv_at hl 2 rfl) ?_
  refine x_sA C hH (by decide) d_RS_ask_240 hp (fun h H locs hp hH => ?_)
  refine lv_iload hx hb d_RS_ask_241 (lv_at hl 3 rfl) ?_
  refine lv_iconst (v := (-1)) hx hb d_RS_ask_243 (by decide) ?_
  refine lv_icmp_eq (tgt := 258) hx hb d_RS_ask_244 (by decide) (fun hc => ?_) (fun hc => ?_)
  · replace hp := x_ifp hc hp
    refine lv_iload hx hb d_RS_ask_258 (lv_at hl 1 rfl) ?_
    refine lv_if_ne (tgt := 272) hx hb d_RS_ask_260 (by decide) (fun hc => ?_) (fun hc => ?_)
    · replace hp := x_ifn hc hp
      refine lv_aload_n hx hb d_RS_ask_272 rfl (lv_at hl 0 rfl) ?_
      refine x_gA C hH fl_RS_21 d_RS_ask_273 hp (fun v4 hp => ?_)
      refine lv_aload_n hx hb d_RS_ask_276 rfl (lv_at hl 0 rfl) ?_
      refine lv_dup hx hb d_RS_ask_277 rfl ?_
      refine x_gI C hH fl_RS_196 d_RS_ask_278 hp (fun v5 hp => ?_)
      refine lv_dup_x1 hx hb d_RS_ask_281 rfl rfl ?_
      refine lv_iconst (v := 1) hx hb d_RS_ask_282 (by decide) ?_
      refine lv_iadd hx hb d_RS_ask_283 ?_
      refine x_pV C hH fp_RS_196 (fun h => Bool.noConfusion h) d_RS_ask_284 rfl rfl hp (fun h H locs hp hH => ?_)
      refine lv_aload hx hb d_RS_ask_287 (lv_at hl 2 rfl) ?_
      refine x_gI C hH fl_RS_289 d_RS_ask_289 hp (fun v6 hp => ?_)
      refine x_sI C hH d_RS_ask_292 hp (fun h H locs hp hH => ?_)
      exact w_RS_ask_293 C hr hnm hRf hRl  l10 hp hH (lv_sub hl [2] rfl)
    · replace hp := x_ifp hc hp
      refine lv_aload_n hx hb d_RS_ask_263 rfl (lv_at hl 0 rfl) ?_
      refine lv_aload hx hb d_RS_ask_264 (lv_at hl 2 rfl) ?_
      refine x_callV (As := [.ref l10]) (rest := []) (cv := vU) C hH kc_RS_202 d_RS_ask_266 hp (fun o h' e => m_RS_fail Z e) rfl hl.1 (Nat.le_trans (Nat.le_of_ble_eq_true rfl) hRf) (Nat.le_trans (Nat.le_of_ble_eq_true rfl) hRl) (Nat.le_of_ble_eq_true rfl) (fun v7 h H locs cells slots hp hH => ?_)
      refine W.eq (g2 := F0 m 269 ls []) rfl ?_
      refine lv_goto (tgt := 293) hx hb d_RS_ask_269 (by decide) ?_
      exact w_RS_ask_293 C hr hnm hRf hRl  l10 hp hH (lv_sub hl [2] rfl)
  · replace hp := x_ifn hc hp
    refine lv_aload_n hx hb d_RS_ask_247 rfl (lv_at hl 0 rfl) ?_
    refine lv_aload hx hb d_RS_ask_248 (lv_at hl 2 rfl) ?_
    refine lv_iload hx hb d_RS_ask_250 (lv_at hl 3 rfl) ?_
    refine x_callV (As := [.ref l10, .int l11]) (rest := []) (cv := vU) C hH kc_RS_270 d_RS_ask_252 hp (fun o h' e => m_RS_answer Z e) rfl hl.1 (Nat.le_trans (Nat.le_of_ble_eq_true rfl) hRf) (Nat.le_trans (Nat.le_of_ble_eq_true rfl) hRl) (Nat.le_of_ble_eq_true rfl) (fun v8 h H locs cells slots hp hH => ?_)
    refine W.eq (g2 := F0 m 255 ls []) rfl ?_
    refine lv_goto (tgt := 293) hx hb d_RS_ask_255 (by decide) ?_
    exact w_RS_ask_293 C hr hnm hRf hRl  l10 hp hH (lv_sub hl [2] rfl)
set_option maxHeartbeats 4000000 in
set_option maxRecDepth 100000 in
theorem w_RS_ask_215 {res : (Int32 ⊕ (Nat × Nat)) × xH} (C : x_C l s0 A0 D R_RS prog_1_method_29_code 14 [] p s m args meth c) (hr : meth.sig.returnType = (some .int)) (hnm : meth.name = "ask") (hRf : 8 ≤ R.frames) (hRl : 159 ≤ R.locals)  (l0 : Nat) (l5 : Int32) (l10 : Nat) (l11 : Int32) (hp : f_RS_ask_b215 l0 l5 l10 l11 h = some res) (hH : x_S s0 D R h H locs cells slots) (hl : lv_has ls 14 [(0, .ref l0), (5, .int l5), (10, .ref l10), (11, .int l11)]) : W p l e R s m args below meth c H locs cells slots (x_Q s0 D below s R (x_oc vI res.1) res.2) (F0 m 215 ls []) := by
  obtain ⟨hx, hb, hown, hts, hK, hml, hW, Z, -⟩ := id C
  unfold f_RS_ask_b215 at hp
  refine lv_iconst (v := 1) hx hb d_RS_ask_215 (by decide) ?_
  refine lv_goto (tgt := 220) hx hb d_RS_ask_216 (by decide) ?_
  exact w_RS_ask_220 C hr hnm hRf hRl  l0 l5 l10 l11 1 hp hH (lv_sub hl [0, 1, 2, 3] rfl)
set_option maxHeartbeats 4000000 in
set_option maxRecDepth 100000 in
theorem w_RS_ask_195 {res : (Int32 ⊕ (Nat × Nat)) × xH} (C : x_C l s0 A0 D R_RS prog_1_method_29_code 14 [] p s m args meth c) (hr : meth.sig.returnType = (some .int)) (hnm : meth.name = "ask") (hRf : 8 ≤ R.frames) (hRl : 159 ≤ R.locals)  (l0 : Nat) (l5 : Int32) (l10 : Nat) (l11 : Int32) (hp : f_RS_ask_b195 l0 l5 l10 l11 h = some res) (hH : x_S s0 D R h H locs cells slots) (hl : lv_has ls 14 [(0, .ref l0), (5, .int l5), (10, .ref l10), (11, .int l11)]) : W p l e R s m args below meth c H locs cells slots (x_Q s0 D below s R (x_oc vI res.1) res.2) (F0 m 195 ls []) := by
  obtain ⟨hx, hb, hown, hts, hK, hml, hW, Z, -⟩ := id C
  unfold f_RS_ask_b195 at hp
  refine lv_iload hx hb d_RS_ask_195 (lv_at hl 3 rfl) ?_
  refine lv_iconst (v := (-1)) hx hb d_RS_ask_197 (by decide) ?_
  refine lv_icmp_ne (tgt := 215) hx hb d_RS_ask_198 (by decide) (fun hc => ?_) (fun hc => ?_)
  · replace hp := x_ifn hc hp
    exact w_RS_ask_215 C hr hnm hRf hRl  l0 l5 l10 l11 hp hH (lv_sub hl [0, 1, 2, 3] rfl)
  · replace hp := x_ifp hc hp
    refine lv_iload hx hb d_RS_ask_201 (lv_at hl 1 rfl) ?_
    refine lv_if_eq (tgt := 215) hx hb d_RS_ask_203 (by decide) (fun hc => ?_) (fun hc => ?_)
    · replace hp := x_ifp hc hp
      exact w_RS_ask_215 C hr hnm hRf hRl  l0 l5 l10 l11 hp hH (lv_sub hl [0, 1, 2, 3] rfl)
    · replace hp := x_ifn hc hp
      refine lv_aload_n hx hb d_RS_ask_206 rfl (lv_at hl 0 rfl) ?_
      refine x_gI C hH fl_RS_196 d_RS_ask_207 hp (fun v1 hp => ?_)
      refine lv_bipush (v := 40) hx hb d_RS_ask_210 (by decide) ?_
      refine lv_icmp_ge (tgt := 219) hx hb d_RS_ask_212 (by decide) (fun hc => ?_) (fun hc => ?_)
      · replace hp := x_ifp hc hp
        refine lv_iconst (v := 0) hx hb d_RS_ask_219 (by decide) ?_
        exact w_RS_ask_220 C hr hnm hRf hRl  l0 l5 l10 l11 0 hp hH (lv_sub hl [0, 1, 2, 3] rfl)
      · replace hp := x_ifn hc hp
        exact w_RS_ask_215 C hr hnm hRf hRl  l0 l5 l10 l11 hp hH (lv_sub hl [0, 1, 2, 3] rfl)
set_option maxHeartbeats 4000000 in
set_option maxRecDepth 100000 in
theorem w_RS_ask_187 {res : (Int32 ⊕ (Nat × Nat)) × xH} (C : x_C l s0 A0 D R_RS prog_1_method_29_code 14 [] p s m args meth c) (hr : meth.sig.returnType = (some .int)) (hnm : meth.name = "ask") (hRf : 8 ≤ R.frames) (hRl : 159 ≤ R.locals) {k133 : Nat → Int32 → Nat → Nat → Int32 → Int32 → xM Int32} (hs133 : ∀ (l0 : Nat) (l5 : Int32) (l8 : Nat) (l10 : Nat) (l11 : Int32) (l12 : Int32) (h : xH) (H : Heap) (locs : List Loc) (cells slots : Nat) (ls : Array Slot), k133 l0 l5 l8 l10 l11 l12 h = some res → x_S s0 D R h H locs cells slots → lv_has ls 14 [(0, .ref l0), (5, .int l5), (8, .ref l8), (10, .ref l10), (11, .int l11), (12, .int l12)] → W p l e R s m args below meth c H locs cells slots (x_Q s0 D below s R (x_oc vI res.1) res.2) (F0 m 133 ls [])) (l0 : Nat) (l5 : Int32) (l8 : Nat) (l10 : Nat) (l12 : Int32) (t0 : Int32) (hp : f_RS_ask_b187 k133 l0 l5 l8 l10 l12 t0 h = some res) (hH : x_S s0 D R h H locs cells slots) (hl : lv_has ls 14 [(0, .ref l0), (5, .int l5), (8, .ref l8), (10, .ref l10), (12, .int l12)]) : W p l e R s m args below meth c H locs cells slots (x_Q s0 D below s R (x_oc vI res.1) res.2) (F0 m 187 ls [.int t0]) := by
  obtain ⟨hx, hb, hown, hts, hK, hml, hW, Z, -⟩ := id C
  unfold f_RS_ask_b187 at hp
  refine lv_istore (lv' := [(11, .int t0), (0, .ref l0), (5, .int l5), (8, .ref l8), (10, .ref l10), (12, .int l12)]) hx hb d_RS_ask_187 hl (by decide) rfl (fun ls hl => ?_)
  refine lv_iinc (v := (l12 + 1)) (lv' := [(12, .int (l12 + 1)), (11, .int t0), (0, .ref l0), (5, .int l5), (8, .ref l8), (10, .ref l10)]) hx hb d_RS_ask_189 hl (k := 5) rfl rfl (by decide) rfl (fun ls hl => ?_)
  refine lv_goto (tgt := 133) hx hb d_RS_ask_192 (by decide) ?_
  exact hs133 l0 l5 l8 l10 t0 (l12 + 1) _ _ _ _ _ _ hp hH (lv_sub hl [2, 3, 4, 5, 1, 0] rfl)
set_option maxHeartbeats 4000000 in
set_option maxRecDepth 100000 in
theorem w_RS_ask_133 {res : (Int32 ⊕ (Nat × Nat)) × xH} (C : x_C l s0 A0 D R_RS prog_1_method_29_code 14 [] p s m args meth c) (hr : meth.sig.returnType = (some .int)) (hnm : meth.name = "ask") (hRf : 8 ≤ R.frames) (hRl : 159 ≤ R.locals) {k133 : Nat → Int32 → Nat → Nat → Int32 → Int32 → xM Int32} (hs133 : ∀ (l0 : Nat) (l5 : Int32) (l8 : Nat) (l10 : Nat) (l11 : Int32) (l12 : Int32) (h : xH) (H : Heap) (locs : List Loc) (cells slots : Nat) (ls : Array Slot), k133 l0 l5 l8 l10 l11 l12 h = some res → x_S s0 D R h H locs cells slots → lv_has ls 14 [(0, .ref l0), (5, .int l5), (8, .ref l8), (10, .ref l10), (11, .int l11), (12, .int l12)] → W p l e R s m args below meth c H locs cells slots (x_Q s0 D below s R (x_oc vI res.1) res.2) (F0 m 133 ls [])) (l0 : Nat) (l5 : Int32) (l8 : Nat) (l10 : Nat) (l11 : Int32) (l12 : Int32) (hp : f_RS_ask_b133 k133 l0 l5 l8 l10 l11 l12 h = some res) (hH : x_S s0 D R h H locs cells slots) (hl : lv_has ls 14 [(0, .ref l0), (5, .int l5), (8, .ref l8), (10, .ref l10), (11, .int l11), (12, .int l12)]) : W p l e R s m args below meth c H locs cells slots (x_Q s0 D below s R (x_oc vI res.1) res.2) (F0 m 133 ls []) := by
  obtain ⟨hx, hb, hown, hts, hK, hml, hW, Z, -⟩ := id C
  unfold f_RS_ask_b133 at hp
  refine lv_iload hx hb d_RS_ask_133 (lv_at hl 5 rfl) ?_
  refine lv_aload_n hx hb d_RS_ask_135 rfl (lv_at hl 0 rfl) ?_
  refine x_gA C hH fl_RS_46 d_RS_ask_136 hp (fun v1 hp => ?_)
  refine x_aL C hH d_RS_ask_139 hp (fun v2 hp => ?_)
  refine lv_icmp_ge (tgt := 195) hx hb d_RS_ask_140 (by decide) (fun hc => ?_) (fun hc => ?_)
  · replace hp := x_ifp hc hp
    exact w_RS_ask_195 C hr hnm hRf hRl  l0 l5 l10 l11 hp hH (lv_sub hl [0, 1, 3, 4] rfl)
  · replace hp := x_ifn hc hp
    refine lv_iload hx hb d_RS_ask_143 (lv_at hl 4 rfl) ?_
    refine lv_iconst (v := (-1)) hx hb d_RS_ask_145 (by decide) ?_
    refine lv_icmp_ne (tgt := 195) hx hb d_RS_ask_146 (by decide) (fun hc => ?_) (fun hc => ?_)
    · replace hp := x_ifn hc hp
      exact w_RS_ask_195 C hr hnm hRf hRl  l0 l5 l10 l11 hp hH (lv_sub hl [0, 1, 3, 4] rfl)
    · replace hp := x_ifp hc hp
      refine lv_aload hx hb d_RS_ask_149 (lv_at hl 2 rfl) ?_
      refine x_gI C hH fl_RS_86 d_RS_ask_151 hp (fun v3 hp => ?_)
      refine lv_iload hx hb d_RS_ask_154 (lv_at hl 5 rfl) ?_
      refine lv_iadd hx hb d_RS_ask_156 ?_
      refine lv_aload_n hx hb d_RS_ask_157 rfl (lv_at hl 0 rfl) ?_
      refine x_gA C hH fl_RS_46 d_RS_ask_158 hp (fun v4 hp => ?_)
      refine x_aL C hH d_RS_ask_161 hp (fun v5 hp => ?_)
      obtain ⟨hz, hp⟩ := rI_i hp
      refine lv_irem hx hb d_RS_ask_162 hz ?_
      generalize ev6 : (v3 + l12) - (v3 + l12) / v5 * v5 = v6 at hp ⊢
      refine lv_istore (lv' := [(13, .int v6), (0, .ref l0), (5, .int l5), (8, .ref l8), (10, .ref l10), (11, .int l11), (12, .int l12)]) hx hb d_RS_ask_163 hl (by decide) rfl (fun ls hl => ?_)
      refine lv_aload_n hx hb d_RS_ask_165 rfl (lv_at hl 1 rfl) ?_
      refine lv_aload_n hx hb d_RS_ask_166 rfl (lv_at hl 1 rfl) ?_
      refine x_gA C hH fl_RS_46 d_RS_ask_167 hp (fun v7 hp => ?_)
      refine lv_iload hx hb d_RS_ask_170 (lv_at hl 0 rfl) ?_
      refine x_lA C hH (by decide) d_RS_ask_172 hp (fun v8 hp => ?_)
      refine lv_aload hx hb d_RS_ask_173 (lv_at hl 4 rfl) ?_
      refine x_callV (As := [.ref v8, .ref l10]) (rest := []) (cv := vI) C hH kc_RS_263 d_RS_ask_175 hp (fun o h' e => m_RS_may Z e) rfl hl.1 (Nat.le_trans (Nat.le_of_ble_eq_true rfl) hRf) (Nat.le_trans (Nat.le_of_ble_eq_true rfl) hRl) (Nat.le_of_ble_eq_true rfl) (fun v9 h H locs cells slots hp hH => ?_)
      refine W.eq (g2 := F0 m 178 ls [.int v9]) rfl ?_
      refine lv_if_eq (tgt := 186) hx hb d_RS_ask_178 (by decide) (fun hc => ?_) (fun hc => ?_)
      · replace hp := x_ifp hc hp
        refine lv_iconst (v := (-1)) hx hb d_RS_ask_186 (by decide) ?_
        exact w_RS_ask_187 C hr hnm hRf hRl hs133 l0 l5 l8 l10 l12 (-1) hp hH (lv_sub hl [1, 2, 3, 4, 6] rfl)
      · replace hp := x_ifn hc hp
        refine lv_iload hx hb d_RS_ask_181 (lv_at hl 0 rfl) ?_
        refine lv_goto (tgt := 187) hx hb d_RS_ask_183 (by decide) ?_
        exact w_RS_ask_187 C hr hnm hRf hRl hs133 l0 l5 l8 l10 l12 v6 hp hH (lv_sub hl [1, 2, 3, 4, 6] rfl)
theorem w_RS_ask_h133 {res : (Int32 ⊕ (Nat × Nat)) × xH} (C : x_C l s0 A0 D R_RS prog_1_method_29_code 14 [] p s m args meth c) (hr : meth.sig.returnType = (some .int)) (hnm : meth.name = "ask") (hRf : 8 ≤ R.frames) (hRl : 159 ≤ R.locals)  : ∀ (n : Nat) (l0 : Nat) (l5 : Int32) (l8 : Nat) (l10 : Nat) (l11 : Int32) (l12 : Int32) (h : xH) (H : Heap) (locs : List Loc) (cells slots : Nat) (ls : Array Slot), f_RS_ask_h133 n l0 l5 l8 l10 l11 l12 h = some res → x_S s0 D R h H locs cells slots → lv_has ls 14 [(0, .ref l0), (5, .int l5), (8, .ref l8), (10, .ref l10), (11, .int l11), (12, .int l12)] → W p l e R s m args below meth c H locs cells slots (x_Q s0 D below s R (x_oc vI res.1) res.2) (F0 m 133 ls []) := by
  intro n
  induction n with
  | zero => intro l0 l5 l8 l10 l11 l12 h H locs cells slots ls hp hH hl; cases hp
  | succ n ih => intro l0 l5 l8 l10 l11 l12 h H locs cells slots ls hp hH hl; exact w_RS_ask_133 C hr hnm hRf hRl ih l0 l5 l8 l10 l11 l12 hp hH hl
set_option maxHeartbeats 4000000 in
set_option maxRecDepth 100000 in
theorem w_RS_ask_94 {res : (Int32 ⊕ (Nat × Nat)) × xH} (C : x_C l s0 A0 D R_RS prog_1_method_29_code 14 [] p s m args meth c) (hr : meth.sig.returnType = (some .int)) (hnm : meth.name = "ask") (hRf : 8 ≤ R.frames) (hRl : 159 ≤ R.locals)  (l0 : Nat) (l1 : Int32) (l4 : Int32) (l5 : Int32) (l6 : Int32) (l7 : Int32) (l8 : Nat) (l9 : Option Nat) (t0 : Int32) (hp : f_RS_ask_b94 l0 l1 l4 l5 l6 l7 l8 l9 t0 h = some res) (hH : x_S s0 D R h H locs cells slots) (hl : lv_has ls 14 [(0, .ref l0), (1, .int l1), (4, .int l4), (5, .int l5), (6, .int l6), (7, .int l7), (8, .ref l8), (9, va_rf l9)]) : W p l e R s m args below meth c H locs cells slots (x_Q s0 D below s R (x_oc vI res.1) res.2) (F0 m 94 ls [.int t0]) := by
  obtain ⟨hx, hb, hown, hts, hK, hml, hW, Z, -⟩ := id C
  unfold f_RS_ask_b94 at hp
  refine x_callS (As := [.int t0]) (rest := []) (cv := vU) C hH kc_RS_94 d_RS_ask_94 hp (fun o h' e => m_RS_need Z e) rfl hl.1 (Nat.le_trans (Nat.le_of_ble_eq_true rfl) hRf) (Nat.le_trans (Nat.le_of_ble_eq_true rfl) hRl) (Nat.le_of_ble_eq_true rfl) (fun v1 h H locs cells slots hp hH => ?_)
  refine W.eq (g2 := F0 m 97 ls []) rfl ?_
  refine x_nO C hH nw_RS_15 d_RS_ask_97 hp (fun a2 h H cells slots hp hH => ?_)
  refine lv_dup hx hb d_RS_ask_100 rfl ?_
  refine lv_aload_n hx hb d_RS_ask_101 rfl (lv_at hl 0 rfl) ?_
  refine x_gI C hH fl_RS_283 d_RS_ask_102 hp (fun v3 hp => ?_)
  refine lv_iload_n hx hb d_RS_ask_105 rfl (lv_at hl 1 rfl) ?_
  refine x_aloadq hx hb d_RS_ask_106 (lv_at hl 7 rfl) ?_
  refine lv_iload hx hb d_RS_ask_108 (lv_at hl 2 rfl) ?_
  refine lv_aload_n hx hb d_RS_ask_110 rfl (lv_at hl 0 rfl) ?_
  refine x_gJ C hH fl_RS_188 d_RS_ask_111 hp (fun v4 hp => ?_)
  refine lv_iload hx hb d_RS_ask_114 (lv_at hl 3 rfl) ?_
  refine lv_i2l (v := l5.toInt64) hx hb d_RS_ask_116 rfl ?_
  refine lv_ladd hx hb d_RS_ask_117 ?_
  refine lv_iload hx hb d_RS_ask_118 (lv_at hl 4 rfl) ?_
  refine lv_iload hx hb d_RS_ask_120 (lv_at hl 5 rfl) ?_
  obtain ⟨a5, ea, hp⟩ := xn_i hp
  subst ea
  have hl : lv_has ls 14 [(0, .ref l0), (1, .int l1), (4, .int l4), (5, .int l5), (6, .int l6), (7, .int l7), (8, .ref l8), (9, .ref a5)] := hl
  refine x_callI (As := [.int v3, .int l1, .ref a5, .int l4, .long (v4 + l5.toInt64), .int l6, .int l7]) (rest := [.ref a2]) (cv := vU) C hH kc_RS_286 d_RS_ask_122 hp (fun o h' e => m_Read_init Z e) rfl hl.1 (Nat.le_trans (Nat.le_of_ble_eq_true rfl) hRf) (Nat.le_trans (Nat.le_of_ble_eq_true rfl) hRl) (Nat.le_of_ble_eq_true rfl) (fun v6 h H locs cells slots hp hH => ?_)
  refine W.eq (g2 := F0 m 125 ls [.ref a2]) rfl ?_
  refine lv_astore (lv' := [(10, .ref a2), (0, .ref l0), (1, .int l1), (4, .int l4), (5, .int l5), (6, .int l6), (7, .int l7), (8, .ref l8), (9, .ref a5)]) hx hb d_RS_ask_125 hl (by decide) rfl (fun ls hl => ?_)
  refine lv_iconst (v := (-1)) hx hb d_RS_ask_127 (by decide) ?_
  refine lv_istore (lv' := [(11, .int (-1)), (10, .ref a2), (0, .ref l0), (1, .int l1), (4, .int l4), (5, .int l5), (6, .int l6), (7, .int l7), (8, .ref l8), (9, .ref a5)]) hx hb d_RS_ask_128 hl (by decide) rfl (fun ls hl => ?_)
  refine lv_iconst (v := 0) hx hb d_RS_ask_130 (by decide) ?_
  refine lv_istore (lv' := [(12, .int 0), (11, .int (-1)), (10, .ref a2), (0, .ref l0), (1, .int l1), (4, .int l4), (5, .int l5), (6, .int l6), (7, .int l7), (8, .ref l8), (9, .ref a5)]) hx hb d_RS_ask_131 hl (by decide) rfl (fun ls hl => ?_)
  exact w_RS_ask_h133 C hr hnm hRf hRl  1000 l0 l5 l8 a2 (-1) 0 _ _ _ _ _ _ hp hH (lv_sub hl [3, 6, 9, 2, 1, 0] rfl)
set_option maxHeartbeats 4000000 in
set_option maxRecDepth 100000 in
theorem w_RS_ask_76 {res : (Int32 ⊕ (Nat × Nat)) × xH} (C : x_C l s0 A0 D R_RS prog_1_method_29_code 14 [] p s m args meth c) (hr : meth.sig.returnType = (some .int)) (hnm : meth.name = "ask") (hRf : 8 ≤ R.frames) (hRl : 159 ≤ R.locals)  (l0 : Nat) (l1 : Int32) (l4 : Int32) (l5 : Int32) (l6 : Int32) (l7 : Int32) (l8 : Nat) (l9 : Option Nat) (t0 : Int32) (hp : f_RS_ask_b76 l0 l1 l4 l5 l6 l7 l8 l9 t0 h = some res) (hH : x_S s0 D R h H locs cells slots) (hl : lv_has ls 14 [(0, .ref l0), (1, .int l1), (4, .int l4), (5, .int l5), (6, .int l6), (7, .int l7), (8, .ref l8), (9, va_rf l9)]) : W p l e R s m args below meth c H locs cells slots (x_Q s0 D below s R (x_oc vI res.1) res.2) (F0 m 76 ls [.int t0]) := by
  obtain ⟨hx, hb, hown, hts, hK, hml, hW, Z, -⟩ := id C
  unfold f_RS_ask_b76 at hp
  refine x_callS (As := [.int t0]) (rest := []) (cv := vU) C hH kc_RS_71 d_RS_ask_76 hp (fun o h' e => m_RS_want Z e) rfl hl.1 (Nat.le_trans (Nat.le_of_ble_eq_true rfl) hRf) (Nat.le_trans (Nat.le_of_ble_eq_true rfl) hRl) (Nat.le_of_ble_eq_true rfl) (fun v1 h H locs cells slots hp hH => ?_)
  refine W.eq (g2 := F0 m 79 ls []) rfl ?_
  refine lv_aload_n hx hb d_RS_ask_79 rfl (lv_at hl 0 rfl) ?_
  refine x_gI C hH fl_RS_283 d_RS_ask_80 hp (fun v2 hp => ?_)
  refine lv_sipush (v := 500) hx hb d_RS_ask_83 (by decide) ?_
  refine lv_icmp_ge (tgt := 93) hx hb d_RS_ask_86 (by decide) (fun hc => ?_) (fun hc => ?_)
  · replace hp := x_ifp hc hp
    refine lv_iconst (v := 0) hx hb d_RS_ask_93 (by decide) ?_
    exact w_RS_ask_94 C hr hnm hRf hRl  l0 l1 l4 l5 l6 l7 l8 l9 0 hp hH (lv_sub hl [0, 1, 2, 3, 4, 5, 6, 7] rfl)
  · replace hp := x_ifn hc hp
    refine lv_iconst (v := 1) hx hb d_RS_ask_89 (by decide) ?_
    refine lv_goto (tgt := 94) hx hb d_RS_ask_90 (by decide) ?_
    exact w_RS_ask_94 C hr hnm hRf hRl  l0 l1 l4 l5 l6 l7 l8 l9 1 hp hH (lv_sub hl [0, 1, 2, 3, 4, 5, 6, 7] rfl)
set_option maxHeartbeats 4000000 in
set_option maxRecDepth 100000 in
theorem w_RS_ask_75 {res : (Int32 ⊕ (Nat × Nat)) × xH} (C : x_C l s0 A0 D R_RS prog_1_method_29_code 14 [] p s m args meth c) (hr : meth.sig.returnType = (some .int)) (hnm : meth.name = "ask") (hRf : 8 ≤ R.frames) (hRl : 159 ≤ R.locals)  (l0 : Nat) (l1 : Int32) (l4 : Int32) (l5 : Int32) (l6 : Int32) (l7 : Int32) (l8 : Nat) (l9 : Option Nat) (hp : f_RS_ask_b75 l0 l1 l4 l5 l6 l7 l8 l9 h = some res) (hH : x_S s0 D R h H locs cells slots) (hl : lv_has ls 14 [(0, .ref l0), (1, .int l1), (4, .int l4), (5, .int l5), (6, .int l6), (7, .int l7), (8, .ref l8), (9, va_rf l9)]) : W p l e R s m args below meth c H locs cells slots (x_Q s0 D below s R (x_oc vI res.1) res.2) (F0 m 75 ls []) := by
  obtain ⟨hx, hb, hown, hts, hK, hml, hW, Z, -⟩ := id C
  unfold f_RS_ask_b75 at hp
  refine lv_iconst (v := 0) hx hb d_RS_ask_75 (by decide) ?_
  exact w_RS_ask_76 C hr hnm hRf hRl  l0 l1 l4 l5 l6 l7 l8 l9 0 hp hH (lv_sub hl [0, 1, 2, 3, 4, 5, 6, 7] rfl)
set_option maxHeartbeats 4000000 in
set_option maxRecDepth 100000 in
theorem w_RS_ask_36 {res : (Int32 ⊕ (Nat × Nat)) × xH} (C : x_C l s0 A0 D R_RS prog_1_method_29_code 14 [] p s m args meth c) (hr : meth.sig.returnType = (some .int)) (hnm : meth.name = "ask") (hRf : 8 ≤ R.frames) (hRl : 159 ≤ R.locals)  (l0 : Nat) (l1 : Int32) (l4 : Int32) (l5 : Int32) (l6 : Int32) (l7 : Int32) (l8 : Nat) (t0 : Option Nat) (hp : f_RS_ask_b36 l0 l1 l4 l5 l6 l7 l8 t0 h = some res) (hH : x_S s0 D R h H locs cells slots) (hl : lv_has ls 14 [(0, .ref l0), (1, .int l1), (4, .int l4), (5, .int l5), (6, .int l6), (7, .int l7), (8, .ref l8)]) : W p l e R s m args below meth c H locs cells slots (x_Q s0 D below s R (x_oc vI res.1) res.2) (F0 m 36 ls [va_rf t0]) := by
  obtain ⟨hx, hb, hown, hts, hK, hml, hW, Z, -⟩ := id C
  unfold f_RS_ask_b36 at hp
  refine x_astoreq (lv' := [(9, va_rf t0), (0, .ref l0), (1, .int l1), (4, .int l4), (5, .int l5), (6, .int l6), (7, .int l7), (8, .ref l8)]) hx hb d_RS_ask_36 hl (by decide) rfl (fun ls hl => ?_)
  refine x_aloadq hx hb d_RS_ask_38 (lv_at hl 0 rfl) ?_
  refine x_ifnullq (tgt := 75) hx hb d_RS_ask_40 (by decide) hp (fun hc hp => ?_) (fun a3 hc hp => ?_)
  · exact w_RS_ask_75 C hr hnm hRf hRl  l0 l1 l4 l5 l6 l7 l8 t0 hp hH (lv_sub hl [1, 2, 3, 4, 5, 6, 7, 0] rfl)
  · refine lv_iload hx hb d_RS_ask_43 (lv_at hl 3 rfl) ?_
    refine lv_i2l (v := l4.toInt64) hx hb d_RS_ask_45 rfl ?_
    refine lv_ldc2 hx hb hown (hts _ k_585) d_RS_ask_46 ?_
    refine lv_ldc2 hx hb hown (hts _ k_586) d_RS_ask_49 ?_
    refine x_callS (As := [.long l4.toInt64, .long (-1), .long 400]) (rest := []) (cv := vI) C hH kc_RS_27 d_RS_ask_52 hp (fun o h' e => m_RS_isIn Z e) rfl hl.1 (Nat.le_trans (Nat.le_of_ble_eq_true rfl) hRf) (Nat.le_trans (Nat.le_of_ble_eq_true rfl) hRl) (Nat.le_of_ble_eq_true rfl) (fun v1 h H locs cells slots hp hH => ?_)
    refine W.eq (g2 := F0 m 55 ls [.int v1]) rfl ?_
    refine lv_if_eq (tgt := 75) hx hb d_RS_ask_55 (by decide) (fun hc => ?_) (fun hc => ?_)
    · replace hp := x_ifp hc hp
      exact w_RS_ask_75 C hr hnm hRf hRl  l0 l1 l4 l5 l6 l7 l8 t0 hp hH (lv_sub hl [1, 2, 3, 4, 5, 6, 7, 0] rfl)
    · replace hp := x_ifn hc hp
      refine lv_iload hx hb d_RS_ask_58 (lv_at hl 4 rfl) ?_
      refine lv_i2l (v := l5.toInt64) hx hb d_RS_ask_60 rfl ?_
      refine lv_lconst (v := 0) hx hb d_RS_ask_61 (by decide) ?_
      refine lv_ldc2 hx hb hown (hts _ k_425) d_RS_ask_62 ?_
      refine x_callS (As := [.long l5.toInt64, .long 0, .long 1000]) (rest := []) (cv := vI) C hH kc_RS_27 d_RS_ask_65 hp (fun o h' e => m_RS_isIn Z e) rfl hl.1 (Nat.le_trans (Nat.le_of_ble_eq_true rfl) hRf) (Nat.le_trans (Nat.le_of_ble_eq_true rfl) hRl) (Nat.le_of_ble_eq_true rfl) (fun v2 h H locs cells slots hp hH => ?_)
      refine W.eq (g2 := F0 m 68 ls [.int v2]) rfl ?_
      refine lv_if_eq (tgt := 75) hx hb d_RS_ask_68 (by decide) (fun hc => ?_) (fun hc => ?_)
      · replace hp := x_ifp hc hp
        exact w_RS_ask_75 C hr hnm hRf hRl  l0 l1 l4 l5 l6 l7 l8 t0 hp hH (lv_sub hl [1, 2, 3, 4, 5, 6, 7, 0] rfl)
      · replace hp := x_ifn hc hp
        refine lv_iconst (v := 1) hx hb d_RS_ask_71 (by decide) ?_
        refine lv_goto (tgt := 76) hx hb d_RS_ask_72 (by decide) ?_
        exact w_RS_ask_76 C hr hnm hRf hRl  l0 l1 l4 l5 l6 l7 l8 t0 1 hp hH (lv_sub hl [1, 2, 3, 4, 5, 6, 7, 0] rfl)
set_option maxHeartbeats 4000000 in
set_option maxRecDepth 100000 in
theorem w_RS_ask_0 {res : (Int32 ⊕ (Nat × Nat)) × xH} (C : x_C l s0 A0 D R_RS prog_1_method_29_code 14 [] p s m args meth c) (hr : meth.sig.returnType = (some .int)) (hnm : meth.name = "ask") (hRf : 8 ≤ R.frames) (hRl : 159 ≤ R.locals)  (l0 : Nat) (l1 : Int32) (l2 : Int64) (l4 : Int32) (l5 : Int32) (l6 : Int32) (l7 : Int32) (hp : f_RS_ask l0 l1 l2 l4 l5 l6 l7 h = some res) (hH : x_S s0 D R h H locs cells slots) (hl : lv_has ls 14 [(0, .ref l0), (1, .int l1), (2, .long l2), (4, .int l4), (5, .int l5), (6, .int l6), (7, .int l7)]) : W p l e R s m args below meth c H locs cells slots (x_Q s0 D below s R (x_oc vI res.1) res.2) (F0 m 0 ls []) := by
  obtain ⟨hx, hb, hown, hts, hK, hml, hW, Z, -⟩ := id C
  unfold f_RS_ask at hp
  refine lv_aload_n hx hb d_RS_ask_0 rfl (lv_at hl 0 rfl) ?_
  refine lv_iload_n hx hb d_RS_ask_1 rfl (lv_at hl 1 rfl) ?_
  refine x_callV (As := [.int l1]) (rest := []) (cv := vA) C hH kc_RS_65 d_RS_ask_2 hp (fun o h' e => m_RS_sessionAt Z e) rfl hl.1 (Nat.le_trans (Nat.le_of_ble_eq_true rfl) hRf) (Nat.le_trans (Nat.le_of_ble_eq_true rfl) hRl) (Nat.le_of_ble_eq_true rfl) (fun v1 h H locs cells slots hp hH => ?_)
  refine W.eq (g2 := F0 m 5 ls [.ref v1]) rfl ?_
  refine lv_astore (lv' := [(8, .ref v1), (0, .ref l0), (1, .int l1), (2, .long l2), (4, .int l4), (5, .int l5), (6, .int l6), (7, .int l7)]) hx hb d_RS_ask_5 hl (by decide) rfl (fun ls hl => ?_)
  refine lv_aload_n hx hb d_RS_ask_7 rfl (lv_at hl 1 rfl) ?_
  refine lv_iload hx hb d_RS_ask_8 (lv_at hl 6 rfl) ?_
  refine lv_iload hx hb d_RS_ask_10 (lv_at hl 7 rfl) ?_
  refine x_callV (As := [.int l6, .int l7]) (rest := []) (cv := vU) C hH kc_RS_275 d_RS_ask_12 hp (fun o h' e => m_RS_question Z e) rfl hl.1 (Nat.le_trans (Nat.le_of_ble_eq_true rfl) hRf) (Nat.le_trans (Nat.le_of_ble_eq_true rfl) hRl) (Nat.le_of_ble_eq_true rfl) (fun v2 h H locs cells slots hp hH => ?_)
  refine W.eq (g2 := F0 m 15 ls []) rfl ?_
  refine lv_lload_n hx hb d_RS_ask_15 rfl (lv_at hl 3 rfl) ?_
  refine lv_lconst (v := 0) hx hb d_RS_ask_16 (by decide) ?_
  refine W.lcmp hx hb d_RS_ask_17 ?_
  refine lv_if_ne (tgt := 31) hx hb d_RS_ask_18 (by decide) (fun hc => ?_) (fun hc => ?_)
  · replace hp := x_ifn hc hp
    refine lv_aload_n hx hb d_RS_ask_31 rfl (lv_at hl 1 rfl) ?_
    refine lv_lload_n hx hb d_RS_ask_32 rfl (lv_at hl 3 rfl) ?_
    refine x_callV (As := [.long l2]) (rest := []) (cv := vQ) C hH kc_RS_146 d_RS_ask_33 hp (fun o h' e => m_RS_vectorOf Z e) rfl hl.1 (Nat.le_trans (Nat.le_of_ble_eq_true rfl) hRf) (Nat.le_trans (Nat.le_of_ble_eq_true rfl) hRl) (Nat.le_of_ble_eq_true rfl) (fun v3 h H locs cells slots hp hH => ?_)
    refine W.eq (g2 := F0 m 36 ls [va_rf v3]) rfl ?_
    exact w_RS_ask_36 C hr hnm hRf hRl  l0 l1 l4 l5 l6 l7 v1 v3 hp hH (lv_sub hl [1, 2, 4, 5, 6, 7, 0] rfl)
  · replace hp := x_ifp hc hp
    refine x_nO C hH nw_RS_114 d_RS_ask_21 hp (fun a4 h H cells slots hp hH => ?_)
    refine lv_dup hx hb d_RS_ask_24 rfl ?_
    refine x_callI (As := []) (rest := [.ref a4]) (cv := vU) C hH kc_RS_128 d_RS_ask_25 hp (fun o h' e => m_Vec_init Z e) rfl hl.1 (Nat.le_trans (Nat.le_of_ble_eq_true rfl) hRf) (Nat.le_trans (Nat.le_of_ble_eq_true rfl) hRl) (Nat.le_of_ble_eq_true rfl) (fun v5 h H locs cells slots hp hH => ?_)
    refine W.eq (g2 := F0 m 28 ls [.ref a4]) rfl ?_
    refine lv_goto (tgt := 36) hx hb d_RS_ask_28 (by decide) ?_
    exact w_RS_ask_36 C hr hnm hRf hRl  l0 l1 l4 l5 l6 l7 v1 (some a4) hp hH (lv_sub hl [1, 2, 4, 5, 6, 7, 0] rfl)
set_option maxRecDepth 100000 in
theorem m_RS_ask (Z : x_Z l s0 A0 D) {l0 : Nat} {l1 : Int32} {l2 : Int64} {l4 : Int32} {l5 : Int32} {l6 : Int32} {l7 : Int32} {res : (Int32 ⊕ (Nat × Nat)) × xH} (hp : f_RS_ask l0 l1 l2 l4 l5 l6 l7 h = some res) : x_M l s0 D y_RS_ask (x_cw y_RS_ask prog_1_method_29_code 14 (some .int) []) 8 159 [.ref l0, .int l1, .long l2, .int l4, .int l5, .int l6, .int l7] h (x_oc vI res.1) res.2 := by
  refine x_M.ofW Z (plainFor_of_name (by decide)) ?_
  intro p e s m below meth c C hnm hr hH
  have hl := lv_entry ([.ref l0, .int l1, .long l2, .int l4, .int l5, .int l6, .int l7]) (n := 14) (Nat.le_of_ble_eq_true rfl)
  rw [lg_entry_eq]
  generalize (lg_sl ([.ref l0, .int l1, .long l2, .int l4, .int l5, .int l6, .int l7]) ++ List.replicate (14 - (lg_sl ([.ref l0, .int l1, .long l2, .int l4, .int l5, .int l6, .int l7])).length) Slot.unset).toArray = ls at hl ⊢
  exact w_RS_ask_0 C hr hnm (Nat.le_refl _) (Nat.le_refl _) l0 l1 l2 l4 l5 l6 l7 hp hH hl
/-! ReadSideLaw.ask(LReadSide;IJIIII[J)I -/
theorem d_law_ask_0 : decode method_12_code 0 = .ok (.aload 8, 2) := by decide +kernel
theorem d_law_ask_2 : decode method_12_code 2 = .ok (.iconst 0, 1) := by decide +kernel
theorem d_law_ask_3 : decode method_12_code 3 = .ok (.aload_n 0, 1) := by decide +kernel
theorem d_law_ask_4 : decode method_12_code 4 = .ok (.iload_n 1, 1) := by decide +kernel
theorem d_law_ask_5 : decode method_12_code 5 = .ok (.lload_n 2, 1) := by decide +kernel
theorem d_law_ask_6 : decode method_12_code 6 = .ok (.iload 4, 2) := by decide +kernel
theorem d_law_ask_8 : decode method_12_code 8 = .ok (.iload 5, 2) := by decide +kernel
theorem d_law_ask_10 : decode method_12_code 10 = .ok (.iload 6, 2) := by decide +kernel
theorem d_law_ask_12 : decode method_12_code 12 = .ok (.iload 7, 2) := by decide +kernel
theorem d_law_ask_14 : decode method_12_code 14 = .ok (.invokevirtual 46, 3) := by decide +kernel
theorem d_law_ask_17 : decode method_12_code 17 = .ok (.i2l, 1) := by decide +kernel
theorem d_law_ask_18 : decode method_12_code 18 = .ok (.lastore, 1) := by decide +kernel
theorem d_law_ask_19 : decode method_12_code 19 = .ok (.goto 15, 3) := by decide +kernel
theorem d_law_ask_22 : decode method_12_code 22 = .ok (.astore 9, 2) := by decide +kernel
theorem d_law_ask_24 : decode method_12_code 24 = .ok (.iconst 1, 1) := by decide +kernel
theorem d_law_ask_25 : decode method_12_code 25 = .ok (.ireturn, 1) := by decide +kernel
theorem d_law_ask_26 : decode method_12_code 26 = .ok (.astore 9, 2) := by decide +kernel
theorem d_law_ask_28 : decode method_12_code 28 = .ok (.iconst 2, 1) := by decide +kernel
theorem d_law_ask_29 : decode method_12_code 29 = .ok (.ireturn, 1) := by decide +kernel
theorem d_law_ask_30 : decode method_12_code 30 = .ok (.astore 9, 2) := by decide +kernel
theorem d_law_ask_32 : decode method_12_code 32 = .ok (.iconst 3, 1) := by decide +kernel
theorem d_law_ask_33 : decode method_12_code 33 = .ok (.ireturn, 1) := by decide +kernel
theorem d_law_ask_34 : decode method_12_code 34 = .ok (.iconst 0, 1) := by decide +kernel
theorem d_law_ask_35 : decode method_12_code 35 = .ok (.ireturn, 1) := by decide +kernel
set_option maxHeartbeats 4000000 in
set_option maxRecDepth 100000 in
theorem w_law_ask_0 {res : (Int32 ⊕ (Nat × Nat)) × xH} (C : x_C l s0 A0 D R_law method_12_code 10 [(0, 19, 22, 13), (0, 19, 26, 15), (0, 19, 30, 24)] p s m args meth c) (hr : meth.sig.returnType = (some .int)) (hnm : meth.name = "ask") (hRf : 9 ≤ R.frames) (hRl : 200 ≤ R.locals)  (l0 : Nat) (l1 : Int32) (l2 : Int64) (l4 : Int32) (l5 : Int32) (l6 : Int32) (l7 : Int32) (l8 : Nat) (hp : f_law_ask l0 l1 l2 l4 l5 l6 l7 l8 h = some res) (hH : x_S s0 D R h H locs cells slots) (hl : lv_has ls 10 [(0, .ref l0), (1, .int l1), (2, .long l2), (4, .int l4), (5, .int l5), (6, .int l6), (7, .int l7), (8, .ref l8)]) : W p l e R s m args below meth c H locs cells slots (x_Q s0 D below s R (x_oc vI res.1) res.2) (F0 m 0 ls []) := by
  obtain ⟨hx, hb, hown, hts, hK, hml, hW, Z, -⟩ := id C
  unfold f_law_ask at hp
  refine lv_aload hx hb d_law_ask_0 (lv_at hl 7 rfl) ?_
  refine lv_iconst (v := 0) hx hb d_law_ask_2 (by decide) ?_
  refine lv_aload_n hx hb d_law_ask_3 rfl (lv_at hl 0 rfl) ?_
  refine lv_iload_n hx hb d_law_ask_4 rfl (lv_at hl 1 rfl) ?_
  refine lv_lload_n hx hb d_law_ask_5 rfl (lv_at hl 2 rfl) ?_
  refine lv_iload hx hb d_law_ask_6 (lv_at hl 3 rfl) ?_
  refine lv_iload hx hb d_law_ask_8 (lv_at hl 4 rfl) ?_
  refine lv_iload hx hb d_law_ask_10 (lv_at hl 5 rfl) ?_
  refine lv_iload hx hb d_law_ask_12 (lv_at hl 6 rfl) ?_
  refine x_callVc (As := [.int l1, .long l2, .int l4, .int l5, .int l6, .int l7]) (rest := [.int 0, .ref l8]) (cv := vI) C ct_law hH kc_law_46 d_law_ask_14 hp (fun o h' e => m_RS_ask Z e) rfl hl.1 (Nat.le_trans (Nat.le_of_ble_eq_true rfl) hRf) (Nat.le_trans (Nat.le_of_ble_eq_true rfl) hRl) (Nat.le_of_ble_eq_true rfl) (fun v1 h H locs cells slots hp hH => ?_) (fun a ci h H locs cells slots hp hH => ?_)
  · refine W.eq (g2 := F0 m 17 ls [.int v1, .int 0, .ref l8]) rfl ?_
    refine lv_i2l (v := v1.toInt64) hx hb d_law_ask_17 rfl ?_
    refine x_sJ C hH d_law_ask_18 hp (fun h H locs hp hH => ?_)
    refine lv_goto (tgt := 34) hx hb d_law_ask_19 (by decide) ?_
    refine lv_iconst (v := 0) hx hb d_law_ask_34 (by decide) ?_
    exact x_iret C hH hr d_law_ask_35 hp
  · by_cases hc10 : ci = 10
    · replace hp := x_ifp hc10 hp
      subst hc10
      refine ⟨22, rfl, ?_⟩
      refine lv_astore (lv' := [(9, .ref a), (0, .ref l0), (1, .int l1), (2, .long l2), (4, .int l4), (5, .int l5), (6, .int l6), (7, .int l7), (8, .ref l8)]) hx hb d_law_ask_22 hl (by decide) rfl (fun ls hl => ?_)
      refine lv_iconst (v := 1) hx hb d_law_ask_24 (by decide) ?_
      exact x_iret C hH hr d_law_ask_25 hp
    replace hp := x_ifn hc10 hp
    by_cases hc11 : ci = 11
    · replace hp := x_ifp hc11 hp
      subst hc11
      refine ⟨26, rfl, ?_⟩
      refine lv_astore (lv' := [(9, .ref a), (0, .ref l0), (1, .int l1), (2, .long l2), (4, .int l4), (5, .int l5), (6, .int l6), (7, .int l7), (8, .ref l8)]) hx hb d_law_ask_26 hl (by decide) rfl (fun ls hl => ?_)
      refine lv_iconst (v := 2) hx hb d_law_ask_28 (by decide) ?_
      exact x_iret C hH hr d_law_ask_29 hp
    replace hp := x_ifn hc11 hp
    by_cases hc12 : ci = 12
    · replace hp := x_ifp hc12 hp
      subst hc12
      refine ⟨30, rfl, ?_⟩
      refine lv_astore (lv' := [(9, .ref a), (0, .ref l0), (1, .int l1), (2, .long l2), (4, .int l4), (5, .int l5), (6, .int l6), (7, .int l7), (8, .ref l8)]) hx hb d_law_ask_30 hl (by decide) rfl (fun ls hl => ?_)
      refine lv_iconst (v := 3) hx hb d_law_ask_32 (by decide) ?_
      exact x_iret C hH hr d_law_ask_33 hp
    replace hp := x_ifn hc12 hp
    cases hp
set_option maxRecDepth 100000 in
theorem m_law_ask (Z : x_Z l s0 A0 D) {l0 : Nat} {l1 : Int32} {l2 : Int64} {l4 : Int32} {l5 : Int32} {l6 : Int32} {l7 : Int32} {l8 : Nat} {res : (Int32 ⊕ (Nat × Nat)) × xH} (hp : f_law_ask l0 l1 l2 l4 l5 l6 l7 l8 h = some res) : x_M l s0 D y_law_ask (x_cw y_law_ask method_12_code 10 (some .int) [(0, 19, 22, 13), (0, 19, 26, 15), (0, 19, 30, 24)]) 9 200 [.ref l0, .int l1, .long l2, .int l4, .int l5, .int l6, .int l7, .ref l8] h (x_oc vI res.1) res.2 := by
  refine x_M.ofW Z (plainFor_of_name (by decide)) ?_
  intro p e s m below meth c C hnm hr hH
  have hl := lv_entry ([.ref l0, .int l1, .long l2, .int l4, .int l5, .int l6, .int l7, .ref l8]) (n := 10) (Nat.le_of_ble_eq_true rfl)
  rw [lg_entry_eq]
  generalize (lg_sl ([.ref l0, .int l1, .long l2, .int l4, .int l5, .int l6, .int l7, .ref l8]) ++ List.replicate (10 - (lg_sl ([.ref l0, .int l1, .long l2, .int l4, .int l5, .int l6, .int l7, .ref l8])).length) Slot.unset).toArray = ls at hl ⊢
  exact w_law_ask_0 C hr hnm (Nat.le_refl _) (Nat.le_refl _) l0 l1 l2 l4 l5 l6 l7 l8 hp hH hl
/-! ReadSide$Read.told(I)J -/
theorem d_Read_told_0 : decode prog_5_method_2_code 0 = .ok (.iload_n 1, 1) := by decide +kernel
theorem d_Read_told_1 : decode prog_5_method_2_code 1 = .ok (.tableswitch 62 0 4 #[35, 41, 47, 52, 57], 35) := by decide +kernel
theorem d_Read_told_36 : decode prog_5_method_2_code 36 = .ok (.aload_n 0, 1) := by decide +kernel
theorem d_Read_told_37 : decode prog_5_method_2_code 37 = .ok (.getfield 9, 3) := by decide +kernel
theorem d_Read_told_40 : decode prog_5_method_2_code 40 = .ok (.i2l, 1) := by decide +kernel
theorem d_Read_told_41 : decode prog_5_method_2_code 41 = .ok (.lreturn, 1) := by decide +kernel
theorem d_Read_told_42 : decode prog_5_method_2_code 42 = .ok (.aload_n 0, 1) := by decide +kernel
theorem d_Read_told_43 : decode prog_5_method_2_code 43 = .ok (.getfield 15, 3) := by decide +kernel
theorem d_Read_told_46 : decode prog_5_method_2_code 46 = .ok (.i2l, 1) := by decide +kernel
theorem d_Read_told_47 : decode prog_5_method_2_code 47 = .ok (.lreturn, 1) := by decide +kernel
theorem d_Read_told_48 : decode prog_5_method_2_code 48 = .ok (.aload_n 0, 1) := by decide +kernel
theorem d_Read_told_49 : decode prog_5_method_2_code 49 = .ok (.getfield 46, 3) := by decide +kernel
theorem d_Read_told_52 : decode prog_5_method_2_code 52 = .ok (.lreturn, 1) := by decide +kernel
theorem d_Read_told_53 : decode prog_5_method_2_code 53 = .ok (.aload_n 0, 1) := by decide +kernel
theorem d_Read_told_54 : decode prog_5_method_2_code 54 = .ok (.getfield 49, 3) := by decide +kernel
theorem d_Read_told_57 : decode prog_5_method_2_code 57 = .ok (.lreturn, 1) := by decide +kernel
theorem d_Read_told_58 : decode prog_5_method_2_code 58 = .ok (.aload_n 0, 1) := by decide +kernel
theorem d_Read_told_59 : decode prog_5_method_2_code 59 = .ok (.getfield 20, 3) := by decide +kernel
theorem d_Read_told_62 : decode prog_5_method_2_code 62 = .ok (.lreturn, 1) := by decide +kernel
theorem d_Read_told_63 : decode prog_5_method_2_code 63 = .ok (.aload_n 0, 1) := by decide +kernel
theorem d_Read_told_64 : decode prog_5_method_2_code 64 = .ok (.getfield 27, 3) := by decide +kernel
theorem d_Read_told_67 : decode prog_5_method_2_code 67 = .ok (.i2l, 1) := by decide +kernel
theorem d_Read_told_68 : decode prog_5_method_2_code 68 = .ok (.lreturn, 1) := by decide +kernel
set_option maxHeartbeats 4000000 in
set_option maxRecDepth 100000 in
theorem w_Read_told_0 {res : (Int64 ⊕ (Nat × Nat)) × xH} (C : x_C l s0 A0 D R_Read prog_5_method_2_code 2 [] p s m args meth c) (hr : meth.sig.returnType = (some .long)) (hnm : meth.name = "told") (hRf : 0 ≤ R.frames) (hRl : 0 ≤ R.locals)  (l0 : Nat) (l1 : Int32) (hp : f_Read_told l0 l1 h = some res) (hH : x_S s0 D R h H locs cells slots) (hl : lv_has ls 2 [(0, .ref l0), (1, .int l1)]) : W p l e R s m args below meth c H locs cells slots (x_Q s0 D below s R (x_oc vJ res.1) res.2) (F0 m 0 ls []) := by
  obtain ⟨hx, hb, hown, hts, hK, hml, hW, Z, -⟩ := id C
  unfold f_Read_told at hp
  refine lv_iload_n hx hb d_Read_told_0 rfl (lv_at hl 1 rfl) ?_
  by_cases hc0 : l1 = 0
  · replace hp := x_ifp hc0 hp
    refine lv_tableIn (off := 35) (tgt := 36) hx hb d_Read_told_1 (by rw [hc0]; decide) (by rw [hc0]; decide) (by rw [hc0]; rfl) (by decide) ?_
    refine lv_aload_n hx hb d_Read_told_36 rfl (lv_at hl 0 rfl) ?_
    refine x_gI C hH fl_Read_9 d_Read_told_37 hp (fun v1 hp => ?_)
    refine lv_i2l (v := v1.toInt64) hx hb d_Read_told_40 rfl ?_
    exact x_lret C hH hr d_Read_told_41 hp
  replace hp := x_ifn hc0 hp
  by_cases hc1 : l1 = 1
  · replace hp := x_ifp hc1 hp
    refine lv_tableIn (off := 41) (tgt := 42) hx hb d_Read_told_1 (by rw [hc1]; decide) (by rw [hc1]; decide) (by rw [hc1]; rfl) (by decide) ?_
    refine lv_aload_n hx hb d_Read_told_42 rfl (lv_at hl 0 rfl) ?_
    refine x_gI C hH fl_Read_15 d_Read_told_43 hp (fun v2 hp => ?_)
    refine lv_i2l (v := v2.toInt64) hx hb d_Read_told_46 rfl ?_
    exact x_lret C hH hr d_Read_told_47 hp
  replace hp := x_ifn hc1 hp
  by_cases hc2 : l1 = 2
  · replace hp := x_ifp hc2 hp
    refine lv_tableIn (off := 47) (tgt := 48) hx hb d_Read_told_1 (by rw [hc2]; decide) (by rw [hc2]; decide) (by rw [hc2]; rfl) (by decide) ?_
    refine lv_aload_n hx hb d_Read_told_48 rfl (lv_at hl 0 rfl) ?_
    refine x_gJ C hH fl_Read_46 d_Read_told_49 hp (fun v3 hp => ?_)
    exact x_lret C hH hr d_Read_told_52 hp
  replace hp := x_ifn hc2 hp
  by_cases hc3 : l1 = 3
  · replace hp := x_ifp hc3 hp
    refine lv_tableIn (off := 52) (tgt := 53) hx hb d_Read_told_1 (by rw [hc3]; decide) (by rw [hc3]; decide) (by rw [hc3]; rfl) (by decide) ?_
    refine lv_aload_n hx hb d_Read_told_53 rfl (lv_at hl 0 rfl) ?_
    refine x_gJ C hH fl_Read_49 d_Read_told_54 hp (fun v4 hp => ?_)
    exact x_lret C hH hr d_Read_told_57 hp
  replace hp := x_ifn hc3 hp
  by_cases hc4 : l1 = 4
  · replace hp := x_ifp hc4 hp
    refine lv_tableIn (off := 57) (tgt := 58) hx hb d_Read_told_1 (by rw [hc4]; decide) (by rw [hc4]; decide) (by rw [hc4]; rfl) (by decide) ?_
    refine lv_aload_n hx hb d_Read_told_58 rfl (lv_at hl 0 rfl) ?_
    refine x_gJ C hH fl_Read_20 d_Read_told_59 hp (fun v5 hp => ?_)
    exact x_lret C hH hr d_Read_told_62 hp
  replace hp := x_ifn hc4 hp
  have n0 := lv_neT hc0 (k := 0) (a := 0) (by decide)
  have n1 := lv_neT hc1 (k := 1) (a := 1) (by decide)
  have n2 := lv_neT hc2 (k := 2) (a := 2) (by decide)
  have n3 := lv_neT hc3 (k := 3) (a := 3) (by decide)
  have n4 := lv_neT hc4 (k := 4) (a := 4) (by decide)
  refine lv_tableOut (tgt := 63) hx hb d_Read_told_1 (by omega) (by decide) ?_
  refine lv_aload_n hx hb d_Read_told_63 rfl (lv_at hl 0 rfl) ?_
  refine x_gI C hH fl_Read_27 d_Read_told_64 hp (fun v6 hp => ?_)
  refine lv_i2l (v := v6.toInt64) hx hb d_Read_told_67 rfl ?_
  exact x_lret C hH hr d_Read_told_68 hp
set_option maxRecDepth 100000 in
theorem m_Read_told (Z : x_Z l s0 A0 D) {l0 : Nat} {l1 : Int32} {res : (Int64 ⊕ (Nat × Nat)) × xH} (hp : f_Read_told l0 l1 h = some res) : x_M l s0 D y_Read_told (x_cw y_Read_told prog_5_method_2_code 2 (some .long) []) 0 0 [.ref l0, .int l1] h (x_oc vJ res.1) res.2 := by
  refine x_M.ofW Z (plainFor_of_name (by decide)) ?_
  intro p e s m below meth c C hnm hr hH
  have hl := lv_entry ([.ref l0, .int l1]) (n := 2) (Nat.le_of_ble_eq_true rfl)
  rw [lg_entry_eq]
  generalize (lg_sl ([.ref l0, .int l1]) ++ List.replicate (2 - (lg_sl ([.ref l0, .int l1])).length) Slot.unset).toArray = ls at hl ⊢
  exact w_Read_told_0 C hr hnm (Nat.le_refl _) (Nat.le_refl _) l0 l1 hp hH hl
/-! ReadSide.read(II)J -/
theorem d_RS_read_0 : decode prog_1_method_30_code 0 = .ok (.aload_n 0, 1) := by decide +kernel
theorem d_RS_read_1 : decode prog_1_method_30_code 1 = .ok (.getfield 17, 3) := by decide +kernel
theorem d_RS_read_4 : decode prog_1_method_30_code 4 = .ok (.iload_n 1, 1) := by decide +kernel
theorem d_RS_read_5 : decode prog_1_method_30_code 5 = .ok (.aload_n 0, 1) := by decide +kernel
theorem d_RS_read_6 : decode prog_1_method_30_code 6 = .ok (.getfield 283, 3) := by decide +kernel
theorem d_RS_read_9 : decode prog_1_method_30_code 9 = .ok (.invokestatic 61, 3) := by decide +kernel
theorem d_RS_read_12 : decode prog_1_method_30_code 12 = .ok (.aaload, 1) := by decide +kernel
theorem d_RS_read_13 : decode prog_1_method_30_code 13 = .ok (.astore_n 3, 1) := by decide +kernel
theorem d_RS_read_14 : decode prog_1_method_30_code 14 = .ok (.aload_n 3, 1) := by decide +kernel
theorem d_RS_read_15 : decode prog_1_method_30_code 15 = .ok (.iload_n 2, 1) := by decide +kernel
theorem d_RS_read_16 : decode prog_1_method_30_code 16 = .ok (.bipush 6, 2) := by decide +kernel
theorem d_RS_read_18 : decode prog_1_method_30_code 18 = .ok (.invokestatic 61, 3) := by decide +kernel
theorem d_RS_read_21 : decode prog_1_method_30_code 21 = .ok (.invokevirtual 292, 3) := by decide +kernel
theorem d_RS_read_24 : decode prog_1_method_30_code 24 = .ok (.lreturn, 1) := by decide +kernel
set_option maxHeartbeats 4000000 in
set_option maxRecDepth 100000 in
theorem w_RS_read_0 {res : (Int64 ⊕ (Nat × Nat)) × xH} (C : x_C l s0 A0 D R_RS prog_1_method_30_code 4 [] p s m args meth c) (hr : meth.sig.returnType = (some .long)) (hnm : meth.name = "read") (hRf : 7 ≤ R.frames) (hRl : 129 ≤ R.locals)  (l0 : Nat) (l1 : Int32) (l2 : Int32) (hp : f_RS_read l0 l1 l2 h = some res) (hH : x_S s0 D R h H locs cells slots) (hl : lv_has ls 4 [(0, .ref l0), (1, .int l1), (2, .int l2)]) : W p l e R s m args below meth c H locs cells slots (x_Q s0 D below s R (x_oc vJ res.1) res.2) (F0 m 0 ls []) := by
  obtain ⟨hx, hb, hown, hts, hK, hml, hW, Z, -⟩ := id C
  unfold f_RS_read at hp
  refine lv_aload_n hx hb d_RS_read_0 rfl (lv_at hl 0 rfl) ?_
  refine x_gA C hH fl_RS_17 d_RS_read_1 hp (fun v1 hp => ?_)
  refine lv_iload_n hx hb d_RS_read_4 rfl (lv_at hl 1 rfl) ?_
  refine lv_aload_n hx hb d_RS_read_5 rfl (lv_at hl 0 rfl) ?_
  refine x_gI C hH fl_RS_283 d_RS_read_6 hp (fun v2 hp => ?_)
  refine x_callS (As := [.int l1, .int v2]) (rest := [.ref v1]) (cv := vI) C hH kc_RS_61 d_RS_read_9 hp (fun o h' e => m_RS_index Z e) rfl hl.1 (Nat.le_trans (Nat.le_of_ble_eq_true rfl) hRf) (Nat.le_trans (Nat.le_of_ble_eq_true rfl) hRl) (Nat.le_of_ble_eq_true rfl) (fun v3 h H locs cells slots hp hH => ?_)
  refine W.eq (g2 := F0 m 12 ls [.int v3, .ref v1]) rfl ?_
  refine x_lA C hH (by decide) d_RS_read_12 hp (fun v4 hp => ?_)
  refine lv_astore_n (lv' := [(3, .ref v4), (0, .ref l0), (1, .int l1), (2, .int l2)]) hx hb d_RS_read_13 rfl hl (by decide) rfl (fun ls hl => ?_)
  refine lv_aload_n hx hb d_RS_read_14 rfl (lv_at hl 0 rfl) ?_
  refine lv_iload_n hx hb d_RS_read_15 rfl (lv_at hl 3 rfl) ?_
  refine lv_bipush (v := 6) hx hb d_RS_read_16 (by decide) ?_
  refine x_callS (As := [.int l2, .int 6]) (rest := [.ref v4]) (cv := vI) C hH kc_RS_61 d_RS_read_18 hp (fun o h' e => m_RS_index Z e) rfl hl.1 (Nat.le_trans (Nat.le_of_ble_eq_true rfl) hRf) (Nat.le_trans (Nat.le_of_ble_eq_true rfl) hRl) (Nat.le_of_ble_eq_true rfl) (fun v5 h H locs cells slots hp hH => ?_)
  refine W.eq (g2 := F0 m 21 ls [.int v5, .ref v4]) rfl ?_
  refine x_callV (As := [.int v5]) (rest := []) (cv := vJ) C hH kc_RS_292 d_RS_read_21 hp (fun o h' e => m_Read_told Z e) rfl hl.1 (Nat.le_trans (Nat.le_of_ble_eq_true rfl) hRf) (Nat.le_trans (Nat.le_of_ble_eq_true rfl) hRl) (Nat.le_of_ble_eq_true rfl) (fun v6 h H locs cells slots hp hH => ?_)
  refine W.eq (g2 := F0 m 24 ls [.long v6]) rfl ?_
  exact x_lret C hH hr d_RS_read_24 hp
set_option maxRecDepth 100000 in
theorem m_RS_read (Z : x_Z l s0 A0 D) {l0 : Nat} {l1 : Int32} {l2 : Int32} {res : (Int64 ⊕ (Nat × Nat)) × xH} (hp : f_RS_read l0 l1 l2 h = some res) : x_M l s0 D y_RS_read (x_cw y_RS_read prog_1_method_30_code 4 (some .long) []) 7 129 [.ref l0, .int l1, .int l2] h (x_oc vJ res.1) res.2 := by
  refine x_M.ofW Z (plainFor_of_name (by decide)) ?_
  intro p e s m below meth c C hnm hr hH
  have hl := lv_entry ([.ref l0, .int l1, .int l2]) (n := 4) (Nat.le_of_ble_eq_true rfl)
  rw [lg_entry_eq]
  generalize (lg_sl ([.ref l0, .int l1, .int l2]) ++ List.replicate (4 - (lg_sl ([.ref l0, .int l1, .int l2])).length) Slot.unset).toArray = ls at hl ⊢
  exact w_RS_read_0 C hr hnm (Nat.le_refl _) (Nat.le_refl _) l0 l1 l2 hp hH hl
/-! ReadSideLaw.read(LReadSide;II[J)I -/
theorem d_law_read_0 : decode method_13_code 0 = .ok (.aload_n 3, 1) := by decide +kernel
theorem d_law_read_1 : decode method_13_code 1 = .ok (.iconst 0, 1) := by decide +kernel
theorem d_law_read_2 : decode method_13_code 2 = .ok (.aload_n 0, 1) := by decide +kernel
theorem d_law_read_3 : decode method_13_code 3 = .ok (.iload_n 1, 1) := by decide +kernel
theorem d_law_read_4 : decode method_13_code 4 = .ok (.iload_n 2, 1) := by decide +kernel
theorem d_law_read_5 : decode method_13_code 5 = .ok (.invokevirtual 50, 3) := by decide +kernel
theorem d_law_read_8 : decode method_13_code 8 = .ok (.lastore, 1) := by decide +kernel
theorem d_law_read_9 : decode method_13_code 9 = .ok (.goto 7, 3) := by decide +kernel
theorem d_law_read_12 : decode method_13_code 12 = .ok (.astore 4, 2) := by decide +kernel
theorem d_law_read_14 : decode method_13_code 14 = .ok (.iconst 1, 1) := by decide +kernel
theorem d_law_read_15 : decode method_13_code 15 = .ok (.ireturn, 1) := by decide +kernel
theorem d_law_read_16 : decode method_13_code 16 = .ok (.iconst 0, 1) := by decide +kernel
theorem d_law_read_17 : decode method_13_code 17 = .ok (.ireturn, 1) := by decide +kernel
set_option maxHeartbeats 4000000 in
set_option maxRecDepth 100000 in
theorem w_law_read_0 {res : (Int32 ⊕ (Nat × Nat)) × xH} (C : x_C l s0 A0 D R_law method_13_code 5 [(0, 9, 12, 13)] p s m args meth c) (hr : meth.sig.returnType = (some .int)) (hnm : meth.name = "read") (hRf : 8 ≤ R.frames) (hRl : 160 ≤ R.locals)  (l0 : Nat) (l1 : Int32) (l2 : Int32) (l3 : Nat) (hp : f_law_read l0 l1 l2 l3 h = some res) (hH : x_S s0 D R h H locs cells slots) (hl : lv_has ls 5 [(0, .ref l0), (1, .int l1), (2, .int l2), (3, .ref l3)]) : W p l e R s m args below meth c H locs cells slots (x_Q s0 D below s R (x_oc vI res.1) res.2) (F0 m 0 ls []) := by
  obtain ⟨hx, hb, hown, hts, hK, hml, hW, Z, -⟩ := id C
  unfold f_law_read at hp
  refine lv_aload_n hx hb d_law_read_0 rfl (lv_at hl 3 rfl) ?_
  refine lv_iconst (v := 0) hx hb d_law_read_1 (by decide) ?_
  refine lv_aload_n hx hb d_law_read_2 rfl (lv_at hl 0 rfl) ?_
  refine lv_iload_n hx hb d_law_read_3 rfl (lv_at hl 1 rfl) ?_
  refine lv_iload_n hx hb d_law_read_4 rfl (lv_at hl 2 rfl) ?_
  refine x_callVc (As := [.int l1, .int l2]) (rest := [.int 0, .ref l3]) (cv := vJ) C ct_law hH kc_law_50 d_law_read_5 hp (fun o h' e => m_RS_read Z e) rfl hl.1 (Nat.le_trans (Nat.le_of_ble_eq_true rfl) hRf) (Nat.le_trans (Nat.le_of_ble_eq_true rfl) hRl) (Nat.le_of_ble_eq_true rfl) (fun v1 h H locs cells slots hp hH => ?_) (fun a ci h H locs cells slots hp hH => ?_)
  · refine W.eq (g2 := F0 m 8 ls [.long v1, .int 0, .ref l3]) rfl ?_
    refine x_sJ C hH d_law_read_8 hp (fun h H locs hp hH => ?_)
    refine lv_goto (tgt := 16) hx hb d_law_read_9 (by decide) ?_
    refine lv_iconst (v := 0) hx hb d_law_read_16 (by decide) ?_
    exact x_iret C hH hr d_law_read_17 hp
  · by_cases hc10 : ci = 10
    · replace hp := x_ifp hc10 hp
      subst hc10
      refine ⟨12, rfl, ?_⟩
      refine lv_astore (lv' := [(4, .ref a), (0, .ref l0), (1, .int l1), (2, .int l2), (3, .ref l3)]) hx hb d_law_read_12 hl (by decide) rfl (fun ls hl => ?_)
      refine lv_iconst (v := 1) hx hb d_law_read_14 (by decide) ?_
      exact x_iret C hH hr d_law_read_15 hp
    replace hp := x_ifn hc10 hp
    cases hp
set_option maxRecDepth 100000 in
theorem m_law_read (Z : x_Z l s0 A0 D) {l0 : Nat} {l1 : Int32} {l2 : Int32} {l3 : Nat} {res : (Int32 ⊕ (Nat × Nat)) × xH} (hp : f_law_read l0 l1 l2 l3 h = some res) : x_M l s0 D y_law_read (x_cw y_law_read method_13_code 5 (some .int) [(0, 9, 12, 13)]) 8 160 [.ref l0, .int l1, .int l2, .ref l3] h (x_oc vI res.1) res.2 := by
  refine x_M.ofW Z (plainFor_of_name (by decide)) ?_
  intro p e s m below meth c C hnm hr hH
  have hl := lv_entry ([.ref l0, .int l1, .int l2, .ref l3]) (n := 5) (Nat.le_of_ble_eq_true rfl)
  rw [lg_entry_eq]
  generalize (lg_sl ([.ref l0, .int l1, .int l2, .ref l3]) ++ List.replicate (5 - (lg_sl ([.ref l0, .int l1, .int l2, .ref l3])).length) Slot.unset).toArray = ls at hl ⊢
  exact w_law_read_0 C hr hnm (Nat.le_refl _) (Nat.le_refl _) l0 l1 l2 l3 hp hH hl
/-! ReadSide.value(III)J -/
theorem d_RS_value_0 : decode prog_1_method_31_code 0 = .ok (.aload_n 0, 1) := by decide +kernel
theorem d_RS_value_1 : decode prog_1_method_31_code 1 = .ok (.iload_n 1, 1) := by decide +kernel
theorem d_RS_value_2 : decode prog_1_method_31_code 2 = .ok (.invokevirtual 82, 3) := by decide +kernel
theorem d_RS_value_5 : decode prog_1_method_31_code 5 = .ok (.astore 4, 2) := by decide +kernel
theorem d_RS_value_7 : decode prog_1_method_31_code 7 = .ok (.aload_n 0, 1) := by decide +kernel
theorem d_RS_value_8 : decode prog_1_method_31_code 8 = .ok (.iload_n 2, 1) := by decide +kernel
theorem d_RS_value_9 : decode prog_1_method_31_code 9 = .ok (.iload_n 3, 1) := by decide +kernel
theorem d_RS_value_10 : decode prog_1_method_31_code 10 = .ok (.invokevirtual 275, 3) := by decide +kernel
theorem d_RS_value_13 : decode prog_1_method_31_code 13 = .ok (.aload 4, 2) := by decide +kernel
theorem d_RS_value_15 : decode prog_1_method_31_code 15 = .ok (.getfield 150, 3) := by decide +kernel
theorem d_RS_value_18 : decode prog_1_method_31_code 18 = .ok (.iload_n 2, 1) := by decide +kernel
theorem d_RS_value_19 : decode prog_1_method_31_code 19 = .ok (.iload_n 3, 1) := by decide +kernel
theorem d_RS_value_20 : decode prog_1_method_31_code 20 = .ok (.aload_n 0, 1) := by decide +kernel
theorem d_RS_value_21 : decode prog_1_method_31_code 21 = .ok (.getfield 31, 3) := by decide +kernel
theorem d_RS_value_24 : decode prog_1_method_31_code 24 = .ok (.invokevirtual 247, 3) := by decide +kernel
theorem d_RS_value_27 : decode prog_1_method_31_code 27 = .ok (.lreturn, 1) := by decide +kernel
set_option maxHeartbeats 4000000 in
set_option maxRecDepth 100000 in
theorem w_RS_value_0 {res : (Int64 ⊕ (Nat × Nat)) × xH} (C : x_C l s0 A0 D R_RS prog_1_method_31_code 5 [] p s m args meth c) (hr : meth.sig.returnType = (some .long)) (hnm : meth.name = "value") (hRf : 8 ≤ R.frames) (hRl : 159 ≤ R.locals)  (l0 : Nat) (l1 : Int32) (l2 : Int32) (l3 : Int32) (hp : f_RS_value l0 l1 l2 l3 h = some res) (hH : x_S s0 D R h H locs cells slots) (hl : lv_has ls 5 [(0, .ref l0), (1, .int l1), (2, .int l2), (3, .int l3)]) : W p l e R s m args below meth c H locs cells slots (x_Q s0 D below s R (x_oc vJ res.1) res.2) (F0 m 0 ls []) := by
  obtain ⟨hx, hb, hown, hts, hK, hml, hW, Z, -⟩ := id C
  unfold f_RS_value at hp
  refine lv_aload_n hx hb d_RS_value_0 rfl (lv_at hl 0 rfl) ?_
  refine lv_iload_n hx hb d_RS_value_1 rfl (lv_at hl 1 rfl) ?_
  refine x_callV (As := [.int l1]) (rest := []) (cv := vA) C hH kc_RS_82 d_RS_value_2 hp (fun o h' e => m_RS_replicaAt Z e) rfl hl.1 (Nat.le_trans (Nat.le_of_ble_eq_true rfl) hRf) (Nat.le_trans (Nat.le_of_ble_eq_true rfl) hRl) (Nat.le_of_ble_eq_true rfl) (fun v1 h H locs cells slots hp hH => ?_)
  refine W.eq (g2 := F0 m 5 ls [.ref v1]) rfl ?_
  refine lv_astore (lv' := [(4, .ref v1), (0, .ref l0), (1, .int l1), (2, .int l2), (3, .int l3)]) hx hb d_RS_value_5 hl (by decide) rfl (fun ls hl => ?_)
  refine lv_aload_n hx hb d_RS_value_7 rfl (lv_at hl 1 rfl) ?_
  refine lv_iload_n hx hb d_RS_value_8 rfl (lv_at hl 3 rfl) ?_
  refine lv_iload_n hx hb d_RS_value_9 rfl (lv_at hl 4 rfl) ?_
  refine x_callV (As := [.int l2, .int l3]) (rest := []) (cv := vU) C hH kc_RS_275 d_RS_value_10 hp (fun o h' e => m_RS_question Z e) rfl hl.1 (Nat.le_trans (Nat.le_of_ble_eq_true rfl) hRf) (Nat.le_trans (Nat.le_of_ble_eq_true rfl) hRl) (Nat.le_of_ble_eq_true rfl) (fun v2 h H locs cells slots hp hH => ?_)
  refine W.eq (g2 := F0 m 13 ls []) rfl ?_
  refine lv_aload hx hb d_RS_value_13 (lv_at hl 0 rfl) ?_
  refine x_gA C hH fl_RS_150 d_RS_value_15 hp (fun v3 hp => ?_)
  refine lv_iload_n hx hb d_RS_value_18 rfl (lv_at hl 3 rfl) ?_
  refine lv_iload_n hx hb d_RS_value_19 rfl (lv_at hl 4 rfl) ?_
  refine lv_aload_n hx hb d_RS_value_20 rfl (lv_at hl 1 rfl) ?_
  refine x_gI C hH fl_RS_31 d_RS_value_21 hp (fun v4 hp => ?_)
  refine x_callV (As := [.int l2, .int l3, .int v4]) (rest := []) (cv := vJ) C hH kc_RS_247 d_RS_value_24 hp (fun o h' e => m_St_answer Z e) rfl hl.1 (Nat.le_trans (Nat.le_of_ble_eq_true rfl) hRf) (Nat.le_trans (Nat.le_of_ble_eq_true rfl) hRl) (Nat.le_of_ble_eq_true rfl) (fun v5 h H locs cells slots hp hH => ?_)
  refine W.eq (g2 := F0 m 27 ls [.long v5]) rfl ?_
  exact x_lret C hH hr d_RS_value_27 hp
set_option maxRecDepth 100000 in
theorem m_RS_value (Z : x_Z l s0 A0 D) {l0 : Nat} {l1 : Int32} {l2 : Int32} {l3 : Int32} {res : (Int64 ⊕ (Nat × Nat)) × xH} (hp : f_RS_value l0 l1 l2 l3 h = some res) : x_M l s0 D y_RS_value (x_cw y_RS_value prog_1_method_31_code 5 (some .long) []) 8 159 [.ref l0, .int l1, .int l2, .int l3] h (x_oc vJ res.1) res.2 := by
  refine x_M.ofW Z (plainFor_of_name (by decide)) ?_
  intro p e s m below meth c C hnm hr hH
  have hl := lv_entry ([.ref l0, .int l1, .int l2, .int l3]) (n := 5) (Nat.le_of_ble_eq_true rfl)
  rw [lg_entry_eq]
  generalize (lg_sl ([.ref l0, .int l1, .int l2, .int l3]) ++ List.replicate (5 - (lg_sl ([.ref l0, .int l1, .int l2, .int l3])).length) Slot.unset).toArray = ls at hl ⊢
  exact w_RS_value_0 C hr hnm (Nat.le_refl _) (Nat.le_refl _) l0 l1 l2 l3 hp hH hl
/-! ReadSideLaw.value(LReadSide;III[J)I -/
theorem d_law_value_0 : decode method_14_code 0 = .ok (.aload 4, 2) := by decide +kernel
theorem d_law_value_2 : decode method_14_code 2 = .ok (.iconst 0, 1) := by decide +kernel
theorem d_law_value_3 : decode method_14_code 3 = .ok (.aload_n 0, 1) := by decide +kernel
theorem d_law_value_4 : decode method_14_code 4 = .ok (.iload_n 1, 1) := by decide +kernel
theorem d_law_value_5 : decode method_14_code 5 = .ok (.iload_n 2, 1) := by decide +kernel
theorem d_law_value_6 : decode method_14_code 6 = .ok (.iload_n 3, 1) := by decide +kernel
theorem d_law_value_7 : decode method_14_code 7 = .ok (.invokevirtual 54, 3) := by decide +kernel
theorem d_law_value_10 : decode method_14_code 10 = .ok (.lastore, 1) := by decide +kernel
theorem d_law_value_11 : decode method_14_code 11 = .ok (.goto 7, 3) := by decide +kernel
theorem d_law_value_14 : decode method_14_code 14 = .ok (.astore 5, 2) := by decide +kernel
theorem d_law_value_16 : decode method_14_code 16 = .ok (.iconst 1, 1) := by decide +kernel
theorem d_law_value_17 : decode method_14_code 17 = .ok (.ireturn, 1) := by decide +kernel
theorem d_law_value_18 : decode method_14_code 18 = .ok (.iconst 0, 1) := by decide +kernel
theorem d_law_value_19 : decode method_14_code 19 = .ok (.ireturn, 1) := by decide +kernel
set_option maxHeartbeats 4000000 in
set_option maxRecDepth 100000 in
theorem w_law_value_0 {res : (Int32 ⊕ (Nat × Nat)) × xH} (C : x_C l s0 A0 D R_law method_14_code 6 [(0, 11, 14, 13)] p s m args meth c) (hr : meth.sig.returnType = (some .int)) (hnm : meth.name = "value") (hRf : 9 ≤ R.frames) (hRl : 191 ≤ R.locals)  (l0 : Nat) (l1 : Int32) (l2 : Int32) (l3 : Int32) (l4 : Nat) (hp : f_law_value l0 l1 l2 l3 l4 h = some res) (hH : x_S s0 D R h H locs cells slots) (hl : lv_has ls 6 [(0, .ref l0), (1, .int l1), (2, .int l2), (3, .int l3), (4, .ref l4)]) : W p l e R s m args below meth c H locs cells slots (x_Q s0 D below s R (x_oc vI res.1) res.2) (F0 m 0 ls []) := by
  obtain ⟨hx, hb, hown, hts, hK, hml, hW, Z, -⟩ := id C
  unfold f_law_value at hp
  refine lv_aload hx hb d_law_value_0 (lv_at hl 4 rfl) ?_
  refine lv_iconst (v := 0) hx hb d_law_value_2 (by decide) ?_
  refine lv_aload_n hx hb d_law_value_3 rfl (lv_at hl 0 rfl) ?_
  refine lv_iload_n hx hb d_law_value_4 rfl (lv_at hl 1 rfl) ?_
  refine lv_iload_n hx hb d_law_value_5 rfl (lv_at hl 2 rfl) ?_
  refine lv_iload_n hx hb d_law_value_6 rfl (lv_at hl 3 rfl) ?_
  refine x_callVc (As := [.int l1, .int l2, .int l3]) (rest := [.int 0, .ref l4]) (cv := vJ) C ct_law hH kc_law_54 d_law_value_7 hp (fun o h' e => m_RS_value Z e) rfl hl.1 (Nat.le_trans (Nat.le_of_ble_eq_true rfl) hRf) (Nat.le_trans (Nat.le_of_ble_eq_true rfl) hRl) (Nat.le_of_ble_eq_true rfl) (fun v1 h H locs cells slots hp hH => ?_) (fun a ci h H locs cells slots hp hH => ?_)
  · refine W.eq (g2 := F0 m 10 ls [.long v1, .int 0, .ref l4]) rfl ?_
    refine x_sJ C hH d_law_value_10 hp (fun h H locs hp hH => ?_)
    refine lv_goto (tgt := 18) hx hb d_law_value_11 (by decide) ?_
    refine lv_iconst (v := 0) hx hb d_law_value_18 (by decide) ?_
    exact x_iret C hH hr d_law_value_19 hp
  · by_cases hc10 : ci = 10
    · replace hp := x_ifp hc10 hp
      subst hc10
      refine ⟨14, rfl, ?_⟩
      refine lv_astore (lv' := [(5, .ref a), (0, .ref l0), (1, .int l1), (2, .int l2), (3, .int l3), (4, .ref l4)]) hx hb d_law_value_14 hl (by decide) rfl (fun ls hl => ?_)
      refine lv_iconst (v := 1) hx hb d_law_value_16 (by decide) ?_
      exact x_iret C hH hr d_law_value_17 hp
    replace hp := x_ifn hc10 hp
    cases hp
set_option maxRecDepth 100000 in
theorem m_law_value (Z : x_Z l s0 A0 D) {l0 : Nat} {l1 : Int32} {l2 : Int32} {l3 : Int32} {l4 : Nat} {res : (Int32 ⊕ (Nat × Nat)) × xH} (hp : f_law_value l0 l1 l2 l3 l4 h = some res) : x_M l s0 D y_law_value (x_cw y_law_value method_14_code 6 (some .int) [(0, 11, 14, 13)]) 9 191 [.ref l0, .int l1, .int l2, .int l3, .ref l4] h (x_oc vI res.1) res.2 := by
  refine x_M.ofW Z (plainFor_of_name (by decide)) ?_
  intro p e s m below meth c C hnm hr hH
  have hl := lv_entry ([.ref l0, .int l1, .int l2, .int l3, .ref l4]) (n := 6) (Nat.le_of_ble_eq_true rfl)
  rw [lg_entry_eq]
  generalize (lg_sl ([.ref l0, .int l1, .int l2, .int l3, .ref l4]) ++ List.replicate (6 - (lg_sl ([.ref l0, .int l1, .int l2, .int l3, .ref l4])).length) Slot.unset).toArray = ls at hl ⊢
  exact w_law_value_0 C hr hnm (Nat.le_refl _) (Nat.le_refl _) l0 l1 l2 l3 l4 hp hH hl
/-! ReadSide.at(II)I -/
theorem d_RS_at_0 : decode prog_1_method_32_code 0 = .ok (.aload_n 0, 1) := by decide +kernel
theorem d_RS_at_1 : decode prog_1_method_32_code 1 = .ok (.iload_n 1, 1) := by decide +kernel
theorem d_RS_at_2 : decode prog_1_method_32_code 2 = .ok (.invokevirtual 82, 3) := by decide +kernel
theorem d_RS_at_5 : decode prog_1_method_32_code 5 = .ok (.getfield 150, 3) := by decide +kernel
theorem d_RS_at_8 : decode prog_1_method_32_code 8 = .ok (.getfield 154, 3) := by decide +kernel
theorem d_RS_at_11 : decode prog_1_method_32_code 11 = .ok (.getfield 126, 3) := by decide +kernel
theorem d_RS_at_14 : decode prog_1_method_32_code 14 = .ok (.iload_n 2, 1) := by decide +kernel
theorem d_RS_at_15 : decode prog_1_method_32_code 15 = .ok (.aload_n 0, 1) := by decide +kernel
theorem d_RS_at_16 : decode prog_1_method_32_code 16 = .ok (.getfield 31, 3) := by decide +kernel
theorem d_RS_at_19 : decode prog_1_method_32_code 19 = .ok (.invokestatic 61, 3) := by decide +kernel
theorem d_RS_at_22 : decode prog_1_method_32_code 22 = .ok (.iaload, 1) := by decide +kernel
theorem d_RS_at_23 : decode prog_1_method_32_code 23 = .ok (.ireturn, 1) := by decide +kernel
set_option maxHeartbeats 4000000 in
set_option maxRecDepth 100000 in
theorem w_RS_at_0 {res : (Int32 ⊕ (Nat × Nat)) × xH} (C : x_C l s0 A0 D R_RS prog_1_method_32_code 3 [] p s m args meth c) (hr : meth.sig.returnType = (some .int)) (hnm : meth.name = "at") (hRf : 8 ≤ R.frames) (hRl : 158 ≤ R.locals)  (l0 : Nat) (l1 : Int32) (l2 : Int32) (hp : f_RS_at l0 l1 l2 h = some res) (hH : x_S s0 D R h H locs cells slots) (hl : lv_has ls 3 [(0, .ref l0), (1, .int l1), (2, .int l2)]) : W p l e R s m args below meth c H locs cells slots (x_Q s0 D below s R (x_oc vI res.1) res.2) (F0 m 0 ls []) := by
  obtain ⟨hx, hb, hown, hts, hK, hml, hW, Z, -⟩ := id C
  unfold f_RS_at at hp
  refine lv_aload_n hx hb d_RS_at_0 rfl (lv_at hl 0 rfl) ?_
  refine lv_iload_n hx hb d_RS_at_1 rfl (lv_at hl 1 rfl) ?_
  refine x_callV (As := [.int l1]) (rest := []) (cv := vA) C hH kc_RS_82 d_RS_at_2 hp (fun o h' e => m_RS_replicaAt Z e) rfl hl.1 (Nat.le_trans (Nat.le_of_ble_eq_true rfl) hRf) (Nat.le_trans (Nat.le_of_ble_eq_true rfl) hRl) (Nat.le_of_ble_eq_true rfl) (fun v1 h H locs cells slots hp hH => ?_)
  refine W.eq (g2 := F0 m 5 ls [.ref v1]) rfl ?_
  refine x_gA C hH fl_RS_150 d_RS_at_5 hp (fun v2 hp => ?_)
  refine x_gA C hH fl_RS_154 d_RS_at_8 hp (fun v3 hp => ?_)
  refine x_gA C hH fl_RS_126 d_RS_at_11 hp (fun v4 hp => ?_)
  refine lv_iload_n hx hb d_RS_at_14 rfl (lv_at hl 2 rfl) ?_
  refine lv_aload_n hx hb d_RS_at_15 rfl (lv_at hl 0 rfl) ?_
  refine x_gI C hH fl_RS_31 d_RS_at_16 hp (fun v5 hp => ?_)
  refine x_callS (As := [.int l2, .int v5]) (rest := [.ref v4]) (cv := vI) C hH kc_RS_61 d_RS_at_19 hp (fun o h' e => m_RS_index Z e) rfl hl.1 (Nat.le_trans (Nat.le_of_ble_eq_true rfl) hRf) (Nat.le_trans (Nat.le_of_ble_eq_true rfl) hRl) (Nat.le_of_ble_eq_true rfl) (fun v6 h H locs cells slots hp hH => ?_)
  refine W.eq (g2 := F0 m 22 ls [.int v6, .ref v4]) rfl ?_
  refine x_lI C hH d_RS_at_22 hp (fun v7 hp => ?_)
  exact x_iret C hH hr d_RS_at_23 hp
set_option maxRecDepth 100000 in
theorem m_RS_at (Z : x_Z l s0 A0 D) {l0 : Nat} {l1 : Int32} {l2 : Int32} {res : (Int32 ⊕ (Nat × Nat)) × xH} (hp : f_RS_at l0 l1 l2 h = some res) : x_M l s0 D y_RS_at (x_cw y_RS_at prog_1_method_32_code 3 (some .int) []) 8 158 [.ref l0, .int l1, .int l2] h (x_oc vI res.1) res.2 := by
  refine x_M.ofW Z (plainFor_of_name (by decide)) ?_
  intro p e s m below meth c C hnm hr hH
  have hl := lv_entry ([.ref l0, .int l1, .int l2]) (n := 3) (Nat.le_of_ble_eq_true rfl)
  rw [lg_entry_eq]
  generalize (lg_sl ([.ref l0, .int l1, .int l2]) ++ List.replicate (3 - (lg_sl ([.ref l0, .int l1, .int l2])).length) Slot.unset).toArray = ls at hl ⊢
  exact w_RS_at_0 C hr hnm (Nat.le_refl _) (Nat.le_refl _) l0 l1 l2 hp hH hl
/-! ReadSideLaw.at(LReadSide;II[J)I -/
theorem d_law_at_0 : decode method_15_code 0 = .ok (.aload_n 3, 1) := by decide +kernel
theorem d_law_at_1 : decode method_15_code 1 = .ok (.iconst 0, 1) := by decide +kernel
theorem d_law_at_2 : decode method_15_code 2 = .ok (.aload_n 0, 1) := by decide +kernel
theorem d_law_at_3 : decode method_15_code 3 = .ok (.iload_n 1, 1) := by decide +kernel
theorem d_law_at_4 : decode method_15_code 4 = .ok (.iload_n 2, 1) := by decide +kernel
theorem d_law_at_5 : decode method_15_code 5 = .ok (.invokevirtual 58, 3) := by decide +kernel
theorem d_law_at_8 : decode method_15_code 8 = .ok (.i2l, 1) := by decide +kernel
theorem d_law_at_9 : decode method_15_code 9 = .ok (.lastore, 1) := by decide +kernel
theorem d_law_at_10 : decode method_15_code 10 = .ok (.goto 7, 3) := by decide +kernel
theorem d_law_at_13 : decode method_15_code 13 = .ok (.astore 4, 2) := by decide +kernel
theorem d_law_at_15 : decode method_15_code 15 = .ok (.iconst 1, 1) := by decide +kernel
theorem d_law_at_16 : decode method_15_code 16 = .ok (.ireturn, 1) := by decide +kernel
theorem d_law_at_17 : decode method_15_code 17 = .ok (.iconst 0, 1) := by decide +kernel
theorem d_law_at_18 : decode method_15_code 18 = .ok (.ireturn, 1) := by decide +kernel
set_option maxHeartbeats 4000000 in
set_option maxRecDepth 100000 in
theorem w_law_at_0 {res : (Int32 ⊕ (Nat × Nat)) × xH} (C : x_C l s0 A0 D R_law method_15_code 5 [(0, 10, 13, 13)] p s m args meth c) (hr : meth.sig.returnType = (some .int)) (hnm : meth.name = "at") (hRf : 9 ≤ R.frames) (hRl : 188 ≤ R.locals)  (l0 : Nat) (l1 : Int32) (l2 : Int32) (l3 : Nat) (hp : f_law_at l0 l1 l2 l3 h = some res) (hH : x_S s0 D R h H locs cells slots) (hl : lv_has ls 5 [(0, .ref l0), (1, .int l1), (2, .int l2), (3, .ref l3)]) : W p l e R s m args below meth c H locs cells slots (x_Q s0 D below s R (x_oc vI res.1) res.2) (F0 m 0 ls []) := by
  obtain ⟨hx, hb, hown, hts, hK, hml, hW, Z, -⟩ := id C
  unfold f_law_at at hp
  refine lv_aload_n hx hb d_law_at_0 rfl (lv_at hl 3 rfl) ?_
  refine lv_iconst (v := 0) hx hb d_law_at_1 (by decide) ?_
  refine lv_aload_n hx hb d_law_at_2 rfl (lv_at hl 0 rfl) ?_
  refine lv_iload_n hx hb d_law_at_3 rfl (lv_at hl 1 rfl) ?_
  refine lv_iload_n hx hb d_law_at_4 rfl (lv_at hl 2 rfl) ?_
  refine x_callVc (As := [.int l1, .int l2]) (rest := [.int 0, .ref l3]) (cv := vI) C ct_law hH kc_law_58 d_law_at_5 hp (fun o h' e => m_RS_at Z e) rfl hl.1 (Nat.le_trans (Nat.le_of_ble_eq_true rfl) hRf) (Nat.le_trans (Nat.le_of_ble_eq_true rfl) hRl) (Nat.le_of_ble_eq_true rfl) (fun v1 h H locs cells slots hp hH => ?_) (fun a ci h H locs cells slots hp hH => ?_)
  · refine W.eq (g2 := F0 m 8 ls [.int v1, .int 0, .ref l3]) rfl ?_
    refine lv_i2l (v := v1.toInt64) hx hb d_law_at_8 rfl ?_
    refine x_sJ C hH d_law_at_9 hp (fun h H locs hp hH => ?_)
    refine lv_goto (tgt := 17) hx hb d_law_at_10 (by decide) ?_
    refine lv_iconst (v := 0) hx hb d_law_at_17 (by decide) ?_
    exact x_iret C hH hr d_law_at_18 hp
  · by_cases hc10 : ci = 10
    · replace hp := x_ifp hc10 hp
      subst hc10
      refine ⟨13, rfl, ?_⟩
      refine lv_astore (lv' := [(4, .ref a), (0, .ref l0), (1, .int l1), (2, .int l2), (3, .ref l3)]) hx hb d_law_at_13 hl (by decide) rfl (fun ls hl => ?_)
      refine lv_iconst (v := 1) hx hb d_law_at_15 (by decide) ?_
      exact x_iret C hH hr d_law_at_16 hp
    replace hp := x_ifn hc10 hp
    cases hp
set_option maxRecDepth 100000 in
theorem m_law_at (Z : x_Z l s0 A0 D) {l0 : Nat} {l1 : Int32} {l2 : Int32} {l3 : Nat} {res : (Int32 ⊕ (Nat × Nat)) × xH} (hp : f_law_at l0 l1 l2 l3 h = some res) : x_M l s0 D y_law_at (x_cw y_law_at method_15_code 5 (some .int) [(0, 10, 13, 13)]) 9 188 [.ref l0, .int l1, .int l2, .ref l3] h (x_oc vI res.1) res.2 := by
  refine x_M.ofW Z (plainFor_of_name (by decide)) ?_
  intro p e s m below meth c C hnm hr hH
  have hl := lv_entry ([.ref l0, .int l1, .int l2, .ref l3]) (n := 5) (Nat.le_of_ble_eq_true rfl)
  rw [lg_entry_eq]
  generalize (lg_sl ([.ref l0, .int l1, .int l2, .ref l3]) ++ List.replicate (5 - (lg_sl ([.ref l0, .int l1, .int l2, .ref l3])).length) Slot.unset).toArray = ls at hl ⊢
  exact w_law_at_0 C hr hnm (Nat.le_refl _) (Nat.le_refl _) l0 l1 l2 l3 hp hH hl
/-! ReadSide.kept(II)I -/
theorem d_RS_kept_0 : decode prog_1_method_33_code 0 = .ok (.aload_n 0, 1) := by decide +kernel
theorem d_RS_kept_1 : decode prog_1_method_33_code 1 = .ok (.iload_n 1, 1) := by decide +kernel
theorem d_RS_kept_2 : decode prog_1_method_33_code 2 = .ok (.invokevirtual 82, 3) := by decide +kernel
theorem d_RS_kept_5 : decode prog_1_method_33_code 5 = .ok (.getfield 210, 3) := by decide +kernel
theorem d_RS_kept_8 : decode prog_1_method_33_code 8 = .ok (.getfield 154, 3) := by decide +kernel
theorem d_RS_kept_11 : decode prog_1_method_33_code 11 = .ok (.getfield 126, 3) := by decide +kernel
theorem d_RS_kept_14 : decode prog_1_method_33_code 14 = .ok (.iload_n 2, 1) := by decide +kernel
theorem d_RS_kept_15 : decode prog_1_method_33_code 15 = .ok (.aload_n 0, 1) := by decide +kernel
theorem d_RS_kept_16 : decode prog_1_method_33_code 16 = .ok (.getfield 31, 3) := by decide +kernel
theorem d_RS_kept_19 : decode prog_1_method_33_code 19 = .ok (.invokestatic 61, 3) := by decide +kernel
theorem d_RS_kept_22 : decode prog_1_method_33_code 22 = .ok (.iaload, 1) := by decide +kernel
theorem d_RS_kept_23 : decode prog_1_method_33_code 23 = .ok (.ireturn, 1) := by decide +kernel
set_option maxHeartbeats 4000000 in
set_option maxRecDepth 100000 in
theorem w_RS_kept_0 {res : (Int32 ⊕ (Nat × Nat)) × xH} (C : x_C l s0 A0 D R_RS prog_1_method_33_code 3 [] p s m args meth c) (hr : meth.sig.returnType = (some .int)) (hnm : meth.name = "kept") (hRf : 8 ≤ R.frames) (hRl : 158 ≤ R.locals)  (l0 : Nat) (l1 : Int32) (l2 : Int32) (hp : f_RS_kept l0 l1 l2 h = some res) (hH : x_S s0 D R h H locs cells slots) (hl : lv_has ls 3 [(0, .ref l0), (1, .int l1), (2, .int l2)]) : W p l e R s m args below meth c H locs cells slots (x_Q s0 D below s R (x_oc vI res.1) res.2) (F0 m 0 ls []) := by
  obtain ⟨hx, hb, hown, hts, hK, hml, hW, Z, -⟩ := id C
  unfold f_RS_kept at hp
  refine lv_aload_n hx hb d_RS_kept_0 rfl (lv_at hl 0 rfl) ?_
  refine lv_iload_n hx hb d_RS_kept_1 rfl (lv_at hl 1 rfl) ?_
  refine x_callV (As := [.int l1]) (rest := []) (cv := vA) C hH kc_RS_82 d_RS_kept_2 hp (fun o h' e => m_RS_replicaAt Z e) rfl hl.1 (Nat.le_trans (Nat.le_of_ble_eq_true rfl) hRf) (Nat.le_trans (Nat.le_of_ble_eq_true rfl) hRl) (Nat.le_of_ble_eq_true rfl) (fun v1 h H locs cells slots hp hH => ?_)
  refine W.eq (g2 := F0 m 5 ls [.ref v1]) rfl ?_
  refine x_gA C hH fl_RS_210 d_RS_kept_5 hp (fun v2 hp => ?_)
  refine x_gA C hH fl_RS_154 d_RS_kept_8 hp (fun v3 hp => ?_)
  refine x_gA C hH fl_RS_126 d_RS_kept_11 hp (fun v4 hp => ?_)
  refine lv_iload_n hx hb d_RS_kept_14 rfl (lv_at hl 2 rfl) ?_
  refine lv_aload_n hx hb d_RS_kept_15 rfl (lv_at hl 0 rfl) ?_
  refine x_gI C hH fl_RS_31 d_RS_kept_16 hp (fun v5 hp => ?_)
  refine x_callS (As := [.int l2, .int v5]) (rest := [.ref v4]) (cv := vI) C hH kc_RS_61 d_RS_kept_19 hp (fun o h' e => m_RS_index Z e) rfl hl.1 (Nat.le_trans (Nat.le_of_ble_eq_true rfl) hRf) (Nat.le_trans (Nat.le_of_ble_eq_true rfl) hRl) (Nat.le_of_ble_eq_true rfl) (fun v6 h H locs cells slots hp hH => ?_)
  refine W.eq (g2 := F0 m 22 ls [.int v6, .ref v4]) rfl ?_
  refine x_lI C hH d_RS_kept_22 hp (fun v7 hp => ?_)
  exact x_iret C hH hr d_RS_kept_23 hp
set_option maxRecDepth 100000 in
theorem m_RS_kept (Z : x_Z l s0 A0 D) {l0 : Nat} {l1 : Int32} {l2 : Int32} {res : (Int32 ⊕ (Nat × Nat)) × xH} (hp : f_RS_kept l0 l1 l2 h = some res) : x_M l s0 D y_RS_kept (x_cw y_RS_kept prog_1_method_33_code 3 (some .int) []) 8 158 [.ref l0, .int l1, .int l2] h (x_oc vI res.1) res.2 := by
  refine x_M.ofW Z (plainFor_of_name (by decide)) ?_
  intro p e s m below meth c C hnm hr hH
  have hl := lv_entry ([.ref l0, .int l1, .int l2]) (n := 3) (Nat.le_of_ble_eq_true rfl)
  rw [lg_entry_eq]
  generalize (lg_sl ([.ref l0, .int l1, .int l2]) ++ List.replicate (3 - (lg_sl ([.ref l0, .int l1, .int l2])).length) Slot.unset).toArray = ls at hl ⊢
  exact w_RS_kept_0 C hr hnm (Nat.le_refl _) (Nat.le_refl _) l0 l1 l2 hp hH hl
/-! ReadSideLaw.kept(LReadSide;II[J)I -/
theorem d_law_kept_0 : decode method_16_code 0 = .ok (.aload_n 3, 1) := by decide +kernel
theorem d_law_kept_1 : decode method_16_code 1 = .ok (.iconst 0, 1) := by decide +kernel
theorem d_law_kept_2 : decode method_16_code 2 = .ok (.aload_n 0, 1) := by decide +kernel
theorem d_law_kept_3 : decode method_16_code 3 = .ok (.iload_n 1, 1) := by decide +kernel
theorem d_law_kept_4 : decode method_16_code 4 = .ok (.iload_n 2, 1) := by decide +kernel
theorem d_law_kept_5 : decode method_16_code 5 = .ok (.invokevirtual 61, 3) := by decide +kernel
theorem d_law_kept_8 : decode method_16_code 8 = .ok (.i2l, 1) := by decide +kernel
theorem d_law_kept_9 : decode method_16_code 9 = .ok (.lastore, 1) := by decide +kernel
theorem d_law_kept_10 : decode method_16_code 10 = .ok (.goto 7, 3) := by decide +kernel
theorem d_law_kept_13 : decode method_16_code 13 = .ok (.astore 4, 2) := by decide +kernel
theorem d_law_kept_15 : decode method_16_code 15 = .ok (.iconst 1, 1) := by decide +kernel
theorem d_law_kept_16 : decode method_16_code 16 = .ok (.ireturn, 1) := by decide +kernel
theorem d_law_kept_17 : decode method_16_code 17 = .ok (.iconst 0, 1) := by decide +kernel
theorem d_law_kept_18 : decode method_16_code 18 = .ok (.ireturn, 1) := by decide +kernel
set_option maxHeartbeats 4000000 in
set_option maxRecDepth 100000 in
theorem w_law_kept_0 {res : (Int32 ⊕ (Nat × Nat)) × xH} (C : x_C l s0 A0 D R_law method_16_code 5 [(0, 10, 13, 13)] p s m args meth c) (hr : meth.sig.returnType = (some .int)) (hnm : meth.name = "kept") (hRf : 9 ≤ R.frames) (hRl : 188 ≤ R.locals)  (l0 : Nat) (l1 : Int32) (l2 : Int32) (l3 : Nat) (hp : f_law_kept l0 l1 l2 l3 h = some res) (hH : x_S s0 D R h H locs cells slots) (hl : lv_has ls 5 [(0, .ref l0), (1, .int l1), (2, .int l2), (3, .ref l3)]) : W p l e R s m args below meth c H locs cells slots (x_Q s0 D below s R (x_oc vI res.1) res.2) (F0 m 0 ls []) := by
  obtain ⟨hx, hb, hown, hts, hK, hml, hW, Z, -⟩ := id C
  unfold f_law_kept at hp
  refine lv_aload_n hx hb d_law_kept_0 rfl (lv_at hl 3 rfl) ?_
  refine lv_iconst (v := 0) hx hb d_law_kept_1 (by decide) ?_
  refine lv_aload_n hx hb d_law_kept_2 rfl (lv_at hl 0 rfl) ?_
  refine lv_iload_n hx hb d_law_kept_3 rfl (lv_at hl 1 rfl) ?_
  refine lv_iload_n hx hb d_law_kept_4 rfl (lv_at hl 2 rfl) ?_
  refine x_callVc (As := [.int l1, .int l2]) (rest := [.int 0, .ref l3]) (cv := vI) C ct_law hH kc_law_61 d_law_kept_5 hp (fun o h' e => m_RS_kept Z e) rfl hl.1 (Nat.le_trans (Nat.le_of_ble_eq_true rfl) hRf) (Nat.le_trans (Nat.le_of_ble_eq_true rfl) hRl) (Nat.le_of_ble_eq_true rfl) (fun v1 h H locs cells slots hp hH => ?_) (fun a ci h H locs cells slots hp hH => ?_)
  · refine W.eq (g2 := F0 m 8 ls [.int v1, .int 0, .ref l3]) rfl ?_
    refine lv_i2l (v := v1.toInt64) hx hb d_law_kept_8 rfl ?_
    refine x_sJ C hH d_law_kept_9 hp (fun h H locs hp hH => ?_)
    refine lv_goto (tgt := 17) hx hb d_law_kept_10 (by decide) ?_
    refine lv_iconst (v := 0) hx hb d_law_kept_17 (by decide) ?_
    exact x_iret C hH hr d_law_kept_18 hp
  · by_cases hc10 : ci = 10
    · replace hp := x_ifp hc10 hp
      subst hc10
      refine ⟨13, rfl, ?_⟩
      refine lv_astore (lv' := [(4, .ref a), (0, .ref l0), (1, .int l1), (2, .int l2), (3, .ref l3)]) hx hb d_law_kept_13 hl (by decide) rfl (fun ls hl => ?_)
      refine lv_iconst (v := 1) hx hb d_law_kept_15 (by decide) ?_
      exact x_iret C hH hr d_law_kept_16 hp
    replace hp := x_ifn hc10 hp
    cases hp
set_option maxRecDepth 100000 in
theorem m_law_kept (Z : x_Z l s0 A0 D) {l0 : Nat} {l1 : Int32} {l2 : Int32} {l3 : Nat} {res : (Int32 ⊕ (Nat × Nat)) × xH} (hp : f_law_kept l0 l1 l2 l3 h = some res) : x_M l s0 D y_law_kept (x_cw y_law_kept method_16_code 5 (some .int) [(0, 10, 13, 13)]) 9 188 [.ref l0, .int l1, .int l2, .ref l3] h (x_oc vI res.1) res.2 := by
  refine x_M.ofW Z (plainFor_of_name (by decide)) ?_
  intro p e s m below meth c C hnm hr hH
  have hl := lv_entry ([.ref l0, .int l1, .int l2, .ref l3]) (n := 5) (Nat.le_of_ble_eq_true rfl)
  rw [lg_entry_eq]
  generalize (lg_sl ([.ref l0, .int l1, .int l2, .ref l3]) ++ List.replicate (5 - (lg_sl ([.ref l0, .int l1, .int l2, .ref l3])).length) Slot.unset).toArray = ls at hl ⊢
  exact w_law_kept_0 C hr hnm (Nat.le_refl _) (Nat.le_refl _) l0 l1 l2 l3 hp hH hl
/-! ReadSide.log(II)I -/
theorem d_RS_log_0 : decode prog_1_method_34_code 0 = .ok (.aload_n 0, 1) := by decide +kernel
theorem d_RS_log_1 : decode prog_1_method_34_code 1 = .ok (.getfield 37, 3) := by decide +kernel
theorem d_RS_log_4 : decode prog_1_method_34_code 4 = .ok (.iload_n 1, 1) := by decide +kernel
theorem d_RS_log_5 : decode prog_1_method_34_code 5 = .ok (.aload_n 0, 1) := by decide +kernel
theorem d_RS_log_6 : decode prog_1_method_34_code 6 = .ok (.getfield 31, 3) := by decide +kernel
theorem d_RS_log_9 : decode prog_1_method_34_code 9 = .ok (.invokestatic 61, 3) := by decide +kernel
theorem d_RS_log_12 : decode prog_1_method_34_code 12 = .ok (.aaload, 1) := by decide +kernel
theorem d_RS_log_13 : decode prog_1_method_34_code 13 = .ok (.astore_n 3, 1) := by decide +kernel
theorem d_RS_log_14 : decode prog_1_method_34_code 14 = .ok (.iload_n 2, 1) := by decide +kernel
theorem d_RS_log_15 : decode prog_1_method_34_code 15 = .ok (.iconst 2, 1) := by decide +kernel
theorem d_RS_log_16 : decode prog_1_method_34_code 16 = .ok (.invokestatic 61, 3) := by decide +kernel
theorem d_RS_log_19 : decode prog_1_method_34_code 19 = .ok (.ifCond .ne 10, 3) := by decide +kernel
theorem d_RS_log_22 : decode prog_1_method_34_code 22 = .ok (.aload_n 3, 1) := by decide +kernel
theorem d_RS_log_23 : decode prog_1_method_34_code 23 = .ok (.getfield 91, 3) := by decide +kernel
theorem d_RS_log_26 : decode prog_1_method_34_code 26 = .ok (.goto 7, 3) := by decide +kernel
theorem d_RS_log_29 : decode prog_1_method_34_code 29 = .ok (.aload_n 3, 1) := by decide +kernel
theorem d_RS_log_30 : decode prog_1_method_34_code 30 = .ok (.getfield 225, 3) := by decide +kernel
theorem d_RS_log_33 : decode prog_1_method_34_code 33 = .ok (.ireturn, 1) := by decide +kernel
set_option maxHeartbeats 4000000 in
set_option maxRecDepth 100000 in
theorem w_RS_log_33 {res : (Int32 ⊕ (Nat × Nat)) × xH} (C : x_C l s0 A0 D R_RS prog_1_method_34_code 4 [] p s m args meth c) (hr : meth.sig.returnType = (some .int)) (hnm : meth.name = "log") (hRf : 7 ≤ R.frames) (hRl : 129 ≤ R.locals)  (t0 : Int32) (hp : f_RS_log_b33 t0 h = some res) (hH : x_S s0 D R h H locs cells slots) (hl : lv_has ls 4 []) : W p l e R s m args below meth c H locs cells slots (x_Q s0 D below s R (x_oc vI res.1) res.2) (F0 m 33 ls [.int t0]) := by
  obtain ⟨hx, hb, hown, hts, hK, hml, hW, Z, -⟩ := id C
  unfold f_RS_log_b33 at hp
  exact x_iret C hH hr d_RS_log_33 hp
set_option maxHeartbeats 4000000 in
set_option maxRecDepth 100000 in
theorem w_RS_log_0 {res : (Int32 ⊕ (Nat × Nat)) × xH} (C : x_C l s0 A0 D R_RS prog_1_method_34_code 4 [] p s m args meth c) (hr : meth.sig.returnType = (some .int)) (hnm : meth.name = "log") (hRf : 7 ≤ R.frames) (hRl : 129 ≤ R.locals)  (l0 : Nat) (l1 : Int32) (l2 : Int32) (hp : f_RS_log l0 l1 l2 h = some res) (hH : x_S s0 D R h H locs cells slots) (hl : lv_has ls 4 [(0, .ref l0), (1, .int l1), (2, .int l2)]) : W p l e R s m args below meth c H locs cells slots (x_Q s0 D below s R (x_oc vI res.1) res.2) (F0 m 0 ls []) := by
  obtain ⟨hx, hb, hown, hts, hK, hml, hW, Z, -⟩ := id C
  unfold f_RS_log at hp
  refine lv_aload_n hx hb d_RS_log_0 rfl (lv_at hl 0 rfl) ?_
  refine x_gA C hH fl_RS_37 d_RS_log_1 hp (fun v1 hp => ?_)
  refine lv_iload_n hx hb d_RS_log_4 rfl (lv_at hl 1 rfl) ?_
  refine lv_aload_n hx hb d_RS_log_5 rfl (lv_at hl 0 rfl) ?_
  refine x_gI C hH fl_RS_31 d_RS_log_6 hp (fun v2 hp => ?_)
  refine x_callS (As := [.int l1, .int v2]) (rest := [.ref v1]) (cv := vI) C hH kc_RS_61 d_RS_log_9 hp (fun o h' e => m_RS_index Z e) rfl hl.1 (Nat.le_trans (Nat.le_of_ble_eq_true rfl) hRf) (Nat.le_trans (Nat.le_of_ble_eq_true rfl) hRl) (Nat.le_of_ble_eq_true rfl) (fun v3 h H locs cells slots hp hH => ?_)
  refine W.eq (g2 := F0 m 12 ls [.int v3, .ref v1]) rfl ?_
  refine x_lA C hH (by decide) d_RS_log_12 hp (fun v4 hp => ?_)
  refine lv_astore_n (lv' := [(3, .ref v4), (0, .ref l0), (1, .int l1), (2, .int l2)]) hx hb d_RS_log_13 rfl hl (by decide) rfl (fun ls hl => ?_)
  refine lv_iload_n hx hb d_RS_log_14 rfl (lv_at hl 3 rfl) ?_
  refine lv_iconst (v := 2) hx hb d_RS_log_15 (by decide) ?_
  refine x_callS (As := [.int l2, .int 2]) (rest := []) (cv := vI) C hH kc_RS_61 d_RS_log_16 hp (fun o h' e => m_RS_index Z e) rfl hl.1 (Nat.le_trans (Nat.le_of_ble_eq_true rfl) hRf) (Nat.le_trans (Nat.le_of_ble_eq_true rfl) hRl) (Nat.le_of_ble_eq_true rfl) (fun v5 h H locs cells slots hp hH => ?_)
  refine W.eq (g2 := F0 m 19 ls [.int v5]) rfl ?_
  refine lv_if_ne (tgt := 29) hx hb d_RS_log_19 (by decide) (fun hc => ?_) (fun hc => ?_)
  · replace hp := x_ifn hc hp
    refine lv_aload_n hx hb d_RS_log_29 rfl (lv_at hl 0 rfl) ?_
    refine x_gI C hH fl_RS_225 d_RS_log_30 hp (fun v6 hp => ?_)
    exact w_RS_log_33 C hr hnm hRf hRl  v6 hp hH (lv_sub hl [] rfl)
  · replace hp := x_ifp hc hp
    refine lv_aload_n hx hb d_RS_log_22 rfl (lv_at hl 0 rfl) ?_
    refine x_gI C hH fl_RS_91 d_RS_log_23 hp (fun v7 hp => ?_)
    refine lv_goto (tgt := 33) hx hb d_RS_log_26 (by decide) ?_
    exact w_RS_log_33 C hr hnm hRf hRl  v7 hp hH (lv_sub hl [] rfl)
set_option maxRecDepth 100000 in
theorem m_RS_log (Z : x_Z l s0 A0 D) {l0 : Nat} {l1 : Int32} {l2 : Int32} {res : (Int32 ⊕ (Nat × Nat)) × xH} (hp : f_RS_log l0 l1 l2 h = some res) : x_M l s0 D y_RS_log (x_cw y_RS_log prog_1_method_34_code 4 (some .int) []) 7 129 [.ref l0, .int l1, .int l2] h (x_oc vI res.1) res.2 := by
  refine x_M.ofW Z (plainFor_of_name (by decide)) ?_
  intro p e s m below meth c C hnm hr hH
  have hl := lv_entry ([.ref l0, .int l1, .int l2]) (n := 4) (Nat.le_of_ble_eq_true rfl)
  rw [lg_entry_eq]
  generalize (lg_sl ([.ref l0, .int l1, .int l2]) ++ List.replicate (4 - (lg_sl ([.ref l0, .int l1, .int l2])).length) Slot.unset).toArray = ls at hl ⊢
  exact w_RS_log_0 C hr hnm (Nat.le_refl _) (Nat.le_refl _) l0 l1 l2 hp hH hl
/-! ReadSideLaw.log(LReadSide;II[J)I -/
theorem d_law_log_0 : decode method_17_code 0 = .ok (.aload_n 3, 1) := by decide +kernel
theorem d_law_log_1 : decode method_17_code 1 = .ok (.iconst 0, 1) := by decide +kernel
theorem d_law_log_2 : decode method_17_code 2 = .ok (.aload_n 0, 1) := by decide +kernel
theorem d_law_log_3 : decode method_17_code 3 = .ok (.iload_n 1, 1) := by decide +kernel
theorem d_law_log_4 : decode method_17_code 4 = .ok (.iload_n 2, 1) := by decide +kernel
theorem d_law_log_5 : decode method_17_code 5 = .ok (.invokevirtual 64, 3) := by decide +kernel
theorem d_law_log_8 : decode method_17_code 8 = .ok (.i2l, 1) := by decide +kernel
theorem d_law_log_9 : decode method_17_code 9 = .ok (.lastore, 1) := by decide +kernel
theorem d_law_log_10 : decode method_17_code 10 = .ok (.goto 7, 3) := by decide +kernel
theorem d_law_log_13 : decode method_17_code 13 = .ok (.astore 4, 2) := by decide +kernel
theorem d_law_log_15 : decode method_17_code 15 = .ok (.iconst 1, 1) := by decide +kernel
theorem d_law_log_16 : decode method_17_code 16 = .ok (.ireturn, 1) := by decide +kernel
theorem d_law_log_17 : decode method_17_code 17 = .ok (.iconst 0, 1) := by decide +kernel
theorem d_law_log_18 : decode method_17_code 18 = .ok (.ireturn, 1) := by decide +kernel
set_option maxHeartbeats 4000000 in
set_option maxRecDepth 100000 in
theorem w_law_log_0 {res : (Int32 ⊕ (Nat × Nat)) × xH} (C : x_C l s0 A0 D R_law method_17_code 5 [(0, 10, 13, 13)] p s m args meth c) (hr : meth.sig.returnType = (some .int)) (hnm : meth.name = "log") (hRf : 8 ≤ R.frames) (hRl : 160 ≤ R.locals)  (l0 : Nat) (l1 : Int32) (l2 : Int32) (l3 : Nat) (hp : f_law_log l0 l1 l2 l3 h = some res) (hH : x_S s0 D R h H locs cells slots) (hl : lv_has ls 5 [(0, .ref l0), (1, .int l1), (2, .int l2), (3, .ref l3)]) : W p l e R s m args below meth c H locs cells slots (x_Q s0 D below s R (x_oc vI res.1) res.2) (F0 m 0 ls []) := by
  obtain ⟨hx, hb, hown, hts, hK, hml, hW, Z, -⟩ := id C
  unfold f_law_log at hp
  refine lv_aload_n hx hb d_law_log_0 rfl (lv_at hl 3 rfl) ?_
  refine lv_iconst (v := 0) hx hb d_law_log_1 (by decide) ?_
  refine lv_aload_n hx hb d_law_log_2 rfl (lv_at hl 0 rfl) ?_
  refine lv_iload_n hx hb d_law_log_3 rfl (lv_at hl 1 rfl) ?_
  refine lv_iload_n hx hb d_law_log_4 rfl (lv_at hl 2 rfl) ?_
  refine x_callVc (As := [.int l1, .int l2]) (rest := [.int 0, .ref l3]) (cv := vI) C ct_law hH kc_law_64 d_law_log_5 hp (fun o h' e => m_RS_log Z e) rfl hl.1 (Nat.le_trans (Nat.le_of_ble_eq_true rfl) hRf) (Nat.le_trans (Nat.le_of_ble_eq_true rfl) hRl) (Nat.le_of_ble_eq_true rfl) (fun v1 h H locs cells slots hp hH => ?_) (fun a ci h H locs cells slots hp hH => ?_)
  · refine W.eq (g2 := F0 m 8 ls [.int v1, .int 0, .ref l3]) rfl ?_
    refine lv_i2l (v := v1.toInt64) hx hb d_law_log_8 rfl ?_
    refine x_sJ C hH d_law_log_9 hp (fun h H locs hp hH => ?_)
    refine lv_goto (tgt := 17) hx hb d_law_log_10 (by decide) ?_
    refine lv_iconst (v := 0) hx hb d_law_log_17 (by decide) ?_
    exact x_iret C hH hr d_law_log_18 hp
  · by_cases hc10 : ci = 10
    · replace hp := x_ifp hc10 hp
      subst hc10
      refine ⟨13, rfl, ?_⟩
      refine lv_astore (lv' := [(4, .ref a), (0, .ref l0), (1, .int l1), (2, .int l2), (3, .ref l3)]) hx hb d_law_log_13 hl (by decide) rfl (fun ls hl => ?_)
      refine lv_iconst (v := 1) hx hb d_law_log_15 (by decide) ?_
      exact x_iret C hH hr d_law_log_16 hp
    replace hp := x_ifn hc10 hp
    cases hp
set_option maxRecDepth 100000 in
theorem m_law_log (Z : x_Z l s0 A0 D) {l0 : Nat} {l1 : Int32} {l2 : Int32} {l3 : Nat} {res : (Int32 ⊕ (Nat × Nat)) × xH} (hp : f_law_log l0 l1 l2 l3 h = some res) : x_M l s0 D y_law_log (x_cw y_law_log method_17_code 5 (some .int) [(0, 10, 13, 13)]) 8 160 [.ref l0, .int l1, .int l2, .ref l3] h (x_oc vI res.1) res.2 := by
  refine x_M.ofW Z (plainFor_of_name (by decide)) ?_
  intro p e s m below meth c C hnm hr hH
  have hl := lv_entry ([.ref l0, .int l1, .int l2, .ref l3]) (n := 5) (Nat.le_of_ble_eq_true rfl)
  rw [lg_entry_eq]
  generalize (lg_sl ([.ref l0, .int l1, .int l2, .ref l3]) ++ List.replicate (5 - (lg_sl ([.ref l0, .int l1, .int l2, .ref l3])).length) Slot.unset).toArray = ls at hl ⊢
  exact w_law_log_0 C hr hnm (Nat.le_refl _) (Nat.le_refl _) l0 l1 l2 l3 hp hH hl
/-! ReadSide$Command.told(I)I -/
theorem d_Cmd_told_0 : decode prog_2_method_2_code 0 = .ok (.iload_n 1, 1) := by decide +kernel
theorem d_Cmd_told_1 : decode prog_2_method_2_code 1 = .ok (.tableswitch 51 0 3 #[31, 36, 41, 46], 31) := by decide +kernel
theorem d_Cmd_told_32 : decode prog_2_method_2_code 32 = .ok (.aload_n 0, 1) := by decide +kernel
theorem d_Cmd_told_33 : decode prog_2_method_2_code 33 = .ok (.getfield 16, 3) := by decide +kernel
theorem d_Cmd_told_36 : decode prog_2_method_2_code 36 = .ok (.ireturn, 1) := by decide +kernel
theorem d_Cmd_told_37 : decode prog_2_method_2_code 37 = .ok (.aload_n 0, 1) := by decide +kernel
theorem d_Cmd_told_38 : decode prog_2_method_2_code 38 = .ok (.getfield 20, 3) := by decide +kernel
theorem d_Cmd_told_41 : decode prog_2_method_2_code 41 = .ok (.ireturn, 1) := by decide +kernel
theorem d_Cmd_told_42 : decode prog_2_method_2_code 42 = .ok (.aload_n 0, 1) := by decide +kernel
theorem d_Cmd_told_43 : decode prog_2_method_2_code 43 = .ok (.getfield 23, 3) := by decide +kernel
theorem d_Cmd_told_46 : decode prog_2_method_2_code 46 = .ok (.ireturn, 1) := by decide +kernel
theorem d_Cmd_told_47 : decode prog_2_method_2_code 47 = .ok (.aload_n 0, 1) := by decide +kernel
theorem d_Cmd_told_48 : decode prog_2_method_2_code 48 = .ok (.getfield 26, 3) := by decide +kernel
theorem d_Cmd_told_51 : decode prog_2_method_2_code 51 = .ok (.ireturn, 1) := by decide +kernel
theorem d_Cmd_told_52 : decode prog_2_method_2_code 52 = .ok (.aload_n 0, 1) := by decide +kernel
theorem d_Cmd_told_53 : decode prog_2_method_2_code 53 = .ok (.getfield 10, 3) := by decide +kernel
theorem d_Cmd_told_56 : decode prog_2_method_2_code 56 = .ok (.getfield 29, 3) := by decide +kernel
theorem d_Cmd_told_59 : decode prog_2_method_2_code 59 = .ok (.iload_n 1, 1) := by decide +kernel
theorem d_Cmd_told_60 : decode prog_2_method_2_code 60 = .ok (.iconst 4, 1) := by decide +kernel
theorem d_Cmd_told_61 : decode prog_2_method_2_code 61 = .ok (.isub, 1) := by decide +kernel
theorem d_Cmd_told_62 : decode prog_2_method_2_code 62 = .ok (.iaload, 1) := by decide +kernel
theorem d_Cmd_told_63 : decode prog_2_method_2_code 63 = .ok (.ireturn, 1) := by decide +kernel
set_option maxHeartbeats 4000000 in
set_option maxRecDepth 100000 in
theorem w_Cmd_told_0 {res : (Int32 ⊕ (Nat × Nat)) × xH} (C : x_C l s0 A0 D R_Cmd prog_2_method_2_code 2 [] p s m args meth c) (hr : meth.sig.returnType = (some .int)) (hnm : meth.name = "told") (hRf : 0 ≤ R.frames) (hRl : 0 ≤ R.locals)  (l0 : Nat) (l1 : Int32) (hp : f_Cmd_told l0 l1 h = some res) (hH : x_S s0 D R h H locs cells slots) (hl : lv_has ls 2 [(0, .ref l0), (1, .int l1)]) : W p l e R s m args below meth c H locs cells slots (x_Q s0 D below s R (x_oc vI res.1) res.2) (F0 m 0 ls []) := by
  obtain ⟨hx, hb, hown, hts, hK, hml, hW, Z, -⟩ := id C
  unfold f_Cmd_told at hp
  refine lv_iload_n hx hb d_Cmd_told_0 rfl (lv_at hl 1 rfl) ?_
  by_cases hc0 : l1 = 0
  · replace hp := x_ifp hc0 hp
    refine lv_tableIn (off := 31) (tgt := 32) hx hb d_Cmd_told_1 (by rw [hc0]; decide) (by rw [hc0]; decide) (by rw [hc0]; rfl) (by decide) ?_
    refine lv_aload_n hx hb d_Cmd_told_32 rfl (lv_at hl 0 rfl) ?_
    refine x_gI C hH fl_Cmd_16 d_Cmd_told_33 hp (fun v1 hp => ?_)
    exact x_iret C hH hr d_Cmd_told_36 hp
  replace hp := x_ifn hc0 hp
  by_cases hc1 : l1 = 1
  · replace hp := x_ifp hc1 hp
    refine lv_tableIn (off := 36) (tgt := 37) hx hb d_Cmd_told_1 (by rw [hc1]; decide) (by rw [hc1]; decide) (by rw [hc1]; rfl) (by decide) ?_
    refine lv_aload_n hx hb d_Cmd_told_37 rfl (lv_at hl 0 rfl) ?_
    refine x_gI C hH fl_Cmd_20 d_Cmd_told_38 hp (fun v2 hp => ?_)
    exact x_iret C hH hr d_Cmd_told_41 hp
  replace hp := x_ifn hc1 hp
  by_cases hc2 : l1 = 2
  · replace hp := x_ifp hc2 hp
    refine lv_tableIn (off := 41) (tgt := 42) hx hb d_Cmd_told_1 (by rw [hc2]; decide) (by rw [hc2]; decide) (by rw [hc2]; rfl) (by decide) ?_
    refine lv_aload_n hx hb d_Cmd_told_42 rfl (lv_at hl 0 rfl) ?_
    refine x_gI C hH fl_Cmd_23 d_Cmd_told_43 hp (fun v3 hp => ?_)
    exact x_iret C hH hr d_Cmd_told_46 hp
  replace hp := x_ifn hc2 hp
  by_cases hc3 : l1 = 3
  · replace hp := x_ifp hc3 hp
    refine lv_tableIn (off := 46) (tgt := 47) hx hb d_Cmd_told_1 (by rw [hc3]; decide) (by rw [hc3]; decide) (by rw [hc3]; rfl) (by decide) ?_
    refine lv_aload_n hx hb d_Cmd_told_47 rfl (lv_at hl 0 rfl) ?_
    refine x_gI C hH fl_Cmd_26 d_Cmd_told_48 hp (fun v4 hp => ?_)
    exact x_iret C hH hr d_Cmd_told_51 hp
  replace hp := x_ifn hc3 hp
  have n0 := lv_neT hc0 (k := 0) (a := 0) (by decide)
  have n1 := lv_neT hc1 (k := 1) (a := 1) (by decide)
  have n2 := lv_neT hc2 (k := 2) (a := 2) (by decide)
  have n3 := lv_neT hc3 (k := 3) (a := 3) (by decide)
  refine lv_tableOut (tgt := 52) hx hb d_Cmd_told_1 (by omega) (by decide) ?_
  refine lv_aload_n hx hb d_Cmd_told_52 rfl (lv_at hl 0 rfl) ?_
  refine x_gA C hH fl_Cmd_10 d_Cmd_told_53 hp (fun v5 hp => ?_)
  refine x_gA C hH fl_Cmd_29 d_Cmd_told_56 hp (fun v6 hp => ?_)
  refine lv_iload_n hx hb d_Cmd_told_59 rfl (lv_at hl 1 rfl) ?_
  refine lv_iconst (v := 4) hx hb d_Cmd_told_60 (by decide) ?_
  refine lv_isub hx hb d_Cmd_told_61 ?_
  refine x_lI C hH d_Cmd_told_62 hp (fun v7 hp => ?_)
  exact x_iret C hH hr d_Cmd_told_63 hp
set_option maxRecDepth 100000 in
theorem m_Cmd_told (Z : x_Z l s0 A0 D) {l0 : Nat} {l1 : Int32} {res : (Int32 ⊕ (Nat × Nat)) × xH} (hp : f_Cmd_told l0 l1 h = some res) : x_M l s0 D y_Cmd_told (x_cw y_Cmd_told prog_2_method_2_code 2 (some .int) []) 0 0 [.ref l0, .int l1] h (x_oc vI res.1) res.2 := by
  refine x_M.ofW Z (plainFor_of_name (by decide)) ?_
  intro p e s m below meth c C hnm hr hH
  have hl := lv_entry ([.ref l0, .int l1]) (n := 2) (Nat.le_of_ble_eq_true rfl)
  rw [lg_entry_eq]
  generalize (lg_sl ([.ref l0, .int l1]) ++ List.replicate (2 - (lg_sl ([.ref l0, .int l1])).length) Slot.unset).toArray = ls at hl ⊢
  exact w_Cmd_told_0 C hr hnm (Nat.le_refl _) (Nat.le_refl _) l0 l1 hp hH hl
/-! ReadSide.logged(III)I -/
theorem d_RS_logged_0 : decode prog_1_method_35_code 0 = .ok (.aload_n 0, 1) := by decide +kernel
theorem d_RS_logged_1 : decode prog_1_method_35_code 1 = .ok (.getfield 37, 3) := by decide +kernel
theorem d_RS_logged_4 : decode prog_1_method_35_code 4 = .ok (.iload_n 1, 1) := by decide +kernel
theorem d_RS_logged_5 : decode prog_1_method_35_code 5 = .ok (.aload_n 0, 1) := by decide +kernel
theorem d_RS_logged_6 : decode prog_1_method_35_code 6 = .ok (.getfield 31, 3) := by decide +kernel
theorem d_RS_logged_9 : decode prog_1_method_35_code 9 = .ok (.invokestatic 61, 3) := by decide +kernel
theorem d_RS_logged_12 : decode prog_1_method_35_code 12 = .ok (.aaload, 1) := by decide +kernel
theorem d_RS_logged_13 : decode prog_1_method_35_code 13 = .ok (.astore 4, 2) := by decide +kernel
theorem d_RS_logged_15 : decode prog_1_method_35_code 15 = .ok (.iload_n 2, 1) := by decide +kernel
theorem d_RS_logged_16 : decode prog_1_method_35_code 16 = .ok (.iconst 1, 1) := by decide +kernel
theorem d_RS_logged_17 : decode prog_1_method_35_code 17 = .ok (.isub, 1) := by decide +kernel
theorem d_RS_logged_18 : decode prog_1_method_35_code 18 = .ok (.aload 4, 2) := by decide +kernel
theorem d_RS_logged_20 : decode prog_1_method_35_code 20 = .ok (.getfield 225, 3) := by decide +kernel
theorem d_RS_logged_23 : decode prog_1_method_35_code 23 = .ok (.isub, 1) := by decide +kernel
theorem d_RS_logged_24 : decode prog_1_method_35_code 24 = .ok (.aload 4, 2) := by decide +kernel
theorem d_RS_logged_26 : decode prog_1_method_35_code 26 = .ok (.getfield 91, 3) := by decide +kernel
theorem d_RS_logged_29 : decode prog_1_method_35_code 29 = .ok (.aload 4, 2) := by decide +kernel
theorem d_RS_logged_31 : decode prog_1_method_35_code 31 = .ok (.getfield 225, 3) := by decide +kernel
theorem d_RS_logged_34 : decode prog_1_method_35_code 34 = .ok (.isub, 1) := by decide +kernel
theorem d_RS_logged_35 : decode prog_1_method_35_code 35 = .ok (.invokestatic 61, 3) := by decide +kernel
theorem d_RS_logged_38 : decode prog_1_method_35_code 38 = .ok (.pop, 1) := by decide +kernel
theorem d_RS_logged_39 : decode prog_1_method_35_code 39 = .ok (.iload_n 3, 1) := by decide +kernel
theorem d_RS_logged_40 : decode prog_1_method_35_code 40 = .ok (.bipush 7, 2) := by decide +kernel
theorem d_RS_logged_42 : decode prog_1_method_35_code 42 = .ok (.invokestatic 61, 3) := by decide +kernel
theorem d_RS_logged_45 : decode prog_1_method_35_code 45 = .ok (.pop, 1) := by decide +kernel
theorem d_RS_logged_46 : decode prog_1_method_35_code 46 = .ok (.aload 4, 2) := by decide +kernel
theorem d_RS_logged_48 : decode prog_1_method_35_code 48 = .ok (.iload_n 2, 1) := by decide +kernel
theorem d_RS_logged_49 : decode prog_1_method_35_code 49 = .ok (.invokevirtual 159, 3) := by decide +kernel
theorem d_RS_logged_52 : decode prog_1_method_35_code 52 = .ok (.iload_n 3, 1) := by decide +kernel
theorem d_RS_logged_53 : decode prog_1_method_35_code 53 = .ok (.invokevirtual 296, 3) := by decide +kernel
theorem d_RS_logged_56 : decode prog_1_method_35_code 56 = .ok (.ireturn, 1) := by decide +kernel
set_option maxHeartbeats 4000000 in
set_option maxRecDepth 100000 in
theorem w_RS_logged_0 {res : (Int32 ⊕ (Nat × Nat)) × xH} (C : x_C l s0 A0 D R_RS prog_1_method_35_code 5 [] p s m args meth c) (hr : meth.sig.returnType = (some .int)) (hnm : meth.name = "logged") (hRf : 7 ≤ R.frames) (hRl : 129 ≤ R.locals)  (l0 : Nat) (l1 : Int32) (l2 : Int32) (l3 : Int32) (hp : f_RS_logged l0 l1 l2 l3 h = some res) (hH : x_S s0 D R h H locs cells slots) (hl : lv_has ls 5 [(0, .ref l0), (1, .int l1), (2, .int l2), (3, .int l3)]) : W p l e R s m args below meth c H locs cells slots (x_Q s0 D below s R (x_oc vI res.1) res.2) (F0 m 0 ls []) := by
  obtain ⟨hx, hb, hown, hts, hK, hml, hW, Z, -⟩ := id C
  unfold f_RS_logged at hp
  refine lv_aload_n hx hb d_RS_logged_0 rfl (lv_at hl 0 rfl) ?_
  refine x_gA C hH fl_RS_37 d_RS_logged_1 hp (fun v1 hp => ?_)
  refine lv_iload_n hx hb d_RS_logged_4 rfl (lv_at hl 1 rfl) ?_
  refine lv_aload_n hx hb d_RS_logged_5 rfl (lv_at hl 0 rfl) ?_
  refine x_gI C hH fl_RS_31 d_RS_logged_6 hp (fun v2 hp => ?_)
  refine x_callS (As := [.int l1, .int v2]) (rest := [.ref v1]) (cv := vI) C hH kc_RS_61 d_RS_logged_9 hp (fun o h' e => m_RS_index Z e) rfl hl.1 (Nat.le_trans (Nat.le_of_ble_eq_true rfl) hRf) (Nat.le_trans (Nat.le_of_ble_eq_true rfl) hRl) (Nat.le_of_ble_eq_true rfl) (fun v3 h H locs cells slots hp hH => ?_)
  refine W.eq (g2 := F0 m 12 ls [.int v3, .ref v1]) rfl ?_
  refine x_lA C hH (by decide) d_RS_logged_12 hp (fun v4 hp => ?_)
  refine lv_astore (lv' := [(4, .ref v4), (0, .ref l0), (1, .int l1), (2, .int l2), (3, .int l3)]) hx hb d_RS_logged_13 hl (by decide) rfl (fun ls hl => ?_)
  refine lv_iload_n hx hb d_RS_logged_15 rfl (lv_at hl 3 rfl) ?_
  refine lv_iconst (v := 1) hx hb d_RS_logged_16 (by decide) ?_
  refine lv_isub hx hb d_RS_logged_17 ?_
  refine lv_aload hx hb d_RS_logged_18 (lv_at hl 0 rfl) ?_
  refine x_gI C hH fl_RS_225 d_RS_logged_20 hp (fun v5 hp => ?_)
  refine lv_isub hx hb d_RS_logged_23 ?_
  refine lv_aload hx hb d_RS_logged_24 (lv_at hl 0 rfl) ?_
  refine x_gI C hH fl_RS_91 d_RS_logged_26 hp (fun v6 hp => ?_)
  refine lv_aload hx hb d_RS_logged_29 (lv_at hl 0 rfl) ?_
  refine x_gI C hH fl_RS_225 d_RS_logged_31 hp (fun v7 hp => ?_)
  refine lv_isub hx hb d_RS_logged_34 ?_
  refine x_callS (As := [.int ((l2 - 1) - v5), .int (v6 - v7)]) (rest := []) (cv := vI) C hH kc_RS_61 d_RS_logged_35 hp (fun o h' e => m_RS_index Z e) rfl hl.1 (Nat.le_trans (Nat.le_of_ble_eq_true rfl) hRf) (Nat.le_trans (Nat.le_of_ble_eq_true rfl) hRl) (Nat.le_of_ble_eq_true rfl) (fun v8 h H locs cells slots hp hH => ?_)
  refine W.eq (g2 := F0 m 38 ls [.int v8]) rfl ?_
  refine lv_pop hx hb d_RS_logged_38 rfl ?_
  refine lv_iload_n hx hb d_RS_logged_39 rfl (lv_at hl 4 rfl) ?_
  refine lv_bipush (v := 7) hx hb d_RS_logged_40 (by decide) ?_
  refine x_callS (As := [.int l3, .int 7]) (rest := []) (cv := vI) C hH kc_RS_61 d_RS_logged_42 hp (fun o h' e => m_RS_index Z e) rfl hl.1 (Nat.le_trans (Nat.le_of_ble_eq_true rfl) hRf) (Nat.le_trans (Nat.le_of_ble_eq_true rfl) hRl) (Nat.le_of_ble_eq_true rfl) (fun v9 h H locs cells slots hp hH => ?_)
  refine W.eq (g2 := F0 m 45 ls [.int v9]) rfl ?_
  refine lv_pop hx hb d_RS_logged_45 rfl ?_
  refine lv_aload hx hb d_RS_logged_46 (lv_at hl 0 rfl) ?_
  refine lv_iload_n hx hb d_RS_logged_48 rfl (lv_at hl 3 rfl) ?_
  refine x_callV (As := [.int l2]) (rest := []) (cv := vA) C hH kc_RS_159 d_RS_logged_49 hp (fun o h' e => m_Log_at Z e) rfl hl.1 (Nat.le_trans (Nat.le_of_ble_eq_true rfl) hRf) (Nat.le_trans (Nat.le_of_ble_eq_true rfl) hRl) (Nat.le_of_ble_eq_true rfl) (fun v10 h H locs cells slots hp hH => ?_)
  refine W.eq (g2 := F0 m 52 ls [.ref v10]) rfl ?_
  refine lv_iload_n hx hb d_RS_logged_52 rfl (lv_at hl 4 rfl) ?_
  refine x_callV (As := [.int l3]) (rest := []) (cv := vI) C hH kc_RS_296 d_RS_logged_53 hp (fun o h' e => m_Cmd_told Z e) rfl hl.1 (Nat.le_trans (Nat.le_of_ble_eq_true rfl) hRf) (Nat.le_trans (Nat.le_of_ble_eq_true rfl) hRl) (Nat.le_of_ble_eq_true rfl) (fun v11 h H locs cells slots hp hH => ?_)
  refine W.eq (g2 := F0 m 56 ls [.int v11]) rfl ?_
  exact x_iret C hH hr d_RS_logged_56 hp
set_option maxRecDepth 100000 in
theorem m_RS_logged (Z : x_Z l s0 A0 D) {l0 : Nat} {l1 : Int32} {l2 : Int32} {l3 : Int32} {res : (Int32 ⊕ (Nat × Nat)) × xH} (hp : f_RS_logged l0 l1 l2 l3 h = some res) : x_M l s0 D y_RS_logged (x_cw y_RS_logged prog_1_method_35_code 5 (some .int) []) 7 129 [.ref l0, .int l1, .int l2, .int l3] h (x_oc vI res.1) res.2 := by
  refine x_M.ofW Z (plainFor_of_name (by decide)) ?_
  intro p e s m below meth c C hnm hr hH
  have hl := lv_entry ([.ref l0, .int l1, .int l2, .int l3]) (n := 5) (Nat.le_of_ble_eq_true rfl)
  rw [lg_entry_eq]
  generalize (lg_sl ([.ref l0, .int l1, .int l2, .int l3]) ++ List.replicate (5 - (lg_sl ([.ref l0, .int l1, .int l2, .int l3])).length) Slot.unset).toArray = ls at hl ⊢
  exact w_RS_logged_0 C hr hnm (Nat.le_refl _) (Nat.le_refl _) l0 l1 l2 l3 hp hH hl
/-! ReadSideLaw.logged(LReadSide;III[J)I -/
theorem d_law_logged_0 : decode method_18_code 0 = .ok (.aload 4, 2) := by decide +kernel
theorem d_law_logged_2 : decode method_18_code 2 = .ok (.iconst 0, 1) := by decide +kernel
theorem d_law_logged_3 : decode method_18_code 3 = .ok (.aload_n 0, 1) := by decide +kernel
theorem d_law_logged_4 : decode method_18_code 4 = .ok (.iload_n 1, 1) := by decide +kernel
theorem d_law_logged_5 : decode method_18_code 5 = .ok (.iload_n 2, 1) := by decide +kernel
theorem d_law_logged_6 : decode method_18_code 6 = .ok (.iload_n 3, 1) := by decide +kernel
theorem d_law_logged_7 : decode method_18_code 7 = .ok (.invokevirtual 67, 3) := by decide +kernel
theorem d_law_logged_10 : decode method_18_code 10 = .ok (.i2l, 1) := by decide +kernel
theorem d_law_logged_11 : decode method_18_code 11 = .ok (.lastore, 1) := by decide +kernel
theorem d_law_logged_12 : decode method_18_code 12 = .ok (.goto 7, 3) := by decide +kernel
theorem d_law_logged_15 : decode method_18_code 15 = .ok (.astore 5, 2) := by decide +kernel
theorem d_law_logged_17 : decode method_18_code 17 = .ok (.iconst 1, 1) := by decide +kernel
theorem d_law_logged_18 : decode method_18_code 18 = .ok (.ireturn, 1) := by decide +kernel
theorem d_law_logged_19 : decode method_18_code 19 = .ok (.iconst 0, 1) := by decide +kernel
theorem d_law_logged_20 : decode method_18_code 20 = .ok (.ireturn, 1) := by decide +kernel
set_option maxHeartbeats 4000000 in
set_option maxRecDepth 100000 in
theorem w_law_logged_0 {res : (Int32 ⊕ (Nat × Nat)) × xH} (C : x_C l s0 A0 D R_law method_18_code 6 [(0, 12, 15, 13)] p s m args meth c) (hr : meth.sig.returnType = (some .int)) (hnm : meth.name = "logged") (hRf : 8 ≤ R.frames) (hRl : 161 ≤ R.locals)  (l0 : Nat) (l1 : Int32) (l2 : Int32) (l3 : Int32) (l4 : Nat) (hp : f_law_logged l0 l1 l2 l3 l4 h = some res) (hH : x_S s0 D R h H locs cells slots) (hl : lv_has ls 6 [(0, .ref l0), (1, .int l1), (2, .int l2), (3, .int l3), (4, .ref l4)]) : W p l e R s m args below meth c H locs cells slots (x_Q s0 D below s R (x_oc vI res.1) res.2) (F0 m 0 ls []) := by
  obtain ⟨hx, hb, hown, hts, hK, hml, hW, Z, -⟩ := id C
  unfold f_law_logged at hp
  refine lv_aload hx hb d_law_logged_0 (lv_at hl 4 rfl) ?_
  refine lv_iconst (v := 0) hx hb d_law_logged_2 (by decide) ?_
  refine lv_aload_n hx hb d_law_logged_3 rfl (lv_at hl 0 rfl) ?_
  refine lv_iload_n hx hb d_law_logged_4 rfl (lv_at hl 1 rfl) ?_
  refine lv_iload_n hx hb d_law_logged_5 rfl (lv_at hl 2 rfl) ?_
  refine lv_iload_n hx hb d_law_logged_6 rfl (lv_at hl 3 rfl) ?_
  refine x_callVc (As := [.int l1, .int l2, .int l3]) (rest := [.int 0, .ref l4]) (cv := vI) C ct_law hH kc_law_67 d_law_logged_7 hp (fun o h' e => m_RS_logged Z e) rfl hl.1 (Nat.le_trans (Nat.le_of_ble_eq_true rfl) hRf) (Nat.le_trans (Nat.le_of_ble_eq_true rfl) hRl) (Nat.le_of_ble_eq_true rfl) (fun v1 h H locs cells slots hp hH => ?_) (fun a ci h H locs cells slots hp hH => ?_)
  · refine W.eq (g2 := F0 m 10 ls [.int v1, .int 0, .ref l4]) rfl ?_
    refine lv_i2l (v := v1.toInt64) hx hb d_law_logged_10 rfl ?_
    refine x_sJ C hH d_law_logged_11 hp (fun h H locs hp hH => ?_)
    refine lv_goto (tgt := 19) hx hb d_law_logged_12 (by decide) ?_
    refine lv_iconst (v := 0) hx hb d_law_logged_19 (by decide) ?_
    exact x_iret C hH hr d_law_logged_20 hp
  · by_cases hc10 : ci = 10
    · replace hp := x_ifp hc10 hp
      subst hc10
      refine ⟨15, rfl, ?_⟩
      refine lv_astore (lv' := [(5, .ref a), (0, .ref l0), (1, .int l1), (2, .int l2), (3, .int l3), (4, .ref l4)]) hx hb d_law_logged_15 hl (by decide) rfl (fun ls hl => ?_)
      refine lv_iconst (v := 1) hx hb d_law_logged_17 (by decide) ?_
      exact x_iret C hH hr d_law_logged_18 hp
    replace hp := x_ifn hc10 hp
    cases hp
set_option maxRecDepth 100000 in
theorem m_law_logged (Z : x_Z l s0 A0 D) {l0 : Nat} {l1 : Int32} {l2 : Int32} {l3 : Int32} {l4 : Nat} {res : (Int32 ⊕ (Nat × Nat)) × xH} (hp : f_law_logged l0 l1 l2 l3 l4 h = some res) : x_M l s0 D y_law_logged (x_cw y_law_logged method_18_code 6 (some .int) [(0, 12, 15, 13)]) 8 161 [.ref l0, .int l1, .int l2, .int l3, .ref l4] h (x_oc vI res.1) res.2 := by
  refine x_M.ofW Z (plainFor_of_name (by decide)) ?_
  intro p e s m below meth c C hnm hr hH
  have hl := lv_entry ([.ref l0, .int l1, .int l2, .int l3, .ref l4]) (n := 6) (Nat.le_of_ble_eq_true rfl)
  rw [lg_entry_eq]
  generalize (lg_sl ([.ref l0, .int l1, .int l2, .int l3, .ref l4]) ++ List.replicate (6 - (lg_sl ([.ref l0, .int l1, .int l2, .int l3, .ref l4])).length) Slot.unset).toArray = ls at hl ⊢
  exact w_law_logged_0 C hr hnm (Nat.le_refl _) (Nat.le_refl _) l0 l1 l2 l3 l4 hp hH hl
/-! ReadSide.session(III)I -/
theorem d_RS_session_0 : decode prog_1_method_36_code 0 = .ok (.aload_n 0, 1) := by decide +kernel
theorem d_RS_session_1 : decode prog_1_method_36_code 1 = .ok (.iload_n 1, 1) := by decide +kernel
theorem d_RS_session_2 : decode prog_1_method_36_code 2 = .ok (.invokevirtual 65, 3) := by decide +kernel
theorem d_RS_session_5 : decode prog_1_method_36_code 5 = .ok (.astore 4, 2) := by decide +kernel
theorem d_RS_session_7 : decode prog_1_method_36_code 7 = .ok (.iload_n 2, 1) := by decide +kernel
theorem d_RS_session_8 : decode prog_1_method_36_code 8 = .ok (.iconst 2, 1) := by decide +kernel
theorem d_RS_session_9 : decode prog_1_method_36_code 9 = .ok (.invokestatic 61, 3) := by decide +kernel
theorem d_RS_session_12 : decode prog_1_method_36_code 12 = .ok (.ifCond .ne 11, 3) := by decide +kernel
theorem d_RS_session_15 : decode prog_1_method_36_code 15 = .ok (.aload 4, 2) := by decide +kernel
theorem d_RS_session_17 : decode prog_1_method_36_code 17 = .ok (.getfield 119, 3) := by decide +kernel
theorem d_RS_session_20 : decode prog_1_method_36_code 20 = .ok (.goto 8, 3) := by decide +kernel
theorem d_RS_session_23 : decode prog_1_method_36_code 23 = .ok (.aload 4, 2) := by decide +kernel
theorem d_RS_session_25 : decode prog_1_method_36_code 25 = .ok (.getfield 110, 3) := by decide +kernel
theorem d_RS_session_28 : decode prog_1_method_36_code 28 = .ok (.astore 5, 2) := by decide +kernel
theorem d_RS_session_30 : decode prog_1_method_36_code 30 = .ok (.aload 5, 2) := by decide +kernel
theorem d_RS_session_32 : decode prog_1_method_36_code 32 = .ok (.getfield 126, 3) := by decide +kernel
theorem d_RS_session_35 : decode prog_1_method_36_code 35 = .ok (.iload_n 3, 1) := by decide +kernel
theorem d_RS_session_36 : decode prog_1_method_36_code 36 = .ok (.aload_n 0, 1) := by decide +kernel
theorem d_RS_session_37 : decode prog_1_method_36_code 37 = .ok (.getfield 31, 3) := by decide +kernel
theorem d_RS_session_40 : decode prog_1_method_36_code 40 = .ok (.invokestatic 61, 3) := by decide +kernel
theorem d_RS_session_43 : decode prog_1_method_36_code 43 = .ok (.iaload, 1) := by decide +kernel
theorem d_RS_session_44 : decode prog_1_method_36_code 44 = .ok (.ireturn, 1) := by decide +kernel
set_option maxHeartbeats 4000000 in
set_option maxRecDepth 100000 in
theorem w_RS_session_28 {res : (Int32 ⊕ (Nat × Nat)) × xH} (C : x_C l s0 A0 D R_RS prog_1_method_36_code 6 [] p s m args meth c) (hr : meth.sig.returnType = (some .int)) (hnm : meth.name = "session") (hRf : 8 ≤ R.frames) (hRl : 158 ≤ R.locals)  (l0 : Nat) (l3 : Int32) (t0 : Nat) (hp : f_RS_session_b28 l0 l3 t0 h = some res) (hH : x_S s0 D R h H locs cells slots) (hl : lv_has ls 6 [(0, .ref l0), (3, .int l3)]) : W p l e R s m args below meth c H locs cells slots (x_Q s0 D below s R (x_oc vI res.1) res.2) (F0 m 28 ls [.ref t0]) := by
  obtain ⟨hx, hb, hown, hts, hK, hml, hW, Z, -⟩ := id C
  unfold f_RS_session_b28 at hp
  refine lv_astore (lv' := [(5, .ref t0), (0, .ref l0), (3, .int l3)]) hx hb d_RS_session_28 hl (by decide) rfl (fun ls hl => ?_)
  refine lv_aload hx hb d_RS_session_30 (lv_at hl 0 rfl) ?_
  refine x_gA C hH fl_RS_126 d_RS_session_32 hp (fun v1 hp => ?_)
  refine lv_iload_n hx hb d_RS_session_35 rfl (lv_at hl 2 rfl) ?_
  refine lv_aload_n hx hb d_RS_session_36 rfl (lv_at hl 1 rfl) ?_
  refine x_gI C hH fl_RS_31 d_RS_session_37 hp (fun v2 hp => ?_)
  refine x_callS (As := [.int l3, .int v2]) (rest := [.ref v1]) (cv := vI) C hH kc_RS_61 d_RS_session_40 hp (fun o h' e => m_RS_index Z e) rfl hl.1 (Nat.le_trans (Nat.le_of_ble_eq_true rfl) hRf) (Nat.le_trans (Nat.le_of_ble_eq_true rfl) hRl) (Nat.le_of_ble_eq_true rfl) (fun v3 h H locs cells slots hp hH => ?_)
  refine W.eq (g2 := F0 m 43 ls [.int v3, .ref v1]) rfl ?_
  refine x_lI C hH d_RS_session_43 hp (fun v4 hp => ?_)
  exact x_iret C hH hr d_RS_session_44 hp
set_option maxHeartbeats 4000000 in
set_option maxRecDepth 100000 in
theorem w_RS_session_0 {res : (Int32 ⊕ (Nat × Nat)) × xH} (C : x_C l s0 A0 D R_RS prog_1_method_36_code 6 [] p s m args meth c) (hr : meth.sig.returnType = (some .int)) (hnm : meth.name = "session") (hRf : 8 ≤ R.frames) (hRl : 158 ≤ R.locals)  (l0 : Nat) (l1 : Int32) (l2 : Int32) (l3 : Int32) (hp : f_RS_session l0 l1 l2 l3 h = some res) (hH : x_S s0 D R h H locs cells slots) (hl : lv_has ls 6 [(0, .ref l0), (1, .int l1), (2, .int l2), (3, .int l3)]) : W p l e R s m args below meth c H locs cells slots (x_Q s0 D below s R (x_oc vI res.1) res.2) (F0 m 0 ls []) := by
  obtain ⟨hx, hb, hown, hts, hK, hml, hW, Z, -⟩ := id C
  unfold f_RS_session at hp
  refine lv_aload_n hx hb d_RS_session_0 rfl (lv_at hl 0 rfl) ?_
  refine lv_iload_n hx hb d_RS_session_1 rfl (lv_at hl 1 rfl) ?_
  refine x_callV (As := [.int l1]) (rest := []) (cv := vA) C hH kc_RS_65 d_RS_session_2 hp (fun o h' e => m_RS_sessionAt Z e) rfl hl.1 (Nat.le_trans (Nat.le_of_ble_eq_true rfl) hRf) (Nat.le_trans (Nat.le_of_ble_eq_true rfl) hRl) (Nat.le_of_ble_eq_true rfl) (fun v1 h H locs cells slots hp hH => ?_)
  refine W.eq (g2 := F0 m 5 ls [.ref v1]) rfl ?_
  refine lv_astore (lv' := [(4, .ref v1), (0, .ref l0), (1, .int l1), (2, .int l2), (3, .int l3)]) hx hb d_RS_session_5 hl (by decide) rfl (fun ls hl => ?_)
  refine lv_iload_n hx hb d_RS_session_7 rfl (lv_at hl 3 rfl) ?_
  refine lv_iconst (v := 2) hx hb d_RS_session_8 (by decide) ?_
  refine x_callS (As := [.int l2, .int 2]) (rest := []) (cv := vI) C hH kc_RS_61 d_RS_session_9 hp (fun o h' e => m_RS_index Z e) rfl hl.1 (Nat.le_trans (Nat.le_of_ble_eq_true rfl) hRf) (Nat.le_trans (Nat.le_of_ble_eq_true rfl) hRl) (Nat.le_of_ble_eq_true rfl) (fun v2 h H locs cells slots hp hH => ?_)
  refine W.eq (g2 := F0 m 12 ls [.int v2]) rfl ?_
  refine lv_if_ne (tgt := 23) hx hb d_RS_session_12 (by decide) (fun hc => ?_) (fun hc => ?_)
  · replace hp := x_ifn hc hp
    refine lv_aload hx hb d_RS_session_23 (lv_at hl 0 rfl) ?_
    refine x_gA C hH fl_RS_110 d_RS_session_25 hp (fun v3 hp => ?_)
    exact w_RS_session_28 C hr hnm hRf hRl  l0 l3 v3 hp hH (lv_sub hl [1, 4] rfl)
  · replace hp := x_ifp hc hp
    refine lv_aload hx hb d_RS_session_15 (lv_at hl 0 rfl) ?_
    refine x_gA C hH fl_RS_119 d_RS_session_17 hp (fun v4 hp => ?_)
    refine lv_goto (tgt := 28) hx hb d_RS_session_20 (by decide) ?_
    exact w_RS_session_28 C hr hnm hRf hRl  l0 l3 v4 hp hH (lv_sub hl [1, 4] rfl)
set_option maxRecDepth 100000 in
theorem m_RS_session (Z : x_Z l s0 A0 D) {l0 : Nat} {l1 : Int32} {l2 : Int32} {l3 : Int32} {res : (Int32 ⊕ (Nat × Nat)) × xH} (hp : f_RS_session l0 l1 l2 l3 h = some res) : x_M l s0 D y_RS_session (x_cw y_RS_session prog_1_method_36_code 6 (some .int) []) 8 158 [.ref l0, .int l1, .int l2, .int l3] h (x_oc vI res.1) res.2 := by
  refine x_M.ofW Z (plainFor_of_name (by decide)) ?_
  intro p e s m below meth c C hnm hr hH
  have hl := lv_entry ([.ref l0, .int l1, .int l2, .int l3]) (n := 6) (Nat.le_of_ble_eq_true rfl)
  rw [lg_entry_eq]
  generalize (lg_sl ([.ref l0, .int l1, .int l2, .int l3]) ++ List.replicate (6 - (lg_sl ([.ref l0, .int l1, .int l2, .int l3])).length) Slot.unset).toArray = ls at hl ⊢
  exact w_RS_session_0 C hr hnm (Nat.le_refl _) (Nat.le_refl _) l0 l1 l2 l3 hp hH hl
/-! ReadSideLaw.session(LReadSide;III[J)I -/
theorem d_law_session_0 : decode method_19_code 0 = .ok (.aload 4, 2) := by decide +kernel
theorem d_law_session_2 : decode method_19_code 2 = .ok (.iconst 0, 1) := by decide +kernel
theorem d_law_session_3 : decode method_19_code 3 = .ok (.aload_n 0, 1) := by decide +kernel
theorem d_law_session_4 : decode method_19_code 4 = .ok (.iload_n 1, 1) := by decide +kernel
theorem d_law_session_5 : decode method_19_code 5 = .ok (.iload_n 2, 1) := by decide +kernel
theorem d_law_session_6 : decode method_19_code 6 = .ok (.iload_n 3, 1) := by decide +kernel
theorem d_law_session_7 : decode method_19_code 7 = .ok (.invokevirtual 71, 3) := by decide +kernel
theorem d_law_session_10 : decode method_19_code 10 = .ok (.i2l, 1) := by decide +kernel
theorem d_law_session_11 : decode method_19_code 11 = .ok (.lastore, 1) := by decide +kernel
theorem d_law_session_12 : decode method_19_code 12 = .ok (.goto 7, 3) := by decide +kernel
theorem d_law_session_15 : decode method_19_code 15 = .ok (.astore 5, 2) := by decide +kernel
theorem d_law_session_17 : decode method_19_code 17 = .ok (.iconst 1, 1) := by decide +kernel
theorem d_law_session_18 : decode method_19_code 18 = .ok (.ireturn, 1) := by decide +kernel
theorem d_law_session_19 : decode method_19_code 19 = .ok (.iconst 0, 1) := by decide +kernel
theorem d_law_session_20 : decode method_19_code 20 = .ok (.ireturn, 1) := by decide +kernel
set_option maxHeartbeats 4000000 in
set_option maxRecDepth 100000 in
theorem w_law_session_0 {res : (Int32 ⊕ (Nat × Nat)) × xH} (C : x_C l s0 A0 D R_law method_19_code 6 [(0, 12, 15, 13)] p s m args meth c) (hr : meth.sig.returnType = (some .int)) (hnm : meth.name = "session") (hRf : 9 ≤ R.frames) (hRl : 191 ≤ R.locals)  (l0 : Nat) (l1 : Int32) (l2 : Int32) (l3 : Int32) (l4 : Nat) (hp : f_law_session l0 l1 l2 l3 l4 h = some res) (hH : x_S s0 D R h H locs cells slots) (hl : lv_has ls 6 [(0, .ref l0), (1, .int l1), (2, .int l2), (3, .int l3), (4, .ref l4)]) : W p l e R s m args below meth c H locs cells slots (x_Q s0 D below s R (x_oc vI res.1) res.2) (F0 m 0 ls []) := by
  obtain ⟨hx, hb, hown, hts, hK, hml, hW, Z, -⟩ := id C
  unfold f_law_session at hp
  refine lv_aload hx hb d_law_session_0 (lv_at hl 4 rfl) ?_
  refine lv_iconst (v := 0) hx hb d_law_session_2 (by decide) ?_
  refine lv_aload_n hx hb d_law_session_3 rfl (lv_at hl 0 rfl) ?_
  refine lv_iload_n hx hb d_law_session_4 rfl (lv_at hl 1 rfl) ?_
  refine lv_iload_n hx hb d_law_session_5 rfl (lv_at hl 2 rfl) ?_
  refine lv_iload_n hx hb d_law_session_6 rfl (lv_at hl 3 rfl) ?_
  refine x_callVc (As := [.int l1, .int l2, .int l3]) (rest := [.int 0, .ref l4]) (cv := vI) C ct_law hH kc_law_71 d_law_session_7 hp (fun o h' e => m_RS_session Z e) rfl hl.1 (Nat.le_trans (Nat.le_of_ble_eq_true rfl) hRf) (Nat.le_trans (Nat.le_of_ble_eq_true rfl) hRl) (Nat.le_of_ble_eq_true rfl) (fun v1 h H locs cells slots hp hH => ?_) (fun a ci h H locs cells slots hp hH => ?_)
  · refine W.eq (g2 := F0 m 10 ls [.int v1, .int 0, .ref l4]) rfl ?_
    refine lv_i2l (v := v1.toInt64) hx hb d_law_session_10 rfl ?_
    refine x_sJ C hH d_law_session_11 hp (fun h H locs hp hH => ?_)
    refine lv_goto (tgt := 19) hx hb d_law_session_12 (by decide) ?_
    refine lv_iconst (v := 0) hx hb d_law_session_19 (by decide) ?_
    exact x_iret C hH hr d_law_session_20 hp
  · by_cases hc10 : ci = 10
    · replace hp := x_ifp hc10 hp
      subst hc10
      refine ⟨15, rfl, ?_⟩
      refine lv_astore (lv' := [(5, .ref a), (0, .ref l0), (1, .int l1), (2, .int l2), (3, .int l3), (4, .ref l4)]) hx hb d_law_session_15 hl (by decide) rfl (fun ls hl => ?_)
      refine lv_iconst (v := 1) hx hb d_law_session_17 (by decide) ?_
      exact x_iret C hH hr d_law_session_18 hp
    replace hp := x_ifn hc10 hp
    cases hp
set_option maxRecDepth 100000 in
theorem m_law_session (Z : x_Z l s0 A0 D) {l0 : Nat} {l1 : Int32} {l2 : Int32} {l3 : Int32} {l4 : Nat} {res : (Int32 ⊕ (Nat × Nat)) × xH} (hp : f_law_session l0 l1 l2 l3 l4 h = some res) : x_M l s0 D y_law_session (x_cw y_law_session method_19_code 6 (some .int) [(0, 12, 15, 13)]) 9 191 [.ref l0, .int l1, .int l2, .int l3, .ref l4] h (x_oc vI res.1) res.2 := by
  refine x_M.ofW Z (plainFor_of_name (by decide)) ?_
  intro p e s m below meth c C hnm hr hH
  have hl := lv_entry ([.ref l0, .int l1, .int l2, .int l3, .ref l4]) (n := 6) (Nat.le_of_ble_eq_true rfl)
  rw [lg_entry_eq]
  generalize (lg_sl ([.ref l0, .int l1, .int l2, .int l3, .ref l4]) ++ List.replicate (6 - (lg_sl ([.ref l0, .int l1, .int l2, .int l3, .ref l4])).length) Slot.unset).toArray = ls at hl ⊢
  exact w_law_session_0 C hr hnm (Nat.le_refl _) (Nat.le_refl _) l0 l1 l2 l3 l4 hp hH hl
end GEN
