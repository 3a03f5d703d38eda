section GEN
variable {p : Program} {l : Launch} {e : Env} {R : Room} {s : State} {m : MethodId} {args : Array Value} {below : List Frame} {meth : Method} {c : Code} {H : Heap} {locs : List Loc} {cells slots : Nat} {ls : Array Slot} {D : xD} {s0 : State} {A0 : Array Value} {h : xH}
/-! ReadSideModel.copy(II)V -/
theorem d_Mdl_copy_0 : decode prog_11_method_25_code 0 = .ok (.iconst 0, 1) := by decide +kernel
theorem d_Mdl_copy_1 : decode prog_11_method_25_code 1 = .ok (.istore_n 3, 1) := by decide +kernel
theorem d_Mdl_copy_2 : decode prog_11_method_25_code 2 = .ok (.iload_n 3, 1) := by decide +kernel
theorem d_Mdl_copy_3 : decode prog_11_method_25_code 3 = .ok (.bipush 30, 2) := by decide +kernel
theorem d_Mdl_copy_5 : decode prog_11_method_25_code 5 = .ok (.if_icmp .ge 97, 3) := by decide +kernel
theorem d_Mdl_copy_8 : decode prog_11_method_25_code 8 = .ok (.aload_n 0, 1) := by decide +kernel
theorem d_Mdl_copy_9 : decode prog_11_method_25_code 9 = .ok (.getfield 31, 3) := by decide +kernel
theorem d_Mdl_copy_12 : decode prog_11_method_25_code 12 = .ok (.bipush 30, 2) := by decide +kernel
theorem d_Mdl_copy_14 : decode prog_11_method_25_code 14 = .ok (.iload_n 2, 1) := by decide +kernel
theorem d_Mdl_copy_15 : decode prog_11_method_25_code 15 = .ok (.imul, 1) := by decide +kernel
theorem d_Mdl_copy_16 : decode prog_11_method_25_code 16 = .ok (.iload_n 3, 1) := by decide +kernel
theorem d_Mdl_copy_17 : decode prog_11_method_25_code 17 = .ok (.iadd, 1) := by decide +kernel
theorem d_Mdl_copy_18 : decode prog_11_method_25_code 18 = .ok (.aload_n 0, 1) := by decide +kernel
theorem d_Mdl_copy_19 : decode prog_11_method_25_code 19 = .ok (.getfield 31, 3) := by decide +kernel
theorem d_Mdl_copy_22 : decode prog_11_method_25_code 22 = .ok (.bipush 30, 2) := by decide +kernel
theorem d_Mdl_copy_24 : decode prog_11_method_25_code 24 = .ok (.iload_n 1, 1) := by decide +kernel
theorem d_Mdl_copy_25 : decode prog_11_method_25_code 25 = .ok (.imul, 1) := by decide +kernel
theorem d_Mdl_copy_26 : decode prog_11_method_25_code 26 = .ok (.iload_n 3, 1) := by decide +kernel
theorem d_Mdl_copy_27 : decode prog_11_method_25_code 27 = .ok (.iadd, 1) := by decide +kernel
theorem d_Mdl_copy_28 : decode prog_11_method_25_code 28 = .ok (.iaload, 1) := by decide +kernel
theorem d_Mdl_copy_29 : decode prog_11_method_25_code 29 = .ok (.iastore, 1) := by decide +kernel
theorem d_Mdl_copy_30 : decode prog_11_method_25_code 30 = .ok (.aload_n 0, 1) := by decide +kernel
theorem d_Mdl_copy_31 : decode prog_11_method_25_code 31 = .ok (.getfield 34, 3) := by decide +kernel
theorem d_Mdl_copy_34 : decode prog_11_method_25_code 34 = .ok (.bipush 30, 2) := by decide +kernel
theorem d_Mdl_copy_36 : decode prog_11_method_25_code 36 = .ok (.iload_n 2, 1) := by decide +kernel
theorem d_Mdl_copy_37 : decode prog_11_method_25_code 37 = .ok (.imul, 1) := by decide +kernel
theorem d_Mdl_copy_38 : decode prog_11_method_25_code 38 = .ok (.iload_n 3, 1) := by decide +kernel
theorem d_Mdl_copy_39 : decode prog_11_method_25_code 39 = .ok (.iadd, 1) := by decide +kernel
theorem d_Mdl_copy_40 : decode prog_11_method_25_code 40 = .ok (.aload_n 0, 1) := by decide +kernel
theorem d_Mdl_copy_41 : decode prog_11_method_25_code 41 = .ok (.getfield 34, 3) := by decide +kernel
theorem d_Mdl_copy_44 : decode prog_11_method_25_code 44 = .ok (.bipush 30, 2) := by decide +kernel
theorem d_Mdl_copy_46 : decode prog_11_method_25_code 46 = .ok (.iload_n 1, 1) := by decide +kernel
theorem d_Mdl_copy_47 : decode prog_11_method_25_code 47 = .ok (.imul, 1) := by decide +kernel
theorem d_Mdl_copy_48 : decode prog_11_method_25_code 48 = .ok (.iload_n 3, 1) := by decide +kernel
theorem d_Mdl_copy_49 : decode prog_11_method_25_code 49 = .ok (.iadd, 1) := by decide +kernel
theorem d_Mdl_copy_50 : decode prog_11_method_25_code 50 = .ok (.iaload, 1) := by decide +kernel
theorem d_Mdl_copy_51 : decode prog_11_method_25_code 51 = .ok (.iastore, 1) := by decide +kernel
theorem d_Mdl_copy_52 : decode prog_11_method_25_code 52 = .ok (.aload_n 0, 1) := by decide +kernel
theorem d_Mdl_copy_53 : decode prog_11_method_25_code 53 = .ok (.getfield 37, 3) := by decide +kernel
theorem d_Mdl_copy_56 : decode prog_11_method_25_code 56 = .ok (.bipush 30, 2) := by decide +kernel
theorem d_Mdl_copy_58 : decode prog_11_method_25_code 58 = .ok (.iload_n 2, 1) := by decide +kernel
theorem d_Mdl_copy_59 : decode prog_11_method_25_code 59 = .ok (.imul, 1) := by decide +kernel
theorem d_Mdl_copy_60 : decode prog_11_method_25_code 60 = .ok (.iload_n 3, 1) := by decide +kernel
theorem d_Mdl_copy_61 : decode prog_11_method_25_code 61 = .ok (.iadd, 1) := by decide +kernel
theorem d_Mdl_copy_62 : decode prog_11_method_25_code 62 = .ok (.aload_n 0, 1) := by decide +kernel
theorem d_Mdl_copy_63 : decode prog_11_method_25_code 63 = .ok (.getfield 37, 3) := by decide +kernel
theorem d_Mdl_copy_66 : decode prog_11_method_25_code 66 = .ok (.bipush 30, 2) := by decide +kernel
theorem d_Mdl_copy_68 : decode prog_11_method_25_code 68 = .ok (.iload_n 1, 1) := by decide +kernel
theorem d_Mdl_copy_69 : decode prog_11_method_25_code 69 = .ok (.imul, 1) := by decide +kernel
theorem d_Mdl_copy_70 : decode prog_11_method_25_code 70 = .ok (.iload_n 3, 1) := by decide +kernel
theorem d_Mdl_copy_71 : decode prog_11_method_25_code 71 = .ok (.iadd, 1) := by decide +kernel
theorem d_Mdl_copy_72 : decode prog_11_method_25_code 72 = .ok (.iaload, 1) := by decide +kernel
theorem d_Mdl_copy_73 : decode prog_11_method_25_code 73 = .ok (.iastore, 1) := by decide +kernel
theorem d_Mdl_copy_74 : decode prog_11_method_25_code 74 = .ok (.aload_n 0, 1) := by decide +kernel
theorem d_Mdl_copy_75 : decode prog_11_method_25_code 75 = .ok (.getfield 40, 3) := by decide +kernel
theorem d_Mdl_copy_78 : decode prog_11_method_25_code 78 = .ok (.bipush 30, 2) := by decide +kernel
theorem d_Mdl_copy_80 : decode prog_11_method_25_code 80 = .ok (.iload_n 2, 1) := by decide +kernel
theorem d_Mdl_copy_81 : decode prog_11_method_25_code 81 = .ok (.imul, 1) := by decide +kernel
theorem d_Mdl_copy_82 : decode prog_11_method_25_code 82 = .ok (.iload_n 3, 1) := by decide +kernel
theorem d_Mdl_copy_83 : decode prog_11_method_25_code 83 = .ok (.iadd, 1) := by decide +kernel
theorem d_Mdl_copy_84 : decode prog_11_method_25_code 84 = .ok (.aload_n 0, 1) := by decide +kernel
theorem d_Mdl_copy_85 : decode prog_11_method_25_code 85 = .ok (.getfield 40, 3) := by decide +kernel
theorem d_Mdl_copy_88 : decode prog_11_method_25_code 88 = .ok (.bipush 30, 2) := by decide +kernel
theorem d_Mdl_copy_90 : decode prog_11_method_25_code 90 = .ok (.iload_n 1, 1) := by decide +kernel
theorem d_Mdl_copy_91 : decode prog_11_method_25_code 91 = .ok (.imul, 1) := by decide +kernel
theorem d_Mdl_copy_92 : decode prog_11_method_25_code 92 = .ok (.iload_n 3, 1) := by decide +kernel
theorem d_Mdl_copy_93 : decode prog_11_method_25_code 93 = .ok (.iadd, 1) := by decide +kernel
theorem d_Mdl_copy_94 : decode prog_11_method_25_code 94 = .ok (.iaload, 1) := by decide +kernel
theorem d_Mdl_copy_95 : decode prog_11_method_25_code 95 = .ok (.iastore, 1) := by decide +kernel
theorem d_Mdl_copy_96 : decode prog_11_method_25_code 96 = .ok (.iinc 3 1, 3) := by decide +kernel
theorem d_Mdl_copy_99 : decode prog_11_method_25_code 99 = .ok (.goto (-97), 3) := by decide +kernel
theorem d_Mdl_copy_102 : decode prog_11_method_25_code 102 = .ok (.iconst 0, 1) := by decide +kernel
theorem d_Mdl_copy_103 : decode prog_11_method_25_code 103 = .ok (.istore_n 3, 1) := by decide +kernel
theorem d_Mdl_copy_104 : decode prog_11_method_25_code 104 = .ok (.iload_n 3, 1) := by decide +kernel
theorem d_Mdl_copy_105 : decode prog_11_method_25_code 105 = .ok (.sipush 300, 3) := by decide +kernel
theorem d_Mdl_copy_108 : decode prog_11_method_25_code 108 = .ok (.if_icmp .ge 33, 3) := by decide +kernel
theorem d_Mdl_copy_111 : decode prog_11_method_25_code 111 = .ok (.aload_n 0, 1) := by decide +kernel
theorem d_Mdl_copy_112 : decode prog_11_method_25_code 112 = .ok (.getfield 43, 3) := by decide +kernel
theorem d_Mdl_copy_115 : decode prog_11_method_25_code 115 = .ok (.sipush 300, 3) := by decide +kernel
theorem d_Mdl_copy_118 : decode prog_11_method_25_code 118 = .ok (.iload_n 2, 1) := by decide +kernel
theorem d_Mdl_copy_119 : decode prog_11_method_25_code 119 = .ok (.imul, 1) := by decide +kernel
theorem d_Mdl_copy_120 : decode prog_11_method_25_code 120 = .ok (.iload_n 3, 1) := by decide +kernel
theorem d_Mdl_copy_121 : decode prog_11_method_25_code 121 = .ok (.iadd, 1) := by decide +kernel
theorem d_Mdl_copy_122 : decode prog_11_method_25_code 122 = .ok (.aload_n 0, 1) := by decide +kernel
theorem d_Mdl_copy_123 : decode prog_11_method_25_code 123 = .ok (.getfield 43, 3) := by decide +kernel
theorem d_Mdl_copy_126 : decode prog_11_method_25_code 126 = .ok (.sipush 300, 3) := by decide +kernel
theorem d_Mdl_copy_129 : decode prog_11_method_25_code 129 = .ok (.iload_n 1, 1) := by decide +kernel
theorem d_Mdl_copy_130 : decode prog_11_method_25_code 130 = .ok (.imul, 1) := by decide +kernel
theorem d_Mdl_copy_131 : decode prog_11_method_25_code 131 = .ok (.iload_n 3, 1) := by decide +kernel
theorem d_Mdl_copy_132 : decode prog_11_method_25_code 132 = .ok (.iadd, 1) := by decide +kernel
theorem d_Mdl_copy_133 : decode prog_11_method_25_code 133 = .ok (.iaload, 1) := by decide +kernel
theorem d_Mdl_copy_134 : decode prog_11_method_25_code 134 = .ok (.iastore, 1) := by decide +kernel
theorem d_Mdl_copy_135 : decode prog_11_method_25_code 135 = .ok (.iinc 3 1, 3) := by decide +kernel
theorem d_Mdl_copy_138 : decode prog_11_method_25_code 138 = .ok (.goto (-34), 3) := by decide +kernel
theorem d_Mdl_copy_141 : decode prog_11_method_25_code 141 = .ok (.iconst 0, 1) := by decide +kernel
theorem d_Mdl_copy_142 : decode prog_11_method_25_code 142 = .ok (.istore_n 3, 1) := by decide +kernel
theorem d_Mdl_copy_143 : decode prog_11_method_25_code 143 = .ok (.iload_n 3, 1) := by decide +kernel
theorem d_Mdl_copy_144 : decode prog_11_method_25_code 144 = .ok (.bipush 10, 2) := by decide +kernel
theorem d_Mdl_copy_146 : decode prog_11_method_25_code 146 = .ok (.if_icmp .ge 53, 3) := by decide +kernel
theorem d_Mdl_copy_149 : decode prog_11_method_25_code 149 = .ok (.aload_n 0, 1) := by decide +kernel
theorem d_Mdl_copy_150 : decode prog_11_method_25_code 150 = .ok (.getfield 46, 3) := by decide +kernel
theorem d_Mdl_copy_153 : decode prog_11_method_25_code 153 = .ok (.bipush 10, 2) := by decide +kernel
theorem d_Mdl_copy_155 : decode prog_11_method_25_code 155 = .ok (.iload_n 2, 1) := by decide +kernel
theorem d_Mdl_copy_156 : decode prog_11_method_25_code 156 = .ok (.imul, 1) := by decide +kernel
theorem d_Mdl_copy_157 : decode prog_11_method_25_code 157 = .ok (.iload_n 3, 1) := by decide +kernel
theorem d_Mdl_copy_158 : decode prog_11_method_25_code 158 = .ok (.iadd, 1) := by decide +kernel
theorem d_Mdl_copy_159 : decode prog_11_method_25_code 159 = .ok (.aload_n 0, 1) := by decide +kernel
theorem d_Mdl_copy_160 : decode prog_11_method_25_code 160 = .ok (.getfield 46, 3) := by decide +kernel
theorem d_Mdl_copy_163 : decode prog_11_method_25_code 163 = .ok (.bipush 10, 2) := by decide +kernel
theorem d_Mdl_copy_165 : decode prog_11_method_25_code 165 = .ok (.iload_n 1, 1) := by decide +kernel
theorem d_Mdl_copy_166 : decode prog_11_method_25_code 166 = .ok (.imul, 1) := by decide +kernel
theorem d_Mdl_copy_167 : decode prog_11_method_25_code 167 = .ok (.iload_n 3, 1) := by decide +kernel
theorem d_Mdl_copy_168 : decode prog_11_method_25_code 168 = .ok (.iadd, 1) := by decide +kernel
theorem d_Mdl_copy_169 : decode prog_11_method_25_code 169 = .ok (.laload, 1) := by decide +kernel
theorem d_Mdl_copy_170 : decode prog_11_method_25_code 170 = .ok (.lastore, 1) := by decide +kernel
theorem d_Mdl_copy_171 : decode prog_11_method_25_code 171 = .ok (.aload_n 0, 1) := by decide +kernel
theorem d_Mdl_copy_172 : decode prog_11_method_25_code 172 = .ok (.getfield 50, 3) := by decide +kernel
theorem d_Mdl_copy_175 : decode prog_11_method_25_code 175 = .ok (.bipush 10, 2) := by decide +kernel
theorem d_Mdl_copy_177 : decode prog_11_method_25_code 177 = .ok (.iload_n 2, 1) := by decide +kernel
theorem d_Mdl_copy_178 : decode prog_11_method_25_code 178 = .ok (.imul, 1) := by decide +kernel
theorem d_Mdl_copy_179 : decode prog_11_method_25_code 179 = .ok (.iload_n 3, 1) := by decide +kernel
theorem d_Mdl_copy_180 : decode prog_11_method_25_code 180 = .ok (.iadd, 1) := by decide +kernel
theorem d_Mdl_copy_181 : decode prog_11_method_25_code 181 = .ok (.aload_n 0, 1) := by decide +kernel
theorem d_Mdl_copy_182 : decode prog_11_method_25_code 182 = .ok (.getfield 50, 3) := by decide +kernel
theorem d_Mdl_copy_185 : decode prog_11_method_25_code 185 = .ok (.bipush 10, 2) := by decide +kernel
theorem d_Mdl_copy_187 : decode prog_11_method_25_code 187 = .ok (.iload_n 1, 1) := by decide +kernel
theorem d_Mdl_copy_188 : decode prog_11_method_25_code 188 = .ok (.imul, 1) := by decide +kernel
theorem d_Mdl_copy_189 : decode prog_11_method_25_code 189 = .ok (.iload_n 3, 1) := by decide +kernel
theorem d_Mdl_copy_190 : decode prog_11_method_25_code 190 = .ok (.iadd, 1) := by decide +kernel
theorem d_Mdl_copy_191 : decode prog_11_method_25_code 191 = .ok (.iaload, 1) := by decide +kernel
theorem d_Mdl_copy_192 : decode prog_11_method_25_code 192 = .ok (.iastore, 1) := by decide +kernel
theorem d_Mdl_copy_193 : decode prog_11_method_25_code 193 = .ok (.iinc 3 1, 3) := by decide +kernel
theorem d_Mdl_copy_196 : decode prog_11_method_25_code 196 = .ok (.goto (-53), 3) := by decide +kernel
theorem d_Mdl_copy_199 : decode prog_11_method_25_code 199 = .ok (.iconst 0, 1) := by decide +kernel
theorem d_Mdl_copy_200 : decode prog_11_method_25_code 200 = .ok (.istore_n 3, 1) := by decide +kernel
theorem d_Mdl_copy_201 : decode prog_11_method_25_code 201 = .ok (.iload_n 3, 1) := by decide +kernel
theorem d_Mdl_copy_202 : decode prog_11_method_25_code 202 = .ok (.iconst 3, 1) := by decide +kernel
theorem d_Mdl_copy_203 : decode prog_11_method_25_code 203 = .ok (.if_icmp .ge 29, 3) := by decide +kernel
theorem d_Mdl_copy_206 : decode prog_11_method_25_code 206 = .ok (.aload_n 0, 1) := by decide +kernel
theorem d_Mdl_copy_207 : decode prog_11_method_25_code 207 = .ok (.getfield 53, 3) := by decide +kernel
theorem d_Mdl_copy_210 : decode prog_11_method_25_code 210 = .ok (.iconst 3, 1) := by decide +kernel
theorem d_Mdl_copy_211 : decode prog_11_method_25_code 211 = .ok (.iload_n 2, 1) := by decide +kernel
theorem d_Mdl_copy_212 : decode prog_11_method_25_code 212 = .ok (.imul, 1) := by decide +kernel
theorem d_Mdl_copy_213 : decode prog_11_method_25_code 213 = .ok (.iload_n 3, 1) := by decide +kernel
theorem d_Mdl_copy_214 : decode prog_11_method_25_code 214 = .ok (.iadd, 1) := by decide +kernel
theorem d_Mdl_copy_215 : decode prog_11_method_25_code 215 = .ok (.aload_n 0, 1) := by decide +kernel
theorem d_Mdl_copy_216 : decode prog_11_method_25_code 216 = .ok (.getfield 53, 3) := by decide +kernel
theorem d_Mdl_copy_219 : decode prog_11_method_25_code 219 = .ok (.iconst 3, 1) := by decide +kernel
theorem d_Mdl_copy_220 : decode prog_11_method_25_code 220 = .ok (.iload_n 1, 1) := by decide +kernel
theorem d_Mdl_copy_221 : decode prog_11_method_25_code 221 = .ok (.imul, 1) := by decide +kernel
theorem d_Mdl_copy_222 : decode prog_11_method_25_code 222 = .ok (.iload_n 3, 1) := by decide +kernel
theorem d_Mdl_copy_223 : decode prog_11_method_25_code 223 = .ok (.iadd, 1) := by decide +kernel
theorem d_Mdl_copy_224 : decode prog_11_method_25_code 224 = .ok (.iaload, 1) := by decide +kernel
theorem d_Mdl_copy_225 : decode prog_11_method_25_code 225 = .ok (.iastore, 1) := by decide +kernel
theorem d_Mdl_copy_226 : decode prog_11_method_25_code 226 = .ok (.iinc 3 1, 3) := by decide +kernel
theorem d_Mdl_copy_229 : decode prog_11_method_25_code 229 = .ok (.goto (-28), 3) := by decide +kernel
theorem d_Mdl_copy_232 : decode prog_11_method_25_code 232 = .ok (.return_, 1) := by decide +kernel
set_option maxHeartbeats 4000000 in
set_option maxRecDepth 100000 in
theorem w_Mdl_copy_201 {res : (Unit ⊕ (Nat × Nat)) × xH} (C : x_C l s0 A0 D R_Mdl prog_11_method_25_code 4 [] p s m args meth c) (hr : meth.sig.returnType = none) (hnm : meth.name = "copy") (hRf : 0 ≤ R.frames) (hRl : 0 ≤ R.locals) {k201 : Nat → Int32 → Int32 → Int32 → xM Unit} (hs201 : ∀ (l0 : Nat) (l1 : Int32) (l2 : Int32) (l3 : Int32) (h : xH) (H : Heap) (locs : List Loc) (cells slots : Nat) (ls : Array Slot), k201 l0 l1 l2 l3 h = some res → x_S s0 D R h H locs cells slots → lv_has ls 4 [(0, .ref l0), (1, .int l1), (2, .int l2), (3, .int l3)] → W p l e R s m args below meth c H locs cells slots (x_Q s0 D below s R (x_oc vU res.1) res.2) (F0 m 201 ls [])) (l0 : Nat) (l1 : Int32) (l2 : Int32) (l3 : Int32) (hp : f_Mdl_copy_b201 k201 l0 l1 l2 l3 h = some res) (hH : x_S s0 D R h H locs cells slots) (hl : lv_has ls 4 [(0, .ref l0), (1, .int l1), (2, .int l2), (3, .int l3)]) : W p l e R s m args below meth c H locs cells slots (x_Q s0 D below s R (x_oc vU res.1) res.2) (F0 m 201 ls []) := by
  obtain ⟨hx, hb, hown, hts, hK, hml, hW, Z, -⟩ := id C
  unfold f_Mdl_copy_b201 at hp
  refine lv_iload_n hx hb d_Mdl_copy_201 rfl (lv_at hl 3 rfl) ?_
  refine lv_iconst (v := 3) hx hb d_Mdl_copy_202 (by decide) ?_
  refine lv_icmp_ge (tgt := 232) hx hb d_Mdl_copy_203 (by decide) (fun hc => ?_) (fun hc => ?_)
  · replace hp := x_ifp hc hp
    exact x_vret C hH hr d_Mdl_copy_232 hp
  · replace hp := x_ifn hc hp
    refine lv_aload_n hx hb d_Mdl_copy_206 rfl (lv_at hl 0 rfl) ?_
    refine x_gA C hH fl_Mdl_53 d_Mdl_copy_207 hp (fun v1 hp => ?_)
    refine lv_iconst (v := 3) hx hb d_Mdl_copy_210 (by decide) ?_
    refine lv_iload_n hx hb d_Mdl_copy_211 rfl (lv_at hl 2 rfl) ?_
    refine lv_imul hx hb d_Mdl_copy_212 ?_
    refine lv_iload_n hx hb d_Mdl_copy_213 rfl (lv_at hl 3 rfl) ?_
    refine lv_iadd hx hb d_Mdl_copy_214 ?_
    refine lv_aload_n hx hb d_Mdl_copy_215 rfl (lv_at hl 0 rfl) ?_
    refine x_gA C hH fl_Mdl_53 d_Mdl_copy_216 hp (fun v2 hp => ?_)
    refine lv_iconst (v := 3) hx hb d_Mdl_copy_219 (by decide) ?_
    refine lv_iload_n hx hb d_Mdl_copy_220 rfl (lv_at hl 1 rfl) ?_
    refine lv_imul hx hb d_Mdl_copy_221 ?_
    refine lv_iload_n hx hb d_Mdl_copy_222 rfl (lv_at hl 3 rfl) ?_
    refine lv_iadd hx hb d_Mdl_copy_223 ?_
    refine x_lI C hH d_Mdl_copy_224 hp (fun v3 hp => ?_)
    refine x_sI C hH d_Mdl_copy_225 hp (fun h H locs hp hH => ?_)
    refine lv_iinc (v := (l3 + 1)) (lv' := [(3, .int (l3 + 1)), (0, .ref l0), (1, .int l1), (2, .int l2)]) hx hb d_Mdl_copy_226 hl (k := 3) rfl rfl (by decide) rfl (fun ls hl => ?_)
    refine lv_goto (tgt := 201) hx hb d_Mdl_copy_229 (by decide) ?_
    exact hs201 l0 l1 l2 (l3 + 1) _ _ _ _ _ _ hp hH (lv_sub hl [1, 2, 3, 0] rfl)
theorem w_Mdl_copy_h201 {res : (Unit ⊕ (Nat × Nat)) × xH} (C : x_C l s0 A0 D R_Mdl prog_11_method_25_code 4 [] p s m args meth c) (hr : meth.sig.returnType = none) (hnm : meth.name = "copy") (hRf : 0 ≤ R.frames) (hRl : 0 ≤ R.locals)  : ∀ (n : Nat) (l0 : Nat) (l1 : Int32) (l2 : Int32) (l3 : Int32) (h : xH) (H : Heap) (locs : List Loc) (cells slots : Nat) (ls : Array Slot), f_Mdl_copy_h201 n l0 l1 l2 l3 h = some res → x_S s0 D R h H locs cells slots → lv_has ls 4 [(0, .ref l0), (1, .int l1), (2, .int l2), (3, .int l3)] → W p l e R s m args below meth c H locs cells slots (x_Q s0 D below s R (x_oc vU res.1) res.2) (F0 m 201 ls []) := by
  intro n
  induction n with
  | zero => intro l0 l1 l2 l3 h H locs cells slots ls hp hH hl; cases hp
  | succ n ih => intro l0 l1 l2 l3 h H locs cells slots ls hp hH hl; exact w_Mdl_copy_201 C hr hnm hRf hRl ih l0 l1 l2 l3 hp hH hl
set_option maxHeartbeats 4000000 in
set_option maxRecDepth 100000 in
theorem w_Mdl_copy_143 {res : (Unit ⊕ (Nat × Nat)) × xH} (C : x_C l s0 A0 D R_Mdl prog_11_method_25_code 4 [] p s m args meth c) (hr : meth.sig.returnType = none) (hnm : meth.name = "copy") (hRf : 0 ≤ R.frames) (hRl : 0 ≤ R.locals) {k143 : Nat → Int32 → Int32 → Int32 → xM Unit} (hs143 : ∀ (l0 : Nat) (l1 : Int32) (l2 : Int32) (l3 : Int32) (h : xH) (H : Heap) (locs : List Loc) (cells slots : Nat) (ls : Array Slot), k143 l0 l1 l2 l3 h = some res → x_S s0 D R h H locs cells slots → lv_has ls 4 [(0, .ref l0), (1, .int l1), (2, .int l2), (3, .int l3)] → W p l e R s m args below meth c H locs cells slots (x_Q s0 D below s R (x_oc vU res.1) res.2) (F0 m 143 ls [])) (l0 : Nat) (l1 : Int32) (l2 : Int32) (l3 : Int32) (hp : f_Mdl_copy_b143 k143 l0 l1 l2 l3 h = some res) (hH : x_S s0 D R h H locs cells slots) (hl : lv_has ls 4 [(0, .ref l0), (1, .int l1), (2, .int l2), (3, .int l3)]) : W p l e R s m args below meth c H locs cells slots (x_Q s0 D below s R (x_oc vU res.1) res.2) (F0 m 143 ls []) := by
  obtain ⟨hx, hb, hown, hts, hK, hml, hW, Z, -⟩ := id C
  unfold f_Mdl_copy_b143 at hp
  refine lv_iload_n hx hb d_Mdl_copy_143 rfl (lv_at hl 3 rfl) ?_
  refine lv_bipush (v := 10) hx hb d_Mdl_copy_144 (by decide) ?_
  refine lv_icmp_ge (tgt := 199) hx hb d_Mdl_copy_146 (by decide) (fun hc => ?_) (fun hc => ?_)
  · replace hp := x_ifp hc hp
    refine lv_iconst (v := 0) hx hb d_Mdl_copy_199 (by decide) ?_
    refine lv_istore_n (lv' := [(3, .int 0), (0, .ref l0), (1, .int l1), (2, .int l2)]) hx hb d_Mdl_copy_200 rfl hl (by decide) rfl (fun ls hl => ?_)
    exact w_Mdl_copy_h201 C hr hnm hRf hRl  1000 l0 l1 l2 0 _ _ _ _ _ _ hp hH (lv_sub hl [1, 2, 3, 0] rfl)
  · replace hp := x_ifn hc hp
    refine lv_aload_n hx hb d_Mdl_copy_149 rfl (lv_at hl 0 rfl) ?_
    refine x_gA C hH fl_Mdl_46 d_Mdl_copy_150 hp (fun v1 hp => ?_)
    refine lv_bipush (v := 10) hx hb d_Mdl_copy_153 (by decide) ?_
    refine lv_iload_n hx hb d_Mdl_copy_155 rfl (lv_at hl 2 rfl) ?_
    refine lv_imul hx hb d_Mdl_copy_156 ?_
    refine lv_iload_n hx hb d_Mdl_copy_157 rfl (lv_at hl 3 rfl) ?_
    refine lv_iadd hx hb d_Mdl_copy_158 ?_
    refine lv_aload_n hx hb d_Mdl_copy_159 rfl (lv_at hl 0 rfl) ?_
    refine x_gA C hH fl_Mdl_46 d_Mdl_copy_160 hp (fun v2 hp => ?_)
    refine lv_bipush (v := 10) hx hb d_Mdl_copy_163 (by decide) ?_
    refine lv_iload_n hx hb d_Mdl_copy_165 rfl (lv_at hl 1 rfl) ?_
    refine lv_imul hx hb d_Mdl_copy_166 ?_
    refine lv_iload_n hx hb d_Mdl_copy_167 rfl (lv_at hl 3 rfl) ?_
    refine lv_iadd hx hb d_Mdl_copy_168 ?_
    refine x_lJ C hH d_Mdl_copy_169 hp (fun v3 hp => ?_)
    refine x_sJ C hH d_Mdl_copy_170 hp (fun h H locs hp hH => ?_)
    refine lv_aload_n hx hb d_Mdl_copy_171 rfl (lv_at hl 0 rfl) ?_
    refine x_gA C hH fl_Mdl_50 d_Mdl_copy_172 hp (fun v4 hp => ?_)
    refine lv_bipush (v := 10) hx hb d_Mdl_copy_175 (by decide) ?_
    refine lv_iload_n hx hb d_Mdl_copy_177 rfl (lv_at hl 2 rfl) ?_
    refine lv_imul hx hb d_Mdl_copy_178 ?_
    refine lv_iload_n hx hb d_Mdl_copy_179 rfl (lv_at hl 3 rfl) ?_
    refine lv_iadd hx hb d_Mdl_copy_180 ?_
    refine lv_aload_n hx hb d_Mdl_copy_181 rfl (lv_at hl 0 rfl) ?_
    refine x_gA C hH fl_Mdl_50 d_Mdl_copy_182 hp (fun v5 hp => ?_)
    refine lv_bipush (v := 10) hx hb d_Mdl_copy_185 (by decide) ?_
    refine lv_iload_n hx hb d_Mdl_copy_187 rfl (lv_at hl 1 rfl) ?_
    refine lv_imul hx hb d_Mdl_copy_188 ?_
    refine lv_iload_n hx hb d_Mdl_copy_189 rfl (lv_at hl 3 rfl) ?_
    refine lv_iadd hx hb d_Mdl_copy_190 ?_
    refine x_lI C hH d_Mdl_copy_191 hp (fun v6 hp => ?_)
    refine x_sI C hH d_Mdl_copy_192 hp (fun h H locs hp hH => ?_)
    refine lv_iinc (v := (l3 + 1)) (lv' := [(3, .int (l3 + 1)), (0, .ref l0), (1, .int l1), (2, .int l2)]) hx hb d_Mdl_copy_193 hl (k := 3) rfl rfl (by decide) rfl (fun ls hl => ?_)
    refine lv_goto (tgt := 143) hx hb d_Mdl_copy_196 (by decide) ?_
    exact hs143 l0 l1 l2 (l3 + 1) _ _ _ _ _ _ hp hH (lv_sub hl [1, 2, 3, 0] rfl)
theorem w_Mdl_copy_h143 {res : (Unit ⊕ (Nat × Nat)) × xH} (C : x_C l s0 A0 D R_Mdl prog_11_method_25_code 4 [] p s m args meth c) (hr : meth.sig.returnType = none) (hnm : meth.name = "copy") (hRf : 0 ≤ R.frames) (hRl : 0 ≤ R.locals)  : ∀ (n : Nat) (l0 : Nat) (l1 : Int32) (l2 : Int32) (l3 : Int32) (h : xH) (H : Heap) (locs : List Loc) (cells slots : Nat) (ls : Array Slot), f_Mdl_copy_h143 n l0 l1 l2 l3 h = some res → x_S s0 D R h H locs cells slots → lv_has ls 4 [(0, .ref l0), (1, .int l1), (2, .int l2), (3, .int l3)] → W p l e R s m args below meth c H locs cells slots (x_Q s0 D below s R (x_oc vU res.1) res.2) (F0 m 143 ls []) := by
  intro n
  induction n with
  | zero => intro l0 l1 l2 l3 h H locs cells slots ls hp hH hl; cases hp
  | succ n ih => intro l0 l1 l2 l3 h H locs cells slots ls hp hH hl; exact w_Mdl_copy_143 C hr hnm hRf hRl ih l0 l1 l2 l3 hp hH hl
set_option maxHeartbeats 4000000 in
set_option maxRecDepth 100000 in
theorem w_Mdl_copy_104 {res : (Unit ⊕ (Nat × Nat)) × xH} (C : x_C l s0 A0 D R_Mdl prog_11_method_25_code 4 [] p s m args meth c) (hr : meth.sig.returnType = none) (hnm : meth.name = "copy") (hRf : 0 ≤ R.frames) (hRl : 0 ≤ R.locals) {k104 : Nat → Int32 → Int32 → Int32 → xM Unit} (hs104 : ∀ (l0 : Nat) (l1 : Int32) (l2 : Int32) (l3 : Int32) (h : xH) (H : Heap) (locs : List Loc) (cells slots : Nat) (ls : Array Slot), k104 l0 l1 l2 l3 h = some res → x_S s0 D R h H locs cells slots → lv_has ls 4 [(0, .ref l0), (1, .int l1), (2, .int l2), (3, .int l3)] → W p l e R s m args below meth c H locs cells slots (x_Q s0 D below s R (x_oc vU res.1) res.2) (F0 m 104 ls [])) (l0 : Nat) (l1 : Int32) (l2 : Int32) (l3 : Int32) (hp : f_Mdl_copy_b104 k104 l0 l1 l2 l3 h = some res) (hH : x_S s0 D R h H locs cells slots) (hl : lv_has ls 4 [(0, .ref l0), (1, .int l1), (2, .int l2), (3, .int l3)]) : W p l e R s m args below meth c H locs cells slots (x_Q s0 D below s R (x_oc vU res.1) res.2) (F0 m 104 ls []) := by
  obtain ⟨hx, hb, hown, hts, hK, hml, hW, Z, -⟩ := id C
  unfold f_Mdl_copy_b104 at hp
  refine lv_iload_n hx hb d_Mdl_copy_104 rfl (lv_at hl 3 rfl) ?_
  refine lv_sipush (v := 300) hx hb d_Mdl_copy_105 (by decide) ?_
  refine lv_icmp_ge (tgt := 141) hx hb d_Mdl_copy_108 (by decide) (fun hc => ?_) (fun hc => ?_)
  · replace hp := x_ifp hc hp
    refine lv_iconst (v := 0) hx hb d_Mdl_copy_141 (by decide) ?_
    refine lv_istore_n (lv' := [(3, .int 0), (0, .ref l0), (1, .int l1), (2, .int l2)]) hx hb d_Mdl_copy_142 rfl hl (by decide) rfl (fun ls hl => ?_)
    exact w_Mdl_copy_h143 C hr hnm hRf hRl  1000 l0 l1 l2 0 _ _ _ _ _ _ hp hH (lv_sub hl [1, 2, 3, 0] rfl)
  · replace hp := x_ifn hc hp
    refine lv_aload_n hx hb d_Mdl_copy_111 rfl (lv_at hl 0 rfl) ?_
    refine x_gA C hH fl_Mdl_43 d_Mdl_copy_112 hp (fun v1 hp => ?_)
    refine lv_sipush (v := 300) hx hb d_Mdl_copy_115 (by decide) ?_
    refine lv_iload_n hx hb d_Mdl_copy_118 rfl (lv_at hl 2 rfl) ?_
    refine lv_imul hx hb d_Mdl_copy_119 ?_
    refine lv_iload_n hx hb d_Mdl_copy_120 rfl (lv_at hl 3 rfl) ?_
    refine lv_iadd hx hb d_Mdl_copy_121 ?_
    refine lv_aload_n hx hb d_Mdl_copy_122 rfl (lv_at hl 0 rfl) ?_
    refine x_gA C hH fl_Mdl_43 d_Mdl_copy_123 hp (fun v2 hp => ?_)
    refine lv_sipush (v := 300) hx hb d_Mdl_copy_126 (by decide) ?_
    refine lv_iload_n hx hb d_Mdl_copy_129 rfl (lv_at hl 1 rfl) ?_
    refine lv_imul hx hb d_Mdl_copy_130 ?_
    refine lv_iload_n hx hb d_Mdl_copy_131 rfl (lv_at hl 3 rfl) ?_
    refine lv_iadd hx hb d_Mdl_copy_132 ?_
    refine x_lI C hH d_Mdl_copy_133 hp (fun v3 hp => ?_)
    refine x_sI C hH d_Mdl_copy_134 hp (fun h H locs hp hH => ?_)
    refine lv_iinc (v := (l3 + 1)) (lv' := [(3, .int (l3 + 1)), (0, .ref l0), (1, .int l1), (2, .int l2)]) hx hb d_Mdl_copy_135 hl (k := 3) rfl rfl (by decide) rfl (fun ls hl => ?_)
    refine lv_goto (tgt := 104) hx hb d_Mdl_copy_138 (by decide) ?_
    exact hs104 l0 l1 l2 (l3 + 1) _ _ _ _ _ _ hp hH (lv_sub hl [1, 2, 3, 0] rfl)
theorem w_Mdl_copy_h104 {res : (Unit ⊕ (Nat × Nat)) × xH} (C : x_C l s0 A0 D R_Mdl prog_11_method_25_code 4 [] p s m args meth c) (hr : meth.sig.returnType = none) (hnm : meth.name = "copy") (hRf : 0 ≤ R.frames) (hRl : 0 ≤ R.locals)  : ∀ (n : Nat) (l0 : Nat) (l1 : Int32) (l2 : Int32) (l3 : Int32) (h : xH) (H : Heap) (locs : List Loc) (cells slots : Nat) (ls : Array Slot), f_Mdl_copy_h104 n l0 l1 l2 l3 h = some res → x_S s0 D R h H locs cells slots → lv_has ls 4 [(0, .ref l0), (1, .int l1), (2, .int l2), (3, .int l3)] → W p l e R s m args below meth c H locs cells slots (x_Q s0 D below s R (x_oc vU res.1) res.2) (F0 m 104 ls []) := by
  intro n
  induction n with
  | zero => intro l0 l1 l2 l3 h H locs cells slots ls hp hH hl; cases hp
  | succ n ih => intro l0 l1 l2 l3 h H locs cells slots ls hp hH hl; exact w_Mdl_copy_104 C hr hnm hRf hRl ih l0 l1 l2 l3 hp hH hl
set_option maxHeartbeats 4000000 in
set_option maxRecDepth 100000 in
theorem w_Mdl_copy_2 {res : (Unit ⊕ (Nat × Nat)) × xH} (C : x_C l s0 A0 D R_Mdl prog_11_method_25_code 4 [] p s m args meth c) (hr : meth.sig.returnType = none) (hnm : meth.name = "copy") (hRf : 0 ≤ R.frames) (hRl : 0 ≤ R.locals) {k2 : Nat → Int32 → Int32 → Int32 → xM Unit} (hs2 : ∀ (l0 : Nat) (l1 : Int32) (l2 : Int32) (l3 : Int32) (h : xH) (H : Heap) (locs : List Loc) (cells slots : Nat) (ls : Array Slot), k2 l0 l1 l2 l3 h = some res → x_S s0 D R h H locs cells slots → lv_has ls 4 [(0, .ref l0), (1, .int l1), (2, .int l2), (3, .int l3)] → W p l e R s m args below meth c H locs cells slots (x_Q s0 D below s R (x_oc vU res.1) res.2) (F0 m 2 ls [])) (l0 : Nat) (l1 : Int32) (l2 : Int32) (l3 : Int32) (hp : f_Mdl_copy_b2 k2 l0 l1 l2 l3 h = some res) (hH : x_S s0 D R h H locs cells slots) (hl : lv_has ls 4 [(0, .ref l0), (1, .int l1), (2, .int l2), (3, .int l3)]) : W p l e R s m args below meth c H locs cells slots (x_Q s0 D below s R (x_oc vU res.1) res.2) (F0 m 2 ls []) := by
  obtain ⟨hx, hb, hown, hts, hK, hml, hW, Z, -⟩ := id C
  unfold f_Mdl_copy_b2 at hp
  refine lv_iload_n hx hb d_Mdl_copy_2 rfl (lv_at hl 3 rfl) ?_
  refine lv_bipush (v := 30) hx hb d_Mdl_copy_3 (by decide) ?_
  refine lv_icmp_ge (tgt := 102) hx hb d_Mdl_copy_5 (by decide) (fun hc => ?_) (fun hc => ?_)
  · replace hp := x_ifp hc hp
    refine lv_iconst (v := 0) hx hb d_Mdl_copy_102 (by decide) ?_
    refine lv_istore_n (lv' := [(3, .int 0), (0, .ref l0), (1, .int l1), (2, .int l2)]) hx hb d_Mdl_copy_103 rfl hl (by decide) rfl (fun ls hl => ?_)
    exact w_Mdl_copy_h104 C hr hnm hRf hRl  1000 l0 l1 l2 0 _ _ _ _ _ _ hp hH (lv_sub hl [1, 2, 3, 0] rfl)
  · replace hp := x_ifn hc hp
    refine lv_aload_n hx hb d_Mdl_copy_8 rfl (lv_at hl 0 rfl) ?_
    refine x_gA C hH fl_Mdl_31 d_Mdl_copy_9 hp (fun v1 hp => ?_)
    refine lv_bipush (v := 30) hx hb d_Mdl_copy_12 (by decide) ?_
    refine lv_iload_n hx hb d_Mdl_copy_14 rfl (lv_at hl 2 rfl) ?_
    refine lv_imul hx hb d_Mdl_copy_15 ?_
    refine lv_iload_n hx hb d_Mdl_copy_16 rfl (lv_at hl 3 rfl) ?_
    refine lv_iadd hx hb d_Mdl_copy_17 ?_
    refine lv_aload_n hx hb d_Mdl_copy_18 rfl (lv_at hl 0 rfl) ?_
    refine x_gA C hH fl_Mdl_31 d_Mdl_copy_19 hp (fun v2 hp => ?_)
    refine lv_bipush (v := 30) hx hb d_Mdl_copy_22 (by decide) ?_
    refine lv_iload_n hx hb d_Mdl_copy_24 rfl (lv_at hl 1 rfl) ?_
    refine lv_imul hx hb d_Mdl_copy_25 ?_
    refine lv_iload_n hx hb d_Mdl_copy_26 rfl (lv_at hl 3 rfl) ?_
    refine lv_iadd hx hb d_Mdl_copy_27 ?_
    refine x_lI C hH d_Mdl_copy_28 hp (fun v3 hp => ?_)
    refine x_sI C hH d_Mdl_copy_29 hp (fun h H locs hp hH => ?_)
    refine lv_aload_n hx hb d_Mdl_copy_30 rfl (lv_at hl 0 rfl) ?_
    refine x_gA C hH fl_Mdl_34 d_Mdl_copy_31 hp (fun v4 hp => ?_)
    refine lv_bipush (v := 30) hx hb d_Mdl_copy_34 (by decide) ?_
    refine lv_iload_n hx hb d_Mdl_copy_36 rfl (lv_at hl 2 rfl) ?_
    refine lv_imul hx hb d_Mdl_copy_37 ?_
    refine lv_iload_n hx hb d_Mdl_copy_38 rfl (lv_at hl 3 rfl) ?_
    refine lv_iadd hx hb d_Mdl_copy_39 ?_
    refine lv_aload_n hx hb d_Mdl_copy_40 rfl (lv_at hl 0 rfl) ?_
    refine x_gA C hH fl_Mdl_34 d_Mdl_copy_41 hp (fun v5 hp => ?_)
    refine lv_bipush (v := 30) hx hb d_Mdl_copy_44 (by decide) ?_
    refine lv_iload_n hx hb d_Mdl_copy_46 rfl (lv_at hl 1 rfl) ?_
    refine lv_imul hx hb d_Mdl_copy_47 ?_
    refine lv_iload_n hx hb d_Mdl_copy_48 rfl (lv_at hl 3 rfl) ?_
    refine lv_iadd hx hb d_Mdl_copy_49 ?_
    refine x_lI C hH d_Mdl_copy_50 hp (fun v6 hp => ?_)
    refine x_sI C hH d_Mdl_copy_51 hp (fun h H locs hp hH => ?_)
    refine lv_aload_n hx hb d_Mdl_copy_52 rfl (lv_at hl 0 rfl) ?_
    refine x_gA C hH fl_Mdl_37 d_Mdl_copy_53 hp (fun v7 hp => ?_)
    refine lv_bipush (v := 30) hx hb d_Mdl_copy_56 (by decide) ?_
    refine lv_iload_n hx hb d_Mdl_copy_58 rfl (lv_at hl 2 rfl) ?_
    refine lv_imul hx hb d_Mdl_copy_59 ?_
    refine lv_iload_n hx hb d_Mdl_copy_60 rfl (lv_at hl 3 rfl) ?_
    refine lv_iadd hx hb d_Mdl_copy_61 ?_
    refine lv_aload_n hx hb d_Mdl_copy_62 rfl (lv_at hl 0 rfl) ?_
    refine x_gA C hH fl_Mdl_37 d_Mdl_copy_63 hp (fun v8 hp => ?_)
    refine lv_bipush (v := 30) hx hb d_Mdl_copy_66 (by decide) ?_
    refine lv_iload_n hx hb d_Mdl_copy_68 rfl (lv_at hl 1 rfl) ?_
    refine lv_imul hx hb d_Mdl_copy_69 ?_
    refine lv_iload_n hx hb d_Mdl_copy_70 rfl (lv_at hl 3 rfl) ?_
    refine lv_iadd hx hb d_Mdl_copy_71 ?_
    refine x_lI C hH d_Mdl_copy_72 hp (fun v9 hp => ?_)
    refine x_sI C hH d_Mdl_copy_73 hp (fun h H locs hp hH => ?_)
    refine lv_aload_n hx hb d_Mdl_copy_74 rfl (lv_at hl 0 rfl) ?_
    refine x_gA C hH fl_Mdl_40 d_Mdl_copy_75 hp (fun v10 hp => ?_)
    refine lv_bipush (v := 30) hx hb d_Mdl_copy_78 (by decide) ?_
    refine lv_iload_n hx hb d_Mdl_copy_80 rfl (lv_at hl 2 rfl) ?_
    refine lv_imul hx hb d_Mdl_copy_81 ?_
    refine lv_iload_n hx hb d_Mdl_copy_82 rfl (lv_at hl 3 rfl) ?_
    refine lv_iadd hx hb d_Mdl_copy_83 ?_
    refine lv_aload_n hx hb d_Mdl_copy_84 rfl (lv_at hl 0 rfl) ?_
    refine x_gA C hH fl_Mdl_40 d_Mdl_copy_85 hp (fun v11 hp => ?_)
    refine lv_bipush (v := 30) hx hb d_Mdl_copy_88 (by decide) ?_
    refine lv_iload_n hx hb d_Mdl_copy_90 rfl (lv_at hl 1 rfl) ?_
    refine lv_imul hx hb d_Mdl_copy_91 ?_
    refine lv_iload_n hx hb d_Mdl_copy_92 rfl (lv_at hl 3 rfl) ?_
    refine lv_iadd hx hb d_Mdl_copy_93 ?_
    refine x_lI C hH d_Mdl_copy_94 hp (fun v12 hp => ?_)
    refine x_sI C hH d_Mdl_copy_95 hp (fun h H locs hp hH => ?_)
    refine lv_iinc (v := (l3 + 1)) (lv' := [(3, .int (l3 + 1)), (0, .ref l0), (1, .int l1), (2, .int l2)]) hx hb d_Mdl_copy_96 hl (k := 3) rfl rfl (by decide) rfl (fun ls hl => ?_)
    refine lv_goto (tgt := 2) hx hb d_Mdl_copy_99 (by decide) ?_
    exact hs2 l0 l1 l2 (l3 + 1) _ _ _ _ _ _ hp hH (lv_sub hl [1, 2, 3, 0] rfl)
theorem w_Mdl_copy_h2 {res : (Unit ⊕ (Nat × Nat)) × xH} (C : x_C l s0 A0 D R_Mdl prog_11_method_25_code 4 [] p s m args meth c) (hr : meth.sig.returnType = none) (hnm : meth.name = "copy") (hRf : 0 ≤ R.frames) (hRl : 0 ≤ R.locals)  : ∀ (n : Nat) (l0 : Nat) (l1 : Int32) (l2 : Int32) (l3 : Int32) (h : xH) (H : Heap) (locs : List Loc) (cells slots : Nat) (ls : Array Slot), f_Mdl_copy_h2 n l0 l1 l2 l3 h = some res → x_S s0 D R h H locs cells slots → lv_has ls 4 [(0, .ref l0), (1, .int l1), (2, .int l2), (3, .int l3)] → W p l e R s m args below meth c H locs cells slots (x_Q s0 D below s R (x_oc vU res.1) res.2) (F0 m 2 ls []) := by
  intro n
  induction n with
  | zero => intro l0 l1 l2 l3 h H locs cells slots ls hp hH hl; cases hp
  | succ n ih => intro l0 l1 l2 l3 h H locs cells slots ls hp hH hl; exact w_Mdl_copy_2 C hr hnm hRf hRl ih l0 l1 l2 l3 hp hH hl
set_option maxHeartbeats 4000000 in
set_option maxRecDepth 100000 in
theorem w_Mdl_copy_0 {res : (Unit ⊕ (Nat × Nat)) × xH} (C : x_C l s0 A0 D R_Mdl prog_11_method_25_code 4 [] p s m args meth c) (hr : meth.sig.returnType = none) (hnm : meth.name = "copy") (hRf : 0 ≤ R.frames) (hRl : 0 ≤ R.locals)  (l0 : Nat) (l1 : Int32) (l2 : Int32) (hp : f_Mdl_copy l0 l1 l2 h = some res) (hH : x_S s0 D R h H locs cells slots) (hl : lv_has ls 4 [(0, .ref l0), (1, .int l1), (2, .int l2)]) : W p l e R s m args below meth c H locs cells slots (x_Q s0 D below s R (x_oc vU res.1) res.2) (F0 m 0 ls []) := by
  obtain ⟨hx, hb, hown, hts, hK, hml, hW, Z, -⟩ := id C
  unfold f_Mdl_copy at hp
  refine lv_iconst (v := 0) hx hb d_Mdl_copy_0 (by decide) ?_
  refine lv_istore_n (lv' := [(3, .int 0), (0, .ref l0), (1, .int l1), (2, .int l2)]) hx hb d_Mdl_copy_1 rfl hl (by decide) rfl (fun ls hl => ?_)
  exact w_Mdl_copy_h2 C hr hnm hRf hRl  1000 l0 l1 l2 0 _ _ _ _ _ _ hp hH (lv_sub hl [1, 2, 3, 0] rfl)
set_option maxRecDepth 100000 in
theorem m_Mdl_copy (Z : x_Z l s0 A0 D) {l0 : Nat} {l1 : Int32} {l2 : Int32} {res : (Unit ⊕ (Nat × Nat)) × xH} (hp : f_Mdl_copy l0 l1 l2 h = some res) : x_M l s0 D y_Mdl_copy (x_cw y_Mdl_copy prog_11_method_25_code 4 none []) 0 0 [.ref l0, .int l1, .int l2] h (x_oc vU res.1) res.2 := by
  refine x_M.ofW Z (plainFor_of_name (by decide)) ?_
  intro p e s m below meth c C hnm hr hH
  have hl := lv_entry ([.ref l0, .int l1, .int l2]) (n := 4) (Nat.le_of_ble_eq_true rfl)
  rw [lg_entry_eq]
  generalize (lg_sl ([.ref l0, .int l1, .int l2]) ++ List.replicate (4 - (lg_sl ([.ref l0, .int l1, .int l2])).length) Slot.unset).toArray = ls at hl ⊢
  exact w_Mdl_copy_0 C hr hnm (Nat.le_refl _) (Nat.le_refl _) l0 l1 l2 hp hH hl
/-! ReadSideModel.sum(I)I -/
theorem d_Mdl_sum_0 : decode prog_11_method_26_code 0 = .ok (.aload_n 0, 1) := by decide +kernel
theorem d_Mdl_sum_1 : decode prog_11_method_26_code 1 = .ok (.getfield 53, 3) := by decide +kernel
theorem d_Mdl_sum_4 : decode prog_11_method_26_code 4 = .ok (.iconst 3, 1) := by decide +kernel
theorem d_Mdl_sum_5 : decode prog_11_method_26_code 5 = .ok (.iload_n 1, 1) := by decide +kernel
theorem d_Mdl_sum_6 : decode prog_11_method_26_code 6 = .ok (.imul, 1) := by decide +kernel
theorem d_Mdl_sum_7 : decode prog_11_method_26_code 7 = .ok (.iaload, 1) := by decide +kernel
theorem d_Mdl_sum_8 : decode prog_11_method_26_code 8 = .ok (.aload_n 0, 1) := by decide +kernel
theorem d_Mdl_sum_9 : decode prog_11_method_26_code 9 = .ok (.getfield 53, 3) := by decide +kernel
theorem d_Mdl_sum_12 : decode prog_11_method_26_code 12 = .ok (.iconst 3, 1) := by decide +kernel
theorem d_Mdl_sum_13 : decode prog_11_method_26_code 13 = .ok (.iload_n 1, 1) := by decide +kernel
theorem d_Mdl_sum_14 : decode prog_11_method_26_code 14 = .ok (.imul, 1) := by decide +kernel
theorem d_Mdl_sum_15 : decode prog_11_method_26_code 15 = .ok (.iconst 1, 1) := by decide +kernel
theorem d_Mdl_sum_16 : decode prog_11_method_26_code 16 = .ok (.iadd, 1) := by decide +kernel
theorem d_Mdl_sum_17 : decode prog_11_method_26_code 17 = .ok (.iaload, 1) := by decide +kernel
theorem d_Mdl_sum_18 : decode prog_11_method_26_code 18 = .ok (.iadd, 1) := by decide +kernel
theorem d_Mdl_sum_19 : decode prog_11_method_26_code 19 = .ok (.aload_n 0, 1) := by decide +kernel
theorem d_Mdl_sum_20 : decode prog_11_method_26_code 20 = .ok (.getfield 53, 3) := by decide +kernel
theorem d_Mdl_sum_23 : decode prog_11_method_26_code 23 = .ok (.iconst 3, 1) := by decide +kernel
theorem d_Mdl_sum_24 : decode prog_11_method_26_code 24 = .ok (.iload_n 1, 1) := by decide +kernel
theorem d_Mdl_sum_25 : decode prog_11_method_26_code 25 = .ok (.imul, 1) := by decide +kernel
theorem d_Mdl_sum_26 : decode prog_11_method_26_code 26 = .ok (.iconst 2, 1) := by decide +kernel
theorem d_Mdl_sum_27 : decode prog_11_method_26_code 27 = .ok (.iadd, 1) := by decide +kernel
theorem d_Mdl_sum_28 : decode prog_11_method_26_code 28 = .ok (.iaload, 1) := by decide +kernel
theorem d_Mdl_sum_29 : decode prog_11_method_26_code 29 = .ok (.iadd, 1) := by decide +kernel
theorem d_Mdl_sum_30 : decode prog_11_method_26_code 30 = .ok (.ireturn, 1) := by decide +kernel
set_option maxHeartbeats 4000000 in
set_option maxRecDepth 100000 in
theorem w_Mdl_sum_0 {res : (Int32 ⊕ (Nat × Nat)) × xH} (C : x_C l s0 A0 D R_Mdl prog_11_method_26_code 2 [] p s m args meth c) (hr : meth.sig.returnType = (some .int)) (hnm : meth.name = "sum") (hRf : 0 ≤ R.frames) (hRl : 0 ≤ R.locals)  (l0 : Nat) (l1 : Int32) (hp : f_Mdl_sum l0 l1 h = some res) (hH : x_S s0 D R h H locs cells slots) (hl : lv_has ls 2 [(0, .ref l0), (1, .int l1)]) : W p l e R s m args below meth c H locs cells slots (x_Q s0 D below s R (x_oc vI res.1) res.2) (F0 m 0 ls []) := by
  obtain ⟨hx, hb, hown, hts, hK, hml, hW, Z, -⟩ := id C
  unfold f_Mdl_sum at hp
  refine lv_aload_n hx hb d_Mdl_sum_0 rfl (lv_at hl 0 rfl) ?_
  refine x_gA C hH fl_Mdl_53 d_Mdl_sum_1 hp (fun v1 hp => ?_)
  refine lv_iconst (v := 3) hx hb d_Mdl_sum_4 (by decide) ?_
  refine lv_iload_n hx hb d_Mdl_sum_5 rfl (lv_at hl 1 rfl) ?_
  refine lv_imul hx hb d_Mdl_sum_6 ?_
  refine x_lI C hH d_Mdl_sum_7 hp (fun v2 hp => ?_)
  refine lv_aload_n hx hb d_Mdl_sum_8 rfl (lv_at hl 0 rfl) ?_
  refine x_gA C hH fl_Mdl_53 d_Mdl_sum_9 hp (fun v3 hp => ?_)
  refine lv_iconst (v := 3) hx hb d_Mdl_sum_12 (by decide) ?_
  refine lv_iload_n hx hb d_Mdl_sum_13 rfl (lv_at hl 1 rfl) ?_
  refine lv_imul hx hb d_Mdl_sum_14 ?_
  refine lv_iconst (v := 1) hx hb d_Mdl_sum_15 (by decide) ?_
  refine lv_iadd hx hb d_Mdl_sum_16 ?_
  refine x_lI C hH d_Mdl_sum_17 hp (fun v4 hp => ?_)
  refine lv_iadd hx hb d_Mdl_sum_18 ?_
  refine lv_aload_n hx hb d_Mdl_sum_19 rfl (lv_at hl 0 rfl) ?_
  refine x_gA C hH fl_Mdl_53 d_Mdl_sum_20 hp (fun v5 hp => ?_)
  refine lv_iconst (v := 3) hx hb d_Mdl_sum_23 (by decide) ?_
  refine lv_iload_n hx hb d_Mdl_sum_24 rfl (lv_at hl 1 rfl) ?_
  refine lv_imul hx hb d_Mdl_sum_25 ?_
  refine lv_iconst (v := 2) hx hb d_Mdl_sum_26 (by decide) ?_
  refine lv_iadd hx hb d_Mdl_sum_27 ?_
  refine x_lI C hH d_Mdl_sum_28 hp (fun v6 hp => ?_)
  refine lv_iadd hx hb d_Mdl_sum_29 ?_
  exact x_iret C hH hr d_Mdl_sum_30 hp
set_option maxRecDepth 100000 in
theorem m_Mdl_sum (Z : x_Z l s0 A0 D) {l0 : Nat} {l1 : Int32} {res : (Int32 ⊕ (Nat × Nat)) × xH} (hp : f_Mdl_sum l0 l1 h = some res) : x_M l s0 D y_Mdl_sum (x_cw y_Mdl_sum prog_11_method_26_code 2 (some .int) []) 0 0 [.ref l0, .int l1] h (x_oc vI res.1) res.2 := by
  refine x_M.ofW Z (plainFor_of_name (by decide)) ?_
  intro p e s m below meth c C hnm hr hH
  have hl := lv_entry ([.ref l0, .int l1]) (n := 2) (Nat.le_of_ble_eq_true rfl)
  rw [lg_entry_eq]
  generalize (lg_sl ([.ref l0, .int l1]) ++ List.replicate (2 - (lg_sl ([.ref l0, .int l1])).length) Slot.unset).toArray = ls at hl ⊢
  exact w_Mdl_sum_0 C hr hnm (Nat.le_refl _) (Nat.le_refl _) l0 l1 hp hH hl
/-! ReadSideModel.snapshot(I)I -/
theorem d_Mdl_snapshot_0 : decode prog_11_method_27_code 0 = .ok (.aload_n 0, 1) := by decide +kernel
theorem d_Mdl_snapshot_1 : decode prog_11_method_27_code 1 = .ok (.aload_n 0, 1) := by decide +kernel
theorem d_Mdl_snapshot_2 : decode prog_11_method_27_code 2 = .ok (.iload_n 1, 1) := by decide +kernel
theorem d_Mdl_snapshot_3 : decode prog_11_method_27_code 3 = .ok (.invokevirtual 162, 3) := by decide +kernel
theorem d_Mdl_snapshot_6 : decode prog_11_method_27_code 6 = .ok (.ifCond .eq 7, 3) := by decide +kernel
theorem d_Mdl_snapshot_9 : decode prog_11_method_27_code 9 = .ok (.iconst 0, 1) := by decide +kernel
theorem d_Mdl_snapshot_10 : decode prog_11_method_27_code 10 = .ok (.goto 4, 3) := by decide +kernel
theorem d_Mdl_snapshot_13 : decode prog_11_method_27_code 13 = .ok (.iconst 1, 1) := by decide +kernel
theorem d_Mdl_snapshot_14 : decode prog_11_method_27_code 14 = .ok (.putfield 121, 3) := by decide +kernel
theorem d_Mdl_snapshot_17 : decode prog_11_method_27_code 17 = .ok (.aload_n 0, 1) := by decide +kernel
theorem d_Mdl_snapshot_18 : decode prog_11_method_27_code 18 = .ok (.getfield 121, 3) := by decide +kernel
theorem d_Mdl_snapshot_21 : decode prog_11_method_27_code 21 = .ok (.ifCond .le 5, 3) := by decide +kernel
theorem d_Mdl_snapshot_24 : decode prog_11_method_27_code 24 = .ok (.iconst 0, 1) := by decide +kernel
theorem d_Mdl_snapshot_25 : decode prog_11_method_27_code 25 = .ok (.ireturn, 1) := by decide +kernel
theorem d_Mdl_snapshot_26 : decode prog_11_method_27_code 26 = .ok (.aload_n 0, 1) := by decide +kernel
theorem d_Mdl_snapshot_27 : decode prog_11_method_27_code 27 = .ok (.iload_n 1, 1) := by decide +kernel
theorem d_Mdl_snapshot_28 : decode prog_11_method_27_code 28 = .ok (.iconst 4, 1) := by decide +kernel
theorem d_Mdl_snapshot_29 : decode prog_11_method_27_code 29 = .ok (.iload_n 1, 1) := by decide +kernel
theorem d_Mdl_snapshot_30 : decode prog_11_method_27_code 30 = .ok (.iadd, 1) := by decide +kernel
theorem d_Mdl_snapshot_31 : decode prog_11_method_27_code 31 = .ok (.invokevirtual 216, 3) := by decide +kernel
theorem d_Mdl_snapshot_34 : decode prog_11_method_27_code 34 = .ok (.aload_n 0, 1) := by decide +kernel
theorem d_Mdl_snapshot_35 : decode prog_11_method_27_code 35 = .ok (.iload_n 1, 1) := by decide +kernel
theorem d_Mdl_snapshot_36 : decode prog_11_method_27_code 36 = .ok (.invokevirtual 219, 3) := by decide +kernel
theorem d_Mdl_snapshot_39 : decode prog_11_method_27_code 39 = .ok (.ireturn, 1) := by decide +kernel
set_option maxHeartbeats 4000000 in
set_option maxRecDepth 100000 in
theorem w_Mdl_snapshot_14 {res : (Int32 ⊕ (Nat × Nat)) × xH} (C : x_C l s0 A0 D R_Mdl prog_11_method_27_code 2 [] p s m args meth c) (hr : meth.sig.returnType = (some .int)) (hnm : meth.name = "snapshot") (hRf : 2 ≤ R.frames) (hRl : 62 ≤ R.locals)  (l0 : Nat) (l1 : Int32) (t0 : Int32) (t1 : Nat) (hp : f_Mdl_snapshot_b14 l0 l1 t0 t1 h = some res) (hH : x_S s0 D R h H locs cells slots) (hl : lv_has ls 2 [(0, .ref l0), (1, .int l1)]) : W p l e R s m args below meth c H locs cells slots (x_Q s0 D below s R (x_oc vI res.1) res.2) (F0 m 14 ls [.int t0, .ref t1]) := by
  obtain ⟨hx, hb, hown, hts, hK, hml, hW, Z, -⟩ := id C
  unfold f_Mdl_snapshot_b14 at hp
  refine x_pV C hH fp_Mdl_121 (fun h => Bool.noConfusion h) d_Mdl_snapshot_14 rfl rfl hp (fun h H locs hp hH => ?_)
  refine lv_aload_n hx hb d_Mdl_snapshot_17 rfl (lv_at hl 0 rfl) ?_
  refine x_gI C hH fl_Mdl_121 d_Mdl_snapshot_18 hp (fun v1 hp => ?_)
  refine lv_if_le (tgt := 26) hx hb d_Mdl_snapshot_21 (by decide) (fun hc => ?_) (fun hc => ?_)
  · replace hp := x_ifp hc hp
    refine lv_aload_n hx hb d_Mdl_snapshot_26 rfl (lv_at hl 0 rfl) ?_
    refine lv_iload_n hx hb d_Mdl_snapshot_27 rfl (lv_at hl 1 rfl) ?_
    refine lv_iconst (v := 4) hx hb d_Mdl_snapshot_28 (by decide) ?_
    refine lv_iload_n hx hb d_Mdl_snapshot_29 rfl (lv_at hl 1 rfl) ?_
    refine lv_iadd hx hb d_Mdl_snapshot_30 ?_
    refine x_callV (As := [.int l1, .int (4 + l1)]) (rest := []) (cv := vU) C hH kc_Mdl_216 d_Mdl_snapshot_31 hp (fun o h' e => m_Mdl_copy Z e) rfl hl.1 (Nat.le_trans (Nat.le_of_ble_eq_true rfl) hRf) (Nat.le_trans (Nat.le_of_ble_eq_true rfl) hRl) (Nat.le_of_ble_eq_true rfl) (fun v2 h H locs cells slots hp hH => ?_)
    refine W.eq (g2 := F0 m 34 ls []) rfl ?_
    refine lv_aload_n hx hb d_Mdl_snapshot_34 rfl (lv_at hl 0 rfl) ?_
    refine lv_iload_n hx hb d_Mdl_snapshot_35 rfl (lv_at hl 1 rfl) ?_
    refine x_callV (As := [.int l1]) (rest := []) (cv := vI) C hH kc_Mdl_219 d_Mdl_snapshot_36 hp (fun o h' e => m_Mdl_sum Z e) rfl hl.1 (Nat.le_trans (Nat.le_of_ble_eq_true rfl) hRf) (Nat.le_trans (Nat.le_of_ble_eq_true rfl) hRl) (Nat.le_of_ble_eq_true rfl) (fun v3 h H locs cells slots hp hH => ?_)
    refine W.eq (g2 := F0 m 39 ls [.int v3]) rfl ?_
    exact x_iret C hH hr d_Mdl_snapshot_39 hp
  · replace hp := x_ifn hc hp
    refine lv_iconst (v := 0) hx hb d_Mdl_snapshot_24 (by decide) ?_
    exact x_iret C hH hr d_Mdl_snapshot_25 hp
set_option maxHeartbeats 4000000 in
set_option maxRecDepth 100000 in
theorem w_Mdl_snapshot_0 {res : (Int32 ⊕ (Nat × Nat)) × xH} (C : x_C l s0 A0 D R_Mdl prog_11_method_27_code 2 [] p s m args meth c) (hr : meth.sig.returnType = (some .int)) (hnm : meth.name = "snapshot") (hRf : 2 ≤ R.frames) (hRl : 62 ≤ R.locals)  (l0 : Nat) (l1 : Int32) (hp : f_Mdl_snapshot l0 l1 h = some res) (hH : x_S s0 D R h H locs cells slots) (hl : lv_has ls 2 [(0, .ref l0), (1, .int l1)]) : W p l e R s m args below meth c H locs cells slots (x_Q s0 D below s R (x_oc vI res.1) res.2) (F0 m 0 ls []) := by
  obtain ⟨hx, hb, hown, hts, hK, hml, hW, Z, -⟩ := id C
  unfold f_Mdl_snapshot at hp
  refine lv_aload_n hx hb d_Mdl_snapshot_0 rfl (lv_at hl 0 rfl) ?_
  refine lv_aload_n hx hb d_Mdl_snapshot_1 rfl (lv_at hl 0 rfl) ?_
  refine lv_iload_n hx hb d_Mdl_snapshot_2 rfl (lv_at hl 1 rfl) ?_
  refine x_callV (As := [.int l1]) (rest := [.ref l0]) (cv := vI) C hH kc_Mdl_162 d_Mdl_snapshot_3 hp (fun o h' e => m_Mdl_isReplica Z e) rfl hl.1 (Nat.le_trans (Nat.le_of_ble_eq_true rfl) hRf) (Nat.le_trans (Nat.le_of_ble_eq_true rfl) hRl) (Nat.le_of_ble_eq_true rfl) (fun v1 h H locs cells slots hp hH => ?_)
  refine W.eq (g2 := F0 m 6 ls [.int v1, .ref l0]) rfl ?_
  refine lv_if_eq (tgt := 13) hx hb d_Mdl_snapshot_6 (by decide) (fun hc => ?_) (fun hc => ?_)
  · replace hp := x_ifp hc hp
    refine lv_iconst (v := 1) hx hb d_Mdl_snapshot_13 (by decide) ?_
    exact w_Mdl_snapshot_14 C hr hnm hRf hRl  l0 l1 1 l0 hp hH (lv_sub hl [0, 1] rfl)
  · replace hp := x_ifn hc hp
    refine lv_iconst (v := 0) hx hb d_Mdl_snapshot_9 (by decide) ?_
    refine lv_goto (tgt := 14) hx hb d_Mdl_snapshot_10 (by decide) ?_
    exact w_Mdl_snapshot_14 C hr hnm hRf hRl  l0 l1 0 l0 hp hH (lv_sub hl [0, 1] rfl)
set_option maxRecDepth 100000 in
theorem m_Mdl_snapshot (Z : x_Z l s0 A0 D) {l0 : Nat} {l1 : Int32} {res : (Int32 ⊕ (Nat × Nat)) × xH} (hp : f_Mdl_snapshot l0 l1 h = some res) : x_M l s0 D y_Mdl_snapshot (x_cw y_Mdl_snapshot prog_11_method_27_code 2 (some .int) []) 2 62 [.ref l0, .int l1] h (x_oc vI res.1) res.2 := by
  refine x_M.ofW Z (plainFor_of_name (by decide)) ?_
  intro p e s m below meth c C hnm hr hH
  have hl := lv_entry ([.ref l0, .int l1]) (n := 2) (Nat.le_of_ble_eq_true rfl)
  rw [lg_entry_eq]
  generalize (lg_sl ([.ref l0, .int l1]) ++ List.replicate (2 - (lg_sl ([.ref l0, .int l1])).length) Slot.unset).toArray = ls at hl ⊢
  exact w_Mdl_snapshot_0 C hr hnm (Nat.le_refl _) (Nat.le_refl _) l0 l1 hp hH hl
/-! ReadSideModel.crash(I)I -/
theorem d_Mdl_crash_0 : decode prog_11_method_28_code 0 = .ok (.aload_n 0, 1) := by decide +kernel
theorem d_Mdl_crash_1 : decode prog_11_method_28_code 1 = .ok (.aload_n 0, 1) := by decide +kernel
theorem d_Mdl_crash_2 : decode prog_11_method_28_code 2 = .ok (.iload_n 1, 1) := by decide +kernel
theorem d_Mdl_crash_3 : decode prog_11_method_28_code 3 = .ok (.invokevirtual 162, 3) := by decide +kernel
theorem d_Mdl_crash_6 : decode prog_11_method_28_code 6 = .ok (.ifCond .eq 7, 3) := by decide +kernel
theorem d_Mdl_crash_9 : decode prog_11_method_28_code 9 = .ok (.iconst 0, 1) := by decide +kernel
theorem d_Mdl_crash_10 : decode prog_11_method_28_code 10 = .ok (.goto 4, 3) := by decide +kernel
theorem d_Mdl_crash_13 : decode prog_11_method_28_code 13 = .ok (.iconst 1, 1) := by decide +kernel
theorem d_Mdl_crash_14 : decode prog_11_method_28_code 14 = .ok (.putfield 121, 3) := by decide +kernel
theorem d_Mdl_crash_17 : decode prog_11_method_28_code 17 = .ok (.aload_n 0, 1) := by decide +kernel
theorem d_Mdl_crash_18 : decode prog_11_method_28_code 18 = .ok (.getfield 121, 3) := by decide +kernel
theorem d_Mdl_crash_21 : decode prog_11_method_28_code 21 = .ok (.ifCond .le 5, 3) := by decide +kernel
theorem d_Mdl_crash_24 : decode prog_11_method_28_code 24 = .ok (.iconst 0, 1) := by decide +kernel
theorem d_Mdl_crash_25 : decode prog_11_method_28_code 25 = .ok (.ireturn, 1) := by decide +kernel
theorem d_Mdl_crash_26 : decode prog_11_method_28_code 26 = .ok (.aload_n 0, 1) := by decide +kernel
theorem d_Mdl_crash_27 : decode prog_11_method_28_code 27 = .ok (.iload_n 1, 1) := by decide +kernel
theorem d_Mdl_crash_28 : decode prog_11_method_28_code 28 = .ok (.invokevirtual 219, 3) := by decide +kernel
theorem d_Mdl_crash_31 : decode prog_11_method_28_code 31 = .ok (.aload_n 0, 1) := by decide +kernel
theorem d_Mdl_crash_32 : decode prog_11_method_28_code 32 = .ok (.iconst 4, 1) := by decide +kernel
theorem d_Mdl_crash_33 : decode prog_11_method_28_code 33 = .ok (.iload_n 1, 1) := by decide +kernel
theorem d_Mdl_crash_34 : decode prog_11_method_28_code 34 = .ok (.iadd, 1) := by decide +kernel
theorem d_Mdl_crash_35 : decode prog_11_method_28_code 35 = .ok (.invokevirtual 219, 3) := by decide +kernel
theorem d_Mdl_crash_38 : decode prog_11_method_28_code 38 = .ok (.isub, 1) := by decide +kernel
theorem d_Mdl_crash_39 : decode prog_11_method_28_code 39 = .ok (.istore_n 2, 1) := by decide +kernel
theorem d_Mdl_crash_40 : decode prog_11_method_28_code 40 = .ok (.aload_n 0, 1) := by decide +kernel
theorem d_Mdl_crash_41 : decode prog_11_method_28_code 41 = .ok (.iconst 4, 1) := by decide +kernel
theorem d_Mdl_crash_42 : decode prog_11_method_28_code 42 = .ok (.iload_n 1, 1) := by decide +kernel
theorem d_Mdl_crash_43 : decode prog_11_method_28_code 43 = .ok (.iadd, 1) := by decide +kernel
theorem d_Mdl_crash_44 : decode prog_11_method_28_code 44 = .ok (.iload_n 1, 1) := by decide +kernel
theorem d_Mdl_crash_45 : decode prog_11_method_28_code 45 = .ok (.invokevirtual 216, 3) := by decide +kernel
theorem d_Mdl_crash_48 : decode prog_11_method_28_code 48 = .ok (.iload_n 2, 1) := by decide +kernel
theorem d_Mdl_crash_49 : decode prog_11_method_28_code 49 = .ok (.ireturn, 1) := by decide +kernel
set_option maxHeartbeats 4000000 in
set_option maxRecDepth 100000 in
theorem w_Mdl_crash_14 {res : (Int32 ⊕ (Nat × Nat)) × xH} (C : x_C l s0 A0 D R_Mdl prog_11_method_28_code 3 [] p s m args meth c) (hr : meth.sig.returnType = (some .int)) (hnm : meth.name = "crash") (hRf : 2 ≤ R.frames) (hRl : 62 ≤ R.locals)  (l0 : Nat) (l1 : Int32) (t0 : Int32) (t1 : Nat) (hp : f_Mdl_crash_b14 l0 l1 t0 t1 h = some res) (hH : x_S s0 D R h H locs cells slots) (hl : lv_has ls 3 [(0, .ref l0), (1, .int l1)]) : W p l e R s m args below meth c H locs cells slots (x_Q s0 D below s R (x_oc vI res.1) res.2) (F0 m 14 ls [.int t0, .ref t1]) := by
  obtain ⟨hx, hb, hown, hts, hK, hml, hW, Z, -⟩ := id C
  unfold f_Mdl_crash_b14 at hp
  refine x_pV C hH fp_Mdl_121 (fun h => Bool.noConfusion h) d_Mdl_crash_14 rfl rfl hp (fun h H locs hp hH => ?_)
  refine lv_aload_n hx hb d_Mdl_crash_17 rfl (lv_at hl 0 rfl) ?_
  refine x_gI C hH fl_Mdl_121 d_Mdl_crash_18 hp (fun v1 hp => ?_)
  refine lv_if_le (tgt := 26) hx hb d_Mdl_crash_21 (by decide) (fun hc => ?_) (fun hc => ?_)
  · replace hp := x_ifp hc hp
    refine lv_aload_n hx hb d_Mdl_crash_26 rfl (lv_at hl 0 rfl) ?_
    refine lv_iload_n hx hb d_Mdl_crash_27 rfl (lv_at hl 1 rfl) ?_
    refine x_callV (As := [.int l1]) (rest := []) (cv := vI) C hH kc_Mdl_219 d_Mdl_crash_28 hp (fun o h' e => m_Mdl_sum Z e) rfl hl.1 (Nat.le_trans (Nat.le_of_ble_eq_true rfl) hRf) (Nat.le_trans (Nat.le_of_ble_eq_true rfl) hRl) (Nat.le_of_ble_eq_true rfl) (fun v2 h H locs cells slots hp hH => ?_)
    refine W.eq (g2 := F0 m 31 ls [.int v2]) rfl ?_
    refine lv_aload_n hx hb d_Mdl_crash_31 rfl (lv_at hl 0 rfl) ?_
    refine lv_iconst (v := 4) hx hb d_Mdl_crash_32 (by decide) ?_
    refine lv_iload_n hx hb d_Mdl_crash_33 rfl (lv_at hl 1 rfl) ?_
    refine lv_iadd hx hb d_Mdl_crash_34 ?_
    refine x_callV (As := [.int (4 + l1)]) (rest := [.int v2]) (cv := vI) C hH kc_Mdl_219 d_Mdl_crash_35 hp (fun o h' e => m_Mdl_sum Z e) rfl hl.1 (Nat.le_trans (Nat.le_of_ble_eq_true rfl) hRf) (Nat.le_trans (Nat.le_of_ble_eq_true rfl) hRl) (Nat.le_of_ble_eq_true rfl) (fun v3 h H locs cells slots hp hH => ?_)
    refine W.eq (g2 := F0 m 38 ls [.int v3, .int v2]) rfl ?_
    refine lv_isub hx hb d_Mdl_crash_38 ?_
    refine lv_istore_n (lv' := [(2, .int (v2 - v3)), (0, .ref l0), (1, .int l1)]) hx hb d_Mdl_crash_39 rfl hl (by decide) rfl (fun ls hl => ?_)
    refine lv_aload_n hx hb d_Mdl_crash_40 rfl (lv_at hl 1 rfl) ?_
    refine lv_iconst (v := 4) hx hb d_Mdl_crash_41 (by decide) ?_
    refine lv_iload_n hx hb d_Mdl_crash_42 rfl (lv_at hl 2 rfl) ?_
    refine lv_iadd hx hb d_Mdl_crash_43 ?_
    refine lv_iload_n hx hb d_Mdl_crash_44 rfl (lv_at hl 2 rfl) ?_
    refine x_callV (As := [.int (4 + l1), .int l1]) (rest := []) (cv := vU) C hH kc_Mdl_216 d_Mdl_crash_45 hp (fun o h' e => m_Mdl_copy Z e) rfl hl.1 (Nat.le_trans (Nat.le_of_ble_eq_true rfl) hRf) (Nat.le_trans (Nat.le_of_ble_eq_true rfl) hRl) (Nat.le_of_ble_eq_true rfl) (fun v4 h H locs cells slots hp hH => ?_)
    refine W.eq (g2 := F0 m 48 ls []) rfl ?_
    refine lv_iload_n hx hb d_Mdl_crash_48 rfl (lv_at hl 0 rfl) ?_
    exact x_iret C hH hr d_Mdl_crash_49 hp
  · replace hp := x_ifn hc hp
    refine lv_iconst (v := 0) hx hb d_Mdl_crash_24 (by decide) ?_
    exact x_iret C hH hr d_Mdl_crash_25 hp
set_option maxHeartbeats 4000000 in
set_option maxRecDepth 100000 in
theorem w_Mdl_crash_0 {res : (Int32 ⊕ (Nat × Nat)) × xH} (C : x_C l s0 A0 D R_Mdl prog_11_method_28_code 3 [] p s m args meth c) (hr : meth.sig.returnType = (some .int)) (hnm : meth.name = "crash") (hRf : 2 ≤ R.frames) (hRl : 62 ≤ R.locals)  (l0 : Nat) (l1 : Int32) (hp : f_Mdl_crash l0 l1 h = some res) (hH : x_S s0 D R h H locs cells slots) (hl : lv_has ls 3 [(0, .ref l0), (1, .int l1)]) : W p l e R s m args below meth c H locs cells slots (x_Q s0 D below s R (x_oc vI res.1) res.2) (F0 m 0 ls []) := by
  obtain ⟨hx, hb, hown, hts, hK, hml, hW, Z, -⟩ := id C
  unfold f_Mdl_crash at hp
  refine lv_aload_n hx hb d_Mdl_crash_0 rfl (lv_at hl 0 rfl) ?_
  refine lv_aload_n hx hb d_Mdl_crash_1 rfl (lv_at hl 0 rfl) ?_
  refine lv_iload_n hx hb d_Mdl_crash_2 rfl (lv_at hl 1 rfl) ?_
  refine x_callV (As := [.int l1]) (rest := [.ref l0]) (cv := vI) C hH kc_Mdl_162 d_Mdl_crash_3 hp (fun o h' e => m_Mdl_isReplica Z e) rfl hl.1 (Nat.le_trans (Nat.le_of_ble_eq_true rfl) hRf) (Nat.le_trans (Nat.le_of_ble_eq_true rfl) hRl) (Nat.le_of_ble_eq_true rfl) (fun v1 h H locs cells slots hp hH => ?_)
  refine W.eq (g2 := F0 m 6 ls [.int v1, .ref l0]) rfl ?_
  refine lv_if_eq (tgt := 13) hx hb d_Mdl_crash_6 (by decide) (fun hc => ?_) (fun hc => ?_)
  · replace hp := x_ifp hc hp
    refine lv_iconst (v := 1) hx hb d_Mdl_crash_13 (by decide) ?_
    exact w_Mdl_crash_14 C hr hnm hRf hRl  l0 l1 1 l0 hp hH (lv_sub hl [0, 1] rfl)
  · replace hp := x_ifn hc hp
    refine lv_iconst (v := 0) hx hb d_Mdl_crash_9 (by decide) ?_
    refine lv_goto (tgt := 14) hx hb d_Mdl_crash_10 (by decide) ?_
    exact w_Mdl_crash_14 C hr hnm hRf hRl  l0 l1 0 l0 hp hH (lv_sub hl [0, 1] rfl)
set_option maxRecDepth 100000 in
theorem m_Mdl_crash (Z : x_Z l s0 A0 D) {l0 : Nat} {l1 : Int32} {res : (Int32 ⊕ (Nat × Nat)) × xH} (hp : f_Mdl_crash l0 l1 h = some res) : x_M l s0 D y_Mdl_crash (x_cw y_Mdl_crash prog_11_method_28_code 3 (some .int) []) 2 62 [.ref l0, .int l1] h (x_oc vI res.1) res.2 := by
  refine x_M.ofW Z (plainFor_of_name (by decide)) ?_
  intro p e s m below meth c C hnm hr hH
  have hl := lv_entry ([.ref l0, .int l1]) (n := 3) (Nat.le_of_ble_eq_true rfl)
  rw [lg_entry_eq]
  generalize (lg_sl ([.ref l0, .int l1]) ++ List.replicate (3 - (lg_sl ([.ref l0, .int l1])).length) Slot.unset).toArray = ls at hl ⊢
  exact w_Mdl_crash_0 C hr hnm (Nat.le_refl _) (Nat.le_refl _) l0 l1 hp hH hl
/-! ReadSideModel.trim()I -/
theorem d_Mdl_trim_0 : decode prog_11_method_29_code 0 = .ok (.aload_n 0, 1) := by decide +kernel
theorem d_Mdl_trim_1 : decode prog_11_method_29_code 1 = .ok (.iconst 0, 1) := by decide +kernel
theorem d_Mdl_trim_2 : decode prog_11_method_29_code 2 = .ok (.putfield 121, 3) := by decide +kernel
theorem d_Mdl_trim_5 : decode prog_11_method_29_code 5 = .ok (.iconst 0, 1) := by decide +kernel
theorem d_Mdl_trim_6 : decode prog_11_method_29_code 6 = .ok (.istore_n 1, 1) := by decide +kernel
theorem d_Mdl_trim_7 : decode prog_11_method_29_code 7 = .ok (.iconst 0, 1) := by decide +kernel
theorem d_Mdl_trim_8 : decode prog_11_method_29_code 8 = .ok (.istore_n 2, 1) := by decide +kernel
theorem d_Mdl_trim_9 : decode prog_11_method_29_code 9 = .ok (.iload_n 2, 1) := by decide +kernel
theorem d_Mdl_trim_10 : decode prog_11_method_29_code 10 = .ok (.aload_n 0, 1) := by decide +kernel
theorem d_Mdl_trim_11 : decode prog_11_method_29_code 11 = .ok (.getfield 114, 3) := by decide +kernel
theorem d_Mdl_trim_14 : decode prog_11_method_29_code 14 = .ok (.if_icmp .ge 67, 3) := by decide +kernel
theorem d_Mdl_trim_17 : decode prog_11_method_29_code 17 = .ok (.sipush 400, 3) := by decide +kernel
theorem d_Mdl_trim_20 : decode prog_11_method_29_code 20 = .ok (.istore_n 3, 1) := by decide +kernel
theorem d_Mdl_trim_21 : decode prog_11_method_29_code 21 = .ok (.iconst 0, 1) := by decide +kernel
theorem d_Mdl_trim_22 : decode prog_11_method_29_code 22 = .ok (.istore 4, 2) := by decide +kernel
theorem d_Mdl_trim_24 : decode prog_11_method_29_code 24 = .ok (.iload 4, 2) := by decide +kernel
theorem d_Mdl_trim_26 : decode prog_11_method_29_code 26 = .ok (.aload_n 0, 1) := by decide +kernel
theorem d_Mdl_trim_27 : decode prog_11_method_29_code 27 = .ok (.getfield 118, 3) := by decide +kernel
theorem d_Mdl_trim_30 : decode prog_11_method_29_code 30 = .ok (.if_icmp .ge 27, 3) := by decide +kernel
theorem d_Mdl_trim_33 : decode prog_11_method_29_code 33 = .ok (.iload_n 3, 1) := by decide +kernel
theorem d_Mdl_trim_34 : decode prog_11_method_29_code 34 = .ok (.aload_n 0, 1) := by decide +kernel
theorem d_Mdl_trim_35 : decode prog_11_method_29_code 35 = .ok (.getfield 53, 3) := by decide +kernel
theorem d_Mdl_trim_38 : decode prog_11_method_29_code 38 = .ok (.iconst 3, 1) := by decide +kernel
theorem d_Mdl_trim_39 : decode prog_11_method_29_code 39 = .ok (.iconst 4, 1) := by decide +kernel
theorem d_Mdl_trim_40 : decode prog_11_method_29_code 40 = .ok (.iload 4, 2) := by decide +kernel
theorem d_Mdl_trim_42 : decode prog_11_method_29_code 42 = .ok (.iadd, 1) := by decide +kernel
theorem d_Mdl_trim_43 : decode prog_11_method_29_code 43 = .ok (.imul, 1) := by decide +kernel
theorem d_Mdl_trim_44 : decode prog_11_method_29_code 44 = .ok (.iload_n 2, 1) := by decide +kernel
theorem d_Mdl_trim_45 : decode prog_11_method_29_code 45 = .ok (.iadd, 1) := by decide +kernel
theorem d_Mdl_trim_46 : decode prog_11_method_29_code 46 = .ok (.iaload, 1) := by decide +kernel
theorem d_Mdl_trim_47 : decode prog_11_method_29_code 47 = .ok (.invokestatic 182, 3) := by decide +kernel
theorem d_Mdl_trim_50 : decode prog_11_method_29_code 50 = .ok (.istore_n 3, 1) := by decide +kernel
theorem d_Mdl_trim_51 : decode prog_11_method_29_code 51 = .ok (.iinc 4 1, 3) := by decide +kernel
theorem d_Mdl_trim_54 : decode prog_11_method_29_code 54 = .ok (.goto (-30), 3) := by decide +kernel
theorem d_Mdl_trim_57 : decode prog_11_method_29_code 57 = .ok (.iload_n 1, 1) := by decide +kernel
theorem d_Mdl_trim_58 : decode prog_11_method_29_code 58 = .ok (.iload_n 3, 1) := by decide +kernel
theorem d_Mdl_trim_59 : decode prog_11_method_29_code 59 = .ok (.aload_n 0, 1) := by decide +kernel
theorem d_Mdl_trim_60 : decode prog_11_method_29_code 60 = .ok (.getfield 13, 3) := by decide +kernel
theorem d_Mdl_trim_63 : decode prog_11_method_29_code 63 = .ok (.iload_n 2, 1) := by decide +kernel
theorem d_Mdl_trim_64 : decode prog_11_method_29_code 64 = .ok (.iaload, 1) := by decide +kernel
theorem d_Mdl_trim_65 : decode prog_11_method_29_code 65 = .ok (.isub, 1) := by decide +kernel
theorem d_Mdl_trim_66 : decode prog_11_method_29_code 66 = .ok (.iadd, 1) := by decide +kernel
theorem d_Mdl_trim_67 : decode prog_11_method_29_code 67 = .ok (.istore_n 1, 1) := by decide +kernel
theorem d_Mdl_trim_68 : decode prog_11_method_29_code 68 = .ok (.aload_n 0, 1) := by decide +kernel
theorem d_Mdl_trim_69 : decode prog_11_method_29_code 69 = .ok (.getfield 13, 3) := by decide +kernel
theorem d_Mdl_trim_72 : decode prog_11_method_29_code 72 = .ok (.iload_n 2, 1) := by decide +kernel
theorem d_Mdl_trim_73 : decode prog_11_method_29_code 73 = .ok (.iload_n 3, 1) := by decide +kernel
theorem d_Mdl_trim_74 : decode prog_11_method_29_code 74 = .ok (.iastore, 1) := by decide +kernel
theorem d_Mdl_trim_75 : decode prog_11_method_29_code 75 = .ok (.iinc 2 1, 3) := by decide +kernel
theorem d_Mdl_trim_78 : decode prog_11_method_29_code 78 = .ok (.goto (-69), 3) := by decide +kernel
theorem d_Mdl_trim_81 : decode prog_11_method_29_code 81 = .ok (.iload_n 1, 1) := by decide +kernel
theorem d_Mdl_trim_82 : decode prog_11_method_29_code 82 = .ok (.ireturn, 1) := by decide +kernel
set_option maxHeartbeats 4000000 in
set_option maxRecDepth 100000 in
theorem w_Mdl_trim_24 {res : (Int32 ⊕ (Nat × Nat)) × xH} (C : x_C l s0 A0 D R_Mdl prog_11_method_29_code 5 [] p s m args meth c) (hr : meth.sig.returnType = (some .int)) (hnm : meth.name = "trim") (hRf : 1 ≤ R.frames) (hRl : 29 ≤ R.locals) {k9 : Nat → Int32 → Int32 → xM Int32} (hs9 : ∀ (l0 : Nat) (l1 : Int32) (l2 : Int32) (h : xH) (H : Heap) (locs : List Loc) (cells slots : Nat) (ls : Array Slot), k9 l0 l1 l2 h = some res → x_S s0 D R h H locs cells slots → lv_has ls 5 [(0, .ref l0), (1, .int l1), (2, .int l2)] → W p l e R s m args below meth c H locs cells slots (x_Q s0 D below s R (x_oc vI res.1) res.2) (F0 m 9 ls [])) {k24 : Nat → Int32 → Int32 → Int32 → Int32 → xM Int32} (hs24 : ∀ (l0 : Nat) (l1 : Int32) (l2 : Int32) (l3 : Int32) (l4 : Int32) (h : xH) (H : Heap) (locs : List Loc) (cells slots : Nat) (ls : Array Slot), k24 l0 l1 l2 l3 l4 h = some res → x_S s0 D R h H locs cells slots → lv_has ls 5 [(0, .ref l0), (1, .int l1), (2, .int l2), (3, .int l3), (4, .int l4)] → W p l e R s m args below meth c H locs cells slots (x_Q s0 D below s R (x_oc vI res.1) res.2) (F0 m 24 ls [])) (l0 : Nat) (l1 : Int32) (l2 : Int32) (l3 : Int32) (l4 : Int32) (hp : f_Mdl_trim_b24 k9 k24 l0 l1 l2 l3 l4 h = some res) (hH : x_S s0 D R h H locs cells slots) (hl : lv_has ls 5 [(0, .ref l0), (1, .int l1), (2, .int l2), (3, .int l3), (4, .int l4)]) : W p l e R s m args below meth c H locs cells slots (x_Q s0 D below s R (x_oc vI res.1) res.2) (F0 m 24 ls []) := by
  obtain ⟨hx, hb, hown, hts, hK, hml, hW, Z, -⟩ := id C
  unfold f_Mdl_trim_b24 at hp
  refine lv_iload hx hb d_Mdl_trim_24 (lv_at hl 4 rfl) ?_
  refine lv_aload_n hx hb d_Mdl_trim_26 rfl (lv_at hl 0 rfl) ?_
  refine x_gI C hH fl_Mdl_118 d_Mdl_trim_27 hp (fun v1 hp => ?_)
  refine lv_icmp_ge (tgt := 57) hx hb d_Mdl_trim_30 (by decide) (fun hc => ?_) (fun hc => ?_)
  · replace hp := x_ifp hc hp
    refine lv_iload_n hx hb d_Mdl_trim_57 rfl (lv_at hl 1 rfl) ?_
    refine lv_iload_n hx hb d_Mdl_trim_58 rfl (lv_at hl 3 rfl) ?_
    refine lv_aload_n hx hb d_Mdl_trim_59 rfl (lv_at hl 0 rfl) ?_
    refine x_gA C hH fl_Mdl_13 d_Mdl_trim_60 hp (fun v2 hp => ?_)
    refine lv_iload_n hx hb d_Mdl_trim_63 rfl (lv_at hl 2 rfl) ?_
    refine x_lI C hH d_Mdl_trim_64 hp (fun v3 hp => ?_)
    refine lv_isub hx hb d_Mdl_trim_65 ?_
    refine lv_iadd hx hb d_Mdl_trim_66 ?_
    refine lv_istore_n (lv' := [(1, .int (l1 + (l3 - v3))), (0, .ref l0), (2, .int l2), (3, .int l3), (4, .int l4)]) hx hb d_Mdl_trim_67 rfl hl (by decide) rfl (fun ls hl => ?_)
    refine lv_aload_n hx hb d_Mdl_trim_68 rfl (lv_at hl 1 rfl) ?_
    refine x_gA C hH fl_Mdl_13 d_Mdl_trim_69 hp (fun v4 hp => ?_)
    refine lv_iload_n hx hb d_Mdl_trim_72 rfl (lv_at hl 2 rfl) ?_
    refine lv_iload_n hx hb d_Mdl_trim_73 rfl (lv_at hl 3 rfl) ?_
    refine x_sI C hH d_Mdl_trim_74 hp (fun h H locs hp hH => ?_)
    refine lv_iinc (v := (l2 + 1)) (lv' := [(2, .int (l2 + 1)), (1, .int (l1 + (l3 - v3))), (0, .ref l0), (3, .int l3), (4, .int l4)]) hx hb d_Mdl_trim_75 hl (k := 2) rfl rfl (by decide) rfl (fun ls hl => ?_)
    refine lv_goto (tgt := 9) hx hb d_Mdl_trim_78 (by decide) ?_
    exact hs9 l0 (l1 + (l3 - v3)) (l2 + 1) _ _ _ _ _ _ hp hH (lv_sub hl [2, 1, 0] rfl)
  · replace hp := x_ifn hc hp
    refine lv_iload_n hx hb d_Mdl_trim_33 rfl (lv_at hl 3 rfl) ?_
    refine lv_aload_n hx hb d_Mdl_trim_34 rfl (lv_at hl 0 rfl) ?_
    refine x_gA C hH fl_Mdl_53 d_Mdl_trim_35 hp (fun v5 hp => ?_)
    refine lv_iconst (v := 3) hx hb d_Mdl_trim_38 (by decide) ?_
    refine lv_iconst (v := 4) hx hb d_Mdl_trim_39 (by decide) ?_
    refine lv_iload hx hb d_Mdl_trim_40 (lv_at hl 4 rfl) ?_
    refine lv_iadd hx hb d_Mdl_trim_42 ?_
    refine lv_imul hx hb d_Mdl_trim_43 ?_
    refine lv_iload_n hx hb d_Mdl_trim_44 rfl (lv_at hl 2 rfl) ?_
    refine lv_iadd hx hb d_Mdl_trim_45 ?_
    refine x_lI C hH d_Mdl_trim_46 hp (fun v6 hp => ?_)
    refine x_callS (As := [.int l3, .int v6]) (rest := []) (cv := vI) C hH kc_Mdl_182 d_Mdl_trim_47 hp (fun o h' e => m_Mdl_lesser Z e) rfl hl.1 (Nat.le_trans (Nat.le_of_ble_eq_true rfl) hRf) (Nat.le_trans (Nat.le_of_ble_eq_true rfl) hRl) (Nat.le_of_ble_eq_true rfl) (fun v7 h H locs cells slots hp hH => ?_)
    refine W.eq (g2 := F0 m 50 ls [.int v7]) rfl ?_
    refine lv_istore_n (lv' := [(3, .int v7), (0, .ref l0), (1, .int l1), (2, .int l2), (4, .int l4)]) hx hb d_Mdl_trim_50 rfl hl (by decide) rfl (fun ls hl => ?_)
    refine lv_iinc (v := (l4 + 1)) (lv' := [(4, .int (l4 + 1)), (3, .int v7), (0, .ref l0), (1, .int l1), (2, .int l2)]) hx hb d_Mdl_trim_51 hl (k := 4) rfl rfl (by decide) rfl (fun ls hl => ?_)
    refine lv_goto (tgt := 24) hx hb d_Mdl_trim_54 (by decide) ?_
    exact hs24 l0 l1 l2 v7 (l4 + 1) _ _ _ _ _ _ hp hH (lv_sub hl [2, 3, 4, 1, 0] rfl)
theorem w_Mdl_trim_h24 {res : (Int32 ⊕ (Nat × Nat)) × xH} (C : x_C l s0 A0 D R_Mdl prog_11_method_29_code 5 [] p s m args meth c) (hr : meth.sig.returnType = (some .int)) (hnm : meth.name = "trim") (hRf : 1 ≤ R.frames) (hRl : 29 ≤ R.locals) {k9 : Nat → Int32 → Int32 → xM Int32} (hs9 : ∀ (l0 : Nat) (l1 : Int32) (l2 : Int32) (h : xH) (H : Heap) (locs : List Loc) (cells slots : Nat) (ls : Array Slot), k9 l0 l1 l2 h = some res → x_S s0 D R h H locs cells slots → lv_has ls 5 [(0, .ref l0), (1, .int l1), (2, .int l2)] → W p l e R s m args below meth c H locs cells slots (x_Q s0 D below s R (x_oc vI res.1) res.2) (F0 m 9 ls [])) : ∀ (n : Nat) (l0 : Nat) (l1 : Int32) (l2 : Int32) (l3 : Int32) (l4 : Int32) (h : xH) (H : Heap) (locs : List Loc) (cells slots : Nat) (ls : Array Slot), f_Mdl_trim_h24 k9 n l0 l1 l2 l3 l4 h = some res → x_S s0 D R h H locs cells slots → lv_has ls 5 [(0, .ref l0), (1, .int l1), (2, .int l2), (3, .int l3), (4, .int l4)] → W p l e R s m args below meth c H locs cells slots (x_Q s0 D below s R (x_oc vI res.1) res.2) (F0 m 24 ls []) := by
  intro n
  induction n with
  | zero => intro l0 l1 l2 l3 l4 h H locs cells slots ls hp hH hl; cases hp
  | succ n ih => intro l0 l1 l2 l3 l4 h H locs cells slots ls hp hH hl; exact w_Mdl_trim_24 C hr hnm hRf hRl hs9 ih l0 l1 l2 l3 l4 hp hH hl
set_option maxHeartbeats 4000000 in
set_option maxRecDepth 100000 in
theorem w_Mdl_trim_9 {res : (Int32 ⊕ (Nat × Nat)) × xH} (C : x_C l s0 A0 D R_Mdl prog_11_method_29_code 5 [] p s m args meth c) (hr : meth.sig.returnType = (some .int)) (hnm : meth.name = "trim") (hRf : 1 ≤ R.frames) (hRl : 29 ≤ R.locals) {k9 : Nat → Int32 → Int32 → xM Int32} (hs9 : ∀ (l0 : Nat) (l1 : Int32) (l2 : Int32) (h : xH) (H : Heap) (locs : List Loc) (cells slots : Nat) (ls : Array Slot), k9 l0 l1 l2 h = some res → x_S s0 D R h H locs cells slots → lv_has ls 5 [(0, .ref l0), (1, .int l1), (2, .int l2)] → W p l e R s m args below meth c H locs cells slots (x_Q s0 D below s R (x_oc vI res.1) res.2) (F0 m 9 ls [])) (l0 : Nat) (l1 : Int32) (l2 : Int32) (hp : f_Mdl_trim_b9 k9 l0 l1 l2 h = some res) (hH : x_S s0 D R h H locs cells slots) (hl : lv_has ls 5 [(0, .ref l0), (1, .int l1), (2, .int l2)]) : W p l e R s m args below meth c H locs cells slots (x_Q s0 D below s R (x_oc vI res.1) res.2) (F0 m 9 ls []) := by
  obtain ⟨hx, hb, hown, hts, hK, hml, hW, Z, -⟩ := id C
  unfold f_Mdl_trim_b9 at hp
  refine lv_iload_n hx hb d_Mdl_trim_9 rfl (lv_at hl 2 rfl) ?_
  refine lv_aload_n hx hb d_Mdl_trim_10 rfl (lv_at hl 0 rfl) ?_
  refine x_gI C hH fl_Mdl_114 d_Mdl_trim_11 hp (fun v1 hp => ?_)
  refine lv_icmp_ge (tgt := 81) hx hb d_Mdl_trim_14 (by decide) (fun hc => ?_) (fun hc => ?_)
  · replace hp := x_ifp hc hp
    refine lv_iload_n hx hb d_Mdl_trim_81 rfl (lv_at hl 1 rfl) ?_
    exact x_iret C hH hr d_Mdl_trim_82 hp
  · replace hp := x_ifn hc hp
    refine lv_sipush (v := 400) hx hb d_Mdl_trim_17 (by decide) ?_
    refine lv_istore_n (lv' := [(3, .int 400), (0, .ref l0), (1, .int l1), (2, .int l2)]) hx hb d_Mdl_trim_20 rfl hl (by decide) rfl (fun ls hl => ?_)
    refine lv_iconst (v := 0) hx hb d_Mdl_trim_21 (by decide) ?_
    refine lv_istore (lv' := [(4, .int 0), (3, .int 400), (0, .ref l0), (1, .int l1), (2, .int l2)]) hx hb d_Mdl_trim_22 hl (by decide) rfl (fun ls hl => ?_)
    exact w_Mdl_trim_h24 C hr hnm hRf hRl hs9 1000 l0 l1 l2 400 0 _ _ _ _ _ _ hp hH (lv_sub hl [2, 3, 4, 1, 0] rfl)
theorem w_Mdl_trim_h9 {res : (Int32 ⊕ (Nat × Nat)) × xH} (C : x_C l s0 A0 D R_Mdl prog_11_method_29_code 5 [] p s m args meth c) (hr : meth.sig.returnType = (some .int)) (hnm : meth.name = "trim") (hRf : 1 ≤ R.frames) (hRl : 29 ≤ R.locals)  : ∀ (n : Nat) (l0 : Nat) (l1 : Int32) (l2 : Int32) (h : xH) (H : Heap) (locs : List Loc) (cells slots : Nat) (ls : Array Slot), f_Mdl_trim_h9 n l0 l1 l2 h = some res → x_S s0 D R h H locs cells slots → lv_has ls 5 [(0, .ref l0), (1, .int l1), (2, .int l2)] → W p l e R s m args below meth c H locs cells slots (x_Q s0 D below s R (x_oc vI res.1) res.2) (F0 m 9 ls []) := by
  intro n
  induction n with
  | zero => intro l0 l1 l2 h H locs cells slots ls hp hH hl; cases hp
  | succ n ih => intro l0 l1 l2 h H locs cells slots ls hp hH hl; exact w_Mdl_trim_9 C hr hnm hRf hRl ih l0 l1 l2 hp hH hl
set_option maxHeartbeats 4000000 in
set_option maxRecDepth 100000 in
theorem w_Mdl_trim_0 {res : (Int32 ⊕ (Nat × Nat)) × xH} (C : x_C l s0 A0 D R_Mdl prog_11_method_29_code 5 [] p s m args meth c) (hr : meth.sig.returnType = (some .int)) (hnm : meth.name = "trim") (hRf : 1 ≤ R.frames) (hRl : 29 ≤ R.locals)  (l0 : Nat) (hp : f_Mdl_trim l0 h = some res) (hH : x_S s0 D R h H locs cells slots) (hl : lv_has ls 5 [(0, .ref l0)]) : W p l e R s m args below meth c H locs cells slots (x_Q s0 D below s R (x_oc vI res.1) res.2) (F0 m 0 ls []) := by
  obtain ⟨hx, hb, hown, hts, hK, hml, hW, Z, -⟩ := id C
  unfold f_Mdl_trim at hp
  refine lv_aload_n hx hb d_Mdl_trim_0 rfl (lv_at hl 0 rfl) ?_
  refine lv_iconst (v := 0) hx hb d_Mdl_trim_1 (by decide) ?_
  refine x_pV C hH fp_Mdl_121 (fun h => Bool.noConfusion h) d_Mdl_trim_2 rfl rfl hp (fun h H locs hp hH => ?_)
  refine lv_iconst (v := 0) hx hb d_Mdl_trim_5 (by decide) ?_
  refine lv_istore_n (lv' := [(1, .int 0), (0, .ref l0)]) hx hb d_Mdl_trim_6 rfl hl (by decide) rfl (fun ls hl => ?_)
  refine lv_iconst (v := 0) hx hb d_Mdl_trim_7 (by decide) ?_
  refine lv_istore_n (lv' := [(2, .int 0), (1, .int 0), (0, .ref l0)]) hx hb d_Mdl_trim_8 rfl hl (by decide) rfl (fun ls hl => ?_)
  exact w_Mdl_trim_h9 C hr hnm hRf hRl  1000 l0 0 0 _ _ _ _ _ _ hp hH (lv_sub hl [2, 1, 0] rfl)
set_option maxRecDepth 100000 in
theorem m_Mdl_trim (Z : x_Z l s0 A0 D) {l0 : Nat} {res : (Int32 ⊕ (Nat × Nat)) × xH} (hp : f_Mdl_trim l0 h = some res) : x_M l s0 D y_Mdl_trim (x_cw y_Mdl_trim prog_11_method_29_code 5 (some .int) []) 1 29 [.ref l0] h (x_oc vI res.1) res.2 := by
  refine x_M.ofW Z (plainFor_of_name (by decide)) ?_
  intro p e s m below meth c C hnm hr hH
  have hl := lv_entry ([.ref l0]) (n := 5) (Nat.le_of_ble_eq_true rfl)
  rw [lg_entry_eq]
  generalize (lg_sl ([.ref l0]) ++ List.replicate (5 - (lg_sl ([.ref l0])).length) Slot.unset).toArray = ls at hl ⊢
  exact w_Mdl_trim_0 C hr hnm (Nat.le_refl _) (Nat.le_refl _) l0 hp hH hl
/-! ReadSideModel.waiting()I -/
theorem d_Mdl_waiting_0 : decode prog_11_method_36_code 0 = .ok (.iconst 0, 1) := by decide +kernel
theorem d_Mdl_waiting_1 : decode prog_11_method_36_code 1 = .ok (.istore_n 1, 1) := by decide +kernel
theorem d_Mdl_waiting_2 : decode prog_11_method_36_code 2 = .ok (.iconst 0, 1) := by decide +kernel
theorem d_Mdl_waiting_3 : decode prog_11_method_36_code 3 = .ok (.istore_n 2, 1) := by decide +kernel
theorem d_Mdl_waiting_4 : decode prog_11_method_36_code 4 = .ok (.iload_n 2, 1) := by decide +kernel
theorem d_Mdl_waiting_5 : decode prog_11_method_36_code 5 = .ok (.aload_n 0, 1) := by decide +kernel
theorem d_Mdl_waiting_6 : decode prog_11_method_36_code 6 = .ok (.getfield 204, 3) := by decide +kernel
theorem d_Mdl_waiting_9 : decode prog_11_method_36_code 9 = .ok (.if_icmp .ge 26, 3) := by decide +kernel
theorem d_Mdl_waiting_12 : decode prog_11_method_36_code 12 = .ok (.iload_n 1, 1) := by decide +kernel
theorem d_Mdl_waiting_13 : decode prog_11_method_36_code 13 = .ok (.aload_n 0, 1) := by decide +kernel
theorem d_Mdl_waiting_14 : decode prog_11_method_36_code 14 = .ok (.getfield 78, 3) := by decide +kernel
theorem d_Mdl_waiting_17 : decode prog_11_method_36_code 17 = .ok (.iload_n 2, 1) := by decide +kernel
theorem d_Mdl_waiting_18 : decode prog_11_method_36_code 18 = .ok (.iaload, 1) := by decide +kernel
theorem d_Mdl_waiting_19 : decode prog_11_method_36_code 19 = .ok (.ifCond .ne 7, 3) := by decide +kernel
theorem d_Mdl_waiting_22 : decode prog_11_method_36_code 22 = .ok (.iconst 1, 1) := by decide +kernel
theorem d_Mdl_waiting_23 : decode prog_11_method_36_code 23 = .ok (.goto 4, 3) := by decide +kernel
theorem d_Mdl_waiting_26 : decode prog_11_method_36_code 26 = .ok (.iconst 0, 1) := by decide +kernel
theorem d_Mdl_waiting_27 : decode prog_11_method_36_code 27 = .ok (.iadd, 1) := by decide +kernel
theorem d_Mdl_waiting_28 : decode prog_11_method_36_code 28 = .ok (.istore_n 1, 1) := by decide +kernel
theorem d_Mdl_waiting_29 : decode prog_11_method_36_code 29 = .ok (.iinc 2 1, 3) := by decide +kernel
theorem d_Mdl_waiting_32 : decode prog_11_method_36_code 32 = .ok (.goto (-28), 3) := by decide +kernel
theorem d_Mdl_waiting_35 : decode prog_11_method_36_code 35 = .ok (.iload_n 1, 1) := by decide +kernel
theorem d_Mdl_waiting_36 : decode prog_11_method_36_code 36 = .ok (.ireturn, 1) := by decide +kernel
set_option maxHeartbeats 4000000 in
set_option maxRecDepth 100000 in
theorem w_Mdl_waiting_27 {res : (Int32 ⊕ (Nat × Nat)) × xH} (C : x_C l s0 A0 D R_Mdl prog_11_method_36_code 3 [] p s m args meth c) (hr : meth.sig.returnType = (some .int)) (hnm : meth.name = "waiting") (hRf : 0 ≤ R.frames) (hRl : 0 ≤ R.locals) {k4 : Nat → Int32 → Int32 → xM Int32} (hs4 : ∀ (l0 : Nat) (l1 : Int32) (l2 : Int32) (h : xH) (H : Heap) (locs : List Loc) (cells slots : Nat) (ls : Array Slot), k4 l0 l1 l2 h = some res → x_S s0 D R h H locs cells slots → lv_has ls 3 [(0, .ref l0), (1, .int l1), (2, .int l2)] → W p l e R s m args below meth c H locs cells slots (x_Q s0 D below s R (x_oc vI res.1) res.2) (F0 m 4 ls [])) (l0 : Nat) (l2 : Int32) (t0 : Int32) (t1 : Int32) (hp : f_Mdl_waiting_b27 k4 l0 l2 t0 t1 h = some res) (hH : x_S s0 D R h H locs cells slots) (hl : lv_has ls 3 [(0, .ref l0), (2, .int l2)]) : W p l e R s m args below meth c H locs cells slots (x_Q s0 D below s R (x_oc vI res.1) res.2) (F0 m 27 ls [.int t0, .int t1]) := by
  obtain ⟨hx, hb, hown, hts, hK, hml, hW, Z, -⟩ := id C
  unfold f_Mdl_waiting_b27 at hp
  refine lv_iadd hx hb d_Mdl_waiting_27 ?_
  refine lv_istore_n (lv' := [(1, .int (t1 + t0)), (0, .ref l0), (2, .int l2)]) hx hb d_Mdl_waiting_28 rfl hl (by decide) rfl (fun ls hl => ?_)
  refine lv_iinc (v := (l2 + 1)) (lv' := [(2, .int (l2 + 1)), (1, .int (t1 + t0)), (0, .ref l0)]) hx hb d_Mdl_waiting_29 hl (k := 2) rfl rfl (by decide) rfl (fun ls hl => ?_)
  refine lv_goto (tgt := 4) hx hb d_Mdl_waiting_32 (by decide) ?_
  exact hs4 l0 (t1 + t0) (l2 + 1) _ _ _ _ _ _ hp hH (lv_sub hl [2, 1, 0] rfl)
set_option maxHeartbeats 4000000 in
set_option maxRecDepth 100000 in
theorem w_Mdl_waiting_4 {res : (Int32 ⊕ (Nat × Nat)) × xH} (C : x_C l s0 A0 D R_Mdl prog_11_method_36_code 3 [] p s m args meth c) (hr : meth.sig.returnType = (some .int)) (hnm : meth.name = "waiting") (hRf : 0 ≤ R.frames) (hRl : 0 ≤ R.locals) {k4 : Nat → Int32 → Int32 → xM Int32} (hs4 : ∀ (l0 : Nat) (l1 : Int32) (l2 : Int32) (h : xH) (H : Heap) (locs : List Loc) (cells slots : Nat) (ls : Array Slot), k4 l0 l1 l2 h = some res → x_S s0 D R h H locs cells slots → lv_has ls 3 [(0, .ref l0), (1, .int l1), (2, .int l2)] → W p l e R s m args below meth c H locs cells slots (x_Q s0 D below s R (x_oc vI res.1) res.2) (F0 m 4 ls [])) (l0 : Nat) (l1 : Int32) (l2 : Int32) (hp : f_Mdl_waiting_b4 k4 l0 l1 l2 h = some res) (hH : x_S s0 D R h H locs cells slots) (hl : lv_has ls 3 [(0, .ref l0), (1, .int l1), (2, .int l2)]) : W p l e R s m args below meth c H locs cells slots (x_Q s0 D below s R (x_oc vI res.1) res.2) (F0 m 4 ls []) := by
  obtain ⟨hx, hb, hown, hts, hK, hml, hW, Z, -⟩ := id C
  unfold f_Mdl_waiting_b4 at hp
  refine lv_iload_n hx hb d_Mdl_waiting_4 rfl (lv_at hl 2 rfl) ?_
  refine lv_aload_n hx hb d_Mdl_waiting_5 rfl (lv_at hl 0 rfl) ?_
  refine x_gI C hH fl_Mdl_204 d_Mdl_waiting_6 hp (fun v1 hp => ?_)
  refine lv_icmp_ge (tgt := 35) hx hb d_Mdl_waiting_9 (by decide) (fun hc => ?_) (fun hc => ?_)
  · replace hp := x_ifp hc hp
    refine lv_iload_n hx hb d_Mdl_waiting_35 rfl (lv_at hl 1 rfl) ?_
    exact x_iret C hH hr d_Mdl_waiting_36 hp
  · replace hp := x_ifn hc hp
    refine lv_iload_n hx hb d_Mdl_waiting_12 rfl (lv_at hl 1 rfl) ?_
    refine lv_aload_n hx hb d_Mdl_waiting_13 rfl (lv_at hl 0 rfl) ?_
    refine x_gA C hH fl_Mdl_78 d_Mdl_waiting_14 hp (fun v2 hp => ?_)
    refine lv_iload_n hx hb d_Mdl_waiting_17 rfl (lv_at hl 2 rfl) ?_
    refine x_lI C hH d_Mdl_waiting_18 hp (fun v3 hp => ?_)
    refine lv_if_ne (tgt := 26) hx hb d_Mdl_waiting_19 (by decide) (fun hc => ?_) (fun hc => ?_)
    · replace hp := x_ifn hc hp
      refine lv_iconst (v := 0) hx hb d_Mdl_waiting_26 (by decide) ?_
      exact w_Mdl_waiting_27 C hr hnm hRf hRl hs4 l0 l2 0 l1 hp hH (lv_sub hl [0, 2] rfl)
    · replace hp := x_ifp hc hp
      refine lv_iconst (v := 1) hx hb d_Mdl_waiting_22 (by decide) ?_
      refine lv_goto (tgt := 27) hx hb d_Mdl_waiting_23 (by decide) ?_
      exact w_Mdl_waiting_27 C hr hnm hRf hRl hs4 l0 l2 1 l1 hp hH (lv_sub hl [0, 2] rfl)
theorem w_Mdl_waiting_h4 {res : (Int32 ⊕ (Nat × Nat)) × xH} (C : x_C l s0 A0 D R_Mdl prog_11_method_36_code 3 [] p s m args meth c) (hr : meth.sig.returnType = (some .int)) (hnm : meth.name = "waiting") (hRf : 0 ≤ R.frames) (hRl : 0 ≤ R.locals)  : ∀ (n : Nat) (l0 : Nat) (l1 : Int32) (l2 : Int32) (h : xH) (H : Heap) (locs : List Loc) (cells slots : Nat) (ls : Array Slot), f_Mdl_waiting_h4 n l0 l1 l2 h = some res → x_S s0 D R h H locs cells slots → lv_has ls 3 [(0, .ref l0), (1, .int l1), (2, .int l2)] → W p l e R s m args below meth c H locs cells slots (x_Q s0 D below s R (x_oc vI res.1) res.2) (F0 m 4 ls []) := by
  intro n
  induction n with
  | zero => intro l0 l1 l2 h H locs cells slots ls hp hH hl; cases hp
  | succ n ih => intro l0 l1 l2 h H locs cells slots ls hp hH hl; exact w_Mdl_waiting_4 C hr hnm hRf hRl ih l0 l1 l2 hp hH hl
set_option maxHeartbeats 4000000 in
set_option maxRecDepth 100000 in
theorem w_Mdl_waiting_0 {res : (Int32 ⊕ (Nat × Nat)) × xH} (C : x_C l s0 A0 D R_Mdl prog_11_method_36_code 3 [] p s m args meth c) (hr : meth.sig.returnType = (some .int)) (hnm : meth.name = "waiting") (hRf : 0 ≤ R.frames) (hRl : 0 ≤ R.locals)  (l0 : Nat) (hp : f_Mdl_waiting l0 h = some res) (hH : x_S s0 D R h H locs cells slots) (hl : lv_has ls 3 [(0, .ref l0)]) : W p l e R s m args below meth c H locs cells slots (x_Q s0 D below s R (x_oc vI res.1) res.2) (F0 m 0 ls []) := by
  obtain ⟨hx, hb, hown, hts, hK, hml, hW, Z, -⟩ := id C
  unfold f_Mdl_waiting at hp
  refine lv_iconst (v := 0) hx hb d_Mdl_waiting_0 (by decide) ?_
  refine lv_istore_n (lv' := [(1, .int 0), (0, .ref l0)]) hx hb d_Mdl_waiting_1 rfl hl (by decide) rfl (fun ls hl => ?_)
  refine lv_iconst (v := 0) hx hb d_Mdl_waiting_2 (by decide) ?_
  refine lv_istore_n (lv' := [(2, .int 0), (1, .int 0), (0, .ref l0)]) hx hb d_Mdl_waiting_3 rfl hl (by decide) rfl (fun ls hl => ?_)
  exact w_Mdl_waiting_h4 C hr hnm hRf hRl  1000 l0 0 0 _ _ _ _ _ _ hp hH (lv_sub hl [2, 1, 0] rfl)
set_option maxRecDepth 100000 in
theorem m_Mdl_waiting (Z : x_Z l s0 A0 D) {l0 : Nat} {res : (Int32 ⊕ (Nat × Nat)) × xH} (hp : f_Mdl_waiting l0 h = some res) : x_M l s0 D y_Mdl_waiting (x_cw y_Mdl_waiting prog_11_method_36_code 3 (some .int) []) 0 0 [.ref l0] h (x_oc vI res.1) res.2 := by
  refine x_M.ofW Z (plainFor_of_name (by decide)) ?_
  intro p e s m below meth c C hnm hr hH
  have hl := lv_entry ([.ref l0]) (n := 3) (Nat.le_of_ble_eq_true rfl)
  rw [lg_entry_eq]
  generalize (lg_sl ([.ref l0]) ++ List.replicate (3 - (lg_sl ([.ref l0])).length) Slot.unset).toArray = ls at hl ⊢
  exact w_Mdl_waiting_0 C hr hnm (Nat.le_refl _) (Nat.le_refl _) l0 hp hH hl
/-! ReadSideModel.position(JI)I -/
theorem d_Mdl_position_0 : decode prog_11_method_8_code 0 = .ok (.lload_n 0, 1) := by decide +kernel
theorem d_Mdl_position_1 : decode prog_11_method_8_code 1 = .ok (.bipush 20, 2) := by decide +kernel
theorem d_Mdl_position_3 : decode prog_11_method_8_code 3 = .ok (.bipush 9, 2) := by decide +kernel
theorem d_Mdl_position_5 : decode prog_11_method_8_code 5 = .ok (.iload_n 2, 1) := by decide +kernel
theorem d_Mdl_position_6 : decode prog_11_method_8_code 6 = .ok (.imul, 1) := by decide +kernel
theorem d_Mdl_position_7 : decode prog_11_method_8_code 7 = .ok (.iadd, 1) := by decide +kernel
theorem d_Mdl_position_8 : decode prog_11_method_8_code 8 = .ok (.lshr, 1) := by decide +kernel
theorem d_Mdl_position_9 : decode prog_11_method_8_code 9 = .ok (.ldc2_w 136, 3) := by decide +kernel
theorem d_Mdl_position_12 : decode prog_11_method_8_code 12 = .ok (.land, 1) := by decide +kernel
theorem d_Mdl_position_13 : decode prog_11_method_8_code 13 = .ok (.l2i, 1) := by decide +kernel
theorem d_Mdl_position_14 : decode prog_11_method_8_code 14 = .ok (.ireturn, 1) := by decide +kernel
set_option maxHeartbeats 4000000 in
set_option maxRecDepth 100000 in
theorem w_Mdl_position_0 {res : (Int32 ⊕ (Nat × Nat)) × xH} (C : x_C l s0 A0 D R_Mdl prog_11_method_8_code 3 [] p s m args meth c) (hr : meth.sig.returnType = (some .int)) (hnm : meth.name = "position") (hRf : 0 ≤ R.frames) (hRl : 0 ≤ R.locals)  (l0 : Int64) (l2 : Int32) (hp : f_Mdl_position l0 l2 h = some res) (hH : x_S s0 D R h H locs cells slots) (hl : lv_has ls 3 [(0, .long l0), (2, .int l2)]) : W p l e R s m args below meth c H locs cells slots (x_Q s0 D below s R (x_oc vI res.1) res.2) (F0 m 0 ls []) := by
  obtain ⟨hx, hb, hown, hts, hK, hml, hW, Z, -⟩ := id C
  unfold f_Mdl_position at hp
  refine lv_lload_n hx hb d_Mdl_position_0 rfl (lv_at hl 0 rfl) ?_
  refine lv_bipush (v := 20) hx hb d_Mdl_position_1 (by decide) ?_
  refine lv_bipush (v := 9) hx hb d_Mdl_position_3 (by decide) ?_
  refine lv_iload_n hx hb d_Mdl_position_5 rfl (lv_at hl 1 rfl) ?_
  refine lv_imul hx hb d_Mdl_position_6 ?_
  refine lv_iadd hx hb d_Mdl_position_7 ?_
  refine lv_lshr (v := (l0 >>> ((20 + (9 * l2)).toInt64 &&& 63))) hx hb d_Mdl_position_8 rfl ?_
  refine lv_ldc2 hx hb hown (hts _ k_982) d_Mdl_position_9 ?_
  refine lv_land hx hb d_Mdl_position_12 ?_
  refine lv_l2i (v := ((l0 >>> ((20 + (9 * l2)).toInt64 &&& 63)) &&& 511).toInt32) hx hb d_Mdl_position_13 rfl ?_
  exact x_iret C hH hr d_Mdl_position_14 hp
set_option maxRecDepth 100000 in
theorem m_Mdl_position (Z : x_Z l s0 A0 D) {l0 : Int64} {l2 : Int32} {res : (Int32 ⊕ (Nat × Nat)) × xH} (hp : f_Mdl_position l0 l2 h = some res) : x_M l s0 D y_Mdl_position (x_cw y_Mdl_position prog_11_method_8_code 3 (some .int) []) 0 0 [.long l0, .int l2] h (x_oc vI res.1) res.2 := by
  refine x_M.ofW Z (plainFor_of_name (by decide)) ?_
  intro p e s m below meth c C hnm hr hH
  have hl := lv_entry ([.long l0, .int l2]) (n := 3) (Nat.le_of_ble_eq_true rfl)
  rw [lg_entry_eq]
  generalize (lg_sl ([.long l0, .int l2]) ++ List.replicate (3 - (lg_sl ([.long l0, .int l2])).length) Slot.unset).toArray = ls at hl ⊢
  exact w_Mdl_position_0 C hr hnm (Nat.le_refl _) (Nat.le_refl _) l0 l2 hp hH hl
/-! ReadSideModel.isQuestion(II)Z -/
theorem d_Mdl_isQuestion_0 : decode prog_11_method_30_code 0 = .ok (.iload_n 1, 1) := by decide +kernel
theorem d_Mdl_isQuestion_1 : decode prog_11_method_30_code 1 = .ok (.ifCond .lt 9, 3) := by decide +kernel
theorem d_Mdl_isQuestion_4 : decode prog_11_method_30_code 4 = .ok (.iload_n 1, 1) := by decide +kernel
theorem d_Mdl_isQuestion_5 : decode prog_11_method_30_code 5 = .ok (.bipush 8, 2) := by decide +kernel
theorem d_Mdl_isQuestion_7 : decode prog_11_method_30_code 7 = .ok (.if_icmp .le 5, 3) := by decide +kernel
theorem d_Mdl_isQuestion_10 : decode prog_11_method_30_code 10 = .ok (.iconst 0, 1) := by decide +kernel
theorem d_Mdl_isQuestion_11 : decode prog_11_method_30_code 11 = .ok (.ireturn, 1) := by decide +kernel
theorem d_Mdl_isQuestion_12 : decode prog_11_method_30_code 12 = .ok (.iload_n 1, 1) := by decide +kernel
theorem d_Mdl_isQuestion_13 : decode prog_11_method_30_code 13 = .ok (.iconst 4, 1) := by decide +kernel
theorem d_Mdl_isQuestion_14 : decode prog_11_method_30_code 14 = .ok (.if_icmp .lt 9, 3) := by decide +kernel
theorem d_Mdl_isQuestion_17 : decode prog_11_method_30_code 17 = .ok (.iload_n 1, 1) := by decide +kernel
theorem d_Mdl_isQuestion_18 : decode prog_11_method_30_code 18 = .ok (.bipush 7, 2) := by decide +kernel
theorem d_Mdl_isQuestion_20 : decode prog_11_method_30_code 20 = .ok (.if_icmp .ne 15, 3) := by decide +kernel
theorem d_Mdl_isQuestion_23 : decode prog_11_method_30_code 23 = .ok (.iload_n 2, 1) := by decide +kernel
theorem d_Mdl_isQuestion_24 : decode prog_11_method_30_code 24 = .ok (.i2l, 1) := by decide +kernel
theorem d_Mdl_isQuestion_25 : decode prog_11_method_30_code 25 = .ok (.lconst 0, 1) := by decide +kernel
theorem d_Mdl_isQuestion_26 : decode prog_11_method_30_code 26 = .ok (.ldc2_w 165, 3) := by decide +kernel
theorem d_Mdl_isQuestion_29 : decode prog_11_method_30_code 29 = .ok (.invokestatic 148, 3) := by decide +kernel
theorem d_Mdl_isQuestion_32 : decode prog_11_method_30_code 32 = .ok (.goto 36, 3) := by decide +kernel
theorem d_Mdl_isQuestion_35 : decode prog_11_method_30_code 35 = .ok (.iload_n 1, 1) := by decide +kernel
theorem d_Mdl_isQuestion_36 : decode prog_11_method_30_code 36 = .ok (.bipush 7, 2) := by decide +kernel
theorem d_Mdl_isQuestion_38 : decode prog_11_method_30_code 38 = .ok (.if_icmp .ge 15, 3) := by decide +kernel
theorem d_Mdl_isQuestion_41 : decode prog_11_method_30_code 41 = .ok (.iload_n 2, 1) := by decide +kernel
theorem d_Mdl_isQuestion_42 : decode prog_11_method_30_code 42 = .ok (.i2l, 1) := by decide +kernel
theorem d_Mdl_isQuestion_43 : decode prog_11_method_30_code 43 = .ok (.lconst 0, 1) := by decide +kernel
theorem d_Mdl_isQuestion_44 : decode prog_11_method_30_code 44 = .ok (.ldc2_w 167, 3) := by decide +kernel
theorem d_Mdl_isQuestion_47 : decode prog_11_method_30_code 47 = .ok (.invokestatic 148, 3) := by decide +kernel
theorem d_Mdl_isQuestion_50 : decode prog_11_method_30_code 50 = .ok (.goto 18, 3) := by decide +kernel
theorem d_Mdl_isQuestion_53 : decode prog_11_method_30_code 53 = .ok (.iload_n 2, 1) := by decide +kernel
theorem d_Mdl_isQuestion_54 : decode prog_11_method_30_code 54 = .ok (.i2l, 1) := by decide +kernel
theorem d_Mdl_isQuestion_55 : decode prog_11_method_30_code 55 = .ok (.ldc2_w 223, 3) := by decide +kernel
theorem d_Mdl_isQuestion_58 : decode prog_11_method_30_code 58 = .ok (.aload_n 0, 1) := by decide +kernel
theorem d_Mdl_isQuestion_59 : decode prog_11_method_30_code 59 = .ok (.getfield 114, 3) := by decide +kernel
theorem d_Mdl_isQuestion_62 : decode prog_11_method_30_code 62 = .ok (.iconst 1, 1) := by decide +kernel
theorem d_Mdl_isQuestion_63 : decode prog_11_method_30_code 63 = .ok (.isub, 1) := by decide +kernel
theorem d_Mdl_isQuestion_64 : decode prog_11_method_30_code 64 = .ok (.i2l, 1) := by decide +kernel
theorem d_Mdl_isQuestion_65 : decode prog_11_method_30_code 65 = .ok (.invokestatic 148, 3) := by decide +kernel
theorem d_Mdl_isQuestion_68 : decode prog_11_method_30_code 68 = .ok (.ireturn, 1) := by decide +kernel
set_option maxHeartbeats 4000000 in
set_option maxRecDepth 100000 in
theorem w_Mdl_isQuestion_68 {res : (Int32 ⊕ (Nat × Nat)) × xH} (C : x_C l s0 A0 D R_Mdl prog_11_method_30_code 3 [] p s m args meth c) (hr : meth.sig.returnType = (some .boolean)) (hnm : meth.name = "isQuestion") (hRf : 1 ≤ R.frames) (hRl : 33 ≤ R.locals)  (t0 : Int32) (hp : f_Mdl_isQuestion_b68 t0 h = some res) (hH : x_S s0 D R h H locs cells slots) (hl : lv_has ls 3 []) : W p l e R s m args below meth c H locs cells slots (x_Q s0 D below s R (x_oc vI res.1) res.2) (F0 m 68 ls [.int t0]) := by
  obtain ⟨hx, hb, hown, hts, hK, hml, hW, Z, -⟩ := id C
  unfold f_Mdl_isQuestion_b68 at hp
  exact x_zret C hH hr d_Mdl_isQuestion_68 hp
set_option maxHeartbeats 4000000 in
set_option maxRecDepth 100000 in
theorem w_Mdl_isQuestion_23 {res : (Int32 ⊕ (Nat × Nat)) × xH} (C : x_C l s0 A0 D R_Mdl prog_11_method_30_code 3 [] p s m args meth c) (hr : meth.sig.returnType = (some .boolean)) (hnm : meth.name = "isQuestion") (hRf : 1 ≤ R.frames) (hRl : 33 ≤ R.locals)  (l2 : Int32) (hp : f_Mdl_isQuestion_b23 l2 h = some res) (hH : x_S s0 D R h H locs cells slots) (hl : lv_has ls 3 [(2, .int l2)]) : W p l e R s m args below meth c H locs cells slots (x_Q s0 D below s R (x_oc vI res.1) res.2) (F0 m 23 ls []) := by
  obtain ⟨hx, hb, hown, hts, hK, hml, hW, Z, -⟩ := id C
  unfold f_Mdl_isQuestion_b23 at hp
  refine lv_iload_n hx hb d_Mdl_isQuestion_23 rfl (lv_at hl 0 rfl) ?_
  refine lv_i2l (v := l2.toInt64) hx hb d_Mdl_isQuestion_24 rfl ?_
  refine lv_lconst (v := 0) hx hb d_Mdl_isQuestion_25 (by decide) ?_
  refine lv_ldc2 hx hb hown (hts _ k_903) d_Mdl_isQuestion_26 ?_
  refine x_callS (As := [.long l2.toInt64, .long 0, .long 29]) (rest := []) (cv := vI) C hH kc_Mdl_148 d_Mdl_isQuestion_29 hp (fun o h' e => m_Mdl_in Z e) rfl hl.1 (Nat.le_trans (Nat.le_of_ble_eq_true rfl) hRf) (Nat.le_trans (Nat.le_of_ble_eq_true rfl) hRl) (Nat.le_of_ble_eq_true rfl) (fun v1 h H locs cells slots hp hH => ?_)
  refine W.eq (g2 := F0 m 32 ls [.int v1]) rfl ?_
  refine lv_goto (tgt := 68) hx hb d_Mdl_isQuestion_32 (by decide) ?_
  exact w_Mdl_isQuestion_68 C hr hnm hRf hRl  v1 hp hH (lv_sub hl [] rfl)
set_option maxHeartbeats 4000000 in
set_option maxRecDepth 100000 in
theorem w_Mdl_isQuestion_10 {res : (Int32 ⊕ (Nat × Nat)) × xH} (C : x_C l s0 A0 D R_Mdl prog_11_method_30_code 3 [] p s m args meth c) (hr : meth.sig.returnType = (some .boolean)) (hnm : meth.name = "isQuestion") (hRf : 1 ≤ R.frames) (hRl : 33 ≤ R.locals)   (hp : f_Mdl_isQuestion_b10 h = some res) (hH : x_S s0 D R h H locs cells slots) (hl : lv_has ls 3 []) : W p l e R s m args below meth c H locs cells slots (x_Q s0 D below s R (x_oc vI res.1) res.2) (F0 m 10 ls []) := by
  obtain ⟨hx, hb, hown, hts, hK, hml, hW, Z, -⟩ := id C
  unfold f_Mdl_isQuestion_b10 at hp
  refine lv_iconst (v := 0) hx hb d_Mdl_isQuestion_10 (by decide) ?_
  exact x_zret C hH hr d_Mdl_isQuestion_11 hp
set_option maxHeartbeats 4000000 in
set_option maxRecDepth 100000 in
theorem w_Mdl_isQuestion_0 {res : (Int32 ⊕ (Nat × Nat)) × xH} (C : x_C l s0 A0 D R_Mdl prog_11_method_30_code 3 [] p s m args meth c) (hr : meth.sig.returnType = (some .boolean)) (hnm : meth.name = "isQuestion") (hRf : 1 ≤ R.frames) (hRl : 33 ≤ R.locals)  (l0 : Nat) (l1 : Int32) (l2 : Int32) (hp : f_Mdl_isQuestion l0 l1 l2 h = some res) (hH : x_S s0 D R h H locs cells slots) (hl : lv_has ls 3 [(0, .ref l0), (1, .int l1), (2, .int l2)]) : W p l e R s m args below meth c H locs cells slots (x_Q s0 D below s R (x_oc vI res.1) res.2) (F0 m 0 ls []) := by
  obtain ⟨hx, hb, hown, hts, hK, hml, hW, Z, -⟩ := id C
  unfold f_Mdl_isQuestion at hp
  refine lv_iload_n hx hb d_Mdl_isQuestion_0 rfl (lv_at hl 1 rfl) ?_
  refine lv_if_lt (tgt := 10) hx hb d_Mdl_isQuestion_1 (by decide) (fun hc => ?_) (fun hc => ?_)
  · replace hp := x_ifp hc hp
    exact w_Mdl_isQuestion_10 C hr hnm hRf hRl   hp hH (lv_sub hl [] rfl)
  · replace hp := x_ifn hc hp
    refine lv_iload_n hx hb d_Mdl_isQuestion_4 rfl (lv_at hl 1 rfl) ?_
    refine lv_bipush (v := 8) hx hb d_Mdl_isQuestion_5 (by decide) ?_
    refine lv_icmp_le (tgt := 12) hx hb d_Mdl_isQuestion_7 (by decide) (fun hc => ?_) (fun hc => ?_)
    · replace hp := x_ifp hc hp
      refine lv_iload_n hx hb d_Mdl_isQuestion_12 rfl (lv_at hl 1 rfl) ?_
      refine lv_iconst (v := 4) hx hb d_Mdl_isQuestion_13 (by decide) ?_
      refine lv_icmp_lt (tgt := 23) hx hb d_Mdl_isQuestion_14 (by decide) (fun hc => ?_) (fun hc => ?_)
      · replace hp := x_ifp hc hp
        exact w_Mdl_isQuestion_23 C hr hnm hRf hRl  l2 hp hH (lv_sub hl [2] rfl)
      · replace hp := x_ifn hc hp
        refine lv_iload_n hx hb d_Mdl_isQuestion_17 rfl (lv_at hl 1 rfl) ?_
        refine lv_bipush (v := 7) hx hb d_Mdl_isQuestion_18 (by decide) ?_
        refine lv_icmp_ne (tgt := 35) hx hb d_Mdl_isQuestion_20 (by decide) (fun hc => ?_) (fun hc => ?_)
        · replace hp := x_ifn hc hp
          refine lv_iload_n hx hb d_Mdl_isQuestion_35 rfl (lv_at hl 1 rfl) ?_
          refine lv_bipush (v := 7) hx hb d_Mdl_isQuestion_36 (by decide) ?_
          refine lv_icmp_ge (tgt := 53) hx hb d_Mdl_isQuestion_38 (by decide) (fun hc => ?_) (fun hc => ?_)
          · replace hp := x_ifp hc hp
            refine lv_iload_n hx hb d_Mdl_isQuestion_53 rfl (lv_at hl 2 rfl) ?_
            refine lv_i2l (v := l2.toInt64) hx hb d_Mdl_isQuestion_54 rfl ?_
            refine lv_ldc2 hx hb hown (hts _ k_983) d_Mdl_isQuestion_55 ?_
            refine lv_aload_n hx hb d_Mdl_isQuestion_58 rfl (lv_at hl 0 rfl) ?_
            refine x_gI C hH fl_Mdl_114 d_Mdl_isQuestion_59 hp (fun v1 hp => ?_)
            refine lv_iconst (v := 1) hx hb d_Mdl_isQuestion_62 (by decide) ?_
            refine lv_isub hx hb d_Mdl_isQuestion_63 ?_
            refine lv_i2l (v := (v1 - 1).toInt64) hx hb d_Mdl_isQuestion_64 rfl ?_
            refine x_callS (As := [.long l2.toInt64, .long (-1), .long ((v1 - 1).toInt64)]) (rest := []) (cv := vI) C hH kc_Mdl_148 d_Mdl_isQuestion_65 hp (fun o h' e => m_Mdl_in Z e) rfl hl.1 (Nat.le_trans (Nat.le_of_ble_eq_true rfl) hRf) (Nat.le_trans (Nat.le_of_ble_eq_true rfl) hRl) (Nat.le_of_ble_eq_true rfl) (fun v2 h H locs cells slots hp hH => ?_)
            refine W.eq (g2 := F0 m 68 ls [.int v2]) rfl ?_
            exact w_Mdl_isQuestion_68 C hr hnm hRf hRl  v2 hp hH (lv_sub hl [] rfl)
          · replace hp := x_ifn hc hp
            refine lv_iload_n hx hb d_Mdl_isQuestion_41 rfl (lv_at hl 2 rfl) ?_
            refine lv_i2l (v := l2.toInt64) hx hb d_Mdl_isQuestion_42 rfl ?_
            refine lv_lconst (v := 0) hx hb d_Mdl_isQuestion_43 (by decide) ?_
            refine lv_ldc2 hx hb hown (hts _ k_904) d_Mdl_isQuestion_44 ?_
            refine x_callS (As := [.long l2.toInt64, .long 0, .long 9]) (rest := []) (cv := vI) C hH kc_Mdl_148 d_Mdl_isQuestion_47 hp (fun o h' e => m_Mdl_in Z e) rfl hl.1 (Nat.le_trans (Nat.le_of_ble_eq_true rfl) hRf) (Nat.le_trans (Nat.le_of_ble_eq_true rfl) hRl) (Nat.le_of_ble_eq_true rfl) (fun v3 h H locs cells slots hp hH => ?_)
            refine W.eq (g2 := F0 m 50 ls [.int v3]) rfl ?_
            refine lv_goto (tgt := 68) hx hb d_Mdl_isQuestion_50 (by decide) ?_
            exact w_Mdl_isQuestion_68 C hr hnm hRf hRl  v3 hp hH (lv_sub hl [] rfl)
        · replace hp := x_ifp hc hp
          exact w_Mdl_isQuestion_23 C hr hnm hRf hRl  l2 hp hH (lv_sub hl [2] rfl)
    · replace hp := x_ifn hc hp
      exact w_Mdl_isQuestion_10 C hr hnm hRf hRl   hp hH (lv_sub hl [] rfl)
set_option maxRecDepth 100000 in
theorem m_Mdl_isQuestion (Z : x_Z l s0 A0 D) {l0 : Nat} {l1 : Int32} {l2 : Int32} {res : (Int32 ⊕ (Nat × Nat)) × xH} (hp : f_Mdl_isQuestion l0 l1 l2 h = some res) : x_M l s0 D y_Mdl_isQuestion (x_cw y_Mdl_isQuestion prog_11_method_30_code 3 (some .boolean) []) 1 33 [.ref l0, .int l1, .int l2] h (x_oc vI res.1) res.2 := by
  refine x_M.ofW Z (plainFor_of_name (by decide)) ?_
  intro p e s m below meth c C hnm hr hH
  have hl := lv_entry ([.ref l0, .int l1, .int l2]) (n := 3) (Nat.le_of_ble_eq_true rfl)
  rw [lg_entry_eq]
  generalize (lg_sl ([.ref l0, .int l1, .int l2]) ++ List.replicate (3 - (lg_sl ([.ref l0, .int l1, .int l2])).length) Slot.unset).toArray = ls at hl ⊢
  exact w_Mdl_isQuestion_0 C hr hnm (Nat.le_refl _) (Nat.le_refl _) l0 l1 l2 hp hH hl
/-! ReadSideModel.isToken(J)Z -/
theorem d_Mdl_isToken_0 : decode prog_11_method_9_code 0 = .ok (.lload_n 1, 1) := by decide +kernel
theorem d_Mdl_isToken_1 : decode prog_11_method_9_code 1 = .ok (.bipush 20, 2) := by decide +kernel
theorem d_Mdl_isToken_3 : decode prog_11_method_9_code 3 = .ok (.lshr, 1) := by decide +kernel
theorem d_Mdl_isToken_4 : decode prog_11_method_9_code 4 = .ok (.lstore_n 3, 1) := by decide +kernel
theorem d_Mdl_isToken_5 : decode prog_11_method_9_code 5 = .ok (.lload_n 1, 1) := by decide +kernel
theorem d_Mdl_isToken_6 : decode prog_11_method_9_code 6 = .ok (.lconst 0, 1) := by decide +kernel
theorem d_Mdl_isToken_7 : decode prog_11_method_9_code 7 = .ok (.lcmp, 1) := by decide +kernel
theorem d_Mdl_isToken_8 : decode prog_11_method_9_code 8 = .ok (.ifCond .lt 24, 3) := by decide +kernel
theorem d_Mdl_isToken_11 : decode prog_11_method_9_code 11 = .ok (.lload_n 3, 1) := by decide +kernel
theorem d_Mdl_isToken_12 : decode prog_11_method_9_code 12 = .ok (.ldc2_w 138, 3) := by decide +kernel
theorem d_Mdl_isToken_15 : decode prog_11_method_9_code 15 = .ok (.lcmp, 1) := by decide +kernel
theorem d_Mdl_isToken_16 : decode prog_11_method_9_code 16 = .ok (.ifCond .ge 16, 3) := by decide +kernel
theorem d_Mdl_isToken_19 : decode prog_11_method_9_code 19 = .ok (.lload_n 1, 1) := by decide +kernel
theorem d_Mdl_isToken_20 : decode prog_11_method_9_code 20 = .ok (.ldc2_w 140, 3) := by decide +kernel
theorem d_Mdl_isToken_23 : decode prog_11_method_9_code 23 = .ok (.land, 1) := by decide +kernel
theorem d_Mdl_isToken_24 : decode prog_11_method_9_code 24 = .ok (.lload_n 3, 1) := by decide +kernel
theorem d_Mdl_isToken_25 : decode prog_11_method_9_code 25 = .ok (.invokestatic 132, 3) := by decide +kernel
theorem d_Mdl_isToken_28 : decode prog_11_method_9_code 28 = .ok (.lcmp, 1) := by decide +kernel
theorem d_Mdl_isToken_29 : decode prog_11_method_9_code 29 = .ok (.ifCond .eq 5, 3) := by decide +kernel
theorem d_Mdl_isToken_32 : decode prog_11_method_9_code 32 = .ok (.iconst 0, 1) := by decide +kernel
theorem d_Mdl_isToken_33 : decode prog_11_method_9_code 33 = .ok (.ireturn, 1) := by decide +kernel
theorem d_Mdl_isToken_34 : decode prog_11_method_9_code 34 = .ok (.iconst 1, 1) := by decide +kernel
theorem d_Mdl_isToken_35 : decode prog_11_method_9_code 35 = .ok (.istore 5, 2) := by decide +kernel
theorem d_Mdl_isToken_37 : decode prog_11_method_9_code 37 = .ok (.iconst 0, 1) := by decide +kernel
theorem d_Mdl_isToken_38 : decode prog_11_method_9_code 38 = .ok (.istore 6, 2) := by decide +kernel
theorem d_Mdl_isToken_40 : decode prog_11_method_9_code 40 = .ok (.iload 6, 2) := by decide +kernel
theorem d_Mdl_isToken_42 : decode prog_11_method_9_code 42 = .ok (.iconst 3, 1) := by decide +kernel
theorem d_Mdl_isToken_43 : decode prog_11_method_9_code 43 = .ok (.if_icmp .ge 48, 3) := by decide +kernel
theorem d_Mdl_isToken_46 : decode prog_11_method_9_code 46 = .ok (.iload 5, 2) := by decide +kernel
theorem d_Mdl_isToken_48 : decode prog_11_method_9_code 48 = .ok (.lload_n 1, 1) := by decide +kernel
theorem d_Mdl_isToken_49 : decode prog_11_method_9_code 49 = .ok (.iload 6, 2) := by decide +kernel
theorem d_Mdl_isToken_51 : decode prog_11_method_9_code 51 = .ok (.invokestatic 142, 3) := by decide +kernel
theorem d_Mdl_isToken_54 : decode prog_11_method_9_code 54 = .ok (.iload 6, 2) := by decide +kernel
theorem d_Mdl_isToken_56 : decode prog_11_method_9_code 56 = .ok (.aload_n 0, 1) := by decide +kernel
theorem d_Mdl_isToken_57 : decode prog_11_method_9_code 57 = .ok (.getfield 114, 3) := by decide +kernel
theorem d_Mdl_isToken_60 : decode prog_11_method_9_code 60 = .ok (.if_icmp .ge 13, 3) := by decide +kernel
theorem d_Mdl_isToken_63 : decode prog_11_method_9_code 63 = .ok (.aload_n 0, 1) := by decide +kernel
theorem d_Mdl_isToken_64 : decode prog_11_method_9_code 64 = .ok (.getfield 7, 3) := by decide +kernel
theorem d_Mdl_isToken_67 : decode prog_11_method_9_code 67 = .ok (.iload 6, 2) := by decide +kernel
theorem d_Mdl_isToken_69 : decode prog_11_method_9_code 69 = .ok (.iaload, 1) := by decide +kernel
theorem d_Mdl_isToken_70 : decode prog_11_method_9_code 70 = .ok (.goto 4, 3) := by decide +kernel
theorem d_Mdl_isToken_73 : decode prog_11_method_9_code 73 = .ok (.iconst 0, 1) := by decide +kernel
theorem d_Mdl_isToken_74 : decode prog_11_method_9_code 74 = .ok (.if_icmp .gt 7, 3) := by decide +kernel
theorem d_Mdl_isToken_77 : decode prog_11_method_9_code 77 = .ok (.iconst 1, 1) := by decide +kernel
theorem d_Mdl_isToken_78 : decode prog_11_method_9_code 78 = .ok (.goto 4, 3) := by decide +kernel
theorem d_Mdl_isToken_81 : decode prog_11_method_9_code 81 = .ok (.iconst 0, 1) := by decide +kernel
theorem d_Mdl_isToken_82 : decode prog_11_method_9_code 82 = .ok (.iand, 1) := by decide +kernel
theorem d_Mdl_isToken_83 : decode prog_11_method_9_code 83 = .ok (.istore 5, 2) := by decide +kernel
theorem d_Mdl_isToken_85 : decode prog_11_method_9_code 85 = .ok (.iinc 6 1, 3) := by decide +kernel
theorem d_Mdl_isToken_88 : decode prog_11_method_9_code 88 = .ok (.goto (-48), 3) := by decide +kernel
theorem d_Mdl_isToken_91 : decode prog_11_method_9_code 91 = .ok (.iload 5, 2) := by decide +kernel
theorem d_Mdl_isToken_93 : decode prog_11_method_9_code 93 = .ok (.ireturn, 1) := by decide +kernel
set_option maxHeartbeats 4000000 in
set_option maxRecDepth 100000 in
theorem w_Mdl_isToken_82 {res : (Int32 ⊕ (Nat × Nat)) × xH} (C : x_C l s0 A0 D R_Mdl prog_11_method_9_code 7 [] p s m args meth c) (hr : meth.sig.returnType = (some .boolean)) (hnm : meth.name = "isToken") (hRf : 1 ≤ R.frames) (hRl : 30 ≤ R.locals) {k40 : Nat → Int64 → Int32 → Int32 → xM Int32} (hs40 : ∀ (l0 : Nat) (l1 : Int64) (l5 : Int32) (l6 : Int32) (h : xH) (H : Heap) (locs : List Loc) (cells slots : Nat) (ls : Array Slot), k40 l0 l1 l5 l6 h = some res → x_S s0 D R h H locs cells slots → lv_has ls 7 [(0, .ref l0), (1, .long l1), (5, .int l5), (6, .int l6)] → W p l e R s m args below meth c H locs cells slots (x_Q s0 D below s R (x_oc vI res.1) res.2) (F0 m 40 ls [])) (l0 : Nat) (l1 : Int64) (l6 : Int32) (t0 : Int32) (t1 : Int32) (hp : f_Mdl_isToken_b82 k40 l0 l1 l6 t0 t1 h = some res) (hH : x_S s0 D R h H locs cells slots) (hl : lv_has ls 7 [(0, .ref l0), (1, .long l1), (6, .int l6)]) : W p l e R s m args below meth c H locs cells slots (x_Q s0 D below s R (x_oc vI res.1) res.2) (F0 m 82 ls [.int t0, .int t1]) := by
  obtain ⟨hx, hb, hown, hts, hK, hml, hW, Z, -⟩ := id C
  unfold f_Mdl_isToken_b82 at hp
  refine lv_iand hx hb d_Mdl_isToken_82 ?_
  refine lv_istore (lv' := [(5, .int (t1 &&& t0)), (0, .ref l0), (1, .long l1), (6, .int l6)]) hx hb d_Mdl_isToken_83 hl (by decide) rfl (fun ls hl => ?_)
  refine lv_iinc (v := (l6 + 1)) (lv' := [(6, .int (l6 + 1)), (5, .int (t1 &&& t0)), (0, .ref l0), (1, .long l1)]) hx hb d_Mdl_isToken_85 hl (k := 3) rfl rfl (by decide) rfl (fun ls hl => ?_)
  refine lv_goto (tgt := 40) hx hb d_Mdl_isToken_88 (by decide) ?_
  exact hs40 l0 l1 (t1 &&& t0) (l6 + 1) _ _ _ _ _ _ hp hH (lv_sub hl [2, 3, 1, 0] rfl)
set_option maxHeartbeats 4000000 in
set_option maxRecDepth 100000 in
theorem w_Mdl_isToken_74 {res : (Int32 ⊕ (Nat × Nat)) × xH} (C : x_C l s0 A0 D R_Mdl prog_11_method_9_code 7 [] p s m args meth c) (hr : meth.sig.returnType = (some .boolean)) (hnm : meth.name = "isToken") (hRf : 1 ≤ R.frames) (hRl : 30 ≤ R.locals) {k40 : Nat → Int64 → Int32 → Int32 → xM Int32} (hs40 : ∀ (l0 : Nat) (l1 : Int64) (l5 : Int32) (l6 : Int32) (h : xH) (H : Heap) (locs : List Loc) (cells slots : Nat) (ls : Array Slot), k40 l0 l1 l5 l6 h = some res → x_S s0 D R h H locs cells slots → lv_has ls 7 [(0, .ref l0), (1, .long l1), (5, .int l5), (6, .int l6)] → W p l e R s m args below meth c H locs cells slots (x_Q s0 D below s R (x_oc vI res.1) res.2) (F0 m 40 ls [])) (l0 : Nat) (l1 : Int64) (l6 : Int32) (t0 : Int32) (t1 : Int32) (t2 : Int32) (hp : f_Mdl_isToken_b74 k40 l0 l1 l6 t0 t1 t2 h = some res) (hH : x_S s0 D R h H locs cells slots) (hl : lv_has ls 7 [(0, .ref l0), (1, .long l1), (6, .int l6)]) : W p l e R s m args below meth c H locs cells slots (x_Q s0 D below s R (x_oc vI res.1) res.2) (F0 m 74 ls [.int t0, .int t1, .int t2]) := by
  obtain ⟨hx, hb, hown, hts, hK, hml, hW, Z, -⟩ := id C
  unfold f_Mdl_isToken_b74 at hp
  refine lv_icmp_gt (tgt := 81) hx hb d_Mdl_isToken_74 (by decide) (fun hc => ?_) (fun hc => ?_)
  · replace hp := x_ifp hc hp
    refine lv_iconst (v := 0) hx hb d_Mdl_isToken_81 (by decide) ?_
    exact w_Mdl_isToken_82 C hr hnm hRf hRl hs40 l0 l1 l6 0 t2 hp hH (lv_sub hl [0, 1, 2] rfl)
  · replace hp := x_ifn hc hp
    refine lv_iconst (v := 1) hx hb d_Mdl_isToken_77 (by decide) ?_
    refine lv_goto (tgt := 82) hx hb d_Mdl_isToken_78 (by decide) ?_
    exact w_Mdl_isToken_82 C hr hnm hRf hRl hs40 l0 l1 l6 1 t2 hp hH (lv_sub hl [0, 1, 2] rfl)
set_option maxHeartbeats 4000000 in
set_option maxRecDepth 100000 in
theorem w_Mdl_isToken_40 {res : (Int32 ⊕ (Nat × Nat)) × xH} (C : x_C l s0 A0 D R_Mdl prog_11_method_9_code 7 [] p s m args meth c) (hr : meth.sig.returnType = (some .boolean)) (hnm : meth.name = "isToken") (hRf : 1 ≤ R.frames) (hRl : 30 ≤ R.locals) {k40 : Nat → Int64 → Int32 → Int32 → xM Int32} (hs40 : ∀ (l0 : Nat) (l1 : Int64) (l5 : Int32) (l6 : Int32) (h : xH) (H : Heap) (locs : List Loc) (cells slots : Nat) (ls : Array Slot), k40 l0 l1 l5 l6 h = some res → x_S s0 D R h H locs cells slots → lv_has ls 7 [(0, .ref l0), (1, .long l1), (5, .int l5), (6, .int l6)] → W p l e R s m args below meth c H locs cells slots (x_Q s0 D below s R (x_oc vI res.1) res.2) (F0 m 40 ls [])) (l0 : Nat) (l1 : Int64) (l5 : Int32) (l6 : Int32) (hp : f_Mdl_isToken_b40 k40 l0 l1 l5 l6 h = some res) (hH : x_S s0 D R h H locs cells slots) (hl : lv_has ls 7 [(0, .ref l0), (1, .long l1), (5, .int l5), (6, .int l6)]) : W p l e R s m args below meth c H locs cells slots (x_Q s0 D below s R (x_oc vI res.1) res.2) (F0 m 40 ls []) := by
  obtain ⟨hx, hb, hown, hts, hK, hml, hW, Z, -⟩ := id C
  unfold f_Mdl_isToken_b40 at hp
  refine lv_iload hx hb d_Mdl_isToken_40 (lv_at hl 3 rfl) ?_
  refine lv_iconst (v := 3) hx hb d_Mdl_isToken_42 (by decide) ?_
  refine lv_icmp_ge (tgt := 91) hx hb d_Mdl_isToken_43 (by decide) (fun hc => ?_) (fun hc => ?_)
  · replace hp := x_ifp hc hp
    refine lv_iload hx hb d_Mdl_isToken_91 (lv_at hl 2 rfl) ?_
    exact x_zret C hH hr d_Mdl_isToken_93 hp
  · replace hp := x_ifn hc hp
    refine lv_iload hx hb d_Mdl_isToken_46 (lv_at hl 2 rfl) ?_
    refine lv_lload_n hx hb d_Mdl_isToken_48 rfl (lv_at hl 1 rfl) ?_
    refine lv_iload hx hb d_Mdl_isToken_49 (lv_at hl 3 rfl) ?_
    refine x_callS (As := [.long l1, .int l6]) (rest := [.int l5]) (cv := vI) C hH kc_Mdl_142 d_Mdl_isToken_51 hp (fun o h' e => m_Mdl_position Z e) rfl hl.1 (Nat.le_trans (Nat.le_of_ble_eq_true rfl) hRf) (Nat.le_trans (Nat.le_of_ble_eq_true rfl) hRl) (Nat.le_of_ble_eq_true rfl) (fun v1 h H locs cells slots hp hH => ?_)
    refine W.eq (g2 := F0 m 54 ls [.int v1, .int l5]) rfl ?_
    refine lv_iload hx hb d_Mdl_isToken_54 (lv_at hl 3 rfl) ?_
    refine lv_aload_n hx hb d_Mdl_isToken_56 rfl (lv_at hl 0 rfl) ?_
    refine x_gI C hH fl_Mdl_114 d_Mdl_isToken_57 hp (fun v2 hp => ?_)
    refine lv_icmp_ge (tgt := 73) hx hb d_Mdl_isToken_60 (by decide) (fun hc => ?_) (fun hc => ?_)
    · replace hp := x_ifp hc hp
      refine lv_iconst (v := 0) hx hb d_Mdl_isToken_73 (by decide) ?_
      exact w_Mdl_isToken_74 C hr hnm hRf hRl hs40 l0 l1 l6 0 v1 l5 hp hH (lv_sub hl [0, 1, 3] rfl)
    · replace hp := x_ifn hc hp
      refine lv_aload_n hx hb d_Mdl_isToken_63 rfl (lv_at hl 0 rfl) ?_
      refine x_gA C hH fl_Mdl_7 d_Mdl_isToken_64 hp (fun v3 hp => ?_)
      refine lv_iload hx hb d_Mdl_isToken_67 (lv_at hl 3 rfl) ?_
      refine x_lI C hH d_Mdl_isToken_69 hp (fun v4 hp => ?_)
      refine lv_goto (tgt := 74) hx hb d_Mdl_isToken_70 (by decide) ?_
      exact w_Mdl_isToken_74 C hr hnm hRf hRl hs40 l0 l1 l6 v4 v1 l5 hp hH (lv_sub hl [0, 1, 3] rfl)
theorem w_Mdl_isToken_h40 {res : (Int32 ⊕ (Nat × Nat)) × xH} (C : x_C l s0 A0 D R_Mdl prog_11_method_9_code 7 [] p s m args meth c) (hr : meth.sig.returnType = (some .boolean)) (hnm : meth.name = "isToken") (hRf : 1 ≤ R.frames) (hRl : 30 ≤ R.locals)  : ∀ (n : Nat) (l0 : Nat) (l1 : Int64) (l5 : Int32) (l6 : Int32) (h : xH) (H : Heap) (locs : List Loc) (cells slots : Nat) (ls : Array Slot), f_Mdl_isToken_h40 n l0 l1 l5 l6 h = some res → x_S s0 D R h H locs cells slots → lv_has ls 7 [(0, .ref l0), (1, .long l1), (5, .int l5), (6, .int l6)] → W p l e R s m args below meth c H locs cells slots (x_Q s0 D below s R (x_oc vI res.1) res.2) (F0 m 40 ls []) := by
  intro n
  induction n with
  | zero => intro l0 l1 l5 l6 h H locs cells slots ls hp hH hl; cases hp
  | succ n ih => intro l0 l1 l5 l6 h H locs cells slots ls hp hH hl; exact w_Mdl_isToken_40 C hr hnm hRf hRl ih l0 l1 l5 l6 hp hH hl
set_option maxHeartbeats 4000000 in
set_option maxRecDepth 100000 in
theorem w_Mdl_isToken_32 {res : (Int32 ⊕ (Nat × Nat)) × xH} (C : x_C l s0 A0 D R_Mdl prog_11_method_9_code 7 [] p s m args meth c) (hr : meth.sig.returnType = (some .boolean)) (hnm : meth.name = "isToken") (hRf : 1 ≤ R.frames) (hRl : 30 ≤ R.locals)   (hp : f_Mdl_isToken_b32 h = some res) (hH : x_S s0 D R h H locs cells slots) (hl : lv_has ls 7 []) : W p l e R s m args below meth c H locs cells slots (x_Q s0 D below s R (x_oc vI res.1) res.2) (F0 m 32 ls []) := by
  obtain ⟨hx, hb, hown, hts, hK, hml, hW, Z, -⟩ := id C
  unfold f_Mdl_isToken_b32 at hp
  refine lv_iconst (v := 0) hx hb d_Mdl_isToken_32 (by decide) ?_
  exact x_zret C hH hr d_Mdl_isToken_33 hp
set_option maxHeartbeats 4000000 in
set_option maxRecDepth 100000 in
theorem w_Mdl_isToken_0 {res : (Int32 ⊕ (Nat × Nat)) × xH} (C : x_C l s0 A0 D R_Mdl prog_11_method_9_code 7 [] p s m args meth c) (hr : meth.sig.returnType = (some .boolean)) (hnm : meth.name = "isToken") (hRf : 1 ≤ R.frames) (hRl : 30 ≤ R.locals)  (l0 : Nat) (l1 : Int64) (hp : f_Mdl_isToken l0 l1 h = some res) (hH : x_S s0 D R h H locs cells slots) (hl : lv_has ls 7 [(0, .ref l0), (1, .long l1)]) : W p l e R s m args below meth c H locs cells slots (x_Q s0 D below s R (x_oc vI res.1) res.2) (F0 m 0 ls []) := by
  obtain ⟨hx, hb, hown, hts, hK, hml, hW, Z, -⟩ := id C
  unfold f_Mdl_isToken at hp
  refine lv_lload_n hx hb d_Mdl_isToken_0 rfl (lv_at hl 1 rfl) ?_
  refine lv_bipush (v := 20) hx hb d_Mdl_isToken_1 (by decide) ?_
  refine lv_lshr (v := (l1 >>> ((20 : Int32).toInt64 &&& 63))) hx hb d_Mdl_isToken_3 rfl ?_
  refine lv_lstore_n (lv' := [(3, .long (l1 >>> ((20 : Int32).toInt64 &&& 63))), (0, .ref l0), (1, .long l1)]) hx hb d_Mdl_isToken_4 rfl hl (by decide) rfl (fun ls hl => ?_)
  refine lv_lload_n hx hb d_Mdl_isToken_5 rfl (lv_at hl 2 rfl) ?_
  refine lv_lconst (v := 0) hx hb d_Mdl_isToken_6 (by decide) ?_
  refine W.lcmp hx hb d_Mdl_isToken_7 ?_
  refine lv_if_lt (tgt := 32) hx hb d_Mdl_isToken_8 (by decide) (fun hc => ?_) (fun hc => ?_)
  · replace hp := x_ifp hc hp
    exact w_Mdl_isToken_32 C hr hnm hRf hRl   hp hH (lv_sub hl [] rfl)
  · replace hp := x_ifn hc hp
    refine lv_lload_n hx hb d_Mdl_isToken_11 rfl (lv_at hl 0 rfl) ?_
    refine lv_ldc2 hx hb hown (hts _ k_977) d_Mdl_isToken_12 ?_
    refine W.lcmp hx hb d_Mdl_isToken_15 ?_
    refine lv_if_ge (tgt := 32) hx hb d_Mdl_isToken_16 (by decide) (fun hc => ?_) (fun hc => ?_)
    · replace hp := x_ifp hc hp
      exact w_Mdl_isToken_32 C hr hnm hRf hRl   hp hH (lv_sub hl [] rfl)
    · replace hp := x_ifn hc hp
      refine lv_lload_n hx hb d_Mdl_isToken_19 rfl (lv_at hl 2 rfl) ?_
      refine lv_ldc2 hx hb hown (hts _ k_978) d_Mdl_isToken_20 ?_
      refine lv_land hx hb d_Mdl_isToken_23 ?_
      refine lv_lload_n hx hb d_Mdl_isToken_24 rfl (lv_at hl 0 rfl) ?_
      refine x_callS (As := [.long (l1 >>> ((20 : Int32).toInt64 &&& 63))]) (rest := [.long (l1 &&& 1048575)]) (cv := vJ) C hH kc_Mdl_132 d_Mdl_isToken_25 hp (fun o h' e => m_Mdl_check Z e) rfl hl.1 (Nat.le_trans (Nat.le_of_ble_eq_true rfl) hRf) (Nat.le_trans (Nat.le_of_ble_eq_true rfl) hRl) (Nat.le_of_ble_eq_true rfl) (fun v1 h H locs cells slots hp hH => ?_)
      refine W.eq (g2 := F0 m 28 ls [.long v1, .long (l1 &&& 1048575)]) rfl ?_
      refine W.lcmp hx hb d_Mdl_isToken_28 ?_
      refine lv_if_eq (tgt := 34) hx hb d_Mdl_isToken_29 (by decide) (fun hc => ?_) (fun hc => ?_)
      · replace hp := x_ifp hc hp
        refine lv_iconst (v := 1) hx hb d_Mdl_isToken_34 (by decide) ?_
        refine lv_istore (lv' := [(5, .int 1), (3, .long (l1 >>> ((20 : Int32).toInt64 &&& 63))), (0, .ref l0), (1, .long l1)]) hx hb d_Mdl_isToken_35 hl (by decide) rfl (fun ls hl => ?_)
        refine lv_iconst (v := 0) hx hb d_Mdl_isToken_37 (by decide) ?_
        refine lv_istore (lv' := [(6, .int 0), (5, .int 1), (3, .long (l1 >>> ((20 : Int32).toInt64 &&& 63))), (0, .ref l0), (1, .long l1)]) hx hb d_Mdl_isToken_38 hl (by decide) rfl (fun ls hl => ?_)
        exact w_Mdl_isToken_h40 C hr hnm hRf hRl  1000 l0 l1 1 0 _ _ _ _ _ _ hp hH (lv_sub hl [3, 4, 1, 0] rfl)
      · replace hp := x_ifn hc hp
        exact w_Mdl_isToken_32 C hr hnm hRf hRl   hp hH (lv_sub hl [] rfl)
set_option maxRecDepth 100000 in
theorem m_Mdl_isToken (Z : x_Z l s0 A0 D) {l0 : Nat} {l1 : Int64} {res : (Int32 ⊕ (Nat × Nat)) × xH} (hp : f_Mdl_isToken l0 l1 h = some res) : x_M l s0 D y_Mdl_isToken (x_cw y_Mdl_isToken prog_11_method_9_code 7 (some .boolean) []) 1 30 [.ref l0, .long l1] h (x_oc vI res.1) res.2 := by
  refine x_M.ofW Z (plainFor_of_name (by decide)) ?_
  intro p e s m below meth c C hnm hr hH
  have hl := lv_entry ([.ref l0, .long l1]) (n := 7) (Nat.le_of_ble_eq_true rfl)
  rw [lg_entry_eq]
  generalize (lg_sl ([.ref l0, .long l1]) ++ List.replicate (7 - (lg_sl ([.ref l0, .long l1])).length) Slot.unset).toArray = ls at hl ⊢
  exact w_Mdl_isToken_0 C hr hnm (Nat.le_refl _) (Nat.le_refl _) l0 l1 hp hH hl
end GEN
