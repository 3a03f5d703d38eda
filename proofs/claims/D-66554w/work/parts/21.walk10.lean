section GEN
variable {p : Program} {l : Launch} {e : Env} {R : Room} {s : State} {m : MethodId} {args : Array Value} {below : List Frame} {meth : Method} {c : Code} {H : Heap} {locs : List Loc} {cells slots : Nat} {ls : Array Slot} {D : xD} {s0 : State} {A0 : Array Value} {h : xH}
/-! ReadSideModel.ask(IJIIII)I -/
theorem d_Mdl_ask_0 : decode prog_11_method_37_code 0 = .ok (.aload_n 0, 1) := by decide +kernel
theorem d_Mdl_ask_1 : decode prog_11_method_37_code 1 = .ok (.lload_n 2, 1) := by decide +kernel
theorem d_Mdl_ask_2 : decode prog_11_method_37_code 2 = .ok (.invokevirtual 237, 3) := by decide +kernel
theorem d_Mdl_ask_5 : decode prog_11_method_37_code 5 = .ok (.ifCond .eq 35, 3) := by decide +kernel
theorem d_Mdl_ask_8 : decode prog_11_method_37_code 8 = .ok (.iload 4, 2) := by decide +kernel
theorem d_Mdl_ask_10 : decode prog_11_method_37_code 10 = .ok (.i2l, 1) := by decide +kernel
theorem d_Mdl_ask_11 : decode prog_11_method_37_code 11 = .ok (.ldc2_w 223, 3) := by decide +kernel
theorem d_Mdl_ask_14 : decode prog_11_method_37_code 14 = .ok (.ldc2_w 241, 3) := by decide +kernel
theorem d_Mdl_ask_17 : decode prog_11_method_37_code 17 = .ok (.invokestatic 148, 3) := by decide +kernel
theorem d_Mdl_ask_20 : decode prog_11_method_37_code 20 = .ok (.ifCond .eq 20, 3) := by decide +kernel
theorem d_Mdl_ask_23 : decode prog_11_method_37_code 23 = .ok (.iload 5, 2) := by decide +kernel
theorem d_Mdl_ask_25 : decode prog_11_method_37_code 25 = .ok (.i2l, 1) := by decide +kernel
theorem d_Mdl_ask_26 : decode prog_11_method_37_code 26 = .ok (.lconst 0, 1) := by decide +kernel
theorem d_Mdl_ask_27 : decode prog_11_method_37_code 27 = .ok (.ldc2_w 171, 3) := by decide +kernel
theorem d_Mdl_ask_30 : decode prog_11_method_37_code 30 = .ok (.invokestatic 148, 3) := by decide +kernel
theorem d_Mdl_ask_33 : decode prog_11_method_37_code 33 = .ok (.ifCond .eq 7, 3) := by decide +kernel
theorem d_Mdl_ask_36 : decode prog_11_method_37_code 36 = .ok (.iconst 1, 1) := by decide +kernel
theorem d_Mdl_ask_37 : decode prog_11_method_37_code 37 = .ok (.goto 4, 3) := by decide +kernel
theorem d_Mdl_ask_40 : decode prog_11_method_37_code 40 = .ok (.iconst 0, 1) := by decide +kernel
theorem d_Mdl_ask_41 : decode prog_11_method_37_code 41 = .ok (.istore 8, 2) := by decide +kernel
theorem d_Mdl_ask_43 : decode prog_11_method_37_code 43 = .ok (.aload_n 0, 1) := by decide +kernel
theorem d_Mdl_ask_44 : decode prog_11_method_37_code 44 = .ok (.iload_n 1, 1) := by decide +kernel
theorem d_Mdl_ask_45 : decode prog_11_method_37_code 45 = .ok (.invokestatic 152, 3) := by decide +kernel
theorem d_Mdl_ask_48 : decode prog_11_method_37_code 48 = .ok (.ifCond .eq 14, 3) := by decide +kernel
theorem d_Mdl_ask_51 : decode prog_11_method_37_code 51 = .ok (.aload_n 0, 1) := by decide +kernel
theorem d_Mdl_ask_52 : decode prog_11_method_37_code 52 = .ok (.iload 6, 2) := by decide +kernel
theorem d_Mdl_ask_54 : decode prog_11_method_37_code 54 = .ok (.iload 7, 2) := by decide +kernel
theorem d_Mdl_ask_56 : decode prog_11_method_37_code 56 = .ok (.invokevirtual 243, 3) := by decide +kernel
theorem d_Mdl_ask_59 : decode prog_11_method_37_code 59 = .ok (.ifCond .ne 7, 3) := by decide +kernel
theorem d_Mdl_ask_62 : decode prog_11_method_37_code 62 = .ok (.iconst 1, 1) := by decide +kernel
theorem d_Mdl_ask_63 : decode prog_11_method_37_code 63 = .ok (.goto 27, 3) := by decide +kernel
theorem d_Mdl_ask_66 : decode prog_11_method_37_code 66 = .ok (.iload 8, 2) := by decide +kernel
theorem d_Mdl_ask_68 : decode prog_11_method_37_code 68 = .ok (.ifCond .ne 7, 3) := by decide +kernel
theorem d_Mdl_ask_71 : decode prog_11_method_37_code 71 = .ok (.iconst 2, 1) := by decide +kernel
theorem d_Mdl_ask_72 : decode prog_11_method_37_code 72 = .ok (.goto 18, 3) := by decide +kernel
theorem d_Mdl_ask_75 : decode prog_11_method_37_code 75 = .ok (.aload_n 0, 1) := by decide +kernel
theorem d_Mdl_ask_76 : decode prog_11_method_37_code 76 = .ok (.getfield 204, 3) := by decide +kernel
theorem d_Mdl_ask_79 : decode prog_11_method_37_code 79 = .ok (.sipush 500, 3) := by decide +kernel
theorem d_Mdl_ask_82 : decode prog_11_method_37_code 82 = .ok (.if_icmp .ne 7, 3) := by decide +kernel
theorem d_Mdl_ask_85 : decode prog_11_method_37_code 85 = .ok (.iconst 3, 1) := by decide +kernel
theorem d_Mdl_ask_86 : decode prog_11_method_37_code 86 = .ok (.goto 4, 3) := by decide +kernel
theorem d_Mdl_ask_89 : decode prog_11_method_37_code 89 = .ok (.iconst 0, 1) := by decide +kernel
theorem d_Mdl_ask_90 : decode prog_11_method_37_code 90 = .ok (.putfield 121, 3) := by decide +kernel
theorem d_Mdl_ask_93 : decode prog_11_method_37_code 93 = .ok (.aload_n 0, 1) := by decide +kernel
theorem d_Mdl_ask_94 : decode prog_11_method_37_code 94 = .ok (.getfield 121, 3) := by decide +kernel
theorem d_Mdl_ask_97 : decode prog_11_method_37_code 97 = .ok (.ifCond .le 5, 3) := by decide +kernel
theorem d_Mdl_ask_100 : decode prog_11_method_37_code 100 = .ok (.iconst 0, 1) := by decide +kernel
theorem d_Mdl_ask_101 : decode prog_11_method_37_code 101 = .ok (.ireturn, 1) := by decide +kernel
theorem d_Mdl_ask_102 : decode prog_11_method_37_code 102 = .ok (.aload_n 0, 1) := by decide +kernel
theorem d_Mdl_ask_103 : decode prog_11_method_37_code 103 = .ok (.getfield 204, 3) := by decide +kernel
theorem d_Mdl_ask_106 : decode prog_11_method_37_code 106 = .ok (.istore 9, 2) := by decide +kernel
theorem d_Mdl_ask_108 : decode prog_11_method_37_code 108 = .ok (.aload_n 0, 1) := by decide +kernel
theorem d_Mdl_ask_109 : decode prog_11_method_37_code 109 = .ok (.getfield 81, 3) := by decide +kernel
theorem d_Mdl_ask_112 : decode prog_11_method_37_code 112 = .ok (.iload 9, 2) := by decide +kernel
theorem d_Mdl_ask_114 : decode prog_11_method_37_code 114 = .ok (.iload_n 1, 1) := by decide +kernel
theorem d_Mdl_ask_115 : decode prog_11_method_37_code 115 = .ok (.iastore, 1) := by decide +kernel
theorem d_Mdl_ask_116 : decode prog_11_method_37_code 116 = .ok (.iconst 0, 1) := by decide +kernel
theorem d_Mdl_ask_117 : decode prog_11_method_37_code 117 = .ok (.istore 10, 2) := by decide +kernel
theorem d_Mdl_ask_119 : decode prog_11_method_37_code 119 = .ok (.iload 10, 2) := by decide +kernel
theorem d_Mdl_ask_121 : decode prog_11_method_37_code 121 = .ok (.iconst 3, 1) := by decide +kernel
theorem d_Mdl_ask_122 : decode prog_11_method_37_code 122 = .ok (.if_icmp .ge 27, 3) := by decide +kernel
theorem d_Mdl_ask_125 : decode prog_11_method_37_code 125 = .ok (.aload_n 0, 1) := by decide +kernel
theorem d_Mdl_ask_126 : decode prog_11_method_37_code 126 = .ok (.getfield 84, 3) := by decide +kernel
theorem d_Mdl_ask_129 : decode prog_11_method_37_code 129 = .ok (.iconst 3, 1) := by decide +kernel
theorem d_Mdl_ask_130 : decode prog_11_method_37_code 130 = .ok (.iload 9, 2) := by decide +kernel
theorem d_Mdl_ask_132 : decode prog_11_method_37_code 132 = .ok (.imul, 1) := by decide +kernel
theorem d_Mdl_ask_133 : decode prog_11_method_37_code 133 = .ok (.iload 10, 2) := by decide +kernel
theorem d_Mdl_ask_135 : decode prog_11_method_37_code 135 = .ok (.iadd, 1) := by decide +kernel
theorem d_Mdl_ask_136 : decode prog_11_method_37_code 136 = .ok (.lload_n 2, 1) := by decide +kernel
theorem d_Mdl_ask_137 : decode prog_11_method_37_code 137 = .ok (.iload 10, 2) := by decide +kernel
theorem d_Mdl_ask_139 : decode prog_11_method_37_code 139 = .ok (.invokestatic 142, 3) := by decide +kernel
theorem d_Mdl_ask_142 : decode prog_11_method_37_code 142 = .ok (.iastore, 1) := by decide +kernel
theorem d_Mdl_ask_143 : decode prog_11_method_37_code 143 = .ok (.iinc 10 1, 3) := by decide +kernel
theorem d_Mdl_ask_146 : decode prog_11_method_37_code 146 = .ok (.goto (-27), 3) := by decide +kernel
theorem d_Mdl_ask_149 : decode prog_11_method_37_code 149 = .ok (.aload_n 0, 1) := by decide +kernel
theorem d_Mdl_ask_150 : decode prog_11_method_37_code 150 = .ok (.getfield 87, 3) := by decide +kernel
theorem d_Mdl_ask_153 : decode prog_11_method_37_code 153 = .ok (.iload 9, 2) := by decide +kernel
theorem d_Mdl_ask_155 : decode prog_11_method_37_code 155 = .ok (.iload 4, 2) := by decide +kernel
theorem d_Mdl_ask_157 : decode prog_11_method_37_code 157 = .ok (.iastore, 1) := by decide +kernel
theorem d_Mdl_ask_158 : decode prog_11_method_37_code 158 = .ok (.aload_n 0, 1) := by decide +kernel
theorem d_Mdl_ask_159 : decode prog_11_method_37_code 159 = .ok (.getfield 90, 3) := by decide +kernel
theorem d_Mdl_ask_162 : decode prog_11_method_37_code 162 = .ok (.iload 9, 2) := by decide +kernel
theorem d_Mdl_ask_164 : decode prog_11_method_37_code 164 = .ok (.iload 5, 2) := by decide +kernel
theorem d_Mdl_ask_166 : decode prog_11_method_37_code 166 = .ok (.iastore, 1) := by decide +kernel
theorem d_Mdl_ask_167 : decode prog_11_method_37_code 167 = .ok (.aload_n 0, 1) := by decide +kernel
theorem d_Mdl_ask_168 : decode prog_11_method_37_code 168 = .ok (.getfield 93, 3) := by decide +kernel
theorem d_Mdl_ask_171 : decode prog_11_method_37_code 171 = .ok (.iload 9, 2) := by decide +kernel
theorem d_Mdl_ask_173 : decode prog_11_method_37_code 173 = .ok (.aload_n 0, 1) := by decide +kernel
theorem d_Mdl_ask_174 : decode prog_11_method_37_code 174 = .ok (.getfield 201, 3) := by decide +kernel
theorem d_Mdl_ask_177 : decode prog_11_method_37_code 177 = .ok (.iastore, 1) := by decide +kernel
theorem d_Mdl_ask_178 : decode prog_11_method_37_code 178 = .ok (.aload_n 0, 1) := by decide +kernel
theorem d_Mdl_ask_179 : decode prog_11_method_37_code 179 = .ok (.getfield 96, 3) := by decide +kernel
theorem d_Mdl_ask_182 : decode prog_11_method_37_code 182 = .ok (.iload 9, 2) := by decide +kernel
theorem d_Mdl_ask_184 : decode prog_11_method_37_code 184 = .ok (.iload 6, 2) := by decide +kernel
theorem d_Mdl_ask_186 : decode prog_11_method_37_code 186 = .ok (.iastore, 1) := by decide +kernel
theorem d_Mdl_ask_187 : decode prog_11_method_37_code 187 = .ok (.aload_n 0, 1) := by decide +kernel
theorem d_Mdl_ask_188 : decode prog_11_method_37_code 188 = .ok (.getfield 99, 3) := by decide +kernel
theorem d_Mdl_ask_191 : decode prog_11_method_37_code 191 = .ok (.iload 9, 2) := by decide +kernel
theorem d_Mdl_ask_193 : decode prog_11_method_37_code 193 = .ok (.iload 7, 2) := by decide +kernel
theorem d_Mdl_ask_195 : decode prog_11_method_37_code 195 = .ok (.iastore, 1) := by decide +kernel
theorem d_Mdl_ask_196 : decode prog_11_method_37_code 196 = .ok (.aload_n 0, 1) := by decide +kernel
theorem d_Mdl_ask_197 : decode prog_11_method_37_code 197 = .ok (.getfield 102, 3) := by decide +kernel
theorem d_Mdl_ask_200 : decode prog_11_method_37_code 200 = .ok (.iload 9, 2) := by decide +kernel
theorem d_Mdl_ask_202 : decode prog_11_method_37_code 202 = .ok (.iconst (-1), 1) := by decide +kernel
theorem d_Mdl_ask_203 : decode prog_11_method_37_code 203 = .ok (.iastore, 1) := by decide +kernel
theorem d_Mdl_ask_204 : decode prog_11_method_37_code 204 = .ok (.aload_n 0, 1) := by decide +kernel
theorem d_Mdl_ask_205 : decode prog_11_method_37_code 205 = .ok (.getfield 105, 3) := by decide +kernel
theorem d_Mdl_ask_208 : decode prog_11_method_37_code 208 = .ok (.iload 9, 2) := by decide +kernel
theorem d_Mdl_ask_210 : decode prog_11_method_37_code 210 = .ok (.lconst 0, 1) := by decide +kernel
theorem d_Mdl_ask_211 : decode prog_11_method_37_code 211 = .ok (.lastore, 1) := by decide +kernel
theorem d_Mdl_ask_212 : decode prog_11_method_37_code 212 = .ok (.aload_n 0, 1) := by decide +kernel
theorem d_Mdl_ask_213 : decode prog_11_method_37_code 213 = .ok (.getfield 108, 3) := by decide +kernel
theorem d_Mdl_ask_216 : decode prog_11_method_37_code 216 = .ok (.iload 9, 2) := by decide +kernel
theorem d_Mdl_ask_218 : decode prog_11_method_37_code 218 = .ok (.lconst 0, 1) := by decide +kernel
theorem d_Mdl_ask_219 : decode prog_11_method_37_code 219 = .ok (.lastore, 1) := by decide +kernel
theorem d_Mdl_ask_220 : decode prog_11_method_37_code 220 = .ok (.aload_n 0, 1) := by decide +kernel
theorem d_Mdl_ask_221 : decode prog_11_method_37_code 221 = .ok (.getfield 111, 3) := by decide +kernel
theorem d_Mdl_ask_224 : decode prog_11_method_37_code 224 = .ok (.iload 9, 2) := by decide +kernel
theorem d_Mdl_ask_226 : decode prog_11_method_37_code 226 = .ok (.iconst (-1), 1) := by decide +kernel
theorem d_Mdl_ask_227 : decode prog_11_method_37_code 227 = .ok (.iastore, 1) := by decide +kernel
theorem d_Mdl_ask_228 : decode prog_11_method_37_code 228 = .ok (.iconst 0, 1) := by decide +kernel
theorem d_Mdl_ask_229 : decode prog_11_method_37_code 229 = .ok (.istore 10, 2) := by decide +kernel
theorem d_Mdl_ask_231 : decode prog_11_method_37_code 231 = .ok (.iload 10, 2) := by decide +kernel
theorem d_Mdl_ask_233 : decode prog_11_method_37_code 233 = .ok (.aload_n 0, 1) := by decide +kernel
theorem d_Mdl_ask_234 : decode prog_11_method_37_code 234 = .ok (.getfield 118, 3) := by decide +kernel
theorem d_Mdl_ask_237 : decode prog_11_method_37_code 237 = .ok (.if_icmp .ge 32, 3) := by decide +kernel
theorem d_Mdl_ask_240 : decode prog_11_method_37_code 240 = .ok (.aload_n 0, 1) := by decide +kernel
theorem d_Mdl_ask_241 : decode prog_11_method_37_code 241 = .ok (.aload_n 0, 1) := by decide +kernel
theorem d_Mdl_ask_242 : decode prog_11_method_37_code 242 = .ok (.getfield 69, 3) := by decide +kernel
theorem d_Mdl_ask_245 : decode prog_11_method_37_code 245 = .ok (.iload_n 1, 1) := by decide +kernel
theorem d_Mdl_ask_246 : decode prog_11_method_37_code 246 = .ok (.iaload, 1) := by decide +kernel
theorem d_Mdl_ask_247 : decode prog_11_method_37_code 247 = .ok (.iload 10, 2) := by decide +kernel
theorem d_Mdl_ask_249 : decode prog_11_method_37_code 249 = .ok (.iadd, 1) := by decide +kernel
theorem d_Mdl_ask_250 : decode prog_11_method_37_code 250 = .ok (.aload_n 0, 1) := by decide +kernel
theorem d_Mdl_ask_251 : decode prog_11_method_37_code 251 = .ok (.getfield 118, 3) := by decide +kernel
theorem d_Mdl_ask_254 : decode prog_11_method_37_code 254 = .ok (.irem, 1) := by decide +kernel
theorem d_Mdl_ask_255 : decode prog_11_method_37_code 255 = .ok (.iload 9, 2) := by decide +kernel
theorem d_Mdl_ask_257 : decode prog_11_method_37_code 257 = .ok (.invokevirtual 231, 3) := by decide +kernel
theorem d_Mdl_ask_260 : decode prog_11_method_37_code 260 = .ok (.ifCond .ne 9, 3) := by decide +kernel
theorem d_Mdl_ask_263 : decode prog_11_method_37_code 263 = .ok (.iinc 10 1, 3) := by decide +kernel
theorem d_Mdl_ask_266 : decode prog_11_method_37_code 266 = .ok (.goto (-35), 3) := by decide +kernel
theorem d_Mdl_ask_269 : decode prog_11_method_37_code 269 = .ok (.aload_n 0, 1) := by decide +kernel
theorem d_Mdl_ask_270 : decode prog_11_method_37_code 270 = .ok (.iload 10, 2) := by decide +kernel
theorem d_Mdl_ask_272 : decode prog_11_method_37_code 272 = .ok (.aload_n 0, 1) := by decide +kernel
theorem d_Mdl_ask_273 : decode prog_11_method_37_code 273 = .ok (.getfield 118, 3) := by decide +kernel
theorem d_Mdl_ask_276 : decode prog_11_method_37_code 276 = .ok (.if_icmp .ne 21, 3) := by decide +kernel
theorem d_Mdl_ask_279 : decode prog_11_method_37_code 279 = .ok (.iload 5, 2) := by decide +kernel
theorem d_Mdl_ask_281 : decode prog_11_method_37_code 281 = .ok (.ifCond .le 16, 3) := by decide +kernel
theorem d_Mdl_ask_284 : decode prog_11_method_37_code 284 = .ok (.aload_n 0, 1) := by decide +kernel
theorem d_Mdl_ask_285 : decode prog_11_method_37_code 285 = .ok (.invokevirtual 246, 3) := by decide +kernel
theorem d_Mdl_ask_288 : decode prog_11_method_37_code 288 = .ok (.bipush 40, 2) := by decide +kernel
theorem d_Mdl_ask_290 : decode prog_11_method_37_code 290 = .ok (.if_icmp .ne 7, 3) := by decide +kernel
theorem d_Mdl_ask_293 : decode prog_11_method_37_code 293 = .ok (.iconst 3, 1) := by decide +kernel
theorem d_Mdl_ask_294 : decode prog_11_method_37_code 294 = .ok (.goto 4, 3) := by decide +kernel
theorem d_Mdl_ask_297 : decode prog_11_method_37_code 297 = .ok (.iconst 0, 1) := by decide +kernel
theorem d_Mdl_ask_298 : decode prog_11_method_37_code 298 = .ok (.putfield 121, 3) := by decide +kernel
theorem d_Mdl_ask_301 : decode prog_11_method_37_code 301 = .ok (.aload_n 0, 1) := by decide +kernel
theorem d_Mdl_ask_302 : decode prog_11_method_37_code 302 = .ok (.getfield 121, 3) := by decide +kernel
theorem d_Mdl_ask_305 : decode prog_11_method_37_code 305 = .ok (.ifCond .le 5, 3) := by decide +kernel
theorem d_Mdl_ask_308 : decode prog_11_method_37_code 308 = .ok (.iconst 0, 1) := by decide +kernel
theorem d_Mdl_ask_309 : decode prog_11_method_37_code 309 = .ok (.ireturn, 1) := by decide +kernel
theorem d_Mdl_ask_310 : decode prog_11_method_37_code 310 = .ok (.aload_n 0, 1) := by decide +kernel
theorem d_Mdl_ask_311 : decode prog_11_method_37_code 311 = .ok (.dup, 1) := by decide +kernel
theorem d_Mdl_ask_312 : decode prog_11_method_37_code 312 = .ok (.getfield 204, 3) := by decide +kernel
theorem d_Mdl_ask_315 : decode prog_11_method_37_code 315 = .ok (.iconst 1, 1) := by decide +kernel
theorem d_Mdl_ask_316 : decode prog_11_method_37_code 316 = .ok (.iadd, 1) := by decide +kernel
theorem d_Mdl_ask_317 : decode prog_11_method_37_code 317 = .ok (.putfield 204, 3) := by decide +kernel
theorem d_Mdl_ask_320 : decode prog_11_method_37_code 320 = .ok (.aload_n 0, 1) := by decide +kernel
theorem d_Mdl_ask_321 : decode prog_11_method_37_code 321 = .ok (.getfield 78, 3) := by decide +kernel
theorem d_Mdl_ask_324 : decode prog_11_method_37_code 324 = .ok (.iload 9, 2) := by decide +kernel
theorem d_Mdl_ask_326 : decode prog_11_method_37_code 326 = .ok (.iconst 0, 1) := by decide +kernel
theorem d_Mdl_ask_327 : decode prog_11_method_37_code 327 = .ok (.iastore, 1) := by decide +kernel
theorem d_Mdl_ask_328 : decode prog_11_method_37_code 328 = .ok (.iload 10, 2) := by decide +kernel
theorem d_Mdl_ask_330 : decode prog_11_method_37_code 330 = .ok (.aload_n 0, 1) := by decide +kernel
theorem d_Mdl_ask_331 : decode prog_11_method_37_code 331 = .ok (.getfield 118, 3) := by decide +kernel
theorem d_Mdl_ask_334 : decode prog_11_method_37_code 334 = .ok (.if_icmp .ge 26, 3) := by decide +kernel
theorem d_Mdl_ask_337 : decode prog_11_method_37_code 337 = .ok (.aload_n 0, 1) := by decide +kernel
theorem d_Mdl_ask_338 : decode prog_11_method_37_code 338 = .ok (.aload_n 0, 1) := by decide +kernel
theorem d_Mdl_ask_339 : decode prog_11_method_37_code 339 = .ok (.getfield 69, 3) := by decide +kernel
theorem d_Mdl_ask_342 : decode prog_11_method_37_code 342 = .ok (.iload_n 1, 1) := by decide +kernel
theorem d_Mdl_ask_343 : decode prog_11_method_37_code 343 = .ok (.iaload, 1) := by decide +kernel
theorem d_Mdl_ask_344 : decode prog_11_method_37_code 344 = .ok (.iload 10, 2) := by decide +kernel
theorem d_Mdl_ask_346 : decode prog_11_method_37_code 346 = .ok (.iadd, 1) := by decide +kernel
theorem d_Mdl_ask_347 : decode prog_11_method_37_code 347 = .ok (.aload_n 0, 1) := by decide +kernel
theorem d_Mdl_ask_348 : decode prog_11_method_37_code 348 = .ok (.getfield 118, 3) := by decide +kernel
theorem d_Mdl_ask_351 : decode prog_11_method_37_code 351 = .ok (.irem, 1) := by decide +kernel
theorem d_Mdl_ask_352 : decode prog_11_method_37_code 352 = .ok (.iload 9, 2) := by decide +kernel
theorem d_Mdl_ask_354 : decode prog_11_method_37_code 354 = .ok (.invokevirtual 235, 3) := by decide +kernel
theorem d_Mdl_ask_357 : decode prog_11_method_37_code 357 = .ok (.goto 14, 3) := by decide +kernel
theorem d_Mdl_ask_360 : decode prog_11_method_37_code 360 = .ok (.iload 5, 2) := by decide +kernel
theorem d_Mdl_ask_362 : decode prog_11_method_37_code 362 = .ok (.ifCond .ne 9, 3) := by decide +kernel
theorem d_Mdl_ask_365 : decode prog_11_method_37_code 365 = .ok (.aload_n 0, 1) := by decide +kernel
theorem d_Mdl_ask_366 : decode prog_11_method_37_code 366 = .ok (.iload 9, 2) := by decide +kernel
theorem d_Mdl_ask_368 : decode prog_11_method_37_code 368 = .ok (.invokevirtual 207, 3) := by decide +kernel
theorem d_Mdl_ask_371 : decode prog_11_method_37_code 371 = .ok (.iload 9, 2) := by decide +kernel
theorem d_Mdl_ask_373 : decode prog_11_method_37_code 373 = .ok (.ireturn, 1) := by decide +kernel
set_option maxHeartbeats 4000000 in
set_option maxRecDepth 100000 in
theorem w_Mdl_ask_371 {res : (Int32 ⊕ (Nat × Nat)) × xH} (C : x_C l s0 A0 D R_Mdl prog_11_method_37_code 11 [] p s m args meth c) (hr : meth.sig.returnType = (some .int)) (hnm : meth.name = "ask") (hRf : 3 ≤ R.frames) (hRl : 102 ≤ R.locals)  (l9 : Int32) (hp : f_Mdl_ask_b371 l9 h = some res) (hH : x_S s0 D R h H locs cells slots) (hl : lv_has ls 11 [(9, .int l9)]) : W p l e R s m args below meth c H locs cells slots (x_Q s0 D below s R (x_oc vI res.1) res.2) (F0 m 371 ls []) := by
  obtain ⟨hx, hb, hown, hts, hK, hml, hW, Z, -⟩ := id C
  unfold f_Mdl_ask_b371 at hp
  refine lv_iload hx hb d_Mdl_ask_371 (lv_at hl 0 rfl) ?_
  exact x_iret C hH hr d_Mdl_ask_373 hp
set_option maxHeartbeats 4000000 in
set_option maxRecDepth 100000 in
theorem w_Mdl_ask_298 {res : (Int32 ⊕ (Nat × Nat)) × xH} (C : x_C l s0 A0 D R_Mdl prog_11_method_37_code 11 [] p s m args meth c) (hr : meth.sig.returnType = (some .int)) (hnm : meth.name = "ask") (hRf : 3 ≤ R.frames) (hRl : 102 ≤ R.locals)  (l0 : Nat) (l1 : Int32) (l5 : Int32) (l9 : Int32) (l10 : Int32) (t0 : Int32) (t1 : Nat) (hp : f_Mdl_ask_b298 l0 l1 l5 l9 l10 t0 t1 h = some res) (hH : x_S s0 D R h H locs cells slots) (hl : lv_has ls 11 [(0, .ref l0), (1, .int l1), (5, .int l5), (9, .int l9), (10, .int l10)]) : W p l e R s m args below meth c H locs cells slots (x_Q s0 D below s R (x_oc vI res.1) res.2) (F0 m 298 ls [.int t0, .ref t1]) := by
  obtain ⟨hx, hb, hown, hts, hK, hml, hW, Z, -⟩ := id C
  unfold f_Mdl_ask_b298 at hp
  refine x_pV C hH fp_Mdl_121 (fun h => Bool.noConfusion h) d_Mdl_ask_298 rfl rfl hp (fun h H locs hp hH => ?_)
  refine lv_aload_n hx hb d_Mdl_ask_301 rfl (lv_at hl 0 rfl) ?_
  refine x_gI C hH fl_Mdl_121 d_Mdl_ask_302 hp (fun v1 hp => ?_)
  refine lv_if_le (tgt := 310) hx hb d_Mdl_ask_305 (by decide) (fun hc => ?_) (fun hc => ?_)
  · replace hp := x_ifp hc hp
    refine lv_aload_n hx hb d_Mdl_ask_310 rfl (lv_at hl 0 rfl) ?_
    refine lv_dup hx hb d_Mdl_ask_311 rfl ?_
    refine x_gI C hH fl_Mdl_204 d_Mdl_ask_312 hp (fun v2 hp => ?_)
    refine lv_iconst (v := 1) hx hb d_Mdl_ask_315 (by decide) ?_
    refine lv_iadd hx hb d_Mdl_ask_316 ?_
    refine x_pV C hH fp_Mdl_204 (fun h => Bool.noConfusion h) d_Mdl_ask_317 rfl rfl hp (fun h H locs hp hH => ?_)
    refine lv_aload_n hx hb d_Mdl_ask_320 rfl (lv_at hl 0 rfl) ?_
    refine x_gA C hH fl_Mdl_78 d_Mdl_ask_321 hp (fun v3 hp => ?_)
    refine lv_iload hx hb d_Mdl_ask_324 (lv_at hl 3 rfl) ?_
    refine lv_iconst (v := 0) hx hb d_Mdl_ask_326 (by decide) ?_
    refine x_sI C hH d_Mdl_ask_327 hp (fun h H locs hp hH => ?_)
    refine lv_iload hx hb d_Mdl_ask_328 (lv_at hl 4 rfl) ?_
    refine lv_aload_n hx hb d_Mdl_ask_330 rfl (lv_at hl 0 rfl) ?_
    refine x_gI C hH fl_Mdl_118 d_Mdl_ask_331 hp (fun v4 hp => ?_)
    refine lv_icmp_ge (tgt := 360) hx hb d_Mdl_ask_334 (by decide) (fun hc => ?_) (fun hc => ?_)
    · replace hp := x_ifp hc hp
      refine lv_iload hx hb d_Mdl_ask_360 (lv_at hl 2 rfl) ?_
      refine lv_if_ne (tgt := 371) hx hb d_Mdl_ask_362 (by decide) (fun hc => ?_) (fun hc => ?_)
      · replace hp := x_ifn hc hp
        exact w_Mdl_ask_371 C hr hnm hRf hRl  l9 hp hH (lv_sub hl [3] rfl)
      · replace hp := x_ifp hc hp
        refine lv_aload_n hx hb d_Mdl_ask_365 rfl (lv_at hl 0 rfl) ?_
        refine lv_iload hx hb d_Mdl_ask_366 (lv_at hl 3 rfl) ?_
        refine x_callV (As := [.int l9]) (rest := []) (cv := vU) C hH kc_Mdl_207 d_Mdl_ask_368 hp (fun o h' e => m_Mdl_fail Z e) rfl hl.1 (Nat.le_trans (Nat.le_of_ble_eq_true rfl) hRf) (Nat.le_trans (Nat.le_of_ble_eq_true rfl) hRl) (Nat.le_of_ble_eq_true rfl) (fun v5 h H locs cells slots hp hH => ?_)
        refine W.eq (g2 := F0 m 371 ls []) rfl ?_
        exact w_Mdl_ask_371 C hr hnm hRf hRl  l9 hp hH (lv_sub hl [3] rfl)
    · replace hp := x_ifn hc hp
      refine lv_aload_n hx hb d_Mdl_ask_337 rfl (lv_at hl 0 rfl) ?_
      refine lv_aload_n hx hb d_Mdl_ask_338 rfl (lv_at hl 0 rfl) ?_
      refine x_gA C hH fl_Mdl_69 d_Mdl_ask_339 hp (fun v6 hp => ?_)
      refine lv_iload_n hx hb d_Mdl_ask_342 rfl (lv_at hl 1 rfl) ?_
      refine x_lI C hH d_Mdl_ask_343 hp (fun v7 hp => ?_)
      refine lv_iload hx hb d_Mdl_ask_344 (lv_at hl 4 rfl) ?_
      refine lv_iadd hx hb d_Mdl_ask_346 ?_
      refine lv_aload_n hx hb d_Mdl_ask_347 rfl (lv_at hl 0 rfl) ?_
      refine x_gI C hH fl_Mdl_118 d_Mdl_ask_348 hp (fun v8 hp => ?_)
      obtain ⟨hz, hp⟩ := rI_i hp
      refine lv_irem hx hb d_Mdl_ask_351 hz ?_
      generalize ev9 : (v7 + l10) - (v7 + l10) / v8 * v8 = v9 at hp ⊢
      refine lv_iload hx hb d_Mdl_ask_352 (lv_at hl 3 rfl) ?_
      refine x_callV (As := [.int v9, .int l9]) (rest := []) (cv := vU) C hH kc_Mdl_235 d_Mdl_ask_354 hp (fun o h' e => m_Mdl_answer Z e) rfl hl.1 (Nat.le_trans (Nat.le_of_ble_eq_true rfl) hRf) (Nat.le_trans (Nat.le_of_ble_eq_true rfl) hRl) (Nat.le_of_ble_eq_true rfl) (fun v10 h H locs cells slots hp hH => ?_)
      refine W.eq (g2 := F0 m 357 ls []) rfl ?_
      refine lv_goto (tgt := 371) hx hb d_Mdl_ask_357 (by decide) ?_
      exact w_Mdl_ask_371 C hr hnm hRf hRl  l9 hp hH (lv_sub hl [3] rfl)
  · replace hp := x_ifn hc hp
    refine lv_iconst (v := 0) hx hb d_Mdl_ask_308 (by decide) ?_
    exact x_iret C hH hr d_Mdl_ask_309 hp
set_option maxHeartbeats 4000000 in
set_option maxRecDepth 100000 in
theorem w_Mdl_ask_297 {res : (Int32 ⊕ (Nat × Nat)) × xH} (C : x_C l s0 A0 D R_Mdl prog_11_method_37_code 11 [] p s m args meth c) (hr : meth.sig.returnType = (some .int)) (hnm : meth.name = "ask") (hRf : 3 ≤ R.frames) (hRl : 102 ≤ R.locals)  (l0 : Nat) (l1 : Int32) (l5 : Int32) (l9 : Int32) (l10 : Int32) (t0 : Nat) (hp : f_Mdl_ask_b297 l0 l1 l5 l9 l10 t0 h = some res) (hH : x_S s0 D R h H locs cells slots) (hl : lv_has ls 11 [(0, .ref l0), (1, .int l1), (5, .int l5), (9, .int l9), (10, .int l10)]) : W p l e R s m args below meth c H locs cells slots (x_Q s0 D below s R (x_oc vI res.1) res.2) (F0 m 297 ls [.ref t0]) := by
  obtain ⟨hx, hb, hown, hts, hK, hml, hW, Z, -⟩ := id C
  unfold f_Mdl_ask_b297 at hp
  refine lv_iconst (v := 0) hx hb d_Mdl_ask_297 (by decide) ?_
  exact w_Mdl_ask_298 C hr hnm hRf hRl  l0 l1 l5 l9 l10 0 t0 hp hH (lv_sub hl [0, 1, 2, 3, 4] rfl)
set_option maxHeartbeats 4000000 in
set_option maxRecDepth 100000 in
theorem w_Mdl_ask_269 {res : (Int32 ⊕ (Nat × Nat)) × xH} (C : x_C l s0 A0 D R_Mdl prog_11_method_37_code 11 [] p s m args meth c) (hr : meth.sig.returnType = (some .int)) (hnm : meth.name = "ask") (hRf : 3 ≤ R.frames) (hRl : 102 ≤ R.locals)  (l0 : Nat) (l1 : Int32) (l5 : Int32) (l9 : Int32) (l10 : Int32) (hp : f_Mdl_ask_b269 l0 l1 l5 l9 l10 h = some res) (hH : x_S s0 D R h H locs cells slots) (hl : lv_has ls 11 [(0, .ref l0), (1, .int l1), (5, .int l5), (9, .int l9), (10, .int l10)]) : W p l e R s m args below meth c H locs cells slots (x_Q s0 D below s R (x_oc vI res.1) res.2) (F0 m 269 ls []) := by
  obtain ⟨hx, hb, hown, hts, hK, hml, hW, Z, -⟩ := id C
  unfold f_Mdl_ask_b269 at hp
  refine lv_aload_n hx hb d_Mdl_ask_269 rfl (lv_at hl 0 rfl) ?_
  refine lv_iload hx hb d_Mdl_ask_270 (lv_at hl 4 rfl) ?_
  refine lv_aload_n hx hb d_Mdl_ask_272 rfl (lv_at hl 0 rfl) ?_
  refine x_gI C hH fl_Mdl_118 d_Mdl_ask_273 hp (fun v1 hp => ?_)
  refine lv_icmp_ne (tgt := 297) hx hb d_Mdl_ask_276 (by decide) (fun hc => ?_) (fun hc => ?_)
  · replace hp := x_ifn hc hp
    exact w_Mdl_ask_297 C hr hnm hRf hRl  l0 l1 l5 l9 l10 l0 hp hH (lv_sub hl [0, 1, 2, 3, 4] rfl)
  · replace hp := x_ifp hc hp
    refine lv_iload hx hb d_Mdl_ask_279 (lv_at hl 2 rfl) ?_
    refine lv_if_le (tgt := 297) hx hb d_Mdl_ask_281 (by decide) (fun hc => ?_) (fun hc => ?_)
    · replace hp := x_ifp hc hp
      exact w_Mdl_ask_297 C hr hnm hRf hRl  l0 l1 l5 l9 l10 l0 hp hH (lv_sub hl [0, 1, 2, 3, 4] rfl)
    · replace hp := x_ifn hc hp
      refine lv_aload_n hx hb d_Mdl_ask_284 rfl (lv_at hl 0 rfl) ?_
      refine x_callV (As := []) (rest := [.ref l0]) (cv := vI) C hH kc_Mdl_246 d_Mdl_ask_285 hp (fun o h' e => m_Mdl_waiting Z e) rfl hl.1 (Nat.le_trans (Nat.le_of_ble_eq_true rfl) hRf) (Nat.le_trans (Nat.le_of_ble_eq_true rfl) hRl) (Nat.le_of_ble_eq_true rfl) (fun v2 h H locs cells slots hp hH => ?_)
      refine W.eq (g2 := F0 m 288 ls [.int v2, .ref l0]) rfl ?_
      refine lv_bipush (v := 40) hx hb d_Mdl_ask_288 (by decide) ?_
      refine lv_icmp_ne (tgt := 297) hx hb d_Mdl_ask_290 (by decide) (fun hc => ?_) (fun hc => ?_)
      · replace hp := x_ifn hc hp
        exact w_Mdl_ask_297 C hr hnm hRf hRl  l0 l1 l5 l9 l10 l0 hp hH (lv_sub hl [0, 1, 2, 3, 4] rfl)
      · replace hp := x_ifp hc hp
        refine lv_iconst (v := 3) hx hb d_Mdl_ask_293 (by decide) ?_
        refine lv_goto (tgt := 298) hx hb d_Mdl_ask_294 (by decide) ?_
        exact w_Mdl_ask_298 C hr hnm hRf hRl  l0 l1 l5 l9 l10 3 l0 hp hH (lv_sub hl [0, 1, 2, 3, 4] rfl)
set_option maxHeartbeats 4000000 in
set_option maxRecDepth 100000 in
theorem w_Mdl_ask_231 {res : (Int32 ⊕ (Nat × Nat)) × xH} (C : x_C l s0 A0 D R_Mdl prog_11_method_37_code 11 [] p s m args meth c) (hr : meth.sig.returnType = (some .int)) (hnm : meth.name = "ask") (hRf : 3 ≤ R.frames) (hRl : 102 ≤ R.locals) {k231 : Nat → Int32 → Int32 → Int32 → Int32 → xM Int32} (hs231 : ∀ (l0 : Nat) (l1 : Int32) (l5 : Int32) (l9 : Int32) (l10 : Int32) (h : xH) (H : Heap) (locs : List Loc) (cells slots : Nat) (ls : Array Slot), k231 l0 l1 l5 l9 l10 h = some res → x_S s0 D R h H locs cells slots → lv_has ls 11 [(0, .ref l0), (1, .int l1), (5, .int l5), (9, .int l9), (10, .int l10)] → W p l e R s m args below meth c H locs cells slots (x_Q s0 D below s R (x_oc vI res.1) res.2) (F0 m 231 ls [])) (l0 : Nat) (l1 : Int32) (l5 : Int32) (l9 : Int32) (l10 : Int32) (hp : f_Mdl_ask_b231 k231 l0 l1 l5 l9 l10 h = some res) (hH : x_S s0 D R h H locs cells slots) (hl : lv_has ls 11 [(0, .ref l0), (1, .int l1), (5, .int l5), (9, .int l9), (10, .int l10)]) : W p l e R s m args below meth c H locs cells slots (x_Q s0 D below s R (x_oc vI res.1) res.2) (F0 m 231 ls []) := by
  obtain ⟨hx, hb, hown, hts, hK, hml, hW, Z, -⟩ := id C
  unfold f_Mdl_ask_b231 at hp
  refine lv_iload hx hb d_Mdl_ask_231 (lv_at hl 4 rfl) ?_
  refine lv_aload_n hx hb d_Mdl_ask_233 rfl (lv_at hl 0 rfl) ?_
  refine x_gI C hH fl_Mdl_118 d_Mdl_ask_234 hp (fun v1 hp => ?_)
  refine lv_icmp_ge (tgt := 269) hx hb d_Mdl_ask_237 (by decide) (fun hc => ?_) (fun hc => ?_)
  · replace hp := x_ifp hc hp
    exact w_Mdl_ask_269 C hr hnm hRf hRl  l0 l1 l5 l9 l10 hp hH (lv_sub hl [0, 1, 2, 3, 4] rfl)
  · replace hp := x_ifn hc hp
    refine lv_aload_n hx hb d_Mdl_ask_240 rfl (lv_at hl 0 rfl) ?_
    refine lv_aload_n hx hb d_Mdl_ask_241 rfl (lv_at hl 0 rfl) ?_
    refine x_gA C hH fl_Mdl_69 d_Mdl_ask_242 hp (fun v2 hp => ?_)
    refine lv_iload_n hx hb d_Mdl_ask_245 rfl (lv_at hl 1 rfl) ?_
    refine x_lI C hH d_Mdl_ask_246 hp (fun v3 hp => ?_)
    refine lv_iload hx hb d_Mdl_ask_247 (lv_at hl 4 rfl) ?_
    refine lv_iadd hx hb d_Mdl_ask_249 ?_
    refine lv_aload_n hx hb d_Mdl_ask_250 rfl (lv_at hl 0 rfl) ?_
    refine x_gI C hH fl_Mdl_118 d_Mdl_ask_251 hp (fun v4 hp => ?_)
    obtain ⟨hz, hp⟩ := rI_i hp
    refine lv_irem hx hb d_Mdl_ask_254 hz ?_
    generalize ev5 : (v3 + l10) - (v3 + l10) / v4 * v4 = v5 at hp ⊢
    refine lv_iload hx hb d_Mdl_ask_255 (lv_at hl 3 rfl) ?_
    refine x_callV (As := [.int v5, .int l9]) (rest := []) (cv := vI) C hH kc_Mdl_231 d_Mdl_ask_257 hp (fun o h' e => m_Mdl_may Z e) rfl hl.1 (Nat.le_trans (Nat.le_of_ble_eq_true rfl) hRf) (Nat.le_trans (Nat.le_of_ble_eq_true rfl) hRl) (Nat.le_of_ble_eq_true rfl) (fun v6 h H locs cells slots hp hH => ?_)
    refine W.eq (g2 := F0 m 260 ls [.int v6]) rfl ?_
    refine lv_if_ne (tgt := 269) hx hb d_Mdl_ask_260 (by decide) (fun hc => ?_) (fun hc => ?_)
    · replace hp := x_ifn hc hp
      exact w_Mdl_ask_269 C hr hnm hRf hRl  l0 l1 l5 l9 l10 hp hH (lv_sub hl [0, 1, 2, 3, 4] rfl)
    · replace hp := x_ifp hc hp
      refine lv_iinc (v := (l10 + 1)) (lv' := [(10, .int (l10 + 1)), (0, .ref l0), (1, .int l1), (5, .int l5), (9, .int l9)]) hx hb d_Mdl_ask_263 hl (k := 4) rfl rfl (by decide) rfl (fun ls hl => ?_)
      refine lv_goto (tgt := 231) hx hb d_Mdl_ask_266 (by decide) ?_
      exact hs231 l0 l1 l5 l9 (l10 + 1) _ _ _ _ _ _ hp hH (lv_sub hl [1, 2, 3, 4, 0] rfl)
theorem w_Mdl_ask_h231 {res : (Int32 ⊕ (Nat × Nat)) × xH} (C : x_C l s0 A0 D R_Mdl prog_11_method_37_code 11 [] p s m args meth c) (hr : meth.sig.returnType = (some .int)) (hnm : meth.name = "ask") (hRf : 3 ≤ R.frames) (hRl : 102 ≤ R.locals)  : ∀ (n : Nat) (l0 : Nat) (l1 : Int32) (l5 : Int32) (l9 : Int32) (l10 : Int32) (h : xH) (H : Heap) (locs : List Loc) (cells slots : Nat) (ls : Array Slot), f_Mdl_ask_h231 n l0 l1 l5 l9 l10 h = some res → x_S s0 D R h H locs cells slots → lv_has ls 11 [(0, .ref l0), (1, .int l1), (5, .int l5), (9, .int l9), (10, .int l10)] → W p l e R s m args below meth c H locs cells slots (x_Q s0 D below s R (x_oc vI res.1) res.2) (F0 m 231 ls []) := by
  intro n
  induction n with
  | zero => intro l0 l1 l5 l9 l10 h H locs cells slots ls hp hH hl; cases hp
  | succ n ih => intro l0 l1 l5 l9 l10 h H locs cells slots ls hp hH hl; exact w_Mdl_ask_231 C hr hnm hRf hRl ih l0 l1 l5 l9 l10 hp hH hl
set_option maxHeartbeats 4000000 in
set_option maxRecDepth 100000 in
theorem w_Mdl_ask_119 {res : (Int32 ⊕ (Nat × Nat)) × xH} (C : x_C l s0 A0 D R_Mdl prog_11_method_37_code 11 [] p s m args meth c) (hr : meth.sig.returnType = (some .int)) (hnm : meth.name = "ask") (hRf : 3 ≤ R.frames) (hRl : 102 ≤ R.locals) {k119 : Nat → Int32 → Int64 → Int32 → Int32 → Int32 → Int32 → Int32 → Int32 → xM Int32} (hs119 : ∀ (l0 : Nat) (l1 : Int32) (l2 : Int64) (l4 : Int32) (l5 : Int32) (l6 : Int32) (l7 : Int32) (l9 : Int32) (l10 : Int32) (h : xH) (H : Heap) (locs : List Loc) (cells slots : Nat) (ls : Array Slot), k119 l0 l1 l2 l4 l5 l6 l7 l9 l10 h = some res → x_S s0 D R h H locs cells slots → lv_has ls 11 [(0, .ref l0), (1, .int l1), (2, .long l2), (4, .int l4), (5, .int l5), (6, .int l6), (7, .int l7), (9, .int l9), (10, .int l10)] → W p l e R s m args below meth c H locs cells slots (x_Q s0 D below s R (x_oc vI res.1) res.2) (F0 m 119 ls [])) (l0 : Nat) (l1 : Int32) (l2 : Int64) (l4 : Int32) (l5 : Int32) (l6 : Int32) (l7 : Int32) (l9 : Int32) (l10 : Int32) (hp : f_Mdl_ask_b119 k119 l0 l1 l2 l4 l5 l6 l7 l9 l10 h = some res) (hH : x_S s0 D R h H locs cells slots) (hl : lv_has ls 11 [(0, .ref l0), (1, .int l1), (2, .long l2), (4, .int l4), (5, .int l5), (6, .int l6), (7, .int l7), (9, .int l9), (10, .int l10)]) : W p l e R s m args below meth c H locs cells slots (x_Q s0 D below s R (x_oc vI res.1) res.2) (F0 m 119 ls []) := by
  obtain ⟨hx, hb, hown, hts, hK, hml, hW, Z, -⟩ := id C
  unfold f_Mdl_ask_b119 at hp
  refine lv_iload hx hb d_Mdl_ask_119 (lv_at hl 8 rfl) ?_
  refine lv_iconst (v := 3) hx hb d_Mdl_ask_121 (by decide) ?_
  refine lv_icmp_ge (tgt := 149) hx hb d_Mdl_ask_122 (by decide) (fun hc => ?_) (fun hc => ?_)
  · replace hp := x_ifp hc hp
    refine lv_aload_n hx hb d_Mdl_ask_149 rfl (lv_at hl 0 rfl) ?_
    refine x_gA C hH fl_Mdl_87 d_Mdl_ask_150 hp (fun v1 hp => ?_)
    refine lv_iload hx hb d_Mdl_ask_153 (lv_at hl 7 rfl) ?_
    refine lv_iload hx hb d_Mdl_ask_155 (lv_at hl 3 rfl) ?_
    refine x_sI C hH d_Mdl_ask_157 hp (fun h H locs hp hH => ?_)
    refine lv_aload_n hx hb d_Mdl_ask_158 rfl (lv_at hl 0 rfl) ?_
    refine x_gA C hH fl_Mdl_90 d_Mdl_ask_159 hp (fun v2 hp => ?_)
    refine lv_iload hx hb d_Mdl_ask_162 (lv_at hl 7 rfl) ?_
    refine lv_iload hx hb d_Mdl_ask_164 (lv_at hl 4 rfl) ?_
    refine x_sI C hH d_Mdl_ask_166 hp (fun h H locs hp hH => ?_)
    refine lv_aload_n hx hb d_Mdl_ask_167 rfl (lv_at hl 0 rfl) ?_
    refine x_gA C hH fl_Mdl_93 d_Mdl_ask_168 hp (fun v3 hp => ?_)
    refine lv_iload hx hb d_Mdl_ask_171 (lv_at hl 7 rfl) ?_
    refine lv_aload_n hx hb d_Mdl_ask_173 rfl (lv_at hl 0 rfl) ?_
    refine x_gI C hH fl_Mdl_201 d_Mdl_ask_174 hp (fun v4 hp => ?_)
    refine x_sI C hH d_Mdl_ask_177 hp (fun h H locs hp hH => ?_)
    refine lv_aload_n hx hb d_Mdl_ask_178 rfl (lv_at hl 0 rfl) ?_
    refine x_gA C hH fl_Mdl_96 d_Mdl_ask_179 hp (fun v5 hp => ?_)
    refine lv_iload hx hb d_Mdl_ask_182 (lv_at hl 7 rfl) ?_
    refine lv_iload hx hb d_Mdl_ask_184 (lv_at hl 5 rfl) ?_
    refine x_sI C hH d_Mdl_ask_186 hp (fun h H locs hp hH => ?_)
    refine lv_aload_n hx hb d_Mdl_ask_187 rfl (lv_at hl 0 rfl) ?_
    refine x_gA C hH fl_Mdl_99 d_Mdl_ask_188 hp (fun v6 hp => ?_)
    refine lv_iload hx hb d_Mdl_ask_191 (lv_at hl 7 rfl) ?_
    refine lv_iload hx hb d_Mdl_ask_193 (lv_at hl 6 rfl) ?_
    refine x_sI C hH d_Mdl_ask_195 hp (fun h H locs hp hH => ?_)
    refine lv_aload_n hx hb d_Mdl_ask_196 rfl (lv_at hl 0 rfl) ?_
    refine x_gA C hH fl_Mdl_102 d_Mdl_ask_197 hp (fun v7 hp => ?_)
    refine lv_iload hx hb d_Mdl_ask_200 (lv_at hl 7 rfl) ?_
    refine lv_iconst (v := (-1)) hx hb d_Mdl_ask_202 (by decide) ?_
    refine x_sI C hH d_Mdl_ask_203 hp (fun h H locs hp hH => ?_)
    refine lv_aload_n hx hb d_Mdl_ask_204 rfl (lv_at hl 0 rfl) ?_
    refine x_gA C hH fl_Mdl_105 d_Mdl_ask_205 hp (fun v8 hp => ?_)
    refine lv_iload hx hb d_Mdl_ask_208 (lv_at hl 7 rfl) ?_
    refine lv_lconst (v := 0) hx hb d_Mdl_ask_210 (by decide) ?_
    refine x_sJ C hH d_Mdl_ask_211 hp (fun h H locs hp hH => ?_)
    refine lv_aload_n hx hb d_Mdl_ask_212 rfl (lv_at hl 0 rfl) ?_
    refine x_gA C hH fl_Mdl_108 d_Mdl_ask_213 hp (fun v9 hp => ?_)
    refine lv_iload hx hb d_Mdl_ask_216 (lv_at hl 7 rfl) ?_
    refine lv_lconst (v := 0) hx hb d_Mdl_ask_218 (by decide) ?_
    refine x_sJ C hH d_Mdl_ask_219 hp (fun h H locs hp hH => ?_)
    refine lv_aload_n hx hb d_Mdl_ask_220 rfl (lv_at hl 0 rfl) ?_
    refine x_gA C hH fl_Mdl_111 d_Mdl_ask_221 hp (fun v10 hp => ?_)
    refine lv_iload hx hb d_Mdl_ask_224 (lv_at hl 7 rfl) ?_
    refine lv_iconst (v := (-1)) hx hb d_Mdl_ask_226 (by decide) ?_
    refine x_sI C hH d_Mdl_ask_227 hp (fun h H locs hp hH => ?_)
    refine lv_iconst (v := 0) hx hb d_Mdl_ask_228 (by decide) ?_
    refine lv_istore (lv' := [(10, .int 0), (0, .ref l0), (1, .int l1), (2, .long l2), (4, .int l4), (5, .int l5), (6, .int l6), (7, .int l7), (9, .int l9)]) hx hb d_Mdl_ask_229 hl (by decide) rfl (fun ls hl => ?_)
    exact w_Mdl_ask_h231 C hr hnm hRf hRl  1000 l0 l1 l5 l9 0 _ _ _ _ _ _ hp hH (lv_sub hl [1, 2, 5, 8, 0] rfl)
  · replace hp := x_ifn hc hp
    refine lv_aload_n hx hb d_Mdl_ask_125 rfl (lv_at hl 0 rfl) ?_
    refine x_gA C hH fl_Mdl_84 d_Mdl_ask_126 hp (fun v11 hp => ?_)
    refine lv_iconst (v := 3) hx hb d_Mdl_ask_129 (by decide) ?_
    refine lv_iload hx hb d_Mdl_ask_130 (lv_at hl 7 rfl) ?_
    refine lv_imul hx hb d_Mdl_ask_132 ?_
    refine lv_iload hx hb d_Mdl_ask_133 (lv_at hl 8 rfl) ?_
    refine lv_iadd hx hb d_Mdl_ask_135 ?_
    refine lv_lload_n hx hb d_Mdl_ask_136 rfl (lv_at hl 2 rfl) ?_
    refine lv_iload hx hb d_Mdl_ask_137 (lv_at hl 8 rfl) ?_
    refine x_callS (As := [.long l2, .int l10]) (rest := [.int ((3 * l9) + l10), .ref v11]) (cv := vI) C hH kc_Mdl_142 d_Mdl_ask_139 hp (fun o h' e => m_Mdl_position Z e) rfl hl.1 (Nat.le_trans (Nat.le_of_ble_eq_true rfl) hRf) (Nat.le_trans (Nat.le_of_ble_eq_true rfl) hRl) (Nat.le_of_ble_eq_true rfl) (fun v12 h H locs cells slots hp hH => ?_)
    refine W.eq (g2 := F0 m 142 ls [.int v12, .int ((3 * l9) + l10), .ref v11]) rfl ?_
    refine x_sI C hH d_Mdl_ask_142 hp (fun h H locs hp hH => ?_)
    refine lv_iinc (v := (l10 + 1)) (lv' := [(10, .int (l10 + 1)), (0, .ref l0), (1, .int l1), (2, .long l2), (4, .int l4), (5, .int l5), (6, .int l6), (7, .int l7), (9, .int l9)]) hx hb d_Mdl_ask_143 hl (k := 8) rfl rfl (by decide) rfl (fun ls hl => ?_)
    refine lv_goto (tgt := 119) hx hb d_Mdl_ask_146 (by decide) ?_
    exact hs119 l0 l1 l2 l4 l5 l6 l7 l9 (l10 + 1) _ _ _ _ _ _ hp hH (lv_sub hl [1, 2, 3, 4, 5, 6, 7, 8, 0] rfl)
theorem w_Mdl_ask_h119 {res : (Int32 ⊕ (Nat × Nat)) × xH} (C : x_C l s0 A0 D R_Mdl prog_11_method_37_code 11 [] p s m args meth c) (hr : meth.sig.returnType = (some .int)) (hnm : meth.name = "ask") (hRf : 3 ≤ R.frames) (hRl : 102 ≤ R.locals)  : ∀ (n : Nat) (l0 : Nat) (l1 : Int32) (l2 : Int64) (l4 : Int32) (l5 : Int32) (l6 : Int32) (l7 : Int32) (l9 : Int32) (l10 : Int32) (h : xH) (H : Heap) (locs : List Loc) (cells slots : Nat) (ls : Array Slot), f_Mdl_ask_h119 n l0 l1 l2 l4 l5 l6 l7 l9 l10 h = some res → x_S s0 D R h H locs cells slots → lv_has ls 11 [(0, .ref l0), (1, .int l1), (2, .long l2), (4, .int l4), (5, .int l5), (6, .int l6), (7, .int l7), (9, .int l9), (10, .int l10)] → W p l e R s m args below meth c H locs cells slots (x_Q s0 D below s R (x_oc vI res.1) res.2) (F0 m 119 ls []) := by
  intro n
  induction n with
  | zero => intro l0 l1 l2 l4 l5 l6 l7 l9 l10 h H locs cells slots ls hp hH hl; cases hp
  | succ n ih => intro l0 l1 l2 l4 l5 l6 l7 l9 l10 h H locs cells slots ls hp hH hl; exact w_Mdl_ask_119 C hr hnm hRf hRl ih l0 l1 l2 l4 l5 l6 l7 l9 l10 hp hH hl
set_option maxHeartbeats 4000000 in
set_option maxRecDepth 100000 in
theorem w_Mdl_ask_90 {res : (Int32 ⊕ (Nat × Nat)) × xH} (C : x_C l s0 A0 D R_Mdl prog_11_method_37_code 11 [] p s m args meth c) (hr : meth.sig.returnType = (some .int)) (hnm : meth.name = "ask") (hRf : 3 ≤ R.frames) (hRl : 102 ≤ R.locals)  (l0 : Nat) (l1 : Int32) (l2 : Int64) (l4 : Int32) (l5 : Int32) (l6 : Int32) (l7 : Int32) (t0 : Int32) (t1 : Nat) (hp : f_Mdl_ask_b90 l0 l1 l2 l4 l5 l6 l7 t0 t1 h = some res) (hH : x_S s0 D R h H locs cells slots) (hl : lv_has ls 11 [(0, .ref l0), (1, .int l1), (2, .long l2), (4, .int l4), (5, .int l5), (6, .int l6), (7, .int l7)]) : W p l e R s m args below meth c H locs cells slots (x_Q s0 D below s R (x_oc vI res.1) res.2) (F0 m 90 ls [.int t0, .ref t1]) := by
  obtain ⟨hx, hb, hown, hts, hK, hml, hW, Z, -⟩ := id C
  unfold f_Mdl_ask_b90 at hp
  refine x_pV C hH fp_Mdl_121 (fun h => Bool.noConfusion h) d_Mdl_ask_90 rfl rfl hp (fun h H locs hp hH => ?_)
  refine lv_aload_n hx hb d_Mdl_ask_93 rfl (lv_at hl 0 rfl) ?_
  refine x_gI C hH fl_Mdl_121 d_Mdl_ask_94 hp (fun v1 hp => ?_)
  refine lv_if_le (tgt := 102) hx hb d_Mdl_ask_97 (by decide) (fun hc => ?_) (fun hc => ?_)
  · replace hp := x_ifp hc hp
    refine lv_aload_n hx hb d_Mdl_ask_102 rfl (lv_at hl 0 rfl) ?_
    refine x_gI C hH fl_Mdl_204 d_Mdl_ask_103 hp (fun v2 hp => ?_)
    refine lv_istore (lv' := [(9, .int v2), (0, .ref l0), (1, .int l1), (2, .long l2), (4, .int l4), (5, .int l5), (6, .int l6), (7, .int l7)]) hx hb d_Mdl_ask_106 hl (by decide) rfl (fun ls hl => ?_)
    refine lv_aload_n hx hb d_Mdl_ask_108 rfl (lv_at hl 1 rfl) ?_
    refine x_gA C hH fl_Mdl_81 d_Mdl_ask_109 hp (fun v3 hp => ?_)
    refine lv_iload hx hb d_Mdl_ask_112 (lv_at hl 0 rfl) ?_
    refine lv_iload_n hx hb d_Mdl_ask_114 rfl (lv_at hl 2 rfl) ?_
    refine x_sI C hH d_Mdl_ask_115 hp (fun h H locs hp hH => ?_)
    refine lv_iconst (v := 0) hx hb d_Mdl_ask_116 (by decide) ?_
    refine lv_istore (lv' := [(10, .int 0), (9, .int v2), (0, .ref l0), (1, .int l1), (2, .long l2), (4, .int l4), (5, .int l5), (6, .int l6), (7, .int l7)]) hx hb d_Mdl_ask_117 hl (by decide) rfl (fun ls hl => ?_)
    exact w_Mdl_ask_h119 C hr hnm hRf hRl  1000 l0 l1 l2 l4 l5 l6 l7 v2 0 _ _ _ _ _ _ hp hH (lv_sub hl [2, 3, 4, 5, 6, 7, 8, 1, 0] rfl)
  · replace hp := x_ifn hc hp
    refine lv_iconst (v := 0) hx hb d_Mdl_ask_100 (by decide) ?_
    exact x_iret C hH hr d_Mdl_ask_101 hp
set_option maxHeartbeats 4000000 in
set_option maxRecDepth 100000 in
theorem w_Mdl_ask_62 {res : (Int32 ⊕ (Nat × Nat)) × xH} (C : x_C l s0 A0 D R_Mdl prog_11_method_37_code 11 [] p s m args meth c) (hr : meth.sig.returnType = (some .int)) (hnm : meth.name = "ask") (hRf : 3 ≤ R.frames) (hRl : 102 ≤ R.locals)  (l0 : Nat) (l1 : Int32) (l2 : Int64) (l4 : Int32) (l5 : Int32) (l6 : Int32) (l7 : Int32) (t0 : Nat) (hp : f_Mdl_ask_b62 l0 l1 l2 l4 l5 l6 l7 t0 h = some res) (hH : x_S s0 D R h H locs cells slots) (hl : lv_has ls 11 [(0, .ref l0), (1, .int l1), (2, .long l2), (4, .int l4), (5, .int l5), (6, .int l6), (7, .int l7)]) : W p l e R s m args below meth c H locs cells slots (x_Q s0 D below s R (x_oc vI res.1) res.2) (F0 m 62 ls [.ref t0]) := by
  obtain ⟨hx, hb, hown, hts, hK, hml, hW, Z, -⟩ := id C
  unfold f_Mdl_ask_b62 at hp
  refine lv_iconst (v := 1) hx hb d_Mdl_ask_62 (by decide) ?_
  refine lv_goto (tgt := 90) hx hb d_Mdl_ask_63 (by decide) ?_
  exact w_Mdl_ask_90 C hr hnm hRf hRl  l0 l1 l2 l4 l5 l6 l7 1 t0 hp hH (lv_sub hl [0, 1, 2, 3, 4, 5, 6] rfl)
set_option maxHeartbeats 4000000 in
set_option maxRecDepth 100000 in
theorem w_Mdl_ask_41 {res : (Int32 ⊕ (Nat × Nat)) × xH} (C : x_C l s0 A0 D R_Mdl prog_11_method_37_code 11 [] p s m args meth c) (hr : meth.sig.returnType = (some .int)) (hnm : meth.name = "ask") (hRf : 3 ≤ R.frames) (hRl : 102 ≤ R.locals)  (l0 : Nat) (l1 : Int32) (l2 : Int64) (l4 : Int32) (l5 : Int32) (l6 : Int32) (l7 : Int32) (t0 : Int32) (hp : f_Mdl_ask_b41 l0 l1 l2 l4 l5 l6 l7 t0 h = some res) (hH : x_S s0 D R h H locs cells slots) (hl : lv_has ls 11 [(0, .ref l0), (1, .int l1), (2, .long l2), (4, .int l4), (5, .int l5), (6, .int l6), (7, .int l7)]) : W p l e R s m args below meth c H locs cells slots (x_Q s0 D below s R (x_oc vI res.1) res.2) (F0 m 41 ls [.int t0]) := by
  obtain ⟨hx, hb, hown, hts, hK, hml, hW, Z, -⟩ := id C
  unfold f_Mdl_ask_b41 at hp
  refine lv_istore (lv' := [(8, .int t0), (0, .ref l0), (1, .int l1), (2, .long l2), (4, .int l4), (5, .int l5), (6, .int l6), (7, .int l7)]) hx hb d_Mdl_ask_41 hl (by decide) rfl (fun ls hl => ?_)
  refine lv_aload_n hx hb d_Mdl_ask_43 rfl (lv_at hl 1 rfl) ?_
  refine lv_iload_n hx hb d_Mdl_ask_44 rfl (lv_at hl 2 rfl) ?_
  refine x_callS (As := [.int l1]) (rest := [.ref l0]) (cv := vI) C hH kc_Mdl_152 d_Mdl_ask_45 hp (fun o h' e => m_Mdl_isSession Z e) rfl hl.1 (Nat.le_trans (Nat.le_of_ble_eq_true rfl) hRf) (Nat.le_trans (Nat.le_of_ble_eq_true rfl) hRl) (Nat.le_of_ble_eq_true rfl) (fun v1 h H locs cells slots hp hH => ?_)
  refine W.eq (g2 := F0 m 48 ls [.int v1, .ref l0]) rfl ?_
  refine lv_if_eq (tgt := 62) hx hb d_Mdl_ask_48 (by decide) (fun hc => ?_) (fun hc => ?_)
  · replace hp := x_ifp hc hp
    exact w_Mdl_ask_62 C hr hnm hRf hRl  l0 l1 l2 l4 l5 l6 l7 l0 hp hH (lv_sub hl [1, 2, 3, 4, 5, 6, 7] rfl)
  · replace hp := x_ifn hc hp
    refine lv_aload_n hx hb d_Mdl_ask_51 rfl (lv_at hl 1 rfl) ?_
    refine lv_iload hx hb d_Mdl_ask_52 (lv_at hl 6 rfl) ?_
    refine lv_iload hx hb d_Mdl_ask_54 (lv_at hl 7 rfl) ?_
    refine x_callV (As := [.int l6, .int l7]) (rest := [.ref l0]) (cv := vI) C hH kc_Mdl_243 d_Mdl_ask_56 hp (fun o h' e => m_Mdl_isQuestion Z e) rfl hl.1 (Nat.le_trans (Nat.le_of_ble_eq_true rfl) hRf) (Nat.le_trans (Nat.le_of_ble_eq_true rfl) hRl) (Nat.le_of_ble_eq_true rfl) (fun v2 h H locs cells slots hp hH => ?_)
    refine W.eq (g2 := F0 m 59 ls [.int v2, .ref l0]) rfl ?_
    refine lv_if_ne (tgt := 66) hx hb d_Mdl_ask_59 (by decide) (fun hc => ?_) (fun hc => ?_)
    · replace hp := x_ifn hc hp
      refine lv_iload hx hb d_Mdl_ask_66 (lv_at hl 0 rfl) ?_
      refine lv_if_ne (tgt := 75) hx hb d_Mdl_ask_68 (by decide) (fun hc => ?_) (fun hc => ?_)
      · replace hp := x_ifn hc hp
        refine lv_aload_n hx hb d_Mdl_ask_75 rfl (lv_at hl 1 rfl) ?_
        refine x_gI C hH fl_Mdl_204 d_Mdl_ask_76 hp (fun v3 hp => ?_)
        refine lv_sipush (v := 500) hx hb d_Mdl_ask_79 (by decide) ?_
        refine lv_icmp_ne (tgt := 89) hx hb d_Mdl_ask_82 (by decide) (fun hc => ?_) (fun hc => ?_)
        · replace hp := x_ifn hc hp
          refine lv_iconst (v := 0) hx hb d_Mdl_ask_89 (by decide) ?_
          exact w_Mdl_ask_90 C hr hnm hRf hRl  l0 l1 l2 l4 l5 l6 l7 0 l0 hp hH (lv_sub hl [1, 2, 3, 4, 5, 6, 7] rfl)
        · replace hp := x_ifp hc hp
          refine lv_iconst (v := 3) hx hb d_Mdl_ask_85 (by decide) ?_
          refine lv_goto (tgt := 90) hx hb d_Mdl_ask_86 (by decide) ?_
          exact w_Mdl_ask_90 C hr hnm hRf hRl  l0 l1 l2 l4 l5 l6 l7 3 l0 hp hH (lv_sub hl [1, 2, 3, 4, 5, 6, 7] rfl)
      · replace hp := x_ifp hc hp
        refine lv_iconst (v := 2) hx hb d_Mdl_ask_71 (by decide) ?_
        refine lv_goto (tgt := 90) hx hb d_Mdl_ask_72 (by decide) ?_
        exact w_Mdl_ask_90 C hr hnm hRf hRl  l0 l1 l2 l4 l5 l6 l7 2 l0 hp hH (lv_sub hl [1, 2, 3, 4, 5, 6, 7] rfl)
    · replace hp := x_ifp hc hp
      exact w_Mdl_ask_62 C hr hnm hRf hRl  l0 l1 l2 l4 l5 l6 l7 l0 hp hH (lv_sub hl [1, 2, 3, 4, 5, 6, 7] rfl)
set_option maxHeartbeats 4000000 in
set_option maxRecDepth 100000 in
theorem w_Mdl_ask_40 {res : (Int32 ⊕ (Nat × Nat)) × xH} (C : x_C l s0 A0 D R_Mdl prog_11_method_37_code 11 [] p s m args meth c) (hr : meth.sig.returnType = (some .int)) (hnm : meth.name = "ask") (hRf : 3 ≤ R.frames) (hRl : 102 ≤ R.locals)  (l0 : Nat) (l1 : Int32) (l2 : Int64) (l4 : Int32) (l5 : Int32) (l6 : Int32) (l7 : Int32) (hp : f_Mdl_ask_b40 l0 l1 l2 l4 l5 l6 l7 h = some res) (hH : x_S s0 D R h H locs cells slots) (hl : lv_has ls 11 [(0, .ref l0), (1, .int l1), (2, .long l2), (4, .int l4), (5, .int l5), (6, .int l6), (7, .int l7)]) : W p l e R s m args below meth c H locs cells slots (x_Q s0 D below s R (x_oc vI res.1) res.2) (F0 m 40 ls []) := by
  obtain ⟨hx, hb, hown, hts, hK, hml, hW, Z, -⟩ := id C
  unfold f_Mdl_ask_b40 at hp
  refine lv_iconst (v := 0) hx hb d_Mdl_ask_40 (by decide) ?_
  exact w_Mdl_ask_41 C hr hnm hRf hRl  l0 l1 l2 l4 l5 l6 l7 0 hp hH (lv_sub hl [0, 1, 2, 3, 4, 5, 6] rfl)
set_option maxHeartbeats 4000000 in
set_option maxRecDepth 100000 in
theorem w_Mdl_ask_0 {res : (Int32 ⊕ (Nat × Nat)) × xH} (C : x_C l s0 A0 D R_Mdl prog_11_method_37_code 11 [] p s m args meth c) (hr : meth.sig.returnType = (some .int)) (hnm : meth.name = "ask") (hRf : 3 ≤ R.frames) (hRl : 102 ≤ R.locals)  (l0 : Nat) (l1 : Int32) (l2 : Int64) (l4 : Int32) (l5 : Int32) (l6 : Int32) (l7 : Int32) (hp : f_Mdl_ask l0 l1 l2 l4 l5 l6 l7 h = some res) (hH : x_S s0 D R h H locs cells slots) (hl : lv_has ls 11 [(0, .ref l0), (1, .int l1), (2, .long l2), (4, .int l4), (5, .int l5), (6, .int l6), (7, .int l7)]) : W p l e R s m args below meth c H locs cells slots (x_Q s0 D below s R (x_oc vI res.1) res.2) (F0 m 0 ls []) := by
  obtain ⟨hx, hb, hown, hts, hK, hml, hW, Z, -⟩ := id C
  unfold f_Mdl_ask at hp
  refine lv_aload_n hx hb d_Mdl_ask_0 rfl (lv_at hl 0 rfl) ?_
  refine lv_lload_n hx hb d_Mdl_ask_1 rfl (lv_at hl 2 rfl) ?_
  refine x_callV (As := [.long l2]) (rest := []) (cv := vI) C hH kc_Mdl_237 d_Mdl_ask_2 hp (fun o h' e => m_Mdl_isToken Z e) rfl hl.1 (Nat.le_trans (Nat.le_of_ble_eq_true rfl) hRf) (Nat.le_trans (Nat.le_of_ble_eq_true rfl) hRl) (Nat.le_of_ble_eq_true rfl) (fun v1 h H locs cells slots hp hH => ?_)
  refine W.eq (g2 := F0 m 5 ls [.int v1]) rfl ?_
  refine lv_if_eq (tgt := 40) hx hb d_Mdl_ask_5 (by decide) (fun hc => ?_) (fun hc => ?_)
  · replace hp := x_ifp hc hp
    exact w_Mdl_ask_40 C hr hnm hRf hRl  l0 l1 l2 l4 l5 l6 l7 hp hH (lv_sub hl [0, 1, 2, 3, 4, 5, 6] rfl)
  · replace hp := x_ifn hc hp
    refine lv_iload hx hb d_Mdl_ask_8 (lv_at hl 3 rfl) ?_
    refine lv_i2l (v := l4.toInt64) hx hb d_Mdl_ask_10 rfl ?_
    refine lv_ldc2 hx hb hown (hts _ k_983) d_Mdl_ask_11 ?_
    refine lv_ldc2 hx hb hown (hts _ k_984) d_Mdl_ask_14 ?_
    refine x_callS (As := [.long l4.toInt64, .long (-1), .long 400]) (rest := []) (cv := vI) C hH kc_Mdl_148 d_Mdl_ask_17 hp (fun o h' e => m_Mdl_in Z e) rfl hl.1 (Nat.le_trans (Nat.le_of_ble_eq_true rfl) hRf) (Nat.le_trans (Nat.le_of_ble_eq_true rfl) hRl) (Nat.le_of_ble_eq_true rfl) (fun v2 h H locs cells slots hp hH => ?_)
    refine W.eq (g2 := F0 m 20 ls [.int v2]) rfl ?_
    refine lv_if_eq (tgt := 40) hx hb d_Mdl_ask_20 (by decide) (fun hc => ?_) (fun hc => ?_)
    · replace hp := x_ifp hc hp
      exact w_Mdl_ask_40 C hr hnm hRf hRl  l0 l1 l2 l4 l5 l6 l7 hp hH (lv_sub hl [0, 1, 2, 3, 4, 5, 6] rfl)
    · replace hp := x_ifn hc hp
      refine lv_iload hx hb d_Mdl_ask_23 (lv_at hl 4 rfl) ?_
      refine lv_i2l (v := l5.toInt64) hx hb d_Mdl_ask_25 rfl ?_
      refine lv_lconst (v := 0) hx hb d_Mdl_ask_26 (by decide) ?_
      refine lv_ldc2 hx hb hown (hts _ k_906) d_Mdl_ask_27 ?_
      refine x_callS (As := [.long l5.toInt64, .long 0, .long 1000]) (rest := []) (cv := vI) C hH kc_Mdl_148 d_Mdl_ask_30 hp (fun o h' e => m_Mdl_in Z e) rfl hl.1 (Nat.le_trans (Nat.le_of_ble_eq_true rfl) hRf) (Nat.le_trans (Nat.le_of_ble_eq_true rfl) hRl) (Nat.le_of_ble_eq_true rfl) (fun v3 h H locs cells slots hp hH => ?_)
      refine W.eq (g2 := F0 m 33 ls [.int v3]) rfl ?_
      refine lv_if_eq (tgt := 40) hx hb d_Mdl_ask_33 (by decide) (fun hc => ?_) (fun hc => ?_)
      · replace hp := x_ifp hc hp
        exact w_Mdl_ask_40 C hr hnm hRf hRl  l0 l1 l2 l4 l5 l6 l7 hp hH (lv_sub hl [0, 1, 2, 3, 4, 5, 6] rfl)
      · replace hp := x_ifn hc hp
        refine lv_iconst (v := 1) hx hb d_Mdl_ask_36 (by decide) ?_
        refine lv_goto (tgt := 41) hx hb d_Mdl_ask_37 (by decide) ?_
        exact w_Mdl_ask_41 C hr hnm hRf hRl  l0 l1 l2 l4 l5 l6 l7 1 hp hH (lv_sub hl [0, 1, 2, 3, 4, 5, 6] rfl)
set_option maxRecDepth 100000 in
theorem m_Mdl_ask (Z : x_Z l s0 A0 D) {l0 : Nat} {l1 : Int32} {l2 : Int64} {l4 : Int32} {l5 : Int32} {l6 : Int32} {l7 : Int32} {res : (Int32 ⊕ (Nat × Nat)) × xH} (hp : f_Mdl_ask l0 l1 l2 l4 l5 l6 l7 h = some res) : x_M l s0 D y_Mdl_ask (x_cw y_Mdl_ask prog_11_method_37_code 11 (some .int) []) 3 102 [.ref l0, .int l1, .long l2, .int l4, .int l5, .int l6, .int l7] h (x_oc vI res.1) res.2 := by
  refine x_M.ofW Z (plainFor_of_name (by decide)) ?_
  intro p e s m below meth c C hnm hr hH
  have hl := lv_entry ([.ref l0, .int l1, .long l2, .int l4, .int l5, .int l6, .int l7]) (n := 11) (Nat.le_of_ble_eq_true rfl)
  rw [lg_entry_eq]
  generalize (lg_sl ([.ref l0, .int l1, .long l2, .int l4, .int l5, .int l6, .int l7]) ++ List.replicate (11 - (lg_sl ([.ref l0, .int l1, .long l2, .int l4, .int l5, .int l6, .int l7])).length) Slot.unset).toArray = ls at hl ⊢
  exact w_Mdl_ask_0 C hr hnm (Nat.le_refl _) (Nat.le_refl _) l0 l1 l2 l4 l5 l6 l7 hp hH hl
/-! ReadSideModel.read(II)J -/
theorem d_Mdl_read_0 : decode prog_11_method_38_code 0 = .ok (.aload_n 0, 1) := by decide +kernel
theorem d_Mdl_read_1 : decode prog_11_method_38_code 1 = .ok (.iload_n 1, 1) := by decide +kernel
theorem d_Mdl_read_2 : decode prog_11_method_38_code 2 = .ok (.i2l, 1) := by decide +kernel
theorem d_Mdl_read_3 : decode prog_11_method_38_code 3 = .ok (.lconst 0, 1) := by decide +kernel
theorem d_Mdl_read_4 : decode prog_11_method_38_code 4 = .ok (.aload_n 0, 1) := by decide +kernel
theorem d_Mdl_read_5 : decode prog_11_method_38_code 5 = .ok (.getfield 204, 3) := by decide +kernel
theorem d_Mdl_read_8 : decode prog_11_method_38_code 8 = .ok (.iconst 1, 1) := by decide +kernel
theorem d_Mdl_read_9 : decode prog_11_method_38_code 9 = .ok (.isub, 1) := by decide +kernel
theorem d_Mdl_read_10 : decode prog_11_method_38_code 10 = .ok (.i2l, 1) := by decide +kernel
theorem d_Mdl_read_11 : decode prog_11_method_38_code 11 = .ok (.invokestatic 148, 3) := by decide +kernel
theorem d_Mdl_read_14 : decode prog_11_method_38_code 14 = .ok (.ifCond .eq 19, 3) := by decide +kernel
theorem d_Mdl_read_17 : decode prog_11_method_38_code 17 = .ok (.iload_n 2, 1) := by decide +kernel
theorem d_Mdl_read_18 : decode prog_11_method_38_code 18 = .ok (.i2l, 1) := by decide +kernel
theorem d_Mdl_read_19 : decode prog_11_method_38_code 19 = .ok (.lconst 0, 1) := by decide +kernel
theorem d_Mdl_read_20 : decode prog_11_method_38_code 20 = .ok (.ldc2_w 249, 3) := by decide +kernel
theorem d_Mdl_read_23 : decode prog_11_method_38_code 23 = .ok (.invokestatic 148, 3) := by decide +kernel
theorem d_Mdl_read_26 : decode prog_11_method_38_code 26 = .ok (.ifCond .eq 7, 3) := by decide +kernel
theorem d_Mdl_read_29 : decode prog_11_method_38_code 29 = .ok (.iconst 0, 1) := by decide +kernel
theorem d_Mdl_read_30 : decode prog_11_method_38_code 30 = .ok (.goto 4, 3) := by decide +kernel
theorem d_Mdl_read_33 : decode prog_11_method_38_code 33 = .ok (.iconst 1, 1) := by decide +kernel
theorem d_Mdl_read_34 : decode prog_11_method_38_code 34 = .ok (.putfield 121, 3) := by decide +kernel
theorem d_Mdl_read_37 : decode prog_11_method_38_code 37 = .ok (.aload_n 0, 1) := by decide +kernel
theorem d_Mdl_read_38 : decode prog_11_method_38_code 38 = .ok (.getfield 121, 3) := by decide +kernel
theorem d_Mdl_read_41 : decode prog_11_method_38_code 41 = .ok (.ifCond .le 5, 3) := by decide +kernel
theorem d_Mdl_read_44 : decode prog_11_method_38_code 44 = .ok (.lconst 0, 1) := by decide +kernel
theorem d_Mdl_read_45 : decode prog_11_method_38_code 45 = .ok (.lreturn, 1) := by decide +kernel
theorem d_Mdl_read_46 : decode prog_11_method_38_code 46 = .ok (.iload_n 2, 1) := by decide +kernel
theorem d_Mdl_read_47 : decode prog_11_method_38_code 47 = .ok (.tableswitch 71 0 4 #[33, 41, 49, 56, 63], 33) := by decide +kernel
theorem d_Mdl_read_80 : decode prog_11_method_38_code 80 = .ok (.aload_n 0, 1) := by decide +kernel
theorem d_Mdl_read_81 : decode prog_11_method_38_code 81 = .ok (.getfield 78, 3) := by decide +kernel
theorem d_Mdl_read_84 : decode prog_11_method_38_code 84 = .ok (.iload_n 1, 1) := by decide +kernel
theorem d_Mdl_read_85 : decode prog_11_method_38_code 85 = .ok (.iaload, 1) := by decide +kernel
theorem d_Mdl_read_86 : decode prog_11_method_38_code 86 = .ok (.i2l, 1) := by decide +kernel
theorem d_Mdl_read_87 : decode prog_11_method_38_code 87 = .ok (.lreturn, 1) := by decide +kernel
theorem d_Mdl_read_88 : decode prog_11_method_38_code 88 = .ok (.aload_n 0, 1) := by decide +kernel
theorem d_Mdl_read_89 : decode prog_11_method_38_code 89 = .ok (.getfield 102, 3) := by decide +kernel
theorem d_Mdl_read_92 : decode prog_11_method_38_code 92 = .ok (.iload_n 1, 1) := by decide +kernel
theorem d_Mdl_read_93 : decode prog_11_method_38_code 93 = .ok (.iaload, 1) := by decide +kernel
theorem d_Mdl_read_94 : decode prog_11_method_38_code 94 = .ok (.i2l, 1) := by decide +kernel
theorem d_Mdl_read_95 : decode prog_11_method_38_code 95 = .ok (.lreturn, 1) := by decide +kernel
theorem d_Mdl_read_96 : decode prog_11_method_38_code 96 = .ok (.aload_n 0, 1) := by decide +kernel
theorem d_Mdl_read_97 : decode prog_11_method_38_code 97 = .ok (.getfield 105, 3) := by decide +kernel
theorem d_Mdl_read_100 : decode prog_11_method_38_code 100 = .ok (.iload_n 1, 1) := by decide +kernel
theorem d_Mdl_read_101 : decode prog_11_method_38_code 101 = .ok (.laload, 1) := by decide +kernel
theorem d_Mdl_read_102 : decode prog_11_method_38_code 102 = .ok (.lreturn, 1) := by decide +kernel
theorem d_Mdl_read_103 : decode prog_11_method_38_code 103 = .ok (.aload_n 0, 1) := by decide +kernel
theorem d_Mdl_read_104 : decode prog_11_method_38_code 104 = .ok (.getfield 108, 3) := by decide +kernel
theorem d_Mdl_read_107 : decode prog_11_method_38_code 107 = .ok (.iload_n 1, 1) := by decide +kernel
theorem d_Mdl_read_108 : decode prog_11_method_38_code 108 = .ok (.laload, 1) := by decide +kernel
theorem d_Mdl_read_109 : decode prog_11_method_38_code 109 = .ok (.lreturn, 1) := by decide +kernel
theorem d_Mdl_read_110 : decode prog_11_method_38_code 110 = .ok (.aload_n 0, 1) := by decide +kernel
theorem d_Mdl_read_111 : decode prog_11_method_38_code 111 = .ok (.getfield 111, 3) := by decide +kernel
theorem d_Mdl_read_114 : decode prog_11_method_38_code 114 = .ok (.iload_n 1, 1) := by decide +kernel
theorem d_Mdl_read_115 : decode prog_11_method_38_code 115 = .ok (.iaload, 1) := by decide +kernel
theorem d_Mdl_read_116 : decode prog_11_method_38_code 116 = .ok (.i2l, 1) := by decide +kernel
theorem d_Mdl_read_117 : decode prog_11_method_38_code 117 = .ok (.lreturn, 1) := by decide +kernel
theorem d_Mdl_read_118 : decode prog_11_method_38_code 118 = .ok (.aload_n 0, 1) := by decide +kernel
theorem d_Mdl_read_119 : decode prog_11_method_38_code 119 = .ok (.getfield 81, 3) := by decide +kernel
theorem d_Mdl_read_122 : decode prog_11_method_38_code 122 = .ok (.iload_n 1, 1) := by decide +kernel
theorem d_Mdl_read_123 : decode prog_11_method_38_code 123 = .ok (.iaload, 1) := by decide +kernel
theorem d_Mdl_read_124 : decode prog_11_method_38_code 124 = .ok (.i2l, 1) := by decide +kernel
theorem d_Mdl_read_125 : decode prog_11_method_38_code 125 = .ok (.lreturn, 1) := by decide +kernel
set_option maxHeartbeats 4000000 in
set_option maxRecDepth 100000 in
theorem w_Mdl_read_34 {res : (Int64 ⊕ (Nat × Nat)) × xH} (C : x_C l s0 A0 D R_Mdl prog_11_method_38_code 3 [] p s m args meth c) (hr : meth.sig.returnType = (some .long)) (hnm : meth.name = "read") (hRf : 1 ≤ R.frames) (hRl : 33 ≤ R.locals)  (l0 : Nat) (l1 : Int32) (l2 : Int32) (t0 : Int32) (t1 : Nat) (hp : f_Mdl_read_b34 l0 l1 l2 t0 t1 h = some res) (hH : x_S s0 D R h H locs cells slots) (hl : lv_has ls 3 [(0, .ref l0), (1, .int l1), (2, .int l2)]) : W p l e R s m args below meth c H locs cells slots (x_Q s0 D below s R (x_oc vJ res.1) res.2) (F0 m 34 ls [.int t0, .ref t1]) := by
  obtain ⟨hx, hb, hown, hts, hK, hml, hW, Z, -⟩ := id C
  unfold f_Mdl_read_b34 at hp
  refine x_pV C hH fp_Mdl_121 (fun h => Bool.noConfusion h) d_Mdl_read_34 rfl rfl hp (fun h H locs hp hH => ?_)
  refine lv_aload_n hx hb d_Mdl_read_37 rfl (lv_at hl 0 rfl) ?_
  refine x_gI C hH fl_Mdl_121 d_Mdl_read_38 hp (fun v1 hp => ?_)
  refine lv_if_le (tgt := 46) hx hb d_Mdl_read_41 (by decide) (fun hc => ?_) (fun hc => ?_)
  · replace hp := x_ifp hc hp
    refine lv_iload_n hx hb d_Mdl_read_46 rfl (lv_at hl 2 rfl) ?_
    by_cases hc0 : l2 = 0
    · replace hp := x_ifp hc0 hp
      refine lv_tableIn (off := 33) (tgt := 80) hx hb d_Mdl_read_47 (by rw [hc0]; decide) (by rw [hc0]; decide) (by rw [hc0]; rfl) (by decide) ?_
      refine lv_aload_n hx hb d_Mdl_read_80 rfl (lv_at hl 0 rfl) ?_
      refine x_gA C hH fl_Mdl_78 d_Mdl_read_81 hp (fun v2 hp => ?_)
      refine lv_iload_n hx hb d_Mdl_read_84 rfl (lv_at hl 1 rfl) ?_
      refine x_lI C hH d_Mdl_read_85 hp (fun v3 hp => ?_)
      refine lv_i2l (v := v3.toInt64) hx hb d_Mdl_read_86 rfl ?_
      exact x_lret C hH hr d_Mdl_read_87 hp
    replace hp := x_ifn hc0 hp
    by_cases hc1 : l2 = 1
    · replace hp := x_ifp hc1 hp
      refine lv_tableIn (off := 41) (tgt := 88) hx hb d_Mdl_read_47 (by rw [hc1]; decide) (by rw [hc1]; decide) (by rw [hc1]; rfl) (by decide) ?_
      refine lv_aload_n hx hb d_Mdl_read_88 rfl (lv_at hl 0 rfl) ?_
      refine x_gA C hH fl_Mdl_102 d_Mdl_read_89 hp (fun v4 hp => ?_)
      refine lv_iload_n hx hb d_Mdl_read_92 rfl (lv_at hl 1 rfl) ?_
      refine x_lI C hH d_Mdl_read_93 hp (fun v5 hp => ?_)
      refine lv_i2l (v := v5.toInt64) hx hb d_Mdl_read_94 rfl ?_
      exact x_lret C hH hr d_Mdl_read_95 hp
    replace hp := x_ifn hc1 hp
    by_cases hc2 : l2 = 2
    · replace hp := x_ifp hc2 hp
      refine lv_tableIn (off := 49) (tgt := 96) hx hb d_Mdl_read_47 (by rw [hc2]; decide) (by rw [hc2]; decide) (by rw [hc2]; rfl) (by decide) ?_
      refine lv_aload_n hx hb d_Mdl_read_96 rfl (lv_at hl 0 rfl) ?_
      refine x_gA C hH fl_Mdl_105 d_Mdl_read_97 hp (fun v6 hp => ?_)
      refine lv_iload_n hx hb d_Mdl_read_100 rfl (lv_at hl 1 rfl) ?_
      refine x_lJ C hH d_Mdl_read_101 hp (fun v7 hp => ?_)
      exact x_lret C hH hr d_Mdl_read_102 hp
    replace hp := x_ifn hc2 hp
    by_cases hc3 : l2 = 3
    · replace hp := x_ifp hc3 hp
      refine lv_tableIn (off := 56) (tgt := 103) hx hb d_Mdl_read_47 (by rw [hc3]; decide) (by rw [hc3]; decide) (by rw [hc3]; rfl) (by decide) ?_
      refine lv_aload_n hx hb d_Mdl_read_103 rfl (lv_at hl 0 rfl) ?_
      refine x_gA C hH fl_Mdl_108 d_Mdl_read_104 hp (fun v8 hp => ?_)
      refine lv_iload_n hx hb d_Mdl_read_107 rfl (lv_at hl 1 rfl) ?_
      refine x_lJ C hH d_Mdl_read_108 hp (fun v9 hp => ?_)
      exact x_lret C hH hr d_Mdl_read_109 hp
    replace hp := x_ifn hc3 hp
    by_cases hc4 : l2 = 4
    · replace hp := x_ifp hc4 hp
      refine lv_tableIn (off := 63) (tgt := 110) hx hb d_Mdl_read_47 (by rw [hc4]; decide) (by rw [hc4]; decide) (by rw [hc4]; rfl) (by decide) ?_
      refine lv_aload_n hx hb d_Mdl_read_110 rfl (lv_at hl 0 rfl) ?_
      refine x_gA C hH fl_Mdl_111 d_Mdl_read_111 hp (fun v10 hp => ?_)
      refine lv_iload_n hx hb d_Mdl_read_114 rfl (lv_at hl 1 rfl) ?_
      refine x_lI C hH d_Mdl_read_115 hp (fun v11 hp => ?_)
      refine lv_i2l (v := v11.toInt64) hx hb d_Mdl_read_116 rfl ?_
      exact x_lret C hH hr d_Mdl_read_117 hp
    replace hp := x_ifn hc4 hp
    have n0 := lv_neT hc0 (k := 0) (a := 0) (by decide)
    have n1 := lv_neT hc1 (k := 1) (a := 1) (by decide)
    have n2 := lv_neT hc2 (k := 2) (a := 2) (by decide)
    have n3 := lv_neT hc3 (k := 3) (a := 3) (by decide)
    have n4 := lv_neT hc4 (k := 4) (a := 4) (by decide)
    refine lv_tableOut (tgt := 118) hx hb d_Mdl_read_47 (by omega) (by decide) ?_
    refine lv_aload_n hx hb d_Mdl_read_118 rfl (lv_at hl 0 rfl) ?_
    refine x_gA C hH fl_Mdl_81 d_Mdl_read_119 hp (fun v12 hp => ?_)
    refine lv_iload_n hx hb d_Mdl_read_122 rfl (lv_at hl 1 rfl) ?_
    refine x_lI C hH d_Mdl_read_123 hp (fun v13 hp => ?_)
    refine lv_i2l (v := v13.toInt64) hx hb d_Mdl_read_124 rfl ?_
    exact x_lret C hH hr d_Mdl_read_125 hp
  · replace hp := x_ifn hc hp
    refine lv_lconst (v := 0) hx hb d_Mdl_read_44 (by decide) ?_
    exact x_lret C hH hr d_Mdl_read_45 hp
set_option maxHeartbeats 4000000 in
set_option maxRecDepth 100000 in
theorem w_Mdl_read_33 {res : (Int64 ⊕ (Nat × Nat)) × xH} (C : x_C l s0 A0 D R_Mdl prog_11_method_38_code 3 [] p s m args meth c) (hr : meth.sig.returnType = (some .long)) (hnm : meth.name = "read") (hRf : 1 ≤ R.frames) (hRl : 33 ≤ R.locals)  (l0 : Nat) (l1 : Int32) (l2 : Int32) (t0 : Nat) (hp : f_Mdl_read_b33 l0 l1 l2 t0 h = some res) (hH : x_S s0 D R h H locs cells slots) (hl : lv_has ls 3 [(0, .ref l0), (1, .int l1), (2, .int l2)]) : W p l e R s m args below meth c H locs cells slots (x_Q s0 D below s R (x_oc vJ res.1) res.2) (F0 m 33 ls [.ref t0]) := by
  obtain ⟨hx, hb, hown, hts, hK, hml, hW, Z, -⟩ := id C
  unfold f_Mdl_read_b33 at hp
  refine lv_iconst (v := 1) hx hb d_Mdl_read_33 (by decide) ?_
  exact w_Mdl_read_34 C hr hnm hRf hRl  l0 l1 l2 1 t0 hp hH (lv_sub hl [0, 1, 2] rfl)
set_option maxHeartbeats 4000000 in
set_option maxRecDepth 100000 in
theorem w_Mdl_read_0 {res : (Int64 ⊕ (Nat × Nat)) × xH} (C : x_C l s0 A0 D R_Mdl prog_11_method_38_code 3 [] p s m args meth c) (hr : meth.sig.returnType = (some .long)) (hnm : meth.name = "read") (hRf : 1 ≤ R.frames) (hRl : 33 ≤ R.locals)  (l0 : Nat) (l1 : Int32) (l2 : Int32) (hp : f_Mdl_read l0 l1 l2 h = some res) (hH : x_S s0 D R h H locs cells slots) (hl : lv_has ls 3 [(0, .ref l0), (1, .int l1), (2, .int l2)]) : W p l e R s m args below meth c H locs cells slots (x_Q s0 D below s R (x_oc vJ res.1) res.2) (F0 m 0 ls []) := by
  obtain ⟨hx, hb, hown, hts, hK, hml, hW, Z, -⟩ := id C
  unfold f_Mdl_read at hp
  refine lv_aload_n hx hb d_Mdl_read_0 rfl (lv_at hl 0 rfl) ?_
  refine lv_iload_n hx hb d_Mdl_read_1 rfl (lv_at hl 1 rfl) ?_
  refine lv_i2l (v := l1.toInt64) hx hb d_Mdl_read_2 rfl ?_
  refine lv_lconst (v := 0) hx hb d_Mdl_read_3 (by decide) ?_
  refine lv_aload_n hx hb d_Mdl_read_4 rfl (lv_at hl 0 rfl) ?_
  refine x_gI C hH fl_Mdl_204 d_Mdl_read_5 hp (fun v1 hp => ?_)
  refine lv_iconst (v := 1) hx hb d_Mdl_read_8 (by decide) ?_
  refine lv_isub hx hb d_Mdl_read_9 ?_
  refine lv_i2l (v := (v1 - 1).toInt64) hx hb d_Mdl_read_10 rfl ?_
  refine x_callS (As := [.long l1.toInt64, .long 0, .long ((v1 - 1).toInt64)]) (rest := [.ref l0]) (cv := vI) C hH kc_Mdl_148 d_Mdl_read_11 hp (fun o h' e => m_Mdl_in Z e) rfl hl.1 (Nat.le_trans (Nat.le_of_ble_eq_true rfl) hRf) (Nat.le_trans (Nat.le_of_ble_eq_true rfl) hRl) (Nat.le_of_ble_eq_true rfl) (fun v2 h H locs cells slots hp hH => ?_)
  refine W.eq (g2 := F0 m 14 ls [.int v2, .ref l0]) rfl ?_
  refine lv_if_eq (tgt := 33) hx hb d_Mdl_read_14 (by decide) (fun hc => ?_) (fun hc => ?_)
  · replace hp := x_ifp hc hp
    exact w_Mdl_read_33 C hr hnm hRf hRl  l0 l1 l2 l0 hp hH (lv_sub hl [0, 1, 2] rfl)
  · replace hp := x_ifn hc hp
    refine lv_iload_n hx hb d_Mdl_read_17 rfl (lv_at hl 2 rfl) ?_
    refine lv_i2l (v := l2.toInt64) hx hb d_Mdl_read_18 rfl ?_
    refine lv_lconst (v := 0) hx hb d_Mdl_read_19 (by decide) ?_
    refine lv_ldc2 hx hb hown (hts _ k_997) d_Mdl_read_20 ?_
    refine x_callS (As := [.long l2.toInt64, .long 0, .long 5]) (rest := [.ref l0]) (cv := vI) C hH kc_Mdl_148 d_Mdl_read_23 hp (fun o h' e => m_Mdl_in Z e) rfl hl.1 (Nat.le_trans (Nat.le_of_ble_eq_true rfl) hRf) (Nat.le_trans (Nat.le_of_ble_eq_true rfl) hRl) (Nat.le_of_ble_eq_true rfl) (fun v3 h H locs cells slots hp hH => ?_)
    refine W.eq (g2 := F0 m 26 ls [.int v3, .ref l0]) rfl ?_
    refine lv_if_eq (tgt := 33) hx hb d_Mdl_read_26 (by decide) (fun hc => ?_) (fun hc => ?_)
    · replace hp := x_ifp hc hp
      exact w_Mdl_read_33 C hr hnm hRf hRl  l0 l1 l2 l0 hp hH (lv_sub hl [0, 1, 2] rfl)
    · replace hp := x_ifn hc hp
      refine lv_iconst (v := 0) hx hb d_Mdl_read_29 (by decide) ?_
      refine lv_goto (tgt := 34) hx hb d_Mdl_read_30 (by decide) ?_
      exact w_Mdl_read_34 C hr hnm hRf hRl  l0 l1 l2 0 l0 hp hH (lv_sub hl [0, 1, 2] rfl)
set_option maxRecDepth 100000 in
theorem m_Mdl_read (Z : x_Z l s0 A0 D) {l0 : Nat} {l1 : Int32} {l2 : Int32} {res : (Int64 ⊕ (Nat × Nat)) × xH} (hp : f_Mdl_read l0 l1 l2 h = some res) : x_M l s0 D y_Mdl_read (x_cw y_Mdl_read prog_11_method_38_code 3 (some .long) []) 1 33 [.ref l0, .int l1, .int l2] h (x_oc vJ res.1) res.2 := by
  refine x_M.ofW Z (plainFor_of_name (by decide)) ?_
  intro p e s m below meth c C hnm hr hH
  have hl := lv_entry ([.ref l0, .int l1, .int l2]) (n := 3) (Nat.le_of_ble_eq_true rfl)
  rw [lg_entry_eq]
  generalize (lg_sl ([.ref l0, .int l1, .int l2]) ++ List.replicate (3 - (lg_sl ([.ref l0, .int l1, .int l2])).length) Slot.unset).toArray = ls at hl ⊢
  exact w_Mdl_read_0 C hr hnm (Nat.le_refl _) (Nat.le_refl _) l0 l1 l2 hp hH hl
/-! ReadSideModel.value(III)J -/
theorem d_Mdl_value_0 : decode prog_11_method_39_code 0 = .ok (.aload_n 0, 1) := by decide +kernel
theorem d_Mdl_value_1 : decode prog_11_method_39_code 1 = .ok (.aload_n 0, 1) := by decide +kernel
theorem d_Mdl_value_2 : decode prog_11_method_39_code 2 = .ok (.iload_n 1, 1) := by decide +kernel
theorem d_Mdl_value_3 : decode prog_11_method_39_code 3 = .ok (.invokevirtual 162, 3) := by decide +kernel
theorem d_Mdl_value_6 : decode prog_11_method_39_code 6 = .ok (.ifCond .eq 16, 3) := by decide +kernel
theorem d_Mdl_value_9 : decode prog_11_method_39_code 9 = .ok (.aload_n 0, 1) := by decide +kernel
theorem d_Mdl_value_10 : decode prog_11_method_39_code 10 = .ok (.iload_n 2, 1) := by decide +kernel
theorem d_Mdl_value_11 : decode prog_11_method_39_code 11 = .ok (.iload_n 3, 1) := by decide +kernel
theorem d_Mdl_value_12 : decode prog_11_method_39_code 12 = .ok (.invokevirtual 243, 3) := by decide +kernel
theorem d_Mdl_value_15 : decode prog_11_method_39_code 15 = .ok (.ifCond .eq 7, 3) := by decide +kernel
theorem d_Mdl_value_18 : decode prog_11_method_39_code 18 = .ok (.iconst 0, 1) := by decide +kernel
theorem d_Mdl_value_19 : decode prog_11_method_39_code 19 = .ok (.goto 4, 3) := by decide +kernel
theorem d_Mdl_value_22 : decode prog_11_method_39_code 22 = .ok (.iconst 1, 1) := by decide +kernel
theorem d_Mdl_value_23 : decode prog_11_method_39_code 23 = .ok (.putfield 121, 3) := by decide +kernel
theorem d_Mdl_value_26 : decode prog_11_method_39_code 26 = .ok (.aload_n 0, 1) := by decide +kernel
theorem d_Mdl_value_27 : decode prog_11_method_39_code 27 = .ok (.getfield 121, 3) := by decide +kernel
theorem d_Mdl_value_30 : decode prog_11_method_39_code 30 = .ok (.ifCond .le 7, 3) := by decide +kernel
theorem d_Mdl_value_33 : decode prog_11_method_39_code 33 = .ok (.lconst 0, 1) := by decide +kernel
theorem d_Mdl_value_34 : decode prog_11_method_39_code 34 = .ok (.goto 10, 3) := by decide +kernel
theorem d_Mdl_value_37 : decode prog_11_method_39_code 37 = .ok (.aload_n 0, 1) := by decide +kernel
theorem d_Mdl_value_38 : decode prog_11_method_39_code 38 = .ok (.iload_n 1, 1) := by decide +kernel
theorem d_Mdl_value_39 : decode prog_11_method_39_code 39 = .ok (.iload_n 2, 1) := by decide +kernel
theorem d_Mdl_value_40 : decode prog_11_method_39_code 40 = .ok (.iload_n 3, 1) := by decide +kernel
theorem d_Mdl_value_41 : decode prog_11_method_39_code 41 = .ok (.invokevirtual 228, 3) := by decide +kernel
theorem d_Mdl_value_44 : decode prog_11_method_39_code 44 = .ok (.lreturn, 1) := by decide +kernel
set_option maxHeartbeats 4000000 in
set_option maxRecDepth 100000 in
theorem w_Mdl_value_44 {res : (Int64 ⊕ (Nat × Nat)) × xH} (C : x_C l s0 A0 D R_Mdl prog_11_method_39_code 4 [] p s m args meth c) (hr : meth.sig.returnType = (some .long)) (hnm : meth.name = "value") (hRf : 2 ≤ R.frames) (hRl : 71 ≤ R.locals)  (t0 : Int64) (hp : f_Mdl_value_b44 t0 h = some res) (hH : x_S s0 D R h H locs cells slots) (hl : lv_has ls 4 []) : W p l e R s m args below meth c H locs cells slots (x_Q s0 D below s R (x_oc vJ res.1) res.2) (F0 m 44 ls [.long t0]) := by
  obtain ⟨hx, hb, hown, hts, hK, hml, hW, Z, -⟩ := id C
  unfold f_Mdl_value_b44 at hp
  exact x_lret C hH hr d_Mdl_value_44 hp
set_option maxHeartbeats 4000000 in
set_option maxRecDepth 100000 in
theorem w_Mdl_value_23 {res : (Int64 ⊕ (Nat × Nat)) × xH} (C : x_C l s0 A0 D R_Mdl prog_11_method_39_code 4 [] p s m args meth c) (hr : meth.sig.returnType = (some .long)) (hnm : meth.name = "value") (hRf : 2 ≤ R.frames) (hRl : 71 ≤ R.locals)  (l0 : Nat) (l1 : Int32) (l2 : Int32) (l3 : Int32) (t0 : Int32) (t1 : Nat) (hp : f_Mdl_value_b23 l0 l1 l2 l3 t0 t1 h = some res) (hH : x_S s0 D R h H locs cells slots) (hl : lv_has ls 4 [(0, .ref l0), (1, .int l1), (2, .int l2), (3, .int l3)]) : W p l e R s m args below meth c H locs cells slots (x_Q s0 D below s R (x_oc vJ res.1) res.2) (F0 m 23 ls [.int t0, .ref t1]) := by
  obtain ⟨hx, hb, hown, hts, hK, hml, hW, Z, -⟩ := id C
  unfold f_Mdl_value_b23 at hp
  refine x_pV C hH fp_Mdl_121 (fun h => Bool.noConfusion h) d_Mdl_value_23 rfl rfl hp (fun h H locs hp hH => ?_)
  refine lv_aload_n hx hb d_Mdl_value_26 rfl (lv_at hl 0 rfl) ?_
  refine x_gI C hH fl_Mdl_121 d_Mdl_value_27 hp (fun v1 hp => ?_)
  refine lv_if_le (tgt := 37) hx hb d_Mdl_value_30 (by decide) (fun hc => ?_) (fun hc => ?_)
  · replace hp := x_ifp hc hp
    refine lv_aload_n hx hb d_Mdl_value_37 rfl (lv_at hl 0 rfl) ?_
    refine lv_iload_n hx hb d_Mdl_value_38 rfl (lv_at hl 1 rfl) ?_
    refine lv_iload_n hx hb d_Mdl_value_39 rfl (lv_at hl 2 rfl) ?_
    refine lv_iload_n hx hb d_Mdl_value_40 rfl (lv_at hl 3 rfl) ?_
    refine x_callV (As := [.int l1, .int l2, .int l3]) (rest := []) (cv := vJ) C hH kc_Mdl_228 d_Mdl_value_41 hp (fun o h' e => m_Mdl_tell Z e) rfl hl.1 (Nat.le_trans (Nat.le_of_ble_eq_true rfl) hRf) (Nat.le_trans (Nat.le_of_ble_eq_true rfl) hRl) (Nat.le_of_ble_eq_true rfl) (fun v2 h H locs cells slots hp hH => ?_)
    refine W.eq (g2 := F0 m 44 ls [.long v2]) rfl ?_
    exact w_Mdl_value_44 C hr hnm hRf hRl  v2 hp hH (lv_sub hl [] rfl)
  · replace hp := x_ifn hc hp
    refine lv_lconst (v := 0) hx hb d_Mdl_value_33 (by decide) ?_
    refine lv_goto (tgt := 44) hx hb d_Mdl_value_34 (by decide) ?_
    exact w_Mdl_value_44 C hr hnm hRf hRl  0 hp hH (lv_sub hl [] rfl)
set_option maxHeartbeats 4000000 in
set_option maxRecDepth 100000 in
theorem w_Mdl_value_22 {res : (Int64 ⊕ (Nat × Nat)) × xH} (C : x_C l s0 A0 D R_Mdl prog_11_method_39_code 4 [] p s m args meth c) (hr : meth.sig.returnType = (some .long)) (hnm : meth.name = "value") (hRf : 2 ≤ R.frames) (hRl : 71 ≤ R.locals)  (l0 : Nat) (l1 : Int32) (l2 : Int32) (l3 : Int32) (t0 : Nat) (hp : f_Mdl_value_b22 l0 l1 l2 l3 t0 h = some res) (hH : x_S s0 D R h H locs cells slots) (hl : lv_has ls 4 [(0, .ref l0), (1, .int l1), (2, .int l2), (3, .int l3)]) : W p l e R s m args below meth c H locs cells slots (x_Q s0 D below s R (x_oc vJ res.1) res.2) (F0 m 22 ls [.ref t0]) := by
  obtain ⟨hx, hb, hown, hts, hK, hml, hW, Z, -⟩ := id C
  unfold f_Mdl_value_b22 at hp
  refine lv_iconst (v := 1) hx hb d_Mdl_value_22 (by decide) ?_
  exact w_Mdl_value_23 C hr hnm hRf hRl  l0 l1 l2 l3 1 t0 hp hH (lv_sub hl [0, 1, 2, 3] rfl)
set_option maxHeartbeats 4000000 in
set_option maxRecDepth 100000 in
theorem w_Mdl_value_0 {res : (Int64 ⊕ (Nat × Nat)) × xH} (C : x_C l s0 A0 D R_Mdl prog_11_method_39_code 4 [] p s m args meth c) (hr : meth.sig.returnType = (some .long)) (hnm : meth.name = "value") (hRf : 2 ≤ R.frames) (hRl : 71 ≤ R.locals)  (l0 : Nat) (l1 : Int32) (l2 : Int32) (l3 : Int32) (hp : f_Mdl_value l0 l1 l2 l3 h = some res) (hH : x_S s0 D R h H locs cells slots) (hl : lv_has ls 4 [(0, .ref l0), (1, .int l1), (2, .int l2), (3, .int l3)]) : W p l e R s m args below meth c H locs cells slots (x_Q s0 D below s R (x_oc vJ res.1) res.2) (F0 m 0 ls []) := by
  obtain ⟨hx, hb, hown, hts, hK, hml, hW, Z, -⟩ := id C
  unfold f_Mdl_value at hp
  refine lv_aload_n hx hb d_Mdl_value_0 rfl (lv_at hl 0 rfl) ?_
  refine lv_aload_n hx hb d_Mdl_value_1 rfl (lv_at hl 0 rfl) ?_
  refine lv_iload_n hx hb d_Mdl_value_2 rfl (lv_at hl 1 rfl) ?_
  refine x_callV (As := [.int l1]) (rest := [.ref l0]) (cv := vI) C hH kc_Mdl_162 d_Mdl_value_3 hp (fun o h' e => m_Mdl_isReplica Z e) rfl hl.1 (Nat.le_trans (Nat.le_of_ble_eq_true rfl) hRf) (Nat.le_trans (Nat.le_of_ble_eq_true rfl) hRl) (Nat.le_of_ble_eq_true rfl) (fun v1 h H locs cells slots hp hH => ?_)
  refine W.eq (g2 := F0 m 6 ls [.int v1, .ref l0]) rfl ?_
  refine lv_if_eq (tgt := 22) hx hb d_Mdl_value_6 (by decide) (fun hc => ?_) (fun hc => ?_)
  · replace hp := x_ifp hc hp
    exact w_Mdl_value_22 C hr hnm hRf hRl  l0 l1 l2 l3 l0 hp hH (lv_sub hl [0, 1, 2, 3] rfl)
  · replace hp := x_ifn hc hp
    refine lv_aload_n hx hb d_Mdl_value_9 rfl (lv_at hl 0 rfl) ?_
    refine lv_iload_n hx hb d_Mdl_value_10 rfl (lv_at hl 2 rfl) ?_
    refine lv_iload_n hx hb d_Mdl_value_11 rfl (lv_at hl 3 rfl) ?_
    refine x_callV (As := [.int l2, .int l3]) (rest := [.ref l0]) (cv := vI) C hH kc_Mdl_243 d_Mdl_value_12 hp (fun o h' e => m_Mdl_isQuestion Z e) rfl hl.1 (Nat.le_trans (Nat.le_of_ble_eq_true rfl) hRf) (Nat.le_trans (Nat.le_of_ble_eq_true rfl) hRl) (Nat.le_of_ble_eq_true rfl) (fun v2 h H locs cells slots hp hH => ?_)
    refine W.eq (g2 := F0 m 15 ls [.int v2, .ref l0]) rfl ?_
    refine lv_if_eq (tgt := 22) hx hb d_Mdl_value_15 (by decide) (fun hc => ?_) (fun hc => ?_)
    · replace hp := x_ifp hc hp
      exact w_Mdl_value_22 C hr hnm hRf hRl  l0 l1 l2 l3 l0 hp hH (lv_sub hl [0, 1, 2, 3] rfl)
    · replace hp := x_ifn hc hp
      refine lv_iconst (v := 0) hx hb d_Mdl_value_18 (by decide) ?_
      refine lv_goto (tgt := 23) hx hb d_Mdl_value_19 (by decide) ?_
      exact w_Mdl_value_23 C hr hnm hRf hRl  l0 l1 l2 l3 0 l0 hp hH (lv_sub hl [0, 1, 2, 3] rfl)
set_option maxRecDepth 100000 in
theorem m_Mdl_value (Z : x_Z l s0 A0 D) {l0 : Nat} {l1 : Int32} {l2 : Int32} {l3 : Int32} {res : (Int64 ⊕ (Nat × Nat)) × xH} (hp : f_Mdl_value l0 l1 l2 l3 h = some res) : x_M l s0 D y_Mdl_value (x_cw y_Mdl_value prog_11_method_39_code 4 (some .long) []) 2 71 [.ref l0, .int l1, .int l2, .int l3] h (x_oc vJ res.1) res.2 := by
  refine x_M.ofW Z (plainFor_of_name (by decide)) ?_
  intro p e s m below meth c C hnm hr hH
  have hl := lv_entry ([.ref l0, .int l1, .int l2, .int l3]) (n := 4) (Nat.le_of_ble_eq_true rfl)
  rw [lg_entry_eq]
  generalize (lg_sl ([.ref l0, .int l1, .int l2, .int l3]) ++ List.replicate (4 - (lg_sl ([.ref l0, .int l1, .int l2, .int l3])).length) Slot.unset).toArray = ls at hl ⊢
  exact w_Mdl_value_0 C hr hnm (Nat.le_refl _) (Nat.le_refl _) l0 l1 l2 l3 hp hH hl
/-! ReadSideModel.at(II)I -/
theorem d_Mdl_at_0 : decode prog_11_method_40_code 0 = .ok (.aload_n 0, 1) := by decide +kernel
theorem d_Mdl_at_1 : decode prog_11_method_40_code 1 = .ok (.aload_n 0, 1) := by decide +kernel
theorem d_Mdl_at_2 : decode prog_11_method_40_code 2 = .ok (.iload_n 1, 1) := by decide +kernel
theorem d_Mdl_at_3 : decode prog_11_method_40_code 3 = .ok (.invokevirtual 162, 3) := by decide +kernel
theorem d_Mdl_at_6 : decode prog_11_method_40_code 6 = .ok (.ifCond .eq 15, 3) := by decide +kernel
theorem d_Mdl_at_9 : decode prog_11_method_40_code 9 = .ok (.aload_n 0, 1) := by decide +kernel
theorem d_Mdl_at_10 : decode prog_11_method_40_code 10 = .ok (.iload_n 2, 1) := by decide +kernel
theorem d_Mdl_at_11 : decode prog_11_method_40_code 11 = .ok (.invokevirtual 193, 3) := by decide +kernel
theorem d_Mdl_at_14 : decode prog_11_method_40_code 14 = .ok (.ifCond .eq 7, 3) := by decide +kernel
theorem d_Mdl_at_17 : decode prog_11_method_40_code 17 = .ok (.iconst 0, 1) := by decide +kernel
theorem d_Mdl_at_18 : decode prog_11_method_40_code 18 = .ok (.goto 4, 3) := by decide +kernel
theorem d_Mdl_at_21 : decode prog_11_method_40_code 21 = .ok (.iconst 1, 1) := by decide +kernel
theorem d_Mdl_at_22 : decode prog_11_method_40_code 22 = .ok (.putfield 121, 3) := by decide +kernel
theorem d_Mdl_at_25 : decode prog_11_method_40_code 25 = .ok (.aload_n 0, 1) := by decide +kernel
theorem d_Mdl_at_26 : decode prog_11_method_40_code 26 = .ok (.getfield 121, 3) := by decide +kernel
theorem d_Mdl_at_29 : decode prog_11_method_40_code 29 = .ok (.ifCond .le 7, 3) := by decide +kernel
theorem d_Mdl_at_32 : decode prog_11_method_40_code 32 = .ok (.iconst 0, 1) := by decide +kernel
theorem d_Mdl_at_33 : decode prog_11_method_40_code 33 = .ok (.goto 13, 3) := by decide +kernel
theorem d_Mdl_at_36 : decode prog_11_method_40_code 36 = .ok (.aload_n 0, 1) := by decide +kernel
theorem d_Mdl_at_37 : decode prog_11_method_40_code 37 = .ok (.getfield 53, 3) := by decide +kernel
theorem d_Mdl_at_40 : decode prog_11_method_40_code 40 = .ok (.iconst 3, 1) := by decide +kernel
theorem d_Mdl_at_41 : decode prog_11_method_40_code 41 = .ok (.iload_n 1, 1) := by decide +kernel
theorem d_Mdl_at_42 : decode prog_11_method_40_code 42 = .ok (.imul, 1) := by decide +kernel
theorem d_Mdl_at_43 : decode prog_11_method_40_code 43 = .ok (.iload_n 2, 1) := by decide +kernel
theorem d_Mdl_at_44 : decode prog_11_method_40_code 44 = .ok (.iadd, 1) := by decide +kernel
theorem d_Mdl_at_45 : decode prog_11_method_40_code 45 = .ok (.iaload, 1) := by decide +kernel
theorem d_Mdl_at_46 : decode prog_11_method_40_code 46 = .ok (.ireturn, 1) := by decide +kernel
set_option maxHeartbeats 4000000 in
set_option maxRecDepth 100000 in
theorem w_Mdl_at_46 {res : (Int32 ⊕ (Nat × Nat)) × xH} (C : x_C l s0 A0 D R_Mdl prog_11_method_40_code 3 [] p s m args meth c) (hr : meth.sig.returnType = (some .int)) (hnm : meth.name = "at") (hRf : 2 ≤ R.frames) (hRl : 62 ≤ R.locals)  (t0 : Int32) (hp : f_Mdl_at_b46 t0 h = some res) (hH : x_S s0 D R h H locs cells slots) (hl : lv_has ls 3 []) : W p l e R s m args below meth c H locs cells slots (x_Q s0 D below s R (x_oc vI res.1) res.2) (F0 m 46 ls [.int t0]) := by
  obtain ⟨hx, hb, hown, hts, hK, hml, hW, Z, -⟩ := id C
  unfold f_Mdl_at_b46 at hp
  exact x_iret C hH hr d_Mdl_at_46 hp
set_option maxHeartbeats 4000000 in
set_option maxRecDepth 100000 in
theorem w_Mdl_at_22 {res : (Int32 ⊕ (Nat × Nat)) × xH} (C : x_C l s0 A0 D R_Mdl prog_11_method_40_code 3 [] p s m args meth c) (hr : meth.sig.returnType = (some .int)) (hnm : meth.name = "at") (hRf : 2 ≤ R.frames) (hRl : 62 ≤ R.locals)  (l0 : Nat) (l1 : Int32) (l2 : Int32) (t0 : Int32) (t1 : Nat) (hp : f_Mdl_at_b22 l0 l1 l2 t0 t1 h = some res) (hH : x_S s0 D R h H locs cells slots) (hl : lv_has ls 3 [(0, .ref l0), (1, .int l1), (2, .int l2)]) : W p l e R s m args below meth c H locs cells slots (x_Q s0 D below s R (x_oc vI res.1) res.2) (F0 m 22 ls [.int t0, .ref t1]) := by
  obtain ⟨hx, hb, hown, hts, hK, hml, hW, Z, -⟩ := id C
  unfold f_Mdl_at_b22 at hp
  refine x_pV C hH fp_Mdl_121 (fun h => Bool.noConfusion h) d_Mdl_at_22 rfl rfl hp (fun h H locs hp hH => ?_)
  refine lv_aload_n hx hb d_Mdl_at_25 rfl (lv_at hl 0 rfl) ?_
  refine x_gI C hH fl_Mdl_121 d_Mdl_at_26 hp (fun v1 hp => ?_)
  refine lv_if_le (tgt := 36) hx hb d_Mdl_at_29 (by decide) (fun hc => ?_) (fun hc => ?_)
  · replace hp := x_ifp hc hp
    refine lv_aload_n hx hb d_Mdl_at_36 rfl (lv_at hl 0 rfl) ?_
    refine x_gA C hH fl_Mdl_53 d_Mdl_at_37 hp (fun v2 hp => ?_)
    refine lv_iconst (v := 3) hx hb d_Mdl_at_40 (by decide) ?_
    refine lv_iload_n hx hb d_Mdl_at_41 rfl (lv_at hl 1 rfl) ?_
    refine lv_imul hx hb d_Mdl_at_42 ?_
    refine lv_iload_n hx hb d_Mdl_at_43 rfl (lv_at hl 2 rfl) ?_
    refine lv_iadd hx hb d_Mdl_at_44 ?_
    refine x_lI C hH d_Mdl_at_45 hp (fun v3 hp => ?_)
    exact w_Mdl_at_46 C hr hnm hRf hRl  v3 hp hH (lv_sub hl [] rfl)
  · replace hp := x_ifn hc hp
    refine lv_iconst (v := 0) hx hb d_Mdl_at_32 (by decide) ?_
    refine lv_goto (tgt := 46) hx hb d_Mdl_at_33 (by decide) ?_
    exact w_Mdl_at_46 C hr hnm hRf hRl  0 hp hH (lv_sub hl [] rfl)
set_option maxHeartbeats 4000000 in
set_option maxRecDepth 100000 in
theorem w_Mdl_at_21 {res : (Int32 ⊕ (Nat × Nat)) × xH} (C : x_C l s0 A0 D R_Mdl prog_11_method_40_code 3 [] p s m args meth c) (hr : meth.sig.returnType = (some .int)) (hnm : meth.name = "at") (hRf : 2 ≤ R.frames) (hRl : 62 ≤ R.locals)  (l0 : Nat) (l1 : Int32) (l2 : Int32) (t0 : Nat) (hp : f_Mdl_at_b21 l0 l1 l2 t0 h = some res) (hH : x_S s0 D R h H locs cells slots) (hl : lv_has ls 3 [(0, .ref l0), (1, .int l1), (2, .int l2)]) : W p l e R s m args below meth c H locs cells slots (x_Q s0 D below s R (x_oc vI res.1) res.2) (F0 m 21 ls [.ref t0]) := by
  obtain ⟨hx, hb, hown, hts, hK, hml, hW, Z, -⟩ := id C
  unfold f_Mdl_at_b21 at hp
  refine lv_iconst (v := 1) hx hb d_Mdl_at_21 (by decide) ?_
  exact w_Mdl_at_22 C hr hnm hRf hRl  l0 l1 l2 1 t0 hp hH (lv_sub hl [0, 1, 2] rfl)
set_option maxHeartbeats 4000000 in
set_option maxRecDepth 100000 in
theorem w_Mdl_at_0 {res : (Int32 ⊕ (Nat × Nat)) × xH} (C : x_C l s0 A0 D R_Mdl prog_11_method_40_code 3 [] p s m args meth c) (hr : meth.sig.returnType = (some .int)) (hnm : meth.name = "at") (hRf : 2 ≤ R.frames) (hRl : 62 ≤ R.locals)  (l0 : Nat) (l1 : Int32) (l2 : Int32) (hp : f_Mdl_at l0 l1 l2 h = some res) (hH : x_S s0 D R h H locs cells slots) (hl : lv_has ls 3 [(0, .ref l0), (1, .int l1), (2, .int l2)]) : W p l e R s m args below meth c H locs cells slots (x_Q s0 D below s R (x_oc vI res.1) res.2) (F0 m 0 ls []) := by
  obtain ⟨hx, hb, hown, hts, hK, hml, hW, Z, -⟩ := id C
  unfold f_Mdl_at at hp
  refine lv_aload_n hx hb d_Mdl_at_0 rfl (lv_at hl 0 rfl) ?_
  refine lv_aload_n hx hb d_Mdl_at_1 rfl (lv_at hl 0 rfl) ?_
  refine lv_iload_n hx hb d_Mdl_at_2 rfl (lv_at hl 1 rfl) ?_
  refine x_callV (As := [.int l1]) (rest := [.ref l0]) (cv := vI) C hH kc_Mdl_162 d_Mdl_at_3 hp (fun o h' e => m_Mdl_isReplica Z e) rfl hl.1 (Nat.le_trans (Nat.le_of_ble_eq_true rfl) hRf) (Nat.le_trans (Nat.le_of_ble_eq_true rfl) hRl) (Nat.le_of_ble_eq_true rfl) (fun v1 h H locs cells slots hp hH => ?_)
  refine W.eq (g2 := F0 m 6 ls [.int v1, .ref l0]) rfl ?_
  refine lv_if_eq (tgt := 21) hx hb d_Mdl_at_6 (by decide) (fun hc => ?_) (fun hc => ?_)
  · replace hp := x_ifp hc hp
    exact w_Mdl_at_21 C hr hnm hRf hRl  l0 l1 l2 l0 hp hH (lv_sub hl [0, 1, 2] rfl)
  · replace hp := x_ifn hc hp
    refine lv_aload_n hx hb d_Mdl_at_9 rfl (lv_at hl 0 rfl) ?_
    refine lv_iload_n hx hb d_Mdl_at_10 rfl (lv_at hl 2 rfl) ?_
    refine x_callV (As := [.int l2]) (rest := [.ref l0]) (cv := vI) C hH kc_Mdl_193 d_Mdl_at_11 hp (fun o h' e => m_Mdl_isPart Z e) rfl hl.1 (Nat.le_trans (Nat.le_of_ble_eq_true rfl) hRf) (Nat.le_trans (Nat.le_of_ble_eq_true rfl) hRl) (Nat.le_of_ble_eq_true rfl) (fun v2 h H locs cells slots hp hH => ?_)
    refine W.eq (g2 := F0 m 14 ls [.int v2, .ref l0]) rfl ?_
    refine lv_if_eq (tgt := 21) hx hb d_Mdl_at_14 (by decide) (fun hc => ?_) (fun hc => ?_)
    · replace hp := x_ifp hc hp
      exact w_Mdl_at_21 C hr hnm hRf hRl  l0 l1 l2 l0 hp hH (lv_sub hl [0, 1, 2] rfl)
    · replace hp := x_ifn hc hp
      refine lv_iconst (v := 0) hx hb d_Mdl_at_17 (by decide) ?_
      refine lv_goto (tgt := 22) hx hb d_Mdl_at_18 (by decide) ?_
      exact w_Mdl_at_22 C hr hnm hRf hRl  l0 l1 l2 0 l0 hp hH (lv_sub hl [0, 1, 2] rfl)
set_option maxRecDepth 100000 in
theorem m_Mdl_at (Z : x_Z l s0 A0 D) {l0 : Nat} {l1 : Int32} {l2 : Int32} {res : (Int32 ⊕ (Nat × Nat)) × xH} (hp : f_Mdl_at l0 l1 l2 h = some res) : x_M l s0 D y_Mdl_at (x_cw y_Mdl_at prog_11_method_40_code 3 (some .int) []) 2 62 [.ref l0, .int l1, .int l2] h (x_oc vI res.1) res.2 := by
  refine x_M.ofW Z (plainFor_of_name (by decide)) ?_
  intro p e s m below meth c C hnm hr hH
  have hl := lv_entry ([.ref l0, .int l1, .int l2]) (n := 3) (Nat.le_of_ble_eq_true rfl)
  rw [lg_entry_eq]
  generalize (lg_sl ([.ref l0, .int l1, .int l2]) ++ List.replicate (3 - (lg_sl ([.ref l0, .int l1, .int l2])).length) Slot.unset).toArray = ls at hl ⊢
  exact w_Mdl_at_0 C hr hnm (Nat.le_refl _) (Nat.le_refl _) l0 l1 l2 hp hH hl
/-! ReadSideModel.kept(II)I -/
theorem d_Mdl_kept_0 : decode prog_11_method_41_code 0 = .ok (.aload_n 0, 1) := by decide +kernel
theorem d_Mdl_kept_1 : decode prog_11_method_41_code 1 = .ok (.aload_n 0, 1) := by decide +kernel
theorem d_Mdl_kept_2 : decode prog_11_method_41_code 2 = .ok (.iload_n 1, 1) := by decide +kernel
theorem d_Mdl_kept_3 : decode prog_11_method_41_code 3 = .ok (.invokevirtual 162, 3) := by decide +kernel
theorem d_Mdl_kept_6 : decode prog_11_method_41_code 6 = .ok (.ifCond .eq 15, 3) := by decide +kernel
theorem d_Mdl_kept_9 : decode prog_11_method_41_code 9 = .ok (.aload_n 0, 1) := by decide +kernel
theorem d_Mdl_kept_10 : decode prog_11_method_41_code 10 = .ok (.iload_n 2, 1) := by decide +kernel
theorem d_Mdl_kept_11 : decode prog_11_method_41_code 11 = .ok (.invokevirtual 193, 3) := by decide +kernel
theorem d_Mdl_kept_14 : decode prog_11_method_41_code 14 = .ok (.ifCond .eq 7, 3) := by decide +kernel
theorem d_Mdl_kept_17 : decode prog_11_method_41_code 17 = .ok (.iconst 0, 1) := by decide +kernel
theorem d_Mdl_kept_18 : decode prog_11_method_41_code 18 = .ok (.goto 4, 3) := by decide +kernel
theorem d_Mdl_kept_21 : decode prog_11_method_41_code 21 = .ok (.iconst 1, 1) := by decide +kernel
theorem d_Mdl_kept_22 : decode prog_11_method_41_code 22 = .ok (.putfield 121, 3) := by decide +kernel
theorem d_Mdl_kept_25 : decode prog_11_method_41_code 25 = .ok (.aload_n 0, 1) := by decide +kernel
theorem d_Mdl_kept_26 : decode prog_11_method_41_code 26 = .ok (.getfield 121, 3) := by decide +kernel
theorem d_Mdl_kept_29 : decode prog_11_method_41_code 29 = .ok (.ifCond .le 7, 3) := by decide +kernel
theorem d_Mdl_kept_32 : decode prog_11_method_41_code 32 = .ok (.iconst 0, 1) := by decide +kernel
theorem d_Mdl_kept_33 : decode prog_11_method_41_code 33 = .ok (.goto 15, 3) := by decide +kernel
theorem d_Mdl_kept_36 : decode prog_11_method_41_code 36 = .ok (.aload_n 0, 1) := by decide +kernel
theorem d_Mdl_kept_37 : decode prog_11_method_41_code 37 = .ok (.getfield 53, 3) := by decide +kernel
theorem d_Mdl_kept_40 : decode prog_11_method_41_code 40 = .ok (.iconst 3, 1) := by decide +kernel
theorem d_Mdl_kept_41 : decode prog_11_method_41_code 41 = .ok (.iconst 4, 1) := by decide +kernel
theorem d_Mdl_kept_42 : decode prog_11_method_41_code 42 = .ok (.iload_n 1, 1) := by decide +kernel
theorem d_Mdl_kept_43 : decode prog_11_method_41_code 43 = .ok (.iadd, 1) := by decide +kernel
theorem d_Mdl_kept_44 : decode prog_11_method_41_code 44 = .ok (.imul, 1) := by decide +kernel
theorem d_Mdl_kept_45 : decode prog_11_method_41_code 45 = .ok (.iload_n 2, 1) := by decide +kernel
theorem d_Mdl_kept_46 : decode prog_11_method_41_code 46 = .ok (.iadd, 1) := by decide +kernel
theorem d_Mdl_kept_47 : decode prog_11_method_41_code 47 = .ok (.iaload, 1) := by decide +kernel
theorem d_Mdl_kept_48 : decode prog_11_method_41_code 48 = .ok (.ireturn, 1) := by decide +kernel
set_option maxHeartbeats 4000000 in
set_option maxRecDepth 100000 in
theorem w_Mdl_kept_48 {res : (Int32 ⊕ (Nat × Nat)) × xH} (C : x_C l s0 A0 D R_Mdl prog_11_method_41_code 3 [] p s m args meth c) (hr : meth.sig.returnType = (some .int)) (hnm : meth.name = "kept") (hRf : 2 ≤ R.frames) (hRl : 62 ≤ R.locals)  (t0 : Int32) (hp : f_Mdl_kept_b48 t0 h = some res) (hH : x_S s0 D R h H locs cells slots) (hl : lv_has ls 3 []) : W p l e R s m args below meth c H locs cells slots (x_Q s0 D below s R (x_oc vI res.1) res.2) (F0 m 48 ls [.int t0]) := by
  obtain ⟨hx, hb, hown, hts, hK, hml, hW, Z, -⟩ := id C
  unfold f_Mdl_kept_b48 at hp
  exact x_iret C hH hr d_Mdl_kept_48 hp
set_option maxHeartbeats 4000000 in
set_option maxRecDepth 100000 in
theorem w_Mdl_kept_22 {res : (Int32 ⊕ (Nat × Nat)) × xH} (C : x_C l s0 A0 D R_Mdl prog_11_method_41_code 3 [] p s m args meth c) (hr : meth.sig.returnType = (some .int)) (hnm : meth.name = "kept") (hRf : 2 ≤ R.frames) (hRl : 62 ≤ R.locals)  (l0 : Nat) (l1 : Int32) (l2 : Int32) (t0 : Int32) (t1 : Nat) (hp : f_Mdl_kept_b22 l0 l1 l2 t0 t1 h = some res) (hH : x_S s0 D R h H locs cells slots) (hl : lv_has ls 3 [(0, .ref l0), (1, .int l1), (2, .int l2)]) : W p l e R s m args below meth c H locs cells slots (x_Q s0 D below s R (x_oc vI res.1) res.2) (F0 m 22 ls [.int t0, .ref t1]) := by
  obtain ⟨hx, hb, hown, hts, hK, hml, hW, Z, -⟩ := id C
  unfold f_Mdl_kept_b22 at hp
  refine x_pV C hH fp_Mdl_121 (fun h => Bool.noConfusion h) d_Mdl_kept_22 rfl rfl hp (fun h H locs hp hH => ?_)
  refine lv_aload_n hx hb d_Mdl_kept_25 rfl (lv_at hl 0 rfl) ?_
  refine x_gI C hH fl_Mdl_121 d_Mdl_kept_26 hp (fun v1 hp => ?_)
  refine lv_if_le (tgt := 36) hx hb d_Mdl_kept_29 (by decide) (fun hc => ?_) (fun hc => ?_)
  · replace hp := x_ifp hc hp
    refine lv_aload_n hx hb d_Mdl_kept_36 rfl (lv_at hl 0 rfl) ?_
    refine x_gA C hH fl_Mdl_53 d_Mdl_kept_37 hp (fun v2 hp => ?_)
    refine lv_iconst (v := 3) hx hb d_Mdl_kept_40 (by decide) ?_
    refine lv_iconst (v := 4) hx hb d_Mdl_kept_41 (by decide) ?_
    refine lv_iload_n hx hb d_Mdl_kept_42 rfl (lv_at hl 1 rfl) ?_
    refine lv_iadd hx hb d_Mdl_kept_43 ?_
    refine lv_imul hx hb d_Mdl_kept_44 ?_
    refine lv_iload_n hx hb d_Mdl_kept_45 rfl (lv_at hl 2 rfl) ?_
    refine lv_iadd hx hb d_Mdl_kept_46 ?_
    refine x_lI C hH d_Mdl_kept_47 hp (fun v3 hp => ?_)
    exact w_Mdl_kept_48 C hr hnm hRf hRl  v3 hp hH (lv_sub hl [] rfl)
  · replace hp := x_ifn hc hp
    refine lv_iconst (v := 0) hx hb d_Mdl_kept_32 (by decide) ?_
    refine lv_goto (tgt := 48) hx hb d_Mdl_kept_33 (by decide) ?_
    exact w_Mdl_kept_48 C hr hnm hRf hRl  0 hp hH (lv_sub hl [] rfl)
set_option maxHeartbeats 4000000 in
set_option maxRecDepth 100000 in
theorem w_Mdl_kept_21 {res : (Int32 ⊕ (Nat × Nat)) × xH} (C : x_C l s0 A0 D R_Mdl prog_11_method_41_code 3 [] p s m args meth c) (hr : meth.sig.returnType = (some .int)) (hnm : meth.name = "kept") (hRf : 2 ≤ R.frames) (hRl : 62 ≤ R.locals)  (l0 : Nat) (l1 : Int32) (l2 : Int32) (t0 : Nat) (hp : f_Mdl_kept_b21 l0 l1 l2 t0 h = some res) (hH : x_S s0 D R h H locs cells slots) (hl : lv_has ls 3 [(0, .ref l0), (1, .int l1), (2, .int l2)]) : W p l e R s m args below meth c H locs cells slots (x_Q s0 D below s R (x_oc vI res.1) res.2) (F0 m 21 ls [.ref t0]) := by
  obtain ⟨hx, hb, hown, hts, hK, hml, hW, Z, -⟩ := id C
  unfold f_Mdl_kept_b21 at hp
  refine lv_iconst (v := 1) hx hb d_Mdl_kept_21 (by decide) ?_
  exact w_Mdl_kept_22 C hr hnm hRf hRl  l0 l1 l2 1 t0 hp hH (lv_sub hl [0, 1, 2] rfl)
set_option maxHeartbeats 4000000 in
set_option maxRecDepth 100000 in
theorem w_Mdl_kept_0 {res : (Int32 ⊕ (Nat × Nat)) × xH} (C : x_C l s0 A0 D R_Mdl prog_11_method_41_code 3 [] p s m args meth c) (hr : meth.sig.returnType = (some .int)) (hnm : meth.name = "kept") (hRf : 2 ≤ R.frames) (hRl : 62 ≤ R.locals)  (l0 : Nat) (l1 : Int32) (l2 : Int32) (hp : f_Mdl_kept l0 l1 l2 h = some res) (hH : x_S s0 D R h H locs cells slots) (hl : lv_has ls 3 [(0, .ref l0), (1, .int l1), (2, .int l2)]) : W p l e R s m args below meth c H locs cells slots (x_Q s0 D below s R (x_oc vI res.1) res.2) (F0 m 0 ls []) := by
  obtain ⟨hx, hb, hown, hts, hK, hml, hW, Z, -⟩ := id C
  unfold f_Mdl_kept at hp
  refine lv_aload_n hx hb d_Mdl_kept_0 rfl (lv_at hl 0 rfl) ?_
  refine lv_aload_n hx hb d_Mdl_kept_1 rfl (lv_at hl 0 rfl) ?_
  refine lv_iload_n hx hb d_Mdl_kept_2 rfl (lv_at hl 1 rfl) ?_
  refine x_callV (As := [.int l1]) (rest := [.ref l0]) (cv := vI) C hH kc_Mdl_162 d_Mdl_kept_3 hp (fun o h' e => m_Mdl_isReplica Z e) rfl hl.1 (Nat.le_trans (Nat.le_of_ble_eq_true rfl) hRf) (Nat.le_trans (Nat.le_of_ble_eq_true rfl) hRl) (Nat.le_of_ble_eq_true rfl) (fun v1 h H locs cells slots hp hH => ?_)
  refine W.eq (g2 := F0 m 6 ls [.int v1, .ref l0]) rfl ?_
  refine lv_if_eq (tgt := 21) hx hb d_Mdl_kept_6 (by decide) (fun hc => ?_) (fun hc => ?_)
  · replace hp := x_ifp hc hp
    exact w_Mdl_kept_21 C hr hnm hRf hRl  l0 l1 l2 l0 hp hH (lv_sub hl [0, 1, 2] rfl)
  · replace hp := x_ifn hc hp
    refine lv_aload_n hx hb d_Mdl_kept_9 rfl (lv_at hl 0 rfl) ?_
    refine lv_iload_n hx hb d_Mdl_kept_10 rfl (lv_at hl 2 rfl) ?_
    refine x_callV (As := [.int l2]) (rest := [.ref l0]) (cv := vI) C hH kc_Mdl_193 d_Mdl_kept_11 hp (fun o h' e => m_Mdl_isPart Z e) rfl hl.1 (Nat.le_trans (Nat.le_of_ble_eq_true rfl) hRf) (Nat.le_trans (Nat.le_of_ble_eq_true rfl) hRl) (Nat.le_of_ble_eq_true rfl) (fun v2 h H locs cells slots hp hH => ?_)
    refine W.eq (g2 := F0 m 14 ls [.int v2, .ref l0]) rfl ?_
    refine lv_if_eq (tgt := 21) hx hb d_Mdl_kept_14 (by decide) (fun hc => ?_) (fun hc => ?_)
    · replace hp := x_ifp hc hp
      exact w_Mdl_kept_21 C hr hnm hRf hRl  l0 l1 l2 l0 hp hH (lv_sub hl [0, 1, 2] rfl)
    · replace hp := x_ifn hc hp
      refine lv_iconst (v := 0) hx hb d_Mdl_kept_17 (by decide) ?_
      refine lv_goto (tgt := 22) hx hb d_Mdl_kept_18 (by decide) ?_
      exact w_Mdl_kept_22 C hr hnm hRf hRl  l0 l1 l2 0 l0 hp hH (lv_sub hl [0, 1, 2] rfl)
set_option maxRecDepth 100000 in
theorem m_Mdl_kept (Z : x_Z l s0 A0 D) {l0 : Nat} {l1 : Int32} {l2 : Int32} {res : (Int32 ⊕ (Nat × Nat)) × xH} (hp : f_Mdl_kept l0 l1 l2 h = some res) : x_M l s0 D y_Mdl_kept (x_cw y_Mdl_kept prog_11_method_41_code 3 (some .int) []) 2 62 [.ref l0, .int l1, .int l2] h (x_oc vI res.1) res.2 := by
  refine x_M.ofW Z (plainFor_of_name (by decide)) ?_
  intro p e s m below meth c C hnm hr hH
  have hl := lv_entry ([.ref l0, .int l1, .int l2]) (n := 3) (Nat.le_of_ble_eq_true rfl)
  rw [lg_entry_eq]
  generalize (lg_sl ([.ref l0, .int l1, .int l2]) ++ List.replicate (3 - (lg_sl ([.ref l0, .int l1, .int l2])).length) Slot.unset).toArray = ls at hl ⊢
  exact w_Mdl_kept_0 C hr hnm (Nat.le_refl _) (Nat.le_refl _) l0 l1 l2 hp hH hl
/-! ReadSideModel.log(II)I -/
theorem d_Mdl_log_0 : decode prog_11_method_42_code 0 = .ok (.aload_n 0, 1) := by decide +kernel
theorem d_Mdl_log_1 : decode prog_11_method_42_code 1 = .ok (.aload_n 0, 1) := by decide +kernel
theorem d_Mdl_log_2 : decode prog_11_method_42_code 2 = .ok (.iload_n 1, 1) := by decide +kernel
theorem d_Mdl_log_3 : decode prog_11_method_42_code 3 = .ok (.invokevirtual 193, 3) := by decide +kernel
theorem d_Mdl_log_6 : decode prog_11_method_42_code 6 = .ok (.ifCond .eq 17, 3) := by decide +kernel
theorem d_Mdl_log_9 : decode prog_11_method_42_code 9 = .ok (.iload_n 2, 1) := by decide +kernel
theorem d_Mdl_log_10 : decode prog_11_method_42_code 10 = .ok (.i2l, 1) := by decide +kernel
theorem d_Mdl_log_11 : decode prog_11_method_42_code 11 = .ok (.lconst 0, 1) := by decide +kernel
theorem d_Mdl_log_12 : decode prog_11_method_42_code 12 = .ok (.lconst 1, 1) := by decide +kernel
theorem d_Mdl_log_13 : decode prog_11_method_42_code 13 = .ok (.invokestatic 148, 3) := by decide +kernel
theorem d_Mdl_log_16 : decode prog_11_method_42_code 16 = .ok (.ifCond .eq 7, 3) := by decide +kernel
theorem d_Mdl_log_19 : decode prog_11_method_42_code 19 = .ok (.iconst 0, 1) := by decide +kernel
theorem d_Mdl_log_20 : decode prog_11_method_42_code 20 = .ok (.goto 4, 3) := by decide +kernel
theorem d_Mdl_log_23 : decode prog_11_method_42_code 23 = .ok (.iconst 1, 1) := by decide +kernel
theorem d_Mdl_log_24 : decode prog_11_method_42_code 24 = .ok (.putfield 121, 3) := by decide +kernel
theorem d_Mdl_log_27 : decode prog_11_method_42_code 27 = .ok (.aload_n 0, 1) := by decide +kernel
theorem d_Mdl_log_28 : decode prog_11_method_42_code 28 = .ok (.getfield 121, 3) := by decide +kernel
theorem d_Mdl_log_31 : decode prog_11_method_42_code 31 = .ok (.ifCond .le 7, 3) := by decide +kernel
theorem d_Mdl_log_34 : decode prog_11_method_42_code 34 = .ok (.iconst 0, 1) := by decide +kernel
theorem d_Mdl_log_35 : decode prog_11_method_42_code 35 = .ok (.goto 22, 3) := by decide +kernel
theorem d_Mdl_log_38 : decode prog_11_method_42_code 38 = .ok (.iload_n 2, 1) := by decide +kernel
theorem d_Mdl_log_39 : decode prog_11_method_42_code 39 = .ok (.ifCond .ne 12, 3) := by decide +kernel
theorem d_Mdl_log_42 : decode prog_11_method_42_code 42 = .ok (.aload_n 0, 1) := by decide +kernel
theorem d_Mdl_log_43 : decode prog_11_method_42_code 43 = .ok (.getfield 7, 3) := by decide +kernel
theorem d_Mdl_log_46 : decode prog_11_method_42_code 46 = .ok (.iload_n 1, 1) := by decide +kernel
theorem d_Mdl_log_47 : decode prog_11_method_42_code 47 = .ok (.iaload, 1) := by decide +kernel
theorem d_Mdl_log_48 : decode prog_11_method_42_code 48 = .ok (.goto 9, 3) := by decide +kernel
theorem d_Mdl_log_51 : decode prog_11_method_42_code 51 = .ok (.aload_n 0, 1) := by decide +kernel
theorem d_Mdl_log_52 : decode prog_11_method_42_code 52 = .ok (.getfield 13, 3) := by decide +kernel
theorem d_Mdl_log_55 : decode prog_11_method_42_code 55 = .ok (.iload_n 1, 1) := by decide +kernel
theorem d_Mdl_log_56 : decode prog_11_method_42_code 56 = .ok (.iaload, 1) := by decide +kernel
theorem d_Mdl_log_57 : decode prog_11_method_42_code 57 = .ok (.ireturn, 1) := by decide +kernel
set_option maxHeartbeats 4000000 in
set_option maxRecDepth 100000 in
theorem w_Mdl_log_57 {res : (Int32 ⊕ (Nat × Nat)) × xH} (C : x_C l s0 A0 D R_Mdl prog_11_method_42_code 3 [] p s m args meth c) (hr : meth.sig.returnType = (some .int)) (hnm : meth.name = "log") (hRf : 2 ≤ R.frames) (hRl : 62 ≤ R.locals)  (t0 : Int32) (hp : f_Mdl_log_b57 t0 h = some res) (hH : x_S s0 D R h H locs cells slots) (hl : lv_has ls 3 []) : W p l e R s m args below meth c H locs cells slots (x_Q s0 D below s R (x_oc vI res.1) res.2) (F0 m 57 ls [.int t0]) := by
  obtain ⟨hx, hb, hown, hts, hK, hml, hW, Z, -⟩ := id C
  unfold f_Mdl_log_b57 at hp
  exact x_iret C hH hr d_Mdl_log_57 hp
set_option maxHeartbeats 4000000 in
set_option maxRecDepth 100000 in
theorem w_Mdl_log_24 {res : (Int32 ⊕ (Nat × Nat)) × xH} (C : x_C l s0 A0 D R_Mdl prog_11_method_42_code 3 [] p s m args meth c) (hr : meth.sig.returnType = (some .int)) (hnm : meth.name = "log") (hRf : 2 ≤ R.frames) (hRl : 62 ≤ R.locals)  (l0 : Nat) (l1 : Int32) (l2 : Int32) (t0 : Int32) (t1 : Nat) (hp : f_Mdl_log_b24 l0 l1 l2 t0 t1 h = some res) (hH : x_S s0 D R h H locs cells slots) (hl : lv_has ls 3 [(0, .ref l0), (1, .int l1), (2, .int l2)]) : W p l e R s m args below meth c H locs cells slots (x_Q s0 D below s R (x_oc vI res.1) res.2) (F0 m 24 ls [.int t0, .ref t1]) := by
  obtain ⟨hx, hb, hown, hts, hK, hml, hW, Z, -⟩ := id C
  unfold f_Mdl_log_b24 at hp
  refine x_pV C hH fp_Mdl_121 (fun h => Bool.noConfusion h) d_Mdl_log_24 rfl rfl hp (fun h H locs hp hH => ?_)
  refine lv_aload_n hx hb d_Mdl_log_27 rfl (lv_at hl 0 rfl) ?_
  refine x_gI C hH fl_Mdl_121 d_Mdl_log_28 hp (fun v1 hp => ?_)
  refine lv_if_le (tgt := 38) hx hb d_Mdl_log_31 (by decide) (fun hc => ?_) (fun hc => ?_)
  · replace hp := x_ifp hc hp
    refine lv_iload_n hx hb d_Mdl_log_38 rfl (lv_at hl 2 rfl) ?_
    refine lv_if_ne (tgt := 51) hx hb d_Mdl_log_39 (by decide) (fun hc => ?_) (fun hc => ?_)
    · replace hp := x_ifn hc hp
      refine lv_aload_n hx hb d_Mdl_log_51 rfl (lv_at hl 0 rfl) ?_
      refine x_gA C hH fl_Mdl_13 d_Mdl_log_52 hp (fun v2 hp => ?_)
      refine lv_iload_n hx hb d_Mdl_log_55 rfl (lv_at hl 1 rfl) ?_
      refine x_lI C hH d_Mdl_log_56 hp (fun v3 hp => ?_)
      exact w_Mdl_log_57 C hr hnm hRf hRl  v3 hp hH (lv_sub hl [] rfl)
    · replace hp := x_ifp hc hp
      refine lv_aload_n hx hb d_Mdl_log_42 rfl (lv_at hl 0 rfl) ?_
      refine x_gA C hH fl_Mdl_7 d_Mdl_log_43 hp (fun v4 hp => ?_)
      refine lv_iload_n hx hb d_Mdl_log_46 rfl (lv_at hl 1 rfl) ?_
      refine x_lI C hH d_Mdl_log_47 hp (fun v5 hp => ?_)
      refine lv_goto (tgt := 57) hx hb d_Mdl_log_48 (by decide) ?_
      exact w_Mdl_log_57 C hr hnm hRf hRl  v5 hp hH (lv_sub hl [] rfl)
  · replace hp := x_ifn hc hp
    refine lv_iconst (v := 0) hx hb d_Mdl_log_34 (by decide) ?_
    refine lv_goto (tgt := 57) hx hb d_Mdl_log_35 (by decide) ?_
    exact w_Mdl_log_57 C hr hnm hRf hRl  0 hp hH (lv_sub hl [] rfl)
set_option maxHeartbeats 4000000 in
set_option maxRecDepth 100000 in
theorem w_Mdl_log_23 {res : (Int32 ⊕ (Nat × Nat)) × xH} (C : x_C l s0 A0 D R_Mdl prog_11_method_42_code 3 [] p s m args meth c) (hr : meth.sig.returnType = (some .int)) (hnm : meth.name = "log") (hRf : 2 ≤ R.frames) (hRl : 62 ≤ R.locals)  (l0 : Nat) (l1 : Int32) (l2 : Int32) (t0 : Nat) (hp : f_Mdl_log_b23 l0 l1 l2 t0 h = some res) (hH : x_S s0 D R h H locs cells slots) (hl : lv_has ls 3 [(0, .ref l0), (1, .int l1), (2, .int l2)]) : W p l e R s m args below meth c H locs cells slots (x_Q s0 D below s R (x_oc vI res.1) res.2) (F0 m 23 ls [.ref t0]) := by
  obtain ⟨hx, hb, hown, hts, hK, hml, hW, Z, -⟩ := id C
  unfold f_Mdl_log_b23 at hp
  refine lv_iconst (v := 1) hx hb d_Mdl_log_23 (by decide) ?_
  exact w_Mdl_log_24 C hr hnm hRf hRl  l0 l1 l2 1 t0 hp hH (lv_sub hl [0, 1, 2] rfl)
set_option maxHeartbeats 4000000 in
set_option maxRecDepth 100000 in
theorem w_Mdl_log_0 {res : (Int32 ⊕ (Nat × Nat)) × xH} (C : x_C l s0 A0 D R_Mdl prog_11_method_42_code 3 [] p s m args meth c) (hr : meth.sig.returnType = (some .int)) (hnm : meth.name = "log") (hRf : 2 ≤ R.frames) (hRl : 62 ≤ R.locals)  (l0 : Nat) (l1 : Int32) (l2 : Int32) (hp : f_Mdl_log l0 l1 l2 h = some res) (hH : x_S s0 D R h H locs cells slots) (hl : lv_has ls 3 [(0, .ref l0), (1, .int l1), (2, .int l2)]) : W p l e R s m args below meth c H locs cells slots (x_Q s0 D below s R (x_oc vI res.1) res.2) (F0 m 0 ls []) := by
  obtain ⟨hx, hb, hown, hts, hK, hml, hW, Z, -⟩ := id C
  unfold f_Mdl_log at hp
  refine lv_aload_n hx hb d_Mdl_log_0 rfl (lv_at hl 0 rfl) ?_
  refine lv_aload_n hx hb d_Mdl_log_1 rfl (lv_at hl 0 rfl) ?_
  refine lv_iload_n hx hb d_Mdl_log_2 rfl (lv_at hl 1 rfl) ?_
  refine x_callV (As := [.int l1]) (rest := [.ref l0]) (cv := vI) C hH kc_Mdl_193 d_Mdl_log_3 hp (fun o h' e => m_Mdl_isPart Z e) rfl hl.1 (Nat.le_trans (Nat.le_of_ble_eq_true rfl) hRf) (Nat.le_trans (Nat.le_of_ble_eq_true rfl) hRl) (Nat.le_of_ble_eq_true rfl) (fun v1 h H locs cells slots hp hH => ?_)
  refine W.eq (g2 := F0 m 6 ls [.int v1, .ref l0]) rfl ?_
  refine lv_if_eq (tgt := 23) hx hb d_Mdl_log_6 (by decide) (fun hc => ?_) (fun hc => ?_)
  · replace hp := x_ifp hc hp
    exact w_Mdl_log_23 C hr hnm hRf hRl  l0 l1 l2 l0 hp hH (lv_sub hl [0, 1, 2] rfl)
  · replace hp := x_ifn hc hp
    refine lv_iload_n hx hb d_Mdl_log_9 rfl (lv_at hl 2 rfl) ?_
    refine lv_i2l (v := l2.toInt64) hx hb d_Mdl_log_10 rfl ?_
    refine lv_lconst (v := 0) hx hb d_Mdl_log_11 (by decide) ?_
    refine lv_lconst (v := 1) hx hb d_Mdl_log_12 (by decide) ?_
    refine x_callS (As := [.long l2.toInt64, .long 0, .long 1]) (rest := [.ref l0]) (cv := vI) C hH kc_Mdl_148 d_Mdl_log_13 hp (fun o h' e => m_Mdl_in Z e) rfl hl.1 (Nat.le_trans (Nat.le_of_ble_eq_true rfl) hRf) (Nat.le_trans (Nat.le_of_ble_eq_true rfl) hRl) (Nat.le_of_ble_eq_true rfl) (fun v2 h H locs cells slots hp hH => ?_)
    refine W.eq (g2 := F0 m 16 ls [.int v2, .ref l0]) rfl ?_
    refine lv_if_eq (tgt := 23) hx hb d_Mdl_log_16 (by decide) (fun hc => ?_) (fun hc => ?_)
    · replace hp := x_ifp hc hp
      exact w_Mdl_log_23 C hr hnm hRf hRl  l0 l1 l2 l0 hp hH (lv_sub hl [0, 1, 2] rfl)
    · replace hp := x_ifn hc hp
      refine lv_iconst (v := 0) hx hb d_Mdl_log_19 (by decide) ?_
      refine lv_goto (tgt := 24) hx hb d_Mdl_log_20 (by decide) ?_
      exact w_Mdl_log_24 C hr hnm hRf hRl  l0 l1 l2 0 l0 hp hH (lv_sub hl [0, 1, 2] rfl)
set_option maxRecDepth 100000 in
theorem m_Mdl_log (Z : x_Z l s0 A0 D) {l0 : Nat} {l1 : Int32} {l2 : Int32} {res : (Int32 ⊕ (Nat × Nat)) × xH} (hp : f_Mdl_log l0 l1 l2 h = some res) : x_M l s0 D y_Mdl_log (x_cw y_Mdl_log prog_11_method_42_code 3 (some .int) []) 2 62 [.ref l0, .int l1, .int l2] h (x_oc vI res.1) res.2 := by
  refine x_M.ofW Z (plainFor_of_name (by decide)) ?_
  intro p e s m below meth c C hnm hr hH
  have hl := lv_entry ([.ref l0, .int l1, .int l2]) (n := 3) (Nat.le_of_ble_eq_true rfl)
  rw [lg_entry_eq]
  generalize (lg_sl ([.ref l0, .int l1, .int l2]) ++ List.replicate (3 - (lg_sl ([.ref l0, .int l1, .int l2])).length) Slot.unset).toArray = ls at hl ⊢
  exact w_Mdl_log_0 C hr hnm (Nat.le_refl _) (Nat.le_refl _) l0 l1 l2 hp hH hl
/-! ReadSideModel.logged(III)I -/
theorem d_Mdl_logged_0 : decode prog_11_method_43_code 0 = .ok (.aload_n 0, 1) := by decide +kernel
theorem d_Mdl_logged_1 : decode prog_11_method_43_code 1 = .ok (.aload_n 0, 1) := by decide +kernel
theorem d_Mdl_logged_2 : decode prog_11_method_43_code 2 = .ok (.iload_n 1, 1) := by decide +kernel
theorem d_Mdl_logged_3 : decode prog_11_method_43_code 3 = .ok (.invokevirtual 193, 3) := by decide +kernel
theorem d_Mdl_logged_6 : decode prog_11_method_43_code 6 = .ok (.ifCond .eq 39, 3) := by decide +kernel
theorem d_Mdl_logged_9 : decode prog_11_method_43_code 9 = .ok (.iload_n 3, 1) := by decide +kernel
theorem d_Mdl_logged_10 : decode prog_11_method_43_code 10 = .ok (.i2l, 1) := by decide +kernel
theorem d_Mdl_logged_11 : decode prog_11_method_43_code 11 = .ok (.lconst 0, 1) := by decide +kernel
theorem d_Mdl_logged_12 : decode prog_11_method_43_code 12 = .ok (.ldc2_w 251, 3) := by decide +kernel
theorem d_Mdl_logged_15 : decode prog_11_method_43_code 15 = .ok (.invokestatic 148, 3) := by decide +kernel
theorem d_Mdl_logged_18 : decode prog_11_method_43_code 18 = .ok (.ifCond .eq 27, 3) := by decide +kernel
theorem d_Mdl_logged_21 : decode prog_11_method_43_code 21 = .ok (.iload_n 2, 1) := by decide +kernel
theorem d_Mdl_logged_22 : decode prog_11_method_43_code 22 = .ok (.aload_n 0, 1) := by decide +kernel
theorem d_Mdl_logged_23 : decode prog_11_method_43_code 23 = .ok (.getfield 13, 3) := by decide +kernel
theorem d_Mdl_logged_26 : decode prog_11_method_43_code 26 = .ok (.iload_n 1, 1) := by decide +kernel
theorem d_Mdl_logged_27 : decode prog_11_method_43_code 27 = .ok (.iaload, 1) := by decide +kernel
theorem d_Mdl_logged_28 : decode prog_11_method_43_code 28 = .ok (.if_icmp .le 17, 3) := by decide +kernel
theorem d_Mdl_logged_31 : decode prog_11_method_43_code 31 = .ok (.iload_n 2, 1) := by decide +kernel
theorem d_Mdl_logged_32 : decode prog_11_method_43_code 32 = .ok (.aload_n 0, 1) := by decide +kernel
theorem d_Mdl_logged_33 : decode prog_11_method_43_code 33 = .ok (.getfield 7, 3) := by decide +kernel
theorem d_Mdl_logged_36 : decode prog_11_method_43_code 36 = .ok (.iload_n 1, 1) := by decide +kernel
theorem d_Mdl_logged_37 : decode prog_11_method_43_code 37 = .ok (.iaload, 1) := by decide +kernel
theorem d_Mdl_logged_38 : decode prog_11_method_43_code 38 = .ok (.if_icmp .gt 7, 3) := by decide +kernel
theorem d_Mdl_logged_41 : decode prog_11_method_43_code 41 = .ok (.iconst 0, 1) := by decide +kernel
theorem d_Mdl_logged_42 : decode prog_11_method_43_code 42 = .ok (.goto 4, 3) := by decide +kernel
theorem d_Mdl_logged_45 : decode prog_11_method_43_code 45 = .ok (.iconst 1, 1) := by decide +kernel
theorem d_Mdl_logged_46 : decode prog_11_method_43_code 46 = .ok (.putfield 121, 3) := by decide +kernel
theorem d_Mdl_logged_49 : decode prog_11_method_43_code 49 = .ok (.aload_n 0, 1) := by decide +kernel
theorem d_Mdl_logged_50 : decode prog_11_method_43_code 50 = .ok (.getfield 121, 3) := by decide +kernel
theorem d_Mdl_logged_53 : decode prog_11_method_43_code 53 = .ok (.ifCond .le 5, 3) := by decide +kernel
theorem d_Mdl_logged_56 : decode prog_11_method_43_code 56 = .ok (.iconst 0, 1) := by decide +kernel
theorem d_Mdl_logged_57 : decode prog_11_method_43_code 57 = .ok (.ireturn, 1) := by decide +kernel
theorem d_Mdl_logged_58 : decode prog_11_method_43_code 58 = .ok (.sipush 401, 3) := by decide +kernel
theorem d_Mdl_logged_61 : decode prog_11_method_43_code 61 = .ok (.iload_n 1, 1) := by decide +kernel
theorem d_Mdl_logged_62 : decode prog_11_method_43_code 62 = .ok (.imul, 1) := by decide +kernel
theorem d_Mdl_logged_63 : decode prog_11_method_43_code 63 = .ok (.iload_n 2, 1) := by decide +kernel
theorem d_Mdl_logged_64 : decode prog_11_method_43_code 64 = .ok (.iadd, 1) := by decide +kernel
theorem d_Mdl_logged_65 : decode prog_11_method_43_code 65 = .ok (.istore 4, 2) := by decide +kernel
theorem d_Mdl_logged_67 : decode prog_11_method_43_code 67 = .ok (.iload_n 3, 1) := by decide +kernel
theorem d_Mdl_logged_68 : decode prog_11_method_43_code 68 = .ok (.tableswitch 64 0 3 #[32, 40, 48, 56], 32) := by decide +kernel
theorem d_Mdl_logged_100 : decode prog_11_method_43_code 100 = .ok (.aload_n 0, 1) := by decide +kernel
theorem d_Mdl_logged_101 : decode prog_11_method_43_code 101 = .ok (.getfield 16, 3) := by decide +kernel
theorem d_Mdl_logged_104 : decode prog_11_method_43_code 104 = .ok (.iload 4, 2) := by decide +kernel
theorem d_Mdl_logged_106 : decode prog_11_method_43_code 106 = .ok (.iaload, 1) := by decide +kernel
theorem d_Mdl_logged_107 : decode prog_11_method_43_code 107 = .ok (.ireturn, 1) := by decide +kernel
theorem d_Mdl_logged_108 : decode prog_11_method_43_code 108 = .ok (.aload_n 0, 1) := by decide +kernel
theorem d_Mdl_logged_109 : decode prog_11_method_43_code 109 = .ok (.getfield 19, 3) := by decide +kernel
theorem d_Mdl_logged_112 : decode prog_11_method_43_code 112 = .ok (.iload 4, 2) := by decide +kernel
theorem d_Mdl_logged_114 : decode prog_11_method_43_code 114 = .ok (.iaload, 1) := by decide +kernel
theorem d_Mdl_logged_115 : decode prog_11_method_43_code 115 = .ok (.ireturn, 1) := by decide +kernel
theorem d_Mdl_logged_116 : decode prog_11_method_43_code 116 = .ok (.aload_n 0, 1) := by decide +kernel
theorem d_Mdl_logged_117 : decode prog_11_method_43_code 117 = .ok (.getfield 22, 3) := by decide +kernel
theorem d_Mdl_logged_120 : decode prog_11_method_43_code 120 = .ok (.iload 4, 2) := by decide +kernel
theorem d_Mdl_logged_122 : decode prog_11_method_43_code 122 = .ok (.iaload, 1) := by decide +kernel
theorem d_Mdl_logged_123 : decode prog_11_method_43_code 123 = .ok (.ireturn, 1) := by decide +kernel
theorem d_Mdl_logged_124 : decode prog_11_method_43_code 124 = .ok (.aload_n 0, 1) := by decide +kernel
theorem d_Mdl_logged_125 : decode prog_11_method_43_code 125 = .ok (.getfield 25, 3) := by decide +kernel
theorem d_Mdl_logged_128 : decode prog_11_method_43_code 128 = .ok (.iload 4, 2) := by decide +kernel
theorem d_Mdl_logged_130 : decode prog_11_method_43_code 130 = .ok (.iaload, 1) := by decide +kernel
theorem d_Mdl_logged_131 : decode prog_11_method_43_code 131 = .ok (.ireturn, 1) := by decide +kernel
theorem d_Mdl_logged_132 : decode prog_11_method_43_code 132 = .ok (.aload_n 0, 1) := by decide +kernel
theorem d_Mdl_logged_133 : decode prog_11_method_43_code 133 = .ok (.getfield 28, 3) := by decide +kernel
theorem d_Mdl_logged_136 : decode prog_11_method_43_code 136 = .ok (.iconst 3, 1) := by decide +kernel
theorem d_Mdl_logged_137 : decode prog_11_method_43_code 137 = .ok (.iload 4, 2) := by decide +kernel
theorem d_Mdl_logged_139 : decode prog_11_method_43_code 139 = .ok (.imul, 1) := by decide +kernel
theorem d_Mdl_logged_140 : decode prog_11_method_43_code 140 = .ok (.iload_n 3, 1) := by decide +kernel
theorem d_Mdl_logged_141 : decode prog_11_method_43_code 141 = .ok (.iadd, 1) := by decide +kernel
theorem d_Mdl_logged_142 : decode prog_11_method_43_code 142 = .ok (.iconst 4, 1) := by decide +kernel
theorem d_Mdl_logged_143 : decode prog_11_method_43_code 143 = .ok (.isub, 1) := by decide +kernel
theorem d_Mdl_logged_144 : decode prog_11_method_43_code 144 = .ok (.iaload, 1) := by decide +kernel
theorem d_Mdl_logged_145 : decode prog_11_method_43_code 145 = .ok (.ireturn, 1) := by decide +kernel
set_option maxHeartbeats 4000000 in
set_option maxRecDepth 100000 in
theorem w_Mdl_logged_46 {res : (Int32 ⊕ (Nat × Nat)) × xH} (C : x_C l s0 A0 D R_Mdl prog_11_method_43_code 5 [] p s m args meth c) (hr : meth.sig.returnType = (some .int)) (hnm : meth.name = "logged") (hRf : 2 ≤ R.frames) (hRl : 62 ≤ R.locals)  (l0 : Nat) (l1 : Int32) (l2 : Int32) (l3 : Int32) (t0 : Int32) (t1 : Nat) (hp : f_Mdl_logged_b46 l0 l1 l2 l3 t0 t1 h = some res) (hH : x_S s0 D R h H locs cells slots) (hl : lv_has ls 5 [(0, .ref l0), (1, .int l1), (2, .int l2), (3, .int l3)]) : W p l e R s m args below meth c H locs cells slots (x_Q s0 D below s R (x_oc vI res.1) res.2) (F0 m 46 ls [.int t0, .ref t1]) := by
  obtain ⟨hx, hb, hown, hts, hK, hml, hW, Z, -⟩ := id C
  unfold f_Mdl_logged_b46 at hp
  refine x_pV C hH fp_Mdl_121 (fun h => Bool.noConfusion h) d_Mdl_logged_46 rfl rfl hp (fun h H locs hp hH => ?_)
  refine lv_aload_n hx hb d_Mdl_logged_49 rfl (lv_at hl 0 rfl) ?_
  refine x_gI C hH fl_Mdl_121 d_Mdl_logged_50 hp (fun v1 hp => ?_)
  refine lv_if_le (tgt := 58) hx hb d_Mdl_logged_53 (by decide) (fun hc => ?_) (fun hc => ?_)
  · replace hp := x_ifp hc hp
    refine lv_sipush (v := 401) hx hb d_Mdl_logged_58 (by decide) ?_
    refine lv_iload_n hx hb d_Mdl_logged_61 rfl (lv_at hl 1 rfl) ?_
    refine lv_imul hx hb d_Mdl_logged_62 ?_
    refine lv_iload_n hx hb d_Mdl_logged_63 rfl (lv_at hl 2 rfl) ?_
    refine lv_iadd hx hb d_Mdl_logged_64 ?_
    refine lv_istore (lv' := [(4, .int ((401 * l1) + l2)), (0, .ref l0), (1, .int l1), (2, .int l2), (3, .int l3)]) hx hb d_Mdl_logged_65 hl (by decide) rfl (fun ls hl => ?_)
    refine lv_iload_n hx hb d_Mdl_logged_67 rfl (lv_at hl 4 rfl) ?_
    by_cases hc0 : l3 = 0
    · replace hp := x_ifp hc0 hp
      refine lv_tableIn (off := 32) (tgt := 100) hx hb d_Mdl_logged_68 (by rw [hc0]; decide) (by rw [hc0]; decide) (by rw [hc0]; rfl) (by decide) ?_
      refine lv_aload_n hx hb d_Mdl_logged_100 rfl (lv_at hl 1 rfl) ?_
      refine x_gA C hH fl_Mdl_16 d_Mdl_logged_101 hp (fun v2 hp => ?_)
      refine lv_iload hx hb d_Mdl_logged_104 (lv_at hl 0 rfl) ?_
      refine x_lI C hH d_Mdl_logged_106 hp (fun v3 hp => ?_)
      exact x_iret C hH hr d_Mdl_logged_107 hp
    replace hp := x_ifn hc0 hp
    by_cases hc1 : l3 = 1
    · replace hp := x_ifp hc1 hp
      refine lv_tableIn (off := 40) (tgt := 108) hx hb d_Mdl_logged_68 (by rw [hc1]; decide) (by rw [hc1]; decide) (by rw [hc1]; rfl) (by decide) ?_
      refine lv_aload_n hx hb d_Mdl_logged_108 rfl (lv_at hl 1 rfl) ?_
      refine x_gA C hH fl_Mdl_19 d_Mdl_logged_109 hp (fun v4 hp => ?_)
      refine lv_iload hx hb d_Mdl_logged_112 (lv_at hl 0 rfl) ?_
      refine x_lI C hH d_Mdl_logged_114 hp (fun v5 hp => ?_)
      exact x_iret C hH hr d_Mdl_logged_115 hp
    replace hp := x_ifn hc1 hp
    by_cases hc2 : l3 = 2
    · replace hp := x_ifp hc2 hp
      refine lv_tableIn (off := 48) (tgt := 116) hx hb d_Mdl_logged_68 (by rw [hc2]; decide) (by rw [hc2]; decide) (by rw [hc2]; rfl) (by decide) ?_
      refine lv_aload_n hx hb d_Mdl_logged_116 rfl (lv_at hl 1 rfl) ?_
      refine x_gA C hH fl_Mdl_22 d_Mdl_logged_117 hp (fun v6 hp => ?_)
      refine lv_iload hx hb d_Mdl_logged_120 (lv_at hl 0 rfl) ?_
      refine x_lI C hH d_Mdl_logged_122 hp (fun v7 hp => ?_)
      exact x_iret C hH hr d_Mdl_logged_123 hp
    replace hp := x_ifn hc2 hp
    by_cases hc3 : l3 = 3
    · replace hp := x_ifp hc3 hp
      refine lv_tableIn (off := 56) (tgt := 124) hx hb d_Mdl_logged_68 (by rw [hc3]; decide) (by rw [hc3]; decide) (by rw [hc3]; rfl) (by decide) ?_
      refine lv_aload_n hx hb d_Mdl_logged_124 rfl (lv_at hl 1 rfl) ?_
      refine x_gA C hH fl_Mdl_25 d_Mdl_logged_125 hp (fun v8 hp => ?_)
      refine lv_iload hx hb d_Mdl_logged_128 (lv_at hl 0 rfl) ?_
      refine x_lI C hH d_Mdl_logged_130 hp (fun v9 hp => ?_)
      exact x_iret C hH hr d_Mdl_logged_131 hp
    replace hp := x_ifn hc3 hp
    have n0 := lv_neT hc0 (k := 0) (a := 0) (by decide)
    have n1 := lv_neT hc1 (k := 1) (a := 1) (by decide)
    have n2 := lv_neT hc2 (k := 2) (a := 2) (by decide)
    have n3 := lv_neT hc3 (k := 3) (a := 3) (by decide)
    refine lv_tableOut (tgt := 132) hx hb d_Mdl_logged_68 (by omega) (by decide) ?_
    refine lv_aload_n hx hb d_Mdl_logged_132 rfl (lv_at hl 1 rfl) ?_
    refine x_gA C hH fl_Mdl_28 d_Mdl_logged_133 hp (fun v10 hp => ?_)
    refine lv_iconst (v := 3) hx hb d_Mdl_logged_136 (by decide) ?_
    refine lv_iload hx hb d_Mdl_logged_137 (lv_at hl 0 rfl) ?_
    refine lv_imul hx hb d_Mdl_logged_139 ?_
    refine lv_iload_n hx hb d_Mdl_logged_140 rfl (lv_at hl 4 rfl) ?_
    refine lv_iadd hx hb d_Mdl_logged_141 ?_
    refine lv_iconst (v := 4) hx hb d_Mdl_logged_142 (by decide) ?_
    refine lv_isub hx hb d_Mdl_logged_143 ?_
    refine x_lI C hH d_Mdl_logged_144 hp (fun v11 hp => ?_)
    exact x_iret C hH hr d_Mdl_logged_145 hp
  · replace hp := x_ifn hc hp
    refine lv_iconst (v := 0) hx hb d_Mdl_logged_56 (by decide) ?_
    exact x_iret C hH hr d_Mdl_logged_57 hp
set_option maxHeartbeats 4000000 in
set_option maxRecDepth 100000 in
theorem w_Mdl_logged_45 {res : (Int32 ⊕ (Nat × Nat)) × xH} (C : x_C l s0 A0 D R_Mdl prog_11_method_43_code 5 [] p s m args meth c) (hr : meth.sig.returnType = (some .int)) (hnm : meth.name = "logged") (hRf : 2 ≤ R.frames) (hRl : 62 ≤ R.locals)  (l0 : Nat) (l1 : Int32) (l2 : Int32) (l3 : Int32) (t0 : Nat) (hp : f_Mdl_logged_b45 l0 l1 l2 l3 t0 h = some res) (hH : x_S s0 D R h H locs cells slots) (hl : lv_has ls 5 [(0, .ref l0), (1, .int l1), (2, .int l2), (3, .int l3)]) : W p l e R s m args below meth c H locs cells slots (x_Q s0 D below s R (x_oc vI res.1) res.2) (F0 m 45 ls [.ref t0]) := by
  obtain ⟨hx, hb, hown, hts, hK, hml, hW, Z, -⟩ := id C
  unfold f_Mdl_logged_b45 at hp
  refine lv_iconst (v := 1) hx hb d_Mdl_logged_45 (by decide) ?_
  exact w_Mdl_logged_46 C hr hnm hRf hRl  l0 l1 l2 l3 1 t0 hp hH (lv_sub hl [0, 1, 2, 3] rfl)
set_option maxHeartbeats 4000000 in
set_option maxRecDepth 100000 in
theorem w_Mdl_logged_0 {res : (Int32 ⊕ (Nat × Nat)) × xH} (C : x_C l s0 A0 D R_Mdl prog_11_method_43_code 5 [] p s m args meth c) (hr : meth.sig.returnType = (some .int)) (hnm : meth.name = "logged") (hRf : 2 ≤ R.frames) (hRl : 62 ≤ R.locals)  (l0 : Nat) (l1 : Int32) (l2 : Int32) (l3 : Int32) (hp : f_Mdl_logged l0 l1 l2 l3 h = some res) (hH : x_S s0 D R h H locs cells slots) (hl : lv_has ls 5 [(0, .ref l0), (1, .int l1), (2, .int l2), (3, .int l3)]) : W p l e R s m args below meth c H locs cells slots (x_Q s0 D below s R (x_oc vI res.1) res.2) (F0 m 0 ls []) := by
  obtain ⟨hx, hb, hown, hts, hK, hml, hW, Z, -⟩ := id C
  unfold f_Mdl_logged at hp
  refine lv_aload_n hx hb d_Mdl_logged_0 rfl (lv_at hl 0 rfl) ?_
  refine lv_aload_n hx hb d_Mdl_logged_1 rfl (lv_at hl 0 rfl) ?_
  refine lv_iload_n hx hb d_Mdl_logged_2 rfl (lv_at hl 1 rfl) ?_
  refine x_callV (As := [.int l1]) (rest := [.ref l0]) (cv := vI) C hH kc_Mdl_193 d_Mdl_logged_3 hp (fun o h' e => m_Mdl_isPart Z e) rfl hl.1 (Nat.le_trans (Nat.le_of_ble_eq_true rfl) hRf) (Nat.le_trans (Nat.le_of_ble_eq_true rfl) hRl) (Nat.le_of_ble_eq_true rfl) (fun v1 h H locs cells slots hp hH => ?_)
  refine W.eq (g2 := F0 m 6 ls [.int v1, .ref l0]) rfl ?_
  refine lv_if_eq (tgt := 45) hx hb d_Mdl_logged_6 (by decide) (fun hc => ?_) (fun hc => ?_)
  · replace hp := x_ifp hc hp
    exact w_Mdl_logged_45 C hr hnm hRf hRl  l0 l1 l2 l3 l0 hp hH (lv_sub hl [0, 1, 2, 3] rfl)
  · replace hp := x_ifn hc hp
    refine lv_iload_n hx hb d_Mdl_logged_9 rfl (lv_at hl 3 rfl) ?_
    refine lv_i2l (v := l3.toInt64) hx hb d_Mdl_logged_10 rfl ?_
    refine lv_lconst (v := 0) hx hb d_Mdl_logged_11 (by decide) ?_
    refine lv_ldc2 hx hb hown (hts _ k_1018) d_Mdl_logged_12 ?_
    refine x_callS (As := [.long l3.toInt64, .long 0, .long 6]) (rest := [.ref l0]) (cv := vI) C hH kc_Mdl_148 d_Mdl_logged_15 hp (fun o h' e => m_Mdl_in Z e) rfl hl.1 (Nat.le_trans (Nat.le_of_ble_eq_true rfl) hRf) (Nat.le_trans (Nat.le_of_ble_eq_true rfl) hRl) (Nat.le_of_ble_eq_true rfl) (fun v2 h H locs cells slots hp hH => ?_)
    refine W.eq (g2 := F0 m 18 ls [.int v2, .ref l0]) rfl ?_
    refine lv_if_eq (tgt := 45) hx hb d_Mdl_logged_18 (by decide) (fun hc => ?_) (fun hc => ?_)
    · replace hp := x_ifp hc hp
      exact w_Mdl_logged_45 C hr hnm hRf hRl  l0 l1 l2 l3 l0 hp hH (lv_sub hl [0, 1, 2, 3] rfl)
    · replace hp := x_ifn hc hp
      refine lv_iload_n hx hb d_Mdl_logged_21 rfl (lv_at hl 2 rfl) ?_
      refine lv_aload_n hx hb d_Mdl_logged_22 rfl (lv_at hl 0 rfl) ?_
      refine x_gA C hH fl_Mdl_13 d_Mdl_logged_23 hp (fun v3 hp => ?_)
      refine lv_iload_n hx hb d_Mdl_logged_26 rfl (lv_at hl 1 rfl) ?_
      refine x_lI C hH d_Mdl_logged_27 hp (fun v4 hp => ?_)
      refine lv_icmp_le (tgt := 45) hx hb d_Mdl_logged_28 (by decide) (fun hc => ?_) (fun hc => ?_)
      · replace hp := x_ifp hc hp
        exact w_Mdl_logged_45 C hr hnm hRf hRl  l0 l1 l2 l3 l0 hp hH (lv_sub hl [0, 1, 2, 3] rfl)
      · replace hp := x_ifn hc hp
        refine lv_iload_n hx hb d_Mdl_logged_31 rfl (lv_at hl 2 rfl) ?_
        refine lv_aload_n hx hb d_Mdl_logged_32 rfl (lv_at hl 0 rfl) ?_
        refine x_gA C hH fl_Mdl_7 d_Mdl_logged_33 hp (fun v5 hp => ?_)
        refine lv_iload_n hx hb d_Mdl_logged_36 rfl (lv_at hl 1 rfl) ?_
        refine x_lI C hH d_Mdl_logged_37 hp (fun v6 hp => ?_)
        refine lv_icmp_gt (tgt := 45) hx hb d_Mdl_logged_38 (by decide) (fun hc => ?_) (fun hc => ?_)
        · replace hp := x_ifp hc hp
          exact w_Mdl_logged_45 C hr hnm hRf hRl  l0 l1 l2 l3 l0 hp hH (lv_sub hl [0, 1, 2, 3] rfl)
        · replace hp := x_ifn hc hp
          refine lv_iconst (v := 0) hx hb d_Mdl_logged_41 (by decide) ?_
          refine lv_goto (tgt := 46) hx hb d_Mdl_logged_42 (by decide) ?_
          exact w_Mdl_logged_46 C hr hnm hRf hRl  l0 l1 l2 l3 0 l0 hp hH (lv_sub hl [0, 1, 2, 3] rfl)
set_option maxRecDepth 100000 in
theorem m_Mdl_logged (Z : x_Z l s0 A0 D) {l0 : Nat} {l1 : Int32} {l2 : Int32} {l3 : Int32} {res : (Int32 ⊕ (Nat × Nat)) × xH} (hp : f_Mdl_logged l0 l1 l2 l3 h = some res) : x_M l s0 D y_Mdl_logged (x_cw y_Mdl_logged prog_11_method_43_code 5 (some .int) []) 2 62 [.ref l0, .int l1, .int l2, .int l3] h (x_oc vI res.1) res.2 := by
  refine x_M.ofW Z (plainFor_of_name (by decide)) ?_
  intro p e s m below meth c C hnm hr hH
  have hl := lv_entry ([.ref l0, .int l1, .int l2, .int l3]) (n := 5) (Nat.le_of_ble_eq_true rfl)
  rw [lg_entry_eq]
  generalize (lg_sl ([.ref l0, .int l1, .int l2, .int l3]) ++ List.replicate (5 - (lg_sl ([.ref l0, .int l1, .int l2, .int l3])).length) Slot.unset).toArray = ls at hl ⊢
  exact w_Mdl_logged_0 C hr hnm (Nat.le_refl _) (Nat.le_refl _) l0 l1 l2 l3 hp hH hl
end GEN
