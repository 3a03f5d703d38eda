section GEN
variable {p : Program} {l : Launch} {e : Env} {R : Room} {s : State} {m : MethodId} {args : Array Value} {below : List Frame} {meth : Method} {c : Code} {H : Heap} {locs : List Loc} {cells slots : Nat} {ls : Array Slot} {D : xD} {s0 : State} {A0 : Array Value} {h : xH}
/-! ReadSideModel.command(IIIII)J -/
theorem d_Mdl_command_0 : decode prog_11_method_15_code 0 = .ok (.iload_n 3, 1) := by decide +kernel
theorem d_Mdl_command_1 : decode prog_11_method_15_code 1 = .ok (.i2l, 1) := by decide +kernel
theorem d_Mdl_command_2 : decode prog_11_method_15_code 2 = .ok (.lconst 0, 1) := by decide +kernel
theorem d_Mdl_command_3 : decode prog_11_method_15_code 3 = .ok (.ldc2_w 165, 3) := by decide +kernel
theorem d_Mdl_command_6 : decode prog_11_method_15_code 6 = .ok (.invokestatic 148, 3) := by decide +kernel
theorem d_Mdl_command_9 : decode prog_11_method_15_code 9 = .ok (.ifCond .eq 12, 3) := by decide +kernel
theorem d_Mdl_command_12 : decode prog_11_method_15_code 12 = .ok (.iload_n 3, 1) := by decide +kernel
theorem d_Mdl_command_13 : decode prog_11_method_15_code 13 = .ok (.aload_n 0, 1) := by decide +kernel
theorem d_Mdl_command_14 : decode prog_11_method_15_code 14 = .ok (.getfield 114, 3) := by decide +kernel
theorem d_Mdl_command_17 : decode prog_11_method_15_code 17 = .ok (.irem, 1) := by decide +kernel
theorem d_Mdl_command_18 : decode prog_11_method_15_code 18 = .ok (.goto 4, 3) := by decide +kernel
theorem d_Mdl_command_21 : decode prog_11_method_15_code 21 = .ok (.iconst 0, 1) := by decide +kernel
theorem d_Mdl_command_22 : decode prog_11_method_15_code 22 = .ok (.istore 6, 2) := by decide +kernel
theorem d_Mdl_command_24 : decode prog_11_method_15_code 24 = .ok (.iload_n 1, 1) := by decide +kernel
theorem d_Mdl_command_25 : decode prog_11_method_15_code 25 = .ok (.invokestatic 152, 3) := by decide +kernel
theorem d_Mdl_command_28 : decode prog_11_method_15_code 28 = .ok (.ifCond .eq 32, 3) := by decide +kernel
theorem d_Mdl_command_31 : decode prog_11_method_15_code 31 = .ok (.iload_n 3, 1) := by decide +kernel
theorem d_Mdl_command_32 : decode prog_11_method_15_code 32 = .ok (.i2l, 1) := by decide +kernel
theorem d_Mdl_command_33 : decode prog_11_method_15_code 33 = .ok (.lconst 0, 1) := by decide +kernel
theorem d_Mdl_command_34 : decode prog_11_method_15_code 34 = .ok (.ldc2_w 165, 3) := by decide +kernel
theorem d_Mdl_command_37 : decode prog_11_method_15_code 37 = .ok (.invokestatic 148, 3) := by decide +kernel
theorem d_Mdl_command_40 : decode prog_11_method_15_code 40 = .ok (.ifCond .eq 20, 3) := by decide +kernel
theorem d_Mdl_command_43 : decode prog_11_method_15_code 43 = .ok (.iload 4, 2) := by decide +kernel
theorem d_Mdl_command_45 : decode prog_11_method_15_code 45 = .ok (.i2l, 1) := by decide +kernel
theorem d_Mdl_command_46 : decode prog_11_method_15_code 46 = .ok (.lconst 0, 1) := by decide +kernel
theorem d_Mdl_command_47 : decode prog_11_method_15_code 47 = .ok (.ldc2_w 167, 3) := by decide +kernel
theorem d_Mdl_command_50 : decode prog_11_method_15_code 50 = .ok (.invokestatic 148, 3) := by decide +kernel
theorem d_Mdl_command_53 : decode prog_11_method_15_code 53 = .ok (.ifCond .eq 7, 3) := by decide +kernel
theorem d_Mdl_command_56 : decode prog_11_method_15_code 56 = .ok (.iconst 1, 1) := by decide +kernel
theorem d_Mdl_command_57 : decode prog_11_method_15_code 57 = .ok (.goto 4, 3) := by decide +kernel
theorem d_Mdl_command_60 : decode prog_11_method_15_code 60 = .ok (.iconst 0, 1) := by decide +kernel
theorem d_Mdl_command_61 : decode prog_11_method_15_code 61 = .ok (.istore 7, 2) := by decide +kernel
theorem d_Mdl_command_63 : decode prog_11_method_15_code 63 = .ok (.aload_n 0, 1) := by decide +kernel
theorem d_Mdl_command_64 : decode prog_11_method_15_code 64 = .ok (.iload 7, 2) := by decide +kernel
theorem d_Mdl_command_66 : decode prog_11_method_15_code 66 = .ok (.ifCond .ne 7, 3) := by decide +kernel
theorem d_Mdl_command_69 : decode prog_11_method_15_code 69 = .ok (.iconst 1, 1) := by decide +kernel
theorem d_Mdl_command_70 : decode prog_11_method_15_code 70 = .ok (.goto 50, 3) := by decide +kernel
theorem d_Mdl_command_73 : decode prog_11_method_15_code 73 = .ok (.iload_n 2, 1) := by decide +kernel
theorem d_Mdl_command_74 : decode prog_11_method_15_code 74 = .ok (.i2l, 1) := by decide +kernel
theorem d_Mdl_command_75 : decode prog_11_method_15_code 75 = .ok (.lconst 0, 1) := by decide +kernel
theorem d_Mdl_command_76 : decode prog_11_method_15_code 76 = .ok (.ldc2_w 169, 3) := by decide +kernel
theorem d_Mdl_command_79 : decode prog_11_method_15_code 79 = .ok (.invokestatic 148, 3) := by decide +kernel
theorem d_Mdl_command_82 : decode prog_11_method_15_code 82 = .ok (.ifCond .eq 16, 3) := by decide +kernel
theorem d_Mdl_command_85 : decode prog_11_method_15_code 85 = .ok (.iload 5, 2) := by decide +kernel
theorem d_Mdl_command_87 : decode prog_11_method_15_code 87 = .ok (.i2l, 1) := by decide +kernel
theorem d_Mdl_command_88 : decode prog_11_method_15_code 88 = .ok (.lconst 1, 1) := by decide +kernel
theorem d_Mdl_command_89 : decode prog_11_method_15_code 89 = .ok (.ldc2_w 171, 3) := by decide +kernel
theorem d_Mdl_command_92 : decode prog_11_method_15_code 92 = .ok (.invokestatic 148, 3) := by decide +kernel
theorem d_Mdl_command_95 : decode prog_11_method_15_code 95 = .ok (.ifCond .ne 7, 3) := by decide +kernel
theorem d_Mdl_command_98 : decode prog_11_method_15_code 98 = .ok (.iconst 2, 1) := by decide +kernel
theorem d_Mdl_command_99 : decode prog_11_method_15_code 99 = .ok (.goto 21, 3) := by decide +kernel
theorem d_Mdl_command_102 : decode prog_11_method_15_code 102 = .ok (.aload_n 0, 1) := by decide +kernel
theorem d_Mdl_command_103 : decode prog_11_method_15_code 103 = .ok (.getfield 7, 3) := by decide +kernel
theorem d_Mdl_command_106 : decode prog_11_method_15_code 106 = .ok (.iload 6, 2) := by decide +kernel
theorem d_Mdl_command_108 : decode prog_11_method_15_code 108 = .ok (.iaload, 1) := by decide +kernel
theorem d_Mdl_command_109 : decode prog_11_method_15_code 109 = .ok (.sipush 400, 3) := by decide +kernel
theorem d_Mdl_command_112 : decode prog_11_method_15_code 112 = .ok (.if_icmp .ne 7, 3) := by decide +kernel
theorem d_Mdl_command_115 : decode prog_11_method_15_code 115 = .ok (.iconst 3, 1) := by decide +kernel
theorem d_Mdl_command_116 : decode prog_11_method_15_code 116 = .ok (.goto 4, 3) := by decide +kernel
theorem d_Mdl_command_119 : decode prog_11_method_15_code 119 = .ok (.iconst 0, 1) := by decide +kernel
theorem d_Mdl_command_120 : decode prog_11_method_15_code 120 = .ok (.putfield 121, 3) := by decide +kernel
theorem d_Mdl_command_123 : decode prog_11_method_15_code 123 = .ok (.aload_n 0, 1) := by decide +kernel
theorem d_Mdl_command_124 : decode prog_11_method_15_code 124 = .ok (.getfield 121, 3) := by decide +kernel
theorem d_Mdl_command_127 : decode prog_11_method_15_code 127 = .ok (.ifCond .le 5, 3) := by decide +kernel
theorem d_Mdl_command_130 : decode prog_11_method_15_code 130 = .ok (.lconst 0, 1) := by decide +kernel
theorem d_Mdl_command_131 : decode prog_11_method_15_code 131 = .ok (.lreturn, 1) := by decide +kernel
theorem d_Mdl_command_132 : decode prog_11_method_15_code 132 = .ok (.aload_n 0, 1) := by decide +kernel
theorem d_Mdl_command_133 : decode prog_11_method_15_code 133 = .ok (.getfield 7, 3) := by decide +kernel
theorem d_Mdl_command_136 : decode prog_11_method_15_code 136 = .ok (.iload 6, 2) := by decide +kernel
theorem d_Mdl_command_138 : decode prog_11_method_15_code 138 = .ok (.dup2, 1) := by decide +kernel
theorem d_Mdl_command_139 : decode prog_11_method_15_code 139 = .ok (.iaload, 1) := by decide +kernel
theorem d_Mdl_command_140 : decode prog_11_method_15_code 140 = .ok (.iconst 1, 1) := by decide +kernel
theorem d_Mdl_command_141 : decode prog_11_method_15_code 141 = .ok (.iadd, 1) := by decide +kernel
theorem d_Mdl_command_142 : decode prog_11_method_15_code 142 = .ok (.iastore, 1) := by decide +kernel
theorem d_Mdl_command_143 : decode prog_11_method_15_code 143 = .ok (.sipush 401, 3) := by decide +kernel
theorem d_Mdl_command_146 : decode prog_11_method_15_code 146 = .ok (.iload 6, 2) := by decide +kernel
theorem d_Mdl_command_148 : decode prog_11_method_15_code 148 = .ok (.imul, 1) := by decide +kernel
theorem d_Mdl_command_149 : decode prog_11_method_15_code 149 = .ok (.aload_n 0, 1) := by decide +kernel
theorem d_Mdl_command_150 : decode prog_11_method_15_code 150 = .ok (.getfield 7, 3) := by decide +kernel
theorem d_Mdl_command_153 : decode prog_11_method_15_code 153 = .ok (.iload 6, 2) := by decide +kernel
theorem d_Mdl_command_155 : decode prog_11_method_15_code 155 = .ok (.iaload, 1) := by decide +kernel
theorem d_Mdl_command_156 : decode prog_11_method_15_code 156 = .ok (.iadd, 1) := by decide +kernel
theorem d_Mdl_command_157 : decode prog_11_method_15_code 157 = .ok (.istore 8, 2) := by decide +kernel
theorem d_Mdl_command_159 : decode prog_11_method_15_code 159 = .ok (.aload_n 0, 1) := by decide +kernel
theorem d_Mdl_command_160 : decode prog_11_method_15_code 160 = .ok (.getfield 16, 3) := by decide +kernel
theorem d_Mdl_command_163 : decode prog_11_method_15_code 163 = .ok (.iload 8, 2) := by decide +kernel
theorem d_Mdl_command_165 : decode prog_11_method_15_code 165 = .ok (.iload_n 2, 1) := by decide +kernel
theorem d_Mdl_command_166 : decode prog_11_method_15_code 166 = .ok (.iastore, 1) := by decide +kernel
theorem d_Mdl_command_167 : decode prog_11_method_15_code 167 = .ok (.aload_n 0, 1) := by decide +kernel
theorem d_Mdl_command_168 : decode prog_11_method_15_code 168 = .ok (.getfield 19, 3) := by decide +kernel
theorem d_Mdl_command_171 : decode prog_11_method_15_code 171 = .ok (.iload 8, 2) := by decide +kernel
theorem d_Mdl_command_173 : decode prog_11_method_15_code 173 = .ok (.iload_n 3, 1) := by decide +kernel
theorem d_Mdl_command_174 : decode prog_11_method_15_code 174 = .ok (.iastore, 1) := by decide +kernel
theorem d_Mdl_command_175 : decode prog_11_method_15_code 175 = .ok (.aload_n 0, 1) := by decide +kernel
theorem d_Mdl_command_176 : decode prog_11_method_15_code 176 = .ok (.getfield 22, 3) := by decide +kernel
theorem d_Mdl_command_179 : decode prog_11_method_15_code 179 = .ok (.iload 8, 2) := by decide +kernel
theorem d_Mdl_command_181 : decode prog_11_method_15_code 181 = .ok (.iload 4, 2) := by decide +kernel
theorem d_Mdl_command_183 : decode prog_11_method_15_code 183 = .ok (.iastore, 1) := by decide +kernel
theorem d_Mdl_command_184 : decode prog_11_method_15_code 184 = .ok (.aload_n 0, 1) := by decide +kernel
theorem d_Mdl_command_185 : decode prog_11_method_15_code 185 = .ok (.getfield 25, 3) := by decide +kernel
theorem d_Mdl_command_188 : decode prog_11_method_15_code 188 = .ok (.iload 8, 2) := by decide +kernel
theorem d_Mdl_command_190 : decode prog_11_method_15_code 190 = .ok (.iload 5, 2) := by decide +kernel
theorem d_Mdl_command_192 : decode prog_11_method_15_code 192 = .ok (.iastore, 1) := by decide +kernel
theorem d_Mdl_command_193 : decode prog_11_method_15_code 193 = .ok (.iconst 0, 1) := by decide +kernel
theorem d_Mdl_command_194 : decode prog_11_method_15_code 194 = .ok (.istore 9, 2) := by decide +kernel
theorem d_Mdl_command_196 : decode prog_11_method_15_code 196 = .ok (.iload 9, 2) := by decide +kernel
theorem d_Mdl_command_198 : decode prog_11_method_15_code 198 = .ok (.iconst 3, 1) := by decide +kernel
theorem d_Mdl_command_199 : decode prog_11_method_15_code 199 = .ok (.if_icmp .ge 81, 3) := by decide +kernel
theorem d_Mdl_command_202 : decode prog_11_method_15_code 202 = .ok (.aload_n 0, 1) := by decide +kernel
theorem d_Mdl_command_203 : decode prog_11_method_15_code 203 = .ok (.getfield 66, 3) := by decide +kernel
theorem d_Mdl_command_206 : decode prog_11_method_15_code 206 = .ok (.iload_n 1, 1) := by decide +kernel
theorem d_Mdl_command_207 : decode prog_11_method_15_code 207 = .ok (.iaload, 1) := by decide +kernel
theorem d_Mdl_command_208 : decode prog_11_method_15_code 208 = .ok (.iconst 4, 1) := by decide +kernel
theorem d_Mdl_command_209 : decode prog_11_method_15_code 209 = .ok (.iand, 1) := by decide +kernel
theorem d_Mdl_command_210 : decode prog_11_method_15_code 210 = .ok (.ifCond .eq 17, 3) := by decide +kernel
theorem d_Mdl_command_213 : decode prog_11_method_15_code 213 = .ok (.aload_n 0, 1) := by decide +kernel
theorem d_Mdl_command_214 : decode prog_11_method_15_code 214 = .ok (.getfield 75, 3) := by decide +kernel
theorem d_Mdl_command_217 : decode prog_11_method_15_code 217 = .ok (.iconst 3, 1) := by decide +kernel
theorem d_Mdl_command_218 : decode prog_11_method_15_code 218 = .ok (.iload_n 1, 1) := by decide +kernel
theorem d_Mdl_command_219 : decode prog_11_method_15_code 219 = .ok (.imul, 1) := by decide +kernel
theorem d_Mdl_command_220 : decode prog_11_method_15_code 220 = .ok (.iload 9, 2) := by decide +kernel
theorem d_Mdl_command_222 : decode prog_11_method_15_code 222 = .ok (.iadd, 1) := by decide +kernel
theorem d_Mdl_command_223 : decode prog_11_method_15_code 223 = .ok (.iaload, 1) := by decide +kernel
theorem d_Mdl_command_224 : decode prog_11_method_15_code 224 = .ok (.goto 4, 3) := by decide +kernel
theorem d_Mdl_command_227 : decode prog_11_method_15_code 227 = .ok (.iconst 0, 1) := by decide +kernel
theorem d_Mdl_command_228 : decode prog_11_method_15_code 228 = .ok (.istore 10, 2) := by decide +kernel
theorem d_Mdl_command_230 : decode prog_11_method_15_code 230 = .ok (.aload_n 0, 1) := by decide +kernel
theorem d_Mdl_command_231 : decode prog_11_method_15_code 231 = .ok (.getfield 66, 3) := by decide +kernel
theorem d_Mdl_command_234 : decode prog_11_method_15_code 234 = .ok (.iload_n 1, 1) := by decide +kernel
theorem d_Mdl_command_235 : decode prog_11_method_15_code 235 = .ok (.iaload, 1) := by decide +kernel
theorem d_Mdl_command_236 : decode prog_11_method_15_code 236 = .ok (.bipush 8, 2) := by decide +kernel
theorem d_Mdl_command_238 : decode prog_11_method_15_code 238 = .ok (.iand, 1) := by decide +kernel
theorem d_Mdl_command_239 : decode prog_11_method_15_code 239 = .ok (.ifCond .eq 21, 3) := by decide +kernel
theorem d_Mdl_command_242 : decode prog_11_method_15_code 242 = .ok (.iload 10, 2) := by decide +kernel
theorem d_Mdl_command_244 : decode prog_11_method_15_code 244 = .ok (.aload_n 0, 1) := by decide +kernel
theorem d_Mdl_command_245 : decode prog_11_method_15_code 245 = .ok (.getfield 72, 3) := by decide +kernel
theorem d_Mdl_command_248 : decode prog_11_method_15_code 248 = .ok (.iconst 3, 1) := by decide +kernel
theorem d_Mdl_command_249 : decode prog_11_method_15_code 249 = .ok (.iload_n 1, 1) := by decide +kernel
theorem d_Mdl_command_250 : decode prog_11_method_15_code 250 = .ok (.imul, 1) := by decide +kernel
theorem d_Mdl_command_251 : decode prog_11_method_15_code 251 = .ok (.iload 9, 2) := by decide +kernel
theorem d_Mdl_command_253 : decode prog_11_method_15_code 253 = .ok (.iadd, 1) := by decide +kernel
theorem d_Mdl_command_254 : decode prog_11_method_15_code 254 = .ok (.iaload, 1) := by decide +kernel
theorem d_Mdl_command_255 : decode prog_11_method_15_code 255 = .ok (.invokestatic 173, 3) := by decide +kernel
theorem d_Mdl_command_258 : decode prog_11_method_15_code 258 = .ok (.istore 10, 2) := by decide +kernel
theorem d_Mdl_command_260 : decode prog_11_method_15_code 260 = .ok (.aload_n 0, 1) := by decide +kernel
theorem d_Mdl_command_261 : decode prog_11_method_15_code 261 = .ok (.getfield 28, 3) := by decide +kernel
theorem d_Mdl_command_264 : decode prog_11_method_15_code 264 = .ok (.iconst 3, 1) := by decide +kernel
theorem d_Mdl_command_265 : decode prog_11_method_15_code 265 = .ok (.iload 8, 2) := by decide +kernel
theorem d_Mdl_command_267 : decode prog_11_method_15_code 267 = .ok (.imul, 1) := by decide +kernel
theorem d_Mdl_command_268 : decode prog_11_method_15_code 268 = .ok (.iload 9, 2) := by decide +kernel
theorem d_Mdl_command_270 : decode prog_11_method_15_code 270 = .ok (.iadd, 1) := by decide +kernel
theorem d_Mdl_command_271 : decode prog_11_method_15_code 271 = .ok (.iload 10, 2) := by decide +kernel
theorem d_Mdl_command_273 : decode prog_11_method_15_code 273 = .ok (.iastore, 1) := by decide +kernel
theorem d_Mdl_command_274 : decode prog_11_method_15_code 274 = .ok (.iinc 9 1, 3) := by decide +kernel
theorem d_Mdl_command_277 : decode prog_11_method_15_code 277 = .ok (.goto (-81), 3) := by decide +kernel
theorem d_Mdl_command_280 : decode prog_11_method_15_code 280 = .ok (.aload_n 0, 1) := by decide +kernel
theorem d_Mdl_command_281 : decode prog_11_method_15_code 281 = .ok (.getfield 72, 3) := by decide +kernel
theorem d_Mdl_command_284 : decode prog_11_method_15_code 284 = .ok (.iconst 3, 1) := by decide +kernel
theorem d_Mdl_command_285 : decode prog_11_method_15_code 285 = .ok (.iload_n 1, 1) := by decide +kernel
theorem d_Mdl_command_286 : decode prog_11_method_15_code 286 = .ok (.imul, 1) := by decide +kernel
theorem d_Mdl_command_287 : decode prog_11_method_15_code 287 = .ok (.iload 6, 2) := by decide +kernel
theorem d_Mdl_command_289 : decode prog_11_method_15_code 289 = .ok (.iadd, 1) := by decide +kernel
theorem d_Mdl_command_290 : decode prog_11_method_15_code 290 = .ok (.aload_n 0, 1) := by decide +kernel
theorem d_Mdl_command_291 : decode prog_11_method_15_code 291 = .ok (.getfield 7, 3) := by decide +kernel
theorem d_Mdl_command_294 : decode prog_11_method_15_code 294 = .ok (.iload 6, 2) := by decide +kernel
theorem d_Mdl_command_296 : decode prog_11_method_15_code 296 = .ok (.iaload, 1) := by decide +kernel
theorem d_Mdl_command_297 : decode prog_11_method_15_code 297 = .ok (.iastore, 1) := by decide +kernel
theorem d_Mdl_command_298 : decode prog_11_method_15_code 298 = .ok (.iload 6, 2) := by decide +kernel
theorem d_Mdl_command_300 : decode prog_11_method_15_code 300 = .ok (.ifCond .ne 12, 3) := by decide +kernel
theorem d_Mdl_command_303 : decode prog_11_method_15_code 303 = .ok (.aload_n 0, 1) := by decide +kernel
theorem d_Mdl_command_304 : decode prog_11_method_15_code 304 = .ok (.getfield 7, 3) := by decide +kernel
theorem d_Mdl_command_307 : decode prog_11_method_15_code 307 = .ok (.iconst 0, 1) := by decide +kernel
theorem d_Mdl_command_308 : decode prog_11_method_15_code 308 = .ok (.iaload, 1) := by decide +kernel
theorem d_Mdl_command_309 : decode prog_11_method_15_code 309 = .ok (.goto 12, 3) := by decide +kernel
theorem d_Mdl_command_312 : decode prog_11_method_15_code 312 = .ok (.aload_n 0, 1) := by decide +kernel
theorem d_Mdl_command_313 : decode prog_11_method_15_code 313 = .ok (.getfield 28, 3) := by decide +kernel
theorem d_Mdl_command_316 : decode prog_11_method_15_code 316 = .ok (.iconst 3, 1) := by decide +kernel
theorem d_Mdl_command_317 : decode prog_11_method_15_code 317 = .ok (.iload 8, 2) := by decide +kernel
theorem d_Mdl_command_319 : decode prog_11_method_15_code 319 = .ok (.imul, 1) := by decide +kernel
theorem d_Mdl_command_320 : decode prog_11_method_15_code 320 = .ok (.iaload, 1) := by decide +kernel
theorem d_Mdl_command_321 : decode prog_11_method_15_code 321 = .ok (.iload 6, 2) := by decide +kernel
theorem d_Mdl_command_323 : decode prog_11_method_15_code 323 = .ok (.iconst 1, 1) := by decide +kernel
theorem d_Mdl_command_324 : decode prog_11_method_15_code 324 = .ok (.if_icmp .ne 12, 3) := by decide +kernel
theorem d_Mdl_command_327 : decode prog_11_method_15_code 327 = .ok (.aload_n 0, 1) := by decide +kernel
theorem d_Mdl_command_328 : decode prog_11_method_15_code 328 = .ok (.getfield 7, 3) := by decide +kernel
theorem d_Mdl_command_331 : decode prog_11_method_15_code 331 = .ok (.iconst 1, 1) := by decide +kernel
theorem d_Mdl_command_332 : decode prog_11_method_15_code 332 = .ok (.iaload, 1) := by decide +kernel
theorem d_Mdl_command_333 : decode prog_11_method_15_code 333 = .ok (.goto 14, 3) := by decide +kernel
theorem d_Mdl_command_336 : decode prog_11_method_15_code 336 = .ok (.aload_n 0, 1) := by decide +kernel
theorem d_Mdl_command_337 : decode prog_11_method_15_code 337 = .ok (.getfield 28, 3) := by decide +kernel
theorem d_Mdl_command_340 : decode prog_11_method_15_code 340 = .ok (.iconst 3, 1) := by decide +kernel
theorem d_Mdl_command_341 : decode prog_11_method_15_code 341 = .ok (.iload 8, 2) := by decide +kernel
theorem d_Mdl_command_343 : decode prog_11_method_15_code 343 = .ok (.imul, 1) := by decide +kernel
theorem d_Mdl_command_344 : decode prog_11_method_15_code 344 = .ok (.iconst 1, 1) := by decide +kernel
theorem d_Mdl_command_345 : decode prog_11_method_15_code 345 = .ok (.iadd, 1) := by decide +kernel
theorem d_Mdl_command_346 : decode prog_11_method_15_code 346 = .ok (.iaload, 1) := by decide +kernel
theorem d_Mdl_command_347 : decode prog_11_method_15_code 347 = .ok (.iload 6, 2) := by decide +kernel
theorem d_Mdl_command_349 : decode prog_11_method_15_code 349 = .ok (.iconst 2, 1) := by decide +kernel
theorem d_Mdl_command_350 : decode prog_11_method_15_code 350 = .ok (.if_icmp .ne 12, 3) := by decide +kernel
theorem d_Mdl_command_353 : decode prog_11_method_15_code 353 = .ok (.aload_n 0, 1) := by decide +kernel
theorem d_Mdl_command_354 : decode prog_11_method_15_code 354 = .ok (.getfield 7, 3) := by decide +kernel
theorem d_Mdl_command_357 : decode prog_11_method_15_code 357 = .ok (.iconst 2, 1) := by decide +kernel
theorem d_Mdl_command_358 : decode prog_11_method_15_code 358 = .ok (.iaload, 1) := by decide +kernel
theorem d_Mdl_command_359 : decode prog_11_method_15_code 359 = .ok (.goto 14, 3) := by decide +kernel
theorem d_Mdl_command_362 : decode prog_11_method_15_code 362 = .ok (.aload_n 0, 1) := by decide +kernel
theorem d_Mdl_command_363 : decode prog_11_method_15_code 363 = .ok (.getfield 28, 3) := by decide +kernel
theorem d_Mdl_command_366 : decode prog_11_method_15_code 366 = .ok (.iconst 3, 1) := by decide +kernel
theorem d_Mdl_command_367 : decode prog_11_method_15_code 367 = .ok (.iload 8, 2) := by decide +kernel
theorem d_Mdl_command_369 : decode prog_11_method_15_code 369 = .ok (.imul, 1) := by decide +kernel
theorem d_Mdl_command_370 : decode prog_11_method_15_code 370 = .ok (.iconst 2, 1) := by decide +kernel
theorem d_Mdl_command_371 : decode prog_11_method_15_code 371 = .ok (.iadd, 1) := by decide +kernel
theorem d_Mdl_command_372 : decode prog_11_method_15_code 372 = .ok (.iaload, 1) := by decide +kernel
theorem d_Mdl_command_373 : decode prog_11_method_15_code 373 = .ok (.invokestatic 177, 3) := by decide +kernel
theorem d_Mdl_command_376 : decode prog_11_method_15_code 376 = .ok (.lreturn, 1) := by decide +kernel
set_option maxHeartbeats 4000000 in
set_option maxRecDepth 100000 in
theorem w_Mdl_command_373 {res : (Int64 ⊕ (Nat × Nat)) × xH} (C : x_C l s0 A0 D R_Mdl prog_11_method_15_code 11 [] p s m args meth c) (hr : meth.sig.returnType = (some .long)) (hnm : meth.name = "command") (hRf : 2 ≤ R.frames) (hRl : 61 ≤ R.locals)  (t0 : Int32) (t1 : Int32) (t2 : Int32) (hp : f_Mdl_command_b373 t0 t1 t2 h = some res) (hH : x_S s0 D R h H locs cells slots) (hl : lv_has ls 11 []) : W p l e R s m args below meth c H locs cells slots (x_Q s0 D below s R (x_oc vJ res.1) res.2) (F0 m 373 ls [.int t0, .int t1, .int t2]) := by
  obtain ⟨hx, hb, hown, hts, hK, hml, hW, Z, -⟩ := id C
  unfold f_Mdl_command_b373 at hp
  refine x_callS (As := [.int t2, .int t1, .int t0]) (rest := []) (cv := vJ) C hH kc_Mdl_177 d_Mdl_command_373 hp (fun o h' e => m_Mdl_tokenOf Z e) rfl hl.1 (Nat.le_trans (Nat.le_of_ble_eq_true rfl) hRf) (Nat.le_trans (Nat.le_of_ble_eq_true rfl) hRl) (Nat.le_of_ble_eq_true rfl) (fun v1 h H locs cells slots hp hH => ?_)
  refine W.eq (g2 := F0 m 376 ls [.long v1]) rfl ?_
  exact x_lret C hH hr d_Mdl_command_376 hp
set_option maxHeartbeats 4000000 in
set_option maxRecDepth 100000 in
theorem w_Mdl_command_347 {res : (Int64 ⊕ (Nat × Nat)) × xH} (C : x_C l s0 A0 D R_Mdl prog_11_method_15_code 11 [] p s m args meth c) (hr : meth.sig.returnType = (some .long)) (hnm : meth.name = "command") (hRf : 2 ≤ R.frames) (hRl : 61 ≤ R.locals)  (l0 : Nat) (l6 : Int32) (l8 : Int32) (t0 : Int32) (t1 : Int32) (hp : f_Mdl_command_b347 l0 l6 l8 t0 t1 h = some res) (hH : x_S s0 D R h H locs cells slots) (hl : lv_has ls 11 [(0, .ref l0), (6, .int l6), (8, .int l8)]) : W p l e R s m args below meth c H locs cells slots (x_Q s0 D below s R (x_oc vJ res.1) res.2) (F0 m 347 ls [.int t0, .int t1]) := by
  obtain ⟨hx, hb, hown, hts, hK, hml, hW, Z, -⟩ := id C
  unfold f_Mdl_command_b347 at hp
  refine lv_iload hx hb d_Mdl_command_347 (lv_at hl 1 rfl) ?_
  refine lv_iconst (v := 2) hx hb d_Mdl_command_349 (by decide) ?_
  refine lv_icmp_ne (tgt := 362) hx hb d_Mdl_command_350 (by decide) (fun hc => ?_) (fun hc => ?_)
  · replace hp := x_ifn hc hp
    refine lv_aload_n hx hb d_Mdl_command_362 rfl (lv_at hl 0 rfl) ?_
    refine x_gA C hH fl_Mdl_28 d_Mdl_command_363 hp (fun v1 hp => ?_)
    refine lv_iconst (v := 3) hx hb d_Mdl_command_366 (by decide) ?_
    refine lv_iload hx hb d_Mdl_command_367 (lv_at hl 2 rfl) ?_
    refine lv_imul hx hb d_Mdl_command_369 ?_
    refine lv_iconst (v := 2) hx hb d_Mdl_command_370 (by decide) ?_
    refine lv_iadd hx hb d_Mdl_command_371 ?_
    refine x_lI C hH d_Mdl_command_372 hp (fun v2 hp => ?_)
    exact w_Mdl_command_373 C hr hnm hRf hRl  v2 t0 t1 hp hH (lv_sub hl [] rfl)
  · replace hp := x_ifp hc hp
    refine lv_aload_n hx hb d_Mdl_command_353 rfl (lv_at hl 0 rfl) ?_
    refine x_gA C hH fl_Mdl_7 d_Mdl_command_354 hp (fun v3 hp => ?_)
    refine lv_iconst (v := 2) hx hb d_Mdl_command_357 (by decide) ?_
    refine x_lI C hH d_Mdl_command_358 hp (fun v4 hp => ?_)
    refine lv_goto (tgt := 373) hx hb d_Mdl_command_359 (by decide) ?_
    exact w_Mdl_command_373 C hr hnm hRf hRl  v4 t0 t1 hp hH (lv_sub hl [] rfl)
set_option maxHeartbeats 4000000 in
set_option maxRecDepth 100000 in
theorem w_Mdl_command_321 {res : (Int64 ⊕ (Nat × Nat)) × xH} (C : x_C l s0 A0 D R_Mdl prog_11_method_15_code 11 [] p s m args meth c) (hr : meth.sig.returnType = (some .long)) (hnm : meth.name = "command") (hRf : 2 ≤ R.frames) (hRl : 61 ≤ R.locals)  (l0 : Nat) (l6 : Int32) (l8 : Int32) (t0 : Int32) (hp : f_Mdl_command_b321 l0 l6 l8 t0 h = some res) (hH : x_S s0 D R h H locs cells slots) (hl : lv_has ls 11 [(0, .ref l0), (6, .int l6), (8, .int l8)]) : W p l e R s m args below meth c H locs cells slots (x_Q s0 D below s R (x_oc vJ res.1) res.2) (F0 m 321 ls [.int t0]) := by
  obtain ⟨hx, hb, hown, hts, hK, hml, hW, Z, -⟩ := id C
  unfold f_Mdl_command_b321 at hp
  refine lv_iload hx hb d_Mdl_command_321 (lv_at hl 1 rfl) ?_
  refine lv_iconst (v := 1) hx hb d_Mdl_command_323 (by decide) ?_
  refine lv_icmp_ne (tgt := 336) hx hb d_Mdl_command_324 (by decide) (fun hc => ?_) (fun hc => ?_)
  · replace hp := x_ifn hc hp
    refine lv_aload_n hx hb d_Mdl_command_336 rfl (lv_at hl 0 rfl) ?_
    refine x_gA C hH fl_Mdl_28 d_Mdl_command_337 hp (fun v1 hp => ?_)
    refine lv_iconst (v := 3) hx hb d_Mdl_command_340 (by decide) ?_
    refine lv_iload hx hb d_Mdl_command_341 (lv_at hl 2 rfl) ?_
    refine lv_imul hx hb d_Mdl_command_343 ?_
    refine lv_iconst (v := 1) hx hb d_Mdl_command_344 (by decide) ?_
    refine lv_iadd hx hb d_Mdl_command_345 ?_
    refine x_lI C hH d_Mdl_command_346 hp (fun v2 hp => ?_)
    exact w_Mdl_command_347 C hr hnm hRf hRl  l0 l6 l8 v2 t0 hp hH (lv_sub hl [0, 1, 2] rfl)
  · replace hp := x_ifp hc hp
    refine lv_aload_n hx hb d_Mdl_command_327 rfl (lv_at hl 0 rfl) ?_
    refine x_gA C hH fl_Mdl_7 d_Mdl_command_328 hp (fun v3 hp => ?_)
    refine lv_iconst (v := 1) hx hb d_Mdl_command_331 (by decide) ?_
    refine x_lI C hH d_Mdl_command_332 hp (fun v4 hp => ?_)
    refine lv_goto (tgt := 347) hx hb d_Mdl_command_333 (by decide) ?_
    exact w_Mdl_command_347 C hr hnm hRf hRl  l0 l6 l8 v4 t0 hp hH (lv_sub hl [0, 1, 2] rfl)
set_option maxHeartbeats 4000000 in
set_option maxRecDepth 100000 in
theorem w_Mdl_command_260 {res : (Int64 ⊕ (Nat × Nat)) × xH} (C : x_C l s0 A0 D R_Mdl prog_11_method_15_code 11 [] p s m args meth c) (hr : meth.sig.returnType = (some .long)) (hnm : meth.name = "command") (hRf : 2 ≤ R.frames) (hRl : 61 ≤ R.locals) {k196 : Nat → Int32 → Int32 → Int32 → Int32 → xM Int64} (hs196 : ∀ (l0 : Nat) (l1 : Int32) (l6 : Int32) (l8 : Int32) (l9 : Int32) (h : xH) (H : Heap) (locs : List Loc) (cells slots : Nat) (ls : Array Slot), k196 l0 l1 l6 l8 l9 h = some res → x_S s0 D R h H locs cells slots → lv_has ls 11 [(0, .ref l0), (1, .int l1), (6, .int l6), (8, .int l8), (9, .int l9)] → W p l e R s m args below meth c H locs cells slots (x_Q s0 D below s R (x_oc vJ res.1) res.2) (F0 m 196 ls [])) (l0 : Nat) (l1 : Int32) (l6 : Int32) (l8 : Int32) (l9 : Int32) (l10 : Int32) (hp : f_Mdl_command_b260 k196 l0 l1 l6 l8 l9 l10 h = some res) (hH : x_S s0 D R h H locs cells slots) (hl : lv_has ls 11 [(0, .ref l0), (1, .int l1), (6, .int l6), (8, .int l8), (9, .int l9), (10, .int l10)]) : W p l e R s m args below meth c H locs cells slots (x_Q s0 D below s R (x_oc vJ res.1) res.2) (F0 m 260 ls []) := by
  obtain ⟨hx, hb, hown, hts, hK, hml, hW, Z, -⟩ := id C
  unfold f_Mdl_command_b260 at hp
  refine lv_aload_n hx hb d_Mdl_command_260 rfl (lv_at hl 0 rfl) ?_
  refine x_gA C hH fl_Mdl_28 d_Mdl_command_261 hp (fun v1 hp => ?_)
  refine lv_iconst (v := 3) hx hb d_Mdl_command_264 (by decide) ?_
  refine lv_iload hx hb d_Mdl_command_265 (lv_at hl 3 rfl) ?_
  refine lv_imul hx hb d_Mdl_command_267 ?_
  refine lv_iload hx hb d_Mdl_command_268 (lv_at hl 4 rfl) ?_
  refine lv_iadd hx hb d_Mdl_command_270 ?_
  refine lv_iload hx hb d_Mdl_command_271 (lv_at hl 5 rfl) ?_
  refine x_sI C hH d_Mdl_command_273 hp (fun h H locs hp hH => ?_)
  refine lv_iinc (v := (l9 + 1)) (lv' := [(9, .int (l9 + 1)), (0, .ref l0), (1, .int l1), (6, .int l6), (8, .int l8), (10, .int l10)]) hx hb d_Mdl_command_274 hl (k := 4) rfl rfl (by decide) rfl (fun ls hl => ?_)
  refine lv_goto (tgt := 196) hx hb d_Mdl_command_277 (by decide) ?_
  exact hs196 l0 l1 l6 l8 (l9 + 1) _ _ _ _ _ _ hp hH (lv_sub hl [1, 2, 3, 4, 0] rfl)
set_option maxHeartbeats 4000000 in
set_option maxRecDepth 100000 in
theorem w_Mdl_command_228 {res : (Int64 ⊕ (Nat × Nat)) × xH} (C : x_C l s0 A0 D R_Mdl prog_11_method_15_code 11 [] p s m args meth c) (hr : meth.sig.returnType = (some .long)) (hnm : meth.name = "command") (hRf : 2 ≤ R.frames) (hRl : 61 ≤ R.locals) {k196 : Nat → Int32 → Int32 → Int32 → Int32 → xM Int64} (hs196 : ∀ (l0 : Nat) (l1 : Int32) (l6 : Int32) (l8 : Int32) (l9 : Int32) (h : xH) (H : Heap) (locs : List Loc) (cells slots : Nat) (ls : Array Slot), k196 l0 l1 l6 l8 l9 h = some res → x_S s0 D R h H locs cells slots → lv_has ls 11 [(0, .ref l0), (1, .int l1), (6, .int l6), (8, .int l8), (9, .int l9)] → W p l e R s m args below meth c H locs cells slots (x_Q s0 D below s R (x_oc vJ res.1) res.2) (F0 m 196 ls [])) (l0 : Nat) (l1 : Int32) (l6 : Int32) (l8 : Int32) (l9 : Int32) (t0 : Int32) (hp : f_Mdl_command_b228 k196 l0 l1 l6 l8 l9 t0 h = some res) (hH : x_S s0 D R h H locs cells slots) (hl : lv_has ls 11 [(0, .ref l0), (1, .int l1), (6, .int l6), (8, .int l8), (9, .int l9)]) : W p l e R s m args below meth c H locs cells slots (x_Q s0 D below s R (x_oc vJ res.1) res.2) (F0 m 228 ls [.int t0]) := by
  obtain ⟨hx, hb, hown, hts, hK, hml, hW, Z, -⟩ := id C
  unfold f_Mdl_command_b228 at hp
  refine lv_istore (lv' := [(10, .int t0), (0, .ref l0), (1, .int l1), (6, .int l6), (8, .int l8), (9, .int l9)]) hx hb d_Mdl_command_228 hl (by decide) rfl (fun ls hl => ?_)
  refine lv_aload_n hx hb d_Mdl_command_230 rfl (lv_at hl 1 rfl) ?_
  refine x_gA C hH fl_Mdl_66 d_Mdl_command_231 hp (fun v1 hp => ?_)
  refine lv_iload_n hx hb d_Mdl_command_234 rfl (lv_at hl 2 rfl) ?_
  refine x_lI C hH d_Mdl_command_235 hp (fun v2 hp => ?_)
  refine lv_bipush (v := 8) hx hb d_Mdl_command_236 (by decide) ?_
  refine lv_iand hx hb d_Mdl_command_238 ?_
  refine lv_if_eq (tgt := 260) hx hb d_Mdl_command_239 (by decide) (fun hc => ?_) (fun hc => ?_)
  · replace hp := x_ifp hc hp
    exact w_Mdl_command_260 C hr hnm hRf hRl hs196 l0 l1 l6 l8 l9 t0 hp hH (lv_sub hl [1, 2, 3, 4, 5, 0] rfl)
  · replace hp := x_ifn hc hp
    refine lv_iload hx hb d_Mdl_command_242 (lv_at hl 0 rfl) ?_
    refine lv_aload_n hx hb d_Mdl_command_244 rfl (lv_at hl 1 rfl) ?_
    refine x_gA C hH fl_Mdl_72 d_Mdl_command_245 hp (fun v3 hp => ?_)
    refine lv_iconst (v := 3) hx hb d_Mdl_command_248 (by decide) ?_
    refine lv_iload_n hx hb d_Mdl_command_249 rfl (lv_at hl 2 rfl) ?_
    refine lv_imul hx hb d_Mdl_command_250 ?_
    refine lv_iload hx hb d_Mdl_command_251 (lv_at hl 5 rfl) ?_
    refine lv_iadd hx hb d_Mdl_command_253 ?_
    refine x_lI C hH d_Mdl_command_254 hp (fun v4 hp => ?_)
    refine x_callS (As := [.int t0, .int v4]) (rest := []) (cv := vI) C hH kc_Mdl_173 d_Mdl_command_255 hp (fun o h' e => m_Mdl_greater Z e) rfl hl.1 (Nat.le_trans (Nat.le_of_ble_eq_true rfl) hRf) (Nat.le_trans (Nat.le_of_ble_eq_true rfl) hRl) (Nat.le_of_ble_eq_true rfl) (fun v5 h H locs cells slots hp hH => ?_)
    refine W.eq (g2 := F0 m 258 ls [.int v5]) rfl ?_
    refine lv_istore (lv' := [(10, .int v5), (0, .ref l0), (1, .int l1), (6, .int l6), (8, .int l8), (9, .int l9)]) hx hb d_Mdl_command_258 hl (by decide) rfl (fun ls hl => ?_)
    exact w_Mdl_command_260 C hr hnm hRf hRl hs196 l0 l1 l6 l8 l9 v5 hp hH (lv_sub hl [1, 2, 3, 4, 5, 0] rfl)
set_option maxHeartbeats 4000000 in
set_option maxRecDepth 100000 in
theorem w_Mdl_command_196 {res : (Int64 ⊕ (Nat × Nat)) × xH} (C : x_C l s0 A0 D R_Mdl prog_11_method_15_code 11 [] p s m args meth c) (hr : meth.sig.returnType = (some .long)) (hnm : meth.name = "command") (hRf : 2 ≤ R.frames) (hRl : 61 ≤ R.locals) {k196 : Nat → Int32 → Int32 → Int32 → Int32 → xM Int64} (hs196 : ∀ (l0 : Nat) (l1 : Int32) (l6 : Int32) (l8 : Int32) (l9 : Int32) (h : xH) (H : Heap) (locs : List Loc) (cells slots : Nat) (ls : Array Slot), k196 l0 l1 l6 l8 l9 h = some res → x_S s0 D R h H locs cells slots → lv_has ls 11 [(0, .ref l0), (1, .int l1), (6, .int l6), (8, .int l8), (9, .int l9)] → W p l e R s m args below meth c H locs cells slots (x_Q s0 D below s R (x_oc vJ res.1) res.2) (F0 m 196 ls [])) (l0 : Nat) (l1 : Int32) (l6 : Int32) (l8 : Int32) (l9 : Int32) (hp : f_Mdl_command_b196 k196 l0 l1 l6 l8 l9 h = some res) (hH : x_S s0 D R h H locs cells slots) (hl : lv_has ls 11 [(0, .ref l0), (1, .int l1), (6, .int l6), (8, .int l8), (9, .int l9)]) : W p l e R s m args below meth c H locs cells slots (x_Q s0 D below s R (x_oc vJ res.1) res.2) (F0 m 196 ls []) := by
  obtain ⟨hx, hb, hown, hts, hK, hml, hW, Z, -⟩ := id C
  unfold f_Mdl_command_b196 at hp
  refine lv_iload hx hb d_Mdl_command_196 (lv_at hl 4 rfl) ?_
  refine lv_iconst (v := 3) hx hb d_Mdl_command_198 (by decide) ?_
  refine lv_icmp_ge (tgt := 280) hx hb d_Mdl_command_199 (by decide) (fun hc => ?_) (fun hc => ?_)
  · replace hp := x_ifp hc hp
    refine lv_aload_n hx hb d_Mdl_command_280 rfl (lv_at hl 0 rfl) ?_
    refine x_gA C hH fl_Mdl_72 d_Mdl_command_281 hp (fun v1 hp => ?_)
    refine lv_iconst (v := 3) hx hb d_Mdl_command_284 (by decide) ?_
    refine lv_iload_n hx hb d_Mdl_command_285 rfl (lv_at hl 1 rfl) ?_
    refine lv_imul hx hb d_Mdl_command_286 ?_
    refine lv_iload hx hb d_Mdl_command_287 (lv_at hl 2 rfl) ?_
    refine lv_iadd hx hb d_Mdl_command_289 ?_
    refine lv_aload_n hx hb d_Mdl_command_290 rfl (lv_at hl 0 rfl) ?_
    refine x_gA C hH fl_Mdl_7 d_Mdl_command_291 hp (fun v2 hp => ?_)
    refine lv_iload hx hb d_Mdl_command_294 (lv_at hl 2 rfl) ?_
    refine x_lI C hH d_Mdl_command_296 hp (fun v3 hp => ?_)
    refine x_sI C hH d_Mdl_command_297 hp (fun h H locs hp hH => ?_)
    refine lv_iload hx hb d_Mdl_command_298 (lv_at hl 2 rfl) ?_
    refine lv_if_ne (tgt := 312) hx hb d_Mdl_command_300 (by decide) (fun hc => ?_) (fun hc => ?_)
    · replace hp := x_ifn hc hp
      refine lv_aload_n hx hb d_Mdl_command_312 rfl (lv_at hl 0 rfl) ?_
      refine x_gA C hH fl_Mdl_28 d_Mdl_command_313 hp (fun v4 hp => ?_)
      refine lv_iconst (v := 3) hx hb d_Mdl_command_316 (by decide) ?_
      refine lv_iload hx hb d_Mdl_command_317 (lv_at hl 3 rfl) ?_
      refine lv_imul hx hb d_Mdl_command_319 ?_
      refine x_lI C hH d_Mdl_command_320 hp (fun v5 hp => ?_)
      exact w_Mdl_command_321 C hr hnm hRf hRl  l0 l6 l8 v5 hp hH (lv_sub hl [0, 2, 3] rfl)
    · replace hp := x_ifp hc hp
      refine lv_aload_n hx hb d_Mdl_command_303 rfl (lv_at hl 0 rfl) ?_
      refine x_gA C hH fl_Mdl_7 d_Mdl_command_304 hp (fun v6 hp => ?_)
      refine lv_iconst (v := 0) hx hb d_Mdl_command_307 (by decide) ?_
      refine x_lI C hH d_Mdl_command_308 hp (fun v7 hp => ?_)
      refine lv_goto (tgt := 321) hx hb d_Mdl_command_309 (by decide) ?_
      exact w_Mdl_command_321 C hr hnm hRf hRl  l0 l6 l8 v7 hp hH (lv_sub hl [0, 2, 3] rfl)
  · replace hp := x_ifn hc hp
    refine lv_aload_n hx hb d_Mdl_command_202 rfl (lv_at hl 0 rfl) ?_
    refine x_gA C hH fl_Mdl_66 d_Mdl_command_203 hp (fun v8 hp => ?_)
    refine lv_iload_n hx hb d_Mdl_command_206 rfl (lv_at hl 1 rfl) ?_
    refine x_lI C hH d_Mdl_command_207 hp (fun v9 hp => ?_)
    refine lv_iconst (v := 4) hx hb d_Mdl_command_208 (by decide) ?_
    refine lv_iand hx hb d_Mdl_command_209 ?_
    refine lv_if_eq (tgt := 227) hx hb d_Mdl_command_210 (by decide) (fun hc => ?_) (fun hc => ?_)
    · replace hp := x_ifp hc hp
      refine lv_iconst (v := 0) hx hb d_Mdl_command_227 (by decide) ?_
      exact w_Mdl_command_228 C hr hnm hRf hRl hs196 l0 l1 l6 l8 l9 0 hp hH (lv_sub hl [0, 1, 2, 3, 4] rfl)
    · replace hp := x_ifn hc hp
      refine lv_aload_n hx hb d_Mdl_command_213 rfl (lv_at hl 0 rfl) ?_
      refine x_gA C hH fl_Mdl_75 d_Mdl_command_214 hp (fun v10 hp => ?_)
      refine lv_iconst (v := 3) hx hb d_Mdl_command_217 (by decide) ?_
      refine lv_iload_n hx hb d_Mdl_command_218 rfl (lv_at hl 1 rfl) ?_
      refine lv_imul hx hb d_Mdl_command_219 ?_
      refine lv_iload hx hb d_Mdl_command_220 (lv_at hl 4 rfl) ?_
      refine lv_iadd hx hb d_Mdl_command_222 ?_
      refine x_lI C hH d_Mdl_command_223 hp (fun v11 hp => ?_)
      refine lv_goto (tgt := 228) hx hb d_Mdl_command_224 (by decide) ?_
      exact w_Mdl_command_228 C hr hnm hRf hRl hs196 l0 l1 l6 l8 l9 v11 hp hH (lv_sub hl [0, 1, 2, 3, 4] rfl)
theorem w_Mdl_command_h196 {res : (Int64 ⊕ (Nat × Nat)) × xH} (C : x_C l s0 A0 D R_Mdl prog_11_method_15_code 11 [] p s m args meth c) (hr : meth.sig.returnType = (some .long)) (hnm : meth.name = "command") (hRf : 2 ≤ R.frames) (hRl : 61 ≤ R.locals)  : ∀ (n : Nat) (l0 : Nat) (l1 : Int32) (l6 : Int32) (l8 : Int32) (l9 : Int32) (h : xH) (H : Heap) (locs : List Loc) (cells slots : Nat) (ls : Array Slot), f_Mdl_command_h196 n l0 l1 l6 l8 l9 h = some res → x_S s0 D R h H locs cells slots → lv_has ls 11 [(0, .ref l0), (1, .int l1), (6, .int l6), (8, .int l8), (9, .int l9)] → W p l e R s m args below meth c H locs cells slots (x_Q s0 D below s R (x_oc vJ res.1) res.2) (F0 m 196 ls []) := by
  intro n
  induction n with
  | zero => intro l0 l1 l6 l8 l9 h H locs cells slots ls hp hH hl; cases hp
  | succ n ih => intro l0 l1 l6 l8 l9 h H locs cells slots ls hp hH hl; exact w_Mdl_command_196 C hr hnm hRf hRl ih l0 l1 l6 l8 l9 hp hH hl
set_option maxHeartbeats 4000000 in
set_option maxRecDepth 100000 in
theorem w_Mdl_command_120 {res : (Int64 ⊕ (Nat × Nat)) × xH} (C : x_C l s0 A0 D R_Mdl prog_11_method_15_code 11 [] p s m args meth c) (hr : meth.sig.returnType = (some .long)) (hnm : meth.name = "command") (hRf : 2 ≤ R.frames) (hRl : 61 ≤ R.locals)  (l0 : Nat) (l1 : Int32) (l2 : Int32) (l3 : Int32) (l4 : Int32) (l5 : Int32) (l6 : Int32) (t0 : Int32) (t1 : Nat) (hp : f_Mdl_command_b120 l0 l1 l2 l3 l4 l5 l6 t0 t1 h = some res) (hH : x_S s0 D R h H locs cells slots) (hl : lv_has ls 11 [(0, .ref l0), (1, .int l1), (2, .int l2), (3, .int l3), (4, .int l4), (5, .int l5), (6, .int l6)]) : W p l e R s m args below meth c H locs cells slots (x_Q s0 D below s R (x_oc vJ res.1) res.2) (F0 m 120 ls [.int t0, .ref t1]) := by
  obtain ⟨hx, hb, hown, hts, hK, hml, hW, Z, -⟩ := id C
  unfold f_Mdl_command_b120 at hp
  refine x_pV C hH fp_Mdl_121 (fun h => Bool.noConfusion h) d_Mdl_command_120 rfl rfl hp (fun h H locs hp hH => ?_)
  refine lv_aload_n hx hb d_Mdl_command_123 rfl (lv_at hl 0 rfl) ?_
  refine x_gI C hH fl_Mdl_121 d_Mdl_command_124 hp (fun v1 hp => ?_)
  refine lv_if_le (tgt := 132) hx hb d_Mdl_command_127 (by decide) (fun hc => ?_) (fun hc => ?_)
  · replace hp := x_ifp hc hp
    refine lv_aload_n hx hb d_Mdl_command_132 rfl (lv_at hl 0 rfl) ?_
    refine x_gA C hH fl_Mdl_7 d_Mdl_command_133 hp (fun v2 hp => ?_)
    refine lv_iload hx hb d_Mdl_command_136 (lv_at hl 6 rfl) ?_
    refine lv_dup2_11 hx hb d_Mdl_command_138 rfl rfl ?_
    refine x_lI C hH d_Mdl_command_139 hp (fun v3 hp => ?_)
    refine lv_iconst (v := 1) hx hb d_Mdl_command_140 (by decide) ?_
    refine lv_iadd hx hb d_Mdl_command_141 ?_
    refine x_sI C hH d_Mdl_command_142 hp (fun h H locs hp hH => ?_)
    refine lv_sipush (v := 401) hx hb d_Mdl_command_143 (by decide) ?_
    refine lv_iload hx hb d_Mdl_command_146 (lv_at hl 6 rfl) ?_
    refine lv_imul hx hb d_Mdl_command_148 ?_
    refine lv_aload_n hx hb d_Mdl_command_149 rfl (lv_at hl 0 rfl) ?_
    refine x_gA C hH fl_Mdl_7 d_Mdl_command_150 hp (fun v4 hp => ?_)
    refine lv_iload hx hb d_Mdl_command_153 (lv_at hl 6 rfl) ?_
    refine x_lI C hH d_Mdl_command_155 hp (fun v5 hp => ?_)
    refine lv_iadd hx hb d_Mdl_command_156 ?_
    refine lv_istore (lv' := [(8, .int ((401 * l6) + v5)), (0, .ref l0), (1, .int l1), (2, .int l2), (3, .int l3), (4, .int l4), (5, .int l5), (6, .int l6)]) hx hb d_Mdl_command_157 hl (by decide) rfl (fun ls hl => ?_)
    refine lv_aload_n hx hb d_Mdl_command_159 rfl (lv_at hl 1 rfl) ?_
    refine x_gA C hH fl_Mdl_16 d_Mdl_command_160 hp (fun v6 hp => ?_)
    refine lv_iload hx hb d_Mdl_command_163 (lv_at hl 0 rfl) ?_
    refine lv_iload_n hx hb d_Mdl_command_165 rfl (lv_at hl 3 rfl) ?_
    refine x_sI C hH d_Mdl_command_166 hp (fun h H locs hp hH => ?_)
    refine lv_aload_n hx hb d_Mdl_command_167 rfl (lv_at hl 1 rfl) ?_
    refine x_gA C hH fl_Mdl_19 d_Mdl_command_168 hp (fun v7 hp => ?_)
    refine lv_iload hx hb d_Mdl_command_171 (lv_at hl 0 rfl) ?_
    refine lv_iload_n hx hb d_Mdl_command_173 rfl (lv_at hl 4 rfl) ?_
    refine x_sI C hH d_Mdl_command_174 hp (fun h H locs hp hH => ?_)
    refine lv_aload_n hx hb d_Mdl_command_175 rfl (lv_at hl 1 rfl) ?_
    refine x_gA C hH fl_Mdl_22 d_Mdl_command_176 hp (fun v8 hp => ?_)
    refine lv_iload hx hb d_Mdl_command_179 (lv_at hl 0 rfl) ?_
    refine lv_iload hx hb d_Mdl_command_181 (lv_at hl 5 rfl) ?_
    refine x_sI C hH d_Mdl_command_183 hp (fun h H locs hp hH => ?_)
    refine lv_aload_n hx hb d_Mdl_command_184 rfl (lv_at hl 1 rfl) ?_
    refine x_gA C hH fl_Mdl_25 d_Mdl_command_185 hp (fun v9 hp => ?_)
    refine lv_iload hx hb d_Mdl_command_188 (lv_at hl 0 rfl) ?_
    refine lv_iload hx hb d_Mdl_command_190 (lv_at hl 6 rfl) ?_
    refine x_sI C hH d_Mdl_command_192 hp (fun h H locs hp hH => ?_)
    refine lv_iconst (v := 0) hx hb d_Mdl_command_193 (by decide) ?_
    refine lv_istore (lv' := [(9, .int 0), (8, .int ((401 * l6) + v5)), (0, .ref l0), (1, .int l1), (2, .int l2), (3, .int l3), (4, .int l4), (5, .int l5), (6, .int l6)]) hx hb d_Mdl_command_194 hl (by decide) rfl (fun ls hl => ?_)
    exact w_Mdl_command_h196 C hr hnm hRf hRl  1000 l0 l1 l6 ((401 * l6) + v5) 0 _ _ _ _ _ _ hp hH (lv_sub hl [2, 3, 8, 1, 0] rfl)
  · replace hp := x_ifn hc hp
    refine lv_lconst (v := 0) hx hb d_Mdl_command_130 (by decide) ?_
    exact x_lret C hH hr d_Mdl_command_131 hp
set_option maxHeartbeats 4000000 in
set_option maxRecDepth 100000 in
theorem w_Mdl_command_98 {res : (Int64 ⊕ (Nat × Nat)) × xH} (C : x_C l s0 A0 D R_Mdl prog_11_method_15_code 11 [] p s m args meth c) (hr : meth.sig.returnType = (some .long)) (hnm : meth.name = "command") (hRf : 2 ≤ R.frames) (hRl : 61 ≤ R.locals)  (l0 : Nat) (l1 : Int32) (l2 : Int32) (l3 : Int32) (l4 : Int32) (l5 : Int32) (l6 : Int32) (t0 : Nat) (hp : f_Mdl_command_b98 l0 l1 l2 l3 l4 l5 l6 t0 h = some res) (hH : x_S s0 D R h H locs cells slots) (hl : lv_has ls 11 [(0, .ref l0), (1, .int l1), (2, .int l2), (3, .int l3), (4, .int l4), (5, .int l5), (6, .int l6)]) : W p l e R s m args below meth c H locs cells slots (x_Q s0 D below s R (x_oc vJ res.1) res.2) (F0 m 98 ls [.ref t0]) := by
  obtain ⟨hx, hb, hown, hts, hK, hml, hW, Z, -⟩ := id C
  unfold f_Mdl_command_b98 at hp
  refine lv_iconst (v := 2) hx hb d_Mdl_command_98 (by decide) ?_
  refine lv_goto (tgt := 120) hx hb d_Mdl_command_99 (by decide) ?_
  exact w_Mdl_command_120 C hr hnm hRf hRl  l0 l1 l2 l3 l4 l5 l6 2 t0 hp hH (lv_sub hl [0, 1, 2, 3, 4, 5, 6] rfl)
set_option maxHeartbeats 4000000 in
set_option maxRecDepth 100000 in
theorem w_Mdl_command_61 {res : (Int64 ⊕ (Nat × Nat)) × xH} (C : x_C l s0 A0 D R_Mdl prog_11_method_15_code 11 [] p s m args meth c) (hr : meth.sig.returnType = (some .long)) (hnm : meth.name = "command") (hRf : 2 ≤ R.frames) (hRl : 61 ≤ R.locals)  (l0 : Nat) (l1 : Int32) (l2 : Int32) (l3 : Int32) (l4 : Int32) (l5 : Int32) (l6 : Int32) (t0 : Int32) (hp : f_Mdl_command_b61 l0 l1 l2 l3 l4 l5 l6 t0 h = some res) (hH : x_S s0 D R h H locs cells slots) (hl : lv_has ls 11 [(0, .ref l0), (1, .int l1), (2, .int l2), (3, .int l3), (4, .int l4), (5, .int l5), (6, .int l6)]) : W p l e R s m args below meth c H locs cells slots (x_Q s0 D below s R (x_oc vJ res.1) res.2) (F0 m 61 ls [.int t0]) := by
  obtain ⟨hx, hb, hown, hts, hK, hml, hW, Z, -⟩ := id C
  unfold f_Mdl_command_b61 at hp
  refine lv_istore (lv' := [(7, .int t0), (0, .ref l0), (1, .int l1), (2, .int l2), (3, .int l3), (4, .int l4), (5, .int l5), (6, .int l6)]) hx hb d_Mdl_command_61 hl (by decide) rfl (fun ls hl => ?_)
  refine lv_aload_n hx hb d_Mdl_command_63 rfl (lv_at hl 1 rfl) ?_
  refine lv_iload hx hb d_Mdl_command_64 (lv_at hl 0 rfl) ?_
  refine lv_if_ne (tgt := 73) hx hb d_Mdl_command_66 (by decide) (fun hc => ?_) (fun hc => ?_)
  · replace hp := x_ifn hc hp
    refine lv_iload_n hx hb d_Mdl_command_73 rfl (lv_at hl 3 rfl) ?_
    refine lv_i2l (v := l2.toInt64) hx hb d_Mdl_command_74 rfl ?_
    refine lv_lconst (v := 0) hx hb d_Mdl_command_75 (by decide) ?_
    refine lv_ldc2 hx hb hown (hts _ k_905) d_Mdl_command_76 ?_
    refine x_callS (As := [.long l2.toInt64, .long 0, .long 4]) (rest := [.ref l0]) (cv := vI) C hH kc_Mdl_148 d_Mdl_command_79 hp (fun o h' e => m_Mdl_in Z e) rfl hl.1 (Nat.le_trans (Nat.le_of_ble_eq_true rfl) hRf) (Nat.le_trans (Nat.le_of_ble_eq_true rfl) hRl) (Nat.le_of_ble_eq_true rfl) (fun v1 h H locs cells slots hp hH => ?_)
    refine W.eq (g2 := F0 m 82 ls [.int v1, .ref l0]) rfl ?_
    refine lv_if_eq (tgt := 98) hx hb d_Mdl_command_82 (by decide) (fun hc => ?_) (fun hc => ?_)
    · replace hp := x_ifp hc hp
      exact w_Mdl_command_98 C hr hnm hRf hRl  l0 l1 l2 l3 l4 l5 l6 l0 hp hH (lv_sub hl [1, 2, 3, 4, 5, 6, 7] rfl)
    · replace hp := x_ifn hc hp
      refine lv_iload hx hb d_Mdl_command_85 (lv_at hl 6 rfl) ?_
      refine lv_i2l (v := l5.toInt64) hx hb d_Mdl_command_87 rfl ?_
      refine lv_lconst (v := 1) hx hb d_Mdl_command_88 (by decide) ?_
      refine lv_ldc2 hx hb hown (hts _ k_906) d_Mdl_command_89 ?_
      refine x_callS (As := [.long l5.toInt64, .long 1, .long 1000]) (rest := [.ref l0]) (cv := vI) C hH kc_Mdl_148 d_Mdl_command_92 hp (fun o h' e => m_Mdl_in Z e) rfl hl.1 (Nat.le_trans (Nat.le_of_ble_eq_true rfl) hRf) (Nat.le_trans (Nat.le_of_ble_eq_true rfl) hRl) (Nat.le_of_ble_eq_true rfl) (fun v2 h H locs cells slots hp hH => ?_)
      refine W.eq (g2 := F0 m 95 ls [.int v2, .ref l0]) rfl ?_
      refine lv_if_ne (tgt := 102) hx hb d_Mdl_command_95 (by decide) (fun hc => ?_) (fun hc => ?_)
      · replace hp := x_ifn hc hp
        refine lv_aload_n hx hb d_Mdl_command_102 rfl (lv_at hl 1 rfl) ?_
        refine x_gA C hH fl_Mdl_7 d_Mdl_command_103 hp (fun v3 hp => ?_)
        refine lv_iload hx hb d_Mdl_command_106 (lv_at hl 7 rfl) ?_
        refine x_lI C hH d_Mdl_command_108 hp (fun v4 hp => ?_)
        refine lv_sipush (v := 400) hx hb d_Mdl_command_109 (by decide) ?_
        refine lv_icmp_ne (tgt := 119) hx hb d_Mdl_command_112 (by decide) (fun hc => ?_) (fun hc => ?_)
        · replace hp := x_ifn hc hp
          refine lv_iconst (v := 0) hx hb d_Mdl_command_119 (by decide) ?_
          exact w_Mdl_command_120 C hr hnm hRf hRl  l0 l1 l2 l3 l4 l5 l6 0 l0 hp hH (lv_sub hl [1, 2, 3, 4, 5, 6, 7] rfl)
        · replace hp := x_ifp hc hp
          refine lv_iconst (v := 3) hx hb d_Mdl_command_115 (by decide) ?_
          refine lv_goto (tgt := 120) hx hb d_Mdl_command_116 (by decide) ?_
          exact w_Mdl_command_120 C hr hnm hRf hRl  l0 l1 l2 l3 l4 l5 l6 3 l0 hp hH (lv_sub hl [1, 2, 3, 4, 5, 6, 7] rfl)
      · replace hp := x_ifp hc hp
        exact w_Mdl_command_98 C hr hnm hRf hRl  l0 l1 l2 l3 l4 l5 l6 l0 hp hH (lv_sub hl [1, 2, 3, 4, 5, 6, 7] rfl)
  · replace hp := x_ifp hc hp
    refine lv_iconst (v := 1) hx hb d_Mdl_command_69 (by decide) ?_
    refine lv_goto (tgt := 120) hx hb d_Mdl_command_70 (by decide) ?_
    exact w_Mdl_command_120 C hr hnm hRf hRl  l0 l1 l2 l3 l4 l5 l6 1 l0 hp hH (lv_sub hl [1, 2, 3, 4, 5, 6, 7] rfl)
set_option maxHeartbeats 4000000 in
set_option maxRecDepth 100000 in
theorem w_Mdl_command_60 {res : (Int64 ⊕ (Nat × Nat)) × xH} (C : x_C l s0 A0 D R_Mdl prog_11_method_15_code 11 [] p s m args meth c) (hr : meth.sig.returnType = (some .long)) (hnm : meth.name = "command") (hRf : 2 ≤ R.frames) (hRl : 61 ≤ R.locals)  (l0 : Nat) (l1 : Int32) (l2 : Int32) (l3 : Int32) (l4 : Int32) (l5 : Int32) (l6 : Int32) (hp : f_Mdl_command_b60 l0 l1 l2 l3 l4 l5 l6 h = some res) (hH : x_S s0 D R h H locs cells slots) (hl : lv_has ls 11 [(0, .ref l0), (1, .int l1), (2, .int l2), (3, .int l3), (4, .int l4), (5, .int l5), (6, .int l6)]) : W p l e R s m args below meth c H locs cells slots (x_Q s0 D below s R (x_oc vJ res.1) res.2) (F0 m 60 ls []) := by
  obtain ⟨hx, hb, hown, hts, hK, hml, hW, Z, -⟩ := id C
  unfold f_Mdl_command_b60 at hp
  refine lv_iconst (v := 0) hx hb d_Mdl_command_60 (by decide) ?_
  exact w_Mdl_command_61 C hr hnm hRf hRl  l0 l1 l2 l3 l4 l5 l6 0 hp hH (lv_sub hl [0, 1, 2, 3, 4, 5, 6] rfl)
set_option maxHeartbeats 4000000 in
set_option maxRecDepth 100000 in
theorem w_Mdl_command_22 {res : (Int64 ⊕ (Nat × Nat)) × xH} (C : x_C l s0 A0 D R_Mdl prog_11_method_15_code 11 [] p s m args meth c) (hr : meth.sig.returnType = (some .long)) (hnm : meth.name = "command") (hRf : 2 ≤ R.frames) (hRl : 61 ≤ R.locals)  (l0 : Nat) (l1 : Int32) (l2 : Int32) (l3 : Int32) (l4 : Int32) (l5 : Int32) (t0 : Int32) (hp : f_Mdl_command_b22 l0 l1 l2 l3 l4 l5 t0 h = some res) (hH : x_S s0 D R h H locs cells slots) (hl : lv_has ls 11 [(0, .ref l0), (1, .int l1), (2, .int l2), (3, .int l3), (4, .int l4), (5, .int l5)]) : W p l e R s m args below meth c H locs cells slots (x_Q s0 D below s R (x_oc vJ res.1) res.2) (F0 m 22 ls [.int t0]) := by
  obtain ⟨hx, hb, hown, hts, hK, hml, hW, Z, -⟩ := id C
  unfold f_Mdl_command_b22 at hp
  refine lv_istore (lv' := [(6, .int t0), (0, .ref l0), (1, .int l1), (2, .int l2), (3, .int l3), (4, .int l4), (5, .int l5)]) hx hb d_Mdl_command_22 hl (by decide) rfl (fun ls hl => ?_)
  refine lv_iload_n hx hb d_Mdl_command_24 rfl (lv_at hl 2 rfl) ?_
  refine x_callS (As := [.int l1]) (rest := []) (cv := vI) C hH kc_Mdl_152 d_Mdl_command_25 hp (fun o h' e => m_Mdl_isSession Z e) rfl hl.1 (Nat.le_trans (Nat.le_of_ble_eq_true rfl) hRf) (Nat.le_trans (Nat.le_of_ble_eq_true rfl) hRl) (Nat.le_of_ble_eq_true rfl) (fun v1 h H locs cells slots hp hH => ?_)
  refine W.eq (g2 := F0 m 28 ls [.int v1]) rfl ?_
  refine lv_if_eq (tgt := 60) hx hb d_Mdl_command_28 (by decide) (fun hc => ?_) (fun hc => ?_)
  · replace hp := x_ifp hc hp
    exact w_Mdl_command_60 C hr hnm hRf hRl  l0 l1 l2 l3 l4 l5 t0 hp hH (lv_sub hl [1, 2, 3, 4, 5, 6, 0] rfl)
  · replace hp := x_ifn hc hp
    refine lv_iload_n hx hb d_Mdl_command_31 rfl (lv_at hl 4 rfl) ?_
    refine lv_i2l (v := l3.toInt64) hx hb d_Mdl_command_32 rfl ?_
    refine lv_lconst (v := 0) hx hb d_Mdl_command_33 (by decide) ?_
    refine lv_ldc2 hx hb hown (hts _ k_903) d_Mdl_command_34 ?_
    refine x_callS (As := [.long l3.toInt64, .long 0, .long 29]) (rest := []) (cv := vI) C hH kc_Mdl_148 d_Mdl_command_37 hp (fun o h' e => m_Mdl_in Z e) rfl hl.1 (Nat.le_trans (Nat.le_of_ble_eq_true rfl) hRf) (Nat.le_trans (Nat.le_of_ble_eq_true rfl) hRl) (Nat.le_of_ble_eq_true rfl) (fun v2 h H locs cells slots hp hH => ?_)
    refine W.eq (g2 := F0 m 40 ls [.int v2]) rfl ?_
    refine lv_if_eq (tgt := 60) hx hb d_Mdl_command_40 (by decide) (fun hc => ?_) (fun hc => ?_)
    · replace hp := x_ifp hc hp
      exact w_Mdl_command_60 C hr hnm hRf hRl  l0 l1 l2 l3 l4 l5 t0 hp hH (lv_sub hl [1, 2, 3, 4, 5, 6, 0] rfl)
    · replace hp := x_ifn hc hp
      refine lv_iload hx hb d_Mdl_command_43 (lv_at hl 5 rfl) ?_
      refine lv_i2l (v := l4.toInt64) hx hb d_Mdl_command_45 rfl ?_
      refine lv_lconst (v := 0) hx hb d_Mdl_command_46 (by decide) ?_
      refine lv_ldc2 hx hb hown (hts _ k_904) d_Mdl_command_47 ?_
      refine x_callS (As := [.long l4.toInt64, .long 0, .long 9]) (rest := []) (cv := vI) C hH kc_Mdl_148 d_Mdl_command_50 hp (fun o h' e => m_Mdl_in Z e) rfl hl.1 (Nat.le_trans (Nat.le_of_ble_eq_true rfl) hRf) (Nat.le_trans (Nat.le_of_ble_eq_true rfl) hRl) (Nat.le_of_ble_eq_true rfl) (fun v3 h H locs cells slots hp hH => ?_)
      refine W.eq (g2 := F0 m 53 ls [.int v3]) rfl ?_
      refine lv_if_eq (tgt := 60) hx hb d_Mdl_command_53 (by decide) (fun hc => ?_) (fun hc => ?_)
      · replace hp := x_ifp hc hp
        exact w_Mdl_command_60 C hr hnm hRf hRl  l0 l1 l2 l3 l4 l5 t0 hp hH (lv_sub hl [1, 2, 3, 4, 5, 6, 0] rfl)
      · replace hp := x_ifn hc hp
        refine lv_iconst (v := 1) hx hb d_Mdl_command_56 (by decide) ?_
        refine lv_goto (tgt := 61) hx hb d_Mdl_command_57 (by decide) ?_
        exact w_Mdl_command_61 C hr hnm hRf hRl  l0 l1 l2 l3 l4 l5 t0 1 hp hH (lv_sub hl [1, 2, 3, 4, 5, 6, 0] rfl)
set_option maxHeartbeats 4000000 in
set_option maxRecDepth 100000 in
theorem w_Mdl_command_0 {res : (Int64 ⊕ (Nat × Nat)) × xH} (C : x_C l s0 A0 D R_Mdl prog_11_method_15_code 11 [] p s m args meth c) (hr : meth.sig.returnType = (some .long)) (hnm : meth.name = "command") (hRf : 2 ≤ R.frames) (hRl : 61 ≤ R.locals)  (l0 : Nat) (l1 : Int32) (l2 : Int32) (l3 : Int32) (l4 : Int32) (l5 : Int32) (hp : f_Mdl_command l0 l1 l2 l3 l4 l5 h = some res) (hH : x_S s0 D R h H locs cells slots) (hl : lv_has ls 11 [(0, .ref l0), (1, .int l1), (2, .int l2), (3, .int l3), (4, .int l4), (5, .int l5)]) : W p l e R s m args below meth c H locs cells slots (x_Q s0 D below s R (x_oc vJ res.1) res.2) (F0 m 0 ls []) := by
  obtain ⟨hx, hb, hown, hts, hK, hml, hW, Z, -⟩ := id C
  unfold f_Mdl_command at hp
  refine lv_iload_n hx hb d_Mdl_command_0 rfl (lv_at hl 3 rfl) ?_
  refine lv_i2l (v := l3.toInt64) hx hb d_Mdl_command_1 rfl ?_
  refine lv_lconst (v := 0) hx hb d_Mdl_command_2 (by decide) ?_
  refine lv_ldc2 hx hb hown (hts _ k_903) d_Mdl_command_3 ?_
  refine x_callS (As := [.long l3.toInt64, .long 0, .long 29]) (rest := []) (cv := vI) C hH kc_Mdl_148 d_Mdl_command_6 hp (fun o h' e => m_Mdl_in Z e) rfl hl.1 (Nat.le_trans (Nat.le_of_ble_eq_true rfl) hRf) (Nat.le_trans (Nat.le_of_ble_eq_true rfl) hRl) (Nat.le_of_ble_eq_true rfl) (fun v1 h H locs cells slots hp hH => ?_)
  refine W.eq (g2 := F0 m 9 ls [.int v1]) rfl ?_
  refine lv_if_eq (tgt := 21) hx hb d_Mdl_command_9 (by decide) (fun hc => ?_) (fun hc => ?_)
  · replace hp := x_ifp hc hp
    refine lv_iconst (v := 0) hx hb d_Mdl_command_21 (by decide) ?_
    exact w_Mdl_command_22 C hr hnm hRf hRl  l0 l1 l2 l3 l4 l5 0 hp hH (lv_sub hl [0, 1, 2, 3, 4, 5] rfl)
  · replace hp := x_ifn hc hp
    refine lv_iload_n hx hb d_Mdl_command_12 rfl (lv_at hl 3 rfl) ?_
    refine lv_aload_n hx hb d_Mdl_command_13 rfl (lv_at hl 0 rfl) ?_
    refine x_gI C hH fl_Mdl_114 d_Mdl_command_14 hp (fun v2 hp => ?_)
    obtain ⟨hz, hp⟩ := rI_i hp
    refine lv_irem hx hb d_Mdl_command_17 hz ?_
    generalize ev3 : l3 - l3 / v2 * v2 = v3 at hp ⊢
    refine lv_goto (tgt := 22) hx hb d_Mdl_command_18 (by decide) ?_
    exact w_Mdl_command_22 C hr hnm hRf hRl  l0 l1 l2 l3 l4 l5 v3 hp hH (lv_sub hl [0, 1, 2, 3, 4, 5] rfl)
set_option maxRecDepth 100000 in
theorem m_Mdl_command (Z : x_Z l s0 A0 D) {l0 : Nat} {l1 : Int32} {l2 : Int32} {l3 : Int32} {l4 : Int32} {l5 : Int32} {res : (Int64 ⊕ (Nat × Nat)) × xH} (hp : f_Mdl_command l0 l1 l2 l3 l4 l5 h = some res) : x_M l s0 D y_Mdl_command (x_cw y_Mdl_command prog_11_method_15_code 11 (some .long) []) 2 61 [.ref l0, .int l1, .int l2, .int l3, .int l4, .int l5] h (x_oc vJ res.1) res.2 := by
  refine x_M.ofW Z (plainFor_of_name (by decide)) ?_
  intro p e s m below meth c C hnm hr hH
  have hl := lv_entry ([.ref l0, .int l1, .int l2, .int l3, .int l4, .int l5]) (n := 11) (Nat.le_of_ble_eq_true rfl)
  rw [lg_entry_eq]
  generalize (lg_sl ([.ref l0, .int l1, .int l2, .int l3, .int l4, .int l5]) ++ List.replicate (11 - (lg_sl ([.ref l0, .int l1, .int l2, .int l3, .int l4, .int l5])).length) Slot.unset).toArray = ls at hl ⊢
  exact w_Mdl_command_0 C hr hnm (Nat.le_refl _) (Nat.le_refl _) l0 l1 l2 l3 l4 l5 hp hH hl
/-! ReadSideModel.lesser(II)I -/
theorem d_Mdl_lesser_0 : decode prog_11_method_2_code 0 = .ok (.iload_n 0, 1) := by decide +kernel
theorem d_Mdl_lesser_1 : decode prog_11_method_2_code 1 = .ok (.iload_n 1, 1) := by decide +kernel
theorem d_Mdl_lesser_2 : decode prog_11_method_2_code 2 = .ok (.if_icmp .ge 7, 3) := by decide +kernel
theorem d_Mdl_lesser_5 : decode prog_11_method_2_code 5 = .ok (.iload_n 0, 1) := by decide +kernel
theorem d_Mdl_lesser_6 : decode prog_11_method_2_code 6 = .ok (.goto 4, 3) := by decide +kernel
theorem d_Mdl_lesser_9 : decode prog_11_method_2_code 9 = .ok (.iload_n 1, 1) := by decide +kernel
theorem d_Mdl_lesser_10 : decode prog_11_method_2_code 10 = .ok (.ireturn, 1) := by decide +kernel
set_option maxHeartbeats 4000000 in
set_option maxRecDepth 100000 in
theorem w_Mdl_lesser_10 {res : (Int32 ⊕ (Nat × Nat)) × xH} (C : x_C l s0 A0 D R_Mdl prog_11_method_2_code 2 [] p s m args meth c) (hr : meth.sig.returnType = (some .int)) (hnm : meth.name = "lesser") (hRf : 0 ≤ R.frames) (hRl : 0 ≤ R.locals)  (t0 : Int32) (hp : f_Mdl_lesser_b10 t0 h = some res) (hH : x_S s0 D R h H locs cells slots) (hl : lv_has ls 2 []) : W p l e R s m args below meth c H locs cells slots (x_Q s0 D below s R (x_oc vI res.1) res.2) (F0 m 10 ls [.int t0]) := by
  obtain ⟨hx, hb, hown, hts, hK, hml, hW, Z, -⟩ := id C
  unfold f_Mdl_lesser_b10 at hp
  exact x_iret C hH hr d_Mdl_lesser_10 hp
set_option maxHeartbeats 4000000 in
set_option maxRecDepth 100000 in
theorem w_Mdl_lesser_0 {res : (Int32 ⊕ (Nat × Nat)) × xH} (C : x_C l s0 A0 D R_Mdl prog_11_method_2_code 2 [] p s m args meth c) (hr : meth.sig.returnType = (some .int)) (hnm : meth.name = "lesser") (hRf : 0 ≤ R.frames) (hRl : 0 ≤ R.locals)  (l0 : Int32) (l1 : Int32) (hp : f_Mdl_lesser l0 l1 h = some res) (hH : x_S s0 D R h H locs cells slots) (hl : lv_has ls 2 [(0, .int l0), (1, .int l1)]) : W p l e R s m args below meth c H locs cells slots (x_Q s0 D below s R (x_oc vI res.1) res.2) (F0 m 0 ls []) := by
  obtain ⟨hx, hb, hown, hts, hK, hml, hW, Z, -⟩ := id C
  unfold f_Mdl_lesser at hp
  refine lv_iload_n hx hb d_Mdl_lesser_0 rfl (lv_at hl 0 rfl) ?_
  refine lv_iload_n hx hb d_Mdl_lesser_1 rfl (lv_at hl 1 rfl) ?_
  refine lv_icmp_ge (tgt := 9) hx hb d_Mdl_lesser_2 (by decide) (fun hc => ?_) (fun hc => ?_)
  · replace hp := x_ifp hc hp
    refine lv_iload_n hx hb d_Mdl_lesser_9 rfl (lv_at hl 1 rfl) ?_
    exact w_Mdl_lesser_10 C hr hnm hRf hRl  l1 hp hH (lv_sub hl [] rfl)
  · replace hp := x_ifn hc hp
    refine lv_iload_n hx hb d_Mdl_lesser_5 rfl (lv_at hl 0 rfl) ?_
    refine lv_goto (tgt := 10) hx hb d_Mdl_lesser_6 (by decide) ?_
    exact w_Mdl_lesser_10 C hr hnm hRf hRl  l0 hp hH (lv_sub hl [] rfl)
set_option maxRecDepth 100000 in
theorem m_Mdl_lesser (Z : x_Z l s0 A0 D) {l0 : Int32} {l1 : Int32} {res : (Int32 ⊕ (Nat × Nat)) × xH} (hp : f_Mdl_lesser l0 l1 h = some res) : x_M l s0 D y_Mdl_lesser (x_cw y_Mdl_lesser prog_11_method_2_code 2 (some .int) []) 0 0 [.int l0, .int l1] h (x_oc vI res.1) res.2 := by
  refine x_M.ofW Z (plainFor_of_name (by decide)) ?_
  intro p e s m below meth c C hnm hr hH
  have hl := lv_entry ([.int l0, .int l1]) (n := 2) (Nat.le_of_ble_eq_true rfl)
  rw [lg_entry_eq]
  generalize (lg_sl ([.int l0, .int l1]) ++ List.replicate (2 - (lg_sl ([.int l0, .int l1])).length) Slot.unset).toArray = ls at hl ⊢
  exact w_Mdl_lesser_0 C hr hnm (Nat.le_refl _) (Nat.le_refl _) l0 l1 hp hH hl
/-! ReadSideModel.take(II)V -/
theorem d_Mdl_take_0 : decode prog_11_method_16_code 0 = .ok (.bipush 30, 2) := by decide +kernel
theorem d_Mdl_take_2 : decode prog_11_method_16_code 2 = .ok (.iload_n 1, 1) := by decide +kernel
theorem d_Mdl_take_3 : decode prog_11_method_16_code 3 = .ok (.imul, 1) := by decide +kernel
theorem d_Mdl_take_4 : decode prog_11_method_16_code 4 = .ok (.aload_n 0, 1) := by decide +kernel
theorem d_Mdl_take_5 : decode prog_11_method_16_code 5 = .ok (.getfield 19, 3) := by decide +kernel
theorem d_Mdl_take_8 : decode prog_11_method_16_code 8 = .ok (.iload_n 2, 1) := by decide +kernel
theorem d_Mdl_take_9 : decode prog_11_method_16_code 9 = .ok (.iaload, 1) := by decide +kernel
theorem d_Mdl_take_10 : decode prog_11_method_16_code 10 = .ok (.iadd, 1) := by decide +kernel
theorem d_Mdl_take_11 : decode prog_11_method_16_code 11 = .ok (.istore_n 3, 1) := by decide +kernel
theorem d_Mdl_take_12 : decode prog_11_method_16_code 12 = .ok (.bipush 10, 2) := by decide +kernel
theorem d_Mdl_take_14 : decode prog_11_method_16_code 14 = .ok (.iload_n 1, 1) := by decide +kernel
theorem d_Mdl_take_15 : decode prog_11_method_16_code 15 = .ok (.imul, 1) := by decide +kernel
theorem d_Mdl_take_16 : decode prog_11_method_16_code 16 = .ok (.aload_n 0, 1) := by decide +kernel
theorem d_Mdl_take_17 : decode prog_11_method_16_code 17 = .ok (.getfield 22, 3) := by decide +kernel
theorem d_Mdl_take_20 : decode prog_11_method_16_code 20 = .ok (.iload_n 2, 1) := by decide +kernel
theorem d_Mdl_take_21 : decode prog_11_method_16_code 21 = .ok (.iaload, 1) := by decide +kernel
theorem d_Mdl_take_22 : decode prog_11_method_16_code 22 = .ok (.iadd, 1) := by decide +kernel
theorem d_Mdl_take_23 : decode prog_11_method_16_code 23 = .ok (.istore 4, 2) := by decide +kernel
theorem d_Mdl_take_25 : decode prog_11_method_16_code 25 = .ok (.bipush 30, 2) := by decide +kernel
theorem d_Mdl_take_27 : decode prog_11_method_16_code 27 = .ok (.iload 4, 2) := by decide +kernel
theorem d_Mdl_take_29 : decode prog_11_method_16_code 29 = .ok (.imul, 1) := by decide +kernel
theorem d_Mdl_take_30 : decode prog_11_method_16_code 30 = .ok (.aload_n 0, 1) := by decide +kernel
theorem d_Mdl_take_31 : decode prog_11_method_16_code 31 = .ok (.getfield 19, 3) := by decide +kernel
theorem d_Mdl_take_34 : decode prog_11_method_16_code 34 = .ok (.iload_n 2, 1) := by decide +kernel
theorem d_Mdl_take_35 : decode prog_11_method_16_code 35 = .ok (.iaload, 1) := by decide +kernel
theorem d_Mdl_take_36 : decode prog_11_method_16_code 36 = .ok (.iadd, 1) := by decide +kernel
theorem d_Mdl_take_37 : decode prog_11_method_16_code 37 = .ok (.istore 5, 2) := by decide +kernel
theorem d_Mdl_take_39 : decode prog_11_method_16_code 39 = .ok (.aload_n 0, 1) := by decide +kernel
theorem d_Mdl_take_40 : decode prog_11_method_16_code 40 = .ok (.getfield 25, 3) := by decide +kernel
theorem d_Mdl_take_43 : decode prog_11_method_16_code 43 = .ok (.iload_n 2, 1) := by decide +kernel
theorem d_Mdl_take_44 : decode prog_11_method_16_code 44 = .ok (.iaload, 1) := by decide +kernel
theorem d_Mdl_take_45 : decode prog_11_method_16_code 45 = .ok (.istore 6, 2) := by decide +kernel
theorem d_Mdl_take_47 : decode prog_11_method_16_code 47 = .ok (.aload_n 0, 1) := by decide +kernel
theorem d_Mdl_take_48 : decode prog_11_method_16_code 48 = .ok (.getfield 16, 3) := by decide +kernel
theorem d_Mdl_take_51 : decode prog_11_method_16_code 51 = .ok (.iload_n 2, 1) := by decide +kernel
theorem d_Mdl_take_52 : decode prog_11_method_16_code 52 = .ok (.iaload, 1) := by decide +kernel
theorem d_Mdl_take_53 : decode prog_11_method_16_code 53 = .ok (.tableswitch 241 0 3 #[31, 59, 117, 201], 31) := by decide +kernel
theorem d_Mdl_take_84 : decode prog_11_method_16_code 84 = .ok (.aload_n 0, 1) := by decide +kernel
theorem d_Mdl_take_85 : decode prog_11_method_16_code 85 = .ok (.getfield 31, 3) := by decide +kernel
theorem d_Mdl_take_88 : decode prog_11_method_16_code 88 = .ok (.iload_n 3, 1) := by decide +kernel
theorem d_Mdl_take_89 : decode prog_11_method_16_code 89 = .ok (.iaload, 1) := by decide +kernel
theorem d_Mdl_take_90 : decode prog_11_method_16_code 90 = .ok (.iload 6, 2) := by decide +kernel
theorem d_Mdl_take_92 : decode prog_11_method_16_code 92 = .ok (.iadd, 1) := by decide +kernel
theorem d_Mdl_take_93 : decode prog_11_method_16_code 93 = .ok (.ldc 181, 2) := by decide +kernel
theorem d_Mdl_take_95 : decode prog_11_method_16_code 95 = .ok (.if_icmp .gt 207, 3) := by decide +kernel
theorem d_Mdl_take_98 : decode prog_11_method_16_code 98 = .ok (.aload_n 0, 1) := by decide +kernel
theorem d_Mdl_take_99 : decode prog_11_method_16_code 99 = .ok (.getfield 31, 3) := by decide +kernel
theorem d_Mdl_take_102 : decode prog_11_method_16_code 102 = .ok (.iload_n 3, 1) := by decide +kernel
theorem d_Mdl_take_103 : decode prog_11_method_16_code 103 = .ok (.dup2, 1) := by decide +kernel
theorem d_Mdl_take_104 : decode prog_11_method_16_code 104 = .ok (.iaload, 1) := by decide +kernel
theorem d_Mdl_take_105 : decode prog_11_method_16_code 105 = .ok (.iload 6, 2) := by decide +kernel
theorem d_Mdl_take_107 : decode prog_11_method_16_code 107 = .ok (.iadd, 1) := by decide +kernel
theorem d_Mdl_take_108 : decode prog_11_method_16_code 108 = .ok (.iastore, 1) := by decide +kernel
theorem d_Mdl_take_109 : decode prog_11_method_16_code 109 = .ok (.goto 193, 3) := by decide +kernel
theorem d_Mdl_take_112 : decode prog_11_method_16_code 112 = .ok (.aload_n 0, 1) := by decide +kernel
theorem d_Mdl_take_113 : decode prog_11_method_16_code 113 = .ok (.getfield 31, 3) := by decide +kernel
theorem d_Mdl_take_116 : decode prog_11_method_16_code 116 = .ok (.iload_n 3, 1) := by decide +kernel
theorem d_Mdl_take_117 : decode prog_11_method_16_code 117 = .ok (.iaload, 1) := by decide +kernel
theorem d_Mdl_take_118 : decode prog_11_method_16_code 118 = .ok (.aload_n 0, 1) := by decide +kernel
theorem d_Mdl_take_119 : decode prog_11_method_16_code 119 = .ok (.getfield 34, 3) := by decide +kernel
theorem d_Mdl_take_122 : decode prog_11_method_16_code 122 = .ok (.iload_n 3, 1) := by decide +kernel
theorem d_Mdl_take_123 : decode prog_11_method_16_code 123 = .ok (.iaload, 1) := by decide +kernel
theorem d_Mdl_take_124 : decode prog_11_method_16_code 124 = .ok (.isub, 1) := by decide +kernel
theorem d_Mdl_take_125 : decode prog_11_method_16_code 125 = .ok (.iload 6, 2) := by decide +kernel
theorem d_Mdl_take_127 : decode prog_11_method_16_code 127 = .ok (.if_icmp .lt 29, 3) := by decide +kernel
theorem d_Mdl_take_130 : decode prog_11_method_16_code 130 = .ok (.aload_n 0, 1) := by decide +kernel
theorem d_Mdl_take_131 : decode prog_11_method_16_code 131 = .ok (.getfield 43, 3) := by decide +kernel
theorem d_Mdl_take_134 : decode prog_11_method_16_code 134 = .ok (.iload 5, 2) := by decide +kernel
theorem d_Mdl_take_136 : decode prog_11_method_16_code 136 = .ok (.dup2, 1) := by decide +kernel
theorem d_Mdl_take_137 : decode prog_11_method_16_code 137 = .ok (.iaload, 1) := by decide +kernel
theorem d_Mdl_take_138 : decode prog_11_method_16_code 138 = .ok (.iload 6, 2) := by decide +kernel
theorem d_Mdl_take_140 : decode prog_11_method_16_code 140 = .ok (.iadd, 1) := by decide +kernel
theorem d_Mdl_take_141 : decode prog_11_method_16_code 141 = .ok (.iastore, 1) := by decide +kernel
theorem d_Mdl_take_142 : decode prog_11_method_16_code 142 = .ok (.aload_n 0, 1) := by decide +kernel
theorem d_Mdl_take_143 : decode prog_11_method_16_code 143 = .ok (.getfield 34, 3) := by decide +kernel
theorem d_Mdl_take_146 : decode prog_11_method_16_code 146 = .ok (.iload_n 3, 1) := by decide +kernel
theorem d_Mdl_take_147 : decode prog_11_method_16_code 147 = .ok (.dup2, 1) := by decide +kernel
theorem d_Mdl_take_148 : decode prog_11_method_16_code 148 = .ok (.iaload, 1) := by decide +kernel
theorem d_Mdl_take_149 : decode prog_11_method_16_code 149 = .ok (.iload 6, 2) := by decide +kernel
theorem d_Mdl_take_151 : decode prog_11_method_16_code 151 = .ok (.iadd, 1) := by decide +kernel
theorem d_Mdl_take_152 : decode prog_11_method_16_code 152 = .ok (.iastore, 1) := by decide +kernel
theorem d_Mdl_take_153 : decode prog_11_method_16_code 153 = .ok (.goto 149, 3) := by decide +kernel
theorem d_Mdl_take_156 : decode prog_11_method_16_code 156 = .ok (.aload_n 0, 1) := by decide +kernel
theorem d_Mdl_take_157 : decode prog_11_method_16_code 157 = .ok (.getfield 50, 3) := by decide +kernel
theorem d_Mdl_take_160 : decode prog_11_method_16_code 160 = .ok (.iload 4, 2) := by decide +kernel
theorem d_Mdl_take_162 : decode prog_11_method_16_code 162 = .ok (.dup2, 1) := by decide +kernel
theorem d_Mdl_take_163 : decode prog_11_method_16_code 163 = .ok (.iaload, 1) := by decide +kernel
theorem d_Mdl_take_164 : decode prog_11_method_16_code 164 = .ok (.iconst 1, 1) := by decide +kernel
theorem d_Mdl_take_165 : decode prog_11_method_16_code 165 = .ok (.iadd, 1) := by decide +kernel
theorem d_Mdl_take_166 : decode prog_11_method_16_code 166 = .ok (.iastore, 1) := by decide +kernel
theorem d_Mdl_take_167 : decode prog_11_method_16_code 167 = .ok (.goto 135, 3) := by decide +kernel
theorem d_Mdl_take_170 : decode prog_11_method_16_code 170 = .ok (.aload_n 0, 1) := by decide +kernel
theorem d_Mdl_take_171 : decode prog_11_method_16_code 171 = .ok (.getfield 43, 3) := by decide +kernel
theorem d_Mdl_take_174 : decode prog_11_method_16_code 174 = .ok (.iload 5, 2) := by decide +kernel
theorem d_Mdl_take_176 : decode prog_11_method_16_code 176 = .ok (.iaload, 1) := by decide +kernel
theorem d_Mdl_take_177 : decode prog_11_method_16_code 177 = .ok (.iload 6, 2) := by decide +kernel
theorem d_Mdl_take_179 : decode prog_11_method_16_code 179 = .ok (.if_icmp .ge 6, 3) := by decide +kernel
theorem d_Mdl_take_182 : decode prog_11_method_16_code 182 = .ok (.goto 120, 3) := by decide +kernel
theorem d_Mdl_take_185 : decode prog_11_method_16_code 185 = .ok (.aload_n 0, 1) := by decide +kernel
theorem d_Mdl_take_186 : decode prog_11_method_16_code 186 = .ok (.getfield 43, 3) := by decide +kernel
theorem d_Mdl_take_189 : decode prog_11_method_16_code 189 = .ok (.iload 5, 2) := by decide +kernel
theorem d_Mdl_take_191 : decode prog_11_method_16_code 191 = .ok (.dup2, 1) := by decide +kernel
theorem d_Mdl_take_192 : decode prog_11_method_16_code 192 = .ok (.iaload, 1) := by decide +kernel
theorem d_Mdl_take_193 : decode prog_11_method_16_code 193 = .ok (.iload 6, 2) := by decide +kernel
theorem d_Mdl_take_195 : decode prog_11_method_16_code 195 = .ok (.isub, 1) := by decide +kernel
theorem d_Mdl_take_196 : decode prog_11_method_16_code 196 = .ok (.iastore, 1) := by decide +kernel
theorem d_Mdl_take_197 : decode prog_11_method_16_code 197 = .ok (.aload_n 0, 1) := by decide +kernel
theorem d_Mdl_take_198 : decode prog_11_method_16_code 198 = .ok (.getfield 34, 3) := by decide +kernel
theorem d_Mdl_take_201 : decode prog_11_method_16_code 201 = .ok (.iload_n 3, 1) := by decide +kernel
theorem d_Mdl_take_202 : decode prog_11_method_16_code 202 = .ok (.dup2, 1) := by decide +kernel
theorem d_Mdl_take_203 : decode prog_11_method_16_code 203 = .ok (.iaload, 1) := by decide +kernel
theorem d_Mdl_take_204 : decode prog_11_method_16_code 204 = .ok (.iload 6, 2) := by decide +kernel
theorem d_Mdl_take_206 : decode prog_11_method_16_code 206 = .ok (.isub, 1) := by decide +kernel
theorem d_Mdl_take_207 : decode prog_11_method_16_code 207 = .ok (.iastore, 1) := by decide +kernel
theorem d_Mdl_take_208 : decode prog_11_method_16_code 208 = .ok (.aload_n 0, 1) := by decide +kernel
theorem d_Mdl_take_209 : decode prog_11_method_16_code 209 = .ok (.getfield 31, 3) := by decide +kernel
theorem d_Mdl_take_212 : decode prog_11_method_16_code 212 = .ok (.iload_n 3, 1) := by decide +kernel
theorem d_Mdl_take_213 : decode prog_11_method_16_code 213 = .ok (.dup2, 1) := by decide +kernel
theorem d_Mdl_take_214 : decode prog_11_method_16_code 214 = .ok (.iaload, 1) := by decide +kernel
theorem d_Mdl_take_215 : decode prog_11_method_16_code 215 = .ok (.iload 6, 2) := by decide +kernel
theorem d_Mdl_take_217 : decode prog_11_method_16_code 217 = .ok (.isub, 1) := by decide +kernel
theorem d_Mdl_take_218 : decode prog_11_method_16_code 218 = .ok (.iastore, 1) := by decide +kernel
theorem d_Mdl_take_219 : decode prog_11_method_16_code 219 = .ok (.aload_n 0, 1) := by decide +kernel
theorem d_Mdl_take_220 : decode prog_11_method_16_code 220 = .ok (.getfield 37, 3) := by decide +kernel
theorem d_Mdl_take_223 : decode prog_11_method_16_code 223 = .ok (.iload_n 3, 1) := by decide +kernel
theorem d_Mdl_take_224 : decode prog_11_method_16_code 224 = .ok (.dup2, 1) := by decide +kernel
theorem d_Mdl_take_225 : decode prog_11_method_16_code 225 = .ok (.iaload, 1) := by decide +kernel
theorem d_Mdl_take_226 : decode prog_11_method_16_code 226 = .ok (.iload 6, 2) := by decide +kernel
theorem d_Mdl_take_228 : decode prog_11_method_16_code 228 = .ok (.iadd, 1) := by decide +kernel
theorem d_Mdl_take_229 : decode prog_11_method_16_code 229 = .ok (.iastore, 1) := by decide +kernel
theorem d_Mdl_take_230 : decode prog_11_method_16_code 230 = .ok (.aload_n 0, 1) := by decide +kernel
theorem d_Mdl_take_231 : decode prog_11_method_16_code 231 = .ok (.getfield 46, 3) := by decide +kernel
theorem d_Mdl_take_234 : decode prog_11_method_16_code 234 = .ok (.iload 4, 2) := by decide +kernel
theorem d_Mdl_take_236 : decode prog_11_method_16_code 236 = .ok (.dup2, 1) := by decide +kernel
theorem d_Mdl_take_237 : decode prog_11_method_16_code 237 = .ok (.laload, 1) := by decide +kernel
theorem d_Mdl_take_238 : decode prog_11_method_16_code 238 = .ok (.iload 6, 2) := by decide +kernel
theorem d_Mdl_take_240 : decode prog_11_method_16_code 240 = .ok (.i2l, 1) := by decide +kernel
theorem d_Mdl_take_241 : decode prog_11_method_16_code 241 = .ok (.aload_n 0, 1) := by decide +kernel
theorem d_Mdl_take_242 : decode prog_11_method_16_code 242 = .ok (.getfield 40, 3) := by decide +kernel
theorem d_Mdl_take_245 : decode prog_11_method_16_code 245 = .ok (.iload_n 3, 1) := by decide +kernel
theorem d_Mdl_take_246 : decode prog_11_method_16_code 246 = .ok (.iaload, 1) := by decide +kernel
theorem d_Mdl_take_247 : decode prog_11_method_16_code 247 = .ok (.i2l, 1) := by decide +kernel
theorem d_Mdl_take_248 : decode prog_11_method_16_code 248 = .ok (.lmul, 1) := by decide +kernel
theorem d_Mdl_take_249 : decode prog_11_method_16_code 249 = .ok (.ladd, 1) := by decide +kernel
theorem d_Mdl_take_250 : decode prog_11_method_16_code 250 = .ok (.lastore, 1) := by decide +kernel
theorem d_Mdl_take_251 : decode prog_11_method_16_code 251 = .ok (.goto 51, 3) := by decide +kernel
theorem d_Mdl_take_254 : decode prog_11_method_16_code 254 = .ok (.iload 6, 2) := by decide +kernel
theorem d_Mdl_take_256 : decode prog_11_method_16_code 256 = .ok (.aload_n 0, 1) := by decide +kernel
theorem d_Mdl_take_257 : decode prog_11_method_16_code 257 = .ok (.getfield 43, 3) := by decide +kernel
theorem d_Mdl_take_260 : decode prog_11_method_16_code 260 = .ok (.iload 5, 2) := by decide +kernel
theorem d_Mdl_take_262 : decode prog_11_method_16_code 262 = .ok (.iaload, 1) := by decide +kernel
theorem d_Mdl_take_263 : decode prog_11_method_16_code 263 = .ok (.invokestatic 182, 3) := by decide +kernel
theorem d_Mdl_take_266 : decode prog_11_method_16_code 266 = .ok (.istore 7, 2) := by decide +kernel
theorem d_Mdl_take_268 : decode prog_11_method_16_code 268 = .ok (.aload_n 0, 1) := by decide +kernel
theorem d_Mdl_take_269 : decode prog_11_method_16_code 269 = .ok (.getfield 43, 3) := by decide +kernel
theorem d_Mdl_take_272 : decode prog_11_method_16_code 272 = .ok (.iload 5, 2) := by decide +kernel
theorem d_Mdl_take_274 : decode prog_11_method_16_code 274 = .ok (.dup2, 1) := by decide +kernel
theorem d_Mdl_take_275 : decode prog_11_method_16_code 275 = .ok (.iaload, 1) := by decide +kernel
theorem d_Mdl_take_276 : decode prog_11_method_16_code 276 = .ok (.iload 7, 2) := by decide +kernel
theorem d_Mdl_take_278 : decode prog_11_method_16_code 278 = .ok (.isub, 1) := by decide +kernel
theorem d_Mdl_take_279 : decode prog_11_method_16_code 279 = .ok (.iastore, 1) := by decide +kernel
theorem d_Mdl_take_280 : decode prog_11_method_16_code 280 = .ok (.aload_n 0, 1) := by decide +kernel
theorem d_Mdl_take_281 : decode prog_11_method_16_code 281 = .ok (.getfield 34, 3) := by decide +kernel
theorem d_Mdl_take_284 : decode prog_11_method_16_code 284 = .ok (.iload_n 3, 1) := by decide +kernel
theorem d_Mdl_take_285 : decode prog_11_method_16_code 285 = .ok (.dup2, 1) := by decide +kernel
theorem d_Mdl_take_286 : decode prog_11_method_16_code 286 = .ok (.iaload, 1) := by decide +kernel
theorem d_Mdl_take_287 : decode prog_11_method_16_code 287 = .ok (.iload 7, 2) := by decide +kernel
theorem d_Mdl_take_289 : decode prog_11_method_16_code 289 = .ok (.isub, 1) := by decide +kernel
theorem d_Mdl_take_290 : decode prog_11_method_16_code 290 = .ok (.iastore, 1) := by decide +kernel
theorem d_Mdl_take_291 : decode prog_11_method_16_code 291 = .ok (.goto 11, 3) := by decide +kernel
theorem d_Mdl_take_294 : decode prog_11_method_16_code 294 = .ok (.aload_n 0, 1) := by decide +kernel
theorem d_Mdl_take_295 : decode prog_11_method_16_code 295 = .ok (.getfield 40, 3) := by decide +kernel
theorem d_Mdl_take_298 : decode prog_11_method_16_code 298 = .ok (.iload_n 3, 1) := by decide +kernel
theorem d_Mdl_take_299 : decode prog_11_method_16_code 299 = .ok (.iload 6, 2) := by decide +kernel
theorem d_Mdl_take_301 : decode prog_11_method_16_code 301 = .ok (.iastore, 1) := by decide +kernel
theorem d_Mdl_take_302 : decode prog_11_method_16_code 302 = .ok (.return_, 1) := by decide +kernel
set_option maxHeartbeats 4000000 in
set_option maxRecDepth 100000 in
theorem w_Mdl_take_302 {res : (Unit ⊕ (Nat × Nat)) × xH} (C : x_C l s0 A0 D R_Mdl prog_11_method_16_code 8 [] p s m args meth c) (hr : meth.sig.returnType = none) (hnm : meth.name = "take") (hRf : 1 ≤ R.frames) (hRl : 29 ≤ R.locals)   (hp : f_Mdl_take_b302 h = some res) (hH : x_S s0 D R h H locs cells slots) (hl : lv_has ls 8 []) : W p l e R s m args below meth c H locs cells slots (x_Q s0 D below s R (x_oc vU res.1) res.2) (F0 m 302 ls []) := by
  obtain ⟨hx, hb, hown, hts, hK, hml, hW, Z, -⟩ := id C
  unfold f_Mdl_take_b302 at hp
  exact x_vret C hH hr d_Mdl_take_302 hp
set_option maxHeartbeats 4000000 in
set_option maxRecDepth 100000 in
theorem w_Mdl_take_0 {res : (Unit ⊕ (Nat × Nat)) × xH} (C : x_C l s0 A0 D R_Mdl prog_11_method_16_code 8 [] p s m args meth c) (hr : meth.sig.returnType = none) (hnm : meth.name = "take") (hRf : 1 ≤ R.frames) (hRl : 29 ≤ R.locals)  (l0 : Nat) (l1 : Int32) (l2 : Int32) (hp : f_Mdl_take l0 l1 l2 h = some res) (hH : x_S s0 D R h H locs cells slots) (hl : lv_has ls 8 [(0, .ref l0), (1, .int l1), (2, .int l2)]) : W p l e R s m args below meth c H locs cells slots (x_Q s0 D below s R (x_oc vU res.1) res.2) (F0 m 0 ls []) := by
  obtain ⟨hx, hb, hown, hts, hK, hml, hW, Z, -⟩ := id C
  unfold f_Mdl_take at hp
  refine lv_bipush (v := 30) hx hb d_Mdl_take_0 (by decide) ?_
  refine lv_iload_n hx hb d_Mdl_take_2 rfl (lv_at hl 1 rfl) ?_
  refine lv_imul hx hb d_Mdl_take_3 ?_
  refine lv_aload_n hx hb d_Mdl_take_4 rfl (lv_at hl 0 rfl) ?_
  refine x_gA C hH fl_Mdl_19 d_Mdl_take_5 hp (fun v1 hp => ?_)
  refine lv_iload_n hx hb d_Mdl_take_8 rfl (lv_at hl 2 rfl) ?_
  refine x_lI C hH d_Mdl_take_9 hp (fun v2 hp => ?_)
  refine lv_iadd hx hb d_Mdl_take_10 ?_
  refine lv_istore_n (lv' := [(3, .int ((30 * l1) + v2)), (0, .ref l0), (1, .int l1), (2, .int l2)]) hx hb d_Mdl_take_11 rfl hl (by decide) rfl (fun ls hl => ?_)
  refine lv_bipush (v := 10) hx hb d_Mdl_take_12 (by decide) ?_
  refine lv_iload_n hx hb d_Mdl_take_14 rfl (lv_at hl 2 rfl) ?_
  refine lv_imul hx hb d_Mdl_take_15 ?_
  refine lv_aload_n hx hb d_Mdl_take_16 rfl (lv_at hl 1 rfl) ?_
  refine x_gA C hH fl_Mdl_22 d_Mdl_take_17 hp (fun v3 hp => ?_)
  refine lv_iload_n hx hb d_Mdl_take_20 rfl (lv_at hl 3 rfl) ?_
  refine x_lI C hH d_Mdl_take_21 hp (fun v4 hp => ?_)
  refine lv_iadd hx hb d_Mdl_take_22 ?_
  refine lv_istore (lv' := [(4, .int ((10 * l1) + v4)), (3, .int ((30 * l1) + v2)), (0, .ref l0), (1, .int l1), (2, .int l2)]) hx hb d_Mdl_take_23 hl (by decide) rfl (fun ls hl => ?_)
  refine lv_bipush (v := 30) hx hb d_Mdl_take_25 (by decide) ?_
  refine lv_iload hx hb d_Mdl_take_27 (lv_at hl 0 rfl) ?_
  refine lv_imul hx hb d_Mdl_take_29 ?_
  refine lv_aload_n hx hb d_Mdl_take_30 rfl (lv_at hl 2 rfl) ?_
  refine x_gA C hH fl_Mdl_19 d_Mdl_take_31 hp (fun v5 hp => ?_)
  refine lv_iload_n hx hb d_Mdl_take_34 rfl (lv_at hl 4 rfl) ?_
  refine x_lI C hH d_Mdl_take_35 hp (fun v6 hp => ?_)
  refine lv_iadd hx hb d_Mdl_take_36 ?_
  refine lv_istore (lv' := [(5, .int ((30 * ((10 * l1) + v4)) + v6)), (4, .int ((10 * l1) + v4)), (3, .int ((30 * l1) + v2)), (0, .ref l0), (1, .int l1), (2, .int l2)]) hx hb d_Mdl_take_37 hl (by decide) rfl (fun ls hl => ?_)
  refine lv_aload_n hx hb d_Mdl_take_39 rfl (lv_at hl 3 rfl) ?_
  refine x_gA C hH fl_Mdl_25 d_Mdl_take_40 hp (fun v7 hp => ?_)
  refine lv_iload_n hx hb d_Mdl_take_43 rfl (lv_at hl 5 rfl) ?_
  refine x_lI C hH d_Mdl_take_44 hp (fun v8 hp => ?_)
  refine lv_istore (lv' := [(6, .int v8), (5, .int ((30 * ((10 * l1) + v4)) + v6)), (4, .int ((10 * l1) + v4)), (3, .int ((30 * l1) + v2)), (0, .ref l0), (1, .int l1), (2, .int l2)]) hx hb d_Mdl_take_45 hl (by decide) rfl (fun ls hl => ?_)
  refine lv_aload_n hx hb d_Mdl_take_47 rfl (lv_at hl 4 rfl) ?_
  refine x_gA C hH fl_Mdl_16 d_Mdl_take_48 hp (fun v9 hp => ?_)
  refine lv_iload_n hx hb d_Mdl_take_51 rfl (lv_at hl 6 rfl) ?_
  refine x_lI C hH d_Mdl_take_52 hp (fun v10 hp => ?_)
  by_cases hc0 : v10 = 0
  · replace hp := x_ifp hc0 hp
    refine lv_tableIn (off := 31) (tgt := 84) hx hb d_Mdl_take_53 (by rw [hc0]; decide) (by rw [hc0]; decide) (by rw [hc0]; rfl) (by decide) ?_
    refine lv_aload_n hx hb d_Mdl_take_84 rfl (lv_at hl 4 rfl) ?_
    refine x_gA C hH fl_Mdl_31 d_Mdl_take_85 hp (fun v11 hp => ?_)
    refine lv_iload_n hx hb d_Mdl_take_88 rfl (lv_at hl 3 rfl) ?_
    refine x_lI C hH d_Mdl_take_89 hp (fun v12 hp => ?_)
    refine lv_iload hx hb d_Mdl_take_90 (lv_at hl 0 rfl) ?_
    refine lv_iadd hx hb d_Mdl_take_92 ?_
    refine lv_ldc hx hb hown (hts _ k_923) d_Mdl_take_93 ?_
    refine lv_icmp_gt (tgt := 302) hx hb d_Mdl_take_95 (by decide) (fun hc => ?_) (fun hc => ?_)
    · replace hp := x_ifp hc hp
      exact w_Mdl_take_302 C hr hnm hRf hRl   hp hH (lv_sub hl [] rfl)
    · replace hp := x_ifn hc hp
      refine lv_aload_n hx hb d_Mdl_take_98 rfl (lv_at hl 4 rfl) ?_
      refine x_gA C hH fl_Mdl_31 d_Mdl_take_99 hp (fun v13 hp => ?_)
      refine lv_iload_n hx hb d_Mdl_take_102 rfl (lv_at hl 3 rfl) ?_
      refine lv_dup2_11 hx hb d_Mdl_take_103 rfl rfl ?_
      refine x_lI C hH d_Mdl_take_104 hp (fun v14 hp => ?_)
      refine lv_iload hx hb d_Mdl_take_105 (lv_at hl 0 rfl) ?_
      refine lv_iadd hx hb d_Mdl_take_107 ?_
      refine x_sI C hH d_Mdl_take_108 hp (fun h H locs hp hH => ?_)
      refine lv_goto (tgt := 302) hx hb d_Mdl_take_109 (by decide) ?_
      exact w_Mdl_take_302 C hr hnm hRf hRl   hp hH (lv_sub hl [] rfl)
  replace hp := x_ifn hc0 hp
  by_cases hc1 : v10 = 1
  · replace hp := x_ifp hc1 hp
    refine lv_tableIn (off := 59) (tgt := 112) hx hb d_Mdl_take_53 (by rw [hc1]; decide) (by rw [hc1]; decide) (by rw [hc1]; rfl) (by decide) ?_
    refine lv_aload_n hx hb d_Mdl_take_112 rfl (lv_at hl 4 rfl) ?_
    refine x_gA C hH fl_Mdl_31 d_Mdl_take_113 hp (fun v15 hp => ?_)
    refine lv_iload_n hx hb d_Mdl_take_116 rfl (lv_at hl 3 rfl) ?_
    refine x_lI C hH d_Mdl_take_117 hp (fun v16 hp => ?_)
    refine lv_aload_n hx hb d_Mdl_take_118 rfl (lv_at hl 4 rfl) ?_
    refine x_gA C hH fl_Mdl_34 d_Mdl_take_119 hp (fun v17 hp => ?_)
    refine lv_iload_n hx hb d_Mdl_take_122 rfl (lv_at hl 3 rfl) ?_
    refine x_lI C hH d_Mdl_take_123 hp (fun v18 hp => ?_)
    refine lv_isub hx hb d_Mdl_take_124 ?_
    refine lv_iload hx hb d_Mdl_take_125 (lv_at hl 0 rfl) ?_
    refine lv_icmp_lt (tgt := 156) hx hb d_Mdl_take_127 (by decide) (fun hc => ?_) (fun hc => ?_)
    · replace hp := x_ifp hc hp
      refine lv_aload_n hx hb d_Mdl_take_156 rfl (lv_at hl 4 rfl) ?_
      refine x_gA C hH fl_Mdl_50 d_Mdl_take_157 hp (fun v19 hp => ?_)
      refine lv_iload hx hb d_Mdl_take_160 (lv_at hl 2 rfl) ?_
      refine lv_dup2_11 hx hb d_Mdl_take_162 rfl rfl ?_
      refine x_lI C hH d_Mdl_take_163 hp (fun v20 hp => ?_)
      refine lv_iconst (v := 1) hx hb d_Mdl_take_164 (by decide) ?_
      refine lv_iadd hx hb d_Mdl_take_165 ?_
      refine x_sI C hH d_Mdl_take_166 hp (fun h H locs hp hH => ?_)
      refine lv_goto (tgt := 302) hx hb d_Mdl_take_167 (by decide) ?_
      exact w_Mdl_take_302 C hr hnm hRf hRl   hp hH (lv_sub hl [] rfl)
    · replace hp := x_ifn hc hp
      refine lv_aload_n hx hb d_Mdl_take_130 rfl (lv_at hl 4 rfl) ?_
      refine x_gA C hH fl_Mdl_43 d_Mdl_take_131 hp (fun v21 hp => ?_)
      refine lv_iload hx hb d_Mdl_take_134 (lv_at hl 1 rfl) ?_
      refine lv_dup2_11 hx hb d_Mdl_take_136 rfl rfl ?_
      refine x_lI C hH d_Mdl_take_137 hp (fun v22 hp => ?_)
      refine lv_iload hx hb d_Mdl_take_138 (lv_at hl 0 rfl) ?_
      refine lv_iadd hx hb d_Mdl_take_140 ?_
      refine x_sI C hH d_Mdl_take_141 hp (fun h H locs hp hH => ?_)
      refine lv_aload_n hx hb d_Mdl_take_142 rfl (lv_at hl 4 rfl) ?_
      refine x_gA C hH fl_Mdl_34 d_Mdl_take_143 hp (fun v23 hp => ?_)
      refine lv_iload_n hx hb d_Mdl_take_146 rfl (lv_at hl 3 rfl) ?_
      refine lv_dup2_11 hx hb d_Mdl_take_147 rfl rfl ?_
      refine x_lI C hH d_Mdl_take_148 hp (fun v24 hp => ?_)
      refine lv_iload hx hb d_Mdl_take_149 (lv_at hl 0 rfl) ?_
      refine lv_iadd hx hb d_Mdl_take_151 ?_
      refine x_sI C hH d_Mdl_take_152 hp (fun h H locs hp hH => ?_)
      refine lv_goto (tgt := 302) hx hb d_Mdl_take_153 (by decide) ?_
      exact w_Mdl_take_302 C hr hnm hRf hRl   hp hH (lv_sub hl [] rfl)
  replace hp := x_ifn hc1 hp
  by_cases hc2 : v10 = 2
  · replace hp := x_ifp hc2 hp
    refine lv_tableIn (off := 117) (tgt := 170) hx hb d_Mdl_take_53 (by rw [hc2]; decide) (by rw [hc2]; decide) (by rw [hc2]; rfl) (by decide) ?_
    refine lv_aload_n hx hb d_Mdl_take_170 rfl (lv_at hl 4 rfl) ?_
    refine x_gA C hH fl_Mdl_43 d_Mdl_take_171 hp (fun v25 hp => ?_)
    refine lv_iload hx hb d_Mdl_take_174 (lv_at hl 1 rfl) ?_
    refine x_lI C hH d_Mdl_take_176 hp (fun v26 hp => ?_)
    refine lv_iload hx hb d_Mdl_take_177 (lv_at hl 0 rfl) ?_
    refine lv_icmp_ge (tgt := 185) hx hb d_Mdl_take_179 (by decide) (fun hc => ?_) (fun hc => ?_)
    · replace hp := x_ifp hc hp
      refine lv_aload_n hx hb d_Mdl_take_185 rfl (lv_at hl 4 rfl) ?_
      refine x_gA C hH fl_Mdl_43 d_Mdl_take_186 hp (fun v27 hp => ?_)
      refine lv_iload hx hb d_Mdl_take_189 (lv_at hl 1 rfl) ?_
      refine lv_dup2_11 hx hb d_Mdl_take_191 rfl rfl ?_
      refine x_lI C hH d_Mdl_take_192 hp (fun v28 hp => ?_)
      refine lv_iload hx hb d_Mdl_take_193 (lv_at hl 0 rfl) ?_
      refine lv_isub hx hb d_Mdl_take_195 ?_
      refine x_sI C hH d_Mdl_take_196 hp (fun h H locs hp hH => ?_)
      refine lv_aload_n hx hb d_Mdl_take_197 rfl (lv_at hl 4 rfl) ?_
      refine x_gA C hH fl_Mdl_34 d_Mdl_take_198 hp (fun v29 hp => ?_)
      refine lv_iload_n hx hb d_Mdl_take_201 rfl (lv_at hl 3 rfl) ?_
      refine lv_dup2_11 hx hb d_Mdl_take_202 rfl rfl ?_
      refine x_lI C hH d_Mdl_take_203 hp (fun v30 hp => ?_)
      refine lv_iload hx hb d_Mdl_take_204 (lv_at hl 0 rfl) ?_
      refine lv_isub hx hb d_Mdl_take_206 ?_
      refine x_sI C hH d_Mdl_take_207 hp (fun h H locs hp hH => ?_)
      refine lv_aload_n hx hb d_Mdl_take_208 rfl (lv_at hl 4 rfl) ?_
      refine x_gA C hH fl_Mdl_31 d_Mdl_take_209 hp (fun v31 hp => ?_)
      refine lv_iload_n hx hb d_Mdl_take_212 rfl (lv_at hl 3 rfl) ?_
      refine lv_dup2_11 hx hb d_Mdl_take_213 rfl rfl ?_
      refine x_lI C hH d_Mdl_take_214 hp (fun v32 hp => ?_)
      refine lv_iload hx hb d_Mdl_take_215 (lv_at hl 0 rfl) ?_
      refine lv_isub hx hb d_Mdl_take_217 ?_
      refine x_sI C hH d_Mdl_take_218 hp (fun h H locs hp hH => ?_)
      refine lv_aload_n hx hb d_Mdl_take_219 rfl (lv_at hl 4 rfl) ?_
      refine x_gA C hH fl_Mdl_37 d_Mdl_take_220 hp (fun v33 hp => ?_)
      refine lv_iload_n hx hb d_Mdl_take_223 rfl (lv_at hl 3 rfl) ?_
      refine lv_dup2_11 hx hb d_Mdl_take_224 rfl rfl ?_
      refine x_lI C hH d_Mdl_take_225 hp (fun v34 hp => ?_)
      refine lv_iload hx hb d_Mdl_take_226 (lv_at hl 0 rfl) ?_
      refine lv_iadd hx hb d_Mdl_take_228 ?_
      refine x_sI C hH d_Mdl_take_229 hp (fun h H locs hp hH => ?_)
      refine lv_aload_n hx hb d_Mdl_take_230 rfl (lv_at hl 4 rfl) ?_
      refine x_gA C hH fl_Mdl_46 d_Mdl_take_231 hp (fun v35 hp => ?_)
      refine lv_iload hx hb d_Mdl_take_234 (lv_at hl 2 rfl) ?_
      refine lv_dup2_11 hx hb d_Mdl_take_236 rfl rfl ?_
      refine x_lJ C hH d_Mdl_take_237 hp (fun v36 hp => ?_)
      refine lv_iload hx hb d_Mdl_take_238 (lv_at hl 0 rfl) ?_
      refine lv_i2l (v := v8.toInt64) hx hb d_Mdl_take_240 rfl ?_
      refine lv_aload_n hx hb d_Mdl_take_241 rfl (lv_at hl 4 rfl) ?_
      refine x_gA C hH fl_Mdl_40 d_Mdl_take_242 hp (fun v37 hp => ?_)
      refine lv_iload_n hx hb d_Mdl_take_245 rfl (lv_at hl 3 rfl) ?_
      refine x_lI C hH d_Mdl_take_246 hp (fun v38 hp => ?_)
      refine lv_i2l (v := v38.toInt64) hx hb d_Mdl_take_247 rfl ?_
      refine lv_lmul hx hb d_Mdl_take_248 ?_
      refine lv_ladd hx hb d_Mdl_take_249 ?_
      refine x_sJ C hH d_Mdl_take_250 hp (fun h H locs hp hH => ?_)
      refine lv_goto (tgt := 302) hx hb d_Mdl_take_251 (by decide) ?_
      exact w_Mdl_take_302 C hr hnm hRf hRl   hp hH (lv_sub hl [] rfl)
    · replace hp := x_ifn hc hp
      refine lv_goto (tgt := 302) hx hb d_Mdl_take_182 (by decide) ?_
      exact w_Mdl_take_302 C hr hnm hRf hRl   hp hH (lv_sub hl [] rfl)
  replace hp := x_ifn hc2 hp
  by_cases hc3 : v10 = 3
  · replace hp := x_ifp hc3 hp
    refine lv_tableIn (off := 201) (tgt := 254) hx hb d_Mdl_take_53 (by rw [hc3]; decide) (by rw [hc3]; decide) (by rw [hc3]; rfl) (by decide) ?_
    refine lv_iload hx hb d_Mdl_take_254 (lv_at hl 0 rfl) ?_
    refine lv_aload_n hx hb d_Mdl_take_256 rfl (lv_at hl 4 rfl) ?_
    refine x_gA C hH fl_Mdl_43 d_Mdl_take_257 hp (fun v39 hp => ?_)
    refine lv_iload hx hb d_Mdl_take_260 (lv_at hl 1 rfl) ?_
    refine x_lI C hH d_Mdl_take_262 hp (fun v40 hp => ?_)
    refine x_callS (As := [.int v8, .int v40]) (rest := []) (cv := vI) C hH kc_Mdl_182 d_Mdl_take_263 hp (fun o h' e => m_Mdl_lesser Z e) rfl hl.1 (Nat.le_trans (Nat.le_of_ble_eq_true rfl) hRf) (Nat.le_trans (Nat.le_of_ble_eq_true rfl) hRl) (Nat.le_of_ble_eq_true rfl) (fun v41 h H locs cells slots hp hH => ?_)
    refine W.eq (g2 := F0 m 266 ls [.int v41]) rfl ?_
    refine lv_istore (lv' := [(7, .int v41), (6, .int v8), (5, .int ((30 * ((10 * l1) + v4)) + v6)), (4, .int ((10 * l1) + v4)), (3, .int ((30 * l1) + v2)), (0, .ref l0), (1, .int l1), (2, .int l2)]) hx hb d_Mdl_take_266 hl (by decide) rfl (fun ls hl => ?_)
    refine lv_aload_n hx hb d_Mdl_take_268 rfl (lv_at hl 5 rfl) ?_
    refine x_gA C hH fl_Mdl_43 d_Mdl_take_269 hp (fun v42 hp => ?_)
    refine lv_iload hx hb d_Mdl_take_272 (lv_at hl 2 rfl) ?_
    refine lv_dup2_11 hx hb d_Mdl_take_274 rfl rfl ?_
    refine x_lI C hH d_Mdl_take_275 hp (fun v43 hp => ?_)
    refine lv_iload hx hb d_Mdl_take_276 (lv_at hl 0 rfl) ?_
    refine lv_isub hx hb d_Mdl_take_278 ?_
    refine x_sI C hH d_Mdl_take_279 hp (fun h H locs hp hH => ?_)
    refine lv_aload_n hx hb d_Mdl_take_280 rfl (lv_at hl 5 rfl) ?_
    refine x_gA C hH fl_Mdl_34 d_Mdl_take_281 hp (fun v44 hp => ?_)
    refine lv_iload_n hx hb d_Mdl_take_284 rfl (lv_at hl 4 rfl) ?_
    refine lv_dup2_11 hx hb d_Mdl_take_285 rfl rfl ?_
    refine x_lI C hH d_Mdl_take_286 hp (fun v45 hp => ?_)
    refine lv_iload hx hb d_Mdl_take_287 (lv_at hl 0 rfl) ?_
    refine lv_isub hx hb d_Mdl_take_289 ?_
    refine x_sI C hH d_Mdl_take_290 hp (fun h H locs hp hH => ?_)
    refine lv_goto (tgt := 302) hx hb d_Mdl_take_291 (by decide) ?_
    exact w_Mdl_take_302 C hr hnm hRf hRl   hp hH (lv_sub hl [] rfl)
  replace hp := x_ifn hc3 hp
  have n0 := lv_neT hc0 (k := 0) (a := 0) (by decide)
  have n1 := lv_neT hc1 (k := 1) (a := 1) (by decide)
  have n2 := lv_neT hc2 (k := 2) (a := 2) (by decide)
  have n3 := lv_neT hc3 (k := 3) (a := 3) (by decide)
  refine lv_tableOut (tgt := 294) hx hb d_Mdl_take_53 (by omega) (by decide) ?_
  refine lv_aload_n hx hb d_Mdl_take_294 rfl (lv_at hl 4 rfl) ?_
  refine x_gA C hH fl_Mdl_40 d_Mdl_take_295 hp (fun v46 hp => ?_)
  refine lv_iload_n hx hb d_Mdl_take_298 rfl (lv_at hl 3 rfl) ?_
  refine lv_iload hx hb d_Mdl_take_299 (lv_at hl 0 rfl) ?_
  refine x_sI C hH d_Mdl_take_301 hp (fun h H locs hp hH => ?_)
  exact w_Mdl_take_302 C hr hnm hRf hRl   hp hH (lv_sub hl [] rfl)
set_option maxRecDepth 100000 in
theorem m_Mdl_take (Z : x_Z l s0 A0 D) {l0 : Nat} {l1 : Int32} {l2 : Int32} {res : (Unit ⊕ (Nat × Nat)) × xH} (hp : f_Mdl_take l0 l1 l2 h = some res) : x_M l s0 D y_Mdl_take (x_cw y_Mdl_take prog_11_method_16_code 8 none []) 1 29 [.ref l0, .int l1, .int l2] h (x_oc vU res.1) res.2 := by
  refine x_M.ofW Z (plainFor_of_name (by decide)) ?_
  intro p e s m below meth c C hnm hr hH
  have hl := lv_entry ([.ref l0, .int l1, .int l2]) (n := 8) (Nat.le_of_ble_eq_true rfl)
  rw [lg_entry_eq]
  generalize (lg_sl ([.ref l0, .int l1, .int l2]) ++ List.replicate (8 - (lg_sl ([.ref l0, .int l1, .int l2])).length) Slot.unset).toArray = ls at hl ⊢
  exact w_Mdl_take_0 C hr hnm (Nat.le_refl _) (Nat.le_refl _) l0 l1 l2 hp hH hl
end GEN
