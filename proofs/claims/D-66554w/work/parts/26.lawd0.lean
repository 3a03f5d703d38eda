theorem d_law_law_0 : decode code 0 = .ok (.new 8, 3) := by decide +kernel
theorem d_law_law_3 : decode code 3 = .ok (.dup, 1) := by decide +kernel
theorem d_law_law_4 : decode code 4 = .ok (.aload_n 0, 1) := by decide +kernel
theorem d_law_law_5 : decode code 5 = .ok (.iconst 0, 1) := by decide +kernel
theorem d_law_law_6 : decode code 6 = .ok (.invokestatic 81, 3) := by decide +kernel
theorem d_law_law_9 : decode code 9 = .ok (.aload_n 0, 1) := by decide +kernel
theorem d_law_law_10 : decode code 10 = .ok (.iconst 1, 1) := by decide +kernel
theorem d_law_law_11 : decode code 11 = .ok (.invokestatic 81, 3) := by decide +kernel
theorem d_law_law_14 : decode code 14 = .ok (.invokespecial 87, 3) := by decide +kernel
theorem d_law_law_17 : decode code 17 = .ok (.astore_n 1, 1) := by decide +kernel
theorem d_law_law_18 : decode code 18 = .ok (.new 90, 3) := by decide +kernel
theorem d_law_law_21 : decode code 21 = .ok (.dup, 1) := by decide +kernel
theorem d_law_law_22 : decode code 22 = .ok (.aload_n 0, 1) := by decide +kernel
theorem d_law_law_23 : decode code 23 = .ok (.iconst 0, 1) := by decide +kernel
theorem d_law_law_24 : decode code 24 = .ok (.invokestatic 81, 3) := by decide +kernel
theorem d_law_law_27 : decode code 27 = .ok (.aload_n 0, 1) := by decide +kernel
theorem d_law_law_28 : decode code 28 = .ok (.iconst 1, 1) := by decide +kernel
theorem d_law_law_29 : decode code 29 = .ok (.invokestatic 81, 3) := by decide +kernel
theorem d_law_law_32 : decode code 32 = .ok (.invokespecial 92, 3) := by decide +kernel
theorem d_law_law_35 : decode code 35 = .ok (.astore_n 2, 1) := by decide +kernel
theorem d_law_law_36 : decode code 36 = .ok (.iconst 1, 1) := by decide +kernel
theorem d_law_law_37 : decode code 37 = .ok (.newarray .long, 2) := by decide +kernel
theorem d_law_law_39 : decode code 39 = .ok (.astore_n 3, 1) := by decide +kernel
theorem d_law_law_40 : decode code 40 = .ok (.iconst 2, 1) := by decide +kernel
theorem d_law_law_41 : decode code 41 = .ok (.istore 4, 2) := by decide +kernel
theorem d_law_law_43 : decode code 43 = .ok (.iload 4, 2) := by decide +kernel
theorem d_law_law_45 : decode code 45 = .ok (.aload_n 0, 1) := by decide +kernel
theorem d_law_law_46 : decode code 46 = .ok (.arraylength, 1) := by decide +kernel
theorem d_law_law_47 : decode code 47 = .ok (.bipush 8, 2) := by decide +kernel
theorem d_law_law_49 : decode code 49 = .ok (.isub, 1) := by decide +kernel
theorem d_law_law_50 : decode code 50 = .ok (.if_icmp .gt 1577, 3) := by decide +kernel
theorem d_law_law_53 : decode code 53 = .ok (.aload_n 0, 1) := by decide +kernel
theorem d_law_law_54 : decode code 54 = .ok (.iload 4, 2) := by decide +kernel
theorem d_law_law_56 : decode code 56 = .ok (.iaload, 1) := by decide +kernel
theorem d_law_law_57 : decode code 57 = .ok (.bipush 31, 2) := by decide +kernel
theorem d_law_law_59 : decode code 59 = .ok (.iand, 1) := by decide +kernel
theorem d_law_law_60 : decode code 60 = .ok (.tableswitch 1561 0 19 #[96, 164, 232, 335, 403, 471, 527, 618, 674, 730, 743, 895, 962, 1041, 1109, 1177, 1245, 1325, 1405, 1505], 96) := by decide +kernel
theorem d_law_law_156 : decode code 156 = .ok (.aload_n 1, 1) := by decide +kernel
theorem d_law_law_157 : decode code 157 = .ok (.aload_n 0, 1) := by decide +kernel
theorem d_law_law_158 : decode code 158 = .ok (.iload 4, 2) := by decide +kernel
theorem d_law_law_160 : decode code 160 = .ok (.iconst 1, 1) := by decide +kernel
theorem d_law_law_161 : decode code 161 = .ok (.iadd, 1) := by decide +kernel
theorem d_law_law_162 : decode code 162 = .ok (.iaload, 1) := by decide +kernel
theorem d_law_law_163 : decode code 163 = .ok (.aload_n 0, 1) := by decide +kernel
theorem d_law_law_164 : decode code 164 = .ok (.iload 4, 2) := by decide +kernel
theorem d_law_law_166 : decode code 166 = .ok (.iconst 2, 1) := by decide +kernel
theorem d_law_law_167 : decode code 167 = .ok (.iadd, 1) := by decide +kernel
theorem d_law_law_168 : decode code 168 = .ok (.iaload, 1) := by decide +kernel
theorem d_law_law_169 : decode code 169 = .ok (.aload_n 3, 1) := by decide +kernel
theorem d_law_law_170 : decode code 170 = .ok (.invokestatic 93, 3) := by decide +kernel
theorem d_law_law_173 : decode code 173 = .ok (.istore 5, 2) := by decide +kernel
theorem d_law_law_175 : decode code 175 = .ok (.aload_n 2, 1) := by decide +kernel
theorem d_law_law_176 : decode code 176 = .ok (.aload_n 0, 1) := by decide +kernel
theorem d_law_law_177 : decode code 177 = .ok (.iload 4, 2) := by decide +kernel
theorem d_law_law_179 : decode code 179 = .ok (.iconst 1, 1) := by decide +kernel
theorem d_law_law_180 : decode code 180 = .ok (.iadd, 1) := by decide +kernel
theorem d_law_law_181 : decode code 181 = .ok (.iaload, 1) := by decide +kernel
theorem d_law_law_182 : decode code 182 = .ok (.aload_n 0, 1) := by decide +kernel
theorem d_law_law_183 : decode code 183 = .ok (.iload 4, 2) := by decide +kernel
theorem d_law_law_185 : decode code 185 = .ok (.iconst 2, 1) := by decide +kernel
theorem d_law_law_186 : decode code 186 = .ok (.iadd, 1) := by decide +kernel
theorem d_law_law_187 : decode code 187 = .ok (.iaload, 1) := by decide +kernel
theorem d_law_law_188 : decode code 188 = .ok (.invokevirtual 96, 3) := by decide +kernel
theorem d_law_law_191 : decode code 191 = .ok (.istore 6, 2) := by decide +kernel
theorem d_law_law_193 : decode code 193 = .ok (.aload_n 2, 1) := by decide +kernel
theorem d_law_law_194 : decode code 194 = .ok (.invokevirtual 97, 3) := by decide +kernel
theorem d_law_law_197 : decode code 197 = .ok (.iload 5, 2) := by decide +kernel
theorem d_law_law_199 : decode code 199 = .ok (.if_icmp .eq 5, 3) := by decide +kernel
theorem d_law_law_202 : decode code 202 = .ok (.iconst 0, 1) := by decide +kernel
theorem d_law_law_203 : decode code 203 = .ok (.ireturn, 1) := by decide +kernel
theorem d_law_law_204 : decode code 204 = .ok (.iload 5, 2) := by decide +kernel
theorem d_law_law_206 : decode code 206 = .ok (.ifCond .ne 15, 3) := by decide +kernel
theorem d_law_law_209 : decode code 209 = .ok (.aload_n 3, 1) := by decide +kernel
theorem d_law_law_210 : decode code 210 = .ok (.iconst 0, 1) := by decide +kernel
theorem d_law_law_211 : decode code 211 = .ok (.laload, 1) := by decide +kernel
theorem d_law_law_212 : decode code 212 = .ok (.iload 6, 2) := by decide +kernel
theorem d_law_law_214 : decode code 214 = .ok (.i2l, 1) := by decide +kernel
theorem d_law_law_215 : decode code 215 = .ok (.lcmp, 1) := by decide +kernel
theorem d_law_law_216 : decode code 216 = .ok (.ifCond .eq 5, 3) := by decide +kernel
theorem d_law_law_219 : decode code 219 = .ok (.iconst 0, 1) := by decide +kernel
theorem d_law_law_220 : decode code 220 = .ok (.ireturn, 1) := by decide +kernel
theorem d_law_law_221 : decode code 221 = .ok (.goto 1400, 3) := by decide +kernel
theorem d_law_law_224 : decode code 224 = .ok (.aload_n 1, 1) := by decide +kernel
theorem d_law_law_225 : decode code 225 = .ok (.aload_n 0, 1) := by decide +kernel
theorem d_law_law_226 : decode code 226 = .ok (.iload 4, 2) := by decide +kernel
theorem d_law_law_228 : decode code 228 = .ok (.iconst 1, 1) := by decide +kernel
theorem d_law_law_229 : decode code 229 = .ok (.iadd, 1) := by decide +kernel
theorem d_law_law_230 : decode code 230 = .ok (.iaload, 1) := by decide +kernel
theorem d_law_law_231 : decode code 231 = .ok (.aload_n 0, 1) := by decide +kernel
theorem d_law_law_232 : decode code 232 = .ok (.iload 4, 2) := by decide +kernel
theorem d_law_law_234 : decode code 234 = .ok (.iconst 2, 1) := by decide +kernel
theorem d_law_law_235 : decode code 235 = .ok (.iadd, 1) := by decide +kernel
theorem d_law_law_236 : decode code 236 = .ok (.iaload, 1) := by decide +kernel
theorem d_law_law_237 : decode code 237 = .ok (.aload_n 3, 1) := by decide +kernel
theorem d_law_law_238 : decode code 238 = .ok (.invokestatic 101, 3) := by decide +kernel
theorem d_law_law_241 : decode code 241 = .ok (.istore 5, 2) := by decide +kernel
theorem d_law_law_243 : decode code 243 = .ok (.aload_n 2, 1) := by decide +kernel
theorem d_law_law_244 : decode code 244 = .ok (.aload_n 0, 1) := by decide +kernel
theorem d_law_law_245 : decode code 245 = .ok (.iload 4, 2) := by decide +kernel
theorem d_law_law_247 : decode code 247 = .ok (.iconst 1, 1) := by decide +kernel
theorem d_law_law_248 : decode code 248 = .ok (.iadd, 1) := by decide +kernel
theorem d_law_law_249 : decode code 249 = .ok (.iaload, 1) := by decide +kernel
theorem d_law_law_250 : decode code 250 = .ok (.aload_n 0, 1) := by decide +kernel
theorem d_law_law_251 : decode code 251 = .ok (.iload 4, 2) := by decide +kernel
theorem d_law_law_253 : decode code 253 = .ok (.iconst 2, 1) := by decide +kernel
theorem d_law_law_254 : decode code 254 = .ok (.iadd, 1) := by decide +kernel
theorem d_law_law_255 : decode code 255 = .ok (.iaload, 1) := by decide +kernel
theorem d_law_law_256 : decode code 256 = .ok (.invokevirtual 103, 3) := by decide +kernel
theorem d_law_law_259 : decode code 259 = .ok (.istore 6, 2) := by decide +kernel
theorem d_law_law_261 : decode code 261 = .ok (.aload_n 2, 1) := by decide +kernel
theorem d_law_law_262 : decode code 262 = .ok (.invokevirtual 97, 3) := by decide +kernel
theorem d_law_law_265 : decode code 265 = .ok (.iload 5, 2) := by decide +kernel
theorem d_law_law_267 : decode code 267 = .ok (.if_icmp .eq 5, 3) := by decide +kernel
theorem d_law_law_270 : decode code 270 = .ok (.iconst 0, 1) := by decide +kernel
theorem d_law_law_271 : decode code 271 = .ok (.ireturn, 1) := by decide +kernel
theorem d_law_law_272 : decode code 272 = .ok (.iload 5, 2) := by decide +kernel
theorem d_law_law_274 : decode code 274 = .ok (.ifCond .ne 15, 3) := by decide +kernel
theorem d_law_law_277 : decode code 277 = .ok (.aload_n 3, 1) := by decide +kernel
theorem d_law_law_278 : decode code 278 = .ok (.iconst 0, 1) := by decide +kernel
theorem d_law_law_279 : decode code 279 = .ok (.laload, 1) := by decide +kernel
theorem d_law_law_280 : decode code 280 = .ok (.iload 6, 2) := by decide +kernel
theorem d_law_law_282 : decode code 282 = .ok (.i2l, 1) := by decide +kernel
theorem d_law_law_283 : decode code 283 = .ok (.lcmp, 1) := by decide +kernel
theorem d_law_law_284 : decode code 284 = .ok (.ifCond .eq 5, 3) := by decide +kernel
theorem d_law_law_287 : decode code 287 = .ok (.iconst 0, 1) := by decide +kernel
theorem d_law_law_288 : decode code 288 = .ok (.ireturn, 1) := by decide +kernel
theorem d_law_law_289 : decode code 289 = .ok (.goto 1332, 3) := by decide +kernel
theorem d_law_law_292 : decode code 292 = .ok (.aload_n 1, 1) := by decide +kernel
theorem d_law_law_293 : decode code 293 = .ok (.aload_n 0, 1) := by decide +kernel
theorem d_law_law_294 : decode code 294 = .ok (.iload 4, 2) := by decide +kernel
theorem d_law_law_296 : decode code 296 = .ok (.iconst 1, 1) := by decide +kernel
theorem d_law_law_297 : decode code 297 = .ok (.iadd, 1) := by decide +kernel
theorem d_law_law_298 : decode code 298 = .ok (.iaload, 1) := by decide +kernel
theorem d_law_law_299 : decode code 299 = .ok (.aload_n 0, 1) := by decide +kernel
theorem d_law_law_300 : decode code 300 = .ok (.iload 4, 2) := by decide +kernel
theorem d_law_law_302 : decode code 302 = .ok (.iconst 2, 1) := by decide +kernel
theorem d_law_law_303 : decode code 303 = .ok (.iadd, 1) := by decide +kernel
theorem d_law_law_304 : decode code 304 = .ok (.iaload, 1) := by decide +kernel
theorem d_law_law_305 : decode code 305 = .ok (.aload_n 0, 1) := by decide +kernel
theorem d_law_law_306 : decode code 306 = .ok (.iload 4, 2) := by decide +kernel
theorem d_law_law_308 : decode code 308 = .ok (.iconst 3, 1) := by decide +kernel
theorem d_law_law_309 : decode code 309 = .ok (.iadd, 1) := by decide +kernel
theorem d_law_law_310 : decode code 310 = .ok (.iaload, 1) := by decide +kernel
theorem d_law_law_311 : decode code 311 = .ok (.aload_n 0, 1) := by decide +kernel
theorem d_law_law_312 : decode code 312 = .ok (.iload 4, 2) := by decide +kernel
theorem d_law_law_314 : decode code 314 = .ok (.iconst 4, 1) := by decide +kernel
theorem d_law_law_315 : decode code 315 = .ok (.iadd, 1) := by decide +kernel
theorem d_law_law_316 : decode code 316 = .ok (.iaload, 1) := by decide +kernel
theorem d_law_law_317 : decode code 317 = .ok (.aload_n 0, 1) := by decide +kernel
theorem d_law_law_318 : decode code 318 = .ok (.iload 4, 2) := by decide +kernel
