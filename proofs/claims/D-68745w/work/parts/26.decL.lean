/-! names of the law, printed by genlaw.py -/
abbrev y_L_law : MethodName := ⟨"StateExplorerLaw", "law", "([I)Z"⟩
abbrev b_L_law : ByteArray := code
theorem d_L_law_0 : decode b_L_law 0 = .ok (.new 8, 3) := by decide +kernel
theorem d_L_law_3 : decode b_L_law 3 = .ok (.dup, 1) := by decide +kernel
theorem d_L_law_4 : decode b_L_law 4 = .ok (.invokespecial 52, 3) := by decide +kernel
theorem d_L_law_7 : decode b_L_law 7 = .ok (.astore_n 1, 1) := by decide +kernel
theorem d_L_law_8 : decode b_L_law 8 = .ok (.new 53, 3) := by decide +kernel
theorem d_L_law_11 : decode b_L_law 11 = .ok (.dup, 1) := by decide +kernel
theorem d_L_law_12 : decode b_L_law 12 = .ok (.invokespecial 55, 3) := by decide +kernel
theorem d_L_law_15 : decode b_L_law 15 = .ok (.astore_n 2, 1) := by decide +kernel
theorem d_L_law_16 : decode b_L_law 16 = .ok (.iconst 1, 1) := by decide +kernel
theorem d_L_law_17 : decode b_L_law 17 = .ok (.newarray .long, 2) := by decide +kernel
theorem d_L_law_19 : decode b_L_law 19 = .ok (.astore_n 3, 1) := by decide +kernel
theorem d_L_law_20 : decode b_L_law 20 = .ok (.iconst 0, 1) := by decide +kernel
theorem d_L_law_21 : decode b_L_law 21 = .ok (.istore 4, 2) := by decide +kernel
theorem d_L_law_23 : decode b_L_law 23 = .ok (.iload 4, 2) := by decide +kernel
theorem d_L_law_25 : decode b_L_law 25 = .ok (.aload_n 0, 1) := by decide +kernel
theorem d_L_law_26 : decode b_L_law 26 = .ok (.arraylength, 1) := by decide +kernel
theorem d_L_law_27 : decode b_L_law 27 = .ok (.iconst 4, 1) := by decide +kernel
theorem d_L_law_28 : decode b_L_law 28 = .ok (.isub, 1) := by decide +kernel
theorem d_L_law_29 : decode b_L_law 29 = .ok (.if_icmp .gt 835, 3) := by decide +kernel
theorem d_L_law_32 : decode b_L_law 32 = .ok (.aload_n 0, 1) := by decide +kernel
theorem d_L_law_33 : decode b_L_law 33 = .ok (.iload 4, 2) := by decide +kernel
theorem d_L_law_35 : decode b_L_law 35 = .ok (.iaload, 1) := by decide +kernel
theorem d_L_law_36 : decode b_L_law 36 = .ok (.bipush 15, 2) := by decide +kernel
theorem d_L_law_38 : decode b_L_law 38 = .ok (.iand, 1) := by decide +kernel
theorem d_L_law_39 : decode b_L_law 39 = .ok (.tableswitch 819 0 13 #[69, 125, 221, 277, 290, 303, 359, 427, 483, 551, 607, 663, 738, 794], 69) := by decide +kernel
theorem d_L_law_108 : decode b_L_law 108 = .ok (.aload_n 1, 1) := by decide +kernel
theorem d_L_law_109 : decode b_L_law 109 = .ok (.aload_n 0, 1) := by decide +kernel
theorem d_L_law_110 : decode b_L_law 110 = .ok (.iload 4, 2) := by decide +kernel
theorem d_L_law_112 : decode b_L_law 112 = .ok (.iconst 1, 1) := by decide +kernel
theorem d_L_law_113 : decode b_L_law 113 = .ok (.iadd, 1) := by decide +kernel
theorem d_L_law_114 : decode b_L_law 114 = .ok (.iaload, 1) := by decide +kernel
theorem d_L_law_115 : decode b_L_law 115 = .ok (.aload_n 3, 1) := by decide +kernel
theorem d_L_law_116 : decode b_L_law 116 = .ok (.invokestatic 56, 3) := by decide +kernel
theorem d_L_law_119 : decode b_L_law 119 = .ok (.istore 5, 2) := by decide +kernel
theorem d_L_law_121 : decode b_L_law 121 = .ok (.aload_n 2, 1) := by decide +kernel
theorem d_L_law_122 : decode b_L_law 122 = .ok (.aload_n 0, 1) := by decide +kernel
theorem d_L_law_123 : decode b_L_law 123 = .ok (.iload 4, 2) := by decide +kernel
theorem d_L_law_125 : decode b_L_law 125 = .ok (.iconst 1, 1) := by decide +kernel
theorem d_L_law_126 : decode b_L_law 126 = .ok (.iadd, 1) := by decide +kernel
theorem d_L_law_127 : decode b_L_law 127 = .ok (.iaload, 1) := by decide +kernel
theorem d_L_law_128 : decode b_L_law 128 = .ok (.invokevirtual 61, 3) := by decide +kernel
theorem d_L_law_131 : decode b_L_law 131 = .ok (.istore 6, 2) := by decide +kernel
theorem d_L_law_133 : decode b_L_law 133 = .ok (.aload_n 2, 1) := by decide +kernel
theorem d_L_law_134 : decode b_L_law 134 = .ok (.invokevirtual 62, 3) := by decide +kernel
theorem d_L_law_137 : decode b_L_law 137 = .ok (.iload 5, 2) := by decide +kernel
theorem d_L_law_139 : decode b_L_law 139 = .ok (.if_icmp .eq 5, 3) := by decide +kernel
theorem d_L_law_142 : decode b_L_law 142 = .ok (.iconst 0, 1) := by decide +kernel
theorem d_L_law_143 : decode b_L_law 143 = .ok (.ireturn, 1) := by decide +kernel
theorem d_L_law_144 : decode b_L_law 144 = .ok (.iload 5, 2) := by decide +kernel
theorem d_L_law_146 : decode b_L_law 146 = .ok (.ifCond .ne 15, 3) := by decide +kernel
theorem d_L_law_149 : decode b_L_law 149 = .ok (.aload_n 3, 1) := by decide +kernel
theorem d_L_law_150 : decode b_L_law 150 = .ok (.iconst 0, 1) := by decide +kernel
theorem d_L_law_151 : decode b_L_law 151 = .ok (.laload, 1) := by decide +kernel
theorem d_L_law_152 : decode b_L_law 152 = .ok (.iload 6, 2) := by decide +kernel
theorem d_L_law_154 : decode b_L_law 154 = .ok (.i2l, 1) := by decide +kernel
theorem d_L_law_155 : decode b_L_law 155 = .ok (.lcmp, 1) := by decide +kernel
theorem d_L_law_156 : decode b_L_law 156 = .ok (.ifCond .eq 5, 3) := by decide +kernel
theorem d_L_law_159 : decode b_L_law 159 = .ok (.iconst 0, 1) := by decide +kernel
theorem d_L_law_160 : decode b_L_law 160 = .ok (.ireturn, 1) := by decide +kernel
theorem d_L_law_161 : decode b_L_law 161 = .ok (.goto 697, 3) := by decide +kernel
theorem d_L_law_164 : decode b_L_law 164 = .ok (.aload_n 1, 1) := by decide +kernel
theorem d_L_law_165 : decode b_L_law 165 = .ok (.aload_n 0, 1) := by decide +kernel
theorem d_L_law_166 : decode b_L_law 166 = .ok (.iload 4, 2) := by decide +kernel
theorem d_L_law_168 : decode b_L_law 168 = .ok (.iconst 1, 1) := by decide +kernel
theorem d_L_law_169 : decode b_L_law 169 = .ok (.iadd, 1) := by decide +kernel
theorem d_L_law_170 : decode b_L_law 170 = .ok (.iaload, 1) := by decide +kernel
theorem d_L_law_171 : decode b_L_law 171 = .ok (.aload_n 0, 1) := by decide +kernel
theorem d_L_law_172 : decode b_L_law 172 = .ok (.iload 4, 2) := by decide +kernel
theorem d_L_law_174 : decode b_L_law 174 = .ok (.iconst 2, 1) := by decide +kernel
theorem d_L_law_175 : decode b_L_law 175 = .ok (.iadd, 1) := by decide +kernel
theorem d_L_law_176 : decode b_L_law 176 = .ok (.iaload, 1) := by decide +kernel
theorem d_L_law_177 : decode b_L_law 177 = .ok (.aload_n 0, 1) := by decide +kernel
theorem d_L_law_178 : decode b_L_law 178 = .ok (.iload 4, 2) := by decide +kernel
theorem d_L_law_180 : decode b_L_law 180 = .ok (.iconst 3, 1) := by decide +kernel
theorem d_L_law_181 : decode b_L_law 181 = .ok (.iadd, 1) := by decide +kernel
theorem d_L_law_182 : decode b_L_law 182 = .ok (.iaload, 1) := by decide +kernel
theorem d_L_law_183 : decode b_L_law 183 = .ok (.ifCond .eq 7, 3) := by decide +kernel
theorem d_L_law_186 : decode b_L_law 186 = .ok (.iconst 1, 1) := by decide +kernel
theorem d_L_law_187 : decode b_L_law 187 = .ok (.goto 4, 3) := by decide +kernel
theorem d_L_law_190 : decode b_L_law 190 = .ok (.iconst 0, 1) := by decide +kernel
theorem d_L_law_191 : decode b_L_law 191 = .ok (.aload_n 3, 1) := by decide +kernel
theorem d_L_law_192 : decode b_L_law 192 = .ok (.invokestatic 66, 3) := by decide +kernel
theorem d_L_law_195 : decode b_L_law 195 = .ok (.istore 5, 2) := by decide +kernel
theorem d_L_law_197 : decode b_L_law 197 = .ok (.aload_n 2, 1) := by decide +kernel
theorem d_L_law_198 : decode b_L_law 198 = .ok (.aload_n 0, 1) := by decide +kernel
theorem d_L_law_199 : decode b_L_law 199 = .ok (.iload 4, 2) := by decide +kernel
theorem d_L_law_201 : decode b_L_law 201 = .ok (.iconst 1, 1) := by decide +kernel
theorem d_L_law_202 : decode b_L_law 202 = .ok (.iadd, 1) := by decide +kernel
theorem d_L_law_203 : decode b_L_law 203 = .ok (.iaload, 1) := by decide +kernel
theorem d_L_law_204 : decode b_L_law 204 = .ok (.aload_n 0, 1) := by decide +kernel
theorem d_L_law_205 : decode b_L_law 205 = .ok (.iload 4, 2) := by decide +kernel
theorem d_L_law_207 : decode b_L_law 207 = .ok (.iconst 2, 1) := by decide +kernel
theorem d_L_law_208 : decode b_L_law 208 = .ok (.iadd, 1) := by decide +kernel
theorem d_L_law_209 : decode b_L_law 209 = .ok (.iaload, 1) := by decide +kernel
theorem d_L_law_210 : decode b_L_law 210 = .ok (.aload_n 0, 1) := by decide +kernel
theorem d_L_law_211 : decode b_L_law 211 = .ok (.iload 4, 2) := by decide +kernel
theorem d_L_law_213 : decode b_L_law 213 = .ok (.iconst 3, 1) := by decide +kernel
theorem d_L_law_214 : decode b_L_law 214 = .ok (.iadd, 1) := by decide +kernel
theorem d_L_law_215 : decode b_L_law 215 = .ok (.iaload, 1) := by decide +kernel
theorem d_L_law_216 : decode b_L_law 216 = .ok (.ifCond .eq 7, 3) := by decide +kernel
theorem d_L_law_219 : decode b_L_law 219 = .ok (.iconst 1, 1) := by decide +kernel
theorem d_L_law_220 : decode b_L_law 220 = .ok (.goto 4, 3) := by decide +kernel
theorem d_L_law_223 : decode b_L_law 223 = .ok (.iconst 0, 1) := by decide +kernel
theorem d_L_law_224 : decode b_L_law 224 = .ok (.invokevirtual 69, 3) := by decide +kernel
theorem d_L_law_227 : decode b_L_law 227 = .ok (.istore 6, 2) := by decide +kernel
theorem d_L_law_229 : decode b_L_law 229 = .ok (.aload_n 2, 1) := by decide +kernel
theorem d_L_law_230 : decode b_L_law 230 = .ok (.invokevirtual 62, 3) := by decide +kernel
theorem d_L_law_233 : decode b_L_law 233 = .ok (.iload 5, 2) := by decide +kernel
theorem d_L_law_235 : decode b_L_law 235 = .ok (.if_icmp .eq 5, 3) := by decide +kernel
theorem d_L_law_238 : decode b_L_law 238 = .ok (.iconst 0, 1) := by decide +kernel
theorem d_L_law_239 : decode b_L_law 239 = .ok (.ireturn, 1) := by decide +kernel
theorem d_L_law_240 : decode b_L_law 240 = .ok (.iload 5, 2) := by decide +kernel
theorem d_L_law_242 : decode b_L_law 242 = .ok (.ifCond .ne 15, 3) := by decide +kernel
theorem d_L_law_245 : decode b_L_law 245 = .ok (.aload_n 3, 1) := by decide +kernel
theorem d_L_law_246 : decode b_L_law 246 = .ok (.iconst 0, 1) := by decide +kernel
theorem d_L_law_247 : decode b_L_law 247 = .ok (.laload, 1) := by decide +kernel
theorem d_L_law_248 : decode b_L_law 248 = .ok (.iload 6, 2) := by decide +kernel
theorem d_L_law_250 : decode b_L_law 250 = .ok (.i2l, 1) := by decide +kernel
theorem d_L_law_251 : decode b_L_law 251 = .ok (.lcmp, 1) := by decide +kernel
theorem d_L_law_252 : decode b_L_law 252 = .ok (.ifCond .eq 5, 3) := by decide +kernel
theorem d_L_law_255 : decode b_L_law 255 = .ok (.iconst 0, 1) := by decide +kernel
theorem d_L_law_256 : decode b_L_law 256 = .ok (.ireturn, 1) := by decide +kernel
theorem d_L_law_257 : decode b_L_law 257 = .ok (.goto 601, 3) := by decide +kernel
theorem d_L_law_260 : decode b_L_law 260 = .ok (.aload_n 1, 1) := by decide +kernel
theorem d_L_law_261 : decode b_L_law 261 = .ok (.aload_n 0, 1) := by decide +kernel
theorem d_L_law_262 : decode b_L_law 262 = .ok (.iload 4, 2) := by decide +kernel
theorem d_L_law_264 : decode b_L_law 264 = .ok (.iconst 1, 1) := by decide +kernel
theorem d_L_law_265 : decode b_L_law 265 = .ok (.iadd, 1) := by decide +kernel
theorem d_L_law_266 : decode b_L_law 266 = .ok (.iaload, 1) := by decide +kernel
theorem d_L_law_267 : decode b_L_law 267 = .ok (.aload_n 3, 1) := by decide +kernel
theorem d_L_law_268 : decode b_L_law 268 = .ok (.invokestatic 70, 3) := by decide +kernel
theorem d_L_law_271 : decode b_L_law 271 = .ok (.istore 5, 2) := by decide +kernel
theorem d_L_law_273 : decode b_L_law 273 = .ok (.aload_n 2, 1) := by decide +kernel
theorem d_L_law_274 : decode b_L_law 274 = .ok (.aload_n 0, 1) := by decide +kernel
theorem d_L_law_275 : decode b_L_law 275 = .ok (.iload 4, 2) := by decide +kernel
theorem d_L_law_277 : decode b_L_law 277 = .ok (.iconst 1, 1) := by decide +kernel
theorem d_L_law_278 : decode b_L_law 278 = .ok (.iadd, 1) := by decide +kernel
theorem d_L_law_279 : decode b_L_law 279 = .ok (.iaload, 1) := by decide +kernel
theorem d_L_law_280 : decode b_L_law 280 = .ok (.invokevirtual 72, 3) := by decide +kernel
theorem d_L_law_283 : decode b_L_law 283 = .ok (.istore 6, 2) := by decide +kernel
theorem d_L_law_285 : decode b_L_law 285 = .ok (.aload_n 2, 1) := by decide +kernel
theorem d_L_law_286 : decode b_L_law 286 = .ok (.invokevirtual 62, 3) := by decide +kernel
theorem d_L_law_289 : decode b_L_law 289 = .ok (.iload 5, 2) := by decide +kernel
theorem d_L_law_291 : decode b_L_law 291 = .ok (.if_icmp .eq 5, 3) := by decide +kernel
theorem d_L_law_294 : decode b_L_law 294 = .ok (.iconst 0, 1) := by decide +kernel
theorem d_L_law_295 : decode b_L_law 295 = .ok (.ireturn, 1) := by decide +kernel
theorem d_L_law_296 : decode b_L_law 296 = .ok (.iload 5, 2) := by decide +kernel
theorem d_L_law_298 : decode b_L_law 298 = .ok (.ifCond .ne 15, 3) := by decide +kernel
theorem d_L_law_301 : decode b_L_law 301 = .ok (.aload_n 3, 1) := by decide +kernel
theorem d_L_law_302 : decode b_L_law 302 = .ok (.iconst 0, 1) := by decide +kernel
theorem d_L_law_303 : decode b_L_law 303 = .ok (.laload, 1) := by decide +kernel
theorem d_L_law_304 : decode b_L_law 304 = .ok (.iload 6, 2) := by decide +kernel
theorem d_L_law_306 : decode b_L_law 306 = .ok (.i2l, 1) := by decide +kernel
theorem d_L_law_307 : decode b_L_law 307 = .ok (.lcmp, 1) := by decide +kernel
theorem d_L_law_308 : decode b_L_law 308 = .ok (.ifCond .eq 5, 3) := by decide +kernel
theorem d_L_law_311 : decode b_L_law 311 = .ok (.iconst 0, 1) := by decide +kernel
theorem d_L_law_312 : decode b_L_law 312 = .ok (.ireturn, 1) := by decide +kernel
theorem d_L_law_313 : decode b_L_law 313 = .ok (.goto 545, 3) := by decide +kernel
theorem d_L_law_316 : decode b_L_law 316 = .ok (.aload_n 1, 1) := by decide +kernel
theorem d_L_law_317 : decode b_L_law 317 = .ok (.invokevirtual 73, 3) := by decide +kernel
theorem d_L_law_320 : decode b_L_law 320 = .ok (.aload_n 2, 1) := by decide +kernel
theorem d_L_law_321 : decode b_L_law 321 = .ok (.invokevirtual 76, 3) := by decide +kernel
theorem d_L_law_324 : decode b_L_law 324 = .ok (.if_icmp .eq 534, 3) := by decide +kernel
theorem d_L_law_327 : decode b_L_law 327 = .ok (.iconst 0, 1) := by decide +kernel
theorem d_L_law_328 : decode b_L_law 328 = .ok (.ireturn, 1) := by decide +kernel
theorem d_L_law_329 : decode b_L_law 329 = .ok (.aload_n 1, 1) := by decide +kernel
theorem d_L_law_330 : decode b_L_law 330 = .ok (.invokevirtual 77, 3) := by decide +kernel
theorem d_L_law_333 : decode b_L_law 333 = .ok (.aload_n 2, 1) := by decide +kernel
theorem d_L_law_334 : decode b_L_law 334 = .ok (.invokevirtual 80, 3) := by decide +kernel
theorem d_L_law_337 : decode b_L_law 337 = .ok (.if_icmp .eq 521, 3) := by decide +kernel
theorem d_L_law_340 : decode b_L_law 340 = .ok (.iconst 0, 1) := by decide +kernel
theorem d_L_law_341 : decode b_L_law 341 = .ok (.ireturn, 1) := by decide +kernel
theorem d_L_law_342 : decode b_L_law 342 = .ok (.aload_n 1, 1) := by decide +kernel
theorem d_L_law_343 : decode b_L_law 343 = .ok (.aload_n 0, 1) := by decide +kernel
theorem d_L_law_344 : decode b_L_law 344 = .ok (.iload 4, 2) := by decide +kernel
theorem d_L_law_346 : decode b_L_law 346 = .ok (.iconst 1, 1) := by decide +kernel
theorem d_L_law_347 : decode b_L_law 347 = .ok (.iadd, 1) := by decide +kernel
theorem d_L_law_348 : decode b_L_law 348 = .ok (.iaload, 1) := by decide +kernel
theorem d_L_law_349 : decode b_L_law 349 = .ok (.aload_n 3, 1) := by decide +kernel
theorem d_L_law_350 : decode b_L_law 350 = .ok (.invokestatic 81, 3) := by decide +kernel
theorem d_L_law_353 : decode b_L_law 353 = .ok (.istore 5, 2) := by decide +kernel
theorem d_L_law_355 : decode b_L_law 355 = .ok (.aload_n 2, 1) := by decide +kernel
theorem d_L_law_356 : decode b_L_law 356 = .ok (.aload_n 0, 1) := by decide +kernel
theorem d_L_law_357 : decode b_L_law 357 = .ok (.iload 4, 2) := by decide +kernel
theorem d_L_law_359 : decode b_L_law 359 = .ok (.iconst 1, 1) := by decide +kernel
theorem d_L_law_360 : decode b_L_law 360 = .ok (.iadd, 1) := by decide +kernel
theorem d_L_law_361 : decode b_L_law 361 = .ok (.iaload, 1) := by decide +kernel
theorem d_L_law_362 : decode b_L_law 362 = .ok (.invokevirtual 83, 3) := by decide +kernel
theorem d_L_law_365 : decode b_L_law 365 = .ok (.istore 6, 2) := by decide +kernel
theorem d_L_law_367 : decode b_L_law 367 = .ok (.aload_n 2, 1) := by decide +kernel
theorem d_L_law_368 : decode b_L_law 368 = .ok (.invokevirtual 62, 3) := by decide +kernel
theorem d_L_law_371 : decode b_L_law 371 = .ok (.iload 5, 2) := by decide +kernel
theorem d_L_law_373 : decode b_L_law 373 = .ok (.if_icmp .eq 5, 3) := by decide +kernel
theorem d_L_law_376 : decode b_L_law 376 = .ok (.iconst 0, 1) := by decide +kernel
theorem d_L_law_377 : decode b_L_law 377 = .ok (.ireturn, 1) := by decide +kernel
theorem d_L_law_378 : decode b_L_law 378 = .ok (.iload 5, 2) := by decide +kernel
theorem d_L_law_380 : decode b_L_law 380 = .ok (.ifCond .ne 15, 3) := by decide +kernel
theorem d_L_law_383 : decode b_L_law 383 = .ok (.aload_n 3, 1) := by decide +kernel
theorem d_L_law_384 : decode b_L_law 384 = .ok (.iconst 0, 1) := by decide +kernel
theorem d_L_law_385 : decode b_L_law 385 = .ok (.laload, 1) := by decide +kernel
theorem d_L_law_386 : decode b_L_law 386 = .ok (.iload 6, 2) := by decide +kernel
theorem d_L_law_388 : decode b_L_law 388 = .ok (.i2l, 1) := by decide +kernel
theorem d_L_law_389 : decode b_L_law 389 = .ok (.lcmp, 1) := by decide +kernel
theorem d_L_law_390 : decode b_L_law 390 = .ok (.ifCond .eq 5, 3) := by decide +kernel
theorem d_L_law_393 : decode b_L_law 393 = .ok (.iconst 0, 1) := by decide +kernel
theorem d_L_law_394 : decode b_L_law 394 = .ok (.ireturn, 1) := by decide +kernel
theorem d_L_law_395 : decode b_L_law 395 = .ok (.goto 463, 3) := by decide +kernel
theorem d_L_law_398 : decode b_L_law 398 = .ok (.aload_n 1, 1) := by decide +kernel
theorem d_L_law_399 : decode b_L_law 399 = .ok (.aload_n 0, 1) := by decide +kernel
theorem d_L_law_400 : decode b_L_law 400 = .ok (.iload 4, 2) := by decide +kernel
theorem d_L_law_402 : decode b_L_law 402 = .ok (.iconst 1, 1) := by decide +kernel
theorem d_L_law_403 : decode b_L_law 403 = .ok (.iadd, 1) := by decide +kernel
theorem d_L_law_404 : decode b_L_law 404 = .ok (.iaload, 1) := by decide +kernel
theorem d_L_law_405 : decode b_L_law 405 = .ok (.aload_n 0, 1) := by decide +kernel
theorem d_L_law_406 : decode b_L_law 406 = .ok (.iload 4, 2) := by decide +kernel
theorem d_L_law_408 : decode b_L_law 408 = .ok (.iconst 2, 1) := by decide +kernel
theorem d_L_law_409 : decode b_L_law 409 = .ok (.iadd, 1) := by decide +kernel
theorem d_L_law_410 : decode b_L_law 410 = .ok (.iaload, 1) := by decide +kernel
theorem d_L_law_411 : decode b_L_law 411 = .ok (.aload_n 3, 1) := by decide +kernel
theorem d_L_law_412 : decode b_L_law 412 = .ok (.invokestatic 84, 3) := by decide +kernel
theorem d_L_law_415 : decode b_L_law 415 = .ok (.istore 5, 2) := by decide +kernel
theorem d_L_law_417 : decode b_L_law 417 = .ok (.aload_n 2, 1) := by decide +kernel
theorem d_L_law_418 : decode b_L_law 418 = .ok (.aload_n 0, 1) := by decide +kernel
theorem d_L_law_419 : decode b_L_law 419 = .ok (.iload 4, 2) := by decide +kernel
theorem d_L_law_421 : decode b_L_law 421 = .ok (.iconst 1, 1) := by decide +kernel
theorem d_L_law_422 : decode b_L_law 422 = .ok (.iadd, 1) := by decide +kernel
theorem d_L_law_423 : decode b_L_law 423 = .ok (.iaload, 1) := by decide +kernel
theorem d_L_law_424 : decode b_L_law 424 = .ok (.aload_n 0, 1) := by decide +kernel
theorem d_L_law_425 : decode b_L_law 425 = .ok (.iload 4, 2) := by decide +kernel
theorem d_L_law_427 : decode b_L_law 427 = .ok (.iconst 2, 1) := by decide +kernel
theorem d_L_law_428 : decode b_L_law 428 = .ok (.iadd, 1) := by decide +kernel
theorem d_L_law_429 : decode b_L_law 429 = .ok (.iaload, 1) := by decide +kernel
theorem d_L_law_430 : decode b_L_law 430 = .ok (.invokevirtual 87, 3) := by decide +kernel
theorem d_L_law_433 : decode b_L_law 433 = .ok (.istore 6, 2) := by decide +kernel
theorem d_L_law_435 : decode b_L_law 435 = .ok (.aload_n 2, 1) := by decide +kernel
theorem d_L_law_436 : decode b_L_law 436 = .ok (.invokevirtual 62, 3) := by decide +kernel
theorem d_L_law_439 : decode b_L_law 439 = .ok (.iload 5, 2) := by decide +kernel
theorem d_L_law_441 : decode b_L_law 441 = .ok (.if_icmp .eq 5, 3) := by decide +kernel
theorem d_L_law_444 : decode b_L_law 444 = .ok (.iconst 0, 1) := by decide +kernel
theorem d_L_law_445 : decode b_L_law 445 = .ok (.ireturn, 1) := by decide +kernel
theorem d_L_law_446 : decode b_L_law 446 = .ok (.iload 5, 2) := by decide +kernel
theorem d_L_law_448 : decode b_L_law 448 = .ok (.ifCond .ne 15, 3) := by decide +kernel
theorem d_L_law_451 : decode b_L_law 451 = .ok (.aload_n 3, 1) := by decide +kernel
theorem d_L_law_452 : decode b_L_law 452 = .ok (.iconst 0, 1) := by decide +kernel
theorem d_L_law_453 : decode b_L_law 453 = .ok (.laload, 1) := by decide +kernel
theorem d_L_law_454 : decode b_L_law 454 = .ok (.iload 6, 2) := by decide +kernel
theorem d_L_law_456 : decode b_L_law 456 = .ok (.i2l, 1) := by decide +kernel
theorem d_L_law_457 : decode b_L_law 457 = .ok (.lcmp, 1) := by decide +kernel
theorem d_L_law_458 : decode b_L_law 458 = .ok (.ifCond .eq 5, 3) := by decide +kernel
theorem d_L_law_461 : decode b_L_law 461 = .ok (.iconst 0, 1) := by decide +kernel
theorem d_L_law_462 : decode b_L_law 462 = .ok (.ireturn, 1) := by decide +kernel
theorem d_L_law_463 : decode b_L_law 463 = .ok (.goto 395, 3) := by decide +kernel
theorem d_L_law_466 : decode b_L_law 466 = .ok (.aload_n 1, 1) := by decide +kernel
theorem d_L_law_467 : decode b_L_law 467 = .ok (.aload_n 0, 1) := by decide +kernel
theorem d_L_law_468 : decode b_L_law 468 = .ok (.iload 4, 2) := by decide +kernel
theorem d_L_law_470 : decode b_L_law 470 = .ok (.iconst 1, 1) := by decide +kernel
theorem d_L_law_471 : decode b_L_law 471 = .ok (.iadd, 1) := by decide +kernel
theorem d_L_law_472 : decode b_L_law 472 = .ok (.iaload, 1) := by decide +kernel
theorem d_L_law_473 : decode b_L_law 473 = .ok (.aload_n 3, 1) := by decide +kernel
theorem d_L_law_474 : decode b_L_law 474 = .ok (.invokestatic 88, 3) := by decide +kernel
theorem d_L_law_477 : decode b_L_law 477 = .ok (.istore 5, 2) := by decide +kernel
theorem d_L_law_479 : decode b_L_law 479 = .ok (.aload_n 2, 1) := by decide +kernel
theorem d_L_law_480 : decode b_L_law 480 = .ok (.aload_n 0, 1) := by decide +kernel
theorem d_L_law_481 : decode b_L_law 481 = .ok (.iload 4, 2) := by decide +kernel
theorem d_L_law_483 : decode b_L_law 483 = .ok (.iconst 1, 1) := by decide +kernel
theorem d_L_law_484 : decode b_L_law 484 = .ok (.iadd, 1) := by decide +kernel
theorem d_L_law_485 : decode b_L_law 485 = .ok (.iaload, 1) := by decide +kernel
theorem d_L_law_486 : decode b_L_law 486 = .ok (.invokevirtual 90, 3) := by decide +kernel
theorem d_L_law_489 : decode b_L_law 489 = .ok (.istore 6, 2) := by decide +kernel
theorem d_L_law_491 : decode b_L_law 491 = .ok (.aload_n 2, 1) := by decide +kernel
theorem d_L_law_492 : decode b_L_law 492 = .ok (.invokevirtual 62, 3) := by decide +kernel
theorem d_L_law_495 : decode b_L_law 495 = .ok (.iload 5, 2) := by decide +kernel
theorem d_L_law_497 : decode b_L_law 497 = .ok (.if_icmp .eq 5, 3) := by decide +kernel
theorem d_L_law_500 : decode b_L_law 500 = .ok (.iconst 0, 1) := by decide +kernel
theorem d_L_law_501 : decode b_L_law 501 = .ok (.ireturn, 1) := by decide +kernel
theorem d_L_law_502 : decode b_L_law 502 = .ok (.iload 5, 2) := by decide +kernel
theorem d_L_law_504 : decode b_L_law 504 = .ok (.ifCond .ne 15, 3) := by decide +kernel
theorem d_L_law_507 : decode b_L_law 507 = .ok (.aload_n 3, 1) := by decide +kernel
theorem d_L_law_508 : decode b_L_law 508 = .ok (.iconst 0, 1) := by decide +kernel
theorem d_L_law_509 : decode b_L_law 509 = .ok (.laload, 1) := by decide +kernel
theorem d_L_law_510 : decode b_L_law 510 = .ok (.iload 6, 2) := by decide +kernel
theorem d_L_law_512 : decode b_L_law 512 = .ok (.i2l, 1) := by decide +kernel
theorem d_L_law_513 : decode b_L_law 513 = .ok (.lcmp, 1) := by decide +kernel
theorem d_L_law_514 : decode b_L_law 514 = .ok (.ifCond .eq 5, 3) := by decide +kernel
theorem d_L_law_517 : decode b_L_law 517 = .ok (.iconst 0, 1) := by decide +kernel
theorem d_L_law_518 : decode b_L_law 518 = .ok (.ireturn, 1) := by decide +kernel
theorem d_L_law_519 : decode b_L_law 519 = .ok (.goto 339, 3) := by decide +kernel
theorem d_L_law_522 : decode b_L_law 522 = .ok (.aload_n 1, 1) := by decide +kernel
theorem d_L_law_523 : decode b_L_law 523 = .ok (.aload_n 0, 1) := by decide +kernel
theorem d_L_law_524 : decode b_L_law 524 = .ok (.iload 4, 2) := by decide +kernel
theorem d_L_law_526 : decode b_L_law 526 = .ok (.iconst 1, 1) := by decide +kernel
theorem d_L_law_527 : decode b_L_law 527 = .ok (.iadd, 1) := by decide +kernel
theorem d_L_law_528 : decode b_L_law 528 = .ok (.iaload, 1) := by decide +kernel
theorem d_L_law_529 : decode b_L_law 529 = .ok (.aload_n 0, 1) := by decide +kernel
theorem d_L_law_530 : decode b_L_law 530 = .ok (.iload 4, 2) := by decide +kernel
theorem d_L_law_532 : decode b_L_law 532 = .ok (.iconst 2, 1) := by decide +kernel
theorem d_L_law_533 : decode b_L_law 533 = .ok (.iadd, 1) := by decide +kernel
theorem d_L_law_534 : decode b_L_law 534 = .ok (.iaload, 1) := by decide +kernel
theorem d_L_law_535 : decode b_L_law 535 = .ok (.aload_n 3, 1) := by decide +kernel
theorem d_L_law_536 : decode b_L_law 536 = .ok (.invokestatic 91, 3) := by decide +kernel
theorem d_L_law_539 : decode b_L_law 539 = .ok (.istore 5, 2) := by decide +kernel
theorem d_L_law_541 : decode b_L_law 541 = .ok (.aload_n 2, 1) := by decide +kernel
theorem d_L_law_542 : decode b_L_law 542 = .ok (.aload_n 0, 1) := by decide +kernel
theorem d_L_law_543 : decode b_L_law 543 = .ok (.iload 4, 2) := by decide +kernel
theorem d_L_law_545 : decode b_L_law 545 = .ok (.iconst 1, 1) := by decide +kernel
theorem d_L_law_546 : decode b_L_law 546 = .ok (.iadd, 1) := by decide +kernel
theorem d_L_law_547 : decode b_L_law 547 = .ok (.iaload, 1) := by decide +kernel
theorem d_L_law_548 : decode b_L_law 548 = .ok (.aload_n 0, 1) := by decide +kernel
theorem d_L_law_549 : decode b_L_law 549 = .ok (.iload 4, 2) := by decide +kernel
theorem d_L_law_551 : decode b_L_law 551 = .ok (.iconst 2, 1) := by decide +kernel
theorem d_L_law_552 : decode b_L_law 552 = .ok (.iadd, 1) := by decide +kernel
theorem d_L_law_553 : decode b_L_law 553 = .ok (.iaload, 1) := by decide +kernel
theorem d_L_law_554 : decode b_L_law 554 = .ok (.invokevirtual 93, 3) := by decide +kernel
theorem d_L_law_557 : decode b_L_law 557 = .ok (.istore 6, 2) := by decide +kernel
theorem d_L_law_559 : decode b_L_law 559 = .ok (.aload_n 2, 1) := by decide +kernel
theorem d_L_law_560 : decode b_L_law 560 = .ok (.invokevirtual 62, 3) := by decide +kernel
theorem d_L_law_563 : decode b_L_law 563 = .ok (.iload 5, 2) := by decide +kernel
theorem d_L_law_565 : decode b_L_law 565 = .ok (.if_icmp .eq 5, 3) := by decide +kernel
theorem d_L_law_568 : decode b_L_law 568 = .ok (.iconst 0, 1) := by decide +kernel
theorem d_L_law_569 : decode b_L_law 569 = .ok (.ireturn, 1) := by decide +kernel
theorem d_L_law_570 : decode b_L_law 570 = .ok (.iload 5, 2) := by decide +kernel
theorem d_L_law_572 : decode b_L_law 572 = .ok (.ifCond .ne 15, 3) := by decide +kernel
theorem d_L_law_575 : decode b_L_law 575 = .ok (.aload_n 3, 1) := by decide +kernel
theorem d_L_law_576 : decode b_L_law 576 = .ok (.iconst 0, 1) := by decide +kernel
theorem d_L_law_577 : decode b_L_law 577 = .ok (.laload, 1) := by decide +kernel
theorem d_L_law_578 : decode b_L_law 578 = .ok (.iload 6, 2) := by decide +kernel
theorem d_L_law_580 : decode b_L_law 580 = .ok (.i2l, 1) := by decide +kernel
theorem d_L_law_581 : decode b_L_law 581 = .ok (.lcmp, 1) := by decide +kernel
theorem d_L_law_582 : decode b_L_law 582 = .ok (.ifCond .eq 5, 3) := by decide +kernel
theorem d_L_law_585 : decode b_L_law 585 = .ok (.iconst 0, 1) := by decide +kernel
theorem d_L_law_586 : decode b_L_law 586 = .ok (.ireturn, 1) := by decide +kernel
theorem d_L_law_587 : decode b_L_law 587 = .ok (.goto 271, 3) := by decide +kernel
theorem d_L_law_590 : decode b_L_law 590 = .ok (.aload_n 1, 1) := by decide +kernel
theorem d_L_law_591 : decode b_L_law 591 = .ok (.aload_n 0, 1) := by decide +kernel
theorem d_L_law_592 : decode b_L_law 592 = .ok (.iload 4, 2) := by decide +kernel
theorem d_L_law_594 : decode b_L_law 594 = .ok (.iconst 1, 1) := by decide +kernel
theorem d_L_law_595 : decode b_L_law 595 = .ok (.iadd, 1) := by decide +kernel
theorem d_L_law_596 : decode b_L_law 596 = .ok (.iaload, 1) := by decide +kernel
theorem d_L_law_597 : decode b_L_law 597 = .ok (.aload_n 3, 1) := by decide +kernel
theorem d_L_law_598 : decode b_L_law 598 = .ok (.invokestatic 94, 3) := by decide +kernel
theorem d_L_law_601 : decode b_L_law 601 = .ok (.istore 5, 2) := by decide +kernel
theorem d_L_law_603 : decode b_L_law 603 = .ok (.aload_n 2, 1) := by decide +kernel
theorem d_L_law_604 : decode b_L_law 604 = .ok (.aload_n 0, 1) := by decide +kernel
theorem d_L_law_605 : decode b_L_law 605 = .ok (.iload 4, 2) := by decide +kernel
theorem d_L_law_607 : decode b_L_law 607 = .ok (.iconst 1, 1) := by decide +kernel
theorem d_L_law_608 : decode b_L_law 608 = .ok (.iadd, 1) := by decide +kernel
theorem d_L_law_609 : decode b_L_law 609 = .ok (.iaload, 1) := by decide +kernel
theorem d_L_law_610 : decode b_L_law 610 = .ok (.invokevirtual 96, 3) := by decide +kernel
theorem d_L_law_613 : decode b_L_law 613 = .ok (.istore 6, 2) := by decide +kernel
theorem d_L_law_615 : decode b_L_law 615 = .ok (.aload_n 2, 1) := by decide +kernel
theorem d_L_law_616 : decode b_L_law 616 = .ok (.invokevirtual 62, 3) := by decide +kernel
theorem d_L_law_619 : decode b_L_law 619 = .ok (.iload 5, 2) := by decide +kernel
theorem d_L_law_621 : decode b_L_law 621 = .ok (.if_icmp .eq 5, 3) := by decide +kernel
theorem d_L_law_624 : decode b_L_law 624 = .ok (.iconst 0, 1) := by decide +kernel
theorem d_L_law_625 : decode b_L_law 625 = .ok (.ireturn, 1) := by decide +kernel
theorem d_L_law_626 : decode b_L_law 626 = .ok (.iload 5, 2) := by decide +kernel
theorem d_L_law_628 : decode b_L_law 628 = .ok (.ifCond .ne 15, 3) := by decide +kernel
theorem d_L_law_631 : decode b_L_law 631 = .ok (.aload_n 3, 1) := by decide +kernel
theorem d_L_law_632 : decode b_L_law 632 = .ok (.iconst 0, 1) := by decide +kernel
theorem d_L_law_633 : decode b_L_law 633 = .ok (.laload, 1) := by decide +kernel
theorem d_L_law_634 : decode b_L_law 634 = .ok (.iload 6, 2) := by decide +kernel
theorem d_L_law_636 : decode b_L_law 636 = .ok (.i2l, 1) := by decide +kernel
theorem d_L_law_637 : decode b_L_law 637 = .ok (.lcmp, 1) := by decide +kernel
theorem d_L_law_638 : decode b_L_law 638 = .ok (.ifCond .eq 5, 3) := by decide +kernel
theorem d_L_law_641 : decode b_L_law 641 = .ok (.iconst 0, 1) := by decide +kernel
theorem d_L_law_642 : decode b_L_law 642 = .ok (.ireturn, 1) := by decide +kernel
theorem d_L_law_643 : decode b_L_law 643 = .ok (.goto 215, 3) := by decide +kernel
theorem d_L_law_646 : decode b_L_law 646 = .ok (.aload_n 1, 1) := by decide +kernel
theorem d_L_law_647 : decode b_L_law 647 = .ok (.aload_n 0, 1) := by decide +kernel
theorem d_L_law_648 : decode b_L_law 648 = .ok (.iload 4, 2) := by decide +kernel
theorem d_L_law_650 : decode b_L_law 650 = .ok (.iconst 1, 1) := by decide +kernel
theorem d_L_law_651 : decode b_L_law 651 = .ok (.iadd, 1) := by decide +kernel
theorem d_L_law_652 : decode b_L_law 652 = .ok (.iaload, 1) := by decide +kernel
theorem d_L_law_653 : decode b_L_law 653 = .ok (.aload_n 3, 1) := by decide +kernel
theorem d_L_law_654 : decode b_L_law 654 = .ok (.invokestatic 97, 3) := by decide +kernel
theorem d_L_law_657 : decode b_L_law 657 = .ok (.istore 5, 2) := by decide +kernel
theorem d_L_law_659 : decode b_L_law 659 = .ok (.aload_n 2, 1) := by decide +kernel
theorem d_L_law_660 : decode b_L_law 660 = .ok (.aload_n 0, 1) := by decide +kernel
theorem d_L_law_661 : decode b_L_law 661 = .ok (.iload 4, 2) := by decide +kernel
theorem d_L_law_663 : decode b_L_law 663 = .ok (.iconst 1, 1) := by decide +kernel
theorem d_L_law_664 : decode b_L_law 664 = .ok (.iadd, 1) := by decide +kernel
theorem d_L_law_665 : decode b_L_law 665 = .ok (.iaload, 1) := by decide +kernel
theorem d_L_law_666 : decode b_L_law 666 = .ok (.invokevirtual 99, 3) := by decide +kernel
theorem d_L_law_669 : decode b_L_law 669 = .ok (.istore 6, 2) := by decide +kernel
theorem d_L_law_671 : decode b_L_law 671 = .ok (.aload_n 2, 1) := by decide +kernel
theorem d_L_law_672 : decode b_L_law 672 = .ok (.invokevirtual 62, 3) := by decide +kernel
theorem d_L_law_675 : decode b_L_law 675 = .ok (.iload 5, 2) := by decide +kernel
theorem d_L_law_677 : decode b_L_law 677 = .ok (.if_icmp .eq 5, 3) := by decide +kernel
theorem d_L_law_680 : decode b_L_law 680 = .ok (.iconst 0, 1) := by decide +kernel
theorem d_L_law_681 : decode b_L_law 681 = .ok (.ireturn, 1) := by decide +kernel
theorem d_L_law_682 : decode b_L_law 682 = .ok (.iload 5, 2) := by decide +kernel
theorem d_L_law_684 : decode b_L_law 684 = .ok (.ifCond .ne 15, 3) := by decide +kernel
theorem d_L_law_687 : decode b_L_law 687 = .ok (.aload_n 3, 1) := by decide +kernel
theorem d_L_law_688 : decode b_L_law 688 = .ok (.iconst 0, 1) := by decide +kernel
theorem d_L_law_689 : decode b_L_law 689 = .ok (.laload, 1) := by decide +kernel
theorem d_L_law_690 : decode b_L_law 690 = .ok (.iload 6, 2) := by decide +kernel
theorem d_L_law_692 : decode b_L_law 692 = .ok (.i2l, 1) := by decide +kernel
theorem d_L_law_693 : decode b_L_law 693 = .ok (.lcmp, 1) := by decide +kernel
theorem d_L_law_694 : decode b_L_law 694 = .ok (.ifCond .eq 5, 3) := by decide +kernel
theorem d_L_law_697 : decode b_L_law 697 = .ok (.iconst 0, 1) := by decide +kernel
theorem d_L_law_698 : decode b_L_law 698 = .ok (.ireturn, 1) := by decide +kernel
theorem d_L_law_699 : decode b_L_law 699 = .ok (.goto 159, 3) := by decide +kernel
theorem d_L_law_702 : decode b_L_law 702 = .ok (.aload_n 1, 1) := by decide +kernel
theorem d_L_law_703 : decode b_L_law 703 = .ok (.aload_n 0, 1) := by decide +kernel
theorem d_L_law_704 : decode b_L_law 704 = .ok (.iload 4, 2) := by decide +kernel
theorem d_L_law_706 : decode b_L_law 706 = .ok (.iconst 1, 1) := by decide +kernel
theorem d_L_law_707 : decode b_L_law 707 = .ok (.iadd, 1) := by decide +kernel
theorem d_L_law_708 : decode b_L_law 708 = .ok (.iaload, 1) := by decide +kernel
theorem d_L_law_709 : decode b_L_law 709 = .ok (.aload_n 0, 1) := by decide +kernel
theorem d_L_law_710 : decode b_L_law 710 = .ok (.iload 4, 2) := by decide +kernel
theorem d_L_law_712 : decode b_L_law 712 = .ok (.iconst 2, 1) := by decide +kernel
theorem d_L_law_713 : decode b_L_law 713 = .ok (.iadd, 1) := by decide +kernel
theorem d_L_law_714 : decode b_L_law 714 = .ok (.iaload, 1) := by decide +kernel
theorem d_L_law_715 : decode b_L_law 715 = .ok (.aload_n 3, 1) := by decide +kernel
theorem d_L_law_716 : decode b_L_law 716 = .ok (.invokestatic 100, 3) := by decide +kernel
theorem d_L_law_719 : decode b_L_law 719 = .ok (.istore 5, 2) := by decide +kernel
theorem d_L_law_721 : decode b_L_law 721 = .ok (.aload_n 2, 1) := by decide +kernel
theorem d_L_law_722 : decode b_L_law 722 = .ok (.aload_n 0, 1) := by decide +kernel
theorem d_L_law_723 : decode b_L_law 723 = .ok (.iload 4, 2) := by decide +kernel
theorem d_L_law_725 : decode b_L_law 725 = .ok (.iconst 1, 1) := by decide +kernel
theorem d_L_law_726 : decode b_L_law 726 = .ok (.iadd, 1) := by decide +kernel
theorem d_L_law_727 : decode b_L_law 727 = .ok (.iaload, 1) := by decide +kernel
theorem d_L_law_728 : decode b_L_law 728 = .ok (.aload_n 0, 1) := by decide +kernel
theorem d_L_law_729 : decode b_L_law 729 = .ok (.iload 4, 2) := by decide +kernel
theorem d_L_law_731 : decode b_L_law 731 = .ok (.iconst 2, 1) := by decide +kernel
theorem d_L_law_732 : decode b_L_law 732 = .ok (.iadd, 1) := by decide +kernel
theorem d_L_law_733 : decode b_L_law 733 = .ok (.iaload, 1) := by decide +kernel
theorem d_L_law_734 : decode b_L_law 734 = .ok (.invokevirtual 102, 3) := by decide +kernel
theorem d_L_law_737 : decode b_L_law 737 = .ok (.istore 6, 2) := by decide +kernel
theorem d_L_law_739 : decode b_L_law 739 = .ok (.aload_n 2, 1) := by decide +kernel
theorem d_L_law_740 : decode b_L_law 740 = .ok (.invokevirtual 62, 3) := by decide +kernel
theorem d_L_law_743 : decode b_L_law 743 = .ok (.iload 5, 2) := by decide +kernel
theorem d_L_law_745 : decode b_L_law 745 = .ok (.if_icmp .eq 5, 3) := by decide +kernel
theorem d_L_law_748 : decode b_L_law 748 = .ok (.iconst 0, 1) := by decide +kernel
theorem d_L_law_749 : decode b_L_law 749 = .ok (.ireturn, 1) := by decide +kernel
theorem d_L_law_750 : decode b_L_law 750 = .ok (.iload 5, 2) := by decide +kernel
theorem d_L_law_752 : decode b_L_law 752 = .ok (.ifCond .ne 22, 3) := by decide +kernel
theorem d_L_law_755 : decode b_L_law 755 = .ok (.aload_n 3, 1) := by decide +kernel
theorem d_L_law_756 : decode b_L_law 756 = .ok (.iconst 0, 1) := by decide +kernel
theorem d_L_law_757 : decode b_L_law 757 = .ok (.laload, 1) := by decide +kernel
theorem d_L_law_758 : decode b_L_law 758 = .ok (.iload 6, 2) := by decide +kernel
theorem d_L_law_760 : decode b_L_law 760 = .ok (.ifCond .eq 7, 3) := by decide +kernel
theorem d_L_law_763 : decode b_L_law 763 = .ok (.lconst 1, 1) := by decide +kernel
theorem d_L_law_764 : decode b_L_law 764 = .ok (.goto 4, 3) := by decide +kernel
theorem d_L_law_767 : decode b_L_law 767 = .ok (.lconst 0, 1) := by decide +kernel
theorem d_L_law_768 : decode b_L_law 768 = .ok (.lcmp, 1) := by decide +kernel
theorem d_L_law_769 : decode b_L_law 769 = .ok (.ifCond .eq 5, 3) := by decide +kernel
theorem d_L_law_772 : decode b_L_law 772 = .ok (.iconst 0, 1) := by decide +kernel
theorem d_L_law_773 : decode b_L_law 773 = .ok (.ireturn, 1) := by decide +kernel
theorem d_L_law_774 : decode b_L_law 774 = .ok (.goto 84, 3) := by decide +kernel
theorem d_L_law_777 : decode b_L_law 777 = .ok (.aload_n 1, 1) := by decide +kernel
theorem d_L_law_778 : decode b_L_law 778 = .ok (.aload_n 0, 1) := by decide +kernel
theorem d_L_law_779 : decode b_L_law 779 = .ok (.iload 4, 2) := by decide +kernel
theorem d_L_law_781 : decode b_L_law 781 = .ok (.iconst 1, 1) := by decide +kernel
theorem d_L_law_782 : decode b_L_law 782 = .ok (.iadd, 1) := by decide +kernel
theorem d_L_law_783 : decode b_L_law 783 = .ok (.iaload, 1) := by decide +kernel
theorem d_L_law_784 : decode b_L_law 784 = .ok (.aload_n 3, 1) := by decide +kernel
theorem d_L_law_785 : decode b_L_law 785 = .ok (.invokestatic 103, 3) := by decide +kernel
theorem d_L_law_788 : decode b_L_law 788 = .ok (.istore 5, 2) := by decide +kernel
theorem d_L_law_790 : decode b_L_law 790 = .ok (.aload_n 2, 1) := by decide +kernel
theorem d_L_law_791 : decode b_L_law 791 = .ok (.aload_n 0, 1) := by decide +kernel
theorem d_L_law_792 : decode b_L_law 792 = .ok (.iload 4, 2) := by decide +kernel
theorem d_L_law_794 : decode b_L_law 794 = .ok (.iconst 1, 1) := by decide +kernel
theorem d_L_law_795 : decode b_L_law 795 = .ok (.iadd, 1) := by decide +kernel
theorem d_L_law_796 : decode b_L_law 796 = .ok (.iaload, 1) := by decide +kernel
theorem d_L_law_797 : decode b_L_law 797 = .ok (.invokevirtual 105, 3) := by decide +kernel
theorem d_L_law_800 : decode b_L_law 800 = .ok (.istore 6, 2) := by decide +kernel
theorem d_L_law_802 : decode b_L_law 802 = .ok (.aload_n 2, 1) := by decide +kernel
theorem d_L_law_803 : decode b_L_law 803 = .ok (.invokevirtual 62, 3) := by decide +kernel
theorem d_L_law_806 : decode b_L_law 806 = .ok (.iload 5, 2) := by decide +kernel
theorem d_L_law_808 : decode b_L_law 808 = .ok (.if_icmp .eq 5, 3) := by decide +kernel
theorem d_L_law_811 : decode b_L_law 811 = .ok (.iconst 0, 1) := by decide +kernel
theorem d_L_law_812 : decode b_L_law 812 = .ok (.ireturn, 1) := by decide +kernel
theorem d_L_law_813 : decode b_L_law 813 = .ok (.iload 5, 2) := by decide +kernel
theorem d_L_law_815 : decode b_L_law 815 = .ok (.ifCond .ne 15, 3) := by decide +kernel
theorem d_L_law_818 : decode b_L_law 818 = .ok (.aload_n 3, 1) := by decide +kernel
theorem d_L_law_819 : decode b_L_law 819 = .ok (.iconst 0, 1) := by decide +kernel
theorem d_L_law_820 : decode b_L_law 820 = .ok (.laload, 1) := by decide +kernel
theorem d_L_law_821 : decode b_L_law 821 = .ok (.iload 6, 2) := by decide +kernel
theorem d_L_law_823 : decode b_L_law 823 = .ok (.i2l, 1) := by decide +kernel
theorem d_L_law_824 : decode b_L_law 824 = .ok (.lcmp, 1) := by decide +kernel
theorem d_L_law_825 : decode b_L_law 825 = .ok (.ifCond .eq 5, 3) := by decide +kernel
theorem d_L_law_828 : decode b_L_law 828 = .ok (.iconst 0, 1) := by decide +kernel
theorem d_L_law_829 : decode b_L_law 829 = .ok (.ireturn, 1) := by decide +kernel
theorem d_L_law_830 : decode b_L_law 830 = .ok (.goto 28, 3) := by decide +kernel
theorem d_L_law_833 : decode b_L_law 833 = .ok (.aload_n 1, 1) := by decide +kernel
theorem d_L_law_834 : decode b_L_law 834 = .ok (.aload_n 0, 1) := by decide +kernel
theorem d_L_law_835 : decode b_L_law 835 = .ok (.iload 4, 2) := by decide +kernel
theorem d_L_law_837 : decode b_L_law 837 = .ok (.iconst 1, 1) := by decide +kernel
theorem d_L_law_838 : decode b_L_law 838 = .ok (.iadd, 1) := by decide +kernel
theorem d_L_law_839 : decode b_L_law 839 = .ok (.iaload, 1) := by decide +kernel
theorem d_L_law_840 : decode b_L_law 840 = .ok (.invokevirtual 106, 3) := by decide +kernel
theorem d_L_law_843 : decode b_L_law 843 = .ok (.aload_n 2, 1) := by decide +kernel
theorem d_L_law_844 : decode b_L_law 844 = .ok (.aload_n 0, 1) := by decide +kernel
theorem d_L_law_845 : decode b_L_law 845 = .ok (.iload 4, 2) := by decide +kernel
theorem d_L_law_847 : decode b_L_law 847 = .ok (.iconst 1, 1) := by decide +kernel
theorem d_L_law_848 : decode b_L_law 848 = .ok (.iadd, 1) := by decide +kernel
theorem d_L_law_849 : decode b_L_law 849 = .ok (.iaload, 1) := by decide +kernel
theorem d_L_law_850 : decode b_L_law 850 = .ok (.invokevirtual 109, 3) := by decide +kernel
theorem d_L_law_853 : decode b_L_law 853 = .ok (.if_icmp .eq 5, 3) := by decide +kernel
theorem d_L_law_856 : decode b_L_law 856 = .ok (.iconst 0, 1) := by decide +kernel
theorem d_L_law_857 : decode b_L_law 857 = .ok (.ireturn, 1) := by decide +kernel
theorem d_L_law_858 : decode b_L_law 858 = .ok (.iinc 4 4, 3) := by decide +kernel
theorem d_L_law_861 : decode b_L_law 861 = .ok (.goto (-838), 3) := by decide +kernel
theorem d_L_law_864 : decode b_L_law 864 = .ok (.iconst 1, 1) := by decide +kernel
theorem d_L_law_865 : decode b_L_law 865 = .ok (.ireturn, 1) := by decide +kernel
