theorem d_MO_perform_0 : decode b_MO_perform 0 = .ok (.aload_n 0, 1) := by decide +kernel
theorem d_MO_perform_1 : decode b_MO_perform 1 = .ok (.getfield 7, 3) := by decide +kernel
theorem d_MO_perform_4 : decode b_MO_perform 4 = .ok (.aload_n 0, 1) := by decide +kernel
theorem d_MO_perform_5 : decode b_MO_perform 5 = .ok (.getfield 66, 3) := by decide +kernel
theorem d_MO_perform_8 : decode b_MO_perform 8 = .ok (.iaload, 1) := by decide +kernel
theorem d_MO_perform_9 : decode b_MO_perform 9 = .ok (.bipush 31, 2) := by decide +kernel
theorem d_MO_perform_11 : decode b_MO_perform 11 = .ok (.iand, 1) := by decide +kernel
theorem d_MO_perform_12 : decode b_MO_perform 12 = .ok (.istore_n 1, 1) := by decide +kernel
theorem d_MO_perform_13 : decode b_MO_perform 13 = .ok (.aload_n 0, 1) := by decide +kernel
theorem d_MO_perform_14 : decode b_MO_perform 14 = .ok (.getfield 7, 3) := by decide +kernel
theorem d_MO_perform_17 : decode b_MO_perform 17 = .ok (.aload_n 0, 1) := by decide +kernel
theorem d_MO_perform_18 : decode b_MO_perform 18 = .ok (.getfield 66, 3) := by decide +kernel
theorem d_MO_perform_21 : decode b_MO_perform 21 = .ok (.iaload, 1) := by decide +kernel
theorem d_MO_perform_22 : decode b_MO_perform 22 = .ok (.iconst 5, 1) := by decide +kernel
theorem d_MO_perform_23 : decode b_MO_perform 23 = .ok (.ishr, 1) := by decide +kernel
theorem d_MO_perform_24 : decode b_MO_perform 24 = .ok (.istore_n 2, 1) := by decide +kernel
theorem d_MO_perform_25 : decode b_MO_perform 25 = .ok (.aload_n 0, 1) := by decide +kernel
theorem d_MO_perform_26 : decode b_MO_perform 26 = .ok (.dup, 1) := by decide +kernel
theorem d_MO_perform_27 : decode b_MO_perform 27 = .ok (.getfield 66, 3) := by decide +kernel
theorem d_MO_perform_30 : decode b_MO_perform 30 = .ok (.iconst 1, 1) := by decide +kernel
theorem d_MO_perform_31 : decode b_MO_perform 31 = .ok (.iadd, 1) := by decide +kernel
theorem d_MO_perform_32 : decode b_MO_perform 32 = .ok (.putfield 66, 3) := by decide +kernel
theorem d_MO_perform_35 : decode b_MO_perform 35 = .ok (.aload_n 0, 1) := by decide +kernel
theorem d_MO_perform_36 : decode b_MO_perform 36 = .ok (.dup, 1) := by decide +kernel
theorem d_MO_perform_37 : decode b_MO_perform 37 = .ok (.getfield 63, 3) := by decide +kernel
theorem d_MO_perform_40 : decode b_MO_perform 40 = .ok (.iconst 1, 1) := by decide +kernel
theorem d_MO_perform_41 : decode b_MO_perform 41 = .ok (.iadd, 1) := by decide +kernel
theorem d_MO_perform_42 : decode b_MO_perform 42 = .ok (.putfield 63, 3) := by decide +kernel
theorem d_MO_perform_45 : decode b_MO_perform 45 = .ok (.iload_n 1, 1) := by decide +kernel
theorem d_MO_perform_46 : decode b_MO_perform 46 = .ok (.tableswitch 311 1 20 #[94, 102, 115, 133, 311, 311, 311, 311, 311, 182, 198, 216, 216, 216, 225, 233, 240, 260, 288, 300], 94) := by decide +kernel
theorem d_MO_perform_140 : decode b_MO_perform 140 = .ok (.aload_n 0, 1) := by decide +kernel
theorem d_MO_perform_141 : decode b_MO_perform 141 = .ok (.iload_n 2, 1) := by decide +kernel
theorem d_MO_perform_142 : decode b_MO_perform 142 = .ok (.invokevirtual 96, 3) := by decide +kernel
theorem d_MO_perform_145 : decode b_MO_perform 145 = .ok (.goto 230, 3) := by decide +kernel
theorem d_MO_perform_148 : decode b_MO_perform 148 = .ok (.aload_n 0, 1) := by decide +kernel
theorem d_MO_perform_149 : decode b_MO_perform 149 = .ok (.dup, 1) := by decide +kernel
theorem d_MO_perform_150 : decode b_MO_perform 150 = .ok (.getfield 75, 3) := by decide +kernel
theorem d_MO_perform_153 : decode b_MO_perform 153 = .ok (.iconst 1, 1) := by decide +kernel
theorem d_MO_perform_154 : decode b_MO_perform 154 = .ok (.isub, 1) := by decide +kernel
theorem d_MO_perform_155 : decode b_MO_perform 155 = .ok (.putfield 75, 3) := by decide +kernel
theorem d_MO_perform_158 : decode b_MO_perform 158 = .ok (.goto 217, 3) := by decide +kernel
theorem d_MO_perform_161 : decode b_MO_perform 161 = .ok (.aload_n 0, 1) := by decide +kernel
theorem d_MO_perform_162 : decode b_MO_perform 162 = .ok (.aload_n 0, 1) := by decide +kernel
theorem d_MO_perform_163 : decode b_MO_perform 163 = .ok (.getfield 26, 3) := by decide +kernel
theorem d_MO_perform_166 : decode b_MO_perform 166 = .ok (.aload_n 0, 1) := by decide +kernel
theorem d_MO_perform_167 : decode b_MO_perform 167 = .ok (.getfield 75, 3) := by decide +kernel
theorem d_MO_perform_170 : decode b_MO_perform 170 = .ok (.iconst 1, 1) := by decide +kernel
theorem d_MO_perform_171 : decode b_MO_perform 171 = .ok (.isub, 1) := by decide +kernel
theorem d_MO_perform_172 : decode b_MO_perform 172 = .ok (.iaload, 1) := by decide +kernel
theorem d_MO_perform_173 : decode b_MO_perform 173 = .ok (.invokevirtual 96, 3) := by decide +kernel
theorem d_MO_perform_176 : decode b_MO_perform 176 = .ok (.goto 199, 3) := by decide +kernel
theorem d_MO_perform_179 : decode b_MO_perform 179 = .ok (.aload_n 0, 1) := by decide +kernel
theorem d_MO_perform_180 : decode b_MO_perform 180 = .ok (.getfield 26, 3) := by decide +kernel
theorem d_MO_perform_183 : decode b_MO_perform 183 = .ok (.aload_n 0, 1) := by decide +kernel
theorem d_MO_perform_184 : decode b_MO_perform 184 = .ok (.getfield 75, 3) := by decide +kernel
theorem d_MO_perform_187 : decode b_MO_perform 187 = .ok (.iconst 1, 1) := by decide +kernel
theorem d_MO_perform_188 : decode b_MO_perform 188 = .ok (.isub, 1) := by decide +kernel
theorem d_MO_perform_189 : decode b_MO_perform 189 = .ok (.iaload, 1) := by decide +kernel
theorem d_MO_perform_190 : decode b_MO_perform 190 = .ok (.istore_n 3, 1) := by decide +kernel
theorem d_MO_perform_191 : decode b_MO_perform 191 = .ok (.aload_n 0, 1) := by decide +kernel
theorem d_MO_perform_192 : decode b_MO_perform 192 = .ok (.getfield 26, 3) := by decide +kernel
theorem d_MO_perform_195 : decode b_MO_perform 195 = .ok (.aload_n 0, 1) := by decide +kernel
theorem d_MO_perform_196 : decode b_MO_perform 196 = .ok (.getfield 75, 3) := by decide +kernel
theorem d_MO_perform_199 : decode b_MO_perform 199 = .ok (.iconst 1, 1) := by decide +kernel
theorem d_MO_perform_200 : decode b_MO_perform 200 = .ok (.isub, 1) := by decide +kernel
theorem d_MO_perform_201 : decode b_MO_perform 201 = .ok (.aload_n 0, 1) := by decide +kernel
theorem d_MO_perform_202 : decode b_MO_perform 202 = .ok (.getfield 26, 3) := by decide +kernel
theorem d_MO_perform_205 : decode b_MO_perform 205 = .ok (.aload_n 0, 1) := by decide +kernel
theorem d_MO_perform_206 : decode b_MO_perform 206 = .ok (.getfield 75, 3) := by decide +kernel
theorem d_MO_perform_209 : decode b_MO_perform 209 = .ok (.iconst 2, 1) := by decide +kernel
theorem d_MO_perform_210 : decode b_MO_perform 210 = .ok (.isub, 1) := by decide +kernel
theorem d_MO_perform_211 : decode b_MO_perform 211 = .ok (.iaload, 1) := by decide +kernel
theorem d_MO_perform_212 : decode b_MO_perform 212 = .ok (.iastore, 1) := by decide +kernel
theorem d_MO_perform_213 : decode b_MO_perform 213 = .ok (.aload_n 0, 1) := by decide +kernel
theorem d_MO_perform_214 : decode b_MO_perform 214 = .ok (.getfield 26, 3) := by decide +kernel
theorem d_MO_perform_217 : decode b_MO_perform 217 = .ok (.aload_n 0, 1) := by decide +kernel
theorem d_MO_perform_218 : decode b_MO_perform 218 = .ok (.getfield 75, 3) := by decide +kernel
theorem d_MO_perform_221 : decode b_MO_perform 221 = .ok (.iconst 2, 1) := by decide +kernel
theorem d_MO_perform_222 : decode b_MO_perform 222 = .ok (.isub, 1) := by decide +kernel
theorem d_MO_perform_223 : decode b_MO_perform 223 = .ok (.iload_n 3, 1) := by decide +kernel
theorem d_MO_perform_224 : decode b_MO_perform 224 = .ok (.iastore, 1) := by decide +kernel
theorem d_MO_perform_225 : decode b_MO_perform 225 = .ok (.goto 150, 3) := by decide +kernel
theorem d_MO_perform_228 : decode b_MO_perform 228 = .ok (.aload_n 0, 1) := by decide +kernel
theorem d_MO_perform_229 : decode b_MO_perform 229 = .ok (.aload_n 0, 1) := by decide +kernel
theorem d_MO_perform_230 : decode b_MO_perform 230 = .ok (.getfield 23, 3) := by decide +kernel
theorem d_MO_perform_233 : decode b_MO_perform 233 = .ok (.aload_n 0, 1) := by decide +kernel
theorem d_MO_perform_234 : decode b_MO_perform 234 = .ok (.invokevirtual 92, 3) := by decide +kernel
theorem d_MO_perform_237 : decode b_MO_perform 237 = .ok (.iaload, 1) := by decide +kernel
theorem d_MO_perform_238 : decode b_MO_perform 238 = .ok (.invokevirtual 96, 3) := by decide +kernel
theorem d_MO_perform_241 : decode b_MO_perform 241 = .ok (.goto 134, 3) := by decide +kernel
theorem d_MO_perform_244 : decode b_MO_perform 244 = .ok (.aload_n 0, 1) := by decide +kernel
theorem d_MO_perform_245 : decode b_MO_perform 245 = .ok (.invokevirtual 92, 3) := by decide +kernel
theorem d_MO_perform_248 : decode b_MO_perform 248 = .ok (.istore_n 3, 1) := by decide +kernel
theorem d_MO_perform_249 : decode b_MO_perform 249 = .ok (.aload_n 0, 1) := by decide +kernel
theorem d_MO_perform_250 : decode b_MO_perform 250 = .ok (.getfield 23, 3) := by decide +kernel
theorem d_MO_perform_253 : decode b_MO_perform 253 = .ok (.iload_n 3, 1) := by decide +kernel
theorem d_MO_perform_254 : decode b_MO_perform 254 = .ok (.aload_n 0, 1) := by decide +kernel
theorem d_MO_perform_255 : decode b_MO_perform 255 = .ok (.invokevirtual 92, 3) := by decide +kernel
theorem d_MO_perform_258 : decode b_MO_perform 258 = .ok (.iastore, 1) := by decide +kernel
theorem d_MO_perform_259 : decode b_MO_perform 259 = .ok (.goto 116, 3) := by decide +kernel
theorem d_MO_perform_262 : decode b_MO_perform 262 = .ok (.aload_n 0, 1) := by decide +kernel
theorem d_MO_perform_263 : decode b_MO_perform 263 = .ok (.iload_n 1, 1) := by decide +kernel
theorem d_MO_perform_264 : decode b_MO_perform 264 = .ok (.iload_n 2, 1) := by decide +kernel
theorem d_MO_perform_265 : decode b_MO_perform 265 = .ok (.invokevirtual 102, 3) := by decide +kernel
theorem d_MO_perform_268 : decode b_MO_perform 268 = .ok (.goto 107, 3) := by decide +kernel
theorem d_MO_perform_271 : decode b_MO_perform 271 = .ok (.aload_n 0, 1) := by decide +kernel
theorem d_MO_perform_272 : decode b_MO_perform 272 = .ok (.iload_n 2, 1) := by decide +kernel
theorem d_MO_perform_273 : decode b_MO_perform 273 = .ok (.invokevirtual 106, 3) := by decide +kernel
theorem d_MO_perform_276 : decode b_MO_perform 276 = .ok (.goto 99, 3) := by decide +kernel
theorem d_MO_perform_279 : decode b_MO_perform 279 = .ok (.aload_n 0, 1) := by decide +kernel
theorem d_MO_perform_280 : decode b_MO_perform 280 = .ok (.invokevirtual 109, 3) := by decide +kernel
theorem d_MO_perform_283 : decode b_MO_perform 283 = .ok (.goto 92, 3) := by decide +kernel
theorem d_MO_perform_286 : decode b_MO_perform 286 = .ok (.aload_n 0, 1) := by decide +kernel
theorem d_MO_perform_287 : decode b_MO_perform 287 = .ok (.aload_n 0, 1) := by decide +kernel
theorem d_MO_perform_288 : decode b_MO_perform 288 = .ok (.getfield 26, 3) := by decide +kernel
theorem d_MO_perform_291 : decode b_MO_perform 291 = .ok (.aload_n 0, 1) := by decide +kernel
theorem d_MO_perform_292 : decode b_MO_perform 292 = .ok (.getfield 69, 3) := by decide +kernel
theorem d_MO_perform_295 : decode b_MO_perform 295 = .ok (.iconst 3, 1) := by decide +kernel
theorem d_MO_perform_296 : decode b_MO_perform 296 = .ok (.isub, 1) := by decide +kernel
theorem d_MO_perform_297 : decode b_MO_perform 297 = .ok (.iload_n 2, 1) := by decide +kernel
theorem d_MO_perform_298 : decode b_MO_perform 298 = .ok (.isub, 1) := by decide +kernel
theorem d_MO_perform_299 : decode b_MO_perform 299 = .ok (.iaload, 1) := by decide +kernel
theorem d_MO_perform_300 : decode b_MO_perform 300 = .ok (.invokevirtual 96, 3) := by decide +kernel
theorem d_MO_perform_303 : decode b_MO_perform 303 = .ok (.goto 72, 3) := by decide +kernel
theorem d_MO_perform_306 : decode b_MO_perform 306 = .ok (.aload_n 0, 1) := by decide +kernel
theorem d_MO_perform_307 : decode b_MO_perform 307 = .ok (.dup, 1) := by decide +kernel
theorem d_MO_perform_308 : decode b_MO_perform 308 = .ok (.getfield 72, 3) := by decide +kernel
theorem d_MO_perform_311 : decode b_MO_perform 311 = .ok (.iconst 1, 1) := by decide +kernel
theorem d_MO_perform_312 : decode b_MO_perform 312 = .ok (.iadd, 1) := by decide +kernel
theorem d_MO_perform_313 : decode b_MO_perform 313 = .ok (.putfield 72, 3) := by decide +kernel
theorem d_MO_perform_316 : decode b_MO_perform 316 = .ok (.aload_n 0, 1) := by decide +kernel
theorem d_MO_perform_317 : decode b_MO_perform 317 = .ok (.aload_n 0, 1) := by decide +kernel
theorem d_MO_perform_318 : decode b_MO_perform 318 = .ok (.getfield 13, 3) := by decide +kernel
theorem d_MO_perform_321 : decode b_MO_perform 321 = .ok (.aload_n 0, 1) := by decide +kernel
theorem d_MO_perform_322 : decode b_MO_perform 322 = .ok (.getfield 72, 3) := by decide +kernel
theorem d_MO_perform_325 : decode b_MO_perform 325 = .ok (.iconst 1, 1) := by decide +kernel
theorem d_MO_perform_326 : decode b_MO_perform 326 = .ok (.isub, 1) := by decide +kernel
theorem d_MO_perform_327 : decode b_MO_perform 327 = .ok (.iaload, 1) := by decide +kernel
theorem d_MO_perform_328 : decode b_MO_perform 328 = .ok (.invokevirtual 96, 3) := by decide +kernel
theorem d_MO_perform_331 : decode b_MO_perform 331 = .ok (.goto 44, 3) := by decide +kernel
theorem d_MO_perform_334 : decode b_MO_perform 334 = .ok (.aload_n 0, 1) := by decide +kernel
theorem d_MO_perform_335 : decode b_MO_perform 335 = .ok (.aload_n 0, 1) := by decide +kernel
theorem d_MO_perform_336 : decode b_MO_perform 336 = .ok (.iload_n 2, 1) := by decide +kernel
theorem d_MO_perform_337 : decode b_MO_perform 337 = .ok (.invokevirtual 112, 3) := by decide +kernel
theorem d_MO_perform_340 : decode b_MO_perform 340 = .ok (.invokevirtual 96, 3) := by decide +kernel
theorem d_MO_perform_343 : decode b_MO_perform 343 = .ok (.goto 32, 3) := by decide +kernel
theorem d_MO_perform_346 : decode b_MO_perform 346 = .ok (.aload_n 0, 1) := by decide +kernel
theorem d_MO_perform_347 : decode b_MO_perform 347 = .ok (.aload_n 0, 1) := by decide +kernel
theorem d_MO_perform_348 : decode b_MO_perform 348 = .ok (.getfield 69, 3) := by decide +kernel
theorem d_MO_perform_351 : decode b_MO_perform 351 = .ok (.invokevirtual 96, 3) := by decide +kernel
theorem d_MO_perform_354 : decode b_MO_perform 354 = .ok (.goto 21, 3) := by decide +kernel
theorem d_MO_perform_357 : decode b_MO_perform 357 = .ok (.aload_n 0, 1) := by decide +kernel
theorem d_MO_perform_358 : decode b_MO_perform 358 = .ok (.invokevirtual 92, 3) := by decide +kernel
theorem d_MO_perform_361 : decode b_MO_perform 361 = .ok (.istore_n 3, 1) := by decide +kernel
theorem d_MO_perform_362 : decode b_MO_perform 362 = .ok (.aload_n 0, 1) := by decide +kernel
theorem d_MO_perform_363 : decode b_MO_perform 363 = .ok (.iload_n 1, 1) := by decide +kernel
theorem d_MO_perform_364 : decode b_MO_perform 364 = .ok (.aload_n 0, 1) := by decide +kernel
theorem d_MO_perform_365 : decode b_MO_perform 365 = .ok (.invokevirtual 92, 3) := by decide +kernel
theorem d_MO_perform_368 : decode b_MO_perform 368 = .ok (.iload_n 3, 1) := by decide +kernel
theorem d_MO_perform_369 : decode b_MO_perform 369 = .ok (.invokestatic 115, 3) := by decide +kernel
theorem d_MO_perform_372 : decode b_MO_perform 372 = .ok (.invokevirtual 96, 3) := by decide +kernel
theorem d_MO_perform_375 : decode b_MO_perform 375 = .ok (.return_, 1) := by decide +kernel
theorem d_MO_advance_0 : decode b_MO_advance 0 = .ok (.aload_n 0, 1) := by decide +kernel
theorem d_MO_advance_1 : decode b_MO_advance 1 = .ok (.invokevirtual 119, 3) := by decide +kernel
theorem d_MO_advance_4 : decode b_MO_advance 4 = .ok (.istore_n 1, 1) := by decide +kernel
theorem d_MO_advance_5 : decode b_MO_advance 5 = .ok (.iload_n 1, 1) := by decide +kernel
theorem d_MO_advance_6 : decode b_MO_advance 6 = .ok (.ifCond .eq 5, 3) := by decide +kernel
theorem d_MO_advance_9 : decode b_MO_advance 9 = .ok (.iload_n 1, 1) := by decide +kernel
theorem d_MO_advance_10 : decode b_MO_advance 10 = .ok (.ireturn, 1) := by decide +kernel
theorem d_MO_advance_11 : decode b_MO_advance 11 = .ok (.aload_n 0, 1) := by decide +kernel
theorem d_MO_advance_12 : decode b_MO_advance 12 = .ok (.getfield 63, 3) := by decide +kernel
theorem d_MO_advance_15 : decode b_MO_advance 15 = .ok (.sipush 3000, 3) := by decide +kernel
theorem d_MO_advance_18 : decode b_MO_advance 18 = .ok (.if_icmp .ne 6, 3) := by decide +kernel
theorem d_MO_advance_21 : decode b_MO_advance 21 = .ok (.bipush 8, 2) := by decide +kernel
theorem d_MO_advance_23 : decode b_MO_advance 23 = .ok (.ireturn, 1) := by decide +kernel
theorem d_MO_advance_24 : decode b_MO_advance 24 = .ok (.aload_n 0, 1) := by decide +kernel
theorem d_MO_advance_25 : decode b_MO_advance 25 = .ok (.invokevirtual 78, 3) := by decide +kernel
theorem d_MO_advance_28 : decode b_MO_advance 28 = .ok (.aload_n 0, 1) := by decide +kernel
theorem d_MO_advance_29 : decode b_MO_advance 29 = .ok (.aload_n 0, 1) := by decide +kernel
theorem d_MO_advance_30 : decode b_MO_advance 30 = .ok (.getfield 122, 3) := by decide +kernel
theorem d_MO_advance_33 : decode b_MO_advance 33 = .ok (.bipush 32, 2) := by decide +kernel
theorem d_MO_advance_35 : decode b_MO_advance 35 = .ok (.if_icmp .ge 12, 3) := by decide +kernel
theorem d_MO_advance_38 : decode b_MO_advance 38 = .ok (.aload_n 0, 1) := by decide +kernel
theorem d_MO_advance_39 : decode b_MO_advance 39 = .ok (.getfield 122, 3) := by decide +kernel
theorem d_MO_advance_42 : decode b_MO_advance 42 = .ok (.iconst 1, 1) := by decide +kernel
theorem d_MO_advance_43 : decode b_MO_advance 43 = .ok (.iadd, 1) := by decide +kernel
theorem d_MO_advance_44 : decode b_MO_advance 44 = .ok (.goto 5, 3) := by decide +kernel
theorem d_MO_advance_47 : decode b_MO_advance 47 = .ok (.bipush 32, 2) := by decide +kernel
theorem d_MO_advance_49 : decode b_MO_advance 49 = .ok (.putfield 122, 3) := by decide +kernel
theorem d_MO_advance_52 : decode b_MO_advance 52 = .ok (.aload_n 0, 1) := by decide +kernel
theorem d_MO_advance_53 : decode b_MO_advance 53 = .ok (.getfield 63, 3) := by decide +kernel
theorem d_MO_advance_56 : decode b_MO_advance 56 = .ok (.aload_n 0, 1) := by decide +kernel
theorem d_MO_advance_57 : decode b_MO_advance 57 = .ok (.getfield 57, 3) := by decide +kernel
theorem d_MO_advance_60 : decode b_MO_advance 60 = .ok (.if_icmp .le 7, 3) := by decide +kernel
theorem d_MO_advance_63 : decode b_MO_advance 63 = .ok (.aload_n 0, 1) := by decide +kernel
theorem d_MO_advance_64 : decode b_MO_advance 64 = .ok (.invokevirtual 125, 3) := by decide +kernel
theorem d_MO_advance_67 : decode b_MO_advance 67 = .ok (.iconst 0, 1) := by decide +kernel
theorem d_MO_advance_68 : decode b_MO_advance 68 = .ok (.ireturn, 1) := by decide +kernel
theorem d_MO_grow_0 : decode b_MO_grow 0 = .ok (.aload_n 0, 1) := by decide +kernel
theorem d_MO_grow_1 : decode b_MO_grow 1 = .ok (.aload_n 0, 1) := by decide +kernel
theorem d_MO_grow_2 : decode b_MO_grow 2 = .ok (.getfield 63, 3) := by decide +kernel
theorem d_MO_grow_5 : decode b_MO_grow 5 = .ok (.putfield 57, 3) := by decide +kernel
theorem d_MO_grow_8 : decode b_MO_grow 8 = .ok (.aload_n 0, 1) := by decide +kernel
theorem d_MO_grow_9 : decode b_MO_grow 9 = .ok (.getfield 63, 3) := by decide +kernel
theorem d_MO_grow_12 : decode b_MO_grow 12 = .ok (.sipush 250, 3) := by decide +kernel
theorem d_MO_grow_15 : decode b_MO_grow 15 = .ok (.irem, 1) := by decide +kernel
theorem d_MO_grow_16 : decode b_MO_grow 16 = .ok (.ifCond .ne 7, 3) := by decide +kernel
theorem d_MO_grow_19 : decode b_MO_grow 19 = .ok (.aload_n 0, 1) := by decide +kernel
theorem d_MO_grow_20 : decode b_MO_grow 20 = .ok (.invokevirtual 48, 3) := by decide +kernel
theorem d_MO_grow_23 : decode b_MO_grow 23 = .ok (.aload_n 0, 1) := by decide +kernel
theorem d_MO_grow_24 : decode b_MO_grow 24 = .ok (.getfield 63, 3) := by decide +kernel
theorem d_MO_grow_27 : decode b_MO_grow 27 = .ok (.aload_n 0, 1) := by decide +kernel
theorem d_MO_grow_28 : decode b_MO_grow 28 = .ok (.getfield 38, 3) := by decide +kernel
theorem d_MO_grow_31 : decode b_MO_grow 31 = .ok (.irem, 1) := by decide +kernel
theorem d_MO_grow_32 : decode b_MO_grow 32 = .ok (.ifCond .eq 4, 3) := by decide +kernel
theorem d_MO_grow_35 : decode b_MO_grow 35 = .ok (.return_, 1) := by decide +kernel
theorem d_MO_grow_36 : decode b_MO_grow 36 = .ok (.aload_n 0, 1) := by decide +kernel
theorem d_MO_grow_37 : decode b_MO_grow 37 = .ok (.getfield 42, 3) := by decide +kernel
theorem d_MO_grow_40 : decode b_MO_grow 40 = .ok (.aload_n 0, 1) := by decide +kernel
theorem d_MO_grow_41 : decode b_MO_grow 41 = .ok (.getfield 51, 3) := by decide +kernel
theorem d_MO_grow_44 : decode b_MO_grow 44 = .ok (.aload_n 0, 1) := by decide +kernel
theorem d_MO_grow_45 : decode b_MO_grow 45 = .ok (.getfield 63, 3) := by decide +kernel
theorem d_MO_grow_48 : decode b_MO_grow 48 = .ok (.iastore, 1) := by decide +kernel
theorem d_MO_grow_49 : decode b_MO_grow 49 = .ok (.aload_n 0, 1) := by decide +kernel
theorem d_MO_grow_50 : decode b_MO_grow 50 = .ok (.dup, 1) := by decide +kernel
theorem d_MO_grow_51 : decode b_MO_grow 51 = .ok (.getfield 51, 3) := by decide +kernel
theorem d_MO_grow_54 : decode b_MO_grow 54 = .ok (.iconst 1, 1) := by decide +kernel
theorem d_MO_grow_55 : decode b_MO_grow 55 = .ok (.iadd, 1) := by decide +kernel
theorem d_MO_grow_56 : decode b_MO_grow 56 = .ok (.putfield 51, 3) := by decide +kernel
theorem d_MO_grow_59 : decode b_MO_grow 59 = .ok (.aload_n 0, 1) := by decide +kernel
theorem d_MO_grow_60 : decode b_MO_grow 60 = .ok (.getfield 51, 3) := by decide +kernel
theorem d_MO_grow_63 : decode b_MO_grow 63 = .ok (.bipush 9, 2) := by decide +kernel
theorem d_MO_grow_65 : decode b_MO_grow 65 = .ok (.if_icmp .ge 4, 3) := by decide +kernel
theorem d_MO_grow_68 : decode b_MO_grow 68 = .ok (.return_, 1) := by decide +kernel
theorem d_MO_grow_69 : decode b_MO_grow 69 = .ok (.aload_n 0, 1) := by decide +kernel
theorem d_MO_grow_70 : decode b_MO_grow 70 = .ok (.iconst 2, 1) := by decide +kernel
theorem d_MO_grow_71 : decode b_MO_grow 71 = .ok (.aload_n 0, 1) := by decide +kernel
theorem d_MO_grow_72 : decode b_MO_grow 72 = .ok (.getfield 38, 3) := by decide +kernel
theorem d_MO_grow_75 : decode b_MO_grow 75 = .ok (.imul, 1) := by decide +kernel
theorem d_MO_grow_76 : decode b_MO_grow 76 = .ok (.putfield 38, 3) := by decide +kernel
theorem d_MO_grow_79 : decode b_MO_grow 79 = .ok (.aload_n 0, 1) := by decide +kernel
theorem d_MO_grow_80 : decode b_MO_grow 80 = .ok (.iconst 0, 1) := by decide +kernel
theorem d_MO_grow_81 : decode b_MO_grow 81 = .ok (.putfield 51, 3) := by decide +kernel
theorem d_MO_grow_84 : decode b_MO_grow 84 = .ok (.iconst 0, 1) := by decide +kernel
theorem d_MO_grow_85 : decode b_MO_grow 85 = .ok (.istore_n 1, 1) := by decide +kernel
theorem d_MO_grow_86 : decode b_MO_grow 86 = .ok (.iload_n 1, 1) := by decide +kernel
theorem d_MO_grow_87 : decode b_MO_grow 87 = .ok (.bipush 9, 2) := by decide +kernel
theorem d_MO_grow_89 : decode b_MO_grow 89 = .ok (.if_icmp .ge 51, 3) := by decide +kernel
theorem d_MO_grow_92 : decode b_MO_grow 92 = .ok (.aload_n 0, 1) := by decide +kernel
theorem d_MO_grow_93 : decode b_MO_grow 93 = .ok (.getfield 42, 3) := by decide +kernel
theorem d_MO_grow_96 : decode b_MO_grow 96 = .ok (.iload_n 1, 1) := by decide +kernel
theorem d_MO_grow_97 : decode b_MO_grow 97 = .ok (.iaload, 1) := by decide +kernel
theorem d_MO_grow_98 : decode b_MO_grow 98 = .ok (.aload_n 0, 1) := by decide +kernel
theorem d_MO_grow_99 : decode b_MO_grow 99 = .ok (.getfield 38, 3) := by decide +kernel
theorem d_MO_grow_102 : decode b_MO_grow 102 = .ok (.irem, 1) := by decide +kernel
theorem d_MO_grow_103 : decode b_MO_grow 103 = .ok (.ifCond .eq 6, 3) := by decide +kernel
theorem d_MO_grow_106 : decode b_MO_grow 106 = .ok (.goto 28, 3) := by decide +kernel
theorem d_MO_grow_109 : decode b_MO_grow 109 = .ok (.aload_n 0, 1) := by decide +kernel
theorem d_MO_grow_110 : decode b_MO_grow 110 = .ok (.getfield 42, 3) := by decide +kernel
theorem d_MO_grow_113 : decode b_MO_grow 113 = .ok (.aload_n 0, 1) := by decide +kernel
theorem d_MO_grow_114 : decode b_MO_grow 114 = .ok (.getfield 51, 3) := by decide +kernel
theorem d_MO_grow_117 : decode b_MO_grow 117 = .ok (.aload_n 0, 1) := by decide +kernel
theorem d_MO_grow_118 : decode b_MO_grow 118 = .ok (.getfield 42, 3) := by decide +kernel
theorem d_MO_grow_121 : decode b_MO_grow 121 = .ok (.iload_n 1, 1) := by decide +kernel
theorem d_MO_grow_122 : decode b_MO_grow 122 = .ok (.iaload, 1) := by decide +kernel
theorem d_MO_grow_123 : decode b_MO_grow 123 = .ok (.iastore, 1) := by decide +kernel
theorem d_MO_grow_124 : decode b_MO_grow 124 = .ok (.aload_n 0, 1) := by decide +kernel
theorem d_MO_grow_125 : decode b_MO_grow 125 = .ok (.dup, 1) := by decide +kernel
theorem d_MO_grow_126 : decode b_MO_grow 126 = .ok (.getfield 51, 3) := by decide +kernel
theorem d_MO_grow_129 : decode b_MO_grow 129 = .ok (.iconst 1, 1) := by decide +kernel
theorem d_MO_grow_130 : decode b_MO_grow 130 = .ok (.iadd, 1) := by decide +kernel
theorem d_MO_grow_131 : decode b_MO_grow 131 = .ok (.putfield 51, 3) := by decide +kernel
theorem d_MO_grow_134 : decode b_MO_grow 134 = .ok (.iinc 1 1, 3) := by decide +kernel
theorem d_MO_grow_137 : decode b_MO_grow 137 = .ok (.goto (-51), 3) := by decide +kernel
theorem d_MO_grow_140 : decode b_MO_grow 140 = .ok (.return_, 1) := by decide +kernel
theorem d_MO_step_0 : decode b_MO_step 0 = .ok (.aload_n 0, 1) := by decide +kernel
theorem d_MO_step_1 : decode b_MO_step 1 = .ok (.iconst 0, 1) := by decide +kernel
theorem d_MO_step_2 : decode b_MO_step 2 = .ok (.putfield 54, 3) := by decide +kernel
theorem d_MO_step_5 : decode b_MO_step 5 = .ok (.aload_n 0, 1) := by decide +kernel
theorem d_MO_step_6 : decode b_MO_step 6 = .ok (.iconst 0, 1) := by decide +kernel
theorem d_MO_step_7 : decode b_MO_step 7 = .ok (.putfield 128, 3) := by decide +kernel
theorem d_MO_step_10 : decode b_MO_step 10 = .ok (.aload_n 0, 1) := by decide +kernel
theorem d_MO_step_11 : decode b_MO_step 11 = .ok (.invokevirtual 131, 3) := by decide +kernel
theorem d_MO_step_14 : decode b_MO_step 14 = .ok (.ireturn, 1) := by decide +kernel
theorem d_MO_remember_0 : decode b_MO_remember 0 = .ok (.iconst 0, 1) := by decide +kernel
theorem d_MO_remember_1 : decode b_MO_remember 1 = .ok (.istore_n 1, 1) := by decide +kernel
theorem d_MO_remember_2 : decode b_MO_remember 2 = .ok (.iload_n 1, 1) := by decide +kernel
theorem d_MO_remember_3 : decode b_MO_remember 3 = .ok (.bipush 32, 2) := by decide +kernel
theorem d_MO_remember_5 : decode b_MO_remember 5 = .ok (.if_icmp .ge 21, 3) := by decide +kernel
theorem d_MO_remember_8 : decode b_MO_remember 8 = .ok (.aload_n 0, 1) := by decide +kernel
theorem d_MO_remember_9 : decode b_MO_remember 9 = .ok (.getfield 29, 3) := by decide +kernel
theorem d_MO_remember_12 : decode b_MO_remember 12 = .ok (.iload_n 1, 1) := by decide +kernel
theorem d_MO_remember_13 : decode b_MO_remember 13 = .ok (.aload_n 0, 1) := by decide +kernel
theorem d_MO_remember_14 : decode b_MO_remember 14 = .ok (.getfield 23, 3) := by decide +kernel
theorem d_MO_remember_17 : decode b_MO_remember 17 = .ok (.iload_n 1, 1) := by decide +kernel
theorem d_MO_remember_18 : decode b_MO_remember 18 = .ok (.iaload, 1) := by decide +kernel
theorem d_MO_remember_19 : decode b_MO_remember 19 = .ok (.iastore, 1) := by decide +kernel
theorem d_MO_remember_20 : decode b_MO_remember 20 = .ok (.iinc 1 1, 3) := by decide +kernel
theorem d_MO_remember_23 : decode b_MO_remember 23 = .ok (.goto (-21), 3) := by decide +kernel
theorem d_MO_remember_26 : decode b_MO_remember 26 = .ok (.return_, 1) := by decide +kernel
theorem d_MO_stop_0 : decode b_MO_stop 0 = .ok (.aload_n 0, 1) := by decide +kernel
theorem d_MO_stop_1 : decode b_MO_stop 1 = .ok (.getfield 66, 3) := by decide +kernel
theorem d_MO_stop_4 : decode b_MO_stop 4 = .ok (.ifCond .lt 27, 3) := by decide +kernel
theorem d_MO_stop_7 : decode b_MO_stop 7 = .ok (.aload_n 0, 1) := by decide +kernel
theorem d_MO_stop_8 : decode b_MO_stop 8 = .ok (.getfield 66, 3) := by decide +kernel
theorem d_MO_stop_11 : decode b_MO_stop 11 = .ok (.bipush 64, 2) := by decide +kernel
theorem d_MO_stop_13 : decode b_MO_stop 13 = .ok (.if_icmp .ge 18, 3) := by decide +kernel
theorem d_MO_stop_16 : decode b_MO_stop 16 = .ok (.aload_n 0, 1) := by decide +kernel
theorem d_MO_stop_17 : decode b_MO_stop 17 = .ok (.getfield 16, 3) := by decide +kernel
theorem d_MO_stop_20 : decode b_MO_stop 20 = .ok (.aload_n 0, 1) := by decide +kernel
theorem d_MO_stop_21 : decode b_MO_stop 21 = .ok (.getfield 66, 3) := by decide +kernel
theorem d_MO_stop_24 : decode b_MO_stop 24 = .ok (.baload, 1) := by decide +kernel
theorem d_MO_stop_25 : decode b_MO_stop 25 = .ok (.ifCond .eq 6, 3) := by decide +kernel
theorem d_MO_stop_28 : decode b_MO_stop 28 = .ok (.bipush 9, 2) := by decide +kernel
theorem d_MO_stop_30 : decode b_MO_stop 30 = .ok (.ireturn, 1) := by decide +kernel
theorem d_MO_stop_31 : decode b_MO_stop 31 = .ok (.iconst 0, 1) := by decide +kernel
theorem d_MO_stop_32 : decode b_MO_stop 32 = .ok (.istore_n 1, 1) := by decide +kernel
theorem d_MO_stop_33 : decode b_MO_stop 33 = .ok (.iconst 0, 1) := by decide +kernel
theorem d_MO_stop_34 : decode b_MO_stop 34 = .ok (.istore_n 2, 1) := by decide +kernel
theorem d_MO_stop_35 : decode b_MO_stop 35 = .ok (.iload_n 2, 1) := by decide +kernel
theorem d_MO_stop_36 : decode b_MO_stop 36 = .ok (.bipush 32, 2) := by decide +kernel
theorem d_MO_stop_38 : decode b_MO_stop 38 = .ok (.if_icmp .ge 43, 3) := by decide +kernel
theorem d_MO_stop_41 : decode b_MO_stop 41 = .ok (.iload_n 1, 1) := by decide +kernel
theorem d_MO_stop_42 : decode b_MO_stop 42 = .ok (.ifCond .ne 27, 3) := by decide +kernel
theorem d_MO_stop_45 : decode b_MO_stop 45 = .ok (.aload_n 0, 1) := by decide +kernel
theorem d_MO_stop_46 : decode b_MO_stop 46 = .ok (.getfield 20, 3) := by decide +kernel
theorem d_MO_stop_49 : decode b_MO_stop 49 = .ok (.iload_n 2, 1) := by decide +kernel
theorem d_MO_stop_50 : decode b_MO_stop 50 = .ok (.baload, 1) := by decide +kernel
theorem d_MO_stop_51 : decode b_MO_stop 51 = .ok (.ifCond .eq 22, 3) := by decide +kernel
theorem d_MO_stop_54 : decode b_MO_stop 54 = .ok (.aload_n 0, 1) := by decide +kernel
theorem d_MO_stop_55 : decode b_MO_stop 55 = .ok (.getfield 23, 3) := by decide +kernel
theorem d_MO_stop_58 : decode b_MO_stop 58 = .ok (.iload_n 2, 1) := by decide +kernel
theorem d_MO_stop_59 : decode b_MO_stop 59 = .ok (.iaload, 1) := by decide +kernel
theorem d_MO_stop_60 : decode b_MO_stop 60 = .ok (.aload_n 0, 1) := by decide +kernel
theorem d_MO_stop_61 : decode b_MO_stop 61 = .ok (.getfield 29, 3) := by decide +kernel
theorem d_MO_stop_64 : decode b_MO_stop 64 = .ok (.iload_n 2, 1) := by decide +kernel
theorem d_MO_stop_65 : decode b_MO_stop 65 = .ok (.iaload, 1) := by decide +kernel
theorem d_MO_stop_66 : decode b_MO_stop 66 = .ok (.if_icmp .eq 7, 3) := by decide +kernel
theorem d_MO_stop_69 : decode b_MO_stop 69 = .ok (.iconst 1, 1) := by decide +kernel
theorem d_MO_stop_70 : decode b_MO_stop 70 = .ok (.goto 4, 3) := by decide +kernel
theorem d_MO_stop_73 : decode b_MO_stop 73 = .ok (.iconst 0, 1) := by decide +kernel
theorem d_MO_stop_74 : decode b_MO_stop 74 = .ok (.istore_n 1, 1) := by decide +kernel
theorem d_MO_stop_75 : decode b_MO_stop 75 = .ok (.iinc 2 1, 3) := by decide +kernel
theorem d_MO_stop_78 : decode b_MO_stop 78 = .ok (.goto (-43), 3) := by decide +kernel
theorem d_MO_stop_81 : decode b_MO_stop 81 = .ok (.iload_n 1, 1) := by decide +kernel
theorem d_MO_stop_82 : decode b_MO_stop 82 = .ok (.ifCond .eq 8, 3) := by decide +kernel
theorem d_MO_stop_85 : decode b_MO_stop 85 = .ok (.bipush 10, 2) := by decide +kernel
theorem d_MO_stop_87 : decode b_MO_stop 87 = .ok (.goto 4, 3) := by decide +kernel
theorem d_MO_stop_90 : decode b_MO_stop 90 = .ok (.iconst 0, 1) := by decide +kernel
theorem d_MO_stop_91 : decode b_MO_stop 91 = .ok (.ireturn, 1) := by decide +kernel
theorem d_MO_forth_0 : decode b_MO_forth 0 = .ok (.aload_n 0, 1) := by decide +kernel
theorem d_MO_forth_1 : decode b_MO_forth 1 = .ok (.iload_n 1, 1) := by decide +kernel
theorem d_MO_forth_2 : decode b_MO_forth 2 = .ok (.ifCond .lt 10, 3) := by decide +kernel
theorem d_MO_forth_5 : decode b_MO_forth 5 = .ok (.iload_n 1, 1) := by decide +kernel
theorem d_MO_forth_6 : decode b_MO_forth 6 = .ok (.sipush 1000, 3) := by decide +kernel
theorem d_MO_forth_9 : decode b_MO_forth 9 = .ok (.if_icmp .le 7, 3) := by decide +kernel
theorem d_MO_forth_12 : decode b_MO_forth 12 = .ok (.iconst 1, 1) := by decide +kernel
theorem d_MO_forth_13 : decode b_MO_forth 13 = .ok (.goto 4, 3) := by decide +kernel
theorem d_MO_forth_16 : decode b_MO_forth 16 = .ok (.iconst 0, 1) := by decide +kernel
theorem d_MO_forth_17 : decode b_MO_forth 17 = .ok (.putfield 54, 3) := by decide +kernel
theorem d_MO_forth_20 : decode b_MO_forth 20 = .ok (.aload_n 0, 1) := by decide +kernel
theorem d_MO_forth_21 : decode b_MO_forth 21 = .ok (.getfield 54, 3) := by decide +kernel
theorem d_MO_forth_24 : decode b_MO_forth 24 = .ok (.ifCond .le 5, 3) := by decide +kernel
theorem d_MO_forth_27 : decode b_MO_forth 27 = .ok (.iconst 0, 1) := by decide +kernel
theorem d_MO_forth_28 : decode b_MO_forth 28 = .ok (.ireturn, 1) := by decide +kernel
theorem d_MO_forth_29 : decode b_MO_forth 29 = .ok (.aload_n 0, 1) := by decide +kernel
theorem d_MO_forth_30 : decode b_MO_forth 30 = .ok (.iconst 0, 1) := by decide +kernel
theorem d_MO_forth_31 : decode b_MO_forth 31 = .ok (.putfield 128, 3) := by decide +kernel
theorem d_MO_forth_34 : decode b_MO_forth 34 = .ok (.iconst 0, 1) := by decide +kernel
theorem d_MO_forth_35 : decode b_MO_forth 35 = .ok (.istore_n 2, 1) := by decide +kernel
theorem d_MO_forth_36 : decode b_MO_forth 36 = .ok (.iconst 0, 1) := by decide +kernel
theorem d_MO_forth_37 : decode b_MO_forth 37 = .ok (.istore_n 3, 1) := by decide +kernel
theorem d_MO_forth_38 : decode b_MO_forth 38 = .ok (.iload_n 3, 1) := by decide +kernel
theorem d_MO_forth_39 : decode b_MO_forth 39 = .ok (.iload_n 1, 1) := by decide +kernel
theorem d_MO_forth_40 : decode b_MO_forth 40 = .ok (.if_icmp .ge 31, 3) := by decide +kernel
theorem d_MO_forth_43 : decode b_MO_forth 43 = .ok (.iload_n 2, 1) := by decide +kernel
theorem d_MO_forth_44 : decode b_MO_forth 44 = .ok (.ifCond .ne 27, 3) := by decide +kernel
theorem d_MO_forth_47 : decode b_MO_forth 47 = .ok (.aload_n 0, 1) := by decide +kernel
theorem d_MO_forth_48 : decode b_MO_forth 48 = .ok (.invokevirtual 134, 3) := by decide +kernel
theorem d_MO_forth_51 : decode b_MO_forth 51 = .ok (.aload_n 0, 1) := by decide +kernel
theorem d_MO_forth_52 : decode b_MO_forth 52 = .ok (.invokevirtual 131, 3) := by decide +kernel
theorem d_MO_forth_55 : decode b_MO_forth 55 = .ok (.istore_n 2, 1) := by decide +kernel
theorem d_MO_forth_56 : decode b_MO_forth 56 = .ok (.iload_n 2, 1) := by decide +kernel
theorem d_MO_forth_57 : decode b_MO_forth 57 = .ok (.ifCond .ne 8, 3) := by decide +kernel
theorem d_MO_forth_60 : decode b_MO_forth 60 = .ok (.aload_n 0, 1) := by decide +kernel
theorem d_MO_forth_61 : decode b_MO_forth 61 = .ok (.invokevirtual 137, 3) := by decide +kernel
theorem d_MO_forth_64 : decode b_MO_forth 64 = .ok (.istore_n 2, 1) := by decide +kernel
theorem d_MO_forth_65 : decode b_MO_forth 65 = .ok (.iinc 3 1, 3) := by decide +kernel
theorem d_MO_forth_68 : decode b_MO_forth 68 = .ok (.goto (-30), 3) := by decide +kernel
theorem d_MO_forth_71 : decode b_MO_forth 71 = .ok (.iload_n 2, 1) := by decide +kernel
theorem d_MO_forth_72 : decode b_MO_forth 72 = .ok (.ifCond .ne 8, 3) := by decide +kernel
theorem d_MO_forth_75 : decode b_MO_forth 75 = .ok (.bipush 11, 2) := by decide +kernel
theorem d_MO_forth_77 : decode b_MO_forth 77 = .ok (.goto 4, 3) := by decide +kernel
theorem d_MO_forth_80 : decode b_MO_forth 80 = .ok (.iload_n 2, 1) := by decide +kernel
theorem d_MO_forth_81 : decode b_MO_forth 81 = .ok (.ireturn, 1) := by decide +kernel
theorem d_MO_account_0 : decode b_MO_account 0 = .ok (.iload_n 1, 1) := by decide +kernel
theorem d_MO_account_1 : decode b_MO_account 1 = .ok (.aload_n 0, 1) := by decide +kernel
theorem d_MO_account_2 : decode b_MO_account 2 = .ok (.getfield 63, 3) := by decide +kernel
theorem d_MO_account_5 : decode b_MO_account 5 = .ok (.if_icmp .ge 32, 3) := by decide +kernel
theorem d_MO_account_8 : decode b_MO_account 8 = .ok (.aload_n 0, 1) := by decide +kernel
theorem d_MO_account_9 : decode b_MO_account 9 = .ok (.getfield 63, 3) := by decide +kernel
theorem d_MO_account_12 : decode b_MO_account 12 = .ok (.iload_n 1, 1) := by decide +kernel
theorem d_MO_account_13 : decode b_MO_account 13 = .ok (.isub, 1) := by decide +kernel
theorem d_MO_account_14 : decode b_MO_account 14 = .ok (.aload_n 0, 1) := by decide +kernel
theorem d_MO_account_15 : decode b_MO_account 15 = .ok (.getfield 122, 3) := by decide +kernel
theorem d_MO_account_18 : decode b_MO_account 18 = .ok (.if_icmp .gt 19, 3) := by decide +kernel
theorem d_MO_account_21 : decode b_MO_account 21 = .ok (.aload_n 0, 1) := by decide +kernel
theorem d_MO_account_22 : decode b_MO_account 22 = .ok (.dup, 1) := by decide +kernel
theorem d_MO_account_23 : decode b_MO_account 23 = .ok (.getfield 122, 3) := by decide +kernel
theorem d_MO_account_26 : decode b_MO_account 26 = .ok (.aload_n 0, 1) := by decide +kernel
theorem d_MO_account_27 : decode b_MO_account 27 = .ok (.getfield 63, 3) := by decide +kernel
theorem d_MO_account_30 : decode b_MO_account 30 = .ok (.iload_n 1, 1) := by decide +kernel
theorem d_MO_account_31 : decode b_MO_account 31 = .ok (.isub, 1) := by decide +kernel
theorem d_MO_account_32 : decode b_MO_account 32 = .ok (.isub, 1) := by decide +kernel
theorem d_MO_account_33 : decode b_MO_account 33 = .ok (.putfield 122, 3) := by decide +kernel
theorem d_MO_account_36 : decode b_MO_account 36 = .ok (.return_, 1) := by decide +kernel
theorem d_MO_account_37 : decode b_MO_account 37 = .ok (.iconst 0, 1) := by decide +kernel
theorem d_MO_account_38 : decode b_MO_account 38 = .ok (.istore_n 2, 1) := by decide +kernel
theorem d_MO_account_39 : decode b_MO_account 39 = .ok (.iconst 0, 1) := by decide +kernel
theorem d_MO_account_40 : decode b_MO_account 40 = .ok (.istore_n 3, 1) := by decide +kernel
theorem d_MO_account_41 : decode b_MO_account 41 = .ok (.iload_n 3, 1) := by decide +kernel
theorem d_MO_account_42 : decode b_MO_account 42 = .ok (.aload_n 0, 1) := by decide +kernel
theorem d_MO_account_43 : decode b_MO_account 43 = .ok (.getfield 51, 3) := by decide +kernel
theorem d_MO_account_46 : decode b_MO_account 46 = .ok (.if_icmp .ge 30, 3) := by decide +kernel
theorem d_MO_account_49 : decode b_MO_account 49 = .ok (.aload_n 0, 1) := by decide +kernel
theorem d_MO_account_50 : decode b_MO_account 50 = .ok (.getfield 42, 3) := by decide +kernel
theorem d_MO_account_53 : decode b_MO_account 53 = .ok (.iload_n 3, 1) := by decide +kernel
theorem d_MO_account_54 : decode b_MO_account 54 = .ok (.iaload, 1) := by decide +kernel
theorem d_MO_account_55 : decode b_MO_account 55 = .ok (.iload_n 1, 1) := by decide +kernel
theorem d_MO_account_56 : decode b_MO_account 56 = .ok (.if_icmp .gt 12, 3) := by decide +kernel
theorem d_MO_account_59 : decode b_MO_account 59 = .ok (.aload_n 0, 1) := by decide +kernel
theorem d_MO_account_60 : decode b_MO_account 60 = .ok (.getfield 42, 3) := by decide +kernel
theorem d_MO_account_63 : decode b_MO_account 63 = .ok (.iload_n 3, 1) := by decide +kernel
theorem d_MO_account_64 : decode b_MO_account 64 = .ok (.iaload, 1) := by decide +kernel
theorem d_MO_account_65 : decode b_MO_account 65 = .ok (.goto 4, 3) := by decide +kernel
theorem d_MO_account_68 : decode b_MO_account 68 = .ok (.iload_n 2, 1) := by decide +kernel
theorem d_MO_account_69 : decode b_MO_account 69 = .ok (.istore_n 2, 1) := by decide +kernel
theorem d_MO_account_70 : decode b_MO_account 70 = .ok (.iinc 3 1, 3) := by decide +kernel
theorem d_MO_account_73 : decode b_MO_account 73 = .ok (.goto (-32), 3) := by decide +kernel
theorem d_MO_account_76 : decode b_MO_account 76 = .ok (.iload_n 1, 1) := by decide +kernel
theorem d_MO_account_77 : decode b_MO_account 77 = .ok (.aload_n 0, 1) := by decide +kernel
theorem d_MO_account_78 : decode b_MO_account 78 = .ok (.getfield 63, 3) := by decide +kernel
theorem d_MO_account_81 : decode b_MO_account 81 = .ok (.if_icmp .lt 11, 3) := by decide +kernel
theorem d_MO_account_84 : decode b_MO_account 84 = .ok (.iload_n 2, 1) := by decide +kernel
theorem d_MO_account_85 : decode b_MO_account 85 = .ok (.aload_n 0, 1) := by decide +kernel
theorem d_MO_account_86 : decode b_MO_account 86 = .ok (.getfield 63, 3) := by decide +kernel
theorem d_MO_account_89 : decode b_MO_account 89 = .ok (.if_icmp .le 7, 3) := by decide +kernel
theorem d_MO_account_92 : decode b_MO_account 92 = .ok (.iconst 1, 1) := by decide +kernel
theorem d_MO_account_93 : decode b_MO_account 93 = .ok (.goto 4, 3) := by decide +kernel
theorem d_MO_account_96 : decode b_MO_account 96 = .ok (.iconst 0, 1) := by decide +kernel
theorem d_MO_account_97 : decode b_MO_account 97 = .ok (.istore_n 3, 1) := by decide +kernel
theorem d_MO_account_98 : decode b_MO_account 98 = .ok (.iload_n 3, 1) := by decide +kernel
theorem d_MO_account_99 : decode b_MO_account 99 = .ok (.ifCond .eq 9, 3) := by decide +kernel
theorem d_MO_account_102 : decode b_MO_account 102 = .ok (.iload_n 1, 1) := by decide +kernel
theorem d_MO_account_103 : decode b_MO_account 103 = .ok (.iload_n 2, 1) := by decide +kernel
theorem d_MO_account_104 : decode b_MO_account 104 = .ok (.isub, 1) := by decide +kernel
theorem d_MO_account_105 : decode b_MO_account 105 = .ok (.goto 9, 3) := by decide +kernel
theorem d_MO_account_108 : decode b_MO_account 108 = .ok (.iload_n 1, 1) := by decide +kernel
theorem d_MO_account_109 : decode b_MO_account 109 = .ok (.aload_n 0, 1) := by decide +kernel
theorem d_MO_account_110 : decode b_MO_account 110 = .ok (.getfield 63, 3) := by decide +kernel
theorem d_MO_account_113 : decode b_MO_account 113 = .ok (.isub, 1) := by decide +kernel
theorem d_MO_account_114 : decode b_MO_account 114 = .ok (.istore 4, 2) := by decide +kernel
theorem d_MO_account_116 : decode b_MO_account 116 = .ok (.aload_n 0, 1) := by decide +kernel
theorem d_MO_account_117 : decode b_MO_account 117 = .ok (.iload_n 3, 1) := by decide +kernel
theorem d_MO_account_118 : decode b_MO_account 118 = .ok (.ifCond .eq 7, 3) := by decide +kernel
theorem d_MO_account_121 : decode b_MO_account 121 = .ok (.iconst 0, 1) := by decide +kernel
theorem d_MO_account_122 : decode b_MO_account 122 = .ok (.goto 7, 3) := by decide +kernel
theorem d_MO_account_125 : decode b_MO_account 125 = .ok (.aload_n 0, 1) := by decide +kernel
theorem d_MO_account_126 : decode b_MO_account 126 = .ok (.getfield 122, 3) := by decide +kernel
theorem d_MO_account_129 : decode b_MO_account 129 = .ok (.iload 4, 2) := by decide +kernel
theorem d_MO_account_131 : decode b_MO_account 131 = .ok (.iadd, 1) := by decide +kernel
theorem d_MO_account_132 : decode b_MO_account 132 = .ok (.putfield 122, 3) := by decide +kernel
theorem d_MO_account_135 : decode b_MO_account 135 = .ok (.aload_n 0, 1) := by decide +kernel
theorem d_MO_account_136 : decode b_MO_account 136 = .ok (.aload_n 0, 1) := by decide +kernel
theorem d_MO_account_137 : decode b_MO_account 137 = .ok (.getfield 122, 3) := by decide +kernel
theorem d_MO_account_140 : decode b_MO_account 140 = .ok (.bipush 32, 2) := by decide +kernel
theorem d_MO_account_142 : decode b_MO_account 142 = .ok (.if_icmp .le 8, 3) := by decide +kernel
theorem d_MO_account_145 : decode b_MO_account 145 = .ok (.bipush 32, 2) := by decide +kernel
theorem d_MO_account_147 : decode b_MO_account 147 = .ok (.goto 7, 3) := by decide +kernel
theorem d_MO_account_150 : decode b_MO_account 150 = .ok (.aload_n 0, 1) := by decide +kernel
theorem d_MO_account_151 : decode b_MO_account 151 = .ok (.getfield 122, 3) := by decide +kernel
theorem d_MO_account_154 : decode b_MO_account 154 = .ok (.putfield 122, 3) := by decide +kernel
theorem d_MO_account_157 : decode b_MO_account 157 = .ok (.aload_n 0, 1) := by decide +kernel
theorem d_MO_account_158 : decode b_MO_account 158 = .ok (.dup, 1) := by decide +kernel
theorem d_MO_account_159 : decode b_MO_account 159 = .ok (.getfield 128, 3) := by decide +kernel
theorem d_MO_account_162 : decode b_MO_account 162 = .ok (.iload 4, 2) := by decide +kernel
theorem d_MO_account_164 : decode b_MO_account 164 = .ok (.iadd, 1) := by decide +kernel
theorem d_MO_account_165 : decode b_MO_account 165 = .ok (.putfield 128, 3) := by decide +kernel
theorem d_MO_account_168 : decode b_MO_account 168 = .ok (.return_, 1) := by decide +kernel
theorem d_MO_go_0 : decode b_MO_go 0 = .ok (.aload_n 0, 1) := by decide +kernel
theorem d_MO_go_1 : decode b_MO_go 1 = .ok (.iload_n 1, 1) := by decide +kernel
theorem d_MO_go_2 : decode b_MO_go 2 = .ok (.ifCond .lt 11, 3) := by decide +kernel
theorem d_MO_go_5 : decode b_MO_go 5 = .ok (.iload_n 1, 1) := by decide +kernel
theorem d_MO_go_6 : decode b_MO_go 6 = .ok (.aload_n 0, 1) := by decide +kernel
theorem d_MO_go_7 : decode b_MO_go 7 = .ok (.getfield 57, 3) := by decide +kernel
theorem d_MO_go_10 : decode b_MO_go 10 = .ok (.if_icmp .le 7, 3) := by decide +kernel
theorem d_MO_go_13 : decode b_MO_go 13 = .ok (.iconst 1, 1) := by decide +kernel
theorem d_MO_go_14 : decode b_MO_go 14 = .ok (.goto 4, 3) := by decide +kernel
theorem d_MO_go_17 : decode b_MO_go 17 = .ok (.iconst 0, 1) := by decide +kernel
theorem d_MO_go_18 : decode b_MO_go 18 = .ok (.putfield 54, 3) := by decide +kernel
theorem d_MO_go_21 : decode b_MO_go 21 = .ok (.aload_n 0, 1) := by decide +kernel
theorem d_MO_go_22 : decode b_MO_go 22 = .ok (.getfield 54, 3) := by decide +kernel
theorem d_MO_go_25 : decode b_MO_go 25 = .ok (.ifCond .le 4, 3) := by decide +kernel
theorem d_MO_go_28 : decode b_MO_go 28 = .ok (.return_, 1) := by decide +kernel
theorem d_MO_go_29 : decode b_MO_go 29 = .ok (.aload_n 0, 1) := by decide +kernel
theorem d_MO_go_30 : decode b_MO_go 30 = .ok (.iconst 0, 1) := by decide +kernel
theorem d_MO_go_31 : decode b_MO_go 31 = .ok (.putfield 128, 3) := by decide +kernel
theorem d_MO_go_34 : decode b_MO_go 34 = .ok (.iload_n 1, 1) := by decide +kernel
theorem d_MO_go_35 : decode b_MO_go 35 = .ok (.aload_n 0, 1) := by decide +kernel
theorem d_MO_go_36 : decode b_MO_go 36 = .ok (.getfield 63, 3) := by decide +kernel
theorem d_MO_go_39 : decode b_MO_go 39 = .ok (.if_icmp .eq 8, 3) := by decide +kernel
theorem d_MO_go_42 : decode b_MO_go 42 = .ok (.aload_n 0, 1) := by decide +kernel
theorem d_MO_go_43 : decode b_MO_go 43 = .ok (.iload_n 1, 1) := by decide +kernel
theorem d_MO_go_44 : decode b_MO_go 44 = .ok (.invokevirtual 140, 3) := by decide +kernel
theorem d_MO_go_47 : decode b_MO_go 47 = .ok (.aload_n 0, 1) := by decide +kernel
theorem d_MO_go_48 : decode b_MO_go 48 = .ok (.iload_n 1, 1) := by decide +kernel
theorem d_MO_go_49 : decode b_MO_go 49 = .ok (.invokevirtual 143, 3) := by decide +kernel
theorem d_MO_go_52 : decode b_MO_go 52 = .ok (.return_, 1) := by decide +kernel
theorem d_MO_backOne_0 : decode b_MO_backOne 0 = .ok (.aload_n 0, 1) := by decide +kernel
theorem d_MO_backOne_1 : decode b_MO_backOne 1 = .ok (.getfield 63, 3) := by decide +kernel
theorem d_MO_backOne_4 : decode b_MO_backOne 4 = .ok (.iconst 1, 1) := by decide +kernel
theorem d_MO_backOne_5 : decode b_MO_backOne 5 = .ok (.isub, 1) := by decide +kernel
theorem d_MO_backOne_6 : decode b_MO_backOne 6 = .ok (.istore_n 1, 1) := by decide +kernel
theorem d_MO_backOne_7 : decode b_MO_backOne 7 = .ok (.aload_n 0, 1) := by decide +kernel
theorem d_MO_backOne_8 : decode b_MO_backOne 8 = .ok (.iload_n 1, 1) := by decide +kernel
theorem d_MO_backOne_9 : decode b_MO_backOne 9 = .ok (.invokevirtual 140, 3) := by decide +kernel
theorem d_MO_backOne_12 : decode b_MO_backOne 12 = .ok (.iload_n 1, 1) := by decide +kernel
theorem d_MO_backOne_13 : decode b_MO_backOne 13 = .ok (.ifCond .ne 11, 3) := by decide +kernel
theorem d_MO_backOne_16 : decode b_MO_backOne 16 = .ok (.aload_n 0, 1) := by decide +kernel
theorem d_MO_backOne_17 : decode b_MO_backOne 17 = .ok (.iconst 0, 1) := by decide +kernel
theorem d_MO_backOne_18 : decode b_MO_backOne 18 = .ok (.invokevirtual 143, 3) := by decide +kernel
theorem d_MO_backOne_21 : decode b_MO_backOne 21 = .ok (.bipush 12, 2) := by decide +kernel
theorem d_MO_backOne_23 : decode b_MO_backOne 23 = .ok (.ireturn, 1) := by decide +kernel
theorem d_MO_backOne_24 : decode b_MO_backOne 24 = .ok (.aload_n 0, 1) := by decide +kernel
theorem d_MO_backOne_25 : decode b_MO_backOne 25 = .ok (.iload_n 1, 1) := by decide +kernel
theorem d_MO_backOne_26 : decode b_MO_backOne 26 = .ok (.iconst 1, 1) := by decide +kernel
theorem d_MO_backOne_27 : decode b_MO_backOne 27 = .ok (.isub, 1) := by decide +kernel
theorem d_MO_backOne_28 : decode b_MO_backOne 28 = .ok (.invokevirtual 143, 3) := by decide +kernel
theorem d_MO_backOne_31 : decode b_MO_backOne 31 = .ok (.aload_n 0, 1) := by decide +kernel
theorem d_MO_backOne_32 : decode b_MO_backOne 32 = .ok (.invokevirtual 134, 3) := by decide +kernel
theorem d_MO_backOne_35 : decode b_MO_backOne 35 = .ok (.aload_n 0, 1) := by decide +kernel
theorem d_MO_backOne_36 : decode b_MO_backOne 36 = .ok (.iload_n 1, 1) := by decide +kernel
theorem d_MO_backOne_37 : decode b_MO_backOne 37 = .ok (.invokevirtual 143, 3) := by decide +kernel
theorem d_MO_backOne_40 : decode b_MO_backOne 40 = .ok (.aload_n 0, 1) := by decide +kernel
theorem d_MO_backOne_41 : decode b_MO_backOne 41 = .ok (.invokevirtual 137, 3) := by decide +kernel
theorem d_MO_backOne_44 : decode b_MO_backOne 44 = .ok (.ireturn, 1) := by decide +kernel
theorem d_MO_back_0 : decode b_MO_back 0 = .ok (.aload_n 0, 1) := by decide +kernel
theorem d_MO_back_1 : decode b_MO_back 1 = .ok (.iload_n 1, 1) := by decide +kernel
theorem d_MO_back_2 : decode b_MO_back 2 = .ok (.ifCond .lt 10, 3) := by decide +kernel
theorem d_MO_back_5 : decode b_MO_back 5 = .ok (.iload_n 1, 1) := by decide +kernel
theorem d_MO_back_6 : decode b_MO_back 6 = .ok (.sipush 1000, 3) := by decide +kernel
theorem d_MO_back_9 : decode b_MO_back 9 = .ok (.if_icmp .le 7, 3) := by decide +kernel
theorem d_MO_back_12 : decode b_MO_back 12 = .ok (.iconst 1, 1) := by decide +kernel
theorem d_MO_back_13 : decode b_MO_back 13 = .ok (.goto 4, 3) := by decide +kernel
theorem d_MO_back_16 : decode b_MO_back 16 = .ok (.iconst 0, 1) := by decide +kernel
theorem d_MO_back_17 : decode b_MO_back 17 = .ok (.putfield 54, 3) := by decide +kernel
theorem d_MO_back_20 : decode b_MO_back 20 = .ok (.aload_n 0, 1) := by decide +kernel
theorem d_MO_back_21 : decode b_MO_back 21 = .ok (.getfield 54, 3) := by decide +kernel
theorem d_MO_back_24 : decode b_MO_back 24 = .ok (.ifCond .le 5, 3) := by decide +kernel
theorem d_MO_back_27 : decode b_MO_back 27 = .ok (.iconst 0, 1) := by decide +kernel
theorem d_MO_back_28 : decode b_MO_back 28 = .ok (.ireturn, 1) := by decide +kernel
theorem d_MO_back_29 : decode b_MO_back 29 = .ok (.aload_n 0, 1) := by decide +kernel
theorem d_MO_back_30 : decode b_MO_back 30 = .ok (.iconst 0, 1) := by decide +kernel
theorem d_MO_back_31 : decode b_MO_back 31 = .ok (.putfield 128, 3) := by decide +kernel
theorem d_MO_back_34 : decode b_MO_back 34 = .ok (.aload_n 0, 1) := by decide +kernel
theorem d_MO_back_35 : decode b_MO_back 35 = .ok (.getfield 63, 3) := by decide +kernel
theorem d_MO_back_38 : decode b_MO_back 38 = .ok (.ifCond .ne 8, 3) := by decide +kernel
theorem d_MO_back_41 : decode b_MO_back 41 = .ok (.bipush 12, 2) := by decide +kernel
theorem d_MO_back_43 : decode b_MO_back 43 = .ok (.goto 4, 3) := by decide +kernel
theorem d_MO_back_46 : decode b_MO_back 46 = .ok (.iconst 0, 1) := by decide +kernel
theorem d_MO_back_47 : decode b_MO_back 47 = .ok (.istore_n 2, 1) := by decide +kernel
theorem d_MO_back_48 : decode b_MO_back 48 = .ok (.iconst 0, 1) := by decide +kernel
theorem d_MO_back_49 : decode b_MO_back 49 = .ok (.istore_n 3, 1) := by decide +kernel
theorem d_MO_back_50 : decode b_MO_back 50 = .ok (.iload_n 3, 1) := by decide +kernel
theorem d_MO_back_51 : decode b_MO_back 51 = .ok (.iload_n 1, 1) := by decide +kernel
theorem d_MO_back_52 : decode b_MO_back 52 = .ok (.if_icmp .ge 18, 3) := by decide +kernel
theorem d_MO_back_55 : decode b_MO_back 55 = .ok (.iload_n 2, 1) := by decide +kernel
theorem d_MO_back_56 : decode b_MO_back 56 = .ok (.ifCond .ne 14, 3) := by decide +kernel
theorem d_MO_back_59 : decode b_MO_back 59 = .ok (.aload_n 0, 1) := by decide +kernel
theorem d_MO_back_60 : decode b_MO_back 60 = .ok (.invokevirtual 146, 3) := by decide +kernel
theorem d_MO_back_63 : decode b_MO_back 63 = .ok (.istore_n 2, 1) := by decide +kernel
theorem d_MO_back_64 : decode b_MO_back 64 = .ok (.iinc 3 1, 3) := by decide +kernel
theorem d_MO_back_67 : decode b_MO_back 67 = .ok (.goto (-17), 3) := by decide +kernel
theorem d_MO_back_70 : decode b_MO_back 70 = .ok (.iload_n 2, 1) := by decide +kernel
theorem d_MO_back_71 : decode b_MO_back 71 = .ok (.ifCond .ne 8, 3) := by decide +kernel
theorem d_MO_back_74 : decode b_MO_back 74 = .ok (.bipush 11, 2) := by decide +kernel
theorem d_MO_back_76 : decode b_MO_back 76 = .ok (.goto 4, 3) := by decide +kernel
theorem d_MO_back_79 : decode b_MO_back 79 = .ok (.iload_n 2, 1) := by decide +kernel
theorem d_MO_back_80 : decode b_MO_back 80 = .ok (.ireturn, 1) := by decide +kernel
theorem d_MO_outside_0 : decode b_MO_outside 0 = .ok (.iload_n 0, 1) := by decide +kernel
theorem d_MO_outside_1 : decode b_MO_outside 1 = .ok (.ifCond .lt 8, 3) := by decide +kernel
theorem d_MO_outside_4 : decode b_MO_outside 4 = .ok (.iload_n 0, 1) := by decide +kernel
theorem d_MO_outside_5 : decode b_MO_outside 5 = .ok (.iload_n 1, 1) := by decide +kernel
theorem d_MO_outside_6 : decode b_MO_outside 6 = .ok (.if_icmp .lt 7, 3) := by decide +kernel
theorem d_MO_outside_9 : decode b_MO_outside 9 = .ok (.iconst 1, 1) := by decide +kernel
theorem d_MO_outside_10 : decode b_MO_outside 10 = .ok (.goto 4, 3) := by decide +kernel
theorem d_MO_outside_13 : decode b_MO_outside 13 = .ok (.iconst 0, 1) := by decide +kernel
theorem d_MO_outside_14 : decode b_MO_outside 14 = .ok (.ireturn, 1) := by decide +kernel
