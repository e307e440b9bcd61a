theorem d_Law_law_0 : decode code 0 = .ok (.new 8, 3) := by decide +kernel
theorem d_Law_law_3 : decode code 3 = .ok (.dup, 1) := by decide +kernel
theorem d_Law_law_4 : decode code 4 = .ok (.invokespecial 39, 3) := by decide +kernel
theorem d_Law_law_7 : decode code 7 = .ok (.astore_n 1, 1) := by decide +kernel
theorem d_Law_law_8 : decode code 8 = .ok (.new 40, 3) := by decide +kernel
theorem d_Law_law_11 : decode code 11 = .ok (.dup, 1) := by decide +kernel
theorem d_Law_law_12 : decode code 12 = .ok (.invokespecial 42, 3) := by decide +kernel
theorem d_Law_law_15 : decode code 15 = .ok (.astore_n 2, 1) := by decide +kernel
theorem d_Law_law_16 : decode code 16 = .ok (.iconst 1, 1) := by decide +kernel
theorem d_Law_law_17 : decode code 17 = .ok (.newarray .long, 2) := by decide +kernel
theorem d_Law_law_19 : decode code 19 = .ok (.astore_n 3, 1) := by decide +kernel
theorem d_Law_law_20 : decode code 20 = .ok (.iconst 0, 1) := by decide +kernel
theorem d_Law_law_21 : decode code 21 = .ok (.istore 4, 2) := by decide +kernel
theorem d_Law_law_23 : decode code 23 = .ok (.iload 4, 2) := by decide +kernel
theorem d_Law_law_25 : decode code 25 = .ok (.aload_n 0, 1) := by decide +kernel
theorem d_Law_law_26 : decode code 26 = .ok (.arraylength, 1) := by decide +kernel
theorem d_Law_law_27 : decode code 27 = .ok (.iconst 5, 1) := by decide +kernel
theorem d_Law_law_28 : decode code 28 = .ok (.isub, 1) := by decide +kernel
theorem d_Law_law_29 : decode code 29 = .ok (.if_icmp .gt 623, 3) := by decide +kernel
theorem d_Law_law_32 : decode code 32 = .ok (.aload_n 0, 1) := by decide +kernel
theorem d_Law_law_33 : decode code 33 = .ok (.iload 4, 2) := by decide +kernel
theorem d_Law_law_35 : decode code 35 = .ok (.iaload, 1) := by decide +kernel
theorem d_Law_law_36 : decode code 36 = .ok (.bipush 15, 2) := by decide +kernel
theorem d_Law_law_38 : decode code 38 = .ok (.iand, 1) := by decide +kernel
theorem d_Law_law_39 : decode code 39 = .ok (.tableswitch 607 0 12 #[65, 121, 189, 245, 270, 362, 375, 388, 444, 512, 525, 538, 594], 65) := by decide +kernel
theorem d_Law_law_104 : decode code 104 = .ok (.aload_n 1, 1) := by decide +kernel
theorem d_Law_law_105 : decode code 105 = .ok (.aload_n 0, 1) := by decide +kernel
theorem d_Law_law_106 : decode code 106 = .ok (.iload 4, 2) := by decide +kernel
theorem d_Law_law_108 : decode code 108 = .ok (.iconst 1, 1) := by decide +kernel
theorem d_Law_law_109 : decode code 109 = .ok (.iadd, 1) := by decide +kernel
theorem d_Law_law_110 : decode code 110 = .ok (.iaload, 1) := by decide +kernel
theorem d_Law_law_111 : decode code 111 = .ok (.aload_n 3, 1) := by decide +kernel
theorem d_Law_law_112 : decode code 112 = .ok (.invokestatic 43, 3) := by decide +kernel
theorem d_Law_law_115 : decode code 115 = .ok (.istore 5, 2) := by decide +kernel
theorem d_Law_law_117 : decode code 117 = .ok (.aload_n 2, 1) := by decide +kernel
theorem d_Law_law_118 : decode code 118 = .ok (.aload_n 0, 1) := by decide +kernel
theorem d_Law_law_119 : decode code 119 = .ok (.iload 4, 2) := by decide +kernel
theorem d_Law_law_121 : decode code 121 = .ok (.iconst 1, 1) := by decide +kernel
theorem d_Law_law_122 : decode code 122 = .ok (.iadd, 1) := by decide +kernel
theorem d_Law_law_123 : decode code 123 = .ok (.iaload, 1) := by decide +kernel
theorem d_Law_law_124 : decode code 124 = .ok (.invokevirtual 48, 3) := by decide +kernel
theorem d_Law_law_127 : decode code 127 = .ok (.istore 6, 2) := by decide +kernel
theorem d_Law_law_129 : decode code 129 = .ok (.aload_n 2, 1) := by decide +kernel
theorem d_Law_law_130 : decode code 130 = .ok (.invokevirtual 49, 3) := by decide +kernel
theorem d_Law_law_133 : decode code 133 = .ok (.iload 5, 2) := by decide +kernel
theorem d_Law_law_135 : decode code 135 = .ok (.if_icmp .eq 5, 3) := by decide +kernel
theorem d_Law_law_138 : decode code 138 = .ok (.iconst 0, 1) := by decide +kernel
theorem d_Law_law_139 : decode code 139 = .ok (.ireturn, 1) := by decide +kernel
theorem d_Law_law_140 : decode code 140 = .ok (.iload 5, 2) := by decide +kernel
theorem d_Law_law_142 : decode code 142 = .ok (.ifCond .ne 15, 3) := by decide +kernel
theorem d_Law_law_145 : decode code 145 = .ok (.aload_n 3, 1) := by decide +kernel
theorem d_Law_law_146 : decode code 146 = .ok (.iconst 0, 1) := by decide +kernel
theorem d_Law_law_147 : decode code 147 = .ok (.laload, 1) := by decide +kernel
theorem d_Law_law_148 : decode code 148 = .ok (.iload 6, 2) := by decide +kernel
theorem d_Law_law_150 : decode code 150 = .ok (.i2l, 1) := by decide +kernel
theorem d_Law_law_151 : decode code 151 = .ok (.lcmp, 1) := by decide +kernel
theorem d_Law_law_152 : decode code 152 = .ok (.ifCond .eq 5, 3) := by decide +kernel
theorem d_Law_law_155 : decode code 155 = .ok (.iconst 0, 1) := by decide +kernel
theorem d_Law_law_156 : decode code 156 = .ok (.ireturn, 1) := by decide +kernel
theorem d_Law_law_157 : decode code 157 = .ok (.goto 489, 3) := by decide +kernel
theorem d_Law_law_160 : decode code 160 = .ok (.aload_n 1, 1) := by decide +kernel
theorem d_Law_law_161 : decode code 161 = .ok (.aload_n 0, 1) := by decide +kernel
theorem d_Law_law_162 : decode code 162 = .ok (.iload 4, 2) := by decide +kernel
theorem d_Law_law_164 : decode code 164 = .ok (.iconst 1, 1) := by decide +kernel
theorem d_Law_law_165 : decode code 165 = .ok (.iadd, 1) := by decide +kernel
theorem d_Law_law_166 : decode code 166 = .ok (.iaload, 1) := by decide +kernel
theorem d_Law_law_167 : decode code 167 = .ok (.aload_n 0, 1) := by decide +kernel
theorem d_Law_law_168 : decode code 168 = .ok (.iload 4, 2) := by decide +kernel
theorem d_Law_law_170 : decode code 170 = .ok (.iconst 2, 1) := by decide +kernel
theorem d_Law_law_171 : decode code 171 = .ok (.iadd, 1) := by decide +kernel
theorem d_Law_law_172 : decode code 172 = .ok (.iaload, 1) := by decide +kernel
theorem d_Law_law_173 : decode code 173 = .ok (.aload_n 3, 1) := by decide +kernel
theorem d_Law_law_174 : decode code 174 = .ok (.invokestatic 53, 3) := by decide +kernel
theorem d_Law_law_177 : decode code 177 = .ok (.istore 5, 2) := by decide +kernel
theorem d_Law_law_179 : decode code 179 = .ok (.aload_n 2, 1) := by decide +kernel
theorem d_Law_law_180 : decode code 180 = .ok (.aload_n 0, 1) := by decide +kernel
theorem d_Law_law_181 : decode code 181 = .ok (.iload 4, 2) := by decide +kernel
theorem d_Law_law_183 : decode code 183 = .ok (.iconst 1, 1) := by decide +kernel
theorem d_Law_law_184 : decode code 184 = .ok (.iadd, 1) := by decide +kernel
theorem d_Law_law_185 : decode code 185 = .ok (.iaload, 1) := by decide +kernel
theorem d_Law_law_186 : decode code 186 = .ok (.aload_n 0, 1) := by decide +kernel
theorem d_Law_law_187 : decode code 187 = .ok (.iload 4, 2) := by decide +kernel
theorem d_Law_law_189 : decode code 189 = .ok (.iconst 2, 1) := by decide +kernel
theorem d_Law_law_190 : decode code 190 = .ok (.iadd, 1) := by decide +kernel
theorem d_Law_law_191 : decode code 191 = .ok (.iaload, 1) := by decide +kernel
theorem d_Law_law_192 : decode code 192 = .ok (.invokevirtual 56, 3) := by decide +kernel
theorem d_Law_law_195 : decode code 195 = .ok (.istore 6, 2) := by decide +kernel
theorem d_Law_law_197 : decode code 197 = .ok (.aload_n 2, 1) := by decide +kernel
theorem d_Law_law_198 : decode code 198 = .ok (.invokevirtual 49, 3) := by decide +kernel
theorem d_Law_law_201 : decode code 201 = .ok (.iload 5, 2) := by decide +kernel
theorem d_Law_law_203 : decode code 203 = .ok (.if_icmp .eq 5, 3) := by decide +kernel
theorem d_Law_law_206 : decode code 206 = .ok (.iconst 0, 1) := by decide +kernel
theorem d_Law_law_207 : decode code 207 = .ok (.ireturn, 1) := by decide +kernel
theorem d_Law_law_208 : decode code 208 = .ok (.iload 5, 2) := by decide +kernel
theorem d_Law_law_210 : decode code 210 = .ok (.ifCond .ne 15, 3) := by decide +kernel
theorem d_Law_law_213 : decode code 213 = .ok (.aload_n 3, 1) := by decide +kernel
theorem d_Law_law_214 : decode code 214 = .ok (.iconst 0, 1) := by decide +kernel
theorem d_Law_law_215 : decode code 215 = .ok (.laload, 1) := by decide +kernel
theorem d_Law_law_216 : decode code 216 = .ok (.iload 6, 2) := by decide +kernel
theorem d_Law_law_218 : decode code 218 = .ok (.i2l, 1) := by decide +kernel
theorem d_Law_law_219 : decode code 219 = .ok (.lcmp, 1) := by decide +kernel
theorem d_Law_law_220 : decode code 220 = .ok (.ifCond .eq 5, 3) := by decide +kernel
theorem d_Law_law_223 : decode code 223 = .ok (.iconst 0, 1) := by decide +kernel
theorem d_Law_law_224 : decode code 224 = .ok (.ireturn, 1) := by decide +kernel
theorem d_Law_law_225 : decode code 225 = .ok (.goto 421, 3) := by decide +kernel
theorem d_Law_law_228 : decode code 228 = .ok (.aload_n 1, 1) := by decide +kernel
theorem d_Law_law_229 : decode code 229 = .ok (.aload_n 0, 1) := by decide +kernel
theorem d_Law_law_230 : decode code 230 = .ok (.iload 4, 2) := by decide +kernel
theorem d_Law_law_232 : decode code 232 = .ok (.iconst 1, 1) := by decide +kernel
theorem d_Law_law_233 : decode code 233 = .ok (.iadd, 1) := by decide +kernel
theorem d_Law_law_234 : decode code 234 = .ok (.iaload, 1) := by decide +kernel
theorem d_Law_law_235 : decode code 235 = .ok (.aload_n 3, 1) := by decide +kernel
theorem d_Law_law_236 : decode code 236 = .ok (.invokestatic 57, 3) := by decide +kernel
theorem d_Law_law_239 : decode code 239 = .ok (.istore 5, 2) := by decide +kernel
theorem d_Law_law_241 : decode code 241 = .ok (.aload_n 2, 1) := by decide +kernel
theorem d_Law_law_242 : decode code 242 = .ok (.aload_n 0, 1) := by decide +kernel
theorem d_Law_law_243 : decode code 243 = .ok (.iload 4, 2) := by decide +kernel
theorem d_Law_law_245 : decode code 245 = .ok (.iconst 1, 1) := by decide +kernel
theorem d_Law_law_246 : decode code 246 = .ok (.iadd, 1) := by decide +kernel
theorem d_Law_law_247 : decode code 247 = .ok (.iaload, 1) := by decide +kernel
theorem d_Law_law_248 : decode code 248 = .ok (.invokevirtual 59, 3) := by decide +kernel
theorem d_Law_law_251 : decode code 251 = .ok (.istore 6, 2) := by decide +kernel
theorem d_Law_law_253 : decode code 253 = .ok (.aload_n 2, 1) := by decide +kernel
theorem d_Law_law_254 : decode code 254 = .ok (.invokevirtual 49, 3) := by decide +kernel
theorem d_Law_law_257 : decode code 257 = .ok (.iload 5, 2) := by decide +kernel
theorem d_Law_law_259 : decode code 259 = .ok (.if_icmp .eq 5, 3) := by decide +kernel
theorem d_Law_law_262 : decode code 262 = .ok (.iconst 0, 1) := by decide +kernel
theorem d_Law_law_263 : decode code 263 = .ok (.ireturn, 1) := by decide +kernel
theorem d_Law_law_264 : decode code 264 = .ok (.iload 5, 2) := by decide +kernel
theorem d_Law_law_266 : decode code 266 = .ok (.ifCond .ne 15, 3) := by decide +kernel
theorem d_Law_law_269 : decode code 269 = .ok (.aload_n 3, 1) := by decide +kernel
theorem d_Law_law_270 : decode code 270 = .ok (.iconst 0, 1) := by decide +kernel
theorem d_Law_law_271 : decode code 271 = .ok (.laload, 1) := by decide +kernel
theorem d_Law_law_272 : decode code 272 = .ok (.iload 6, 2) := by decide +kernel
theorem d_Law_law_274 : decode code 274 = .ok (.i2l, 1) := by decide +kernel
theorem d_Law_law_275 : decode code 275 = .ok (.lcmp, 1) := by decide +kernel
theorem d_Law_law_276 : decode code 276 = .ok (.ifCond .eq 5, 3) := by decide +kernel
theorem d_Law_law_279 : decode code 279 = .ok (.iconst 0, 1) := by decide +kernel
theorem d_Law_law_280 : decode code 280 = .ok (.ireturn, 1) := by decide +kernel
theorem d_Law_law_281 : decode code 281 = .ok (.goto 365, 3) := by decide +kernel
theorem d_Law_law_284 : decode code 284 = .ok (.aload_n 1, 1) := by decide +kernel
theorem d_Law_law_285 : decode code 285 = .ok (.aload_n 0, 1) := by decide +kernel
theorem d_Law_law_286 : decode code 286 = .ok (.iload 4, 2) := by decide +kernel
theorem d_Law_law_288 : decode code 288 = .ok (.iconst 1, 1) := by decide +kernel
theorem d_Law_law_289 : decode code 289 = .ok (.iadd, 1) := by decide +kernel
theorem d_Law_law_290 : decode code 290 = .ok (.iaload, 1) := by decide +kernel
theorem d_Law_law_291 : decode code 291 = .ok (.invokevirtual 60, 3) := by decide +kernel
theorem d_Law_law_294 : decode code 294 = .ok (.aload_n 2, 1) := by decide +kernel
theorem d_Law_law_295 : decode code 295 = .ok (.aload_n 0, 1) := by decide +kernel
theorem d_Law_law_296 : decode code 296 = .ok (.iload 4, 2) := by decide +kernel
theorem d_Law_law_298 : decode code 298 = .ok (.iconst 1, 1) := by decide +kernel
theorem d_Law_law_299 : decode code 299 = .ok (.iadd, 1) := by decide +kernel
theorem d_Law_law_300 : decode code 300 = .ok (.iaload, 1) := by decide +kernel
theorem d_Law_law_301 : decode code 301 = .ok (.invokevirtual 63, 3) := by decide +kernel
theorem d_Law_law_304 : decode code 304 = .ok (.if_icmp .eq 342, 3) := by decide +kernel
theorem d_Law_law_307 : decode code 307 = .ok (.iconst 0, 1) := by decide +kernel
theorem d_Law_law_308 : decode code 308 = .ok (.ireturn, 1) := by decide +kernel
theorem d_Law_law_309 : decode code 309 = .ok (.aload_n 1, 1) := by decide +kernel
theorem d_Law_law_310 : decode code 310 = .ok (.aload_n 0, 1) := by decide +kernel
theorem d_Law_law_311 : decode code 311 = .ok (.iload 4, 2) := by decide +kernel
theorem d_Law_law_313 : decode code 313 = .ok (.iconst 1, 1) := by decide +kernel
theorem d_Law_law_314 : decode code 314 = .ok (.iadd, 1) := by decide +kernel
theorem d_Law_law_315 : decode code 315 = .ok (.iaload, 1) := by decide +kernel
theorem d_Law_law_316 : decode code 316 = .ok (.aload_n 0, 1) := by decide +kernel
theorem d_Law_law_317 : decode code 317 = .ok (.iload 4, 2) := by decide +kernel
theorem d_Law_law_319 : decode code 319 = .ok (.iconst 2, 1) := by decide +kernel
theorem d_Law_law_320 : decode code 320 = .ok (.iadd, 1) := by decide +kernel
theorem d_Law_law_321 : decode code 321 = .ok (.iaload, 1) := by decide +kernel
theorem d_Law_law_322 : decode code 322 = .ok (.aload_n 0, 1) := by decide +kernel
theorem d_Law_law_323 : decode code 323 = .ok (.iload 4, 2) := by decide +kernel
theorem d_Law_law_325 : decode code 325 = .ok (.iconst 3, 1) := by decide +kernel
theorem d_Law_law_326 : decode code 326 = .ok (.iadd, 1) := by decide +kernel
theorem d_Law_law_327 : decode code 327 = .ok (.iaload, 1) := by decide +kernel
theorem d_Law_law_328 : decode code 328 = .ok (.aload_n 0, 1) := by decide +kernel
theorem d_Law_law_329 : decode code 329 = .ok (.iload 4, 2) := by decide +kernel
theorem d_Law_law_331 : decode code 331 = .ok (.iconst 4, 1) := by decide +kernel
theorem d_Law_law_332 : decode code 332 = .ok (.iadd, 1) := by decide +kernel
theorem d_Law_law_333 : decode code 333 = .ok (.iaload, 1) := by decide +kernel
theorem d_Law_law_334 : decode code 334 = .ok (.aload_n 3, 1) := by decide +kernel
theorem d_Law_law_335 : decode code 335 = .ok (.invokestatic 64, 3) := by decide +kernel
theorem d_Law_law_338 : decode code 338 = .ok (.istore 5, 2) := by decide +kernel
theorem d_Law_law_340 : decode code 340 = .ok (.aload_n 2, 1) := by decide +kernel
theorem d_Law_law_341 : decode code 341 = .ok (.aload_n 0, 1) := by decide +kernel
theorem d_Law_law_342 : decode code 342 = .ok (.iload 4, 2) := by decide +kernel
theorem d_Law_law_344 : decode code 344 = .ok (.iconst 1, 1) := by decide +kernel
theorem d_Law_law_345 : decode code 345 = .ok (.iadd, 1) := by decide +kernel
theorem d_Law_law_346 : decode code 346 = .ok (.iaload, 1) := by decide +kernel
theorem d_Law_law_347 : decode code 347 = .ok (.aload_n 0, 1) := by decide +kernel
theorem d_Law_law_348 : decode code 348 = .ok (.iload 4, 2) := by decide +kernel
theorem d_Law_law_350 : decode code 350 = .ok (.iconst 2, 1) := by decide +kernel
theorem d_Law_law_351 : decode code 351 = .ok (.iadd, 1) := by decide +kernel
theorem d_Law_law_352 : decode code 352 = .ok (.iaload, 1) := by decide +kernel
theorem d_Law_law_353 : decode code 353 = .ok (.aload_n 0, 1) := by decide +kernel
theorem d_Law_law_354 : decode code 354 = .ok (.iload 4, 2) := by decide +kernel
theorem d_Law_law_356 : decode code 356 = .ok (.iconst 3, 1) := by decide +kernel
theorem d_Law_law_357 : decode code 357 = .ok (.iadd, 1) := by decide +kernel
theorem d_Law_law_358 : decode code 358 = .ok (.iaload, 1) := by decide +kernel
theorem d_Law_law_359 : decode code 359 = .ok (.aload_n 0, 1) := by decide +kernel
theorem d_Law_law_360 : decode code 360 = .ok (.iload 4, 2) := by decide +kernel
theorem d_Law_law_362 : decode code 362 = .ok (.iconst 4, 1) := by decide +kernel
theorem d_Law_law_363 : decode code 363 = .ok (.iadd, 1) := by decide +kernel
theorem d_Law_law_364 : decode code 364 = .ok (.iaload, 1) := by decide +kernel
theorem d_Law_law_365 : decode code 365 = .ok (.invokevirtual 67, 3) := by decide +kernel
theorem d_Law_law_368 : decode code 368 = .ok (.istore 6, 2) := by decide +kernel
theorem d_Law_law_370 : decode code 370 = .ok (.aload_n 2, 1) := by decide +kernel
theorem d_Law_law_371 : decode code 371 = .ok (.invokevirtual 49, 3) := by decide +kernel
theorem d_Law_law_374 : decode code 374 = .ok (.iload 5, 2) := by decide +kernel
theorem d_Law_law_376 : decode code 376 = .ok (.if_icmp .eq 5, 3) := by decide +kernel
theorem d_Law_law_379 : decode code 379 = .ok (.iconst 0, 1) := by decide +kernel
theorem d_Law_law_380 : decode code 380 = .ok (.ireturn, 1) := by decide +kernel
theorem d_Law_law_381 : decode code 381 = .ok (.iload 5, 2) := by decide +kernel
theorem d_Law_law_383 : decode code 383 = .ok (.ifCond .ne 15, 3) := by decide +kernel
theorem d_Law_law_386 : decode code 386 = .ok (.aload_n 3, 1) := by decide +kernel
theorem d_Law_law_387 : decode code 387 = .ok (.iconst 0, 1) := by decide +kernel
theorem d_Law_law_388 : decode code 388 = .ok (.laload, 1) := by decide +kernel
theorem d_Law_law_389 : decode code 389 = .ok (.iload 6, 2) := by decide +kernel
theorem d_Law_law_391 : decode code 391 = .ok (.i2l, 1) := by decide +kernel
theorem d_Law_law_392 : decode code 392 = .ok (.lcmp, 1) := by decide +kernel
theorem d_Law_law_393 : decode code 393 = .ok (.ifCond .eq 5, 3) := by decide +kernel
theorem d_Law_law_396 : decode code 396 = .ok (.iconst 0, 1) := by decide +kernel
theorem d_Law_law_397 : decode code 397 = .ok (.ireturn, 1) := by decide +kernel
theorem d_Law_law_398 : decode code 398 = .ok (.goto 248, 3) := by decide +kernel
theorem d_Law_law_401 : decode code 401 = .ok (.aload_n 1, 1) := by decide +kernel
theorem d_Law_law_402 : decode code 402 = .ok (.invokevirtual 68, 3) := by decide +kernel
theorem d_Law_law_405 : decode code 405 = .ok (.aload_n 2, 1) := by decide +kernel
theorem d_Law_law_406 : decode code 406 = .ok (.invokevirtual 71, 3) := by decide +kernel
theorem d_Law_law_409 : decode code 409 = .ok (.if_icmp .eq 237, 3) := by decide +kernel
theorem d_Law_law_412 : decode code 412 = .ok (.iconst 0, 1) := by decide +kernel
theorem d_Law_law_413 : decode code 413 = .ok (.ireturn, 1) := by decide +kernel
theorem d_Law_law_414 : decode code 414 = .ok (.aload_n 1, 1) := by decide +kernel
theorem d_Law_law_415 : decode code 415 = .ok (.invokevirtual 72, 3) := by decide +kernel
theorem d_Law_law_418 : decode code 418 = .ok (.aload_n 2, 1) := by decide +kernel
theorem d_Law_law_419 : decode code 419 = .ok (.invokevirtual 75, 3) := by decide +kernel
theorem d_Law_law_422 : decode code 422 = .ok (.if_icmp .eq 224, 3) := by decide +kernel
theorem d_Law_law_425 : decode code 425 = .ok (.iconst 0, 1) := by decide +kernel
theorem d_Law_law_426 : decode code 426 = .ok (.ireturn, 1) := by decide +kernel
theorem d_Law_law_427 : decode code 427 = .ok (.aload_n 1, 1) := by decide +kernel
theorem d_Law_law_428 : decode code 428 = .ok (.aload_n 0, 1) := by decide +kernel
theorem d_Law_law_429 : decode code 429 = .ok (.iload 4, 2) := by decide +kernel
theorem d_Law_law_431 : decode code 431 = .ok (.iconst 1, 1) := by decide +kernel
theorem d_Law_law_432 : decode code 432 = .ok (.iadd, 1) := by decide +kernel
theorem d_Law_law_433 : decode code 433 = .ok (.iaload, 1) := by decide +kernel
theorem d_Law_law_434 : decode code 434 = .ok (.aload_n 3, 1) := by decide +kernel
theorem d_Law_law_435 : decode code 435 = .ok (.invokestatic 76, 3) := by decide +kernel
theorem d_Law_law_438 : decode code 438 = .ok (.istore 5, 2) := by decide +kernel
theorem d_Law_law_440 : decode code 440 = .ok (.aload_n 2, 1) := by decide +kernel
theorem d_Law_law_441 : decode code 441 = .ok (.aload_n 0, 1) := by decide +kernel
theorem d_Law_law_442 : decode code 442 = .ok (.iload 4, 2) := by decide +kernel
theorem d_Law_law_444 : decode code 444 = .ok (.iconst 1, 1) := by decide +kernel
theorem d_Law_law_445 : decode code 445 = .ok (.iadd, 1) := by decide +kernel
theorem d_Law_law_446 : decode code 446 = .ok (.iaload, 1) := by decide +kernel
theorem d_Law_law_447 : decode code 447 = .ok (.invokevirtual 78, 3) := by decide +kernel
theorem d_Law_law_450 : decode code 450 = .ok (.istore 6, 2) := by decide +kernel
theorem d_Law_law_452 : decode code 452 = .ok (.aload_n 2, 1) := by decide +kernel
theorem d_Law_law_453 : decode code 453 = .ok (.invokevirtual 49, 3) := by decide +kernel
theorem d_Law_law_456 : decode code 456 = .ok (.iload 5, 2) := by decide +kernel
theorem d_Law_law_458 : decode code 458 = .ok (.if_icmp .eq 5, 3) := by decide +kernel
theorem d_Law_law_461 : decode code 461 = .ok (.iconst 0, 1) := by decide +kernel
theorem d_Law_law_462 : decode code 462 = .ok (.ireturn, 1) := by decide +kernel
theorem d_Law_law_463 : decode code 463 = .ok (.iload 5, 2) := by decide +kernel
theorem d_Law_law_465 : decode code 465 = .ok (.ifCond .ne 15, 3) := by decide +kernel
theorem d_Law_law_468 : decode code 468 = .ok (.aload_n 3, 1) := by decide +kernel
theorem d_Law_law_469 : decode code 469 = .ok (.iconst 0, 1) := by decide +kernel
theorem d_Law_law_470 : decode code 470 = .ok (.laload, 1) := by decide +kernel
theorem d_Law_law_471 : decode code 471 = .ok (.iload 6, 2) := by decide +kernel
theorem d_Law_law_473 : decode code 473 = .ok (.i2l, 1) := by decide +kernel
theorem d_Law_law_474 : decode code 474 = .ok (.lcmp, 1) := by decide +kernel
theorem d_Law_law_475 : decode code 475 = .ok (.ifCond .eq 5, 3) := by decide +kernel
theorem d_Law_law_478 : decode code 478 = .ok (.iconst 0, 1) := by decide +kernel
theorem d_Law_law_479 : decode code 479 = .ok (.ireturn, 1) := by decide +kernel
theorem d_Law_law_480 : decode code 480 = .ok (.goto 166, 3) := by decide +kernel
theorem d_Law_law_483 : decode code 483 = .ok (.aload_n 1, 1) := by decide +kernel
theorem d_Law_law_484 : decode code 484 = .ok (.aload_n 0, 1) := by decide +kernel
theorem d_Law_law_485 : decode code 485 = .ok (.iload 4, 2) := by decide +kernel
theorem d_Law_law_487 : decode code 487 = .ok (.iconst 1, 1) := by decide +kernel
theorem d_Law_law_488 : decode code 488 = .ok (.iadd, 1) := by decide +kernel
theorem d_Law_law_489 : decode code 489 = .ok (.iaload, 1) := by decide +kernel
theorem d_Law_law_490 : decode code 490 = .ok (.aload_n 0, 1) := by decide +kernel
theorem d_Law_law_491 : decode code 491 = .ok (.iload 4, 2) := by decide +kernel
theorem d_Law_law_493 : decode code 493 = .ok (.iconst 2, 1) := by decide +kernel
theorem d_Law_law_494 : decode code 494 = .ok (.iadd, 1) := by decide +kernel
theorem d_Law_law_495 : decode code 495 = .ok (.iaload, 1) := by decide +kernel
theorem d_Law_law_496 : decode code 496 = .ok (.aload_n 3, 1) := by decide +kernel
theorem d_Law_law_497 : decode code 497 = .ok (.invokestatic 79, 3) := by decide +kernel
theorem d_Law_law_500 : decode code 500 = .ok (.istore 5, 2) := by decide +kernel
theorem d_Law_law_502 : decode code 502 = .ok (.aload_n 2, 1) := by decide +kernel
theorem d_Law_law_503 : decode code 503 = .ok (.aload_n 0, 1) := by decide +kernel
theorem d_Law_law_504 : decode code 504 = .ok (.iload 4, 2) := by decide +kernel
theorem d_Law_law_506 : decode code 506 = .ok (.iconst 1, 1) := by decide +kernel
theorem d_Law_law_507 : decode code 507 = .ok (.iadd, 1) := by decide +kernel
theorem d_Law_law_508 : decode code 508 = .ok (.iaload, 1) := by decide +kernel
theorem d_Law_law_509 : decode code 509 = .ok (.aload_n 0, 1) := by decide +kernel
theorem d_Law_law_510 : decode code 510 = .ok (.iload 4, 2) := by decide +kernel
theorem d_Law_law_512 : decode code 512 = .ok (.iconst 2, 1) := by decide +kernel
theorem d_Law_law_513 : decode code 513 = .ok (.iadd, 1) := by decide +kernel
theorem d_Law_law_514 : decode code 514 = .ok (.iaload, 1) := by decide +kernel
theorem d_Law_law_515 : decode code 515 = .ok (.invokevirtual 81, 3) := by decide +kernel
theorem d_Law_law_518 : decode code 518 = .ok (.istore 6, 2) := by decide +kernel
theorem d_Law_law_520 : decode code 520 = .ok (.aload_n 2, 1) := by decide +kernel
theorem d_Law_law_521 : decode code 521 = .ok (.invokevirtual 49, 3) := by decide +kernel
theorem d_Law_law_524 : decode code 524 = .ok (.iload 5, 2) := by decide +kernel
theorem d_Law_law_526 : decode code 526 = .ok (.if_icmp .eq 5, 3) := by decide +kernel
theorem d_Law_law_529 : decode code 529 = .ok (.iconst 0, 1) := by decide +kernel
theorem d_Law_law_530 : decode code 530 = .ok (.ireturn, 1) := by decide +kernel
theorem d_Law_law_531 : decode code 531 = .ok (.iload 5, 2) := by decide +kernel
theorem d_Law_law_533 : decode code 533 = .ok (.ifCond .ne 15, 3) := by decide +kernel
theorem d_Law_law_536 : decode code 536 = .ok (.aload_n 3, 1) := by decide +kernel
theorem d_Law_law_537 : decode code 537 = .ok (.iconst 0, 1) := by decide +kernel
theorem d_Law_law_538 : decode code 538 = .ok (.laload, 1) := by decide +kernel
theorem d_Law_law_539 : decode code 539 = .ok (.iload 6, 2) := by decide +kernel
theorem d_Law_law_541 : decode code 541 = .ok (.i2l, 1) := by decide +kernel
theorem d_Law_law_542 : decode code 542 = .ok (.lcmp, 1) := by decide +kernel
theorem d_Law_law_543 : decode code 543 = .ok (.ifCond .eq 5, 3) := by decide +kernel
theorem d_Law_law_546 : decode code 546 = .ok (.iconst 0, 1) := by decide +kernel
theorem d_Law_law_547 : decode code 547 = .ok (.ireturn, 1) := by decide +kernel
theorem d_Law_law_548 : decode code 548 = .ok (.goto 98, 3) := by decide +kernel
theorem d_Law_law_551 : decode code 551 = .ok (.aload_n 1, 1) := by decide +kernel
theorem d_Law_law_552 : decode code 552 = .ok (.invokevirtual 82, 3) := by decide +kernel
theorem d_Law_law_555 : decode code 555 = .ok (.aload_n 2, 1) := by decide +kernel
theorem d_Law_law_556 : decode code 556 = .ok (.invokevirtual 85, 3) := by decide +kernel
theorem d_Law_law_559 : decode code 559 = .ok (.if_icmp .eq 87, 3) := by decide +kernel
theorem d_Law_law_562 : decode code 562 = .ok (.iconst 0, 1) := by decide +kernel
theorem d_Law_law_563 : decode code 563 = .ok (.ireturn, 1) := by decide +kernel
theorem d_Law_law_564 : decode code 564 = .ok (.aload_n 1, 1) := by decide +kernel
theorem d_Law_law_565 : decode code 565 = .ok (.invokevirtual 86, 3) := by decide +kernel
theorem d_Law_law_568 : decode code 568 = .ok (.aload_n 2, 1) := by decide +kernel
theorem d_Law_law_569 : decode code 569 = .ok (.invokevirtual 89, 3) := by decide +kernel
theorem d_Law_law_572 : decode code 572 = .ok (.if_icmp .eq 74, 3) := by decide +kernel
theorem d_Law_law_575 : decode code 575 = .ok (.iconst 0, 1) := by decide +kernel
theorem d_Law_law_576 : decode code 576 = .ok (.ireturn, 1) := by decide +kernel
theorem d_Law_law_577 : decode code 577 = .ok (.aload_n 1, 1) := by decide +kernel
theorem d_Law_law_578 : decode code 578 = .ok (.aload_n 0, 1) := by decide +kernel
theorem d_Law_law_579 : decode code 579 = .ok (.iload 4, 2) := by decide +kernel
theorem d_Law_law_581 : decode code 581 = .ok (.iconst 1, 1) := by decide +kernel
theorem d_Law_law_582 : decode code 582 = .ok (.iadd, 1) := by decide +kernel
theorem d_Law_law_583 : decode code 583 = .ok (.iaload, 1) := by decide +kernel
theorem d_Law_law_584 : decode code 584 = .ok (.aload_n 3, 1) := by decide +kernel
theorem d_Law_law_585 : decode code 585 = .ok (.invokestatic 90, 3) := by decide +kernel
theorem d_Law_law_588 : decode code 588 = .ok (.istore 5, 2) := by decide +kernel
theorem d_Law_law_590 : decode code 590 = .ok (.aload_n 2, 1) := by decide +kernel
theorem d_Law_law_591 : decode code 591 = .ok (.aload_n 0, 1) := by decide +kernel
theorem d_Law_law_592 : decode code 592 = .ok (.iload 4, 2) := by decide +kernel
theorem d_Law_law_594 : decode code 594 = .ok (.iconst 1, 1) := by decide +kernel
theorem d_Law_law_595 : decode code 595 = .ok (.iadd, 1) := by decide +kernel
theorem d_Law_law_596 : decode code 596 = .ok (.iaload, 1) := by decide +kernel
theorem d_Law_law_597 : decode code 597 = .ok (.invokevirtual 92, 3) := by decide +kernel
theorem d_Law_law_600 : decode code 600 = .ok (.istore 6, 2) := by decide +kernel
theorem d_Law_law_602 : decode code 602 = .ok (.aload_n 2, 1) := by decide +kernel
theorem d_Law_law_603 : decode code 603 = .ok (.invokevirtual 49, 3) := by decide +kernel
theorem d_Law_law_606 : decode code 606 = .ok (.iload 5, 2) := by decide +kernel
theorem d_Law_law_608 : decode code 608 = .ok (.if_icmp .eq 5, 3) := by decide +kernel
theorem d_Law_law_611 : decode code 611 = .ok (.iconst 0, 1) := by decide +kernel
theorem d_Law_law_612 : decode code 612 = .ok (.ireturn, 1) := by decide +kernel
theorem d_Law_law_613 : decode code 613 = .ok (.iload 5, 2) := by decide +kernel
theorem d_Law_law_615 : decode code 615 = .ok (.ifCond .ne 15, 3) := by decide +kernel
theorem d_Law_law_618 : decode code 618 = .ok (.aload_n 3, 1) := by decide +kernel
theorem d_Law_law_619 : decode code 619 = .ok (.iconst 0, 1) := by decide +kernel
theorem d_Law_law_620 : decode code 620 = .ok (.laload, 1) := by decide +kernel
theorem d_Law_law_621 : decode code 621 = .ok (.iload 6, 2) := by decide +kernel
theorem d_Law_law_623 : decode code 623 = .ok (.i2l, 1) := by decide +kernel
theorem d_Law_law_624 : decode code 624 = .ok (.lcmp, 1) := by decide +kernel
theorem d_Law_law_625 : decode code 625 = .ok (.ifCond .eq 5, 3) := by decide +kernel
theorem d_Law_law_628 : decode code 628 = .ok (.iconst 0, 1) := by decide +kernel
theorem d_Law_law_629 : decode code 629 = .ok (.ireturn, 1) := by decide +kernel
theorem d_Law_law_630 : decode code 630 = .ok (.goto 16, 3) := by decide +kernel
theorem d_Law_law_633 : decode code 633 = .ok (.aload_n 1, 1) := by decide +kernel
theorem d_Law_law_634 : decode code 634 = .ok (.invokevirtual 93, 3) := by decide +kernel
theorem d_Law_law_637 : decode code 637 = .ok (.aload_n 2, 1) := by decide +kernel
theorem d_Law_law_638 : decode code 638 = .ok (.invokevirtual 96, 3) := by decide +kernel
theorem d_Law_law_641 : decode code 641 = .ok (.if_icmp .eq 5, 3) := by decide +kernel
theorem d_Law_law_644 : decode code 644 = .ok (.iconst 0, 1) := by decide +kernel
theorem d_Law_law_645 : decode code 645 = .ok (.ireturn, 1) := by decide +kernel
theorem d_Law_law_646 : decode code 646 = .ok (.iinc 4 5, 3) := by decide +kernel
theorem d_Law_law_649 : decode code 649 = .ok (.goto (-626), 3) := by decide +kernel
theorem d_Law_law_652 : decode code 652 = .ok (.iconst 1, 1) := by decide +kernel
theorem d_Law_law_653 : decode code 653 = .ok (.ireturn, 1) := by decide +kernel
