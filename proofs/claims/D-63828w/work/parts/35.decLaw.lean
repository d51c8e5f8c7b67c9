theorem d_law_0 : decode code 0 = .ok (.new 8, 3) := by decide +kernel
theorem d_law_3 : decode code 3 = .ok (.dup, 1) := by decide +kernel
theorem d_law_4 : decode code 4 = .ok (.aload_n 0, 1) := by decide +kernel
theorem d_law_5 : decode code 5 = .ok (.iconst 0, 1) := by decide +kernel
theorem d_law_6 : decode code 6 = .ok (.invokestatic 78, 3) := by decide +kernel
theorem d_law_9 : decode code 9 = .ok (.invokespecial 84, 3) := by decide +kernel
theorem d_law_12 : decode code 12 = .ok (.astore_n 1, 1) := by decide +kernel
theorem d_law_13 : decode code 13 = .ok (.new 86, 3) := by decide +kernel
theorem d_law_16 : decode code 16 = .ok (.dup, 1) := by decide +kernel
theorem d_law_17 : decode code 17 = .ok (.aload_n 0, 1) := by decide +kernel
theorem d_law_18 : decode code 18 = .ok (.iconst 0, 1) := by decide +kernel
theorem d_law_19 : decode code 19 = .ok (.invokestatic 78, 3) := by decide +kernel
theorem d_law_22 : decode code 22 = .ok (.invokespecial 88, 3) := by decide +kernel
theorem d_law_25 : decode code 25 = .ok (.astore_n 2, 1) := by decide +kernel
theorem d_law_26 : decode code 26 = .ok (.iconst 1, 1) := by decide +kernel
theorem d_law_27 : decode code 27 = .ok (.newarray .long, 2) := by decide +kernel
theorem d_law_29 : decode code 29 = .ok (.astore_n 3, 1) := by decide +kernel
theorem d_law_30 : decode code 30 = .ok (.iconst 1, 1) := by decide +kernel
theorem d_law_31 : decode code 31 = .ok (.istore 4, 2) := by decide +kernel
theorem d_law_33 : decode code 33 = .ok (.iload 4, 2) := by decide +kernel
theorem d_law_35 : decode code 35 = .ok (.aload_n 0, 1) := by decide +kernel
theorem d_law_36 : decode code 36 = .ok (.arraylength, 1) := by decide +kernel
theorem d_law_37 : decode code 37 = .ok (.bipush 6, 2) := by decide +kernel
theorem d_law_39 : decode code 39 = .ok (.isub, 1) := by decide +kernel
theorem d_law_40 : decode code 40 = .ok (.if_icmp .gt 1211, 3) := by decide +kernel
theorem d_law_43 : decode code 43 = .ok (.aload_n 0, 1) := by decide +kernel
theorem d_law_44 : decode code 44 = .ok (.iload 4, 2) := by decide +kernel
theorem d_law_46 : decode code 46 = .ok (.iaload, 1) := by decide +kernel
theorem d_law_47 : decode code 47 = .ok (.bipush 31, 2) := by decide +kernel
theorem d_law_49 : decode code 49 = .ok (.iand, 1) := by decide +kernel
theorem d_law_50 : decode code 50 = .ok (.tableswitch 1195 0 23 #[110, 178, 290, 346, 357, 368, 392, 487, 530, 573, 636, 715, 728, 772, 827, 870, 883, 919, 932, 945, 989, 1113, 1126, 1182], 110) := by decide +kernel
theorem d_law_160 : decode code 160 = .ok (.aload_n 1, 1) := by decide +kernel
theorem d_law_161 : decode code 161 = .ok (.aload_n 0, 1) := by decide +kernel
theorem d_law_162 : decode code 162 = .ok (.iload 4, 2) := by decide +kernel
theorem d_law_164 : decode code 164 = .ok (.iconst 1, 1) := by decide +kernel
theorem d_law_165 : decode code 165 = .ok (.iadd, 1) := by decide +kernel
theorem d_law_166 : decode code 166 = .ok (.iaload, 1) := by decide +kernel
theorem d_law_167 : decode code 167 = .ok (.i2l, 1) := by decide +kernel
theorem d_law_168 : decode code 168 = .ok (.bipush 32, 2) := by decide +kernel
theorem d_law_170 : decode code 170 = .ok (.lshl, 1) := by decide +kernel
theorem d_law_171 : decode code 171 = .ok (.aload_n 0, 1) := by decide +kernel
theorem d_law_172 : decode code 172 = .ok (.iload 4, 2) := by decide +kernel
theorem d_law_174 : decode code 174 = .ok (.iconst 2, 1) := by decide +kernel
theorem d_law_175 : decode code 175 = .ok (.iadd, 1) := by decide +kernel
theorem d_law_176 : decode code 176 = .ok (.iaload, 1) := by decide +kernel
theorem d_law_177 : decode code 177 = .ok (.i2l, 1) := by decide +kernel
theorem d_law_178 : decode code 178 = .ok (.ldc2_w 89, 3) := by decide +kernel
theorem d_law_181 : decode code 181 = .ok (.land, 1) := by decide +kernel
theorem d_law_182 : decode code 182 = .ok (.lor, 1) := by decide +kernel
theorem d_law_183 : decode code 183 = .ok (.invokestatic 91, 3) := by decide +kernel
theorem d_law_186 : decode code 186 = .ok (.istore 5, 2) := by decide +kernel
theorem d_law_188 : decode code 188 = .ok (.aload_n 2, 1) := by decide +kernel
theorem d_law_189 : decode code 189 = .ok (.aload_n 0, 1) := by decide +kernel
theorem d_law_190 : decode code 190 = .ok (.iload 4, 2) := by decide +kernel
theorem d_law_192 : decode code 192 = .ok (.iconst 1, 1) := by decide +kernel
theorem d_law_193 : decode code 193 = .ok (.iadd, 1) := by decide +kernel
theorem d_law_194 : decode code 194 = .ok (.iaload, 1) := by decide +kernel
theorem d_law_195 : decode code 195 = .ok (.i2l, 1) := by decide +kernel
theorem d_law_196 : decode code 196 = .ok (.bipush 32, 2) := by decide +kernel
theorem d_law_198 : decode code 198 = .ok (.lshl, 1) := by decide +kernel
theorem d_law_199 : decode code 199 = .ok (.aload_n 0, 1) := by decide +kernel
theorem d_law_200 : decode code 200 = .ok (.iload 4, 2) := by decide +kernel
theorem d_law_202 : decode code 202 = .ok (.iconst 2, 1) := by decide +kernel
theorem d_law_203 : decode code 203 = .ok (.iadd, 1) := by decide +kernel
theorem d_law_204 : decode code 204 = .ok (.iaload, 1) := by decide +kernel
theorem d_law_205 : decode code 205 = .ok (.i2l, 1) := by decide +kernel
theorem d_law_206 : decode code 206 = .ok (.ldc2_w 89, 3) := by decide +kernel
theorem d_law_209 : decode code 209 = .ok (.land, 1) := by decide +kernel
theorem d_law_210 : decode code 210 = .ok (.lor, 1) := by decide +kernel
theorem d_law_211 : decode code 211 = .ok (.invokevirtual 94, 3) := by decide +kernel
theorem d_law_214 : decode code 214 = .ok (.aload_n 2, 1) := by decide +kernel
theorem d_law_215 : decode code 215 = .ok (.invokevirtual 95, 3) := by decide +kernel
theorem d_law_218 : decode code 218 = .ok (.iload 5, 2) := by decide +kernel
theorem d_law_220 : decode code 220 = .ok (.if_icmp .eq 5, 3) := by decide +kernel
theorem d_law_223 : decode code 223 = .ok (.iconst 0, 1) := by decide +kernel
theorem d_law_224 : decode code 224 = .ok (.ireturn, 1) := by decide +kernel
theorem d_law_225 : decode code 225 = .ok (.goto 1020, 3) := by decide +kernel
theorem d_law_228 : decode code 228 = .ok (.aload_n 1, 1) := by decide +kernel
theorem d_law_229 : decode code 229 = .ok (.aload_n 0, 1) := by decide +kernel
theorem d_law_230 : decode code 230 = .ok (.iload 4, 2) := by decide +kernel
theorem d_law_232 : decode code 232 = .ok (.iconst 1, 1) := by decide +kernel
theorem d_law_233 : decode code 233 = .ok (.iadd, 1) := by decide +kernel
theorem d_law_234 : decode code 234 = .ok (.iaload, 1) := by decide +kernel
theorem d_law_235 : decode code 235 = .ok (.i2l, 1) := by decide +kernel
theorem d_law_236 : decode code 236 = .ok (.bipush 32, 2) := by decide +kernel
theorem d_law_238 : decode code 238 = .ok (.lshl, 1) := by decide +kernel
theorem d_law_239 : decode code 239 = .ok (.aload_n 0, 1) := by decide +kernel
theorem d_law_240 : decode code 240 = .ok (.iload 4, 2) := by decide +kernel
theorem d_law_242 : decode code 242 = .ok (.iconst 2, 1) := by decide +kernel
theorem d_law_243 : decode code 243 = .ok (.iadd, 1) := by decide +kernel
theorem d_law_244 : decode code 244 = .ok (.iaload, 1) := by decide +kernel
theorem d_law_245 : decode code 245 = .ok (.i2l, 1) := by decide +kernel
theorem d_law_246 : decode code 246 = .ok (.ldc2_w 89, 3) := by decide +kernel
theorem d_law_249 : decode code 249 = .ok (.land, 1) := by decide +kernel
theorem d_law_250 : decode code 250 = .ok (.lor, 1) := by decide +kernel
theorem d_law_251 : decode code 251 = .ok (.aload_n 0, 1) := by decide +kernel
theorem d_law_252 : decode code 252 = .ok (.iload 4, 2) := by decide +kernel
theorem d_law_254 : decode code 254 = .ok (.iconst 3, 1) := by decide +kernel
theorem d_law_255 : decode code 255 = .ok (.iadd, 1) := by decide +kernel
theorem d_law_256 : decode code 256 = .ok (.iaload, 1) := by decide +kernel
theorem d_law_257 : decode code 257 = .ok (.i2l, 1) := by decide +kernel
theorem d_law_258 : decode code 258 = .ok (.bipush 32, 2) := by decide +kernel
theorem d_law_260 : decode code 260 = .ok (.lshl, 1) := by decide +kernel
theorem d_law_261 : decode code 261 = .ok (.aload_n 0, 1) := by decide +kernel
theorem d_law_262 : decode code 262 = .ok (.iload 4, 2) := by decide +kernel
theorem d_law_264 : decode code 264 = .ok (.iconst 4, 1) := by decide +kernel
theorem d_law_265 : decode code 265 = .ok (.iadd, 1) := by decide +kernel
theorem d_law_266 : decode code 266 = .ok (.iaload, 1) := by decide +kernel
theorem d_law_267 : decode code 267 = .ok (.i2l, 1) := by decide +kernel
theorem d_law_268 : decode code 268 = .ok (.ldc2_w 89, 3) := by decide +kernel
theorem d_law_271 : decode code 271 = .ok (.land, 1) := by decide +kernel
theorem d_law_272 : decode code 272 = .ok (.lor, 1) := by decide +kernel
theorem d_law_273 : decode code 273 = .ok (.invokestatic 98, 3) := by decide +kernel
theorem d_law_276 : decode code 276 = .ok (.istore 5, 2) := by decide +kernel
theorem d_law_278 : decode code 278 = .ok (.aload_n 2, 1) := by decide +kernel
theorem d_law_279 : decode code 279 = .ok (.aload_n 0, 1) := by decide +kernel
theorem d_law_280 : decode code 280 = .ok (.iload 4, 2) := by decide +kernel
theorem d_law_282 : decode code 282 = .ok (.iconst 1, 1) := by decide +kernel
theorem d_law_283 : decode code 283 = .ok (.iadd, 1) := by decide +kernel
theorem d_law_284 : decode code 284 = .ok (.iaload, 1) := by decide +kernel
theorem d_law_285 : decode code 285 = .ok (.i2l, 1) := by decide +kernel
theorem d_law_286 : decode code 286 = .ok (.bipush 32, 2) := by decide +kernel
theorem d_law_288 : decode code 288 = .ok (.lshl, 1) := by decide +kernel
theorem d_law_289 : decode code 289 = .ok (.aload_n 0, 1) := by decide +kernel
theorem d_law_290 : decode code 290 = .ok (.iload 4, 2) := by decide +kernel
theorem d_law_292 : decode code 292 = .ok (.iconst 2, 1) := by decide +kernel
theorem d_law_293 : decode code 293 = .ok (.iadd, 1) := by decide +kernel
theorem d_law_294 : decode code 294 = .ok (.iaload, 1) := by decide +kernel
theorem d_law_295 : decode code 295 = .ok (.i2l, 1) := by decide +kernel
theorem d_law_296 : decode code 296 = .ok (.ldc2_w 89, 3) := by decide +kernel
theorem d_law_299 : decode code 299 = .ok (.land, 1) := by decide +kernel
theorem d_law_300 : decode code 300 = .ok (.lor, 1) := by decide +kernel
theorem d_law_301 : decode code 301 = .ok (.aload_n 0, 1) := by decide +kernel
theorem d_law_302 : decode code 302 = .ok (.iload 4, 2) := by decide +kernel
theorem d_law_304 : decode code 304 = .ok (.iconst 3, 1) := by decide +kernel
theorem d_law_305 : decode code 305 = .ok (.iadd, 1) := by decide +kernel
theorem d_law_306 : decode code 306 = .ok (.iaload, 1) := by decide +kernel
theorem d_law_307 : decode code 307 = .ok (.i2l, 1) := by decide +kernel
theorem d_law_308 : decode code 308 = .ok (.bipush 32, 2) := by decide +kernel
theorem d_law_310 : decode code 310 = .ok (.lshl, 1) := by decide +kernel
theorem d_law_311 : decode code 311 = .ok (.aload_n 0, 1) := by decide +kernel
theorem d_law_312 : decode code 312 = .ok (.iload 4, 2) := by decide +kernel
theorem d_law_314 : decode code 314 = .ok (.iconst 4, 1) := by decide +kernel
theorem d_law_315 : decode code 315 = .ok (.iadd, 1) := by decide +kernel
theorem d_law_316 : decode code 316 = .ok (.iaload, 1) := by decide +kernel
theorem d_law_317 : decode code 317 = .ok (.i2l, 1) := by decide +kernel
theorem d_law_318 : decode code 318 = .ok (.ldc2_w 89, 3) := by decide +kernel
theorem d_law_321 : decode code 321 = .ok (.land, 1) := by decide +kernel
theorem d_law_322 : decode code 322 = .ok (.lor, 1) := by decide +kernel
theorem d_law_323 : decode code 323 = .ok (.invokevirtual 101, 3) := by decide +kernel
theorem d_law_326 : decode code 326 = .ok (.aload_n 2, 1) := by decide +kernel
theorem d_law_327 : decode code 327 = .ok (.invokevirtual 95, 3) := by decide +kernel
theorem d_law_330 : decode code 330 = .ok (.iload 5, 2) := by decide +kernel
theorem d_law_332 : decode code 332 = .ok (.if_icmp .eq 5, 3) := by decide +kernel
theorem d_law_335 : decode code 335 = .ok (.iconst 0, 1) := by decide +kernel
theorem d_law_336 : decode code 336 = .ok (.ireturn, 1) := by decide +kernel
theorem d_law_337 : decode code 337 = .ok (.goto 908, 3) := by decide +kernel
theorem d_law_340 : decode code 340 = .ok (.aload_n 1, 1) := by decide +kernel
theorem d_law_341 : decode code 341 = .ok (.aload_n 0, 1) := by decide +kernel
theorem d_law_342 : decode code 342 = .ok (.iload 4, 2) := by decide +kernel
theorem d_law_344 : decode code 344 = .ok (.iconst 1, 1) := by decide +kernel
theorem d_law_345 : decode code 345 = .ok (.iadd, 1) := by decide +kernel
theorem d_law_346 : decode code 346 = .ok (.iaload, 1) := by decide +kernel
theorem d_law_347 : decode code 347 = .ok (.aload_n 3, 1) := by decide +kernel
theorem d_law_348 : decode code 348 = .ok (.invokestatic 102, 3) := by decide +kernel
theorem d_law_351 : decode code 351 = .ok (.istore 5, 2) := by decide +kernel
theorem d_law_353 : decode code 353 = .ok (.aload_n 2, 1) := by decide +kernel
theorem d_law_354 : decode code 354 = .ok (.aload_n 0, 1) := by decide +kernel
theorem d_law_355 : decode code 355 = .ok (.iload 4, 2) := by decide +kernel
theorem d_law_357 : decode code 357 = .ok (.iconst 1, 1) := by decide +kernel
theorem d_law_358 : decode code 358 = .ok (.iadd, 1) := by decide +kernel
theorem d_law_359 : decode code 359 = .ok (.iaload, 1) := by decide +kernel
theorem d_law_360 : decode code 360 = .ok (.invokevirtual 105, 3) := by decide +kernel
theorem d_law_363 : decode code 363 = .ok (.istore 6, 2) := by decide +kernel
theorem d_law_365 : decode code 365 = .ok (.aload_n 2, 1) := by decide +kernel
theorem d_law_366 : decode code 366 = .ok (.invokevirtual 95, 3) := by decide +kernel
theorem d_law_369 : decode code 369 = .ok (.iload 5, 2) := by decide +kernel
theorem d_law_371 : decode code 371 = .ok (.if_icmp .eq 5, 3) := by decide +kernel
theorem d_law_374 : decode code 374 = .ok (.iconst 0, 1) := by decide +kernel
theorem d_law_375 : decode code 375 = .ok (.ireturn, 1) := by decide +kernel
theorem d_law_376 : decode code 376 = .ok (.iload 5, 2) := by decide +kernel
theorem d_law_378 : decode code 378 = .ok (.ifCond .ne 15, 3) := by decide +kernel
theorem d_law_381 : decode code 381 = .ok (.aload_n 3, 1) := by decide +kernel
theorem d_law_382 : decode code 382 = .ok (.iconst 0, 1) := by decide +kernel
theorem d_law_383 : decode code 383 = .ok (.laload, 1) := by decide +kernel
theorem d_law_384 : decode code 384 = .ok (.iload 6, 2) := by decide +kernel
theorem d_law_386 : decode code 386 = .ok (.i2l, 1) := by decide +kernel
theorem d_law_387 : decode code 387 = .ok (.lcmp, 1) := by decide +kernel
theorem d_law_388 : decode code 388 = .ok (.ifCond .eq 5, 3) := by decide +kernel
theorem d_law_391 : decode code 391 = .ok (.iconst 0, 1) := by decide +kernel
theorem d_law_392 : decode code 392 = .ok (.ireturn, 1) := by decide +kernel
theorem d_law_393 : decode code 393 = .ok (.goto 852, 3) := by decide +kernel
theorem d_law_396 : decode code 396 = .ok (.aload_n 1, 1) := by decide +kernel
theorem d_law_397 : decode code 397 = .ok (.invokevirtual 106, 3) := by decide +kernel
theorem d_law_400 : decode code 400 = .ok (.aload_n 2, 1) := by decide +kernel
theorem d_law_401 : decode code 401 = .ok (.invokevirtual 109, 3) := by decide +kernel
theorem d_law_404 : decode code 404 = .ok (.goto 841, 3) := by decide +kernel
theorem d_law_407 : decode code 407 = .ok (.aload_n 1, 1) := by decide +kernel
theorem d_law_408 : decode code 408 = .ok (.invokevirtual 110, 3) := by decide +kernel
theorem d_law_411 : decode code 411 = .ok (.aload_n 2, 1) := by decide +kernel
theorem d_law_412 : decode code 412 = .ok (.invokevirtual 113, 3) := by decide +kernel
theorem d_law_415 : decode code 415 = .ok (.goto 830, 3) := by decide +kernel
theorem d_law_418 : decode code 418 = .ok (.aload_n 1, 1) := by decide +kernel
theorem d_law_419 : decode code 419 = .ok (.invokestatic 114, 3) := by decide +kernel
theorem d_law_422 : decode code 422 = .ok (.istore 5, 2) := by decide +kernel
theorem d_law_424 : decode code 424 = .ok (.aload_n 2, 1) := by decide +kernel
theorem d_law_425 : decode code 425 = .ok (.invokevirtual 117, 3) := by decide +kernel
theorem d_law_428 : decode code 428 = .ok (.aload_n 2, 1) := by decide +kernel
theorem d_law_429 : decode code 429 = .ok (.invokevirtual 95, 3) := by decide +kernel
theorem d_law_432 : decode code 432 = .ok (.iload 5, 2) := by decide +kernel
theorem d_law_434 : decode code 434 = .ok (.if_icmp .eq 5, 3) := by decide +kernel
theorem d_law_437 : decode code 437 = .ok (.iconst 0, 1) := by decide +kernel
theorem d_law_438 : decode code 438 = .ok (.ireturn, 1) := by decide +kernel
theorem d_law_439 : decode code 439 = .ok (.goto 806, 3) := by decide +kernel
theorem d_law_442 : decode code 442 = .ok (.aload_n 1, 1) := by decide +kernel
theorem d_law_443 : decode code 443 = .ok (.aload_n 0, 1) := by decide +kernel
theorem d_law_444 : decode code 444 = .ok (.iload 4, 2) := by decide +kernel
theorem d_law_446 : decode code 446 = .ok (.iconst 1, 1) := by decide +kernel
theorem d_law_447 : decode code 447 = .ok (.iadd, 1) := by decide +kernel
theorem d_law_448 : decode code 448 = .ok (.iaload, 1) := by decide +kernel
theorem d_law_449 : decode code 449 = .ok (.i2l, 1) := by decide +kernel
theorem d_law_450 : decode code 450 = .ok (.bipush 32, 2) := by decide +kernel
theorem d_law_452 : decode code 452 = .ok (.lshl, 1) := by decide +kernel
theorem d_law_453 : decode code 453 = .ok (.aload_n 0, 1) := by decide +kernel
theorem d_law_454 : decode code 454 = .ok (.iload 4, 2) := by decide +kernel
theorem d_law_456 : decode code 456 = .ok (.iconst 2, 1) := by decide +kernel
theorem d_law_457 : decode code 457 = .ok (.iadd, 1) := by decide +kernel
theorem d_law_458 : decode code 458 = .ok (.iaload, 1) := by decide +kernel
theorem d_law_459 : decode code 459 = .ok (.i2l, 1) := by decide +kernel
theorem d_law_460 : decode code 460 = .ok (.ldc2_w 89, 3) := by decide +kernel
theorem d_law_463 : decode code 463 = .ok (.land, 1) := by decide +kernel
theorem d_law_464 : decode code 464 = .ok (.lor, 1) := by decide +kernel
theorem d_law_465 : decode code 465 = .ok (.aload_n 3, 1) := by decide +kernel
theorem d_law_466 : decode code 466 = .ok (.invokestatic 118, 3) := by decide +kernel
theorem d_law_469 : decode code 469 = .ok (.istore 5, 2) := by decide +kernel
theorem d_law_471 : decode code 471 = .ok (.aload_n 2, 1) := by decide +kernel
theorem d_law_472 : decode code 472 = .ok (.aload_n 0, 1) := by decide +kernel
theorem d_law_473 : decode code 473 = .ok (.iload 4, 2) := by decide +kernel
theorem d_law_475 : decode code 475 = .ok (.iconst 1, 1) := by decide +kernel
theorem d_law_476 : decode code 476 = .ok (.iadd, 1) := by decide +kernel
theorem d_law_477 : decode code 477 = .ok (.iaload, 1) := by decide +kernel
theorem d_law_478 : decode code 478 = .ok (.i2l, 1) := by decide +kernel
theorem d_law_479 : decode code 479 = .ok (.bipush 32, 2) := by decide +kernel
theorem d_law_481 : decode code 481 = .ok (.lshl, 1) := by decide +kernel
theorem d_law_482 : decode code 482 = .ok (.aload_n 0, 1) := by decide +kernel
theorem d_law_483 : decode code 483 = .ok (.iload 4, 2) := by decide +kernel
theorem d_law_485 : decode code 485 = .ok (.iconst 2, 1) := by decide +kernel
theorem d_law_486 : decode code 486 = .ok (.iadd, 1) := by decide +kernel
theorem d_law_487 : decode code 487 = .ok (.iaload, 1) := by decide +kernel
theorem d_law_488 : decode code 488 = .ok (.i2l, 1) := by decide +kernel
theorem d_law_489 : decode code 489 = .ok (.ldc2_w 89, 3) := by decide +kernel
theorem d_law_492 : decode code 492 = .ok (.land, 1) := by decide +kernel
theorem d_law_493 : decode code 493 = .ok (.lor, 1) := by decide +kernel
theorem d_law_494 : decode code 494 = .ok (.invokevirtual 121, 3) := by decide +kernel
theorem d_law_497 : decode code 497 = .ok (.istore 6, 2) := by decide +kernel
theorem d_law_499 : decode code 499 = .ok (.aload_n 2, 1) := by decide +kernel
theorem d_law_500 : decode code 500 = .ok (.invokevirtual 95, 3) := by decide +kernel
theorem d_law_503 : decode code 503 = .ok (.iload 5, 2) := by decide +kernel
theorem d_law_505 : decode code 505 = .ok (.if_icmp .eq 5, 3) := by decide +kernel
theorem d_law_508 : decode code 508 = .ok (.iconst 0, 1) := by decide +kernel
theorem d_law_509 : decode code 509 = .ok (.ireturn, 1) := by decide +kernel
theorem d_law_510 : decode code 510 = .ok (.iload 5, 2) := by decide +kernel
theorem d_law_512 : decode code 512 = .ok (.ifCond .ne 22, 3) := by decide +kernel
theorem d_law_515 : decode code 515 = .ok (.aload_n 3, 1) := by decide +kernel
theorem d_law_516 : decode code 516 = .ok (.iconst 0, 1) := by decide +kernel
theorem d_law_517 : decode code 517 = .ok (.laload, 1) := by decide +kernel
theorem d_law_518 : decode code 518 = .ok (.iload 6, 2) := by decide +kernel
theorem d_law_520 : decode code 520 = .ok (.ifCond .eq 7, 3) := by decide +kernel
theorem d_law_523 : decode code 523 = .ok (.lconst 1, 1) := by decide +kernel
theorem d_law_524 : decode code 524 = .ok (.goto 4, 3) := by decide +kernel
theorem d_law_527 : decode code 527 = .ok (.lconst 0, 1) := by decide +kernel
theorem d_law_528 : decode code 528 = .ok (.lcmp, 1) := by decide +kernel
theorem d_law_529 : decode code 529 = .ok (.ifCond .eq 5, 3) := by decide +kernel
theorem d_law_532 : decode code 532 = .ok (.iconst 0, 1) := by decide +kernel
theorem d_law_533 : decode code 533 = .ok (.ireturn, 1) := by decide +kernel
theorem d_law_534 : decode code 534 = .ok (.goto 711, 3) := by decide +kernel
theorem d_law_537 : decode code 537 = .ok (.aload_n 1, 1) := by decide +kernel
theorem d_law_538 : decode code 538 = .ok (.aload_n 3, 1) := by decide +kernel
theorem d_law_539 : decode code 539 = .ok (.invokestatic 122, 3) := by decide +kernel
theorem d_law_542 : decode code 542 = .ok (.istore 5, 2) := by decide +kernel
theorem d_law_544 : decode code 544 = .ok (.aload_n 2, 1) := by decide +kernel
theorem d_law_545 : decode code 545 = .ok (.invokevirtual 125, 3) := by decide +kernel
theorem d_law_548 : decode code 548 = .ok (.lstore 6, 2) := by decide +kernel
theorem d_law_550 : decode code 550 = .ok (.aload_n 2, 1) := by decide +kernel
theorem d_law_551 : decode code 551 = .ok (.invokevirtual 95, 3) := by decide +kernel
theorem d_law_554 : decode code 554 = .ok (.iload 5, 2) := by decide +kernel
theorem d_law_556 : decode code 556 = .ok (.if_icmp .eq 5, 3) := by decide +kernel
theorem d_law_559 : decode code 559 = .ok (.iconst 0, 1) := by decide +kernel
theorem d_law_560 : decode code 560 = .ok (.ireturn, 1) := by decide +kernel
theorem d_law_561 : decode code 561 = .ok (.iload 5, 2) := by decide +kernel
theorem d_law_563 : decode code 563 = .ok (.ifCond .ne 14, 3) := by decide +kernel
theorem d_law_566 : decode code 566 = .ok (.aload_n 3, 1) := by decide +kernel
theorem d_law_567 : decode code 567 = .ok (.iconst 0, 1) := by decide +kernel
theorem d_law_568 : decode code 568 = .ok (.laload, 1) := by decide +kernel
theorem d_law_569 : decode code 569 = .ok (.lload 6, 2) := by decide +kernel
theorem d_law_571 : decode code 571 = .ok (.lcmp, 1) := by decide +kernel
theorem d_law_572 : decode code 572 = .ok (.ifCond .eq 5, 3) := by decide +kernel
theorem d_law_575 : decode code 575 = .ok (.iconst 0, 1) := by decide +kernel
theorem d_law_576 : decode code 576 = .ok (.ireturn, 1) := by decide +kernel
theorem d_law_577 : decode code 577 = .ok (.goto 668, 3) := by decide +kernel
theorem d_law_580 : decode code 580 = .ok (.aload_n 1, 1) := by decide +kernel
theorem d_law_581 : decode code 581 = .ok (.aload_n 3, 1) := by decide +kernel
theorem d_law_582 : decode code 582 = .ok (.invokestatic 126, 3) := by decide +kernel
theorem d_law_585 : decode code 585 = .ok (.istore 5, 2) := by decide +kernel
theorem d_law_587 : decode code 587 = .ok (.aload_n 2, 1) := by decide +kernel
theorem d_law_588 : decode code 588 = .ok (.invokevirtual 128, 3) := by decide +kernel
theorem d_law_591 : decode code 591 = .ok (.lstore 6, 2) := by decide +kernel
theorem d_law_593 : decode code 593 = .ok (.aload_n 2, 1) := by decide +kernel
theorem d_law_594 : decode code 594 = .ok (.invokevirtual 95, 3) := by decide +kernel
theorem d_law_597 : decode code 597 = .ok (.iload 5, 2) := by decide +kernel
theorem d_law_599 : decode code 599 = .ok (.if_icmp .eq 5, 3) := by decide +kernel
theorem d_law_602 : decode code 602 = .ok (.iconst 0, 1) := by decide +kernel
theorem d_law_603 : decode code 603 = .ok (.ireturn, 1) := by decide +kernel
theorem d_law_604 : decode code 604 = .ok (.iload 5, 2) := by decide +kernel
theorem d_law_606 : decode code 606 = .ok (.ifCond .ne 14, 3) := by decide +kernel
theorem d_law_609 : decode code 609 = .ok (.aload_n 3, 1) := by decide +kernel
theorem d_law_610 : decode code 610 = .ok (.iconst 0, 1) := by decide +kernel
theorem d_law_611 : decode code 611 = .ok (.laload, 1) := by decide +kernel
theorem d_law_612 : decode code 612 = .ok (.lload 6, 2) := by decide +kernel
theorem d_law_614 : decode code 614 = .ok (.lcmp, 1) := by decide +kernel
theorem d_law_615 : decode code 615 = .ok (.ifCond .eq 5, 3) := by decide +kernel
theorem d_law_618 : decode code 618 = .ok (.iconst 0, 1) := by decide +kernel
theorem d_law_619 : decode code 619 = .ok (.ireturn, 1) := by decide +kernel
theorem d_law_620 : decode code 620 = .ok (.goto 625, 3) := by decide +kernel
theorem d_law_623 : decode code 623 = .ok (.aload_n 1, 1) := by decide +kernel
theorem d_law_624 : decode code 624 = .ok (.aload_n 0, 1) := by decide +kernel
theorem d_law_625 : decode code 625 = .ok (.iload 4, 2) := by decide +kernel
theorem d_law_627 : decode code 627 = .ok (.iconst 1, 1) := by decide +kernel
theorem d_law_628 : decode code 628 = .ok (.iadd, 1) := by decide +kernel
theorem d_law_629 : decode code 629 = .ok (.iaload, 1) := by decide +kernel
theorem d_law_630 : decode code 630 = .ok (.aload_n 3, 1) := by decide +kernel
theorem d_law_631 : decode code 631 = .ok (.invokestatic 129, 3) := by decide +kernel
theorem d_law_634 : decode code 634 = .ok (.istore 5, 2) := by decide +kernel
theorem d_law_636 : decode code 636 = .ok (.aload_n 2, 1) := by decide +kernel
theorem d_law_637 : decode code 637 = .ok (.aload_n 0, 1) := by decide +kernel
theorem d_law_638 : decode code 638 = .ok (.iload 4, 2) := by decide +kernel
theorem d_law_640 : decode code 640 = .ok (.iconst 1, 1) := by decide +kernel
theorem d_law_641 : decode code 641 = .ok (.iadd, 1) := by decide +kernel
theorem d_law_642 : decode code 642 = .ok (.iaload, 1) := by decide +kernel
theorem d_law_643 : decode code 643 = .ok (.invokevirtual 131, 3) := by decide +kernel
theorem d_law_646 : decode code 646 = .ok (.istore 6, 2) := by decide +kernel
theorem d_law_648 : decode code 648 = .ok (.aload_n 2, 1) := by decide +kernel
theorem d_law_649 : decode code 649 = .ok (.invokevirtual 95, 3) := by decide +kernel
theorem d_law_652 : decode code 652 = .ok (.iload 5, 2) := by decide +kernel
theorem d_law_654 : decode code 654 = .ok (.if_icmp .eq 5, 3) := by decide +kernel
theorem d_law_657 : decode code 657 = .ok (.iconst 0, 1) := by decide +kernel
theorem d_law_658 : decode code 658 = .ok (.ireturn, 1) := by decide +kernel
theorem d_law_659 : decode code 659 = .ok (.iload 5, 2) := by decide +kernel
theorem d_law_661 : decode code 661 = .ok (.ifCond .ne 22, 3) := by decide +kernel
theorem d_law_664 : decode code 664 = .ok (.aload_n 3, 1) := by decide +kernel
theorem d_law_665 : decode code 665 = .ok (.iconst 0, 1) := by decide +kernel
theorem d_law_666 : decode code 666 = .ok (.laload, 1) := by decide +kernel
theorem d_law_667 : decode code 667 = .ok (.iload 6, 2) := by decide +kernel
theorem d_law_669 : decode code 669 = .ok (.ifCond .eq 7, 3) := by decide +kernel
theorem d_law_672 : decode code 672 = .ok (.lconst 1, 1) := by decide +kernel
theorem d_law_673 : decode code 673 = .ok (.goto 4, 3) := by decide +kernel
theorem d_law_676 : decode code 676 = .ok (.lconst 0, 1) := by decide +kernel
theorem d_law_677 : decode code 677 = .ok (.lcmp, 1) := by decide +kernel
theorem d_law_678 : decode code 678 = .ok (.ifCond .eq 5, 3) := by decide +kernel
theorem d_law_681 : decode code 681 = .ok (.iconst 0, 1) := by decide +kernel
theorem d_law_682 : decode code 682 = .ok (.ireturn, 1) := by decide +kernel
theorem d_law_683 : decode code 683 = .ok (.goto 562, 3) := by decide +kernel
theorem d_law_686 : decode code 686 = .ok (.aload_n 1, 1) := by decide +kernel
theorem d_law_687 : decode code 687 = .ok (.aload_n 0, 1) := by decide +kernel
theorem d_law_688 : decode code 688 = .ok (.iload 4, 2) := by decide +kernel
theorem d_law_690 : decode code 690 = .ok (.iconst 1, 1) := by decide +kernel
theorem d_law_691 : decode code 691 = .ok (.iadd, 1) := by decide +kernel
theorem d_law_692 : decode code 692 = .ok (.iaload, 1) := by decide +kernel
theorem d_law_693 : decode code 693 = .ok (.ifCond .eq 7, 3) := by decide +kernel
theorem d_law_696 : decode code 696 = .ok (.iconst 1, 1) := by decide +kernel
theorem d_law_697 : decode code 697 = .ok (.goto 4, 3) := by decide +kernel
theorem d_law_700 : decode code 700 = .ok (.iconst 0, 1) := by decide +kernel
theorem d_law_701 : decode code 701 = .ok (.aload_n 3, 1) := by decide +kernel
theorem d_law_702 : decode code 702 = .ok (.invokestatic 132, 3) := by decide +kernel
theorem d_law_705 : decode code 705 = .ok (.istore 5, 2) := by decide +kernel
theorem d_law_707 : decode code 707 = .ok (.aload_n 2, 1) := by decide +kernel
theorem d_law_708 : decode code 708 = .ok (.aload_n 0, 1) := by decide +kernel
theorem d_law_709 : decode code 709 = .ok (.iload 4, 2) := by decide +kernel
theorem d_law_711 : decode code 711 = .ok (.iconst 1, 1) := by decide +kernel
theorem d_law_712 : decode code 712 = .ok (.iadd, 1) := by decide +kernel
theorem d_law_713 : decode code 713 = .ok (.iaload, 1) := by decide +kernel
theorem d_law_714 : decode code 714 = .ok (.ifCond .eq 7, 3) := by decide +kernel
theorem d_law_717 : decode code 717 = .ok (.iconst 1, 1) := by decide +kernel
theorem d_law_718 : decode code 718 = .ok (.goto 4, 3) := by decide +kernel
theorem d_law_721 : decode code 721 = .ok (.iconst 0, 1) := by decide +kernel
theorem d_law_722 : decode code 722 = .ok (.invokevirtual 135, 3) := by decide +kernel
theorem d_law_725 : decode code 725 = .ok (.istore 6, 2) := by decide +kernel
theorem d_law_727 : decode code 727 = .ok (.aload_n 2, 1) := by decide +kernel
theorem d_law_728 : decode code 728 = .ok (.invokevirtual 95, 3) := by decide +kernel
theorem d_law_731 : decode code 731 = .ok (.iload 5, 2) := by decide +kernel
theorem d_law_733 : decode code 733 = .ok (.if_icmp .eq 5, 3) := by decide +kernel
theorem d_law_736 : decode code 736 = .ok (.iconst 0, 1) := by decide +kernel
theorem d_law_737 : decode code 737 = .ok (.ireturn, 1) := by decide +kernel
theorem d_law_738 : decode code 738 = .ok (.iload 5, 2) := by decide +kernel
theorem d_law_740 : decode code 740 = .ok (.ifCond .ne 22, 3) := by decide +kernel
theorem d_law_743 : decode code 743 = .ok (.aload_n 3, 1) := by decide +kernel
theorem d_law_744 : decode code 744 = .ok (.iconst 0, 1) := by decide +kernel
theorem d_law_745 : decode code 745 = .ok (.laload, 1) := by decide +kernel
theorem d_law_746 : decode code 746 = .ok (.iload 6, 2) := by decide +kernel
theorem d_law_748 : decode code 748 = .ok (.ifCond .eq 7, 3) := by decide +kernel
theorem d_law_751 : decode code 751 = .ok (.lconst 1, 1) := by decide +kernel
theorem d_law_752 : decode code 752 = .ok (.goto 4, 3) := by decide +kernel
theorem d_law_755 : decode code 755 = .ok (.lconst 0, 1) := by decide +kernel
theorem d_law_756 : decode code 756 = .ok (.lcmp, 1) := by decide +kernel
theorem d_law_757 : decode code 757 = .ok (.ifCond .eq 5, 3) := by decide +kernel
theorem d_law_760 : decode code 760 = .ok (.iconst 0, 1) := by decide +kernel
theorem d_law_761 : decode code 761 = .ok (.ireturn, 1) := by decide +kernel
theorem d_law_762 : decode code 762 = .ok (.goto 483, 3) := by decide +kernel
theorem d_law_765 : decode code 765 = .ok (.aload_n 1, 1) := by decide +kernel
theorem d_law_766 : decode code 766 = .ok (.invokevirtual 136, 3) := by decide +kernel
theorem d_law_769 : decode code 769 = .ok (.aload_n 2, 1) := by decide +kernel
theorem d_law_770 : decode code 770 = .ok (.invokevirtual 140, 3) := by decide +kernel
theorem d_law_773 : decode code 773 = .ok (.if_icmp .eq 472, 3) := by decide +kernel
theorem d_law_776 : decode code 776 = .ok (.iconst 0, 1) := by decide +kernel
theorem d_law_777 : decode code 777 = .ok (.ireturn, 1) := by decide +kernel
theorem d_law_778 : decode code 778 = .ok (.aload_n 1, 1) := by decide +kernel
theorem d_law_779 : decode code 779 = .ok (.aload_n 3, 1) := by decide +kernel
theorem d_law_780 : decode code 780 = .ok (.invokestatic 141, 3) := by decide +kernel
theorem d_law_783 : decode code 783 = .ok (.istore 5, 2) := by decide +kernel
theorem d_law_785 : decode code 785 = .ok (.aload_n 2, 1) := by decide +kernel
theorem d_law_786 : decode code 786 = .ok (.invokevirtual 143, 3) := by decide +kernel
theorem d_law_789 : decode code 789 = .ok (.istore 6, 2) := by decide +kernel
theorem d_law_791 : decode code 791 = .ok (.aload_n 2, 1) := by decide +kernel
theorem d_law_792 : decode code 792 = .ok (.invokevirtual 95, 3) := by decide +kernel
theorem d_law_795 : decode code 795 = .ok (.iload 5, 2) := by decide +kernel
theorem d_law_797 : decode code 797 = .ok (.if_icmp .eq 5, 3) := by decide +kernel
theorem d_law_800 : decode code 800 = .ok (.iconst 0, 1) := by decide +kernel
theorem d_law_801 : decode code 801 = .ok (.ireturn, 1) := by decide +kernel
theorem d_law_802 : decode code 802 = .ok (.iload 5, 2) := by decide +kernel
theorem d_law_804 : decode code 804 = .ok (.ifCond .ne 15, 3) := by decide +kernel
theorem d_law_807 : decode code 807 = .ok (.aload_n 3, 1) := by decide +kernel
theorem d_law_808 : decode code 808 = .ok (.iconst 0, 1) := by decide +kernel
theorem d_law_809 : decode code 809 = .ok (.laload, 1) := by decide +kernel
theorem d_law_810 : decode code 810 = .ok (.iload 6, 2) := by decide +kernel
theorem d_law_812 : decode code 812 = .ok (.i2l, 1) := by decide +kernel
theorem d_law_813 : decode code 813 = .ok (.lcmp, 1) := by decide +kernel
theorem d_law_814 : decode code 814 = .ok (.ifCond .eq 5, 3) := by decide +kernel
theorem d_law_817 : decode code 817 = .ok (.iconst 0, 1) := by decide +kernel
theorem d_law_818 : decode code 818 = .ok (.ireturn, 1) := by decide +kernel
theorem d_law_819 : decode code 819 = .ok (.goto 426, 3) := by decide +kernel
theorem d_law_822 : decode code 822 = .ok (.aload_n 1, 1) := by decide +kernel
theorem d_law_823 : decode code 823 = .ok (.aload_n 0, 1) := by decide +kernel
theorem d_law_824 : decode code 824 = .ok (.iload 4, 2) := by decide +kernel
theorem d_law_826 : decode code 826 = .ok (.iconst 1, 1) := by decide +kernel
theorem d_law_827 : decode code 827 = .ok (.iadd, 1) := by decide +kernel
theorem d_law_828 : decode code 828 = .ok (.iaload, 1) := by decide +kernel
theorem d_law_829 : decode code 829 = .ok (.aload_n 3, 1) := by decide +kernel
theorem d_law_830 : decode code 830 = .ok (.invokestatic 144, 3) := by decide +kernel
theorem d_law_833 : decode code 833 = .ok (.istore 5, 2) := by decide +kernel
theorem d_law_835 : decode code 835 = .ok (.aload_n 2, 1) := by decide +kernel
theorem d_law_836 : decode code 836 = .ok (.aload_n 0, 1) := by decide +kernel
theorem d_law_837 : decode code 837 = .ok (.iload 4, 2) := by decide +kernel
theorem d_law_839 : decode code 839 = .ok (.iconst 1, 1) := by decide +kernel
theorem d_law_840 : decode code 840 = .ok (.iadd, 1) := by decide +kernel
theorem d_law_841 : decode code 841 = .ok (.iaload, 1) := by decide +kernel
theorem d_law_842 : decode code 842 = .ok (.invokevirtual 146, 3) := by decide +kernel
theorem d_law_845 : decode code 845 = .ok (.lstore 6, 2) := by decide +kernel
theorem d_law_847 : decode code 847 = .ok (.aload_n 2, 1) := by decide +kernel
theorem d_law_848 : decode code 848 = .ok (.invokevirtual 95, 3) := by decide +kernel
theorem d_law_851 : decode code 851 = .ok (.iload 5, 2) := by decide +kernel
theorem d_law_853 : decode code 853 = .ok (.if_icmp .eq 5, 3) := by decide +kernel
theorem d_law_856 : decode code 856 = .ok (.iconst 0, 1) := by decide +kernel
theorem d_law_857 : decode code 857 = .ok (.ireturn, 1) := by decide +kernel
theorem d_law_858 : decode code 858 = .ok (.iload 5, 2) := by decide +kernel
theorem d_law_860 : decode code 860 = .ok (.ifCond .ne 14, 3) := by decide +kernel
theorem d_law_863 : decode code 863 = .ok (.aload_n 3, 1) := by decide +kernel
theorem d_law_864 : decode code 864 = .ok (.iconst 0, 1) := by decide +kernel
theorem d_law_865 : decode code 865 = .ok (.laload, 1) := by decide +kernel
theorem d_law_866 : decode code 866 = .ok (.lload 6, 2) := by decide +kernel
theorem d_law_868 : decode code 868 = .ok (.lcmp, 1) := by decide +kernel
theorem d_law_869 : decode code 869 = .ok (.ifCond .eq 5, 3) := by decide +kernel
theorem d_law_872 : decode code 872 = .ok (.iconst 0, 1) := by decide +kernel
theorem d_law_873 : decode code 873 = .ok (.ireturn, 1) := by decide +kernel
theorem d_law_874 : decode code 874 = .ok (.goto 371, 3) := by decide +kernel
theorem d_law_877 : decode code 877 = .ok (.aload_n 1, 1) := by decide +kernel
theorem d_law_878 : decode code 878 = .ok (.aload_n 3, 1) := by decide +kernel
theorem d_law_879 : decode code 879 = .ok (.invokestatic 147, 3) := by decide +kernel
theorem d_law_882 : decode code 882 = .ok (.istore 5, 2) := by decide +kernel
theorem d_law_884 : decode code 884 = .ok (.aload_n 2, 1) := by decide +kernel
theorem d_law_885 : decode code 885 = .ok (.invokevirtual 149, 3) := by decide +kernel
theorem d_law_888 : decode code 888 = .ok (.lstore 6, 2) := by decide +kernel
theorem d_law_890 : decode code 890 = .ok (.aload_n 2, 1) := by decide +kernel
theorem d_law_891 : decode code 891 = .ok (.invokevirtual 95, 3) := by decide +kernel
theorem d_law_894 : decode code 894 = .ok (.iload 5, 2) := by decide +kernel
theorem d_law_896 : decode code 896 = .ok (.if_icmp .eq 5, 3) := by decide +kernel
theorem d_law_899 : decode code 899 = .ok (.iconst 0, 1) := by decide +kernel
theorem d_law_900 : decode code 900 = .ok (.ireturn, 1) := by decide +kernel
theorem d_law_901 : decode code 901 = .ok (.iload 5, 2) := by decide +kernel
theorem d_law_903 : decode code 903 = .ok (.ifCond .ne 14, 3) := by decide +kernel
theorem d_law_906 : decode code 906 = .ok (.aload_n 3, 1) := by decide +kernel
theorem d_law_907 : decode code 907 = .ok (.iconst 0, 1) := by decide +kernel
theorem d_law_908 : decode code 908 = .ok (.laload, 1) := by decide +kernel
theorem d_law_909 : decode code 909 = .ok (.lload 6, 2) := by decide +kernel
theorem d_law_911 : decode code 911 = .ok (.lcmp, 1) := by decide +kernel
theorem d_law_912 : decode code 912 = .ok (.ifCond .eq 5, 3) := by decide +kernel
theorem d_law_915 : decode code 915 = .ok (.iconst 0, 1) := by decide +kernel
theorem d_law_916 : decode code 916 = .ok (.ireturn, 1) := by decide +kernel
theorem d_law_917 : decode code 917 = .ok (.goto 328, 3) := by decide +kernel
theorem d_law_920 : decode code 920 = .ok (.aload_n 1, 1) := by decide +kernel
theorem d_law_921 : decode code 921 = .ok (.invokevirtual 150, 3) := by decide +kernel
theorem d_law_924 : decode code 924 = .ok (.aload_n 2, 1) := by decide +kernel
theorem d_law_925 : decode code 925 = .ok (.invokevirtual 153, 3) := by decide +kernel
theorem d_law_928 : decode code 928 = .ok (.if_icmp .eq 317, 3) := by decide +kernel
theorem d_law_931 : decode code 931 = .ok (.iconst 0, 1) := by decide +kernel
theorem d_law_932 : decode code 932 = .ok (.ireturn, 1) := by decide +kernel
theorem d_law_933 : decode code 933 = .ok (.aload_n 1, 1) := by decide +kernel
theorem d_law_934 : decode code 934 = .ok (.aload_n 0, 1) := by decide +kernel
theorem d_law_935 : decode code 935 = .ok (.iload 4, 2) := by decide +kernel
theorem d_law_937 : decode code 937 = .ok (.iconst 1, 1) := by decide +kernel
theorem d_law_938 : decode code 938 = .ok (.iadd, 1) := by decide +kernel
theorem d_law_939 : decode code 939 = .ok (.iaload, 1) := by decide +kernel
theorem d_law_940 : decode code 940 = .ok (.invokestatic 154, 3) := by decide +kernel
theorem d_law_943 : decode code 943 = .ok (.istore 5, 2) := by decide +kernel
theorem d_law_945 : decode code 945 = .ok (.aload_n 2, 1) := by decide +kernel
theorem d_law_946 : decode code 946 = .ok (.aload_n 0, 1) := by decide +kernel
theorem d_law_947 : decode code 947 = .ok (.iload 4, 2) := by decide +kernel
theorem d_law_949 : decode code 949 = .ok (.iconst 1, 1) := by decide +kernel
theorem d_law_950 : decode code 950 = .ok (.iadd, 1) := by decide +kernel
theorem d_law_951 : decode code 951 = .ok (.iaload, 1) := by decide +kernel
theorem d_law_952 : decode code 952 = .ok (.invokevirtual 157, 3) := by decide +kernel
theorem d_law_955 : decode code 955 = .ok (.aload_n 2, 1) := by decide +kernel
theorem d_law_956 : decode code 956 = .ok (.invokevirtual 95, 3) := by decide +kernel
theorem d_law_959 : decode code 959 = .ok (.iload 5, 2) := by decide +kernel
theorem d_law_961 : decode code 961 = .ok (.if_icmp .eq 5, 3) := by decide +kernel
theorem d_law_964 : decode code 964 = .ok (.iconst 0, 1) := by decide +kernel
theorem d_law_965 : decode code 965 = .ok (.ireturn, 1) := by decide +kernel
theorem d_law_966 : decode code 966 = .ok (.goto 279, 3) := by decide +kernel
theorem d_law_969 : decode code 969 = .ok (.aload_n 1, 1) := by decide +kernel
theorem d_law_970 : decode code 970 = .ok (.invokevirtual 158, 3) := by decide +kernel
theorem d_law_973 : decode code 973 = .ok (.aload_n 2, 1) := by decide +kernel
theorem d_law_974 : decode code 974 = .ok (.invokevirtual 161, 3) := by decide +kernel
theorem d_law_977 : decode code 977 = .ok (.if_icmp .eq 268, 3) := by decide +kernel
theorem d_law_980 : decode code 980 = .ok (.iconst 0, 1) := by decide +kernel
theorem d_law_981 : decode code 981 = .ok (.ireturn, 1) := by decide +kernel
theorem d_law_982 : decode code 982 = .ok (.aload_n 1, 1) := by decide +kernel
theorem d_law_983 : decode code 983 = .ok (.invokevirtual 162, 3) := by decide +kernel
theorem d_law_986 : decode code 986 = .ok (.aload_n 2, 1) := by decide +kernel
theorem d_law_987 : decode code 987 = .ok (.invokevirtual 165, 3) := by decide +kernel
theorem d_law_990 : decode code 990 = .ok (.if_icmp .eq 255, 3) := by decide +kernel
theorem d_law_993 : decode code 993 = .ok (.iconst 0, 1) := by decide +kernel
theorem d_law_994 : decode code 994 = .ok (.ireturn, 1) := by decide +kernel
theorem d_law_995 : decode code 995 = .ok (.aload_n 1, 1) := by decide +kernel
theorem d_law_996 : decode code 996 = .ok (.aload_n 3, 1) := by decide +kernel
theorem d_law_997 : decode code 997 = .ok (.invokestatic 166, 3) := by decide +kernel
theorem d_law_1000 : decode code 1000 = .ok (.istore 5, 2) := by decide +kernel
theorem d_law_1002 : decode code 1002 = .ok (.aload_n 2, 1) := by decide +kernel
theorem d_law_1003 : decode code 1003 = .ok (.invokevirtual 168, 3) := by decide +kernel
theorem d_law_1006 : decode code 1006 = .ok (.istore 6, 2) := by decide +kernel
theorem d_law_1008 : decode code 1008 = .ok (.aload_n 2, 1) := by decide +kernel
theorem d_law_1009 : decode code 1009 = .ok (.invokevirtual 95, 3) := by decide +kernel
theorem d_law_1012 : decode code 1012 = .ok (.iload 5, 2) := by decide +kernel
theorem d_law_1014 : decode code 1014 = .ok (.if_icmp .eq 5, 3) := by decide +kernel
theorem d_law_1017 : decode code 1017 = .ok (.iconst 0, 1) := by decide +kernel
theorem d_law_1018 : decode code 1018 = .ok (.ireturn, 1) := by decide +kernel
theorem d_law_1019 : decode code 1019 = .ok (.iload 5, 2) := by decide +kernel
theorem d_law_1021 : decode code 1021 = .ok (.ifCond .ne 15, 3) := by decide +kernel
theorem d_law_1024 : decode code 1024 = .ok (.aload_n 3, 1) := by decide +kernel
theorem d_law_1025 : decode code 1025 = .ok (.iconst 0, 1) := by decide +kernel
theorem d_law_1026 : decode code 1026 = .ok (.laload, 1) := by decide +kernel
theorem d_law_1027 : decode code 1027 = .ok (.iload 6, 2) := by decide +kernel
theorem d_law_1029 : decode code 1029 = .ok (.i2l, 1) := by decide +kernel
theorem d_law_1030 : decode code 1030 = .ok (.lcmp, 1) := by decide +kernel
theorem d_law_1031 : decode code 1031 = .ok (.ifCond .eq 5, 3) := by decide +kernel
theorem d_law_1034 : decode code 1034 = .ok (.iconst 0, 1) := by decide +kernel
theorem d_law_1035 : decode code 1035 = .ok (.ireturn, 1) := by decide +kernel
theorem d_law_1036 : decode code 1036 = .ok (.goto 209, 3) := by decide +kernel
theorem d_law_1039 : decode code 1039 = .ok (.aload_n 1, 1) := by decide +kernel
theorem d_law_1040 : decode code 1040 = .ok (.aload_n 0, 1) := by decide +kernel
theorem d_law_1041 : decode code 1041 = .ok (.iload 4, 2) := by decide +kernel
theorem d_law_1043 : decode code 1043 = .ok (.iconst 1, 1) := by decide +kernel
theorem d_law_1044 : decode code 1044 = .ok (.iadd, 1) := by decide +kernel
theorem d_law_1045 : decode code 1045 = .ok (.iaload, 1) := by decide +kernel
theorem d_law_1046 : decode code 1046 = .ok (.i2l, 1) := by decide +kernel
theorem d_law_1047 : decode code 1047 = .ok (.bipush 32, 2) := by decide +kernel
theorem d_law_1049 : decode code 1049 = .ok (.lshl, 1) := by decide +kernel
theorem d_law_1050 : decode code 1050 = .ok (.aload_n 0, 1) := by decide +kernel
theorem d_law_1051 : decode code 1051 = .ok (.iload 4, 2) := by decide +kernel
theorem d_law_1053 : decode code 1053 = .ok (.iconst 2, 1) := by decide +kernel
theorem d_law_1054 : decode code 1054 = .ok (.iadd, 1) := by decide +kernel
theorem d_law_1055 : decode code 1055 = .ok (.iaload, 1) := by decide +kernel
theorem d_law_1056 : decode code 1056 = .ok (.i2l, 1) := by decide +kernel
theorem d_law_1057 : decode code 1057 = .ok (.ldc2_w 89, 3) := by decide +kernel
theorem d_law_1060 : decode code 1060 = .ok (.land, 1) := by decide +kernel
theorem d_law_1061 : decode code 1061 = .ok (.lor, 1) := by decide +kernel
theorem d_law_1062 : decode code 1062 = .ok (.aload_n 0, 1) := by decide +kernel
theorem d_law_1063 : decode code 1063 = .ok (.iload 4, 2) := by decide +kernel
theorem d_law_1065 : decode code 1065 = .ok (.iconst 3, 1) := by decide +kernel
theorem d_law_1066 : decode code 1066 = .ok (.iadd, 1) := by decide +kernel
theorem d_law_1067 : decode code 1067 = .ok (.iaload, 1) := by decide +kernel
theorem d_law_1068 : decode code 1068 = .ok (.aload_n 0, 1) := by decide +kernel
theorem d_law_1069 : decode code 1069 = .ok (.iload 4, 2) := by decide +kernel
theorem d_law_1071 : decode code 1071 = .ok (.iconst 4, 1) := by decide +kernel
theorem d_law_1072 : decode code 1072 = .ok (.iadd, 1) := by decide +kernel
theorem d_law_1073 : decode code 1073 = .ok (.iaload, 1) := by decide +kernel
theorem d_law_1074 : decode code 1074 = .ok (.i2l, 1) := by decide +kernel
theorem d_law_1075 : decode code 1075 = .ok (.bipush 32, 2) := by decide +kernel
theorem d_law_1077 : decode code 1077 = .ok (.lshl, 1) := by decide +kernel
theorem d_law_1078 : decode code 1078 = .ok (.aload_n 0, 1) := by decide +kernel
theorem d_law_1079 : decode code 1079 = .ok (.iload 4, 2) := by decide +kernel
theorem d_law_1081 : decode code 1081 = .ok (.iconst 5, 1) := by decide +kernel
theorem d_law_1082 : decode code 1082 = .ok (.iadd, 1) := by decide +kernel
theorem d_law_1083 : decode code 1083 = .ok (.iaload, 1) := by decide +kernel
theorem d_law_1084 : decode code 1084 = .ok (.i2l, 1) := by decide +kernel
theorem d_law_1085 : decode code 1085 = .ok (.ldc2_w 89, 3) := by decide +kernel
theorem d_law_1088 : decode code 1088 = .ok (.land, 1) := by decide +kernel
theorem d_law_1089 : decode code 1089 = .ok (.lor, 1) := by decide +kernel
theorem d_law_1090 : decode code 1090 = .ok (.invokestatic 169, 3) := by decide +kernel
theorem d_law_1093 : decode code 1093 = .ok (.istore 5, 2) := by decide +kernel
theorem d_law_1095 : decode code 1095 = .ok (.aload_n 2, 1) := by decide +kernel
theorem d_law_1096 : decode code 1096 = .ok (.aload_n 0, 1) := by decide +kernel
theorem d_law_1097 : decode code 1097 = .ok (.iload 4, 2) := by decide +kernel
theorem d_law_1099 : decode code 1099 = .ok (.iconst 1, 1) := by decide +kernel
theorem d_law_1100 : decode code 1100 = .ok (.iadd, 1) := by decide +kernel
theorem d_law_1101 : decode code 1101 = .ok (.iaload, 1) := by decide +kernel
theorem d_law_1102 : decode code 1102 = .ok (.i2l, 1) := by decide +kernel
theorem d_law_1103 : decode code 1103 = .ok (.bipush 32, 2) := by decide +kernel
theorem d_law_1105 : decode code 1105 = .ok (.lshl, 1) := by decide +kernel
theorem d_law_1106 : decode code 1106 = .ok (.aload_n 0, 1) := by decide +kernel
theorem d_law_1107 : decode code 1107 = .ok (.iload 4, 2) := by decide +kernel
theorem d_law_1109 : decode code 1109 = .ok (.iconst 2, 1) := by decide +kernel
theorem d_law_1110 : decode code 1110 = .ok (.iadd, 1) := by decide +kernel
theorem d_law_1111 : decode code 1111 = .ok (.iaload, 1) := by decide +kernel
theorem d_law_1112 : decode code 1112 = .ok (.i2l, 1) := by decide +kernel
theorem d_law_1113 : decode code 1113 = .ok (.ldc2_w 89, 3) := by decide +kernel
theorem d_law_1116 : decode code 1116 = .ok (.land, 1) := by decide +kernel
theorem d_law_1117 : decode code 1117 = .ok (.lor, 1) := by decide +kernel
theorem d_law_1118 : decode code 1118 = .ok (.aload_n 0, 1) := by decide +kernel
theorem d_law_1119 : decode code 1119 = .ok (.iload 4, 2) := by decide +kernel
theorem d_law_1121 : decode code 1121 = .ok (.iconst 3, 1) := by decide +kernel
theorem d_law_1122 : decode code 1122 = .ok (.iadd, 1) := by decide +kernel
theorem d_law_1123 : decode code 1123 = .ok (.iaload, 1) := by decide +kernel
theorem d_law_1124 : decode code 1124 = .ok (.aload_n 0, 1) := by decide +kernel
theorem d_law_1125 : decode code 1125 = .ok (.iload 4, 2) := by decide +kernel
theorem d_law_1127 : decode code 1127 = .ok (.iconst 4, 1) := by decide +kernel
theorem d_law_1128 : decode code 1128 = .ok (.iadd, 1) := by decide +kernel
theorem d_law_1129 : decode code 1129 = .ok (.iaload, 1) := by decide +kernel
theorem d_law_1130 : decode code 1130 = .ok (.i2l, 1) := by decide +kernel
theorem d_law_1131 : decode code 1131 = .ok (.bipush 32, 2) := by decide +kernel
theorem d_law_1133 : decode code 1133 = .ok (.lshl, 1) := by decide +kernel
theorem d_law_1134 : decode code 1134 = .ok (.aload_n 0, 1) := by decide +kernel
theorem d_law_1135 : decode code 1135 = .ok (.iload 4, 2) := by decide +kernel
theorem d_law_1137 : decode code 1137 = .ok (.iconst 5, 1) := by decide +kernel
theorem d_law_1138 : decode code 1138 = .ok (.iadd, 1) := by decide +kernel
theorem d_law_1139 : decode code 1139 = .ok (.iaload, 1) := by decide +kernel
theorem d_law_1140 : decode code 1140 = .ok (.i2l, 1) := by decide +kernel
theorem d_law_1141 : decode code 1141 = .ok (.ldc2_w 89, 3) := by decide +kernel
theorem d_law_1144 : decode code 1144 = .ok (.land, 1) := by decide +kernel
theorem d_law_1145 : decode code 1145 = .ok (.lor, 1) := by decide +kernel
theorem d_law_1146 : decode code 1146 = .ok (.invokevirtual 172, 3) := by decide +kernel
theorem d_law_1149 : decode code 1149 = .ok (.aload_n 2, 1) := by decide +kernel
theorem d_law_1150 : decode code 1150 = .ok (.invokevirtual 95, 3) := by decide +kernel
theorem d_law_1153 : decode code 1153 = .ok (.iload 5, 2) := by decide +kernel
theorem d_law_1155 : decode code 1155 = .ok (.if_icmp .eq 5, 3) := by decide +kernel
theorem d_law_1158 : decode code 1158 = .ok (.iconst 0, 1) := by decide +kernel
theorem d_law_1159 : decode code 1159 = .ok (.ireturn, 1) := by decide +kernel
theorem d_law_1160 : decode code 1160 = .ok (.goto 85, 3) := by decide +kernel
theorem d_law_1163 : decode code 1163 = .ok (.aload_n 1, 1) := by decide +kernel
theorem d_law_1164 : decode code 1164 = .ok (.invokevirtual 173, 3) := by decide +kernel
theorem d_law_1167 : decode code 1167 = .ok (.aload_n 2, 1) := by decide +kernel
theorem d_law_1168 : decode code 1168 = .ok (.invokevirtual 176, 3) := by decide +kernel
theorem d_law_1171 : decode code 1171 = .ok (.if_icmp .eq 74, 3) := by decide +kernel
theorem d_law_1174 : decode code 1174 = .ok (.iconst 0, 1) := by decide +kernel
theorem d_law_1175 : decode code 1175 = .ok (.ireturn, 1) := by decide +kernel
theorem d_law_1176 : decode code 1176 = .ok (.aload_n 1, 1) := by decide +kernel
theorem d_law_1177 : decode code 1177 = .ok (.aload_n 0, 1) := by decide +kernel
theorem d_law_1178 : decode code 1178 = .ok (.iload 4, 2) := by decide +kernel
theorem d_law_1180 : decode code 1180 = .ok (.iconst 1, 1) := by decide +kernel
theorem d_law_1181 : decode code 1181 = .ok (.iadd, 1) := by decide +kernel
theorem d_law_1182 : decode code 1182 = .ok (.iaload, 1) := by decide +kernel
theorem d_law_1183 : decode code 1183 = .ok (.aload_n 3, 1) := by decide +kernel
theorem d_law_1184 : decode code 1184 = .ok (.invokestatic 177, 3) := by decide +kernel
theorem d_law_1187 : decode code 1187 = .ok (.istore 5, 2) := by decide +kernel
theorem d_law_1189 : decode code 1189 = .ok (.aload_n 2, 1) := by decide +kernel
theorem d_law_1190 : decode code 1190 = .ok (.aload_n 0, 1) := by decide +kernel
theorem d_law_1191 : decode code 1191 = .ok (.iload 4, 2) := by decide +kernel
theorem d_law_1193 : decode code 1193 = .ok (.iconst 1, 1) := by decide +kernel
theorem d_law_1194 : decode code 1194 = .ok (.iadd, 1) := by decide +kernel
theorem d_law_1195 : decode code 1195 = .ok (.iaload, 1) := by decide +kernel
theorem d_law_1196 : decode code 1196 = .ok (.invokevirtual 179, 3) := by decide +kernel
theorem d_law_1199 : decode code 1199 = .ok (.istore 6, 2) := by decide +kernel
theorem d_law_1201 : decode code 1201 = .ok (.aload_n 2, 1) := by decide +kernel
theorem d_law_1202 : decode code 1202 = .ok (.invokevirtual 95, 3) := by decide +kernel
theorem d_law_1205 : decode code 1205 = .ok (.iload 5, 2) := by decide +kernel
theorem d_law_1207 : decode code 1207 = .ok (.if_icmp .eq 5, 3) := by decide +kernel
theorem d_law_1210 : decode code 1210 = .ok (.iconst 0, 1) := by decide +kernel
theorem d_law_1211 : decode code 1211 = .ok (.ireturn, 1) := by decide +kernel
theorem d_law_1212 : decode code 1212 = .ok (.iload 5, 2) := by decide +kernel
theorem d_law_1214 : decode code 1214 = .ok (.ifCond .ne 15, 3) := by decide +kernel
theorem d_law_1217 : decode code 1217 = .ok (.aload_n 3, 1) := by decide +kernel
theorem d_law_1218 : decode code 1218 = .ok (.iconst 0, 1) := by decide +kernel
theorem d_law_1219 : decode code 1219 = .ok (.laload, 1) := by decide +kernel
theorem d_law_1220 : decode code 1220 = .ok (.iload 6, 2) := by decide +kernel
theorem d_law_1222 : decode code 1222 = .ok (.i2l, 1) := by decide +kernel
theorem d_law_1223 : decode code 1223 = .ok (.lcmp, 1) := by decide +kernel
theorem d_law_1224 : decode code 1224 = .ok (.ifCond .eq 5, 3) := by decide +kernel
theorem d_law_1227 : decode code 1227 = .ok (.iconst 0, 1) := by decide +kernel
theorem d_law_1228 : decode code 1228 = .ok (.ireturn, 1) := by decide +kernel
theorem d_law_1229 : decode code 1229 = .ok (.goto 16, 3) := by decide +kernel
theorem d_law_1232 : decode code 1232 = .ok (.aload_n 1, 1) := by decide +kernel
theorem d_law_1233 : decode code 1233 = .ok (.invokevirtual 180, 3) := by decide +kernel
theorem d_law_1236 : decode code 1236 = .ok (.aload_n 2, 1) := by decide +kernel
theorem d_law_1237 : decode code 1237 = .ok (.invokevirtual 183, 3) := by decide +kernel
theorem d_law_1240 : decode code 1240 = .ok (.if_icmp .eq 5, 3) := by decide +kernel
theorem d_law_1243 : decode code 1243 = .ok (.iconst 0, 1) := by decide +kernel
theorem d_law_1244 : decode code 1244 = .ok (.ireturn, 1) := by decide +kernel
theorem d_law_1245 : decode code 1245 = .ok (.iinc 4 6, 3) := by decide +kernel
theorem d_law_1248 : decode code 1248 = .ok (.goto (-1215), 3) := by decide +kernel
theorem d_law_1251 : decode code 1251 = .ok (.iconst 1, 1) := by decide +kernel
theorem d_law_1252 : decode code 1252 = .ok (.ireturn, 1) := by decide +kernel
