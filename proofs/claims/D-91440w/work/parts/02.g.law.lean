/-! the law's own entry -/
set_option maxRecDepth 100000
abbrev cL_law : ByteArray := code
theorem dL_law_0 : decode cL_law 0 = .ok (.new 7, 3) := by decide +kernel
theorem dL_law_3 : decode cL_law 3 = .ok (.dup, 1) := by decide +kernel
theorem dL_law_4 : decode cL_law 4 = .ok (.invokespecial 9, 3) := by decide +kernel
theorem dL_law_7 : decode cL_law 7 = .ok (.astore_n 1, 1) := by decide +kernel
theorem dL_law_8 : decode cL_law 8 = .ok (.new 10, 3) := by decide +kernel
theorem dL_law_11 : decode cL_law 11 = .ok (.dup, 1) := by decide +kernel
theorem dL_law_12 : decode cL_law 12 = .ok (.invokespecial 12, 3) := by decide +kernel
theorem dL_law_15 : decode cL_law 15 = .ok (.astore_n 2, 1) := by decide +kernel
theorem dL_law_16 : decode cL_law 16 = .ok (.iconst 0, 1) := by decide +kernel
theorem dL_law_17 : decode cL_law 17 = .ok (.istore_n 3, 1) := by decide +kernel
theorem dL_law_18 : decode cL_law 18 = .ok (.iload_n 3, 1) := by decide +kernel
theorem dL_law_19 : decode cL_law 19 = .ok (.aload_n 0, 1) := by decide +kernel
theorem dL_law_20 : decode cL_law 20 = .ok (.arraylength, 1) := by decide +kernel
theorem dL_law_21 : decode cL_law 21 = .ok (.bipush 7, 2) := by decide +kernel
theorem dL_law_23 : decode cL_law 23 = .ok (.isub, 1) := by decide +kernel
theorem dL_law_24 : decode cL_law 24 = .ok (.if_icmp .gt 1374, 3) := by decide +kernel
theorem dL_law_27 : decode cL_law 27 = .ok (.aload_n 0, 1) := by decide +kernel
theorem dL_law_28 : decode cL_law 28 = .ok (.iload_n 3, 1) := by decide +kernel
theorem dL_law_29 : decode cL_law 29 = .ok (.iaload, 1) := by decide +kernel
theorem dL_law_30 : decode cL_law 30 = .ok (.bipush 63, 2) := by decide +kernel
theorem dL_law_32 : decode cL_law 32 = .ok (.iand, 1) := by decide +kernel
theorem dL_law_33 : decode cL_law 33 = .ok (.tableswitch 1359 0 37 #[167, 200, 275, 308, 341, 374, 387, 410, 423, 486, 509, 532, 555, 588, 631, 674, 707, 740, 763, 796, 845, 858, 871, 884, 907, 940, 983, 1016, 1039, 1072, 1115, 1168, 1191, 1224, 1257, 1290, 1313, 1336], 167) := by decide +kernel
theorem dL_law_200 : decode cL_law 200 = .ok (.aload_n 1, 1) := by decide +kernel
theorem dL_law_201 : decode cL_law 201 = .ok (.aload_n 0, 1) := by decide +kernel
theorem dL_law_202 : decode cL_law 202 = .ok (.iload_n 3, 1) := by decide +kernel
theorem dL_law_203 : decode cL_law 203 = .ok (.iconst 1, 1) := by decide +kernel
theorem dL_law_204 : decode cL_law 204 = .ok (.iadd, 1) := by decide +kernel
theorem dL_law_205 : decode cL_law 205 = .ok (.iaload, 1) := by decide +kernel
theorem dL_law_206 : decode cL_law 206 = .ok (.aload_n 0, 1) := by decide +kernel
theorem dL_law_207 : decode cL_law 207 = .ok (.iload_n 3, 1) := by decide +kernel
theorem dL_law_208 : decode cL_law 208 = .ok (.iconst 2, 1) := by decide +kernel
theorem dL_law_209 : decode cL_law 209 = .ok (.iadd, 1) := by decide +kernel
theorem dL_law_210 : decode cL_law 210 = .ok (.iaload, 1) := by decide +kernel
theorem dL_law_211 : decode cL_law 211 = .ok (.invokevirtual 13, 3) := by decide +kernel
theorem dL_law_214 : decode cL_law 214 = .ok (.aload_n 2, 1) := by decide +kernel
theorem dL_law_215 : decode cL_law 215 = .ok (.aload_n 0, 1) := by decide +kernel
theorem dL_law_216 : decode cL_law 216 = .ok (.iload_n 3, 1) := by decide +kernel
theorem dL_law_217 : decode cL_law 217 = .ok (.iconst 1, 1) := by decide +kernel
theorem dL_law_218 : decode cL_law 218 = .ok (.iadd, 1) := by decide +kernel
theorem dL_law_219 : decode cL_law 219 = .ok (.iaload, 1) := by decide +kernel
theorem dL_law_220 : decode cL_law 220 = .ok (.aload_n 0, 1) := by decide +kernel
theorem dL_law_221 : decode cL_law 221 = .ok (.iload_n 3, 1) := by decide +kernel
theorem dL_law_222 : decode cL_law 222 = .ok (.iconst 2, 1) := by decide +kernel
theorem dL_law_223 : decode cL_law 223 = .ok (.iadd, 1) := by decide +kernel
theorem dL_law_224 : decode cL_law 224 = .ok (.iaload, 1) := by decide +kernel
theorem dL_law_225 : decode cL_law 225 = .ok (.invokevirtual 17, 3) := by decide +kernel
theorem dL_law_228 : decode cL_law 228 = .ok (.if_icmp .eq 1164, 3) := by decide +kernel
theorem dL_law_231 : decode cL_law 231 = .ok (.iconst 0, 1) := by decide +kernel
theorem dL_law_232 : decode cL_law 232 = .ok (.ireturn, 1) := by decide +kernel
theorem dL_law_233 : decode cL_law 233 = .ok (.aload_n 1, 1) := by decide +kernel
theorem dL_law_234 : decode cL_law 234 = .ok (.aload_n 0, 1) := by decide +kernel
theorem dL_law_235 : decode cL_law 235 = .ok (.iload_n 3, 1) := by decide +kernel
theorem dL_law_236 : decode cL_law 236 = .ok (.iconst 1, 1) := by decide +kernel
theorem dL_law_237 : decode cL_law 237 = .ok (.iadd, 1) := by decide +kernel
theorem dL_law_238 : decode cL_law 238 = .ok (.iaload, 1) := by decide +kernel
theorem dL_law_239 : decode cL_law 239 = .ok (.aload_n 0, 1) := by decide +kernel
theorem dL_law_240 : decode cL_law 240 = .ok (.iload_n 3, 1) := by decide +kernel
theorem dL_law_241 : decode cL_law 241 = .ok (.iconst 2, 1) := by decide +kernel
theorem dL_law_242 : decode cL_law 242 = .ok (.iadd, 1) := by decide +kernel
theorem dL_law_243 : decode cL_law 243 = .ok (.iaload, 1) := by decide +kernel
theorem dL_law_244 : decode cL_law 244 = .ok (.aload_n 0, 1) := by decide +kernel
theorem dL_law_245 : decode cL_law 245 = .ok (.iload_n 3, 1) := by decide +kernel
theorem dL_law_246 : decode cL_law 246 = .ok (.iconst 3, 1) := by decide +kernel
theorem dL_law_247 : decode cL_law 247 = .ok (.iadd, 1) := by decide +kernel
theorem dL_law_248 : decode cL_law 248 = .ok (.iaload, 1) := by decide +kernel
theorem dL_law_249 : decode cL_law 249 = .ok (.aload_n 0, 1) := by decide +kernel
theorem dL_law_250 : decode cL_law 250 = .ok (.iload_n 3, 1) := by decide +kernel
theorem dL_law_251 : decode cL_law 251 = .ok (.iconst 4, 1) := by decide +kernel
theorem dL_law_252 : decode cL_law 252 = .ok (.iadd, 1) := by decide +kernel
theorem dL_law_253 : decode cL_law 253 = .ok (.iaload, 1) := by decide +kernel
theorem dL_law_254 : decode cL_law 254 = .ok (.aload_n 0, 1) := by decide +kernel
theorem dL_law_255 : decode cL_law 255 = .ok (.iload_n 3, 1) := by decide +kernel
theorem dL_law_256 : decode cL_law 256 = .ok (.iconst 5, 1) := by decide +kernel
theorem dL_law_257 : decode cL_law 257 = .ok (.iadd, 1) := by decide +kernel
theorem dL_law_258 : decode cL_law 258 = .ok (.iaload, 1) := by decide +kernel
theorem dL_law_259 : decode cL_law 259 = .ok (.aload_n 0, 1) := by decide +kernel
theorem dL_law_260 : decode cL_law 260 = .ok (.iload_n 3, 1) := by decide +kernel
theorem dL_law_261 : decode cL_law 261 = .ok (.bipush 6, 2) := by decide +kernel
theorem dL_law_263 : decode cL_law 263 = .ok (.iadd, 1) := by decide +kernel
theorem dL_law_264 : decode cL_law 264 = .ok (.iaload, 1) := by decide +kernel
theorem dL_law_265 : decode cL_law 265 = .ok (.invokevirtual 18, 3) := by decide +kernel
theorem dL_law_268 : decode cL_law 268 = .ok (.aload_n 2, 1) := by decide +kernel
theorem dL_law_269 : decode cL_law 269 = .ok (.aload_n 0, 1) := by decide +kernel
theorem dL_law_270 : decode cL_law 270 = .ok (.iload_n 3, 1) := by decide +kernel
theorem dL_law_271 : decode cL_law 271 = .ok (.iconst 1, 1) := by decide +kernel
theorem dL_law_272 : decode cL_law 272 = .ok (.iadd, 1) := by decide +kernel
theorem dL_law_273 : decode cL_law 273 = .ok (.iaload, 1) := by decide +kernel
theorem dL_law_274 : decode cL_law 274 = .ok (.aload_n 0, 1) := by decide +kernel
theorem dL_law_275 : decode cL_law 275 = .ok (.iload_n 3, 1) := by decide +kernel
theorem dL_law_276 : decode cL_law 276 = .ok (.iconst 2, 1) := by decide +kernel
theorem dL_law_277 : decode cL_law 277 = .ok (.iadd, 1) := by decide +kernel
theorem dL_law_278 : decode cL_law 278 = .ok (.iaload, 1) := by decide +kernel
theorem dL_law_279 : decode cL_law 279 = .ok (.aload_n 0, 1) := by decide +kernel
theorem dL_law_280 : decode cL_law 280 = .ok (.iload_n 3, 1) := by decide +kernel
theorem dL_law_281 : decode cL_law 281 = .ok (.iconst 3, 1) := by decide +kernel
theorem dL_law_282 : decode cL_law 282 = .ok (.iadd, 1) := by decide +kernel
theorem dL_law_283 : decode cL_law 283 = .ok (.iaload, 1) := by decide +kernel
theorem dL_law_284 : decode cL_law 284 = .ok (.aload_n 0, 1) := by decide +kernel
theorem dL_law_285 : decode cL_law 285 = .ok (.iload_n 3, 1) := by decide +kernel
theorem dL_law_286 : decode cL_law 286 = .ok (.iconst 4, 1) := by decide +kernel
theorem dL_law_287 : decode cL_law 287 = .ok (.iadd, 1) := by decide +kernel
theorem dL_law_288 : decode cL_law 288 = .ok (.iaload, 1) := by decide +kernel
theorem dL_law_289 : decode cL_law 289 = .ok (.aload_n 0, 1) := by decide +kernel
theorem dL_law_290 : decode cL_law 290 = .ok (.iload_n 3, 1) := by decide +kernel
theorem dL_law_291 : decode cL_law 291 = .ok (.iconst 5, 1) := by decide +kernel
theorem dL_law_292 : decode cL_law 292 = .ok (.iadd, 1) := by decide +kernel
theorem dL_law_293 : decode cL_law 293 = .ok (.iaload, 1) := by decide +kernel
theorem dL_law_294 : decode cL_law 294 = .ok (.aload_n 0, 1) := by decide +kernel
theorem dL_law_295 : decode cL_law 295 = .ok (.iload_n 3, 1) := by decide +kernel
theorem dL_law_296 : decode cL_law 296 = .ok (.bipush 6, 2) := by decide +kernel
theorem dL_law_298 : decode cL_law 298 = .ok (.iadd, 1) := by decide +kernel
theorem dL_law_299 : decode cL_law 299 = .ok (.iaload, 1) := by decide +kernel
theorem dL_law_300 : decode cL_law 300 = .ok (.invokevirtual 22, 3) := by decide +kernel
theorem dL_law_303 : decode cL_law 303 = .ok (.if_icmp .eq 1089, 3) := by decide +kernel
theorem dL_law_306 : decode cL_law 306 = .ok (.iconst 0, 1) := by decide +kernel
theorem dL_law_307 : decode cL_law 307 = .ok (.ireturn, 1) := by decide +kernel
theorem dL_law_308 : decode cL_law 308 = .ok (.aload_n 1, 1) := by decide +kernel
theorem dL_law_309 : decode cL_law 309 = .ok (.aload_n 0, 1) := by decide +kernel
theorem dL_law_310 : decode cL_law 310 = .ok (.iload_n 3, 1) := by decide +kernel
theorem dL_law_311 : decode cL_law 311 = .ok (.iconst 1, 1) := by decide +kernel
theorem dL_law_312 : decode cL_law 312 = .ok (.iadd, 1) := by decide +kernel
theorem dL_law_313 : decode cL_law 313 = .ok (.iaload, 1) := by decide +kernel
theorem dL_law_314 : decode cL_law 314 = .ok (.aload_n 0, 1) := by decide +kernel
theorem dL_law_315 : decode cL_law 315 = .ok (.iload_n 3, 1) := by decide +kernel
theorem dL_law_316 : decode cL_law 316 = .ok (.iconst 2, 1) := by decide +kernel
theorem dL_law_317 : decode cL_law 317 = .ok (.iadd, 1) := by decide +kernel
theorem dL_law_318 : decode cL_law 318 = .ok (.iaload, 1) := by decide +kernel
theorem dL_law_319 : decode cL_law 319 = .ok (.invokevirtual 23, 3) := by decide +kernel
theorem dL_law_322 : decode cL_law 322 = .ok (.aload_n 2, 1) := by decide +kernel
theorem dL_law_323 : decode cL_law 323 = .ok (.aload_n 0, 1) := by decide +kernel
theorem dL_law_324 : decode cL_law 324 = .ok (.iload_n 3, 1) := by decide +kernel
theorem dL_law_325 : decode cL_law 325 = .ok (.iconst 1, 1) := by decide +kernel
theorem dL_law_326 : decode cL_law 326 = .ok (.iadd, 1) := by decide +kernel
theorem dL_law_327 : decode cL_law 327 = .ok (.iaload, 1) := by decide +kernel
theorem dL_law_328 : decode cL_law 328 = .ok (.aload_n 0, 1) := by decide +kernel
theorem dL_law_329 : decode cL_law 329 = .ok (.iload_n 3, 1) := by decide +kernel
theorem dL_law_330 : decode cL_law 330 = .ok (.iconst 2, 1) := by decide +kernel
theorem dL_law_331 : decode cL_law 331 = .ok (.iadd, 1) := by decide +kernel
theorem dL_law_332 : decode cL_law 332 = .ok (.iaload, 1) := by decide +kernel
theorem dL_law_333 : decode cL_law 333 = .ok (.invokevirtual 26, 3) := by decide +kernel
theorem dL_law_336 : decode cL_law 336 = .ok (.if_icmp .eq 1056, 3) := by decide +kernel
theorem dL_law_339 : decode cL_law 339 = .ok (.iconst 0, 1) := by decide +kernel
theorem dL_law_340 : decode cL_law 340 = .ok (.ireturn, 1) := by decide +kernel
theorem dL_law_341 : decode cL_law 341 = .ok (.aload_n 1, 1) := by decide +kernel
theorem dL_law_342 : decode cL_law 342 = .ok (.aload_n 0, 1) := by decide +kernel
theorem dL_law_343 : decode cL_law 343 = .ok (.iload_n 3, 1) := by decide +kernel
theorem dL_law_344 : decode cL_law 344 = .ok (.iconst 1, 1) := by decide +kernel
theorem dL_law_345 : decode cL_law 345 = .ok (.iadd, 1) := by decide +kernel
theorem dL_law_346 : decode cL_law 346 = .ok (.iaload, 1) := by decide +kernel
theorem dL_law_347 : decode cL_law 347 = .ok (.aload_n 0, 1) := by decide +kernel
theorem dL_law_348 : decode cL_law 348 = .ok (.iload_n 3, 1) := by decide +kernel
theorem dL_law_349 : decode cL_law 349 = .ok (.iconst 2, 1) := by decide +kernel
theorem dL_law_350 : decode cL_law 350 = .ok (.iadd, 1) := by decide +kernel
theorem dL_law_351 : decode cL_law 351 = .ok (.iaload, 1) := by decide +kernel
theorem dL_law_352 : decode cL_law 352 = .ok (.invokevirtual 27, 3) := by decide +kernel
theorem dL_law_355 : decode cL_law 355 = .ok (.aload_n 2, 1) := by decide +kernel
theorem dL_law_356 : decode cL_law 356 = .ok (.aload_n 0, 1) := by decide +kernel
theorem dL_law_357 : decode cL_law 357 = .ok (.iload_n 3, 1) := by decide +kernel
theorem dL_law_358 : decode cL_law 358 = .ok (.iconst 1, 1) := by decide +kernel
theorem dL_law_359 : decode cL_law 359 = .ok (.iadd, 1) := by decide +kernel
theorem dL_law_360 : decode cL_law 360 = .ok (.iaload, 1) := by decide +kernel
theorem dL_law_361 : decode cL_law 361 = .ok (.aload_n 0, 1) := by decide +kernel
theorem dL_law_362 : decode cL_law 362 = .ok (.iload_n 3, 1) := by decide +kernel
theorem dL_law_363 : decode cL_law 363 = .ok (.iconst 2, 1) := by decide +kernel
theorem dL_law_364 : decode cL_law 364 = .ok (.iadd, 1) := by decide +kernel
theorem dL_law_365 : decode cL_law 365 = .ok (.iaload, 1) := by decide +kernel
theorem dL_law_366 : decode cL_law 366 = .ok (.invokevirtual 30, 3) := by decide +kernel
theorem dL_law_369 : decode cL_law 369 = .ok (.if_icmp .eq 1023, 3) := by decide +kernel
theorem dL_law_372 : decode cL_law 372 = .ok (.iconst 0, 1) := by decide +kernel
theorem dL_law_373 : decode cL_law 373 = .ok (.ireturn, 1) := by decide +kernel
theorem dL_law_374 : decode cL_law 374 = .ok (.aload_n 1, 1) := by decide +kernel
theorem dL_law_375 : decode cL_law 375 = .ok (.aload_n 0, 1) := by decide +kernel
theorem dL_law_376 : decode cL_law 376 = .ok (.iload_n 3, 1) := by decide +kernel
theorem dL_law_377 : decode cL_law 377 = .ok (.iconst 1, 1) := by decide +kernel
theorem dL_law_378 : decode cL_law 378 = .ok (.iadd, 1) := by decide +kernel
theorem dL_law_379 : decode cL_law 379 = .ok (.iaload, 1) := by decide +kernel
theorem dL_law_380 : decode cL_law 380 = .ok (.aload_n 0, 1) := by decide +kernel
theorem dL_law_381 : decode cL_law 381 = .ok (.iload_n 3, 1) := by decide +kernel
theorem dL_law_382 : decode cL_law 382 = .ok (.iconst 2, 1) := by decide +kernel
theorem dL_law_383 : decode cL_law 383 = .ok (.iadd, 1) := by decide +kernel
theorem dL_law_384 : decode cL_law 384 = .ok (.iaload, 1) := by decide +kernel
theorem dL_law_385 : decode cL_law 385 = .ok (.invokevirtual 31, 3) := by decide +kernel
theorem dL_law_388 : decode cL_law 388 = .ok (.aload_n 2, 1) := by decide +kernel
theorem dL_law_389 : decode cL_law 389 = .ok (.aload_n 0, 1) := by decide +kernel
theorem dL_law_390 : decode cL_law 390 = .ok (.iload_n 3, 1) := by decide +kernel
theorem dL_law_391 : decode cL_law 391 = .ok (.iconst 1, 1) := by decide +kernel
theorem dL_law_392 : decode cL_law 392 = .ok (.iadd, 1) := by decide +kernel
theorem dL_law_393 : decode cL_law 393 = .ok (.iaload, 1) := by decide +kernel
theorem dL_law_394 : decode cL_law 394 = .ok (.aload_n 0, 1) := by decide +kernel
theorem dL_law_395 : decode cL_law 395 = .ok (.iload_n 3, 1) := by decide +kernel
theorem dL_law_396 : decode cL_law 396 = .ok (.iconst 2, 1) := by decide +kernel
theorem dL_law_397 : decode cL_law 397 = .ok (.iadd, 1) := by decide +kernel
theorem dL_law_398 : decode cL_law 398 = .ok (.iaload, 1) := by decide +kernel
theorem dL_law_399 : decode cL_law 399 = .ok (.invokevirtual 34, 3) := by decide +kernel
theorem dL_law_402 : decode cL_law 402 = .ok (.if_icmp .eq 990, 3) := by decide +kernel
theorem dL_law_405 : decode cL_law 405 = .ok (.iconst 0, 1) := by decide +kernel
theorem dL_law_406 : decode cL_law 406 = .ok (.ireturn, 1) := by decide +kernel
theorem dL_law_407 : decode cL_law 407 = .ok (.aload_n 1, 1) := by decide +kernel
theorem dL_law_408 : decode cL_law 408 = .ok (.invokevirtual 35, 3) := by decide +kernel
theorem dL_law_411 : decode cL_law 411 = .ok (.aload_n 2, 1) := by decide +kernel
theorem dL_law_412 : decode cL_law 412 = .ok (.invokevirtual 39, 3) := by decide +kernel
theorem dL_law_415 : decode cL_law 415 = .ok (.if_icmp .eq 977, 3) := by decide +kernel
theorem dL_law_418 : decode cL_law 418 = .ok (.iconst 0, 1) := by decide +kernel
theorem dL_law_419 : decode cL_law 419 = .ok (.ireturn, 1) := by decide +kernel
theorem dL_law_420 : decode cL_law 420 = .ok (.aload_n 1, 1) := by decide +kernel
theorem dL_law_421 : decode cL_law 421 = .ok (.aload_n 0, 1) := by decide +kernel
theorem dL_law_422 : decode cL_law 422 = .ok (.iload_n 3, 1) := by decide +kernel
theorem dL_law_423 : decode cL_law 423 = .ok (.iconst 1, 1) := by decide +kernel
theorem dL_law_424 : decode cL_law 424 = .ok (.iadd, 1) := by decide +kernel
theorem dL_law_425 : decode cL_law 425 = .ok (.iaload, 1) := by decide +kernel
theorem dL_law_426 : decode cL_law 426 = .ok (.invokevirtual 40, 3) := by decide +kernel
theorem dL_law_429 : decode cL_law 429 = .ok (.aload_n 2, 1) := by decide +kernel
theorem dL_law_430 : decode cL_law 430 = .ok (.aload_n 0, 1) := by decide +kernel
theorem dL_law_431 : decode cL_law 431 = .ok (.iload_n 3, 1) := by decide +kernel
theorem dL_law_432 : decode cL_law 432 = .ok (.iconst 1, 1) := by decide +kernel
theorem dL_law_433 : decode cL_law 433 = .ok (.iadd, 1) := by decide +kernel
theorem dL_law_434 : decode cL_law 434 = .ok (.iaload, 1) := by decide +kernel
theorem dL_law_435 : decode cL_law 435 = .ok (.invokevirtual 44, 3) := by decide +kernel
theorem dL_law_438 : decode cL_law 438 = .ok (.if_icmp .eq 954, 3) := by decide +kernel
theorem dL_law_441 : decode cL_law 441 = .ok (.iconst 0, 1) := by decide +kernel
theorem dL_law_442 : decode cL_law 442 = .ok (.ireturn, 1) := by decide +kernel
theorem dL_law_443 : decode cL_law 443 = .ok (.aload_n 1, 1) := by decide +kernel
theorem dL_law_444 : decode cL_law 444 = .ok (.invokevirtual 45, 3) := by decide +kernel
theorem dL_law_447 : decode cL_law 447 = .ok (.aload_n 2, 1) := by decide +kernel
theorem dL_law_448 : decode cL_law 448 = .ok (.invokevirtual 48, 3) := by decide +kernel
theorem dL_law_451 : decode cL_law 451 = .ok (.if_icmp .eq 941, 3) := by decide +kernel
theorem dL_law_454 : decode cL_law 454 = .ok (.iconst 0, 1) := by decide +kernel
theorem dL_law_455 : decode cL_law 455 = .ok (.ireturn, 1) := by decide +kernel
theorem dL_law_456 : decode cL_law 456 = .ok (.aload_n 1, 1) := by decide +kernel
theorem dL_law_457 : decode cL_law 457 = .ok (.aload_n 0, 1) := by decide +kernel
theorem dL_law_458 : decode cL_law 458 = .ok (.iload_n 3, 1) := by decide +kernel
theorem dL_law_459 : decode cL_law 459 = .ok (.iconst 1, 1) := by decide +kernel
theorem dL_law_460 : decode cL_law 460 = .ok (.iadd, 1) := by decide +kernel
theorem dL_law_461 : decode cL_law 461 = .ok (.iaload, 1) := by decide +kernel
theorem dL_law_462 : decode cL_law 462 = .ok (.aload_n 0, 1) := by decide +kernel
theorem dL_law_463 : decode cL_law 463 = .ok (.iload_n 3, 1) := by decide +kernel
theorem dL_law_464 : decode cL_law 464 = .ok (.iconst 2, 1) := by decide +kernel
theorem dL_law_465 : decode cL_law 465 = .ok (.iadd, 1) := by decide +kernel
theorem dL_law_466 : decode cL_law 466 = .ok (.iaload, 1) := by decide +kernel
theorem dL_law_467 : decode cL_law 467 = .ok (.aload_n 0, 1) := by decide +kernel
theorem dL_law_468 : decode cL_law 468 = .ok (.iload_n 3, 1) := by decide +kernel
theorem dL_law_469 : decode cL_law 469 = .ok (.iconst 3, 1) := by decide +kernel
theorem dL_law_470 : decode cL_law 470 = .ok (.iadd, 1) := by decide +kernel
theorem dL_law_471 : decode cL_law 471 = .ok (.iaload, 1) := by decide +kernel
theorem dL_law_472 : decode cL_law 472 = .ok (.aload_n 0, 1) := by decide +kernel
theorem dL_law_473 : decode cL_law 473 = .ok (.iload_n 3, 1) := by decide +kernel
theorem dL_law_474 : decode cL_law 474 = .ok (.iconst 4, 1) := by decide +kernel
theorem dL_law_475 : decode cL_law 475 = .ok (.iadd, 1) := by decide +kernel
theorem dL_law_476 : decode cL_law 476 = .ok (.iaload, 1) := by decide +kernel
theorem dL_law_477 : decode cL_law 477 = .ok (.aload_n 0, 1) := by decide +kernel
theorem dL_law_478 : decode cL_law 478 = .ok (.iload_n 3, 1) := by decide +kernel
theorem dL_law_479 : decode cL_law 479 = .ok (.iconst 5, 1) := by decide +kernel
theorem dL_law_480 : decode cL_law 480 = .ok (.iadd, 1) := by decide +kernel
theorem dL_law_481 : decode cL_law 481 = .ok (.iaload, 1) := by decide +kernel
theorem dL_law_482 : decode cL_law 482 = .ok (.invokevirtual 49, 3) := by decide +kernel
theorem dL_law_485 : decode cL_law 485 = .ok (.aload_n 2, 1) := by decide +kernel
theorem dL_law_486 : decode cL_law 486 = .ok (.aload_n 0, 1) := by decide +kernel
theorem dL_law_487 : decode cL_law 487 = .ok (.iload_n 3, 1) := by decide +kernel
theorem dL_law_488 : decode cL_law 488 = .ok (.iconst 1, 1) := by decide +kernel
theorem dL_law_489 : decode cL_law 489 = .ok (.iadd, 1) := by decide +kernel
theorem dL_law_490 : decode cL_law 490 = .ok (.iaload, 1) := by decide +kernel
theorem dL_law_491 : decode cL_law 491 = .ok (.aload_n 0, 1) := by decide +kernel
theorem dL_law_492 : decode cL_law 492 = .ok (.iload_n 3, 1) := by decide +kernel
theorem dL_law_493 : decode cL_law 493 = .ok (.iconst 2, 1) := by decide +kernel
theorem dL_law_494 : decode cL_law 494 = .ok (.iadd, 1) := by decide +kernel
theorem dL_law_495 : decode cL_law 495 = .ok (.iaload, 1) := by decide +kernel
theorem dL_law_496 : decode cL_law 496 = .ok (.aload_n 0, 1) := by decide +kernel
theorem dL_law_497 : decode cL_law 497 = .ok (.iload_n 3, 1) := by decide +kernel
theorem dL_law_498 : decode cL_law 498 = .ok (.iconst 3, 1) := by decide +kernel
theorem dL_law_499 : decode cL_law 499 = .ok (.iadd, 1) := by decide +kernel
theorem dL_law_500 : decode cL_law 500 = .ok (.iaload, 1) := by decide +kernel
theorem dL_law_501 : decode cL_law 501 = .ok (.aload_n 0, 1) := by decide +kernel
theorem dL_law_502 : decode cL_law 502 = .ok (.iload_n 3, 1) := by decide +kernel
theorem dL_law_503 : decode cL_law 503 = .ok (.iconst 4, 1) := by decide +kernel
theorem dL_law_504 : decode cL_law 504 = .ok (.iadd, 1) := by decide +kernel
theorem dL_law_505 : decode cL_law 505 = .ok (.iaload, 1) := by decide +kernel
theorem dL_law_506 : decode cL_law 506 = .ok (.aload_n 0, 1) := by decide +kernel
theorem dL_law_507 : decode cL_law 507 = .ok (.iload_n 3, 1) := by decide +kernel
theorem dL_law_508 : decode cL_law 508 = .ok (.iconst 5, 1) := by decide +kernel
theorem dL_law_509 : decode cL_law 509 = .ok (.iadd, 1) := by decide +kernel
theorem dL_law_510 : decode cL_law 510 = .ok (.iaload, 1) := by decide +kernel
theorem dL_law_511 : decode cL_law 511 = .ok (.invokevirtual 53, 3) := by decide +kernel
theorem dL_law_514 : decode cL_law 514 = .ok (.if_icmp .eq 878, 3) := by decide +kernel
theorem dL_law_517 : decode cL_law 517 = .ok (.iconst 0, 1) := by decide +kernel
theorem dL_law_518 : decode cL_law 518 = .ok (.ireturn, 1) := by decide +kernel
theorem dL_law_519 : decode cL_law 519 = .ok (.aload_n 1, 1) := by decide +kernel
theorem dL_law_520 : decode cL_law 520 = .ok (.aload_n 0, 1) := by decide +kernel
theorem dL_law_521 : decode cL_law 521 = .ok (.iload_n 3, 1) := by decide +kernel
theorem dL_law_522 : decode cL_law 522 = .ok (.iconst 1, 1) := by decide +kernel
theorem dL_law_523 : decode cL_law 523 = .ok (.iadd, 1) := by decide +kernel
theorem dL_law_524 : decode cL_law 524 = .ok (.iaload, 1) := by decide +kernel
theorem dL_law_525 : decode cL_law 525 = .ok (.invokevirtual 54, 3) := by decide +kernel
theorem dL_law_528 : decode cL_law 528 = .ok (.aload_n 2, 1) := by decide +kernel
theorem dL_law_529 : decode cL_law 529 = .ok (.aload_n 0, 1) := by decide +kernel
theorem dL_law_530 : decode cL_law 530 = .ok (.iload_n 3, 1) := by decide +kernel
theorem dL_law_531 : decode cL_law 531 = .ok (.iconst 1, 1) := by decide +kernel
theorem dL_law_532 : decode cL_law 532 = .ok (.iadd, 1) := by decide +kernel
theorem dL_law_533 : decode cL_law 533 = .ok (.iaload, 1) := by decide +kernel
theorem dL_law_534 : decode cL_law 534 = .ok (.invokevirtual 57, 3) := by decide +kernel
theorem dL_law_537 : decode cL_law 537 = .ok (.if_icmp .eq 855, 3) := by decide +kernel
theorem dL_law_540 : decode cL_law 540 = .ok (.iconst 0, 1) := by decide +kernel
theorem dL_law_541 : decode cL_law 541 = .ok (.ireturn, 1) := by decide +kernel
theorem dL_law_542 : decode cL_law 542 = .ok (.aload_n 1, 1) := by decide +kernel
theorem dL_law_543 : decode cL_law 543 = .ok (.aload_n 0, 1) := by decide +kernel
theorem dL_law_544 : decode cL_law 544 = .ok (.iload_n 3, 1) := by decide +kernel
theorem dL_law_545 : decode cL_law 545 = .ok (.iconst 1, 1) := by decide +kernel
theorem dL_law_546 : decode cL_law 546 = .ok (.iadd, 1) := by decide +kernel
theorem dL_law_547 : decode cL_law 547 = .ok (.iaload, 1) := by decide +kernel
theorem dL_law_548 : decode cL_law 548 = .ok (.invokevirtual 58, 3) := by decide +kernel
theorem dL_law_551 : decode cL_law 551 = .ok (.aload_n 2, 1) := by decide +kernel
theorem dL_law_552 : decode cL_law 552 = .ok (.aload_n 0, 1) := by decide +kernel
theorem dL_law_553 : decode cL_law 553 = .ok (.iload_n 3, 1) := by decide +kernel
theorem dL_law_554 : decode cL_law 554 = .ok (.iconst 1, 1) := by decide +kernel
theorem dL_law_555 : decode cL_law 555 = .ok (.iadd, 1) := by decide +kernel
theorem dL_law_556 : decode cL_law 556 = .ok (.iaload, 1) := by decide +kernel
theorem dL_law_557 : decode cL_law 557 = .ok (.invokevirtual 61, 3) := by decide +kernel
theorem dL_law_560 : decode cL_law 560 = .ok (.if_icmp .eq 832, 3) := by decide +kernel
theorem dL_law_563 : decode cL_law 563 = .ok (.iconst 0, 1) := by decide +kernel
theorem dL_law_564 : decode cL_law 564 = .ok (.ireturn, 1) := by decide +kernel
theorem dL_law_565 : decode cL_law 565 = .ok (.aload_n 1, 1) := by decide +kernel
theorem dL_law_566 : decode cL_law 566 = .ok (.aload_n 0, 1) := by decide +kernel
theorem dL_law_567 : decode cL_law 567 = .ok (.iload_n 3, 1) := by decide +kernel
theorem dL_law_568 : decode cL_law 568 = .ok (.iconst 1, 1) := by decide +kernel
theorem dL_law_569 : decode cL_law 569 = .ok (.iadd, 1) := by decide +kernel
theorem dL_law_570 : decode cL_law 570 = .ok (.iaload, 1) := by decide +kernel
theorem dL_law_571 : decode cL_law 571 = .ok (.invokevirtual 62, 3) := by decide +kernel
theorem dL_law_574 : decode cL_law 574 = .ok (.aload_n 2, 1) := by decide +kernel
theorem dL_law_575 : decode cL_law 575 = .ok (.aload_n 0, 1) := by decide +kernel
theorem dL_law_576 : decode cL_law 576 = .ok (.iload_n 3, 1) := by decide +kernel
theorem dL_law_577 : decode cL_law 577 = .ok (.iconst 1, 1) := by decide +kernel
theorem dL_law_578 : decode cL_law 578 = .ok (.iadd, 1) := by decide +kernel
theorem dL_law_579 : decode cL_law 579 = .ok (.iaload, 1) := by decide +kernel
theorem dL_law_580 : decode cL_law 580 = .ok (.invokevirtual 65, 3) := by decide +kernel
theorem dL_law_583 : decode cL_law 583 = .ok (.if_icmp .eq 809, 3) := by decide +kernel
theorem dL_law_586 : decode cL_law 586 = .ok (.iconst 0, 1) := by decide +kernel
theorem dL_law_587 : decode cL_law 587 = .ok (.ireturn, 1) := by decide +kernel
theorem dL_law_588 : decode cL_law 588 = .ok (.aload_n 1, 1) := by decide +kernel
theorem dL_law_589 : decode cL_law 589 = .ok (.aload_n 0, 1) := by decide +kernel
theorem dL_law_590 : decode cL_law 590 = .ok (.iload_n 3, 1) := by decide +kernel
theorem dL_law_591 : decode cL_law 591 = .ok (.iconst 1, 1) := by decide +kernel
theorem dL_law_592 : decode cL_law 592 = .ok (.iadd, 1) := by decide +kernel
theorem dL_law_593 : decode cL_law 593 = .ok (.iaload, 1) := by decide +kernel
theorem dL_law_594 : decode cL_law 594 = .ok (.aload_n 0, 1) := by decide +kernel
theorem dL_law_595 : decode cL_law 595 = .ok (.iload_n 3, 1) := by decide +kernel
theorem dL_law_596 : decode cL_law 596 = .ok (.iconst 2, 1) := by decide +kernel
theorem dL_law_597 : decode cL_law 597 = .ok (.iadd, 1) := by decide +kernel
theorem dL_law_598 : decode cL_law 598 = .ok (.iaload, 1) := by decide +kernel
theorem dL_law_599 : decode cL_law 599 = .ok (.invokevirtual 66, 3) := by decide +kernel
theorem dL_law_602 : decode cL_law 602 = .ok (.aload_n 2, 1) := by decide +kernel
theorem dL_law_603 : decode cL_law 603 = .ok (.aload_n 0, 1) := by decide +kernel
theorem dL_law_604 : decode cL_law 604 = .ok (.iload_n 3, 1) := by decide +kernel
theorem dL_law_605 : decode cL_law 605 = .ok (.iconst 1, 1) := by decide +kernel
theorem dL_law_606 : decode cL_law 606 = .ok (.iadd, 1) := by decide +kernel
theorem dL_law_607 : decode cL_law 607 = .ok (.iaload, 1) := by decide +kernel
theorem dL_law_608 : decode cL_law 608 = .ok (.aload_n 0, 1) := by decide +kernel
theorem dL_law_609 : decode cL_law 609 = .ok (.iload_n 3, 1) := by decide +kernel
theorem dL_law_610 : decode cL_law 610 = .ok (.iconst 2, 1) := by decide +kernel
theorem dL_law_611 : decode cL_law 611 = .ok (.iadd, 1) := by decide +kernel
theorem dL_law_612 : decode cL_law 612 = .ok (.iaload, 1) := by decide +kernel
theorem dL_law_613 : decode cL_law 613 = .ok (.invokevirtual 69, 3) := by decide +kernel
theorem dL_law_616 : decode cL_law 616 = .ok (.if_icmp .eq 776, 3) := by decide +kernel
theorem dL_law_619 : decode cL_law 619 = .ok (.iconst 0, 1) := by decide +kernel
theorem dL_law_620 : decode cL_law 620 = .ok (.ireturn, 1) := by decide +kernel
theorem dL_law_621 : decode cL_law 621 = .ok (.aload_n 1, 1) := by decide +kernel
theorem dL_law_622 : decode cL_law 622 = .ok (.aload_n 0, 1) := by decide +kernel
theorem dL_law_623 : decode cL_law 623 = .ok (.iload_n 3, 1) := by decide +kernel
theorem dL_law_624 : decode cL_law 624 = .ok (.iconst 1, 1) := by decide +kernel
theorem dL_law_625 : decode cL_law 625 = .ok (.iadd, 1) := by decide +kernel
theorem dL_law_626 : decode cL_law 626 = .ok (.iaload, 1) := by decide +kernel
theorem dL_law_627 : decode cL_law 627 = .ok (.aload_n 0, 1) := by decide +kernel
theorem dL_law_628 : decode cL_law 628 = .ok (.iload_n 3, 1) := by decide +kernel
theorem dL_law_629 : decode cL_law 629 = .ok (.iconst 2, 1) := by decide +kernel
theorem dL_law_630 : decode cL_law 630 = .ok (.iadd, 1) := by decide +kernel
theorem dL_law_631 : decode cL_law 631 = .ok (.iaload, 1) := by decide +kernel
theorem dL_law_632 : decode cL_law 632 = .ok (.aload_n 0, 1) := by decide +kernel
theorem dL_law_633 : decode cL_law 633 = .ok (.iload_n 3, 1) := by decide +kernel
theorem dL_law_634 : decode cL_law 634 = .ok (.iconst 3, 1) := by decide +kernel
theorem dL_law_635 : decode cL_law 635 = .ok (.iadd, 1) := by decide +kernel
theorem dL_law_636 : decode cL_law 636 = .ok (.iaload, 1) := by decide +kernel
theorem dL_law_637 : decode cL_law 637 = .ok (.invokevirtual 70, 3) := by decide +kernel
theorem dL_law_640 : decode cL_law 640 = .ok (.aload_n 2, 1) := by decide +kernel
theorem dL_law_641 : decode cL_law 641 = .ok (.aload_n 0, 1) := by decide +kernel
theorem dL_law_642 : decode cL_law 642 = .ok (.iload_n 3, 1) := by decide +kernel
theorem dL_law_643 : decode cL_law 643 = .ok (.iconst 1, 1) := by decide +kernel
theorem dL_law_644 : decode cL_law 644 = .ok (.iadd, 1) := by decide +kernel
theorem dL_law_645 : decode cL_law 645 = .ok (.iaload, 1) := by decide +kernel
theorem dL_law_646 : decode cL_law 646 = .ok (.aload_n 0, 1) := by decide +kernel
theorem dL_law_647 : decode cL_law 647 = .ok (.iload_n 3, 1) := by decide +kernel
theorem dL_law_648 : decode cL_law 648 = .ok (.iconst 2, 1) := by decide +kernel
theorem dL_law_649 : decode cL_law 649 = .ok (.iadd, 1) := by decide +kernel
theorem dL_law_650 : decode cL_law 650 = .ok (.iaload, 1) := by decide +kernel
theorem dL_law_651 : decode cL_law 651 = .ok (.aload_n 0, 1) := by decide +kernel
theorem dL_law_652 : decode cL_law 652 = .ok (.iload_n 3, 1) := by decide +kernel
theorem dL_law_653 : decode cL_law 653 = .ok (.iconst 3, 1) := by decide +kernel
theorem dL_law_654 : decode cL_law 654 = .ok (.iadd, 1) := by decide +kernel
theorem dL_law_655 : decode cL_law 655 = .ok (.iaload, 1) := by decide +kernel
theorem dL_law_656 : decode cL_law 656 = .ok (.invokevirtual 74, 3) := by decide +kernel
theorem dL_law_659 : decode cL_law 659 = .ok (.if_icmp .eq 733, 3) := by decide +kernel
theorem dL_law_662 : decode cL_law 662 = .ok (.iconst 0, 1) := by decide +kernel
theorem dL_law_663 : decode cL_law 663 = .ok (.ireturn, 1) := by decide +kernel
theorem dL_law_664 : decode cL_law 664 = .ok (.aload_n 1, 1) := by decide +kernel
theorem dL_law_665 : decode cL_law 665 = .ok (.aload_n 0, 1) := by decide +kernel
theorem dL_law_666 : decode cL_law 666 = .ok (.iload_n 3, 1) := by decide +kernel
theorem dL_law_667 : decode cL_law 667 = .ok (.iconst 1, 1) := by decide +kernel
theorem dL_law_668 : decode cL_law 668 = .ok (.iadd, 1) := by decide +kernel
theorem dL_law_669 : decode cL_law 669 = .ok (.iaload, 1) := by decide +kernel
theorem dL_law_670 : decode cL_law 670 = .ok (.aload_n 0, 1) := by decide +kernel
theorem dL_law_671 : decode cL_law 671 = .ok (.iload_n 3, 1) := by decide +kernel
theorem dL_law_672 : decode cL_law 672 = .ok (.iconst 2, 1) := by decide +kernel
theorem dL_law_673 : decode cL_law 673 = .ok (.iadd, 1) := by decide +kernel
theorem dL_law_674 : decode cL_law 674 = .ok (.iaload, 1) := by decide +kernel
theorem dL_law_675 : decode cL_law 675 = .ok (.aload_n 0, 1) := by decide +kernel
theorem dL_law_676 : decode cL_law 676 = .ok (.iload_n 3, 1) := by decide +kernel
theorem dL_law_677 : decode cL_law 677 = .ok (.iconst 3, 1) := by decide +kernel
theorem dL_law_678 : decode cL_law 678 = .ok (.iadd, 1) := by decide +kernel
theorem dL_law_679 : decode cL_law 679 = .ok (.iaload, 1) := by decide +kernel
theorem dL_law_680 : decode cL_law 680 = .ok (.invokevirtual 75, 3) := by decide +kernel
theorem dL_law_683 : decode cL_law 683 = .ok (.aload_n 2, 1) := by decide +kernel
theorem dL_law_684 : decode cL_law 684 = .ok (.aload_n 0, 1) := by decide +kernel
theorem dL_law_685 : decode cL_law 685 = .ok (.iload_n 3, 1) := by decide +kernel
theorem dL_law_686 : decode cL_law 686 = .ok (.iconst 1, 1) := by decide +kernel
theorem dL_law_687 : decode cL_law 687 = .ok (.iadd, 1) := by decide +kernel
theorem dL_law_688 : decode cL_law 688 = .ok (.iaload, 1) := by decide +kernel
theorem dL_law_689 : decode cL_law 689 = .ok (.aload_n 0, 1) := by decide +kernel
theorem dL_law_690 : decode cL_law 690 = .ok (.iload_n 3, 1) := by decide +kernel
theorem dL_law_691 : decode cL_law 691 = .ok (.iconst 2, 1) := by decide +kernel
theorem dL_law_692 : decode cL_law 692 = .ok (.iadd, 1) := by decide +kernel
theorem dL_law_693 : decode cL_law 693 = .ok (.iaload, 1) := by decide +kernel
theorem dL_law_694 : decode cL_law 694 = .ok (.aload_n 0, 1) := by decide +kernel
theorem dL_law_695 : decode cL_law 695 = .ok (.iload_n 3, 1) := by decide +kernel
theorem dL_law_696 : decode cL_law 696 = .ok (.iconst 3, 1) := by decide +kernel
theorem dL_law_697 : decode cL_law 697 = .ok (.iadd, 1) := by decide +kernel
theorem dL_law_698 : decode cL_law 698 = .ok (.iaload, 1) := by decide +kernel
theorem dL_law_699 : decode cL_law 699 = .ok (.invokevirtual 79, 3) := by decide +kernel
theorem dL_law_702 : decode cL_law 702 = .ok (.if_icmp .eq 690, 3) := by decide +kernel
theorem dL_law_705 : decode cL_law 705 = .ok (.iconst 0, 1) := by decide +kernel
theorem dL_law_706 : decode cL_law 706 = .ok (.ireturn, 1) := by decide +kernel
theorem dL_law_707 : decode cL_law 707 = .ok (.aload_n 1, 1) := by decide +kernel
theorem dL_law_708 : decode cL_law 708 = .ok (.aload_n 0, 1) := by decide +kernel
theorem dL_law_709 : decode cL_law 709 = .ok (.iload_n 3, 1) := by decide +kernel
theorem dL_law_710 : decode cL_law 710 = .ok (.iconst 1, 1) := by decide +kernel
theorem dL_law_711 : decode cL_law 711 = .ok (.iadd, 1) := by decide +kernel
theorem dL_law_712 : decode cL_law 712 = .ok (.iaload, 1) := by decide +kernel
theorem dL_law_713 : decode cL_law 713 = .ok (.aload_n 0, 1) := by decide +kernel
theorem dL_law_714 : decode cL_law 714 = .ok (.iload_n 3, 1) := by decide +kernel
theorem dL_law_715 : decode cL_law 715 = .ok (.iconst 2, 1) := by decide +kernel
theorem dL_law_716 : decode cL_law 716 = .ok (.iadd, 1) := by decide +kernel
theorem dL_law_717 : decode cL_law 717 = .ok (.iaload, 1) := by decide +kernel
theorem dL_law_718 : decode cL_law 718 = .ok (.invokevirtual 80, 3) := by decide +kernel
theorem dL_law_721 : decode cL_law 721 = .ok (.aload_n 2, 1) := by decide +kernel
theorem dL_law_722 : decode cL_law 722 = .ok (.aload_n 0, 1) := by decide +kernel
theorem dL_law_723 : decode cL_law 723 = .ok (.iload_n 3, 1) := by decide +kernel
theorem dL_law_724 : decode cL_law 724 = .ok (.iconst 1, 1) := by decide +kernel
theorem dL_law_725 : decode cL_law 725 = .ok (.iadd, 1) := by decide +kernel
theorem dL_law_726 : decode cL_law 726 = .ok (.iaload, 1) := by decide +kernel
theorem dL_law_727 : decode cL_law 727 = .ok (.aload_n 0, 1) := by decide +kernel
theorem dL_law_728 : decode cL_law 728 = .ok (.iload_n 3, 1) := by decide +kernel
theorem dL_law_729 : decode cL_law 729 = .ok (.iconst 2, 1) := by decide +kernel
theorem dL_law_730 : decode cL_law 730 = .ok (.iadd, 1) := by decide +kernel
theorem dL_law_731 : decode cL_law 731 = .ok (.iaload, 1) := by decide +kernel
theorem dL_law_732 : decode cL_law 732 = .ok (.invokevirtual 84, 3) := by decide +kernel
theorem dL_law_735 : decode cL_law 735 = .ok (.if_icmp .eq 657, 3) := by decide +kernel
theorem dL_law_738 : decode cL_law 738 = .ok (.iconst 0, 1) := by decide +kernel
theorem dL_law_739 : decode cL_law 739 = .ok (.ireturn, 1) := by decide +kernel
theorem dL_law_740 : decode cL_law 740 = .ok (.aload_n 1, 1) := by decide +kernel
theorem dL_law_741 : decode cL_law 741 = .ok (.aload_n 0, 1) := by decide +kernel
theorem dL_law_742 : decode cL_law 742 = .ok (.iload_n 3, 1) := by decide +kernel
theorem dL_law_743 : decode cL_law 743 = .ok (.iconst 1, 1) := by decide +kernel
theorem dL_law_744 : decode cL_law 744 = .ok (.iadd, 1) := by decide +kernel
theorem dL_law_745 : decode cL_law 745 = .ok (.iaload, 1) := by decide +kernel
theorem dL_law_746 : decode cL_law 746 = .ok (.aload_n 0, 1) := by decide +kernel
theorem dL_law_747 : decode cL_law 747 = .ok (.iload_n 3, 1) := by decide +kernel
theorem dL_law_748 : decode cL_law 748 = .ok (.iconst 2, 1) := by decide +kernel
theorem dL_law_749 : decode cL_law 749 = .ok (.iadd, 1) := by decide +kernel
theorem dL_law_750 : decode cL_law 750 = .ok (.iaload, 1) := by decide +kernel
theorem dL_law_751 : decode cL_law 751 = .ok (.invokevirtual 85, 3) := by decide +kernel
theorem dL_law_754 : decode cL_law 754 = .ok (.aload_n 2, 1) := by decide +kernel
theorem dL_law_755 : decode cL_law 755 = .ok (.aload_n 0, 1) := by decide +kernel
theorem dL_law_756 : decode cL_law 756 = .ok (.iload_n 3, 1) := by decide +kernel
theorem dL_law_757 : decode cL_law 757 = .ok (.iconst 1, 1) := by decide +kernel
theorem dL_law_758 : decode cL_law 758 = .ok (.iadd, 1) := by decide +kernel
theorem dL_law_759 : decode cL_law 759 = .ok (.iaload, 1) := by decide +kernel
theorem dL_law_760 : decode cL_law 760 = .ok (.aload_n 0, 1) := by decide +kernel
theorem dL_law_761 : decode cL_law 761 = .ok (.iload_n 3, 1) := by decide +kernel
theorem dL_law_762 : decode cL_law 762 = .ok (.iconst 2, 1) := by decide +kernel
theorem dL_law_763 : decode cL_law 763 = .ok (.iadd, 1) := by decide +kernel
theorem dL_law_764 : decode cL_law 764 = .ok (.iaload, 1) := by decide +kernel
theorem dL_law_765 : decode cL_law 765 = .ok (.invokevirtual 88, 3) := by decide +kernel
theorem dL_law_768 : decode cL_law 768 = .ok (.if_icmp .eq 624, 3) := by decide +kernel
theorem dL_law_771 : decode cL_law 771 = .ok (.iconst 0, 1) := by decide +kernel
theorem dL_law_772 : decode cL_law 772 = .ok (.ireturn, 1) := by decide +kernel
theorem dL_law_773 : decode cL_law 773 = .ok (.aload_n 1, 1) := by decide +kernel
theorem dL_law_774 : decode cL_law 774 = .ok (.aload_n 0, 1) := by decide +kernel
theorem dL_law_775 : decode cL_law 775 = .ok (.iload_n 3, 1) := by decide +kernel
theorem dL_law_776 : decode cL_law 776 = .ok (.iconst 1, 1) := by decide +kernel
theorem dL_law_777 : decode cL_law 777 = .ok (.iadd, 1) := by decide +kernel
theorem dL_law_778 : decode cL_law 778 = .ok (.iaload, 1) := by decide +kernel
theorem dL_law_779 : decode cL_law 779 = .ok (.invokevirtual 89, 3) := by decide +kernel
theorem dL_law_782 : decode cL_law 782 = .ok (.aload_n 2, 1) := by decide +kernel
theorem dL_law_783 : decode cL_law 783 = .ok (.aload_n 0, 1) := by decide +kernel
theorem dL_law_784 : decode cL_law 784 = .ok (.iload_n 3, 1) := by decide +kernel
theorem dL_law_785 : decode cL_law 785 = .ok (.iconst 1, 1) := by decide +kernel
theorem dL_law_786 : decode cL_law 786 = .ok (.iadd, 1) := by decide +kernel
theorem dL_law_787 : decode cL_law 787 = .ok (.iaload, 1) := by decide +kernel
theorem dL_law_788 : decode cL_law 788 = .ok (.invokevirtual 93, 3) := by decide +kernel
theorem dL_law_791 : decode cL_law 791 = .ok (.if_icmp .eq 601, 3) := by decide +kernel
theorem dL_law_794 : decode cL_law 794 = .ok (.iconst 0, 1) := by decide +kernel
theorem dL_law_795 : decode cL_law 795 = .ok (.ireturn, 1) := by decide +kernel
theorem dL_law_796 : decode cL_law 796 = .ok (.aload_n 1, 1) := by decide +kernel
theorem dL_law_797 : decode cL_law 797 = .ok (.aload_n 0, 1) := by decide +kernel
theorem dL_law_798 : decode cL_law 798 = .ok (.iload_n 3, 1) := by decide +kernel
theorem dL_law_799 : decode cL_law 799 = .ok (.iconst 1, 1) := by decide +kernel
theorem dL_law_800 : decode cL_law 800 = .ok (.iadd, 1) := by decide +kernel
theorem dL_law_801 : decode cL_law 801 = .ok (.iaload, 1) := by decide +kernel
theorem dL_law_802 : decode cL_law 802 = .ok (.aload_n 0, 1) := by decide +kernel
theorem dL_law_803 : decode cL_law 803 = .ok (.iload_n 3, 1) := by decide +kernel
theorem dL_law_804 : decode cL_law 804 = .ok (.iconst 2, 1) := by decide +kernel
theorem dL_law_805 : decode cL_law 805 = .ok (.iadd, 1) := by decide +kernel
theorem dL_law_806 : decode cL_law 806 = .ok (.iaload, 1) := by decide +kernel
theorem dL_law_807 : decode cL_law 807 = .ok (.invokevirtual 94, 3) := by decide +kernel
theorem dL_law_810 : decode cL_law 810 = .ok (.aload_n 2, 1) := by decide +kernel
theorem dL_law_811 : decode cL_law 811 = .ok (.aload_n 0, 1) := by decide +kernel
theorem dL_law_812 : decode cL_law 812 = .ok (.iload_n 3, 1) := by decide +kernel
theorem dL_law_813 : decode cL_law 813 = .ok (.iconst 1, 1) := by decide +kernel
theorem dL_law_814 : decode cL_law 814 = .ok (.iadd, 1) := by decide +kernel
theorem dL_law_815 : decode cL_law 815 = .ok (.iaload, 1) := by decide +kernel
theorem dL_law_816 : decode cL_law 816 = .ok (.aload_n 0, 1) := by decide +kernel
theorem dL_law_817 : decode cL_law 817 = .ok (.iload_n 3, 1) := by decide +kernel
theorem dL_law_818 : decode cL_law 818 = .ok (.iconst 2, 1) := by decide +kernel
theorem dL_law_819 : decode cL_law 819 = .ok (.iadd, 1) := by decide +kernel
theorem dL_law_820 : decode cL_law 820 = .ok (.iaload, 1) := by decide +kernel
theorem dL_law_821 : decode cL_law 821 = .ok (.invokevirtual 97, 3) := by decide +kernel
theorem dL_law_824 : decode cL_law 824 = .ok (.if_icmp .eq 568, 3) := by decide +kernel
theorem dL_law_827 : decode cL_law 827 = .ok (.iconst 0, 1) := by decide +kernel
theorem dL_law_828 : decode cL_law 828 = .ok (.ireturn, 1) := by decide +kernel
theorem dL_law_829 : decode cL_law 829 = .ok (.aload_n 1, 1) := by decide +kernel
theorem dL_law_830 : decode cL_law 830 = .ok (.aload_n 0, 1) := by decide +kernel
theorem dL_law_831 : decode cL_law 831 = .ok (.iload_n 3, 1) := by decide +kernel
theorem dL_law_832 : decode cL_law 832 = .ok (.iconst 1, 1) := by decide +kernel
theorem dL_law_833 : decode cL_law 833 = .ok (.iadd, 1) := by decide +kernel
theorem dL_law_834 : decode cL_law 834 = .ok (.iaload, 1) := by decide +kernel
theorem dL_law_835 : decode cL_law 835 = .ok (.aload_n 0, 1) := by decide +kernel
theorem dL_law_836 : decode cL_law 836 = .ok (.iload_n 3, 1) := by decide +kernel
theorem dL_law_837 : decode cL_law 837 = .ok (.iconst 2, 1) := by decide +kernel
theorem dL_law_838 : decode cL_law 838 = .ok (.iadd, 1) := by decide +kernel
theorem dL_law_839 : decode cL_law 839 = .ok (.iaload, 1) := by decide +kernel
theorem dL_law_840 : decode cL_law 840 = .ok (.ifCond .eq 7, 3) := by decide +kernel
theorem dL_law_843 : decode cL_law 843 = .ok (.iconst 1, 1) := by decide +kernel
theorem dL_law_844 : decode cL_law 844 = .ok (.goto 4, 3) := by decide +kernel
theorem dL_law_847 : decode cL_law 847 = .ok (.iconst 0, 1) := by decide +kernel
theorem dL_law_848 : decode cL_law 848 = .ok (.invokevirtual 98, 3) := by decide +kernel
theorem dL_law_851 : decode cL_law 851 = .ok (.aload_n 2, 1) := by decide +kernel
theorem dL_law_852 : decode cL_law 852 = .ok (.aload_n 0, 1) := by decide +kernel
theorem dL_law_853 : decode cL_law 853 = .ok (.iload_n 3, 1) := by decide +kernel
theorem dL_law_854 : decode cL_law 854 = .ok (.iconst 1, 1) := by decide +kernel
theorem dL_law_855 : decode cL_law 855 = .ok (.iadd, 1) := by decide +kernel
theorem dL_law_856 : decode cL_law 856 = .ok (.iaload, 1) := by decide +kernel
theorem dL_law_857 : decode cL_law 857 = .ok (.aload_n 0, 1) := by decide +kernel
theorem dL_law_858 : decode cL_law 858 = .ok (.iload_n 3, 1) := by decide +kernel
theorem dL_law_859 : decode cL_law 859 = .ok (.iconst 2, 1) := by decide +kernel
theorem dL_law_860 : decode cL_law 860 = .ok (.iadd, 1) := by decide +kernel
theorem dL_law_861 : decode cL_law 861 = .ok (.iaload, 1) := by decide +kernel
theorem dL_law_862 : decode cL_law 862 = .ok (.ifCond .eq 7, 3) := by decide +kernel
theorem dL_law_865 : decode cL_law 865 = .ok (.iconst 1, 1) := by decide +kernel
theorem dL_law_866 : decode cL_law 866 = .ok (.goto 4, 3) := by decide +kernel
theorem dL_law_869 : decode cL_law 869 = .ok (.iconst 0, 1) := by decide +kernel
theorem dL_law_870 : decode cL_law 870 = .ok (.invokevirtual 102, 3) := by decide +kernel
theorem dL_law_873 : decode cL_law 873 = .ok (.if_icmp .eq 519, 3) := by decide +kernel
theorem dL_law_876 : decode cL_law 876 = .ok (.iconst 0, 1) := by decide +kernel
theorem dL_law_877 : decode cL_law 877 = .ok (.ireturn, 1) := by decide +kernel
theorem dL_law_878 : decode cL_law 878 = .ok (.aload_n 1, 1) := by decide +kernel
theorem dL_law_879 : decode cL_law 879 = .ok (.invokevirtual 103, 3) := by decide +kernel
theorem dL_law_882 : decode cL_law 882 = .ok (.aload_n 2, 1) := by decide +kernel
theorem dL_law_883 : decode cL_law 883 = .ok (.invokevirtual 106, 3) := by decide +kernel
theorem dL_law_886 : decode cL_law 886 = .ok (.if_icmp .eq 506, 3) := by decide +kernel
theorem dL_law_889 : decode cL_law 889 = .ok (.iconst 0, 1) := by decide +kernel
theorem dL_law_890 : decode cL_law 890 = .ok (.ireturn, 1) := by decide +kernel
theorem dL_law_891 : decode cL_law 891 = .ok (.aload_n 1, 1) := by decide +kernel
theorem dL_law_892 : decode cL_law 892 = .ok (.invokevirtual 107, 3) := by decide +kernel
theorem dL_law_895 : decode cL_law 895 = .ok (.aload_n 2, 1) := by decide +kernel
theorem dL_law_896 : decode cL_law 896 = .ok (.invokevirtual 110, 3) := by decide +kernel
theorem dL_law_899 : decode cL_law 899 = .ok (.if_icmp .eq 493, 3) := by decide +kernel
theorem dL_law_902 : decode cL_law 902 = .ok (.iconst 0, 1) := by decide +kernel
theorem dL_law_903 : decode cL_law 903 = .ok (.ireturn, 1) := by decide +kernel
theorem dL_law_904 : decode cL_law 904 = .ok (.aload_n 1, 1) := by decide +kernel
theorem dL_law_905 : decode cL_law 905 = .ok (.invokevirtual 111, 3) := by decide +kernel
theorem dL_law_908 : decode cL_law 908 = .ok (.aload_n 2, 1) := by decide +kernel
theorem dL_law_909 : decode cL_law 909 = .ok (.invokevirtual 114, 3) := by decide +kernel
theorem dL_law_912 : decode cL_law 912 = .ok (.if_icmp .eq 480, 3) := by decide +kernel
theorem dL_law_915 : decode cL_law 915 = .ok (.iconst 0, 1) := by decide +kernel
theorem dL_law_916 : decode cL_law 916 = .ok (.ireturn, 1) := by decide +kernel
theorem dL_law_917 : decode cL_law 917 = .ok (.aload_n 1, 1) := by decide +kernel
theorem dL_law_918 : decode cL_law 918 = .ok (.aload_n 0, 1) := by decide +kernel
theorem dL_law_919 : decode cL_law 919 = .ok (.iload_n 3, 1) := by decide +kernel
theorem dL_law_920 : decode cL_law 920 = .ok (.iconst 1, 1) := by decide +kernel
theorem dL_law_921 : decode cL_law 921 = .ok (.iadd, 1) := by decide +kernel
theorem dL_law_922 : decode cL_law 922 = .ok (.iaload, 1) := by decide +kernel
theorem dL_law_923 : decode cL_law 923 = .ok (.invokevirtual 115, 3) := by decide +kernel
theorem dL_law_926 : decode cL_law 926 = .ok (.aload_n 2, 1) := by decide +kernel
theorem dL_law_927 : decode cL_law 927 = .ok (.aload_n 0, 1) := by decide +kernel
theorem dL_law_928 : decode cL_law 928 = .ok (.iload_n 3, 1) := by decide +kernel
theorem dL_law_929 : decode cL_law 929 = .ok (.iconst 1, 1) := by decide +kernel
theorem dL_law_930 : decode cL_law 930 = .ok (.iadd, 1) := by decide +kernel
theorem dL_law_931 : decode cL_law 931 = .ok (.iaload, 1) := by decide +kernel
theorem dL_law_932 : decode cL_law 932 = .ok (.invokevirtual 118, 3) := by decide +kernel
theorem dL_law_935 : decode cL_law 935 = .ok (.if_icmp .eq 457, 3) := by decide +kernel
theorem dL_law_938 : decode cL_law 938 = .ok (.iconst 0, 1) := by decide +kernel
theorem dL_law_939 : decode cL_law 939 = .ok (.ireturn, 1) := by decide +kernel
theorem dL_law_940 : decode cL_law 940 = .ok (.aload_n 1, 1) := by decide +kernel
theorem dL_law_941 : decode cL_law 941 = .ok (.aload_n 0, 1) := by decide +kernel
theorem dL_law_942 : decode cL_law 942 = .ok (.iload_n 3, 1) := by decide +kernel
theorem dL_law_943 : decode cL_law 943 = .ok (.iconst 1, 1) := by decide +kernel
theorem dL_law_944 : decode cL_law 944 = .ok (.iadd, 1) := by decide +kernel
theorem dL_law_945 : decode cL_law 945 = .ok (.iaload, 1) := by decide +kernel
theorem dL_law_946 : decode cL_law 946 = .ok (.aload_n 0, 1) := by decide +kernel
theorem dL_law_947 : decode cL_law 947 = .ok (.iload_n 3, 1) := by decide +kernel
theorem dL_law_948 : decode cL_law 948 = .ok (.iconst 2, 1) := by decide +kernel
theorem dL_law_949 : decode cL_law 949 = .ok (.iadd, 1) := by decide +kernel
theorem dL_law_950 : decode cL_law 950 = .ok (.iaload, 1) := by decide +kernel
theorem dL_law_951 : decode cL_law 951 = .ok (.invokevirtual 119, 3) := by decide +kernel
theorem dL_law_954 : decode cL_law 954 = .ok (.aload_n 2, 1) := by decide +kernel
theorem dL_law_955 : decode cL_law 955 = .ok (.aload_n 0, 1) := by decide +kernel
theorem dL_law_956 : decode cL_law 956 = .ok (.iload_n 3, 1) := by decide +kernel
theorem dL_law_957 : decode cL_law 957 = .ok (.iconst 1, 1) := by decide +kernel
theorem dL_law_958 : decode cL_law 958 = .ok (.iadd, 1) := by decide +kernel
theorem dL_law_959 : decode cL_law 959 = .ok (.iaload, 1) := by decide +kernel
theorem dL_law_960 : decode cL_law 960 = .ok (.aload_n 0, 1) := by decide +kernel
theorem dL_law_961 : decode cL_law 961 = .ok (.iload_n 3, 1) := by decide +kernel
theorem dL_law_962 : decode cL_law 962 = .ok (.iconst 2, 1) := by decide +kernel
theorem dL_law_963 : decode cL_law 963 = .ok (.iadd, 1) := by decide +kernel
theorem dL_law_964 : decode cL_law 964 = .ok (.iaload, 1) := by decide +kernel
theorem dL_law_965 : decode cL_law 965 = .ok (.invokevirtual 122, 3) := by decide +kernel
theorem dL_law_968 : decode cL_law 968 = .ok (.if_icmp .eq 424, 3) := by decide +kernel
theorem dL_law_971 : decode cL_law 971 = .ok (.iconst 0, 1) := by decide +kernel
theorem dL_law_972 : decode cL_law 972 = .ok (.ireturn, 1) := by decide +kernel
theorem dL_law_973 : decode cL_law 973 = .ok (.aload_n 1, 1) := by decide +kernel
theorem dL_law_974 : decode cL_law 974 = .ok (.aload_n 0, 1) := by decide +kernel
theorem dL_law_975 : decode cL_law 975 = .ok (.iload_n 3, 1) := by decide +kernel
theorem dL_law_976 : decode cL_law 976 = .ok (.iconst 1, 1) := by decide +kernel
theorem dL_law_977 : decode cL_law 977 = .ok (.iadd, 1) := by decide +kernel
theorem dL_law_978 : decode cL_law 978 = .ok (.iaload, 1) := by decide +kernel
theorem dL_law_979 : decode cL_law 979 = .ok (.aload_n 0, 1) := by decide +kernel
theorem dL_law_980 : decode cL_law 980 = .ok (.iload_n 3, 1) := by decide +kernel
theorem dL_law_981 : decode cL_law 981 = .ok (.iconst 2, 1) := by decide +kernel
theorem dL_law_982 : decode cL_law 982 = .ok (.iadd, 1) := by decide +kernel
theorem dL_law_983 : decode cL_law 983 = .ok (.iaload, 1) := by decide +kernel
theorem dL_law_984 : decode cL_law 984 = .ok (.aload_n 0, 1) := by decide +kernel
theorem dL_law_985 : decode cL_law 985 = .ok (.iload_n 3, 1) := by decide +kernel
theorem dL_law_986 : decode cL_law 986 = .ok (.iconst 3, 1) := by decide +kernel
theorem dL_law_987 : decode cL_law 987 = .ok (.iadd, 1) := by decide +kernel
theorem dL_law_988 : decode cL_law 988 = .ok (.iaload, 1) := by decide +kernel
theorem dL_law_989 : decode cL_law 989 = .ok (.invokevirtual 123, 3) := by decide +kernel
theorem dL_law_992 : decode cL_law 992 = .ok (.aload_n 2, 1) := by decide +kernel
theorem dL_law_993 : decode cL_law 993 = .ok (.aload_n 0, 1) := by decide +kernel
theorem dL_law_994 : decode cL_law 994 = .ok (.iload_n 3, 1) := by decide +kernel
theorem dL_law_995 : decode cL_law 995 = .ok (.iconst 1, 1) := by decide +kernel
theorem dL_law_996 : decode cL_law 996 = .ok (.iadd, 1) := by decide +kernel
theorem dL_law_997 : decode cL_law 997 = .ok (.iaload, 1) := by decide +kernel
theorem dL_law_998 : decode cL_law 998 = .ok (.aload_n 0, 1) := by decide +kernel
theorem dL_law_999 : decode cL_law 999 = .ok (.iload_n 3, 1) := by decide +kernel
theorem dL_law_1000 : decode cL_law 1000 = .ok (.iconst 2, 1) := by decide +kernel
theorem dL_law_1001 : decode cL_law 1001 = .ok (.iadd, 1) := by decide +kernel
theorem dL_law_1002 : decode cL_law 1002 = .ok (.iaload, 1) := by decide +kernel
theorem dL_law_1003 : decode cL_law 1003 = .ok (.aload_n 0, 1) := by decide +kernel
theorem dL_law_1004 : decode cL_law 1004 = .ok (.iload_n 3, 1) := by decide +kernel
theorem dL_law_1005 : decode cL_law 1005 = .ok (.iconst 3, 1) := by decide +kernel
theorem dL_law_1006 : decode cL_law 1006 = .ok (.iadd, 1) := by decide +kernel
theorem dL_law_1007 : decode cL_law 1007 = .ok (.iaload, 1) := by decide +kernel
theorem dL_law_1008 : decode cL_law 1008 = .ok (.invokevirtual 126, 3) := by decide +kernel
theorem dL_law_1011 : decode cL_law 1011 = .ok (.if_icmp .eq 381, 3) := by decide +kernel
theorem dL_law_1014 : decode cL_law 1014 = .ok (.iconst 0, 1) := by decide +kernel
theorem dL_law_1015 : decode cL_law 1015 = .ok (.ireturn, 1) := by decide +kernel
theorem dL_law_1016 : decode cL_law 1016 = .ok (.aload_n 1, 1) := by decide +kernel
theorem dL_law_1017 : decode cL_law 1017 = .ok (.aload_n 0, 1) := by decide +kernel
theorem dL_law_1018 : decode cL_law 1018 = .ok (.iload_n 3, 1) := by decide +kernel
theorem dL_law_1019 : decode cL_law 1019 = .ok (.iconst 1, 1) := by decide +kernel
theorem dL_law_1020 : decode cL_law 1020 = .ok (.iadd, 1) := by decide +kernel
theorem dL_law_1021 : decode cL_law 1021 = .ok (.iaload, 1) := by decide +kernel
theorem dL_law_1022 : decode cL_law 1022 = .ok (.aload_n 0, 1) := by decide +kernel
theorem dL_law_1023 : decode cL_law 1023 = .ok (.iload_n 3, 1) := by decide +kernel
theorem dL_law_1024 : decode cL_law 1024 = .ok (.iconst 2, 1) := by decide +kernel
theorem dL_law_1025 : decode cL_law 1025 = .ok (.iadd, 1) := by decide +kernel
theorem dL_law_1026 : decode cL_law 1026 = .ok (.iaload, 1) := by decide +kernel
theorem dL_law_1027 : decode cL_law 1027 = .ok (.invokevirtual 127, 3) := by decide +kernel
theorem dL_law_1030 : decode cL_law 1030 = .ok (.aload_n 2, 1) := by decide +kernel
theorem dL_law_1031 : decode cL_law 1031 = .ok (.aload_n 0, 1) := by decide +kernel
theorem dL_law_1032 : decode cL_law 1032 = .ok (.iload_n 3, 1) := by decide +kernel
theorem dL_law_1033 : decode cL_law 1033 = .ok (.iconst 1, 1) := by decide +kernel
theorem dL_law_1034 : decode cL_law 1034 = .ok (.iadd, 1) := by decide +kernel
theorem dL_law_1035 : decode cL_law 1035 = .ok (.iaload, 1) := by decide +kernel
theorem dL_law_1036 : decode cL_law 1036 = .ok (.aload_n 0, 1) := by decide +kernel
theorem dL_law_1037 : decode cL_law 1037 = .ok (.iload_n 3, 1) := by decide +kernel
theorem dL_law_1038 : decode cL_law 1038 = .ok (.iconst 2, 1) := by decide +kernel
theorem dL_law_1039 : decode cL_law 1039 = .ok (.iadd, 1) := by decide +kernel
theorem dL_law_1040 : decode cL_law 1040 = .ok (.iaload, 1) := by decide +kernel
theorem dL_law_1041 : decode cL_law 1041 = .ok (.invokevirtual 130, 3) := by decide +kernel
theorem dL_law_1044 : decode cL_law 1044 = .ok (.if_icmp .eq 348, 3) := by decide +kernel
theorem dL_law_1047 : decode cL_law 1047 = .ok (.iconst 0, 1) := by decide +kernel
theorem dL_law_1048 : decode cL_law 1048 = .ok (.ireturn, 1) := by decide +kernel
theorem dL_law_1049 : decode cL_law 1049 = .ok (.aload_n 1, 1) := by decide +kernel
theorem dL_law_1050 : decode cL_law 1050 = .ok (.aload_n 0, 1) := by decide +kernel
theorem dL_law_1051 : decode cL_law 1051 = .ok (.iload_n 3, 1) := by decide +kernel
theorem dL_law_1052 : decode cL_law 1052 = .ok (.iconst 1, 1) := by decide +kernel
theorem dL_law_1053 : decode cL_law 1053 = .ok (.iadd, 1) := by decide +kernel
theorem dL_law_1054 : decode cL_law 1054 = .ok (.iaload, 1) := by decide +kernel
theorem dL_law_1055 : decode cL_law 1055 = .ok (.invokevirtual 131, 3) := by decide +kernel
theorem dL_law_1058 : decode cL_law 1058 = .ok (.aload_n 2, 1) := by decide +kernel
theorem dL_law_1059 : decode cL_law 1059 = .ok (.aload_n 0, 1) := by decide +kernel
theorem dL_law_1060 : decode cL_law 1060 = .ok (.iload_n 3, 1) := by decide +kernel
theorem dL_law_1061 : decode cL_law 1061 = .ok (.iconst 1, 1) := by decide +kernel
theorem dL_law_1062 : decode cL_law 1062 = .ok (.iadd, 1) := by decide +kernel
theorem dL_law_1063 : decode cL_law 1063 = .ok (.iaload, 1) := by decide +kernel
theorem dL_law_1064 : decode cL_law 1064 = .ok (.invokevirtual 134, 3) := by decide +kernel
theorem dL_law_1067 : decode cL_law 1067 = .ok (.if_icmp .eq 325, 3) := by decide +kernel
theorem dL_law_1070 : decode cL_law 1070 = .ok (.iconst 0, 1) := by decide +kernel
theorem dL_law_1071 : decode cL_law 1071 = .ok (.ireturn, 1) := by decide +kernel
theorem dL_law_1072 : decode cL_law 1072 = .ok (.aload_n 1, 1) := by decide +kernel
theorem dL_law_1073 : decode cL_law 1073 = .ok (.aload_n 0, 1) := by decide +kernel
theorem dL_law_1074 : decode cL_law 1074 = .ok (.iload_n 3, 1) := by decide +kernel
theorem dL_law_1075 : decode cL_law 1075 = .ok (.iconst 1, 1) := by decide +kernel
theorem dL_law_1076 : decode cL_law 1076 = .ok (.iadd, 1) := by decide +kernel
theorem dL_law_1077 : decode cL_law 1077 = .ok (.iaload, 1) := by decide +kernel
theorem dL_law_1078 : decode cL_law 1078 = .ok (.aload_n 0, 1) := by decide +kernel
theorem dL_law_1079 : decode cL_law 1079 = .ok (.iload_n 3, 1) := by decide +kernel
theorem dL_law_1080 : decode cL_law 1080 = .ok (.iconst 2, 1) := by decide +kernel
theorem dL_law_1081 : decode cL_law 1081 = .ok (.iadd, 1) := by decide +kernel
theorem dL_law_1082 : decode cL_law 1082 = .ok (.iaload, 1) := by decide +kernel
theorem dL_law_1083 : decode cL_law 1083 = .ok (.invokevirtual 135, 3) := by decide +kernel
theorem dL_law_1086 : decode cL_law 1086 = .ok (.aload_n 2, 1) := by decide +kernel
theorem dL_law_1087 : decode cL_law 1087 = .ok (.aload_n 0, 1) := by decide +kernel
theorem dL_law_1088 : decode cL_law 1088 = .ok (.iload_n 3, 1) := by decide +kernel
theorem dL_law_1089 : decode cL_law 1089 = .ok (.iconst 1, 1) := by decide +kernel
theorem dL_law_1090 : decode cL_law 1090 = .ok (.iadd, 1) := by decide +kernel
theorem dL_law_1091 : decode cL_law 1091 = .ok (.iaload, 1) := by decide +kernel
theorem dL_law_1092 : decode cL_law 1092 = .ok (.aload_n 0, 1) := by decide +kernel
theorem dL_law_1093 : decode cL_law 1093 = .ok (.iload_n 3, 1) := by decide +kernel
theorem dL_law_1094 : decode cL_law 1094 = .ok (.iconst 2, 1) := by decide +kernel
theorem dL_law_1095 : decode cL_law 1095 = .ok (.iadd, 1) := by decide +kernel
theorem dL_law_1096 : decode cL_law 1096 = .ok (.iaload, 1) := by decide +kernel
theorem dL_law_1097 : decode cL_law 1097 = .ok (.invokevirtual 138, 3) := by decide +kernel
theorem dL_law_1100 : decode cL_law 1100 = .ok (.if_icmp .eq 292, 3) := by decide +kernel
theorem dL_law_1103 : decode cL_law 1103 = .ok (.iconst 0, 1) := by decide +kernel
theorem dL_law_1104 : decode cL_law 1104 = .ok (.ireturn, 1) := by decide +kernel
theorem dL_law_1105 : decode cL_law 1105 = .ok (.aload_n 1, 1) := by decide +kernel
theorem dL_law_1106 : decode cL_law 1106 = .ok (.aload_n 0, 1) := by decide +kernel
theorem dL_law_1107 : decode cL_law 1107 = .ok (.iload_n 3, 1) := by decide +kernel
theorem dL_law_1108 : decode cL_law 1108 = .ok (.iconst 1, 1) := by decide +kernel
theorem dL_law_1109 : decode cL_law 1109 = .ok (.iadd, 1) := by decide +kernel
theorem dL_law_1110 : decode cL_law 1110 = .ok (.iaload, 1) := by decide +kernel
theorem dL_law_1111 : decode cL_law 1111 = .ok (.aload_n 0, 1) := by decide +kernel
theorem dL_law_1112 : decode cL_law 1112 = .ok (.iload_n 3, 1) := by decide +kernel
theorem dL_law_1113 : decode cL_law 1113 = .ok (.iconst 2, 1) := by decide +kernel
theorem dL_law_1114 : decode cL_law 1114 = .ok (.iadd, 1) := by decide +kernel
theorem dL_law_1115 : decode cL_law 1115 = .ok (.iaload, 1) := by decide +kernel
theorem dL_law_1116 : decode cL_law 1116 = .ok (.aload_n 0, 1) := by decide +kernel
theorem dL_law_1117 : decode cL_law 1117 = .ok (.iload_n 3, 1) := by decide +kernel
theorem dL_law_1118 : decode cL_law 1118 = .ok (.iconst 3, 1) := by decide +kernel
theorem dL_law_1119 : decode cL_law 1119 = .ok (.iadd, 1) := by decide +kernel
theorem dL_law_1120 : decode cL_law 1120 = .ok (.iaload, 1) := by decide +kernel
theorem dL_law_1121 : decode cL_law 1121 = .ok (.invokevirtual 139, 3) := by decide +kernel
theorem dL_law_1124 : decode cL_law 1124 = .ok (.aload_n 2, 1) := by decide +kernel
theorem dL_law_1125 : decode cL_law 1125 = .ok (.aload_n 0, 1) := by decide +kernel
theorem dL_law_1126 : decode cL_law 1126 = .ok (.iload_n 3, 1) := by decide +kernel
theorem dL_law_1127 : decode cL_law 1127 = .ok (.iconst 1, 1) := by decide +kernel
theorem dL_law_1128 : decode cL_law 1128 = .ok (.iadd, 1) := by decide +kernel
theorem dL_law_1129 : decode cL_law 1129 = .ok (.iaload, 1) := by decide +kernel
theorem dL_law_1130 : decode cL_law 1130 = .ok (.aload_n 0, 1) := by decide +kernel
theorem dL_law_1131 : decode cL_law 1131 = .ok (.iload_n 3, 1) := by decide +kernel
theorem dL_law_1132 : decode cL_law 1132 = .ok (.iconst 2, 1) := by decide +kernel
theorem dL_law_1133 : decode cL_law 1133 = .ok (.iadd, 1) := by decide +kernel
theorem dL_law_1134 : decode cL_law 1134 = .ok (.iaload, 1) := by decide +kernel
theorem dL_law_1135 : decode cL_law 1135 = .ok (.aload_n 0, 1) := by decide +kernel
theorem dL_law_1136 : decode cL_law 1136 = .ok (.iload_n 3, 1) := by decide +kernel
theorem dL_law_1137 : decode cL_law 1137 = .ok (.iconst 3, 1) := by decide +kernel
theorem dL_law_1138 : decode cL_law 1138 = .ok (.iadd, 1) := by decide +kernel
theorem dL_law_1139 : decode cL_law 1139 = .ok (.iaload, 1) := by decide +kernel
theorem dL_law_1140 : decode cL_law 1140 = .ok (.invokevirtual 142, 3) := by decide +kernel
theorem dL_law_1143 : decode cL_law 1143 = .ok (.if_icmp .eq 249, 3) := by decide +kernel
theorem dL_law_1146 : decode cL_law 1146 = .ok (.iconst 0, 1) := by decide +kernel
theorem dL_law_1147 : decode cL_law 1147 = .ok (.ireturn, 1) := by decide +kernel
theorem dL_law_1148 : decode cL_law 1148 = .ok (.aload_n 1, 1) := by decide +kernel
theorem dL_law_1149 : decode cL_law 1149 = .ok (.aload_n 0, 1) := by decide +kernel
theorem dL_law_1150 : decode cL_law 1150 = .ok (.iload_n 3, 1) := by decide +kernel
theorem dL_law_1151 : decode cL_law 1151 = .ok (.iconst 1, 1) := by decide +kernel
theorem dL_law_1152 : decode cL_law 1152 = .ok (.iadd, 1) := by decide +kernel
theorem dL_law_1153 : decode cL_law 1153 = .ok (.iaload, 1) := by decide +kernel
theorem dL_law_1154 : decode cL_law 1154 = .ok (.aload_n 0, 1) := by decide +kernel
theorem dL_law_1155 : decode cL_law 1155 = .ok (.iload_n 3, 1) := by decide +kernel
theorem dL_law_1156 : decode cL_law 1156 = .ok (.iconst 2, 1) := by decide +kernel
theorem dL_law_1157 : decode cL_law 1157 = .ok (.iadd, 1) := by decide +kernel
theorem dL_law_1158 : decode cL_law 1158 = .ok (.iaload, 1) := by decide +kernel
theorem dL_law_1159 : decode cL_law 1159 = .ok (.aload_n 0, 1) := by decide +kernel
theorem dL_law_1160 : decode cL_law 1160 = .ok (.iload_n 3, 1) := by decide +kernel
theorem dL_law_1161 : decode cL_law 1161 = .ok (.iconst 3, 1) := by decide +kernel
theorem dL_law_1162 : decode cL_law 1162 = .ok (.iadd, 1) := by decide +kernel
theorem dL_law_1163 : decode cL_law 1163 = .ok (.iaload, 1) := by decide +kernel
theorem dL_law_1164 : decode cL_law 1164 = .ok (.aload_n 0, 1) := by decide +kernel
theorem dL_law_1165 : decode cL_law 1165 = .ok (.iload_n 3, 1) := by decide +kernel
theorem dL_law_1166 : decode cL_law 1166 = .ok (.iconst 4, 1) := by decide +kernel
theorem dL_law_1167 : decode cL_law 1167 = .ok (.iadd, 1) := by decide +kernel
theorem dL_law_1168 : decode cL_law 1168 = .ok (.iaload, 1) := by decide +kernel
theorem dL_law_1169 : decode cL_law 1169 = .ok (.invokevirtual 143, 3) := by decide +kernel
theorem dL_law_1172 : decode cL_law 1172 = .ok (.aload_n 2, 1) := by decide +kernel
theorem dL_law_1173 : decode cL_law 1173 = .ok (.aload_n 0, 1) := by decide +kernel
theorem dL_law_1174 : decode cL_law 1174 = .ok (.iload_n 3, 1) := by decide +kernel
theorem dL_law_1175 : decode cL_law 1175 = .ok (.iconst 1, 1) := by decide +kernel
theorem dL_law_1176 : decode cL_law 1176 = .ok (.iadd, 1) := by decide +kernel
theorem dL_law_1177 : decode cL_law 1177 = .ok (.iaload, 1) := by decide +kernel
theorem dL_law_1178 : decode cL_law 1178 = .ok (.aload_n 0, 1) := by decide +kernel
theorem dL_law_1179 : decode cL_law 1179 = .ok (.iload_n 3, 1) := by decide +kernel
theorem dL_law_1180 : decode cL_law 1180 = .ok (.iconst 2, 1) := by decide +kernel
theorem dL_law_1181 : decode cL_law 1181 = .ok (.iadd, 1) := by decide +kernel
theorem dL_law_1182 : decode cL_law 1182 = .ok (.iaload, 1) := by decide +kernel
theorem dL_law_1183 : decode cL_law 1183 = .ok (.aload_n 0, 1) := by decide +kernel
theorem dL_law_1184 : decode cL_law 1184 = .ok (.iload_n 3, 1) := by decide +kernel
theorem dL_law_1185 : decode cL_law 1185 = .ok (.iconst 3, 1) := by decide +kernel
theorem dL_law_1186 : decode cL_law 1186 = .ok (.iadd, 1) := by decide +kernel
theorem dL_law_1187 : decode cL_law 1187 = .ok (.iaload, 1) := by decide +kernel
theorem dL_law_1188 : decode cL_law 1188 = .ok (.aload_n 0, 1) := by decide +kernel
theorem dL_law_1189 : decode cL_law 1189 = .ok (.iload_n 3, 1) := by decide +kernel
theorem dL_law_1190 : decode cL_law 1190 = .ok (.iconst 4, 1) := by decide +kernel
theorem dL_law_1191 : decode cL_law 1191 = .ok (.iadd, 1) := by decide +kernel
theorem dL_law_1192 : decode cL_law 1192 = .ok (.iaload, 1) := by decide +kernel
theorem dL_law_1193 : decode cL_law 1193 = .ok (.invokevirtual 147, 3) := by decide +kernel
theorem dL_law_1196 : decode cL_law 1196 = .ok (.if_icmp .eq 196, 3) := by decide +kernel
theorem dL_law_1199 : decode cL_law 1199 = .ok (.iconst 0, 1) := by decide +kernel
theorem dL_law_1200 : decode cL_law 1200 = .ok (.ireturn, 1) := by decide +kernel
theorem dL_law_1201 : decode cL_law 1201 = .ok (.aload_n 1, 1) := by decide +kernel
theorem dL_law_1202 : decode cL_law 1202 = .ok (.aload_n 0, 1) := by decide +kernel
theorem dL_law_1203 : decode cL_law 1203 = .ok (.iload_n 3, 1) := by decide +kernel
theorem dL_law_1204 : decode cL_law 1204 = .ok (.iconst 1, 1) := by decide +kernel
theorem dL_law_1205 : decode cL_law 1205 = .ok (.iadd, 1) := by decide +kernel
theorem dL_law_1206 : decode cL_law 1206 = .ok (.iaload, 1) := by decide +kernel
theorem dL_law_1207 : decode cL_law 1207 = .ok (.invokevirtual 148, 3) := by decide +kernel
theorem dL_law_1210 : decode cL_law 1210 = .ok (.aload_n 2, 1) := by decide +kernel
theorem dL_law_1211 : decode cL_law 1211 = .ok (.aload_n 0, 1) := by decide +kernel
theorem dL_law_1212 : decode cL_law 1212 = .ok (.iload_n 3, 1) := by decide +kernel
theorem dL_law_1213 : decode cL_law 1213 = .ok (.iconst 1, 1) := by decide +kernel
theorem dL_law_1214 : decode cL_law 1214 = .ok (.iadd, 1) := by decide +kernel
theorem dL_law_1215 : decode cL_law 1215 = .ok (.iaload, 1) := by decide +kernel
theorem dL_law_1216 : decode cL_law 1216 = .ok (.invokevirtual 151, 3) := by decide +kernel
theorem dL_law_1219 : decode cL_law 1219 = .ok (.if_icmp .eq 173, 3) := by decide +kernel
theorem dL_law_1222 : decode cL_law 1222 = .ok (.iconst 0, 1) := by decide +kernel
theorem dL_law_1223 : decode cL_law 1223 = .ok (.ireturn, 1) := by decide +kernel
theorem dL_law_1224 : decode cL_law 1224 = .ok (.aload_n 1, 1) := by decide +kernel
theorem dL_law_1225 : decode cL_law 1225 = .ok (.aload_n 0, 1) := by decide +kernel
theorem dL_law_1226 : decode cL_law 1226 = .ok (.iload_n 3, 1) := by decide +kernel
theorem dL_law_1227 : decode cL_law 1227 = .ok (.iconst 1, 1) := by decide +kernel
theorem dL_law_1228 : decode cL_law 1228 = .ok (.iadd, 1) := by decide +kernel
theorem dL_law_1229 : decode cL_law 1229 = .ok (.iaload, 1) := by decide +kernel
theorem dL_law_1230 : decode cL_law 1230 = .ok (.aload_n 0, 1) := by decide +kernel
theorem dL_law_1231 : decode cL_law 1231 = .ok (.iload_n 3, 1) := by decide +kernel
theorem dL_law_1232 : decode cL_law 1232 = .ok (.iconst 2, 1) := by decide +kernel
theorem dL_law_1233 : decode cL_law 1233 = .ok (.iadd, 1) := by decide +kernel
theorem dL_law_1234 : decode cL_law 1234 = .ok (.iaload, 1) := by decide +kernel
theorem dL_law_1235 : decode cL_law 1235 = .ok (.invokevirtual 152, 3) := by decide +kernel
theorem dL_law_1238 : decode cL_law 1238 = .ok (.aload_n 2, 1) := by decide +kernel
theorem dL_law_1239 : decode cL_law 1239 = .ok (.aload_n 0, 1) := by decide +kernel
theorem dL_law_1240 : decode cL_law 1240 = .ok (.iload_n 3, 1) := by decide +kernel
theorem dL_law_1241 : decode cL_law 1241 = .ok (.iconst 1, 1) := by decide +kernel
theorem dL_law_1242 : decode cL_law 1242 = .ok (.iadd, 1) := by decide +kernel
theorem dL_law_1243 : decode cL_law 1243 = .ok (.iaload, 1) := by decide +kernel
theorem dL_law_1244 : decode cL_law 1244 = .ok (.aload_n 0, 1) := by decide +kernel
theorem dL_law_1245 : decode cL_law 1245 = .ok (.iload_n 3, 1) := by decide +kernel
theorem dL_law_1246 : decode cL_law 1246 = .ok (.iconst 2, 1) := by decide +kernel
theorem dL_law_1247 : decode cL_law 1247 = .ok (.iadd, 1) := by decide +kernel
theorem dL_law_1248 : decode cL_law 1248 = .ok (.iaload, 1) := by decide +kernel
theorem dL_law_1249 : decode cL_law 1249 = .ok (.invokevirtual 155, 3) := by decide +kernel
theorem dL_law_1252 : decode cL_law 1252 = .ok (.if_icmp .eq 140, 3) := by decide +kernel
theorem dL_law_1255 : decode cL_law 1255 = .ok (.iconst 0, 1) := by decide +kernel
theorem dL_law_1256 : decode cL_law 1256 = .ok (.ireturn, 1) := by decide +kernel
theorem dL_law_1257 : decode cL_law 1257 = .ok (.aload_n 1, 1) := by decide +kernel
theorem dL_law_1258 : decode cL_law 1258 = .ok (.aload_n 0, 1) := by decide +kernel
theorem dL_law_1259 : decode cL_law 1259 = .ok (.iload_n 3, 1) := by decide +kernel
theorem dL_law_1260 : decode cL_law 1260 = .ok (.iconst 1, 1) := by decide +kernel
theorem dL_law_1261 : decode cL_law 1261 = .ok (.iadd, 1) := by decide +kernel
theorem dL_law_1262 : decode cL_law 1262 = .ok (.iaload, 1) := by decide +kernel
theorem dL_law_1263 : decode cL_law 1263 = .ok (.aload_n 0, 1) := by decide +kernel
theorem dL_law_1264 : decode cL_law 1264 = .ok (.iload_n 3, 1) := by decide +kernel
theorem dL_law_1265 : decode cL_law 1265 = .ok (.iconst 2, 1) := by decide +kernel
theorem dL_law_1266 : decode cL_law 1266 = .ok (.iadd, 1) := by decide +kernel
theorem dL_law_1267 : decode cL_law 1267 = .ok (.iaload, 1) := by decide +kernel
theorem dL_law_1268 : decode cL_law 1268 = .ok (.invokevirtual 156, 3) := by decide +kernel
theorem dL_law_1271 : decode cL_law 1271 = .ok (.aload_n 2, 1) := by decide +kernel
theorem dL_law_1272 : decode cL_law 1272 = .ok (.aload_n 0, 1) := by decide +kernel
theorem dL_law_1273 : decode cL_law 1273 = .ok (.iload_n 3, 1) := by decide +kernel
theorem dL_law_1274 : decode cL_law 1274 = .ok (.iconst 1, 1) := by decide +kernel
theorem dL_law_1275 : decode cL_law 1275 = .ok (.iadd, 1) := by decide +kernel
theorem dL_law_1276 : decode cL_law 1276 = .ok (.iaload, 1) := by decide +kernel
theorem dL_law_1277 : decode cL_law 1277 = .ok (.aload_n 0, 1) := by decide +kernel
theorem dL_law_1278 : decode cL_law 1278 = .ok (.iload_n 3, 1) := by decide +kernel
theorem dL_law_1279 : decode cL_law 1279 = .ok (.iconst 2, 1) := by decide +kernel
theorem dL_law_1280 : decode cL_law 1280 = .ok (.iadd, 1) := by decide +kernel
theorem dL_law_1281 : decode cL_law 1281 = .ok (.iaload, 1) := by decide +kernel
theorem dL_law_1282 : decode cL_law 1282 = .ok (.invokevirtual 159, 3) := by decide +kernel
theorem dL_law_1285 : decode cL_law 1285 = .ok (.if_icmp .eq 107, 3) := by decide +kernel
theorem dL_law_1288 : decode cL_law 1288 = .ok (.iconst 0, 1) := by decide +kernel
theorem dL_law_1289 : decode cL_law 1289 = .ok (.ireturn, 1) := by decide +kernel
theorem dL_law_1290 : decode cL_law 1290 = .ok (.aload_n 1, 1) := by decide +kernel
theorem dL_law_1291 : decode cL_law 1291 = .ok (.aload_n 0, 1) := by decide +kernel
theorem dL_law_1292 : decode cL_law 1292 = .ok (.iload_n 3, 1) := by decide +kernel
theorem dL_law_1293 : decode cL_law 1293 = .ok (.iconst 1, 1) := by decide +kernel
theorem dL_law_1294 : decode cL_law 1294 = .ok (.iadd, 1) := by decide +kernel
theorem dL_law_1295 : decode cL_law 1295 = .ok (.iaload, 1) := by decide +kernel
theorem dL_law_1296 : decode cL_law 1296 = .ok (.aload_n 0, 1) := by decide +kernel
theorem dL_law_1297 : decode cL_law 1297 = .ok (.iload_n 3, 1) := by decide +kernel
theorem dL_law_1298 : decode cL_law 1298 = .ok (.iconst 2, 1) := by decide +kernel
theorem dL_law_1299 : decode cL_law 1299 = .ok (.iadd, 1) := by decide +kernel
theorem dL_law_1300 : decode cL_law 1300 = .ok (.iaload, 1) := by decide +kernel
theorem dL_law_1301 : decode cL_law 1301 = .ok (.invokevirtual 160, 3) := by decide +kernel
theorem dL_law_1304 : decode cL_law 1304 = .ok (.aload_n 2, 1) := by decide +kernel
theorem dL_law_1305 : decode cL_law 1305 = .ok (.aload_n 0, 1) := by decide +kernel
theorem dL_law_1306 : decode cL_law 1306 = .ok (.iload_n 3, 1) := by decide +kernel
theorem dL_law_1307 : decode cL_law 1307 = .ok (.iconst 1, 1) := by decide +kernel
theorem dL_law_1308 : decode cL_law 1308 = .ok (.iadd, 1) := by decide +kernel
theorem dL_law_1309 : decode cL_law 1309 = .ok (.iaload, 1) := by decide +kernel
theorem dL_law_1310 : decode cL_law 1310 = .ok (.aload_n 0, 1) := by decide +kernel
theorem dL_law_1311 : decode cL_law 1311 = .ok (.iload_n 3, 1) := by decide +kernel
theorem dL_law_1312 : decode cL_law 1312 = .ok (.iconst 2, 1) := by decide +kernel
theorem dL_law_1313 : decode cL_law 1313 = .ok (.iadd, 1) := by decide +kernel
theorem dL_law_1314 : decode cL_law 1314 = .ok (.iaload, 1) := by decide +kernel
theorem dL_law_1315 : decode cL_law 1315 = .ok (.invokevirtual 163, 3) := by decide +kernel
theorem dL_law_1318 : decode cL_law 1318 = .ok (.if_icmp .eq 74, 3) := by decide +kernel
theorem dL_law_1321 : decode cL_law 1321 = .ok (.iconst 0, 1) := by decide +kernel
theorem dL_law_1322 : decode cL_law 1322 = .ok (.ireturn, 1) := by decide +kernel
theorem dL_law_1323 : decode cL_law 1323 = .ok (.aload_n 1, 1) := by decide +kernel
theorem dL_law_1324 : decode cL_law 1324 = .ok (.aload_n 0, 1) := by decide +kernel
theorem dL_law_1325 : decode cL_law 1325 = .ok (.iload_n 3, 1) := by decide +kernel
theorem dL_law_1326 : decode cL_law 1326 = .ok (.iconst 1, 1) := by decide +kernel
theorem dL_law_1327 : decode cL_law 1327 = .ok (.iadd, 1) := by decide +kernel
theorem dL_law_1328 : decode cL_law 1328 = .ok (.iaload, 1) := by decide +kernel
theorem dL_law_1329 : decode cL_law 1329 = .ok (.invokevirtual 164, 3) := by decide +kernel
theorem dL_law_1332 : decode cL_law 1332 = .ok (.aload_n 2, 1) := by decide +kernel
theorem dL_law_1333 : decode cL_law 1333 = .ok (.aload_n 0, 1) := by decide +kernel
theorem dL_law_1334 : decode cL_law 1334 = .ok (.iload_n 3, 1) := by decide +kernel
theorem dL_law_1335 : decode cL_law 1335 = .ok (.iconst 1, 1) := by decide +kernel
theorem dL_law_1336 : decode cL_law 1336 = .ok (.iadd, 1) := by decide +kernel
theorem dL_law_1337 : decode cL_law 1337 = .ok (.iaload, 1) := by decide +kernel
theorem dL_law_1338 : decode cL_law 1338 = .ok (.invokevirtual 167, 3) := by decide +kernel
theorem dL_law_1341 : decode cL_law 1341 = .ok (.if_icmp .eq 51, 3) := by decide +kernel
theorem dL_law_1344 : decode cL_law 1344 = .ok (.iconst 0, 1) := by decide +kernel
theorem dL_law_1345 : decode cL_law 1345 = .ok (.ireturn, 1) := by decide +kernel
theorem dL_law_1346 : decode cL_law 1346 = .ok (.aload_n 1, 1) := by decide +kernel
theorem dL_law_1347 : decode cL_law 1347 = .ok (.aload_n 0, 1) := by decide +kernel
theorem dL_law_1348 : decode cL_law 1348 = .ok (.iload_n 3, 1) := by decide +kernel
theorem dL_law_1349 : decode cL_law 1349 = .ok (.iconst 1, 1) := by decide +kernel
theorem dL_law_1350 : decode cL_law 1350 = .ok (.iadd, 1) := by decide +kernel
theorem dL_law_1351 : decode cL_law 1351 = .ok (.iaload, 1) := by decide +kernel
theorem dL_law_1352 : decode cL_law 1352 = .ok (.invokevirtual 168, 3) := by decide +kernel
theorem dL_law_1355 : decode cL_law 1355 = .ok (.aload_n 2, 1) := by decide +kernel
theorem dL_law_1356 : decode cL_law 1356 = .ok (.aload_n 0, 1) := by decide +kernel
theorem dL_law_1357 : decode cL_law 1357 = .ok (.iload_n 3, 1) := by decide +kernel
theorem dL_law_1358 : decode cL_law 1358 = .ok (.iconst 1, 1) := by decide +kernel
theorem dL_law_1359 : decode cL_law 1359 = .ok (.iadd, 1) := by decide +kernel
theorem dL_law_1360 : decode cL_law 1360 = .ok (.iaload, 1) := by decide +kernel
theorem dL_law_1361 : decode cL_law 1361 = .ok (.invokevirtual 171, 3) := by decide +kernel
theorem dL_law_1364 : decode cL_law 1364 = .ok (.if_icmp .eq 28, 3) := by decide +kernel
theorem dL_law_1367 : decode cL_law 1367 = .ok (.iconst 0, 1) := by decide +kernel
theorem dL_law_1368 : decode cL_law 1368 = .ok (.ireturn, 1) := by decide +kernel
theorem dL_law_1369 : decode cL_law 1369 = .ok (.aload_n 1, 1) := by decide +kernel
theorem dL_law_1370 : decode cL_law 1370 = .ok (.aload_n 0, 1) := by decide +kernel
theorem dL_law_1371 : decode cL_law 1371 = .ok (.iload_n 3, 1) := by decide +kernel
theorem dL_law_1372 : decode cL_law 1372 = .ok (.iconst 1, 1) := by decide +kernel
theorem dL_law_1373 : decode cL_law 1373 = .ok (.iadd, 1) := by decide +kernel
theorem dL_law_1374 : decode cL_law 1374 = .ok (.iaload, 1) := by decide +kernel
theorem dL_law_1375 : decode cL_law 1375 = .ok (.invokevirtual 172, 3) := by decide +kernel
theorem dL_law_1378 : decode cL_law 1378 = .ok (.aload_n 2, 1) := by decide +kernel
theorem dL_law_1379 : decode cL_law 1379 = .ok (.aload_n 0, 1) := by decide +kernel
theorem dL_law_1380 : decode cL_law 1380 = .ok (.iload_n 3, 1) := by decide +kernel
theorem dL_law_1381 : decode cL_law 1381 = .ok (.iconst 1, 1) := by decide +kernel
theorem dL_law_1382 : decode cL_law 1382 = .ok (.iadd, 1) := by decide +kernel
theorem dL_law_1383 : decode cL_law 1383 = .ok (.iaload, 1) := by decide +kernel
theorem dL_law_1384 : decode cL_law 1384 = .ok (.invokevirtual 175, 3) := by decide +kernel
theorem dL_law_1387 : decode cL_law 1387 = .ok (.if_icmp .eq 5, 3) := by decide +kernel
theorem dL_law_1390 : decode cL_law 1390 = .ok (.iconst 0, 1) := by decide +kernel
theorem dL_law_1391 : decode cL_law 1391 = .ok (.ireturn, 1) := by decide +kernel
theorem dL_law_1392 : decode cL_law 1392 = .ok (.iinc 3 7, 3) := by decide +kernel
theorem dL_law_1395 : decode cL_law 1395 = .ok (.goto (-1377), 3) := by decide +kernel
theorem dL_law_1398 : decode cL_law 1398 = .ok (.iconst 1, 1) := by decide +kernel
theorem dL_law_1399 : decode cL_law 1399 = .ok (.ireturn, 1) := by decide +kernel
