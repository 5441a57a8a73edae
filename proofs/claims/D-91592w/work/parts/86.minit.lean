/-! THE MODEL: its constructor -/
set_option maxRecDepth 100000
theorem dX2_init_0 : decode cX2_init 0 = .ok (.aload_n 0, 1) := by decide +kernel
theorem dX2_init_1 : decode cX2_init 1 = .ok (.invokespecial 1, 3) := by decide +kernel
theorem dX2_init_4 : decode cX2_init 4 = .ok (.aload_n 0, 1) := by decide +kernel
theorem dX2_init_5 : decode cX2_init 5 = .ok (.bipush 16, 2) := by decide +kernel
theorem dX2_init_7 : decode cX2_init 7 = .ok (.newarray .int, 2) := by decide +kernel
theorem dX2_init_9 : decode cX2_init 9 = .ok (.dup, 1) := by decide +kernel
theorem dX2_init_10 : decode cX2_init 10 = .ok (.iconst 0, 1) := by decide +kernel
theorem dX2_init_11 : decode cX2_init 11 = .ok (.iconst 0, 1) := by decide +kernel
theorem dX2_init_12 : decode cX2_init 12 = .ok (.iastore, 1) := by decide +kernel
theorem dX2_init_13 : decode cX2_init 13 = .ok (.dup, 1) := by decide +kernel
theorem dX2_init_14 : decode cX2_init 14 = .ok (.iconst 1, 1) := by decide +kernel
theorem dX2_init_15 : decode cX2_init 15 = .ok (.sipush 383, 3) := by decide +kernel
theorem dX2_init_18 : decode cX2_init 18 = .ok (.iastore, 1) := by decide +kernel
theorem dX2_init_19 : decode cX2_init 19 = .ok (.dup, 1) := by decide +kernel
theorem dX2_init_20 : decode cX2_init 20 = .ok (.iconst 2, 1) := by decide +kernel
theorem dX2_init_21 : decode cX2_init 21 = .ok (.sipush 707, 3) := by decide +kernel
theorem dX2_init_24 : decode cX2_init 24 = .ok (.iastore, 1) := by decide +kernel
theorem dX2_init_25 : decode cX2_init 25 = .ok (.dup, 1) := by decide +kernel
theorem dX2_init_26 : decode cX2_init 26 = .ok (.iconst 3, 1) := by decide +kernel
theorem dX2_init_27 : decode cX2_init 27 = .ok (.sipush 924, 3) := by decide +kernel
theorem dX2_init_30 : decode cX2_init 30 = .ok (.iastore, 1) := by decide +kernel
theorem dX2_init_31 : decode cX2_init 31 = .ok (.dup, 1) := by decide +kernel
theorem dX2_init_32 : decode cX2_init 32 = .ok (.iconst 4, 1) := by decide +kernel
theorem dX2_init_33 : decode cX2_init 33 = .ok (.sipush 1000, 3) := by decide +kernel
theorem dX2_init_36 : decode cX2_init 36 = .ok (.iastore, 1) := by decide +kernel
theorem dX2_init_37 : decode cX2_init 37 = .ok (.dup, 1) := by decide +kernel
theorem dX2_init_38 : decode cX2_init 38 = .ok (.iconst 5, 1) := by decide +kernel
theorem dX2_init_39 : decode cX2_init 39 = .ok (.sipush 924, 3) := by decide +kernel
theorem dX2_init_42 : decode cX2_init 42 = .ok (.iastore, 1) := by decide +kernel
theorem dX2_init_43 : decode cX2_init 43 = .ok (.dup, 1) := by decide +kernel
theorem dX2_init_44 : decode cX2_init 44 = .ok (.bipush 6, 2) := by decide +kernel
theorem dX2_init_46 : decode cX2_init 46 = .ok (.sipush 707, 3) := by decide +kernel
theorem dX2_init_49 : decode cX2_init 49 = .ok (.iastore, 1) := by decide +kernel
theorem dX2_init_50 : decode cX2_init 50 = .ok (.dup, 1) := by decide +kernel
theorem dX2_init_51 : decode cX2_init 51 = .ok (.bipush 7, 2) := by decide +kernel
theorem dX2_init_53 : decode cX2_init 53 = .ok (.sipush 383, 3) := by decide +kernel
theorem dX2_init_56 : decode cX2_init 56 = .ok (.iastore, 1) := by decide +kernel
theorem dX2_init_57 : decode cX2_init 57 = .ok (.dup, 1) := by decide +kernel
theorem dX2_init_58 : decode cX2_init 58 = .ok (.bipush 8, 2) := by decide +kernel
theorem dX2_init_60 : decode cX2_init 60 = .ok (.iconst 0, 1) := by decide +kernel
theorem dX2_init_61 : decode cX2_init 61 = .ok (.iastore, 1) := by decide +kernel
theorem dX2_init_62 : decode cX2_init 62 = .ok (.dup, 1) := by decide +kernel
theorem dX2_init_63 : decode cX2_init 63 = .ok (.bipush 9, 2) := by decide +kernel
theorem dX2_init_65 : decode cX2_init 65 = .ok (.sipush (-383), 3) := by decide +kernel
theorem dX2_init_68 : decode cX2_init 68 = .ok (.iastore, 1) := by decide +kernel
theorem dX2_init_69 : decode cX2_init 69 = .ok (.dup, 1) := by decide +kernel
theorem dX2_init_70 : decode cX2_init 70 = .ok (.bipush 10, 2) := by decide +kernel
theorem dX2_init_72 : decode cX2_init 72 = .ok (.sipush (-707), 3) := by decide +kernel
theorem dX2_init_75 : decode cX2_init 75 = .ok (.iastore, 1) := by decide +kernel
theorem dX2_init_76 : decode cX2_init 76 = .ok (.dup, 1) := by decide +kernel
theorem dX2_init_77 : decode cX2_init 77 = .ok (.bipush 11, 2) := by decide +kernel
theorem dX2_init_79 : decode cX2_init 79 = .ok (.sipush (-924), 3) := by decide +kernel
theorem dX2_init_82 : decode cX2_init 82 = .ok (.iastore, 1) := by decide +kernel
theorem dX2_init_83 : decode cX2_init 83 = .ok (.dup, 1) := by decide +kernel
theorem dX2_init_84 : decode cX2_init 84 = .ok (.bipush 12, 2) := by decide +kernel
theorem dX2_init_86 : decode cX2_init 86 = .ok (.sipush (-1000), 3) := by decide +kernel
theorem dX2_init_89 : decode cX2_init 89 = .ok (.iastore, 1) := by decide +kernel
theorem dX2_init_90 : decode cX2_init 90 = .ok (.dup, 1) := by decide +kernel
theorem dX2_init_91 : decode cX2_init 91 = .ok (.bipush 13, 2) := by decide +kernel
theorem dX2_init_93 : decode cX2_init 93 = .ok (.sipush (-924), 3) := by decide +kernel
theorem dX2_init_96 : decode cX2_init 96 = .ok (.iastore, 1) := by decide +kernel
theorem dX2_init_97 : decode cX2_init 97 = .ok (.dup, 1) := by decide +kernel
theorem dX2_init_98 : decode cX2_init 98 = .ok (.bipush 14, 2) := by decide +kernel
theorem dX2_init_100 : decode cX2_init 100 = .ok (.sipush (-707), 3) := by decide +kernel
theorem dX2_init_103 : decode cX2_init 103 = .ok (.iastore, 1) := by decide +kernel
theorem dX2_init_104 : decode cX2_init 104 = .ok (.dup, 1) := by decide +kernel
theorem dX2_init_105 : decode cX2_init 105 = .ok (.bipush 15, 2) := by decide +kernel
theorem dX2_init_107 : decode cX2_init 107 = .ok (.sipush (-383), 3) := by decide +kernel
theorem dX2_init_110 : decode cX2_init 110 = .ok (.iastore, 1) := by decide +kernel
theorem dX2_init_111 : decode cX2_init 111 = .ok (.putfield 7, 3) := by decide +kernel
theorem dX2_init_114 : decode cX2_init 114 = .ok (.aload_n 0, 1) := by decide +kernel
theorem dX2_init_115 : decode cX2_init 115 = .ok (.bipush 6, 2) := by decide +kernel
theorem dX2_init_117 : decode cX2_init 117 = .ok (.newarray .int, 2) := by decide +kernel
theorem dX2_init_119 : decode cX2_init 119 = .ok (.putfield 13, 3) := by decide +kernel
theorem dX2_init_122 : decode cX2_init 122 = .ok (.aload_n 0, 1) := by decide +kernel
theorem dX2_init_123 : decode cX2_init 123 = .ok (.bipush 60, 2) := by decide +kernel
theorem dX2_init_125 : decode cX2_init 125 = .ok (.newarray .int, 2) := by decide +kernel
theorem dX2_init_127 : decode cX2_init 127 = .ok (.putfield 16, 3) := by decide +kernel
theorem dX2_init_130 : decode cX2_init 130 = .ok (.aload_n 0, 1) := by decide +kernel
theorem dX2_init_131 : decode cX2_init 131 = .ok (.bipush 12, 2) := by decide +kernel
theorem dX2_init_133 : decode cX2_init 133 = .ok (.newarray .int, 2) := by decide +kernel
theorem dX2_init_135 : decode cX2_init 135 = .ok (.putfield 19, 3) := by decide +kernel
theorem dX2_init_138 : decode cX2_init 138 = .ok (.aload_n 0, 1) := by decide +kernel
theorem dX2_init_139 : decode cX2_init 139 = .ok (.bipush 12, 2) := by decide +kernel
theorem dX2_init_141 : decode cX2_init 141 = .ok (.newarray .int, 2) := by decide +kernel
theorem dX2_init_143 : decode cX2_init 143 = .ok (.putfield 22, 3) := by decide +kernel
theorem dX2_init_146 : decode cX2_init 146 = .ok (.aload_n 0, 1) := by decide +kernel
theorem dX2_init_147 : decode cX2_init 147 = .ok (.bipush 12, 2) := by decide +kernel
theorem dX2_init_149 : decode cX2_init 149 = .ok (.newarray .int, 2) := by decide +kernel
theorem dX2_init_151 : decode cX2_init 151 = .ok (.putfield 25, 3) := by decide +kernel
theorem dX2_init_154 : decode cX2_init 154 = .ok (.aload_n 0, 1) := by decide +kernel
theorem dX2_init_155 : decode cX2_init 155 = .ok (.bipush 12, 2) := by decide +kernel
theorem dX2_init_157 : decode cX2_init 157 = .ok (.newarray .int, 2) := by decide +kernel
theorem dX2_init_159 : decode cX2_init 159 = .ok (.putfield 28, 3) := by decide +kernel
theorem dX2_init_162 : decode cX2_init 162 = .ok (.aload_n 0, 1) := by decide +kernel
theorem dX2_init_163 : decode cX2_init 163 = .ok (.bipush 12, 2) := by decide +kernel
theorem dX2_init_165 : decode cX2_init 165 = .ok (.newarray .boolean, 2) := by decide +kernel
theorem dX2_init_167 : decode cX2_init 167 = .ok (.putfield 31, 3) := by decide +kernel
theorem dX2_init_170 : decode cX2_init 170 = .ok (.aload_n 0, 1) := by decide +kernel
theorem dX2_init_171 : decode cX2_init 171 = .ok (.iconst 4, 1) := by decide +kernel
theorem dX2_init_172 : decode cX2_init 172 = .ok (.newarray .int, 2) := by decide +kernel
theorem dX2_init_174 : decode cX2_init 174 = .ok (.putfield 35, 3) := by decide +kernel
theorem dX2_init_177 : decode cX2_init 177 = .ok (.aload_n 0, 1) := by decide +kernel
theorem dX2_init_178 : decode cX2_init 178 = .ok (.iconst 4, 1) := by decide +kernel
theorem dX2_init_179 : decode cX2_init 179 = .ok (.newarray .int, 2) := by decide +kernel
theorem dX2_init_181 : decode cX2_init 181 = .ok (.putfield 38, 3) := by decide +kernel
theorem dX2_init_184 : decode cX2_init 184 = .ok (.aload_n 0, 1) := by decide +kernel
theorem dX2_init_185 : decode cX2_init 185 = .ok (.iconst 4, 1) := by decide +kernel
theorem dX2_init_186 : decode cX2_init 186 = .ok (.newarray .int, 2) := by decide +kernel
theorem dX2_init_188 : decode cX2_init 188 = .ok (.putfield 41, 3) := by decide +kernel
theorem dX2_init_191 : decode cX2_init 191 = .ok (.aload_n 0, 1) := by decide +kernel
theorem dX2_init_192 : decode cX2_init 192 = .ok (.iconst 4, 1) := by decide +kernel
theorem dX2_init_193 : decode cX2_init 193 = .ok (.newarray .int, 2) := by decide +kernel
theorem dX2_init_195 : decode cX2_init 195 = .ok (.putfield 44, 3) := by decide +kernel
theorem dX2_init_198 : decode cX2_init 198 = .ok (.aload_n 0, 1) := by decide +kernel
theorem dX2_init_199 : decode cX2_init 199 = .ok (.bipush 6, 2) := by decide +kernel
theorem dX2_init_201 : decode cX2_init 201 = .ok (.newarray .int, 2) := by decide +kernel
theorem dX2_init_203 : decode cX2_init 203 = .ok (.putfield 47, 3) := by decide +kernel
theorem dX2_init_206 : decode cX2_init 206 = .ok (.aload_n 0, 1) := by decide +kernel
theorem dX2_init_207 : decode cX2_init 207 = .ok (.bipush 6, 2) := by decide +kernel
theorem dX2_init_209 : decode cX2_init 209 = .ok (.newarray .int, 2) := by decide +kernel
theorem dX2_init_211 : decode cX2_init 211 = .ok (.putfield 50, 3) := by decide +kernel
theorem dX2_init_214 : decode cX2_init 214 = .ok (.aload_n 0, 1) := by decide +kernel
theorem dX2_init_215 : decode cX2_init 215 = .ok (.bipush 8, 2) := by decide +kernel
theorem dX2_init_217 : decode cX2_init 217 = .ok (.newarray .int, 2) := by decide +kernel
theorem dX2_init_219 : decode cX2_init 219 = .ok (.putfield 53, 3) := by decide +kernel
theorem dX2_init_222 : decode cX2_init 222 = .ok (.aload_n 0, 1) := by decide +kernel
theorem dX2_init_223 : decode cX2_init 223 = .ok (.bipush 8, 2) := by decide +kernel
theorem dX2_init_225 : decode cX2_init 225 = .ok (.newarray .int, 2) := by decide +kernel
theorem dX2_init_227 : decode cX2_init 227 = .ok (.putfield 56, 3) := by decide +kernel
theorem dX2_init_230 : decode cX2_init 230 = .ok (.aload_n 0, 1) := by decide +kernel
theorem dX2_init_231 : decode cX2_init 231 = .ok (.bipush 8, 2) := by decide +kernel
theorem dX2_init_233 : decode cX2_init 233 = .ok (.newarray .int, 2) := by decide +kernel
theorem dX2_init_235 : decode cX2_init 235 = .ok (.putfield 59, 3) := by decide +kernel
theorem dX2_init_238 : decode cX2_init 238 = .ok (.aload_n 0, 1) := by decide +kernel
theorem dX2_init_239 : decode cX2_init 239 = .ok (.sipush 1000, 3) := by decide +kernel
theorem dX2_init_242 : decode cX2_init 242 = .ok (.putfield 62, 3) := by decide +kernel
theorem dX2_init_245 : decode cX2_init 245 = .ok (.aload_n 0, 1) := by decide +kernel
theorem dX2_init_246 : decode cX2_init 246 = .ok (.iconst 1, 1) := by decide +kernel
theorem dX2_init_247 : decode cX2_init 247 = .ok (.putfield 66, 3) := by decide +kernel
theorem dX2_init_250 : decode cX2_init 250 = .ok (.aload_n 0, 1) := by decide +kernel
theorem dX2_init_251 : decode cX2_init 251 = .ok (.iconst 4, 1) := by decide +kernel
theorem dX2_init_252 : decode cX2_init 252 = .ok (.putfield 69, 3) := by decide +kernel
theorem dX2_init_255 : decode cX2_init 255 = .ok (.aload_n 0, 1) := by decide +kernel
theorem dX2_init_256 : decode cX2_init 256 = .ok (.bipush 24, 2) := by decide +kernel
theorem dX2_init_258 : decode cX2_init 258 = .ok (.newarray .int, 2) := by decide +kernel
theorem dX2_init_260 : decode cX2_init 260 = .ok (.putfield 72, 3) := by decide +kernel
theorem dX2_init_263 : decode cX2_init 263 = .ok (.aload_n 0, 1) := by decide +kernel
theorem dX2_init_264 : decode cX2_init 264 = .ok (.iconst 2, 1) := by decide +kernel
theorem dX2_init_265 : decode cX2_init 265 = .ok (.newarray .int, 2) := by decide +kernel
theorem dX2_init_267 : decode cX2_init 267 = .ok (.putfield 75, 3) := by decide +kernel
theorem dX2_init_270 : decode cX2_init 270 = .ok (.aload_n 0, 1) := by decide +kernel
theorem dX2_init_271 : decode cX2_init 271 = .ok (.iconst 2, 1) := by decide +kernel
theorem dX2_init_272 : decode cX2_init 272 = .ok (.newarray .int, 2) := by decide +kernel
theorem dX2_init_274 : decode cX2_init 274 = .ok (.putfield 78, 3) := by decide +kernel
theorem dX2_init_277 : decode cX2_init 277 = .ok (.aload_n 0, 1) := by decide +kernel
theorem dX2_init_278 : decode cX2_init 278 = .ok (.iconst 2, 1) := by decide +kernel
theorem dX2_init_279 : decode cX2_init 279 = .ok (.newarray .int, 2) := by decide +kernel
theorem dX2_init_281 : decode cX2_init 281 = .ok (.putfield 81, 3) := by decide +kernel
theorem dX2_init_284 : decode cX2_init 284 = .ok (.aload_n 0, 1) := by decide +kernel
theorem dX2_init_285 : decode cX2_init 285 = .ok (.iconst 2, 1) := by decide +kernel
theorem dX2_init_286 : decode cX2_init 286 = .ok (.newarray .int, 2) := by decide +kernel
theorem dX2_init_288 : decode cX2_init 288 = .ok (.putfield 84, 3) := by decide +kernel
theorem dX2_init_291 : decode cX2_init 291 = .ok (.aload_n 0, 1) := by decide +kernel
theorem dX2_init_292 : decode cX2_init 292 = .ok (.iconst 2, 1) := by decide +kernel
theorem dX2_init_293 : decode cX2_init 293 = .ok (.newarray .boolean, 2) := by decide +kernel
theorem dX2_init_295 : decode cX2_init 295 = .ok (.putfield 87, 3) := by decide +kernel
theorem dX2_init_298 : decode cX2_init 298 = .ok (.aload_n 0, 1) := by decide +kernel
theorem dX2_init_299 : decode cX2_init 299 = .ok (.bipush 12, 2) := by decide +kernel
theorem dX2_init_301 : decode cX2_init 301 = .ok (.newarray .boolean, 2) := by decide +kernel
theorem dX2_init_303 : decode cX2_init 303 = .ok (.putfield 90, 3) := by decide +kernel
theorem dX2_init_306 : decode cX2_init 306 = .ok (.aload_n 0, 1) := by decide +kernel
theorem dX2_init_307 : decode cX2_init 307 = .ok (.bipush 12, 2) := by decide +kernel
theorem dX2_init_309 : decode cX2_init 309 = .ok (.newarray .int, 2) := by decide +kernel
theorem dX2_init_311 : decode cX2_init 311 = .ok (.putfield 93, 3) := by decide +kernel
theorem dX2_init_314 : decode cX2_init 314 = .ok (.aload_n 0, 1) := by decide +kernel
theorem dX2_init_315 : decode cX2_init 315 = .ok (.bipush 8, 2) := by decide +kernel
theorem dX2_init_317 : decode cX2_init 317 = .ok (.newarray .int, 2) := by decide +kernel
theorem dX2_init_319 : decode cX2_init 319 = .ok (.putfield 96, 3) := by decide +kernel
theorem dX2_init_322 : decode cX2_init 322 = .ok (.aload_n 0, 1) := by decide +kernel
theorem dX2_init_323 : decode cX2_init 323 = .ok (.sipush 600, 3) := by decide +kernel
theorem dX2_init_326 : decode cX2_init 326 = .ok (.newarray .int, 2) := by decide +kernel
theorem dX2_init_328 : decode cX2_init 328 = .ok (.putfield 99, 3) := by decide +kernel
theorem dX2_init_331 : decode cX2_init 331 = .ok (.aload_n 0, 1) := by decide +kernel
theorem dX2_init_332 : decode cX2_init 332 = .ok (.sipush 600, 3) := by decide +kernel
theorem dX2_init_335 : decode cX2_init 335 = .ok (.newarray .int, 2) := by decide +kernel
theorem dX2_init_337 : decode cX2_init 337 = .ok (.putfield 102, 3) := by decide +kernel
theorem dX2_init_340 : decode cX2_init 340 = .ok (.aload_n 0, 1) := by decide +kernel
theorem dX2_init_341 : decode cX2_init 341 = .ok (.sipush 600, 3) := by decide +kernel
theorem dX2_init_344 : decode cX2_init 344 = .ok (.newarray .int, 2) := by decide +kernel
theorem dX2_init_346 : decode cX2_init 346 = .ok (.putfield 105, 3) := by decide +kernel
theorem dX2_init_349 : decode cX2_init 349 = .ok (.aload_n 0, 1) := by decide +kernel
theorem dX2_init_350 : decode cX2_init 350 = .ok (.sipush 600, 3) := by decide +kernel
theorem dX2_init_353 : decode cX2_init 353 = .ok (.newarray .int, 2) := by decide +kernel
theorem dX2_init_355 : decode cX2_init 355 = .ok (.putfield 108, 3) := by decide +kernel
theorem dX2_init_358 : decode cX2_init 358 = .ok (.aload_n 0, 1) := by decide +kernel
theorem dX2_init_359 : decode cX2_init 359 = .ok (.sipush 600, 3) := by decide +kernel
theorem dX2_init_362 : decode cX2_init 362 = .ok (.newarray .boolean, 2) := by decide +kernel
theorem dX2_init_364 : decode cX2_init 364 = .ok (.putfield 111, 3) := by decide +kernel
theorem dX2_init_367 : decode cX2_init 367 = .ok (.aload_n 0, 1) := by decide +kernel
theorem dX2_init_368 : decode cX2_init 368 = .ok (.bipush 12, 2) := by decide +kernel
theorem dX2_init_370 : decode cX2_init 370 = .ok (.newarray .int, 2) := by decide +kernel
theorem dX2_init_372 : decode cX2_init 372 = .ok (.putfield 114, 3) := by decide +kernel
theorem dX2_init_375 : decode cX2_init 375 = .ok (.aload_n 0, 1) := by decide +kernel
theorem dX2_init_376 : decode cX2_init 376 = .ok (.bipush 12, 2) := by decide +kernel
theorem dX2_init_378 : decode cX2_init 378 = .ok (.newarray .int, 2) := by decide +kernel
theorem dX2_init_380 : decode cX2_init 380 = .ok (.putfield 117, 3) := by decide +kernel
theorem dX2_init_383 : decode cX2_init 383 = .ok (.aload_n 0, 1) := by decide +kernel
theorem dX2_init_384 : decode cX2_init 384 = .ok (.bipush 16, 2) := by decide +kernel
theorem dX2_init_386 : decode cX2_init 386 = .ok (.putfield 120, 3) := by decide +kernel
theorem dX2_init_389 : decode cX2_init 389 = .ok (.aload_n 0, 1) := by decide +kernel
theorem dX2_init_390 : decode cX2_init 390 = .ok (.bipush 64, 2) := by decide +kernel
theorem dX2_init_392 : decode cX2_init 392 = .ok (.newarray .int, 2) := by decide +kernel
theorem dX2_init_394 : decode cX2_init 394 = .ok (.putfield 123, 3) := by decide +kernel
theorem dX2_init_397 : decode cX2_init 397 = .ok (.aload_n 0, 1) := by decide +kernel
theorem dX2_init_398 : decode cX2_init 398 = .ok (.sipush 300, 3) := by decide +kernel
theorem dX2_init_401 : decode cX2_init 401 = .ok (.newarray .byte, 2) := by decide +kernel
theorem dX2_init_403 : decode cX2_init 403 = .ok (.putfield 126, 3) := by decide +kernel
theorem dX2_init_406 : decode cX2_init 406 = .ok (.aload_n 0, 1) := by decide +kernel
theorem dX2_init_407 : decode cX2_init 407 = .ok (.sipush 600, 3) := by decide +kernel
theorem dX2_init_410 : decode cX2_init 410 = .ok (.newarray .int, 2) := by decide +kernel
theorem dX2_init_412 : decode cX2_init 412 = .ok (.putfield 130, 3) := by decide +kernel
theorem dX2_init_415 : decode cX2_init 415 = .ok (.aload_n 0, 1) := by decide +kernel
theorem dX2_init_416 : decode cX2_init 416 = .ok (.sipush 300, 3) := by decide +kernel
theorem dX2_init_419 : decode cX2_init 419 = .ok (.newarray .int, 2) := by decide +kernel
theorem dX2_init_421 : decode cX2_init 421 = .ok (.putfield 133, 3) := by decide +kernel
theorem dX2_init_424 : decode cX2_init 424 = .ok (.aload_n 0, 1) := by decide +kernel
theorem dX2_init_425 : decode cX2_init 425 = .ok (.sipush 300, 3) := by decide +kernel
theorem dX2_init_428 : decode cX2_init 428 = .ok (.newarray .int, 2) := by decide +kernel
theorem dX2_init_430 : decode cX2_init 430 = .ok (.putfield 136, 3) := by decide +kernel
theorem dX2_init_433 : decode cX2_init 433 = .ok (.aload_n 0, 1) := by decide +kernel
theorem dX2_init_434 : decode cX2_init 434 = .ok (.iconst 2, 1) := by decide +kernel
theorem dX2_init_435 : decode cX2_init 435 = .ok (.newarray .int, 2) := by decide +kernel
theorem dX2_init_437 : decode cX2_init 437 = .ok (.dup, 1) := by decide +kernel
theorem dX2_init_438 : decode cX2_init 438 = .ok (.iconst 0, 1) := by decide +kernel
theorem dX2_init_439 : decode cX2_init 439 = .ok (.iconst (-1), 1) := by decide +kernel
theorem dX2_init_440 : decode cX2_init 440 = .ok (.iastore, 1) := by decide +kernel
theorem dX2_init_441 : decode cX2_init 441 = .ok (.dup, 1) := by decide +kernel
theorem dX2_init_442 : decode cX2_init 442 = .ok (.iconst 1, 1) := by decide +kernel
theorem dX2_init_443 : decode cX2_init 443 = .ok (.iconst (-1), 1) := by decide +kernel
theorem dX2_init_444 : decode cX2_init 444 = .ok (.iastore, 1) := by decide +kernel
theorem dX2_init_445 : decode cX2_init 445 = .ok (.putfield 139, 3) := by decide +kernel
theorem dX2_init_448 : decode cX2_init 448 = .ok (.aload_n 0, 1) := by decide +kernel
theorem dX2_init_449 : decode cX2_init 449 = .ok (.iconst 2, 1) := by decide +kernel
theorem dX2_init_450 : decode cX2_init 450 = .ok (.newarray .int, 2) := by decide +kernel
theorem dX2_init_452 : decode cX2_init 452 = .ok (.putfield 142, 3) := by decide +kernel
theorem dX2_init_455 : decode cX2_init 455 = .ok (.aload_n 0, 1) := by decide +kernel
theorem dX2_init_456 : decode cX2_init 456 = .ok (.sipush 300, 3) := by decide +kernel
theorem dX2_init_459 : decode cX2_init 459 = .ok (.newarray .int, 2) := by decide +kernel
theorem dX2_init_461 : decode cX2_init 461 = .ok (.putfield 145, 3) := by decide +kernel
theorem dX2_init_464 : decode cX2_init 464 = .ok (.aload_n 0, 1) := by decide +kernel
theorem dX2_init_465 : decode cX2_init 465 = .ok (.sipush 300, 3) := by decide +kernel
theorem dX2_init_468 : decode cX2_init 468 = .ok (.newarray .int, 2) := by decide +kernel
theorem dX2_init_470 : decode cX2_init 470 = .ok (.putfield 148, 3) := by decide +kernel
theorem dX2_init_473 : decode cX2_init 473 = .ok (.aload_n 0, 1) := by decide +kernel
theorem dX2_init_474 : decode cX2_init 474 = .ok (.iconst 2, 1) := by decide +kernel
theorem dX2_init_475 : decode cX2_init 475 = .ok (.newarray .int, 2) := by decide +kernel
theorem dX2_init_477 : decode cX2_init 477 = .ok (.dup, 1) := by decide +kernel
theorem dX2_init_478 : decode cX2_init 478 = .ok (.iconst 0, 1) := by decide +kernel
theorem dX2_init_479 : decode cX2_init 479 = .ok (.iconst (-1), 1) := by decide +kernel
theorem dX2_init_480 : decode cX2_init 480 = .ok (.iastore, 1) := by decide +kernel
theorem dX2_init_481 : decode cX2_init 481 = .ok (.dup, 1) := by decide +kernel
theorem dX2_init_482 : decode cX2_init 482 = .ok (.iconst 1, 1) := by decide +kernel
theorem dX2_init_483 : decode cX2_init 483 = .ok (.iconst (-1), 1) := by decide +kernel
theorem dX2_init_484 : decode cX2_init 484 = .ok (.iastore, 1) := by decide +kernel
theorem dX2_init_485 : decode cX2_init 485 = .ok (.putfield 151, 3) := by decide +kernel
theorem dX2_init_488 : decode cX2_init 488 = .ok (.aload_n 0, 1) := by decide +kernel
theorem dX2_init_489 : decode cX2_init 489 = .ok (.iconst 2, 1) := by decide +kernel
theorem dX2_init_490 : decode cX2_init 490 = .ok (.newarray .int, 2) := by decide +kernel
theorem dX2_init_492 : decode cX2_init 492 = .ok (.putfield 154, 3) := by decide +kernel
theorem dX2_init_495 : decode cX2_init 495 = .ok (.aload_n 0, 1) := by decide +kernel
theorem dX2_init_496 : decode cX2_init 496 = .ok (.sipush 161, 3) := by decide +kernel
theorem dX2_init_499 : decode cX2_init 499 = .ok (.newarray .long, 2) := by decide +kernel
theorem dX2_init_501 : decode cX2_init 501 = .ok (.putfield 157, 3) := by decide +kernel
theorem dX2_init_504 : decode cX2_init 504 = .ok (.aload_n 0, 1) := by decide +kernel
theorem dX2_init_505 : decode cX2_init 505 = .ok (.sipush 161, 3) := by decide +kernel
theorem dX2_init_508 : decode cX2_init 508 = .ok (.newarray .boolean, 2) := by decide +kernel
theorem dX2_init_510 : decode cX2_init 510 = .ok (.putfield 161, 3) := by decide +kernel
theorem dX2_init_513 : decode cX2_init 513 = .ok (.aload_n 0, 1) := by decide +kernel
theorem dX2_init_514 : decode cX2_init 514 = .ok (.bipush 7, 2) := by decide +kernel
theorem dX2_init_516 : decode cX2_init 516 = .ok (.newarray .int, 2) := by decide +kernel
theorem dX2_init_518 : decode cX2_init 518 = .ok (.putfield 164, 3) := by decide +kernel
theorem dX2_init_521 : decode cX2_init 521 = .ok (.aload_n 0, 1) := by decide +kernel
theorem dX2_init_522 : decode cX2_init 522 = .ok (.sipush 300, 3) := by decide +kernel
theorem dX2_init_525 : decode cX2_init 525 = .ok (.newarray .int, 2) := by decide +kernel
theorem dX2_init_527 : decode cX2_init 527 = .ok (.putfield 167, 3) := by decide +kernel
theorem dX2_init_530 : decode cX2_init 530 = .ok (.aload_n 0, 1) := by decide +kernel
theorem dX2_init_531 : decode cX2_init 531 = .ok (.sipush 481, 3) := by decide +kernel
theorem dX2_init_534 : decode cX2_init 534 = .ok (.newarray .int, 2) := by decide +kernel
theorem dX2_init_536 : decode cX2_init 536 = .ok (.putfield 170, 3) := by decide +kernel
theorem dX2_init_539 : decode cX2_init 539 = .ok (.return_, 1) := by decide +kernel
set_option maxHeartbeats 4000000 in
theorem met_minit (l : Launch) (adK adV st : Nat → Nat) (D : va_G) (E : Nat → ClassId) (A : Nat → Prop) (ad : Nat → Nat) (mx : Nat) (e_ob : ad 0 = mx) : AM l yX2_init cX2_init 1 none (amr 1 54 8000) adK adV st D E A [.ref mx] (qV 0) ad (qC E ad 0) (AQv D E A (fun ad1 V1 C1 => ad1 0 = mx ∧ V1 = qV 75 ∧ C1 = qC E ad1 75)) 54 8000 := by
  refine a_start (by decide) rfl (Nat.le_of_ble_eq_true rfl) ?_
  intro p e R s m args below meth c ls Q hR hQ hCK hml hr hlk hnme hG hS hE hA hl
  have hx := hCK.1
  have hb := hCK.2.1
  have hown := hCK.2.2.1
  have hts := hCK.2.2.2.1
  have hK := hCK.2.2.2.2
  have hl : lv_has ls 1 [(0, .ref mx)] := hl
  refine lv_aload_n hx hb dX2_init_0 rfl (lv_at hl 0 rfl) ?_
  refine a_oini hCK (hml.trans hl.1.symm) q1025 q98 q99 (by rw [hR]; decide) (by rw [hR]; decide) dX2_init_1 ?_
  refine lv_aload_n hx hb dX2_init_4 rfl (lv_at hl 0 rfl) ?_
  refine r_bipush hx hb dX2_init_5 (by decide) ?_
  have hOa : ∀ q, (q ≠ 1) → ad q = ad q := fun _ _ => rfl
  have hOc : ∀ q, (q ≠ 1) → qC E ad 0 q = qC E ad 0 q := fun _ _ => rfl
  refine a_newa (t := 0) (N := 16) hCK hG hS hA 1 q129 rfl rfl rfl rfl rfl (by decide) (by decide) (by rw [hR]; show _ ≤ _; (try unfold amr); (try simp only []); omega) (by rw [hR]; show _ ≤ _; (try unfold amr); (try simp only []); omega) dX2_init_7 (fun x1 ad2 C3 H e_pe k_pe oo4 hG hS oh5 => ?_)
  obtain ⟨V6, hV6⟩ : ∃ X : Nat → Prop, X = fun q => (qV 0) q ∨ q = 1 := ⟨_, rfl⟩
  rw [← hV6] at hG
  have v_pe : V6 1 := by rw [hV6]; exact Or.inr rfl
  have hOa : ∀ q, (q ≠ 1) → ad2 q = ad q := fun q hq => (oo4 q (by omega)).1.trans (hOa q hq)
  have hOc : ∀ q, (q ≠ 1) → C3 q = qC E ad 0 q := fun q hq => (oo4 q (by omega)).2.trans (hOc q hq)
  refine lv_dup hx hb dX2_init_9 rfl ?_
  refine r_iconst hx hb dX2_init_10 ?_
  refine r_iconst hx hb dX2_init_11 ?_
  refine a_ist (v := 0) hCK hG hS 1 e_pe v_pe k_pe (by decide) (by decide) dX2_init_12 (fun C7 H locs kk8 oo9 hG hS => ?_)
  have k_pe : C7 1 = .inl (E 0, 16, ai (updZ (fun _ => 0) 0 0)) := kk8
  have hOa : ∀ q, (q ≠ 1) → ad2 q = ad q := hOa
  have hOc : ∀ q, (q ≠ 1) → C7 q = qC E ad 0 q := fun q hq => (oo9 q (by omega)).trans (hOc q hq)
  refine lv_dup hx hb dX2_init_13 rfl ?_
  refine r_iconst hx hb dX2_init_14 ?_
  refine r_sipush hx hb dX2_init_15 (by decide) ?_
  refine a_ist (v := 383) hCK hG hS 1 e_pe v_pe k_pe (by decide) (by decide) dX2_init_18 (fun C10 H locs kk11 oo12 hG hS => ?_)
  have k_pe : C10 1 = .inl (E 0, 16, ai (updZ (updZ (fun _ => 0) 0 0) 1 383)) := kk11
  have hOa : ∀ q, (q ≠ 1) → ad2 q = ad q := hOa
  have hOc : ∀ q, (q ≠ 1) → C10 q = qC E ad 0 q := fun q hq => (oo12 q (by omega)).trans (hOc q hq)
  refine lv_dup hx hb dX2_init_19 rfl ?_
  refine r_iconst hx hb dX2_init_20 ?_
  refine r_sipush hx hb dX2_init_21 (by decide) ?_
  refine a_ist (v := 707) hCK hG hS 1 e_pe v_pe k_pe (by decide) (by decide) dX2_init_24 (fun C13 H locs kk14 oo15 hG hS => ?_)
  have k_pe : C13 1 = .inl (E 0, 16, ai (updZ (updZ (updZ (fun _ => 0) 0 0) 1 383) 2 707)) := kk14
  have hOa : ∀ q, (q ≠ 1) → ad2 q = ad q := hOa
  have hOc : ∀ q, (q ≠ 1) → C13 q = qC E ad 0 q := fun q hq => (oo15 q (by omega)).trans (hOc q hq)
  refine lv_dup hx hb dX2_init_25 rfl ?_
  refine r_iconst hx hb dX2_init_26 ?_
  refine r_sipush hx hb dX2_init_27 (by decide) ?_
  refine a_ist (v := 924) hCK hG hS 1 e_pe v_pe k_pe (by decide) (by decide) dX2_init_30 (fun C16 H locs kk17 oo18 hG hS => ?_)
  have k_pe : C16 1 = .inl (E 0, 16, ai (updZ (updZ (updZ (updZ (fun _ => 0) 0 0) 1 383) 2 707) 3 924)) := kk17
  have hOa : ∀ q, (q ≠ 1) → ad2 q = ad q := hOa
  have hOc : ∀ q, (q ≠ 1) → C16 q = qC E ad 0 q := fun q hq => (oo18 q (by omega)).trans (hOc q hq)
  refine lv_dup hx hb dX2_init_31 rfl ?_
  refine r_iconst hx hb dX2_init_32 ?_
  refine r_sipush hx hb dX2_init_33 (by decide) ?_
  refine a_ist (v := 1000) hCK hG hS 1 e_pe v_pe k_pe (by decide) (by decide) dX2_init_36 (fun C19 H locs kk20 oo21 hG hS => ?_)
  have k_pe : C19 1 = .inl (E 0, 16, ai (updZ (updZ (updZ (updZ (updZ (fun _ => 0) 0 0) 1 383) 2 707) 3 924) 4 1000)) := kk20
  have hOa : ∀ q, (q ≠ 1) → ad2 q = ad q := hOa
  have hOc : ∀ q, (q ≠ 1) → C19 q = qC E ad 0 q := fun q hq => (oo21 q (by omega)).trans (hOc q hq)
  refine lv_dup hx hb dX2_init_37 rfl ?_
  refine r_iconst hx hb dX2_init_38 ?_
  refine r_sipush hx hb dX2_init_39 (by decide) ?_
  refine a_ist (v := 924) hCK hG hS 1 e_pe v_pe k_pe (by decide) (by decide) dX2_init_42 (fun C22 H locs kk23 oo24 hG hS => ?_)
  have k_pe : C22 1 = .inl (E 0, 16, ai (updZ (updZ (updZ (updZ (updZ (updZ (fun _ => 0) 0 0) 1 383) 2 707) 3 924) 4 1000) 5 924)) := kk23
  have hOa : ∀ q, (q ≠ 1) → ad2 q = ad q := hOa
  have hOc : ∀ q, (q ≠ 1) → C22 q = qC E ad 0 q := fun q hq => (oo24 q (by omega)).trans (hOc q hq)
  refine lv_dup hx hb dX2_init_43 rfl ?_
  refine r_bipush hx hb dX2_init_44 (by decide) ?_
  refine r_sipush hx hb dX2_init_46 (by decide) ?_
  refine a_ist (v := 707) hCK hG hS 1 e_pe v_pe k_pe (by decide) (by decide) dX2_init_49 (fun C25 H locs kk26 oo27 hG hS => ?_)
  have k_pe : C25 1 = .inl (E 0, 16, ai (updZ (updZ (updZ (updZ (updZ (updZ (updZ (fun _ => 0) 0 0) 1 383) 2 707) 3 924) 4 1000) 5 924) 6 707)) := kk26
  have hOa : ∀ q, (q ≠ 1) → ad2 q = ad q := hOa
  have hOc : ∀ q, (q ≠ 1) → C25 q = qC E ad 0 q := fun q hq => (oo27 q (by omega)).trans (hOc q hq)
  refine lv_dup hx hb dX2_init_50 rfl ?_
  refine r_bipush hx hb dX2_init_51 (by decide) ?_
  refine r_sipush hx hb dX2_init_53 (by decide) ?_
  refine a_ist (v := 383) hCK hG hS 1 e_pe v_pe k_pe (by decide) (by decide) dX2_init_56 (fun C28 H locs kk29 oo30 hG hS => ?_)
  have k_pe : C28 1 = .inl (E 0, 16, ai (updZ (updZ (updZ (updZ (updZ (updZ (updZ (updZ (fun _ => 0) 0 0) 1 383) 2 707) 3 924) 4 1000) 5 924) 6 707) 7 383)) := kk29
  have hOa : ∀ q, (q ≠ 1) → ad2 q = ad q := hOa
  have hOc : ∀ q, (q ≠ 1) → C28 q = qC E ad 0 q := fun q hq => (oo30 q (by omega)).trans (hOc q hq)
  refine lv_dup hx hb dX2_init_57 rfl ?_
  refine r_bipush hx hb dX2_init_58 (by decide) ?_
  refine r_iconst hx hb dX2_init_60 ?_
  refine a_ist (v := 0) hCK hG hS 1 e_pe v_pe k_pe (by decide) (by decide) dX2_init_61 (fun C31 H locs kk32 oo33 hG hS => ?_)
  have k_pe : C31 1 = .inl (E 0, 16, ai (updZ (updZ (updZ (updZ (updZ (updZ (updZ (updZ (updZ (fun _ => 0) 0 0) 1 383) 2 707) 3 924) 4 1000) 5 924) 6 707) 7 383) 8 0)) := kk32
  have hOa : ∀ q, (q ≠ 1) → ad2 q = ad q := hOa
  have hOc : ∀ q, (q ≠ 1) → C31 q = qC E ad 0 q := fun q hq => (oo33 q (by omega)).trans (hOc q hq)
  refine lv_dup hx hb dX2_init_62 rfl ?_
  refine r_bipush hx hb dX2_init_63 (by decide) ?_
  refine r_sipush hx hb dX2_init_65 (by decide) ?_
  refine a_ist (v := -383) hCK hG hS 1 e_pe v_pe k_pe (by decide) (by decide) dX2_init_68 (fun C34 H locs kk35 oo36 hG hS => ?_)
  have k_pe : C34 1 = .inl (E 0, 16, ai (updZ (updZ (updZ (updZ (updZ (updZ (updZ (updZ (updZ (updZ (fun _ => 0) 0 0) 1 383) 2 707) 3 924) 4 1000) 5 924) 6 707) 7 383) 8 0) 9 (-383))) := kk35
  have hOa : ∀ q, (q ≠ 1) → ad2 q = ad q := hOa
  have hOc : ∀ q, (q ≠ 1) → C34 q = qC E ad 0 q := fun q hq => (oo36 q (by omega)).trans (hOc q hq)
  refine lv_dup hx hb dX2_init_69 rfl ?_
  refine r_bipush hx hb dX2_init_70 (by decide) ?_
  refine r_sipush hx hb dX2_init_72 (by decide) ?_
  refine a_ist (v := -707) hCK hG hS 1 e_pe v_pe k_pe (by decide) (by decide) dX2_init_75 (fun C37 H locs kk38 oo39 hG hS => ?_)
  have k_pe : C37 1 = .inl (E 0, 16, ai (updZ (updZ (updZ (updZ (updZ (updZ (updZ (updZ (updZ (updZ (updZ (fun _ => 0) 0 0) 1 383) 2 707) 3 924) 4 1000) 5 924) 6 707) 7 383) 8 0) 9 (-383)) 10 (-707))) := kk38
  have hOa : ∀ q, (q ≠ 1) → ad2 q = ad q := hOa
  have hOc : ∀ q, (q ≠ 1) → C37 q = qC E ad 0 q := fun q hq => (oo39 q (by omega)).trans (hOc q hq)
  refine lv_dup hx hb dX2_init_76 rfl ?_
  refine r_bipush hx hb dX2_init_77 (by decide) ?_
  refine r_sipush hx hb dX2_init_79 (by decide) ?_
  refine a_ist (v := -924) hCK hG hS 1 e_pe v_pe k_pe (by decide) (by decide) dX2_init_82 (fun C40 H locs kk41 oo42 hG hS => ?_)
  have k_pe : C40 1 = .inl (E 0, 16, ai (updZ (updZ (updZ (updZ (updZ (updZ (updZ (updZ (updZ (updZ (updZ (updZ (fun _ => 0) 0 0) 1 383) 2 707) 3 924) 4 1000) 5 924) 6 707) 7 383) 8 0) 9 (-383)) 10 (-707)) 11 (-924))) := kk41
  have hOa : ∀ q, (q ≠ 1) → ad2 q = ad q := hOa
  have hOc : ∀ q, (q ≠ 1) → C40 q = qC E ad 0 q := fun q hq => (oo42 q (by omega)).trans (hOc q hq)
  refine lv_dup hx hb dX2_init_83 rfl ?_
  refine r_bipush hx hb dX2_init_84 (by decide) ?_
  refine r_sipush hx hb dX2_init_86 (by decide) ?_
  refine a_ist (v := -1000) hCK hG hS 1 e_pe v_pe k_pe (by decide) (by decide) dX2_init_89 (fun C43 H locs kk44 oo45 hG hS => ?_)
  have k_pe : C43 1 = .inl (E 0, 16, ai (updZ (updZ (updZ (updZ (updZ (updZ (updZ (updZ (updZ (updZ (updZ (updZ (updZ (fun _ => 0) 0 0) 1 383) 2 707) 3 924) 4 1000) 5 924) 6 707) 7 383) 8 0) 9 (-383)) 10 (-707)) 11 (-924)) 12 (-1000))) := kk44
  have hOa : ∀ q, (q ≠ 1) → ad2 q = ad q := hOa
  have hOc : ∀ q, (q ≠ 1) → C43 q = qC E ad 0 q := fun q hq => (oo45 q (by omega)).trans (hOc q hq)
  refine lv_dup hx hb dX2_init_90 rfl ?_
  refine r_bipush hx hb dX2_init_91 (by decide) ?_
  refine r_sipush hx hb dX2_init_93 (by decide) ?_
  refine a_ist (v := -924) hCK hG hS 1 e_pe v_pe k_pe (by decide) (by decide) dX2_init_96 (fun C46 H locs kk47 oo48 hG hS => ?_)
  have k_pe : C46 1 = .inl (E 0, 16, ai (updZ (updZ (updZ (updZ (updZ (updZ (updZ (updZ (updZ (updZ (updZ (updZ (updZ (updZ (fun _ => 0) 0 0) 1 383) 2 707) 3 924) 4 1000) 5 924) 6 707) 7 383) 8 0) 9 (-383)) 10 (-707)) 11 (-924)) 12 (-1000)) 13 (-924))) := kk47
  have hOa : ∀ q, (q ≠ 1) → ad2 q = ad q := hOa
  have hOc : ∀ q, (q ≠ 1) → C46 q = qC E ad 0 q := fun q hq => (oo48 q (by omega)).trans (hOc q hq)
  refine lv_dup hx hb dX2_init_97 rfl ?_
  refine r_bipush hx hb dX2_init_98 (by decide) ?_
  refine r_sipush hx hb dX2_init_100 (by decide) ?_
  refine a_ist (v := -707) hCK hG hS 1 e_pe v_pe k_pe (by decide) (by decide) dX2_init_103 (fun C49 H locs kk50 oo51 hG hS => ?_)
  have k_pe : C49 1 = .inl (E 0, 16, ai (updZ (updZ (updZ (updZ (updZ (updZ (updZ (updZ (updZ (updZ (updZ (updZ (updZ (updZ (updZ (fun _ => 0) 0 0) 1 383) 2 707) 3 924) 4 1000) 5 924) 6 707) 7 383) 8 0) 9 (-383)) 10 (-707)) 11 (-924)) 12 (-1000)) 13 (-924)) 14 (-707))) := kk50
  have hOa : ∀ q, (q ≠ 1) → ad2 q = ad q := hOa
  have hOc : ∀ q, (q ≠ 1) → C49 q = qC E ad 0 q := fun q hq => (oo51 q (by omega)).trans (hOc q hq)
  refine lv_dup hx hb dX2_init_104 rfl ?_
  refine r_bipush hx hb dX2_init_105 (by decide) ?_
  refine r_sipush hx hb dX2_init_107 (by decide) ?_
  refine a_ist (v := -383) hCK hG hS 1 e_pe v_pe k_pe (by decide) (by decide) dX2_init_110 (fun C52 H locs kk53 oo54 hG hS => ?_)
  have k_pe : C52 1 = .inl (E 0, 16, ai (updZ (updZ (updZ (updZ (updZ (updZ (updZ (updZ (updZ (updZ (updZ (updZ (updZ (updZ (updZ (updZ (fun _ => 0) 0 0) 1 383) 2 707) 3 924) 4 1000) 5 924) 6 707) 7 383) 8 0) 9 (-383)) 10 (-707)) 11 (-924)) 12 (-1000)) 13 (-924)) 14 (-707)) 15 (-383))) := kk53
  have hOa : ∀ q, (q ≠ 1) → ad2 q = ad q := hOa
  have hOc : ∀ q, (q ≠ 1) → C52 q = qC E ad 0 q := fun q hq => (oo54 q (by omega)).trans (hOc q hq)
  refine q_put (n := 0) (by decide) hCK hnme hV6 hG hS (by decide) q1026 rfl rfl (fun _ => rfl) (fun _ => rfl) k_pe hOc hOa e_pe e_ob dX2_init_111 (fun H locs e_ob hG hS => ?_)
  have hG := q_skip (n := 1) (by decide) rfl hG
  refine lv_aload_n hx hb dX2_init_114 rfl (lv_at hl 0 rfl) ?_
  refine r_bipush hx hb dX2_init_115 (by decide) ?_
  refine q_arr (n := 2) 6 rfl (by decide) hCK hnme hA hG hS q129 rfl rfl rfl rfl (by decide) (by rw [hR]; show _ ≤ _; (try unfold amr); (try simp only []); omega) (by rw [hR]; show _ ≤ _; (try unfold amr); (try simp only []); omega) dX2_init_117 (by decide) rfl q1028 rfl rfl (fun _ => rfl) (fun _ => rfl) rfl e_ob dX2_init_119 (fun ad55 H locs e_ob hG hS => ?_)
  refine lv_aload_n hx hb dX2_init_122 rfl (lv_at hl 0 rfl) ?_
  refine r_bipush hx hb dX2_init_123 (by decide) ?_
  refine q_arr (n := 3) 60 rfl (by decide) hCK hnme hA hG hS q129 rfl rfl rfl rfl (by decide) (by rw [hR]; show _ ≤ _; (try unfold amr); (try simp only []); omega) (by rw [hR]; show _ ≤ _; (try unfold amr); (try simp only []); omega) dX2_init_125 (by decide) rfl q1029 rfl rfl (fun _ => rfl) (fun _ => rfl) rfl e_ob dX2_init_127 (fun ad56 H locs e_ob hG hS => ?_)
  have hG := q_skip (n := 4) (by decide) rfl hG
  refine lv_aload_n hx hb dX2_init_130 rfl (lv_at hl 0 rfl) ?_
  refine r_bipush hx hb dX2_init_131 (by decide) ?_
  refine q_arr (n := 5) 12 rfl (by decide) hCK hnme hA hG hS q129 rfl rfl rfl rfl (by decide) (by rw [hR]; show _ ≤ _; (try unfold amr); (try simp only []); omega) (by rw [hR]; show _ ≤ _; (try unfold amr); (try simp only []); omega) dX2_init_133 (by decide) rfl q1031 rfl rfl (fun _ => rfl) (fun _ => rfl) rfl e_ob dX2_init_135 (fun ad57 H locs e_ob hG hS => ?_)
  refine lv_aload_n hx hb dX2_init_138 rfl (lv_at hl 0 rfl) ?_
  refine r_bipush hx hb dX2_init_139 (by decide) ?_
  refine q_arr (n := 6) 12 rfl (by decide) hCK hnme hA hG hS q129 rfl rfl rfl rfl (by decide) (by rw [hR]; show _ ≤ _; (try unfold amr); (try simp only []); omega) (by rw [hR]; show _ ≤ _; (try unfold amr); (try simp only []); omega) dX2_init_141 (by decide) rfl q1032 rfl rfl (fun _ => rfl) (fun _ => rfl) rfl e_ob dX2_init_143 (fun ad58 H locs e_ob hG hS => ?_)
  refine lv_aload_n hx hb dX2_init_146 rfl (lv_at hl 0 rfl) ?_
  refine r_bipush hx hb dX2_init_147 (by decide) ?_
  refine q_arr (n := 7) 12 rfl (by decide) hCK hnme hA hG hS q129 rfl rfl rfl rfl (by decide) (by rw [hR]; show _ ≤ _; (try unfold amr); (try simp only []); omega) (by rw [hR]; show _ ≤ _; (try unfold amr); (try simp only []); omega) dX2_init_149 (by decide) rfl q1033 rfl rfl (fun _ => rfl) (fun _ => rfl) rfl e_ob dX2_init_151 (fun ad59 H locs e_ob hG hS => ?_)
  refine lv_aload_n hx hb dX2_init_154 rfl (lv_at hl 0 rfl) ?_
  refine r_bipush hx hb dX2_init_155 (by decide) ?_
  refine q_arr (n := 8) 12 rfl (by decide) hCK hnme hA hG hS q129 rfl rfl rfl rfl (by decide) (by rw [hR]; show _ ≤ _; (try unfold amr); (try simp only []); omega) (by rw [hR]; show _ ≤ _; (try unfold amr); (try simp only []); omega) dX2_init_157 (by decide) rfl q1034 rfl rfl (fun _ => rfl) (fun _ => rfl) rfl e_ob dX2_init_159 (fun ad60 H locs e_ob hG hS => ?_)
  refine lv_aload_n hx hb dX2_init_162 rfl (lv_at hl 0 rfl) ?_
  refine r_bipush hx hb dX2_init_163 (by decide) ?_
  refine q_arr (n := 9) 12 rfl (by decide) hCK hnme hA hG hS q191 rfl rfl rfl rfl (by decide) (by rw [hR]; show _ ≤ _; (try unfold amr); (try simp only []); omega) (by rw [hR]; show _ ≤ _; (try unfold amr); (try simp only []); omega) dX2_init_165 (by decide) rfl q1035 rfl rfl (fun _ => rfl) (fun _ => rfl) rfl e_ob dX2_init_167 (fun ad61 H locs e_ob hG hS => ?_)
  have hG := q_skip (n := 10) (by decide) rfl hG
  refine lv_aload_n hx hb dX2_init_170 rfl (lv_at hl 0 rfl) ?_
  refine r_iconst hx hb dX2_init_171 ?_
  refine q_arr (n := 11) 4 rfl (by decide) hCK hnme hA hG hS q129 rfl rfl rfl rfl (by decide) (by rw [hR]; show _ ≤ _; (try unfold amr); (try simp only []); omega) (by rw [hR]; show _ ≤ _; (try unfold amr); (try simp only []); omega) dX2_init_172 (by decide) rfl q1037 rfl rfl (fun _ => rfl) (fun _ => rfl) rfl e_ob dX2_init_174 (fun ad62 H locs e_ob hG hS => ?_)
  refine lv_aload_n hx hb dX2_init_177 rfl (lv_at hl 0 rfl) ?_
  refine r_iconst hx hb dX2_init_178 ?_
  refine q_arr (n := 12) 4 rfl (by decide) hCK hnme hA hG hS q129 rfl rfl rfl rfl (by decide) (by rw [hR]; show _ ≤ _; (try unfold amr); (try simp only []); omega) (by rw [hR]; show _ ≤ _; (try unfold amr); (try simp only []); omega) dX2_init_179 (by decide) rfl q1038 rfl rfl (fun _ => rfl) (fun _ => rfl) rfl e_ob dX2_init_181 (fun ad63 H locs e_ob hG hS => ?_)
  refine lv_aload_n hx hb dX2_init_184 rfl (lv_at hl 0 rfl) ?_
  refine r_iconst hx hb dX2_init_185 ?_
  refine q_arr (n := 13) 4 rfl (by decide) hCK hnme hA hG hS q129 rfl rfl rfl rfl (by decide) (by rw [hR]; show _ ≤ _; (try unfold amr); (try simp only []); omega) (by rw [hR]; show _ ≤ _; (try unfold amr); (try simp only []); omega) dX2_init_186 (by decide) rfl q1039 rfl rfl (fun _ => rfl) (fun _ => rfl) rfl e_ob dX2_init_188 (fun ad64 H locs e_ob hG hS => ?_)
  refine lv_aload_n hx hb dX2_init_191 rfl (lv_at hl 0 rfl) ?_
  refine r_iconst hx hb dX2_init_192 ?_
  refine q_arr (n := 14) 4 rfl (by decide) hCK hnme hA hG hS q129 rfl rfl rfl rfl (by decide) (by rw [hR]; show _ ≤ _; (try unfold amr); (try simp only []); omega) (by rw [hR]; show _ ≤ _; (try unfold amr); (try simp only []); omega) dX2_init_193 (by decide) rfl q1040 rfl rfl (fun _ => rfl) (fun _ => rfl) rfl e_ob dX2_init_195 (fun ad65 H locs e_ob hG hS => ?_)
  have hG := q_skip (n := 15) (by decide) rfl hG
  refine lv_aload_n hx hb dX2_init_198 rfl (lv_at hl 0 rfl) ?_
  refine r_bipush hx hb dX2_init_199 (by decide) ?_
  refine q_arr (n := 16) 6 rfl (by decide) hCK hnme hA hG hS q129 rfl rfl rfl rfl (by decide) (by rw [hR]; show _ ≤ _; (try unfold amr); (try simp only []); omega) (by rw [hR]; show _ ≤ _; (try unfold amr); (try simp only []); omega) dX2_init_201 (by decide) rfl q1042 rfl rfl (fun _ => rfl) (fun _ => rfl) rfl e_ob dX2_init_203 (fun ad66 H locs e_ob hG hS => ?_)
  refine lv_aload_n hx hb dX2_init_206 rfl (lv_at hl 0 rfl) ?_
  refine r_bipush hx hb dX2_init_207 (by decide) ?_
  refine q_arr (n := 17) 6 rfl (by decide) hCK hnme hA hG hS q129 rfl rfl rfl rfl (by decide) (by rw [hR]; show _ ≤ _; (try unfold amr); (try simp only []); omega) (by rw [hR]; show _ ≤ _; (try unfold amr); (try simp only []); omega) dX2_init_209 (by decide) rfl q1043 rfl rfl (fun _ => rfl) (fun _ => rfl) rfl e_ob dX2_init_211 (fun ad67 H locs e_ob hG hS => ?_)
  have hG := q_skip (n := 18) (by decide) rfl hG
  refine lv_aload_n hx hb dX2_init_214 rfl (lv_at hl 0 rfl) ?_
  refine r_bipush hx hb dX2_init_215 (by decide) ?_
  refine q_arr (n := 19) 8 rfl (by decide) hCK hnme hA hG hS q129 rfl rfl rfl rfl (by decide) (by rw [hR]; show _ ≤ _; (try unfold amr); (try simp only []); omega) (by rw [hR]; show _ ≤ _; (try unfold amr); (try simp only []); omega) dX2_init_217 (by decide) rfl q1045 rfl rfl (fun _ => rfl) (fun _ => rfl) rfl e_ob dX2_init_219 (fun ad68 H locs e_ob hG hS => ?_)
  refine lv_aload_n hx hb dX2_init_222 rfl (lv_at hl 0 rfl) ?_
  refine r_bipush hx hb dX2_init_223 (by decide) ?_
  refine q_arr (n := 20) 8 rfl (by decide) hCK hnme hA hG hS q129 rfl rfl rfl rfl (by decide) (by rw [hR]; show _ ≤ _; (try unfold amr); (try simp only []); omega) (by rw [hR]; show _ ≤ _; (try unfold amr); (try simp only []); omega) dX2_init_225 (by decide) rfl q1046 rfl rfl (fun _ => rfl) (fun _ => rfl) rfl e_ob dX2_init_227 (fun ad69 H locs e_ob hG hS => ?_)
  refine lv_aload_n hx hb dX2_init_230 rfl (lv_at hl 0 rfl) ?_
  refine r_bipush hx hb dX2_init_231 (by decide) ?_
  refine q_arr (n := 21) 8 rfl (by decide) hCK hnme hA hG hS q129 rfl rfl rfl rfl (by decide) (by rw [hR]; show _ ≤ _; (try unfold amr); (try simp only []); omega) (by rw [hR]; show _ ≤ _; (try unfold amr); (try simp only []); omega) dX2_init_233 (by decide) rfl q1047 rfl rfl (fun _ => rfl) (fun _ => rfl) rfl e_ob dX2_init_235 (fun ad70 H locs e_ob hG hS => ?_)
  refine lv_aload_n hx hb dX2_init_238 rfl (lv_at hl 0 rfl) ?_
  refine r_sipush hx hb dX2_init_239 (by decide) ?_
  refine q_int (n := 22) (by decide) hCK hG hS rfl q1048 rfl rfl rfl rfl e_ob dX2_init_242 (fun H locs hG hS => ?_)
  refine lv_aload_n hx hb dX2_init_245 rfl (lv_at hl 0 rfl) ?_
  refine r_iconst hx hb dX2_init_246 ?_
  refine q_int (n := 23) (by decide) hCK hG hS rfl q1049 rfl rfl rfl rfl e_ob dX2_init_247 (fun H locs hG hS => ?_)
  refine lv_aload_n hx hb dX2_init_250 rfl (lv_at hl 0 rfl) ?_
  refine r_iconst hx hb dX2_init_251 ?_
  refine q_int (n := 24) (by decide) hCK hG hS rfl q1050 rfl rfl rfl rfl e_ob dX2_init_252 (fun H locs hG hS => ?_)
  have hG := q_skip (n := 25) (by decide) rfl hG
  have hG := q_skip (n := 26) (by decide) rfl hG
  refine lv_aload_n hx hb dX2_init_255 rfl (lv_at hl 0 rfl) ?_
  refine r_bipush hx hb dX2_init_256 (by decide) ?_
  refine q_arr (n := 27) 24 rfl (by decide) hCK hnme hA hG hS q129 rfl rfl rfl rfl (by decide) (by rw [hR]; show _ ≤ _; (try unfold amr); (try simp only []); omega) (by rw [hR]; show _ ≤ _; (try unfold amr); (try simp only []); omega) dX2_init_258 (by decide) rfl q1053 rfl rfl (fun _ => rfl) (fun _ => rfl) rfl e_ob dX2_init_260 (fun ad71 H locs e_ob hG hS => ?_)
  refine lv_aload_n hx hb dX2_init_263 rfl (lv_at hl 0 rfl) ?_
  refine r_iconst hx hb dX2_init_264 ?_
  refine q_arr (n := 28) 2 rfl (by decide) hCK hnme hA hG hS q129 rfl rfl rfl rfl (by decide) (by rw [hR]; show _ ≤ _; (try unfold amr); (try simp only []); omega) (by rw [hR]; show _ ≤ _; (try unfold amr); (try simp only []); omega) dX2_init_265 (by decide) rfl q1054 rfl rfl (fun _ => rfl) (fun _ => rfl) rfl e_ob dX2_init_267 (fun ad72 H locs e_ob hG hS => ?_)
  refine lv_aload_n hx hb dX2_init_270 rfl (lv_at hl 0 rfl) ?_
  refine r_iconst hx hb dX2_init_271 ?_
  refine q_arr (n := 29) 2 rfl (by decide) hCK hnme hA hG hS q129 rfl rfl rfl rfl (by decide) (by rw [hR]; show _ ≤ _; (try unfold amr); (try simp only []); omega) (by rw [hR]; show _ ≤ _; (try unfold amr); (try simp only []); omega) dX2_init_272 (by decide) rfl q1055 rfl rfl (fun _ => rfl) (fun _ => rfl) rfl e_ob dX2_init_274 (fun ad73 H locs e_ob hG hS => ?_)
  refine lv_aload_n hx hb dX2_init_277 rfl (lv_at hl 0 rfl) ?_
  refine r_iconst hx hb dX2_init_278 ?_
  refine q_arr (n := 30) 2 rfl (by decide) hCK hnme hA hG hS q129 rfl rfl rfl rfl (by decide) (by rw [hR]; show _ ≤ _; (try unfold amr); (try simp only []); omega) (by rw [hR]; show _ ≤ _; (try unfold amr); (try simp only []); omega) dX2_init_279 (by decide) rfl q1056 rfl rfl (fun _ => rfl) (fun _ => rfl) rfl e_ob dX2_init_281 (fun ad74 H locs e_ob hG hS => ?_)
  refine lv_aload_n hx hb dX2_init_284 rfl (lv_at hl 0 rfl) ?_
  refine r_iconst hx hb dX2_init_285 ?_
  refine q_arr (n := 31) 2 rfl (by decide) hCK hnme hA hG hS q129 rfl rfl rfl rfl (by decide) (by rw [hR]; show _ ≤ _; (try unfold amr); (try simp only []); omega) (by rw [hR]; show _ ≤ _; (try unfold amr); (try simp only []); omega) dX2_init_286 (by decide) rfl q1057 rfl rfl (fun _ => rfl) (fun _ => rfl) rfl e_ob dX2_init_288 (fun ad75 H locs e_ob hG hS => ?_)
  refine lv_aload_n hx hb dX2_init_291 rfl (lv_at hl 0 rfl) ?_
  refine r_iconst hx hb dX2_init_292 ?_
  refine q_arr (n := 32) 2 rfl (by decide) hCK hnme hA hG hS q191 rfl rfl rfl rfl (by decide) (by rw [hR]; show _ ≤ _; (try unfold amr); (try simp only []); omega) (by rw [hR]; show _ ≤ _; (try unfold amr); (try simp only []); omega) dX2_init_293 (by decide) rfl q1058 rfl rfl (fun _ => rfl) (fun _ => rfl) rfl e_ob dX2_init_295 (fun ad76 H locs e_ob hG hS => ?_)
  refine lv_aload_n hx hb dX2_init_298 rfl (lv_at hl 0 rfl) ?_
  refine r_bipush hx hb dX2_init_299 (by decide) ?_
  refine q_arr (n := 33) 12 rfl (by decide) hCK hnme hA hG hS q191 rfl rfl rfl rfl (by decide) (by rw [hR]; show _ ≤ _; (try unfold amr); (try simp only []); omega) (by rw [hR]; show _ ≤ _; (try unfold amr); (try simp only []); omega) dX2_init_301 (by decide) rfl q1059 rfl rfl (fun _ => rfl) (fun _ => rfl) rfl e_ob dX2_init_303 (fun ad77 H locs e_ob hG hS => ?_)
  refine lv_aload_n hx hb dX2_init_306 rfl (lv_at hl 0 rfl) ?_
  refine r_bipush hx hb dX2_init_307 (by decide) ?_
  refine q_arr (n := 34) 12 rfl (by decide) hCK hnme hA hG hS q129 rfl rfl rfl rfl (by decide) (by rw [hR]; show _ ≤ _; (try unfold amr); (try simp only []); omega) (by rw [hR]; show _ ≤ _; (try unfold amr); (try simp only []); omega) dX2_init_309 (by decide) rfl q1060 rfl rfl (fun _ => rfl) (fun _ => rfl) rfl e_ob dX2_init_311 (fun ad78 H locs e_ob hG hS => ?_)
  refine lv_aload_n hx hb dX2_init_314 rfl (lv_at hl 0 rfl) ?_
  refine r_bipush hx hb dX2_init_315 (by decide) ?_
  refine q_arr (n := 35) 8 rfl (by decide) hCK hnme hA hG hS q129 rfl rfl rfl rfl (by decide) (by rw [hR]; show _ ≤ _; (try unfold amr); (try simp only []); omega) (by rw [hR]; show _ ≤ _; (try unfold amr); (try simp only []); omega) dX2_init_317 (by decide) rfl q1061 rfl rfl (fun _ => rfl) (fun _ => rfl) rfl e_ob dX2_init_319 (fun ad79 H locs e_ob hG hS => ?_)
  refine lv_aload_n hx hb dX2_init_322 rfl (lv_at hl 0 rfl) ?_
  refine r_sipush hx hb dX2_init_323 (by decide) ?_
  refine q_arr (n := 36) 600 rfl (by decide) hCK hnme hA hG hS q129 rfl rfl rfl rfl (by decide) (by rw [hR]; show _ ≤ _; (try unfold amr); (try simp only []); omega) (by rw [hR]; show _ ≤ _; (try unfold amr); (try simp only []); omega) dX2_init_326 (by decide) rfl q1062 rfl rfl (fun _ => rfl) (fun _ => rfl) rfl e_ob dX2_init_328 (fun ad80 H locs e_ob hG hS => ?_)
  refine lv_aload_n hx hb dX2_init_331 rfl (lv_at hl 0 rfl) ?_
  refine r_sipush hx hb dX2_init_332 (by decide) ?_
  refine q_arr (n := 37) 600 rfl (by decide) hCK hnme hA hG hS q129 rfl rfl rfl rfl (by decide) (by rw [hR]; show _ ≤ _; (try unfold amr); (try simp only []); omega) (by rw [hR]; show _ ≤ _; (try unfold amr); (try simp only []); omega) dX2_init_335 (by decide) rfl q1063 rfl rfl (fun _ => rfl) (fun _ => rfl) rfl e_ob dX2_init_337 (fun ad81 H locs e_ob hG hS => ?_)
  refine lv_aload_n hx hb dX2_init_340 rfl (lv_at hl 0 rfl) ?_
  refine r_sipush hx hb dX2_init_341 (by decide) ?_
  refine q_arr (n := 38) 600 rfl (by decide) hCK hnme hA hG hS q129 rfl rfl rfl rfl (by decide) (by rw [hR]; show _ ≤ _; (try unfold amr); (try simp only []); omega) (by rw [hR]; show _ ≤ _; (try unfold amr); (try simp only []); omega) dX2_init_344 (by decide) rfl q1064 rfl rfl (fun _ => rfl) (fun _ => rfl) rfl e_ob dX2_init_346 (fun ad82 H locs e_ob hG hS => ?_)
  refine lv_aload_n hx hb dX2_init_349 rfl (lv_at hl 0 rfl) ?_
  refine r_sipush hx hb dX2_init_350 (by decide) ?_
  refine q_arr (n := 39) 600 rfl (by decide) hCK hnme hA hG hS q129 rfl rfl rfl rfl (by decide) (by rw [hR]; show _ ≤ _; (try unfold amr); (try simp only []); omega) (by rw [hR]; show _ ≤ _; (try unfold amr); (try simp only []); omega) dX2_init_353 (by decide) rfl q1065 rfl rfl (fun _ => rfl) (fun _ => rfl) rfl e_ob dX2_init_355 (fun ad83 H locs e_ob hG hS => ?_)
  refine lv_aload_n hx hb dX2_init_358 rfl (lv_at hl 0 rfl) ?_
  refine r_sipush hx hb dX2_init_359 (by decide) ?_
  refine q_arr (n := 40) 600 rfl (by decide) hCK hnme hA hG hS q191 rfl rfl rfl rfl (by decide) (by rw [hR]; show _ ≤ _; (try unfold amr); (try simp only []); omega) (by rw [hR]; show _ ≤ _; (try unfold amr); (try simp only []); omega) dX2_init_362 (by decide) rfl q1066 rfl rfl (fun _ => rfl) (fun _ => rfl) rfl e_ob dX2_init_364 (fun ad84 H locs e_ob hG hS => ?_)
  have hG := q_skip (n := 41) (by decide) rfl hG
  refine lv_aload_n hx hb dX2_init_367 rfl (lv_at hl 0 rfl) ?_
  refine r_bipush hx hb dX2_init_368 (by decide) ?_
  refine q_arr (n := 42) 12 rfl (by decide) hCK hnme hA hG hS q129 rfl rfl rfl rfl (by decide) (by rw [hR]; show _ ≤ _; (try unfold amr); (try simp only []); omega) (by rw [hR]; show _ ≤ _; (try unfold amr); (try simp only []); omega) dX2_init_370 (by decide) rfl q1068 rfl rfl (fun _ => rfl) (fun _ => rfl) rfl e_ob dX2_init_372 (fun ad85 H locs e_ob hG hS => ?_)
  refine lv_aload_n hx hb dX2_init_375 rfl (lv_at hl 0 rfl) ?_
  refine r_bipush hx hb dX2_init_376 (by decide) ?_
  refine q_arr (n := 43) 12 rfl (by decide) hCK hnme hA hG hS q129 rfl rfl rfl rfl (by decide) (by rw [hR]; show _ ≤ _; (try unfold amr); (try simp only []); omega) (by rw [hR]; show _ ≤ _; (try unfold amr); (try simp only []); omega) dX2_init_378 (by decide) rfl q1069 rfl rfl (fun _ => rfl) (fun _ => rfl) rfl e_ob dX2_init_380 (fun ad86 H locs e_ob hG hS => ?_)
  refine lv_aload_n hx hb dX2_init_383 rfl (lv_at hl 0 rfl) ?_
  refine r_bipush hx hb dX2_init_384 (by decide) ?_
  refine q_int (n := 44) (by decide) hCK hG hS rfl q1070 rfl rfl rfl rfl e_ob dX2_init_386 (fun H locs hG hS => ?_)
  have hG := q_skip (n := 45) (by decide) rfl hG
  refine lv_aload_n hx hb dX2_init_389 rfl (lv_at hl 0 rfl) ?_
  refine r_bipush hx hb dX2_init_390 (by decide) ?_
  refine q_arr (n := 46) 64 rfl (by decide) hCK hnme hA hG hS q129 rfl rfl rfl rfl (by decide) (by rw [hR]; show _ ≤ _; (try unfold amr); (try simp only []); omega) (by rw [hR]; show _ ≤ _; (try unfold amr); (try simp only []); omega) dX2_init_392 (by decide) rfl q1072 rfl rfl (fun _ => rfl) (fun _ => rfl) rfl e_ob dX2_init_394 (fun ad87 H locs e_ob hG hS => ?_)
  refine lv_aload_n hx hb dX2_init_397 rfl (lv_at hl 0 rfl) ?_
  refine r_sipush hx hb dX2_init_398 (by decide) ?_
  refine q_arr (n := 47) 300 rfl (by decide) hCK hnme hA hG hS q128 rfl rfl rfl rfl (by decide) (by rw [hR]; show _ ≤ _; (try unfold amr); (try simp only []); omega) (by rw [hR]; show _ ≤ _; (try unfold amr); (try simp only []); omega) dX2_init_401 (by decide) rfl q1073 rfl rfl (fun _ => rfl) (fun _ => rfl) rfl e_ob dX2_init_403 (fun ad88 H locs e_ob hG hS => ?_)
  have hG := q_skip (n := 48) (by decide) rfl hG
  have hG := q_skip (n := 49) (by decide) rfl hG
  have hG := q_skip (n := 50) (by decide) rfl hG
  have hG := q_skip (n := 51) (by decide) rfl hG
  have hG := q_skip (n := 52) (by decide) rfl hG
  refine lv_aload_n hx hb dX2_init_406 rfl (lv_at hl 0 rfl) ?_
  refine r_sipush hx hb dX2_init_407 (by decide) ?_
  refine q_arr (n := 53) 600 rfl (by decide) hCK hnme hA hG hS q129 rfl rfl rfl rfl (by decide) (by rw [hR]; show _ ≤ _; (try unfold amr); (try simp only []); omega) (by rw [hR]; show _ ≤ _; (try unfold amr); (try simp only []); omega) dX2_init_410 (by decide) rfl q1079 rfl rfl (fun _ => rfl) (fun _ => rfl) rfl e_ob dX2_init_412 (fun ad89 H locs e_ob hG hS => ?_)
  have hG := q_skip (n := 54) (by decide) rfl hG
  have hG := q_skip (n := 55) (by decide) rfl hG
  have hG := q_skip (n := 56) (by decide) rfl hG
  refine lv_aload_n hx hb dX2_init_415 rfl (lv_at hl 0 rfl) ?_
  refine r_sipush hx hb dX2_init_416 (by decide) ?_
  refine q_arr (n := 57) 300 rfl (by decide) hCK hnme hA hG hS q129 rfl rfl rfl rfl (by decide) (by rw [hR]; show _ ≤ _; (try unfold amr); (try simp only []); omega) (by rw [hR]; show _ ≤ _; (try unfold amr); (try simp only []); omega) dX2_init_419 (by decide) rfl q1083 rfl rfl (fun _ => rfl) (fun _ => rfl) rfl e_ob dX2_init_421 (fun ad90 H locs e_ob hG hS => ?_)
  refine lv_aload_n hx hb dX2_init_424 rfl (lv_at hl 0 rfl) ?_
  refine r_sipush hx hb dX2_init_425 (by decide) ?_
  refine q_arr (n := 58) 300 rfl (by decide) hCK hnme hA hG hS q129 rfl rfl rfl rfl (by decide) (by rw [hR]; show _ ≤ _; (try unfold amr); (try simp only []); omega) (by rw [hR]; show _ ≤ _; (try unfold amr); (try simp only []); omega) dX2_init_428 (by decide) rfl q1084 rfl rfl (fun _ => rfl) (fun _ => rfl) rfl e_ob dX2_init_430 (fun ad91 H locs e_ob hG hS => ?_)
  have hG := q_skip (n := 59) (by decide) rfl hG
  refine lv_aload_n hx hb dX2_init_433 rfl (lv_at hl 0 rfl) ?_
  refine r_iconst hx hb dX2_init_434 ?_
  have hOa : ∀ q, (q ≠ 61) → ad91 q = ad91 q := fun _ _ => rfl
  have hOc : ∀ q, (q ≠ 61) → qC E ad91 60 q = qC E ad91 60 q := fun _ _ => rfl
  refine a_newa (t := 0) (N := 2) hCK hG hS hA 61 q129 rfl rfl rfl rfl rfl (by decide) (by decide) (by rw [hR]; show _ ≤ _; (try unfold amr); (try simp only []); omega) (by rw [hR]; show _ ≤ _; (try unfold amr); (try simp only []); omega) dX2_init_435 (fun x92 ad93 C94 H e_pe k_pe oo95 hG hS oh96 => ?_)
  obtain ⟨V97, hV97⟩ : ∃ X : Nat → Prop, X = fun q => (qV 60) q ∨ q = 61 := ⟨_, rfl⟩
  rw [← hV97] at hG
  have v_pe : V97 61 := by rw [hV97]; exact Or.inr rfl
  have hOa : ∀ q, (q ≠ 61) → ad93 q = ad91 q := fun q hq => (oo95 q (by omega)).1.trans (hOa q hq)
  have hOc : ∀ q, (q ≠ 61) → C94 q = qC E ad91 60 q := fun q hq => (oo95 q (by omega)).2.trans (hOc q hq)
  refine lv_dup hx hb dX2_init_437 rfl ?_
  refine r_iconst hx hb dX2_init_438 ?_
  refine r_iconst hx hb dX2_init_439 ?_
  refine a_ist (v := -1) hCK hG hS 61 e_pe v_pe k_pe (by decide) (by decide) dX2_init_440 (fun C98 H locs kk99 oo100 hG hS => ?_)
  have k_pe : C98 61 = .inl (E 0, 2, ai (updZ (fun _ => 0) 0 (-1))) := kk99
  have hOa : ∀ q, (q ≠ 61) → ad93 q = ad91 q := hOa
  have hOc : ∀ q, (q ≠ 61) → C98 q = qC E ad91 60 q := fun q hq => (oo100 q (by omega)).trans (hOc q hq)
  refine lv_dup hx hb dX2_init_441 rfl ?_
  refine r_iconst hx hb dX2_init_442 ?_
  refine r_iconst hx hb dX2_init_443 ?_
  refine a_ist (v := -1) hCK hG hS 61 e_pe v_pe k_pe (by decide) (by decide) dX2_init_444 (fun C101 H locs kk102 oo103 hG hS => ?_)
  have k_pe : C101 61 = .inl (E 0, 2, ai (updZ (updZ (fun _ => 0) 0 (-1)) 1 (-1))) := kk102
  have hOa : ∀ q, (q ≠ 61) → ad93 q = ad91 q := hOa
  have hOc : ∀ q, (q ≠ 61) → C101 q = qC E ad91 60 q := fun q hq => (oo103 q (by omega)).trans (hOc q hq)
  refine q_put (n := 60) (by decide) hCK hnme hV97 hG hS (by decide) q1086 rfl rfl (fun _ => rfl) (fun _ => rfl) k_pe hOc hOa e_pe e_ob dX2_init_445 (fun H locs e_ob hG hS => ?_)
  refine lv_aload_n hx hb dX2_init_448 rfl (lv_at hl 0 rfl) ?_
  refine r_iconst hx hb dX2_init_449 ?_
  refine q_arr (n := 61) 2 rfl (by decide) hCK hnme hA hG hS q129 rfl rfl rfl rfl (by decide) (by rw [hR]; show _ ≤ _; (try unfold amr); (try simp only []); omega) (by rw [hR]; show _ ≤ _; (try unfold amr); (try simp only []); omega) dX2_init_450 (by decide) rfl q1087 rfl rfl (fun _ => rfl) (fun _ => rfl) rfl e_ob dX2_init_452 (fun ad104 H locs e_ob hG hS => ?_)
  refine lv_aload_n hx hb dX2_init_455 rfl (lv_at hl 0 rfl) ?_
  refine r_sipush hx hb dX2_init_456 (by decide) ?_
  refine q_arr (n := 62) 300 rfl (by decide) hCK hnme hA hG hS q129 rfl rfl rfl rfl (by decide) (by rw [hR]; show _ ≤ _; (try unfold amr); (try simp only []); omega) (by rw [hR]; show _ ≤ _; (try unfold amr); (try simp only []); omega) dX2_init_459 (by decide) rfl q1088 rfl rfl (fun _ => rfl) (fun _ => rfl) rfl e_ob dX2_init_461 (fun ad105 H locs e_ob hG hS => ?_)
  refine lv_aload_n hx hb dX2_init_464 rfl (lv_at hl 0 rfl) ?_
  refine r_sipush hx hb dX2_init_465 (by decide) ?_
  refine q_arr (n := 63) 300 rfl (by decide) hCK hnme hA hG hS q129 rfl rfl rfl rfl (by decide) (by rw [hR]; show _ ≤ _; (try unfold amr); (try simp only []); omega) (by rw [hR]; show _ ≤ _; (try unfold amr); (try simp only []); omega) dX2_init_468 (by decide) rfl q1089 rfl rfl (fun _ => rfl) (fun _ => rfl) rfl e_ob dX2_init_470 (fun ad106 H locs e_ob hG hS => ?_)
  refine lv_aload_n hx hb dX2_init_473 rfl (lv_at hl 0 rfl) ?_
  refine r_iconst hx hb dX2_init_474 ?_
  have hOa : ∀ q, (q ≠ 65) → ad106 q = ad106 q := fun _ _ => rfl
  have hOc : ∀ q, (q ≠ 65) → qC E ad106 64 q = qC E ad106 64 q := fun _ _ => rfl
  refine a_newa (t := 0) (N := 2) hCK hG hS hA 65 q129 rfl rfl rfl rfl rfl (by decide) (by decide) (by rw [hR]; show _ ≤ _; (try unfold amr); (try simp only []); omega) (by rw [hR]; show _ ≤ _; (try unfold amr); (try simp only []); omega) dX2_init_475 (fun x107 ad108 C109 H e_pe k_pe oo110 hG hS oh111 => ?_)
  obtain ⟨V112, hV112⟩ : ∃ X : Nat → Prop, X = fun q => (qV 64) q ∨ q = 65 := ⟨_, rfl⟩
  rw [← hV112] at hG
  have v_pe : V112 65 := by rw [hV112]; exact Or.inr rfl
  have hOa : ∀ q, (q ≠ 65) → ad108 q = ad106 q := fun q hq => (oo110 q (by omega)).1.trans (hOa q hq)
  have hOc : ∀ q, (q ≠ 65) → C109 q = qC E ad106 64 q := fun q hq => (oo110 q (by omega)).2.trans (hOc q hq)
  refine lv_dup hx hb dX2_init_477 rfl ?_
  refine r_iconst hx hb dX2_init_478 ?_
  refine r_iconst hx hb dX2_init_479 ?_
  refine a_ist (v := -1) hCK hG hS 65 e_pe v_pe k_pe (by decide) (by decide) dX2_init_480 (fun C113 H locs kk114 oo115 hG hS => ?_)
  have k_pe : C113 65 = .inl (E 0, 2, ai (updZ (fun _ => 0) 0 (-1))) := kk114
  have hOa : ∀ q, (q ≠ 65) → ad108 q = ad106 q := hOa
  have hOc : ∀ q, (q ≠ 65) → C113 q = qC E ad106 64 q := fun q hq => (oo115 q (by omega)).trans (hOc q hq)
  refine lv_dup hx hb dX2_init_481 rfl ?_
  refine r_iconst hx hb dX2_init_482 ?_
  refine r_iconst hx hb dX2_init_483 ?_
  refine a_ist (v := -1) hCK hG hS 65 e_pe v_pe k_pe (by decide) (by decide) dX2_init_484 (fun C116 H locs kk117 oo118 hG hS => ?_)
  have k_pe : C116 65 = .inl (E 0, 2, ai (updZ (updZ (fun _ => 0) 0 (-1)) 1 (-1))) := kk117
  have hOa : ∀ q, (q ≠ 65) → ad108 q = ad106 q := hOa
  have hOc : ∀ q, (q ≠ 65) → C116 q = qC E ad106 64 q := fun q hq => (oo118 q (by omega)).trans (hOc q hq)
  refine q_put (n := 64) (by decide) hCK hnme hV112 hG hS (by decide) q1090 rfl rfl (fun _ => rfl) (fun _ => rfl) k_pe hOc hOa e_pe e_ob dX2_init_485 (fun H locs e_ob hG hS => ?_)
  refine lv_aload_n hx hb dX2_init_488 rfl (lv_at hl 0 rfl) ?_
  refine r_iconst hx hb dX2_init_489 ?_
  refine q_arr (n := 65) 2 rfl (by decide) hCK hnme hA hG hS q129 rfl rfl rfl rfl (by decide) (by rw [hR]; show _ ≤ _; (try unfold amr); (try simp only []); omega) (by rw [hR]; show _ ≤ _; (try unfold amr); (try simp only []); omega) dX2_init_490 (by decide) rfl q1091 rfl rfl (fun _ => rfl) (fun _ => rfl) rfl e_ob dX2_init_492 (fun ad119 H locs e_ob hG hS => ?_)
  have hG := q_skip (n := 66) (by decide) rfl hG
  have hG := q_skip (n := 67) (by decide) rfl hG
  refine lv_aload_n hx hb dX2_init_495 rfl (lv_at hl 0 rfl) ?_
  refine r_sipush hx hb dX2_init_496 (by decide) ?_
  refine a_newaL (N := 161) hCK hG hS hA 69 rfl (by decide) (by decide) (by rw [hR]; show _ ≤ _; (try unfold amr); (try simp only []); omega) (by rw [hR]; show _ ≤ _; (try unfold amr); (try simp only []); omega) dX2_init_499 (fun x120 ad121 C122 H ee125 kk126 oo123 hG hS oh124 => ?_)
  refine q_put (n := 68) (by decide) hCK hnme rfl hG hS (by decide) q1094 rfl rfl (fun _ => rfl) (fun _ => rfl) kk126 (fun q hq => (oo123 q hq).2) (fun q hq => (oo123 q hq).1) ee125 e_ob dX2_init_501 (fun H locs e_ob hG hS => ?_)
  refine lv_aload_n hx hb dX2_init_504 rfl (lv_at hl 0 rfl) ?_
  refine r_sipush hx hb dX2_init_505 (by decide) ?_
  refine q_arr (n := 69) 161 rfl (by decide) hCK hnme hA hG hS q191 rfl rfl rfl rfl (by decide) (by rw [hR]; show _ ≤ _; (try unfold amr); (try simp only []); omega) (by rw [hR]; show _ ≤ _; (try unfold amr); (try simp only []); omega) dX2_init_508 (by decide) rfl q1095 rfl rfl (fun _ => rfl) (fun _ => rfl) rfl e_ob dX2_init_510 (fun ad127 H locs e_ob hG hS => ?_)
  have hG := q_skip (n := 70) (by decide) rfl hG
  refine lv_aload_n hx hb dX2_init_513 rfl (lv_at hl 0 rfl) ?_
  refine r_bipush hx hb dX2_init_514 (by decide) ?_
  refine q_arr (n := 71) 7 rfl (by decide) hCK hnme hA hG hS q129 rfl rfl rfl rfl (by decide) (by rw [hR]; show _ ≤ _; (try unfold amr); (try simp only []); omega) (by rw [hR]; show _ ≤ _; (try unfold amr); (try simp only []); omega) dX2_init_516 (by decide) rfl q1097 rfl rfl (fun _ => rfl) (fun _ => rfl) rfl e_ob dX2_init_518 (fun ad128 H locs e_ob hG hS => ?_)
  refine lv_aload_n hx hb dX2_init_521 rfl (lv_at hl 0 rfl) ?_
  refine r_sipush hx hb dX2_init_522 (by decide) ?_
  refine q_arr (n := 72) 300 rfl (by decide) hCK hnme hA hG hS q129 rfl rfl rfl rfl (by decide) (by rw [hR]; show _ ≤ _; (try unfold amr); (try simp only []); omega) (by rw [hR]; show _ ≤ _; (try unfold amr); (try simp only []); omega) dX2_init_525 (by decide) rfl q1098 rfl rfl (fun _ => rfl) (fun _ => rfl) rfl e_ob dX2_init_527 (fun ad129 H locs e_ob hG hS => ?_)
  have hG := q_skip (n := 73) (by decide) rfl hG
  refine lv_aload_n hx hb dX2_init_530 rfl (lv_at hl 0 rfl) ?_
  refine r_sipush hx hb dX2_init_531 (by decide) ?_
  refine q_arr (n := 74) 481 rfl (by decide) hCK hnme hA hG hS q129 rfl rfl rfl rfl (by decide) (by rw [hR]; show _ ≤ _; (try unfold amr); (try simp only []); omega) (by rw [hR]; show _ ≤ _; (try unfold amr); (try simp only []); omega) dX2_init_534 (by decide) rfl q1100 rfl rfl (fun _ => rfl) (fun _ => rfl) rfl e_ob dX2_init_536 (fun ad130 H locs e_ob hG hS => ?_)
  exact a_vret hCK hQ hr hlk hG hS (by omega) (by omega) dX2_init_539 (⟨e_ob, rfl, rfl⟩)
