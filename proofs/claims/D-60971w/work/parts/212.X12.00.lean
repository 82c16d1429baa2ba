/-! PascalHouseModel, walked (1) -/
set_option maxRecDepth 100000 in
theorem dX12_init_0 : decode cX12_init 0 = .ok (.aload_n 0, 1) := by decide +kernel
set_option maxRecDepth 100000 in
theorem dX12_init_1 : decode cX12_init 1 = .ok (.invokespecial 1, 3) := by decide +kernel
set_option maxRecDepth 100000 in
theorem dX12_init_4 : decode cX12_init 4 = .ok (.aload_n 0, 1) := by decide +kernel
set_option maxRecDepth 100000 in
theorem dX12_init_5 : decode cX12_init 5 = .ok (.sipush 12000, 3) := by decide +kernel
set_option maxRecDepth 100000 in
theorem dX12_init_8 : decode cX12_init 8 = .ok (.newarray .byte, 2) := by decide +kernel
set_option maxRecDepth 100000 in
theorem dX12_init_10 : decode cX12_init 10 = .ok (.putfield 9, 3) := by decide +kernel
set_option maxRecDepth 100000 in
theorem dX12_init_13 : decode cX12_init 13 = .ok (.aload_n 0, 1) := by decide +kernel
set_option maxRecDepth 100000 in
theorem dX12_init_14 : decode cX12_init 14 = .ok (.sipush 12000, 3) := by decide +kernel
set_option maxRecDepth 100000 in
theorem dX12_init_17 : decode cX12_init 17 = .ok (.newarray .byte, 2) := by decide +kernel
set_option maxRecDepth 100000 in
theorem dX12_init_19 : decode cX12_init 19 = .ok (.putfield 13, 3) := by decide +kernel
set_option maxRecDepth 100000 in
theorem dX12_init_22 : decode cX12_init 22 = .ok (.aload_n 0, 1) := by decide +kernel
set_option maxRecDepth 100000 in
theorem dX12_init_23 : decode cX12_init 23 = .ok (.sipush 24000, 3) := by decide +kernel
set_option maxRecDepth 100000 in
theorem dX12_init_26 : decode cX12_init 26 = .ok (.newarray .byte, 2) := by decide +kernel
set_option maxRecDepth 100000 in
theorem dX12_init_28 : decode cX12_init 28 = .ok (.putfield 16, 3) := by decide +kernel
set_option maxRecDepth 100000 in
theorem dX12_init_31 : decode cX12_init 31 = .ok (.aload_n 0, 1) := by decide +kernel
set_option maxRecDepth 100000 in
theorem dX12_init_32 : decode cX12_init 32 = .ok (.bipush 8, 2) := by decide +kernel
set_option maxRecDepth 100000 in
theorem dX12_init_34 : decode cX12_init 34 = .ok (.newarray .int, 2) := by decide +kernel
set_option maxRecDepth 100000 in
theorem dX12_init_36 : decode cX12_init 36 = .ok (.putfield 19, 3) := by decide +kernel
set_option maxRecDepth 100000 in
theorem dX12_init_39 : decode cX12_init 39 = .ok (.aload_n 0, 1) := by decide +kernel
set_option maxRecDepth 100000 in
theorem dX12_init_40 : decode cX12_init 40 = .ok (.sipush 10000, 3) := by decide +kernel
set_option maxRecDepth 100000 in
theorem dX12_init_43 : decode cX12_init 43 = .ok (.newarray .byte, 2) := by decide +kernel
set_option maxRecDepth 100000 in
theorem dX12_init_45 : decode cX12_init 45 = .ok (.putfield 23, 3) := by decide +kernel
set_option maxRecDepth 100000 in
theorem dX12_init_48 : decode cX12_init 48 = .ok (.aload_n 0, 1) := by decide +kernel
set_option maxRecDepth 100000 in
theorem dX12_init_49 : decode cX12_init 49 = .ok (.sipush 10002, 3) := by decide +kernel
set_option maxRecDepth 100000 in
theorem dX12_init_52 : decode cX12_init 52 = .ok (.newarray .int, 2) := by decide +kernel
set_option maxRecDepth 100000 in
theorem dX12_init_54 : decode cX12_init 54 = .ok (.putfield 26, 3) := by decide +kernel
set_option maxRecDepth 100000 in
theorem dX12_init_57 : decode cX12_init 57 = .ok (.aload_n 0, 1) := by decide +kernel
set_option maxRecDepth 100000 in
theorem dX12_init_58 : decode cX12_init 58 = .ok (.sipush 10002, 3) := by decide +kernel
set_option maxRecDepth 100000 in
theorem dX12_init_61 : decode cX12_init 61 = .ok (.newarray .int, 2) := by decide +kernel
set_option maxRecDepth 100000 in
theorem dX12_init_63 : decode cX12_init 63 = .ok (.putfield 29, 3) := by decide +kernel
set_option maxRecDepth 100000 in
theorem dX12_init_66 : decode cX12_init 66 = .ok (.aload_n 0, 1) := by decide +kernel
set_option maxRecDepth 100000 in
theorem dX12_init_67 : decode cX12_init 67 = .ok (.sipush 10002, 3) := by decide +kernel
set_option maxRecDepth 100000 in
theorem dX12_init_70 : decode cX12_init 70 = .ok (.newarray .int, 2) := by decide +kernel
set_option maxRecDepth 100000 in
theorem dX12_init_72 : decode cX12_init 72 = .ok (.putfield 32, 3) := by decide +kernel
set_option maxRecDepth 100000 in
theorem dX12_init_75 : decode cX12_init 75 = .ok (.aload_n 0, 1) := by decide +kernel
set_option maxRecDepth 100000 in
theorem dX12_init_76 : decode cX12_init 76 = .ok (.sipush 10002, 3) := by decide +kernel
set_option maxRecDepth 100000 in
theorem dX12_init_79 : decode cX12_init 79 = .ok (.newarray .int, 2) := by decide +kernel
set_option maxRecDepth 100000 in
theorem dX12_init_81 : decode cX12_init 81 = .ok (.putfield 35, 3) := by decide +kernel
set_option maxRecDepth 100000 in
theorem dX12_init_84 : decode cX12_init 84 = .ok (.aload_n 0, 1) := by decide +kernel
set_option maxRecDepth 100000 in
theorem dX12_init_85 : decode cX12_init 85 = .ok (.sipush 10002, 3) := by decide +kernel
set_option maxRecDepth 100000 in
theorem dX12_init_88 : decode cX12_init 88 = .ok (.newarray .double, 2) := by decide +kernel
set_option maxRecDepth 100000 in
theorem dX12_init_90 : decode cX12_init 90 = .ok (.putfield 38, 3) := by decide +kernel
set_option maxRecDepth 100000 in
theorem dX12_init_93 : decode cX12_init 93 = .ok (.aload_n 0, 1) := by decide +kernel
set_option maxRecDepth 100000 in
theorem dX12_init_94 : decode cX12_init 94 = .ok (.sipush 10002, 3) := by decide +kernel
set_option maxRecDepth 100000 in
theorem dX12_init_97 : decode cX12_init 97 = .ok (.newarray .byte, 2) := by decide +kernel
set_option maxRecDepth 100000 in
theorem dX12_init_99 : decode cX12_init 99 = .ok (.putfield 42, 3) := by decide +kernel
set_option maxRecDepth 100000 in
theorem dX12_init_102 : decode cX12_init 102 = .ok (.aload_n 0, 1) := by decide +kernel
set_option maxRecDepth 100000 in
theorem dX12_init_103 : decode cX12_init 103 = .ok (.sipush 10400, 3) := by decide +kernel
set_option maxRecDepth 100000 in
theorem dX12_init_106 : decode cX12_init 106 = .ok (.newarray .byte, 2) := by decide +kernel
set_option maxRecDepth 100000 in
theorem dX12_init_108 : decode cX12_init 108 = .ok (.putfield 45, 3) := by decide +kernel
set_option maxRecDepth 100000 in
theorem dX12_init_111 : decode cX12_init 111 = .ok (.aload_n 0, 1) := by decide +kernel
set_option maxRecDepth 100000 in
theorem dX12_init_112 : decode cX12_init 112 = .ok (.sipush 10000, 3) := by decide +kernel
set_option maxRecDepth 100000 in
theorem dX12_init_115 : decode cX12_init 115 = .ok (.newarray .int, 2) := by decide +kernel
set_option maxRecDepth 100000 in
theorem dX12_init_117 : decode cX12_init 117 = .ok (.putfield 48, 3) := by decide +kernel
set_option maxRecDepth 100000 in
theorem dX12_init_120 : decode cX12_init 120 = .ok (.aload_n 0, 1) := by decide +kernel
set_option maxRecDepth 100000 in
theorem dX12_init_121 : decode cX12_init 121 = .ok (.sipush 10000, 3) := by decide +kernel
set_option maxRecDepth 100000 in
theorem dX12_init_124 : decode cX12_init 124 = .ok (.newarray .int, 2) := by decide +kernel
set_option maxRecDepth 100000 in
theorem dX12_init_126 : decode cX12_init 126 = .ok (.putfield 51, 3) := by decide +kernel
set_option maxRecDepth 100000 in
theorem dX12_init_129 : decode cX12_init 129 = .ok (.aload_n 0, 1) := by decide +kernel
set_option maxRecDepth 100000 in
theorem dX12_init_130 : decode cX12_init 130 = .ok (.sipush 10000, 3) := by decide +kernel
set_option maxRecDepth 100000 in
theorem dX12_init_133 : decode cX12_init 133 = .ok (.newarray .int, 2) := by decide +kernel
set_option maxRecDepth 100000 in
theorem dX12_init_135 : decode cX12_init 135 = .ok (.putfield 54, 3) := by decide +kernel
set_option maxRecDepth 100000 in
theorem dX12_init_138 : decode cX12_init 138 = .ok (.aload_n 0, 1) := by decide +kernel
set_option maxRecDepth 100000 in
theorem dX12_init_139 : decode cX12_init 139 = .ok (.sipush 1024, 3) := by decide +kernel
set_option maxRecDepth 100000 in
theorem dX12_init_142 : decode cX12_init 142 = .ok (.newarray .int, 2) := by decide +kernel
set_option maxRecDepth 100000 in
theorem dX12_init_144 : decode cX12_init 144 = .ok (.putfield 57, 3) := by decide +kernel
set_option maxRecDepth 100000 in
theorem dX12_init_147 : decode cX12_init 147 = .ok (.aload_n 0, 1) := by decide +kernel
set_option maxRecDepth 100000 in
theorem dX12_init_148 : decode cX12_init 148 = .ok (.bipush 32, 2) := by decide +kernel
set_option maxRecDepth 100000 in
theorem dX12_init_150 : decode cX12_init 150 = .ok (.newarray .byte, 2) := by decide +kernel
set_option maxRecDepth 100000 in
theorem dX12_init_152 : decode cX12_init 152 = .ok (.putfield 60, 3) := by decide +kernel
set_option maxRecDepth 100000 in
theorem dX12_init_155 : decode cX12_init 155 = .ok (.aload_n 0, 1) := by decide +kernel
set_option maxRecDepth 100000 in
theorem dX12_init_156 : decode cX12_init 156 = .ok (.iconst (-1), 1) := by decide +kernel
set_option maxRecDepth 100000 in
theorem dX12_init_157 : decode cX12_init 157 = .ok (.putfield 63, 3) := by decide +kernel
set_option maxRecDepth 100000 in
theorem dX12_init_160 : decode cX12_init 160 = .ok (.aload_n 0, 1) := by decide +kernel
set_option maxRecDepth 100000 in
theorem dX12_init_161 : decode cX12_init 161 = .ok (.sipush 28000, 3) := by decide +kernel
set_option maxRecDepth 100000 in
theorem dX12_init_164 : decode cX12_init 164 = .ok (.newarray .int, 2) := by decide +kernel
set_option maxRecDepth 100000 in
theorem dX12_init_166 : decode cX12_init 166 = .ok (.putfield 67, 3) := by decide +kernel
set_option maxRecDepth 100000 in
theorem dX12_init_169 : decode cX12_init 169 = .ok (.aload_n 0, 1) := by decide +kernel
set_option maxRecDepth 100000 in
theorem dX12_init_170 : decode cX12_init 170 = .ok (.sipush 28000, 3) := by decide +kernel
set_option maxRecDepth 100000 in
theorem dX12_init_173 : decode cX12_init 173 = .ok (.newarray .int, 2) := by decide +kernel
set_option maxRecDepth 100000 in
theorem dX12_init_175 : decode cX12_init 175 = .ok (.putfield 70, 3) := by decide +kernel
set_option maxRecDepth 100000 in
theorem dX12_init_178 : decode cX12_init 178 = .ok (.aload_n 0, 1) := by decide +kernel
set_option maxRecDepth 100000 in
theorem dX12_init_179 : decode cX12_init 179 = .ok (.sipush 28000, 3) := by decide +kernel
set_option maxRecDepth 100000 in
theorem dX12_init_182 : decode cX12_init 182 = .ok (.newarray .int, 2) := by decide +kernel
set_option maxRecDepth 100000 in
theorem dX12_init_184 : decode cX12_init 184 = .ok (.putfield 73, 3) := by decide +kernel
set_option maxRecDepth 100000 in
theorem dX12_init_187 : decode cX12_init 187 = .ok (.aload_n 0, 1) := by decide +kernel
set_option maxRecDepth 100000 in
theorem dX12_init_188 : decode cX12_init 188 = .ok (.sipush 28000, 3) := by decide +kernel
set_option maxRecDepth 100000 in
theorem dX12_init_191 : decode cX12_init 191 = .ok (.newarray .int, 2) := by decide +kernel
set_option maxRecDepth 100000 in
theorem dX12_init_193 : decode cX12_init 193 = .ok (.putfield 76, 3) := by decide +kernel
set_option maxRecDepth 100000 in
theorem dX12_init_196 : decode cX12_init 196 = .ok (.aload_n 0, 1) := by decide +kernel
set_option maxRecDepth 100000 in
theorem dX12_init_197 : decode cX12_init 197 = .ok (.sipush 28000, 3) := by decide +kernel
set_option maxRecDepth 100000 in
theorem dX12_init_200 : decode cX12_init 200 = .ok (.newarray .int, 2) := by decide +kernel
set_option maxRecDepth 100000 in
theorem dX12_init_202 : decode cX12_init 202 = .ok (.putfield 79, 3) := by decide +kernel
set_option maxRecDepth 100000 in
theorem dX12_init_205 : decode cX12_init 205 = .ok (.aload_n 0, 1) := by decide +kernel
set_option maxRecDepth 100000 in
theorem dX12_init_206 : decode cX12_init 206 = .ok (.sipush 28000, 3) := by decide +kernel
set_option maxRecDepth 100000 in
theorem dX12_init_209 : decode cX12_init 209 = .ok (.newarray .int, 2) := by decide +kernel
set_option maxRecDepth 100000 in
theorem dX12_init_211 : decode cX12_init 211 = .ok (.putfield 82, 3) := by decide +kernel
set_option maxRecDepth 100000 in
theorem dX12_init_214 : decode cX12_init 214 = .ok (.aload_n 0, 1) := by decide +kernel
set_option maxRecDepth 100000 in
theorem dX12_init_215 : decode cX12_init 215 = .ok (.sipush 28000, 3) := by decide +kernel
set_option maxRecDepth 100000 in
theorem dX12_init_218 : decode cX12_init 218 = .ok (.newarray .int, 2) := by decide +kernel
set_option maxRecDepth 100000 in
theorem dX12_init_220 : decode cX12_init 220 = .ok (.putfield 85, 3) := by decide +kernel
set_option maxRecDepth 100000 in
theorem dX12_init_223 : decode cX12_init 223 = .ok (.aload_n 0, 1) := by decide +kernel
set_option maxRecDepth 100000 in
theorem dX12_init_224 : decode cX12_init 224 = .ok (.sipush 28000, 3) := by decide +kernel
set_option maxRecDepth 100000 in
theorem dX12_init_227 : decode cX12_init 227 = .ok (.newarray .int, 2) := by decide +kernel
set_option maxRecDepth 100000 in
theorem dX12_init_229 : decode cX12_init 229 = .ok (.putfield 88, 3) := by decide +kernel
set_option maxRecDepth 100000 in
theorem dX12_init_232 : decode cX12_init 232 = .ok (.aload_n 0, 1) := by decide +kernel
set_option maxRecDepth 100000 in
theorem dX12_init_233 : decode cX12_init 233 = .ok (.sipush 28000, 3) := by decide +kernel
set_option maxRecDepth 100000 in
theorem dX12_init_236 : decode cX12_init 236 = .ok (.newarray .int, 2) := by decide +kernel
set_option maxRecDepth 100000 in
theorem dX12_init_238 : decode cX12_init 238 = .ok (.putfield 91, 3) := by decide +kernel
set_option maxRecDepth 100000 in
theorem dX12_init_241 : decode cX12_init 241 = .ok (.aload_n 0, 1) := by decide +kernel
set_option maxRecDepth 100000 in
theorem dX12_init_242 : decode cX12_init 242 = .ok (.sipush 28000, 3) := by decide +kernel
set_option maxRecDepth 100000 in
theorem dX12_init_245 : decode cX12_init 245 = .ok (.anewarray 94, 3) := by decide +kernel
set_option maxRecDepth 100000 in
theorem dX12_init_248 : decode cX12_init 248 = .ok (.putfield 96, 3) := by decide +kernel
set_option maxRecDepth 100000 in
theorem dX12_init_251 : decode cX12_init 251 = .ok (.aload_n 0, 1) := by decide +kernel
set_option maxRecDepth 100000 in
theorem dX12_init_252 : decode cX12_init 252 = .ok (.sipush 28000, 3) := by decide +kernel
set_option maxRecDepth 100000 in
theorem dX12_init_255 : decode cX12_init 255 = .ok (.anewarray 100, 3) := by decide +kernel
set_option maxRecDepth 100000 in
theorem dX12_init_258 : decode cX12_init 258 = .ok (.putfield 102, 3) := by decide +kernel
set_option maxRecDepth 100000 in
theorem dX12_init_261 : decode cX12_init 261 = .ok (.aload_n 0, 1) := by decide +kernel
set_option maxRecDepth 100000 in
theorem dX12_init_262 : decode cX12_init 262 = .ok (.new 94, 3) := by decide +kernel
set_option maxRecDepth 100000 in
theorem dX12_init_265 : decode cX12_init 265 = .ok (.dup, 1) := by decide +kernel
set_option maxRecDepth 100000 in
theorem dX12_init_266 : decode cX12_init 266 = .ok (.iconst 1, 1) := by decide +kernel
set_option maxRecDepth 100000 in
theorem dX12_init_267 : decode cX12_init 267 = .ok (.invokespecial 106, 3) := by decide +kernel
set_option maxRecDepth 100000 in
theorem dX12_init_270 : decode cX12_init 270 = .ok (.putfield 109, 3) := by decide +kernel
set_option maxRecDepth 100000 in
theorem dX12_init_273 : decode cX12_init 273 = .ok (.aload_n 0, 1) := by decide +kernel
set_option maxRecDepth 100000 in
theorem dX12_init_274 : decode cX12_init 274 = .ok (.new 94, 3) := by decide +kernel
set_option maxRecDepth 100000 in
theorem dX12_init_277 : decode cX12_init 277 = .ok (.dup, 1) := by decide +kernel
set_option maxRecDepth 100000 in
theorem dX12_init_278 : decode cX12_init 278 = .ok (.iconst 2, 1) := by decide +kernel
set_option maxRecDepth 100000 in
theorem dX12_init_279 : decode cX12_init 279 = .ok (.invokespecial 106, 3) := by decide +kernel
set_option maxRecDepth 100000 in
theorem dX12_init_282 : decode cX12_init 282 = .ok (.putfield 113, 3) := by decide +kernel
set_option maxRecDepth 100000 in
theorem dX12_init_285 : decode cX12_init 285 = .ok (.aload_n 0, 1) := by decide +kernel
set_option maxRecDepth 100000 in
theorem dX12_init_286 : decode cX12_init 286 = .ok (.new 94, 3) := by decide +kernel
set_option maxRecDepth 100000 in
theorem dX12_init_289 : decode cX12_init 289 = .ok (.dup, 1) := by decide +kernel
set_option maxRecDepth 100000 in
theorem dX12_init_290 : decode cX12_init 290 = .ok (.iconst 3, 1) := by decide +kernel
set_option maxRecDepth 100000 in
theorem dX12_init_291 : decode cX12_init 291 = .ok (.invokespecial 106, 3) := by decide +kernel
set_option maxRecDepth 100000 in
theorem dX12_init_294 : decode cX12_init 294 = .ok (.putfield 116, 3) := by decide +kernel
set_option maxRecDepth 100000 in
theorem dX12_init_297 : decode cX12_init 297 = .ok (.aload_n 0, 1) := by decide +kernel
set_option maxRecDepth 100000 in
theorem dX12_init_298 : decode cX12_init 298 = .ok (.new 94, 3) := by decide +kernel
set_option maxRecDepth 100000 in
theorem dX12_init_301 : decode cX12_init 301 = .ok (.dup, 1) := by decide +kernel
set_option maxRecDepth 100000 in
theorem dX12_init_302 : decode cX12_init 302 = .ok (.iconst 4, 1) := by decide +kernel
set_option maxRecDepth 100000 in
theorem dX12_init_303 : decode cX12_init 303 = .ok (.invokespecial 106, 3) := by decide +kernel
set_option maxRecDepth 100000 in
theorem dX12_init_306 : decode cX12_init 306 = .ok (.putfield 119, 3) := by decide +kernel
set_option maxRecDepth 100000 in
theorem dX12_init_309 : decode cX12_init 309 = .ok (.aload_n 0, 1) := by decide +kernel
set_option maxRecDepth 100000 in
theorem dX12_init_310 : decode cX12_init 310 = .ok (.new 94, 3) := by decide +kernel
set_option maxRecDepth 100000 in
theorem dX12_init_313 : decode cX12_init 313 = .ok (.dup, 1) := by decide +kernel
set_option maxRecDepth 100000 in
theorem dX12_init_314 : decode cX12_init 314 = .ok (.bipush 10, 2) := by decide +kernel
set_option maxRecDepth 100000 in
theorem dX12_init_316 : decode cX12_init 316 = .ok (.invokespecial 106, 3) := by decide +kernel
set_option maxRecDepth 100000 in
theorem dX12_init_319 : decode cX12_init 319 = .ok (.putfield 122, 3) := by decide +kernel
set_option maxRecDepth 100000 in
theorem dX12_init_322 : decode cX12_init 322 = .ok (.aload_n 0, 1) := by decide +kernel
set_option maxRecDepth 100000 in
theorem dX12_init_323 : decode cX12_init 323 = .ok (.new 94, 3) := by decide +kernel
set_option maxRecDepth 100000 in
theorem dX12_init_326 : decode cX12_init 326 = .ok (.dup, 1) := by decide +kernel
set_option maxRecDepth 100000 in
theorem dX12_init_327 : decode cX12_init 327 = .ok (.bipush 12, 2) := by decide +kernel
set_option maxRecDepth 100000 in
theorem dX12_init_329 : decode cX12_init 329 = .ok (.invokespecial 106, 3) := by decide +kernel
set_option maxRecDepth 100000 in
theorem dX12_init_332 : decode cX12_init 332 = .ok (.putfield 125, 3) := by decide +kernel
set_option maxRecDepth 100000 in
theorem dX12_init_335 : decode cX12_init 335 = .ok (.aload_n 0, 1) := by decide +kernel
set_option maxRecDepth 100000 in
theorem dX12_init_336 : decode cX12_init 336 = .ok (.new 94, 3) := by decide +kernel
set_option maxRecDepth 100000 in
theorem dX12_init_339 : decode cX12_init 339 = .ok (.dup, 1) := by decide +kernel
set_option maxRecDepth 100000 in
theorem dX12_init_340 : decode cX12_init 340 = .ok (.bipush 9, 2) := by decide +kernel
set_option maxRecDepth 100000 in
theorem dX12_init_342 : decode cX12_init 342 = .ok (.invokespecial 106, 3) := by decide +kernel
set_option maxRecDepth 100000 in
theorem dX12_init_345 : decode cX12_init 345 = .ok (.putfield 128, 3) := by decide +kernel
set_option maxRecDepth 100000 in
theorem dX12_init_348 : decode cX12_init 348 = .ok (.aload_n 0, 1) := by decide +kernel
set_option maxRecDepth 100000 in
theorem dX12_init_349 : decode cX12_init 349 = .ok (.new 131, 3) := by decide +kernel
set_option maxRecDepth 100000 in
theorem dX12_init_352 : decode cX12_init 352 = .ok (.dup, 1) := by decide +kernel
set_option maxRecDepth 100000 in
theorem dX12_init_353 : decode cX12_init 353 = .ok (.invokespecial 133, 3) := by decide +kernel
set_option maxRecDepth 100000 in
theorem dX12_init_356 : decode cX12_init 356 = .ok (.putfield 134, 3) := by decide +kernel
set_option maxRecDepth 100000 in
theorem dX12_init_359 : decode cX12_init 359 = .ok (.aload_n 0, 1) := by decide +kernel
set_option maxRecDepth 100000 in
theorem dX12_init_360 : decode cX12_init 360 = .ok (.sipush 200, 3) := by decide +kernel
set_option maxRecDepth 100000 in
theorem dX12_init_363 : decode cX12_init 363 = .ok (.newarray .int, 2) := by decide +kernel
set_option maxRecDepth 100000 in
theorem dX12_init_365 : decode cX12_init 365 = .ok (.putfield 138, 3) := by decide +kernel
set_option maxRecDepth 100000 in
theorem dX12_init_368 : decode cX12_init 368 = .ok (.aload_n 0, 1) := by decide +kernel
set_option maxRecDepth 100000 in
theorem dX12_init_369 : decode cX12_init 369 = .ok (.new 131, 3) := by decide +kernel
set_option maxRecDepth 100000 in
theorem dX12_init_372 : decode cX12_init 372 = .ok (.dup, 1) := by decide +kernel
set_option maxRecDepth 100000 in
theorem dX12_init_373 : decode cX12_init 373 = .ok (.invokespecial 133, 3) := by decide +kernel
set_option maxRecDepth 100000 in
theorem dX12_init_376 : decode cX12_init 376 = .ok (.putfield 141, 3) := by decide +kernel
set_option maxRecDepth 100000 in
theorem dX12_init_379 : decode cX12_init 379 = .ok (.aload_n 0, 1) := by decide +kernel
set_option maxRecDepth 100000 in
theorem dX12_init_380 : decode cX12_init 380 = .ok (.new 131, 3) := by decide +kernel
set_option maxRecDepth 100000 in
theorem dX12_init_383 : decode cX12_init 383 = .ok (.dup, 1) := by decide +kernel
set_option maxRecDepth 100000 in
theorem dX12_init_384 : decode cX12_init 384 = .ok (.invokespecial 133, 3) := by decide +kernel
set_option maxRecDepth 100000 in
theorem dX12_init_387 : decode cX12_init 387 = .ok (.putfield 144, 3) := by decide +kernel
set_option maxRecDepth 100000 in
theorem dX12_init_390 : decode cX12_init 390 = .ok (.aload_n 0, 1) := by decide +kernel
set_option maxRecDepth 100000 in
theorem dX12_init_391 : decode cX12_init 391 = .ok (.new 131, 3) := by decide +kernel
set_option maxRecDepth 100000 in
theorem dX12_init_394 : decode cX12_init 394 = .ok (.dup, 1) := by decide +kernel
set_option maxRecDepth 100000 in
theorem dX12_init_395 : decode cX12_init 395 = .ok (.invokespecial 133, 3) := by decide +kernel
set_option maxRecDepth 100000 in
theorem dX12_init_398 : decode cX12_init 398 = .ok (.putfield 147, 3) := by decide +kernel
set_option maxRecDepth 100000 in
theorem dX12_init_401 : decode cX12_init 401 = .ok (.aload_n 0, 1) := by decide +kernel
set_option maxRecDepth 100000 in
theorem dX12_init_402 : decode cX12_init 402 = .ok (.new 131, 3) := by decide +kernel
set_option maxRecDepth 100000 in
theorem dX12_init_405 : decode cX12_init 405 = .ok (.dup, 1) := by decide +kernel
set_option maxRecDepth 100000 in
theorem dX12_init_406 : decode cX12_init 406 = .ok (.invokespecial 133, 3) := by decide +kernel
set_option maxRecDepth 100000 in
theorem dX12_init_409 : decode cX12_init 409 = .ok (.putfield 150, 3) := by decide +kernel
set_option maxRecDepth 100000 in
theorem dX12_init_412 : decode cX12_init 412 = .ok (.aload_n 0, 1) := by decide +kernel
set_option maxRecDepth 100000 in
theorem dX12_init_413 : decode cX12_init 413 = .ok (.sipush 28000, 3) := by decide +kernel
set_option maxRecDepth 100000 in
theorem dX12_init_416 : decode cX12_init 416 = .ok (.newarray .int, 2) := by decide +kernel
set_option maxRecDepth 100000 in
theorem dX12_init_418 : decode cX12_init 418 = .ok (.putfield 153, 3) := by decide +kernel
set_option maxRecDepth 100000 in
theorem dX12_init_421 : decode cX12_init 421 = .ok (.aload_n 0, 1) := by decide +kernel
set_option maxRecDepth 100000 in
theorem dX12_init_422 : decode cX12_init 422 = .ok (.new 131, 3) := by decide +kernel
set_option maxRecDepth 100000 in
theorem dX12_init_425 : decode cX12_init 425 = .ok (.dup, 1) := by decide +kernel
set_option maxRecDepth 100000 in
theorem dX12_init_426 : decode cX12_init 426 = .ok (.invokespecial 133, 3) := by decide +kernel
set_option maxRecDepth 100000 in
theorem dX12_init_429 : decode cX12_init 429 = .ok (.putfield 156, 3) := by decide +kernel
set_option maxRecDepth 100000 in
theorem dX12_init_432 : decode cX12_init 432 = .ok (.aload_n 0, 1) := by decide +kernel
set_option maxRecDepth 100000 in
theorem dX12_init_433 : decode cX12_init 433 = .ok (.sipush 30000, 3) := by decide +kernel
set_option maxRecDepth 100000 in
theorem dX12_init_436 : decode cX12_init 436 = .ok (.newarray .long, 2) := by decide +kernel
set_option maxRecDepth 100000 in
theorem dX12_init_438 : decode cX12_init 438 = .ok (.putfield 159, 3) := by decide +kernel
set_option maxRecDepth 100000 in
theorem dX12_init_441 : decode cX12_init 441 = .ok (.aload_n 0, 1) := by decide +kernel
set_option maxRecDepth 100000 in
theorem dX12_init_442 : decode cX12_init 442 = .ok (.sipush 30000, 3) := by decide +kernel
set_option maxRecDepth 100000 in
theorem dX12_init_445 : decode cX12_init 445 = .ok (.newarray .long, 2) := by decide +kernel
set_option maxRecDepth 100000 in
theorem dX12_init_447 : decode cX12_init 447 = .ok (.putfield 163, 3) := by decide +kernel
set_option maxRecDepth 100000 in
theorem dX12_init_450 : decode cX12_init 450 = .ok (.aload_n 0, 1) := by decide +kernel
set_option maxRecDepth 100000 in
theorem dX12_init_451 : decode cX12_init 451 = .ok (.sipush 30000, 3) := by decide +kernel
set_option maxRecDepth 100000 in
theorem dX12_init_454 : decode cX12_init 454 = .ok (.newarray .double, 2) := by decide +kernel
set_option maxRecDepth 100000 in
theorem dX12_init_456 : decode cX12_init 456 = .ok (.putfield 166, 3) := by decide +kernel
set_option maxRecDepth 100000 in
theorem dX12_init_459 : decode cX12_init 459 = .ok (.aload_n 0, 1) := by decide +kernel
set_option maxRecDepth 100000 in
theorem dX12_init_460 : decode cX12_init 460 = .ok (.sipush 30000, 3) := by decide +kernel
set_option maxRecDepth 100000 in
theorem dX12_init_463 : decode cX12_init 463 = .ok (.newarray .boolean, 2) := by decide +kernel
set_option maxRecDepth 100000 in
theorem dX12_init_465 : decode cX12_init 465 = .ok (.putfield 169, 3) := by decide +kernel
set_option maxRecDepth 100000 in
theorem dX12_init_468 : decode cX12_init 468 = .ok (.aload_n 0, 1) := by decide +kernel
set_option maxRecDepth 100000 in
theorem dX12_init_469 : decode cX12_init 469 = .ok (.sipush 10001, 3) := by decide +kernel
set_option maxRecDepth 100000 in
theorem dX12_init_472 : decode cX12_init 472 = .ok (.newarray .int, 2) := by decide +kernel
set_option maxRecDepth 100000 in
theorem dX12_init_474 : decode cX12_init 474 = .ok (.putfield 173, 3) := by decide +kernel
set_option maxRecDepth 100000 in
theorem dX12_init_477 : decode cX12_init 477 = .ok (.aload_n 0, 1) := by decide +kernel
set_option maxRecDepth 100000 in
theorem dX12_init_478 : decode cX12_init 478 = .ok (.sipush 10001, 3) := by decide +kernel
set_option maxRecDepth 100000 in
theorem dX12_init_481 : decode cX12_init 481 = .ok (.newarray .boolean, 2) := by decide +kernel
set_option maxRecDepth 100000 in
theorem dX12_init_483 : decode cX12_init 483 = .ok (.putfield 176, 3) := by decide +kernel
set_option maxRecDepth 100000 in
theorem dX12_init_486 : decode cX12_init 486 = .ok (.aload_n 0, 1) := by decide +kernel
set_option maxRecDepth 100000 in
theorem dX12_init_487 : decode cX12_init 487 = .ok (.bipush 32, 2) := by decide +kernel
set_option maxRecDepth 100000 in
theorem dX12_init_489 : decode cX12_init 489 = .ok (.newarray .int, 2) := by decide +kernel
set_option maxRecDepth 100000 in
theorem dX12_init_491 : decode cX12_init 491 = .ok (.putfield 179, 3) := by decide +kernel
set_option maxRecDepth 100000 in
theorem dX12_init_494 : decode cX12_init 494 = .ok (.aload_n 0, 1) := by decide +kernel
set_option maxRecDepth 100000 in
theorem dX12_init_495 : decode cX12_init 495 = .ok (.bipush 32, 2) := by decide +kernel
set_option maxRecDepth 100000 in
theorem dX12_init_497 : decode cX12_init 497 = .ok (.newarray .int, 2) := by decide +kernel
set_option maxRecDepth 100000 in
theorem dX12_init_499 : decode cX12_init 499 = .ok (.putfield 182, 3) := by decide +kernel
set_option maxRecDepth 100000 in
theorem dX12_init_502 : decode cX12_init 502 = .ok (.aload_n 0, 1) := by decide +kernel
set_option maxRecDepth 100000 in
theorem dX12_init_503 : decode cX12_init 503 = .ok (.bipush 32, 2) := by decide +kernel
set_option maxRecDepth 100000 in
theorem dX12_init_505 : decode cX12_init 505 = .ok (.newarray .int, 2) := by decide +kernel
set_option maxRecDepth 100000 in
theorem dX12_init_507 : decode cX12_init 507 = .ok (.putfield 185, 3) := by decide +kernel
set_option maxRecDepth 100000 in
theorem dX12_init_510 : decode cX12_init 510 = .ok (.aload_n 0, 1) := by decide +kernel
set_option maxRecDepth 100000 in
theorem dX12_init_511 : decode cX12_init 511 = .ok (.bipush 32, 2) := by decide +kernel
set_option maxRecDepth 100000 in
theorem dX12_init_513 : decode cX12_init 513 = .ok (.newarray .int, 2) := by decide +kernel
set_option maxRecDepth 100000 in
theorem dX12_init_515 : decode cX12_init 515 = .ok (.putfield 188, 3) := by decide +kernel
set_option maxRecDepth 100000 in
theorem dX12_init_518 : decode cX12_init 518 = .ok (.aload_n 0, 1) := by decide +kernel
set_option maxRecDepth 100000 in
theorem dX12_init_519 : decode cX12_init 519 = .ok (.sipush 1312, 3) := by decide +kernel
set_option maxRecDepth 100000 in
theorem dX12_init_522 : decode cX12_init 522 = .ok (.newarray .int, 2) := by decide +kernel
set_option maxRecDepth 100000 in
theorem dX12_init_524 : decode cX12_init 524 = .ok (.putfield 191, 3) := by decide +kernel
set_option maxRecDepth 100000 in
theorem dX12_init_527 : decode cX12_init 527 = .ok (.aload_n 0, 1) := by decide +kernel
set_option maxRecDepth 100000 in
theorem dX12_init_528 : decode cX12_init 528 = .ok (.ldc 194, 2) := by decide +kernel
set_option maxRecDepth 100000 in
theorem dX12_init_530 : decode cX12_init 530 = .ok (.newarray .long, 2) := by decide +kernel
set_option maxRecDepth 100000 in
theorem dX12_init_532 : decode cX12_init 532 = .ok (.putfield 195, 3) := by decide +kernel
set_option maxRecDepth 100000 in
theorem dX12_init_535 : decode cX12_init 535 = .ok (.aload_n 0, 1) := by decide +kernel
set_option maxRecDepth 100000 in
theorem dX12_init_536 : decode cX12_init 536 = .ok (.ldc 194, 2) := by decide +kernel
set_option maxRecDepth 100000 in
theorem dX12_init_538 : decode cX12_init 538 = .ok (.newarray .long, 2) := by decide +kernel
set_option maxRecDepth 100000 in
theorem dX12_init_540 : decode cX12_init 540 = .ok (.putfield 198, 3) := by decide +kernel
set_option maxRecDepth 100000 in
theorem dX12_init_543 : decode cX12_init 543 = .ok (.aload_n 0, 1) := by decide +kernel
set_option maxRecDepth 100000 in
theorem dX12_init_544 : decode cX12_init 544 = .ok (.ldc 194, 2) := by decide +kernel
set_option maxRecDepth 100000 in
theorem dX12_init_546 : decode cX12_init 546 = .ok (.newarray .double, 2) := by decide +kernel
set_option maxRecDepth 100000 in
theorem dX12_init_548 : decode cX12_init 548 = .ok (.putfield 201, 3) := by decide +kernel
set_option maxRecDepth 100000 in
theorem dX12_init_551 : decode cX12_init 551 = .ok (.aload_n 0, 1) := by decide +kernel
set_option maxRecDepth 100000 in
theorem dX12_init_552 : decode cX12_init 552 = .ok (.sipush 20001, 3) := by decide +kernel
set_option maxRecDepth 100000 in
theorem dX12_init_555 : decode cX12_init 555 = .ok (.newarray .int, 2) := by decide +kernel
set_option maxRecDepth 100000 in
theorem dX12_init_557 : decode cX12_init 557 = .ok (.putfield 204, 3) := by decide +kernel
set_option maxRecDepth 100000 in
theorem dX12_init_560 : decode cX12_init 560 = .ok (.aload_n 0, 1) := by decide +kernel
set_option maxRecDepth 100000 in
theorem dX12_init_561 : decode cX12_init 561 = .ok (.sipush 20001, 3) := by decide +kernel
set_option maxRecDepth 100000 in
theorem dX12_init_564 : decode cX12_init 564 = .ok (.newarray .int, 2) := by decide +kernel
set_option maxRecDepth 100000 in
theorem dX12_init_566 : decode cX12_init 566 = .ok (.putfield 207, 3) := by decide +kernel
set_option maxRecDepth 100000 in
theorem dX12_init_569 : decode cX12_init 569 = .ok (.aload_n 0, 1) := by decide +kernel
set_option maxRecDepth 100000 in
theorem dX12_init_570 : decode cX12_init 570 = .ok (.sipush 20001, 3) := by decide +kernel
set_option maxRecDepth 100000 in
theorem dX12_init_573 : decode cX12_init 573 = .ok (.newarray .int, 2) := by decide +kernel
set_option maxRecDepth 100000 in
theorem dX12_init_575 : decode cX12_init 575 = .ok (.putfield 210, 3) := by decide +kernel
set_option maxRecDepth 100000 in
theorem dX12_init_578 : decode cX12_init 578 = .ok (.aload_n 0, 1) := by decide +kernel
set_option maxRecDepth 100000 in
theorem dX12_init_579 : decode cX12_init 579 = .ok (.sipush 20001, 3) := by decide +kernel
set_option maxRecDepth 100000 in
theorem dX12_init_582 : decode cX12_init 582 = .ok (.newarray .int, 2) := by decide +kernel
set_option maxRecDepth 100000 in
theorem dX12_init_584 : decode cX12_init 584 = .ok (.putfield 213, 3) := by decide +kernel
set_option maxRecDepth 100000 in
theorem dX12_init_587 : decode cX12_init 587 = .ok (.aload_n 0, 1) := by decide +kernel
set_option maxRecDepth 100000 in
theorem dX12_init_588 : decode cX12_init 588 = .ok (.sipush 20001, 3) := by decide +kernel
set_option maxRecDepth 100000 in
theorem dX12_init_591 : decode cX12_init 591 = .ok (.newarray .int, 2) := by decide +kernel
set_option maxRecDepth 100000 in
theorem dX12_init_593 : decode cX12_init 593 = .ok (.putfield 216, 3) := by decide +kernel
set_option maxRecDepth 100000 in
theorem dX12_init_596 : decode cX12_init 596 = .ok (.aload_n 0, 1) := by decide +kernel
set_option maxRecDepth 100000 in
theorem dX12_init_597 : decode cX12_init 597 = .ok (.sipush 20001, 3) := by decide +kernel
set_option maxRecDepth 100000 in
theorem dX12_init_600 : decode cX12_init 600 = .ok (.newarray .int, 2) := by decide +kernel
set_option maxRecDepth 100000 in
theorem dX12_init_602 : decode cX12_init 602 = .ok (.putfield 219, 3) := by decide +kernel
set_option maxRecDepth 100000 in
theorem dX12_init_605 : decode cX12_init 605 = .ok (.aload_n 0, 1) := by decide +kernel
set_option maxRecDepth 100000 in
theorem dX12_init_606 : decode cX12_init 606 = .ok (.sipush 20001, 3) := by decide +kernel
set_option maxRecDepth 100000 in
theorem dX12_init_609 : decode cX12_init 609 = .ok (.newarray .boolean, 2) := by decide +kernel
set_option maxRecDepth 100000 in
theorem dX12_init_611 : decode cX12_init 611 = .ok (.putfield 222, 3) := by decide +kernel
set_option maxRecDepth 100000 in
theorem dX12_init_614 : decode cX12_init 614 = .ok (.aload_n 0, 1) := by decide +kernel
set_option maxRecDepth 100000 in
theorem dX12_init_615 : decode cX12_init 615 = .ok (.sipush 20001, 3) := by decide +kernel
set_option maxRecDepth 100000 in
theorem dX12_init_618 : decode cX12_init 618 = .ok (.anewarray 94, 3) := by decide +kernel
set_option maxRecDepth 100000 in
theorem dX12_init_621 : decode cX12_init 621 = .ok (.putfield 225, 3) := by decide +kernel
set_option maxRecDepth 100000 in
theorem dX12_init_624 : decode cX12_init 624 = .ok (.aload_n 0, 1) := by decide +kernel
set_option maxRecDepth 100000 in
theorem dX12_init_625 : decode cX12_init 625 = .ok (.ldc 228, 2) := by decide +kernel
set_option maxRecDepth 100000 in
theorem dX12_init_627 : decode cX12_init 627 = .ok (.newarray .long, 2) := by decide +kernel
set_option maxRecDepth 100000 in
theorem dX12_init_629 : decode cX12_init 629 = .ok (.putfield 229, 3) := by decide +kernel
set_option maxRecDepth 100000 in
theorem dX12_init_632 : decode cX12_init 632 = .ok (.aload_n 0, 1) := by decide +kernel
set_option maxRecDepth 100000 in
theorem dX12_init_633 : decode cX12_init 633 = .ok (.ldc 228, 2) := by decide +kernel
set_option maxRecDepth 100000 in
theorem dX12_init_635 : decode cX12_init 635 = .ok (.newarray .long, 2) := by decide +kernel
set_option maxRecDepth 100000 in
theorem dX12_init_637 : decode cX12_init 637 = .ok (.putfield 232, 3) := by decide +kernel
set_option maxRecDepth 100000 in
theorem dX12_init_640 : decode cX12_init 640 = .ok (.aload_n 0, 1) := by decide +kernel
set_option maxRecDepth 100000 in
theorem dX12_init_641 : decode cX12_init 641 = .ok (.ldc 228, 2) := by decide +kernel
set_option maxRecDepth 100000 in
theorem dX12_init_643 : decode cX12_init 643 = .ok (.newarray .double, 2) := by decide +kernel
set_option maxRecDepth 100000 in
theorem dX12_init_645 : decode cX12_init 645 = .ok (.putfield 235, 3) := by decide +kernel
set_option maxRecDepth 100000 in
theorem dX12_init_648 : decode cX12_init 648 = .ok (.aload_n 0, 1) := by decide +kernel
set_option maxRecDepth 100000 in
theorem dX12_init_649 : decode cX12_init 649 = .ok (.ldc 228, 2) := by decide +kernel
set_option maxRecDepth 100000 in
theorem dX12_init_651 : decode cX12_init 651 = .ok (.newarray .boolean, 2) := by decide +kernel
set_option maxRecDepth 100000 in
theorem dX12_init_653 : decode cX12_init 653 = .ok (.putfield 238, 3) := by decide +kernel
set_option maxRecDepth 100000 in
theorem dX12_init_656 : decode cX12_init 656 = .ok (.aload_n 0, 1) := by decide +kernel
set_option maxRecDepth 100000 in
theorem dX12_init_657 : decode cX12_init 657 = .ok (.ldc 228, 2) := by decide +kernel
set_option maxRecDepth 100000 in
theorem dX12_init_659 : decode cX12_init 659 = .ok (.newarray .int, 2) := by decide +kernel
set_option maxRecDepth 100000 in
theorem dX12_init_661 : decode cX12_init 661 = .ok (.putfield 241, 3) := by decide +kernel
set_option maxRecDepth 100000 in
theorem dX12_init_664 : decode cX12_init 664 = .ok (.aload_n 0, 1) := by decide +kernel
set_option maxRecDepth 100000 in
theorem dX12_init_665 : decode cX12_init 665 = .ok (.sipush 160, 3) := by decide +kernel
set_option maxRecDepth 100000 in
theorem dX12_init_668 : decode cX12_init 668 = .ok (.newarray .int, 2) := by decide +kernel
set_option maxRecDepth 100000 in
theorem dX12_init_670 : decode cX12_init 670 = .ok (.putfield 244, 3) := by decide +kernel
set_option maxRecDepth 100000 in
theorem dX12_init_673 : decode cX12_init 673 = .ok (.aload_n 0, 1) := by decide +kernel
set_option maxRecDepth 100000 in
theorem dX12_init_674 : decode cX12_init 674 = .ok (.bipush 8, 2) := by decide +kernel
set_option maxRecDepth 100000 in
theorem dX12_init_676 : decode cX12_init 676 = .ok (.newarray .int, 2) := by decide +kernel
set_option maxRecDepth 100000 in
theorem dX12_init_678 : decode cX12_init 678 = .ok (.putfield 247, 3) := by decide +kernel
set_option maxRecDepth 100000 in
theorem dX12_init_681 : decode cX12_init 681 = .ok (.return_, 1) := by decide +kernel
set_option maxRecDepth 100000 in
def bX12_init (G : xG) (fr lo : Nat) (x0 : Nat) (h : xH) (Q : Outcome → xH → Prop) : Prop := tg h x0 = 13 ∧ 1 ≤ fr ∧ 12 ≤ lo ∧ nx h + 1 ≤ xGN G ∧ us h + (Int32.toNatClampNeg 12000) ≤ xGU G ∧ (∀ (a6 : Nat) (h7 : xH), a6 = nx h + 1 → h7 = nA h 103 (Int32.toNatClampNeg 12000) → xfresh h a6 → (∀ h13 : xH, h13 = sR h7 x0 3073 a6 → nx h13 + 1 ≤ xGN G ∧ us h13 + (Int32.toNatClampNeg 12000) ≤ xGU G ∧ (∀ (a17 : Nat) (h18 : xH), a17 = nx h13 + 1 → h18 = nA h13 103 (Int32.toNatClampNeg 12000) → xfresh h13 a17 → (∀ h25 : xH, h25 = sR h18 x0 3075 a17 → nx h25 + 1 ≤ xGN G ∧ us h25 + (Int32.toNatClampNeg 24000) ≤ xGU G ∧ (∀ (a29 : Nat) (h30 : xH), a29 = nx h25 + 1 → h30 = nA h25 103 (Int32.toNatClampNeg 24000) → xfresh h25 a29 → (∀ h37 : xH, h37 = sR h30 x0 3077 a29 → nx h37 + 1 ≤ xGN G ∧ us h37 + (Int32.toNatClampNeg 8) ≤ xGU G ∧ (∀ (a41 : Nat) (h42 : xH), a41 = nx h37 + 1 → h42 = nA h37 100 (Int32.toNatClampNeg 8) → xfresh h37 a41 → (∀ h49 : xH, h49 = sR h42 x0 3078 a41 → nx h49 + 1 ≤ xGN G ∧ us h49 + (Int32.toNatClampNeg 10000) ≤ xGU G ∧ (∀ (a53 : Nat) (h54 : xH), a53 = nx h49 + 1 → h54 = nA h49 103 (Int32.toNatClampNeg 10000) → xfresh h49 a53 → (∀ h61 : xH, h61 = sR h54 x0 3079 a53 → nx h61 + 1 ≤ xGN G ∧ us h61 + (Int32.toNatClampNeg 10002) ≤ xGU G ∧ (∀ (a65 : Nat) (h66 : xH), a65 = nx h61 + 1 → h66 = nA h61 100 (Int32.toNatClampNeg 10002) → xfresh h61 a65 → (∀ h73 : xH, h73 = sR h66 x0 3082 a65 → nx h73 + 1 ≤ xGN G ∧ us h73 + (Int32.toNatClampNeg 10002) ≤ xGU G ∧ (∀ (a77 : Nat) (h78 : xH), a77 = nx h73 + 1 → h78 = nA h73 100 (Int32.toNatClampNeg 10002) → xfresh h73 a77 → (∀ h85 : xH, h85 = sR h78 x0 3083 a77 → nx h85 + 1 ≤ xGN G ∧ us h85 + (Int32.toNatClampNeg 10002) ≤ xGU G ∧ (∀ (a89 : Nat) (h90 : xH), a89 = nx h85 + 1 → h90 = nA h85 100 (Int32.toNatClampNeg 10002) → xfresh h85 a89 → (∀ h97 : xH, h97 = sR h90 x0 3084 a89 → nx h97 + 1 ≤ xGN G ∧ us h97 + (Int32.toNatClampNeg 10002) ≤ xGU G ∧ (∀ (a101 : Nat) (h102 : xH), a101 = nx h97 + 1 → h102 = nA h97 100 (Int32.toNatClampNeg 10002) → xfresh h97 a101 → (∀ h109 : xH, h109 = sR h102 x0 3085 a101 → nx h109 + 1 ≤ xGN G ∧ us h109 + (Int32.toNatClampNeg 10002) ≤ xGU G ∧ (∀ (a113 : Nat) (h114 : xH), a113 = nx h109 + 1 → h114 = nA h109 102 (Int32.toNatClampNeg 10002) → xfresh h109 a113 → (∀ h121 : xH, h121 = sR h114 x0 3086 a113 → nx h121 + 1 ≤ xGN G ∧ us h121 + (Int32.toNatClampNeg 10002) ≤ xGU G ∧ (∀ (a125 : Nat) (h126 : xH), a125 = nx h121 + 1 → h126 = nA h121 103 (Int32.toNatClampNeg 10002) → xfresh h121 a125 → (∀ h133 : xH, h133 = sR h126 x0 3088 a125 → nx h133 + 1 ≤ xGN G ∧ us h133 + (Int32.toNatClampNeg 10400) ≤ xGU G ∧ (∀ (a137 : Nat) (h138 : xH), a137 = nx h133 + 1 → h138 = nA h133 103 (Int32.toNatClampNeg 10400) → xfresh h133 a137 → (∀ h145 : xH, h145 = sR h138 x0 3090 a137 → nx h145 + 1 ≤ xGN G ∧ us h145 + (Int32.toNatClampNeg 10000) ≤ xGU G ∧ (∀ (a149 : Nat) (h150 : xH), a149 = nx h145 + 1 → h150 = nA h145 100 (Int32.toNatClampNeg 10000) → xfresh h145 a149 → (∀ h157 : xH, h157 = sR h150 x0 3092 a149 → nx h157 + 1 ≤ xGN G ∧ us h157 + (Int32.toNatClampNeg 10000) ≤ xGU G ∧ (∀ (a161 : Nat) (h162 : xH), a161 = nx h157 + 1 → h162 = nA h157 100 (Int32.toNatClampNeg 10000) → xfresh h157 a161 → (∀ h169 : xH, h169 = sR h162 x0 3093 a161 → nx h169 + 1 ≤ xGN G ∧ us h169 + (Int32.toNatClampNeg 10000) ≤ xGU G ∧ (∀ (a173 : Nat) (h174 : xH), a173 = nx h169 + 1 → h174 = nA h169 100 (Int32.toNatClampNeg 10000) → xfresh h169 a173 → (∀ h181 : xH, h181 = sR h174 x0 3094 a173 → nx h181 + 1 ≤ xGN G ∧ us h181 + (Int32.toNatClampNeg 1024) ≤ xGU G ∧ (∀ (a185 : Nat) (h186 : xH), a185 = nx h181 + 1 → h186 = nA h181 100 (Int32.toNatClampNeg 1024) → xfresh h181 a185 → (∀ h193 : xH, h193 = sR h186 x0 3095 a185 → nx h193 + 1 ≤ xGN G ∧ us h193 + (Int32.toNatClampNeg 32) ≤ xGU G ∧ (∀ (a197 : Nat) (h198 : xH), a197 = nx h193 + 1 → h198 = nA h193 103 (Int32.toNatClampNeg 32) → xfresh h193 a197 → (∀ h205 : xH, h205 = sR h198 x0 3097 a197 → (∀ h208 : xH, h208 = sI h205 x0 3100 (-1) → nx h208 + 1 ≤ xGN G ∧ us h208 + (Int32.toNatClampNeg 28000) ≤ xGU G ∧ (∀ (a212 : Nat) (h213 : xH), a212 = nx h208 + 1 → h213 = nA h208 100 (Int32.toNatClampNeg 28000) → xfresh h208 a212 → (∀ h220 : xH, h220 = sR h213 x0 3101 a212 → nx h220 + 1 ≤ xGN G ∧ us h220 + (Int32.toNatClampNeg 28000) ≤ xGU G ∧ (∀ (a224 : Nat) (h225 : xH), a224 = nx h220 + 1 → h225 = nA h220 100 (Int32.toNatClampNeg 28000) → xfresh h220 a224 → (∀ h232 : xH, h232 = sR h225 x0 3102 a224 → nx h232 + 1 ≤ xGN G ∧ us h232 + (Int32.toNatClampNeg 28000) ≤ xGU G ∧ (∀ (a236 : Nat) (h237 : xH), a236 = nx h232 + 1 → h237 = nA h232 100 (Int32.toNatClampNeg 28000) → xfresh h232 a236 → (∀ h244 : xH, h244 = sR h237 x0 3103 a236 → nx h244 + 1 ≤ xGN G ∧ us h244 + (Int32.toNatClampNeg 28000) ≤ xGU G ∧ (∀ (a248 : Nat) (h249 : xH), a248 = nx h244 + 1 → h249 = nA h244 100 (Int32.toNatClampNeg 28000) → xfresh h244 a248 → (∀ h256 : xH, h256 = sR h249 x0 3104 a248 → nx h256 + 1 ≤ xGN G ∧ us h256 + (Int32.toNatClampNeg 28000) ≤ xGU G ∧ (∀ (a260 : Nat) (h261 : xH), a260 = nx h256 + 1 → h261 = nA h256 100 (Int32.toNatClampNeg 28000) → xfresh h256 a260 → (∀ h268 : xH, h268 = sR h261 x0 3105 a260 → nx h268 + 1 ≤ xGN G ∧ us h268 + (Int32.toNatClampNeg 28000) ≤ xGU G ∧ (∀ (a272 : Nat) (h273 : xH), a272 = nx h268 + 1 → h273 = nA h268 100 (Int32.toNatClampNeg 28000) → xfresh h268 a272 → (∀ h280 : xH, h280 = sR h273 x0 3106 a272 → nx h280 + 1 ≤ xGN G ∧ us h280 + (Int32.toNatClampNeg 28000) ≤ xGU G ∧ (∀ (a284 : Nat) (h285 : xH), a284 = nx h280 + 1 → h285 = nA h280 100 (Int32.toNatClampNeg 28000) → xfresh h280 a284 → (∀ h292 : xH, h292 = sR h285 x0 3107 a284 → nx h292 + 1 ≤ xGN G ∧ us h292 + (Int32.toNatClampNeg 28000) ≤ xGU G ∧ (∀ (a296 : Nat) (h297 : xH), a296 = nx h292 + 1 → h297 = nA h292 100 (Int32.toNatClampNeg 28000) → xfresh h292 a296 → (∀ h304 : xH, h304 = sR h297 x0 3108 a296 → nx h304 + 1 ≤ xGN G ∧ us h304 + (Int32.toNatClampNeg 28000) ≤ xGU G ∧ (∀ (a308 : Nat) (h309 : xH), a308 = nx h304 + 1 → h309 = nA h304 100 (Int32.toNatClampNeg 28000) → xfresh h304 a308 → (∀ h316 : xH, h316 = sR h309 x0 3109 a308 → nx h316 + 1 ≤ xGN G ∧ us h316 + (Int32.toNatClampNeg 28000) ≤ xGU G ∧ (∀ (a320 : Nat) (h321 : xH), a320 = nx h316 + 1 → h321 = nA h316 108 (Int32.toNatClampNeg 28000) → xfresh h316 a320 → (∀ h328 : xH, h328 = sR h321 x0 3113 a320 → nx h328 + 1 ≤ xGN G ∧ us h328 + (Int32.toNatClampNeg 28000) ≤ xGU G ∧ (∀ (a332 : Nat) (h333 : xH), a332 = nx h328 + 1 → h333 = nA h328 109 (Int32.toNatClampNeg 28000) → xfresh h328 a332 → (∀ h340 : xH, h340 = sR h333 x0 3114 a332 → nx h340 + 1 ≤ xGN G ∧ us h340 + 8 ≤ xGU G ∧ (∀ (a344 : Nat) (h345 : xH), a344 = nx h340 + 1 → h345 = nO h340 14 8 → xfresh h340 a344 → 1 ≤ fr ∧ 15 ≤ lo ∧ xRv G YX13_init (fr - 1) (lo - 15) [rv a344, .int 1] h345 (fun h352 => xext h345 h352 → (∀ h358 : xH, h358 = sR h352 x0 3115 a344 → nx h358 + 1 ≤ xGN G ∧ us h358 + 8 ≤ xGU G ∧ (∀ (a362 : Nat) (h363 : xH), a362 = nx h358 + 1 → h363 = nO h358 14 8 → xfresh h358 a362 → 1 ≤ fr ∧ 15 ≤ lo ∧ xRv G YX13_init (fr - 1) (lo - 15) [rv a362, .int 2] h363 (fun h370 => xext h363 h370 → (∀ h376 : xH, h376 = sR h370 x0 3116 a362 → nx h376 + 1 ≤ xGN G ∧ us h376 + 8 ≤ xGU G ∧ (∀ (a380 : Nat) (h381 : xH), a380 = nx h376 + 1 → h381 = nO h376 14 8 → xfresh h376 a380 → 1 ≤ fr ∧ 15 ≤ lo ∧ xRv G YX13_init (fr - 1) (lo - 15) [rv a380, .int 3] h381 (fun h388 => xext h381 h388 → (∀ h394 : xH, h394 = sR h388 x0 3117 a380 → nx h394 + 1 ≤ xGN G ∧ us h394 + 8 ≤ xGU G ∧ (∀ (a398 : Nat) (h399 : xH), a398 = nx h394 + 1 → h399 = nO h394 14 8 → xfresh h394 a398 → 1 ≤ fr ∧ 15 ≤ lo ∧ xRv G YX13_init (fr - 1) (lo - 15) [rv a398, .int 4] h399 (fun h406 => xext h399 h406 → (∀ h412 : xH, h412 = sR h406 x0 3118 a398 → nx h412 + 1 ≤ xGN G ∧ us h412 + 8 ≤ xGU G ∧ (∀ (a416 : Nat) (h417 : xH), a416 = nx h412 + 1 → h417 = nO h412 14 8 → xfresh h412 a416 → 1 ≤ fr ∧ 15 ≤ lo ∧ xRv G YX13_init (fr - 1) (lo - 15) [rv a416, .int 10] h417 (fun h424 => xext h417 h424 → (∀ h430 : xH, h430 = sR h424 x0 3119 a416 → nx h430 + 1 ≤ xGN G ∧ us h430 + 8 ≤ xGU G ∧ (∀ (a434 : Nat) (h435 : xH), a434 = nx h430 + 1 → h435 = nO h430 14 8 → xfresh h430 a434 → 1 ≤ fr ∧ 15 ≤ lo ∧ xRv G YX13_init (fr - 1) (lo - 15) [rv a434, .int 12] h435 (fun h442 => xext h435 h442 → (∀ h448 : xH, h448 = sR h442 x0 3120 a434 → nx h448 + 1 ≤ xGN G ∧ us h448 + 8 ≤ xGU G ∧ (∀ (a452 : Nat) (h453 : xH), a452 = nx h448 + 1 → h453 = nO h448 14 8 → xfresh h448 a452 → 1 ≤ fr ∧ 15 ≤ lo ∧ xRv G YX13_init (fr - 1) (lo - 15) [rv a452, .int 9] h453 (fun h460 => xext h453 h460 → (∀ h466 : xH, h466 = sR h460 x0 3121 a452 → nx h466 + 1 ≤ xGN G ∧ us h466 + 3 ≤ xGU G ∧ (∀ (a470 : Nat) (h471 : xH), a470 = nx h466 + 1 → h471 = nO h466 29 3 → xfresh h466 a470 → 1 ≤ fr ∧ 14 ≤ lo ∧ xRv G YJ2_init_2 (fr - 1) (lo - 14) [rv a470] h471 (fun h478 => xext h471 h478 → (∀ h484 : xH, h484 = sR h478 x0 3122 a470 → nx h484 + 1 ≤ xGN G ∧ us h484 + (Int32.toNatClampNeg 200) ≤ xGU G ∧ (∀ (a488 : Nat) (h489 : xH), a488 = nx h484 + 1 → h489 = nA h484 100 (Int32.toNatClampNeg 200) → xfresh h484 a488 → (∀ h496 : xH, h496 = sR h489 x0 3123 a488 → nx h496 + 1 ≤ xGN G ∧ us h496 + 3 ≤ xGU G ∧ (∀ (a500 : Nat) (h501 : xH), a500 = nx h496 + 1 → h501 = nO h496 29 3 → xfresh h496 a500 → 1 ≤ fr ∧ 14 ≤ lo ∧ xRv G YJ2_init_2 (fr - 1) (lo - 14) [rv a500] h501 (fun h508 => xext h501 h508 → (∀ h514 : xH, h514 = sR h508 x0 3126 a500 → nx h514 + 1 ≤ xGN G ∧ us h514 + 3 ≤ xGU G ∧ (∀ (a518 : Nat) (h519 : xH), a518 = nx h514 + 1 → h519 = nO h514 29 3 → xfresh h514 a518 → 1 ≤ fr ∧ 14 ≤ lo ∧ xRv G YJ2_init_2 (fr - 1) (lo - 14) [rv a518] h519 (fun h526 => xext h519 h526 → (∀ h532 : xH, h532 = sR h526 x0 3127 a518 → nx h532 + 1 ≤ xGN G ∧ us h532 + 3 ≤ xGU G ∧ (∀ (a536 : Nat) (h537 : xH), a536 = nx h532 + 1 → h537 = nO h532 29 3 → xfresh h532 a536 → 1 ≤ fr ∧ 14 ≤ lo ∧ xRv G YJ2_init_2 (fr - 1) (lo - 14) [rv a536] h537 (fun h544 => xext h537 h544 → (∀ h550 : xH, h550 = sR h544 x0 3128 a536 → nx h550 + 1 ≤ xGN G ∧ us h550 + 3 ≤ xGU G ∧ (∀ (a554 : Nat) (h555 : xH), a554 = nx h550 + 1 → h555 = nO h550 29 3 → xfresh h550 a554 → 1 ≤ fr ∧ 14 ≤ lo ∧ xRv G YJ2_init_2 (fr - 1) (lo - 14) [rv a554] h555 (fun h562 => xext h555 h562 → (∀ h568 : xH, h568 = sR h562 x0 3132 a554 → nx h568 + 1 ≤ xGN G ∧ us h568 + (Int32.toNatClampNeg 28000) ≤ xGU G ∧ (∀ (a572 : Nat) (h573 : xH), a572 = nx h568 + 1 → h573 = nA h568 100 (Int32.toNatClampNeg 28000) → xfresh h568 a572 → (∀ h580 : xH, h580 = sR h573 x0 3133 a572 → nx h580 + 1 ≤ xGN G ∧ us h580 + 3 ≤ xGU G ∧ (∀ (a584 : Nat) (h585 : xH), a584 = nx h580 + 1 → h585 = nO h580 29 3 → xfresh h580 a584 → 1 ≤ fr ∧ 14 ≤ lo ∧ xRv G YJ2_init_2 (fr - 1) (lo - 14) [rv a584] h585 (fun h592 => xext h585 h592 → (∀ h598 : xH, h598 = sR h592 x0 3146 a584 → nx h598 + 1 ≤ xGN G ∧ us h598 + (Int32.toNatClampNeg 30000) ≤ xGU G ∧ (∀ (a602 : Nat) (h603 : xH), a602 = nx h598 + 1 → h603 = nA h598 101 (Int32.toNatClampNeg 30000) → xfresh h598 a602 → (∀ h610 : xH, h610 = sR h603 x0 3147 a602 → nx h610 + 1 ≤ xGN G ∧ us h610 + (Int32.toNatClampNeg 30000) ≤ xGU G ∧ (∀ (a614 : Nat) (h615 : xH), a614 = nx h610 + 1 → h615 = nA h610 101 (Int32.toNatClampNeg 30000) → xfresh h610 a614 → (∀ h622 : xH, h622 = sR h615 x0 3148 a614 → nx h622 + 1 ≤ xGN G ∧ us h622 + (Int32.toNatClampNeg 30000) ≤ xGU G ∧ (∀ (a626 : Nat) (h627 : xH), a626 = nx h622 + 1 → h627 = nA h622 102 (Int32.toNatClampNeg 30000) → xfresh h622 a626 → (∀ h634 : xH, h634 = sR h627 x0 3149 a626 → nx h634 + 1 ≤ xGN G ∧ us h634 + (Int32.toNatClampNeg 30000) ≤ xGU G ∧ (∀ (a638 : Nat) (h639 : xH), a638 = nx h634 + 1 → h639 = nA h634 104 (Int32.toNatClampNeg 30000) → xfresh h634 a638 → (∀ h646 : xH, h646 = sR h639 x0 3150 a638 → nx h646 + 1 ≤ xGN G ∧ us h646 + (Int32.toNatClampNeg 10001) ≤ xGU G ∧ (∀ (a650 : Nat) (h651 : xH), a650 = nx h646 + 1 → h651 = nA h646 100 (Int32.toNatClampNeg 10001) → xfresh h646 a650 → (∀ h658 : xH, h658 = sR h651 x0 3154 a650 → nx h658 + 1 ≤ xGN G ∧ us h658 + (Int32.toNatClampNeg 10001) ≤ xGU G ∧ (∀ (a662 : Nat) (h663 : xH), a662 = nx h658 + 1 → h663 = nA h658 104 (Int32.toNatClampNeg 10001) → xfresh h658 a662 → (∀ h670 : xH, h670 = sR h663 x0 3155 a662 → nx h670 + 1 ≤ xGN G ∧ us h670 + (Int32.toNatClampNeg 32) ≤ xGU G ∧ (∀ (a674 : Nat) (h675 : xH), a674 = nx h670 + 1 → h675 = nA h670 100 (Int32.toNatClampNeg 32) → xfresh h670 a674 → (∀ h682 : xH, h682 = sR h675 x0 3158 a674 → nx h682 + 1 ≤ xGN G ∧ us h682 + (Int32.toNatClampNeg 32) ≤ xGU G ∧ (∀ (a686 : Nat) (h687 : xH), a686 = nx h682 + 1 → h687 = nA h682 100 (Int32.toNatClampNeg 32) → xfresh h682 a686 → (∀ h694 : xH, h694 = sR h687 x0 3159 a686 → nx h694 + 1 ≤ xGN G ∧ us h694 + (Int32.toNatClampNeg 32) ≤ xGU G ∧ (∀ (a698 : Nat) (h699 : xH), a698 = nx h694 + 1 → h699 = nA h694 100 (Int32.toNatClampNeg 32) → xfresh h694 a698 → (∀ h706 : xH, h706 = sR h699 x0 3160 a698 → nx h706 + 1 ≤ xGN G ∧ us h706 + (Int32.toNatClampNeg 32) ≤ xGU G ∧ (∀ (a710 : Nat) (h711 : xH), a710 = nx h706 + 1 → h711 = nA h706 100 (Int32.toNatClampNeg 32) → xfresh h706 a710 → (∀ h718 : xH, h718 = sR h711 x0 3161 a710 → nx h718 + 1 ≤ xGN G ∧ us h718 + (Int32.toNatClampNeg 1312) ≤ xGU G ∧ (∀ (a722 : Nat) (h723 : xH), a722 = nx h718 + 1 → h723 = nA h718 100 (Int32.toNatClampNeg 1312) → xfresh h718 a722 → (∀ h730 : xH, h730 = sR h723 x0 3162 a722 → nx h730 + 1 ≤ xGN G ∧ us h730 + (Int32.toNatClampNeg 38000) ≤ xGU G ∧ (∀ (a734 : Nat) (h735 : xH), a734 = nx h730 + 1 → h735 = nA h730 101 (Int32.toNatClampNeg 38000) → xfresh h730 a734 → (∀ h742 : xH, h742 = sR h735 x0 3166 a734 → nx h742 + 1 ≤ xGN G ∧ us h742 + (Int32.toNatClampNeg 38000) ≤ xGU G ∧ (∀ (a746 : Nat) (h747 : xH), a746 = nx h742 + 1 → h747 = nA h742 101 (Int32.toNatClampNeg 38000) → xfresh h742 a746 → (∀ h754 : xH, h754 = sR h747 x0 3167 a746 → nx h754 + 1 ≤ xGN G ∧ us h754 + (Int32.toNatClampNeg 38000) ≤ xGU G ∧ (∀ (a758 : Nat) (h759 : xH), a758 = nx h754 + 1 → h759 = nA h754 102 (Int32.toNatClampNeg 38000) → xfresh h754 a758 → (∀ h766 : xH, h766 = sR h759 x0 3168 a758 → nx h766 + 1 ≤ xGN G ∧ us h766 + (Int32.toNatClampNeg 20001) ≤ xGU G ∧ (∀ (a770 : Nat) (h771 : xH), a770 = nx h766 + 1 → h771 = nA h766 100 (Int32.toNatClampNeg 20001) → xfresh h766 a770 → (∀ h778 : xH, h778 = sR h771 x0 3182 a770 → nx h778 + 1 ≤ xGN G ∧ us h778 + (Int32.toNatClampNeg 20001) ≤ xGU G ∧ (∀ (a782 : Nat) (h783 : xH), a782 = nx h778 + 1 → h783 = nA h778 100 (Int32.toNatClampNeg 20001) → xfresh h778 a782 → (∀ h790 : xH, h790 = sR h783 x0 3183 a782 → nx h790 + 1 ≤ xGN G ∧ us h790 + (Int32.toNatClampNeg 20001) ≤ xGU G ∧ (∀ (a794 : Nat) (h795 : xH), a794 = nx h790 + 1 → h795 = nA h790 100 (Int32.toNatClampNeg 20001) → xfresh h790 a794 → (∀ h802 : xH, h802 = sR h795 x0 3184 a794 → nx h802 + 1 ≤ xGN G ∧ us h802 + (Int32.toNatClampNeg 20001) ≤ xGU G ∧ (∀ (a806 : Nat) (h807 : xH), a806 = nx h802 + 1 → h807 = nA h802 100 (Int32.toNatClampNeg 20001) → xfresh h802 a806 → (∀ h814 : xH, h814 = sR h807 x0 3185 a806 → nx h814 + 1 ≤ xGN G ∧ us h814 + (Int32.toNatClampNeg 20001) ≤ xGU G ∧ (∀ (a818 : Nat) (h819 : xH), a818 = nx h814 + 1 → h819 = nA h814 100 (Int32.toNatClampNeg 20001) → xfresh h814 a818 → (∀ h826 : xH, h826 = sR h819 x0 3186 a818 → nx h826 + 1 ≤ xGN G ∧ us h826 + (Int32.toNatClampNeg 20001) ≤ xGU G ∧ (∀ (a830 : Nat) (h831 : xH), a830 = nx h826 + 1 → h831 = nA h826 100 (Int32.toNatClampNeg 20001) → xfresh h826 a830 → (∀ h838 : xH, h838 = sR h831 x0 3187 a830 → nx h838 + 1 ≤ xGN G ∧ us h838 + (Int32.toNatClampNeg 20001) ≤ xGU G ∧ (∀ (a842 : Nat) (h843 : xH), a842 = nx h838 + 1 → h843 = nA h838 104 (Int32.toNatClampNeg 20001) → xfresh h838 a842 → (∀ h850 : xH, h850 = sR h843 x0 3188 a842 → nx h850 + 1 ≤ xGN G ∧ us h850 + (Int32.toNatClampNeg 20001) ≤ xGU G ∧ (∀ (a854 : Nat) (h855 : xH), a854 = nx h850 + 1 → h855 = nA h850 108 (Int32.toNatClampNeg 20001) → xfresh h850 a854 → (∀ h862 : xH, h862 = sR h855 x0 3189 a854 → nx h862 + 1 ≤ xGN G ∧ us h862 + (Int32.toNatClampNeg 45000) ≤ xGU G ∧ (∀ (a866 : Nat) (h867 : xH), a866 = nx h862 + 1 → h867 = nA h862 101 (Int32.toNatClampNeg 45000) → xfresh h862 a866 → (∀ h874 : xH, h874 = sR h867 x0 3192 a866 → nx h874 + 1 ≤ xGN G ∧ us h874 + (Int32.toNatClampNeg 45000) ≤ xGU G ∧ (∀ (a878 : Nat) (h879 : xH), a878 = nx h874 + 1 → h879 = nA h874 101 (Int32.toNatClampNeg 45000) → xfresh h874 a878 → (∀ h886 : xH, h886 = sR h879 x0 3193 a878 → nx h886 + 1 ≤ xGN G ∧ us h886 + (Int32.toNatClampNeg 45000) ≤ xGU G ∧ (∀ (a890 : Nat) (h891 : xH), a890 = nx h886 + 1 → h891 = nA h886 102 (Int32.toNatClampNeg 45000) → xfresh h886 a890 → (∀ h898 : xH, h898 = sR h891 x0 3194 a890 → nx h898 + 1 ≤ xGN G ∧ us h898 + (Int32.toNatClampNeg 45000) ≤ xGU G ∧ (∀ (a902 : Nat) (h903 : xH), a902 = nx h898 + 1 → h903 = nA h898 104 (Int32.toNatClampNeg 45000) → xfresh h898 a902 → (∀ h910 : xH, h910 = sR h903 x0 3195 a902 → nx h910 + 1 ≤ xGN G ∧ us h910 + (Int32.toNatClampNeg 45000) ≤ xGU G ∧ (∀ (a914 : Nat) (h915 : xH), a914 = nx h910 + 1 → h915 = nA h910 100 (Int32.toNatClampNeg 45000) → xfresh h910 a914 → (∀ h922 : xH, h922 = sR h915 x0 3196 a914 → nx h922 + 1 ≤ xGN G ∧ us h922 + (Int32.toNatClampNeg 160) ≤ xGU G ∧ (∀ (a926 : Nat) (h927 : xH), a926 = nx h922 + 1 → h927 = nA h922 100 (Int32.toNatClampNeg 160) → xfresh h922 a926 → (∀ h934 : xH, h934 = sR h927 x0 3199 a926 → nx h934 + 1 ≤ xGN G ∧ us h934 + (Int32.toNatClampNeg 8) ≤ xGU G ∧ (∀ (a938 : Nat) (h939 : xH), a938 = nx h934 + 1 → h939 = nA h934 100 (Int32.toNatClampNeg 8) → xfresh h934 a938 → (∀ h946 : xH, h946 = sR h939 x0 3202 a938 → Q (.returned none) h946)))))))))))))))))))))))))))))))))))))))))))))))))))))))))))) (fun r h2 => Q (.threw r) h2)))))) (fun r h2 => Q (.threw r) h2)))) (fun r h2 => Q (.threw r) h2)))) (fun r h2 => Q (.threw r) h2)))) (fun r h2 => Q (.threw r) h2)))))) (fun r h2 => Q (.threw r) h2)))) (fun r h2 => Q (.threw r) h2)))) (fun r h2 => Q (.threw r) h2)))) (fun r h2 => Q (.threw r) h2)))) (fun r h2 => Q (.threw r) h2)))) (fun r h2 => Q (.threw r) h2)))) (fun r h2 => Q (.threw r) h2)))) (fun r h2 => Q (.threw r) h2)))))))))))))))))))))))))))))))))))))))))))))))))))))))))))
set_option maxRecDepth 100000 in
theorem uX12_init {G : xG} {fr lo : Nat} {x0 : Nat} {h : xH} {Q : Outcome → xH → Prop} (hq : bX12_init G fr lo x0 h Q) : xP G YX12_init fr lo 0 [(0, rv x0)] [] h Q := by
  unfold bX12_init at hq
  refine x_aload_n 0 dX12_init_0 rfl ?_
  obtain ⟨g1, hq⟩ := hq
  obtain ⟨g2, g3, hq⟩ := hq
  refine x_objInit (by rw [g1]; decide) q3203 q438 q439 dX12_init_1 g2 (by simp only [List.map_cons, List.map_nil, List.sum_cons, List.sum_nil, rv_cat, Value.category]; omega) ?_
  refine x_aload_n 0 dX12_init_4 rfl ?_
  refine x_sipush (v := 12000) dX12_init_5 (by decide) ?_
  obtain ⟨g4, g5, hq⟩ := hq
  obtain ⟨a6, e8⟩ : ∃ y, y = nx h + 1 := ⟨_, rfl⟩
  obtain ⟨h7, e9⟩ : ∃ y, y = nA h 103 (Int32.toNatClampNeg 12000) := ⟨_, rfl⟩
  refine x_newa' 3 pk_byte dX12_init_8 (by decide) (by decide) g4 g5 e8 e9 (fun f10 => ?_)
  replace hq := hq a6 h7 e8 e9 f10
  have t11 : tg h7 a6 = 103 := by rw [e9, e8]; exact tg_nA
  have t12 : tg h7 x0 = 13 := by rw [e9]; exact tg_nA_ne e8 f10 g1 (by decide)
  obtain ⟨h13, e14⟩ : ∃ y, y = sR h7 x0 3073 a6 := ⟨_, rfl⟩
  replace hq := hq h13 e14
  refine x_putFR fdX12_9 owX12_init_1 xty_A dX12_init_10 t12 (Or.inl (by rw [t12]; rfl)) rfl e14 ?_
  refine x_aload_n 0 dX12_init_13 rfl ?_
  refine x_sipush (v := 12000) dX12_init_14 (by decide) ?_
  obtain ⟨g15, g16, hq⟩ := hq
  obtain ⟨a17, e19⟩ : ∃ y, y = nx h13 + 1 := ⟨_, rfl⟩
  obtain ⟨h18, e20⟩ : ∃ y, y = nA h13 103 (Int32.toNatClampNeg 12000) := ⟨_, rfl⟩
  refine x_newa' 3 pk_byte dX12_init_17 (by decide) (by decide) g15 g16 e19 e20 (fun f21 => ?_)
  replace hq := hq a17 h18 e19 e20 f21
  have t22 : tg h18 a17 = 103 := by rw [e20, e19]; exact tg_nA
  have t23 : tg h13 x0 = 13 := by rw [e14]; exact t12
  have t24 : tg h18 x0 = 13 := by rw [e20]; exact tg_nA_ne e19 f21 t23 (by decide)
  obtain ⟨h25, e26⟩ : ∃ y, y = sR h18 x0 3075 a17 := ⟨_, rfl⟩
  replace hq := hq h25 e26
  refine x_putFR fdX12_13 owX12_init_3 xty_A dX12_init_19 t24 (Or.inl (by rw [t24]; rfl)) rfl e26 ?_
  refine x_aload_n 0 dX12_init_22 rfl ?_
  refine x_sipush (v := 24000) dX12_init_23 (by decide) ?_
  obtain ⟨g27, g28, hq⟩ := hq
  obtain ⟨a29, e31⟩ : ∃ y, y = nx h25 + 1 := ⟨_, rfl⟩
  obtain ⟨h30, e32⟩ : ∃ y, y = nA h25 103 (Int32.toNatClampNeg 24000) := ⟨_, rfl⟩
  refine x_newa' 3 pk_byte dX12_init_26 (by decide) (by decide) g27 g28 e31 e32 (fun f33 => ?_)
  replace hq := hq a29 h30 e31 e32 f33
  have t34 : tg h30 a29 = 103 := by rw [e32, e31]; exact tg_nA
  have t35 : tg h25 x0 = 13 := by rw [e26]; exact t24
  have t36 : tg h30 x0 = 13 := by rw [e32]; exact tg_nA_ne e31 f33 t35 (by decide)
  obtain ⟨h37, e38⟩ : ∃ y, y = sR h30 x0 3077 a29 := ⟨_, rfl⟩
  replace hq := hq h37 e38
  refine x_putFR fdX12_16 owX12_init_5 xty_A dX12_init_28 t36 (Or.inl (by rw [t36]; rfl)) rfl e38 ?_
  refine x_aload_n 0 dX12_init_31 rfl ?_
  refine x_bipush (v := 8) dX12_init_32 (by decide) ?_
  obtain ⟨g39, g40, hq⟩ := hq
  obtain ⟨a41, e43⟩ : ∃ y, y = nx h37 + 1 := ⟨_, rfl⟩
  obtain ⟨h42, e44⟩ : ∃ y, y = nA h37 100 (Int32.toNatClampNeg 8) := ⟨_, rfl⟩
  refine x_newa' 0 pk_int dX12_init_34 (by decide) (by decide) g39 g40 e43 e44 (fun f45 => ?_)
  replace hq := hq a41 h42 e43 e44 f45
  have t46 : tg h42 a41 = 100 := by rw [e44, e43]; exact tg_nA
  have t47 : tg h37 x0 = 13 := by rw [e38]; exact t36
  have t48 : tg h42 x0 = 13 := by rw [e44]; exact tg_nA_ne e43 f45 t47 (by decide)
  obtain ⟨h49, e50⟩ : ∃ y, y = sR h42 x0 3078 a41 := ⟨_, rfl⟩
  replace hq := hq h49 e50
  refine x_putFR fdX12_19 owX12_init_6 xty_A dX12_init_36 t48 (Or.inl (by rw [t48]; rfl)) rfl e50 ?_
  refine x_aload_n 0 dX12_init_39 rfl ?_
  refine x_sipush (v := 10000) dX12_init_40 (by decide) ?_
  obtain ⟨g51, g52, hq⟩ := hq
  obtain ⟨a53, e55⟩ : ∃ y, y = nx h49 + 1 := ⟨_, rfl⟩
  obtain ⟨h54, e56⟩ : ∃ y, y = nA h49 103 (Int32.toNatClampNeg 10000) := ⟨_, rfl⟩
  refine x_newa' 3 pk_byte dX12_init_43 (by decide) (by decide) g51 g52 e55 e56 (fun f57 => ?_)
  replace hq := hq a53 h54 e55 e56 f57
  have t58 : tg h54 a53 = 103 := by rw [e56, e55]; exact tg_nA
  have t59 : tg h49 x0 = 13 := by rw [e50]; exact t48
  have t60 : tg h54 x0 = 13 := by rw [e56]; exact tg_nA_ne e55 f57 t59 (by decide)
  obtain ⟨h61, e62⟩ : ∃ y, y = sR h54 x0 3079 a53 := ⟨_, rfl⟩
  replace hq := hq h61 e62
  refine x_putFR fdX12_23 owX12_init_7 xty_A dX12_init_45 t60 (Or.inl (by rw [t60]; rfl)) rfl e62 ?_
  refine x_aload_n 0 dX12_init_48 rfl ?_
  refine x_sipush (v := 10002) dX12_init_49 (by decide) ?_
  obtain ⟨g63, g64, hq⟩ := hq
  obtain ⟨a65, e67⟩ : ∃ y, y = nx h61 + 1 := ⟨_, rfl⟩
  obtain ⟨h66, e68⟩ : ∃ y, y = nA h61 100 (Int32.toNatClampNeg 10002) := ⟨_, rfl⟩
  refine x_newa' 0 pk_int dX12_init_52 (by decide) (by decide) g63 g64 e67 e68 (fun f69 => ?_)
  replace hq := hq a65 h66 e67 e68 f69
  have t70 : tg h66 a65 = 100 := by rw [e68, e67]; exact tg_nA
  have t71 : tg h61 x0 = 13 := by rw [e62]; exact t60
  have t72 : tg h66 x0 = 13 := by rw [e68]; exact tg_nA_ne e67 f69 t71 (by decide)
  obtain ⟨h73, e74⟩ : ∃ y, y = sR h66 x0 3082 a65 := ⟨_, rfl⟩
  replace hq := hq h73 e74
  refine x_putFR fdX12_26 owX12_init_10 xty_A dX12_init_54 t72 (Or.inl (by rw [t72]; rfl)) rfl e74 ?_
  refine x_aload_n 0 dX12_init_57 rfl ?_
  refine x_sipush (v := 10002) dX12_init_58 (by decide) ?_
  obtain ⟨g75, g76, hq⟩ := hq
  obtain ⟨a77, e79⟩ : ∃ y, y = nx h73 + 1 := ⟨_, rfl⟩
  obtain ⟨h78, e80⟩ : ∃ y, y = nA h73 100 (Int32.toNatClampNeg 10002) := ⟨_, rfl⟩
  refine x_newa' 0 pk_int dX12_init_61 (by decide) (by decide) g75 g76 e79 e80 (fun f81 => ?_)
  replace hq := hq a77 h78 e79 e80 f81
  have t82 : tg h78 a77 = 100 := by rw [e80, e79]; exact tg_nA
  have t83 : tg h73 x0 = 13 := by rw [e74]; exact t72
  have t84 : tg h78 x0 = 13 := by rw [e80]; exact tg_nA_ne e79 f81 t83 (by decide)
  obtain ⟨h85, e86⟩ : ∃ y, y = sR h78 x0 3083 a77 := ⟨_, rfl⟩
  replace hq := hq h85 e86
  refine x_putFR fdX12_29 owX12_init_11 xty_A dX12_init_63 t84 (Or.inl (by rw [t84]; rfl)) rfl e86 ?_
  refine x_aload_n 0 dX12_init_66 rfl ?_
  refine x_sipush (v := 10002) dX12_init_67 (by decide) ?_
  obtain ⟨g87, g88, hq⟩ := hq
  obtain ⟨a89, e91⟩ : ∃ y, y = nx h85 + 1 := ⟨_, rfl⟩
  obtain ⟨h90, e92⟩ : ∃ y, y = nA h85 100 (Int32.toNatClampNeg 10002) := ⟨_, rfl⟩
  refine x_newa' 0 pk_int dX12_init_70 (by decide) (by decide) g87 g88 e91 e92 (fun f93 => ?_)
  replace hq := hq a89 h90 e91 e92 f93
  have t94 : tg h90 a89 = 100 := by rw [e92, e91]; exact tg_nA
  have t95 : tg h85 x0 = 13 := by rw [e86]; exact t84
  have t96 : tg h90 x0 = 13 := by rw [e92]; exact tg_nA_ne e91 f93 t95 (by decide)
  obtain ⟨h97, e98⟩ : ∃ y, y = sR h90 x0 3084 a89 := ⟨_, rfl⟩
  replace hq := hq h97 e98
  refine x_putFR fdX12_32 owX12_init_12 xty_A dX12_init_72 t96 (Or.inl (by rw [t96]; rfl)) rfl e98 ?_
  refine x_aload_n 0 dX12_init_75 rfl ?_
  refine x_sipush (v := 10002) dX12_init_76 (by decide) ?_
  obtain ⟨g99, g100, hq⟩ := hq
  obtain ⟨a101, e103⟩ : ∃ y, y = nx h97 + 1 := ⟨_, rfl⟩
  obtain ⟨h102, e104⟩ : ∃ y, y = nA h97 100 (Int32.toNatClampNeg 10002) := ⟨_, rfl⟩
  refine x_newa' 0 pk_int dX12_init_79 (by decide) (by decide) g99 g100 e103 e104 (fun f105 => ?_)
  replace hq := hq a101 h102 e103 e104 f105
  have t106 : tg h102 a101 = 100 := by rw [e104, e103]; exact tg_nA
  have t107 : tg h97 x0 = 13 := by rw [e98]; exact t96
  have t108 : tg h102 x0 = 13 := by rw [e104]; exact tg_nA_ne e103 f105 t107 (by decide)
  obtain ⟨h109, e110⟩ : ∃ y, y = sR h102 x0 3085 a101 := ⟨_, rfl⟩
  replace hq := hq h109 e110
  refine x_putFR fdX12_35 owX12_init_13 xty_A dX12_init_81 t108 (Or.inl (by rw [t108]; rfl)) rfl e110 ?_
  refine x_aload_n 0 dX12_init_84 rfl ?_
  refine x_sipush (v := 10002) dX12_init_85 (by decide) ?_
  obtain ⟨g111, g112, hq⟩ := hq
  obtain ⟨a113, e115⟩ : ∃ y, y = nx h109 + 1 := ⟨_, rfl⟩
  obtain ⟨h114, e116⟩ : ∃ y, y = nA h109 102 (Int32.toNatClampNeg 10002) := ⟨_, rfl⟩
  refine x_newa' 2 pk_double dX12_init_88 (by decide) (by decide) g111 g112 e115 e116 (fun f117 => ?_)
  replace hq := hq a113 h114 e115 e116 f117
  have t118 : tg h114 a113 = 102 := by rw [e116, e115]; exact tg_nA
  have t119 : tg h109 x0 = 13 := by rw [e110]; exact t108
  have t120 : tg h114 x0 = 13 := by rw [e116]; exact tg_nA_ne e115 f117 t119 (by decide)
  obtain ⟨h121, e122⟩ : ∃ y, y = sR h114 x0 3086 a113 := ⟨_, rfl⟩
  replace hq := hq h121 e122
  refine x_putFR fdX12_38 owX12_init_14 xty_A dX12_init_90 t120 (Or.inl (by rw [t120]; rfl)) rfl e122 ?_
  refine x_aload_n 0 dX12_init_93 rfl ?_
  refine x_sipush (v := 10002) dX12_init_94 (by decide) ?_
  obtain ⟨g123, g124, hq⟩ := hq
  obtain ⟨a125, e127⟩ : ∃ y, y = nx h121 + 1 := ⟨_, rfl⟩
  obtain ⟨h126, e128⟩ : ∃ y, y = nA h121 103 (Int32.toNatClampNeg 10002) := ⟨_, rfl⟩
  refine x_newa' 3 pk_byte dX12_init_97 (by decide) (by decide) g123 g124 e127 e128 (fun f129 => ?_)
  replace hq := hq a125 h126 e127 e128 f129
  have t130 : tg h126 a125 = 103 := by rw [e128, e127]; exact tg_nA
  have t131 : tg h121 x0 = 13 := by rw [e122]; exact t120
  have t132 : tg h126 x0 = 13 := by rw [e128]; exact tg_nA_ne e127 f129 t131 (by decide)
  obtain ⟨h133, e134⟩ : ∃ y, y = sR h126 x0 3088 a125 := ⟨_, rfl⟩
  replace hq := hq h133 e134
  refine x_putFR fdX12_42 owX12_init_16 xty_A dX12_init_99 t132 (Or.inl (by rw [t132]; rfl)) rfl e134 ?_
  refine x_aload_n 0 dX12_init_102 rfl ?_
  refine x_sipush (v := 10400) dX12_init_103 (by decide) ?_
  obtain ⟨g135, g136, hq⟩ := hq
  obtain ⟨a137, e139⟩ : ∃ y, y = nx h133 + 1 := ⟨_, rfl⟩
  obtain ⟨h138, e140⟩ : ∃ y, y = nA h133 103 (Int32.toNatClampNeg 10400) := ⟨_, rfl⟩
  refine x_newa' 3 pk_byte dX12_init_106 (by decide) (by decide) g135 g136 e139 e140 (fun f141 => ?_)
  replace hq := hq a137 h138 e139 e140 f141
  have t142 : tg h138 a137 = 103 := by rw [e140, e139]; exact tg_nA
  have t143 : tg h133 x0 = 13 := by rw [e134]; exact t132
  have t144 : tg h138 x0 = 13 := by rw [e140]; exact tg_nA_ne e139 f141 t143 (by decide)
  obtain ⟨h145, e146⟩ : ∃ y, y = sR h138 x0 3090 a137 := ⟨_, rfl⟩
  replace hq := hq h145 e146
  refine x_putFR fdX12_45 owX12_init_18 xty_A dX12_init_108 t144 (Or.inl (by rw [t144]; rfl)) rfl e146 ?_
  refine x_aload_n 0 dX12_init_111 rfl ?_
  refine x_sipush (v := 10000) dX12_init_112 (by decide) ?_
  obtain ⟨g147, g148, hq⟩ := hq
  obtain ⟨a149, e151⟩ : ∃ y, y = nx h145 + 1 := ⟨_, rfl⟩
  obtain ⟨h150, e152⟩ : ∃ y, y = nA h145 100 (Int32.toNatClampNeg 10000) := ⟨_, rfl⟩
  refine x_newa' 0 pk_int dX12_init_115 (by decide) (by decide) g147 g148 e151 e152 (fun f153 => ?_)
  replace hq := hq a149 h150 e151 e152 f153
  have t154 : tg h150 a149 = 100 := by rw [e152, e151]; exact tg_nA
  have t155 : tg h145 x0 = 13 := by rw [e146]; exact t144
  have t156 : tg h150 x0 = 13 := by rw [e152]; exact tg_nA_ne e151 f153 t155 (by decide)
  obtain ⟨h157, e158⟩ : ∃ y, y = sR h150 x0 3092 a149 := ⟨_, rfl⟩
  replace hq := hq h157 e158
  refine x_putFR fdX12_48 owX12_init_20 xty_A dX12_init_117 t156 (Or.inl (by rw [t156]; rfl)) rfl e158 ?_
  refine x_aload_n 0 dX12_init_120 rfl ?_
  refine x_sipush (v := 10000) dX12_init_121 (by decide) ?_
  obtain ⟨g159, g160, hq⟩ := hq
  obtain ⟨a161, e163⟩ : ∃ y, y = nx h157 + 1 := ⟨_, rfl⟩
  obtain ⟨h162, e164⟩ : ∃ y, y = nA h157 100 (Int32.toNatClampNeg 10000) := ⟨_, rfl⟩
  refine x_newa' 0 pk_int dX12_init_124 (by decide) (by decide) g159 g160 e163 e164 (fun f165 => ?_)
  replace hq := hq a161 h162 e163 e164 f165
  have t166 : tg h162 a161 = 100 := by rw [e164, e163]; exact tg_nA
  have t167 : tg h157 x0 = 13 := by rw [e158]; exact t156
  have t168 : tg h162 x0 = 13 := by rw [e164]; exact tg_nA_ne e163 f165 t167 (by decide)
  obtain ⟨h169, e170⟩ : ∃ y, y = sR h162 x0 3093 a161 := ⟨_, rfl⟩
  replace hq := hq h169 e170
  refine x_putFR fdX12_51 owX12_init_21 xty_A dX12_init_126 t168 (Or.inl (by rw [t168]; rfl)) rfl e170 ?_
  refine x_aload_n 0 dX12_init_129 rfl ?_
  refine x_sipush (v := 10000) dX12_init_130 (by decide) ?_
  obtain ⟨g171, g172, hq⟩ := hq
  obtain ⟨a173, e175⟩ : ∃ y, y = nx h169 + 1 := ⟨_, rfl⟩
  obtain ⟨h174, e176⟩ : ∃ y, y = nA h169 100 (Int32.toNatClampNeg 10000) := ⟨_, rfl⟩
  refine x_newa' 0 pk_int dX12_init_133 (by decide) (by decide) g171 g172 e175 e176 (fun f177 => ?_)
  replace hq := hq a173 h174 e175 e176 f177
  have t178 : tg h174 a173 = 100 := by rw [e176, e175]; exact tg_nA
  have t179 : tg h169 x0 = 13 := by rw [e170]; exact t168
  have t180 : tg h174 x0 = 13 := by rw [e176]; exact tg_nA_ne e175 f177 t179 (by decide)
  obtain ⟨h181, e182⟩ : ∃ y, y = sR h174 x0 3094 a173 := ⟨_, rfl⟩
  replace hq := hq h181 e182
  refine x_putFR fdX12_54 owX12_init_22 xty_A dX12_init_135 t180 (Or.inl (by rw [t180]; rfl)) rfl e182 ?_
  refine x_aload_n 0 dX12_init_138 rfl ?_
  refine x_sipush (v := 1024) dX12_init_139 (by decide) ?_
  obtain ⟨g183, g184, hq⟩ := hq
  obtain ⟨a185, e187⟩ : ∃ y, y = nx h181 + 1 := ⟨_, rfl⟩
  obtain ⟨h186, e188⟩ : ∃ y, y = nA h181 100 (Int32.toNatClampNeg 1024) := ⟨_, rfl⟩
  refine x_newa' 0 pk_int dX12_init_142 (by decide) (by decide) g183 g184 e187 e188 (fun f189 => ?_)
  replace hq := hq a185 h186 e187 e188 f189
  have t190 : tg h186 a185 = 100 := by rw [e188, e187]; exact tg_nA
  have t191 : tg h181 x0 = 13 := by rw [e182]; exact t180
  have t192 : tg h186 x0 = 13 := by rw [e188]; exact tg_nA_ne e187 f189 t191 (by decide)
  obtain ⟨h193, e194⟩ : ∃ y, y = sR h186 x0 3095 a185 := ⟨_, rfl⟩
  replace hq := hq h193 e194
  refine x_putFR fdX12_57 owX12_init_23 xty_A dX12_init_144 t192 (Or.inl (by rw [t192]; rfl)) rfl e194 ?_
  refine x_aload_n 0 dX12_init_147 rfl ?_
  refine x_bipush (v := 32) dX12_init_148 (by decide) ?_
  obtain ⟨g195, g196, hq⟩ := hq
  obtain ⟨a197, e199⟩ : ∃ y, y = nx h193 + 1 := ⟨_, rfl⟩
  obtain ⟨h198, e200⟩ : ∃ y, y = nA h193 103 (Int32.toNatClampNeg 32) := ⟨_, rfl⟩
  refine x_newa' 3 pk_byte dX12_init_150 (by decide) (by decide) g195 g196 e199 e200 (fun f201 => ?_)
  replace hq := hq a197 h198 e199 e200 f201
  have t202 : tg h198 a197 = 103 := by rw [e200, e199]; exact tg_nA
  have t203 : tg h193 x0 = 13 := by rw [e194]; exact t192
  have t204 : tg h198 x0 = 13 := by rw [e200]; exact tg_nA_ne e199 f201 t203 (by decide)
  obtain ⟨h205, e206⟩ : ∃ y, y = sR h198 x0 3097 a197 := ⟨_, rfl⟩
  replace hq := hq h205 e206
  refine x_putFR fdX12_60 owX12_init_25 xty_A dX12_init_152 t204 (Or.inl (by rw [t204]; rfl)) rfl e206 ?_
  refine x_aload_n 0 dX12_init_155 rfl ?_
  refine x_iconst (v := (-1)) dX12_init_156 (by decide) ?_
  have t207 : tg h205 x0 = 13 := by rw [e206]; exact t204
  obtain ⟨h208, e209⟩ : ∃ y, y = sI h205 x0 3100 (-1) := ⟨_, rfl⟩
  replace hq := hq h208 e209
  refine x_putI fdX12_63 xty_I1 dX12_init_157 t207 (Or.inl (by rw [t207]; rfl)) xnI rfl e209 ?_
  refine x_aload_n 0 dX12_init_160 rfl ?_
  refine x_sipush (v := 28000) dX12_init_161 (by decide) ?_
  obtain ⟨g210, g211, hq⟩ := hq
  obtain ⟨a212, e214⟩ : ∃ y, y = nx h208 + 1 := ⟨_, rfl⟩
  obtain ⟨h213, e215⟩ : ∃ y, y = nA h208 100 (Int32.toNatClampNeg 28000) := ⟨_, rfl⟩
  refine x_newa' 0 pk_int dX12_init_164 (by decide) (by decide) g210 g211 e214 e215 (fun f216 => ?_)
  replace hq := hq a212 h213 e214 e215 f216
  have t217 : tg h213 a212 = 100 := by rw [e215, e214]; exact tg_nA
  have t218 : tg h208 x0 = 13 := by rw [e209]; exact t207
  have t219 : tg h213 x0 = 13 := by rw [e215]; exact tg_nA_ne e214 f216 t218 (by decide)
  obtain ⟨h220, e221⟩ : ∃ y, y = sR h213 x0 3101 a212 := ⟨_, rfl⟩
  replace hq := hq h220 e221
  refine x_putFR fdX12_67 owX12_init_29 xty_A dX12_init_166 t219 (Or.inl (by rw [t219]; rfl)) rfl e221 ?_
  refine x_aload_n 0 dX12_init_169 rfl ?_
  refine x_sipush (v := 28000) dX12_init_170 (by decide) ?_
  obtain ⟨g222, g223, hq⟩ := hq
  obtain ⟨a224, e226⟩ : ∃ y, y = nx h220 + 1 := ⟨_, rfl⟩
  obtain ⟨h225, e227⟩ : ∃ y, y = nA h220 100 (Int32.toNatClampNeg 28000) := ⟨_, rfl⟩
  refine x_newa' 0 pk_int dX12_init_173 (by decide) (by decide) g222 g223 e226 e227 (fun f228 => ?_)
  replace hq := hq a224 h225 e226 e227 f228
  have t229 : tg h225 a224 = 100 := by rw [e227, e226]; exact tg_nA
  have t230 : tg h220 x0 = 13 := by rw [e221]; exact t219
  have t231 : tg h225 x0 = 13 := by rw [e227]; exact tg_nA_ne e226 f228 t230 (by decide)
  obtain ⟨h232, e233⟩ : ∃ y, y = sR h225 x0 3102 a224 := ⟨_, rfl⟩
  replace hq := hq h232 e233
  refine x_putFR fdX12_70 owX12_init_30 xty_A dX12_init_175 t231 (Or.inl (by rw [t231]; rfl)) rfl e233 ?_
  refine x_aload_n 0 dX12_init_178 rfl ?_
  refine x_sipush (v := 28000) dX12_init_179 (by decide) ?_
  obtain ⟨g234, g235, hq⟩ := hq
  obtain ⟨a236, e238⟩ : ∃ y, y = nx h232 + 1 := ⟨_, rfl⟩
  obtain ⟨h237, e239⟩ : ∃ y, y = nA h232 100 (Int32.toNatClampNeg 28000) := ⟨_, rfl⟩
  refine x_newa' 0 pk_int dX12_init_182 (by decide) (by decide) g234 g235 e238 e239 (fun f240 => ?_)
  replace hq := hq a236 h237 e238 e239 f240
  have t241 : tg h237 a236 = 100 := by rw [e239, e238]; exact tg_nA
  have t242 : tg h232 x0 = 13 := by rw [e233]; exact t231
  have t243 : tg h237 x0 = 13 := by rw [e239]; exact tg_nA_ne e238 f240 t242 (by decide)
  obtain ⟨h244, e245⟩ : ∃ y, y = sR h237 x0 3103 a236 := ⟨_, rfl⟩
  replace hq := hq h244 e245
  refine x_putFR fdX12_73 owX12_init_31 xty_A dX12_init_184 t243 (Or.inl (by rw [t243]; rfl)) rfl e245 ?_
  refine x_aload_n 0 dX12_init_187 rfl ?_
  refine x_sipush (v := 28000) dX12_init_188 (by decide) ?_
  obtain ⟨g246, g247, hq⟩ := hq
  obtain ⟨a248, e250⟩ : ∃ y, y = nx h244 + 1 := ⟨_, rfl⟩
  obtain ⟨h249, e251⟩ : ∃ y, y = nA h244 100 (Int32.toNatClampNeg 28000) := ⟨_, rfl⟩
  refine x_newa' 0 pk_int dX12_init_191 (by decide) (by decide) g246 g247 e250 e251 (fun f252 => ?_)
  replace hq := hq a248 h249 e250 e251 f252
  have t253 : tg h249 a248 = 100 := by rw [e251, e250]; exact tg_nA
  have t254 : tg h244 x0 = 13 := by rw [e245]; exact t243
  have t255 : tg h249 x0 = 13 := by rw [e251]; exact tg_nA_ne e250 f252 t254 (by decide)
  obtain ⟨h256, e257⟩ : ∃ y, y = sR h249 x0 3104 a248 := ⟨_, rfl⟩
  replace hq := hq h256 e257
  refine x_putFR fdX12_76 owX12_init_32 xty_A dX12_init_193 t255 (Or.inl (by rw [t255]; rfl)) rfl e257 ?_
  refine x_aload_n 0 dX12_init_196 rfl ?_
  refine x_sipush (v := 28000) dX12_init_197 (by decide) ?_
  obtain ⟨g258, g259, hq⟩ := hq
  obtain ⟨a260, e262⟩ : ∃ y, y = nx h256 + 1 := ⟨_, rfl⟩
  obtain ⟨h261, e263⟩ : ∃ y, y = nA h256 100 (Int32.toNatClampNeg 28000) := ⟨_, rfl⟩
  refine x_newa' 0 pk_int dX12_init_200 (by decide) (by decide) g258 g259 e262 e263 (fun f264 => ?_)
  replace hq := hq a260 h261 e262 e263 f264
  have t265 : tg h261 a260 = 100 := by rw [e263, e262]; exact tg_nA
  have t266 : tg h256 x0 = 13 := by rw [e257]; exact t255
  have t267 : tg h261 x0 = 13 := by rw [e263]; exact tg_nA_ne e262 f264 t266 (by decide)
  obtain ⟨h268, e269⟩ : ∃ y, y = sR h261 x0 3105 a260 := ⟨_, rfl⟩
  replace hq := hq h268 e269
  refine x_putFR fdX12_79 owX12_init_33 xty_A dX12_init_202 t267 (Or.inl (by rw [t267]; rfl)) rfl e269 ?_
  refine x_aload_n 0 dX12_init_205 rfl ?_
  refine x_sipush (v := 28000) dX12_init_206 (by decide) ?_
  obtain ⟨g270, g271, hq⟩ := hq
  obtain ⟨a272, e274⟩ : ∃ y, y = nx h268 + 1 := ⟨_, rfl⟩
  obtain ⟨h273, e275⟩ : ∃ y, y = nA h268 100 (Int32.toNatClampNeg 28000) := ⟨_, rfl⟩
  refine x_newa' 0 pk_int dX12_init_209 (by decide) (by decide) g270 g271 e274 e275 (fun f276 => ?_)
  replace hq := hq a272 h273 e274 e275 f276
  have t277 : tg h273 a272 = 100 := by rw [e275, e274]; exact tg_nA
  have t278 : tg h268 x0 = 13 := by rw [e269]; exact t267
  have t279 : tg h273 x0 = 13 := by rw [e275]; exact tg_nA_ne e274 f276 t278 (by decide)
  obtain ⟨h280, e281⟩ : ∃ y, y = sR h273 x0 3106 a272 := ⟨_, rfl⟩
  replace hq := hq h280 e281
  refine x_putFR fdX12_82 owX12_init_34 xty_A dX12_init_211 t279 (Or.inl (by rw [t279]; rfl)) rfl e281 ?_
  refine x_aload_n 0 dX12_init_214 rfl ?_
  refine x_sipush (v := 28000) dX12_init_215 (by decide) ?_
  obtain ⟨g282, g283, hq⟩ := hq
  obtain ⟨a284, e286⟩ : ∃ y, y = nx h280 + 1 := ⟨_, rfl⟩
  obtain ⟨h285, e287⟩ : ∃ y, y = nA h280 100 (Int32.toNatClampNeg 28000) := ⟨_, rfl⟩
  refine x_newa' 0 pk_int dX12_init_218 (by decide) (by decide) g282 g283 e286 e287 (fun f288 => ?_)
  replace hq := hq a284 h285 e286 e287 f288
  have t289 : tg h285 a284 = 100 := by rw [e287, e286]; exact tg_nA
  have t290 : tg h280 x0 = 13 := by rw [e281]; exact t279
  have t291 : tg h285 x0 = 13 := by rw [e287]; exact tg_nA_ne e286 f288 t290 (by decide)
  obtain ⟨h292, e293⟩ : ∃ y, y = sR h285 x0 3107 a284 := ⟨_, rfl⟩
  replace hq := hq h292 e293
  refine x_putFR fdX12_85 owX12_init_35 xty_A dX12_init_220 t291 (Or.inl (by rw [t291]; rfl)) rfl e293 ?_
  refine x_aload_n 0 dX12_init_223 rfl ?_
  refine x_sipush (v := 28000) dX12_init_224 (by decide) ?_
  obtain ⟨g294, g295, hq⟩ := hq
  obtain ⟨a296, e298⟩ : ∃ y, y = nx h292 + 1 := ⟨_, rfl⟩
  obtain ⟨h297, e299⟩ : ∃ y, y = nA h292 100 (Int32.toNatClampNeg 28000) := ⟨_, rfl⟩
  refine x_newa' 0 pk_int dX12_init_227 (by decide) (by decide) g294 g295 e298 e299 (fun f300 => ?_)
  replace hq := hq a296 h297 e298 e299 f300
  have t301 : tg h297 a296 = 100 := by rw [e299, e298]; exact tg_nA
  have t302 : tg h292 x0 = 13 := by rw [e293]; exact t291
  have t303 : tg h297 x0 = 13 := by rw [e299]; exact tg_nA_ne e298 f300 t302 (by decide)
  obtain ⟨h304, e305⟩ : ∃ y, y = sR h297 x0 3108 a296 := ⟨_, rfl⟩
  replace hq := hq h304 e305
  refine x_putFR fdX12_88 owX12_init_36 xty_A dX12_init_229 t303 (Or.inl (by rw [t303]; rfl)) rfl e305 ?_
  refine x_aload_n 0 dX12_init_232 rfl ?_
  refine x_sipush (v := 28000) dX12_init_233 (by decide) ?_
  obtain ⟨g306, g307, hq⟩ := hq
  obtain ⟨a308, e310⟩ : ∃ y, y = nx h304 + 1 := ⟨_, rfl⟩
  obtain ⟨h309, e311⟩ : ∃ y, y = nA h304 100 (Int32.toNatClampNeg 28000) := ⟨_, rfl⟩
  refine x_newa' 0 pk_int dX12_init_236 (by decide) (by decide) g306 g307 e310 e311 (fun f312 => ?_)
  replace hq := hq a308 h309 e310 e311 f312
  have t313 : tg h309 a308 = 100 := by rw [e311, e310]; exact tg_nA
  have t314 : tg h304 x0 = 13 := by rw [e305]; exact t303
  have t315 : tg h309 x0 = 13 := by rw [e311]; exact tg_nA_ne e310 f312 t314 (by decide)
  obtain ⟨h316, e317⟩ : ∃ y, y = sR h309 x0 3109 a308 := ⟨_, rfl⟩
  replace hq := hq h316 e317
  refine x_putFR fdX12_91 owX12_init_37 xty_A dX12_init_238 t315 (Or.inl (by rw [t315]; rfl)) rfl e317 ?_
  refine x_aload_n 0 dX12_init_241 rfl ?_
  refine x_sipush (v := 28000) dX12_init_242 (by decide) ?_
  obtain ⟨g318, g319, hq⟩ := hq
  obtain ⟨a320, e322⟩ : ∃ y, y = nx h316 + 1 := ⟨_, rfl⟩
  obtain ⟨h321, e323⟩ : ∃ y, y = nA h316 108 (Int32.toNatClampNeg 28000) := ⟨_, rfl⟩
  refine x_anew 8 anX12_94 dX12_init_245 (by decide) (by decide) g318 g319 e322 e323 (fun f324 => ?_)
  replace hq := hq a320 h321 e322 e323 f324
  have t325 : tg h321 a320 = 108 := by rw [e323, e322]; exact tg_nA
  have t326 : tg h316 x0 = 13 := by rw [e317]; exact t315
  have t327 : tg h321 x0 = 13 := by rw [e323]; exact tg_nA_ne e322 f324 t326 (by decide)
  obtain ⟨h328, e329⟩ : ∃ y, y = sR h321 x0 3113 a320 := ⟨_, rfl⟩
  replace hq := hq h328 e329
  refine x_putFR fdX12_96 owX12_init_41 xty_A dX12_init_248 t327 (Or.inl (by rw [t327]; rfl)) rfl e329 ?_
  refine x_aload_n 0 dX12_init_251 rfl ?_
  refine x_sipush (v := 28000) dX12_init_252 (by decide) ?_
  obtain ⟨g330, g331, hq⟩ := hq
  obtain ⟨a332, e334⟩ : ∃ y, y = nx h328 + 1 := ⟨_, rfl⟩
  obtain ⟨h333, e335⟩ : ∃ y, y = nA h328 109 (Int32.toNatClampNeg 28000) := ⟨_, rfl⟩
  refine x_anew 9 anX12_100 dX12_init_255 (by decide) (by decide) g330 g331 e334 e335 (fun f336 => ?_)
  replace hq := hq a332 h333 e334 e335 f336
  have t337 : tg h333 a332 = 109 := by rw [e335, e334]; exact tg_nA
  have t338 : tg h328 x0 = 13 := by rw [e329]; exact t327
  have t339 : tg h333 x0 = 13 := by rw [e335]; exact tg_nA_ne e334 f336 t338 (by decide)
  obtain ⟨h340, e341⟩ : ∃ y, y = sR h333 x0 3114 a332 := ⟨_, rfl⟩
  replace hq := hq h340 e341
  refine x_putFR fdX12_102 owX12_init_42 xty_A dX12_init_258 t339 (Or.inl (by rw [t339]; rfl)) rfl e341 ?_
  refine x_aload_n 0 dX12_init_261 rfl ?_
  obtain ⟨g342, g343, hq⟩ := hq
  obtain ⟨a344, e346⟩ : ∃ y, y = nx h340 + 1 := ⟨_, rfl⟩
  obtain ⟨h345, e347⟩ : ∃ y, y = nO h340 14 8 := ⟨_, rfl⟩
  refine x_new' cdX12_94 dX12_init_262 g342 g343 e346 e347 (fun f348 => ?_)
  replace hq := hq a344 h345 e346 e347 f348
  have t349 : tg h345 a344 = 14 := by rw [e347, e346]; exact tg_nO
  refine x_dup dX12_init_265 (rv_cat _) ?_
  refine x_iconst (v := 1) dX12_init_266 (by decide) ?_
  obtain ⟨g350, g351, hq⟩ := hq
  refine x_callI (Yc := YX13_init) (as := [.int 1]) (st := [rv a344, rv x0]) q3209 miX13_init (by rw [t349]; decide) rfl dX12_init_267 (xle (xal1 (rv_cat _) (xal1 rfl xal0)) (by decide)) (xfr g350) (xlo (xsw1 (rv_cat _) (xsw1 (rv_cat _) xsw0)) (by decide) g351) (xKv hq (fun h352 hq e354 => ?_) (fun _ _ q _ => q))
  replace hq := hq e354
  have t355 : tg h340 x0 = 13 := by rw [e341]; exact t339
  have t356 : tg h345 x0 = 13 := by rw [e347]; exact tg_nO_ne e346 f348 t355 (by decide)
  have t357 : tg h352 x0 = 13 := e354.tg t356 (by decide)
  obtain ⟨h358, e359⟩ : ∃ y, y = sR h352 x0 3115 a344 := ⟨_, rfl⟩
  replace hq := hq h358 e359
  refine x_putFR fdX12_109 owX12_init_43 xty_O dX12_init_270 t357 (Or.inl (by rw [t357]; rfl)) rfl e359 ?_
  refine x_aload_n 0 dX12_init_273 rfl ?_
  obtain ⟨g360, g361, hq⟩ := hq
  obtain ⟨a362, e364⟩ : ∃ y, y = nx h358 + 1 := ⟨_, rfl⟩
  obtain ⟨h363, e365⟩ : ∃ y, y = nO h358 14 8 := ⟨_, rfl⟩
  refine x_new' cdX12_94 dX12_init_274 g360 g361 e364 e365 (fun f366 => ?_)
  replace hq := hq a362 h363 e364 e365 f366
  have t367 : tg h363 a362 = 14 := by rw [e365, e364]; exact tg_nO
  refine x_dup dX12_init_277 (rv_cat _) ?_
  refine x_iconst (v := 2) dX12_init_278 (by decide) ?_
  obtain ⟨g368, g369, hq⟩ := hq
  refine x_callI (Yc := YX13_init) (as := [.int 2]) (st := [rv a362, rv x0]) q3209 miX13_init (by rw [t367]; decide) rfl dX12_init_279 (xle (xal1 (rv_cat _) (xal1 rfl xal0)) (by decide)) (xfr g368) (xlo (xsw1 (rv_cat _) (xsw1 (rv_cat _) xsw0)) (by decide) g369) (xKv hq (fun h370 hq e372 => ?_) (fun _ _ q _ => q))
  replace hq := hq e372
  have t373 : tg h358 x0 = 13 := by rw [e359]; exact t357
  have t374 : tg h363 x0 = 13 := by rw [e365]; exact tg_nO_ne e364 f366 t373 (by decide)
  have t375 : tg h370 x0 = 13 := e372.tg t374 (by decide)
  obtain ⟨h376, e377⟩ : ∃ y, y = sR h370 x0 3116 a362 := ⟨_, rfl⟩
  replace hq := hq h376 e377
  refine x_putFR fdX12_113 owX12_init_44 xty_O dX12_init_282 t375 (Or.inl (by rw [t375]; rfl)) rfl e377 ?_
  refine x_aload_n 0 dX12_init_285 rfl ?_
  obtain ⟨g378, g379, hq⟩ := hq
  obtain ⟨a380, e382⟩ : ∃ y, y = nx h376 + 1 := ⟨_, rfl⟩
  obtain ⟨h381, e383⟩ : ∃ y, y = nO h376 14 8 := ⟨_, rfl⟩
  refine x_new' cdX12_94 dX12_init_286 g378 g379 e382 e383 (fun f384 => ?_)
  replace hq := hq a380 h381 e382 e383 f384
  have t385 : tg h381 a380 = 14 := by rw [e383, e382]; exact tg_nO
  refine x_dup dX12_init_289 (rv_cat _) ?_
  refine x_iconst (v := 3) dX12_init_290 (by decide) ?_
  obtain ⟨g386, g387, hq⟩ := hq
  refine x_callI (Yc := YX13_init) (as := [.int 3]) (st := [rv a380, rv x0]) q3209 miX13_init (by rw [t385]; decide) rfl dX12_init_291 (xle (xal1 (rv_cat _) (xal1 rfl xal0)) (by decide)) (xfr g386) (xlo (xsw1 (rv_cat _) (xsw1 (rv_cat _) xsw0)) (by decide) g387) (xKv hq (fun h388 hq e390 => ?_) (fun _ _ q _ => q))
  replace hq := hq e390
  have t391 : tg h376 x0 = 13 := by rw [e377]; exact t375
  have t392 : tg h381 x0 = 13 := by rw [e383]; exact tg_nO_ne e382 f384 t391 (by decide)
  have t393 : tg h388 x0 = 13 := e390.tg t392 (by decide)
  obtain ⟨h394, e395⟩ : ∃ y, y = sR h388 x0 3117 a380 := ⟨_, rfl⟩
  replace hq := hq h394 e395
  refine x_putFR fdX12_116 owX12_init_45 xty_O dX12_init_294 t393 (Or.inl (by rw [t393]; rfl)) rfl e395 ?_
  refine x_aload_n 0 dX12_init_297 rfl ?_
  obtain ⟨g396, g397, hq⟩ := hq
  obtain ⟨a398, e400⟩ : ∃ y, y = nx h394 + 1 := ⟨_, rfl⟩
  obtain ⟨h399, e401⟩ : ∃ y, y = nO h394 14 8 := ⟨_, rfl⟩
  refine x_new' cdX12_94 dX12_init_298 g396 g397 e400 e401 (fun f402 => ?_)
  replace hq := hq a398 h399 e400 e401 f402
  have t403 : tg h399 a398 = 14 := by rw [e401, e400]; exact tg_nO
  refine x_dup dX12_init_301 (rv_cat _) ?_
  refine x_iconst (v := 4) dX12_init_302 (by decide) ?_
  obtain ⟨g404, g405, hq⟩ := hq
  refine x_callI (Yc := YX13_init) (as := [.int 4]) (st := [rv a398, rv x0]) q3209 miX13_init (by rw [t403]; decide) rfl dX12_init_303 (xle (xal1 (rv_cat _) (xal1 rfl xal0)) (by decide)) (xfr g404) (xlo (xsw1 (rv_cat _) (xsw1 (rv_cat _) xsw0)) (by decide) g405) (xKv hq (fun h406 hq e408 => ?_) (fun _ _ q _ => q))
  replace hq := hq e408
  have t409 : tg h394 x0 = 13 := by rw [e395]; exact t393
  have t410 : tg h399 x0 = 13 := by rw [e401]; exact tg_nO_ne e400 f402 t409 (by decide)
  have t411 : tg h406 x0 = 13 := e408.tg t410 (by decide)
  obtain ⟨h412, e413⟩ : ∃ y, y = sR h406 x0 3118 a398 := ⟨_, rfl⟩
  replace hq := hq h412 e413
  refine x_putFR fdX12_119 owX12_init_46 xty_O dX12_init_306 t411 (Or.inl (by rw [t411]; rfl)) rfl e413 ?_
  refine x_aload_n 0 dX12_init_309 rfl ?_
  obtain ⟨g414, g415, hq⟩ := hq
  obtain ⟨a416, e418⟩ : ∃ y, y = nx h412 + 1 := ⟨_, rfl⟩
  obtain ⟨h417, e419⟩ : ∃ y, y = nO h412 14 8 := ⟨_, rfl⟩
  refine x_new' cdX12_94 dX12_init_310 g414 g415 e418 e419 (fun f420 => ?_)
  replace hq := hq a416 h417 e418 e419 f420
  have t421 : tg h417 a416 = 14 := by rw [e419, e418]; exact tg_nO
  refine x_dup dX12_init_313 (rv_cat _) ?_
  refine x_bipush (v := 10) dX12_init_314 (by decide) ?_
  obtain ⟨g422, g423, hq⟩ := hq
  refine x_callI (Yc := YX13_init) (as := [.int 10]) (st := [rv a416, rv x0]) q3209 miX13_init (by rw [t421]; decide) rfl dX12_init_316 (xle (xal1 (rv_cat _) (xal1 rfl xal0)) (by decide)) (xfr g422) (xlo (xsw1 (rv_cat _) (xsw1 (rv_cat _) xsw0)) (by decide) g423) (xKv hq (fun h424 hq e426 => ?_) (fun _ _ q _ => q))
  replace hq := hq e426
  have t427 : tg h412 x0 = 13 := by rw [e413]; exact t411
  have t428 : tg h417 x0 = 13 := by rw [e419]; exact tg_nO_ne e418 f420 t427 (by decide)
  have t429 : tg h424 x0 = 13 := e426.tg t428 (by decide)
  obtain ⟨h430, e431⟩ : ∃ y, y = sR h424 x0 3119 a416 := ⟨_, rfl⟩
  replace hq := hq h430 e431
  refine x_putFR fdX12_122 owX12_init_47 xty_O dX12_init_319 t429 (Or.inl (by rw [t429]; rfl)) rfl e431 ?_
  refine x_aload_n 0 dX12_init_322 rfl ?_
  obtain ⟨g432, g433, hq⟩ := hq
  obtain ⟨a434, e436⟩ : ∃ y, y = nx h430 + 1 := ⟨_, rfl⟩
  obtain ⟨h435, e437⟩ : ∃ y, y = nO h430 14 8 := ⟨_, rfl⟩
  refine x_new' cdX12_94 dX12_init_323 g432 g433 e436 e437 (fun f438 => ?_)
  replace hq := hq a434 h435 e436 e437 f438
  have t439 : tg h435 a434 = 14 := by rw [e437, e436]; exact tg_nO
  refine x_dup dX12_init_326 (rv_cat _) ?_
  refine x_bipush (v := 12) dX12_init_327 (by decide) ?_
  obtain ⟨g440, g441, hq⟩ := hq
  refine x_callI (Yc := YX13_init) (as := [.int 12]) (st := [rv a434, rv x0]) q3209 miX13_init (by rw [t439]; decide) rfl dX12_init_329 (xle (xal1 (rv_cat _) (xal1 rfl xal0)) (by decide)) (xfr g440) (xlo (xsw1 (rv_cat _) (xsw1 (rv_cat _) xsw0)) (by decide) g441) (xKv hq (fun h442 hq e444 => ?_) (fun _ _ q _ => q))
  replace hq := hq e444
  have t445 : tg h430 x0 = 13 := by rw [e431]; exact t429
  have t446 : tg h435 x0 = 13 := by rw [e437]; exact tg_nO_ne e436 f438 t445 (by decide)
  have t447 : tg h442 x0 = 13 := e444.tg t446 (by decide)
  obtain ⟨h448, e449⟩ : ∃ y, y = sR h442 x0 3120 a434 := ⟨_, rfl⟩
  replace hq := hq h448 e449
  refine x_putFR fdX12_125 owX12_init_48 xty_O dX12_init_332 t447 (Or.inl (by rw [t447]; rfl)) rfl e449 ?_
  refine x_aload_n 0 dX12_init_335 rfl ?_
  obtain ⟨g450, g451, hq⟩ := hq
  obtain ⟨a452, e454⟩ : ∃ y, y = nx h448 + 1 := ⟨_, rfl⟩
  obtain ⟨h453, e455⟩ : ∃ y, y = nO h448 14 8 := ⟨_, rfl⟩
  refine x_new' cdX12_94 dX12_init_336 g450 g451 e454 e455 (fun f456 => ?_)
  replace hq := hq a452 h453 e454 e455 f456
  have t457 : tg h453 a452 = 14 := by rw [e455, e454]; exact tg_nO
  refine x_dup dX12_init_339 (rv_cat _) ?_
  refine x_bipush (v := 9) dX12_init_340 (by decide) ?_
  obtain ⟨g458, g459, hq⟩ := hq
  refine x_callI (Yc := YX13_init) (as := [.int 9]) (st := [rv a452, rv x0]) q3209 miX13_init (by rw [t457]; decide) rfl dX12_init_342 (xle (xal1 (rv_cat _) (xal1 rfl xal0)) (by decide)) (xfr g458) (xlo (xsw1 (rv_cat _) (xsw1 (rv_cat _) xsw0)) (by decide) g459) (xKv hq (fun h460 hq e462 => ?_) (fun _ _ q _ => q))
  replace hq := hq e462
  have t463 : tg h448 x0 = 13 := by rw [e449]; exact t447
  have t464 : tg h453 x0 = 13 := by rw [e455]; exact tg_nO_ne e454 f456 t463 (by decide)
  have t465 : tg h460 x0 = 13 := e462.tg t464 (by decide)
  obtain ⟨h466, e467⟩ : ∃ y, y = sR h460 x0 3121 a452 := ⟨_, rfl⟩
  replace hq := hq h466 e467
  refine x_putFR fdX12_128 owX12_init_49 xty_O dX12_init_345 t465 (Or.inl (by rw [t465]; rfl)) rfl e467 ?_
  refine x_aload_n 0 dX12_init_348 rfl ?_
  obtain ⟨g468, g469, hq⟩ := hq
  obtain ⟨a470, e472⟩ : ∃ y, y = nx h466 + 1 := ⟨_, rfl⟩
  obtain ⟨h471, e473⟩ : ∃ y, y = nO h466 29 3 := ⟨_, rfl⟩
  refine x_new' cdX12_131 dX12_init_349 g468 g469 e472 e473 (fun f474 => ?_)
  replace hq := hq a470 h471 e472 e473 f474
  have t475 : tg h471 a470 = 29 := by rw [e473, e472]; exact tg_nO
  refine x_dup dX12_init_352 (rv_cat _) ?_
  obtain ⟨g476, g477, hq⟩ := hq
  refine x_callI (Yc := YJ2_init_2) (as := []) (st := [rv a470, rv x0]) q3246 miJ2_init_2 (by rw [t475]; decide) rfl dX12_init_353 (xle (xal1 (rv_cat _) xal0) (by decide)) (xfr g476) (xlo (xsw1 (rv_cat _) (xsw1 (rv_cat _) xsw0)) (by decide) g477) (xKv hq (fun h478 hq e480 => ?_) (fun _ _ q _ => q))
  replace hq := hq e480
  have t481 : tg h466 x0 = 13 := by rw [e467]; exact t465
  have t482 : tg h471 x0 = 13 := by rw [e473]; exact tg_nO_ne e472 f474 t481 (by decide)
  have t483 : tg h478 x0 = 13 := e480.tg t482 (by decide)
  obtain ⟨h484, e485⟩ : ∃ y, y = sR h478 x0 3122 a470 := ⟨_, rfl⟩
  replace hq := hq h484 e485
  refine x_putFR fdX12_134 owX12_init_50 xty_O dX12_init_356 t483 (Or.inl (by rw [t483]; rfl)) rfl e485 ?_
  refine x_aload_n 0 dX12_init_359 rfl ?_
  refine x_sipush (v := 200) dX12_init_360 (by decide) ?_
  obtain ⟨g486, g487, hq⟩ := hq
  obtain ⟨a488, e490⟩ : ∃ y, y = nx h484 + 1 := ⟨_, rfl⟩
  obtain ⟨h489, e491⟩ : ∃ y, y = nA h484 100 (Int32.toNatClampNeg 200) := ⟨_, rfl⟩
  refine x_newa' 0 pk_int dX12_init_363 (by decide) (by decide) g486 g487 e490 e491 (fun f492 => ?_)
  replace hq := hq a488 h489 e490 e491 f492
  have t493 : tg h489 a488 = 100 := by rw [e491, e490]; exact tg_nA
  have t494 : tg h484 x0 = 13 := by rw [e485]; exact t483
  have t495 : tg h489 x0 = 13 := by rw [e491]; exact tg_nA_ne e490 f492 t494 (by decide)
  obtain ⟨h496, e497⟩ : ∃ y, y = sR h489 x0 3123 a488 := ⟨_, rfl⟩
  replace hq := hq h496 e497
  refine x_putFR fdX12_138 owX12_init_51 xty_A dX12_init_365 t495 (Or.inl (by rw [t495]; rfl)) rfl e497 ?_
  refine x_aload_n 0 dX12_init_368 rfl ?_
  obtain ⟨g498, g499, hq⟩ := hq
  obtain ⟨a500, e502⟩ : ∃ y, y = nx h496 + 1 := ⟨_, rfl⟩
  obtain ⟨h501, e503⟩ : ∃ y, y = nO h496 29 3 := ⟨_, rfl⟩
  refine x_new' cdX12_131 dX12_init_369 g498 g499 e502 e503 (fun f504 => ?_)
  replace hq := hq a500 h501 e502 e503 f504
  have t505 : tg h501 a500 = 29 := by rw [e503, e502]; exact tg_nO
  refine x_dup dX12_init_372 (rv_cat _) ?_
  obtain ⟨g506, g507, hq⟩ := hq
  refine x_callI (Yc := YJ2_init_2) (as := []) (st := [rv a500, rv x0]) q3246 miJ2_init_2 (by rw [t505]; decide) rfl dX12_init_373 (xle (xal1 (rv_cat _) xal0) (by decide)) (xfr g506) (xlo (xsw1 (rv_cat _) (xsw1 (rv_cat _) xsw0)) (by decide) g507) (xKv hq (fun h508 hq e510 => ?_) (fun _ _ q _ => q))
  replace hq := hq e510
  have t511 : tg h496 x0 = 13 := by rw [e497]; exact t495
  have t512 : tg h501 x0 = 13 := by rw [e503]; exact tg_nO_ne e502 f504 t511 (by decide)
  have t513 : tg h508 x0 = 13 := e510.tg t512 (by decide)
  obtain ⟨h514, e515⟩ : ∃ y, y = sR h508 x0 3126 a500 := ⟨_, rfl⟩
  replace hq := hq h514 e515
  refine x_putFR fdX12_141 owX12_init_54 xty_O dX12_init_376 t513 (Or.inl (by rw [t513]; rfl)) rfl e515 ?_
  refine x_aload_n 0 dX12_init_379 rfl ?_
  obtain ⟨g516, g517, hq⟩ := hq
  obtain ⟨a518, e520⟩ : ∃ y, y = nx h514 + 1 := ⟨_, rfl⟩
  obtain ⟨h519, e521⟩ : ∃ y, y = nO h514 29 3 := ⟨_, rfl⟩
  refine x_new' cdX12_131 dX12_init_380 g516 g517 e520 e521 (fun f522 => ?_)
  replace hq := hq a518 h519 e520 e521 f522
  have t523 : tg h519 a518 = 29 := by rw [e521, e520]; exact tg_nO
  refine x_dup dX12_init_383 (rv_cat _) ?_
  obtain ⟨g524, g525, hq⟩ := hq
  refine x_callI (Yc := YJ2_init_2) (as := []) (st := [rv a518, rv x0]) q3246 miJ2_init_2 (by rw [t523]; decide) rfl dX12_init_384 (xle (xal1 (rv_cat _) xal0) (by decide)) (xfr g524) (xlo (xsw1 (rv_cat _) (xsw1 (rv_cat _) xsw0)) (by decide) g525) (xKv hq (fun h526 hq e528 => ?_) (fun _ _ q _ => q))
  replace hq := hq e528
  have t529 : tg h514 x0 = 13 := by rw [e515]; exact t513
  have t530 : tg h519 x0 = 13 := by rw [e521]; exact tg_nO_ne e520 f522 t529 (by decide)
  have t531 : tg h526 x0 = 13 := e528.tg t530 (by decide)
  obtain ⟨h532, e533⟩ : ∃ y, y = sR h526 x0 3127 a518 := ⟨_, rfl⟩
  replace hq := hq h532 e533
  refine x_putFR fdX12_144 owX12_init_55 xty_O dX12_init_387 t531 (Or.inl (by rw [t531]; rfl)) rfl e533 ?_
  refine x_aload_n 0 dX12_init_390 rfl ?_
  obtain ⟨g534, g535, hq⟩ := hq
  obtain ⟨a536, e538⟩ : ∃ y, y = nx h532 + 1 := ⟨_, rfl⟩
  obtain ⟨h537, e539⟩ : ∃ y, y = nO h532 29 3 := ⟨_, rfl⟩
  refine x_new' cdX12_131 dX12_init_391 g534 g535 e538 e539 (fun f540 => ?_)
  replace hq := hq a536 h537 e538 e539 f540
  have t541 : tg h537 a536 = 29 := by rw [e539, e538]; exact tg_nO
  refine x_dup dX12_init_394 (rv_cat _) ?_
  obtain ⟨g542, g543, hq⟩ := hq
  refine x_callI (Yc := YJ2_init_2) (as := []) (st := [rv a536, rv x0]) q3246 miJ2_init_2 (by rw [t541]; decide) rfl dX12_init_395 (xle (xal1 (rv_cat _) xal0) (by decide)) (xfr g542) (xlo (xsw1 (rv_cat _) (xsw1 (rv_cat _) xsw0)) (by decide) g543) (xKv hq (fun h544 hq e546 => ?_) (fun _ _ q _ => q))
  replace hq := hq e546
  have t547 : tg h532 x0 = 13 := by rw [e533]; exact t531
  have t548 : tg h537 x0 = 13 := by rw [e539]; exact tg_nO_ne e538 f540 t547 (by decide)
  have t549 : tg h544 x0 = 13 := e546.tg t548 (by decide)
  obtain ⟨h550, e551⟩ : ∃ y, y = sR h544 x0 3128 a536 := ⟨_, rfl⟩
  replace hq := hq h550 e551
  refine x_putFR fdX12_147 owX12_init_56 xty_O dX12_init_398 t549 (Or.inl (by rw [t549]; rfl)) rfl e551 ?_
  refine x_aload_n 0 dX12_init_401 rfl ?_
  obtain ⟨g552, g553, hq⟩ := hq
  obtain ⟨a554, e556⟩ : ∃ y, y = nx h550 + 1 := ⟨_, rfl⟩
  obtain ⟨h555, e557⟩ : ∃ y, y = nO h550 29 3 := ⟨_, rfl⟩
  refine x_new' cdX12_131 dX12_init_402 g552 g553 e556 e557 (fun f558 => ?_)
  replace hq := hq a554 h555 e556 e557 f558
  have t559 : tg h555 a554 = 29 := by rw [e557, e556]; exact tg_nO
  refine x_dup dX12_init_405 (rv_cat _) ?_
  obtain ⟨g560, g561, hq⟩ := hq
  refine x_callI (Yc := YJ2_init_2) (as := []) (st := [rv a554, rv x0]) q3246 miJ2_init_2 (by rw [t559]; decide) rfl dX12_init_406 (xle (xal1 (rv_cat _) xal0) (by decide)) (xfr g560) (xlo (xsw1 (rv_cat _) (xsw1 (rv_cat _) xsw0)) (by decide) g561) (xKv hq (fun h562 hq e564 => ?_) (fun _ _ q _ => q))
  replace hq := hq e564
  have t565 : tg h550 x0 = 13 := by rw [e551]; exact t549
  have t566 : tg h555 x0 = 13 := by rw [e557]; exact tg_nO_ne e556 f558 t565 (by decide)
  have t567 : tg h562 x0 = 13 := e564.tg t566 (by decide)
  obtain ⟨h568, e569⟩ : ∃ y, y = sR h562 x0 3132 a554 := ⟨_, rfl⟩
  replace hq := hq h568 e569
  refine x_putFR fdX12_150 owX12_init_60 xty_O dX12_init_409 t567 (Or.inl (by rw [t567]; rfl)) rfl e569 ?_
  refine x_aload_n 0 dX12_init_412 rfl ?_
  refine x_sipush (v := 28000) dX12_init_413 (by decide) ?_
  obtain ⟨g570, g571, hq⟩ := hq
  obtain ⟨a572, e574⟩ : ∃ y, y = nx h568 + 1 := ⟨_, rfl⟩
  obtain ⟨h573, e575⟩ : ∃ y, y = nA h568 100 (Int32.toNatClampNeg 28000) := ⟨_, rfl⟩
  refine x_newa' 0 pk_int dX12_init_416 (by decide) (by decide) g570 g571 e574 e575 (fun f576 => ?_)
  replace hq := hq a572 h573 e574 e575 f576
  have t577 : tg h573 a572 = 100 := by rw [e575, e574]; exact tg_nA
  have t578 : tg h568 x0 = 13 := by rw [e569]; exact t567
  have t579 : tg h573 x0 = 13 := by rw [e575]; exact tg_nA_ne e574 f576 t578 (by decide)
  obtain ⟨h580, e581⟩ : ∃ y, y = sR h573 x0 3133 a572 := ⟨_, rfl⟩
  replace hq := hq h580 e581
  refine x_putFR fdX12_153 owX12_init_61 xty_A dX12_init_418 t579 (Or.inl (by rw [t579]; rfl)) rfl e581 ?_
  refine x_aload_n 0 dX12_init_421 rfl ?_
  obtain ⟨g582, g583, hq⟩ := hq
  obtain ⟨a584, e586⟩ : ∃ y, y = nx h580 + 1 := ⟨_, rfl⟩
  obtain ⟨h585, e587⟩ : ∃ y, y = nO h580 29 3 := ⟨_, rfl⟩
  refine x_new' cdX12_131 dX12_init_422 g582 g583 e586 e587 (fun f588 => ?_)
  replace hq := hq a584 h585 e586 e587 f588
  have t589 : tg h585 a584 = 29 := by rw [e587, e586]; exact tg_nO
  refine x_dup dX12_init_425 (rv_cat _) ?_
  obtain ⟨g590, g591, hq⟩ := hq
  refine x_callI (Yc := YJ2_init_2) (as := []) (st := [rv a584, rv x0]) q3246 miJ2_init_2 (by rw [t589]; decide) rfl dX12_init_426 (xle (xal1 (rv_cat _) xal0) (by decide)) (xfr g590) (xlo (xsw1 (rv_cat _) (xsw1 (rv_cat _) xsw0)) (by decide) g591) (xKv hq (fun h592 hq e594 => ?_) (fun _ _ q _ => q))
  replace hq := hq e594
  have t595 : tg h580 x0 = 13 := by rw [e581]; exact t579
  have t596 : tg h585 x0 = 13 := by rw [e587]; exact tg_nO_ne e586 f588 t595 (by decide)
  have t597 : tg h592 x0 = 13 := e594.tg t596 (by decide)
  obtain ⟨h598, e599⟩ : ∃ y, y = sR h592 x0 3146 a584 := ⟨_, rfl⟩
  replace hq := hq h598 e599
  refine x_putFR fdX12_156 owX12_init_74 xty_O dX12_init_429 t597 (Or.inl (by rw [t597]; rfl)) rfl e599 ?_
  refine x_aload_n 0 dX12_init_432 rfl ?_
  refine x_sipush (v := 30000) dX12_init_433 (by decide) ?_
  obtain ⟨g600, g601, hq⟩ := hq
  obtain ⟨a602, e604⟩ : ∃ y, y = nx h598 + 1 := ⟨_, rfl⟩
  obtain ⟨h603, e605⟩ : ∃ y, y = nA h598 101 (Int32.toNatClampNeg 30000) := ⟨_, rfl⟩
  refine x_newa' 1 pk_long dX12_init_436 (by decide) (by decide) g600 g601 e604 e605 (fun f606 => ?_)
  replace hq := hq a602 h603 e604 e605 f606
  have t607 : tg h603 a602 = 101 := by rw [e605, e604]; exact tg_nA
  have t608 : tg h598 x0 = 13 := by rw [e599]; exact t597
  have t609 : tg h603 x0 = 13 := by rw [e605]; exact tg_nA_ne e604 f606 t608 (by decide)
  obtain ⟨h610, e611⟩ : ∃ y, y = sR h603 x0 3147 a602 := ⟨_, rfl⟩
  replace hq := hq h610 e611
  refine x_putFR fdX12_159 owX12_init_75 xty_A dX12_init_438 t609 (Or.inl (by rw [t609]; rfl)) rfl e611 ?_
  refine x_aload_n 0 dX12_init_441 rfl ?_
  refine x_sipush (v := 30000) dX12_init_442 (by decide) ?_
  obtain ⟨g612, g613, hq⟩ := hq
  obtain ⟨a614, e616⟩ : ∃ y, y = nx h610 + 1 := ⟨_, rfl⟩
  obtain ⟨h615, e617⟩ : ∃ y, y = nA h610 101 (Int32.toNatClampNeg 30000) := ⟨_, rfl⟩
  refine x_newa' 1 pk_long dX12_init_445 (by decide) (by decide) g612 g613 e616 e617 (fun f618 => ?_)
  replace hq := hq a614 h615 e616 e617 f618
  have t619 : tg h615 a614 = 101 := by rw [e617, e616]; exact tg_nA
  have t620 : tg h610 x0 = 13 := by rw [e611]; exact t609
  have t621 : tg h615 x0 = 13 := by rw [e617]; exact tg_nA_ne e616 f618 t620 (by decide)
  obtain ⟨h622, e623⟩ : ∃ y, y = sR h615 x0 3148 a614 := ⟨_, rfl⟩
  replace hq := hq h622 e623
  refine x_putFR fdX12_163 owX12_init_76 xty_A dX12_init_447 t621 (Or.inl (by rw [t621]; rfl)) rfl e623 ?_
  refine x_aload_n 0 dX12_init_450 rfl ?_
  refine x_sipush (v := 30000) dX12_init_451 (by decide) ?_
  obtain ⟨g624, g625, hq⟩ := hq
  obtain ⟨a626, e628⟩ : ∃ y, y = nx h622 + 1 := ⟨_, rfl⟩
  obtain ⟨h627, e629⟩ : ∃ y, y = nA h622 102 (Int32.toNatClampNeg 30000) := ⟨_, rfl⟩
  refine x_newa' 2 pk_double dX12_init_454 (by decide) (by decide) g624 g625 e628 e629 (fun f630 => ?_)
  replace hq := hq a626 h627 e628 e629 f630
  have t631 : tg h627 a626 = 102 := by rw [e629, e628]; exact tg_nA
  have t632 : tg h622 x0 = 13 := by rw [e623]; exact t621
  have t633 : tg h627 x0 = 13 := by rw [e629]; exact tg_nA_ne e628 f630 t632 (by decide)
  obtain ⟨h634, e635⟩ : ∃ y, y = sR h627 x0 3149 a626 := ⟨_, rfl⟩
  replace hq := hq h634 e635
  refine x_putFR fdX12_166 owX12_init_77 xty_A dX12_init_456 t633 (Or.inl (by rw [t633]; rfl)) rfl e635 ?_
  refine x_aload_n 0 dX12_init_459 rfl ?_
  refine x_sipush (v := 30000) dX12_init_460 (by decide) ?_
  obtain ⟨g636, g637, hq⟩ := hq
  obtain ⟨a638, e640⟩ : ∃ y, y = nx h634 + 1 := ⟨_, rfl⟩
  obtain ⟨h639, e641⟩ : ∃ y, y = nA h634 104 (Int32.toNatClampNeg 30000) := ⟨_, rfl⟩
  refine x_newa' 4 pk_boolean dX12_init_463 (by decide) (by decide) g636 g637 e640 e641 (fun f642 => ?_)
  replace hq := hq a638 h639 e640 e641 f642
  have t643 : tg h639 a638 = 104 := by rw [e641, e640]; exact tg_nA
  have t644 : tg h634 x0 = 13 := by rw [e635]; exact t633
  have t645 : tg h639 x0 = 13 := by rw [e641]; exact tg_nA_ne e640 f642 t644 (by decide)
  obtain ⟨h646, e647⟩ : ∃ y, y = sR h639 x0 3150 a638 := ⟨_, rfl⟩
  replace hq := hq h646 e647
  refine x_putFR fdX12_169 owX12_init_78 xty_A dX12_init_465 t645 (Or.inl (by rw [t645]; rfl)) rfl e647 ?_
  refine x_aload_n 0 dX12_init_468 rfl ?_
  refine x_sipush (v := 10001) dX12_init_469 (by decide) ?_
  obtain ⟨g648, g649, hq⟩ := hq
  obtain ⟨a650, e652⟩ : ∃ y, y = nx h646 + 1 := ⟨_, rfl⟩
  obtain ⟨h651, e653⟩ : ∃ y, y = nA h646 100 (Int32.toNatClampNeg 10001) := ⟨_, rfl⟩
  refine x_newa' 0 pk_int dX12_init_472 (by decide) (by decide) g648 g649 e652 e653 (fun f654 => ?_)
  replace hq := hq a650 h651 e652 e653 f654
  have t655 : tg h651 a650 = 100 := by rw [e653, e652]; exact tg_nA
  have t656 : tg h646 x0 = 13 := by rw [e647]; exact t645
  have t657 : tg h651 x0 = 13 := by rw [e653]; exact tg_nA_ne e652 f654 t656 (by decide)
  obtain ⟨h658, e659⟩ : ∃ y, y = sR h651 x0 3154 a650 := ⟨_, rfl⟩
  replace hq := hq h658 e659
  refine x_putFR fdX12_173 owX12_init_82 xty_A dX12_init_474 t657 (Or.inl (by rw [t657]; rfl)) rfl e659 ?_
  refine x_aload_n 0 dX12_init_477 rfl ?_
  refine x_sipush (v := 10001) dX12_init_478 (by decide) ?_
  obtain ⟨g660, g661, hq⟩ := hq
  obtain ⟨a662, e664⟩ : ∃ y, y = nx h658 + 1 := ⟨_, rfl⟩
  obtain ⟨h663, e665⟩ : ∃ y, y = nA h658 104 (Int32.toNatClampNeg 10001) := ⟨_, rfl⟩
  refine x_newa' 4 pk_boolean dX12_init_481 (by decide) (by decide) g660 g661 e664 e665 (fun f666 => ?_)
  replace hq := hq a662 h663 e664 e665 f666
  have t667 : tg h663 a662 = 104 := by rw [e665, e664]; exact tg_nA
  have t668 : tg h658 x0 = 13 := by rw [e659]; exact t657
  have t669 : tg h663 x0 = 13 := by rw [e665]; exact tg_nA_ne e664 f666 t668 (by decide)
  obtain ⟨h670, e671⟩ : ∃ y, y = sR h663 x0 3155 a662 := ⟨_, rfl⟩
  replace hq := hq h670 e671
  refine x_putFR fdX12_176 owX12_init_83 xty_A dX12_init_483 t669 (Or.inl (by rw [t669]; rfl)) rfl e671 ?_
  refine x_aload_n 0 dX12_init_486 rfl ?_
  refine x_bipush (v := 32) dX12_init_487 (by decide) ?_
  obtain ⟨g672, g673, hq⟩ := hq
  obtain ⟨a674, e676⟩ : ∃ y, y = nx h670 + 1 := ⟨_, rfl⟩
  obtain ⟨h675, e677⟩ : ∃ y, y = nA h670 100 (Int32.toNatClampNeg 32) := ⟨_, rfl⟩
  refine x_newa' 0 pk_int dX12_init_489 (by decide) (by decide) g672 g673 e676 e677 (fun f678 => ?_)
  replace hq := hq a674 h675 e676 e677 f678
  have t679 : tg h675 a674 = 100 := by rw [e677, e676]; exact tg_nA
  have t680 : tg h670 x0 = 13 := by rw [e671]; exact t669
  have t681 : tg h675 x0 = 13 := by rw [e677]; exact tg_nA_ne e676 f678 t680 (by decide)
  obtain ⟨h682, e683⟩ : ∃ y, y = sR h675 x0 3158 a674 := ⟨_, rfl⟩
  replace hq := hq h682 e683
  refine x_putFR fdX12_179 owX12_init_86 xty_A dX12_init_491 t681 (Or.inl (by rw [t681]; rfl)) rfl e683 ?_
  refine x_aload_n 0 dX12_init_494 rfl ?_
  refine x_bipush (v := 32) dX12_init_495 (by decide) ?_
  obtain ⟨g684, g685, hq⟩ := hq
  obtain ⟨a686, e688⟩ : ∃ y, y = nx h682 + 1 := ⟨_, rfl⟩
  obtain ⟨h687, e689⟩ : ∃ y, y = nA h682 100 (Int32.toNatClampNeg 32) := ⟨_, rfl⟩
  refine x_newa' 0 pk_int dX12_init_497 (by decide) (by decide) g684 g685 e688 e689 (fun f690 => ?_)
  replace hq := hq a686 h687 e688 e689 f690
  have t691 : tg h687 a686 = 100 := by rw [e689, e688]; exact tg_nA
  have t692 : tg h682 x0 = 13 := by rw [e683]; exact t681
  have t693 : tg h687 x0 = 13 := by rw [e689]; exact tg_nA_ne e688 f690 t692 (by decide)
  obtain ⟨h694, e695⟩ : ∃ y, y = sR h687 x0 3159 a686 := ⟨_, rfl⟩
  replace hq := hq h694 e695
  refine x_putFR fdX12_182 owX12_init_87 xty_A dX12_init_499 t693 (Or.inl (by rw [t693]; rfl)) rfl e695 ?_
  refine x_aload_n 0 dX12_init_502 rfl ?_
  refine x_bipush (v := 32) dX12_init_503 (by decide) ?_
  obtain ⟨g696, g697, hq⟩ := hq
  obtain ⟨a698, e700⟩ : ∃ y, y = nx h694 + 1 := ⟨_, rfl⟩
  obtain ⟨h699, e701⟩ : ∃ y, y = nA h694 100 (Int32.toNatClampNeg 32) := ⟨_, rfl⟩
  refine x_newa' 0 pk_int dX12_init_505 (by decide) (by decide) g696 g697 e700 e701 (fun f702 => ?_)
  replace hq := hq a698 h699 e700 e701 f702
  have t703 : tg h699 a698 = 100 := by rw [e701, e700]; exact tg_nA
  have t704 : tg h694 x0 = 13 := by rw [e695]; exact t693
  have t705 : tg h699 x0 = 13 := by rw [e701]; exact tg_nA_ne e700 f702 t704 (by decide)
  obtain ⟨h706, e707⟩ : ∃ y, y = sR h699 x0 3160 a698 := ⟨_, rfl⟩
  replace hq := hq h706 e707
  refine x_putFR fdX12_185 owX12_init_88 xty_A dX12_init_507 t705 (Or.inl (by rw [t705]; rfl)) rfl e707 ?_
  refine x_aload_n 0 dX12_init_510 rfl ?_
  refine x_bipush (v := 32) dX12_init_511 (by decide) ?_
  obtain ⟨g708, g709, hq⟩ := hq
  obtain ⟨a710, e712⟩ : ∃ y, y = nx h706 + 1 := ⟨_, rfl⟩
  obtain ⟨h711, e713⟩ : ∃ y, y = nA h706 100 (Int32.toNatClampNeg 32) := ⟨_, rfl⟩
  refine x_newa' 0 pk_int dX12_init_513 (by decide) (by decide) g708 g709 e712 e713 (fun f714 => ?_)
  replace hq := hq a710 h711 e712 e713 f714
  have t715 : tg h711 a710 = 100 := by rw [e713, e712]; exact tg_nA
  have t716 : tg h706 x0 = 13 := by rw [e707]; exact t705
  have t717 : tg h711 x0 = 13 := by rw [e713]; exact tg_nA_ne e712 f714 t716 (by decide)
  obtain ⟨h718, e719⟩ : ∃ y, y = sR h711 x0 3161 a710 := ⟨_, rfl⟩
  replace hq := hq h718 e719
  refine x_putFR fdX12_188 owX12_init_89 xty_A dX12_init_515 t717 (Or.inl (by rw [t717]; rfl)) rfl e719 ?_
  refine x_aload_n 0 dX12_init_518 rfl ?_
  refine x_sipush (v := 1312) dX12_init_519 (by decide) ?_
  obtain ⟨g720, g721, hq⟩ := hq
  obtain ⟨a722, e724⟩ : ∃ y, y = nx h718 + 1 := ⟨_, rfl⟩
  obtain ⟨h723, e725⟩ : ∃ y, y = nA h718 100 (Int32.toNatClampNeg 1312) := ⟨_, rfl⟩
  refine x_newa' 0 pk_int dX12_init_522 (by decide) (by decide) g720 g721 e724 e725 (fun f726 => ?_)
  replace hq := hq a722 h723 e724 e725 f726
  have t727 : tg h723 a722 = 100 := by rw [e725, e724]; exact tg_nA
  have t728 : tg h718 x0 = 13 := by rw [e719]; exact t717
  have t729 : tg h723 x0 = 13 := by rw [e725]; exact tg_nA_ne e724 f726 t728 (by decide)
  obtain ⟨h730, e731⟩ : ∃ y, y = sR h723 x0 3162 a722 := ⟨_, rfl⟩
  replace hq := hq h730 e731
  refine x_putFR fdX12_191 owX12_init_90 xty_A dX12_init_524 t729 (Or.inl (by rw [t729]; rfl)) rfl e731 ?_
  refine x_aload_n 0 dX12_init_527 rfl ?_
  refine x_ldc (v := 38000) q3249 dX12_init_528 ?_
  obtain ⟨g732, g733, hq⟩ := hq
  obtain ⟨a734, e736⟩ : ∃ y, y = nx h730 + 1 := ⟨_, rfl⟩
  obtain ⟨h735, e737⟩ : ∃ y, y = nA h730 101 (Int32.toNatClampNeg 38000) := ⟨_, rfl⟩
  refine x_newa' 1 pk_long dX12_init_530 (by decide) (by decide) g732 g733 e736 e737 (fun f738 => ?_)
  replace hq := hq a734 h735 e736 e737 f738
  have t739 : tg h735 a734 = 101 := by rw [e737, e736]; exact tg_nA
  have t740 : tg h730 x0 = 13 := by rw [e731]; exact t729
  have t741 : tg h735 x0 = 13 := by rw [e737]; exact tg_nA_ne e736 f738 t740 (by decide)
  obtain ⟨h742, e743⟩ : ∃ y, y = sR h735 x0 3166 a734 := ⟨_, rfl⟩
  replace hq := hq h742 e743
  refine x_putFR fdX12_195 owX12_init_94 xty_A dX12_init_532 t741 (Or.inl (by rw [t741]; rfl)) rfl e743 ?_
  refine x_aload_n 0 dX12_init_535 rfl ?_
  refine x_ldc (v := 38000) q3249 dX12_init_536 ?_
  obtain ⟨g744, g745, hq⟩ := hq
  obtain ⟨a746, e748⟩ : ∃ y, y = nx h742 + 1 := ⟨_, rfl⟩
  obtain ⟨h747, e749⟩ : ∃ y, y = nA h742 101 (Int32.toNatClampNeg 38000) := ⟨_, rfl⟩
  refine x_newa' 1 pk_long dX12_init_538 (by decide) (by decide) g744 g745 e748 e749 (fun f750 => ?_)
  replace hq := hq a746 h747 e748 e749 f750
  have t751 : tg h747 a746 = 101 := by rw [e749, e748]; exact tg_nA
  have t752 : tg h742 x0 = 13 := by rw [e743]; exact t741
  have t753 : tg h747 x0 = 13 := by rw [e749]; exact tg_nA_ne e748 f750 t752 (by decide)
  obtain ⟨h754, e755⟩ : ∃ y, y = sR h747 x0 3167 a746 := ⟨_, rfl⟩
  replace hq := hq h754 e755
  refine x_putFR fdX12_198 owX12_init_95 xty_A dX12_init_540 t753 (Or.inl (by rw [t753]; rfl)) rfl e755 ?_
  refine x_aload_n 0 dX12_init_543 rfl ?_
  refine x_ldc (v := 38000) q3249 dX12_init_544 ?_
  obtain ⟨g756, g757, hq⟩ := hq
  obtain ⟨a758, e760⟩ : ∃ y, y = nx h754 + 1 := ⟨_, rfl⟩
  obtain ⟨h759, e761⟩ : ∃ y, y = nA h754 102 (Int32.toNatClampNeg 38000) := ⟨_, rfl⟩
  refine x_newa' 2 pk_double dX12_init_546 (by decide) (by decide) g756 g757 e760 e761 (fun f762 => ?_)
  replace hq := hq a758 h759 e760 e761 f762
  have t763 : tg h759 a758 = 102 := by rw [e761, e760]; exact tg_nA
  have t764 : tg h754 x0 = 13 := by rw [e755]; exact t753
  have t765 : tg h759 x0 = 13 := by rw [e761]; exact tg_nA_ne e760 f762 t764 (by decide)
  obtain ⟨h766, e767⟩ : ∃ y, y = sR h759 x0 3168 a758 := ⟨_, rfl⟩
  replace hq := hq h766 e767
  refine x_putFR fdX12_201 owX12_init_96 xty_A dX12_init_548 t765 (Or.inl (by rw [t765]; rfl)) rfl e767 ?_
  refine x_aload_n 0 dX12_init_551 rfl ?_
  refine x_sipush (v := 20001) dX12_init_552 (by decide) ?_
  obtain ⟨g768, g769, hq⟩ := hq
  obtain ⟨a770, e772⟩ : ∃ y, y = nx h766 + 1 := ⟨_, rfl⟩
  obtain ⟨h771, e773⟩ : ∃ y, y = nA h766 100 (Int32.toNatClampNeg 20001) := ⟨_, rfl⟩
  refine x_newa' 0 pk_int dX12_init_555 (by decide) (by decide) g768 g769 e772 e773 (fun f774 => ?_)
  replace hq := hq a770 h771 e772 e773 f774
  have t775 : tg h771 a770 = 100 := by rw [e773, e772]; exact tg_nA
  have t776 : tg h766 x0 = 13 := by rw [e767]; exact t765
  have t777 : tg h771 x0 = 13 := by rw [e773]; exact tg_nA_ne e772 f774 t776 (by decide)
  obtain ⟨h778, e779⟩ : ∃ y, y = sR h771 x0 3182 a770 := ⟨_, rfl⟩
  replace hq := hq h778 e779
  refine x_putFR fdX12_204 owX12_init_110 xty_A dX12_init_557 t777 (Or.inl (by rw [t777]; rfl)) rfl e779 ?_
  refine x_aload_n 0 dX12_init_560 rfl ?_
  refine x_sipush (v := 20001) dX12_init_561 (by decide) ?_
  obtain ⟨g780, g781, hq⟩ := hq
  obtain ⟨a782, e784⟩ : ∃ y, y = nx h778 + 1 := ⟨_, rfl⟩
  obtain ⟨h783, e785⟩ : ∃ y, y = nA h778 100 (Int32.toNatClampNeg 20001) := ⟨_, rfl⟩
  refine x_newa' 0 pk_int dX12_init_564 (by decide) (by decide) g780 g781 e784 e785 (fun f786 => ?_)
  replace hq := hq a782 h783 e784 e785 f786
  have t787 : tg h783 a782 = 100 := by rw [e785, e784]; exact tg_nA
  have t788 : tg h778 x0 = 13 := by rw [e779]; exact t777
  have t789 : tg h783 x0 = 13 := by rw [e785]; exact tg_nA_ne e784 f786 t788 (by decide)
  obtain ⟨h790, e791⟩ : ∃ y, y = sR h783 x0 3183 a782 := ⟨_, rfl⟩
  replace hq := hq h790 e791
  refine x_putFR fdX12_207 owX12_init_111 xty_A dX12_init_566 t789 (Or.inl (by rw [t789]; rfl)) rfl e791 ?_
  refine x_aload_n 0 dX12_init_569 rfl ?_
  refine x_sipush (v := 20001) dX12_init_570 (by decide) ?_
  obtain ⟨g792, g793, hq⟩ := hq
  obtain ⟨a794, e796⟩ : ∃ y, y = nx h790 + 1 := ⟨_, rfl⟩
  obtain ⟨h795, e797⟩ : ∃ y, y = nA h790 100 (Int32.toNatClampNeg 20001) := ⟨_, rfl⟩
  refine x_newa' 0 pk_int dX12_init_573 (by decide) (by decide) g792 g793 e796 e797 (fun f798 => ?_)
  replace hq := hq a794 h795 e796 e797 f798
  have t799 : tg h795 a794 = 100 := by rw [e797, e796]; exact tg_nA
  have t800 : tg h790 x0 = 13 := by rw [e791]; exact t789
  have t801 : tg h795 x0 = 13 := by rw [e797]; exact tg_nA_ne e796 f798 t800 (by decide)
  obtain ⟨h802, e803⟩ : ∃ y, y = sR h795 x0 3184 a794 := ⟨_, rfl⟩
  replace hq := hq h802 e803
  refine x_putFR fdX12_210 owX12_init_112 xty_A dX12_init_575 t801 (Or.inl (by rw [t801]; rfl)) rfl e803 ?_
  refine x_aload_n 0 dX12_init_578 rfl ?_
  refine x_sipush (v := 20001) dX12_init_579 (by decide) ?_
  obtain ⟨g804, g805, hq⟩ := hq
  obtain ⟨a806, e808⟩ : ∃ y, y = nx h802 + 1 := ⟨_, rfl⟩
  obtain ⟨h807, e809⟩ : ∃ y, y = nA h802 100 (Int32.toNatClampNeg 20001) := ⟨_, rfl⟩
  refine x_newa' 0 pk_int dX12_init_582 (by decide) (by decide) g804 g805 e808 e809 (fun f810 => ?_)
  replace hq := hq a806 h807 e808 e809 f810
  have t811 : tg h807 a806 = 100 := by rw [e809, e808]; exact tg_nA
  have t812 : tg h802 x0 = 13 := by rw [e803]; exact t801
  have t813 : tg h807 x0 = 13 := by rw [e809]; exact tg_nA_ne e808 f810 t812 (by decide)
  obtain ⟨h814, e815⟩ : ∃ y, y = sR h807 x0 3185 a806 := ⟨_, rfl⟩
  replace hq := hq h814 e815
  refine x_putFR fdX12_213 owX12_init_113 xty_A dX12_init_584 t813 (Or.inl (by rw [t813]; rfl)) rfl e815 ?_
  refine x_aload_n 0 dX12_init_587 rfl ?_
  refine x_sipush (v := 20001) dX12_init_588 (by decide) ?_
  obtain ⟨g816, g817, hq⟩ := hq
  obtain ⟨a818, e820⟩ : ∃ y, y = nx h814 + 1 := ⟨_, rfl⟩
  obtain ⟨h819, e821⟩ : ∃ y, y = nA h814 100 (Int32.toNatClampNeg 20001) := ⟨_, rfl⟩
  refine x_newa' 0 pk_int dX12_init_591 (by decide) (by decide) g816 g817 e820 e821 (fun f822 => ?_)
  replace hq := hq a818 h819 e820 e821 f822
  have t823 : tg h819 a818 = 100 := by rw [e821, e820]; exact tg_nA
  have t824 : tg h814 x0 = 13 := by rw [e815]; exact t813
  have t825 : tg h819 x0 = 13 := by rw [e821]; exact tg_nA_ne e820 f822 t824 (by decide)
  obtain ⟨h826, e827⟩ : ∃ y, y = sR h819 x0 3186 a818 := ⟨_, rfl⟩
  replace hq := hq h826 e827
  refine x_putFR fdX12_216 owX12_init_114 xty_A dX12_init_593 t825 (Or.inl (by rw [t825]; rfl)) rfl e827 ?_
  refine x_aload_n 0 dX12_init_596 rfl ?_
  refine x_sipush (v := 20001) dX12_init_597 (by decide) ?_
  obtain ⟨g828, g829, hq⟩ := hq
  obtain ⟨a830, e832⟩ : ∃ y, y = nx h826 + 1 := ⟨_, rfl⟩
  obtain ⟨h831, e833⟩ : ∃ y, y = nA h826 100 (Int32.toNatClampNeg 20001) := ⟨_, rfl⟩
  refine x_newa' 0 pk_int dX12_init_600 (by decide) (by decide) g828 g829 e832 e833 (fun f834 => ?_)
  replace hq := hq a830 h831 e832 e833 f834
  have t835 : tg h831 a830 = 100 := by rw [e833, e832]; exact tg_nA
  have t836 : tg h826 x0 = 13 := by rw [e827]; exact t825
  have t837 : tg h831 x0 = 13 := by rw [e833]; exact tg_nA_ne e832 f834 t836 (by decide)
  obtain ⟨h838, e839⟩ : ∃ y, y = sR h831 x0 3187 a830 := ⟨_, rfl⟩
  replace hq := hq h838 e839
  refine x_putFR fdX12_219 owX12_init_115 xty_A dX12_init_602 t837 (Or.inl (by rw [t837]; rfl)) rfl e839 ?_
  refine x_aload_n 0 dX12_init_605 rfl ?_
  refine x_sipush (v := 20001) dX12_init_606 (by decide) ?_
  obtain ⟨g840, g841, hq⟩ := hq
  obtain ⟨a842, e844⟩ : ∃ y, y = nx h838 + 1 := ⟨_, rfl⟩
  obtain ⟨h843, e845⟩ : ∃ y, y = nA h838 104 (Int32.toNatClampNeg 20001) := ⟨_, rfl⟩
  refine x_newa' 4 pk_boolean dX12_init_609 (by decide) (by decide) g840 g841 e844 e845 (fun f846 => ?_)
  replace hq := hq a842 h843 e844 e845 f846
  have t847 : tg h843 a842 = 104 := by rw [e845, e844]; exact tg_nA
  have t848 : tg h838 x0 = 13 := by rw [e839]; exact t837
  have t849 : tg h843 x0 = 13 := by rw [e845]; exact tg_nA_ne e844 f846 t848 (by decide)
  obtain ⟨h850, e851⟩ : ∃ y, y = sR h843 x0 3188 a842 := ⟨_, rfl⟩
  replace hq := hq h850 e851
  refine x_putFR fdX12_222 owX12_init_116 xty_A dX12_init_611 t849 (Or.inl (by rw [t849]; rfl)) rfl e851 ?_
  refine x_aload_n 0 dX12_init_614 rfl ?_
  refine x_sipush (v := 20001) dX12_init_615 (by decide) ?_
  obtain ⟨g852, g853, hq⟩ := hq
  obtain ⟨a854, e856⟩ : ∃ y, y = nx h850 + 1 := ⟨_, rfl⟩
  obtain ⟨h855, e857⟩ : ∃ y, y = nA h850 108 (Int32.toNatClampNeg 20001) := ⟨_, rfl⟩
  refine x_anew 8 anX12_94 dX12_init_618 (by decide) (by decide) g852 g853 e856 e857 (fun f858 => ?_)
  replace hq := hq a854 h855 e856 e857 f858
  have t859 : tg h855 a854 = 108 := by rw [e857, e856]; exact tg_nA
  have t860 : tg h850 x0 = 13 := by rw [e851]; exact t849
  have t861 : tg h855 x0 = 13 := by rw [e857]; exact tg_nA_ne e856 f858 t860 (by decide)
  obtain ⟨h862, e863⟩ : ∃ y, y = sR h855 x0 3189 a854 := ⟨_, rfl⟩
  replace hq := hq h862 e863
  refine x_putFR fdX12_225 owX12_init_117 xty_A dX12_init_621 t861 (Or.inl (by rw [t861]; rfl)) rfl e863 ?_
  refine x_aload_n 0 dX12_init_624 rfl ?_
  refine x_ldc (v := 45000) q3250 dX12_init_625 ?_
  obtain ⟨g864, g865, hq⟩ := hq
  obtain ⟨a866, e868⟩ : ∃ y, y = nx h862 + 1 := ⟨_, rfl⟩
  obtain ⟨h867, e869⟩ : ∃ y, y = nA h862 101 (Int32.toNatClampNeg 45000) := ⟨_, rfl⟩
  refine x_newa' 1 pk_long dX12_init_627 (by decide) (by decide) g864 g865 e868 e869 (fun f870 => ?_)
  replace hq := hq a866 h867 e868 e869 f870
  have t871 : tg h867 a866 = 101 := by rw [e869, e868]; exact tg_nA
  have t872 : tg h862 x0 = 13 := by rw [e863]; exact t861
  have t873 : tg h867 x0 = 13 := by rw [e869]; exact tg_nA_ne e868 f870 t872 (by decide)
  obtain ⟨h874, e875⟩ : ∃ y, y = sR h867 x0 3192 a866 := ⟨_, rfl⟩
  replace hq := hq h874 e875
  refine x_putFR fdX12_229 owX12_init_120 xty_A dX12_init_629 t873 (Or.inl (by rw [t873]; rfl)) rfl e875 ?_
  refine x_aload_n 0 dX12_init_632 rfl ?_
  refine x_ldc (v := 45000) q3250 dX12_init_633 ?_
  obtain ⟨g876, g877, hq⟩ := hq
  obtain ⟨a878, e880⟩ : ∃ y, y = nx h874 + 1 := ⟨_, rfl⟩
  obtain ⟨h879, e881⟩ : ∃ y, y = nA h874 101 (Int32.toNatClampNeg 45000) := ⟨_, rfl⟩
  refine x_newa' 1 pk_long dX12_init_635 (by decide) (by decide) g876 g877 e880 e881 (fun f882 => ?_)
  replace hq := hq a878 h879 e880 e881 f882
  have t883 : tg h879 a878 = 101 := by rw [e881, e880]; exact tg_nA
  have t884 : tg h874 x0 = 13 := by rw [e875]; exact t873
  have t885 : tg h879 x0 = 13 := by rw [e881]; exact tg_nA_ne e880 f882 t884 (by decide)
  obtain ⟨h886, e887⟩ : ∃ y, y = sR h879 x0 3193 a878 := ⟨_, rfl⟩
  replace hq := hq h886 e887
  refine x_putFR fdX12_232 owX12_init_121 xty_A dX12_init_637 t885 (Or.inl (by rw [t885]; rfl)) rfl e887 ?_
  refine x_aload_n 0 dX12_init_640 rfl ?_
  refine x_ldc (v := 45000) q3250 dX12_init_641 ?_
  obtain ⟨g888, g889, hq⟩ := hq
  obtain ⟨a890, e892⟩ : ∃ y, y = nx h886 + 1 := ⟨_, rfl⟩
  obtain ⟨h891, e893⟩ : ∃ y, y = nA h886 102 (Int32.toNatClampNeg 45000) := ⟨_, rfl⟩
  refine x_newa' 2 pk_double dX12_init_643 (by decide) (by decide) g888 g889 e892 e893 (fun f894 => ?_)
  replace hq := hq a890 h891 e892 e893 f894
  have t895 : tg h891 a890 = 102 := by rw [e893, e892]; exact tg_nA
  have t896 : tg h886 x0 = 13 := by rw [e887]; exact t885
  have t897 : tg h891 x0 = 13 := by rw [e893]; exact tg_nA_ne e892 f894 t896 (by decide)
  obtain ⟨h898, e899⟩ : ∃ y, y = sR h891 x0 3194 a890 := ⟨_, rfl⟩
  replace hq := hq h898 e899
  refine x_putFR fdX12_235 owX12_init_122 xty_A dX12_init_645 t897 (Or.inl (by rw [t897]; rfl)) rfl e899 ?_
  refine x_aload_n 0 dX12_init_648 rfl ?_
  refine x_ldc (v := 45000) q3250 dX12_init_649 ?_
  obtain ⟨g900, g901, hq⟩ := hq
  obtain ⟨a902, e904⟩ : ∃ y, y = nx h898 + 1 := ⟨_, rfl⟩
  obtain ⟨h903, e905⟩ : ∃ y, y = nA h898 104 (Int32.toNatClampNeg 45000) := ⟨_, rfl⟩
  refine x_newa' 4 pk_boolean dX12_init_651 (by decide) (by decide) g900 g901 e904 e905 (fun f906 => ?_)
  replace hq := hq a902 h903 e904 e905 f906
  have t907 : tg h903 a902 = 104 := by rw [e905, e904]; exact tg_nA
  have t908 : tg h898 x0 = 13 := by rw [e899]; exact t897
  have t909 : tg h903 x0 = 13 := by rw [e905]; exact tg_nA_ne e904 f906 t908 (by decide)
  obtain ⟨h910, e911⟩ : ∃ y, y = sR h903 x0 3195 a902 := ⟨_, rfl⟩
  replace hq := hq h910 e911
  refine x_putFR fdX12_238 owX12_init_123 xty_A dX12_init_653 t909 (Or.inl (by rw [t909]; rfl)) rfl e911 ?_
  refine x_aload_n 0 dX12_init_656 rfl ?_
  refine x_ldc (v := 45000) q3250 dX12_init_657 ?_
  obtain ⟨g912, g913, hq⟩ := hq
  obtain ⟨a914, e916⟩ : ∃ y, y = nx h910 + 1 := ⟨_, rfl⟩
  obtain ⟨h915, e917⟩ : ∃ y, y = nA h910 100 (Int32.toNatClampNeg 45000) := ⟨_, rfl⟩
  refine x_newa' 0 pk_int dX12_init_659 (by decide) (by decide) g912 g913 e916 e917 (fun f918 => ?_)
  replace hq := hq a914 h915 e916 e917 f918
  have t919 : tg h915 a914 = 100 := by rw [e917, e916]; exact tg_nA
  have t920 : tg h910 x0 = 13 := by rw [e911]; exact t909
  have t921 : tg h915 x0 = 13 := by rw [e917]; exact tg_nA_ne e916 f918 t920 (by decide)
  obtain ⟨h922, e923⟩ : ∃ y, y = sR h915 x0 3196 a914 := ⟨_, rfl⟩
  replace hq := hq h922 e923
  refine x_putFR fdX12_241 owX12_init_124 xty_A dX12_init_661 t921 (Or.inl (by rw [t921]; rfl)) rfl e923 ?_
  refine x_aload_n 0 dX12_init_664 rfl ?_
  refine x_sipush (v := 160) dX12_init_665 (by decide) ?_
  obtain ⟨g924, g925, hq⟩ := hq
  obtain ⟨a926, e928⟩ : ∃ y, y = nx h922 + 1 := ⟨_, rfl⟩
  obtain ⟨h927, e929⟩ : ∃ y, y = nA h922 100 (Int32.toNatClampNeg 160) := ⟨_, rfl⟩
  refine x_newa' 0 pk_int dX12_init_668 (by decide) (by decide) g924 g925 e928 e929 (fun f930 => ?_)
  replace hq := hq a926 h927 e928 e929 f930
  have t931 : tg h927 a926 = 100 := by rw [e929, e928]; exact tg_nA
  have t932 : tg h922 x0 = 13 := by rw [e923]; exact t921
  have t933 : tg h927 x0 = 13 := by rw [e929]; exact tg_nA_ne e928 f930 t932 (by decide)
  obtain ⟨h934, e935⟩ : ∃ y, y = sR h927 x0 3199 a926 := ⟨_, rfl⟩
  replace hq := hq h934 e935
  refine x_putFR fdX12_244 owX12_init_127 xty_A dX12_init_670 t933 (Or.inl (by rw [t933]; rfl)) rfl e935 ?_
  refine x_aload_n 0 dX12_init_673 rfl ?_
  refine x_bipush (v := 8) dX12_init_674 (by decide) ?_
  obtain ⟨g936, g937, hq⟩ := hq
  obtain ⟨a938, e940⟩ : ∃ y, y = nx h934 + 1 := ⟨_, rfl⟩
  obtain ⟨h939, e941⟩ : ∃ y, y = nA h934 100 (Int32.toNatClampNeg 8) := ⟨_, rfl⟩
  refine x_newa' 0 pk_int dX12_init_676 (by decide) (by decide) g936 g937 e940 e941 (fun f942 => ?_)
  replace hq := hq a938 h939 e940 e941 f942
  have t943 : tg h939 a938 = 100 := by rw [e941, e940]; exact tg_nA
  have t944 : tg h934 x0 = 13 := by rw [e935]; exact t933
  have t945 : tg h939 x0 = 13 := by rw [e941]; exact tg_nA_ne e940 f942 t944 (by decide)
  obtain ⟨h946, e947⟩ : ∃ y, y = sR h939 x0 3202 a938 := ⟨_, rfl⟩
  replace hq := hq h946 e947
  refine x_putFR fdX12_247 owX12_init_130 xty_A dX12_init_678 t945 (Or.inl (by rw [t945]; rfl)) rfl e947 ?_
  exact x_vret rfl dX12_init_681 hq
theorem rX12_init {G : xG} {fr lo : Nat} {x0 : Nat} {h : xH} {Q : Outcome → xH → Prop} (hq : bX12_init G fr lo x0 h Q) : xR G YX12_init fr lo [rv x0] h Q := by
  show xP _ _ _ _ _ (lv_args 0 _) _ _ _
  rw [show lv_args 0 [rv x0] = [(0, rv x0)] from (xla1 (rv_cat _) xla0)]
  exact uX12_init hq
set_option maxRecDepth 100000 in
theorem dX12_feed_0 : decode cX12_feed 0 = .ok (.aload_n 0, 1) := by decide +kernel
set_option maxRecDepth 100000 in
theorem dX12_feed_1 : decode cX12_feed 1 = .ok (.iconst 0, 1) := by decide +kernel
set_option maxRecDepth 100000 in
theorem dX12_feed_2 : decode cX12_feed 2 = .ok (.putfield 250, 3) := by decide +kernel
set_option maxRecDepth 100000 in
theorem dX12_feed_5 : decode cX12_feed 5 = .ok (.aload_n 0, 1) := by decide +kernel
set_option maxRecDepth 100000 in
theorem dX12_feed_6 : decode cX12_feed 6 = .ok (.getfield 253, 3) := by decide +kernel
set_option maxRecDepth 100000 in
theorem dX12_feed_9 : decode cX12_feed 9 = .ok (.bipush 20, 2) := by decide +kernel
set_option maxRecDepth 100000 in
theorem dX12_feed_11 : decode cX12_feed 11 = .ok (.iadd, 1) := by decide +kernel
set_option maxRecDepth 100000 in
theorem dX12_feed_12 : decode cX12_feed 12 = .ok (.sipush 12000, 3) := by decide +kernel
set_option maxRecDepth 100000 in
theorem dX12_feed_15 : decode cX12_feed 15 = .ok (.if_icmp .le 5, 3) := by decide +kernel
set_option maxRecDepth 100000 in
theorem dX12_feed_18 : decode cX12_feed 18 = .ok (.iconst 0, 1) := by decide +kernel
set_option maxRecDepth 100000 in
theorem dX12_feed_19 : decode cX12_feed 19 = .ok (.ireturn, 1) := by decide +kernel
set_option maxRecDepth 100000 in
theorem dX12_feed_20 : decode cX12_feed 20 = .ok (.iconst 0, 1) := by decide +kernel
set_option maxRecDepth 100000 in
theorem dX12_feed_21 : decode cX12_feed 21 = .ok (.istore 6, 2) := by decide +kernel
set_option maxRecDepth 100000 in
theorem dX12_feed_23 : decode cX12_feed 23 = .ok (.iload 6, 2) := by decide +kernel
set_option maxRecDepth 100000 in
theorem dX12_feed_25 : decode cX12_feed 25 = .ok (.bipush 20, 2) := by decide +kernel
set_option maxRecDepth 100000 in
theorem dX12_feed_27 : decode cX12_feed 27 = .ok (.if_icmp .ge 82, 3) := by decide +kernel
set_option maxRecDepth 100000 in
theorem dX12_feed_30 : decode cX12_feed 30 = .ok (.iload 6, 2) := by decide +kernel
set_option maxRecDepth 100000 in
theorem dX12_feed_32 : decode cX12_feed 32 = .ok (.iconst 4, 1) := by decide +kernel
set_option maxRecDepth 100000 in
theorem dX12_feed_33 : decode cX12_feed 33 = .ok (.if_icmp .ge 7, 3) := by decide +kernel
set_option maxRecDepth 100000 in
theorem dX12_feed_36 : decode cX12_feed 36 = .ok (.iload_n 1, 1) := by decide +kernel
set_option maxRecDepth 100000 in
theorem dX12_feed_37 : decode cX12_feed 37 = .ok (.goto 39, 3) := by decide +kernel
set_option maxRecDepth 100000 in
theorem dX12_feed_40 : decode cX12_feed 40 = .ok (.iload 6, 2) := by decide +kernel
set_option maxRecDepth 100000 in
theorem dX12_feed_42 : decode cX12_feed 42 = .ok (.bipush 8, 2) := by decide +kernel
set_option maxRecDepth 100000 in
theorem dX12_feed_44 : decode cX12_feed 44 = .ok (.if_icmp .ge 7, 3) := by decide +kernel
set_option maxRecDepth 100000 in
theorem dX12_feed_47 : decode cX12_feed 47 = .ok (.iload_n 2, 1) := by decide +kernel
set_option maxRecDepth 100000 in
theorem dX12_feed_48 : decode cX12_feed 48 = .ok (.goto 28, 3) := by decide +kernel
set_option maxRecDepth 100000 in
theorem dX12_feed_51 : decode cX12_feed 51 = .ok (.iload 6, 2) := by decide +kernel
set_option maxRecDepth 100000 in
theorem dX12_feed_53 : decode cX12_feed 53 = .ok (.bipush 12, 2) := by decide +kernel
set_option maxRecDepth 100000 in
theorem dX12_feed_55 : decode cX12_feed 55 = .ok (.if_icmp .ge 7, 3) := by decide +kernel
set_option maxRecDepth 100000 in
theorem dX12_feed_58 : decode cX12_feed 58 = .ok (.iload_n 3, 1) := by decide +kernel
set_option maxRecDepth 100000 in
theorem dX12_feed_59 : decode cX12_feed 59 = .ok (.goto 17, 3) := by decide +kernel
set_option maxRecDepth 100000 in
theorem dX12_feed_62 : decode cX12_feed 62 = .ok (.iload 6, 2) := by decide +kernel
set_option maxRecDepth 100000 in
theorem dX12_feed_64 : decode cX12_feed 64 = .ok (.bipush 16, 2) := by decide +kernel
set_option maxRecDepth 100000 in
theorem dX12_feed_66 : decode cX12_feed 66 = .ok (.if_icmp .ge 8, 3) := by decide +kernel
set_option maxRecDepth 100000 in
theorem dX12_feed_69 : decode cX12_feed 69 = .ok (.iload 4, 2) := by decide +kernel
set_option maxRecDepth 100000 in
theorem dX12_feed_71 : decode cX12_feed 71 = .ok (.goto 5, 3) := by decide +kernel
set_option maxRecDepth 100000 in
theorem dX12_feed_74 : decode cX12_feed 74 = .ok (.iload 5, 2) := by decide +kernel
set_option maxRecDepth 100000 in
theorem dX12_feed_76 : decode cX12_feed 76 = .ok (.istore 7, 2) := by decide +kernel
set_option maxRecDepth 100000 in
theorem dX12_feed_78 : decode cX12_feed 78 = .ok (.aload_n 0, 1) := by decide +kernel
set_option maxRecDepth 100000 in
theorem dX12_feed_79 : decode cX12_feed 79 = .ok (.getfield 9, 3) := by decide +kernel
set_option maxRecDepth 100000 in
theorem dX12_feed_82 : decode cX12_feed 82 = .ok (.aload_n 0, 1) := by decide +kernel
set_option maxRecDepth 100000 in
theorem dX12_feed_83 : decode cX12_feed 83 = .ok (.getfield 253, 3) := by decide +kernel
set_option maxRecDepth 100000 in
theorem dX12_feed_86 : decode cX12_feed 86 = .ok (.iload 6, 2) := by decide +kernel
set_option maxRecDepth 100000 in
theorem dX12_feed_88 : decode cX12_feed 88 = .ok (.iadd, 1) := by decide +kernel
set_option maxRecDepth 100000 in
theorem dX12_feed_89 : decode cX12_feed 89 = .ok (.iload 7, 2) := by decide +kernel
set_option maxRecDepth 100000 in
theorem dX12_feed_91 : decode cX12_feed 91 = .ok (.bipush 8, 2) := by decide +kernel
set_option maxRecDepth 100000 in
theorem dX12_feed_93 : decode cX12_feed 93 = .ok (.iconst 3, 1) := by decide +kernel
set_option maxRecDepth 100000 in
theorem dX12_feed_94 : decode cX12_feed 94 = .ok (.iload 6, 2) := by decide +kernel
set_option maxRecDepth 100000 in
theorem dX12_feed_96 : decode cX12_feed 96 = .ok (.iconst 4, 1) := by decide +kernel
set_option maxRecDepth 100000 in
theorem dX12_feed_97 : decode cX12_feed 97 = .ok (.irem, 1) := by decide +kernel
set_option maxRecDepth 100000 in
theorem dX12_feed_98 : decode cX12_feed 98 = .ok (.isub, 1) := by decide +kernel
set_option maxRecDepth 100000 in
theorem dX12_feed_99 : decode cX12_feed 99 = .ok (.imul, 1) := by decide +kernel
set_option maxRecDepth 100000 in
theorem dX12_feed_100 : decode cX12_feed 100 = .ok (.ishr, 1) := by decide +kernel
set_option maxRecDepth 100000 in
theorem dX12_feed_101 : decode cX12_feed 101 = .ok (.i2b, 1) := by decide +kernel
set_option maxRecDepth 100000 in
theorem dX12_feed_102 : decode cX12_feed 102 = .ok (.bastore, 1) := by decide +kernel
set_option maxRecDepth 100000 in
theorem dX12_feed_103 : decode cX12_feed 103 = .ok (.iinc 6 1, 3) := by decide +kernel
set_option maxRecDepth 100000 in
theorem dX12_feed_106 : decode cX12_feed 106 = .ok (.goto (-83), 3) := by decide +kernel
set_option maxRecDepth 100000 in
theorem dX12_feed_109 : decode cX12_feed 109 = .ok (.aload_n 0, 1) := by decide +kernel
set_option maxRecDepth 100000 in
theorem dX12_feed_110 : decode cX12_feed 110 = .ok (.dup, 1) := by decide +kernel
set_option maxRecDepth 100000 in
theorem dX12_feed_111 : decode cX12_feed 111 = .ok (.getfield 253, 3) := by decide +kernel
set_option maxRecDepth 100000 in
theorem dX12_feed_114 : decode cX12_feed 114 = .ok (.bipush 20, 2) := by decide +kernel
set_option maxRecDepth 100000 in
theorem dX12_feed_116 : decode cX12_feed 116 = .ok (.iadd, 1) := by decide +kernel
set_option maxRecDepth 100000 in
theorem dX12_feed_117 : decode cX12_feed 117 = .ok (.putfield 253, 3) := by decide +kernel
set_option maxRecDepth 100000 in
theorem dX12_feed_120 : decode cX12_feed 120 = .ok (.iconst 1, 1) := by decide +kernel
set_option maxRecDepth 100000 in
theorem dX12_feed_121 : decode cX12_feed 121 = .ok (.ireturn, 1) := by decide +kernel
def lX12_feed_23 (G : xG) (fr lo : Nat) (x0 : Nat) (x1 : Int32) (x2 : Int32) (x3 : Int32) (x4 : Int32) (x5 : Int32) (x6 : Int32) (h : xH) (Q : Outcome → xH → Prop) : Prop := xP G YX12_feed fr lo 23 [(0, rv x0), (1, .int x1), (2, .int x2), (3, .int x3), (4, .int x4), (5, .int x5), (6, .int x6)] [] h Q
set_option maxRecDepth 100000 in
def bX12_feed_76 (G : xG) (fr lo : Nat) (x0 : Nat) (x1 : Int32) (x2 : Int32) (x3 : Int32) (x4 : Int32) (x5 : Int32) (x6 : Int32) (s0 : Int32) (h : xH) (Q : Outcome → xH → Prop) : Prop := tg h x0 = 13 ∧ tg h (fR h x0 3073) = 103 ∧ xGB G < (fR h x0 3073) ∧ vp_in ((fI h x0 3074) + x6) (ln h (fR h x0 3073)) ∧ (∀ h5 : xH, h5 = tI h (fR h x0 3073) (Int32.toNatClampNeg ((fI h x0 3074) + x6)) (vp_nar .byte ((Int32.toInt8 (s0 >>> ((8 * (3 - (x6 - x6 / 4 * 4))) &&& 31))).toInt32)) → lX12_feed_23 G fr lo x0 x1 x2 x3 x4 x5 (x6 + 1) h5 Q)
set_option maxRecDepth 100000 in
theorem uX12_feed_76 {G : xG} {fr lo : Nat} {x0 : Nat} {x1 : Int32} {x2 : Int32} {x3 : Int32} {x4 : Int32} {x5 : Int32} {x6 : Int32} {s0 : Int32} {h : xH} {Q : Outcome → xH → Prop} (hq : bX12_feed_76 G fr lo x0 x1 x2 x3 x4 x5 x6 s0 h Q) : xP G YX12_feed fr lo 76 [(0, rv x0), (1, .int x1), (2, .int x2), (3, .int x3), (4, .int x4), (5, .int x5), (6, .int x6)] [.int s0] h Q := by
  unfold bX12_feed_76 at hq
  refine x_istore (lv' := [(7, .int s0), (0, rv x0), (1, .int x1), (2, .int x2), (3, .int x3), (4, .int x4), (5, .int x5), (6, .int x6)]) dX12_feed_76 (by decide) rfl ?_
  refine x_aload_n 1 dX12_feed_78 rfl ?_
  obtain ⟨g1, hq⟩ := hq
  refine x_get (v := rv (fR h x0 3073)) fdX12_9 dX12_feed_79 g1 rfl ?_
  refine x_aload_n 1 dX12_feed_82 rfl ?_
  refine x_get (v := .int (fI h x0 3074)) fdX12_253 dX12_feed_83 g1 rfl ?_
  refine x_iload 7 dX12_feed_86 rfl ?_
  refine x_iadd dX12_feed_88 ?_
  refine x_iload 0 dX12_feed_89 rfl ?_
  refine x_bipush (v := 8) dX12_feed_91 (by decide) ?_
  refine x_iconst (v := 3) dX12_feed_93 (by decide) ?_
  refine x_iload 7 dX12_feed_94 rfl ?_
  refine x_iconst (v := 4) dX12_feed_96 (by decide) ?_
  refine x_irem dX12_feed_97 (by decide) ?_
  refine x_isub dX12_feed_98 ?_
  refine x_imul dX12_feed_99 ?_
  refine x_ishr dX12_feed_100 ?_
  refine x_i2b dX12_feed_101 ?_
  obtain ⟨g2, hq⟩ := hq
  obtain ⟨w3, hq⟩ := hq
  obtain ⟨i4, hq⟩ := hq
  obtain ⟨h5, e6⟩ : ∃ y, y = tI h (fR h x0 3073) (Int32.toNatClampNeg ((fI h x0 3074) + x6)) (vp_nar .byte ((Int32.toInt8 (s0 >>> ((8 * (3 - (x6 - x6 / 4 * 4))) &&& 31))).toInt32)) := ⟨_, rfl⟩
  replace hq := hq h5 e6
  refine x_bast' g2 (Or.inr w3) i4 dX12_feed_102 e6 ?_
  refine x_iinc (lv' := [(6, .int (x6 + 1)), (7, .int s0), (0, rv x0), (1, .int x1), (2, .int x2), (3, .int x3), (4, .int x4), (5, .int x5)]) 7 dX12_feed_103 rfl (by decide) rfl ?_
  refine x_goto (tgt := 23) dX12_feed_106 (by decide) ?_
  refine xP.pick (lv' := [(0, rv x0), (1, .int x1), (2, .int x2), (3, .int x3), (4, .int x4), (5, .int x5), (6, .int (x6 + 1))]) [2, 3, 4, 5, 6, 7, 0] rfl ?_
  exact hq
set_option maxRecDepth 100000 in
def bX12_feed_23 (G : xG) (fr lo : Nat) (x0 : Nat) (x1 : Int32) (x2 : Int32) (x3 : Int32) (x4 : Int32) (x5 : Int32) (x6 : Int32) (h : xH) (Q : Outcome → xH → Prop) : Prop := ((20 ≤ x6 → tg h x0 = 13 ∧ (∀ h3 : xH, h3 = sI h x0 3074 ((fI h x0 3074) + 20) → Q (.returned (some (.int 1))) h3)) ∧ (¬ 20 ≤ x6 → ((4 ≤ x6 → ((8 ≤ x6 → ((12 ≤ x6 → ((16 ≤ x6 → bX12_feed_76 G fr lo x0 x1 x2 x3 x4 x5 x6 x5 h Q) ∧ (¬ 16 ≤ x6 → bX12_feed_76 G fr lo x0 x1 x2 x3 x4 x5 x6 x4 h Q))) ∧ (¬ 12 ≤ x6 → bX12_feed_76 G fr lo x0 x1 x2 x3 x4 x5 x6 x3 h Q))) ∧ (¬ 8 ≤ x6 → bX12_feed_76 G fr lo x0 x1 x2 x3 x4 x5 x6 x2 h Q))) ∧ (¬ 4 ≤ x6 → bX12_feed_76 G fr lo x0 x1 x2 x3 x4 x5 x6 x1 h Q))))
set_option maxRecDepth 100000 in
theorem uX12_feed_23 {G : xG} {fr lo : Nat} {x0 : Nat} {x1 : Int32} {x2 : Int32} {x3 : Int32} {x4 : Int32} {x5 : Int32} {x6 : Int32} {h : xH} {Q : Outcome → xH → Prop} (hq : bX12_feed_23 G fr lo x0 x1 x2 x3 x4 x5 x6 h Q) : xP G YX12_feed fr lo 23 [(0, rv x0), (1, .int x1), (2, .int x2), (3, .int x3), (4, .int x4), (5, .int x5), (6, .int x6)] [] h Q := by
  unfold bX12_feed_23 at hq
  refine x_iload 6 dX12_feed_23 rfl ?_
  refine x_bipush (v := 20) dX12_feed_25 (by decide) ?_
  refine x_icmp_ge (tgt := 109) dX12_feed_27 (by decide) (fun c1 => ?_) (fun c1 => ?_)
  · replace hq := hq.1 c1
    refine x_aload_n 0 dX12_feed_109 rfl ?_
    refine x_dup dX12_feed_110 (rv_cat _) ?_
    obtain ⟨g2, hq⟩ := hq
    refine x_get (v := .int (fI h x0 3074)) fdX12_253 dX12_feed_111 g2 rfl ?_
    refine x_bipush (v := 20) dX12_feed_114 (by decide) ?_
    refine x_iadd dX12_feed_116 ?_
    obtain ⟨h3, e4⟩ : ∃ y, y = sI h x0 3074 ((fI h x0 3074) + 20) := ⟨_, rfl⟩
    replace hq := hq h3 e4
    refine x_putI fdX12_253 xty_I1 dX12_feed_117 g2 (Or.inl (by rw [g2]; rfl)) xnI rfl e4 ?_
    refine x_iconst (v := 1) dX12_feed_120 (by decide) ?_
    exact x_iret rfl rfl dX12_feed_121 hq
  · replace hq := hq.2 c1
    refine x_iload 6 dX12_feed_30 rfl ?_
    refine x_iconst (v := 4) dX12_feed_32 (by decide) ?_
    refine x_icmp_ge (tgt := 40) dX12_feed_33 (by decide) (fun c5 => ?_) (fun c5 => ?_)
    · replace hq := hq.1 c5
      refine x_iload 6 dX12_feed_40 rfl ?_
      refine x_bipush (v := 8) dX12_feed_42 (by decide) ?_
      refine x_icmp_ge (tgt := 51) dX12_feed_44 (by decide) (fun c6 => ?_) (fun c6 => ?_)
      · replace hq := hq.1 c6
        refine x_iload 6 dX12_feed_51 rfl ?_
        refine x_bipush (v := 12) dX12_feed_53 (by decide) ?_
        refine x_icmp_ge (tgt := 62) dX12_feed_55 (by decide) (fun c7 => ?_) (fun c7 => ?_)
        · replace hq := hq.1 c7
          refine x_iload 6 dX12_feed_62 rfl ?_
          refine x_bipush (v := 16) dX12_feed_64 (by decide) ?_
          refine x_icmp_ge (tgt := 74) dX12_feed_66 (by decide) (fun c8 => ?_) (fun c8 => ?_)
          · replace hq := hq.1 c8
            refine x_iload 5 dX12_feed_74 rfl ?_
            exact uX12_feed_76 hq
          · replace hq := hq.2 c8
            refine x_iload 4 dX12_feed_69 rfl ?_
            refine x_goto (tgt := 76) dX12_feed_71 (by decide) ?_
            exact uX12_feed_76 hq
        · replace hq := hq.2 c7
          refine x_iload_n 3 dX12_feed_58 rfl ?_
          refine x_goto (tgt := 76) dX12_feed_59 (by decide) ?_
          exact uX12_feed_76 hq
      · replace hq := hq.2 c6
        refine x_iload_n 2 dX12_feed_47 rfl ?_
        refine x_goto (tgt := 76) dX12_feed_48 (by decide) ?_
        exact uX12_feed_76 hq
    · replace hq := hq.2 c5
      refine x_iload_n 1 dX12_feed_36 rfl ?_
      refine x_goto (tgt := 76) dX12_feed_37 (by decide) ?_
      exact uX12_feed_76 hq
set_option maxRecDepth 100000 in
def bX12_feed (G : xG) (fr lo : Nat) (x0 : Nat) (x1 : Int32) (x2 : Int32) (x3 : Int32) (x4 : Int32) (x5 : Int32) (h : xH) (Q : Outcome → xH → Prop) : Prop := tg h x0 = 13 ∧ (∀ h2 : xH, h2 = sI h x0 3072 0 → ((((fI h2 x0 3074) + 20) ≤ 12000 → lX12_feed_23 G fr lo x0 x1 x2 x3 x4 x5 0 h2 Q) ∧ (¬ ((fI h2 x0 3074) + 20) ≤ 12000 → Q (.returned (some (.int 0))) h2)))
set_option maxRecDepth 100000 in
theorem uX12_feed {G : xG} {fr lo : Nat} {x0 : Nat} {x1 : Int32} {x2 : Int32} {x3 : Int32} {x4 : Int32} {x5 : Int32} {h : xH} {Q : Outcome → xH → Prop} (hq : bX12_feed G fr lo x0 x1 x2 x3 x4 x5 h Q) : xP G YX12_feed fr lo 0 [(0, rv x0), (1, .int x1), (2, .int x2), (3, .int x3), (4, .int x4), (5, .int x5)] [] h Q := by
  unfold bX12_feed at hq
  refine x_aload_n 0 dX12_feed_0 rfl ?_
  refine x_iconst (v := 0) dX12_feed_1 (by decide) ?_
  obtain ⟨g1, hq⟩ := hq
  obtain ⟨h2, e3⟩ : ∃ y, y = sI h x0 3072 0 := ⟨_, rfl⟩
  replace hq := hq h2 e3
  refine x_putI fdX12_250 xty_I1 dX12_feed_2 g1 (Or.inl (by rw [g1]; rfl)) xnI rfl e3 ?_
  refine x_aload_n 0 dX12_feed_5 rfl ?_
  have t4 : tg h2 x0 = 13 := by rw [e3]; exact g1
  refine x_get (v := .int (fI h2 x0 3074)) fdX12_253 dX12_feed_6 t4 rfl ?_
  refine x_bipush (v := 20) dX12_feed_9 (by decide) ?_
  refine x_iadd dX12_feed_11 ?_
  refine x_sipush (v := 12000) dX12_feed_12 (by decide) ?_
  refine x_icmp_le (tgt := 20) dX12_feed_15 (by decide) (fun c5 => ?_) (fun c5 => ?_)
  · replace hq := hq.1 c5
    refine x_iconst (v := 0) dX12_feed_20 (by decide) ?_
    refine x_istore (lv' := [(6, .int 0), (0, rv x0), (1, .int x1), (2, .int x2), (3, .int x3), (4, .int x4), (5, .int x5)]) dX12_feed_21 (by decide) rfl ?_
    refine xP.pick (lv' := [(0, rv x0), (1, .int x1), (2, .int x2), (3, .int x3), (4, .int x4), (5, .int x5), (6, .int 0)]) [1, 2, 3, 4, 5, 6, 0] rfl ?_
    exact hq
  · replace hq := hq.2 c5
    refine x_iconst (v := 0) dX12_feed_18 (by decide) ?_
    exact x_iret rfl rfl dX12_feed_19 hq
theorem rX12_feed {G : xG} {fr lo : Nat} {x0 : Nat} {x1 : Int32} {x2 : Int32} {x3 : Int32} {x4 : Int32} {x5 : Int32} {h : xH} {Q : Outcome → xH → Prop} (hq : bX12_feed G fr lo x0 x1 x2 x3 x4 x5 h Q) : xR G YX12_feed fr lo [rv x0, .int x1, .int x2, .int x3, .int x4, .int x5] h Q := by
  show xP _ _ _ _ _ (lv_args 0 _) _ _ _
  rw [show lv_args 0 [rv x0, .int x1, .int x2, .int x3, .int x4, .int x5] = [(0, rv x0), (1, .int x1), (2, .int x2), (3, .int x3), (4, .int x4), (5, .int x5)] from (xla1 (rv_cat _) (xla1 rfl (xla1 rfl (xla1 rfl (xla1 rfl (xla1 rfl xla0))))))]
  exact uX12_feed hq
set_option maxRecDepth 100000 in
theorem dX12_end_0 : decode cX12_end 0 = .ok (.aload_n 0, 1) := by decide +kernel
set_option maxRecDepth 100000 in
theorem dX12_end_1 : decode cX12_end 1 = .ok (.iconst 0, 1) := by decide +kernel
set_option maxRecDepth 100000 in
theorem dX12_end_2 : decode cX12_end 2 = .ok (.putfield 250, 3) := by decide +kernel
set_option maxRecDepth 100000 in
theorem dX12_end_5 : decode cX12_end 5 = .ok (.iload_n 1, 1) := by decide +kernel
set_option maxRecDepth 100000 in
theorem dX12_end_6 : decode cX12_end 6 = .ok (.ifCond .lt 11, 3) := by decide +kernel
set_option maxRecDepth 100000 in
theorem dX12_end_9 : decode cX12_end 9 = .ok (.iload_n 1, 1) := by decide +kernel
set_option maxRecDepth 100000 in
theorem dX12_end_10 : decode cX12_end 10 = .ok (.aload_n 0, 1) := by decide +kernel
set_option maxRecDepth 100000 in
theorem dX12_end_11 : decode cX12_end 11 = .ok (.getfield 253, 3) := by decide +kernel
set_option maxRecDepth 100000 in
theorem dX12_end_14 : decode cX12_end 14 = .ok (.if_icmp .le 5, 3) := by decide +kernel
set_option maxRecDepth 100000 in
theorem dX12_end_17 : decode cX12_end 17 = .ok (.iconst 0, 1) := by decide +kernel
set_option maxRecDepth 100000 in
theorem dX12_end_18 : decode cX12_end 18 = .ok (.ireturn, 1) := by decide +kernel
set_option maxRecDepth 100000 in
theorem dX12_end_19 : decode cX12_end 19 = .ok (.iconst 0, 1) := by decide +kernel
set_option maxRecDepth 100000 in
theorem dX12_end_20 : decode cX12_end 20 = .ok (.istore_n 2, 1) := by decide +kernel
set_option maxRecDepth 100000 in
theorem dX12_end_21 : decode cX12_end 21 = .ok (.iload_n 2, 1) := by decide +kernel
set_option maxRecDepth 100000 in
theorem dX12_end_22 : decode cX12_end 22 = .ok (.iload_n 1, 1) := by decide +kernel
set_option maxRecDepth 100000 in
theorem dX12_end_23 : decode cX12_end 23 = .ok (.if_icmp .ge 21, 3) := by decide +kernel
set_option maxRecDepth 100000 in
theorem dX12_end_26 : decode cX12_end 26 = .ok (.aload_n 0, 1) := by decide +kernel
set_option maxRecDepth 100000 in
theorem dX12_end_27 : decode cX12_end 27 = .ok (.getfield 13, 3) := by decide +kernel
set_option maxRecDepth 100000 in
theorem dX12_end_30 : decode cX12_end 30 = .ok (.iload_n 2, 1) := by decide +kernel
set_option maxRecDepth 100000 in
theorem dX12_end_31 : decode cX12_end 31 = .ok (.aload_n 0, 1) := by decide +kernel
set_option maxRecDepth 100000 in
theorem dX12_end_32 : decode cX12_end 32 = .ok (.getfield 9, 3) := by decide +kernel
set_option maxRecDepth 100000 in
theorem dX12_end_35 : decode cX12_end 35 = .ok (.iload_n 2, 1) := by decide +kernel
set_option maxRecDepth 100000 in
theorem dX12_end_36 : decode cX12_end 36 = .ok (.baload, 1) := by decide +kernel
set_option maxRecDepth 100000 in
theorem dX12_end_37 : decode cX12_end 37 = .ok (.bastore, 1) := by decide +kernel
set_option maxRecDepth 100000 in
theorem dX12_end_38 : decode cX12_end 38 = .ok (.iinc 2 1, 3) := by decide +kernel
set_option maxRecDepth 100000 in
theorem dX12_end_41 : decode cX12_end 41 = .ok (.goto (-20), 3) := by decide +kernel
set_option maxRecDepth 100000 in
theorem dX12_end_44 : decode cX12_end 44 = .ok (.aload_n 0, 1) := by decide +kernel
set_option maxRecDepth 100000 in
theorem dX12_end_45 : decode cX12_end 45 = .ok (.iload_n 1, 1) := by decide +kernel
set_option maxRecDepth 100000 in
theorem dX12_end_46 : decode cX12_end 46 = .ok (.putfield 256, 3) := by decide +kernel
set_option maxRecDepth 100000 in
theorem dX12_end_49 : decode cX12_end 49 = .ok (.aload_n 0, 1) := by decide +kernel
set_option maxRecDepth 100000 in
theorem dX12_end_50 : decode cX12_end 50 = .ok (.iconst 0, 1) := by decide +kernel
set_option maxRecDepth 100000 in
theorem dX12_end_51 : decode cX12_end 51 = .ok (.putfield 253, 3) := by decide +kernel
set_option maxRecDepth 100000 in
theorem dX12_end_54 : decode cX12_end 54 = .ok (.iconst 1, 1) := by decide +kernel
set_option maxRecDepth 100000 in
theorem dX12_end_55 : decode cX12_end 55 = .ok (.ireturn, 1) := by decide +kernel
def lX12_end_21 (G : xG) (fr lo : Nat) (x0 : Nat) (x1 : Int32) (x2 : Int32) (h : xH) (Q : Outcome → xH → Prop) : Prop := xP G YX12_end fr lo 21 [(0, rv x0), (1, .int x1), (2, .int x2)] [] h Q
set_option maxRecDepth 100000 in
def bX12_end_21 (G : xG) (fr lo : Nat) (x0 : Nat) (x1 : Int32) (x2 : Int32) (h : xH) (Q : Outcome → xH → Prop) : Prop := ((x1 ≤ x2 → tg h x0 = 13 ∧ (∀ h3 : xH, h3 = sI h x0 3076 x1 → (∀ h6 : xH, h6 = sI h3 x0 3074 0 → Q (.returned (some (.int 1))) h6))) ∧ (¬ x1 ≤ x2 → tg h x0 = 13 ∧ tg h (fR h x0 3073) = 103 ∧ vp_in x2 (ln h (fR h x0 3073)) ∧ tg h (fR h x0 3075) = 103 ∧ xGB G < (fR h x0 3075) ∧ vp_in x2 (ln h (fR h x0 3075)) ∧ (∀ h14 : xH, h14 = tI h (fR h x0 3075) (Int32.toNatClampNeg x2) (vp_nar .byte (aI h (fR h x0 3073) (Int32.toNatClampNeg x2))) → lX12_end_21 G fr lo x0 x1 (x2 + 1) h14 Q)))
set_option maxRecDepth 100000 in
theorem uX12_end_21 {G : xG} {fr lo : Nat} {x0 : Nat} {x1 : Int32} {x2 : Int32} {h : xH} {Q : Outcome → xH → Prop} (hq : bX12_end_21 G fr lo x0 x1 x2 h Q) : xP G YX12_end fr lo 21 [(0, rv x0), (1, .int x1), (2, .int x2)] [] h Q := by
  unfold bX12_end_21 at hq
  refine x_iload_n 2 dX12_end_21 rfl ?_
  refine x_iload_n 1 dX12_end_22 rfl ?_
  refine x_icmp_ge (tgt := 44) dX12_end_23 (by decide) (fun c1 => ?_) (fun c1 => ?_)
  · replace hq := hq.1 c1
    refine x_aload_n 0 dX12_end_44 rfl ?_
    refine x_iload_n 1 dX12_end_45 rfl ?_
    obtain ⟨g2, hq⟩ := hq
    obtain ⟨h3, e4⟩ : ∃ y, y = sI h x0 3076 x1 := ⟨_, rfl⟩
    replace hq := hq h3 e4
    refine x_putI fdX12_256 xty_I1 dX12_end_46 g2 (Or.inl (by rw [g2]; rfl)) xnI rfl e4 ?_
    refine x_aload_n 0 dX12_end_49 rfl ?_
    refine x_iconst (v := 0) dX12_end_50 (by decide) ?_
    have t5 : tg h3 x0 = 13 := by rw [e4]; exact g2
    obtain ⟨h6, e7⟩ : ∃ y, y = sI h3 x0 3074 0 := ⟨_, rfl⟩
    replace hq := hq h6 e7
    refine x_putI fdX12_253 xty_I1 dX12_end_51 t5 (Or.inl (by rw [t5]; rfl)) xnI rfl e7 ?_
    refine x_iconst (v := 1) dX12_end_54 (by decide) ?_
    exact x_iret rfl rfl dX12_end_55 hq
  · replace hq := hq.2 c1
    refine x_aload_n 0 dX12_end_26 rfl ?_
    obtain ⟨g8, hq⟩ := hq
    refine x_get (v := rv (fR h x0 3075)) fdX12_13 dX12_end_27 g8 rfl ?_
    refine x_iload_n 2 dX12_end_30 rfl ?_
    refine x_aload_n 0 dX12_end_31 rfl ?_
    refine x_get (v := rv (fR h x0 3073)) fdX12_9 dX12_end_32 g8 rfl ?_
    refine x_iload_n 2 dX12_end_35 rfl ?_
    obtain ⟨g9, hq⟩ := hq
    obtain ⟨i10, hq⟩ := hq
    refine x_bald g9 i10 dX12_end_36 ?_
    obtain ⟨g11, hq⟩ := hq
    obtain ⟨w12, hq⟩ := hq
    obtain ⟨i13, hq⟩ := hq
    obtain ⟨h14, e15⟩ : ∃ y, y = tI h (fR h x0 3075) (Int32.toNatClampNeg x2) (vp_nar .byte (aI h (fR h x0 3073) (Int32.toNatClampNeg x2))) := ⟨_, rfl⟩
    replace hq := hq h14 e15
    refine x_bast' g11 (Or.inr w12) i13 dX12_end_37 e15 ?_
    refine x_iinc (lv' := [(2, .int (x2 + 1)), (0, rv x0), (1, .int x1)]) 2 dX12_end_38 rfl (by decide) rfl ?_
    refine x_goto (tgt := 21) dX12_end_41 (by decide) ?_
    refine xP.pick (lv' := [(0, rv x0), (1, .int x1), (2, .int (x2 + 1))]) [1, 2, 0] rfl ?_
    exact hq
set_option maxRecDepth 100000 in
def bX12_end_17 (G : xG) (fr lo : Nat) (h : xH) (Q : Outcome → xH → Prop) : Prop := Q (.returned (some (.int 0))) h
set_option maxRecDepth 100000 in
theorem uX12_end_17 {G : xG} {fr lo : Nat} {h : xH} {Q : Outcome → xH → Prop} (hq : bX12_end_17 G fr lo h Q) : xP G YX12_end fr lo 17 [] [] h Q := by
  unfold bX12_end_17 at hq
  refine x_iconst (v := 0) dX12_end_17 (by decide) ?_
  exact x_iret rfl rfl dX12_end_18 hq
set_option maxRecDepth 100000 in
def bX12_end (G : xG) (fr lo : Nat) (x0 : Nat) (x1 : Int32) (h : xH) (Q : Outcome → xH → Prop) : Prop := tg h x0 = 13 ∧ (∀ h2 : xH, h2 = sI h x0 3072 0 → ((x1 < 0 → bX12_end_17 G fr lo h2 Q) ∧ (¬ x1 < 0 → ((x1 ≤ (fI h2 x0 3074) → lX12_end_21 G fr lo x0 x1 0 h2 Q) ∧ (¬ x1 ≤ (fI h2 x0 3074) → bX12_end_17 G fr lo h2 Q)))))
set_option maxRecDepth 100000 in
theorem uX12_end {G : xG} {fr lo : Nat} {x0 : Nat} {x1 : Int32} {h : xH} {Q : Outcome → xH → Prop} (hq : bX12_end G fr lo x0 x1 h Q) : xP G YX12_end fr lo 0 [(0, rv x0), (1, .int x1)] [] h Q := by
  unfold bX12_end at hq
  refine x_aload_n 0 dX12_end_0 rfl ?_
  refine x_iconst (v := 0) dX12_end_1 (by decide) ?_
  obtain ⟨g1, hq⟩ := hq
  obtain ⟨h2, e3⟩ : ∃ y, y = sI h x0 3072 0 := ⟨_, rfl⟩
  replace hq := hq h2 e3
  refine x_putI fdX12_250 xty_I1 dX12_end_2 g1 (Or.inl (by rw [g1]; rfl)) xnI rfl e3 ?_
  refine x_iload_n 1 dX12_end_5 rfl ?_
  refine x_if_lt (tgt := 17) dX12_end_6 (by decide) (fun c4 => ?_) (fun c4 => ?_)
  · replace hq := hq.1 c4
    refine xP.pick (lv' := []) [] rfl ?_
    exact uX12_end_17 hq
  · replace hq := hq.2 c4
    refine x_iload_n 1 dX12_end_9 rfl ?_
    refine x_aload_n 0 dX12_end_10 rfl ?_
    have t5 : tg h2 x0 = 13 := by rw [e3]; exact g1
    refine x_get (v := .int (fI h2 x0 3074)) fdX12_253 dX12_end_11 t5 rfl ?_
    refine x_icmp_le (tgt := 19) dX12_end_14 (by decide) (fun c6 => ?_) (fun c6 => ?_)
    · replace hq := hq.1 c6
      refine x_iconst (v := 0) dX12_end_19 (by decide) ?_
      refine x_istore_n (lv' := [(2, .int 0), (0, rv x0), (1, .int x1)]) dX12_end_20 (by decide) rfl ?_
      refine xP.pick (lv' := [(0, rv x0), (1, .int x1), (2, .int 0)]) [1, 2, 0] rfl ?_
      exact hq
    · replace hq := hq.2 c6
      refine xP.pick (lv' := []) [] rfl ?_
      exact uX12_end_17 hq
theorem rX12_end {G : xG} {fr lo : Nat} {x0 : Nat} {x1 : Int32} {h : xH} {Q : Outcome → xH → Prop} (hq : bX12_end G fr lo x0 x1 h Q) : xR G YX12_end fr lo [rv x0, .int x1] h Q := by
  show xP _ _ _ _ _ (lv_args 0 _) _ _ _
  rw [show lv_args 0 [rv x0, .int x1] = [(0, rv x0), (1, .int x1)] from (xla1 (rv_cat _) (xla1 rfl xla0))]
  exact uX12_end hq
set_option maxRecDepth 100000 in
theorem dX12_put_0 : decode cX12_put 0 = .ok (.aload_n 0, 1) := by decide +kernel
set_option maxRecDepth 100000 in
theorem dX12_put_1 : decode cX12_put 1 = .ok (.iconst 0, 1) := by decide +kernel
set_option maxRecDepth 100000 in
theorem dX12_put_2 : decode cX12_put 2 = .ok (.putfield 250, 3) := by decide +kernel
set_option maxRecDepth 100000 in
theorem dX12_put_5 : decode cX12_put 5 = .ok (.aload_n 0, 1) := by decide +kernel
set_option maxRecDepth 100000 in
theorem dX12_put_6 : decode cX12_put 6 = .ok (.getfield 256, 3) := by decide +kernel
set_option maxRecDepth 100000 in
theorem dX12_put_9 : decode cX12_put 9 = .ok (.istore_n 2, 1) := by decide +kernel
set_option maxRecDepth 100000 in
theorem dX12_put_10 : decode cX12_put 10 = .ok (.aload_n 0, 1) := by decide +kernel
set_option maxRecDepth 100000 in
theorem dX12_put_11 : decode cX12_put 11 = .ok (.iconst 0, 1) := by decide +kernel
set_option maxRecDepth 100000 in
theorem dX12_put_12 : decode cX12_put 12 = .ok (.putfield 256, 3) := by decide +kernel
set_option maxRecDepth 100000 in
theorem dX12_put_15 : decode cX12_put 15 = .ok (.iload_n 1, 1) := by decide +kernel
set_option maxRecDepth 100000 in
theorem dX12_put_16 : decode cX12_put 16 = .ok (.ifCond .lt 20, 3) := by decide +kernel
set_option maxRecDepth 100000 in
theorem dX12_put_19 : decode cX12_put 19 = .ok (.iload_n 1, 1) := by decide +kernel
set_option maxRecDepth 100000 in
theorem dX12_put_20 : decode cX12_put 20 = .ok (.bipush 8, 2) := by decide +kernel
set_option maxRecDepth 100000 in
theorem dX12_put_22 : decode cX12_put 22 = .ok (.if_icmp .ge 14, 3) := by decide +kernel
set_option maxRecDepth 100000 in
theorem dX12_put_25 : decode cX12_put 25 = .ok (.iload_n 2, 1) := by decide +kernel
set_option maxRecDepth 100000 in
theorem dX12_put_26 : decode cX12_put 26 = .ok (.sipush 3000, 3) := by decide +kernel
set_option maxRecDepth 100000 in
theorem dX12_put_29 : decode cX12_put 29 = .ok (.if_icmp .gt 7, 3) := by decide +kernel
set_option maxRecDepth 100000 in
theorem dX12_put_32 : decode cX12_put 32 = .ok (.iconst 1, 1) := by decide +kernel
set_option maxRecDepth 100000 in
theorem dX12_put_33 : decode cX12_put 33 = .ok (.goto 4, 3) := by decide +kernel
set_option maxRecDepth 100000 in
theorem dX12_put_36 : decode cX12_put 36 = .ok (.iconst 0, 1) := by decide +kernel
set_option maxRecDepth 100000 in
theorem dX12_put_37 : decode cX12_put 37 = .ok (.istore_n 3, 1) := by decide +kernel
set_option maxRecDepth 100000 in
theorem dX12_put_38 : decode cX12_put 38 = .ok (.iconst 0, 1) := by decide +kernel
set_option maxRecDepth 100000 in
theorem dX12_put_39 : decode cX12_put 39 = .ok (.istore 4, 2) := by decide +kernel
set_option maxRecDepth 100000 in
theorem dX12_put_41 : decode cX12_put 41 = .ok (.iload 4, 2) := by decide +kernel
set_option maxRecDepth 100000 in
theorem dX12_put_43 : decode cX12_put 43 = .ok (.iload_n 2, 1) := by decide +kernel
set_option maxRecDepth 100000 in
theorem dX12_put_44 : decode cX12_put 44 = .ok (.if_icmp .ge 55, 3) := by decide +kernel
set_option maxRecDepth 100000 in
theorem dX12_put_47 : decode cX12_put 47 = .ok (.iload_n 3, 1) := by decide +kernel
set_option maxRecDepth 100000 in
theorem dX12_put_48 : decode cX12_put 48 = .ok (.ifCond .eq 51, 3) := by decide +kernel
set_option maxRecDepth 100000 in
theorem dX12_put_51 : decode cX12_put 51 = .ok (.aload_n 0, 1) := by decide +kernel
set_option maxRecDepth 100000 in
theorem dX12_put_52 : decode cX12_put 52 = .ok (.getfield 13, 3) := by decide +kernel
set_option maxRecDepth 100000 in
theorem dX12_put_55 : decode cX12_put 55 = .ok (.iload 4, 2) := by decide +kernel
set_option maxRecDepth 100000 in
theorem dX12_put_57 : decode cX12_put 57 = .ok (.baload, 1) := by decide +kernel
set_option maxRecDepth 100000 in
theorem dX12_put_58 : decode cX12_put 58 = .ok (.bipush 10, 2) := by decide +kernel
set_option maxRecDepth 100000 in
theorem dX12_put_60 : decode cX12_put 60 = .ok (.if_icmp .eq 27, 3) := by decide +kernel
set_option maxRecDepth 100000 in
theorem dX12_put_63 : decode cX12_put 63 = .ok (.aload_n 0, 1) := by decide +kernel
set_option maxRecDepth 100000 in
theorem dX12_put_64 : decode cX12_put 64 = .ok (.getfield 13, 3) := by decide +kernel
set_option maxRecDepth 100000 in
theorem dX12_put_67 : decode cX12_put 67 = .ok (.iload 4, 2) := by decide +kernel
set_option maxRecDepth 100000 in
theorem dX12_put_69 : decode cX12_put 69 = .ok (.baload, 1) := by decide +kernel
set_option maxRecDepth 100000 in
theorem dX12_put_70 : decode cX12_put 70 = .ok (.bipush 32, 2) := by decide +kernel
set_option maxRecDepth 100000 in
theorem dX12_put_72 : decode cX12_put 72 = .ok (.if_icmp .lt 19, 3) := by decide +kernel
set_option maxRecDepth 100000 in
theorem dX12_put_75 : decode cX12_put 75 = .ok (.aload_n 0, 1) := by decide +kernel
set_option maxRecDepth 100000 in
theorem dX12_put_76 : decode cX12_put 76 = .ok (.getfield 13, 3) := by decide +kernel
set_option maxRecDepth 100000 in
theorem dX12_put_79 : decode cX12_put 79 = .ok (.iload 4, 2) := by decide +kernel
set_option maxRecDepth 100000 in
theorem dX12_put_81 : decode cX12_put 81 = .ok (.baload, 1) := by decide +kernel
set_option maxRecDepth 100000 in
theorem dX12_put_82 : decode cX12_put 82 = .ok (.bipush 126, 2) := by decide +kernel
set_option maxRecDepth 100000 in
theorem dX12_put_84 : decode cX12_put 84 = .ok (.if_icmp .gt 7, 3) := by decide +kernel
set_option maxRecDepth 100000 in
theorem dX12_put_87 : decode cX12_put 87 = .ok (.iconst 1, 1) := by decide +kernel
set_option maxRecDepth 100000 in
theorem dX12_put_88 : decode cX12_put 88 = .ok (.goto 4, 3) := by decide +kernel
set_option maxRecDepth 100000 in
theorem dX12_put_91 : decode cX12_put 91 = .ok (.iconst 0, 1) := by decide +kernel
set_option maxRecDepth 100000 in
theorem dX12_put_92 : decode cX12_put 92 = .ok (.istore_n 3, 1) := by decide +kernel
set_option maxRecDepth 100000 in
theorem dX12_put_93 : decode cX12_put 93 = .ok (.iinc 4 1, 3) := by decide +kernel
set_option maxRecDepth 100000 in
theorem dX12_put_96 : decode cX12_put 96 = .ok (.goto (-55), 3) := by decide +kernel
set_option maxRecDepth 100000 in
theorem dX12_put_99 : decode cX12_put 99 = .ok (.iload_n 3, 1) := by decide +kernel
set_option maxRecDepth 100000 in
theorem dX12_put_100 : decode cX12_put 100 = .ok (.ifCond .ne 5, 3) := by decide +kernel
set_option maxRecDepth 100000 in
theorem dX12_put_103 : decode cX12_put 103 = .ok (.iconst (-1), 1) := by decide +kernel
set_option maxRecDepth 100000 in
theorem dX12_put_104 : decode cX12_put 104 = .ok (.ireturn, 1) := by decide +kernel
set_option maxRecDepth 100000 in
theorem dX12_put_105 : decode cX12_put 105 = .ok (.iconst 0, 1) := by decide +kernel
set_option maxRecDepth 100000 in
theorem dX12_put_106 : decode cX12_put 106 = .ok (.istore 4, 2) := by decide +kernel
set_option maxRecDepth 100000 in
theorem dX12_put_108 : decode cX12_put 108 = .ok (.iload 4, 2) := by decide +kernel
set_option maxRecDepth 100000 in
theorem dX12_put_110 : decode cX12_put 110 = .ok (.iload_n 2, 1) := by decide +kernel
set_option maxRecDepth 100000 in
theorem dX12_put_111 : decode cX12_put 111 = .ok (.if_icmp .ge 29, 3) := by decide +kernel
set_option maxRecDepth 100000 in
theorem dX12_put_114 : decode cX12_put 114 = .ok (.aload_n 0, 1) := by decide +kernel
set_option maxRecDepth 100000 in
theorem dX12_put_115 : decode cX12_put 115 = .ok (.getfield 16, 3) := by decide +kernel
set_option maxRecDepth 100000 in
theorem dX12_put_118 : decode cX12_put 118 = .ok (.sipush 3000, 3) := by decide +kernel
set_option maxRecDepth 100000 in
theorem dX12_put_121 : decode cX12_put 121 = .ok (.iload_n 1, 1) := by decide +kernel
set_option maxRecDepth 100000 in
theorem dX12_put_122 : decode cX12_put 122 = .ok (.imul, 1) := by decide +kernel
set_option maxRecDepth 100000 in
theorem dX12_put_123 : decode cX12_put 123 = .ok (.iload 4, 2) := by decide +kernel
set_option maxRecDepth 100000 in
theorem dX12_put_125 : decode cX12_put 125 = .ok (.iadd, 1) := by decide +kernel
set_option maxRecDepth 100000 in
theorem dX12_put_126 : decode cX12_put 126 = .ok (.aload_n 0, 1) := by decide +kernel
set_option maxRecDepth 100000 in
theorem dX12_put_127 : decode cX12_put 127 = .ok (.getfield 13, 3) := by decide +kernel
set_option maxRecDepth 100000 in
theorem dX12_put_130 : decode cX12_put 130 = .ok (.iload 4, 2) := by decide +kernel
set_option maxRecDepth 100000 in
theorem dX12_put_132 : decode cX12_put 132 = .ok (.baload, 1) := by decide +kernel
set_option maxRecDepth 100000 in
theorem dX12_put_133 : decode cX12_put 133 = .ok (.bastore, 1) := by decide +kernel
set_option maxRecDepth 100000 in
theorem dX12_put_134 : decode cX12_put 134 = .ok (.iinc 4 1, 3) := by decide +kernel
set_option maxRecDepth 100000 in
theorem dX12_put_137 : decode cX12_put 137 = .ok (.goto (-29), 3) := by decide +kernel
set_option maxRecDepth 100000 in
theorem dX12_put_140 : decode cX12_put 140 = .ok (.aload_n 0, 1) := by decide +kernel
set_option maxRecDepth 100000 in
theorem dX12_put_141 : decode cX12_put 141 = .ok (.getfield 19, 3) := by decide +kernel
set_option maxRecDepth 100000 in
theorem dX12_put_144 : decode cX12_put 144 = .ok (.iload_n 1, 1) := by decide +kernel
set_option maxRecDepth 100000 in
theorem dX12_put_145 : decode cX12_put 145 = .ok (.iload_n 2, 1) := by decide +kernel
set_option maxRecDepth 100000 in
theorem dX12_put_146 : decode cX12_put 146 = .ok (.iastore, 1) := by decide +kernel
set_option maxRecDepth 100000 in
theorem dX12_put_147 : decode cX12_put 147 = .ok (.iload_n 2, 1) := by decide +kernel
set_option maxRecDepth 100000 in
theorem dX12_put_148 : decode cX12_put 148 = .ok (.ireturn, 1) := by decide +kernel
def lX12_put_41 (G : xG) (fr lo : Nat) (x0 : Nat) (x1 : Int32) (x2 : Int32) (x3 : Int32) (x4 : Int32) (h : xH) (Q : Outcome → xH → Prop) : Prop := xP G YX12_put fr lo 41 [(0, rv x0), (1, .int x1), (2, .int x2), (3, .int x3), (4, .int x4)] [] h Q
def lX12_put_108 (G : xG) (fr lo : Nat) (x0 : Nat) (x1 : Int32) (x2 : Int32) (x4 : Int32) (h : xH) (Q : Outcome → xH → Prop) : Prop := xP G YX12_put fr lo 108 [(0, rv x0), (1, .int x1), (2, .int x2), (4, .int x4)] [] h Q
set_option maxRecDepth 100000 in
def bX12_put_108 (G : xG) (fr lo : Nat) (x0 : Nat) (x1 : Int32) (x2 : Int32) (x4 : Int32) (h : xH) (Q : Outcome → xH → Prop) : Prop := ((x2 ≤ x4 → tg h x0 = 13 ∧ tg h (fR h x0 3078) = 100 ∧ vp_in x1 (ln h (fR h x0 3078)) ∧ (∀ h5 : xH, h5 = tI h (fR h x0 3078) (Int32.toNatClampNeg x1) x2 → Q (.returned (some (.int x2))) h5)) ∧ (¬ x2 ≤ x4 → tg h x0 = 13 ∧ tg h (fR h x0 3075) = 103 ∧ vp_in x4 (ln h (fR h x0 3075)) ∧ tg h (fR h x0 3077) = 103 ∧ xGB G < (fR h x0 3077) ∧ vp_in ((3000 * x1) + x4) (ln h (fR h x0 3077)) ∧ (∀ h13 : xH, h13 = tI h (fR h x0 3077) (Int32.toNatClampNeg ((3000 * x1) + x4)) (vp_nar .byte (aI h (fR h x0 3075) (Int32.toNatClampNeg x4))) → lX12_put_108 G fr lo x0 x1 x2 (x4 + 1) h13 Q)))
set_option maxRecDepth 100000 in
theorem uX12_put_108 {G : xG} {fr lo : Nat} {x0 : Nat} {x1 : Int32} {x2 : Int32} {x4 : Int32} {h : xH} {Q : Outcome → xH → Prop} (hq : bX12_put_108 G fr lo x0 x1 x2 x4 h Q) : xP G YX12_put fr lo 108 [(0, rv x0), (1, .int x1), (2, .int x2), (4, .int x4)] [] h Q := by
  unfold bX12_put_108 at hq
  refine x_iload 3 dX12_put_108 rfl ?_
  refine x_iload_n 2 dX12_put_110 rfl ?_
  refine x_icmp_ge (tgt := 140) dX12_put_111 (by decide) (fun c1 => ?_) (fun c1 => ?_)
  · replace hq := hq.1 c1
    refine x_aload_n 0 dX12_put_140 rfl ?_
    obtain ⟨g2, hq⟩ := hq
    refine x_get (v := rv (fR h x0 3078)) fdX12_19 dX12_put_141 g2 rfl ?_
    refine x_iload_n 1 dX12_put_144 rfl ?_
    refine x_iload_n 2 dX12_put_145 rfl ?_
    obtain ⟨g3, hq⟩ := hq
    obtain ⟨i4, hq⟩ := hq
    obtain ⟨h5, e6⟩ : ∃ y, y = tI h (fR h x0 3078) (Int32.toNatClampNeg x1) x2 := ⟨_, rfl⟩
    replace hq := hq h5 e6
    refine x_iast' g3 i4 dX12_put_146 e6 ?_
    refine x_iload_n 2 dX12_put_147 rfl ?_
    exact x_iret rfl rfl dX12_put_148 hq
  · replace hq := hq.2 c1
    refine x_aload_n 0 dX12_put_114 rfl ?_
    obtain ⟨g7, hq⟩ := hq
    refine x_get (v := rv (fR h x0 3077)) fdX12_16 dX12_put_115 g7 rfl ?_
    refine x_sipush (v := 3000) dX12_put_118 (by decide) ?_
    refine x_iload_n 1 dX12_put_121 rfl ?_
    refine x_imul dX12_put_122 ?_
    refine x_iload 3 dX12_put_123 rfl ?_
    refine x_iadd dX12_put_125 ?_
    refine x_aload_n 0 dX12_put_126 rfl ?_
    refine x_get (v := rv (fR h x0 3075)) fdX12_13 dX12_put_127 g7 rfl ?_
    refine x_iload 3 dX12_put_130 rfl ?_
    obtain ⟨g8, hq⟩ := hq
    obtain ⟨i9, hq⟩ := hq
    refine x_bald g8 i9 dX12_put_132 ?_
    obtain ⟨g10, hq⟩ := hq
    obtain ⟨w11, hq⟩ := hq
    obtain ⟨i12, hq⟩ := hq
    obtain ⟨h13, e14⟩ : ∃ y, y = tI h (fR h x0 3077) (Int32.toNatClampNeg ((3000 * x1) + x4)) (vp_nar .byte (aI h (fR h x0 3075) (Int32.toNatClampNeg x4))) := ⟨_, rfl⟩
    replace hq := hq h13 e14
    refine x_bast' g10 (Or.inr w11) i12 dX12_put_133 e14 ?_
    refine x_iinc (lv' := [(4, .int (x4 + 1)), (0, rv x0), (1, .int x1), (2, .int x2)]) 3 dX12_put_134 rfl (by decide) rfl ?_
    refine x_goto (tgt := 108) dX12_put_137 (by decide) ?_
    refine xP.pick (lv' := [(0, rv x0), (1, .int x1), (2, .int x2), (4, .int (x4 + 1))]) [1, 2, 3, 0] rfl ?_
    exact hq
set_option maxRecDepth 100000 in
def bX12_put_99 (G : xG) (fr lo : Nat) (x0 : Nat) (x1 : Int32) (x2 : Int32) (x3 : Int32) (h : xH) (Q : Outcome → xH → Prop) : Prop := ((¬ x3 = 0 → lX12_put_108 G fr lo x0 x1 x2 0 h Q) ∧ (x3 = 0 → Q (.returned (some (.int (-1)))) h))
set_option maxRecDepth 100000 in
theorem uX12_put_99 {G : xG} {fr lo : Nat} {x0 : Nat} {x1 : Int32} {x2 : Int32} {x3 : Int32} {h : xH} {Q : Outcome → xH → Prop} (hq : bX12_put_99 G fr lo x0 x1 x2 x3 h Q) : xP G YX12_put fr lo 99 [(0, rv x0), (1, .int x1), (2, .int x2), (3, .int x3)] [] h Q := by
  unfold bX12_put_99 at hq
  refine x_iload_n 3 dX12_put_99 rfl ?_
  refine x_if_ne (tgt := 105) dX12_put_100 (by decide) (fun c1 => ?_) (fun c1 => ?_)
  · replace hq := hq.1 c1
    refine x_iconst (v := 0) dX12_put_105 (by decide) ?_
    refine x_istore (lv' := [(4, .int 0), (0, rv x0), (1, .int x1), (2, .int x2), (3, .int x3)]) dX12_put_106 (by decide) rfl ?_
    refine xP.pick (lv' := [(0, rv x0), (1, .int x1), (2, .int x2), (4, .int 0)]) [1, 2, 3, 0] rfl ?_
    exact hq
  · replace hq := hq.2 c1
    refine x_iconst (v := (-1)) dX12_put_103 (by decide) ?_
    exact x_iret rfl rfl dX12_put_104 hq
set_option maxRecDepth 100000 in
def bX12_put_92 (G : xG) (fr lo : Nat) (x0 : Nat) (x1 : Int32) (x2 : Int32) (x4 : Int32) (s0 : Int32) (h : xH) (Q : Outcome → xH → Prop) : Prop := lX12_put_41 G fr lo x0 x1 x2 s0 (x4 + 1) h Q
set_option maxRecDepth 100000 in
theorem uX12_put_92 {G : xG} {fr lo : Nat} {x0 : Nat} {x1 : Int32} {x2 : Int32} {x4 : Int32} {s0 : Int32} {h : xH} {Q : Outcome → xH → Prop} (hq : bX12_put_92 G fr lo x0 x1 x2 x4 s0 h Q) : xP G YX12_put fr lo 92 [(0, rv x0), (1, .int x1), (2, .int x2), (4, .int x4)] [.int s0] h Q := by
  unfold bX12_put_92 at hq
  refine x_istore_n (lv' := [(3, .int s0), (0, rv x0), (1, .int x1), (2, .int x2), (4, .int x4)]) dX12_put_92 (by decide) rfl ?_
  refine x_iinc (lv' := [(4, .int (x4 + 1)), (3, .int s0), (0, rv x0), (1, .int x1), (2, .int x2)]) 4 dX12_put_93 rfl (by decide) rfl ?_
  refine x_goto (tgt := 41) dX12_put_96 (by decide) ?_
  refine xP.pick (lv' := [(0, rv x0), (1, .int x1), (2, .int x2), (3, .int s0), (4, .int (x4 + 1))]) [2, 3, 4, 1, 0] rfl ?_
  exact hq
set_option maxRecDepth 100000 in
def bX12_put_91 (G : xG) (fr lo : Nat) (x0 : Nat) (x1 : Int32) (x2 : Int32) (x4 : Int32) (h : xH) (Q : Outcome → xH → Prop) : Prop := bX12_put_92 G fr lo x0 x1 x2 x4 0 h Q
set_option maxRecDepth 100000 in
theorem uX12_put_91 {G : xG} {fr lo : Nat} {x0 : Nat} {x1 : Int32} {x2 : Int32} {x4 : Int32} {h : xH} {Q : Outcome → xH → Prop} (hq : bX12_put_91 G fr lo x0 x1 x2 x4 h Q) : xP G YX12_put fr lo 91 [(0, rv x0), (1, .int x1), (2, .int x2), (4, .int x4)] [] h Q := by
  unfold bX12_put_91 at hq
  refine x_iconst (v := 0) dX12_put_91 (by decide) ?_
  exact uX12_put_92 hq
set_option maxRecDepth 100000 in
def bX12_put_87 (G : xG) (fr lo : Nat) (x0 : Nat) (x1 : Int32) (x2 : Int32) (x4 : Int32) (h : xH) (Q : Outcome → xH → Prop) : Prop := bX12_put_92 G fr lo x0 x1 x2 x4 1 h Q
set_option maxRecDepth 100000 in
theorem uX12_put_87 {G : xG} {fr lo : Nat} {x0 : Nat} {x1 : Int32} {x2 : Int32} {x4 : Int32} {h : xH} {Q : Outcome → xH → Prop} (hq : bX12_put_87 G fr lo x0 x1 x2 x4 h Q) : xP G YX12_put fr lo 87 [(0, rv x0), (1, .int x1), (2, .int x2), (4, .int x4)] [] h Q := by
  unfold bX12_put_87 at hq
  refine x_iconst (v := 1) dX12_put_87 (by decide) ?_
  refine x_goto (tgt := 92) dX12_put_88 (by decide) ?_
  exact uX12_put_92 hq
set_option maxRecDepth 100000 in
def bX12_put_41 (G : xG) (fr lo : Nat) (x0 : Nat) (x1 : Int32) (x2 : Int32) (x3 : Int32) (x4 : Int32) (h : xH) (Q : Outcome → xH → Prop) : Prop := ((x2 ≤ x4 → bX12_put_99 G fr lo x0 x1 x2 x3 h Q) ∧ (¬ x2 ≤ x4 → ((x3 = 0 → bX12_put_99 G fr lo x0 x1 x2 x3 h Q) ∧ (¬ x3 = 0 → tg h x0 = 13 ∧ tg h (fR h x0 3075) = 103 ∧ vp_in x4 (ln h (fR h x0 3075)) ∧ (((aI h (fR h x0 3075) (Int32.toNatClampNeg x4)) = 10 → bX12_put_87 G fr lo x0 x1 x2 x4 h Q) ∧ (¬ (aI h (fR h x0 3075) (Int32.toNatClampNeg x4)) = 10 → vp_in x4 (ln h (fR h x0 3075)) ∧ (((aI h (fR h x0 3075) (Int32.toNatClampNeg x4)) < 32 → bX12_put_91 G fr lo x0 x1 x2 x4 h Q) ∧ (¬ (aI h (fR h x0 3075) (Int32.toNatClampNeg x4)) < 32 → vp_in x4 (ln h (fR h x0 3075)) ∧ ((126 < (aI h (fR h x0 3075) (Int32.toNatClampNeg x4)) → bX12_put_91 G fr lo x0 x1 x2 x4 h Q) ∧ (¬ 126 < (aI h (fR h x0 3075) (Int32.toNatClampNeg x4)) → bX12_put_87 G fr lo x0 x1 x2 x4 h Q))))))))))
set_option maxRecDepth 100000 in
theorem uX12_put_41 {G : xG} {fr lo : Nat} {x0 : Nat} {x1 : Int32} {x2 : Int32} {x3 : Int32} {x4 : Int32} {h : xH} {Q : Outcome → xH → Prop} (hq : bX12_put_41 G fr lo x0 x1 x2 x3 x4 h Q) : xP G YX12_put fr lo 41 [(0, rv x0), (1, .int x1), (2, .int x2), (3, .int x3), (4, .int x4)] [] h Q := by
  unfold bX12_put_41 at hq
  refine x_iload 4 dX12_put_41 rfl ?_
  refine x_iload_n 2 dX12_put_43 rfl ?_
  refine x_icmp_ge (tgt := 99) dX12_put_44 (by decide) (fun c1 => ?_) (fun c1 => ?_)
  · replace hq := hq.1 c1
    refine xP.pick (lv' := [(0, rv x0), (1, .int x1), (2, .int x2), (3, .int x3)]) [0, 1, 2, 3] rfl ?_
    exact uX12_put_99 hq
  · replace hq := hq.2 c1
    refine x_iload_n 3 dX12_put_47 rfl ?_
    refine x_if_eq (tgt := 99) dX12_put_48 (by decide) (fun c2 => ?_) (fun c2 => ?_)
    · replace hq := hq.1 c2
      refine xP.pick (lv' := [(0, rv x0), (1, .int x1), (2, .int x2), (3, .int x3)]) [0, 1, 2, 3] rfl ?_
      exact uX12_put_99 hq
    · replace hq := hq.2 c2
      refine x_aload_n 0 dX12_put_51 rfl ?_
      obtain ⟨g3, hq⟩ := hq
      refine x_get (v := rv (fR h x0 3075)) fdX12_13 dX12_put_52 g3 rfl ?_
      refine x_iload 4 dX12_put_55 rfl ?_
      obtain ⟨g4, hq⟩ := hq
      obtain ⟨i5, hq⟩ := hq
      refine x_bald g4 i5 dX12_put_57 ?_
      refine x_bipush (v := 10) dX12_put_58 (by decide) ?_
      refine x_icmp_eq (tgt := 87) dX12_put_60 (by decide) (fun c6 => ?_) (fun c6 => ?_)
      · replace hq := hq.1 c6
        refine xP.pick (lv' := [(0, rv x0), (1, .int x1), (2, .int x2), (4, .int x4)]) [0, 1, 2, 4] rfl ?_
        exact uX12_put_87 hq
      · replace hq := hq.2 c6
        refine x_aload_n 0 dX12_put_63 rfl ?_
        refine x_get (v := rv (fR h x0 3075)) fdX12_13 dX12_put_64 g3 rfl ?_
        refine x_iload 4 dX12_put_67 rfl ?_
        obtain ⟨i7, hq⟩ := hq
        refine x_bald g4 i7 dX12_put_69 ?_
        refine x_bipush (v := 32) dX12_put_70 (by decide) ?_
        refine x_icmp_lt (tgt := 91) dX12_put_72 (by decide) (fun c8 => ?_) (fun c8 => ?_)
        · replace hq := hq.1 c8
          refine xP.pick (lv' := [(0, rv x0), (1, .int x1), (2, .int x2), (4, .int x4)]) [0, 1, 2, 4] rfl ?_
          exact uX12_put_91 hq
        · replace hq := hq.2 c8
          refine x_aload_n 0 dX12_put_75 rfl ?_
          refine x_get (v := rv (fR h x0 3075)) fdX12_13 dX12_put_76 g3 rfl ?_
          refine x_iload 4 dX12_put_79 rfl ?_
          obtain ⟨i9, hq⟩ := hq
          refine x_bald g4 i9 dX12_put_81 ?_
          refine x_bipush (v := 126) dX12_put_82 (by decide) ?_
          refine x_icmp_gt (tgt := 91) dX12_put_84 (by decide) (fun c10 => ?_) (fun c10 => ?_)
          · replace hq := hq.1 c10
            refine xP.pick (lv' := [(0, rv x0), (1, .int x1), (2, .int x2), (4, .int x4)]) [0, 1, 2, 4] rfl ?_
            exact uX12_put_91 hq
          · replace hq := hq.2 c10
            refine xP.pick (lv' := [(0, rv x0), (1, .int x1), (2, .int x2), (4, .int x4)]) [0, 1, 2, 4] rfl ?_
            exact uX12_put_87 hq
set_option maxRecDepth 100000 in
def bX12_put_37 (G : xG) (fr lo : Nat) (x0 : Nat) (x1 : Int32) (x2 : Int32) (s0 : Int32) (h : xH) (Q : Outcome → xH → Prop) : Prop := lX12_put_41 G fr lo x0 x1 x2 s0 0 h Q
set_option maxRecDepth 100000 in
theorem uX12_put_37 {G : xG} {fr lo : Nat} {x0 : Nat} {x1 : Int32} {x2 : Int32} {s0 : Int32} {h : xH} {Q : Outcome → xH → Prop} (hq : bX12_put_37 G fr lo x0 x1 x2 s0 h Q) : xP G YX12_put fr lo 37 [(0, rv x0), (1, .int x1), (2, .int x2)] [.int s0] h Q := by
  unfold bX12_put_37 at hq
  refine x_istore_n (lv' := [(3, .int s0), (0, rv x0), (1, .int x1), (2, .int x2)]) dX12_put_37 (by decide) rfl ?_
  refine x_iconst (v := 0) dX12_put_38 (by decide) ?_
  refine x_istore (lv' := [(4, .int 0), (3, .int s0), (0, rv x0), (1, .int x1), (2, .int x2)]) dX12_put_39 (by decide) rfl ?_
  refine xP.pick (lv' := [(0, rv x0), (1, .int x1), (2, .int x2), (3, .int s0), (4, .int 0)]) [2, 3, 4, 1, 0] rfl ?_
  exact hq
set_option maxRecDepth 100000 in
def bX12_put_36 (G : xG) (fr lo : Nat) (x0 : Nat) (x1 : Int32) (x2 : Int32) (h : xH) (Q : Outcome → xH → Prop) : Prop := bX12_put_37 G fr lo x0 x1 x2 0 h Q
set_option maxRecDepth 100000 in
theorem uX12_put_36 {G : xG} {fr lo : Nat} {x0 : Nat} {x1 : Int32} {x2 : Int32} {h : xH} {Q : Outcome → xH → Prop} (hq : bX12_put_36 G fr lo x0 x1 x2 h Q) : xP G YX12_put fr lo 36 [(0, rv x0), (1, .int x1), (2, .int x2)] [] h Q := by
  unfold bX12_put_36 at hq
  refine x_iconst (v := 0) dX12_put_36 (by decide) ?_
  exact uX12_put_37 hq
set_option maxRecDepth 100000 in
def bX12_put (G : xG) (fr lo : Nat) (x0 : Nat) (x1 : Int32) (h : xH) (Q : Outcome → xH → Prop) : Prop := tg h x0 = 13 ∧ (∀ h2 : xH, h2 = sI h x0 3072 0 → (∀ h5 : xH, h5 = sI h2 x0 3076 0 → ((x1 < 0 → bX12_put_36 G fr lo x0 x1 (fI h2 x0 3076) h5 Q) ∧ (¬ x1 < 0 → ((8 ≤ x1 → bX12_put_36 G fr lo x0 x1 (fI h2 x0 3076) h5 Q) ∧ (¬ 8 ≤ x1 → ((3000 < (fI h2 x0 3076) → bX12_put_36 G fr lo x0 x1 (fI h2 x0 3076) h5 Q) ∧ (¬ 3000 < (fI h2 x0 3076) → bX12_put_37 G fr lo x0 x1 (fI h2 x0 3076) 1 h5 Q))))))))
set_option maxRecDepth 100000 in
theorem uX12_put {G : xG} {fr lo : Nat} {x0 : Nat} {x1 : Int32} {h : xH} {Q : Outcome → xH → Prop} (hq : bX12_put G fr lo x0 x1 h Q) : xP G YX12_put fr lo 0 [(0, rv x0), (1, .int x1)] [] h Q := by
  unfold bX12_put at hq
  refine x_aload_n 0 dX12_put_0 rfl ?_
  refine x_iconst (v := 0) dX12_put_1 (by decide) ?_
  obtain ⟨g1, hq⟩ := hq
  obtain ⟨h2, e3⟩ : ∃ y, y = sI h x0 3072 0 := ⟨_, rfl⟩
  replace hq := hq h2 e3
  refine x_putI fdX12_250 xty_I1 dX12_put_2 g1 (Or.inl (by rw [g1]; rfl)) xnI rfl e3 ?_
  refine x_aload_n 0 dX12_put_5 rfl ?_
  have t4 : tg h2 x0 = 13 := by rw [e3]; exact g1
  refine x_get (v := .int (fI h2 x0 3076)) fdX12_256 dX12_put_6 t4 rfl ?_
  refine x_istore_n (lv' := [(2, .int (fI h2 x0 3076)), (0, rv x0), (1, .int x1)]) dX12_put_9 (by decide) rfl ?_
  refine x_aload_n 1 dX12_put_10 rfl ?_
  refine x_iconst (v := 0) dX12_put_11 (by decide) ?_
  obtain ⟨h5, e6⟩ : ∃ y, y = sI h2 x0 3076 0 := ⟨_, rfl⟩
  replace hq := hq h5 e6
  refine x_putI fdX12_256 xty_I1 dX12_put_12 t4 (Or.inl (by rw [t4]; rfl)) xnI rfl e6 ?_
  refine x_iload_n 2 dX12_put_15 rfl ?_
  refine x_if_lt (tgt := 36) dX12_put_16 (by decide) (fun c7 => ?_) (fun c7 => ?_)
  · replace hq := hq.1 c7
    refine xP.pick (lv' := [(0, rv x0), (1, .int x1), (2, .int (fI h2 x0 3076))]) [1, 2, 0] rfl ?_
    exact uX12_put_36 hq
  · replace hq := hq.2 c7
    refine x_iload_n 2 dX12_put_19 rfl ?_
    refine x_bipush (v := 8) dX12_put_20 (by decide) ?_
    refine x_icmp_ge (tgt := 36) dX12_put_22 (by decide) (fun c8 => ?_) (fun c8 => ?_)
    · replace hq := hq.1 c8
      refine xP.pick (lv' := [(0, rv x0), (1, .int x1), (2, .int (fI h2 x0 3076))]) [1, 2, 0] rfl ?_
      exact uX12_put_36 hq
    · replace hq := hq.2 c8
      refine x_iload_n 0 dX12_put_25 rfl ?_
      refine x_sipush (v := 3000) dX12_put_26 (by decide) ?_
      refine x_icmp_gt (tgt := 36) dX12_put_29 (by decide) (fun c9 => ?_) (fun c9 => ?_)
      · replace hq := hq.1 c9
        refine xP.pick (lv' := [(0, rv x0), (1, .int x1), (2, .int (fI h2 x0 3076))]) [1, 2, 0] rfl ?_
        exact uX12_put_36 hq
      · replace hq := hq.2 c9
        refine x_iconst (v := 1) dX12_put_32 (by decide) ?_
        refine x_goto (tgt := 37) dX12_put_33 (by decide) ?_
        refine xP.pick (lv' := [(0, rv x0), (1, .int x1), (2, .int (fI h2 x0 3076))]) [1, 2, 0] rfl ?_
        exact uX12_put_37 hq
theorem rX12_put {G : xG} {fr lo : Nat} {x0 : Nat} {x1 : Int32} {h : xH} {Q : Outcome → xH → Prop} (hq : bX12_put G fr lo x0 x1 h Q) : xR G YX12_put fr lo [rv x0, .int x1] h Q := by
  show xP _ _ _ _ _ (lv_args 0 _) _ _ _
  rw [show lv_args 0 [rv x0, .int x1] = [(0, rv x0), (1, .int x1)] from (xla1 (rv_cat _) (xla1 rfl xla0))]
  exact uX12_put hq
set_option maxRecDepth 100000 in
theorem dX12_program_0 : decode cX12_program 0 = .ok (.aload_n 0, 1) := by decide +kernel
set_option maxRecDepth 100000 in
theorem dX12_program_1 : decode cX12_program 1 = .ok (.iconst 0, 1) := by decide +kernel
set_option maxRecDepth 100000 in
theorem dX12_program_2 : decode cX12_program 2 = .ok (.putfield 250, 3) := by decide +kernel
set_option maxRecDepth 100000 in
theorem dX12_program_5 : decode cX12_program 5 = .ok (.aload_n 0, 1) := by decide +kernel
set_option maxRecDepth 100000 in
theorem dX12_program_6 : decode cX12_program 6 = .ok (.iconst 0, 1) := by decide +kernel
set_option maxRecDepth 100000 in
theorem dX12_program_7 : decode cX12_program 7 = .ok (.putfield 1092, 3) := by decide +kernel
set_option maxRecDepth 100000 in
theorem dX12_program_10 : decode cX12_program 10 = .ok (.aload_n 0, 1) := by decide +kernel
set_option maxRecDepth 100000 in
theorem dX12_program_11 : decode cX12_program 11 = .ok (.iconst 0, 1) := by decide +kernel
set_option maxRecDepth 100000 in
theorem dX12_program_12 : decode cX12_program 12 = .ok (.putfield 1095, 3) := by decide +kernel
set_option maxRecDepth 100000 in
theorem dX12_program_15 : decode cX12_program 15 = .ok (.aload_n 0, 1) := by decide +kernel
set_option maxRecDepth 100000 in
theorem dX12_program_16 : decode cX12_program 16 = .ok (.getfield 256, 3) := by decide +kernel
set_option maxRecDepth 100000 in
theorem dX12_program_19 : decode cX12_program 19 = .ok (.istore_n 1, 1) := by decide +kernel
set_option maxRecDepth 100000 in
theorem dX12_program_20 : decode cX12_program 20 = .ok (.aload_n 0, 1) := by decide +kernel
set_option maxRecDepth 100000 in
theorem dX12_program_21 : decode cX12_program 21 = .ok (.iconst 0, 1) := by decide +kernel
set_option maxRecDepth 100000 in
theorem dX12_program_22 : decode cX12_program 22 = .ok (.putfield 256, 3) := by decide +kernel
set_option maxRecDepth 100000 in
theorem dX12_program_25 : decode cX12_program 25 = .ok (.aload_n 0, 1) := by decide +kernel
set_option maxRecDepth 100000 in
theorem dX12_program_26 : decode cX12_program 26 = .ok (.iconst 0, 1) := by decide +kernel
set_option maxRecDepth 100000 in
theorem dX12_program_27 : decode cX12_program 27 = .ok (.putfield 259, 3) := by decide +kernel
set_option maxRecDepth 100000 in
theorem dX12_program_30 : decode cX12_program 30 = .ok (.aload_n 0, 1) := by decide +kernel
set_option maxRecDepth 100000 in
theorem dX12_program_31 : decode cX12_program 31 = .ok (.iconst (-1), 1) := by decide +kernel
set_option maxRecDepth 100000 in
theorem dX12_program_32 : decode cX12_program 32 = .ok (.putfield 63, 3) := by decide +kernel
set_option maxRecDepth 100000 in
theorem dX12_program_35 : decode cX12_program 35 = .ok (.aload_n 0, 1) := by decide +kernel
set_option maxRecDepth 100000 in
theorem dX12_program_36 : decode cX12_program 36 = .ok (.iload_n 1, 1) := by decide +kernel
set_option maxRecDepth 100000 in
theorem dX12_program_37 : decode cX12_program 37 = .ok (.sipush 10000, 3) := by decide +kernel
set_option maxRecDepth 100000 in
theorem dX12_program_40 : decode cX12_program 40 = .ok (.invokestatic 1098, 3) := by decide +kernel
set_option maxRecDepth 100000 in
theorem dX12_program_43 : decode cX12_program 43 = .ok (.putfield 266, 3) := by decide +kernel
set_option maxRecDepth 100000 in
theorem dX12_program_46 : decode cX12_program 46 = .ok (.iconst 0, 1) := by decide +kernel
set_option maxRecDepth 100000 in
theorem dX12_program_47 : decode cX12_program 47 = .ok (.istore_n 2, 1) := by decide +kernel
set_option maxRecDepth 100000 in
theorem dX12_program_48 : decode cX12_program 48 = .ok (.iload_n 2, 1) := by decide +kernel
set_option maxRecDepth 100000 in
theorem dX12_program_49 : decode cX12_program 49 = .ok (.aload_n 0, 1) := by decide +kernel
set_option maxRecDepth 100000 in
theorem dX12_program_50 : decode cX12_program 50 = .ok (.getfield 266, 3) := by decide +kernel
set_option maxRecDepth 100000 in
theorem dX12_program_53 : decode cX12_program 53 = .ok (.if_icmp .ge 21, 3) := by decide +kernel
set_option maxRecDepth 100000 in
theorem dX12_program_56 : decode cX12_program 56 = .ok (.aload_n 0, 1) := by decide +kernel
set_option maxRecDepth 100000 in
theorem dX12_program_57 : decode cX12_program 57 = .ok (.getfield 23, 3) := by decide +kernel
set_option maxRecDepth 100000 in
theorem dX12_program_60 : decode cX12_program 60 = .ok (.iload_n 2, 1) := by decide +kernel
set_option maxRecDepth 100000 in
theorem dX12_program_61 : decode cX12_program 61 = .ok (.aload_n 0, 1) := by decide +kernel
set_option maxRecDepth 100000 in
theorem dX12_program_62 : decode cX12_program 62 = .ok (.getfield 13, 3) := by decide +kernel
set_option maxRecDepth 100000 in
theorem dX12_program_65 : decode cX12_program 65 = .ok (.iload_n 2, 1) := by decide +kernel
set_option maxRecDepth 100000 in
theorem dX12_program_66 : decode cX12_program 66 = .ok (.baload, 1) := by decide +kernel
set_option maxRecDepth 100000 in
theorem dX12_program_67 : decode cX12_program 67 = .ok (.bastore, 1) := by decide +kernel
set_option maxRecDepth 100000 in
theorem dX12_program_68 : decode cX12_program 68 = .ok (.iinc 2 1, 3) := by decide +kernel
set_option maxRecDepth 100000 in
theorem dX12_program_71 : decode cX12_program 71 = .ok (.goto (-23), 3) := by decide +kernel
set_option maxRecDepth 100000 in
theorem dX12_program_74 : decode cX12_program 74 = .ok (.aload_n 0, 1) := by decide +kernel
set_option maxRecDepth 100000 in
theorem dX12_program_75 : decode cX12_program 75 = .ok (.iconst 0, 1) := by decide +kernel
set_option maxRecDepth 100000 in
theorem dX12_program_76 : decode cX12_program 76 = .ok (.putfield 269, 3) := by decide +kernel
set_option maxRecDepth 100000 in
theorem dX12_program_79 : decode cX12_program 79 = .ok (.aload_n 0, 1) := by decide +kernel
set_option maxRecDepth 100000 in
theorem dX12_program_80 : decode cX12_program 80 = .ok (.iconst 0, 1) := by decide +kernel
set_option maxRecDepth 100000 in
theorem dX12_program_81 : decode cX12_program 81 = .ok (.putfield 378, 3) := by decide +kernel
set_option maxRecDepth 100000 in
theorem dX12_program_84 : decode cX12_program 84 = .ok (.aload_n 0, 1) := by decide +kernel
set_option maxRecDepth 100000 in
theorem dX12_program_85 : decode cX12_program 85 = .ok (.iconst 0, 1) := by decide +kernel
set_option maxRecDepth 100000 in
theorem dX12_program_86 : decode cX12_program 86 = .ok (.putfield 411, 3) := by decide +kernel
set_option maxRecDepth 100000 in
theorem dX12_program_89 : decode cX12_program 89 = .ok (.aload_n 0, 1) := by decide +kernel
set_option maxRecDepth 100000 in
theorem dX12_program_90 : decode cX12_program 90 = .ok (.iconst 0, 1) := by decide +kernel
set_option maxRecDepth 100000 in
theorem dX12_program_91 : decode cX12_program 91 = .ok (.putfield 433, 3) := by decide +kernel
set_option maxRecDepth 100000 in
theorem dX12_program_94 : decode cX12_program 94 = .ok (.aload_n 0, 1) := by decide +kernel
set_option maxRecDepth 100000 in
theorem dX12_program_95 : decode cX12_program 95 = .ok (.iconst 0, 1) := by decide +kernel
set_option maxRecDepth 100000 in
theorem dX12_program_96 : decode cX12_program 96 = .ok (.putfield 451, 3) := by decide +kernel
set_option maxRecDepth 100000 in
theorem dX12_program_99 : decode cX12_program 99 = .ok (.aload_n 0, 1) := by decide +kernel
set_option maxRecDepth 100000 in
theorem dX12_program_100 : decode cX12_program 100 = .ok (.getfield 134, 3) := by decide +kernel
set_option maxRecDepth 100000 in
theorem dX12_program_103 : decode cX12_program 103 = .ok (.invokevirtual 784, 3) := by decide +kernel
set_option maxRecDepth 100000 in
theorem dX12_program_106 : decode cX12_program 106 = .ok (.aload_n 0, 1) := by decide +kernel
set_option maxRecDepth 100000 in
theorem dX12_program_107 : decode cX12_program 107 = .ok (.getfield 141, 3) := by decide +kernel
set_option maxRecDepth 100000 in
theorem dX12_program_110 : decode cX12_program 110 = .ok (.invokevirtual 784, 3) := by decide +kernel
set_option maxRecDepth 100000 in
theorem dX12_program_113 : decode cX12_program 113 = .ok (.aload_n 0, 1) := by decide +kernel
set_option maxRecDepth 100000 in
theorem dX12_program_114 : decode cX12_program 114 = .ok (.getfield 144, 3) := by decide +kernel
set_option maxRecDepth 100000 in
theorem dX12_program_117 : decode cX12_program 117 = .ok (.invokevirtual 784, 3) := by decide +kernel
set_option maxRecDepth 100000 in
theorem dX12_program_120 : decode cX12_program 120 = .ok (.aload_n 0, 1) := by decide +kernel
set_option maxRecDepth 100000 in
theorem dX12_program_121 : decode cX12_program 121 = .ok (.getfield 147, 3) := by decide +kernel
set_option maxRecDepth 100000 in
theorem dX12_program_124 : decode cX12_program 124 = .ok (.invokevirtual 784, 3) := by decide +kernel
set_option maxRecDepth 100000 in
theorem dX12_program_127 : decode cX12_program 127 = .ok (.aload_n 0, 1) := by decide +kernel
set_option maxRecDepth 100000 in
theorem dX12_program_128 : decode cX12_program 128 = .ok (.getfield 150, 3) := by decide +kernel
set_option maxRecDepth 100000 in
theorem dX12_program_131 : decode cX12_program 131 = .ok (.invokevirtual 784, 3) := by decide +kernel
set_option maxRecDepth 100000 in
theorem dX12_program_134 : decode cX12_program 134 = .ok (.aload_n 0, 1) := by decide +kernel
set_option maxRecDepth 100000 in
theorem dX12_program_135 : decode cX12_program 135 = .ok (.getfield 156, 3) := by decide +kernel
set_option maxRecDepth 100000 in
theorem dX12_program_138 : decode cX12_program 138 = .ok (.invokevirtual 784, 3) := by decide +kernel
set_option maxRecDepth 100000 in
theorem dX12_program_141 : decode cX12_program 141 = .ok (.aload_n 0, 1) := by decide +kernel
set_option maxRecDepth 100000 in
theorem dX12_program_142 : decode cX12_program 142 = .ok (.aconst_null, 1) := by decide +kernel
set_option maxRecDepth 100000 in
theorem dX12_program_143 : decode cX12_program 143 = .ok (.putfield 727, 3) := by decide +kernel
set_option maxRecDepth 100000 in
theorem dX12_program_146 : decode cX12_program 146 = .ok (.aload_n 0, 1) := by decide +kernel
set_option maxRecDepth 100000 in
theorem dX12_program_147 : decode cX12_program 147 = .ok (.aconst_null, 1) := by decide +kernel
set_option maxRecDepth 100000 in
theorem dX12_program_148 : decode cX12_program 148 = .ok (.putfield 731, 3) := by decide +kernel
set_option maxRecDepth 100000 in
theorem dX12_program_151 : decode cX12_program 151 = .ok (.aload_n 0, 1) := by decide +kernel
set_option maxRecDepth 100000 in
theorem dX12_program_152 : decode cX12_program 152 = .ok (.iconst 0, 1) := by decide +kernel
set_option maxRecDepth 100000 in
theorem dX12_program_153 : decode cX12_program 153 = .ok (.putfield 773, 3) := by decide +kernel
set_option maxRecDepth 100000 in
theorem dX12_program_156 : decode cX12_program 156 = .ok (.aload_n 0, 1) := by decide +kernel
set_option maxRecDepth 100000 in
theorem dX12_program_157 : decode cX12_program 157 = .ok (.iconst 0, 1) := by decide +kernel
set_option maxRecDepth 100000 in
theorem dX12_program_158 : decode cX12_program 158 = .ok (.putfield 805, 3) := by decide +kernel
set_option maxRecDepth 100000 in
theorem dX12_program_161 : decode cX12_program 161 = .ok (.aload_n 0, 1) := by decide +kernel
set_option maxRecDepth 100000 in
theorem dX12_program_162 : decode cX12_program 162 = .ok (.iconst 0, 1) := by decide +kernel
set_option maxRecDepth 100000 in
theorem dX12_program_163 : decode cX12_program 163 = .ok (.putfield 926, 3) := by decide +kernel
set_option maxRecDepth 100000 in
theorem dX12_program_166 : decode cX12_program 166 = .ok (.aload_n 0, 1) := by decide +kernel
set_option maxRecDepth 100000 in
theorem dX12_program_167 : decode cX12_program 167 = .ok (.invokevirtual 1100, 3) := by decide +kernel
set_option maxRecDepth 100000 in
theorem dX12_program_170 : decode cX12_program 170 = .ok (.aload_n 0, 1) := by decide +kernel
set_option maxRecDepth 100000 in
theorem dX12_program_171 : decode cX12_program 171 = .ok (.aload_n 0, 1) := by decide +kernel
set_option maxRecDepth 100000 in
theorem dX12_program_172 : decode cX12_program 172 = .ok (.ldc_w 1103, 3) := by decide +kernel
set_option maxRecDepth 100000 in
theorem dX12_program_175 : decode cX12_program 175 = .ok (.invokevirtual 374, 3) := by decide +kernel
set_option maxRecDepth 100000 in
theorem dX12_program_178 : decode cX12_program 178 = .ok (.putfield 509, 3) := by decide +kernel
set_option maxRecDepth 100000 in
theorem dX12_program_181 : decode cX12_program 181 = .ok (.iload_n 1, 1) := by decide +kernel
set_option maxRecDepth 100000 in
theorem dX12_program_182 : decode cX12_program 182 = .ok (.sipush 10000, 3) := by decide +kernel
set_option maxRecDepth 100000 in
theorem dX12_program_185 : decode cX12_program 185 = .ok (.if_icmp .le 17, 3) := by decide +kernel
set_option maxRecDepth 100000 in
theorem dX12_program_188 : decode cX12_program 188 = .ok (.aload_n 0, 1) := by decide +kernel
set_option maxRecDepth 100000 in
theorem dX12_program_189 : decode cX12_program 189 = .ok (.iconst 1, 1) := by decide +kernel
set_option maxRecDepth 100000 in
theorem dX12_program_190 : decode cX12_program 190 = .ok (.putfield 259, 3) := by decide +kernel
set_option maxRecDepth 100000 in
theorem dX12_program_193 : decode cX12_program 193 = .ok (.aload_n 0, 1) := by decide +kernel
set_option maxRecDepth 100000 in
theorem dX12_program_194 : decode cX12_program 194 = .ok (.sipush 10000, 3) := by decide +kernel
set_option maxRecDepth 100000 in
theorem dX12_program_197 : decode cX12_program 197 = .ok (.putfield 63, 3) := by decide +kernel
set_option maxRecDepth 100000 in
theorem dX12_program_200 : decode cX12_program 200 = .ok (.iconst 1, 1) := by decide +kernel
set_option maxRecDepth 100000 in
theorem dX12_program_201 : decode cX12_program 201 = .ok (.ireturn, 1) := by decide +kernel
set_option maxRecDepth 100000 in
theorem dX12_program_202 : decode cX12_program 202 = .ok (.aload_n 0, 1) := by decide +kernel
set_option maxRecDepth 100000 in
theorem dX12_program_203 : decode cX12_program 203 = .ok (.invokevirtual 436, 3) := by decide +kernel
set_option maxRecDepth 100000 in
theorem dX12_program_206 : decode cX12_program 206 = .ok (.aload_n 0, 1) := by decide +kernel
set_option maxRecDepth 100000 in
theorem dX12_program_207 : decode cX12_program 207 = .ok (.invokevirtual 1104, 3) := by decide +kernel
set_option maxRecDepth 100000 in
theorem dX12_program_210 : decode cX12_program 210 = .ok (.istore_n 2, 1) := by decide +kernel
set_option maxRecDepth 100000 in
theorem dX12_program_211 : decode cX12_program 211 = .ok (.aload_n 0, 1) := by decide +kernel
set_option maxRecDepth 100000 in
theorem dX12_program_212 : decode cX12_program 212 = .ok (.aload_n 0, 1) := by decide +kernel
set_option maxRecDepth 100000 in
theorem dX12_program_213 : decode cX12_program 213 = .ok (.getfield 70, 3) := by decide +kernel
set_option maxRecDepth 100000 in
theorem dX12_program_216 : decode cX12_program 216 = .ok (.iload_n 2, 1) := by decide +kernel
set_option maxRecDepth 100000 in
theorem dX12_program_217 : decode cX12_program 217 = .ok (.iaload, 1) := by decide +kernel
set_option maxRecDepth 100000 in
theorem dX12_program_218 : decode cX12_program 218 = .ok (.putfield 1107, 3) := by decide +kernel
set_option maxRecDepth 100000 in
theorem dX12_program_221 : decode cX12_program 221 = .ok (.aload_n 0, 1) := by decide +kernel
set_option maxRecDepth 100000 in
theorem dX12_program_222 : decode cX12_program 222 = .ok (.aload_n 0, 1) := by decide +kernel
set_option maxRecDepth 100000 in
theorem dX12_program_223 : decode cX12_program 223 = .ok (.getfield 73, 3) := by decide +kernel
set_option maxRecDepth 100000 in
theorem dX12_program_226 : decode cX12_program 226 = .ok (.iload_n 2, 1) := by decide +kernel
set_option maxRecDepth 100000 in
theorem dX12_program_227 : decode cX12_program 227 = .ok (.iaload, 1) := by decide +kernel
set_option maxRecDepth 100000 in
theorem dX12_program_228 : decode cX12_program 228 = .ok (.putfield 1110, 3) := by decide +kernel
set_option maxRecDepth 100000 in
theorem dX12_program_231 : decode cX12_program 231 = .ok (.aload_n 0, 1) := by decide +kernel
set_option maxRecDepth 100000 in
theorem dX12_program_232 : decode cX12_program 232 = .ok (.invokevirtual 1113, 3) := by decide +kernel
set_option maxRecDepth 100000 in
theorem dX12_program_235 : decode cX12_program 235 = .ok (.aload_n 0, 1) := by decide +kernel
set_option maxRecDepth 100000 in
theorem dX12_program_236 : decode cX12_program 236 = .ok (.iload_n 2, 1) := by decide +kernel
set_option maxRecDepth 100000 in
theorem dX12_program_237 : decode cX12_program 237 = .ok (.invokevirtual 1116, 3) := by decide +kernel
set_option maxRecDepth 100000 in
theorem dX12_program_240 : decode cX12_program 240 = .ok (.aload_n 0, 1) := by decide +kernel
set_option maxRecDepth 100000 in
theorem dX12_program_241 : decode cX12_program 241 = .ok (.iconst 1, 1) := by decide +kernel
set_option maxRecDepth 100000 in
theorem dX12_program_242 : decode cX12_program 242 = .ok (.putfield 1092, 3) := by decide +kernel
set_option maxRecDepth 100000 in
theorem dX12_program_245 : decode cX12_program 245 = .ok (.goto 9, 3) := by decide +kernel
set_option maxRecDepth 100000 in
theorem dX12_program_248 : decode cX12_program 248 = .ok (.astore_n 2, 1) := by decide +kernel
set_option maxRecDepth 100000 in
theorem dX12_program_249 : decode cX12_program 249 = .ok (.aload_n 0, 1) := by decide +kernel
set_option maxRecDepth 100000 in
theorem dX12_program_250 : decode cX12_program 250 = .ok (.getfield 259, 3) := by decide +kernel
set_option maxRecDepth 100000 in
theorem dX12_program_253 : decode cX12_program 253 = .ok (.ireturn, 1) := by decide +kernel
set_option maxRecDepth 100000 in
theorem dX12_program_254 : decode cX12_program 254 = .ok (.iconst 0, 1) := by decide +kernel
set_option maxRecDepth 100000 in
theorem dX12_program_255 : decode cX12_program 255 = .ok (.ireturn, 1) := by decide +kernel
def lX12_program_48 (G : xG) (fr lo : Nat) (x0 : Nat) (x1 : Int32) (x2 : Int32) (h : xH) (Q : Outcome → xH → Prop) : Prop := xP G YX12_program fr lo 48 [(0, rv x0), (1, .int x1), (2, .int x2)] [] h Q
set_option maxRecDepth 100000 in
def bX12_program_248 (G : xG) (fr lo : Nat) (x0 : Nat) (s0 : Nat) (h : xH) (Q : Outcome → xH → Prop) : Prop := tg h x0 = 13 ∧ Q (.returned (some (.int (fI h x0 3099)))) h
set_option maxRecDepth 100000 in
theorem uX12_program_248 {G : xG} {fr lo : Nat} {x0 : Nat} {s0 : Nat} {h : xH} {Q : Outcome → xH → Prop} (hq : bX12_program_248 G fr lo x0 s0 h Q) : xP G YX12_program fr lo 248 [(0, rv x0)] [rv s0] h Q := by
  unfold bX12_program_248 at hq
  refine x_astore_n (lv' := [(2, rv s0), (0, rv x0)]) dX12_program_248 (by decide) rfl ?_
  refine x_aload_n 1 dX12_program_249 rfl ?_
  obtain ⟨g1, hq⟩ := hq
  refine x_get (v := .int (fI h x0 3099)) fdX12_259 dX12_program_250 g1 rfl ?_
  exact x_iret rfl rfl dX12_program_253 hq
set_option maxRecDepth 100000 in
def bX12_program_48 (G : xG) (fr lo : Nat) (x0 : Nat) (x1 : Int32) (x2 : Int32) (h : xH) (Q : Outcome → xH → Prop) : Prop := tg h x0 = 13 ∧ (((fI h x0 3080) ≤ x2 → (∀ h3 : xH, h3 = sI h x0 3081 0 → (∀ h6 : xH, h6 = sI h3 x0 3087 0 → (∀ h9 : xH, h9 = sI h6 x0 3089 0 → (∀ h12 : xH, h12 = sI h9 x0 3110 0 → (∀ h15 : xH, h15 = sI h12 x0 3111 0 → tg h15 (fR h15 x0 3122) = 29 ∧ 1 ≤ fr ∧ 15 ≤ lo ∧ xRv G YJ2_clear (fr - 1) (lo - 15) [rv (fR h15 x0 3122)] h15 (fun h21 => xext h15 h21 → tg h21 (fR h21 x0 3126) = 29 ∧ 1 ≤ fr ∧ 15 ≤ lo ∧ xRv G YJ2_clear (fr - 1) (lo - 15) [rv (fR h21 x0 3126)] h21 (fun h28 => xext h21 h28 → tg h28 (fR h28 x0 3127) = 29 ∧ 1 ≤ fr ∧ 15 ≤ lo ∧ xRv G YJ2_clear (fr - 1) (lo - 15) [rv (fR h28 x0 3127)] h28 (fun h35 => xext h28 h35 → tg h35 (fR h35 x0 3128) = 29 ∧ 1 ≤ fr ∧ 15 ≤ lo ∧ xRv G YJ2_clear (fr - 1) (lo - 15) [rv (fR h35 x0 3128)] h35 (fun h42 => xext h35 h42 → tg h42 (fR h42 x0 3132) = 29 ∧ 1 ≤ fr ∧ 15 ≤ lo ∧ xRv G YJ2_clear (fr - 1) (lo - 15) [rv (fR h42 x0 3132)] h42 (fun h49 => xext h42 h49 → tg h49 (fR h49 x0 3146) = 29 ∧ 1 ≤ fr ∧ 15 ≤ lo ∧ xRv G YJ2_clear (fr - 1) (lo - 15) [rv (fR h49 x0 3146)] h49 (fun h56 => xext h49 h56 → (∀ h60 : xH, h60 = sR h56 x0 3129 0 → (∀ h63 : xH, h63 = sR h60 x0 3130 0 → (∀ h66 : xH, h66 = sI h63 x0 3131 0 → (∀ h69 : xH, h69 = sI h66 x0 3124 0 → (∀ h72 : xH, h72 = sI h69 x0 3134 0 → 1 ≤ fr ∧ 13 ≤ lo ∧ xRv G YX12_blankNames (fr - 1) (lo - 13) [rv x0] h72 (fun h77 => xext h72 h77 → 1 ≤ fr ∧ 15 ≤ lo ∧ xRi G YX12_nameOf (fr - 1) (lo - 15) [rv x0, rv (tx G 67)] h77 (fun x84 h83 => xext h77 h83 → (∀ h87 : xH, h87 = sI h83 x0 3112 x84 → ((x1 ≤ 10000 → 1 ≤ fr ∧ 16 ≤ lo ∧ xRv G YX12_read (fr - 1) (lo - 16) [rv x0] h87 (fun h93 => xext h87 h93 → 1 ≤ fr ∧ 14 ≤ lo ∧ xRi G YX12_parseProgram (fr - 1) (lo - 14) [rv x0] h93 (fun x104 h103 => xext h93 h103 → tg h103 (fR h103 x0 3102) = 100 ∧ vp_in x104 (ln h103 (fR h103 x0 3102)) ∧ (∀ h113 : xH, h113 = sI h103 x0 3144 (aI h103 (fR h103 x0 3102) (Int32.toNatClampNeg x104)) → tg h113 (fR h113 x0 3103) = 100 ∧ vp_in x104 (ln h113 (fR h113 x0 3103)) ∧ (∀ h118 : xH, h118 = sI h113 x0 3145 (aI h113 (fR h113 x0 3103) (Int32.toNatClampNeg x104)) → 1 ≤ fr ∧ 15 ≤ lo ∧ xRv G YX12_bringAll (fr - 1) (lo - 15) [rv x0] h118 (fun h123 => xext h118 h123 → 1 ≤ fr ∧ 19 ≤ lo ∧ xRv G YX12_checkProgram (fr - 1) (lo - 19) [rv x0, .int x104] h123 (fun h133 => xext h123 h133 → (∀ h141 : xH, h141 = sI h133 x0 3142 1 → Q (.returned (some (.int 0))) h141)) (fun r136 h137 => xext h123 h137 → tg h137 (r136 + 1) = 32 ∧ bX12_program_248 G fr lo x0 (r136 + 1) h137 Q)) (fun r126 h127 => xext h118 h127 → tg h127 (r126 + 1) = 32 ∧ bX12_program_248 G fr lo x0 (r126 + 1) h127 Q)))) (fun r106 h107 => xext h93 h107 → tg h107 (r106 + 1) = 32 ∧ bX12_program_248 G fr lo x0 (r106 + 1) h107 Q)) (fun r96 h97 => xext h87 h97 → tg h97 (r96 + 1) = 32 ∧ bX12_program_248 G fr lo x0 (r96 + 1) h97 Q)) ∧ (¬ x1 ≤ 10000 → (∀ h144 : xH, h144 = sI h87 x0 3099 1 → (∀ h147 : xH, h147 = sI h144 x0 3100 10000 → Q (.returned (some (.int 1))) h147)))))) (fun r h2 => Q (.threw r) h2)) (fun r h2 => Q (.threw r) h2))))))) (fun r h2 => Q (.threw r) h2)) (fun r h2 => Q (.threw r) h2)) (fun r h2 => Q (.threw r) h2)) (fun r h2 => Q (.threw r) h2)) (fun r h2 => Q (.threw r) h2)) (fun r h2 => Q (.threw r) h2))))))) ∧ (¬ (fI h x0 3080) ≤ x2 → tg h (fR h x0 3075) = 103 ∧ vp_in x2 (ln h (fR h x0 3075)) ∧ tg h (fR h x0 3079) = 103 ∧ xGB G < (fR h x0 3079) ∧ vp_in x2 (ln h (fR h x0 3079)) ∧ (∀ h154 : xH, h154 = tI h (fR h x0 3079) (Int32.toNatClampNeg x2) (vp_nar .byte (aI h (fR h x0 3075) (Int32.toNatClampNeg x2))) → lX12_program_48 G fr lo x0 x1 (x2 + 1) h154 Q)))
set_option maxRecDepth 100000 in
theorem uX12_program_48 {G : xG} {fr lo : Nat} {x0 : Nat} {x1 : Int32} {x2 : Int32} {h : xH} {Q : Outcome → xH → Prop} (hq : bX12_program_48 G fr lo x0 x1 x2 h Q) : xP G YX12_program fr lo 48 [(0, rv x0), (1, .int x1), (2, .int x2)] [] h Q := by
  unfold bX12_program_48 at hq
  refine x_iload_n 2 dX12_program_48 rfl ?_
  refine x_aload_n 0 dX12_program_49 rfl ?_
  obtain ⟨g1, hq⟩ := hq
  refine x_get (v := .int (fI h x0 3080)) fdX12_266 dX12_program_50 g1 rfl ?_
  refine x_icmp_ge (tgt := 74) dX12_program_53 (by decide) (fun c2 => ?_) (fun c2 => ?_)
  · replace hq := hq.1 c2
    refine x_aload_n 0 dX12_program_74 rfl ?_
    refine x_iconst (v := 0) dX12_program_75 (by decide) ?_
    obtain ⟨h3, e4⟩ : ∃ y, y = sI h x0 3081 0 := ⟨_, rfl⟩
    replace hq := hq h3 e4
    refine x_putI fdX12_269 xty_I1 dX12_program_76 g1 (Or.inl (by rw [g1]; rfl)) xnI rfl e4 ?_
    refine x_aload_n 0 dX12_program_79 rfl ?_
    refine x_iconst (v := 0) dX12_program_80 (by decide) ?_
    have t5 : tg h3 x0 = 13 := by rw [e4]; exact g1
    obtain ⟨h6, e7⟩ : ∃ y, y = sI h3 x0 3087 0 := ⟨_, rfl⟩
    replace hq := hq h6 e7
    refine x_putI fdX12_378 xty_I1 dX12_program_81 t5 (Or.inl (by rw [t5]; rfl)) xnI rfl e7 ?_
    refine x_aload_n 0 dX12_program_84 rfl ?_
    refine x_iconst (v := 0) dX12_program_85 (by decide) ?_
    have t8 : tg h6 x0 = 13 := by rw [e7]; exact t5
    obtain ⟨h9, e10⟩ : ∃ y, y = sI h6 x0 3089 0 := ⟨_, rfl⟩
    replace hq := hq h9 e10
    refine x_putI fdX12_411 xty_I1 dX12_program_86 t8 (Or.inl (by rw [t8]; rfl)) xnI rfl e10 ?_
    refine x_aload_n 0 dX12_program_89 rfl ?_
    refine x_iconst (v := 0) dX12_program_90 (by decide) ?_
    have t11 : tg h9 x0 = 13 := by rw [e10]; exact t8
    obtain ⟨h12, e13⟩ : ∃ y, y = sI h9 x0 3110 0 := ⟨_, rfl⟩
    replace hq := hq h12 e13
    refine x_putI fdX12_433 xty_I1 dX12_program_91 t11 (Or.inl (by rw [t11]; rfl)) xnI rfl e13 ?_
    refine x_aload_n 0 dX12_program_94 rfl ?_
    refine x_iconst (v := 0) dX12_program_95 (by decide) ?_
    have t14 : tg h12 x0 = 13 := by rw [e13]; exact t11
    obtain ⟨h15, e16⟩ : ∃ y, y = sI h12 x0 3111 0 := ⟨_, rfl⟩
    replace hq := hq h15 e16
    refine x_putI fdX12_451 xty_I1 dX12_program_96 t14 (Or.inl (by rw [t14]; rfl)) xnI rfl e16 ?_
    refine x_aload_n 0 dX12_program_99 rfl ?_
    have t17 : tg h15 x0 = 13 := by rw [e16]; exact t14
    refine x_get (v := rv (fR h15 x0 3122)) fdX12_134 dX12_program_100 t17 rfl ?_
    obtain ⟨g18, hq⟩ := hq
    obtain ⟨g19, g20, hq⟩ := hq
    refine x_callV (Yc := YJ2_clear) (as := []) (st := []) q3663 mvJ2_clear g18 rfl dX12_program_103 (xle (xal1 (rv_cat _) xal0) (by decide)) (xfr g19) (xlo xsw0 (by decide) g20) (xKv hq (fun h21 hq e23 => ?_) (fun _ _ q _ => q)) (show ∀ q ∈ [(202, 245, 248, 1119)], ¬ (q.1 ≤ 103 ∧ 103 < q.2.1) from by decide)
    replace hq := hq e23
    refine x_aload_n 0 dX12_program_106 rfl ?_
    have t24 : tg h21 x0 = 13 := e23.tg t17 (by decide)
    refine x_get (v := rv (fR h21 x0 3126)) fdX12_141 dX12_program_107 t24 rfl ?_
    obtain ⟨g25, hq⟩ := hq
    obtain ⟨g26, g27, hq⟩ := hq
    refine x_callV (Yc := YJ2_clear) (as := []) (st := []) q3663 mvJ2_clear g25 rfl dX12_program_110 (xle (xal1 (rv_cat _) xal0) (by decide)) (xfr g26) (xlo xsw0 (by decide) g27) (xKv hq (fun h28 hq e30 => ?_) (fun _ _ q _ => q)) (show ∀ q ∈ [(202, 245, 248, 1119)], ¬ (q.1 ≤ 110 ∧ 110 < q.2.1) from by decide)
    replace hq := hq e30
    refine x_aload_n 0 dX12_program_113 rfl ?_
    have t31 : tg h28 x0 = 13 := e30.tg t24 (by decide)
    refine x_get (v := rv (fR h28 x0 3127)) fdX12_144 dX12_program_114 t31 rfl ?_
    obtain ⟨g32, hq⟩ := hq
    obtain ⟨g33, g34, hq⟩ := hq
    refine x_callV (Yc := YJ2_clear) (as := []) (st := []) q3663 mvJ2_clear g32 rfl dX12_program_117 (xle (xal1 (rv_cat _) xal0) (by decide)) (xfr g33) (xlo xsw0 (by decide) g34) (xKv hq (fun h35 hq e37 => ?_) (fun _ _ q _ => q)) (show ∀ q ∈ [(202, 245, 248, 1119)], ¬ (q.1 ≤ 117 ∧ 117 < q.2.1) from by decide)
    replace hq := hq e37
    refine x_aload_n 0 dX12_program_120 rfl ?_
    have t38 : tg h35 x0 = 13 := e37.tg t31 (by decide)
    refine x_get (v := rv (fR h35 x0 3128)) fdX12_147 dX12_program_121 t38 rfl ?_
    obtain ⟨g39, hq⟩ := hq
    obtain ⟨g40, g41, hq⟩ := hq
    refine x_callV (Yc := YJ2_clear) (as := []) (st := []) q3663 mvJ2_clear g39 rfl dX12_program_124 (xle (xal1 (rv_cat _) xal0) (by decide)) (xfr g40) (xlo xsw0 (by decide) g41) (xKv hq (fun h42 hq e44 => ?_) (fun _ _ q _ => q)) (show ∀ q ∈ [(202, 245, 248, 1119)], ¬ (q.1 ≤ 124 ∧ 124 < q.2.1) from by decide)
    replace hq := hq e44
    refine x_aload_n 0 dX12_program_127 rfl ?_
    have t45 : tg h42 x0 = 13 := e44.tg t38 (by decide)
    refine x_get (v := rv (fR h42 x0 3132)) fdX12_150 dX12_program_128 t45 rfl ?_
    obtain ⟨g46, hq⟩ := hq
    obtain ⟨g47, g48, hq⟩ := hq
    refine x_callV (Yc := YJ2_clear) (as := []) (st := []) q3663 mvJ2_clear g46 rfl dX12_program_131 (xle (xal1 (rv_cat _) xal0) (by decide)) (xfr g47) (xlo xsw0 (by decide) g48) (xKv hq (fun h49 hq e51 => ?_) (fun _ _ q _ => q)) (show ∀ q ∈ [(202, 245, 248, 1119)], ¬ (q.1 ≤ 131 ∧ 131 < q.2.1) from by decide)
    replace hq := hq e51
    refine x_aload_n 0 dX12_program_134 rfl ?_
    have t52 : tg h49 x0 = 13 := e51.tg t45 (by decide)
    refine x_get (v := rv (fR h49 x0 3146)) fdX12_156 dX12_program_135 t52 rfl ?_
    obtain ⟨g53, hq⟩ := hq
    obtain ⟨g54, g55, hq⟩ := hq
    refine x_callV (Yc := YJ2_clear) (as := []) (st := []) q3663 mvJ2_clear g53 rfl dX12_program_138 (xle (xal1 (rv_cat _) xal0) (by decide)) (xfr g54) (xlo xsw0 (by decide) g55) (xKv hq (fun h56 hq e58 => ?_) (fun _ _ q _ => q)) (show ∀ q ∈ [(202, 245, 248, 1119)], ¬ (q.1 ≤ 138 ∧ 138 < q.2.1) from by decide)
    replace hq := hq e58
    refine x_aload_n 0 dX12_program_141 rfl ?_
    refine x_null dX12_program_142 ?_
    have t59 : tg h56 x0 = 13 := e58.tg t52 (by decide)
    obtain ⟨h60, e61⟩ : ∃ y, y = sR h56 x0 3129 0 := ⟨_, rfl⟩
    replace hq := hq h60 e61
    refine x_putR fdX12_727 xty_O dX12_program_143 t59 (Or.inl (by rw [t59]; rfl)) rfl e61 ?_
    refine x_aload_n 0 dX12_program_146 rfl ?_
    refine x_null dX12_program_147 ?_
    have t62 : tg h60 x0 = 13 := by rw [e61]; exact t59
    obtain ⟨h63, e64⟩ : ∃ y, y = sR h60 x0 3130 0 := ⟨_, rfl⟩
    replace hq := hq h63 e64
    refine x_putR fdX12_731 xty_O dX12_program_148 t62 (Or.inl (by rw [t62]; rfl)) rfl e64 ?_
    refine x_aload_n 0 dX12_program_151 rfl ?_
    refine x_iconst (v := 0) dX12_program_152 (by decide) ?_
    have t65 : tg h63 x0 = 13 := by rw [e64]; exact t62
    obtain ⟨h66, e67⟩ : ∃ y, y = sI h63 x0 3131 0 := ⟨_, rfl⟩
    replace hq := hq h66 e67
    refine x_putI fdX12_773 xty_Z1 dX12_program_153 t65 (Or.inl (by rw [t65]; rfl)) (xnB (Or.inl rfl)) rfl e67 ?_
    refine x_aload_n 0 dX12_program_156 rfl ?_
    refine x_iconst (v := 0) dX12_program_157 (by decide) ?_
    have t68 : tg h66 x0 = 13 := by rw [e67]; exact t65
    obtain ⟨h69, e70⟩ : ∃ y, y = sI h66 x0 3124 0 := ⟨_, rfl⟩
    replace hq := hq h69 e70
    refine x_putI fdX12_805 xty_I1 dX12_program_158 t68 (Or.inl (by rw [t68]; rfl)) xnI rfl e70 ?_
    refine x_aload_n 0 dX12_program_161 rfl ?_
    refine x_iconst (v := 0) dX12_program_162 (by decide) ?_
    have t71 : tg h69 x0 = 13 := by rw [e70]; exact t68
    obtain ⟨h72, e73⟩ : ∃ y, y = sI h69 x0 3134 0 := ⟨_, rfl⟩
    replace hq := hq h72 e73
    refine x_putI fdX12_926 xty_I1 dX12_program_163 t71 (Or.inl (by rw [t71]; rfl)) xnI rfl e73 ?_
    refine x_aload_n 0 dX12_program_166 rfl ?_
    have t74 : tg h72 x0 = 13 := by rw [e73]; exact t71
    obtain ⟨g75, g76, hq⟩ := hq
    refine x_callV (Yc := YX12_blankNames) (as := []) (st := []) q3664 mvX12_blankNames t74 rfl dX12_program_167 (xle (xal1 (rv_cat _) xal0) (by decide)) (xfr g75) (xlo xsw0 (by decide) g76) (xKv hq (fun h77 hq e79 => ?_) (fun _ _ q _ => q)) (show ∀ q ∈ [(202, 245, 248, 1119)], ¬ (q.1 ≤ 167 ∧ 167 < q.2.1) from by decide)
    replace hq := hq e79
    refine x_aload_n 0 dX12_program_170 rfl ?_
    refine x_aload_n 0 dX12_program_171 rfl ?_
    refine x_ldcwS (n := 67) 176 srX12_1103 dX12_program_172 ?_
    have t80 : tg h77 x0 = 13 := e79.tg t74 (by decide)
    obtain ⟨g81, g82, hq⟩ := hq
    refine x_callV (Yc := YX12_nameOf) (as := [rv (tx G 67)]) (st := [rv x0]) q3706 mvX12_nameOf t80 rfl dX12_program_175 (xle (xal1 (rv_cat _) (xal1 (rv_cat _) xal0)) (by decide)) (xfr g81) (xlo (xsw1 (rv_cat _) xsw0) (by decide) g82) (xKi hq (fun x84 h83 hq e85 => ?_) (fun _ _ q _ => q)) (show ∀ q ∈ [(202, 245, 248, 1119)], ¬ (q.1 ≤ 175 ∧ 175 < q.2.1) from by decide)
    replace hq := hq e85
    have t86 : tg h83 x0 = 13 := e85.tg t80 (by decide)
    obtain ⟨h87, e88⟩ : ∃ y, y = sI h83 x0 3112 x84 := ⟨_, rfl⟩
    replace hq := hq h87 e88
    refine x_putI fdX12_509 xty_I1 dX12_program_178 t86 (Or.inl (by rw [t86]; rfl)) xnI rfl e88 ?_
    refine x_iload_n 1 dX12_program_181 rfl ?_
    refine x_sipush (v := 10000) dX12_program_182 (by decide) ?_
    refine x_icmp_le (tgt := 202) dX12_program_185 (by decide) (fun c89 => ?_) (fun c89 => ?_)
    · replace hq := hq.1 c89
      refine x_aload_n 0 dX12_program_202 rfl ?_
      have t90 : tg h87 x0 = 13 := by rw [e88]; exact t86
      obtain ⟨g91, g92, hq⟩ := hq
      refine x_try (Yc := YX12_read) (as := [rv x0]) (st := []) (ci := 31) (202, 245, 248, 1119) rfl (by decide) (by decide) (by decide) rfl q3661 (x_entV (Yc := YX12_read) (as := []) (st := []) q3717 mvX12_read t90 rfl dX12_program_203) dX12_program_203 mvX12_read.mc.1 mvX12_read.mc.2.1 (xle (xal1 (rv_cat _) xal0) (by decide)) (xfr g91) (xlo xsw0 (by decide) g92) (xTv hq (fun h93 hq e95 => ?_) (fun r96 h97 hq e98 => ?_))
      · replace hq := hq e95
        refine x_aload_n 0 dX12_program_206 rfl ?_
        have t100 : tg h93 x0 = 13 := e95.tg t90 (by decide)
        obtain ⟨g101, g102, hq⟩ := hq
        refine x_try (Yc := YX12_parseProgram) (as := [rv x0]) (st := []) (ci := 31) (202, 245, 248, 1119) rfl (by decide) (by decide) (by decide) rfl q3661 (x_entV (Yc := YX12_parseProgram) (as := []) (st := []) q3774 mvX12_parseProgram t100 rfl dX12_program_207) dX12_program_207 mvX12_parseProgram.mc.1 mvX12_parseProgram.mc.2.1 (xle (xal1 (rv_cat _) xal0) (by decide)) (xfr g101) (xlo xsw0 (by decide) g102) (xTi hq (fun x104 h103 hq e105 => ?_) (fun r106 h107 hq e108 => ?_))
        · replace hq := hq e105
          refine x_istore_n (lv' := [(2, .int x104), (0, rv x0), (1, .int x1)]) dX12_program_210 (by decide) rfl ?_
          refine x_aload_n 1 dX12_program_211 rfl ?_
          refine x_aload_n 1 dX12_program_212 rfl ?_
          have t110 : tg h103 x0 = 13 := e105.tg t100 (by decide)
          refine x_get (v := rv (fR h103 x0 3102)) fdX12_70 dX12_program_213 t110 rfl ?_
          refine x_iload_n 0 dX12_program_216 rfl ?_
          obtain ⟨g111, hq⟩ := hq
          obtain ⟨i112, hq⟩ := hq
          refine x_iald 0 (Or.inl rfl) g111 i112 dX12_program_217 ?_
          obtain ⟨h113, e114⟩ : ∃ y, y = sI h103 x0 3144 (aI h103 (fR h103 x0 3102) (Int32.toNatClampNeg x104)) := ⟨_, rfl⟩
          replace hq := hq h113 e114
          refine x_putI fdX12_1107 xty_I1 dX12_program_218 t110 (Or.inl (by rw [t110]; rfl)) xnI rfl e114 ?_
          refine x_aload_n 1 dX12_program_221 rfl ?_
          refine x_aload_n 1 dX12_program_222 rfl ?_
          have t115 : tg h113 x0 = 13 := by rw [e114]; exact t110
          refine x_get (v := rv (fR h113 x0 3103)) fdX12_73 dX12_program_223 t115 rfl ?_
          refine x_iload_n 0 dX12_program_226 rfl ?_
          obtain ⟨g116, hq⟩ := hq
          obtain ⟨i117, hq⟩ := hq
          refine x_iald 0 (Or.inl rfl) g116 i117 dX12_program_227 ?_
          obtain ⟨h118, e119⟩ : ∃ y, y = sI h113 x0 3145 (aI h113 (fR h113 x0 3103) (Int32.toNatClampNeg x104)) := ⟨_, rfl⟩
          replace hq := hq h118 e119
          refine x_putI fdX12_1110 xty_I1 dX12_program_228 t115 (Or.inl (by rw [t115]; rfl)) xnI rfl e119 ?_
          refine x_aload_n 1 dX12_program_231 rfl ?_
          have t120 : tg h118 x0 = 13 := by rw [e119]; exact t115
          obtain ⟨g121, g122, hq⟩ := hq
          refine x_try (Yc := YX12_bringAll) (as := [rv x0]) (st := []) (ci := 31) (202, 245, 248, 1119) rfl (by decide) (by decide) (by decide) rfl q3661 (x_entV (Yc := YX12_bringAll) (as := []) (st := []) q3922 mvX12_bringAll t120 rfl dX12_program_232) dX12_program_232 mvX12_bringAll.mc.1 mvX12_bringAll.mc.2.1 (xle (xal1 (rv_cat _) xal0) (by decide)) (xfr g121) (xlo xsw0 (by decide) g122) (xTv hq (fun h123 hq e125 => ?_) (fun r126 h127 hq e128 => ?_))
          · replace hq := hq e125
            refine x_aload_n 1 dX12_program_235 rfl ?_
            refine x_iload_n 0 dX12_program_236 rfl ?_
            have t130 : tg h123 x0 = 13 := e125.tg t120 (by decide)
            obtain ⟨g131, g132, hq⟩ := hq
            refine x_try (Yc := YX12_checkProgram) (as := [rv x0, .int x104]) (st := []) (ci := 31) (202, 245, 248, 1119) rfl (by decide) (by decide) (by decide) rfl q3661 (x_entV (Yc := YX12_checkProgram) (as := [.int x104]) (st := []) q4068 mvX12_checkProgram t130 rfl dX12_program_237) dX12_program_237 mvX12_checkProgram.mc.1 mvX12_checkProgram.mc.2.1 (xle (xal1 (rv_cat _) (xal1 rfl xal0)) (by decide)) (xfr g131) (xlo xsw0 (by decide) g132) (xTv hq (fun h133 hq e135 => ?_) (fun r136 h137 hq e138 => ?_))
            · replace hq := hq e135
              refine x_aload_n 1 dX12_program_240 rfl ?_
              refine x_iconst (v := 1) dX12_program_241 (by decide) ?_
              have t140 : tg h133 x0 = 13 := e135.tg t130 (by decide)
              obtain ⟨h141, e142⟩ : ∃ y, y = sI h133 x0 3142 1 := ⟨_, rfl⟩
              replace hq := hq h141 e142
              refine x_putI fdX12_1092 xty_Z1 dX12_program_242 t140 (Or.inl (by rw [t140]; rfl)) (xnB (Or.inr rfl)) rfl e142 ?_
              refine x_goto (tgt := 254) dX12_program_245 (by decide) ?_
              refine x_iconst (v := 0) dX12_program_254 (by decide) ?_
              exact x_iret rfl rfl dX12_program_255 hq
            · replace hq := hq e138
              refine ⟨hq.1, ?_⟩
              replace hq := hq.2
              refine xP.pick (lv' := [(0, rv x0)]) [1] rfl ?_
              exact uX12_program_248 hq
          · replace hq := hq e128
            refine ⟨hq.1, ?_⟩
            replace hq := hq.2
            refine xP.pick (lv' := [(0, rv x0)]) [1] rfl ?_
            exact uX12_program_248 hq
        · replace hq := hq e108
          refine ⟨hq.1, ?_⟩
          replace hq := hq.2
          refine xP.pick (lv' := [(0, rv x0)]) [0] rfl ?_
          exact uX12_program_248 hq
      · replace hq := hq e98
        refine ⟨hq.1, ?_⟩
        replace hq := hq.2
        refine xP.pick (lv' := [(0, rv x0)]) [0] rfl ?_
        exact uX12_program_248 hq
    · replace hq := hq.2 c89
      refine x_aload_n 0 dX12_program_188 rfl ?_
      refine x_iconst (v := 1) dX12_program_189 (by decide) ?_
      have t143 : tg h87 x0 = 13 := by rw [e88]; exact t86
      obtain ⟨h144, e145⟩ : ∃ y, y = sI h87 x0 3099 1 := ⟨_, rfl⟩
      replace hq := hq h144 e145
      refine x_putI fdX12_259 xty_I1 dX12_program_190 t143 (Or.inl (by rw [t143]; rfl)) xnI rfl e145 ?_
      refine x_aload_n 0 dX12_program_193 rfl ?_
      refine x_sipush (v := 10000) dX12_program_194 (by decide) ?_
      have t146 : tg h144 x0 = 13 := by rw [e145]; exact t143
      obtain ⟨h147, e148⟩ : ∃ y, y = sI h144 x0 3100 10000 := ⟨_, rfl⟩
      replace hq := hq h147 e148
      refine x_putI fdX12_63 xty_I1 dX12_program_197 t146 (Or.inl (by rw [t146]; rfl)) xnI rfl e148 ?_
      refine x_iconst (v := 1) dX12_program_200 (by decide) ?_
      exact x_iret rfl rfl dX12_program_201 hq
  · replace hq := hq.2 c2
    refine x_aload_n 0 dX12_program_56 rfl ?_
    refine x_get (v := rv (fR h x0 3079)) fdX12_23 dX12_program_57 g1 rfl ?_
    refine x_iload_n 2 dX12_program_60 rfl ?_
    refine x_aload_n 0 dX12_program_61 rfl ?_
    refine x_get (v := rv (fR h x0 3075)) fdX12_13 dX12_program_62 g1 rfl ?_
    refine x_iload_n 2 dX12_program_65 rfl ?_
    obtain ⟨g149, hq⟩ := hq
    obtain ⟨i150, hq⟩ := hq
    refine x_bald g149 i150 dX12_program_66 ?_
    obtain ⟨g151, hq⟩ := hq
    obtain ⟨w152, hq⟩ := hq
    obtain ⟨i153, hq⟩ := hq
    obtain ⟨h154, e155⟩ : ∃ y, y = tI h (fR h x0 3079) (Int32.toNatClampNeg x2) (vp_nar .byte (aI h (fR h x0 3075) (Int32.toNatClampNeg x2))) := ⟨_, rfl⟩
    replace hq := hq h154 e155
    refine x_bast' g151 (Or.inr w152) i153 dX12_program_67 e155 ?_
    refine x_iinc (lv' := [(2, .int (x2 + 1)), (0, rv x0), (1, .int x1)]) 2 dX12_program_68 rfl (by decide) rfl ?_
    refine x_goto (tgt := 48) dX12_program_71 (by decide) ?_
    refine xP.pick (lv' := [(0, rv x0), (1, .int x1), (2, .int (x2 + 1))]) [1, 2, 0] rfl ?_
    exact hq
set_option maxRecDepth 100000 in
def bX12_program (G : xG) (fr lo : Nat) (x0 : Nat) (h : xH) (Q : Outcome → xH → Prop) : Prop := tg h x0 = 13 ∧ (∀ h2 : xH, h2 = sI h x0 3072 0 → (∀ h5 : xH, h5 = sI h2 x0 3142 0 → (∀ h8 : xH, h8 = sI h5 x0 3143 0 → (∀ h11 : xH, h11 = sI h8 x0 3076 0 → (∀ h14 : xH, h14 = sI h11 x0 3099 0 → (∀ h17 : xH, h17 = sI h14 x0 3100 (-1) → 1 ≤ fr ∧ 14 ≤ lo ∧ xRi G YJ10_min (fr - 1) (lo - 14) [.int (fI h8 x0 3076), .int 10000] h17 (fun x22 h21 => xext h17 h21 → (∀ h26 : xH, h26 = sI h21 x0 3080 x22 → lX12_program_48 G fr lo x0 (fI h8 x0 3076) 0 h26 Q)) (fun r h2 => Q (.threw r) h2)))))))
set_option maxRecDepth 100000 in
theorem uX12_program {G : xG} {fr lo : Nat} {x0 : Nat} {h : xH} {Q : Outcome → xH → Prop} (hq : bX12_program G fr lo x0 h Q) : xP G YX12_program fr lo 0 [(0, rv x0)] [] h Q := by
  unfold bX12_program at hq
  refine x_aload_n 0 dX12_program_0 rfl ?_
  refine x_iconst (v := 0) dX12_program_1 (by decide) ?_
  obtain ⟨g1, hq⟩ := hq
  obtain ⟨h2, e3⟩ : ∃ y, y = sI h x0 3072 0 := ⟨_, rfl⟩
  replace hq := hq h2 e3
  refine x_putI fdX12_250 xty_I1 dX12_program_2 g1 (Or.inl (by rw [g1]; rfl)) xnI rfl e3 ?_
  refine x_aload_n 0 dX12_program_5 rfl ?_
  refine x_iconst (v := 0) dX12_program_6 (by decide) ?_
  have t4 : tg h2 x0 = 13 := by rw [e3]; exact g1
  obtain ⟨h5, e6⟩ : ∃ y, y = sI h2 x0 3142 0 := ⟨_, rfl⟩
  replace hq := hq h5 e6
  refine x_putI fdX12_1092 xty_Z1 dX12_program_7 t4 (Or.inl (by rw [t4]; rfl)) (xnB (Or.inl rfl)) rfl e6 ?_
  refine x_aload_n 0 dX12_program_10 rfl ?_
  refine x_iconst (v := 0) dX12_program_11 (by decide) ?_
  have t7 : tg h5 x0 = 13 := by rw [e6]; exact t4
  obtain ⟨h8, e9⟩ : ∃ y, y = sI h5 x0 3143 0 := ⟨_, rfl⟩
  replace hq := hq h8 e9
  refine x_putI fdX12_1095 xty_Z1 dX12_program_12 t7 (Or.inl (by rw [t7]; rfl)) (xnB (Or.inl rfl)) rfl e9 ?_
  refine x_aload_n 0 dX12_program_15 rfl ?_
  have t10 : tg h8 x0 = 13 := by rw [e9]; exact t7
  refine x_get (v := .int (fI h8 x0 3076)) fdX12_256 dX12_program_16 t10 rfl ?_
  refine x_istore_n (lv' := [(1, .int (fI h8 x0 3076)), (0, rv x0)]) dX12_program_19 (by decide) (by first | rfl | (simp [rv_cat, Value.category]; done) | (simp [rv_cat, Value.category]; decide)) ?_
  refine x_aload_n 1 dX12_program_20 rfl ?_
  refine x_iconst (v := 0) dX12_program_21 (by decide) ?_
  obtain ⟨h11, e12⟩ : ∃ y, y = sI h8 x0 3076 0 := ⟨_, rfl⟩
  replace hq := hq h11 e12
  refine x_putI fdX12_256 xty_I1 dX12_program_22 t10 (Or.inl (by rw [t10]; rfl)) xnI rfl e12 ?_
  refine x_aload_n 1 dX12_program_25 rfl ?_
  refine x_iconst (v := 0) dX12_program_26 (by decide) ?_
  have t13 : tg h11 x0 = 13 := by rw [e12]; exact t10
  obtain ⟨h14, e15⟩ : ∃ y, y = sI h11 x0 3099 0 := ⟨_, rfl⟩
  replace hq := hq h14 e15
  refine x_putI fdX12_259 xty_I1 dX12_program_27 t13 (Or.inl (by rw [t13]; rfl)) xnI rfl e15 ?_
  refine x_aload_n 1 dX12_program_30 rfl ?_
  refine x_iconst (v := (-1)) dX12_program_31 (by decide) ?_
  have t16 : tg h14 x0 = 13 := by rw [e15]; exact t13
  obtain ⟨h17, e18⟩ : ∃ y, y = sI h14 x0 3100 (-1) := ⟨_, rfl⟩
  replace hq := hq h17 e18
  refine x_putI fdX12_63 xty_I1 dX12_program_32 t16 (Or.inl (by rw [t16]; rfl)) xnI rfl e18 ?_
  refine x_aload_n 1 dX12_program_35 rfl ?_
  refine x_iload_n 0 dX12_program_36 rfl ?_
  refine x_sipush (v := 10000) dX12_program_37 (by decide) ?_
  obtain ⟨g19, g20, hq⟩ := hq
  refine x_callS (Yc := YJ10_min) (as := [.int (fI h8 x0 3076), .int 10000]) (st := [rv x0]) q3662 msJ10_min rfl dX12_program_40 (xle (xal1 rfl (xal1 rfl xal0)) (by decide)) (xfr g19) (xlo (xsw1 (rv_cat _) xsw0) (by decide) g20) (xKi hq (fun x22 h21 hq e23 => ?_) (fun _ _ q _ => q)) (show ∀ q ∈ [(202, 245, 248, 1119)], ¬ (q.1 ≤ 40 ∧ 40 < q.2.1) from by decide)
  replace hq := hq e23
  have t24 : tg h17 x0 = 13 := by rw [e18]; exact t16
  have t25 : tg h21 x0 = 13 := e23.tg t24 (by decide)
  obtain ⟨h26, e27⟩ : ∃ y, y = sI h21 x0 3080 x22 := ⟨_, rfl⟩
  replace hq := hq h26 e27
  refine x_putI fdX12_266 xty_I1 dX12_program_43 t25 (Or.inl (by rw [t25]; rfl)) xnI rfl e27 ?_
  refine x_iconst (v := 0) dX12_program_46 (by decide) ?_
  refine x_istore_n (lv' := [(2, .int 0), (1, .int (fI h8 x0 3076)), (0, rv x0)]) dX12_program_47 (by decide) rfl ?_
  refine xP.pick (lv' := [(0, rv x0), (1, .int (fI h8 x0 3076)), (2, .int 0)]) [2, 1, 0] rfl ?_
  exact hq
theorem rX12_program {G : xG} {fr lo : Nat} {x0 : Nat} {h : xH} {Q : Outcome → xH → Prop} (hq : bX12_program G fr lo x0 h Q) : xR G YX12_program fr lo [rv x0] h Q := by
  show xP _ _ _ _ _ (lv_args 0 _) _ _ _
  rw [show lv_args 0 [rv x0] = [(0, rv x0)] from (xla1 (rv_cat _) xla0)]
  exact uX12_program hq
set_option maxRecDepth 100000 in
theorem dX12_blankNames_0 : decode cX12_blankNames 0 = .ok (.aload_n 0, 1) := by decide +kernel
set_option maxRecDepth 100000 in
theorem dX12_blankNames_1 : decode cX12_blankNames 1 = .ok (.iconst 0, 1) := by decide +kernel
set_option maxRecDepth 100000 in
theorem dX12_blankNames_2 : decode cX12_blankNames 2 = .ok (.putfield 283, 3) := by decide +kernel
set_option maxRecDepth 100000 in
theorem dX12_blankNames_5 : decode cX12_blankNames 5 = .ok (.aload_n 0, 1) := by decide +kernel
set_option maxRecDepth 100000 in
theorem dX12_blankNames_6 : decode cX12_blankNames 6 = .ok (.iconst 0, 1) := by decide +kernel
set_option maxRecDepth 100000 in
theorem dX12_blankNames_7 : decode cX12_blankNames 7 = .ok (.putfield 286, 3) := by decide +kernel
set_option maxRecDepth 100000 in
theorem dX12_blankNames_10 : decode cX12_blankNames 10 = .ok (.iconst 0, 1) := by decide +kernel
set_option maxRecDepth 100000 in
theorem dX12_blankNames_11 : decode cX12_blankNames 11 = .ok (.istore_n 1, 1) := by decide +kernel
set_option maxRecDepth 100000 in
theorem dX12_blankNames_12 : decode cX12_blankNames 12 = .ok (.iload_n 1, 1) := by decide +kernel
set_option maxRecDepth 100000 in
theorem dX12_blankNames_13 : decode cX12_blankNames 13 = .ok (.sipush 1024, 3) := by decide +kernel
set_option maxRecDepth 100000 in
theorem dX12_blankNames_16 : decode cX12_blankNames 16 = .ok (.if_icmp .ge 16, 3) := by decide +kernel
set_option maxRecDepth 100000 in
theorem dX12_blankNames_19 : decode cX12_blankNames 19 = .ok (.aload_n 0, 1) := by decide +kernel
set_option maxRecDepth 100000 in
theorem dX12_blankNames_20 : decode cX12_blankNames 20 = .ok (.getfield 57, 3) := by decide +kernel
set_option maxRecDepth 100000 in
theorem dX12_blankNames_23 : decode cX12_blankNames 23 = .ok (.iload_n 1, 1) := by decide +kernel
set_option maxRecDepth 100000 in
theorem dX12_blankNames_24 : decode cX12_blankNames 24 = .ok (.iconst (-1), 1) := by decide +kernel
set_option maxRecDepth 100000 in
theorem dX12_blankNames_25 : decode cX12_blankNames 25 = .ok (.iastore, 1) := by decide +kernel
set_option maxRecDepth 100000 in
theorem dX12_blankNames_26 : decode cX12_blankNames 26 = .ok (.iinc 1 1, 3) := by decide +kernel
set_option maxRecDepth 100000 in
theorem dX12_blankNames_29 : decode cX12_blankNames 29 = .ok (.goto (-17), 3) := by decide +kernel
set_option maxRecDepth 100000 in
theorem dX12_blankNames_32 : decode cX12_blankNames 32 = .ok (.iconst 1, 1) := by decide +kernel
set_option maxRecDepth 100000 in
theorem dX12_blankNames_33 : decode cX12_blankNames 33 = .ok (.istore_n 1, 1) := by decide +kernel
set_option maxRecDepth 100000 in
theorem dX12_blankNames_34 : decode cX12_blankNames 34 = .ok (.iload_n 1, 1) := by decide +kernel
set_option maxRecDepth 100000 in
theorem dX12_blankNames_35 : decode cX12_blankNames 35 = .ok (.bipush 35, 2) := by decide +kernel
set_option maxRecDepth 100000 in
theorem dX12_blankNames_37 : decode cX12_blankNames 37 = .ok (.if_icmp .gt 18, 3) := by decide +kernel
set_option maxRecDepth 100000 in
theorem dX12_blankNames_40 : decode cX12_blankNames 40 = .ok (.aload_n 0, 1) := by decide +kernel
set_option maxRecDepth 100000 in
theorem dX12_blankNames_41 : decode cX12_blankNames 41 = .ok (.iload_n 1, 1) := by decide +kernel
set_option maxRecDepth 100000 in
theorem dX12_blankNames_42 : decode cX12_blankNames 42 = .ok (.invokestatic 370, 3) := by decide +kernel
set_option maxRecDepth 100000 in
theorem dX12_blankNames_45 : decode cX12_blankNames 45 = .ok (.invokevirtual 374, 3) := by decide +kernel
set_option maxRecDepth 100000 in
theorem dX12_blankNames_48 : decode cX12_blankNames 48 = .ok (.pop, 1) := by decide +kernel
set_option maxRecDepth 100000 in
theorem dX12_blankNames_49 : decode cX12_blankNames 49 = .ok (.iinc 1 1, 3) := by decide +kernel
set_option maxRecDepth 100000 in
theorem dX12_blankNames_52 : decode cX12_blankNames 52 = .ok (.goto (-18), 3) := by decide +kernel
set_option maxRecDepth 100000 in
theorem dX12_blankNames_55 : decode cX12_blankNames 55 = .ok (.return_, 1) := by decide +kernel
def lX12_blankNames_12 (G : xG) (fr lo : Nat) (x0 : Nat) (x1 : Int32) (h : xH) (Q : Outcome → xH → Prop) : Prop := xP G YX12_blankNames fr lo 12 [(0, rv x0), (1, .int x1)] [] h Q
def lX12_blankNames_34 (G : xG) (fr lo : Nat) (x0 : Nat) (x1 : Int32) (h : xH) (Q : Outcome → xH → Prop) : Prop := xP G YX12_blankNames fr lo 34 [(0, rv x0), (1, .int x1)] [] h Q
set_option maxRecDepth 100000 in
def bX12_blankNames_34 (G : xG) (fr lo : Nat) (x0 : Nat) (x1 : Int32) (h : xH) (Q : Outcome → xH → Prop) : Prop := ((35 < x1 → Q (.returned none) h) ∧ (¬ 35 < x1 → 1 ≤ fr ∧ 13 ≤ lo ∧ xRr G YX12_reserved (fr - 1) (lo - 13) [.int x1] h (fun x5 h4 => xext h h4 → tg h4 x0 = 13 ∧ 1 ≤ fr ∧ 14 ≤ lo ∧ xRi G YX12_nameOf (fr - 1) (lo - 14) [rv x0, rv x5] h4 (fun x11 h10 => xext h4 h10 → lX12_blankNames_34 G fr lo x0 (x1 + 1) h10 Q) (fun r h2 => Q (.threw r) h2)) (fun r h2 => Q (.threw r) h2)))
set_option maxRecDepth 100000 in
theorem uX12_blankNames_34 {G : xG} {fr lo : Nat} {x0 : Nat} {x1 : Int32} {h : xH} {Q : Outcome → xH → Prop} (hq : bX12_blankNames_34 G fr lo x0 x1 h Q) : xP G YX12_blankNames fr lo 34 [(0, rv x0), (1, .int x1)] [] h Q := by
  unfold bX12_blankNames_34 at hq
  refine x_iload_n 1 dX12_blankNames_34 rfl ?_
  refine x_bipush (v := 35) dX12_blankNames_35 (by decide) ?_
  refine x_icmp_gt (tgt := 55) dX12_blankNames_37 (by decide) (fun c1 => ?_) (fun c1 => ?_)
  · replace hq := hq.1 c1
    exact x_vret rfl dX12_blankNames_55 hq
  · replace hq := hq.2 c1
    refine x_aload_n 0 dX12_blankNames_40 rfl ?_
    refine x_iload_n 1 dX12_blankNames_41 rfl ?_
    obtain ⟨g2, g3, hq⟩ := hq
    refine x_callS (Yc := YX12_reserved) (as := [.int x1]) (st := [rv x0]) q3668 msX12_reserved rfl dX12_blankNames_42 (xle (xal1 rfl xal0) (by decide)) (xfr g2) (xlo (xsw1 (rv_cat _) xsw0) (by decide) g3) (xKr hq (fun x5 h4 hq e6 => ?_) (fun _ _ q _ => q))
    replace hq := hq e6
    obtain ⟨g7, hq⟩ := hq
    obtain ⟨g8, g9, hq⟩ := hq
    refine x_callV (Yc := YX12_nameOf) (as := [rv x5]) (st := []) q3706 mvX12_nameOf g7 rfl dX12_blankNames_45 (xle (xal1 (rv_cat _) (xal1 (rv_cat _) xal0)) (by decide)) (xfr g8) (xlo xsw0 (by decide) g9) (xKi hq (fun x11 h10 hq e12 => ?_) (fun _ _ q _ => q))
    replace hq := hq e12
    refine x_pop dX12_blankNames_48 rfl ?_
    refine x_iinc (lv' := [(1, .int (x1 + 1)), (0, rv x0)]) 1 dX12_blankNames_49 rfl (by decide) (by first | rfl | (simp [rv_cat, Value.category]; done) | (simp [rv_cat, Value.category]; decide)) ?_
    refine x_goto (tgt := 34) dX12_blankNames_52 (by decide) ?_
    refine xP.pick (lv' := [(0, rv x0), (1, .int (x1 + 1))]) [1, 0] rfl ?_
    exact hq
set_option maxRecDepth 100000 in
def bX12_blankNames_12 (G : xG) (fr lo : Nat) (x0 : Nat) (x1 : Int32) (h : xH) (Q : Outcome → xH → Prop) : Prop := ((1024 ≤ x1 → lX12_blankNames_34 G fr lo x0 1 h Q) ∧ (¬ 1024 ≤ x1 → tg h x0 = 13 ∧ tg h (fR h x0 3095) = 100 ∧ vp_in x1 (ln h (fR h x0 3095)) ∧ (∀ h5 : xH, h5 = tI h (fR h x0 3095) (Int32.toNatClampNeg x1) (-1) → lX12_blankNames_12 G fr lo x0 (x1 + 1) h5 Q)))
set_option maxRecDepth 100000 in
theorem uX12_blankNames_12 {G : xG} {fr lo : Nat} {x0 : Nat} {x1 : Int32} {h : xH} {Q : Outcome → xH → Prop} (hq : bX12_blankNames_12 G fr lo x0 x1 h Q) : xP G YX12_blankNames fr lo 12 [(0, rv x0), (1, .int x1)] [] h Q := by
  unfold bX12_blankNames_12 at hq
  refine x_iload_n 1 dX12_blankNames_12 rfl ?_
  refine x_sipush (v := 1024) dX12_blankNames_13 (by decide) ?_
  refine x_icmp_ge (tgt := 32) dX12_blankNames_16 (by decide) (fun c1 => ?_) (fun c1 => ?_)
  · replace hq := hq.1 c1
    refine x_iconst (v := 1) dX12_blankNames_32 (by decide) ?_
    refine x_istore_n (lv' := [(1, .int 1), (0, rv x0)]) dX12_blankNames_33 (by decide) (by first | rfl | (simp [rv_cat, Value.category]; done) | (simp [rv_cat, Value.category]; decide)) ?_
    refine xP.pick (lv' := [(0, rv x0), (1, .int 1)]) [1, 0] rfl ?_
    exact hq
  · replace hq := hq.2 c1
    refine x_aload_n 0 dX12_blankNames_19 rfl ?_
    obtain ⟨g2, hq⟩ := hq
    refine x_get (v := rv (fR h x0 3095)) fdX12_57 dX12_blankNames_20 g2 rfl ?_
    refine x_iload_n 1 dX12_blankNames_23 rfl ?_
    refine x_iconst (v := (-1)) dX12_blankNames_24 (by decide) ?_
    obtain ⟨g3, hq⟩ := hq
    obtain ⟨i4, hq⟩ := hq
    obtain ⟨h5, e6⟩ : ∃ y, y = tI h (fR h x0 3095) (Int32.toNatClampNeg x1) (-1) := ⟨_, rfl⟩
    replace hq := hq h5 e6
    refine x_iast' g3 i4 dX12_blankNames_25 e6 ?_
    refine x_iinc (lv' := [(1, .int (x1 + 1)), (0, rv x0)]) 1 dX12_blankNames_26 rfl (by decide) (by first | rfl | (simp [rv_cat, Value.category]; done) | (simp [rv_cat, Value.category]; decide)) ?_
    refine x_goto (tgt := 12) dX12_blankNames_29 (by decide) ?_
    refine xP.pick (lv' := [(0, rv x0), (1, .int (x1 + 1))]) [1, 0] rfl ?_
    exact hq
set_option maxRecDepth 100000 in
def bX12_blankNames (G : xG) (fr lo : Nat) (x0 : Nat) (h : xH) (Q : Outcome → xH → Prop) : Prop := tg h x0 = 13 ∧ (∀ h2 : xH, h2 = sI h x0 3096 0 → (∀ h5 : xH, h5 = sI h2 x0 3091 0 → lX12_blankNames_12 G fr lo x0 0 h5 Q))
set_option maxRecDepth 100000 in
theorem uX12_blankNames {G : xG} {fr lo : Nat} {x0 : Nat} {h : xH} {Q : Outcome → xH → Prop} (hq : bX12_blankNames G fr lo x0 h Q) : xP G YX12_blankNames fr lo 0 [(0, rv x0)] [] h Q := by
  unfold bX12_blankNames at hq
  refine x_aload_n 0 dX12_blankNames_0 rfl ?_
  refine x_iconst (v := 0) dX12_blankNames_1 (by decide) ?_
  obtain ⟨g1, hq⟩ := hq
  obtain ⟨h2, e3⟩ : ∃ y, y = sI h x0 3096 0 := ⟨_, rfl⟩
  replace hq := hq h2 e3
  refine x_putI fdX12_283 xty_I1 dX12_blankNames_2 g1 (Or.inl (by rw [g1]; rfl)) xnI rfl e3 ?_
  refine x_aload_n 0 dX12_blankNames_5 rfl ?_
  refine x_iconst (v := 0) dX12_blankNames_6 (by decide) ?_
  have t4 : tg h2 x0 = 13 := by rw [e3]; exact g1
  obtain ⟨h5, e6⟩ : ∃ y, y = sI h2 x0 3091 0 := ⟨_, rfl⟩
  replace hq := hq h5 e6
  refine x_putI fdX12_286 xty_I1 dX12_blankNames_7 t4 (Or.inl (by rw [t4]; rfl)) xnI rfl e6 ?_
  refine x_iconst (v := 0) dX12_blankNames_10 (by decide) ?_
  refine x_istore_n (lv' := [(1, .int 0), (0, rv x0)]) dX12_blankNames_11 (by decide) (by first | rfl | (simp [rv_cat, Value.category]; done) | (simp [rv_cat, Value.category]; decide)) ?_
  refine xP.pick (lv' := [(0, rv x0), (1, .int 0)]) [1, 0] rfl ?_
  exact hq
theorem rX12_blankNames {G : xG} {fr lo : Nat} {x0 : Nat} {h : xH} {Q : Outcome → xH → Prop} (hq : bX12_blankNames G fr lo x0 h Q) : xR G YX12_blankNames fr lo [rv x0] h Q := by
  show xP _ _ _ _ _ (lv_args 0 _) _ _ _
  rw [show lv_args 0 [rv x0] = [(0, rv x0)] from (xla1 (rv_cat _) xla0)]
  exact uX12_blankNames hq
set_option maxRecDepth 100000 in
theorem dX12_reserved_0 : decode cX12_reserved 0 = .ok (.iload_n 0, 1) := by decide +kernel
set_option maxRecDepth 100000 in
theorem dX12_reserved_1 : decode cX12_reserved 1 = .ok (.tableswitch 287 1 34 #[151, 155, 159, 163, 167, 171, 175, 179, 183, 187, 191, 195, 199, 203, 207, 211, 215, 219, 223, 227, 231, 235, 239, 243, 247, 251, 255, 259, 263, 267, 271, 275, 279, 283], 151) := by decide +kernel
set_option maxRecDepth 100000 in
theorem dX12_reserved_152 : decode cX12_reserved 152 = .ok (.ldc_w 301, 3) := by decide +kernel
set_option maxRecDepth 100000 in
theorem dX12_reserved_155 : decode cX12_reserved 155 = .ok (.areturn, 1) := by decide +kernel
set_option maxRecDepth 100000 in
theorem dX12_reserved_156 : decode cX12_reserved 156 = .ok (.ldc_w 303, 3) := by decide +kernel
set_option maxRecDepth 100000 in
theorem dX12_reserved_159 : decode cX12_reserved 159 = .ok (.areturn, 1) := by decide +kernel
set_option maxRecDepth 100000 in
theorem dX12_reserved_160 : decode cX12_reserved 160 = .ok (.ldc_w 305, 3) := by decide +kernel
set_option maxRecDepth 100000 in
theorem dX12_reserved_163 : decode cX12_reserved 163 = .ok (.areturn, 1) := by decide +kernel
set_option maxRecDepth 100000 in
theorem dX12_reserved_164 : decode cX12_reserved 164 = .ok (.ldc_w 307, 3) := by decide +kernel
set_option maxRecDepth 100000 in
theorem dX12_reserved_167 : decode cX12_reserved 167 = .ok (.areturn, 1) := by decide +kernel
set_option maxRecDepth 100000 in
theorem dX12_reserved_168 : decode cX12_reserved 168 = .ok (.ldc_w 309, 3) := by decide +kernel
set_option maxRecDepth 100000 in
theorem dX12_reserved_171 : decode cX12_reserved 171 = .ok (.areturn, 1) := by decide +kernel
set_option maxRecDepth 100000 in
theorem dX12_reserved_172 : decode cX12_reserved 172 = .ok (.ldc_w 311, 3) := by decide +kernel
set_option maxRecDepth 100000 in
theorem dX12_reserved_175 : decode cX12_reserved 175 = .ok (.areturn, 1) := by decide +kernel
set_option maxRecDepth 100000 in
theorem dX12_reserved_176 : decode cX12_reserved 176 = .ok (.ldc_w 313, 3) := by decide +kernel
set_option maxRecDepth 100000 in
theorem dX12_reserved_179 : decode cX12_reserved 179 = .ok (.areturn, 1) := by decide +kernel
set_option maxRecDepth 100000 in
theorem dX12_reserved_180 : decode cX12_reserved 180 = .ok (.ldc_w 315, 3) := by decide +kernel
set_option maxRecDepth 100000 in
theorem dX12_reserved_183 : decode cX12_reserved 183 = .ok (.areturn, 1) := by decide +kernel
set_option maxRecDepth 100000 in
theorem dX12_reserved_184 : decode cX12_reserved 184 = .ok (.ldc_w 317, 3) := by decide +kernel
set_option maxRecDepth 100000 in
theorem dX12_reserved_187 : decode cX12_reserved 187 = .ok (.areturn, 1) := by decide +kernel
set_option maxRecDepth 100000 in
theorem dX12_reserved_188 : decode cX12_reserved 188 = .ok (.ldc_w 319, 3) := by decide +kernel
set_option maxRecDepth 100000 in
theorem dX12_reserved_191 : decode cX12_reserved 191 = .ok (.areturn, 1) := by decide +kernel
set_option maxRecDepth 100000 in
theorem dX12_reserved_192 : decode cX12_reserved 192 = .ok (.ldc_w 321, 3) := by decide +kernel
set_option maxRecDepth 100000 in
theorem dX12_reserved_195 : decode cX12_reserved 195 = .ok (.areturn, 1) := by decide +kernel
set_option maxRecDepth 100000 in
theorem dX12_reserved_196 : decode cX12_reserved 196 = .ok (.ldc_w 323, 3) := by decide +kernel
set_option maxRecDepth 100000 in
theorem dX12_reserved_199 : decode cX12_reserved 199 = .ok (.areturn, 1) := by decide +kernel
set_option maxRecDepth 100000 in
theorem dX12_reserved_200 : decode cX12_reserved 200 = .ok (.ldc_w 325, 3) := by decide +kernel
set_option maxRecDepth 100000 in
theorem dX12_reserved_203 : decode cX12_reserved 203 = .ok (.areturn, 1) := by decide +kernel
set_option maxRecDepth 100000 in
theorem dX12_reserved_204 : decode cX12_reserved 204 = .ok (.ldc_w 327, 3) := by decide +kernel
set_option maxRecDepth 100000 in
theorem dX12_reserved_207 : decode cX12_reserved 207 = .ok (.areturn, 1) := by decide +kernel
set_option maxRecDepth 100000 in
theorem dX12_reserved_208 : decode cX12_reserved 208 = .ok (.ldc_w 329, 3) := by decide +kernel
set_option maxRecDepth 100000 in
theorem dX12_reserved_211 : decode cX12_reserved 211 = .ok (.areturn, 1) := by decide +kernel
set_option maxRecDepth 100000 in
theorem dX12_reserved_212 : decode cX12_reserved 212 = .ok (.ldc_w 331, 3) := by decide +kernel
set_option maxRecDepth 100000 in
theorem dX12_reserved_215 : decode cX12_reserved 215 = .ok (.areturn, 1) := by decide +kernel
set_option maxRecDepth 100000 in
theorem dX12_reserved_216 : decode cX12_reserved 216 = .ok (.ldc_w 333, 3) := by decide +kernel
set_option maxRecDepth 100000 in
theorem dX12_reserved_219 : decode cX12_reserved 219 = .ok (.areturn, 1) := by decide +kernel
set_option maxRecDepth 100000 in
theorem dX12_reserved_220 : decode cX12_reserved 220 = .ok (.ldc_w 335, 3) := by decide +kernel
set_option maxRecDepth 100000 in
theorem dX12_reserved_223 : decode cX12_reserved 223 = .ok (.areturn, 1) := by decide +kernel
set_option maxRecDepth 100000 in
theorem dX12_reserved_224 : decode cX12_reserved 224 = .ok (.ldc_w 337, 3) := by decide +kernel
set_option maxRecDepth 100000 in
theorem dX12_reserved_227 : decode cX12_reserved 227 = .ok (.areturn, 1) := by decide +kernel
set_option maxRecDepth 100000 in
theorem dX12_reserved_228 : decode cX12_reserved 228 = .ok (.ldc_w 338, 3) := by decide +kernel
set_option maxRecDepth 100000 in
theorem dX12_reserved_231 : decode cX12_reserved 231 = .ok (.areturn, 1) := by decide +kernel
set_option maxRecDepth 100000 in
theorem dX12_reserved_232 : decode cX12_reserved 232 = .ok (.ldc_w 340, 3) := by decide +kernel
set_option maxRecDepth 100000 in
theorem dX12_reserved_235 : decode cX12_reserved 235 = .ok (.areturn, 1) := by decide +kernel
set_option maxRecDepth 100000 in
theorem dX12_reserved_236 : decode cX12_reserved 236 = .ok (.ldc_w 342, 3) := by decide +kernel
set_option maxRecDepth 100000 in
theorem dX12_reserved_239 : decode cX12_reserved 239 = .ok (.areturn, 1) := by decide +kernel
set_option maxRecDepth 100000 in
theorem dX12_reserved_240 : decode cX12_reserved 240 = .ok (.ldc_w 344, 3) := by decide +kernel
set_option maxRecDepth 100000 in
theorem dX12_reserved_243 : decode cX12_reserved 243 = .ok (.areturn, 1) := by decide +kernel
set_option maxRecDepth 100000 in
theorem dX12_reserved_244 : decode cX12_reserved 244 = .ok (.ldc_w 346, 3) := by decide +kernel
set_option maxRecDepth 100000 in
theorem dX12_reserved_247 : decode cX12_reserved 247 = .ok (.areturn, 1) := by decide +kernel
set_option maxRecDepth 100000 in
theorem dX12_reserved_248 : decode cX12_reserved 248 = .ok (.ldc_w 348, 3) := by decide +kernel
set_option maxRecDepth 100000 in
theorem dX12_reserved_251 : decode cX12_reserved 251 = .ok (.areturn, 1) := by decide +kernel
set_option maxRecDepth 100000 in
theorem dX12_reserved_252 : decode cX12_reserved 252 = .ok (.ldc_w 350, 3) := by decide +kernel
set_option maxRecDepth 100000 in
theorem dX12_reserved_255 : decode cX12_reserved 255 = .ok (.areturn, 1) := by decide +kernel
set_option maxRecDepth 100000 in
theorem dX12_reserved_256 : decode cX12_reserved 256 = .ok (.ldc_w 352, 3) := by decide +kernel
set_option maxRecDepth 100000 in
theorem dX12_reserved_259 : decode cX12_reserved 259 = .ok (.areturn, 1) := by decide +kernel
set_option maxRecDepth 100000 in
theorem dX12_reserved_260 : decode cX12_reserved 260 = .ok (.ldc_w 354, 3) := by decide +kernel
set_option maxRecDepth 100000 in
theorem dX12_reserved_263 : decode cX12_reserved 263 = .ok (.areturn, 1) := by decide +kernel
set_option maxRecDepth 100000 in
theorem dX12_reserved_264 : decode cX12_reserved 264 = .ok (.ldc_w 356, 3) := by decide +kernel
set_option maxRecDepth 100000 in
theorem dX12_reserved_267 : decode cX12_reserved 267 = .ok (.areturn, 1) := by decide +kernel
set_option maxRecDepth 100000 in
theorem dX12_reserved_268 : decode cX12_reserved 268 = .ok (.ldc_w 358, 3) := by decide +kernel
set_option maxRecDepth 100000 in
theorem dX12_reserved_271 : decode cX12_reserved 271 = .ok (.areturn, 1) := by decide +kernel
set_option maxRecDepth 100000 in
theorem dX12_reserved_272 : decode cX12_reserved 272 = .ok (.ldc_w 360, 3) := by decide +kernel
set_option maxRecDepth 100000 in
theorem dX12_reserved_275 : decode cX12_reserved 275 = .ok (.areturn, 1) := by decide +kernel
set_option maxRecDepth 100000 in
theorem dX12_reserved_276 : decode cX12_reserved 276 = .ok (.ldc_w 362, 3) := by decide +kernel
set_option maxRecDepth 100000 in
theorem dX12_reserved_279 : decode cX12_reserved 279 = .ok (.areturn, 1) := by decide +kernel
set_option maxRecDepth 100000 in
theorem dX12_reserved_280 : decode cX12_reserved 280 = .ok (.ldc_w 364, 3) := by decide +kernel
set_option maxRecDepth 100000 in
theorem dX12_reserved_283 : decode cX12_reserved 283 = .ok (.areturn, 1) := by decide +kernel
set_option maxRecDepth 100000 in
theorem dX12_reserved_284 : decode cX12_reserved 284 = .ok (.ldc_w 366, 3) := by decide +kernel
set_option maxRecDepth 100000 in
theorem dX12_reserved_287 : decode cX12_reserved 287 = .ok (.areturn, 1) := by decide +kernel
set_option maxRecDepth 100000 in
theorem dX12_reserved_288 : decode cX12_reserved 288 = .ok (.ldc_w 368, 3) := by decide +kernel
set_option maxRecDepth 100000 in
theorem dX12_reserved_291 : decode cX12_reserved 291 = .ok (.areturn, 1) := by decide +kernel
set_option maxRecDepth 100000 in
def bX12_reserved (G : xG) (fr lo : Nat) (x0 : Int32) (h : xH) (Q : Outcome → xH → Prop) : Prop := ((x0 = 1 → Q (.returned (some (rv (tx G 0)))) h) ∧ (x0 = 2 → Q (.returned (some (rv (tx G 1)))) h) ∧ (x0 = 3 → Q (.returned (some (rv (tx G 2)))) h) ∧ (x0 = 4 → Q (.returned (some (rv (tx G 3)))) h) ∧ (x0 = 5 → Q (.returned (some (rv (tx G 4)))) h) ∧ (x0 = 6 → Q (.returned (some (rv (tx G 5)))) h) ∧ (x0 = 7 → Q (.returned (some (rv (tx G 6)))) h) ∧ (x0 = 8 → Q (.returned (some (rv (tx G 7)))) h) ∧ (x0 = 9 → Q (.returned (some (rv (tx G 8)))) h) ∧ (x0 = 10 → Q (.returned (some (rv (tx G 9)))) h) ∧ (x0 = 11 → Q (.returned (some (rv (tx G 10)))) h) ∧ (x0 = 12 → Q (.returned (some (rv (tx G 11)))) h) ∧ (x0 = 13 → Q (.returned (some (rv (tx G 12)))) h) ∧ (x0 = 14 → Q (.returned (some (rv (tx G 13)))) h) ∧ (x0 = 15 → Q (.returned (some (rv (tx G 14)))) h) ∧ (x0 = 16 → Q (.returned (some (rv (tx G 15)))) h) ∧ (x0 = 17 → Q (.returned (some (rv (tx G 16)))) h) ∧ (x0 = 18 → Q (.returned (some (rv (tx G 17)))) h) ∧ (x0 = 19 → Q (.returned (some (rv (tx G 18)))) h) ∧ (x0 = 20 → Q (.returned (some (rv (tx G 19)))) h) ∧ (x0 = 21 → Q (.returned (some (rv (tx G 20)))) h) ∧ (x0 = 22 → Q (.returned (some (rv (tx G 21)))) h) ∧ (x0 = 23 → Q (.returned (some (rv (tx G 22)))) h) ∧ (x0 = 24 → Q (.returned (some (rv (tx G 23)))) h) ∧ (x0 = 25 → Q (.returned (some (rv (tx G 24)))) h) ∧ (x0 = 26 → Q (.returned (some (rv (tx G 25)))) h) ∧ (x0 = 27 → Q (.returned (some (rv (tx G 26)))) h) ∧ (x0 = 28 → Q (.returned (some (rv (tx G 27)))) h) ∧ (x0 = 29 → Q (.returned (some (rv (tx G 28)))) h) ∧ (x0 = 30 → Q (.returned (some (rv (tx G 29)))) h) ∧ (x0 = 31 → Q (.returned (some (rv (tx G 30)))) h) ∧ (x0 = 32 → Q (.returned (some (rv (tx G 31)))) h) ∧ (x0 = 33 → Q (.returned (some (rv (tx G 32)))) h) ∧ (x0 = 34 → Q (.returned (some (rv (tx G 33)))) h) ∧ (¬ x0 = 1 → ¬ x0 = 2 → ¬ x0 = 3 → ¬ x0 = 4 → ¬ x0 = 5 → ¬ x0 = 6 → ¬ x0 = 7 → ¬ x0 = 8 → ¬ x0 = 9 → ¬ x0 = 10 → ¬ x0 = 11 → ¬ x0 = 12 → ¬ x0 = 13 → ¬ x0 = 14 → ¬ x0 = 15 → ¬ x0 = 16 → ¬ x0 = 17 → ¬ x0 = 18 → ¬ x0 = 19 → ¬ x0 = 20 → ¬ x0 = 21 → ¬ x0 = 22 → ¬ x0 = 23 → ¬ x0 = 24 → ¬ x0 = 25 → ¬ x0 = 26 → ¬ x0 = 27 → ¬ x0 = 28 → ¬ x0 = 29 → ¬ x0 = 30 → ¬ x0 = 31 → ¬ x0 = 32 → ¬ x0 = 33 → ¬ x0 = 34 → Q (.returned (some (rv (tx G 34)))) h))
set_option maxRecDepth 100000 in
theorem uX12_reserved {G : xG} {fr lo : Nat} {x0 : Int32} {h : xH} {Q : Outcome → xH → Prop} (hq : bX12_reserved G fr lo x0 h Q) : xP G YX12_reserved fr lo 0 [(0, .int x0)] [] h Q := by
  unfold bX12_reserved at hq
  refine x_iload_n 0 dX12_reserved_0 rfl ?_
  by_cases c1 : x0 = 1
  · replace hq := hq.1 c1
    refine x_tin (tgt := 152) (off := 151) 1 c1 dX12_reserved_1 (by decide) (by decide) (by decide) (by decide) ?_
    refine x_ldcwS (n := 0) 141 srX12_301 dX12_reserved_152 ?_
    exact x_aret rfl xty_O dX12_reserved_155 hq
  replace hq := hq.2
  by_cases c2 : x0 = 2
  · replace hq := hq.1 c2
    refine x_tin (tgt := 156) (off := 155) 2 c2 dX12_reserved_1 (by decide) (by decide) (by decide) (by decide) ?_
    refine x_ldcwS (n := 1) 142 srX12_303 dX12_reserved_156 ?_
    exact x_aret rfl xty_O dX12_reserved_159 hq
  replace hq := hq.2
  by_cases c3 : x0 = 3
  · replace hq := hq.1 c3
    refine x_tin (tgt := 160) (off := 159) 3 c3 dX12_reserved_1 (by decide) (by decide) (by decide) (by decide) ?_
    refine x_ldcwS (n := 2) 143 srX12_305 dX12_reserved_160 ?_
    exact x_aret rfl xty_O dX12_reserved_163 hq
  replace hq := hq.2
  by_cases c4 : x0 = 4
  · replace hq := hq.1 c4
    refine x_tin (tgt := 164) (off := 163) 4 c4 dX12_reserved_1 (by decide) (by decide) (by decide) (by decide) ?_
    refine x_ldcwS (n := 3) 144 srX12_307 dX12_reserved_164 ?_
    exact x_aret rfl xty_O dX12_reserved_167 hq
  replace hq := hq.2
  by_cases c5 : x0 = 5
  · replace hq := hq.1 c5
    refine x_tin (tgt := 168) (off := 167) 5 c5 dX12_reserved_1 (by decide) (by decide) (by decide) (by decide) ?_
    refine x_ldcwS (n := 4) 145 srX12_309 dX12_reserved_168 ?_
    exact x_aret rfl xty_O dX12_reserved_171 hq
  replace hq := hq.2
  by_cases c6 : x0 = 6
  · replace hq := hq.1 c6
    refine x_tin (tgt := 172) (off := 171) 6 c6 dX12_reserved_1 (by decide) (by decide) (by decide) (by decide) ?_
    refine x_ldcwS (n := 5) 146 srX12_311 dX12_reserved_172 ?_
    exact x_aret rfl xty_O dX12_reserved_175 hq
  replace hq := hq.2
  by_cases c7 : x0 = 7
  · replace hq := hq.1 c7
    refine x_tin (tgt := 176) (off := 175) 7 c7 dX12_reserved_1 (by decide) (by decide) (by decide) (by decide) ?_
    refine x_ldcwS (n := 6) 147 srX12_313 dX12_reserved_176 ?_
    exact x_aret rfl xty_O dX12_reserved_179 hq
  replace hq := hq.2
  by_cases c8 : x0 = 8
  · replace hq := hq.1 c8
    refine x_tin (tgt := 180) (off := 179) 8 c8 dX12_reserved_1 (by decide) (by decide) (by decide) (by decide) ?_
    refine x_ldcwS (n := 7) 148 srX12_315 dX12_reserved_180 ?_
    exact x_aret rfl xty_O dX12_reserved_183 hq
  replace hq := hq.2
  by_cases c9 : x0 = 9
  · replace hq := hq.1 c9
    refine x_tin (tgt := 184) (off := 183) 9 c9 dX12_reserved_1 (by decide) (by decide) (by decide) (by decide) ?_
    refine x_ldcwS (n := 8) 149 srX12_317 dX12_reserved_184 ?_
    exact x_aret rfl xty_O dX12_reserved_187 hq
  replace hq := hq.2
  by_cases c10 : x0 = 10
  · replace hq := hq.1 c10
    refine x_tin (tgt := 188) (off := 187) 10 c10 dX12_reserved_1 (by decide) (by decide) (by decide) (by decide) ?_
    refine x_ldcwS (n := 9) 150 srX12_319 dX12_reserved_188 ?_
    exact x_aret rfl xty_O dX12_reserved_191 hq
  replace hq := hq.2
  by_cases c11 : x0 = 11
  · replace hq := hq.1 c11
    refine x_tin (tgt := 192) (off := 191) 11 c11 dX12_reserved_1 (by decide) (by decide) (by decide) (by decide) ?_
    refine x_ldcwS (n := 10) 151 srX12_321 dX12_reserved_192 ?_
    exact x_aret rfl xty_O dX12_reserved_195 hq
  replace hq := hq.2
  by_cases c12 : x0 = 12
  · replace hq := hq.1 c12
    refine x_tin (tgt := 196) (off := 195) 12 c12 dX12_reserved_1 (by decide) (by decide) (by decide) (by decide) ?_
    refine x_ldcwS (n := 11) 152 srX12_323 dX12_reserved_196 ?_
    exact x_aret rfl xty_O dX12_reserved_199 hq
  replace hq := hq.2
  by_cases c13 : x0 = 13
  · replace hq := hq.1 c13
    refine x_tin (tgt := 200) (off := 199) 13 c13 dX12_reserved_1 (by decide) (by decide) (by decide) (by decide) ?_
    refine x_ldcwS (n := 12) 153 srX12_325 dX12_reserved_200 ?_
    exact x_aret rfl xty_O dX12_reserved_203 hq
  replace hq := hq.2
  by_cases c14 : x0 = 14
  · replace hq := hq.1 c14
    refine x_tin (tgt := 204) (off := 203) 14 c14 dX12_reserved_1 (by decide) (by decide) (by decide) (by decide) ?_
    refine x_ldcwS (n := 13) 154 srX12_327 dX12_reserved_204 ?_
    exact x_aret rfl xty_O dX12_reserved_207 hq
  replace hq := hq.2
  by_cases c15 : x0 = 15
  · replace hq := hq.1 c15
    refine x_tin (tgt := 208) (off := 207) 15 c15 dX12_reserved_1 (by decide) (by decide) (by decide) (by decide) ?_
    refine x_ldcwS (n := 14) 155 srX12_329 dX12_reserved_208 ?_
    exact x_aret rfl xty_O dX12_reserved_211 hq
  replace hq := hq.2
  by_cases c16 : x0 = 16
  · replace hq := hq.1 c16
    refine x_tin (tgt := 212) (off := 211) 16 c16 dX12_reserved_1 (by decide) (by decide) (by decide) (by decide) ?_
    refine x_ldcwS (n := 15) 156 srX12_331 dX12_reserved_212 ?_
    exact x_aret rfl xty_O dX12_reserved_215 hq
  replace hq := hq.2
  by_cases c17 : x0 = 17
  · replace hq := hq.1 c17
    refine x_tin (tgt := 216) (off := 215) 17 c17 dX12_reserved_1 (by decide) (by decide) (by decide) (by decide) ?_
    refine x_ldcwS (n := 16) 157 srX12_333 dX12_reserved_216 ?_
    exact x_aret rfl xty_O dX12_reserved_219 hq
  replace hq := hq.2
  by_cases c18 : x0 = 18
  · replace hq := hq.1 c18
    refine x_tin (tgt := 220) (off := 219) 18 c18 dX12_reserved_1 (by decide) (by decide) (by decide) (by decide) ?_
    refine x_ldcwS (n := 17) 158 srX12_335 dX12_reserved_220 ?_
    exact x_aret rfl xty_O dX12_reserved_223 hq
  replace hq := hq.2
  by_cases c19 : x0 = 19
  · replace hq := hq.1 c19
    refine x_tin (tgt := 224) (off := 223) 19 c19 dX12_reserved_1 (by decide) (by decide) (by decide) (by decide) ?_
    refine x_ldcwS (n := 18) 159 srX12_337 dX12_reserved_224 ?_
    exact x_aret rfl xty_O dX12_reserved_227 hq
  replace hq := hq.2
  by_cases c20 : x0 = 20
  · replace hq := hq.1 c20
    refine x_tin (tgt := 228) (off := 227) 20 c20 dX12_reserved_1 (by decide) (by decide) (by decide) (by decide) ?_
    refine x_ldcwS (n := 19) 160 srX12_338 dX12_reserved_228 ?_
    exact x_aret rfl xty_O dX12_reserved_231 hq
  replace hq := hq.2
  by_cases c21 : x0 = 21
  · replace hq := hq.1 c21
    refine x_tin (tgt := 232) (off := 231) 21 c21 dX12_reserved_1 (by decide) (by decide) (by decide) (by decide) ?_
    refine x_ldcwS (n := 20) 161 srX12_340 dX12_reserved_232 ?_
    exact x_aret rfl xty_O dX12_reserved_235 hq
  replace hq := hq.2
  by_cases c22 : x0 = 22
  · replace hq := hq.1 c22
    refine x_tin (tgt := 236) (off := 235) 22 c22 dX12_reserved_1 (by decide) (by decide) (by decide) (by decide) ?_
    refine x_ldcwS (n := 21) 162 srX12_342 dX12_reserved_236 ?_
    exact x_aret rfl xty_O dX12_reserved_239 hq
  replace hq := hq.2
  by_cases c23 : x0 = 23
  · replace hq := hq.1 c23
    refine x_tin (tgt := 240) (off := 239) 23 c23 dX12_reserved_1 (by decide) (by decide) (by decide) (by decide) ?_
    refine x_ldcwS (n := 22) 163 srX12_344 dX12_reserved_240 ?_
    exact x_aret rfl xty_O dX12_reserved_243 hq
  replace hq := hq.2
  by_cases c24 : x0 = 24
  · replace hq := hq.1 c24
    refine x_tin (tgt := 244) (off := 243) 24 c24 dX12_reserved_1 (by decide) (by decide) (by decide) (by decide) ?_
    refine x_ldcwS (n := 23) 164 srX12_346 dX12_reserved_244 ?_
    exact x_aret rfl xty_O dX12_reserved_247 hq
  replace hq := hq.2
  by_cases c25 : x0 = 25
  · replace hq := hq.1 c25
    refine x_tin (tgt := 248) (off := 247) 25 c25 dX12_reserved_1 (by decide) (by decide) (by decide) (by decide) ?_
    refine x_ldcwS (n := 24) 165 srX12_348 dX12_reserved_248 ?_
    exact x_aret rfl xty_O dX12_reserved_251 hq
  replace hq := hq.2
  by_cases c26 : x0 = 26
  · replace hq := hq.1 c26
    refine x_tin (tgt := 252) (off := 251) 26 c26 dX12_reserved_1 (by decide) (by decide) (by decide) (by decide) ?_
    refine x_ldcwS (n := 25) 166 srX12_350 dX12_reserved_252 ?_
    exact x_aret rfl xty_O dX12_reserved_255 hq
  replace hq := hq.2
  by_cases c27 : x0 = 27
  · replace hq := hq.1 c27
    refine x_tin (tgt := 256) (off := 255) 27 c27 dX12_reserved_1 (by decide) (by decide) (by decide) (by decide) ?_
    refine x_ldcwS (n := 26) 167 srX12_352 dX12_reserved_256 ?_
    exact x_aret rfl xty_O dX12_reserved_259 hq
  replace hq := hq.2
  by_cases c28 : x0 = 28
  · replace hq := hq.1 c28
    refine x_tin (tgt := 260) (off := 259) 28 c28 dX12_reserved_1 (by decide) (by decide) (by decide) (by decide) ?_
    refine x_ldcwS (n := 27) 168 srX12_354 dX12_reserved_260 ?_
    exact x_aret rfl xty_O dX12_reserved_263 hq
  replace hq := hq.2
  by_cases c29 : x0 = 29
  · replace hq := hq.1 c29
    refine x_tin (tgt := 264) (off := 263) 29 c29 dX12_reserved_1 (by decide) (by decide) (by decide) (by decide) ?_
    refine x_ldcwS (n := 28) 169 srX12_356 dX12_reserved_264 ?_
    exact x_aret rfl xty_O dX12_reserved_267 hq
  replace hq := hq.2
  by_cases c30 : x0 = 30
  · replace hq := hq.1 c30
    refine x_tin (tgt := 268) (off := 267) 30 c30 dX12_reserved_1 (by decide) (by decide) (by decide) (by decide) ?_
    refine x_ldcwS (n := 29) 170 srX12_358 dX12_reserved_268 ?_
    exact x_aret rfl xty_O dX12_reserved_271 hq
  replace hq := hq.2
  by_cases c31 : x0 = 31
  · replace hq := hq.1 c31
    refine x_tin (tgt := 272) (off := 271) 31 c31 dX12_reserved_1 (by decide) (by decide) (by decide) (by decide) ?_
    refine x_ldcwS (n := 30) 171 srX12_360 dX12_reserved_272 ?_
    exact x_aret rfl xty_O dX12_reserved_275 hq
  replace hq := hq.2
  by_cases c32 : x0 = 32
  · replace hq := hq.1 c32
    refine x_tin (tgt := 276) (off := 275) 32 c32 dX12_reserved_1 (by decide) (by decide) (by decide) (by decide) ?_
    refine x_ldcwS (n := 31) 172 srX12_362 dX12_reserved_276 ?_
    exact x_aret rfl xty_O dX12_reserved_279 hq
  replace hq := hq.2
  by_cases c33 : x0 = 33
  · replace hq := hq.1 c33
    refine x_tin (tgt := 280) (off := 279) 33 c33 dX12_reserved_1 (by decide) (by decide) (by decide) (by decide) ?_
    refine x_ldcwS (n := 32) 173 srX12_364 dX12_reserved_280 ?_
    exact x_aret rfl xty_O dX12_reserved_283 hq
  replace hq := hq.2
  by_cases c34 : x0 = 34
  · replace hq := hq.1 c34
    refine x_tin (tgt := 284) (off := 283) 34 c34 dX12_reserved_1 (by decide) (by decide) (by decide) (by decide) ?_
    refine x_ldcwS (n := 33) 174 srX12_366 dX12_reserved_284 ?_
    exact x_aret rfl xty_O dX12_reserved_287 hq
  replace hq := hq.2
  replace hq := hq c1 c2 c3 c4 c5 c6 c7 c8 c9 c10 c11 c12 c13 c14 c15 c16 c17 c18 c19 c20 c21 c22 c23 c24 c25 c26 c27 c28 c29 c30 c31 c32 c33 c34
  have nc1 := lv_neT c1 (show (1 : Int32).toInt = 1 from by decide)
  have nc2 := lv_neT c2 (show (2 : Int32).toInt = 2 from by decide)
  have nc3 := lv_neT c3 (show (3 : Int32).toInt = 3 from by decide)
  have nc4 := lv_neT c4 (show (4 : Int32).toInt = 4 from by decide)
  have nc5 := lv_neT c5 (show (5 : Int32).toInt = 5 from by decide)
  have nc6 := lv_neT c6 (show (6 : Int32).toInt = 6 from by decide)
  have nc7 := lv_neT c7 (show (7 : Int32).toInt = 7 from by decide)
  have nc8 := lv_neT c8 (show (8 : Int32).toInt = 8 from by decide)
  have nc9 := lv_neT c9 (show (9 : Int32).toInt = 9 from by decide)
  have nc10 := lv_neT c10 (show (10 : Int32).toInt = 10 from by decide)
  have nc11 := lv_neT c11 (show (11 : Int32).toInt = 11 from by decide)
  have nc12 := lv_neT c12 (show (12 : Int32).toInt = 12 from by decide)
  have nc13 := lv_neT c13 (show (13 : Int32).toInt = 13 from by decide)
  have nc14 := lv_neT c14 (show (14 : Int32).toInt = 14 from by decide)
  have nc15 := lv_neT c15 (show (15 : Int32).toInt = 15 from by decide)
  have nc16 := lv_neT c16 (show (16 : Int32).toInt = 16 from by decide)
  have nc17 := lv_neT c17 (show (17 : Int32).toInt = 17 from by decide)
  have nc18 := lv_neT c18 (show (18 : Int32).toInt = 18 from by decide)
  have nc19 := lv_neT c19 (show (19 : Int32).toInt = 19 from by decide)
  have nc20 := lv_neT c20 (show (20 : Int32).toInt = 20 from by decide)
  have nc21 := lv_neT c21 (show (21 : Int32).toInt = 21 from by decide)
  have nc22 := lv_neT c22 (show (22 : Int32).toInt = 22 from by decide)
  have nc23 := lv_neT c23 (show (23 : Int32).toInt = 23 from by decide)
  have nc24 := lv_neT c24 (show (24 : Int32).toInt = 24 from by decide)
  have nc25 := lv_neT c25 (show (25 : Int32).toInt = 25 from by decide)
  have nc26 := lv_neT c26 (show (26 : Int32).toInt = 26 from by decide)
  have nc27 := lv_neT c27 (show (27 : Int32).toInt = 27 from by decide)
  have nc28 := lv_neT c28 (show (28 : Int32).toInt = 28 from by decide)
  have nc29 := lv_neT c29 (show (29 : Int32).toInt = 29 from by decide)
  have nc30 := lv_neT c30 (show (30 : Int32).toInt = 30 from by decide)
  have nc31 := lv_neT c31 (show (31 : Int32).toInt = 31 from by decide)
  have nc32 := lv_neT c32 (show (32 : Int32).toInt = 32 from by decide)
  have nc33 := lv_neT c33 (show (33 : Int32).toInt = 33 from by decide)
  have nc34 := lv_neT c34 (show (34 : Int32).toInt = 34 from by decide)
  refine x_tout (tgt := 288) dX12_reserved_1 (by omega) (by decide) ?_
  refine x_ldcwS (n := 34) 175 srX12_368 dX12_reserved_288 ?_
  exact x_aret rfl xty_O dX12_reserved_291 hq
theorem rX12_reserved {G : xG} {fr lo : Nat} {x0 : Int32} {h : xH} {Q : Outcome → xH → Prop} (hq : bX12_reserved G fr lo x0 h Q) : xR G YX12_reserved fr lo [.int x0] h Q := by
  show xP _ _ _ _ _ (lv_args 0 _) _ _ _
  rw [show lv_args 0 [.int x0] = [(0, .int x0)] from (xla1 rfl xla0)]
  exact uX12_reserved hq
set_option maxRecDepth 100000 in
theorem dX12_nameOf_0 : decode cX12_nameOf 0 = .ok (.aload_n 0, 1) := by decide +kernel
set_option maxRecDepth 100000 in
theorem dX12_nameOf_1 : decode cX12_nameOf 1 = .ok (.aload_n 1, 1) := by decide +kernel
set_option maxRecDepth 100000 in
theorem dX12_nameOf_2 : decode cX12_nameOf 2 = .ok (.invokevirtual 289, 3) := by decide +kernel
set_option maxRecDepth 100000 in
theorem dX12_nameOf_5 : decode cX12_nameOf 5 = .ok (.putfield 280, 3) := by decide +kernel
set_option maxRecDepth 100000 in
theorem dX12_nameOf_8 : decode cX12_nameOf 8 = .ok (.iconst 0, 1) := by decide +kernel
set_option maxRecDepth 100000 in
theorem dX12_nameOf_9 : decode cX12_nameOf 9 = .ok (.istore_n 2, 1) := by decide +kernel
set_option maxRecDepth 100000 in
theorem dX12_nameOf_10 : decode cX12_nameOf 10 = .ok (.iload_n 2, 1) := by decide +kernel
set_option maxRecDepth 100000 in
theorem dX12_nameOf_11 : decode cX12_nameOf 11 = .ok (.aload_n 0, 1) := by decide +kernel
set_option maxRecDepth 100000 in
theorem dX12_nameOf_12 : decode cX12_nameOf 12 = .ok (.getfield 280, 3) := by decide +kernel
set_option maxRecDepth 100000 in
theorem dX12_nameOf_15 : decode cX12_nameOf 15 = .ok (.if_icmp .ge 21, 3) := by decide +kernel
set_option maxRecDepth 100000 in
theorem dX12_nameOf_18 : decode cX12_nameOf 18 = .ok (.aload_n 0, 1) := by decide +kernel
set_option maxRecDepth 100000 in
theorem dX12_nameOf_19 : decode cX12_nameOf 19 = .ok (.getfield 60, 3) := by decide +kernel
set_option maxRecDepth 100000 in
theorem dX12_nameOf_22 : decode cX12_nameOf 22 = .ok (.iload_n 2, 1) := by decide +kernel
set_option maxRecDepth 100000 in
theorem dX12_nameOf_23 : decode cX12_nameOf 23 = .ok (.aload_n 1, 1) := by decide +kernel
set_option maxRecDepth 100000 in
theorem dX12_nameOf_24 : decode cX12_nameOf 24 = .ok (.iload_n 2, 1) := by decide +kernel
set_option maxRecDepth 100000 in
theorem dX12_nameOf_25 : decode cX12_nameOf 25 = .ok (.invokevirtual 294, 3) := by decide +kernel
set_option maxRecDepth 100000 in
theorem dX12_nameOf_28 : decode cX12_nameOf 28 = .ok (.i2b, 1) := by decide +kernel
set_option maxRecDepth 100000 in
theorem dX12_nameOf_29 : decode cX12_nameOf 29 = .ok (.bastore, 1) := by decide +kernel
set_option maxRecDepth 100000 in
theorem dX12_nameOf_30 : decode cX12_nameOf 30 = .ok (.iinc 2 1, 3) := by decide +kernel
set_option maxRecDepth 100000 in
theorem dX12_nameOf_33 : decode cX12_nameOf 33 = .ok (.goto (-23), 3) := by decide +kernel
set_option maxRecDepth 100000 in
theorem dX12_nameOf_36 : decode cX12_nameOf 36 = .ok (.aload_n 0, 1) := by decide +kernel
set_option maxRecDepth 100000 in
theorem dX12_nameOf_37 : decode cX12_nameOf 37 = .ok (.invokevirtual 298, 3) := by decide +kernel
set_option maxRecDepth 100000 in
theorem dX12_nameOf_40 : decode cX12_nameOf 40 = .ok (.ireturn, 1) := by decide +kernel
def lX12_nameOf_10 (G : xG) (fr lo : Nat) (x0 : Nat) (x1 : Nat) (x2 : Int32) (h : xH) (Q : Outcome → xH → Prop) : Prop := xP G YX12_nameOf fr lo 10 [(0, rv x0), (1, rv x1), (2, .int x2)] [] h Q
set_option maxRecDepth 100000 in
def bX12_nameOf_10 (G : xG) (fr lo : Nat) (x0 : Nat) (x1 : Nat) (x2 : Int32) (h : xH) (Q : Outcome → xH → Prop) : Prop := tg h x0 = 13 ∧ (((fI h x0 3098) ≤ x2 → 1 ≤ fr ∧ 17 ≤ lo ∧ xRi G YX12_named (fr - 1) (lo - 17) [rv x0] h (fun x6 h5 => xext h h5 → Q (.returned (some (.int x6))) h5) (fun r h2 => Q (.threw r) h2)) ∧ (¬ (fI h x0 3098) ≤ x2 → tg h x1 = 31 ∧ 1 ≤ fr ∧ 15 ≤ lo ∧ xRi G YJ5_charAt (fr - 1) (lo - 15) [rv x1, .int x2] h (fun x12 h11 => xext h h11 → tg h11 (fR h x0 3097) = 103 ∧ xGB G < (fR h x0 3097) ∧ vp_in x2 (ln h11 (fR h x0 3097)) ∧ (∀ h17 : xH, h17 = tI h11 (fR h x0 3097) (Int32.toNatClampNeg x2) (vp_nar .byte ((Int32.toInt8 x12).toInt32)) → lX12_nameOf_10 G fr lo x0 x1 (x2 + 1) h17 Q)) (fun r h2 => Q (.threw r) h2)))
set_option maxRecDepth 100000 in
theorem uX12_nameOf_10 {G : xG} {fr lo : Nat} {x0 : Nat} {x1 : Nat} {x2 : Int32} {h : xH} {Q : Outcome → xH → Prop} (hq : bX12_nameOf_10 G fr lo x0 x1 x2 h Q) : xP G YX12_nameOf fr lo 10 [(0, rv x0), (1, rv x1), (2, .int x2)] [] h Q := by
  unfold bX12_nameOf_10 at hq
  refine x_iload_n 2 dX12_nameOf_10 rfl ?_
  refine x_aload_n 0 dX12_nameOf_11 rfl ?_
  obtain ⟨g1, hq⟩ := hq
  refine x_get (v := .int (fI h x0 3098)) fdX12_280 dX12_nameOf_12 g1 rfl ?_
  refine x_icmp_ge (tgt := 36) dX12_nameOf_15 (by decide) (fun c2 => ?_) (fun c2 => ?_)
  · replace hq := hq.1 c2
    refine x_aload_n 0 dX12_nameOf_36 rfl ?_
    obtain ⟨g3, g4, hq⟩ := hq
    refine x_callV (Yc := YX12_named) (as := []) (st := []) q3712 mvX12_named g1 rfl dX12_nameOf_37 (xle (xal1 (rv_cat _) xal0) (by decide)) (xfr g3) (xlo xsw0 (by decide) g4) (xKi hq (fun x6 h5 hq e7 => ?_) (fun _ _ q _ => q))
    replace hq := hq e7
    exact x_iret rfl rfl dX12_nameOf_40 hq
  · replace hq := hq.2 c2
    refine x_aload_n 0 dX12_nameOf_18 rfl ?_
    refine x_get (v := rv (fR h x0 3097)) fdX12_60 dX12_nameOf_19 g1 rfl ?_
    refine x_iload_n 2 dX12_nameOf_22 rfl ?_
    refine x_aload_n 1 dX12_nameOf_23 rfl ?_
    refine x_iload_n 2 dX12_nameOf_24 rfl ?_
    obtain ⟨g8, hq⟩ := hq
    obtain ⟨g9, g10, hq⟩ := hq
    refine x_callV (Yc := YJ5_charAt) (as := [.int x2]) (st := [.int x2, rv (fR h x0 3097)]) q3711 mvJ5_charAt g8 rfl dX12_nameOf_25 (xle (xal1 (rv_cat _) (xal1 rfl xal0)) (by decide)) (xfr g9) (xlo (xsw1 rfl (xsw1 (rv_cat _) xsw0)) (by decide) g10) (xKi hq (fun x12 h11 hq e13 => ?_) (fun _ _ q _ => q))
    replace hq := hq e13
    refine x_i2b dX12_nameOf_28 ?_
    obtain ⟨g14, hq⟩ := hq
    obtain ⟨w15, hq⟩ := hq
    obtain ⟨i16, hq⟩ := hq
    obtain ⟨h17, e18⟩ : ∃ y, y = tI h11 (fR h x0 3097) (Int32.toNatClampNeg x2) (vp_nar .byte ((Int32.toInt8 x12).toInt32)) := ⟨_, rfl⟩
    replace hq := hq h17 e18
    refine x_bast' g14 (Or.inr w15) i16 dX12_nameOf_29 e18 ?_
    refine x_iinc (lv' := [(2, .int (x2 + 1)), (0, rv x0), (1, rv x1)]) 2 dX12_nameOf_30 rfl (by decide) (by first | rfl | (simp [rv_cat, Value.category]; done) | (simp [rv_cat, Value.category]; decide)) ?_
    refine x_goto (tgt := 10) dX12_nameOf_33 (by decide) ?_
    refine xP.pick (lv' := [(0, rv x0), (1, rv x1), (2, .int (x2 + 1))]) [1, 2, 0] rfl ?_
    exact hq
set_option maxRecDepth 100000 in
def bX12_nameOf (G : xG) (fr lo : Nat) (x0 : Nat) (x1 : Nat) (h : xH) (Q : Outcome → xH → Prop) : Prop := tg h x1 = 31 ∧ 1 ≤ fr ∧ 13 ≤ lo ∧ xRi G YJ5_length (fr - 1) (lo - 13) [rv x1] h (fun x5 h4 => xext h h4 → tg h4 x0 = 13 ∧ (∀ h8 : xH, h8 = sI h4 x0 3098 x5 → lX12_nameOf_10 G fr lo x0 x1 0 h8 Q)) (fun r h2 => Q (.threw r) h2)
set_option maxRecDepth 100000 in
theorem uX12_nameOf {G : xG} {fr lo : Nat} {x0 : Nat} {x1 : Nat} {h : xH} {Q : Outcome → xH → Prop} (hq : bX12_nameOf G fr lo x0 x1 h Q) : xP G YX12_nameOf fr lo 0 [(0, rv x0), (1, rv x1)] [] h Q := by
  unfold bX12_nameOf at hq
  refine x_aload_n 0 dX12_nameOf_0 rfl ?_
  refine x_aload_n 1 dX12_nameOf_1 rfl ?_
  obtain ⟨g1, hq⟩ := hq
  obtain ⟨g2, g3, hq⟩ := hq
  refine x_callV (Yc := YJ5_length) (as := []) (st := [rv x0]) q3710 mvJ5_length g1 rfl dX12_nameOf_2 (xle (xal1 (rv_cat _) xal0) (by decide)) (xfr g2) (xlo (xsw1 (rv_cat _) xsw0) (by decide) g3) (xKi hq (fun x5 h4 hq e6 => ?_) (fun _ _ q _ => q))
  replace hq := hq e6
  obtain ⟨g7, hq⟩ := hq
  obtain ⟨h8, e9⟩ : ∃ y, y = sI h4 x0 3098 x5 := ⟨_, rfl⟩
  replace hq := hq h8 e9
  refine x_putI fdX12_280 xty_I1 dX12_nameOf_5 g7 (Or.inl (by rw [g7]; rfl)) xnI rfl e9 ?_
  refine x_iconst (v := 0) dX12_nameOf_8 (by decide) ?_
  refine x_istore_n (lv' := [(2, .int 0), (0, rv x0), (1, rv x1)]) dX12_nameOf_9 (by decide) (by first | rfl | (simp [rv_cat, Value.category]; done) | (simp [rv_cat, Value.category]; decide)) ?_
  refine xP.pick (lv' := [(0, rv x0), (1, rv x1), (2, .int 0)]) [1, 2, 0] rfl ?_
  exact hq
theorem rX12_nameOf {G : xG} {fr lo : Nat} {x0 : Nat} {x1 : Nat} {h : xH} {Q : Outcome → xH → Prop} (hq : bX12_nameOf G fr lo x0 x1 h Q) : xR G YX12_nameOf fr lo [rv x0, rv x1] h Q := by
  show xP _ _ _ _ _ (lv_args 0 _) _ _ _
  rw [show lv_args 0 [rv x0, rv x1] = [(0, rv x0), (1, rv x1)] from (xla1 (rv_cat _) (xla1 (rv_cat _) xla0))]
  exact uX12_nameOf hq
set_option maxRecDepth 100000 in
theorem dX12_named_0 : decode cX12_named 0 = .ok (.aload_n 0, 1) := by decide +kernel
set_option maxRecDepth 100000 in
theorem dX12_named_1 : decode cX12_named 1 = .ok (.getfield 280, 3) := by decide +kernel
set_option maxRecDepth 100000 in
theorem dX12_named_4 : decode cX12_named 4 = .ok (.istore_n 1, 1) := by decide +kernel
set_option maxRecDepth 100000 in
theorem dX12_named_5 : decode cX12_named 5 = .ok (.iconst 0, 1) := by decide +kernel
set_option maxRecDepth 100000 in
theorem dX12_named_6 : decode cX12_named 6 = .ok (.istore_n 2, 1) := by decide +kernel
set_option maxRecDepth 100000 in
theorem dX12_named_7 : decode cX12_named 7 = .ok (.iload_n 2, 1) := by decide +kernel
set_option maxRecDepth 100000 in
theorem dX12_named_8 : decode cX12_named 8 = .ok (.aload_n 0, 1) := by decide +kernel
set_option maxRecDepth 100000 in
theorem dX12_named_9 : decode cX12_named 9 = .ok (.getfield 280, 3) := by decide +kernel
set_option maxRecDepth 100000 in
theorem dX12_named_12 : decode cX12_named 12 = .ok (.if_icmp .ge 21, 3) := by decide +kernel
set_option maxRecDepth 100000 in
theorem dX12_named_15 : decode cX12_named 15 = .ok (.iload_n 1, 1) := by decide +kernel
set_option maxRecDepth 100000 in
theorem dX12_named_16 : decode cX12_named 16 = .ok (.bipush 31, 2) := by decide +kernel
set_option maxRecDepth 100000 in
theorem dX12_named_18 : decode cX12_named 18 = .ok (.imul, 1) := by decide +kernel
set_option maxRecDepth 100000 in
theorem dX12_named_19 : decode cX12_named 19 = .ok (.aload_n 0, 1) := by decide +kernel
set_option maxRecDepth 100000 in
theorem dX12_named_20 : decode cX12_named 20 = .ok (.getfield 60, 3) := by decide +kernel
set_option maxRecDepth 100000 in
theorem dX12_named_23 : decode cX12_named 23 = .ok (.iload_n 2, 1) := by decide +kernel
set_option maxRecDepth 100000 in
theorem dX12_named_24 : decode cX12_named 24 = .ok (.baload, 1) := by decide +kernel
set_option maxRecDepth 100000 in
theorem dX12_named_25 : decode cX12_named 25 = .ok (.iadd, 1) := by decide +kernel
set_option maxRecDepth 100000 in
theorem dX12_named_26 : decode cX12_named 26 = .ok (.istore_n 1, 1) := by decide +kernel
set_option maxRecDepth 100000 in
theorem dX12_named_27 : decode cX12_named 27 = .ok (.iinc 2 1, 3) := by decide +kernel
set_option maxRecDepth 100000 in
theorem dX12_named_30 : decode cX12_named 30 = .ok (.goto (-23), 3) := by decide +kernel
set_option maxRecDepth 100000 in
theorem dX12_named_33 : decode cX12_named 33 = .ok (.iload_n 1, 1) := by decide +kernel
set_option maxRecDepth 100000 in
theorem dX12_named_34 : decode cX12_named 34 = .ok (.sipush 1023, 3) := by decide +kernel
set_option maxRecDepth 100000 in
theorem dX12_named_37 : decode cX12_named 37 = .ok (.iand, 1) := by decide +kernel
set_option maxRecDepth 100000 in
theorem dX12_named_38 : decode cX12_named 38 = .ok (.istore_n 2, 1) := by decide +kernel
set_option maxRecDepth 100000 in
theorem dX12_named_39 : decode cX12_named 39 = .ok (.aload_n 0, 1) := by decide +kernel
set_option maxRecDepth 100000 in
theorem dX12_named_40 : decode cX12_named 40 = .ok (.getfield 57, 3) := by decide +kernel
set_option maxRecDepth 100000 in
theorem dX12_named_43 : decode cX12_named 43 = .ok (.iload_n 2, 1) := by decide +kernel
set_option maxRecDepth 100000 in
theorem dX12_named_44 : decode cX12_named 44 = .ok (.iaload, 1) := by decide +kernel
set_option maxRecDepth 100000 in
theorem dX12_named_45 : decode cX12_named 45 = .ok (.istore_n 3, 1) := by decide +kernel
set_option maxRecDepth 100000 in
theorem dX12_named_46 : decode cX12_named 46 = .ok (.iload_n 3, 1) := by decide +kernel
set_option maxRecDepth 100000 in
theorem dX12_named_47 : decode cX12_named 47 = .ok (.iconst (-1), 1) := by decide +kernel
set_option maxRecDepth 100000 in
theorem dX12_named_48 : decode cX12_named 48 = .ok (.if_icmp .eq 94, 3) := by decide +kernel
set_option maxRecDepth 100000 in
theorem dX12_named_51 : decode cX12_named 51 = .ok (.aload_n 0, 1) := by decide +kernel
set_option maxRecDepth 100000 in
theorem dX12_named_52 : decode cX12_named 52 = .ok (.getfield 51, 3) := by decide +kernel
set_option maxRecDepth 100000 in
theorem dX12_named_55 : decode cX12_named 55 = .ok (.iload_n 3, 1) := by decide +kernel
set_option maxRecDepth 100000 in
theorem dX12_named_56 : decode cX12_named 56 = .ok (.iaload, 1) := by decide +kernel
set_option maxRecDepth 100000 in
theorem dX12_named_57 : decode cX12_named 57 = .ok (.aload_n 0, 1) := by decide +kernel
set_option maxRecDepth 100000 in
theorem dX12_named_58 : decode cX12_named 58 = .ok (.getfield 280, 3) := by decide +kernel
set_option maxRecDepth 100000 in
theorem dX12_named_61 : decode cX12_named 61 = .ok (.if_icmp .ne 7, 3) := by decide +kernel
set_option maxRecDepth 100000 in
theorem dX12_named_64 : decode cX12_named 64 = .ok (.iconst 1, 1) := by decide +kernel
set_option maxRecDepth 100000 in
theorem dX12_named_65 : decode cX12_named 65 = .ok (.goto 4, 3) := by decide +kernel
set_option maxRecDepth 100000 in
theorem dX12_named_68 : decode cX12_named 68 = .ok (.iconst 0, 1) := by decide +kernel
set_option maxRecDepth 100000 in
theorem dX12_named_69 : decode cX12_named 69 = .ok (.istore 4, 2) := by decide +kernel
set_option maxRecDepth 100000 in
theorem dX12_named_71 : decode cX12_named 71 = .ok (.iconst 0, 1) := by decide +kernel
set_option maxRecDepth 100000 in
theorem dX12_named_72 : decode cX12_named 72 = .ok (.istore 5, 2) := by decide +kernel
set_option maxRecDepth 100000 in
theorem dX12_named_74 : decode cX12_named 74 = .ok (.iload 5, 2) := by decide +kernel
set_option maxRecDepth 100000 in
theorem dX12_named_76 : decode cX12_named 76 = .ok (.aload_n 0, 1) := by decide +kernel
set_option maxRecDepth 100000 in
theorem dX12_named_77 : decode cX12_named 77 = .ok (.getfield 280, 3) := by decide +kernel
set_option maxRecDepth 100000 in
theorem dX12_named_80 : decode cX12_named 80 = .ok (.if_icmp .ge 45, 3) := by decide +kernel
set_option maxRecDepth 100000 in
theorem dX12_named_83 : decode cX12_named 83 = .ok (.iload 4, 2) := by decide +kernel
set_option maxRecDepth 100000 in
theorem dX12_named_85 : decode cX12_named 85 = .ok (.ifCond .eq 40, 3) := by decide +kernel
set_option maxRecDepth 100000 in
theorem dX12_named_88 : decode cX12_named 88 = .ok (.aload_n 0, 1) := by decide +kernel
set_option maxRecDepth 100000 in
theorem dX12_named_89 : decode cX12_named 89 = .ok (.getfield 45, 3) := by decide +kernel
set_option maxRecDepth 100000 in
theorem dX12_named_92 : decode cX12_named 92 = .ok (.aload_n 0, 1) := by decide +kernel
set_option maxRecDepth 100000 in
theorem dX12_named_93 : decode cX12_named 93 = .ok (.getfield 48, 3) := by decide +kernel
set_option maxRecDepth 100000 in
theorem dX12_named_96 : decode cX12_named 96 = .ok (.iload_n 3, 1) := by decide +kernel
set_option maxRecDepth 100000 in
theorem dX12_named_97 : decode cX12_named 97 = .ok (.iaload, 1) := by decide +kernel
set_option maxRecDepth 100000 in
theorem dX12_named_98 : decode cX12_named 98 = .ok (.iload 5, 2) := by decide +kernel
set_option maxRecDepth 100000 in
theorem dX12_named_100 : decode cX12_named 100 = .ok (.iadd, 1) := by decide +kernel
set_option maxRecDepth 100000 in
theorem dX12_named_101 : decode cX12_named 101 = .ok (.baload, 1) := by decide +kernel
set_option maxRecDepth 100000 in
theorem dX12_named_102 : decode cX12_named 102 = .ok (.aload_n 0, 1) := by decide +kernel
set_option maxRecDepth 100000 in
theorem dX12_named_103 : decode cX12_named 103 = .ok (.getfield 60, 3) := by decide +kernel
set_option maxRecDepth 100000 in
theorem dX12_named_106 : decode cX12_named 106 = .ok (.iload 5, 2) := by decide +kernel
set_option maxRecDepth 100000 in
theorem dX12_named_108 : decode cX12_named 108 = .ok (.baload, 1) := by decide +kernel
set_option maxRecDepth 100000 in
theorem dX12_named_109 : decode cX12_named 109 = .ok (.if_icmp .ne 7, 3) := by decide +kernel
set_option maxRecDepth 100000 in
theorem dX12_named_112 : decode cX12_named 112 = .ok (.iconst 1, 1) := by decide +kernel
set_option maxRecDepth 100000 in
theorem dX12_named_113 : decode cX12_named 113 = .ok (.goto 4, 3) := by decide +kernel
set_option maxRecDepth 100000 in
theorem dX12_named_116 : decode cX12_named 116 = .ok (.iconst 0, 1) := by decide +kernel
set_option maxRecDepth 100000 in
theorem dX12_named_117 : decode cX12_named 117 = .ok (.istore 4, 2) := by decide +kernel
set_option maxRecDepth 100000 in
theorem dX12_named_119 : decode cX12_named 119 = .ok (.iinc 5 1, 3) := by decide +kernel
set_option maxRecDepth 100000 in
theorem dX12_named_122 : decode cX12_named 122 = .ok (.goto (-48), 3) := by decide +kernel
set_option maxRecDepth 100000 in
theorem dX12_named_125 : decode cX12_named 125 = .ok (.iload 4, 2) := by decide +kernel
set_option maxRecDepth 100000 in
theorem dX12_named_127 : decode cX12_named 127 = .ok (.ifCond .eq 5, 3) := by decide +kernel
set_option maxRecDepth 100000 in
theorem dX12_named_130 : decode cX12_named 130 = .ok (.iload_n 3, 1) := by decide +kernel
set_option maxRecDepth 100000 in
theorem dX12_named_131 : decode cX12_named 131 = .ok (.ireturn, 1) := by decide +kernel
set_option maxRecDepth 100000 in
theorem dX12_named_132 : decode cX12_named 132 = .ok (.aload_n 0, 1) := by decide +kernel
set_option maxRecDepth 100000 in
theorem dX12_named_133 : decode cX12_named 133 = .ok (.getfield 54, 3) := by decide +kernel
set_option maxRecDepth 100000 in
theorem dX12_named_136 : decode cX12_named 136 = .ok (.iload_n 3, 1) := by decide +kernel
set_option maxRecDepth 100000 in
theorem dX12_named_137 : decode cX12_named 137 = .ok (.iaload, 1) := by decide +kernel
set_option maxRecDepth 100000 in
theorem dX12_named_138 : decode cX12_named 138 = .ok (.istore_n 3, 1) := by decide +kernel
set_option maxRecDepth 100000 in
theorem dX12_named_139 : decode cX12_named 139 = .ok (.goto (-93), 3) := by decide +kernel
set_option maxRecDepth 100000 in
theorem dX12_named_142 : decode cX12_named 142 = .ok (.aload_n 0, 1) := by decide +kernel
set_option maxRecDepth 100000 in
theorem dX12_named_143 : decode cX12_named 143 = .ok (.getfield 283, 3) := by decide +kernel
set_option maxRecDepth 100000 in
theorem dX12_named_146 : decode cX12_named 146 = .ok (.istore_n 3, 1) := by decide +kernel
set_option maxRecDepth 100000 in
theorem dX12_named_147 : decode cX12_named 147 = .ok (.aload_n 0, 1) := by decide +kernel
set_option maxRecDepth 100000 in
theorem dX12_named_148 : decode cX12_named 148 = .ok (.getfield 48, 3) := by decide +kernel
set_option maxRecDepth 100000 in
theorem dX12_named_151 : decode cX12_named 151 = .ok (.iload_n 3, 1) := by decide +kernel
set_option maxRecDepth 100000 in
theorem dX12_named_152 : decode cX12_named 152 = .ok (.aload_n 0, 1) := by decide +kernel
set_option maxRecDepth 100000 in
theorem dX12_named_153 : decode cX12_named 153 = .ok (.getfield 286, 3) := by decide +kernel
set_option maxRecDepth 100000 in
theorem dX12_named_156 : decode cX12_named 156 = .ok (.iastore, 1) := by decide +kernel
set_option maxRecDepth 100000 in
theorem dX12_named_157 : decode cX12_named 157 = .ok (.aload_n 0, 1) := by decide +kernel
set_option maxRecDepth 100000 in
theorem dX12_named_158 : decode cX12_named 158 = .ok (.getfield 51, 3) := by decide +kernel
set_option maxRecDepth 100000 in
theorem dX12_named_161 : decode cX12_named 161 = .ok (.iload_n 3, 1) := by decide +kernel
set_option maxRecDepth 100000 in
theorem dX12_named_162 : decode cX12_named 162 = .ok (.aload_n 0, 1) := by decide +kernel
set_option maxRecDepth 100000 in
theorem dX12_named_163 : decode cX12_named 163 = .ok (.getfield 280, 3) := by decide +kernel
set_option maxRecDepth 100000 in
theorem dX12_named_166 : decode cX12_named 166 = .ok (.iastore, 1) := by decide +kernel
set_option maxRecDepth 100000 in
theorem dX12_named_167 : decode cX12_named 167 = .ok (.iconst 0, 1) := by decide +kernel
set_option maxRecDepth 100000 in
theorem dX12_named_168 : decode cX12_named 168 = .ok (.istore 4, 2) := by decide +kernel
set_option maxRecDepth 100000 in
theorem dX12_named_170 : decode cX12_named 170 = .ok (.iload 4, 2) := by decide +kernel
set_option maxRecDepth 100000 in
theorem dX12_named_172 : decode cX12_named 172 = .ok (.aload_n 0, 1) := by decide +kernel
set_option maxRecDepth 100000 in
theorem dX12_named_173 : decode cX12_named 173 = .ok (.getfield 280, 3) := by decide +kernel
set_option maxRecDepth 100000 in
theorem dX12_named_176 : decode cX12_named 176 = .ok (.if_icmp .ge 28, 3) := by decide +kernel
set_option maxRecDepth 100000 in
theorem dX12_named_179 : decode cX12_named 179 = .ok (.aload_n 0, 1) := by decide +kernel
set_option maxRecDepth 100000 in
theorem dX12_named_180 : decode cX12_named 180 = .ok (.getfield 45, 3) := by decide +kernel
set_option maxRecDepth 100000 in
theorem dX12_named_183 : decode cX12_named 183 = .ok (.aload_n 0, 1) := by decide +kernel
set_option maxRecDepth 100000 in
theorem dX12_named_184 : decode cX12_named 184 = .ok (.getfield 286, 3) := by decide +kernel
set_option maxRecDepth 100000 in
theorem dX12_named_187 : decode cX12_named 187 = .ok (.iload 4, 2) := by decide +kernel
set_option maxRecDepth 100000 in
theorem dX12_named_189 : decode cX12_named 189 = .ok (.iadd, 1) := by decide +kernel
set_option maxRecDepth 100000 in
theorem dX12_named_190 : decode cX12_named 190 = .ok (.aload_n 0, 1) := by decide +kernel
set_option maxRecDepth 100000 in
theorem dX12_named_191 : decode cX12_named 191 = .ok (.getfield 60, 3) := by decide +kernel
set_option maxRecDepth 100000 in
theorem dX12_named_194 : decode cX12_named 194 = .ok (.iload 4, 2) := by decide +kernel
set_option maxRecDepth 100000 in
theorem dX12_named_196 : decode cX12_named 196 = .ok (.baload, 1) := by decide +kernel
set_option maxRecDepth 100000 in
theorem dX12_named_197 : decode cX12_named 197 = .ok (.bastore, 1) := by decide +kernel
set_option maxRecDepth 100000 in
theorem dX12_named_198 : decode cX12_named 198 = .ok (.iinc 4 1, 3) := by decide +kernel
set_option maxRecDepth 100000 in
theorem dX12_named_201 : decode cX12_named 201 = .ok (.goto (-31), 3) := by decide +kernel
set_option maxRecDepth 100000 in
theorem dX12_named_204 : decode cX12_named 204 = .ok (.aload_n 0, 1) := by decide +kernel
set_option maxRecDepth 100000 in
theorem dX12_named_205 : decode cX12_named 205 = .ok (.dup, 1) := by decide +kernel
set_option maxRecDepth 100000 in
theorem dX12_named_206 : decode cX12_named 206 = .ok (.getfield 286, 3) := by decide +kernel
set_option maxRecDepth 100000 in
theorem dX12_named_209 : decode cX12_named 209 = .ok (.aload_n 0, 1) := by decide +kernel
set_option maxRecDepth 100000 in
theorem dX12_named_210 : decode cX12_named 210 = .ok (.getfield 280, 3) := by decide +kernel
set_option maxRecDepth 100000 in
theorem dX12_named_213 : decode cX12_named 213 = .ok (.iadd, 1) := by decide +kernel
set_option maxRecDepth 100000 in
theorem dX12_named_214 : decode cX12_named 214 = .ok (.putfield 286, 3) := by decide +kernel
set_option maxRecDepth 100000 in
theorem dX12_named_217 : decode cX12_named 217 = .ok (.aload_n 0, 1) := by decide +kernel
set_option maxRecDepth 100000 in
theorem dX12_named_218 : decode cX12_named 218 = .ok (.getfield 54, 3) := by decide +kernel
set_option maxRecDepth 100000 in
theorem dX12_named_221 : decode cX12_named 221 = .ok (.iload_n 3, 1) := by decide +kernel
set_option maxRecDepth 100000 in
theorem dX12_named_222 : decode cX12_named 222 = .ok (.aload_n 0, 1) := by decide +kernel
set_option maxRecDepth 100000 in
theorem dX12_named_223 : decode cX12_named 223 = .ok (.getfield 57, 3) := by decide +kernel
set_option maxRecDepth 100000 in
theorem dX12_named_226 : decode cX12_named 226 = .ok (.iload_n 2, 1) := by decide +kernel
set_option maxRecDepth 100000 in
theorem dX12_named_227 : decode cX12_named 227 = .ok (.iaload, 1) := by decide +kernel
set_option maxRecDepth 100000 in
theorem dX12_named_228 : decode cX12_named 228 = .ok (.iastore, 1) := by decide +kernel
set_option maxRecDepth 100000 in
theorem dX12_named_229 : decode cX12_named 229 = .ok (.aload_n 0, 1) := by decide +kernel
set_option maxRecDepth 100000 in
theorem dX12_named_230 : decode cX12_named 230 = .ok (.getfield 57, 3) := by decide +kernel
set_option maxRecDepth 100000 in
theorem dX12_named_233 : decode cX12_named 233 = .ok (.iload_n 2, 1) := by decide +kernel
set_option maxRecDepth 100000 in
theorem dX12_named_234 : decode cX12_named 234 = .ok (.iload_n 3, 1) := by decide +kernel
set_option maxRecDepth 100000 in
theorem dX12_named_235 : decode cX12_named 235 = .ok (.iastore, 1) := by decide +kernel
set_option maxRecDepth 100000 in
theorem dX12_named_236 : decode cX12_named 236 = .ok (.aload_n 0, 1) := by decide +kernel
set_option maxRecDepth 100000 in
theorem dX12_named_237 : decode cX12_named 237 = .ok (.dup, 1) := by decide +kernel
set_option maxRecDepth 100000 in
theorem dX12_named_238 : decode cX12_named 238 = .ok (.getfield 283, 3) := by decide +kernel
set_option maxRecDepth 100000 in
theorem dX12_named_241 : decode cX12_named 241 = .ok (.iconst 1, 1) := by decide +kernel
set_option maxRecDepth 100000 in
theorem dX12_named_242 : decode cX12_named 242 = .ok (.iadd, 1) := by decide +kernel
set_option maxRecDepth 100000 in
theorem dX12_named_243 : decode cX12_named 243 = .ok (.putfield 283, 3) := by decide +kernel
set_option maxRecDepth 100000 in
theorem dX12_named_246 : decode cX12_named 246 = .ok (.iload_n 3, 1) := by decide +kernel
set_option maxRecDepth 100000 in
theorem dX12_named_247 : decode cX12_named 247 = .ok (.ireturn, 1) := by decide +kernel
def lX12_named_7 (G : xG) (fr lo : Nat) (x0 : Nat) (x1 : Int32) (x2 : Int32) (h : xH) (Q : Outcome → xH → Prop) : Prop := xP G YX12_named fr lo 7 [(0, rv x0), (1, .int x1), (2, .int x2)] [] h Q
def lX12_named_46 (G : xG) (fr lo : Nat) (x0 : Nat) (x2 : Int32) (x3 : Int32) (h : xH) (Q : Outcome → xH → Prop) : Prop := xP G YX12_named fr lo 46 [(0, rv x0), (2, .int x2), (3, .int x3)] [] h Q
def lX12_named_74 (G : xG) (fr lo : Nat) (x0 : Nat) (x2 : Int32) (x3 : Int32) (x4 : Int32) (x5 : Int32) (h : xH) (Q : Outcome → xH → Prop) : Prop := xP G YX12_named fr lo 74 [(0, rv x0), (2, .int x2), (3, .int x3), (4, .int x4), (5, .int x5)] [] h Q
def lX12_named_170 (G : xG) (fr lo : Nat) (x0 : Nat) (x2 : Int32) (x3 : Int32) (x4 : Int32) (h : xH) (Q : Outcome → xH → Prop) : Prop := xP G YX12_named fr lo 170 [(0, rv x0), (2, .int x2), (3, .int x3), (4, .int x4)] [] h Q
set_option maxRecDepth 100000 in
def bX12_named_170 (G : xG) (fr lo : Nat) (x0 : Nat) (x2 : Int32) (x3 : Int32) (x4 : Int32) (h : xH) (Q : Outcome → xH → Prop) : Prop := tg h x0 = 13 ∧ (((fI h x0 3098) ≤ x4 → (∀ h3 : xH, h3 = sI h x0 3091 ((fI h x0 3091) + (fI h x0 3098)) → tg h3 (fR h3 x0 3095) = 100 ∧ vp_in x2 (ln h3 (fR h3 x0 3095)) ∧ tg h3 (fR h3 x0 3094) = 100 ∧ vp_in x3 (ln h3 (fR h3 x0 3094)) ∧ (∀ h10 : xH, h10 = tI h3 (fR h3 x0 3094) (Int32.toNatClampNeg x3) (aI h3 (fR h3 x0 3095) (Int32.toNatClampNeg x2)) → tg h10 (fR h10 x0 3095) = 100 ∧ vp_in x2 (ln h10 (fR h10 x0 3095)) ∧ (∀ h15 : xH, h15 = tI h10 (fR h10 x0 3095) (Int32.toNatClampNeg x2) x3 → (∀ h18 : xH, h18 = sI h15 x0 3096 ((fI h15 x0 3096) + 1) → Q (.returned (some (.int x3))) h18))))) ∧ (¬ (fI h x0 3098) ≤ x4 → tg h (fR h x0 3097) = 103 ∧ vp_in x4 (ln h (fR h x0 3097)) ∧ tg h (fR h x0 3090) = 103 ∧ xGB G < (fR h x0 3090) ∧ vp_in ((fI h x0 3091) + x4) (ln h (fR h x0 3090)) ∧ (∀ h25 : xH, h25 = tI h (fR h x0 3090) (Int32.toNatClampNeg ((fI h x0 3091) + x4)) (vp_nar .byte (aI h (fR h x0 3097) (Int32.toNatClampNeg x4))) → lX12_named_170 G fr lo x0 x2 x3 (x4 + 1) h25 Q)))
set_option maxRecDepth 100000 in
theorem uX12_named_170 {G : xG} {fr lo : Nat} {x0 : Nat} {x2 : Int32} {x3 : Int32} {x4 : Int32} {h : xH} {Q : Outcome → xH → Prop} (hq : bX12_named_170 G fr lo x0 x2 x3 x4 h Q) : xP G YX12_named fr lo 170 [(0, rv x0), (2, .int x2), (3, .int x3), (4, .int x4)] [] h Q := by
  unfold bX12_named_170 at hq
  refine x_iload 3 dX12_named_170 rfl ?_
  refine x_aload_n 0 dX12_named_172 rfl ?_
  obtain ⟨g1, hq⟩ := hq
  refine x_get (v := .int (fI h x0 3098)) fdX12_280 dX12_named_173 g1 rfl ?_
  refine x_icmp_ge (tgt := 204) dX12_named_176 (by decide) (fun c2 => ?_) (fun c2 => ?_)
  · replace hq := hq.1 c2
    refine x_aload_n 0 dX12_named_204 rfl ?_
    refine x_dup dX12_named_205 (rv_cat _) ?_
    refine x_get (v := .int (fI h x0 3091)) fdX12_286 dX12_named_206 g1 rfl ?_
    refine x_aload_n 0 dX12_named_209 rfl ?_
    refine x_get (v := .int (fI h x0 3098)) fdX12_280 dX12_named_210 g1 rfl ?_
    refine x_iadd dX12_named_213 ?_
    obtain ⟨h3, e4⟩ : ∃ y, y = sI h x0 3091 ((fI h x0 3091) + (fI h x0 3098)) := ⟨_, rfl⟩
    replace hq := hq h3 e4
    refine x_putI fdX12_286 xty_I1 dX12_named_214 g1 (Or.inl (by rw [g1]; rfl)) xnI rfl e4 ?_
    refine x_aload_n 0 dX12_named_217 rfl ?_
    have t5 : tg h3 x0 = 13 := by rw [e4]; exact g1
    refine x_get (v := rv (fR h3 x0 3094)) fdX12_54 dX12_named_218 t5 rfl ?_
    refine x_iload_n 2 dX12_named_221 rfl ?_
    refine x_aload_n 0 dX12_named_222 rfl ?_
    refine x_get (v := rv (fR h3 x0 3095)) fdX12_57 dX12_named_223 t5 rfl ?_
    refine x_iload_n 1 dX12_named_226 rfl ?_
    obtain ⟨g6, hq⟩ := hq
    obtain ⟨i7, hq⟩ := hq
    refine x_iald 0 (Or.inl rfl) g6 i7 dX12_named_227 ?_
    obtain ⟨g8, hq⟩ := hq
    obtain ⟨i9, hq⟩ := hq
    obtain ⟨h10, e11⟩ : ∃ y, y = tI h3 (fR h3 x0 3094) (Int32.toNatClampNeg x3) (aI h3 (fR h3 x0 3095) (Int32.toNatClampNeg x2)) := ⟨_, rfl⟩
    replace hq := hq h10 e11
    refine x_iast' g8 i9 dX12_named_228 e11 ?_
    refine x_aload_n 0 dX12_named_229 rfl ?_
    have t12 : tg h10 x0 = 13 := by rw [e11]; exact t5
    refine x_get (v := rv (fR h10 x0 3095)) fdX12_57 dX12_named_230 t12 rfl ?_
    refine x_iload_n 1 dX12_named_233 rfl ?_
    refine x_iload_n 2 dX12_named_234 rfl ?_
    obtain ⟨g13, hq⟩ := hq
    obtain ⟨i14, hq⟩ := hq
    obtain ⟨h15, e16⟩ : ∃ y, y = tI h10 (fR h10 x0 3095) (Int32.toNatClampNeg x2) x3 := ⟨_, rfl⟩
    replace hq := hq h15 e16
    refine x_iast' g13 i14 dX12_named_235 e16 ?_
    refine x_aload_n 0 dX12_named_236 rfl ?_
    refine x_dup dX12_named_237 (rv_cat _) ?_
    have t17 : tg h15 x0 = 13 := by rw [e16]; exact t12
    refine x_get (v := .int (fI h15 x0 3096)) fdX12_283 dX12_named_238 t17 rfl ?_
    refine x_iconst (v := 1) dX12_named_241 (by decide) ?_
    refine x_iadd dX12_named_242 ?_
    obtain ⟨h18, e19⟩ : ∃ y, y = sI h15 x0 3096 ((fI h15 x0 3096) + 1) := ⟨_, rfl⟩
    replace hq := hq h18 e19
    refine x_putI fdX12_283 xty_I1 dX12_named_243 t17 (Or.inl (by rw [t17]; rfl)) xnI rfl e19 ?_
    refine x_iload_n 2 dX12_named_246 rfl ?_
    exact x_iret rfl rfl dX12_named_247 hq
  · replace hq := hq.2 c2
    refine x_aload_n 0 dX12_named_179 rfl ?_
    refine x_get (v := rv (fR h x0 3090)) fdX12_45 dX12_named_180 g1 rfl ?_
    refine x_aload_n 0 dX12_named_183 rfl ?_
    refine x_get (v := .int (fI h x0 3091)) fdX12_286 dX12_named_184 g1 rfl ?_
    refine x_iload 3 dX12_named_187 rfl ?_
    refine x_iadd dX12_named_189 ?_
    refine x_aload_n 0 dX12_named_190 rfl ?_
    refine x_get (v := rv (fR h x0 3097)) fdX12_60 dX12_named_191 g1 rfl ?_
    refine x_iload 3 dX12_named_194 rfl ?_
    obtain ⟨g20, hq⟩ := hq
    obtain ⟨i21, hq⟩ := hq
    refine x_bald g20 i21 dX12_named_196 ?_
    obtain ⟨g22, hq⟩ := hq
    obtain ⟨w23, hq⟩ := hq
    obtain ⟨i24, hq⟩ := hq
    obtain ⟨h25, e26⟩ : ∃ y, y = tI h (fR h x0 3090) (Int32.toNatClampNeg ((fI h x0 3091) + x4)) (vp_nar .byte (aI h (fR h x0 3097) (Int32.toNatClampNeg x4))) := ⟨_, rfl⟩
    replace hq := hq h25 e26
    refine x_bast' g22 (Or.inr w23) i24 dX12_named_197 e26 ?_
    refine x_iinc (lv' := [(4, .int (x4 + 1)), (0, rv x0), (2, .int x2), (3, .int x3)]) 3 dX12_named_198 rfl (by decide) rfl ?_
    refine x_goto (tgt := 170) dX12_named_201 (by decide) ?_
    refine xP.pick (lv' := [(0, rv x0), (2, .int x2), (3, .int x3), (4, .int (x4 + 1))]) [1, 2, 3, 0] rfl ?_
    exact hq
set_option maxRecDepth 100000 in
def bX12_named_125 (G : xG) (fr lo : Nat) (x0 : Nat) (x2 : Int32) (x3 : Int32) (x4 : Int32) (h : xH) (Q : Outcome → xH → Prop) : Prop := ((x4 = 0 → tg h x0 = 13 ∧ tg h (fR h x0 3094) = 100 ∧ vp_in x3 (ln h (fR h x0 3094)) ∧ lX12_named_46 G fr lo x0 x2 (aI h (fR h x0 3094) (Int32.toNatClampNeg x3)) h Q) ∧ (¬ x4 = 0 → Q (.returned (some (.int x3))) h))
set_option maxRecDepth 100000 in
theorem uX12_named_125 {G : xG} {fr lo : Nat} {x0 : Nat} {x2 : Int32} {x3 : Int32} {x4 : Int32} {h : xH} {Q : Outcome → xH → Prop} (hq : bX12_named_125 G fr lo x0 x2 x3 x4 h Q) : xP G YX12_named fr lo 125 [(0, rv x0), (2, .int x2), (3, .int x3), (4, .int x4)] [] h Q := by
  unfold bX12_named_125 at hq
  refine x_iload 3 dX12_named_125 rfl ?_
  refine x_if_eq (tgt := 132) dX12_named_127 (by decide) (fun c1 => ?_) (fun c1 => ?_)
  · replace hq := hq.1 c1
    refine x_aload_n 0 dX12_named_132 rfl ?_
    obtain ⟨g2, hq⟩ := hq
    refine x_get (v := rv (fR h x0 3094)) fdX12_54 dX12_named_133 g2 rfl ?_
    refine x_iload_n 2 dX12_named_136 rfl ?_
    obtain ⟨g3, hq⟩ := hq
    obtain ⟨i4, hq⟩ := hq
    refine x_iald 0 (Or.inl rfl) g3 i4 dX12_named_137 ?_
    refine x_istore_n (lv' := [(3, .int (aI h (fR h x0 3094) (Int32.toNatClampNeg x3))), (0, rv x0), (2, .int x2), (4, .int x4)]) dX12_named_138 (by decide) rfl ?_
    refine x_goto (tgt := 46) dX12_named_139 (by decide) ?_
    refine xP.pick (lv' := [(0, rv x0), (2, .int x2), (3, .int (aI h (fR h x0 3094) (Int32.toNatClampNeg x3)))]) [1, 2, 0] rfl ?_
    exact hq
  · replace hq := hq.2 c1
    refine x_iload_n 2 dX12_named_130 rfl ?_
    exact x_iret rfl rfl dX12_named_131 hq
set_option maxRecDepth 100000 in
def bX12_named_117 (G : xG) (fr lo : Nat) (x0 : Nat) (x2 : Int32) (x3 : Int32) (x5 : Int32) (s0 : Int32) (h : xH) (Q : Outcome → xH → Prop) : Prop := lX12_named_74 G fr lo x0 x2 x3 s0 (x5 + 1) h Q
set_option maxRecDepth 100000 in
theorem uX12_named_117 {G : xG} {fr lo : Nat} {x0 : Nat} {x2 : Int32} {x3 : Int32} {x5 : Int32} {s0 : Int32} {h : xH} {Q : Outcome → xH → Prop} (hq : bX12_named_117 G fr lo x0 x2 x3 x5 s0 h Q) : xP G YX12_named fr lo 117 [(0, rv x0), (2, .int x2), (3, .int x3), (5, .int x5)] [.int s0] h Q := by
  unfold bX12_named_117 at hq
  refine x_istore (lv' := [(4, .int s0), (0, rv x0), (2, .int x2), (3, .int x3), (5, .int x5)]) dX12_named_117 (by decide) rfl ?_
  refine x_iinc (lv' := [(5, .int (x5 + 1)), (4, .int s0), (0, rv x0), (2, .int x2), (3, .int x3)]) 4 dX12_named_119 rfl (by decide) rfl ?_
  refine x_goto (tgt := 74) dX12_named_122 (by decide) ?_
  refine xP.pick (lv' := [(0, rv x0), (2, .int x2), (3, .int x3), (4, .int s0), (5, .int (x5 + 1))]) [2, 3, 4, 1, 0] rfl ?_
  exact hq
set_option maxRecDepth 100000 in
def bX12_named_74 (G : xG) (fr lo : Nat) (x0 : Nat) (x2 : Int32) (x3 : Int32) (x4 : Int32) (x5 : Int32) (h : xH) (Q : Outcome → xH → Prop) : Prop := tg h x0 = 13 ∧ (((fI h x0 3098) ≤ x5 → bX12_named_125 G fr lo x0 x2 x3 x4 h Q) ∧ (¬ (fI h x0 3098) ≤ x5 → ((x4 = 0 → bX12_named_125 G fr lo x0 x2 x3 x4 h Q) ∧ (¬ x4 = 0 → tg h (fR h x0 3092) = 100 ∧ vp_in x3 (ln h (fR h x0 3092)) ∧ tg h (fR h x0 3090) = 103 ∧ vp_in ((aI h (fR h x0 3092) (Int32.toNatClampNeg x3)) + x5) (ln h (fR h x0 3090)) ∧ tg h (fR h x0 3097) = 103 ∧ vp_in x5 (ln h (fR h x0 3097)) ∧ ((¬ (aI h (fR h x0 3090) (Int32.toNatClampNeg ((aI h (fR h x0 3092) (Int32.toNatClampNeg x3)) + x5))) = (aI h (fR h x0 3097) (Int32.toNatClampNeg x5)) → bX12_named_117 G fr lo x0 x2 x3 x5 0 h Q) ∧ ((aI h (fR h x0 3090) (Int32.toNatClampNeg ((aI h (fR h x0 3092) (Int32.toNatClampNeg x3)) + x5))) = (aI h (fR h x0 3097) (Int32.toNatClampNeg x5)) → bX12_named_117 G fr lo x0 x2 x3 x5 1 h Q))))))
set_option maxRecDepth 100000 in
theorem uX12_named_74 {G : xG} {fr lo : Nat} {x0 : Nat} {x2 : Int32} {x3 : Int32} {x4 : Int32} {x5 : Int32} {h : xH} {Q : Outcome → xH → Prop} (hq : bX12_named_74 G fr lo x0 x2 x3 x4 x5 h Q) : xP G YX12_named fr lo 74 [(0, rv x0), (2, .int x2), (3, .int x3), (4, .int x4), (5, .int x5)] [] h Q := by
  unfold bX12_named_74 at hq
  refine x_iload 4 dX12_named_74 rfl ?_
  refine x_aload_n 0 dX12_named_76 rfl ?_
  obtain ⟨g1, hq⟩ := hq
  refine x_get (v := .int (fI h x0 3098)) fdX12_280 dX12_named_77 g1 rfl ?_
  refine x_icmp_ge (tgt := 125) dX12_named_80 (by decide) (fun c2 => ?_) (fun c2 => ?_)
  · replace hq := hq.1 c2
    refine xP.pick (lv' := [(0, rv x0), (2, .int x2), (3, .int x3), (4, .int x4)]) [0, 1, 2, 3] rfl ?_
    exact uX12_named_125 hq
  · replace hq := hq.2 c2
    refine x_iload 3 dX12_named_83 rfl ?_
    refine x_if_eq (tgt := 125) dX12_named_85 (by decide) (fun c3 => ?_) (fun c3 => ?_)
    · replace hq := hq.1 c3
      refine xP.pick (lv' := [(0, rv x0), (2, .int x2), (3, .int x3), (4, .int x4)]) [0, 1, 2, 3] rfl ?_
      exact uX12_named_125 hq
    · replace hq := hq.2 c3
      refine x_aload_n 0 dX12_named_88 rfl ?_
      refine x_get (v := rv (fR h x0 3090)) fdX12_45 dX12_named_89 g1 rfl ?_
      refine x_aload_n 0 dX12_named_92 rfl ?_
      refine x_get (v := rv (fR h x0 3092)) fdX12_48 dX12_named_93 g1 rfl ?_
      refine x_iload_n 2 dX12_named_96 rfl ?_
      obtain ⟨g4, hq⟩ := hq
      obtain ⟨i5, hq⟩ := hq
      refine x_iald 0 (Or.inl rfl) g4 i5 dX12_named_97 ?_
      refine x_iload 4 dX12_named_98 rfl ?_
      refine x_iadd dX12_named_100 ?_
      obtain ⟨g6, hq⟩ := hq
      obtain ⟨i7, hq⟩ := hq
      refine x_bald g6 i7 dX12_named_101 ?_
      refine x_aload_n 0 dX12_named_102 rfl ?_
      refine x_get (v := rv (fR h x0 3097)) fdX12_60 dX12_named_103 g1 rfl ?_
      refine x_iload 4 dX12_named_106 rfl ?_
      obtain ⟨g8, hq⟩ := hq
      obtain ⟨i9, hq⟩ := hq
      refine x_bald g8 i9 dX12_named_108 ?_
      refine x_icmp_ne (tgt := 116) dX12_named_109 (by decide) (fun c10 => ?_) (fun c10 => ?_)
      · replace hq := hq.1 c10
        refine x_iconst (v := 0) dX12_named_116 (by decide) ?_
        refine xP.pick (lv' := [(0, rv x0), (2, .int x2), (3, .int x3), (5, .int x5)]) [0, 1, 2, 4] rfl ?_
        exact uX12_named_117 hq
      · replace hq := hq.2 c10
        refine x_iconst (v := 1) dX12_named_112 (by decide) ?_
        refine x_goto (tgt := 117) dX12_named_113 (by decide) ?_
        refine xP.pick (lv' := [(0, rv x0), (2, .int x2), (3, .int x3), (5, .int x5)]) [0, 1, 2, 4] rfl ?_
        exact uX12_named_117 hq
set_option maxRecDepth 100000 in
def bX12_named_69 (G : xG) (fr lo : Nat) (x0 : Nat) (x2 : Int32) (x3 : Int32) (s0 : Int32) (h : xH) (Q : Outcome → xH → Prop) : Prop := lX12_named_74 G fr lo x0 x2 x3 s0 0 h Q
set_option maxRecDepth 100000 in
theorem uX12_named_69 {G : xG} {fr lo : Nat} {x0 : Nat} {x2 : Int32} {x3 : Int32} {s0 : Int32} {h : xH} {Q : Outcome → xH → Prop} (hq : bX12_named_69 G fr lo x0 x2 x3 s0 h Q) : xP G YX12_named fr lo 69 [(0, rv x0), (2, .int x2), (3, .int x3)] [.int s0] h Q := by
  unfold bX12_named_69 at hq
  refine x_istore (lv' := [(4, .int s0), (0, rv x0), (2, .int x2), (3, .int x3)]) dX12_named_69 (by decide) rfl ?_
  refine x_iconst (v := 0) dX12_named_71 (by decide) ?_
  refine x_istore (lv' := [(5, .int 0), (4, .int s0), (0, rv x0), (2, .int x2), (3, .int x3)]) dX12_named_72 (by decide) rfl ?_
  refine xP.pick (lv' := [(0, rv x0), (2, .int x2), (3, .int x3), (4, .int s0), (5, .int 0)]) [2, 3, 4, 1, 0] rfl ?_
  exact hq
set_option maxRecDepth 100000 in
def bX12_named_46 (G : xG) (fr lo : Nat) (x0 : Nat) (x2 : Int32) (x3 : Int32) (h : xH) (Q : Outcome → xH → Prop) : Prop := ((x3 = (-1) → tg h x0 = 13 ∧ tg h (fR h x0 3092) = 100 ∧ vp_in (fI h x0 3096) (ln h (fR h x0 3092)) ∧ (∀ h5 : xH, h5 = tI h (fR h x0 3092) (Int32.toNatClampNeg (fI h x0 3096)) (fI h x0 3091) → tg h5 (fR h5 x0 3093) = 100 ∧ vp_in (fI h x0 3096) (ln h5 (fR h5 x0 3093)) ∧ (∀ h10 : xH, h10 = tI h5 (fR h5 x0 3093) (Int32.toNatClampNeg (fI h x0 3096)) (fI h5 x0 3098) → lX12_named_170 G fr lo x0 x2 (fI h x0 3096) 0 h10 Q))) ∧ (¬ x3 = (-1) → tg h x0 = 13 ∧ tg h (fR h x0 3093) = 100 ∧ vp_in x3 (ln h (fR h x0 3093)) ∧ ((¬ (aI h (fR h x0 3093) (Int32.toNatClampNeg x3)) = (fI h x0 3098) → bX12_named_69 G fr lo x0 x2 x3 0 h Q) ∧ ((aI h (fR h x0 3093) (Int32.toNatClampNeg x3)) = (fI h x0 3098) → bX12_named_69 G fr lo x0 x2 x3 1 h Q))))
set_option maxRecDepth 100000 in
theorem uX12_named_46 {G : xG} {fr lo : Nat} {x0 : Nat} {x2 : Int32} {x3 : Int32} {h : xH} {Q : Outcome → xH → Prop} (hq : bX12_named_46 G fr lo x0 x2 x3 h Q) : xP G YX12_named fr lo 46 [(0, rv x0), (2, .int x2), (3, .int x3)] [] h Q := by
  unfold bX12_named_46 at hq
  refine x_iload_n 2 dX12_named_46 rfl ?_
  refine x_iconst (v := (-1)) dX12_named_47 (by decide) ?_
  refine x_icmp_eq (tgt := 142) dX12_named_48 (by decide) (fun c1 => ?_) (fun c1 => ?_)
  · replace hq := hq.1 c1
    refine x_aload_n 0 dX12_named_142 rfl ?_
    obtain ⟨g2, hq⟩ := hq
    refine x_get (v := .int (fI h x0 3096)) fdX12_283 dX12_named_143 g2 rfl ?_
    refine x_istore_n (lv' := [(3, .int (fI h x0 3096)), (0, rv x0), (2, .int x2)]) dX12_named_146 (by decide) rfl ?_
    refine x_aload_n 1 dX12_named_147 rfl ?_
    refine x_get (v := rv (fR h x0 3092)) fdX12_48 dX12_named_148 g2 rfl ?_
    refine x_iload_n 0 dX12_named_151 rfl ?_
    refine x_aload_n 1 dX12_named_152 rfl ?_
    refine x_get (v := .int (fI h x0 3091)) fdX12_286 dX12_named_153 g2 rfl ?_
    obtain ⟨g3, hq⟩ := hq
    obtain ⟨i4, hq⟩ := hq
    obtain ⟨h5, e6⟩ : ∃ y, y = tI h (fR h x0 3092) (Int32.toNatClampNeg (fI h x0 3096)) (fI h x0 3091) := ⟨_, rfl⟩
    replace hq := hq h5 e6
    refine x_iast' g3 i4 dX12_named_156 e6 ?_
    refine x_aload_n 1 dX12_named_157 rfl ?_
    have t7 : tg h5 x0 = 13 := by rw [e6]; exact g2
    refine x_get (v := rv (fR h5 x0 3093)) fdX12_51 dX12_named_158 t7 rfl ?_
    refine x_iload_n 0 dX12_named_161 rfl ?_
    refine x_aload_n 1 dX12_named_162 rfl ?_
    refine x_get (v := .int (fI h5 x0 3098)) fdX12_280 dX12_named_163 t7 rfl ?_
    obtain ⟨g8, hq⟩ := hq
    obtain ⟨i9, hq⟩ := hq
    obtain ⟨h10, e11⟩ : ∃ y, y = tI h5 (fR h5 x0 3093) (Int32.toNatClampNeg (fI h x0 3096)) (fI h5 x0 3098) := ⟨_, rfl⟩
    replace hq := hq h10 e11
    refine x_iast' g8 i9 dX12_named_166 e11 ?_
    refine x_iconst (v := 0) dX12_named_167 (by decide) ?_
    refine x_istore (lv' := [(4, .int 0), (3, .int (fI h x0 3096)), (0, rv x0), (2, .int x2)]) dX12_named_168 (by decide) rfl ?_
    refine xP.pick (lv' := [(0, rv x0), (2, .int x2), (3, .int (fI h x0 3096)), (4, .int 0)]) [2, 3, 1, 0] rfl ?_
    exact hq
  · replace hq := hq.2 c1
    refine x_aload_n 0 dX12_named_51 rfl ?_
    obtain ⟨g12, hq⟩ := hq
    refine x_get (v := rv (fR h x0 3093)) fdX12_51 dX12_named_52 g12 rfl ?_
    refine x_iload_n 2 dX12_named_55 rfl ?_
    obtain ⟨g13, hq⟩ := hq
    obtain ⟨i14, hq⟩ := hq
    refine x_iald 0 (Or.inl rfl) g13 i14 dX12_named_56 ?_
    refine x_aload_n 0 dX12_named_57 rfl ?_
    refine x_get (v := .int (fI h x0 3098)) fdX12_280 dX12_named_58 g12 rfl ?_
    refine x_icmp_ne (tgt := 68) dX12_named_61 (by decide) (fun c15 => ?_) (fun c15 => ?_)
    · replace hq := hq.1 c15
      refine x_iconst (v := 0) dX12_named_68 (by decide) ?_
      exact uX12_named_69 hq
    · replace hq := hq.2 c15
      refine x_iconst (v := 1) dX12_named_64 (by decide) ?_
      refine x_goto (tgt := 69) dX12_named_65 (by decide) ?_
      exact uX12_named_69 hq
set_option maxRecDepth 100000 in
def bX12_named_7 (G : xG) (fr lo : Nat) (x0 : Nat) (x1 : Int32) (x2 : Int32) (h : xH) (Q : Outcome → xH → Prop) : Prop := tg h x0 = 13 ∧ (((fI h x0 3098) ≤ x2 → tg h (fR h x0 3095) = 100 ∧ vp_in (x1 &&& 1023) (ln h (fR h x0 3095)) ∧ lX12_named_46 G fr lo x0 (x1 &&& 1023) (aI h (fR h x0 3095) (Int32.toNatClampNeg (x1 &&& 1023))) h Q) ∧ (¬ (fI h x0 3098) ≤ x2 → tg h (fR h x0 3097) = 103 ∧ vp_in x2 (ln h (fR h x0 3097)) ∧ lX12_named_7 G fr lo x0 ((x1 * 31) + (aI h (fR h x0 3097) (Int32.toNatClampNeg x2))) (x2 + 1) h Q))
set_option maxRecDepth 100000 in
theorem uX12_named_7 {G : xG} {fr lo : Nat} {x0 : Nat} {x1 : Int32} {x2 : Int32} {h : xH} {Q : Outcome → xH → Prop} (hq : bX12_named_7 G fr lo x0 x1 x2 h Q) : xP G YX12_named fr lo 7 [(0, rv x0), (1, .int x1), (2, .int x2)] [] h Q := by
  unfold bX12_named_7 at hq
  refine x_iload_n 2 dX12_named_7 rfl ?_
  refine x_aload_n 0 dX12_named_8 rfl ?_
  obtain ⟨g1, hq⟩ := hq
  refine x_get (v := .int (fI h x0 3098)) fdX12_280 dX12_named_9 g1 rfl ?_
  refine x_icmp_ge (tgt := 33) dX12_named_12 (by decide) (fun c2 => ?_) (fun c2 => ?_)
  · replace hq := hq.1 c2
    refine x_iload_n 1 dX12_named_33 rfl ?_
    refine x_sipush (v := 1023) dX12_named_34 (by decide) ?_
    refine x_iand dX12_named_37 ?_
    refine x_istore_n (lv' := [(2, .int (x1 &&& 1023)), (0, rv x0), (1, .int x1)]) dX12_named_38 (by decide) rfl ?_
    refine x_aload_n 1 dX12_named_39 rfl ?_
    refine x_get (v := rv (fR h x0 3095)) fdX12_57 dX12_named_40 g1 rfl ?_
    refine x_iload_n 0 dX12_named_43 rfl ?_
    obtain ⟨g3, hq⟩ := hq
    obtain ⟨i4, hq⟩ := hq
    refine x_iald 0 (Or.inl rfl) g3 i4 dX12_named_44 ?_
    refine x_istore_n (lv' := [(3, .int (aI h (fR h x0 3095) (Int32.toNatClampNeg (x1 &&& 1023)))), (2, .int (x1 &&& 1023)), (0, rv x0), (1, .int x1)]) dX12_named_45 (by decide) rfl ?_
    refine xP.pick (lv' := [(0, rv x0), (2, .int (x1 &&& 1023)), (3, .int (aI h (fR h x0 3095) (Int32.toNatClampNeg (x1 &&& 1023))))]) [2, 1, 0] rfl ?_
    exact hq
  · replace hq := hq.2 c2
    refine x_iload_n 1 dX12_named_15 rfl ?_
    refine x_bipush (v := 31) dX12_named_16 (by decide) ?_
    refine x_imul dX12_named_18 ?_
    refine x_aload_n 0 dX12_named_19 rfl ?_
    refine x_get (v := rv (fR h x0 3097)) fdX12_60 dX12_named_20 g1 rfl ?_
    refine x_iload_n 2 dX12_named_23 rfl ?_
    obtain ⟨g5, hq⟩ := hq
    obtain ⟨i6, hq⟩ := hq
    refine x_bald g5 i6 dX12_named_24 ?_
    refine x_iadd dX12_named_25 ?_
    refine x_istore_n (lv' := [(1, .int ((x1 * 31) + (aI h (fR h x0 3097) (Int32.toNatClampNeg x2)))), (0, rv x0), (2, .int x2)]) dX12_named_26 (by decide) (by first | rfl | (simp [rv_cat, Value.category]; done) | (simp [rv_cat, Value.category]; decide)) ?_
    refine x_iinc (lv' := [(2, .int (x2 + 1)), (1, .int ((x1 * 31) + (aI h (fR h x0 3097) (Int32.toNatClampNeg x2)))), (0, rv x0)]) 2 dX12_named_27 rfl (by decide) rfl ?_
    refine x_goto (tgt := 7) dX12_named_30 (by decide) ?_
    refine xP.pick (lv' := [(0, rv x0), (1, .int ((x1 * 31) + (aI h (fR h x0 3097) (Int32.toNatClampNeg x2)))), (2, .int (x2 + 1))]) [2, 1, 0] rfl ?_
    exact hq
set_option maxRecDepth 100000 in
def bX12_named (G : xG) (fr lo : Nat) (x0 : Nat) (h : xH) (Q : Outcome → xH → Prop) : Prop := tg h x0 = 13 ∧ lX12_named_7 G fr lo x0 (fI h x0 3098) 0 h Q
set_option maxRecDepth 100000 in
theorem uX12_named {G : xG} {fr lo : Nat} {x0 : Nat} {h : xH} {Q : Outcome → xH → Prop} (hq : bX12_named G fr lo x0 h Q) : xP G YX12_named fr lo 0 [(0, rv x0)] [] h Q := by
  unfold bX12_named at hq
  refine x_aload_n 0 dX12_named_0 rfl ?_
  obtain ⟨g1, hq⟩ := hq
  refine x_get (v := .int (fI h x0 3098)) fdX12_280 dX12_named_1 g1 rfl ?_
  refine x_istore_n (lv' := [(1, .int (fI h x0 3098)), (0, rv x0)]) dX12_named_4 (by decide) (by first | rfl | (simp [rv_cat, Value.category]; done) | (simp [rv_cat, Value.category]; decide)) ?_
  refine x_iconst (v := 0) dX12_named_5 (by decide) ?_
  refine x_istore_n (lv' := [(2, .int 0), (1, .int (fI h x0 3098)), (0, rv x0)]) dX12_named_6 (by decide) rfl ?_
  refine xP.pick (lv' := [(0, rv x0), (1, .int (fI h x0 3098)), (2, .int 0)]) [2, 1, 0] rfl ?_
  exact hq
theorem rX12_named {G : xG} {fr lo : Nat} {x0 : Nat} {h : xH} {Q : Outcome → xH → Prop} (hq : bX12_named G fr lo x0 h Q) : xR G YX12_named fr lo [rv x0] h Q := by
  show xP _ _ _ _ _ (lv_args 0 _) _ _ _
  rw [show lv_args 0 [rv x0] = [(0, rv x0)] from (xla1 (rv_cat _) xla0)]
  exact uX12_named hq
set_option maxRecDepth 100000 in
theorem dX12_read_0 : decode cX12_read 0 = .ok (.aload_n 0, 1) := by decide +kernel
set_option maxRecDepth 100000 in
theorem dX12_read_1 : decode cX12_read 1 = .ok (.invokevirtual 414, 3) := by decide +kernel
set_option maxRecDepth 100000 in
theorem dX12_read_4 : decode cX12_read 4 = .ok (.aload_n 0, 1) := by decide +kernel
set_option maxRecDepth 100000 in
theorem dX12_read_5 : decode cX12_read 5 = .ok (.getfield 269, 3) := by decide +kernel
set_option maxRecDepth 100000 in
theorem dX12_read_8 : decode cX12_read 8 = .ok (.istore_n 1, 1) := by decide +kernel
set_option maxRecDepth 100000 in
theorem dX12_read_9 : decode cX12_read 9 = .ok (.aload_n 0, 1) := by decide +kernel
set_option maxRecDepth 100000 in
theorem dX12_read_10 : decode cX12_read 10 = .ok (.getfield 269, 3) := by decide +kernel
set_option maxRecDepth 100000 in
theorem dX12_read_13 : decode cX12_read 13 = .ok (.aload_n 0, 1) := by decide +kernel
set_option maxRecDepth 100000 in
theorem dX12_read_14 : decode cX12_read 14 = .ok (.getfield 266, 3) := by decide +kernel
set_option maxRecDepth 100000 in
theorem dX12_read_17 : decode cX12_read 17 = .ok (.if_icmp .lt 14, 3) := by decide +kernel
set_option maxRecDepth 100000 in
theorem dX12_read_20 : decode cX12_read 20 = .ok (.aload_n 0, 1) := by decide +kernel
set_option maxRecDepth 100000 in
theorem dX12_read_21 : decode cX12_read 21 = .ok (.iconst 0, 1) := by decide +kernel
set_option maxRecDepth 100000 in
theorem dX12_read_22 : decode cX12_read 22 = .ok (.aload_n 0, 1) := by decide +kernel
set_option maxRecDepth 100000 in
theorem dX12_read_23 : decode cX12_read 23 = .ok (.getfield 266, 3) := by decide +kernel
set_option maxRecDepth 100000 in
theorem dX12_read_26 : decode cX12_read 26 = .ok (.iconst 0, 1) := by decide +kernel
set_option maxRecDepth 100000 in
theorem dX12_read_27 : decode cX12_read 27 = .ok (.invokevirtual 399, 3) := by decide +kernel
set_option maxRecDepth 100000 in
theorem dX12_read_30 : decode cX12_read 30 = .ok (.return_, 1) := by decide +kernel
set_option maxRecDepth 100000 in
theorem dX12_read_31 : decode cX12_read 31 = .ok (.aload_n 0, 1) := by decide +kernel
set_option maxRecDepth 100000 in
theorem dX12_read_32 : decode cX12_read 32 = .ok (.aload_n 0, 1) := by decide +kernel
set_option maxRecDepth 100000 in
theorem dX12_read_33 : decode cX12_read 33 = .ok (.getfield 269, 3) := by decide +kernel
set_option maxRecDepth 100000 in
theorem dX12_read_36 : decode cX12_read 36 = .ok (.invokevirtual 272, 3) := by decide +kernel
set_option maxRecDepth 100000 in
theorem dX12_read_39 : decode cX12_read 39 = .ok (.istore_n 2, 1) := by decide +kernel
set_option maxRecDepth 100000 in
theorem dX12_read_40 : decode cX12_read 40 = .ok (.iload_n 2, 1) := by decide +kernel
set_option maxRecDepth 100000 in
theorem dX12_read_41 : decode cX12_read 41 = .ok (.invokestatic 417, 3) := by decide +kernel
set_option maxRecDepth 100000 in
theorem dX12_read_44 : decode cX12_read 44 = .ok (.ifCond .eq 145, 3) := by decide +kernel
set_option maxRecDepth 100000 in
theorem dX12_read_47 : decode cX12_read 47 = .ok (.iconst 0, 1) := by decide +kernel
set_option maxRecDepth 100000 in
theorem dX12_read_48 : decode cX12_read 48 = .ok (.istore_n 3, 1) := by decide +kernel
set_option maxRecDepth 100000 in
theorem dX12_read_49 : decode cX12_read 49 = .ok (.aload_n 0, 1) := by decide +kernel
set_option maxRecDepth 100000 in
theorem dX12_read_50 : decode cX12_read 50 = .ok (.aload_n 0, 1) := by decide +kernel
set_option maxRecDepth 100000 in
theorem dX12_read_51 : decode cX12_read 51 = .ok (.getfield 269, 3) := by decide +kernel
set_option maxRecDepth 100000 in
theorem dX12_read_54 : decode cX12_read 54 = .ok (.invokevirtual 272, 3) := by decide +kernel
set_option maxRecDepth 100000 in
theorem dX12_read_57 : decode cX12_read 57 = .ok (.invokestatic 417, 3) := by decide +kernel
set_option maxRecDepth 100000 in
theorem dX12_read_60 : decode cX12_read 60 = .ok (.ifCond .ne 17, 3) := by decide +kernel
set_option maxRecDepth 100000 in
theorem dX12_read_63 : decode cX12_read 63 = .ok (.aload_n 0, 1) := by decide +kernel
set_option maxRecDepth 100000 in
theorem dX12_read_64 : decode cX12_read 64 = .ok (.aload_n 0, 1) := by decide +kernel
set_option maxRecDepth 100000 in
theorem dX12_read_65 : decode cX12_read 65 = .ok (.getfield 269, 3) := by decide +kernel
set_option maxRecDepth 100000 in
theorem dX12_read_68 : decode cX12_read 68 = .ok (.invokevirtual 272, 3) := by decide +kernel
set_option maxRecDepth 100000 in
theorem dX12_read_71 : decode cX12_read 71 = .ok (.invokestatic 383, 3) := by decide +kernel
set_option maxRecDepth 100000 in
theorem dX12_read_74 : decode cX12_read 74 = .ok (.ifCond .eq 66, 3) := by decide +kernel
set_option maxRecDepth 100000 in
theorem dX12_read_77 : decode cX12_read 77 = .ok (.aload_n 0, 1) := by decide +kernel
set_option maxRecDepth 100000 in
theorem dX12_read_78 : decode cX12_read 78 = .ok (.aload_n 0, 1) := by decide +kernel
set_option maxRecDepth 100000 in
theorem dX12_read_79 : decode cX12_read 79 = .ok (.getfield 269, 3) := by decide +kernel
set_option maxRecDepth 100000 in
theorem dX12_read_82 : decode cX12_read 82 = .ok (.invokevirtual 272, 3) := by decide +kernel
set_option maxRecDepth 100000 in
theorem dX12_read_85 : decode cX12_read 85 = .ok (.istore 4, 2) := by decide +kernel
set_option maxRecDepth 100000 in
theorem dX12_read_87 : decode cX12_read 87 = .ok (.iload_n 3, 1) := by decide +kernel
set_option maxRecDepth 100000 in
theorem dX12_read_88 : decode cX12_read 88 = .ok (.bipush 30, 2) := by decide +kernel
set_option maxRecDepth 100000 in
theorem dX12_read_90 : decode cX12_read 90 = .ok (.if_icmp .ge 34, 3) := by decide +kernel
set_option maxRecDepth 100000 in
theorem dX12_read_93 : decode cX12_read 93 = .ok (.aload_n 0, 1) := by decide +kernel
set_option maxRecDepth 100000 in
theorem dX12_read_94 : decode cX12_read 94 = .ok (.getfield 60, 3) := by decide +kernel
set_option maxRecDepth 100000 in
theorem dX12_read_97 : decode cX12_read 97 = .ok (.iload_n 3, 1) := by decide +kernel
set_option maxRecDepth 100000 in
theorem dX12_read_98 : decode cX12_read 98 = .ok (.iload 4, 2) := by decide +kernel
set_option maxRecDepth 100000 in
theorem dX12_read_100 : decode cX12_read 100 = .ok (.bipush 65, 2) := by decide +kernel
set_option maxRecDepth 100000 in
theorem dX12_read_102 : decode cX12_read 102 = .ok (.if_icmp .lt 18, 3) := by decide +kernel
set_option maxRecDepth 100000 in
theorem dX12_read_105 : decode cX12_read 105 = .ok (.iload 4, 2) := by decide +kernel
set_option maxRecDepth 100000 in
theorem dX12_read_107 : decode cX12_read 107 = .ok (.bipush 90, 2) := by decide +kernel
set_option maxRecDepth 100000 in
theorem dX12_read_109 : decode cX12_read 109 = .ok (.if_icmp .gt 11, 3) := by decide +kernel
set_option maxRecDepth 100000 in
theorem dX12_read_112 : decode cX12_read 112 = .ok (.iload 4, 2) := by decide +kernel
set_option maxRecDepth 100000 in
theorem dX12_read_114 : decode cX12_read 114 = .ok (.bipush 32, 2) := by decide +kernel
set_option maxRecDepth 100000 in
theorem dX12_read_116 : decode cX12_read 116 = .ok (.iadd, 1) := by decide +kernel
set_option maxRecDepth 100000 in
theorem dX12_read_117 : decode cX12_read 117 = .ok (.goto 5, 3) := by decide +kernel
set_option maxRecDepth 100000 in
theorem dX12_read_120 : decode cX12_read 120 = .ok (.iload 4, 2) := by decide +kernel
set_option maxRecDepth 100000 in
theorem dX12_read_122 : decode cX12_read 122 = .ok (.i2b, 1) := by decide +kernel
set_option maxRecDepth 100000 in
theorem dX12_read_123 : decode cX12_read 123 = .ok (.bastore, 1) := by decide +kernel
set_option maxRecDepth 100000 in
theorem dX12_read_124 : decode cX12_read 124 = .ok (.iinc 3 1, 3) := by decide +kernel
set_option maxRecDepth 100000 in
theorem dX12_read_127 : decode cX12_read 127 = .ok (.aload_n 0, 1) := by decide +kernel
set_option maxRecDepth 100000 in
theorem dX12_read_128 : decode cX12_read 128 = .ok (.dup, 1) := by decide +kernel
set_option maxRecDepth 100000 in
theorem dX12_read_129 : decode cX12_read 129 = .ok (.getfield 269, 3) := by decide +kernel
set_option maxRecDepth 100000 in
theorem dX12_read_132 : decode cX12_read 132 = .ok (.iconst 1, 1) := by decide +kernel
set_option maxRecDepth 100000 in
theorem dX12_read_133 : decode cX12_read 133 = .ok (.iadd, 1) := by decide +kernel
set_option maxRecDepth 100000 in
theorem dX12_read_134 : decode cX12_read 134 = .ok (.putfield 269, 3) := by decide +kernel
set_option maxRecDepth 100000 in
theorem dX12_read_137 : decode cX12_read 137 = .ok (.goto (-88), 3) := by decide +kernel
set_option maxRecDepth 100000 in
theorem dX12_read_140 : decode cX12_read 140 = .ok (.iload_n 3, 1) := by decide +kernel
set_option maxRecDepth 100000 in
theorem dX12_read_141 : decode cX12_read 141 = .ok (.bipush 30, 2) := by decide +kernel
set_option maxRecDepth 100000 in
theorem dX12_read_143 : decode cX12_read 143 = .ok (.if_icmp .le 9, 3) := by decide +kernel
set_option maxRecDepth 100000 in
theorem dX12_read_146 : decode cX12_read 146 = .ok (.aload_n 0, 1) := by decide +kernel
set_option maxRecDepth 100000 in
theorem dX12_read_147 : decode cX12_read 147 = .ok (.iconst 1, 1) := by decide +kernel
set_option maxRecDepth 100000 in
theorem dX12_read_148 : decode cX12_read 148 = .ok (.iload_n 1, 1) := by decide +kernel
set_option maxRecDepth 100000 in
theorem dX12_read_149 : decode cX12_read 149 = .ok (.invokevirtual 276, 3) := by decide +kernel
set_option maxRecDepth 100000 in
theorem dX12_read_152 : decode cX12_read 152 = .ok (.aload_n 0, 1) := by decide +kernel
set_option maxRecDepth 100000 in
theorem dX12_read_153 : decode cX12_read 153 = .ok (.iload_n 3, 1) := by decide +kernel
set_option maxRecDepth 100000 in
theorem dX12_read_154 : decode cX12_read 154 = .ok (.putfield 280, 3) := by decide +kernel
set_option maxRecDepth 100000 in
theorem dX12_read_157 : decode cX12_read 157 = .ok (.aload_n 0, 1) := by decide +kernel
set_option maxRecDepth 100000 in
theorem dX12_read_158 : decode cX12_read 158 = .ok (.invokevirtual 298, 3) := by decide +kernel
set_option maxRecDepth 100000 in
theorem dX12_read_161 : decode cX12_read 161 = .ok (.istore 4, 2) := by decide +kernel
set_option maxRecDepth 100000 in
theorem dX12_read_163 : decode cX12_read 163 = .ok (.aload_n 0, 1) := by decide +kernel
set_option maxRecDepth 100000 in
theorem dX12_read_164 : decode cX12_read 164 = .ok (.iload 4, 2) := by decide +kernel
set_option maxRecDepth 100000 in
theorem dX12_read_166 : decode cX12_read 166 = .ok (.bipush 35, 2) := by decide +kernel
set_option maxRecDepth 100000 in
theorem dX12_read_168 : decode cX12_read 168 = .ok (.if_icmp .ge 10, 3) := by decide +kernel
set_option maxRecDepth 100000 in
theorem dX12_read_171 : decode cX12_read 171 = .ok (.iload 4, 2) := by decide +kernel
set_option maxRecDepth 100000 in
theorem dX12_read_173 : decode cX12_read 173 = .ok (.iconst 1, 1) := by decide +kernel
set_option maxRecDepth 100000 in
theorem dX12_read_174 : decode cX12_read 174 = .ok (.iadd, 1) := by decide +kernel
set_option maxRecDepth 100000 in
theorem dX12_read_175 : decode cX12_read 175 = .ok (.goto 5, 3) := by decide +kernel
set_option maxRecDepth 100000 in
theorem dX12_read_178 : decode cX12_read 178 = .ok (.bipush 40, 2) := by decide +kernel
set_option maxRecDepth 100000 in
theorem dX12_read_180 : decode cX12_read 180 = .ok (.iload_n 1, 1) := by decide +kernel
set_option maxRecDepth 100000 in
theorem dX12_read_181 : decode cX12_read 181 = .ok (.iload 4, 2) := by decide +kernel
set_option maxRecDepth 100000 in
theorem dX12_read_183 : decode cX12_read 183 = .ok (.invokevirtual 399, 3) := by decide +kernel
set_option maxRecDepth 100000 in
theorem dX12_read_186 : decode cX12_read 186 = .ok (.goto 101, 3) := by decide +kernel
set_option maxRecDepth 100000 in
theorem dX12_read_189 : decode cX12_read 189 = .ok (.iload_n 2, 1) := by decide +kernel
set_option maxRecDepth 100000 in
theorem dX12_read_190 : decode cX12_read 190 = .ok (.invokestatic 383, 3) := by decide +kernel
set_option maxRecDepth 100000 in
theorem dX12_read_193 : decode cX12_read 193 = .ok (.ifCond .eq 11, 3) := by decide +kernel
set_option maxRecDepth 100000 in
theorem dX12_read_196 : decode cX12_read 196 = .ok (.aload_n 0, 1) := by decide +kernel
set_option maxRecDepth 100000 in
theorem dX12_read_197 : decode cX12_read 197 = .ok (.iload_n 1, 1) := by decide +kernel
set_option maxRecDepth 100000 in
theorem dX12_read_198 : decode cX12_read 198 = .ok (.invokevirtual 420, 3) := by decide +kernel
set_option maxRecDepth 100000 in
theorem dX12_read_201 : decode cX12_read 201 = .ok (.goto 86, 3) := by decide +kernel
set_option maxRecDepth 100000 in
theorem dX12_read_204 : decode cX12_read 204 = .ok (.iload_n 2, 1) := by decide +kernel
set_option maxRecDepth 100000 in
theorem dX12_read_205 : decode cX12_read 205 = .ok (.bipush 39, 2) := by decide +kernel
set_option maxRecDepth 100000 in
theorem dX12_read_207 : decode cX12_read 207 = .ok (.if_icmp .ne 11, 3) := by decide +kernel
set_option maxRecDepth 100000 in
theorem dX12_read_210 : decode cX12_read 210 = .ok (.aload_n 0, 1) := by decide +kernel
set_option maxRecDepth 100000 in
theorem dX12_read_211 : decode cX12_read 211 = .ok (.iload_n 1, 1) := by decide +kernel
set_option maxRecDepth 100000 in
theorem dX12_read_212 : decode cX12_read 212 = .ok (.invokevirtual 423, 3) := by decide +kernel
set_option maxRecDepth 100000 in
theorem dX12_read_215 : decode cX12_read 215 = .ok (.goto 72, 3) := by decide +kernel
set_option maxRecDepth 100000 in
theorem dX12_read_218 : decode cX12_read 218 = .ok (.iload_n 2, 1) := by decide +kernel
set_option maxRecDepth 100000 in
theorem dX12_read_219 : decode cX12_read 219 = .ok (.aload_n 0, 1) := by decide +kernel
set_option maxRecDepth 100000 in
theorem dX12_read_220 : decode cX12_read 220 = .ok (.aload_n 0, 1) := by decide +kernel
set_option maxRecDepth 100000 in
theorem dX12_read_221 : decode cX12_read 221 = .ok (.getfield 269, 3) := by decide +kernel
set_option maxRecDepth 100000 in
theorem dX12_read_224 : decode cX12_read 224 = .ok (.iconst 1, 1) := by decide +kernel
set_option maxRecDepth 100000 in
theorem dX12_read_225 : decode cX12_read 225 = .ok (.iadd, 1) := by decide +kernel
set_option maxRecDepth 100000 in
theorem dX12_read_226 : decode cX12_read 226 = .ok (.invokevirtual 272, 3) := by decide +kernel
set_option maxRecDepth 100000 in
theorem dX12_read_229 : decode cX12_read 229 = .ok (.invokestatic 426, 3) := by decide +kernel
set_option maxRecDepth 100000 in
theorem dX12_read_232 : decode cX12_read 232 = .ok (.istore_n 3, 1) := by decide +kernel
set_option maxRecDepth 100000 in
theorem dX12_read_233 : decode cX12_read 233 = .ok (.iload_n 2, 1) := by decide +kernel
set_option maxRecDepth 100000 in
theorem dX12_read_234 : decode cX12_read 234 = .ok (.invokestatic 430, 3) := by decide +kernel
set_option maxRecDepth 100000 in
theorem dX12_read_237 : decode cX12_read 237 = .ok (.istore 4, 2) := by decide +kernel
set_option maxRecDepth 100000 in
theorem dX12_read_239 : decode cX12_read 239 = .ok (.iload 4, 2) := by decide +kernel
set_option maxRecDepth 100000 in
theorem dX12_read_241 : decode cX12_read 241 = .ok (.iconst (-1), 1) := by decide +kernel
set_option maxRecDepth 100000 in
theorem dX12_read_242 : decode cX12_read 242 = .ok (.if_icmp .ne 9, 3) := by decide +kernel
set_option maxRecDepth 100000 in
theorem dX12_read_245 : decode cX12_read 245 = .ok (.aload_n 0, 1) := by decide +kernel
set_option maxRecDepth 100000 in
theorem dX12_read_246 : decode cX12_read 246 = .ok (.iconst 1, 1) := by decide +kernel
set_option maxRecDepth 100000 in
theorem dX12_read_247 : decode cX12_read 247 = .ok (.iload_n 1, 1) := by decide +kernel
set_option maxRecDepth 100000 in
theorem dX12_read_248 : decode cX12_read 248 = .ok (.invokevirtual 276, 3) := by decide +kernel
set_option maxRecDepth 100000 in
theorem dX12_read_251 : decode cX12_read 251 = .ok (.aload_n 0, 1) := by decide +kernel
set_option maxRecDepth 100000 in
theorem dX12_read_252 : decode cX12_read 252 = .ok (.dup, 1) := by decide +kernel
set_option maxRecDepth 100000 in
theorem dX12_read_253 : decode cX12_read 253 = .ok (.getfield 269, 3) := by decide +kernel
set_option maxRecDepth 100000 in
theorem dX12_read_256 : decode cX12_read 256 = .ok (.iload_n 3, 1) := by decide +kernel
set_option maxRecDepth 100000 in
theorem dX12_read_257 : decode cX12_read 257 = .ok (.iconst (-1), 1) := by decide +kernel
set_option maxRecDepth 100000 in
theorem dX12_read_258 : decode cX12_read 258 = .ok (.if_icmp .eq 7, 3) := by decide +kernel
set_option maxRecDepth 100000 in
theorem dX12_read_261 : decode cX12_read 261 = .ok (.iconst 2, 1) := by decide +kernel
set_option maxRecDepth 100000 in
theorem dX12_read_262 : decode cX12_read 262 = .ok (.goto 4, 3) := by decide +kernel
set_option maxRecDepth 100000 in
theorem dX12_read_265 : decode cX12_read 265 = .ok (.iconst 1, 1) := by decide +kernel
set_option maxRecDepth 100000 in
theorem dX12_read_266 : decode cX12_read 266 = .ok (.iadd, 1) := by decide +kernel
set_option maxRecDepth 100000 in
theorem dX12_read_267 : decode cX12_read 267 = .ok (.putfield 269, 3) := by decide +kernel
set_option maxRecDepth 100000 in
theorem dX12_read_270 : decode cX12_read 270 = .ok (.aload_n 0, 1) := by decide +kernel
set_option maxRecDepth 100000 in
theorem dX12_read_271 : decode cX12_read 271 = .ok (.iload_n 3, 1) := by decide +kernel
set_option maxRecDepth 100000 in
theorem dX12_read_272 : decode cX12_read 272 = .ok (.iconst (-1), 1) := by decide +kernel
set_option maxRecDepth 100000 in
theorem dX12_read_273 : decode cX12_read 273 = .ok (.if_icmp .eq 7, 3) := by decide +kernel
set_option maxRecDepth 100000 in
theorem dX12_read_276 : decode cX12_read 276 = .ok (.iload_n 3, 1) := by decide +kernel
set_option maxRecDepth 100000 in
theorem dX12_read_277 : decode cX12_read 277 = .ok (.goto 5, 3) := by decide +kernel
set_option maxRecDepth 100000 in
theorem dX12_read_280 : decode cX12_read 280 = .ok (.iload 4, 2) := by decide +kernel
set_option maxRecDepth 100000 in
theorem dX12_read_282 : decode cX12_read 282 = .ok (.iload_n 1, 1) := by decide +kernel
set_option maxRecDepth 100000 in
theorem dX12_read_283 : decode cX12_read 283 = .ok (.iconst 0, 1) := by decide +kernel
set_option maxRecDepth 100000 in
theorem dX12_read_284 : decode cX12_read 284 = .ok (.invokevirtual 399, 3) := by decide +kernel
set_option maxRecDepth 100000 in
theorem dX12_read_287 : decode cX12_read 287 = .ok (.return_, 1) := by decide +kernel
def lX12_read_49 (G : xG) (fr lo : Nat) (x0 : Nat) (x1 : Int32) (x3 : Int32) (h : xH) (Q : Outcome → xH → Prop) : Prop := xP G YX12_read fr lo 49 [(0, rv x0), (1, .int x1), (3, .int x3)] [] h Q
set_option maxRecDepth 100000 in
def bX12_read_287 (G : xG) (fr lo : Nat) (h : xH) (Q : Outcome → xH → Prop) : Prop := Q (.returned none) h
set_option maxRecDepth 100000 in
theorem uX12_read_287 {G : xG} {fr lo : Nat} {h : xH} {Q : Outcome → xH → Prop} (hq : bX12_read_287 G fr lo h Q) : xP G YX12_read fr lo 287 [] [] h Q := by
  unfold bX12_read_287 at hq
  exact x_vret rfl dX12_read_287 hq
set_option maxRecDepth 100000 in
def bX12_read_282 (G : xG) (fr lo : Nat) (x1 : Int32) (s0 : Int32) (s1 : Nat) (h : xH) (Q : Outcome → xH → Prop) : Prop := tg h s1 = 13 ∧ 1 ≤ fr ∧ 15 ≤ lo ∧ xRv G YX12_lay (fr - 1) (lo - 15) [rv s1, .int s0, .int x1, .int 0] h (fun h4 => xext h h4 → bX12_read_287 G fr lo h4 Q) (fun r h2 => Q (.threw r) h2)
set_option maxRecDepth 100000 in
theorem uX12_read_282 {G : xG} {fr lo : Nat} {x1 : Int32} {s0 : Int32} {s1 : Nat} {h : xH} {Q : Outcome → xH → Prop} (hq : bX12_read_282 G fr lo x1 s0 s1 h Q) : xP G YX12_read fr lo 282 [(1, .int x1)] [.int s0, rv s1] h Q := by
  unfold bX12_read_282 at hq
  refine x_iload_n 0 dX12_read_282 rfl ?_
  refine x_iconst (v := 0) dX12_read_283 (by decide) ?_
  obtain ⟨g1, hq⟩ := hq
  obtain ⟨g2, g3, hq⟩ := hq
  refine x_callV (Yc := YX12_lay) (as := [.int s0, .int x1, .int 0]) (st := []) q3735 mvX12_lay g1 rfl dX12_read_284 (xle (xal1 (rv_cat _) (xal1 rfl (xal1 rfl (xal1 rfl xal0)))) (by decide)) (xfr g2) (xlo xsw0 (by decide) g3) (xKv hq (fun h4 hq e6 => ?_) (fun _ _ q _ => q))
  replace hq := hq e6
  refine xP.pick (lv' := []) [] rfl ?_
  exact uX12_read_287 hq
set_option maxRecDepth 100000 in
def bX12_read_266 (G : xG) (fr lo : Nat) (x0 : Nat) (x1 : Int32) (x3 : Int32) (x4 : Int32) (s0 : Int32) (s1 : Int32) (s2 : Nat) (h : xH) (Q : Outcome → xH → Prop) : Prop := tg h s2 = 13 ∧ (∀ h2 : xH, h2 = sI h s2 3081 (s1 + s0) → ((x3 = (-1) → bX12_read_282 G fr lo x1 x4 x0 h2 Q) ∧ (¬ x3 = (-1) → bX12_read_282 G fr lo x1 x3 x0 h2 Q)))
set_option maxRecDepth 100000 in
theorem uX12_read_266 {G : xG} {fr lo : Nat} {x0 : Nat} {x1 : Int32} {x3 : Int32} {x4 : Int32} {s0 : Int32} {s1 : Int32} {s2 : Nat} {h : xH} {Q : Outcome → xH → Prop} (hq : bX12_read_266 G fr lo x0 x1 x3 x4 s0 s1 s2 h Q) : xP G YX12_read fr lo 266 [(0, rv x0), (1, .int x1), (3, .int x3), (4, .int x4)] [.int s0, .int s1, rv s2] h Q := by
  unfold bX12_read_266 at hq
  refine x_iadd dX12_read_266 ?_
  obtain ⟨g1, hq⟩ := hq
  obtain ⟨h2, e3⟩ : ∃ y, y = sI h s2 3081 (s1 + s0) := ⟨_, rfl⟩
  replace hq := hq h2 e3
  refine x_putI fdX12_269 xty_I1 dX12_read_267 g1 (Or.inl (by rw [g1]; rfl)) xnI rfl e3 ?_
  refine x_aload_n 0 dX12_read_270 rfl ?_
  refine x_iload_n 2 dX12_read_271 rfl ?_
  refine x_iconst (v := (-1)) dX12_read_272 (by decide) ?_
  refine x_icmp_eq (tgt := 280) dX12_read_273 (by decide) (fun c4 => ?_) (fun c4 => ?_)
  · replace hq := hq.1 c4
    refine x_iload 3 dX12_read_280 rfl ?_
    refine xP.pick (lv' := [(1, .int x1)]) [1] rfl ?_
    exact uX12_read_282 hq
  · replace hq := hq.2 c4
    refine x_iload_n 2 dX12_read_276 rfl ?_
    refine x_goto (tgt := 282) dX12_read_277 (by decide) ?_
    refine xP.pick (lv' := [(1, .int x1)]) [1] rfl ?_
    exact uX12_read_282 hq
set_option maxRecDepth 100000 in
def bX12_read_251 (G : xG) (fr lo : Nat) (x0 : Nat) (x1 : Int32) (x3 : Int32) (x4 : Int32) (h : xH) (Q : Outcome → xH → Prop) : Prop := tg h x0 = 13 ∧ ((x3 = (-1) → bX12_read_266 G fr lo x0 x1 x3 x4 1 (fI h x0 3081) x0 h Q) ∧ (¬ x3 = (-1) → bX12_read_266 G fr lo x0 x1 x3 x4 2 (fI h x0 3081) x0 h Q))
set_option maxRecDepth 100000 in
theorem uX12_read_251 {G : xG} {fr lo : Nat} {x0 : Nat} {x1 : Int32} {x3 : Int32} {x4 : Int32} {h : xH} {Q : Outcome → xH → Prop} (hq : bX12_read_251 G fr lo x0 x1 x3 x4 h Q) : xP G YX12_read fr lo 251 [(0, rv x0), (1, .int x1), (3, .int x3), (4, .int x4)] [] h Q := by
  unfold bX12_read_251 at hq
  refine x_aload_n 0 dX12_read_251 rfl ?_
  refine x_dup dX12_read_252 (rv_cat _) ?_
  obtain ⟨g1, hq⟩ := hq
  refine x_get (v := .int (fI h x0 3081)) fdX12_269 dX12_read_253 g1 rfl ?_
  refine x_iload_n 2 dX12_read_256 rfl ?_
  refine x_iconst (v := (-1)) dX12_read_257 (by decide) ?_
  refine x_icmp_eq (tgt := 265) dX12_read_258 (by decide) (fun c2 => ?_) (fun c2 => ?_)
  · replace hq := hq.1 c2
    refine x_iconst (v := 1) dX12_read_265 (by decide) ?_
    exact uX12_read_266 hq
  · replace hq := hq.2 c2
    refine x_iconst (v := 2) dX12_read_261 (by decide) ?_
    refine x_goto (tgt := 266) dX12_read_262 (by decide) ?_
    exact uX12_read_266 hq
set_option maxRecDepth 100000 in
def bX12_read_180 (G : xG) (fr lo : Nat) (x1 : Int32) (x4 : Int32) (s0 : Int32) (s1 : Nat) (h : xH) (Q : Outcome → xH → Prop) : Prop := tg h s1 = 13 ∧ 1 ≤ fr ∧ 15 ≤ lo ∧ xRv G YX12_lay (fr - 1) (lo - 15) [rv s1, .int s0, .int x1, .int x4] h (fun h4 => xext h h4 → bX12_read_287 G fr lo h4 Q) (fun r h2 => Q (.threw r) h2)
set_option maxRecDepth 100000 in
theorem uX12_read_180 {G : xG} {fr lo : Nat} {x1 : Int32} {x4 : Int32} {s0 : Int32} {s1 : Nat} {h : xH} {Q : Outcome → xH → Prop} (hq : bX12_read_180 G fr lo x1 x4 s0 s1 h Q) : xP G YX12_read fr lo 180 [(1, .int x1), (4, .int x4)] [.int s0, rv s1] h Q := by
  unfold bX12_read_180 at hq
  refine x_iload_n 0 dX12_read_180 rfl ?_
  refine x_iload 1 dX12_read_181 rfl ?_
  obtain ⟨g1, hq⟩ := hq
  obtain ⟨g2, g3, hq⟩ := hq
  refine x_callV (Yc := YX12_lay) (as := [.int s0, .int x1, .int x4]) (st := []) q3735 mvX12_lay g1 rfl dX12_read_183 (xle (xal1 (rv_cat _) (xal1 rfl (xal1 rfl (xal1 rfl xal0)))) (by decide)) (xfr g2) (xlo xsw0 (by decide) g3) (xKv hq (fun h4 hq e6 => ?_) (fun _ _ q _ => q))
  replace hq := hq e6
  refine x_goto (tgt := 287) dX12_read_186 (by decide) ?_
  refine xP.pick (lv' := []) [] rfl ?_
  exact uX12_read_287 hq
set_option maxRecDepth 100000 in
def bX12_read_152 (G : xG) (fr lo : Nat) (x0 : Nat) (x1 : Int32) (x3 : Int32) (h : xH) (Q : Outcome → xH → Prop) : Prop := tg h x0 = 13 ∧ (∀ h2 : xH, h2 = sI h x0 3098 x3 → 1 ≤ fr ∧ 17 ≤ lo ∧ xRi G YX12_named (fr - 1) (lo - 17) [rv x0] h2 (fun x8 h7 => xext h2 h7 → ((35 ≤ x8 → bX12_read_180 G fr lo x1 x8 40 x0 h7 Q) ∧ (¬ 35 ≤ x8 → bX12_read_180 G fr lo x1 x8 (x8 + 1) x0 h7 Q))) (fun r h2 => Q (.threw r) h2))
set_option maxRecDepth 100000 in
theorem uX12_read_152 {G : xG} {fr lo : Nat} {x0 : Nat} {x1 : Int32} {x3 : Int32} {h : xH} {Q : Outcome → xH → Prop} (hq : bX12_read_152 G fr lo x0 x1 x3 h Q) : xP G YX12_read fr lo 152 [(0, rv x0), (1, .int x1), (3, .int x3)] [] h Q := by
  unfold bX12_read_152 at hq
  refine x_aload_n 0 dX12_read_152 rfl ?_
  refine x_iload_n 2 dX12_read_153 rfl ?_
  obtain ⟨g1, hq⟩ := hq
  obtain ⟨h2, e3⟩ : ∃ y, y = sI h x0 3098 x3 := ⟨_, rfl⟩
  replace hq := hq h2 e3
  refine x_putI fdX12_280 xty_I1 dX12_read_154 g1 (Or.inl (by rw [g1]; rfl)) xnI rfl e3 ?_
  refine x_aload_n 0 dX12_read_157 rfl ?_
  have t4 : tg h2 x0 = 13 := by rw [e3]; exact g1
  obtain ⟨g5, g6, hq⟩ := hq
  refine x_callV (Yc := YX12_named) (as := []) (st := []) q3712 mvX12_named t4 rfl dX12_read_158 (xle (xal1 (rv_cat _) xal0) (by decide)) (xfr g5) (xlo xsw0 (by decide) g6) (xKi hq (fun x8 h7 hq e9 => ?_) (fun _ _ q _ => q))
  replace hq := hq e9
  refine x_istore (lv' := [(4, .int x8), (0, rv x0), (1, .int x1), (3, .int x3)]) dX12_read_161 (by decide) rfl ?_
  refine x_aload_n 1 dX12_read_163 rfl ?_
  refine x_iload 0 dX12_read_164 rfl ?_
  refine x_bipush (v := 35) dX12_read_166 (by decide) ?_
  refine x_icmp_ge (tgt := 178) dX12_read_168 (by decide) (fun c10 => ?_) (fun c10 => ?_)
  · replace hq := hq.1 c10
    refine x_bipush (v := 40) dX12_read_178 (by decide) ?_
    refine xP.pick (lv' := [(1, .int x1), (4, .int x8)]) [2, 0] rfl ?_
    exact uX12_read_180 hq
  · replace hq := hq.2 c10
    refine x_iload 0 dX12_read_171 rfl ?_
    refine x_iconst (v := 1) dX12_read_173 (by decide) ?_
    refine x_iadd dX12_read_174 ?_
    refine x_goto (tgt := 180) dX12_read_175 (by decide) ?_
    refine xP.pick (lv' := [(1, .int x1), (4, .int x8)]) [2, 0] rfl ?_
    exact uX12_read_180 hq
set_option maxRecDepth 100000 in
def bX12_read_124 (G : xG) (fr lo : Nat) (x0 : Nat) (x1 : Int32) (x3 : Int32) (h : xH) (Q : Outcome → xH → Prop) : Prop := tg h x0 = 13 ∧ (∀ h2 : xH, h2 = sI h x0 3081 ((fI h x0 3081) + 1) → lX12_read_49 G fr lo x0 x1 (x3 + 1) h2 Q)
set_option maxRecDepth 100000 in
theorem uX12_read_124 {G : xG} {fr lo : Nat} {x0 : Nat} {x1 : Int32} {x3 : Int32} {h : xH} {Q : Outcome → xH → Prop} (hq : bX12_read_124 G fr lo x0 x1 x3 h Q) : xP G YX12_read fr lo 124 [(0, rv x0), (1, .int x1), (3, .int x3)] [] h Q := by
  unfold bX12_read_124 at hq
  refine x_iinc (lv' := [(3, .int (x3 + 1)), (0, rv x0), (1, .int x1)]) 2 dX12_read_124 rfl (by decide) rfl ?_
  refine x_aload_n 1 dX12_read_127 rfl ?_
  refine x_dup dX12_read_128 (rv_cat _) ?_
  obtain ⟨g1, hq⟩ := hq
  refine x_get (v := .int (fI h x0 3081)) fdX12_269 dX12_read_129 g1 rfl ?_
  refine x_iconst (v := 1) dX12_read_132 (by decide) ?_
  refine x_iadd dX12_read_133 ?_
  obtain ⟨h2, e3⟩ : ∃ y, y = sI h x0 3081 ((fI h x0 3081) + 1) := ⟨_, rfl⟩
  replace hq := hq h2 e3
  refine x_putI fdX12_269 xty_I1 dX12_read_134 g1 (Or.inl (by rw [g1]; rfl)) xnI rfl e3 ?_
  refine x_goto (tgt := 49) dX12_read_137 (by decide) ?_
  refine xP.pick (lv' := [(0, rv x0), (1, .int x1), (3, .int (x3 + 1))]) [1, 2, 0] rfl ?_
  exact hq
set_option maxRecDepth 100000 in
def bX12_read_122 (G : xG) (fr lo : Nat) (x0 : Nat) (x1 : Int32) (x3 : Int32) (s0 : Int32) (s1 : Int32) (s2 : Nat) (h : xH) (Q : Outcome → xH → Prop) : Prop := tg h s2 = 103 ∧ xGB G < s2 ∧ vp_in s1 (ln h s2) ∧ (∀ h4 : xH, h4 = tI h s2 (Int32.toNatClampNeg s1) (vp_nar .byte ((Int32.toInt8 s0).toInt32)) → bX12_read_124 G fr lo x0 x1 x3 h4 Q)
set_option maxRecDepth 100000 in
theorem uX12_read_122 {G : xG} {fr lo : Nat} {x0 : Nat} {x1 : Int32} {x3 : Int32} {s0 : Int32} {s1 : Int32} {s2 : Nat} {h : xH} {Q : Outcome → xH → Prop} (hq : bX12_read_122 G fr lo x0 x1 x3 s0 s1 s2 h Q) : xP G YX12_read fr lo 122 [(0, rv x0), (1, .int x1), (3, .int x3)] [.int s0, .int s1, rv s2] h Q := by
  unfold bX12_read_122 at hq
  refine x_i2b dX12_read_122 ?_
  obtain ⟨g1, hq⟩ := hq
  obtain ⟨w2, hq⟩ := hq
  obtain ⟨i3, hq⟩ := hq
  obtain ⟨h4, e5⟩ : ∃ y, y = tI h s2 (Int32.toNatClampNeg s1) (vp_nar .byte ((Int32.toInt8 s0).toInt32)) := ⟨_, rfl⟩
  replace hq := hq h4 e5
  refine x_bast' g1 (Or.inr w2) i3 dX12_read_123 e5 ?_
  exact uX12_read_124 hq
set_option maxRecDepth 100000 in
def bX12_read_120 (G : xG) (fr lo : Nat) (x0 : Nat) (x1 : Int32) (x3 : Int32) (x4 : Int32) (s0 : Int32) (s1 : Nat) (h : xH) (Q : Outcome → xH → Prop) : Prop := bX12_read_122 G fr lo x0 x1 x3 x4 s0 s1 h Q
set_option maxRecDepth 100000 in
theorem uX12_read_120 {G : xG} {fr lo : Nat} {x0 : Nat} {x1 : Int32} {x3 : Int32} {x4 : Int32} {s0 : Int32} {s1 : Nat} {h : xH} {Q : Outcome → xH → Prop} (hq : bX12_read_120 G fr lo x0 x1 x3 x4 s0 s1 h Q) : xP G YX12_read fr lo 120 [(0, rv x0), (1, .int x1), (3, .int x3), (4, .int x4)] [.int s0, rv s1] h Q := by
  unfold bX12_read_120 at hq
  refine x_iload 3 dX12_read_120 rfl ?_
  refine xP.pick (lv' := [(0, rv x0), (1, .int x1), (3, .int x3)]) [0, 1, 2] rfl ?_
  exact uX12_read_122 hq
set_option maxRecDepth 100000 in
def bX12_read_77 (G : xG) (fr lo : Nat) (x0 : Nat) (x1 : Int32) (x3 : Int32) (h : xH) (Q : Outcome → xH → Prop) : Prop := tg h x0 = 13 ∧ 1 ≤ fr ∧ 13 ≤ lo ∧ xRi G YX12_byteAt (fr - 1) (lo - 13) [rv x0, .int (fI h x0 3081)] h (fun x5 h4 => xext h h4 → ((30 ≤ x3 → bX12_read_124 G fr lo x0 x1 x3 h4 Q) ∧ (¬ 30 ≤ x3 → ((x5 < 65 → bX12_read_120 G fr lo x0 x1 x3 x5 x3 (fR h4 x0 3097) h4 Q) ∧ (¬ x5 < 65 → ((90 < x5 → bX12_read_120 G fr lo x0 x1 x3 x5 x3 (fR h4 x0 3097) h4 Q) ∧ (¬ 90 < x5 → bX12_read_122 G fr lo x0 x1 x3 (x5 + 32) x3 (fR h4 x0 3097) h4 Q))))))) (fun r h2 => Q (.threw r) h2)
set_option maxRecDepth 100000 in
theorem uX12_read_77 {G : xG} {fr lo : Nat} {x0 : Nat} {x1 : Int32} {x3 : Int32} {h : xH} {Q : Outcome → xH → Prop} (hq : bX12_read_77 G fr lo x0 x1 x3 h Q) : xP G YX12_read fr lo 77 [(0, rv x0), (1, .int x1), (3, .int x3)] [] h Q := by
  unfold bX12_read_77 at hq
  refine x_aload_n 0 dX12_read_77 rfl ?_
  refine x_aload_n 0 dX12_read_78 rfl ?_
  obtain ⟨g1, hq⟩ := hq
  refine x_get (v := .int (fI h x0 3081)) fdX12_269 dX12_read_79 g1 rfl ?_
  obtain ⟨g2, g3, hq⟩ := hq
  refine x_callV (Yc := YX12_byteAt) (as := [.int (fI h x0 3081)]) (st := []) q3725 mvX12_byteAt g1 rfl dX12_read_82 (xle (xal1 (rv_cat _) (xal1 rfl xal0)) (by decide)) (xfr g2) (xlo xsw0 (by decide) g3) (xKi hq (fun x5 h4 hq e6 => ?_) (fun _ _ q _ => q))
  replace hq := hq e6
  refine x_istore (lv' := [(4, .int x5), (0, rv x0), (1, .int x1), (3, .int x3)]) dX12_read_85 (by decide) rfl ?_
  refine x_iload_n 3 dX12_read_87 rfl ?_
  refine x_bipush (v := 30) dX12_read_88 (by decide) ?_
  refine x_icmp_ge (tgt := 124) dX12_read_90 (by decide) (fun c7 => ?_) (fun c7 => ?_)
  · replace hq := hq.1 c7
    refine xP.pick (lv' := [(0, rv x0), (1, .int x1), (3, .int x3)]) [1, 2, 3] rfl ?_
    exact uX12_read_124 hq
  · replace hq := hq.2 c7
    refine x_aload_n 1 dX12_read_93 rfl ?_
    have t8 : tg h4 x0 = 13 := e6.tg g1 (by decide)
    refine x_get (v := rv (fR h4 x0 3097)) fdX12_60 dX12_read_94 t8 rfl ?_
    refine x_iload_n 3 dX12_read_97 rfl ?_
    refine x_iload 0 dX12_read_98 rfl ?_
    refine x_bipush (v := 65) dX12_read_100 (by decide) ?_
    refine x_icmp_lt (tgt := 120) dX12_read_102 (by decide) (fun c9 => ?_) (fun c9 => ?_)
    · replace hq := hq.1 c9
      refine xP.pick (lv' := [(0, rv x0), (1, .int x1), (3, .int x3), (4, .int x5)]) [1, 2, 3, 0] rfl ?_
      exact uX12_read_120 hq
    · replace hq := hq.2 c9
      refine x_iload 0 dX12_read_105 rfl ?_
      refine x_bipush (v := 90) dX12_read_107 (by decide) ?_
      refine x_icmp_gt (tgt := 120) dX12_read_109 (by decide) (fun c10 => ?_) (fun c10 => ?_)
      · replace hq := hq.1 c10
        refine xP.pick (lv' := [(0, rv x0), (1, .int x1), (3, .int x3), (4, .int x5)]) [1, 2, 3, 0] rfl ?_
        exact uX12_read_120 hq
      · replace hq := hq.2 c10
        refine x_iload 0 dX12_read_112 rfl ?_
        refine x_bipush (v := 32) dX12_read_114 (by decide) ?_
        refine x_iadd dX12_read_116 ?_
        refine x_goto (tgt := 122) dX12_read_117 (by decide) ?_
        refine xP.pick (lv' := [(0, rv x0), (1, .int x1), (3, .int x3)]) [1, 2, 3] rfl ?_
        exact uX12_read_122 hq
set_option maxRecDepth 100000 in
def bX12_read_49 (G : xG) (fr lo : Nat) (x0 : Nat) (x1 : Int32) (x3 : Int32) (h : xH) (Q : Outcome → xH → Prop) : Prop := tg h x0 = 13 ∧ 1 ≤ fr ∧ 13 ≤ lo ∧ xRi G YX12_byteAt (fr - 1) (lo - 13) [rv x0, .int (fI h x0 3081)] h (fun x5 h4 => xext h h4 → 1 ≤ fr ∧ 12 ≤ lo ∧ xRi G YX12_isLetter (fr - 1) (lo - 12) [.int x5] h4 (fun x10 h9 => xext h4 h9 → ((¬ x10 = 0 → bX12_read_77 G fr lo x0 x1 x3 h9 Q) ∧ (x10 = 0 → 1 ≤ fr ∧ 13 ≤ lo ∧ xRi G YX12_byteAt (fr - 1) (lo - 13) [rv x0, .int (fI h9 x0 3081)] h9 (fun x18 h17 => xext h9 h17 → 1 ≤ fr ∧ 12 ≤ lo ∧ xRi G YX12_isDigit (fr - 1) (lo - 12) [.int x18] h17 (fun x23 h22 => xext h17 h22 → ((x23 = 0 → ((x3 ≤ 30 → bX12_read_152 G fr lo x0 x1 x3 h22 Q) ∧ (¬ x3 ≤ 30 → 1 ≤ fr ∧ 14 ≤ lo ∧ xRv G YX12_stop (fr - 1) (lo - 14) [rv x0, .int 1, .int x1] h22 (fun h31 => xext h22 h31 → bX12_read_152 G fr lo x0 x1 x3 h31 Q) (fun r h2 => Q (.threw r) h2)))) ∧ (¬ x23 = 0 → bX12_read_77 G fr lo x0 x1 x3 h22 Q))) (fun r h2 => Q (.threw r) h2)) (fun r h2 => Q (.threw r) h2)))) (fun r h2 => Q (.threw r) h2)) (fun r h2 => Q (.threw r) h2)
set_option maxRecDepth 100000 in
theorem uX12_read_49 {G : xG} {fr lo : Nat} {x0 : Nat} {x1 : Int32} {x3 : Int32} {h : xH} {Q : Outcome → xH → Prop} (hq : bX12_read_49 G fr lo x0 x1 x3 h Q) : xP G YX12_read fr lo 49 [(0, rv x0), (1, .int x1), (3, .int x3)] [] h Q := by
  unfold bX12_read_49 at hq
  refine x_aload_n 0 dX12_read_49 rfl ?_
  refine x_aload_n 0 dX12_read_50 rfl ?_
  obtain ⟨g1, hq⟩ := hq
  refine x_get (v := .int (fI h x0 3081)) fdX12_269 dX12_read_51 g1 rfl ?_
  obtain ⟨g2, g3, hq⟩ := hq
  refine x_callV (Yc := YX12_byteAt) (as := [.int (fI h x0 3081)]) (st := []) q3725 mvX12_byteAt g1 rfl dX12_read_54 (xle (xal1 (rv_cat _) (xal1 rfl xal0)) (by decide)) (xfr g2) (xlo xsw0 (by decide) g3) (xKi hq (fun x5 h4 hq e6 => ?_) (fun _ _ q _ => q))
  replace hq := hq e6
  obtain ⟨g7, g8, hq⟩ := hq
  refine x_callS (Yc := YX12_isLetter) (as := [.int x5]) (st := []) q3739 msX12_isLetter rfl dX12_read_57 (xle (xal1 rfl xal0) (by decide)) (xfr g7) (xlo xsw0 (by decide) g8) (xKi hq (fun x10 h9 hq e11 => ?_) (fun _ _ q _ => q))
  replace hq := hq e11
  refine x_if_ne (tgt := 77) dX12_read_60 (by decide) (fun c12 => ?_) (fun c12 => ?_)
  · replace hq := hq.1 c12
    exact uX12_read_77 hq
  · replace hq := hq.2 c12
    refine x_aload_n 0 dX12_read_63 rfl ?_
    refine x_aload_n 0 dX12_read_64 rfl ?_
    have t13 : tg h4 x0 = 13 := e6.tg g1 (by decide)
    have t14 : tg h9 x0 = 13 := e11.tg t13 (by decide)
    refine x_get (v := .int (fI h9 x0 3081)) fdX12_269 dX12_read_65 t14 rfl ?_
    obtain ⟨g15, g16, hq⟩ := hq
    refine x_callV (Yc := YX12_byteAt) (as := [.int (fI h9 x0 3081)]) (st := []) q3725 mvX12_byteAt t14 rfl dX12_read_68 (xle (xal1 (rv_cat _) (xal1 rfl xal0)) (by decide)) (xfr g15) (xlo xsw0 (by decide) g16) (xKi hq (fun x18 h17 hq e19 => ?_) (fun _ _ q _ => q))
    replace hq := hq e19
    obtain ⟨g20, g21, hq⟩ := hq
    refine x_callS (Yc := YX12_isDigit) (as := [.int x18]) (st := []) q3742 msX12_isDigit rfl dX12_read_71 (xle (xal1 rfl xal0) (by decide)) (xfr g20) (xlo xsw0 (by decide) g21) (xKi hq (fun x23 h22 hq e24 => ?_) (fun _ _ q _ => q))
    replace hq := hq e24
    refine x_if_eq (tgt := 140) dX12_read_74 (by decide) (fun c25 => ?_) (fun c25 => ?_)
    · replace hq := hq.1 c25
      refine x_iload_n 2 dX12_read_140 rfl ?_
      refine x_bipush (v := 30) dX12_read_141 (by decide) ?_
      refine x_icmp_le (tgt := 152) dX12_read_143 (by decide) (fun c26 => ?_) (fun c26 => ?_)
      · replace hq := hq.1 c26
        exact uX12_read_152 hq
      · replace hq := hq.2 c26
        refine x_aload_n 0 dX12_read_146 rfl ?_
        refine x_iconst (v := 1) dX12_read_147 (by decide) ?_
        refine x_iload_n 1 dX12_read_148 rfl ?_
        have t27 : tg h17 x0 = 13 := e19.tg t14 (by decide)
        have t28 : tg h22 x0 = 13 := e24.tg t27 (by decide)
        obtain ⟨g29, g30, hq⟩ := hq
        refine x_callV (Yc := YX12_stop) (as := [.int 1, .int x1]) (st := []) q3729 mvX12_stop t28 rfl dX12_read_149 (xle (xal1 (rv_cat _) (xal1 rfl (xal1 rfl xal0))) (by decide)) (xfr g29) (xlo xsw0 (by decide) g30) (xKv hq (fun h31 hq e33 => ?_) (fun _ _ q _ => q))
        replace hq := hq e33
        exact uX12_read_152 hq
    · replace hq := hq.2 c25
      exact uX12_read_77 hq
set_option maxRecDepth 100000 in
def bX12_read (G : xG) (fr lo : Nat) (x0 : Nat) (h : xH) (Q : Outcome → xH → Prop) : Prop := tg h x0 = 13 ∧ 1 ≤ fr ∧ 15 ≤ lo ∧ xRv G YX12_skip (fr - 1) (lo - 15) [rv x0] h (fun h4 => xext h h4 → (((fI h4 x0 3081) < (fI h4 x0 3080) → 1 ≤ fr ∧ 13 ≤ lo ∧ xRi G YX12_byteAt (fr - 1) (lo - 13) [rv x0, .int (fI h4 x0 3081)] h4 (fun x12 h11 => xext h4 h11 → 1 ≤ fr ∧ 12 ≤ lo ∧ xRi G YX12_isLetter (fr - 1) (lo - 12) [.int x12] h11 (fun x17 h16 => xext h11 h16 → ((x17 = 0 → 1 ≤ fr ∧ 12 ≤ lo ∧ xRi G YX12_isDigit (fr - 1) (lo - 12) [.int x12] h16 (fun x23 h22 => xext h16 h22 → ((x23 = 0 → ((¬ x12 = 39 → 1 ≤ fr ∧ 14 ≤ lo ∧ xRi G YX12_byteAt (fr - 1) (lo - 14) [rv x0, .int ((fI h22 x0 3081) + 1)] h22 (fun x33 h32 => xext h22 h32 → 1 ≤ fr ∧ 13 ≤ lo ∧ xRi G YX12_twofold (fr - 1) (lo - 13) [.int x12, .int x33] h32 (fun x38 h37 => xext h32 h37 → 1 ≤ fr ∧ 12 ≤ lo ∧ xRi G YX12_alone (fr - 1) (lo - 12) [.int x12] h37 (fun x43 h42 => xext h37 h42 → ((¬ x43 = (-1) → bX12_read_251 G fr lo x0 (fI h4 x0 3081) x38 x43 h42 Q) ∧ (x43 = (-1) → 1 ≤ fr ∧ 14 ≤ lo ∧ xRv G YX12_stop (fr - 1) (lo - 14) [rv x0, .int 1, .int (fI h4 x0 3081)] h42 (fun h51 => xext h42 h51 → bX12_read_251 G fr lo x0 (fI h4 x0 3081) x38 x43 h51 Q) (fun r h2 => Q (.threw r) h2)))) (fun r h2 => Q (.threw r) h2)) (fun r h2 => Q (.threw r) h2)) (fun r h2 => Q (.threw r) h2)) ∧ (x12 = 39 → 1 ≤ fr ∧ 18 ≤ lo ∧ xRv G YX12_string (fr - 1) (lo - 18) [rv x0, .int (fI h4 x0 3081)] h22 (fun h59 => xext h22 h59 → bX12_read_287 G fr lo h59 Q) (fun r h2 => Q (.threw r) h2)))) ∧ (¬ x23 = 0 → 1 ≤ fr ∧ 24 ≤ lo ∧ xRv G YX12_number (fr - 1) (lo - 24) [rv x0, .int (fI h4 x0 3081)] h22 (fun h67 => xext h22 h67 → bX12_read_287 G fr lo h67 Q) (fun r h2 => Q (.threw r) h2)))) (fun r h2 => Q (.threw r) h2)) ∧ (¬ x17 = 0 → lX12_read_49 G fr lo x0 (fI h4 x0 3081) 0 h16 Q))) (fun r h2 => Q (.threw r) h2)) (fun r h2 => Q (.threw r) h2)) ∧ (¬ (fI h4 x0 3081) < (fI h4 x0 3080) → 1 ≤ fr ∧ 15 ≤ lo ∧ xRv G YX12_lay (fr - 1) (lo - 15) [rv x0, .int 0, .int (fI h4 x0 3080), .int 0] h4 (fun h72 => xext h4 h72 → Q (.returned none) h72) (fun r h2 => Q (.threw r) h2)))) (fun r h2 => Q (.threw r) h2)
set_option maxRecDepth 100000 in
theorem uX12_read {G : xG} {fr lo : Nat} {x0 : Nat} {h : xH} {Q : Outcome → xH → Prop} (hq : bX12_read G fr lo x0 h Q) : xP G YX12_read fr lo 0 [(0, rv x0)] [] h Q := by
  unfold bX12_read at hq
  refine x_aload_n 0 dX12_read_0 rfl ?_
  obtain ⟨g1, hq⟩ := hq
  obtain ⟨g2, g3, hq⟩ := hq
  refine x_callV (Yc := YX12_skip) (as := []) (st := []) q3721 mvX12_skip g1 rfl dX12_read_1 (xle (xal1 (rv_cat _) xal0) (by decide)) (xfr g2) (xlo xsw0 (by decide) g3) (xKv hq (fun h4 hq e6 => ?_) (fun _ _ q _ => q))
  replace hq := hq e6
  refine x_aload_n 0 dX12_read_4 rfl ?_
  have t7 : tg h4 x0 = 13 := e6.tg g1 (by decide)
  refine x_get (v := .int (fI h4 x0 3081)) fdX12_269 dX12_read_5 t7 rfl ?_
  refine x_istore_n (lv' := [(1, .int (fI h4 x0 3081)), (0, rv x0)]) dX12_read_8 (by decide) (by first | rfl | (simp [rv_cat, Value.category]; done) | (simp [rv_cat, Value.category]; decide)) ?_
  refine x_aload_n 1 dX12_read_9 rfl ?_
  refine x_get (v := .int (fI h4 x0 3081)) fdX12_269 dX12_read_10 t7 rfl ?_
  refine x_aload_n 1 dX12_read_13 rfl ?_
  refine x_get (v := .int (fI h4 x0 3080)) fdX12_266 dX12_read_14 t7 rfl ?_
  refine x_icmp_lt (tgt := 31) dX12_read_17 (by decide) (fun c8 => ?_) (fun c8 => ?_)
  · replace hq := hq.1 c8
    refine x_aload_n 1 dX12_read_31 rfl ?_
    refine x_aload_n 1 dX12_read_32 rfl ?_
    refine x_get (v := .int (fI h4 x0 3081)) fdX12_269 dX12_read_33 t7 rfl ?_
    obtain ⟨g9, g10, hq⟩ := hq
    refine x_callV (Yc := YX12_byteAt) (as := [.int (fI h4 x0 3081)]) (st := []) q3725 mvX12_byteAt t7 rfl dX12_read_36 (xle (xal1 (rv_cat _) (xal1 rfl xal0)) (by decide)) (xfr g9) (xlo xsw0 (by decide) g10) (xKi hq (fun x12 h11 hq e13 => ?_) (fun _ _ q _ => q))
    replace hq := hq e13
    refine x_istore_n (lv' := [(2, .int x12), (1, .int (fI h4 x0 3081)), (0, rv x0)]) dX12_read_39 (by decide) rfl ?_
    refine x_iload_n 0 dX12_read_40 rfl ?_
    obtain ⟨g14, g15, hq⟩ := hq
    refine x_callS (Yc := YX12_isLetter) (as := [.int x12]) (st := []) q3739 msX12_isLetter rfl dX12_read_41 (xle (xal1 rfl xal0) (by decide)) (xfr g14) (xlo xsw0 (by decide) g15) (xKi hq (fun x17 h16 hq e18 => ?_) (fun _ _ q _ => q))
    replace hq := hq e18
    refine x_if_eq (tgt := 189) dX12_read_44 (by decide) (fun c19 => ?_) (fun c19 => ?_)
    · replace hq := hq.1 c19
      refine x_iload_n 0 dX12_read_189 rfl ?_
      obtain ⟨g20, g21, hq⟩ := hq
      refine x_callS (Yc := YX12_isDigit) (as := [.int x12]) (st := []) q3742 msX12_isDigit rfl dX12_read_190 (xle (xal1 rfl xal0) (by decide)) (xfr g20) (xlo xsw0 (by decide) g21) (xKi hq (fun x23 h22 hq e24 => ?_) (fun _ _ q _ => q))
      replace hq := hq e24
      refine x_if_eq (tgt := 204) dX12_read_193 (by decide) (fun c25 => ?_) (fun c25 => ?_)
      · replace hq := hq.1 c25
        refine x_iload_n 0 dX12_read_204 rfl ?_
        refine x_bipush (v := 39) dX12_read_205 (by decide) ?_
        refine x_icmp_ne (tgt := 218) dX12_read_207 (by decide) (fun c26 => ?_) (fun c26 => ?_)
        · replace hq := hq.1 c26
          refine x_iload_n 0 dX12_read_218 rfl ?_
          refine x_aload_n 2 dX12_read_219 rfl ?_
          refine x_aload_n 2 dX12_read_220 rfl ?_
          have t27 : tg h11 x0 = 13 := e13.tg t7 (by decide)
          have t28 : tg h16 x0 = 13 := e18.tg t27 (by decide)
          have t29 : tg h22 x0 = 13 := e24.tg t28 (by decide)
          refine x_get (v := .int (fI h22 x0 3081)) fdX12_269 dX12_read_221 t29 rfl ?_
          refine x_iconst (v := 1) dX12_read_224 (by decide) ?_
          refine x_iadd dX12_read_225 ?_
          obtain ⟨g30, g31, hq⟩ := hq
          refine x_callV (Yc := YX12_byteAt) (as := [.int ((fI h22 x0 3081) + 1)]) (st := [.int x12]) q3725 mvX12_byteAt t29 rfl dX12_read_226 (xle (xal1 (rv_cat _) (xal1 rfl xal0)) (by decide)) (xfr g30) (xlo (xsw1 rfl xsw0) (by decide) g31) (xKi hq (fun x33 h32 hq e34 => ?_) (fun _ _ q _ => q))
          replace hq := hq e34
          obtain ⟨g35, g36, hq⟩ := hq
          refine x_callS (Yc := YX12_twofold) (as := [.int x12, .int x33]) (st := []) q3768 msX12_twofold rfl dX12_read_229 (xle (xal1 rfl (xal1 rfl xal0)) (by decide)) (xfr g35) (xlo xsw0 (by decide) g36) (xKi hq (fun x38 h37 hq e39 => ?_) (fun _ _ q _ => q))
          replace hq := hq e39
          refine x_istore_n (lv' := [(3, .int x38), (2, .int x12), (1, .int (fI h4 x0 3081)), (0, rv x0)]) dX12_read_232 (by decide) rfl ?_
          refine x_iload_n 1 dX12_read_233 rfl ?_
          obtain ⟨g40, g41, hq⟩ := hq
          refine x_callS (Yc := YX12_alone) (as := [.int x12]) (st := []) q3771 msX12_alone rfl dX12_read_234 (xle (xal1 rfl xal0) (by decide)) (xfr g40) (xlo xsw0 (by decide) g41) (xKi hq (fun x43 h42 hq e44 => ?_) (fun _ _ q _ => q))
          replace hq := hq e44
          refine x_istore (lv' := [(4, .int x43), (3, .int x38), (2, .int x12), (1, .int (fI h4 x0 3081)), (0, rv x0)]) dX12_read_237 (by decide) rfl ?_
          refine x_iload 0 dX12_read_239 rfl ?_
          refine x_iconst (v := (-1)) dX12_read_241 (by decide) ?_
          refine x_icmp_ne (tgt := 251) dX12_read_242 (by decide) (fun c45 => ?_) (fun c45 => ?_)
          · replace hq := hq.1 c45
            refine xP.pick (lv' := [(0, rv x0), (1, .int (fI h4 x0 3081)), (3, .int x38), (4, .int x43)]) [4, 3, 1, 0] rfl ?_
            exact uX12_read_251 hq
          · replace hq := hq.2 c45
            refine x_aload_n 4 dX12_read_245 rfl ?_
            refine x_iconst (v := 1) dX12_read_246 (by decide) ?_
            refine x_iload_n 3 dX12_read_247 rfl ?_
            have t46 : tg h32 x0 = 13 := e34.tg t29 (by decide)
            have t47 : tg h37 x0 = 13 := e39.tg t46 (by decide)
            have t48 : tg h42 x0 = 13 := e44.tg t47 (by decide)
            obtain ⟨g49, g50, hq⟩ := hq
            refine x_callV (Yc := YX12_stop) (as := [.int 1, .int (fI h4 x0 3081)]) (st := []) q3729 mvX12_stop t48 rfl dX12_read_248 (xle (xal1 (rv_cat _) (xal1 rfl (xal1 rfl xal0))) (by decide)) (xfr g49) (xlo xsw0 (by decide) g50) (xKv hq (fun h51 hq e53 => ?_) (fun _ _ q _ => q))
            replace hq := hq e53
            refine xP.pick (lv' := [(0, rv x0), (1, .int (fI h4 x0 3081)), (3, .int x38), (4, .int x43)]) [4, 3, 1, 0] rfl ?_
            exact uX12_read_251 hq
        · replace hq := hq.2 c26
          refine x_aload_n 2 dX12_read_210 rfl ?_
          refine x_iload_n 1 dX12_read_211 rfl ?_
          have t54 : tg h11 x0 = 13 := e13.tg t7 (by decide)
          have t55 : tg h16 x0 = 13 := e18.tg t54 (by decide)
          have t56 : tg h22 x0 = 13 := e24.tg t55 (by decide)
          obtain ⟨g57, g58, hq⟩ := hq
          refine x_callV (Yc := YX12_string) (as := [.int (fI h4 x0 3081)]) (st := []) q3764 mvX12_string t56 rfl dX12_read_212 (xle (xal1 (rv_cat _) (xal1 rfl xal0)) (by decide)) (xfr g57) (xlo xsw0 (by decide) g58) (xKv hq (fun h59 hq e61 => ?_) (fun _ _ q _ => q))
          replace hq := hq e61
          refine x_goto (tgt := 287) dX12_read_215 (by decide) ?_
          refine xP.pick (lv' := []) [] rfl ?_
          exact uX12_read_287 hq
      · replace hq := hq.2 c25
        refine x_aload_n 2 dX12_read_196 rfl ?_
        refine x_iload_n 1 dX12_read_197 rfl ?_
        have t62 : tg h11 x0 = 13 := e13.tg t7 (by decide)
        have t63 : tg h16 x0 = 13 := e18.tg t62 (by decide)
        have t64 : tg h22 x0 = 13 := e24.tg t63 (by decide)
        obtain ⟨g65, g66, hq⟩ := hq
        refine x_callV (Yc := YX12_number) (as := [.int (fI h4 x0 3081)]) (st := []) q3745 mvX12_number t64 rfl dX12_read_198 (xle (xal1 (rv_cat _) (xal1 rfl xal0)) (by decide)) (xfr g65) (xlo xsw0 (by decide) g66) (xKv hq (fun h67 hq e69 => ?_) (fun _ _ q _ => q))
        replace hq := hq e69
        refine x_goto (tgt := 287) dX12_read_201 (by decide) ?_
        refine xP.pick (lv' := []) [] rfl ?_
        exact uX12_read_287 hq
    · replace hq := hq.2 c19
      refine x_iconst (v := 0) dX12_read_47 (by decide) ?_
      refine x_istore_n (lv' := [(3, .int 0), (2, .int x12), (1, .int (fI h4 x0 3081)), (0, rv x0)]) dX12_read_48 (by decide) rfl ?_
      refine xP.pick (lv' := [(0, rv x0), (1, .int (fI h4 x0 3081)), (3, .int 0)]) [3, 2, 0] rfl ?_
      exact hq
  · replace hq := hq.2 c8
    refine x_aload_n 1 dX12_read_20 rfl ?_
    refine x_iconst (v := 0) dX12_read_21 (by decide) ?_
    refine x_aload_n 1 dX12_read_22 rfl ?_
    refine x_get (v := .int (fI h4 x0 3080)) fdX12_266 dX12_read_23 t7 rfl ?_
    refine x_iconst (v := 0) dX12_read_26 (by decide) ?_
    obtain ⟨g70, g71, hq⟩ := hq
    refine x_callV (Yc := YX12_lay) (as := [.int 0, .int (fI h4 x0 3080), .int 0]) (st := []) q3735 mvX12_lay t7 rfl dX12_read_27 (xle (xal1 (rv_cat _) (xal1 rfl (xal1 rfl (xal1 rfl xal0)))) (by decide)) (xfr g70) (xlo xsw0 (by decide) g71) (xKv hq (fun h72 hq e74 => ?_) (fun _ _ q _ => q))
    replace hq := hq e74
    exact x_vret rfl dX12_read_30 hq
theorem rX12_read {G : xG} {fr lo : Nat} {x0 : Nat} {h : xH} {Q : Outcome → xH → Prop} (hq : bX12_read G fr lo x0 h Q) : xR G YX12_read fr lo [rv x0] h Q := by
  show xP _ _ _ _ _ (lv_args 0 _) _ _ _
  rw [show lv_args 0 [rv x0] = [(0, rv x0)] from (xla1 (rv_cat _) xla0)]
  exact uX12_read hq
set_option maxRecDepth 100000 in
theorem dX12_skip_0 : decode cX12_skip 0 = .ok (.iconst 1, 1) := by decide +kernel
set_option maxRecDepth 100000 in
theorem dX12_skip_1 : decode cX12_skip 1 = .ok (.istore_n 1, 1) := by decide +kernel
set_option maxRecDepth 100000 in
theorem dX12_skip_2 : decode cX12_skip 2 = .ok (.iload_n 1, 1) := by decide +kernel
set_option maxRecDepth 100000 in
theorem dX12_skip_3 : decode cX12_skip 3 = .ok (.ifCond .eq 280, 3) := by decide +kernel
set_option maxRecDepth 100000 in
theorem dX12_skip_6 : decode cX12_skip 6 = .ok (.aload_n 0, 1) := by decide +kernel
set_option maxRecDepth 100000 in
theorem dX12_skip_7 : decode cX12_skip 7 = .ok (.getfield 269, 3) := by decide +kernel
set_option maxRecDepth 100000 in
theorem dX12_skip_10 : decode cX12_skip 10 = .ok (.aload_n 0, 1) := by decide +kernel
set_option maxRecDepth 100000 in
theorem dX12_skip_11 : decode cX12_skip 11 = .ok (.getfield 266, 3) := by decide +kernel
set_option maxRecDepth 100000 in
theorem dX12_skip_14 : decode cX12_skip 14 = .ok (.if_icmp .ge 44, 3) := by decide +kernel
set_option maxRecDepth 100000 in
theorem dX12_skip_17 : decode cX12_skip 17 = .ok (.aload_n 0, 1) := by decide +kernel
set_option maxRecDepth 100000 in
theorem dX12_skip_18 : decode cX12_skip 18 = .ok (.getfield 23, 3) := by decide +kernel
set_option maxRecDepth 100000 in
theorem dX12_skip_21 : decode cX12_skip 21 = .ok (.aload_n 0, 1) := by decide +kernel
set_option maxRecDepth 100000 in
theorem dX12_skip_22 : decode cX12_skip 22 = .ok (.getfield 269, 3) := by decide +kernel
set_option maxRecDepth 100000 in
theorem dX12_skip_25 : decode cX12_skip 25 = .ok (.baload, 1) := by decide +kernel
set_option maxRecDepth 100000 in
theorem dX12_skip_26 : decode cX12_skip 26 = .ok (.bipush 10, 2) := by decide +kernel
set_option maxRecDepth 100000 in
theorem dX12_skip_28 : decode cX12_skip 28 = .ok (.if_icmp .eq 17, 3) := by decide +kernel
set_option maxRecDepth 100000 in
theorem dX12_skip_31 : decode cX12_skip 31 = .ok (.aload_n 0, 1) := by decide +kernel
set_option maxRecDepth 100000 in
theorem dX12_skip_32 : decode cX12_skip 32 = .ok (.getfield 23, 3) := by decide +kernel
set_option maxRecDepth 100000 in
theorem dX12_skip_35 : decode cX12_skip 35 = .ok (.aload_n 0, 1) := by decide +kernel
set_option maxRecDepth 100000 in
theorem dX12_skip_36 : decode cX12_skip 36 = .ok (.getfield 269, 3) := by decide +kernel
set_option maxRecDepth 100000 in
theorem dX12_skip_39 : decode cX12_skip 39 = .ok (.baload, 1) := by decide +kernel
set_option maxRecDepth 100000 in
theorem dX12_skip_40 : decode cX12_skip 40 = .ok (.bipush 32, 2) := by decide +kernel
set_option maxRecDepth 100000 in
theorem dX12_skip_42 : decode cX12_skip 42 = .ok (.if_icmp .ne 16, 3) := by decide +kernel
set_option maxRecDepth 100000 in
theorem dX12_skip_45 : decode cX12_skip 45 = .ok (.aload_n 0, 1) := by decide +kernel
set_option maxRecDepth 100000 in
theorem dX12_skip_46 : decode cX12_skip 46 = .ok (.dup, 1) := by decide +kernel
set_option maxRecDepth 100000 in
theorem dX12_skip_47 : decode cX12_skip 47 = .ok (.getfield 269, 3) := by decide +kernel
set_option maxRecDepth 100000 in
theorem dX12_skip_50 : decode cX12_skip 50 = .ok (.iconst 1, 1) := by decide +kernel
set_option maxRecDepth 100000 in
theorem dX12_skip_51 : decode cX12_skip 51 = .ok (.iadd, 1) := by decide +kernel
set_option maxRecDepth 100000 in
theorem dX12_skip_52 : decode cX12_skip 52 = .ok (.putfield 269, 3) := by decide +kernel
set_option maxRecDepth 100000 in
theorem dX12_skip_55 : decode cX12_skip 55 = .ok (.goto (-49), 3) := by decide +kernel
set_option maxRecDepth 100000 in
theorem dX12_skip_58 : decode cX12_skip 58 = .ok (.aload_n 0, 1) := by decide +kernel
set_option maxRecDepth 100000 in
theorem dX12_skip_59 : decode cX12_skip 59 = .ok (.aload_n 0, 1) := by decide +kernel
set_option maxRecDepth 100000 in
theorem dX12_skip_60 : decode cX12_skip 60 = .ok (.getfield 269, 3) := by decide +kernel
set_option maxRecDepth 100000 in
theorem dX12_skip_63 : decode cX12_skip 63 = .ok (.invokevirtual 272, 3) := by decide +kernel
set_option maxRecDepth 100000 in
theorem dX12_skip_66 : decode cX12_skip 66 = .ok (.bipush 40, 2) := by decide +kernel
set_option maxRecDepth 100000 in
theorem dX12_skip_68 : decode cX12_skip 68 = .ok (.if_icmp .ne 35, 3) := by decide +kernel
set_option maxRecDepth 100000 in
theorem dX12_skip_71 : decode cX12_skip 71 = .ok (.aload_n 0, 1) := by decide +kernel
set_option maxRecDepth 100000 in
theorem dX12_skip_72 : decode cX12_skip 72 = .ok (.aload_n 0, 1) := by decide +kernel
set_option maxRecDepth 100000 in
theorem dX12_skip_73 : decode cX12_skip 73 = .ok (.getfield 269, 3) := by decide +kernel
set_option maxRecDepth 100000 in
theorem dX12_skip_76 : decode cX12_skip 76 = .ok (.iconst 1, 1) := by decide +kernel
set_option maxRecDepth 100000 in
theorem dX12_skip_77 : decode cX12_skip 77 = .ok (.iadd, 1) := by decide +kernel
set_option maxRecDepth 100000 in
theorem dX12_skip_78 : decode cX12_skip 78 = .ok (.invokevirtual 272, 3) := by decide +kernel
set_option maxRecDepth 100000 in
theorem dX12_skip_81 : decode cX12_skip 81 = .ok (.bipush 42, 2) := by decide +kernel
set_option maxRecDepth 100000 in
theorem dX12_skip_83 : decode cX12_skip 83 = .ok (.if_icmp .ne 20, 3) := by decide +kernel
set_option maxRecDepth 100000 in
theorem dX12_skip_86 : decode cX12_skip 86 = .ok (.aload_n 0, 1) := by decide +kernel
set_option maxRecDepth 100000 in
theorem dX12_skip_87 : decode cX12_skip 87 = .ok (.getfield 269, 3) := by decide +kernel
set_option maxRecDepth 100000 in
theorem dX12_skip_90 : decode cX12_skip 90 = .ok (.iconst 1, 1) := by decide +kernel
set_option maxRecDepth 100000 in
theorem dX12_skip_91 : decode cX12_skip 91 = .ok (.iadd, 1) := by decide +kernel
set_option maxRecDepth 100000 in
theorem dX12_skip_92 : decode cX12_skip 92 = .ok (.aload_n 0, 1) := by decide +kernel
set_option maxRecDepth 100000 in
theorem dX12_skip_93 : decode cX12_skip 93 = .ok (.getfield 266, 3) := by decide +kernel
set_option maxRecDepth 100000 in
theorem dX12_skip_96 : decode cX12_skip 96 = .ok (.if_icmp .ge 7, 3) := by decide +kernel
set_option maxRecDepth 100000 in
theorem dX12_skip_99 : decode cX12_skip 99 = .ok (.iconst 1, 1) := by decide +kernel
set_option maxRecDepth 100000 in
theorem dX12_skip_100 : decode cX12_skip 100 = .ok (.goto 4, 3) := by decide +kernel
set_option maxRecDepth 100000 in
theorem dX12_skip_103 : decode cX12_skip 103 = .ok (.iconst 0, 1) := by decide +kernel
set_option maxRecDepth 100000 in
theorem dX12_skip_104 : decode cX12_skip 104 = .ok (.istore_n 2, 1) := by decide +kernel
set_option maxRecDepth 100000 in
theorem dX12_skip_105 : decode cX12_skip 105 = .ok (.aload_n 0, 1) := by decide +kernel
set_option maxRecDepth 100000 in
theorem dX12_skip_106 : decode cX12_skip 106 = .ok (.getfield 269, 3) := by decide +kernel
set_option maxRecDepth 100000 in
theorem dX12_skip_109 : decode cX12_skip 109 = .ok (.aload_n 0, 1) := by decide +kernel
set_option maxRecDepth 100000 in
theorem dX12_skip_110 : decode cX12_skip 110 = .ok (.getfield 266, 3) := by decide +kernel
set_option maxRecDepth 100000 in
theorem dX12_skip_113 : decode cX12_skip 113 = .ok (.if_icmp .ge 17, 3) := by decide +kernel
set_option maxRecDepth 100000 in
theorem dX12_skip_116 : decode cX12_skip 116 = .ok (.aload_n 0, 1) := by decide +kernel
set_option maxRecDepth 100000 in
theorem dX12_skip_117 : decode cX12_skip 117 = .ok (.getfield 23, 3) := by decide +kernel
set_option maxRecDepth 100000 in
theorem dX12_skip_120 : decode cX12_skip 120 = .ok (.aload_n 0, 1) := by decide +kernel
set_option maxRecDepth 100000 in
theorem dX12_skip_121 : decode cX12_skip 121 = .ok (.getfield 269, 3) := by decide +kernel
set_option maxRecDepth 100000 in
theorem dX12_skip_124 : decode cX12_skip 124 = .ok (.baload, 1) := by decide +kernel
set_option maxRecDepth 100000 in
theorem dX12_skip_125 : decode cX12_skip 125 = .ok (.bipush 123, 2) := by decide +kernel
set_option maxRecDepth 100000 in
theorem dX12_skip_127 : decode cX12_skip 127 = .ok (.if_icmp .eq 7, 3) := by decide +kernel
set_option maxRecDepth 100000 in
theorem dX12_skip_130 : decode cX12_skip 130 = .ok (.iload_n 2, 1) := by decide +kernel
set_option maxRecDepth 100000 in
theorem dX12_skip_131 : decode cX12_skip 131 = .ok (.ifCond .eq 7, 3) := by decide +kernel
set_option maxRecDepth 100000 in
theorem dX12_skip_134 : decode cX12_skip 134 = .ok (.iconst 1, 1) := by decide +kernel
set_option maxRecDepth 100000 in
theorem dX12_skip_135 : decode cX12_skip 135 = .ok (.goto 4, 3) := by decide +kernel
set_option maxRecDepth 100000 in
theorem dX12_skip_138 : decode cX12_skip 138 = .ok (.iconst 0, 1) := by decide +kernel
set_option maxRecDepth 100000 in
theorem dX12_skip_139 : decode cX12_skip 139 = .ok (.istore_n 1, 1) := by decide +kernel
set_option maxRecDepth 100000 in
theorem dX12_skip_140 : decode cX12_skip 140 = .ok (.iload_n 1, 1) := by decide +kernel
set_option maxRecDepth 100000 in
theorem dX12_skip_141 : decode cX12_skip 141 = .ok (.ifCond .ne 4, 3) := by decide +kernel
set_option maxRecDepth 100000 in
theorem dX12_skip_144 : decode cX12_skip 144 = .ok (.return_, 1) := by decide +kernel
set_option maxRecDepth 100000 in
theorem dX12_skip_145 : decode cX12_skip 145 = .ok (.aload_n 0, 1) := by decide +kernel
set_option maxRecDepth 100000 in
theorem dX12_skip_146 : decode cX12_skip 146 = .ok (.getfield 269, 3) := by decide +kernel
set_option maxRecDepth 100000 in
theorem dX12_skip_149 : decode cX12_skip 149 = .ok (.istore_n 3, 1) := by decide +kernel
set_option maxRecDepth 100000 in
theorem dX12_skip_150 : decode cX12_skip 150 = .ok (.aload_n 0, 1) := by decide +kernel
set_option maxRecDepth 100000 in
theorem dX12_skip_151 : decode cX12_skip 151 = .ok (.dup, 1) := by decide +kernel
set_option maxRecDepth 100000 in
theorem dX12_skip_152 : decode cX12_skip 152 = .ok (.getfield 269, 3) := by decide +kernel
set_option maxRecDepth 100000 in
theorem dX12_skip_155 : decode cX12_skip 155 = .ok (.iload_n 2, 1) := by decide +kernel
set_option maxRecDepth 100000 in
theorem dX12_skip_156 : decode cX12_skip 156 = .ok (.ifCond .eq 7, 3) := by decide +kernel
set_option maxRecDepth 100000 in
theorem dX12_skip_159 : decode cX12_skip 159 = .ok (.iconst 2, 1) := by decide +kernel
set_option maxRecDepth 100000 in
theorem dX12_skip_160 : decode cX12_skip 160 = .ok (.goto 4, 3) := by decide +kernel
set_option maxRecDepth 100000 in
theorem dX12_skip_163 : decode cX12_skip 163 = .ok (.iconst 1, 1) := by decide +kernel
set_option maxRecDepth 100000 in
theorem dX12_skip_164 : decode cX12_skip 164 = .ok (.iadd, 1) := by decide +kernel
set_option maxRecDepth 100000 in
theorem dX12_skip_165 : decode cX12_skip 165 = .ok (.putfield 269, 3) := by decide +kernel
set_option maxRecDepth 100000 in
theorem dX12_skip_168 : decode cX12_skip 168 = .ok (.aload_n 0, 1) := by decide +kernel
set_option maxRecDepth 100000 in
theorem dX12_skip_169 : decode cX12_skip 169 = .ok (.getfield 269, 3) := by decide +kernel
set_option maxRecDepth 100000 in
theorem dX12_skip_172 : decode cX12_skip 172 = .ok (.aload_n 0, 1) := by decide +kernel
set_option maxRecDepth 100000 in
theorem dX12_skip_173 : decode cX12_skip 173 = .ok (.getfield 266, 3) := by decide +kernel
set_option maxRecDepth 100000 in
theorem dX12_skip_176 : decode cX12_skip 176 = .ok (.if_icmp .ge 59, 3) := by decide +kernel
set_option maxRecDepth 100000 in
theorem dX12_skip_179 : decode cX12_skip 179 = .ok (.aload_n 0, 1) := by decide +kernel
set_option maxRecDepth 100000 in
theorem dX12_skip_180 : decode cX12_skip 180 = .ok (.getfield 23, 3) := by decide +kernel
set_option maxRecDepth 100000 in
theorem dX12_skip_183 : decode cX12_skip 183 = .ok (.aload_n 0, 1) := by decide +kernel
set_option maxRecDepth 100000 in
theorem dX12_skip_184 : decode cX12_skip 184 = .ok (.getfield 269, 3) := by decide +kernel
set_option maxRecDepth 100000 in
theorem dX12_skip_187 : decode cX12_skip 187 = .ok (.baload, 1) := by decide +kernel
set_option maxRecDepth 100000 in
theorem dX12_skip_188 : decode cX12_skip 188 = .ok (.bipush 125, 2) := by decide +kernel
set_option maxRecDepth 100000 in
theorem dX12_skip_190 : decode cX12_skip 190 = .ok (.if_icmp .eq 45, 3) := by decide +kernel
set_option maxRecDepth 100000 in
theorem dX12_skip_193 : decode cX12_skip 193 = .ok (.aload_n 0, 1) := by decide +kernel
set_option maxRecDepth 100000 in
theorem dX12_skip_194 : decode cX12_skip 194 = .ok (.getfield 23, 3) := by decide +kernel
set_option maxRecDepth 100000 in
theorem dX12_skip_197 : decode cX12_skip 197 = .ok (.aload_n 0, 1) := by decide +kernel
set_option maxRecDepth 100000 in
theorem dX12_skip_198 : decode cX12_skip 198 = .ok (.getfield 269, 3) := by decide +kernel
set_option maxRecDepth 100000 in
theorem dX12_skip_201 : decode cX12_skip 201 = .ok (.baload, 1) := by decide +kernel
set_option maxRecDepth 100000 in
theorem dX12_skip_202 : decode cX12_skip 202 = .ok (.bipush 42, 2) := by decide +kernel
set_option maxRecDepth 100000 in
theorem dX12_skip_204 : decode cX12_skip 204 = .ok (.if_icmp .ne 18, 3) := by decide +kernel
set_option maxRecDepth 100000 in
theorem dX12_skip_207 : decode cX12_skip 207 = .ok (.aload_n 0, 1) := by decide +kernel
set_option maxRecDepth 100000 in
theorem dX12_skip_208 : decode cX12_skip 208 = .ok (.aload_n 0, 1) := by decide +kernel
set_option maxRecDepth 100000 in
theorem dX12_skip_209 : decode cX12_skip 209 = .ok (.getfield 269, 3) := by decide +kernel
set_option maxRecDepth 100000 in
theorem dX12_skip_212 : decode cX12_skip 212 = .ok (.iconst 1, 1) := by decide +kernel
set_option maxRecDepth 100000 in
theorem dX12_skip_213 : decode cX12_skip 213 = .ok (.iadd, 1) := by decide +kernel
set_option maxRecDepth 100000 in
theorem dX12_skip_214 : decode cX12_skip 214 = .ok (.invokevirtual 272, 3) := by decide +kernel
set_option maxRecDepth 100000 in
theorem dX12_skip_217 : decode cX12_skip 217 = .ok (.bipush 41, 2) := by decide +kernel
set_option maxRecDepth 100000 in
theorem dX12_skip_219 : decode cX12_skip 219 = .ok (.if_icmp .eq 16, 3) := by decide +kernel
set_option maxRecDepth 100000 in
theorem dX12_skip_222 : decode cX12_skip 222 = .ok (.aload_n 0, 1) := by decide +kernel
set_option maxRecDepth 100000 in
theorem dX12_skip_223 : decode cX12_skip 223 = .ok (.dup, 1) := by decide +kernel
set_option maxRecDepth 100000 in
theorem dX12_skip_224 : decode cX12_skip 224 = .ok (.getfield 269, 3) := by decide +kernel
set_option maxRecDepth 100000 in
theorem dX12_skip_227 : decode cX12_skip 227 = .ok (.iconst 1, 1) := by decide +kernel
set_option maxRecDepth 100000 in
theorem dX12_skip_228 : decode cX12_skip 228 = .ok (.iadd, 1) := by decide +kernel
set_option maxRecDepth 100000 in
theorem dX12_skip_229 : decode cX12_skip 229 = .ok (.putfield 269, 3) := by decide +kernel
set_option maxRecDepth 100000 in
theorem dX12_skip_232 : decode cX12_skip 232 = .ok (.goto (-64), 3) := by decide +kernel
set_option maxRecDepth 100000 in
theorem dX12_skip_235 : decode cX12_skip 235 = .ok (.aload_n 0, 1) := by decide +kernel
set_option maxRecDepth 100000 in
theorem dX12_skip_236 : decode cX12_skip 236 = .ok (.getfield 269, 3) := by decide +kernel
set_option maxRecDepth 100000 in
theorem dX12_skip_239 : decode cX12_skip 239 = .ok (.aload_n 0, 1) := by decide +kernel
set_option maxRecDepth 100000 in
theorem dX12_skip_240 : decode cX12_skip 240 = .ok (.getfield 266, 3) := by decide +kernel
set_option maxRecDepth 100000 in
theorem dX12_skip_243 : decode cX12_skip 243 = .ok (.if_icmp .lt 9, 3) := by decide +kernel
set_option maxRecDepth 100000 in
theorem dX12_skip_246 : decode cX12_skip 246 = .ok (.aload_n 0, 1) := by decide +kernel
set_option maxRecDepth 100000 in
theorem dX12_skip_247 : decode cX12_skip 247 = .ok (.iconst 1, 1) := by decide +kernel
set_option maxRecDepth 100000 in
theorem dX12_skip_248 : decode cX12_skip 248 = .ok (.iload_n 3, 1) := by decide +kernel
set_option maxRecDepth 100000 in
theorem dX12_skip_249 : decode cX12_skip 249 = .ok (.invokevirtual 276, 3) := by decide +kernel
set_option maxRecDepth 100000 in
theorem dX12_skip_252 : decode cX12_skip 252 = .ok (.aload_n 0, 1) := by decide +kernel
set_option maxRecDepth 100000 in
theorem dX12_skip_253 : decode cX12_skip 253 = .ok (.dup, 1) := by decide +kernel
set_option maxRecDepth 100000 in
theorem dX12_skip_254 : decode cX12_skip 254 = .ok (.getfield 269, 3) := by decide +kernel
set_option maxRecDepth 100000 in
theorem dX12_skip_257 : decode cX12_skip 257 = .ok (.aload_n 0, 1) := by decide +kernel
set_option maxRecDepth 100000 in
theorem dX12_skip_258 : decode cX12_skip 258 = .ok (.getfield 23, 3) := by decide +kernel
set_option maxRecDepth 100000 in
theorem dX12_skip_261 : decode cX12_skip 261 = .ok (.aload_n 0, 1) := by decide +kernel
set_option maxRecDepth 100000 in
theorem dX12_skip_262 : decode cX12_skip 262 = .ok (.getfield 269, 3) := by decide +kernel
set_option maxRecDepth 100000 in
theorem dX12_skip_265 : decode cX12_skip 265 = .ok (.baload, 1) := by decide +kernel
set_option maxRecDepth 100000 in
theorem dX12_skip_266 : decode cX12_skip 266 = .ok (.bipush 125, 2) := by decide +kernel
set_option maxRecDepth 100000 in
theorem dX12_skip_268 : decode cX12_skip 268 = .ok (.if_icmp .ne 7, 3) := by decide +kernel
set_option maxRecDepth 100000 in
theorem dX12_skip_271 : decode cX12_skip 271 = .ok (.iconst 1, 1) := by decide +kernel
set_option maxRecDepth 100000 in
theorem dX12_skip_272 : decode cX12_skip 272 = .ok (.goto 4, 3) := by decide +kernel
set_option maxRecDepth 100000 in
theorem dX12_skip_275 : decode cX12_skip 275 = .ok (.iconst 2, 1) := by decide +kernel
set_option maxRecDepth 100000 in
theorem dX12_skip_276 : decode cX12_skip 276 = .ok (.iadd, 1) := by decide +kernel
set_option maxRecDepth 100000 in
theorem dX12_skip_277 : decode cX12_skip 277 = .ok (.putfield 269, 3) := by decide +kernel
set_option maxRecDepth 100000 in
theorem dX12_skip_280 : decode cX12_skip 280 = .ok (.goto (-278), 3) := by decide +kernel
set_option maxRecDepth 100000 in
theorem dX12_skip_283 : decode cX12_skip 283 = .ok (.return_, 1) := by decide +kernel
def lX12_skip_2 (G : xG) (fr lo : Nat) (x0 : Nat) (x1 : Int32) (h : xH) (Q : Outcome → xH → Prop) : Prop := xP G YX12_skip fr lo 2 [(0, rv x0), (1, .int x1)] [] h Q
def lX12_skip_6 (G : xG) (fr lo : Nat) (x0 : Nat) (h : xH) (Q : Outcome → xH → Prop) : Prop := xP G YX12_skip fr lo 6 [(0, rv x0)] [] h Q
def lX12_skip_168 (G : xG) (fr lo : Nat) (x0 : Nat) (x1 : Int32) (x3 : Int32) (h : xH) (Q : Outcome → xH → Prop) : Prop := xP G YX12_skip fr lo 168 [(0, rv x0), (1, .int x1), (3, .int x3)] [] h Q
set_option maxRecDepth 100000 in
def bX12_skip_276 (G : xG) (fr lo : Nat) (x0 : Nat) (x1 : Int32) (s0 : Int32) (s1 : Int32) (s2 : Nat) (h : xH) (Q : Outcome → xH → Prop) : Prop := tg h s2 = 13 ∧ (∀ h2 : xH, h2 = sI h s2 3081 (s1 + s0) → lX12_skip_2 G fr lo x0 x1 h2 Q)
set_option maxRecDepth 100000 in
theorem uX12_skip_276 {G : xG} {fr lo : Nat} {x0 : Nat} {x1 : Int32} {s0 : Int32} {s1 : Int32} {s2 : Nat} {h : xH} {Q : Outcome → xH → Prop} (hq : bX12_skip_276 G fr lo x0 x1 s0 s1 s2 h Q) : xP G YX12_skip fr lo 276 [(0, rv x0), (1, .int x1)] [.int s0, .int s1, rv s2] h Q := by
  unfold bX12_skip_276 at hq
  refine x_iadd dX12_skip_276 ?_
  obtain ⟨g1, hq⟩ := hq
  obtain ⟨h2, e3⟩ : ∃ y, y = sI h s2 3081 (s1 + s0) := ⟨_, rfl⟩
  replace hq := hq h2 e3
  refine x_putI fdX12_269 xty_I1 dX12_skip_277 g1 (Or.inl (by rw [g1]; rfl)) xnI rfl e3 ?_
  refine x_goto (tgt := 2) dX12_skip_280 (by decide) ?_
  exact hq
set_option maxRecDepth 100000 in
def bX12_skip_252 (G : xG) (fr lo : Nat) (x0 : Nat) (x1 : Int32) (h : xH) (Q : Outcome → xH → Prop) : Prop := tg h x0 = 13 ∧ tg h (fR h x0 3079) = 103 ∧ vp_in (fI h x0 3081) (ln h (fR h x0 3079)) ∧ ((¬ (aI h (fR h x0 3079) (Int32.toNatClampNeg (fI h x0 3081))) = 125 → bX12_skip_276 G fr lo x0 x1 2 (fI h x0 3081) x0 h Q) ∧ ((aI h (fR h x0 3079) (Int32.toNatClampNeg (fI h x0 3081))) = 125 → bX12_skip_276 G fr lo x0 x1 1 (fI h x0 3081) x0 h Q))
set_option maxRecDepth 100000 in
theorem uX12_skip_252 {G : xG} {fr lo : Nat} {x0 : Nat} {x1 : Int32} {h : xH} {Q : Outcome → xH → Prop} (hq : bX12_skip_252 G fr lo x0 x1 h Q) : xP G YX12_skip fr lo 252 [(0, rv x0), (1, .int x1)] [] h Q := by
  unfold bX12_skip_252 at hq
  refine x_aload_n 0 dX12_skip_252 rfl ?_
  refine x_dup dX12_skip_253 (rv_cat _) ?_
  obtain ⟨g1, hq⟩ := hq
  refine x_get (v := .int (fI h x0 3081)) fdX12_269 dX12_skip_254 g1 rfl ?_
  refine x_aload_n 0 dX12_skip_257 rfl ?_
  refine x_get (v := rv (fR h x0 3079)) fdX12_23 dX12_skip_258 g1 rfl ?_
  refine x_aload_n 0 dX12_skip_261 rfl ?_
  refine x_get (v := .int (fI h x0 3081)) fdX12_269 dX12_skip_262 g1 rfl ?_
  obtain ⟨g2, hq⟩ := hq
  obtain ⟨i3, hq⟩ := hq
  refine x_bald g2 i3 dX12_skip_265 ?_
  refine x_bipush (v := 125) dX12_skip_266 (by decide) ?_
  refine x_icmp_ne (tgt := 275) dX12_skip_268 (by decide) (fun c4 => ?_) (fun c4 => ?_)
  · replace hq := hq.1 c4
    refine x_iconst (v := 2) dX12_skip_275 (by decide) ?_
    exact uX12_skip_276 hq
  · replace hq := hq.2 c4
    refine x_iconst (v := 1) dX12_skip_271 (by decide) ?_
    refine x_goto (tgt := 276) dX12_skip_272 (by decide) ?_
    exact uX12_skip_276 hq
set_option maxRecDepth 100000 in
def bX12_skip_235 (G : xG) (fr lo : Nat) (x0 : Nat) (x1 : Int32) (x3 : Int32) (h : xH) (Q : Outcome → xH → Prop) : Prop := tg h x0 = 13 ∧ (((fI h x0 3081) < (fI h x0 3080) → bX12_skip_252 G fr lo x0 x1 h Q) ∧ (¬ (fI h x0 3081) < (fI h x0 3080) → 1 ≤ fr ∧ 14 ≤ lo ∧ xRv G YX12_stop (fr - 1) (lo - 14) [rv x0, .int 1, .int x3] h (fun h5 => xext h h5 → bX12_skip_252 G fr lo x0 x1 h5 Q) (fun r h2 => Q (.threw r) h2)))
set_option maxRecDepth 100000 in
theorem uX12_skip_235 {G : xG} {fr lo : Nat} {x0 : Nat} {x1 : Int32} {x3 : Int32} {h : xH} {Q : Outcome → xH → Prop} (hq : bX12_skip_235 G fr lo x0 x1 x3 h Q) : xP G YX12_skip fr lo 235 [(0, rv x0), (1, .int x1), (3, .int x3)] [] h Q := by
  unfold bX12_skip_235 at hq
  refine x_aload_n 0 dX12_skip_235 rfl ?_
  obtain ⟨g1, hq⟩ := hq
  refine x_get (v := .int (fI h x0 3081)) fdX12_269 dX12_skip_236 g1 rfl ?_
  refine x_aload_n 0 dX12_skip_239 rfl ?_
  refine x_get (v := .int (fI h x0 3080)) fdX12_266 dX12_skip_240 g1 rfl ?_
  refine x_icmp_lt (tgt := 252) dX12_skip_243 (by decide) (fun c2 => ?_) (fun c2 => ?_)
  · replace hq := hq.1 c2
    refine xP.pick (lv' := [(0, rv x0), (1, .int x1)]) [0, 1] rfl ?_
    exact uX12_skip_252 hq
  · replace hq := hq.2 c2
    refine x_aload_n 0 dX12_skip_246 rfl ?_
    refine x_iconst (v := 1) dX12_skip_247 (by decide) ?_
    refine x_iload_n 2 dX12_skip_248 rfl ?_
    obtain ⟨g3, g4, hq⟩ := hq
    refine x_callV (Yc := YX12_stop) (as := [.int 1, .int x3]) (st := []) q3729 mvX12_stop g1 rfl dX12_skip_249 (xle (xal1 (rv_cat _) (xal1 rfl (xal1 rfl xal0))) (by decide)) (xfr g3) (xlo xsw0 (by decide) g4) (xKv hq (fun h5 hq e7 => ?_) (fun _ _ q _ => q))
    replace hq := hq e7
    refine xP.pick (lv' := [(0, rv x0), (1, .int x1)]) [0, 1] rfl ?_
    exact uX12_skip_252 hq
set_option maxRecDepth 100000 in
def bX12_skip_222 (G : xG) (fr lo : Nat) (x0 : Nat) (x1 : Int32) (x3 : Int32) (h : xH) (Q : Outcome → xH → Prop) : Prop := tg h x0 = 13 ∧ (∀ h2 : xH, h2 = sI h x0 3081 ((fI h x0 3081) + 1) → lX12_skip_168 G fr lo x0 x1 x3 h2 Q)
set_option maxRecDepth 100000 in
theorem uX12_skip_222 {G : xG} {fr lo : Nat} {x0 : Nat} {x1 : Int32} {x3 : Int32} {h : xH} {Q : Outcome → xH → Prop} (hq : bX12_skip_222 G fr lo x0 x1 x3 h Q) : xP G YX12_skip fr lo 222 [(0, rv x0), (1, .int x1), (3, .int x3)] [] h Q := by
  unfold bX12_skip_222 at hq
  refine x_aload_n 0 dX12_skip_222 rfl ?_
  refine x_dup dX12_skip_223 (rv_cat _) ?_
  obtain ⟨g1, hq⟩ := hq
  refine x_get (v := .int (fI h x0 3081)) fdX12_269 dX12_skip_224 g1 rfl ?_
  refine x_iconst (v := 1) dX12_skip_227 (by decide) ?_
  refine x_iadd dX12_skip_228 ?_
  obtain ⟨h2, e3⟩ : ∃ y, y = sI h x0 3081 ((fI h x0 3081) + 1) := ⟨_, rfl⟩
  replace hq := hq h2 e3
  refine x_putI fdX12_269 xty_I1 dX12_skip_229 g1 (Or.inl (by rw [g1]; rfl)) xnI rfl e3 ?_
  refine x_goto (tgt := 168) dX12_skip_232 (by decide) ?_
  exact hq
set_option maxRecDepth 100000 in
def bX12_skip_168 (G : xG) (fr lo : Nat) (x0 : Nat) (x1 : Int32) (x3 : Int32) (h : xH) (Q : Outcome → xH → Prop) : Prop := tg h x0 = 13 ∧ (((fI h x0 3080) ≤ (fI h x0 3081) → bX12_skip_235 G fr lo x0 x1 x3 h Q) ∧ (¬ (fI h x0 3080) ≤ (fI h x0 3081) → tg h (fR h x0 3079) = 103 ∧ vp_in (fI h x0 3081) (ln h (fR h x0 3079)) ∧ (((aI h (fR h x0 3079) (Int32.toNatClampNeg (fI h x0 3081))) = 125 → bX12_skip_235 G fr lo x0 x1 x3 h Q) ∧ (¬ (aI h (fR h x0 3079) (Int32.toNatClampNeg (fI h x0 3081))) = 125 → vp_in (fI h x0 3081) (ln h (fR h x0 3079)) ∧ ((¬ (aI h (fR h x0 3079) (Int32.toNatClampNeg (fI h x0 3081))) = 42 → bX12_skip_222 G fr lo x0 x1 x3 h Q) ∧ ((aI h (fR h x0 3079) (Int32.toNatClampNeg (fI h x0 3081))) = 42 → 1 ≤ fr ∧ 13 ≤ lo ∧ xRi G YX12_byteAt (fr - 1) (lo - 13) [rv x0, .int ((fI h x0 3081) + 1)] h (fun x11 h10 => xext h h10 → ((x11 = 41 → bX12_skip_235 G fr lo x0 x1 x3 h10 Q) ∧ (¬ x11 = 41 → bX12_skip_222 G fr lo x0 x1 x3 h10 Q))) (fun r h2 => Q (.threw r) h2)))))))
set_option maxRecDepth 100000 in
theorem uX12_skip_168 {G : xG} {fr lo : Nat} {x0 : Nat} {x1 : Int32} {x3 : Int32} {h : xH} {Q : Outcome → xH → Prop} (hq : bX12_skip_168 G fr lo x0 x1 x3 h Q) : xP G YX12_skip fr lo 168 [(0, rv x0), (1, .int x1), (3, .int x3)] [] h Q := by
  unfold bX12_skip_168 at hq
  refine x_aload_n 0 dX12_skip_168 rfl ?_
  obtain ⟨g1, hq⟩ := hq
  refine x_get (v := .int (fI h x0 3081)) fdX12_269 dX12_skip_169 g1 rfl ?_
  refine x_aload_n 0 dX12_skip_172 rfl ?_
  refine x_get (v := .int (fI h x0 3080)) fdX12_266 dX12_skip_173 g1 rfl ?_
  refine x_icmp_ge (tgt := 235) dX12_skip_176 (by decide) (fun c2 => ?_) (fun c2 => ?_)
  · replace hq := hq.1 c2
    exact uX12_skip_235 hq
  · replace hq := hq.2 c2
    refine x_aload_n 0 dX12_skip_179 rfl ?_
    refine x_get (v := rv (fR h x0 3079)) fdX12_23 dX12_skip_180 g1 rfl ?_
    refine x_aload_n 0 dX12_skip_183 rfl ?_
    refine x_get (v := .int (fI h x0 3081)) fdX12_269 dX12_skip_184 g1 rfl ?_
    obtain ⟨g3, hq⟩ := hq
    obtain ⟨i4, hq⟩ := hq
    refine x_bald g3 i4 dX12_skip_187 ?_
    refine x_bipush (v := 125) dX12_skip_188 (by decide) ?_
    refine x_icmp_eq (tgt := 235) dX12_skip_190 (by decide) (fun c5 => ?_) (fun c5 => ?_)
    · replace hq := hq.1 c5
      exact uX12_skip_235 hq
    · replace hq := hq.2 c5
      refine x_aload_n 0 dX12_skip_193 rfl ?_
      refine x_get (v := rv (fR h x0 3079)) fdX12_23 dX12_skip_194 g1 rfl ?_
      refine x_aload_n 0 dX12_skip_197 rfl ?_
      refine x_get (v := .int (fI h x0 3081)) fdX12_269 dX12_skip_198 g1 rfl ?_
      obtain ⟨i6, hq⟩ := hq
      refine x_bald g3 i6 dX12_skip_201 ?_
      refine x_bipush (v := 42) dX12_skip_202 (by decide) ?_
      refine x_icmp_ne (tgt := 222) dX12_skip_204 (by decide) (fun c7 => ?_) (fun c7 => ?_)
      · replace hq := hq.1 c7
        exact uX12_skip_222 hq
      · replace hq := hq.2 c7
        refine x_aload_n 0 dX12_skip_207 rfl ?_
        refine x_aload_n 0 dX12_skip_208 rfl ?_
        refine x_get (v := .int (fI h x0 3081)) fdX12_269 dX12_skip_209 g1 rfl ?_
        refine x_iconst (v := 1) dX12_skip_212 (by decide) ?_
        refine x_iadd dX12_skip_213 ?_
        obtain ⟨g8, g9, hq⟩ := hq
        refine x_callV (Yc := YX12_byteAt) (as := [.int ((fI h x0 3081) + 1)]) (st := []) q3725 mvX12_byteAt g1 rfl dX12_skip_214 (xle (xal1 (rv_cat _) (xal1 rfl xal0)) (by decide)) (xfr g8) (xlo xsw0 (by decide) g9) (xKi hq (fun x11 h10 hq e12 => ?_) (fun _ _ q _ => q))
        replace hq := hq e12
        refine x_bipush (v := 41) dX12_skip_217 (by decide) ?_
        refine x_icmp_eq (tgt := 235) dX12_skip_219 (by decide) (fun c13 => ?_) (fun c13 => ?_)
        · replace hq := hq.1 c13
          exact uX12_skip_235 hq
        · replace hq := hq.2 c13
          exact uX12_skip_222 hq
set_option maxRecDepth 100000 in
def bX12_skip_164 (G : xG) (fr lo : Nat) (x0 : Nat) (x1 : Int32) (x3 : Int32) (s0 : Int32) (s1 : Int32) (s2 : Nat) (h : xH) (Q : Outcome → xH → Prop) : Prop := tg h s2 = 13 ∧ (∀ h2 : xH, h2 = sI h s2 3081 (s1 + s0) → lX12_skip_168 G fr lo x0 x1 x3 h2 Q)
set_option maxRecDepth 100000 in
theorem uX12_skip_164 {G : xG} {fr lo : Nat} {x0 : Nat} {x1 : Int32} {x3 : Int32} {s0 : Int32} {s1 : Int32} {s2 : Nat} {h : xH} {Q : Outcome → xH → Prop} (hq : bX12_skip_164 G fr lo x0 x1 x3 s0 s1 s2 h Q) : xP G YX12_skip fr lo 164 [(0, rv x0), (1, .int x1), (3, .int x3)] [.int s0, .int s1, rv s2] h Q := by
  unfold bX12_skip_164 at hq
  refine x_iadd dX12_skip_164 ?_
  obtain ⟨g1, hq⟩ := hq
  obtain ⟨h2, e3⟩ : ∃ y, y = sI h s2 3081 (s1 + s0) := ⟨_, rfl⟩
  replace hq := hq h2 e3
  refine x_putI fdX12_269 xty_I1 dX12_skip_165 g1 (Or.inl (by rw [g1]; rfl)) xnI rfl e3 ?_
  exact hq
set_option maxRecDepth 100000 in
def bX12_skip_139 (G : xG) (fr lo : Nat) (x0 : Nat) (x2 : Int32) (s0 : Int32) (h : xH) (Q : Outcome → xH → Prop) : Prop := ((¬ s0 = 0 → tg h x0 = 13 ∧ ((x2 = 0 → bX12_skip_164 G fr lo x0 s0 (fI h x0 3081) 1 (fI h x0 3081) x0 h Q) ∧ (¬ x2 = 0 → bX12_skip_164 G fr lo x0 s0 (fI h x0 3081) 2 (fI h x0 3081) x0 h Q))) ∧ (s0 = 0 → Q (.returned none) h))
set_option maxRecDepth 100000 in
theorem uX12_skip_139 {G : xG} {fr lo : Nat} {x0 : Nat} {x2 : Int32} {s0 : Int32} {h : xH} {Q : Outcome → xH → Prop} (hq : bX12_skip_139 G fr lo x0 x2 s0 h Q) : xP G YX12_skip fr lo 139 [(0, rv x0), (2, .int x2)] [.int s0] h Q := by
  unfold bX12_skip_139 at hq
  refine x_istore_n (lv' := [(1, .int s0), (0, rv x0), (2, .int x2)]) dX12_skip_139 (by decide) (by first | rfl | (simp [rv_cat, Value.category]; done) | (simp [rv_cat, Value.category]; decide)) ?_
  refine x_iload_n 0 dX12_skip_140 rfl ?_
  refine x_if_ne (tgt := 145) dX12_skip_141 (by decide) (fun c1 => ?_) (fun c1 => ?_)
  · replace hq := hq.1 c1
    refine x_aload_n 1 dX12_skip_145 rfl ?_
    obtain ⟨g2, hq⟩ := hq
    refine x_get (v := .int (fI h x0 3081)) fdX12_269 dX12_skip_146 g2 rfl ?_
    refine x_istore_n (lv' := [(3, .int (fI h x0 3081)), (1, .int s0), (0, rv x0), (2, .int x2)]) dX12_skip_149 (by decide) rfl ?_
    refine x_aload_n 2 dX12_skip_150 rfl ?_
    refine x_dup dX12_skip_151 (rv_cat _) ?_
    refine x_get (v := .int (fI h x0 3081)) fdX12_269 dX12_skip_152 g2 rfl ?_
    refine x_iload_n 3 dX12_skip_155 rfl ?_
    refine x_if_eq (tgt := 163) dX12_skip_156 (by decide) (fun c3 => ?_) (fun c3 => ?_)
    · replace hq := hq.1 c3
      refine x_iconst (v := 1) dX12_skip_163 (by decide) ?_
      refine xP.pick (lv' := [(0, rv x0), (1, .int s0), (3, .int (fI h x0 3081))]) [2, 1, 0] rfl ?_
      exact uX12_skip_164 hq
    · replace hq := hq.2 c3
      refine x_iconst (v := 2) dX12_skip_159 (by decide) ?_
      refine x_goto (tgt := 164) dX12_skip_160 (by decide) ?_
      refine xP.pick (lv' := [(0, rv x0), (1, .int s0), (3, .int (fI h x0 3081))]) [2, 1, 0] rfl ?_
      exact uX12_skip_164 hq
  · replace hq := hq.2 c1
    exact x_vret rfl dX12_skip_144 hq
set_option maxRecDepth 100000 in
def bX12_skip_134 (G : xG) (fr lo : Nat) (x0 : Nat) (x2 : Int32) (h : xH) (Q : Outcome → xH → Prop) : Prop := bX12_skip_139 G fr lo x0 x2 1 h Q
set_option maxRecDepth 100000 in
theorem uX12_skip_134 {G : xG} {fr lo : Nat} {x0 : Nat} {x2 : Int32} {h : xH} {Q : Outcome → xH → Prop} (hq : bX12_skip_134 G fr lo x0 x2 h Q) : xP G YX12_skip fr lo 134 [(0, rv x0), (2, .int x2)] [] h Q := by
  unfold bX12_skip_134 at hq
  refine x_iconst (v := 1) dX12_skip_134 (by decide) ?_
  refine x_goto (tgt := 139) dX12_skip_135 (by decide) ?_
  exact uX12_skip_139 hq
set_option maxRecDepth 100000 in
def bX12_skip_130 (G : xG) (fr lo : Nat) (x0 : Nat) (x2 : Int32) (h : xH) (Q : Outcome → xH → Prop) : Prop := ((x2 = 0 → bX12_skip_139 G fr lo x0 x2 0 h Q) ∧ (¬ x2 = 0 → bX12_skip_134 G fr lo x0 x2 h Q))
set_option maxRecDepth 100000 in
theorem uX12_skip_130 {G : xG} {fr lo : Nat} {x0 : Nat} {x2 : Int32} {h : xH} {Q : Outcome → xH → Prop} (hq : bX12_skip_130 G fr lo x0 x2 h Q) : xP G YX12_skip fr lo 130 [(0, rv x0), (2, .int x2)] [] h Q := by
  unfold bX12_skip_130 at hq
  refine x_iload_n 1 dX12_skip_130 rfl ?_
  refine x_if_eq (tgt := 138) dX12_skip_131 (by decide) (fun c1 => ?_) (fun c1 => ?_)
  · replace hq := hq.1 c1
    refine x_iconst (v := 0) dX12_skip_138 (by decide) ?_
    exact uX12_skip_139 hq
  · replace hq := hq.2 c1
    exact uX12_skip_134 hq
set_option maxRecDepth 100000 in
def bX12_skip_104 (G : xG) (fr lo : Nat) (x0 : Nat) (s0 : Int32) (h : xH) (Q : Outcome → xH → Prop) : Prop := tg h x0 = 13 ∧ (((fI h x0 3080) ≤ (fI h x0 3081) → bX12_skip_130 G fr lo x0 s0 h Q) ∧ (¬ (fI h x0 3080) ≤ (fI h x0 3081) → tg h (fR h x0 3079) = 103 ∧ vp_in (fI h x0 3081) (ln h (fR h x0 3079)) ∧ (((aI h (fR h x0 3079) (Int32.toNatClampNeg (fI h x0 3081))) = 123 → bX12_skip_134 G fr lo x0 s0 h Q) ∧ (¬ (aI h (fR h x0 3079) (Int32.toNatClampNeg (fI h x0 3081))) = 123 → bX12_skip_130 G fr lo x0 s0 h Q))))
set_option maxRecDepth 100000 in
theorem uX12_skip_104 {G : xG} {fr lo : Nat} {x0 : Nat} {s0 : Int32} {h : xH} {Q : Outcome → xH → Prop} (hq : bX12_skip_104 G fr lo x0 s0 h Q) : xP G YX12_skip fr lo 104 [(0, rv x0)] [.int s0] h Q := by
  unfold bX12_skip_104 at hq
  refine x_istore_n (lv' := [(2, .int s0), (0, rv x0)]) dX12_skip_104 (by decide) rfl ?_
  refine x_aload_n 1 dX12_skip_105 rfl ?_
  obtain ⟨g1, hq⟩ := hq
  refine x_get (v := .int (fI h x0 3081)) fdX12_269 dX12_skip_106 g1 rfl ?_
  refine x_aload_n 1 dX12_skip_109 rfl ?_
  refine x_get (v := .int (fI h x0 3080)) fdX12_266 dX12_skip_110 g1 rfl ?_
  refine x_icmp_ge (tgt := 130) dX12_skip_113 (by decide) (fun c2 => ?_) (fun c2 => ?_)
  · replace hq := hq.1 c2
    refine xP.pick (lv' := [(0, rv x0), (2, .int s0)]) [1, 0] rfl ?_
    exact uX12_skip_130 hq
  · replace hq := hq.2 c2
    refine x_aload_n 1 dX12_skip_116 rfl ?_
    refine x_get (v := rv (fR h x0 3079)) fdX12_23 dX12_skip_117 g1 rfl ?_
    refine x_aload_n 1 dX12_skip_120 rfl ?_
    refine x_get (v := .int (fI h x0 3081)) fdX12_269 dX12_skip_121 g1 rfl ?_
    obtain ⟨g3, hq⟩ := hq
    obtain ⟨i4, hq⟩ := hq
    refine x_bald g3 i4 dX12_skip_124 ?_
    refine x_bipush (v := 123) dX12_skip_125 (by decide) ?_
    refine x_icmp_eq (tgt := 134) dX12_skip_127 (by decide) (fun c5 => ?_) (fun c5 => ?_)
    · replace hq := hq.1 c5
      refine xP.pick (lv' := [(0, rv x0), (2, .int s0)]) [1, 0] rfl ?_
      exact uX12_skip_134 hq
    · replace hq := hq.2 c5
      refine xP.pick (lv' := [(0, rv x0), (2, .int s0)]) [1, 0] rfl ?_
      exact uX12_skip_130 hq
set_option maxRecDepth 100000 in
def bX12_skip_103 (G : xG) (fr lo : Nat) (x0 : Nat) (h : xH) (Q : Outcome → xH → Prop) : Prop := bX12_skip_104 G fr lo x0 0 h Q
set_option maxRecDepth 100000 in
theorem uX12_skip_103 {G : xG} {fr lo : Nat} {x0 : Nat} {h : xH} {Q : Outcome → xH → Prop} (hq : bX12_skip_103 G fr lo x0 h Q) : xP G YX12_skip fr lo 103 [(0, rv x0)] [] h Q := by
  unfold bX12_skip_103 at hq
  refine x_iconst (v := 0) dX12_skip_103 (by decide) ?_
  exact uX12_skip_104 hq
set_option maxRecDepth 100000 in
def bX12_skip_58 (G : xG) (fr lo : Nat) (x0 : Nat) (h : xH) (Q : Outcome → xH → Prop) : Prop := tg h x0 = 13 ∧ 1 ≤ fr ∧ 13 ≤ lo ∧ xRi G YX12_byteAt (fr - 1) (lo - 13) [rv x0, .int (fI h x0 3081)] h (fun x5 h4 => xext h h4 → ((¬ x5 = 40 → bX12_skip_103 G fr lo x0 h4 Q) ∧ (x5 = 40 → 1 ≤ fr ∧ 13 ≤ lo ∧ xRi G YX12_byteAt (fr - 1) (lo - 13) [rv x0, .int ((fI h4 x0 3081) + 1)] h4 (fun x12 h11 => xext h4 h11 → ((¬ x12 = 42 → bX12_skip_103 G fr lo x0 h11 Q) ∧ (x12 = 42 → (((fI h11 x0 3080) ≤ ((fI h11 x0 3081) + 1) → bX12_skip_103 G fr lo x0 h11 Q) ∧ (¬ (fI h11 x0 3080) ≤ ((fI h11 x0 3081) + 1) → bX12_skip_104 G fr lo x0 1 h11 Q))))) (fun r h2 => Q (.threw r) h2)))) (fun r h2 => Q (.threw r) h2)
set_option maxRecDepth 100000 in
theorem uX12_skip_58 {G : xG} {fr lo : Nat} {x0 : Nat} {h : xH} {Q : Outcome → xH → Prop} (hq : bX12_skip_58 G fr lo x0 h Q) : xP G YX12_skip fr lo 58 [(0, rv x0)] [] h Q := by
  unfold bX12_skip_58 at hq
  refine x_aload_n 0 dX12_skip_58 rfl ?_
  refine x_aload_n 0 dX12_skip_59 rfl ?_
  obtain ⟨g1, hq⟩ := hq
  refine x_get (v := .int (fI h x0 3081)) fdX12_269 dX12_skip_60 g1 rfl ?_
  obtain ⟨g2, g3, hq⟩ := hq
  refine x_callV (Yc := YX12_byteAt) (as := [.int (fI h x0 3081)]) (st := []) q3725 mvX12_byteAt g1 rfl dX12_skip_63 (xle (xal1 (rv_cat _) (xal1 rfl xal0)) (by decide)) (xfr g2) (xlo xsw0 (by decide) g3) (xKi hq (fun x5 h4 hq e6 => ?_) (fun _ _ q _ => q))
  replace hq := hq e6
  refine x_bipush (v := 40) dX12_skip_66 (by decide) ?_
  refine x_icmp_ne (tgt := 103) dX12_skip_68 (by decide) (fun c7 => ?_) (fun c7 => ?_)
  · replace hq := hq.1 c7
    exact uX12_skip_103 hq
  · replace hq := hq.2 c7
    refine x_aload_n 0 dX12_skip_71 rfl ?_
    refine x_aload_n 0 dX12_skip_72 rfl ?_
    have t8 : tg h4 x0 = 13 := e6.tg g1 (by decide)
    refine x_get (v := .int (fI h4 x0 3081)) fdX12_269 dX12_skip_73 t8 rfl ?_
    refine x_iconst (v := 1) dX12_skip_76 (by decide) ?_
    refine x_iadd dX12_skip_77 ?_
    obtain ⟨g9, g10, hq⟩ := hq
    refine x_callV (Yc := YX12_byteAt) (as := [.int ((fI h4 x0 3081) + 1)]) (st := []) q3725 mvX12_byteAt t8 rfl dX12_skip_78 (xle (xal1 (rv_cat _) (xal1 rfl xal0)) (by decide)) (xfr g9) (xlo xsw0 (by decide) g10) (xKi hq (fun x12 h11 hq e13 => ?_) (fun _ _ q _ => q))
    replace hq := hq e13
    refine x_bipush (v := 42) dX12_skip_81 (by decide) ?_
    refine x_icmp_ne (tgt := 103) dX12_skip_83 (by decide) (fun c14 => ?_) (fun c14 => ?_)
    · replace hq := hq.1 c14
      exact uX12_skip_103 hq
    · replace hq := hq.2 c14
      refine x_aload_n 0 dX12_skip_86 rfl ?_
      have t15 : tg h11 x0 = 13 := e13.tg t8 (by decide)
      refine x_get (v := .int (fI h11 x0 3081)) fdX12_269 dX12_skip_87 t15 rfl ?_
      refine x_iconst (v := 1) dX12_skip_90 (by decide) ?_
      refine x_iadd dX12_skip_91 ?_
      refine x_aload_n 0 dX12_skip_92 rfl ?_
      refine x_get (v := .int (fI h11 x0 3080)) fdX12_266 dX12_skip_93 t15 rfl ?_
      refine x_icmp_ge (tgt := 103) dX12_skip_96 (by decide) (fun c16 => ?_) (fun c16 => ?_)
      · replace hq := hq.1 c16
        exact uX12_skip_103 hq
      · replace hq := hq.2 c16
        refine x_iconst (v := 1) dX12_skip_99 (by decide) ?_
        refine x_goto (tgt := 104) dX12_skip_100 (by decide) ?_
        exact uX12_skip_104 hq
set_option maxRecDepth 100000 in
def bX12_skip_45 (G : xG) (fr lo : Nat) (x0 : Nat) (h : xH) (Q : Outcome → xH → Prop) : Prop := tg h x0 = 13 ∧ (∀ h2 : xH, h2 = sI h x0 3081 ((fI h x0 3081) + 1) → lX12_skip_6 G fr lo x0 h2 Q)
set_option maxRecDepth 100000 in
theorem uX12_skip_45 {G : xG} {fr lo : Nat} {x0 : Nat} {h : xH} {Q : Outcome → xH → Prop} (hq : bX12_skip_45 G fr lo x0 h Q) : xP G YX12_skip fr lo 45 [(0, rv x0)] [] h Q := by
  unfold bX12_skip_45 at hq
  refine x_aload_n 0 dX12_skip_45 rfl ?_
  refine x_dup dX12_skip_46 (rv_cat _) ?_
  obtain ⟨g1, hq⟩ := hq
  refine x_get (v := .int (fI h x0 3081)) fdX12_269 dX12_skip_47 g1 rfl ?_
  refine x_iconst (v := 1) dX12_skip_50 (by decide) ?_
  refine x_iadd dX12_skip_51 ?_
  obtain ⟨h2, e3⟩ : ∃ y, y = sI h x0 3081 ((fI h x0 3081) + 1) := ⟨_, rfl⟩
  replace hq := hq h2 e3
  refine x_putI fdX12_269 xty_I1 dX12_skip_52 g1 (Or.inl (by rw [g1]; rfl)) xnI rfl e3 ?_
  refine x_goto (tgt := 6) dX12_skip_55 (by decide) ?_
  exact hq
set_option maxRecDepth 100000 in
def bX12_skip_6 (G : xG) (fr lo : Nat) (x0 : Nat) (h : xH) (Q : Outcome → xH → Prop) : Prop := tg h x0 = 13 ∧ (((fI h x0 3080) ≤ (fI h x0 3081) → bX12_skip_58 G fr lo x0 h Q) ∧ (¬ (fI h x0 3080) ≤ (fI h x0 3081) → tg h (fR h x0 3079) = 103 ∧ vp_in (fI h x0 3081) (ln h (fR h x0 3079)) ∧ (((aI h (fR h x0 3079) (Int32.toNatClampNeg (fI h x0 3081))) = 10 → bX12_skip_45 G fr lo x0 h Q) ∧ (¬ (aI h (fR h x0 3079) (Int32.toNatClampNeg (fI h x0 3081))) = 10 → vp_in (fI h x0 3081) (ln h (fR h x0 3079)) ∧ ((¬ (aI h (fR h x0 3079) (Int32.toNatClampNeg (fI h x0 3081))) = 32 → bX12_skip_58 G fr lo x0 h Q) ∧ ((aI h (fR h x0 3079) (Int32.toNatClampNeg (fI h x0 3081))) = 32 → bX12_skip_45 G fr lo x0 h Q))))))
set_option maxRecDepth 100000 in
theorem uX12_skip_6 {G : xG} {fr lo : Nat} {x0 : Nat} {h : xH} {Q : Outcome → xH → Prop} (hq : bX12_skip_6 G fr lo x0 h Q) : xP G YX12_skip fr lo 6 [(0, rv x0)] [] h Q := by
  unfold bX12_skip_6 at hq
  refine x_aload_n 0 dX12_skip_6 rfl ?_
  obtain ⟨g1, hq⟩ := hq
  refine x_get (v := .int (fI h x0 3081)) fdX12_269 dX12_skip_7 g1 rfl ?_
  refine x_aload_n 0 dX12_skip_10 rfl ?_
  refine x_get (v := .int (fI h x0 3080)) fdX12_266 dX12_skip_11 g1 rfl ?_
  refine x_icmp_ge (tgt := 58) dX12_skip_14 (by decide) (fun c2 => ?_) (fun c2 => ?_)
  · replace hq := hq.1 c2
    exact uX12_skip_58 hq
  · replace hq := hq.2 c2
    refine x_aload_n 0 dX12_skip_17 rfl ?_
    refine x_get (v := rv (fR h x0 3079)) fdX12_23 dX12_skip_18 g1 rfl ?_
    refine x_aload_n 0 dX12_skip_21 rfl ?_
    refine x_get (v := .int (fI h x0 3081)) fdX12_269 dX12_skip_22 g1 rfl ?_
    obtain ⟨g3, hq⟩ := hq
    obtain ⟨i4, hq⟩ := hq
    refine x_bald g3 i4 dX12_skip_25 ?_
    refine x_bipush (v := 10) dX12_skip_26 (by decide) ?_
    refine x_icmp_eq (tgt := 45) dX12_skip_28 (by decide) (fun c5 => ?_) (fun c5 => ?_)
    · replace hq := hq.1 c5
      exact uX12_skip_45 hq
    · replace hq := hq.2 c5
      refine x_aload_n 0 dX12_skip_31 rfl ?_
      refine x_get (v := rv (fR h x0 3079)) fdX12_23 dX12_skip_32 g1 rfl ?_
      refine x_aload_n 0 dX12_skip_35 rfl ?_
      refine x_get (v := .int (fI h x0 3081)) fdX12_269 dX12_skip_36 g1 rfl ?_
      obtain ⟨i6, hq⟩ := hq
      refine x_bald g3 i6 dX12_skip_39 ?_
      refine x_bipush (v := 32) dX12_skip_40 (by decide) ?_
      refine x_icmp_ne (tgt := 58) dX12_skip_42 (by decide) (fun c7 => ?_) (fun c7 => ?_)
      · replace hq := hq.1 c7
        exact uX12_skip_58 hq
      · replace hq := hq.2 c7
        exact uX12_skip_45 hq
set_option maxRecDepth 100000 in
def bX12_skip_2 (G : xG) (fr lo : Nat) (x0 : Nat) (x1 : Int32) (h : xH) (Q : Outcome → xH → Prop) : Prop := ((x1 = 0 → Q (.returned none) h) ∧ (¬ x1 = 0 → lX12_skip_6 G fr lo x0 h Q))
set_option maxRecDepth 100000 in
theorem uX12_skip_2 {G : xG} {fr lo : Nat} {x0 : Nat} {x1 : Int32} {h : xH} {Q : Outcome → xH → Prop} (hq : bX12_skip_2 G fr lo x0 x1 h Q) : xP G YX12_skip fr lo 2 [(0, rv x0), (1, .int x1)] [] h Q := by
  unfold bX12_skip_2 at hq
  refine x_iload_n 1 dX12_skip_2 rfl ?_
  refine x_if_eq (tgt := 283) dX12_skip_3 (by decide) (fun c1 => ?_) (fun c1 => ?_)
  · replace hq := hq.1 c1
    exact x_vret rfl dX12_skip_283 hq
  · replace hq := hq.2 c1
    refine xP.pick (lv' := [(0, rv x0)]) [0] rfl ?_
    exact hq
set_option maxRecDepth 100000 in
def bX12_skip (G : xG) (fr lo : Nat) (x0 : Nat) (h : xH) (Q : Outcome → xH → Prop) : Prop := lX12_skip_2 G fr lo x0 1 h Q
set_option maxRecDepth 100000 in
theorem uX12_skip {G : xG} {fr lo : Nat} {x0 : Nat} {h : xH} {Q : Outcome → xH → Prop} (hq : bX12_skip G fr lo x0 h Q) : xP G YX12_skip fr lo 0 [(0, rv x0)] [] h Q := by
  unfold bX12_skip at hq
  refine x_iconst (v := 1) dX12_skip_0 (by decide) ?_
  refine x_istore_n (lv' := [(1, .int 1), (0, rv x0)]) dX12_skip_1 (by decide) (by first | rfl | (simp [rv_cat, Value.category]; done) | (simp [rv_cat, Value.category]; decide)) ?_
  refine xP.pick (lv' := [(0, rv x0), (1, .int 1)]) [1, 0] rfl ?_
  exact hq
theorem rX12_skip {G : xG} {fr lo : Nat} {x0 : Nat} {h : xH} {Q : Outcome → xH → Prop} (hq : bX12_skip G fr lo x0 h Q) : xR G YX12_skip fr lo [rv x0] h Q := by
  show xP _ _ _ _ _ (lv_args 0 _) _ _ _
  rw [show lv_args 0 [rv x0] = [(0, rv x0)] from (xla1 (rv_cat _) xla0)]
  exact uX12_skip hq
set_option maxRecDepth 100000 in
theorem dX12_byteAt_0 : decode cX12_byteAt 0 = .ok (.iload_n 1, 1) := by decide +kernel
set_option maxRecDepth 100000 in
theorem dX12_byteAt_1 : decode cX12_byteAt 1 = .ok (.aload_n 0, 1) := by decide +kernel
set_option maxRecDepth 100000 in
theorem dX12_byteAt_2 : decode cX12_byteAt 2 = .ok (.getfield 266, 3) := by decide +kernel
set_option maxRecDepth 100000 in
theorem dX12_byteAt_5 : decode cX12_byteAt 5 = .ok (.if_icmp .ge 16, 3) := by decide +kernel
set_option maxRecDepth 100000 in
theorem dX12_byteAt_8 : decode cX12_byteAt 8 = .ok (.aload_n 0, 1) := by decide +kernel
set_option maxRecDepth 100000 in
theorem dX12_byteAt_9 : decode cX12_byteAt 9 = .ok (.getfield 23, 3) := by decide +kernel
set_option maxRecDepth 100000 in
theorem dX12_byteAt_12 : decode cX12_byteAt 12 = .ok (.iload_n 1, 1) := by decide +kernel
set_option maxRecDepth 100000 in
theorem dX12_byteAt_13 : decode cX12_byteAt 13 = .ok (.baload, 1) := by decide +kernel
set_option maxRecDepth 100000 in
theorem dX12_byteAt_14 : decode cX12_byteAt 14 = .ok (.sipush 255, 3) := by decide +kernel
set_option maxRecDepth 100000 in
theorem dX12_byteAt_17 : decode cX12_byteAt 17 = .ok (.iand, 1) := by decide +kernel
set_option maxRecDepth 100000 in
theorem dX12_byteAt_18 : decode cX12_byteAt 18 = .ok (.goto 4, 3) := by decide +kernel
set_option maxRecDepth 100000 in
theorem dX12_byteAt_21 : decode cX12_byteAt 21 = .ok (.iconst 0, 1) := by decide +kernel
set_option maxRecDepth 100000 in
theorem dX12_byteAt_22 : decode cX12_byteAt 22 = .ok (.ireturn, 1) := by decide +kernel
set_option maxRecDepth 100000 in
def bX12_byteAt_22 (G : xG) (fr lo : Nat) (s0 : Int32) (h : xH) (Q : Outcome → xH → Prop) : Prop := Q (.returned (some (.int s0))) h
set_option maxRecDepth 100000 in
theorem uX12_byteAt_22 {G : xG} {fr lo : Nat} {s0 : Int32} {h : xH} {Q : Outcome → xH → Prop} (hq : bX12_byteAt_22 G fr lo s0 h Q) : xP G YX12_byteAt fr lo 22 [] [.int s0] h Q := by
  unfold bX12_byteAt_22 at hq
  exact x_iret rfl rfl dX12_byteAt_22 hq
set_option maxRecDepth 100000 in
def bX12_byteAt (G : xG) (fr lo : Nat) (x0 : Nat) (x1 : Int32) (h : xH) (Q : Outcome → xH → Prop) : Prop := tg h x0 = 13 ∧ (((fI h x0 3080) ≤ x1 → bX12_byteAt_22 G fr lo 0 h Q) ∧ (¬ (fI h x0 3080) ≤ x1 → tg h (fR h x0 3079) = 103 ∧ vp_in x1 (ln h (fR h x0 3079)) ∧ bX12_byteAt_22 G fr lo ((aI h (fR h x0 3079) (Int32.toNatClampNeg x1)) &&& 255) h Q))
set_option maxRecDepth 100000 in
theorem uX12_byteAt {G : xG} {fr lo : Nat} {x0 : Nat} {x1 : Int32} {h : xH} {Q : Outcome → xH → Prop} (hq : bX12_byteAt G fr lo x0 x1 h Q) : xP G YX12_byteAt fr lo 0 [(0, rv x0), (1, .int x1)] [] h Q := by
  unfold bX12_byteAt at hq
  refine x_iload_n 1 dX12_byteAt_0 rfl ?_
  refine x_aload_n 0 dX12_byteAt_1 rfl ?_
  obtain ⟨g1, hq⟩ := hq
  refine x_get (v := .int (fI h x0 3080)) fdX12_266 dX12_byteAt_2 g1 rfl ?_
  refine x_icmp_ge (tgt := 21) dX12_byteAt_5 (by decide) (fun c2 => ?_) (fun c2 => ?_)
  · replace hq := hq.1 c2
    refine x_iconst (v := 0) dX12_byteAt_21 (by decide) ?_
    refine xP.pick (lv' := []) [] rfl ?_
    exact uX12_byteAt_22 hq
  · replace hq := hq.2 c2
    refine x_aload_n 0 dX12_byteAt_8 rfl ?_
    refine x_get (v := rv (fR h x0 3079)) fdX12_23 dX12_byteAt_9 g1 rfl ?_
    refine x_iload_n 1 dX12_byteAt_12 rfl ?_
    obtain ⟨g3, hq⟩ := hq
    obtain ⟨i4, hq⟩ := hq
    refine x_bald g3 i4 dX12_byteAt_13 ?_
    refine x_sipush (v := 255) dX12_byteAt_14 (by decide) ?_
    refine x_iand dX12_byteAt_17 ?_
    refine x_goto (tgt := 22) dX12_byteAt_18 (by decide) ?_
    refine xP.pick (lv' := []) [] rfl ?_
    exact uX12_byteAt_22 hq
theorem rX12_byteAt {G : xG} {fr lo : Nat} {x0 : Nat} {x1 : Int32} {h : xH} {Q : Outcome → xH → Prop} (hq : bX12_byteAt G fr lo x0 x1 h Q) : xR G YX12_byteAt fr lo [rv x0, .int x1] h Q := by
  show xP _ _ _ _ _ (lv_args 0 _) _ _ _
  rw [show lv_args 0 [rv x0, .int x1] = [(0, rv x0), (1, .int x1)] from (xla1 (rv_cat _) (xla1 rfl xla0))]
  exact uX12_byteAt hq
set_option maxRecDepth 100000 in
theorem dX12_stop_0 : decode cX12_stop 0 = .ok (.aload_n 0, 1) := by decide +kernel
set_option maxRecDepth 100000 in
theorem dX12_stop_1 : decode cX12_stop 1 = .ok (.iload_n 1, 1) := by decide +kernel
set_option maxRecDepth 100000 in
theorem dX12_stop_2 : decode cX12_stop 2 = .ok (.putfield 259, 3) := by decide +kernel
set_option maxRecDepth 100000 in
theorem dX12_stop_5 : decode cX12_stop 5 = .ok (.aload_n 0, 1) := by decide +kernel
set_option maxRecDepth 100000 in
theorem dX12_stop_6 : decode cX12_stop 6 = .ok (.iload_n 2, 1) := by decide +kernel
set_option maxRecDepth 100000 in
theorem dX12_stop_7 : decode cX12_stop 7 = .ok (.putfield 63, 3) := by decide +kernel
set_option maxRecDepth 100000 in
theorem dX12_stop_10 : decode cX12_stop 10 = .ok (.getstatic 262, 3) := by decide +kernel
set_option maxRecDepth 100000 in
theorem dX12_stop_13 : decode cX12_stop 13 = .ok (.athrow, 1) := by decide +kernel
set_option maxRecDepth 100000 in
def bX12_stop (G : xG) (fr lo : Nat) (x0 : Nat) (x1 : Int32) (x2 : Int32) (h : xH) (Q : Outcome → xH → Prop) : Prop := tg h x0 = 13 ∧ (∀ h2 : xH, h2 = sI h x0 3099 x1 → (∀ h5 : xH, h5 = sI h2 x0 3100 x2 → (∃ r7, (xGS G 6) = r7 + 1 ∧ Q (.threw r7) h5)))
set_option maxRecDepth 100000 in
theorem uX12_stop {G : xG} {fr lo : Nat} {x0 : Nat} {x1 : Int32} {x2 : Int32} {h : xH} {Q : Outcome → xH → Prop} (hq : bX12_stop G fr lo x0 x1 x2 h Q) : xP G YX12_stop fr lo 0 [(0, rv x0), (1, .int x1), (2, .int x2)] [] h Q := by
  unfold bX12_stop at hq
  refine x_aload_n 0 dX12_stop_0 rfl ?_
  refine x_iload_n 1 dX12_stop_1 rfl ?_
  obtain ⟨g1, hq⟩ := hq
  obtain ⟨h2, e3⟩ : ∃ y, y = sI h x0 3099 x1 := ⟨_, rfl⟩
  replace hq := hq h2 e3
  refine x_putI fdX12_259 xty_I1 dX12_stop_2 g1 (Or.inl (by rw [g1]; rfl)) xnI rfl e3 ?_
  refine x_aload_n 0 dX12_stop_5 rfl ?_
  refine x_iload_n 2 dX12_stop_6 rfl ?_
  have t4 : tg h2 x0 = 13 := by rw [e3]; exact g1
  obtain ⟨h5, e6⟩ : ∃ y, y = sI h2 x0 3100 x2 := ⟨_, rfl⟩
  replace hq := hq h5 e6
  refine x_putI fdX12_63 xty_I1 dX12_stop_7 t4 (Or.inl (by rw [t4]; rfl)) xnI rfl e6 ?_
  refine x_gets (v := rv (xGS G 6)) 6 rfl q3733 (by simp [xsv]) dX12_stop_10 ?_
  obtain ⟨r7, g8, hq⟩ := hq
  rw [g8]
  exact x_athrow dX12_stop_13 hq
theorem rX12_stop {G : xG} {fr lo : Nat} {x0 : Nat} {x1 : Int32} {x2 : Int32} {h : xH} {Q : Outcome → xH → Prop} (hq : bX12_stop G fr lo x0 x1 x2 h Q) : xR G YX12_stop fr lo [rv x0, .int x1, .int x2] h Q := by
  show xP _ _ _ _ _ (lv_args 0 _) _ _ _
  rw [show lv_args 0 [rv x0, .int x1, .int x2] = [(0, rv x0), (1, .int x1), (2, .int x2)] from (xla1 (rv_cat _) (xla1 rfl (xla1 rfl xla0)))]
  exact uX12_stop hq
set_option maxRecDepth 100000 in
theorem dX12_lay_0 : decode cX12_lay 0 = .ok (.aload_n 0, 1) := by decide +kernel
set_option maxRecDepth 100000 in
theorem dX12_lay_1 : decode cX12_lay 1 = .ok (.getfield 26, 3) := by decide +kernel
set_option maxRecDepth 100000 in
theorem dX12_lay_4 : decode cX12_lay 4 = .ok (.aload_n 0, 1) := by decide +kernel
set_option maxRecDepth 100000 in
theorem dX12_lay_5 : decode cX12_lay 5 = .ok (.getfield 378, 3) := by decide +kernel
set_option maxRecDepth 100000 in
theorem dX12_lay_8 : decode cX12_lay 8 = .ok (.iload_n 1, 1) := by decide +kernel
set_option maxRecDepth 100000 in
theorem dX12_lay_9 : decode cX12_lay 9 = .ok (.iastore, 1) := by decide +kernel
set_option maxRecDepth 100000 in
theorem dX12_lay_10 : decode cX12_lay 10 = .ok (.aload_n 0, 1) := by decide +kernel
set_option maxRecDepth 100000 in
theorem dX12_lay_11 : decode cX12_lay 11 = .ok (.getfield 29, 3) := by decide +kernel
set_option maxRecDepth 100000 in
theorem dX12_lay_14 : decode cX12_lay 14 = .ok (.aload_n 0, 1) := by decide +kernel
set_option maxRecDepth 100000 in
theorem dX12_lay_15 : decode cX12_lay 15 = .ok (.getfield 378, 3) := by decide +kernel
set_option maxRecDepth 100000 in
theorem dX12_lay_18 : decode cX12_lay 18 = .ok (.iload_n 2, 1) := by decide +kernel
set_option maxRecDepth 100000 in
theorem dX12_lay_19 : decode cX12_lay 19 = .ok (.iastore, 1) := by decide +kernel
set_option maxRecDepth 100000 in
theorem dX12_lay_20 : decode cX12_lay 20 = .ok (.aload_n 0, 1) := by decide +kernel
set_option maxRecDepth 100000 in
theorem dX12_lay_21 : decode cX12_lay 21 = .ok (.getfield 32, 3) := by decide +kernel
set_option maxRecDepth 100000 in
theorem dX12_lay_24 : decode cX12_lay 24 = .ok (.aload_n 0, 1) := by decide +kernel
set_option maxRecDepth 100000 in
theorem dX12_lay_25 : decode cX12_lay 25 = .ok (.getfield 378, 3) := by decide +kernel
set_option maxRecDepth 100000 in
theorem dX12_lay_28 : decode cX12_lay 28 = .ok (.iload_n 3, 1) := by decide +kernel
set_option maxRecDepth 100000 in
theorem dX12_lay_29 : decode cX12_lay 29 = .ok (.iastore, 1) := by decide +kernel
set_option maxRecDepth 100000 in
theorem dX12_lay_30 : decode cX12_lay 30 = .ok (.aload_n 0, 1) := by decide +kernel
set_option maxRecDepth 100000 in
theorem dX12_lay_31 : decode cX12_lay 31 = .ok (.dup, 1) := by decide +kernel
set_option maxRecDepth 100000 in
theorem dX12_lay_32 : decode cX12_lay 32 = .ok (.getfield 378, 3) := by decide +kernel
set_option maxRecDepth 100000 in
theorem dX12_lay_35 : decode cX12_lay 35 = .ok (.iconst 1, 1) := by decide +kernel
set_option maxRecDepth 100000 in
theorem dX12_lay_36 : decode cX12_lay 36 = .ok (.iadd, 1) := by decide +kernel
set_option maxRecDepth 100000 in
theorem dX12_lay_37 : decode cX12_lay 37 = .ok (.putfield 378, 3) := by decide +kernel
set_option maxRecDepth 100000 in
theorem dX12_lay_40 : decode cX12_lay 40 = .ok (.return_, 1) := by decide +kernel
set_option maxRecDepth 100000 in
def bX12_lay (G : xG) (fr lo : Nat) (x0 : Nat) (x1 : Int32) (x2 : Int32) (x3 : Int32) (h : xH) (Q : Outcome → xH → Prop) : Prop := tg h x0 = 13 ∧ tg h (fR h x0 3082) = 100 ∧ vp_in (fI h x0 3087) (ln h (fR h x0 3082)) ∧ (∀ h4 : xH, h4 = tI h (fR h x0 3082) (Int32.toNatClampNeg (fI h x0 3087)) x1 → tg h4 (fR h4 x0 3083) = 100 ∧ vp_in (fI h4 x0 3087) (ln h4 (fR h4 x0 3083)) ∧ (∀ h9 : xH, h9 = tI h4 (fR h4 x0 3083) (Int32.toNatClampNeg (fI h4 x0 3087)) x2 → tg h9 (fR h9 x0 3084) = 100 ∧ vp_in (fI h9 x0 3087) (ln h9 (fR h9 x0 3084)) ∧ (∀ h14 : xH, h14 = tI h9 (fR h9 x0 3084) (Int32.toNatClampNeg (fI h9 x0 3087)) x3 → (∀ h17 : xH, h17 = sI h14 x0 3087 ((fI h14 x0 3087) + 1) → Q (.returned none) h17))))
set_option maxRecDepth 100000 in
theorem uX12_lay {G : xG} {fr lo : Nat} {x0 : Nat} {x1 : Int32} {x2 : Int32} {x3 : Int32} {h : xH} {Q : Outcome → xH → Prop} (hq : bX12_lay G fr lo x0 x1 x2 x3 h Q) : xP G YX12_lay fr lo 0 [(0, rv x0), (1, .int x1), (2, .int x2), (3, .int x3)] [] h Q := by
  unfold bX12_lay at hq
  refine x_aload_n 0 dX12_lay_0 rfl ?_
  obtain ⟨g1, hq⟩ := hq
  refine x_get (v := rv (fR h x0 3082)) fdX12_26 dX12_lay_1 g1 rfl ?_
  refine x_aload_n 0 dX12_lay_4 rfl ?_
  refine x_get (v := .int (fI h x0 3087)) fdX12_378 dX12_lay_5 g1 rfl ?_
  refine x_iload_n 1 dX12_lay_8 rfl ?_
  obtain ⟨g2, hq⟩ := hq
  obtain ⟨i3, hq⟩ := hq
  obtain ⟨h4, e5⟩ : ∃ y, y = tI h (fR h x0 3082) (Int32.toNatClampNeg (fI h x0 3087)) x1 := ⟨_, rfl⟩
  replace hq := hq h4 e5
  refine x_iast' g2 i3 dX12_lay_9 e5 ?_
  refine x_aload_n 0 dX12_lay_10 rfl ?_
  have t6 : tg h4 x0 = 13 := by rw [e5]; exact g1
  refine x_get (v := rv (fR h4 x0 3083)) fdX12_29 dX12_lay_11 t6 rfl ?_
  refine x_aload_n 0 dX12_lay_14 rfl ?_
  refine x_get (v := .int (fI h4 x0 3087)) fdX12_378 dX12_lay_15 t6 rfl ?_
  refine x_iload_n 2 dX12_lay_18 rfl ?_
  obtain ⟨g7, hq⟩ := hq
  obtain ⟨i8, hq⟩ := hq
  obtain ⟨h9, e10⟩ : ∃ y, y = tI h4 (fR h4 x0 3083) (Int32.toNatClampNeg (fI h4 x0 3087)) x2 := ⟨_, rfl⟩
  replace hq := hq h9 e10
  refine x_iast' g7 i8 dX12_lay_19 e10 ?_
  refine x_aload_n 0 dX12_lay_20 rfl ?_
  have t11 : tg h9 x0 = 13 := by rw [e10]; exact t6
  refine x_get (v := rv (fR h9 x0 3084)) fdX12_32 dX12_lay_21 t11 rfl ?_
  refine x_aload_n 0 dX12_lay_24 rfl ?_
  refine x_get (v := .int (fI h9 x0 3087)) fdX12_378 dX12_lay_25 t11 rfl ?_
  refine x_iload_n 3 dX12_lay_28 rfl ?_
  obtain ⟨g12, hq⟩ := hq
  obtain ⟨i13, hq⟩ := hq
  obtain ⟨h14, e15⟩ : ∃ y, y = tI h9 (fR h9 x0 3084) (Int32.toNatClampNeg (fI h9 x0 3087)) x3 := ⟨_, rfl⟩
  replace hq := hq h14 e15
  refine x_iast' g12 i13 dX12_lay_29 e15 ?_
  refine x_aload_n 0 dX12_lay_30 rfl ?_
  refine x_dup dX12_lay_31 (rv_cat _) ?_
  have t16 : tg h14 x0 = 13 := by rw [e15]; exact t11
  refine x_get (v := .int (fI h14 x0 3087)) fdX12_378 dX12_lay_32 t16 rfl ?_
  refine x_iconst (v := 1) dX12_lay_35 (by decide) ?_
  refine x_iadd dX12_lay_36 ?_
  obtain ⟨h17, e18⟩ : ∃ y, y = sI h14 x0 3087 ((fI h14 x0 3087) + 1) := ⟨_, rfl⟩
  replace hq := hq h17 e18
  refine x_putI fdX12_378 xty_I1 dX12_lay_37 t16 (Or.inl (by rw [t16]; rfl)) xnI rfl e18 ?_
  exact x_vret rfl dX12_lay_40 hq
theorem rX12_lay {G : xG} {fr lo : Nat} {x0 : Nat} {x1 : Int32} {x2 : Int32} {x3 : Int32} {h : xH} {Q : Outcome → xH → Prop} (hq : bX12_lay G fr lo x0 x1 x2 x3 h Q) : xR G YX12_lay fr lo [rv x0, .int x1, .int x2, .int x3] h Q := by
  show xP _ _ _ _ _ (lv_args 0 _) _ _ _
  rw [show lv_args 0 [rv x0, .int x1, .int x2, .int x3] = [(0, rv x0), (1, .int x1), (2, .int x2), (3, .int x3)] from (xla1 (rv_cat _) (xla1 rfl (xla1 rfl (xla1 rfl xla0))))]
  exact uX12_lay hq
set_option maxRecDepth 100000 in
theorem dX12_isLetter_0 : decode cX12_isLetter 0 = .ok (.iload_n 0, 1) := by decide +kernel
set_option maxRecDepth 100000 in
theorem dX12_isLetter_1 : decode cX12_isLetter 1 = .ok (.bipush 97, 2) := by decide +kernel
set_option maxRecDepth 100000 in
theorem dX12_isLetter_3 : decode cX12_isLetter 3 = .ok (.if_icmp .lt 9, 3) := by decide +kernel
set_option maxRecDepth 100000 in
theorem dX12_isLetter_6 : decode cX12_isLetter 6 = .ok (.iload_n 0, 1) := by decide +kernel
set_option maxRecDepth 100000 in
theorem dX12_isLetter_7 : decode cX12_isLetter 7 = .ok (.bipush 122, 2) := by decide +kernel
set_option maxRecDepth 100000 in
theorem dX12_isLetter_9 : decode cX12_isLetter 9 = .ok (.if_icmp .le 15, 3) := by decide +kernel
set_option maxRecDepth 100000 in
theorem dX12_isLetter_12 : decode cX12_isLetter 12 = .ok (.iload_n 0, 1) := by decide +kernel
set_option maxRecDepth 100000 in
theorem dX12_isLetter_13 : decode cX12_isLetter 13 = .ok (.bipush 65, 2) := by decide +kernel
set_option maxRecDepth 100000 in
theorem dX12_isLetter_15 : decode cX12_isLetter 15 = .ok (.if_icmp .lt 13, 3) := by decide +kernel
set_option maxRecDepth 100000 in
theorem dX12_isLetter_18 : decode cX12_isLetter 18 = .ok (.iload_n 0, 1) := by decide +kernel
set_option maxRecDepth 100000 in
theorem dX12_isLetter_19 : decode cX12_isLetter 19 = .ok (.bipush 90, 2) := by decide +kernel
set_option maxRecDepth 100000 in
theorem dX12_isLetter_21 : decode cX12_isLetter 21 = .ok (.if_icmp .gt 7, 3) := by decide +kernel
set_option maxRecDepth 100000 in
theorem dX12_isLetter_24 : decode cX12_isLetter 24 = .ok (.iconst 1, 1) := by decide +kernel
set_option maxRecDepth 100000 in
theorem dX12_isLetter_25 : decode cX12_isLetter 25 = .ok (.goto 4, 3) := by decide +kernel
set_option maxRecDepth 100000 in
theorem dX12_isLetter_28 : decode cX12_isLetter 28 = .ok (.iconst 0, 1) := by decide +kernel
set_option maxRecDepth 100000 in
theorem dX12_isLetter_29 : decode cX12_isLetter 29 = .ok (.ireturn, 1) := by decide +kernel
set_option maxRecDepth 100000 in
def bX12_isLetter_29 (G : xG) (fr lo : Nat) (s0 : Int32) (h : xH) (Q : Outcome → xH → Prop) : Prop := xbz s0 ∧ Q (.returned (some (.int s0))) h
set_option maxRecDepth 100000 in
theorem uX12_isLetter_29 {G : xG} {fr lo : Nat} {s0 : Int32} {h : xH} {Q : Outcome → xH → Prop} (hq : bX12_isLetter_29 G fr lo s0 h Q) : xP G YX12_isLetter fr lo 29 [] [.int s0] h Q := by
  unfold bX12_isLetter_29 at hq
  obtain ⟨g1, hq⟩ := hq
  exact x_iret rfl (xnZ g1) dX12_isLetter_29 hq
set_option maxRecDepth 100000 in
def bX12_isLetter_28 (G : xG) (fr lo : Nat) (h : xH) (Q : Outcome → xH → Prop) : Prop := bX12_isLetter_29 G fr lo 0 h Q
set_option maxRecDepth 100000 in
theorem uX12_isLetter_28 {G : xG} {fr lo : Nat} {h : xH} {Q : Outcome → xH → Prop} (hq : bX12_isLetter_28 G fr lo h Q) : xP G YX12_isLetter fr lo 28 [] [] h Q := by
  unfold bX12_isLetter_28 at hq
  refine x_iconst (v := 0) dX12_isLetter_28 (by decide) ?_
  exact uX12_isLetter_29 hq
set_option maxRecDepth 100000 in
def bX12_isLetter_24 (G : xG) (fr lo : Nat) (h : xH) (Q : Outcome → xH → Prop) : Prop := bX12_isLetter_29 G fr lo 1 h Q
set_option maxRecDepth 100000 in
theorem uX12_isLetter_24 {G : xG} {fr lo : Nat} {h : xH} {Q : Outcome → xH → Prop} (hq : bX12_isLetter_24 G fr lo h Q) : xP G YX12_isLetter fr lo 24 [] [] h Q := by
  unfold bX12_isLetter_24 at hq
  refine x_iconst (v := 1) dX12_isLetter_24 (by decide) ?_
  refine x_goto (tgt := 29) dX12_isLetter_25 (by decide) ?_
  exact uX12_isLetter_29 hq
set_option maxRecDepth 100000 in
def bX12_isLetter_12 (G : xG) (fr lo : Nat) (x0 : Int32) (h : xH) (Q : Outcome → xH → Prop) : Prop := ((x0 < 65 → bX12_isLetter_28 G fr lo h Q) ∧ (¬ x0 < 65 → ((90 < x0 → bX12_isLetter_28 G fr lo h Q) ∧ (¬ 90 < x0 → bX12_isLetter_24 G fr lo h Q))))
set_option maxRecDepth 100000 in
theorem uX12_isLetter_12 {G : xG} {fr lo : Nat} {x0 : Int32} {h : xH} {Q : Outcome → xH → Prop} (hq : bX12_isLetter_12 G fr lo x0 h Q) : xP G YX12_isLetter fr lo 12 [(0, .int x0)] [] h Q := by
  unfold bX12_isLetter_12 at hq
  refine x_iload_n 0 dX12_isLetter_12 rfl ?_
  refine x_bipush (v := 65) dX12_isLetter_13 (by decide) ?_
  refine x_icmp_lt (tgt := 28) dX12_isLetter_15 (by decide) (fun c1 => ?_) (fun c1 => ?_)
  · replace hq := hq.1 c1
    refine xP.pick (lv' := []) [] rfl ?_
    exact uX12_isLetter_28 hq
  · replace hq := hq.2 c1
    refine x_iload_n 0 dX12_isLetter_18 rfl ?_
    refine x_bipush (v := 90) dX12_isLetter_19 (by decide) ?_
    refine x_icmp_gt (tgt := 28) dX12_isLetter_21 (by decide) (fun c2 => ?_) (fun c2 => ?_)
    · replace hq := hq.1 c2
      refine xP.pick (lv' := []) [] rfl ?_
      exact uX12_isLetter_28 hq
    · replace hq := hq.2 c2
      refine xP.pick (lv' := []) [] rfl ?_
      exact uX12_isLetter_24 hq
set_option maxRecDepth 100000 in
def bX12_isLetter (G : xG) (fr lo : Nat) (x0 : Int32) (h : xH) (Q : Outcome → xH → Prop) : Prop := ((x0 < 97 → bX12_isLetter_12 G fr lo x0 h Q) ∧ (¬ x0 < 97 → ((x0 ≤ 122 → bX12_isLetter_24 G fr lo h Q) ∧ (¬ x0 ≤ 122 → bX12_isLetter_12 G fr lo x0 h Q))))
set_option maxRecDepth 100000 in
theorem uX12_isLetter {G : xG} {fr lo : Nat} {x0 : Int32} {h : xH} {Q : Outcome → xH → Prop} (hq : bX12_isLetter G fr lo x0 h Q) : xP G YX12_isLetter fr lo 0 [(0, .int x0)] [] h Q := by
  unfold bX12_isLetter at hq
  refine x_iload_n 0 dX12_isLetter_0 rfl ?_
  refine x_bipush (v := 97) dX12_isLetter_1 (by decide) ?_
  refine x_icmp_lt (tgt := 12) dX12_isLetter_3 (by decide) (fun c1 => ?_) (fun c1 => ?_)
  · replace hq := hq.1 c1
    exact uX12_isLetter_12 hq
  · replace hq := hq.2 c1
    refine x_iload_n 0 dX12_isLetter_6 rfl ?_
    refine x_bipush (v := 122) dX12_isLetter_7 (by decide) ?_
    refine x_icmp_le (tgt := 24) dX12_isLetter_9 (by decide) (fun c2 => ?_) (fun c2 => ?_)
    · replace hq := hq.1 c2
      refine xP.pick (lv' := []) [] rfl ?_
      exact uX12_isLetter_24 hq
    · replace hq := hq.2 c2
      exact uX12_isLetter_12 hq
theorem rX12_isLetter {G : xG} {fr lo : Nat} {x0 : Int32} {h : xH} {Q : Outcome → xH → Prop} (hq : bX12_isLetter G fr lo x0 h Q) : xR G YX12_isLetter fr lo [.int x0] h Q := by
  show xP _ _ _ _ _ (lv_args 0 _) _ _ _
  rw [show lv_args 0 [.int x0] = [(0, .int x0)] from (xla1 rfl xla0)]
  exact uX12_isLetter hq
set_option maxRecDepth 100000 in
theorem dX12_isDigit_0 : decode cX12_isDigit 0 = .ok (.iload_n 0, 1) := by decide +kernel
set_option maxRecDepth 100000 in
theorem dX12_isDigit_1 : decode cX12_isDigit 1 = .ok (.bipush 48, 2) := by decide +kernel
set_option maxRecDepth 100000 in
theorem dX12_isDigit_3 : decode cX12_isDigit 3 = .ok (.if_icmp .lt 13, 3) := by decide +kernel
set_option maxRecDepth 100000 in
theorem dX12_isDigit_6 : decode cX12_isDigit 6 = .ok (.iload_n 0, 1) := by decide +kernel
set_option maxRecDepth 100000 in
theorem dX12_isDigit_7 : decode cX12_isDigit 7 = .ok (.bipush 57, 2) := by decide +kernel
set_option maxRecDepth 100000 in
theorem dX12_isDigit_9 : decode cX12_isDigit 9 = .ok (.if_icmp .gt 7, 3) := by decide +kernel
set_option maxRecDepth 100000 in
theorem dX12_isDigit_12 : decode cX12_isDigit 12 = .ok (.iconst 1, 1) := by decide +kernel
set_option maxRecDepth 100000 in
theorem dX12_isDigit_13 : decode cX12_isDigit 13 = .ok (.goto 4, 3) := by decide +kernel
set_option maxRecDepth 100000 in
theorem dX12_isDigit_16 : decode cX12_isDigit 16 = .ok (.iconst 0, 1) := by decide +kernel
set_option maxRecDepth 100000 in
theorem dX12_isDigit_17 : decode cX12_isDigit 17 = .ok (.ireturn, 1) := by decide +kernel
set_option maxRecDepth 100000 in
def bX12_isDigit_17 (G : xG) (fr lo : Nat) (s0 : Int32) (h : xH) (Q : Outcome → xH → Prop) : Prop := xbz s0 ∧ Q (.returned (some (.int s0))) h
set_option maxRecDepth 100000 in
theorem uX12_isDigit_17 {G : xG} {fr lo : Nat} {s0 : Int32} {h : xH} {Q : Outcome → xH → Prop} (hq : bX12_isDigit_17 G fr lo s0 h Q) : xP G YX12_isDigit fr lo 17 [] [.int s0] h Q := by
  unfold bX12_isDigit_17 at hq
  obtain ⟨g1, hq⟩ := hq
  exact x_iret rfl (xnZ g1) dX12_isDigit_17 hq
set_option maxRecDepth 100000 in
def bX12_isDigit_16 (G : xG) (fr lo : Nat) (h : xH) (Q : Outcome → xH → Prop) : Prop := bX12_isDigit_17 G fr lo 0 h Q
set_option maxRecDepth 100000 in
theorem uX12_isDigit_16 {G : xG} {fr lo : Nat} {h : xH} {Q : Outcome → xH → Prop} (hq : bX12_isDigit_16 G fr lo h Q) : xP G YX12_isDigit fr lo 16 [] [] h Q := by
  unfold bX12_isDigit_16 at hq
  refine x_iconst (v := 0) dX12_isDigit_16 (by decide) ?_
  exact uX12_isDigit_17 hq
set_option maxRecDepth 100000 in
def bX12_isDigit (G : xG) (fr lo : Nat) (x0 : Int32) (h : xH) (Q : Outcome → xH → Prop) : Prop := ((x0 < 48 → bX12_isDigit_16 G fr lo h Q) ∧ (¬ x0 < 48 → ((57 < x0 → bX12_isDigit_16 G fr lo h Q) ∧ (¬ 57 < x0 → bX12_isDigit_17 G fr lo 1 h Q))))
set_option maxRecDepth 100000 in
theorem uX12_isDigit {G : xG} {fr lo : Nat} {x0 : Int32} {h : xH} {Q : Outcome → xH → Prop} (hq : bX12_isDigit G fr lo x0 h Q) : xP G YX12_isDigit fr lo 0 [(0, .int x0)] [] h Q := by
  unfold bX12_isDigit at hq
  refine x_iload_n 0 dX12_isDigit_0 rfl ?_
  refine x_bipush (v := 48) dX12_isDigit_1 (by decide) ?_
  refine x_icmp_lt (tgt := 16) dX12_isDigit_3 (by decide) (fun c1 => ?_) (fun c1 => ?_)
  · replace hq := hq.1 c1
    refine xP.pick (lv' := []) [] rfl ?_
    exact uX12_isDigit_16 hq
  · replace hq := hq.2 c1
    refine x_iload_n 0 dX12_isDigit_6 rfl ?_
    refine x_bipush (v := 57) dX12_isDigit_7 (by decide) ?_
    refine x_icmp_gt (tgt := 16) dX12_isDigit_9 (by decide) (fun c2 => ?_) (fun c2 => ?_)
    · replace hq := hq.1 c2
      refine xP.pick (lv' := []) [] rfl ?_
      exact uX12_isDigit_16 hq
    · replace hq := hq.2 c2
      refine x_iconst (v := 1) dX12_isDigit_12 (by decide) ?_
      refine x_goto (tgt := 17) dX12_isDigit_13 (by decide) ?_
      refine xP.pick (lv' := []) [] rfl ?_
      exact uX12_isDigit_17 hq
theorem rX12_isDigit {G : xG} {fr lo : Nat} {x0 : Int32} {h : xH} {Q : Outcome → xH → Prop} (hq : bX12_isDigit G fr lo x0 h Q) : xR G YX12_isDigit fr lo [.int x0] h Q := by
  show xP _ _ _ _ _ (lv_args 0 _) _ _ _
  rw [show lv_args 0 [.int x0] = [(0, .int x0)] from (xla1 rfl xla0)]
  exact uX12_isDigit hq
set_option maxRecDepth 100000 in
theorem dX12_number_0 : decode cX12_number 0 = .ok (.aload_n 0, 1) := by decide +kernel
set_option maxRecDepth 100000 in
theorem dX12_number_1 : decode cX12_number 1 = .ok (.getfield 269, 3) := by decide +kernel
set_option maxRecDepth 100000 in
theorem dX12_number_4 : decode cX12_number 4 = .ok (.istore_n 2, 1) := by decide +kernel
set_option maxRecDepth 100000 in
theorem dX12_number_5 : decode cX12_number 5 = .ok (.iconst 0, 1) := by decide +kernel
set_option maxRecDepth 100000 in
theorem dX12_number_6 : decode cX12_number 6 = .ok (.istore_n 3, 1) := by decide +kernel
set_option maxRecDepth 100000 in
theorem dX12_number_7 : decode cX12_number 7 = .ok (.iconst 0, 1) := by decide +kernel
set_option maxRecDepth 100000 in
theorem dX12_number_8 : decode cX12_number 8 = .ok (.istore 4, 2) := by decide +kernel
set_option maxRecDepth 100000 in
theorem dX12_number_10 : decode cX12_number 10 = .ok (.lconst 0, 1) := by decide +kernel
set_option maxRecDepth 100000 in
theorem dX12_number_11 : decode cX12_number 11 = .ok (.lstore 5, 2) := by decide +kernel
set_option maxRecDepth 100000 in
theorem dX12_number_13 : decode cX12_number 13 = .ok (.aload_n 0, 1) := by decide +kernel
set_option maxRecDepth 100000 in
theorem dX12_number_14 : decode cX12_number 14 = .ok (.iload_n 2, 1) := by decide +kernel
set_option maxRecDepth 100000 in
theorem dX12_number_15 : decode cX12_number 15 = .ok (.invokevirtual 272, 3) := by decide +kernel
set_option maxRecDepth 100000 in
theorem dX12_number_18 : decode cX12_number 18 = .ok (.invokestatic 383, 3) := by decide +kernel
set_option maxRecDepth 100000 in
theorem dX12_number_21 : decode cX12_number 21 = .ok (.ifCond .eq 40, 3) := by decide +kernel
set_option maxRecDepth 100000 in
theorem dX12_number_24 : decode cX12_number 24 = .ok (.lload 5, 2) := by decide +kernel
set_option maxRecDepth 100000 in
theorem dX12_number_26 : decode cX12_number 26 = .ok (.ldc2_w 387, 3) := by decide +kernel
set_option maxRecDepth 100000 in
theorem dX12_number_29 : decode cX12_number 29 = .ok (.lcmp, 1) := by decide +kernel
set_option maxRecDepth 100000 in
theorem dX12_number_30 : decode cX12_number 30 = .ok (.ifCond .ge 22, 3) := by decide +kernel
set_option maxRecDepth 100000 in
theorem dX12_number_33 : decode cX12_number 33 = .ok (.ldc2_w 389, 3) := by decide +kernel
set_option maxRecDepth 100000 in
theorem dX12_number_36 : decode cX12_number 36 = .ok (.lload 5, 2) := by decide +kernel
set_option maxRecDepth 100000 in
theorem dX12_number_38 : decode cX12_number 38 = .ok (.lmul, 1) := by decide +kernel
set_option maxRecDepth 100000 in
theorem dX12_number_39 : decode cX12_number 39 = .ok (.aload_n 0, 1) := by decide +kernel
set_option maxRecDepth 100000 in
theorem dX12_number_40 : decode cX12_number 40 = .ok (.iload_n 2, 1) := by decide +kernel
set_option maxRecDepth 100000 in
theorem dX12_number_41 : decode cX12_number 41 = .ok (.invokevirtual 272, 3) := by decide +kernel
set_option maxRecDepth 100000 in
theorem dX12_number_44 : decode cX12_number 44 = .ok (.i2l, 1) := by decide +kernel
set_option maxRecDepth 100000 in
theorem dX12_number_45 : decode cX12_number 45 = .ok (.ladd, 1) := by decide +kernel
set_option maxRecDepth 100000 in
theorem dX12_number_46 : decode cX12_number 46 = .ok (.ldc2_w 391, 3) := by decide +kernel
set_option maxRecDepth 100000 in
theorem dX12_number_49 : decode cX12_number 49 = .ok (.lsub, 1) := by decide +kernel
set_option maxRecDepth 100000 in
theorem dX12_number_50 : decode cX12_number 50 = .ok (.lstore 5, 2) := by decide +kernel
set_option maxRecDepth 100000 in
theorem dX12_number_52 : decode cX12_number 52 = .ok (.iinc 3 1, 3) := by decide +kernel
set_option maxRecDepth 100000 in
theorem dX12_number_55 : decode cX12_number 55 = .ok (.iinc 2 1, 3) := by decide +kernel
set_option maxRecDepth 100000 in
theorem dX12_number_58 : decode cX12_number 58 = .ok (.goto (-45), 3) := by decide +kernel
set_option maxRecDepth 100000 in
theorem dX12_number_61 : decode cX12_number 61 = .ok (.iconst 0, 1) := by decide +kernel
set_option maxRecDepth 100000 in
theorem dX12_number_62 : decode cX12_number 62 = .ok (.istore 7, 2) := by decide +kernel
set_option maxRecDepth 100000 in
theorem dX12_number_64 : decode cX12_number 64 = .ok (.aload_n 0, 1) := by decide +kernel
set_option maxRecDepth 100000 in
theorem dX12_number_65 : decode cX12_number 65 = .ok (.iload_n 2, 1) := by decide +kernel
set_option maxRecDepth 100000 in
theorem dX12_number_66 : decode cX12_number 66 = .ok (.invokevirtual 272, 3) := by decide +kernel
set_option maxRecDepth 100000 in
theorem dX12_number_69 : decode cX12_number 69 = .ok (.bipush 46, 2) := by decide +kernel
set_option maxRecDepth 100000 in
theorem dX12_number_71 : decode cX12_number 71 = .ok (.if_icmp .ne 73, 3) := by decide +kernel
set_option maxRecDepth 100000 in
theorem dX12_number_74 : decode cX12_number 74 = .ok (.aload_n 0, 1) := by decide +kernel
set_option maxRecDepth 100000 in
theorem dX12_number_75 : decode cX12_number 75 = .ok (.iload_n 2, 1) := by decide +kernel
set_option maxRecDepth 100000 in
theorem dX12_number_76 : decode cX12_number 76 = .ok (.iconst 1, 1) := by decide +kernel
set_option maxRecDepth 100000 in
theorem dX12_number_77 : decode cX12_number 77 = .ok (.iadd, 1) := by decide +kernel
set_option maxRecDepth 100000 in
theorem dX12_number_78 : decode cX12_number 78 = .ok (.invokevirtual 272, 3) := by decide +kernel
set_option maxRecDepth 100000 in
theorem dX12_number_81 : decode cX12_number 81 = .ok (.invokestatic 383, 3) := by decide +kernel
set_option maxRecDepth 100000 in
theorem dX12_number_84 : decode cX12_number 84 = .ok (.ifCond .eq 60, 3) := by decide +kernel
set_option maxRecDepth 100000 in
theorem dX12_number_87 : decode cX12_number 87 = .ok (.iconst 1, 1) := by decide +kernel
set_option maxRecDepth 100000 in
theorem dX12_number_88 : decode cX12_number 88 = .ok (.istore 7, 2) := by decide +kernel
set_option maxRecDepth 100000 in
theorem dX12_number_90 : decode cX12_number 90 = .ok (.iinc 2 1, 3) := by decide +kernel
set_option maxRecDepth 100000 in
theorem dX12_number_93 : decode cX12_number 93 = .ok (.aload_n 0, 1) := by decide +kernel
set_option maxRecDepth 100000 in
theorem dX12_number_94 : decode cX12_number 94 = .ok (.iload_n 2, 1) := by decide +kernel
set_option maxRecDepth 100000 in
theorem dX12_number_95 : decode cX12_number 95 = .ok (.invokevirtual 272, 3) := by decide +kernel
set_option maxRecDepth 100000 in
theorem dX12_number_98 : decode cX12_number 98 = .ok (.invokestatic 383, 3) := by decide +kernel
set_option maxRecDepth 100000 in
theorem dX12_number_101 : decode cX12_number 101 = .ok (.ifCond .eq 43, 3) := by decide +kernel
set_option maxRecDepth 100000 in
theorem dX12_number_104 : decode cX12_number 104 = .ok (.lload 5, 2) := by decide +kernel
set_option maxRecDepth 100000 in
theorem dX12_number_106 : decode cX12_number 106 = .ok (.ldc2_w 387, 3) := by decide +kernel
set_option maxRecDepth 100000 in
theorem dX12_number_109 : decode cX12_number 109 = .ok (.lcmp, 1) := by decide +kernel
set_option maxRecDepth 100000 in
theorem dX12_number_110 : decode cX12_number 110 = .ok (.ifCond .ge 22, 3) := by decide +kernel
set_option maxRecDepth 100000 in
theorem dX12_number_113 : decode cX12_number 113 = .ok (.ldc2_w 389, 3) := by decide +kernel
set_option maxRecDepth 100000 in
theorem dX12_number_116 : decode cX12_number 116 = .ok (.lload 5, 2) := by decide +kernel
set_option maxRecDepth 100000 in
theorem dX12_number_118 : decode cX12_number 118 = .ok (.lmul, 1) := by decide +kernel
set_option maxRecDepth 100000 in
theorem dX12_number_119 : decode cX12_number 119 = .ok (.aload_n 0, 1) := by decide +kernel
set_option maxRecDepth 100000 in
theorem dX12_number_120 : decode cX12_number 120 = .ok (.iload_n 2, 1) := by decide +kernel
set_option maxRecDepth 100000 in
theorem dX12_number_121 : decode cX12_number 121 = .ok (.invokevirtual 272, 3) := by decide +kernel
set_option maxRecDepth 100000 in
theorem dX12_number_124 : decode cX12_number 124 = .ok (.i2l, 1) := by decide +kernel
set_option maxRecDepth 100000 in
theorem dX12_number_125 : decode cX12_number 125 = .ok (.ladd, 1) := by decide +kernel
set_option maxRecDepth 100000 in
theorem dX12_number_126 : decode cX12_number 126 = .ok (.ldc2_w 391, 3) := by decide +kernel
set_option maxRecDepth 100000 in
theorem dX12_number_129 : decode cX12_number 129 = .ok (.lsub, 1) := by decide +kernel
set_option maxRecDepth 100000 in
theorem dX12_number_130 : decode cX12_number 130 = .ok (.lstore 5, 2) := by decide +kernel
set_option maxRecDepth 100000 in
theorem dX12_number_132 : decode cX12_number 132 = .ok (.iinc 3 1, 3) := by decide +kernel
set_option maxRecDepth 100000 in
theorem dX12_number_135 : decode cX12_number 135 = .ok (.iinc 4 1, 3) := by decide +kernel
set_option maxRecDepth 100000 in
theorem dX12_number_138 : decode cX12_number 138 = .ok (.iinc 2 1, 3) := by decide +kernel
set_option maxRecDepth 100000 in
theorem dX12_number_141 : decode cX12_number 141 = .ok (.goto (-48), 3) := by decide +kernel
set_option maxRecDepth 100000 in
theorem dX12_number_144 : decode cX12_number 144 = .ok (.aload_n 0, 1) := by decide +kernel
set_option maxRecDepth 100000 in
theorem dX12_number_145 : decode cX12_number 145 = .ok (.iload_n 2, 1) := by decide +kernel
set_option maxRecDepth 100000 in
theorem dX12_number_146 : decode cX12_number 146 = .ok (.invokevirtual 272, 3) := by decide +kernel
set_option maxRecDepth 100000 in
theorem dX12_number_149 : decode cX12_number 149 = .ok (.bipush 101, 2) := by decide +kernel
set_option maxRecDepth 100000 in
theorem dX12_number_151 : decode cX12_number 151 = .ok (.if_icmp .eq 13, 3) := by decide +kernel
set_option maxRecDepth 100000 in
theorem dX12_number_154 : decode cX12_number 154 = .ok (.aload_n 0, 1) := by decide +kernel
set_option maxRecDepth 100000 in
theorem dX12_number_155 : decode cX12_number 155 = .ok (.iload_n 2, 1) := by decide +kernel
set_option maxRecDepth 100000 in
theorem dX12_number_156 : decode cX12_number 156 = .ok (.invokevirtual 272, 3) := by decide +kernel
set_option maxRecDepth 100000 in
theorem dX12_number_159 : decode cX12_number 159 = .ok (.bipush 69, 2) := by decide +kernel
set_option maxRecDepth 100000 in
theorem dX12_number_161 : decode cX12_number 161 = .ok (.if_icmp .ne 9, 3) := by decide +kernel
set_option maxRecDepth 100000 in
theorem dX12_number_164 : decode cX12_number 164 = .ok (.iload_n 2, 1) := by decide +kernel
set_option maxRecDepth 100000 in
theorem dX12_number_165 : decode cX12_number 165 = .ok (.iconst 1, 1) := by decide +kernel
set_option maxRecDepth 100000 in
theorem dX12_number_166 : decode cX12_number 166 = .ok (.iadd, 1) := by decide +kernel
set_option maxRecDepth 100000 in
theorem dX12_number_167 : decode cX12_number 167 = .ok (.goto 4, 3) := by decide +kernel
set_option maxRecDepth 100000 in
theorem dX12_number_170 : decode cX12_number 170 = .ok (.iconst (-1), 1) := by decide +kernel
set_option maxRecDepth 100000 in
theorem dX12_number_171 : decode cX12_number 171 = .ok (.istore 8, 2) := by decide +kernel
set_option maxRecDepth 100000 in
theorem dX12_number_173 : decode cX12_number 173 = .ok (.iconst 0, 1) := by decide +kernel
set_option maxRecDepth 100000 in
theorem dX12_number_174 : decode cX12_number 174 = .ok (.istore 9, 2) := by decide +kernel
set_option maxRecDepth 100000 in
theorem dX12_number_176 : decode cX12_number 176 = .ok (.iconst 0, 1) := by decide +kernel
set_option maxRecDepth 100000 in
theorem dX12_number_177 : decode cX12_number 177 = .ok (.istore 10, 2) := by decide +kernel
set_option maxRecDepth 100000 in
theorem dX12_number_179 : decode cX12_number 179 = .ok (.iconst 0, 1) := by decide +kernel
set_option maxRecDepth 100000 in
theorem dX12_number_180 : decode cX12_number 180 = .ok (.istore 11, 2) := by decide +kernel
set_option maxRecDepth 100000 in
theorem dX12_number_182 : decode cX12_number 182 = .ok (.iload 8, 2) := by decide +kernel
set_option maxRecDepth 100000 in
theorem dX12_number_184 : decode cX12_number 184 = .ok (.iconst (-1), 1) := by decide +kernel
set_option maxRecDepth 100000 in
theorem dX12_number_185 : decode cX12_number 185 = .ok (.if_icmp .eq 107, 3) := by decide +kernel
set_option maxRecDepth 100000 in
theorem dX12_number_188 : decode cX12_number 188 = .ok (.aload_n 0, 1) := by decide +kernel
set_option maxRecDepth 100000 in
theorem dX12_number_189 : decode cX12_number 189 = .ok (.iload 8, 2) := by decide +kernel
set_option maxRecDepth 100000 in
theorem dX12_number_191 : decode cX12_number 191 = .ok (.invokevirtual 272, 3) := by decide +kernel
set_option maxRecDepth 100000 in
theorem dX12_number_194 : decode cX12_number 194 = .ok (.bipush 45, 2) := by decide +kernel
set_option maxRecDepth 100000 in
theorem dX12_number_196 : decode cX12_number 196 = .ok (.if_icmp .ne 7, 3) := by decide +kernel
set_option maxRecDepth 100000 in
theorem dX12_number_199 : decode cX12_number 199 = .ok (.iconst 1, 1) := by decide +kernel
set_option maxRecDepth 100000 in
theorem dX12_number_200 : decode cX12_number 200 = .ok (.goto 4, 3) := by decide +kernel
set_option maxRecDepth 100000 in
theorem dX12_number_203 : decode cX12_number 203 = .ok (.iconst 0, 1) := by decide +kernel
set_option maxRecDepth 100000 in
theorem dX12_number_204 : decode cX12_number 204 = .ok (.istore 9, 2) := by decide +kernel
set_option maxRecDepth 100000 in
theorem dX12_number_206 : decode cX12_number 206 = .ok (.iload 9, 2) := by decide +kernel
set_option maxRecDepth 100000 in
theorem dX12_number_208 : decode cX12_number 208 = .ok (.ifCond .ne 14, 3) := by decide +kernel
set_option maxRecDepth 100000 in
theorem dX12_number_211 : decode cX12_number 211 = .ok (.aload_n 0, 1) := by decide +kernel
set_option maxRecDepth 100000 in
theorem dX12_number_212 : decode cX12_number 212 = .ok (.iload 8, 2) := by decide +kernel
set_option maxRecDepth 100000 in
theorem dX12_number_214 : decode cX12_number 214 = .ok (.invokevirtual 272, 3) := by decide +kernel
set_option maxRecDepth 100000 in
theorem dX12_number_217 : decode cX12_number 217 = .ok (.bipush 43, 2) := by decide +kernel
set_option maxRecDepth 100000 in
theorem dX12_number_219 : decode cX12_number 219 = .ok (.if_icmp .ne 6, 3) := by decide +kernel
set_option maxRecDepth 100000 in
theorem dX12_number_222 : decode cX12_number 222 = .ok (.iinc 8 1, 3) := by decide +kernel
set_option maxRecDepth 100000 in
theorem dX12_number_225 : decode cX12_number 225 = .ok (.aload_n 0, 1) := by decide +kernel
set_option maxRecDepth 100000 in
theorem dX12_number_226 : decode cX12_number 226 = .ok (.iload 8, 2) := by decide +kernel
set_option maxRecDepth 100000 in
theorem dX12_number_228 : decode cX12_number 228 = .ok (.invokevirtual 272, 3) := by decide +kernel
set_option maxRecDepth 100000 in
theorem dX12_number_231 : decode cX12_number 231 = .ok (.invokestatic 383, 3) := by decide +kernel
set_option maxRecDepth 100000 in
theorem dX12_number_234 : decode cX12_number 234 = .ok (.ifCond .eq 58, 3) := by decide +kernel
set_option maxRecDepth 100000 in
theorem dX12_number_237 : decode cX12_number 237 = .ok (.iconst 1, 1) := by decide +kernel
set_option maxRecDepth 100000 in
theorem dX12_number_238 : decode cX12_number 238 = .ok (.istore 7, 2) := by decide +kernel
set_option maxRecDepth 100000 in
theorem dX12_number_240 : decode cX12_number 240 = .ok (.aload_n 0, 1) := by decide +kernel
set_option maxRecDepth 100000 in
theorem dX12_number_241 : decode cX12_number 241 = .ok (.iload 8, 2) := by decide +kernel
set_option maxRecDepth 100000 in
theorem dX12_number_243 : decode cX12_number 243 = .ok (.invokevirtual 272, 3) := by decide +kernel
set_option maxRecDepth 100000 in
theorem dX12_number_246 : decode cX12_number 246 = .ok (.invokestatic 383, 3) := by decide +kernel
set_option maxRecDepth 100000 in
theorem dX12_number_249 : decode cX12_number 249 = .ok (.ifCond .eq 40, 3) := by decide +kernel
set_option maxRecDepth 100000 in
theorem dX12_number_252 : decode cX12_number 252 = .ok (.iload 11, 2) := by decide +kernel
set_option maxRecDepth 100000 in
theorem dX12_number_254 : decode cX12_number 254 = .ok (.iconst 2, 1) := by decide +kernel
set_option maxRecDepth 100000 in
theorem dX12_number_255 : decode cX12_number 255 = .ok (.if_icmp .ge 21, 3) := by decide +kernel
set_option maxRecDepth 100000 in
theorem dX12_number_258 : decode cX12_number 258 = .ok (.bipush 10, 2) := by decide +kernel
set_option maxRecDepth 100000 in
theorem dX12_number_260 : decode cX12_number 260 = .ok (.iload 10, 2) := by decide +kernel
set_option maxRecDepth 100000 in
theorem dX12_number_262 : decode cX12_number 262 = .ok (.imul, 1) := by decide +kernel
set_option maxRecDepth 100000 in
theorem dX12_number_263 : decode cX12_number 263 = .ok (.aload_n 0, 1) := by decide +kernel
set_option maxRecDepth 100000 in
theorem dX12_number_264 : decode cX12_number 264 = .ok (.iload 8, 2) := by decide +kernel
set_option maxRecDepth 100000 in
theorem dX12_number_266 : decode cX12_number 266 = .ok (.invokevirtual 272, 3) := by decide +kernel
set_option maxRecDepth 100000 in
theorem dX12_number_269 : decode cX12_number 269 = .ok (.iadd, 1) := by decide +kernel
set_option maxRecDepth 100000 in
theorem dX12_number_270 : decode cX12_number 270 = .ok (.bipush 48, 2) := by decide +kernel
set_option maxRecDepth 100000 in
theorem dX12_number_272 : decode cX12_number 272 = .ok (.isub, 1) := by decide +kernel
set_option maxRecDepth 100000 in
theorem dX12_number_273 : decode cX12_number 273 = .ok (.goto 5, 3) := by decide +kernel
set_option maxRecDepth 100000 in
theorem dX12_number_276 : decode cX12_number 276 = .ok (.iload 10, 2) := by decide +kernel
set_option maxRecDepth 100000 in
theorem dX12_number_278 : decode cX12_number 278 = .ok (.istore 10, 2) := by decide +kernel
set_option maxRecDepth 100000 in
theorem dX12_number_280 : decode cX12_number 280 = .ok (.iinc 11 1, 3) := by decide +kernel
set_option maxRecDepth 100000 in
theorem dX12_number_283 : decode cX12_number 283 = .ok (.iinc 8 1, 3) := by decide +kernel
set_option maxRecDepth 100000 in
theorem dX12_number_286 : decode cX12_number 286 = .ok (.goto (-46), 3) := by decide +kernel
set_option maxRecDepth 100000 in
theorem dX12_number_289 : decode cX12_number 289 = .ok (.iload 8, 2) := by decide +kernel
set_option maxRecDepth 100000 in
theorem dX12_number_291 : decode cX12_number 291 = .ok (.istore_n 2, 1) := by decide +kernel
set_option maxRecDepth 100000 in
theorem dX12_number_292 : decode cX12_number 292 = .ok (.aload_n 0, 1) := by decide +kernel
set_option maxRecDepth 100000 in
theorem dX12_number_293 : decode cX12_number 293 = .ok (.iload_n 2, 1) := by decide +kernel
set_option maxRecDepth 100000 in
theorem dX12_number_294 : decode cX12_number 294 = .ok (.putfield 269, 3) := by decide +kernel
set_option maxRecDepth 100000 in
theorem dX12_number_297 : decode cX12_number 297 = .ok (.iload 7, 2) := by decide +kernel
set_option maxRecDepth 100000 in
theorem dX12_number_299 : decode cX12_number 299 = .ok (.ifCond .ne 76, 3) := by decide +kernel
set_option maxRecDepth 100000 in
theorem dX12_number_302 : decode cX12_number 302 = .ok (.iload_n 1, 1) := by decide +kernel
set_option maxRecDepth 100000 in
theorem dX12_number_303 : decode cX12_number 303 = .ok (.istore 12, 2) := by decide +kernel
set_option maxRecDepth 100000 in
theorem dX12_number_305 : decode cX12_number 305 = .ok (.aload_n 0, 1) := by decide +kernel
set_option maxRecDepth 100000 in
theorem dX12_number_306 : decode cX12_number 306 = .ok (.iload 12, 2) := by decide +kernel
set_option maxRecDepth 100000 in
theorem dX12_number_308 : decode cX12_number 308 = .ok (.invokevirtual 272, 3) := by decide +kernel
set_option maxRecDepth 100000 in
theorem dX12_number_311 : decode cX12_number 311 = .ok (.bipush 48, 2) := by decide +kernel
set_option maxRecDepth 100000 in
theorem dX12_number_313 : decode cX12_number 313 = .ok (.if_icmp .ne 17, 3) := by decide +kernel
set_option maxRecDepth 100000 in
theorem dX12_number_316 : decode cX12_number 316 = .ok (.iload 12, 2) := by decide +kernel
set_option maxRecDepth 100000 in
theorem dX12_number_318 : decode cX12_number 318 = .ok (.iload_n 2, 1) := by decide +kernel
set_option maxRecDepth 100000 in
theorem dX12_number_319 : decode cX12_number 319 = .ok (.iconst 1, 1) := by decide +kernel
set_option maxRecDepth 100000 in
theorem dX12_number_320 : decode cX12_number 320 = .ok (.isub, 1) := by decide +kernel
set_option maxRecDepth 100000 in
theorem dX12_number_321 : decode cX12_number 321 = .ok (.if_icmp .ge 9, 3) := by decide +kernel
set_option maxRecDepth 100000 in
theorem dX12_number_324 : decode cX12_number 324 = .ok (.iinc 12 1, 3) := by decide +kernel
set_option maxRecDepth 100000 in
theorem dX12_number_327 : decode cX12_number 327 = .ok (.goto (-22), 3) := by decide +kernel
set_option maxRecDepth 100000 in
theorem dX12_number_330 : decode cX12_number 330 = .ok (.iload_n 2, 1) := by decide +kernel
set_option maxRecDepth 100000 in
theorem dX12_number_331 : decode cX12_number 331 = .ok (.iload 12, 2) := by decide +kernel
set_option maxRecDepth 100000 in
theorem dX12_number_333 : decode cX12_number 333 = .ok (.isub, 1) := by decide +kernel
set_option maxRecDepth 100000 in
theorem dX12_number_334 : decode cX12_number 334 = .ok (.bipush 10, 2) := by decide +kernel
set_option maxRecDepth 100000 in
theorem dX12_number_336 : decode cX12_number 336 = .ok (.if_icmp .gt 17, 3) := by decide +kernel
set_option maxRecDepth 100000 in
theorem dX12_number_339 : decode cX12_number 339 = .ok (.aload_n 0, 1) := by decide +kernel
set_option maxRecDepth 100000 in
theorem dX12_number_340 : decode cX12_number 340 = .ok (.iload 12, 2) := by decide +kernel
set_option maxRecDepth 100000 in
theorem dX12_number_342 : decode cX12_number 342 = .ok (.iload_n 2, 1) := by decide +kernel
set_option maxRecDepth 100000 in
theorem dX12_number_343 : decode cX12_number 343 = .ok (.invokevirtual 393, 3) := by decide +kernel
set_option maxRecDepth 100000 in
theorem dX12_number_346 : decode cX12_number 346 = .ok (.ldc2_w 397, 3) := by decide +kernel
set_option maxRecDepth 100000 in
theorem dX12_number_349 : decode cX12_number 349 = .ok (.lcmp, 1) := by decide +kernel
set_option maxRecDepth 100000 in
theorem dX12_number_350 : decode cX12_number 350 = .ok (.ifCond .le 9, 3) := by decide +kernel
set_option maxRecDepth 100000 in
theorem dX12_number_353 : decode cX12_number 353 = .ok (.aload_n 0, 1) := by decide +kernel
set_option maxRecDepth 100000 in
theorem dX12_number_354 : decode cX12_number 354 = .ok (.iconst 1, 1) := by decide +kernel
set_option maxRecDepth 100000 in
theorem dX12_number_355 : decode cX12_number 355 = .ok (.iload_n 1, 1) := by decide +kernel
set_option maxRecDepth 100000 in
theorem dX12_number_356 : decode cX12_number 356 = .ok (.invokevirtual 276, 3) := by decide +kernel
set_option maxRecDepth 100000 in
theorem dX12_number_359 : decode cX12_number 359 = .ok (.aload_n 0, 1) := by decide +kernel
set_option maxRecDepth 100000 in
theorem dX12_number_360 : decode cX12_number 360 = .ok (.bipush 41, 2) := by decide +kernel
set_option maxRecDepth 100000 in
theorem dX12_number_362 : decode cX12_number 362 = .ok (.iload_n 1, 1) := by decide +kernel
set_option maxRecDepth 100000 in
theorem dX12_number_363 : decode cX12_number 363 = .ok (.aload_n 0, 1) := by decide +kernel
set_option maxRecDepth 100000 in
theorem dX12_number_364 : decode cX12_number 364 = .ok (.iload 12, 2) := by decide +kernel
set_option maxRecDepth 100000 in
theorem dX12_number_366 : decode cX12_number 366 = .ok (.iload_n 2, 1) := by decide +kernel
set_option maxRecDepth 100000 in
theorem dX12_number_367 : decode cX12_number 367 = .ok (.invokevirtual 393, 3) := by decide +kernel
set_option maxRecDepth 100000 in
theorem dX12_number_370 : decode cX12_number 370 = .ok (.l2i, 1) := by decide +kernel
set_option maxRecDepth 100000 in
theorem dX12_number_371 : decode cX12_number 371 = .ok (.invokevirtual 399, 3) := by decide +kernel
set_option maxRecDepth 100000 in
theorem dX12_number_374 : decode cX12_number 374 = .ok (.return_, 1) := by decide +kernel
set_option maxRecDepth 100000 in
theorem dX12_number_375 : decode cX12_number 375 = .ok (.iload_n 3, 1) := by decide +kernel
set_option maxRecDepth 100000 in
theorem dX12_number_376 : decode cX12_number 376 = .ok (.bipush 15, 2) := by decide +kernel
set_option maxRecDepth 100000 in
theorem dX12_number_378 : decode cX12_number 378 = .ok (.if_icmp .gt 9, 3) := by decide +kernel
set_option maxRecDepth 100000 in
theorem dX12_number_381 : decode cX12_number 381 = .ok (.iload 11, 2) := by decide +kernel
set_option maxRecDepth 100000 in
theorem dX12_number_383 : decode cX12_number 383 = .ok (.iconst 2, 1) := by decide +kernel
set_option maxRecDepth 100000 in
theorem dX12_number_384 : decode cX12_number 384 = .ok (.if_icmp .le 9, 3) := by decide +kernel
set_option maxRecDepth 100000 in
theorem dX12_number_387 : decode cX12_number 387 = .ok (.aload_n 0, 1) := by decide +kernel
set_option maxRecDepth 100000 in
theorem dX12_number_388 : decode cX12_number 388 = .ok (.iconst 1, 1) := by decide +kernel
set_option maxRecDepth 100000 in
theorem dX12_number_389 : decode cX12_number 389 = .ok (.iload_n 1, 1) := by decide +kernel
set_option maxRecDepth 100000 in
theorem dX12_number_390 : decode cX12_number 390 = .ok (.invokevirtual 276, 3) := by decide +kernel
set_option maxRecDepth 100000 in
theorem dX12_number_393 : decode cX12_number 393 = .ok (.aload_n 0, 1) := by decide +kernel
set_option maxRecDepth 100000 in
theorem dX12_number_394 : decode cX12_number 394 = .ok (.getfield 38, 3) := by decide +kernel
set_option maxRecDepth 100000 in
theorem dX12_number_397 : decode cX12_number 397 = .ok (.aload_n 0, 1) := by decide +kernel
set_option maxRecDepth 100000 in
theorem dX12_number_398 : decode cX12_number 398 = .ok (.getfield 378, 3) := by decide +kernel
set_option maxRecDepth 100000 in
theorem dX12_number_401 : decode cX12_number 401 = .ok (.lload 5, 2) := by decide +kernel
set_option maxRecDepth 100000 in
theorem dX12_number_403 : decode cX12_number 403 = .ok (.iload 4, 2) := by decide +kernel
set_option maxRecDepth 100000 in
theorem dX12_number_405 : decode cX12_number 405 = .ok (.iload 9, 2) := by decide +kernel
set_option maxRecDepth 100000 in
theorem dX12_number_407 : decode cX12_number 407 = .ok (.iload 10, 2) := by decide +kernel
set_option maxRecDepth 100000 in
theorem dX12_number_409 : decode cX12_number 409 = .ok (.invokestatic 403, 3) := by decide +kernel
set_option maxRecDepth 100000 in
theorem dX12_number_412 : decode cX12_number 412 = .ok (.dastore, 1) := by decide +kernel
set_option maxRecDepth 100000 in
theorem dX12_number_413 : decode cX12_number 413 = .ok (.aload_n 0, 1) := by decide +kernel
set_option maxRecDepth 100000 in
theorem dX12_number_414 : decode cX12_number 414 = .ok (.bipush 42, 2) := by decide +kernel
set_option maxRecDepth 100000 in
theorem dX12_number_416 : decode cX12_number 416 = .ok (.iload_n 1, 1) := by decide +kernel
set_option maxRecDepth 100000 in
theorem dX12_number_417 : decode cX12_number 417 = .ok (.iconst 0, 1) := by decide +kernel
set_option maxRecDepth 100000 in
theorem dX12_number_418 : decode cX12_number 418 = .ok (.invokevirtual 399, 3) := by decide +kernel
set_option maxRecDepth 100000 in
theorem dX12_number_421 : decode cX12_number 421 = .ok (.return_, 1) := by decide +kernel
def lX12_number_13 (G : xG) (fr lo : Nat) (x0 : Nat) (x1 : Int32) (x2 : Int32) (x3 : Int32) (x4 : Int32) (x5 : Int64) (h : xH) (Q : Outcome → xH → Prop) : Prop := xP G YX12_number fr lo 13 [(0, rv x0), (1, .int x1), (2, .int x2), (3, .int x3), (4, .int x4), (5, .long x5)] [] h Q
def lX12_number_93 (G : xG) (fr lo : Nat) (x0 : Nat) (x1 : Int32) (x2 : Int32) (x3 : Int32) (x4 : Int32) (x5 : Int64) (x7 : Int32) (h : xH) (Q : Outcome → xH → Prop) : Prop := xP G YX12_number fr lo 93 [(0, rv x0), (1, .int x1), (2, .int x2), (3, .int x3), (4, .int x4), (5, .long x5), (7, .int x7)] [] h Q
def lX12_number_240 (G : xG) (fr lo : Nat) (x0 : Nat) (x1 : Int32) (x3 : Int32) (x4 : Int32) (x5 : Int64) (x7 : Int32) (x8 : Int32) (x9 : Int32) (x10 : Int32) (x11 : Int32) (h : xH) (Q : Outcome → xH → Prop) : Prop := xP G YX12_number fr lo 240 [(0, rv x0), (1, .int x1), (3, .int x3), (4, .int x4), (5, .long x5), (7, .int x7), (8, .int x8), (9, .int x9), (10, .int x10), (11, .int x11)] [] h Q
def lX12_number_305 (G : xG) (fr lo : Nat) (x0 : Nat) (x1 : Int32) (x2 : Int32) (x12 : Int32) (h : xH) (Q : Outcome → xH → Prop) : Prop := xP G YX12_number fr lo 305 [(0, rv x0), (1, .int x1), (2, .int x2), (12, .int x12)] [] h Q
set_option maxRecDepth 100000 in
def bX12_number_393 (G : xG) (fr lo : Nat) (x0 : Nat) (x1 : Int32) (x4 : Int32) (x5 : Int64) (x9 : Int32) (x10 : Int32) (h : xH) (Q : Outcome → xH → Prop) : Prop := tg h x0 = 13 ∧ 1 ≤ fr ∧ 20 ≤ lo ∧ xRd G YX12_realOf (fr - 1) (lo - 20) [.long x5, .int x4, .int x9, .int x10] h (fun x5 h4 => xext h h4 → tg h4 (fR h x0 3086) = 102 ∧ vp_in (fI h x0 3087) (ln h4 (fR h x0 3086)) ∧ (∀ h9 : xH, h9 = tD h4 (fR h x0 3086) (Int32.toNatClampNeg (fI h x0 3087)) x5 → 1 ≤ fr ∧ 15 ≤ lo ∧ xRv G YX12_lay (fr - 1) (lo - 15) [rv x0, .int 42, .int x1, .int 0] h9 (fun h15 => xext h9 h15 → Q (.returned none) h15) (fun r h2 => Q (.threw r) h2))) (fun r h2 => Q (.threw r) h2)
set_option maxRecDepth 100000 in
theorem uX12_number_393 {G : xG} {fr lo : Nat} {x0 : Nat} {x1 : Int32} {x4 : Int32} {x5 : Int64} {x9 : Int32} {x10 : Int32} {h : xH} {Q : Outcome → xH → Prop} (hq : bX12_number_393 G fr lo x0 x1 x4 x5 x9 x10 h Q) : xP G YX12_number fr lo 393 [(0, rv x0), (1, .int x1), (4, .int x4), (5, .long x5), (9, .int x9), (10, .int x10)] [] h Q := by
  unfold bX12_number_393 at hq
  refine x_aload_n 0 dX12_number_393 rfl ?_
  obtain ⟨g1, hq⟩ := hq
  refine x_get (v := rv (fR h x0 3086)) fdX12_38 dX12_number_394 g1 rfl ?_
  refine x_aload_n 0 dX12_number_397 rfl ?_
  refine x_get (v := .int (fI h x0 3087)) fdX12_378 dX12_number_398 g1 rfl ?_
  refine x_lload 3 dX12_number_401 rfl ?_
  refine x_iload 2 dX12_number_403 rfl ?_
  refine x_iload 4 dX12_number_405 rfl ?_
  refine x_iload 5 dX12_number_407 rfl ?_
  obtain ⟨g2, g3, hq⟩ := hq
  refine x_callS (Yc := YX12_realOf) (as := [.long x5, .int x4, .int x9, .int x10]) (st := [.int (fI h x0 3087), rv (fR h x0 3086)]) q3757 msX12_realOf rfl dX12_number_409 (xle (xal2 rfl (xal1 rfl (xal1 rfl (xal1 rfl xal0)))) (by decide)) (xfr g2) (xlo (xsw1 rfl (xsw1 (rv_cat _) xsw0)) (by decide) g3) (xKd hq (fun x5 h4 hq e6 => ?_) (fun _ _ q _ => q))
  replace hq := hq e6
  obtain ⟨g7, hq⟩ := hq
  obtain ⟨i8, hq⟩ := hq
  obtain ⟨h9, e10⟩ : ∃ y, y = tD h4 (fR h x0 3086) (Int32.toNatClampNeg (fI h x0 3087)) x5 := ⟨_, rfl⟩
  replace hq := hq h9 e10
  refine x_dast' g7 i8 dX12_number_412 e10 ?_
  refine x_aload_n 0 dX12_number_413 rfl ?_
  refine x_bipush (v := 42) dX12_number_414 (by decide) ?_
  refine x_iload_n 1 dX12_number_416 rfl ?_
  refine x_iconst (v := 0) dX12_number_417 (by decide) ?_
  have t11 : tg h4 x0 = 13 := e6.tg g1 (by decide)
  have t12 : tg h9 x0 = 13 := by rw [e10]; exact t11
  obtain ⟨g13, g14, hq⟩ := hq
  refine x_callV (Yc := YX12_lay) (as := [.int 42, .int x1, .int 0]) (st := []) q3735 mvX12_lay t12 rfl dX12_number_418 (xle (xal1 (rv_cat _) (xal1 rfl (xal1 rfl (xal1 rfl xal0)))) (by decide)) (xfr g13) (xlo xsw0 (by decide) g14) (xKv hq (fun h15 hq e17 => ?_) (fun _ _ q _ => q))
  replace hq := hq e17
  exact x_vret rfl dX12_number_421 hq
set_option maxRecDepth 100000 in
def bX12_number_387 (G : xG) (fr lo : Nat) (x0 : Nat) (x1 : Int32) (x4 : Int32) (x5 : Int64) (x9 : Int32) (x10 : Int32) (h : xH) (Q : Outcome → xH → Prop) : Prop := tg h x0 = 13 ∧ 1 ≤ fr ∧ 14 ≤ lo ∧ xRv G YX12_stop (fr - 1) (lo - 14) [rv x0, .int 1, .int x1] h (fun h4 => xext h h4 → bX12_number_393 G fr lo x0 x1 x4 x5 x9 x10 h4 Q) (fun r h2 => Q (.threw r) h2)
set_option maxRecDepth 100000 in
theorem uX12_number_387 {G : xG} {fr lo : Nat} {x0 : Nat} {x1 : Int32} {x4 : Int32} {x5 : Int64} {x9 : Int32} {x10 : Int32} {h : xH} {Q : Outcome → xH → Prop} (hq : bX12_number_387 G fr lo x0 x1 x4 x5 x9 x10 h Q) : xP G YX12_number fr lo 387 [(0, rv x0), (1, .int x1), (4, .int x4), (5, .long x5), (9, .int x9), (10, .int x10)] [] h Q := by
  unfold bX12_number_387 at hq
  refine x_aload_n 0 dX12_number_387 rfl ?_
  refine x_iconst (v := 1) dX12_number_388 (by decide) ?_
  refine x_iload_n 1 dX12_number_389 rfl ?_
  obtain ⟨g1, hq⟩ := hq
  obtain ⟨g2, g3, hq⟩ := hq
  refine x_callV (Yc := YX12_stop) (as := [.int 1, .int x1]) (st := []) q3729 mvX12_stop g1 rfl dX12_number_390 (xle (xal1 (rv_cat _) (xal1 rfl (xal1 rfl xal0))) (by decide)) (xfr g2) (xlo xsw0 (by decide) g3) (xKv hq (fun h4 hq e6 => ?_) (fun _ _ q _ => q))
  replace hq := hq e6
  exact uX12_number_393 hq
set_option maxRecDepth 100000 in
def bX12_number_359 (G : xG) (fr lo : Nat) (x0 : Nat) (x1 : Int32) (x2 : Int32) (x12 : Int32) (h : xH) (Q : Outcome → xH → Prop) : Prop := tg h x0 = 13 ∧ 1 ≤ fr ∧ 20 ≤ lo ∧ xRj G YX12_valueOf (fr - 1) (lo - 20) [rv x0, .int x12, .int x2] h (fun x5 h4 => xext h h4 → 1 ≤ fr ∧ 15 ≤ lo ∧ xRv G YX12_lay (fr - 1) (lo - 15) [rv x0, .int 41, .int x1, .int (Int64.toInt32 x5)] h4 (fun h10 => xext h4 h10 → Q (.returned none) h10) (fun r h2 => Q (.threw r) h2)) (fun r h2 => Q (.threw r) h2)
set_option maxRecDepth 100000 in
theorem uX12_number_359 {G : xG} {fr lo : Nat} {x0 : Nat} {x1 : Int32} {x2 : Int32} {x12 : Int32} {h : xH} {Q : Outcome → xH → Prop} (hq : bX12_number_359 G fr lo x0 x1 x2 x12 h Q) : xP G YX12_number fr lo 359 [(0, rv x0), (1, .int x1), (2, .int x2), (12, .int x12)] [] h Q := by
  unfold bX12_number_359 at hq
  refine x_aload_n 0 dX12_number_359 rfl ?_
  refine x_bipush (v := 41) dX12_number_360 (by decide) ?_
  refine x_iload_n 1 dX12_number_362 rfl ?_
  refine x_aload_n 0 dX12_number_363 rfl ?_
  refine x_iload 3 dX12_number_364 rfl ?_
  refine x_iload_n 2 dX12_number_366 rfl ?_
  obtain ⟨g1, hq⟩ := hq
  obtain ⟨g2, g3, hq⟩ := hq
  refine x_callV (Yc := YX12_valueOf) (as := [.int x12, .int x2]) (st := [.int x1, .int 41, rv x0]) q3752 mvX12_valueOf g1 rfl dX12_number_367 (xle (xal1 (rv_cat _) (xal1 rfl (xal1 rfl xal0))) (by decide)) (xfr g2) (xlo (xsw1 rfl (xsw1 rfl (xsw1 (rv_cat _) xsw0))) (by decide) g3) (xKj hq (fun x5 h4 hq e6 => ?_) (fun _ _ q _ => q))
  replace hq := hq e6
  refine x_l2i dX12_number_370 ?_
  have t7 : tg h4 x0 = 13 := e6.tg g1 (by decide)
  obtain ⟨g8, g9, hq⟩ := hq
  refine x_callV (Yc := YX12_lay) (as := [.int 41, .int x1, .int (Int64.toInt32 x5)]) (st := []) q3735 mvX12_lay t7 rfl dX12_number_371 (xle (xal1 (rv_cat _) (xal1 rfl (xal1 rfl (xal1 rfl xal0)))) (by decide)) (xfr g8) (xlo xsw0 (by decide) g9) (xKv hq (fun h10 hq e12 => ?_) (fun _ _ q _ => q))
  replace hq := hq e12
  exact x_vret rfl dX12_number_374 hq
set_option maxRecDepth 100000 in
def bX12_number_353 (G : xG) (fr lo : Nat) (x0 : Nat) (x1 : Int32) (x2 : Int32) (x12 : Int32) (h : xH) (Q : Outcome → xH → Prop) : Prop := tg h x0 = 13 ∧ 1 ≤ fr ∧ 14 ≤ lo ∧ xRv G YX12_stop (fr - 1) (lo - 14) [rv x0, .int 1, .int x1] h (fun h4 => xext h h4 → bX12_number_359 G fr lo x0 x1 x2 x12 h4 Q) (fun r h2 => Q (.threw r) h2)
set_option maxRecDepth 100000 in
theorem uX12_number_353 {G : xG} {fr lo : Nat} {x0 : Nat} {x1 : Int32} {x2 : Int32} {x12 : Int32} {h : xH} {Q : Outcome → xH → Prop} (hq : bX12_number_353 G fr lo x0 x1 x2 x12 h Q) : xP G YX12_number fr lo 353 [(0, rv x0), (1, .int x1), (2, .int x2), (12, .int x12)] [] h Q := by
  unfold bX12_number_353 at hq
  refine x_aload_n 0 dX12_number_353 rfl ?_
  refine x_iconst (v := 1) dX12_number_354 (by decide) ?_
  refine x_iload_n 1 dX12_number_355 rfl ?_
  obtain ⟨g1, hq⟩ := hq
  obtain ⟨g2, g3, hq⟩ := hq
  refine x_callV (Yc := YX12_stop) (as := [.int 1, .int x1]) (st := []) q3729 mvX12_stop g1 rfl dX12_number_356 (xle (xal1 (rv_cat _) (xal1 rfl (xal1 rfl xal0))) (by decide)) (xfr g2) (xlo xsw0 (by decide) g3) (xKv hq (fun h4 hq e6 => ?_) (fun _ _ q _ => q))
  replace hq := hq e6
  exact uX12_number_359 hq
set_option maxRecDepth 100000 in
def bX12_number_330 (G : xG) (fr lo : Nat) (x0 : Nat) (x1 : Int32) (x2 : Int32) (x12 : Int32) (h : xH) (Q : Outcome → xH → Prop) : Prop := ((10 < (x2 - x12) → bX12_number_353 G fr lo x0 x1 x2 x12 h Q) ∧ (¬ 10 < (x2 - x12) → tg h x0 = 13 ∧ 1 ≤ fr ∧ 17 ≤ lo ∧ xRj G YX12_valueOf (fr - 1) (lo - 17) [rv x0, .int x12, .int x2] h (fun x6 h5 => xext h h5 → (((lg_cmp x6 2147483647) ≤ 0 → bX12_number_359 G fr lo x0 x1 x2 x12 h5 Q) ∧ (¬ (lg_cmp x6 2147483647) ≤ 0 → bX12_number_353 G fr lo x0 x1 x2 x12 h5 Q))) (fun r h2 => Q (.threw r) h2)))
set_option maxRecDepth 100000 in
theorem uX12_number_330 {G : xG} {fr lo : Nat} {x0 : Nat} {x1 : Int32} {x2 : Int32} {x12 : Int32} {h : xH} {Q : Outcome → xH → Prop} (hq : bX12_number_330 G fr lo x0 x1 x2 x12 h Q) : xP G YX12_number fr lo 330 [(0, rv x0), (1, .int x1), (2, .int x2), (12, .int x12)] [] h Q := by
  unfold bX12_number_330 at hq
  refine x_iload_n 2 dX12_number_330 rfl ?_
  refine x_iload 3 dX12_number_331 rfl ?_
  refine x_isub dX12_number_333 ?_
  refine x_bipush (v := 10) dX12_number_334 (by decide) ?_
  refine x_icmp_gt (tgt := 353) dX12_number_336 (by decide) (fun c1 => ?_) (fun c1 => ?_)
  · replace hq := hq.1 c1
    exact uX12_number_353 hq
  · replace hq := hq.2 c1
    refine x_aload_n 0 dX12_number_339 rfl ?_
    refine x_iload 3 dX12_number_340 rfl ?_
    refine x_iload_n 2 dX12_number_342 rfl ?_
    obtain ⟨g2, hq⟩ := hq
    obtain ⟨g3, g4, hq⟩ := hq
    refine x_callV (Yc := YX12_valueOf) (as := [.int x12, .int x2]) (st := []) q3752 mvX12_valueOf g2 rfl dX12_number_343 (xle (xal1 (rv_cat _) (xal1 rfl (xal1 rfl xal0))) (by decide)) (xfr g3) (xlo xsw0 (by decide) g4) (xKj hq (fun x6 h5 hq e7 => ?_) (fun _ _ q _ => q))
    replace hq := hq e7
    refine x_ldc2 (v := 2147483647) q3756 dX12_number_346 ?_
    refine x_lcmp dX12_number_349 ?_
    refine x_if_le (tgt := 359) dX12_number_350 (by decide) (fun c8 => ?_) (fun c8 => ?_)
    · replace hq := hq.1 c8
      exact uX12_number_359 hq
    · replace hq := hq.2 c8
      exact uX12_number_353 hq
set_option maxRecDepth 100000 in
def bX12_number_305 (G : xG) (fr lo : Nat) (x0 : Nat) (x1 : Int32) (x2 : Int32) (x12 : Int32) (h : xH) (Q : Outcome → xH → Prop) : Prop := tg h x0 = 13 ∧ 1 ≤ fr ∧ 13 ≤ lo ∧ xRi G YX12_byteAt (fr - 1) (lo - 13) [rv x0, .int x12] h (fun x5 h4 => xext h h4 → ((¬ x5 = 48 → bX12_number_330 G fr lo x0 x1 x2 x12 h4 Q) ∧ (x5 = 48 → (((x2 - 1) ≤ x12 → bX12_number_330 G fr lo x0 x1 x2 x12 h4 Q) ∧ (¬ (x2 - 1) ≤ x12 → lX12_number_305 G fr lo x0 x1 x2 (x12 + 1) h4 Q))))) (fun r h2 => Q (.threw r) h2)
set_option maxRecDepth 100000 in
theorem uX12_number_305 {G : xG} {fr lo : Nat} {x0 : Nat} {x1 : Int32} {x2 : Int32} {x12 : Int32} {h : xH} {Q : Outcome → xH → Prop} (hq : bX12_number_305 G fr lo x0 x1 x2 x12 h Q) : xP G YX12_number fr lo 305 [(0, rv x0), (1, .int x1), (2, .int x2), (12, .int x12)] [] h Q := by
  unfold bX12_number_305 at hq
  refine x_aload_n 0 dX12_number_305 rfl ?_
  refine x_iload 3 dX12_number_306 rfl ?_
  obtain ⟨g1, hq⟩ := hq
  obtain ⟨g2, g3, hq⟩ := hq
  refine x_callV (Yc := YX12_byteAt) (as := [.int x12]) (st := []) q3725 mvX12_byteAt g1 rfl dX12_number_308 (xle (xal1 (rv_cat _) (xal1 rfl xal0)) (by decide)) (xfr g2) (xlo xsw0 (by decide) g3) (xKi hq (fun x5 h4 hq e6 => ?_) (fun _ _ q _ => q))
  replace hq := hq e6
  refine x_bipush (v := 48) dX12_number_311 (by decide) ?_
  refine x_icmp_ne (tgt := 330) dX12_number_313 (by decide) (fun c7 => ?_) (fun c7 => ?_)
  · replace hq := hq.1 c7
    exact uX12_number_330 hq
  · replace hq := hq.2 c7
    refine x_iload 3 dX12_number_316 rfl ?_
    refine x_iload_n 2 dX12_number_318 rfl ?_
    refine x_iconst (v := 1) dX12_number_319 (by decide) ?_
    refine x_isub dX12_number_320 ?_
    refine x_icmp_ge (tgt := 330) dX12_number_321 (by decide) (fun c8 => ?_) (fun c8 => ?_)
    · replace hq := hq.1 c8
      exact uX12_number_330 hq
    · replace hq := hq.2 c8
      refine x_iinc (lv' := [(12, .int (x12 + 1)), (0, rv x0), (1, .int x1), (2, .int x2)]) 3 dX12_number_324 rfl (by decide) rfl ?_
      refine x_goto (tgt := 305) dX12_number_327 (by decide) ?_
      refine xP.pick (lv' := [(0, rv x0), (1, .int x1), (2, .int x2), (12, .int (x12 + 1))]) [1, 2, 3, 0] rfl ?_
      exact hq
set_option maxRecDepth 100000 in
def bX12_number_292 (G : xG) (fr lo : Nat) (x0 : Nat) (x1 : Int32) (x2 : Int32) (x3 : Int32) (x4 : Int32) (x5 : Int64) (x7 : Int32) (x9 : Int32) (x10 : Int32) (x11 : Int32) (h : xH) (Q : Outcome → xH → Prop) : Prop := tg h x0 = 13 ∧ (∀ h2 : xH, h2 = sI h x0 3081 x2 → ((¬ x7 = 0 → ((15 < x3 → bX12_number_387 G fr lo x0 x1 x4 x5 x9 x10 h2 Q) ∧ (¬ 15 < x3 → ((x11 ≤ 2 → bX12_number_393 G fr lo x0 x1 x4 x5 x9 x10 h2 Q) ∧ (¬ x11 ≤ 2 → bX12_number_387 G fr lo x0 x1 x4 x5 x9 x10 h2 Q))))) ∧ (x7 = 0 → lX12_number_305 G fr lo x0 x1 x2 x1 h2 Q)))
set_option maxRecDepth 100000 in
theorem uX12_number_292 {G : xG} {fr lo : Nat} {x0 : Nat} {x1 : Int32} {x2 : Int32} {x3 : Int32} {x4 : Int32} {x5 : Int64} {x7 : Int32} {x9 : Int32} {x10 : Int32} {x11 : Int32} {h : xH} {Q : Outcome → xH → Prop} (hq : bX12_number_292 G fr lo x0 x1 x2 x3 x4 x5 x7 x9 x10 x11 h Q) : xP G YX12_number fr lo 292 [(0, rv x0), (1, .int x1), (2, .int x2), (3, .int x3), (4, .int x4), (5, .long x5), (7, .int x7), (9, .int x9), (10, .int x10), (11, .int x11)] [] h Q := by
  unfold bX12_number_292 at hq
  refine x_aload_n 0 dX12_number_292 rfl ?_
  refine x_iload_n 2 dX12_number_293 rfl ?_
  obtain ⟨g1, hq⟩ := hq
  obtain ⟨h2, e3⟩ : ∃ y, y = sI h x0 3081 x2 := ⟨_, rfl⟩
  replace hq := hq h2 e3
  refine x_putI fdX12_269 xty_I1 dX12_number_294 g1 (Or.inl (by rw [g1]; rfl)) xnI rfl e3 ?_
  refine x_iload 6 dX12_number_297 rfl ?_
  refine x_if_ne (tgt := 375) dX12_number_299 (by decide) (fun c4 => ?_) (fun c4 => ?_)
  · replace hq := hq.1 c4
    refine x_iload_n 3 dX12_number_375 rfl ?_
    refine x_bipush (v := 15) dX12_number_376 (by decide) ?_
    refine x_icmp_gt (tgt := 387) dX12_number_378 (by decide) (fun c5 => ?_) (fun c5 => ?_)
    · replace hq := hq.1 c5
      refine xP.pick (lv' := [(0, rv x0), (1, .int x1), (4, .int x4), (5, .long x5), (9, .int x9), (10, .int x10)]) [0, 1, 4, 5, 7, 8] rfl ?_
      exact uX12_number_387 hq
    · replace hq := hq.2 c5
      refine x_iload 9 dX12_number_381 rfl ?_
      refine x_iconst (v := 2) dX12_number_383 (by decide) ?_
      refine x_icmp_le (tgt := 393) dX12_number_384 (by decide) (fun c6 => ?_) (fun c6 => ?_)
      · replace hq := hq.1 c6
        refine xP.pick (lv' := [(0, rv x0), (1, .int x1), (4, .int x4), (5, .long x5), (9, .int x9), (10, .int x10)]) [0, 1, 4, 5, 7, 8] rfl ?_
        exact uX12_number_393 hq
      · replace hq := hq.2 c6
        refine xP.pick (lv' := [(0, rv x0), (1, .int x1), (4, .int x4), (5, .long x5), (9, .int x9), (10, .int x10)]) [0, 1, 4, 5, 7, 8] rfl ?_
        exact uX12_number_387 hq
  · replace hq := hq.2 c4
    refine x_iload_n 1 dX12_number_302 rfl ?_
    refine x_istore (lv' := [(12, .int x1), (0, rv x0), (1, .int x1), (2, .int x2), (3, .int x3), (4, .int x4), (5, .long x5), (7, .int x7), (9, .int x9), (10, .int x10), (11, .int x11)]) dX12_number_303 (by decide) rfl ?_
    refine xP.pick (lv' := [(0, rv x0), (1, .int x1), (2, .int x2), (12, .int x1)]) [1, 2, 3, 0] rfl ?_
    exact hq
set_option maxRecDepth 100000 in
def bX12_number_278 (G : xG) (fr lo : Nat) (x0 : Nat) (x1 : Int32) (x3 : Int32) (x4 : Int32) (x5 : Int64) (x7 : Int32) (x8 : Int32) (x9 : Int32) (x11 : Int32) (s0 : Int32) (h : xH) (Q : Outcome → xH → Prop) : Prop := lX12_number_240 G fr lo x0 x1 x3 x4 x5 x7 (x8 + 1) x9 s0 (x11 + 1) h Q
set_option maxRecDepth 100000 in
theorem uX12_number_278 {G : xG} {fr lo : Nat} {x0 : Nat} {x1 : Int32} {x3 : Int32} {x4 : Int32} {x5 : Int64} {x7 : Int32} {x8 : Int32} {x9 : Int32} {x11 : Int32} {s0 : Int32} {h : xH} {Q : Outcome → xH → Prop} (hq : bX12_number_278 G fr lo x0 x1 x3 x4 x5 x7 x8 x9 x11 s0 h Q) : xP G YX12_number fr lo 278 [(0, rv x0), (1, .int x1), (3, .int x3), (4, .int x4), (5, .long x5), (7, .int x7), (8, .int x8), (9, .int x9), (11, .int x11)] [.int s0] h Q := by
  unfold bX12_number_278 at hq
  refine x_istore (lv' := [(10, .int s0), (0, rv x0), (1, .int x1), (3, .int x3), (4, .int x4), (5, .long x5), (7, .int x7), (8, .int x8), (9, .int x9), (11, .int x11)]) dX12_number_278 (by decide) rfl ?_
  refine x_iinc (lv' := [(11, .int (x11 + 1)), (10, .int s0), (0, rv x0), (1, .int x1), (3, .int x3), (4, .int x4), (5, .long x5), (7, .int x7), (8, .int x8), (9, .int x9)]) 9 dX12_number_280 rfl (by decide) rfl ?_
  refine x_iinc (lv' := [(8, .int (x8 + 1)), (11, .int (x11 + 1)), (10, .int s0), (0, rv x0), (1, .int x1), (3, .int x3), (4, .int x4), (5, .long x5), (7, .int x7), (9, .int x9)]) 8 dX12_number_283 rfl (by decide) rfl ?_
  refine x_goto (tgt := 240) dX12_number_286 (by decide) ?_
  refine xP.pick (lv' := [(0, rv x0), (1, .int x1), (3, .int x3), (4, .int x4), (5, .long x5), (7, .int x7), (8, .int (x8 + 1)), (9, .int x9), (10, .int s0), (11, .int (x11 + 1))]) [3, 4, 5, 6, 7, 8, 0, 9, 2, 1] rfl ?_
  exact hq
set_option maxRecDepth 100000 in
def bX12_number_240 (G : xG) (fr lo : Nat) (x0 : Nat) (x1 : Int32) (x3 : Int32) (x4 : Int32) (x5 : Int64) (x7 : Int32) (x8 : Int32) (x9 : Int32) (x10 : Int32) (x11 : Int32) (h : xH) (Q : Outcome → xH → Prop) : Prop := tg h x0 = 13 ∧ 1 ≤ fr ∧ 13 ≤ lo ∧ xRi G YX12_byteAt (fr - 1) (lo - 13) [rv x0, .int x8] h (fun x5 h4 => xext h h4 → 1 ≤ fr ∧ 12 ≤ lo ∧ xRi G YX12_isDigit (fr - 1) (lo - 12) [.int x5] h4 (fun x10 h9 => xext h4 h9 → ((x10 = 0 → bX12_number_292 G fr lo x0 x1 x8 x3 x4 x5 x7 x9 x10 x11 h9 Q) ∧ (¬ x10 = 0 → ((2 ≤ x11 → bX12_number_278 G fr lo x0 x1 x3 x4 x5 x7 x8 x9 x11 x10 h9 Q) ∧ (¬ 2 ≤ x11 → 1 ≤ fr ∧ 14 ≤ lo ∧ xRi G YX12_byteAt (fr - 1) (lo - 14) [rv x0, .int x8] h9 (fun x19 h18 => xext h9 h18 → bX12_number_278 G fr lo x0 x1 x3 x4 x5 x7 x8 x9 x11 (((10 * x10) + x19) - 48) h18 Q) (fun r h2 => Q (.threw r) h2)))))) (fun r h2 => Q (.threw r) h2)) (fun r h2 => Q (.threw r) h2)
set_option maxRecDepth 100000 in
theorem uX12_number_240 {G : xG} {fr lo : Nat} {x0 : Nat} {x1 : Int32} {x3 : Int32} {x4 : Int32} {x5 : Int64} {x7 : Int32} {x8 : Int32} {x9 : Int32} {x10 : Int32} {x11 : Int32} {h : xH} {Q : Outcome → xH → Prop} (hq : bX12_number_240 G fr lo x0 x1 x3 x4 x5 x7 x8 x9 x10 x11 h Q) : xP G YX12_number fr lo 240 [(0, rv x0), (1, .int x1), (3, .int x3), (4, .int x4), (5, .long x5), (7, .int x7), (8, .int x8), (9, .int x9), (10, .int x10), (11, .int x11)] [] h Q := by
  unfold bX12_number_240 at hq
  refine x_aload_n 0 dX12_number_240 rfl ?_
  refine x_iload 6 dX12_number_241 rfl ?_
  obtain ⟨g1, hq⟩ := hq
  obtain ⟨g2, g3, hq⟩ := hq
  refine x_callV (Yc := YX12_byteAt) (as := [.int x8]) (st := []) q3725 mvX12_byteAt g1 rfl dX12_number_243 (xle (xal1 (rv_cat _) (xal1 rfl xal0)) (by decide)) (xfr g2) (xlo xsw0 (by decide) g3) (xKi hq (fun x5 h4 hq e6 => ?_) (fun _ _ q _ => q))
  replace hq := hq e6
  obtain ⟨g7, g8, hq⟩ := hq
  refine x_callS (Yc := YX12_isDigit) (as := [.int x5]) (st := []) q3742 msX12_isDigit rfl dX12_number_246 (xle (xal1 rfl xal0) (by decide)) (xfr g7) (xlo xsw0 (by decide) g8) (xKi hq (fun x10 h9 hq e11 => ?_) (fun _ _ q _ => q))
  replace hq := hq e11
  refine x_if_eq (tgt := 289) dX12_number_249 (by decide) (fun c12 => ?_) (fun c12 => ?_)
  · replace hq := hq.1 c12
    refine x_iload 6 dX12_number_289 rfl ?_
    refine x_istore_n (lv' := [(2, .int x8), (0, rv x0), (1, .int x1), (3, .int x3), (4, .int x4), (5, .long x5), (7, .int x7), (8, .int x8), (9, .int x9), (10, .int x10), (11, .int x11)]) dX12_number_291 (by decide) rfl ?_
    refine xP.pick (lv' := [(0, rv x0), (1, .int x1), (2, .int x8), (3, .int x3), (4, .int x4), (5, .long x5), (7, .int x7), (9, .int x9), (10, .int x10), (11, .int x11)]) [1, 2, 0, 3, 4, 5, 6, 8, 9, 10] rfl ?_
    exact uX12_number_292 hq
  · replace hq := hq.2 c12
    refine x_iload 9 dX12_number_252 rfl ?_
    refine x_iconst (v := 2) dX12_number_254 (by decide) ?_
    refine x_icmp_ge (tgt := 276) dX12_number_255 (by decide) (fun c13 => ?_) (fun c13 => ?_)
    · replace hq := hq.1 c13
      refine x_iload 8 dX12_number_276 rfl ?_
      refine xP.pick (lv' := [(0, rv x0), (1, .int x1), (3, .int x3), (4, .int x4), (5, .long x5), (7, .int x7), (8, .int x8), (9, .int x9), (11, .int x11)]) [0, 1, 2, 3, 4, 5, 6, 7, 9] rfl ?_
      exact uX12_number_278 hq
    · replace hq := hq.2 c13
      refine x_bipush (v := 10) dX12_number_258 (by decide) ?_
      refine x_iload 8 dX12_number_260 rfl ?_
      refine x_imul dX12_number_262 ?_
      refine x_aload_n 0 dX12_number_263 rfl ?_
      refine x_iload 6 dX12_number_264 rfl ?_
      have t14 : tg h4 x0 = 13 := e6.tg g1 (by decide)
      have t15 : tg h9 x0 = 13 := e11.tg t14 (by decide)
      obtain ⟨g16, g17, hq⟩ := hq
      refine x_callV (Yc := YX12_byteAt) (as := [.int x8]) (st := [.int (10 * x10)]) q3725 mvX12_byteAt t15 rfl dX12_number_266 (xle (xal1 (rv_cat _) (xal1 rfl xal0)) (by decide)) (xfr g16) (xlo (xsw1 rfl xsw0) (by decide) g17) (xKi hq (fun x19 h18 hq e20 => ?_) (fun _ _ q _ => q))
      replace hq := hq e20
      refine x_iadd dX12_number_269 ?_
      refine x_bipush (v := 48) dX12_number_270 (by decide) ?_
      refine x_isub dX12_number_272 ?_
      refine x_goto (tgt := 278) dX12_number_273 (by decide) ?_
      refine xP.pick (lv' := [(0, rv x0), (1, .int x1), (3, .int x3), (4, .int x4), (5, .long x5), (7, .int x7), (8, .int x8), (9, .int x9), (11, .int x11)]) [0, 1, 2, 3, 4, 5, 6, 7, 9] rfl ?_
      exact uX12_number_278 hq
set_option maxRecDepth 100000 in
def bX12_number_225 (G : xG) (fr lo : Nat) (x0 : Nat) (x1 : Int32) (x2 : Int32) (x3 : Int32) (x4 : Int32) (x5 : Int64) (x7 : Int32) (x8 : Int32) (x9 : Int32) (x10 : Int32) (x11 : Int32) (h : xH) (Q : Outcome → xH → Prop) : Prop := tg h x0 = 13 ∧ 1 ≤ fr ∧ 13 ≤ lo ∧ xRi G YX12_byteAt (fr - 1) (lo - 13) [rv x0, .int x8] h (fun x5 h4 => xext h h4 → 1 ≤ fr ∧ 12 ≤ lo ∧ xRi G YX12_isDigit (fr - 1) (lo - 12) [.int x5] h4 (fun x10 h9 => xext h4 h9 → ((x10 = 0 → bX12_number_292 G fr lo x0 x1 x2 x3 x4 x5 x7 x9 x10 x11 h9 Q) ∧ (¬ x10 = 0 → lX12_number_240 G fr lo x0 x1 x3 x4 x5 1 x8 x9 x10 x11 h9 Q))) (fun r h2 => Q (.threw r) h2)) (fun r h2 => Q (.threw r) h2)
set_option maxRecDepth 100000 in
theorem uX12_number_225 {G : xG} {fr lo : Nat} {x0 : Nat} {x1 : Int32} {x2 : Int32} {x3 : Int32} {x4 : Int32} {x5 : Int64} {x7 : Int32} {x8 : Int32} {x9 : Int32} {x10 : Int32} {x11 : Int32} {h : xH} {Q : Outcome → xH → Prop} (hq : bX12_number_225 G fr lo x0 x1 x2 x3 x4 x5 x7 x8 x9 x10 x11 h Q) : xP G YX12_number fr lo 225 [(0, rv x0), (1, .int x1), (2, .int x2), (3, .int x3), (4, .int x4), (5, .long x5), (7, .int x7), (8, .int x8), (9, .int x9), (10, .int x10), (11, .int x11)] [] h Q := by
  unfold bX12_number_225 at hq
  refine x_aload_n 0 dX12_number_225 rfl ?_
  refine x_iload 7 dX12_number_226 rfl ?_
  obtain ⟨g1, hq⟩ := hq
  obtain ⟨g2, g3, hq⟩ := hq
  refine x_callV (Yc := YX12_byteAt) (as := [.int x8]) (st := []) q3725 mvX12_byteAt g1 rfl dX12_number_228 (xle (xal1 (rv_cat _) (xal1 rfl xal0)) (by decide)) (xfr g2) (xlo xsw0 (by decide) g3) (xKi hq (fun x5 h4 hq e6 => ?_) (fun _ _ q _ => q))
  replace hq := hq e6
  obtain ⟨g7, g8, hq⟩ := hq
  refine x_callS (Yc := YX12_isDigit) (as := [.int x5]) (st := []) q3742 msX12_isDigit rfl dX12_number_231 (xle (xal1 rfl xal0) (by decide)) (xfr g7) (xlo xsw0 (by decide) g8) (xKi hq (fun x10 h9 hq e11 => ?_) (fun _ _ q _ => q))
  replace hq := hq e11
  refine x_if_eq (tgt := 292) dX12_number_234 (by decide) (fun c12 => ?_) (fun c12 => ?_)
  · replace hq := hq.1 c12
    refine xP.pick (lv' := [(0, rv x0), (1, .int x1), (2, .int x2), (3, .int x3), (4, .int x4), (5, .long x5), (7, .int x7), (9, .int x9), (10, .int x10), (11, .int x11)]) [0, 1, 2, 3, 4, 5, 6, 8, 9, 10] rfl ?_
    exact uX12_number_292 hq
  · replace hq := hq.2 c12
    refine x_iconst (v := 1) dX12_number_237 (by decide) ?_
    refine x_istore (lv' := [(7, .int 1), (0, rv x0), (1, .int x1), (2, .int x2), (3, .int x3), (4, .int x4), (5, .long x5), (8, .int x8), (9, .int x9), (10, .int x10), (11, .int x11)]) dX12_number_238 (by decide) rfl ?_
    refine xP.pick (lv' := [(0, rv x0), (1, .int x1), (3, .int x3), (4, .int x4), (5, .long x5), (7, .int 1), (8, .int x8), (9, .int x9), (10, .int x10), (11, .int x11)]) [1, 2, 4, 5, 6, 0, 7, 8, 9, 10] rfl ?_
    exact hq
set_option maxRecDepth 100000 in
def bX12_number_222 (G : xG) (fr lo : Nat) (x0 : Nat) (x1 : Int32) (x2 : Int32) (x3 : Int32) (x4 : Int32) (x5 : Int64) (x7 : Int32) (x8 : Int32) (x9 : Int32) (x10 : Int32) (x11 : Int32) (h : xH) (Q : Outcome → xH → Prop) : Prop := bX12_number_225 G fr lo x0 x1 x2 x3 x4 x5 x7 (x8 + 1) x9 x10 x11 h Q
set_option maxRecDepth 100000 in
theorem uX12_number_222 {G : xG} {fr lo : Nat} {x0 : Nat} {x1 : Int32} {x2 : Int32} {x3 : Int32} {x4 : Int32} {x5 : Int64} {x7 : Int32} {x8 : Int32} {x9 : Int32} {x10 : Int32} {x11 : Int32} {h : xH} {Q : Outcome → xH → Prop} (hq : bX12_number_222 G fr lo x0 x1 x2 x3 x4 x5 x7 x8 x9 x10 x11 h Q) : xP G YX12_number fr lo 222 [(0, rv x0), (1, .int x1), (2, .int x2), (3, .int x3), (4, .int x4), (5, .long x5), (7, .int x7), (8, .int x8), (9, .int x9), (10, .int x10), (11, .int x11)] [] h Q := by
  unfold bX12_number_222 at hq
  refine x_iinc (lv' := [(8, .int (x8 + 1)), (0, rv x0), (1, .int x1), (2, .int x2), (3, .int x3), (4, .int x4), (5, .long x5), (7, .int x7), (9, .int x9), (10, .int x10), (11, .int x11)]) 7 dX12_number_222 rfl (by decide) rfl ?_
  refine xP.pick (lv' := [(0, rv x0), (1, .int x1), (2, .int x2), (3, .int x3), (4, .int x4), (5, .long x5), (7, .int x7), (8, .int (x8 + 1)), (9, .int x9), (10, .int x10), (11, .int x11)]) [1, 2, 3, 4, 5, 6, 7, 0, 8, 9, 10] rfl ?_
  exact uX12_number_225 hq
set_option maxRecDepth 100000 in
def bX12_number_204 (G : xG) (fr lo : Nat) (x0 : Nat) (x1 : Int32) (x2 : Int32) (x3 : Int32) (x4 : Int32) (x5 : Int64) (x7 : Int32) (x8 : Int32) (x10 : Int32) (x11 : Int32) (s0 : Int32) (h : xH) (Q : Outcome → xH → Prop) : Prop := ((¬ s0 = 0 → bX12_number_222 G fr lo x0 x1 x2 x3 x4 x5 x7 x8 s0 x10 x11 h Q) ∧ (s0 = 0 → tg h x0 = 13 ∧ 1 ≤ fr ∧ 13 ≤ lo ∧ xRi G YX12_byteAt (fr - 1) (lo - 13) [rv x0, .int x8] h (fun x6 h5 => xext h h5 → ((¬ x6 = 43 → bX12_number_225 G fr lo x0 x1 x2 x3 x4 x5 x7 x8 s0 x10 x11 h5 Q) ∧ (x6 = 43 → bX12_number_222 G fr lo x0 x1 x2 x3 x4 x5 x7 x8 s0 x10 x11 h5 Q))) (fun r h2 => Q (.threw r) h2)))
set_option maxRecDepth 100000 in
theorem uX12_number_204 {G : xG} {fr lo : Nat} {x0 : Nat} {x1 : Int32} {x2 : Int32} {x3 : Int32} {x4 : Int32} {x5 : Int64} {x7 : Int32} {x8 : Int32} {x10 : Int32} {x11 : Int32} {s0 : Int32} {h : xH} {Q : Outcome → xH → Prop} (hq : bX12_number_204 G fr lo x0 x1 x2 x3 x4 x5 x7 x8 x10 x11 s0 h Q) : xP G YX12_number fr lo 204 [(0, rv x0), (1, .int x1), (2, .int x2), (3, .int x3), (4, .int x4), (5, .long x5), (7, .int x7), (8, .int x8), (10, .int x10), (11, .int x11)] [.int s0] h Q := by
  unfold bX12_number_204 at hq
  refine x_istore (lv' := [(9, .int s0), (0, rv x0), (1, .int x1), (2, .int x2), (3, .int x3), (4, .int x4), (5, .long x5), (7, .int x7), (8, .int x8), (10, .int x10), (11, .int x11)]) dX12_number_204 (by decide) rfl ?_
  refine x_iload 0 dX12_number_206 rfl ?_
  refine x_if_ne (tgt := 222) dX12_number_208 (by decide) (fun c1 => ?_) (fun c1 => ?_)
  · replace hq := hq.1 c1
    refine xP.pick (lv' := [(0, rv x0), (1, .int x1), (2, .int x2), (3, .int x3), (4, .int x4), (5, .long x5), (7, .int x7), (8, .int x8), (9, .int s0), (10, .int x10), (11, .int x11)]) [1, 2, 3, 4, 5, 6, 7, 8, 0, 9, 10] rfl ?_
    exact uX12_number_222 hq
  · replace hq := hq.2 c1
    refine x_aload_n 1 dX12_number_211 rfl ?_
    refine x_iload 8 dX12_number_212 rfl ?_
    obtain ⟨g2, hq⟩ := hq
    obtain ⟨g3, g4, hq⟩ := hq
    refine x_callV (Yc := YX12_byteAt) (as := [.int x8]) (st := []) q3725 mvX12_byteAt g2 rfl dX12_number_214 (xle (xal1 (rv_cat _) (xal1 rfl xal0)) (by decide)) (xfr g3) (xlo xsw0 (by decide) g4) (xKi hq (fun x6 h5 hq e7 => ?_) (fun _ _ q _ => q))
    replace hq := hq e7
    refine x_bipush (v := 43) dX12_number_217 (by decide) ?_
    refine x_icmp_ne (tgt := 225) dX12_number_219 (by decide) (fun c8 => ?_) (fun c8 => ?_)
    · replace hq := hq.1 c8
      refine xP.pick (lv' := [(0, rv x0), (1, .int x1), (2, .int x2), (3, .int x3), (4, .int x4), (5, .long x5), (7, .int x7), (8, .int x8), (9, .int s0), (10, .int x10), (11, .int x11)]) [1, 2, 3, 4, 5, 6, 7, 8, 0, 9, 10] rfl ?_
      exact uX12_number_225 hq
    · replace hq := hq.2 c8
      refine xP.pick (lv' := [(0, rv x0), (1, .int x1), (2, .int x2), (3, .int x3), (4, .int x4), (5, .long x5), (7, .int x7), (8, .int x8), (9, .int s0), (10, .int x10), (11, .int x11)]) [1, 2, 3, 4, 5, 6, 7, 8, 0, 9, 10] rfl ?_
      exact uX12_number_222 hq
set_option maxRecDepth 100000 in
def bX12_number_171 (G : xG) (fr lo : Nat) (x0 : Nat) (x1 : Int32) (x2 : Int32) (x3 : Int32) (x4 : Int32) (x5 : Int64) (x7 : Int32) (s0 : Int32) (h : xH) (Q : Outcome → xH → Prop) : Prop := ((s0 = (-1) → bX12_number_292 G fr lo x0 x1 x2 x3 x4 x5 x7 0 0 0 h Q) ∧ (¬ s0 = (-1) → tg h x0 = 13 ∧ 1 ≤ fr ∧ 13 ≤ lo ∧ xRi G YX12_byteAt (fr - 1) (lo - 13) [rv x0, .int s0] h (fun x6 h5 => xext h h5 → ((¬ x6 = 45 → bX12_number_204 G fr lo x0 x1 x2 x3 x4 x5 x7 s0 0 0 0 h5 Q) ∧ (x6 = 45 → bX12_number_204 G fr lo x0 x1 x2 x3 x4 x5 x7 s0 0 0 1 h5 Q))) (fun r h2 => Q (.threw r) h2)))
set_option maxRecDepth 100000 in
theorem uX12_number_171 {G : xG} {fr lo : Nat} {x0 : Nat} {x1 : Int32} {x2 : Int32} {x3 : Int32} {x4 : Int32} {x5 : Int64} {x7 : Int32} {s0 : Int32} {h : xH} {Q : Outcome → xH → Prop} (hq : bX12_number_171 G fr lo x0 x1 x2 x3 x4 x5 x7 s0 h Q) : xP G YX12_number fr lo 171 [(0, rv x0), (1, .int x1), (2, .int x2), (3, .int x3), (4, .int x4), (5, .long x5), (7, .int x7)] [.int s0] h Q := by
  unfold bX12_number_171 at hq
  refine x_istore (lv' := [(8, .int s0), (0, rv x0), (1, .int x1), (2, .int x2), (3, .int x3), (4, .int x4), (5, .long x5), (7, .int x7)]) dX12_number_171 (by decide) rfl ?_
  refine x_iconst (v := 0) dX12_number_173 (by decide) ?_
  refine x_istore (lv' := [(9, .int 0), (8, .int s0), (0, rv x0), (1, .int x1), (2, .int x2), (3, .int x3), (4, .int x4), (5, .long x5), (7, .int x7)]) dX12_number_174 (by decide) rfl ?_
  refine x_iconst (v := 0) dX12_number_176 (by decide) ?_
  refine x_istore (lv' := [(10, .int 0), (9, .int 0), (8, .int s0), (0, rv x0), (1, .int x1), (2, .int x2), (3, .int x3), (4, .int x4), (5, .long x5), (7, .int x7)]) dX12_number_177 (by decide) rfl ?_
  refine x_iconst (v := 0) dX12_number_179 (by decide) ?_
  refine x_istore (lv' := [(11, .int 0), (10, .int 0), (9, .int 0), (8, .int s0), (0, rv x0), (1, .int x1), (2, .int x2), (3, .int x3), (4, .int x4), (5, .long x5), (7, .int x7)]) dX12_number_180 (by decide) rfl ?_
  refine x_iload 3 dX12_number_182 rfl ?_
  refine x_iconst (v := (-1)) dX12_number_184 (by decide) ?_
  refine x_icmp_eq (tgt := 292) dX12_number_185 (by decide) (fun c1 => ?_) (fun c1 => ?_)
  · replace hq := hq.1 c1
    refine xP.pick (lv' := [(0, rv x0), (1, .int x1), (2, .int x2), (3, .int x3), (4, .int x4), (5, .long x5), (7, .int x7), (9, .int 0), (10, .int 0), (11, .int 0)]) [4, 5, 6, 7, 8, 9, 10, 2, 1, 0] rfl ?_
    exact uX12_number_292 hq
  · replace hq := hq.2 c1
    refine x_aload_n 4 dX12_number_188 rfl ?_
    refine x_iload 3 dX12_number_189 rfl ?_
    obtain ⟨g2, hq⟩ := hq
    obtain ⟨g3, g4, hq⟩ := hq
    refine x_callV (Yc := YX12_byteAt) (as := [.int s0]) (st := []) q3725 mvX12_byteAt g2 rfl dX12_number_191 (xle (xal1 (rv_cat _) (xal1 rfl xal0)) (by decide)) (xfr g3) (xlo xsw0 (by decide) g4) (xKi hq (fun x6 h5 hq e7 => ?_) (fun _ _ q _ => q))
    replace hq := hq e7
    refine x_bipush (v := 45) dX12_number_194 (by decide) ?_
    refine x_icmp_ne (tgt := 203) dX12_number_196 (by decide) (fun c8 => ?_) (fun c8 => ?_)
    · replace hq := hq.1 c8
      refine x_iconst (v := 0) dX12_number_203 (by decide) ?_
      refine xP.pick (lv' := [(0, rv x0), (1, .int x1), (2, .int x2), (3, .int x3), (4, .int x4), (5, .long x5), (7, .int x7), (8, .int s0), (10, .int 0), (11, .int 0)]) [4, 5, 6, 7, 8, 9, 10, 3, 1, 0] rfl ?_
      exact uX12_number_204 hq
    · replace hq := hq.2 c8
      refine x_iconst (v := 1) dX12_number_199 (by decide) ?_
      refine x_goto (tgt := 204) dX12_number_200 (by decide) ?_
      refine xP.pick (lv' := [(0, rv x0), (1, .int x1), (2, .int x2), (3, .int x3), (4, .int x4), (5, .long x5), (7, .int x7), (8, .int s0), (10, .int 0), (11, .int 0)]) [4, 5, 6, 7, 8, 9, 10, 3, 1, 0] rfl ?_
      exact uX12_number_204 hq
set_option maxRecDepth 100000 in
def bX12_number_164 (G : xG) (fr lo : Nat) (x0 : Nat) (x1 : Int32) (x2 : Int32) (x3 : Int32) (x4 : Int32) (x5 : Int64) (x7 : Int32) (h : xH) (Q : Outcome → xH → Prop) : Prop := bX12_number_171 G fr lo x0 x1 x2 x3 x4 x5 x7 (x2 + 1) h Q
set_option maxRecDepth 100000 in
theorem uX12_number_164 {G : xG} {fr lo : Nat} {x0 : Nat} {x1 : Int32} {x2 : Int32} {x3 : Int32} {x4 : Int32} {x5 : Int64} {x7 : Int32} {h : xH} {Q : Outcome → xH → Prop} (hq : bX12_number_164 G fr lo x0 x1 x2 x3 x4 x5 x7 h Q) : xP G YX12_number fr lo 164 [(0, rv x0), (1, .int x1), (2, .int x2), (3, .int x3), (4, .int x4), (5, .long x5), (7, .int x7)] [] h Q := by
  unfold bX12_number_164 at hq
  refine x_iload_n 2 dX12_number_164 rfl ?_
  refine x_iconst (v := 1) dX12_number_165 (by decide) ?_
  refine x_iadd dX12_number_166 ?_
  refine x_goto (tgt := 171) dX12_number_167 (by decide) ?_
  exact uX12_number_171 hq
set_option maxRecDepth 100000 in
def bX12_number_144 (G : xG) (fr lo : Nat) (x0 : Nat) (x1 : Int32) (x2 : Int32) (x3 : Int32) (x4 : Int32) (x5 : Int64) (x7 : Int32) (h : xH) (Q : Outcome → xH → Prop) : Prop := tg h x0 = 13 ∧ 1 ≤ fr ∧ 13 ≤ lo ∧ xRi G YX12_byteAt (fr - 1) (lo - 13) [rv x0, .int x2] h (fun x5 h4 => xext h h4 → ((x5 = 101 → bX12_number_164 G fr lo x0 x1 x2 x3 x4 x5 x7 h4 Q) ∧ (¬ x5 = 101 → 1 ≤ fr ∧ 13 ≤ lo ∧ xRi G YX12_byteAt (fr - 1) (lo - 13) [rv x0, .int x2] h4 (fun x12 h11 => xext h4 h11 → ((¬ x12 = 69 → bX12_number_171 G fr lo x0 x1 x2 x3 x4 x5 x7 (-1) h11 Q) ∧ (x12 = 69 → bX12_number_164 G fr lo x0 x1 x2 x3 x4 x5 x7 h11 Q))) (fun r h2 => Q (.threw r) h2)))) (fun r h2 => Q (.threw r) h2)
set_option maxRecDepth 100000 in
theorem uX12_number_144 {G : xG} {fr lo : Nat} {x0 : Nat} {x1 : Int32} {x2 : Int32} {x3 : Int32} {x4 : Int32} {x5 : Int64} {x7 : Int32} {h : xH} {Q : Outcome → xH → Prop} (hq : bX12_number_144 G fr lo x0 x1 x2 x3 x4 x5 x7 h Q) : xP G YX12_number fr lo 144 [(0, rv x0), (1, .int x1), (2, .int x2), (3, .int x3), (4, .int x4), (5, .long x5), (7, .int x7)] [] h Q := by
  unfold bX12_number_144 at hq
  refine x_aload_n 0 dX12_number_144 rfl ?_
  refine x_iload_n 2 dX12_number_145 rfl ?_
  obtain ⟨g1, hq⟩ := hq
  obtain ⟨g2, g3, hq⟩ := hq
  refine x_callV (Yc := YX12_byteAt) (as := [.int x2]) (st := []) q3725 mvX12_byteAt g1 rfl dX12_number_146 (xle (xal1 (rv_cat _) (xal1 rfl xal0)) (by decide)) (xfr g2) (xlo xsw0 (by decide) g3) (xKi hq (fun x5 h4 hq e6 => ?_) (fun _ _ q _ => q))
  replace hq := hq e6
  refine x_bipush (v := 101) dX12_number_149 (by decide) ?_
  refine x_icmp_eq (tgt := 164) dX12_number_151 (by decide) (fun c7 => ?_) (fun c7 => ?_)
  · replace hq := hq.1 c7
    exact uX12_number_164 hq
  · replace hq := hq.2 c7
    refine x_aload_n 0 dX12_number_154 rfl ?_
    refine x_iload_n 2 dX12_number_155 rfl ?_
    have t8 : tg h4 x0 = 13 := e6.tg g1 (by decide)
    obtain ⟨g9, g10, hq⟩ := hq
    refine x_callV (Yc := YX12_byteAt) (as := [.int x2]) (st := []) q3725 mvX12_byteAt t8 rfl dX12_number_156 (xle (xal1 (rv_cat _) (xal1 rfl xal0)) (by decide)) (xfr g9) (xlo xsw0 (by decide) g10) (xKi hq (fun x12 h11 hq e13 => ?_) (fun _ _ q _ => q))
    replace hq := hq e13
    refine x_bipush (v := 69) dX12_number_159 (by decide) ?_
    refine x_icmp_ne (tgt := 170) dX12_number_161 (by decide) (fun c14 => ?_) (fun c14 => ?_)
    · replace hq := hq.1 c14
      refine x_iconst (v := (-1)) dX12_number_170 (by decide) ?_
      exact uX12_number_171 hq
    · replace hq := hq.2 c14
      exact uX12_number_164 hq
set_option maxRecDepth 100000 in
def bX12_number_132 (G : xG) (fr lo : Nat) (x0 : Nat) (x1 : Int32) (x2 : Int32) (x3 : Int32) (x4 : Int32) (x5 : Int64) (x7 : Int32) (h : xH) (Q : Outcome → xH → Prop) : Prop := lX12_number_93 G fr lo x0 x1 (x2 + 1) (x3 + 1) (x4 + 1) x5 x7 h Q
set_option maxRecDepth 100000 in
theorem uX12_number_132 {G : xG} {fr lo : Nat} {x0 : Nat} {x1 : Int32} {x2 : Int32} {x3 : Int32} {x4 : Int32} {x5 : Int64} {x7 : Int32} {h : xH} {Q : Outcome → xH → Prop} (hq : bX12_number_132 G fr lo x0 x1 x2 x3 x4 x5 x7 h Q) : xP G YX12_number fr lo 132 [(0, rv x0), (1, .int x1), (2, .int x2), (3, .int x3), (4, .int x4), (5, .long x5), (7, .int x7)] [] h Q := by
  unfold bX12_number_132 at hq
  refine x_iinc (lv' := [(3, .int (x3 + 1)), (0, rv x0), (1, .int x1), (2, .int x2), (4, .int x4), (5, .long x5), (7, .int x7)]) 3 dX12_number_132 rfl (by decide) rfl ?_
  refine x_iinc (lv' := [(4, .int (x4 + 1)), (3, .int (x3 + 1)), (0, rv x0), (1, .int x1), (2, .int x2), (5, .long x5), (7, .int x7)]) 4 dX12_number_135 rfl (by decide) rfl ?_
  refine x_iinc (lv' := [(2, .int (x2 + 1)), (4, .int (x4 + 1)), (3, .int (x3 + 1)), (0, rv x0), (1, .int x1), (5, .long x5), (7, .int x7)]) 4 dX12_number_138 rfl (by decide) rfl ?_
  refine x_goto (tgt := 93) dX12_number_141 (by decide) ?_
  refine xP.pick (lv' := [(0, rv x0), (1, .int x1), (2, .int (x2 + 1)), (3, .int (x3 + 1)), (4, .int (x4 + 1)), (5, .long x5), (7, .int x7)]) [3, 4, 0, 2, 1, 5, 6] rfl ?_
  exact hq
set_option maxRecDepth 100000 in
def bX12_number_93 (G : xG) (fr lo : Nat) (x0 : Nat) (x1 : Int32) (x2 : Int32) (x3 : Int32) (x4 : Int32) (x5 : Int64) (x7 : Int32) (h : xH) (Q : Outcome → xH → Prop) : Prop := tg h x0 = 13 ∧ 1 ≤ fr ∧ 13 ≤ lo ∧ xRi G YX12_byteAt (fr - 1) (lo - 13) [rv x0, .int x2] h (fun x5 h4 => xext h h4 → 1 ≤ fr ∧ 12 ≤ lo ∧ xRi G YX12_isDigit (fr - 1) (lo - 12) [.int x5] h4 (fun x10 h9 => xext h4 h9 → ((x10 = 0 → bX12_number_144 G fr lo x0 x1 x2 x3 x4 x5 x7 h9 Q) ∧ (¬ x10 = 0 → ((0 ≤ (lg_cmp x5 10000000000000000) → bX12_number_132 G fr lo x0 x1 x2 x3 x4 x5 x7 h9 Q) ∧ (¬ 0 ≤ (lg_cmp x5 10000000000000000) → 1 ≤ fr ∧ 15 ≤ lo ∧ xRi G YX12_byteAt (fr - 1) (lo - 15) [rv x0, .int x2] h9 (fun x19 h18 => xext h9 h18 → bX12_number_132 G fr lo x0 x1 x2 x3 x4 (((10 * x5) + (Int32.toInt64 x19)) - 48) x7 h18 Q) (fun r h2 => Q (.threw r) h2)))))) (fun r h2 => Q (.threw r) h2)) (fun r h2 => Q (.threw r) h2)
set_option maxRecDepth 100000 in
theorem uX12_number_93 {G : xG} {fr lo : Nat} {x0 : Nat} {x1 : Int32} {x2 : Int32} {x3 : Int32} {x4 : Int32} {x5 : Int64} {x7 : Int32} {h : xH} {Q : Outcome → xH → Prop} (hq : bX12_number_93 G fr lo x0 x1 x2 x3 x4 x5 x7 h Q) : xP G YX12_number fr lo 93 [(0, rv x0), (1, .int x1), (2, .int x2), (3, .int x3), (4, .int x4), (5, .long x5), (7, .int x7)] [] h Q := by
  unfold bX12_number_93 at hq
  refine x_aload_n 0 dX12_number_93 rfl ?_
  refine x_iload_n 2 dX12_number_94 rfl ?_
  obtain ⟨g1, hq⟩ := hq
  obtain ⟨g2, g3, hq⟩ := hq
  refine x_callV (Yc := YX12_byteAt) (as := [.int x2]) (st := []) q3725 mvX12_byteAt g1 rfl dX12_number_95 (xle (xal1 (rv_cat _) (xal1 rfl xal0)) (by decide)) (xfr g2) (xlo xsw0 (by decide) g3) (xKi hq (fun x5 h4 hq e6 => ?_) (fun _ _ q _ => q))
  replace hq := hq e6
  obtain ⟨g7, g8, hq⟩ := hq
  refine x_callS (Yc := YX12_isDigit) (as := [.int x5]) (st := []) q3742 msX12_isDigit rfl dX12_number_98 (xle (xal1 rfl xal0) (by decide)) (xfr g7) (xlo xsw0 (by decide) g8) (xKi hq (fun x10 h9 hq e11 => ?_) (fun _ _ q _ => q))
  replace hq := hq e11
  refine x_if_eq (tgt := 144) dX12_number_101 (by decide) (fun c12 => ?_) (fun c12 => ?_)
  · replace hq := hq.1 c12
    exact uX12_number_144 hq
  · replace hq := hq.2 c12
    refine x_lload 5 dX12_number_104 rfl ?_
    refine x_ldc2 (v := 10000000000000000) q3749 dX12_number_106 ?_
    refine x_lcmp dX12_number_109 ?_
    refine x_if_ge (tgt := 132) dX12_number_110 (by decide) (fun c13 => ?_) (fun c13 => ?_)
    · replace hq := hq.1 c13
      exact uX12_number_132 hq
    · replace hq := hq.2 c13
      refine x_ldc2 (v := 10) q3750 dX12_number_113 ?_
      refine x_lload 5 dX12_number_116 rfl ?_
      refine x_lmul dX12_number_118 ?_
      refine x_aload_n 0 dX12_number_119 rfl ?_
      refine x_iload_n 2 dX12_number_120 rfl ?_
      have t14 : tg h4 x0 = 13 := e6.tg g1 (by decide)
      have t15 : tg h9 x0 = 13 := e11.tg t14 (by decide)
      obtain ⟨g16, g17, hq⟩ := hq
      refine x_callV (Yc := YX12_byteAt) (as := [.int x2]) (st := [.long (10 * x5)]) q3725 mvX12_byteAt t15 rfl dX12_number_121 (xle (xal1 (rv_cat _) (xal1 rfl xal0)) (by decide)) (xfr g16) (xlo (xsw2 rfl xsw0) (by decide) g17) (xKi hq (fun x19 h18 hq e20 => ?_) (fun _ _ q _ => q))
      replace hq := hq e20
      refine x_i2l dX12_number_124 ?_
      refine x_ladd dX12_number_125 ?_
      refine x_ldc2 (v := 48) q3751 dX12_number_126 ?_
      refine x_lsub dX12_number_129 ?_
      refine x_lstore (lv' := [(5, .long (((10 * x5) + (Int32.toInt64 x19)) - 48)), (0, rv x0), (1, .int x1), (2, .int x2), (3, .int x3), (4, .int x4), (7, .int x7)]) dX12_number_130 (by decide) rfl ?_
      refine xP.pick (lv' := [(0, rv x0), (1, .int x1), (2, .int x2), (3, .int x3), (4, .int x4), (5, .long (((10 * x5) + (Int32.toInt64 x19)) - 48)), (7, .int x7)]) [1, 2, 3, 4, 5, 0, 6] rfl ?_
      exact uX12_number_132 hq
set_option maxRecDepth 100000 in
def bX12_number_52 (G : xG) (fr lo : Nat) (x0 : Nat) (x1 : Int32) (x2 : Int32) (x3 : Int32) (x4 : Int32) (x5 : Int64) (h : xH) (Q : Outcome → xH → Prop) : Prop := lX12_number_13 G fr lo x0 x1 (x2 + 1) (x3 + 1) x4 x5 h Q
set_option maxRecDepth 100000 in
theorem uX12_number_52 {G : xG} {fr lo : Nat} {x0 : Nat} {x1 : Int32} {x2 : Int32} {x3 : Int32} {x4 : Int32} {x5 : Int64} {h : xH} {Q : Outcome → xH → Prop} (hq : bX12_number_52 G fr lo x0 x1 x2 x3 x4 x5 h Q) : xP G YX12_number fr lo 52 [(0, rv x0), (1, .int x1), (2, .int x2), (3, .int x3), (4, .int x4), (5, .long x5)] [] h Q := by
  unfold bX12_number_52 at hq
  refine x_iinc (lv' := [(3, .int (x3 + 1)), (0, rv x0), (1, .int x1), (2, .int x2), (4, .int x4), (5, .long x5)]) 3 dX12_number_52 rfl (by decide) rfl ?_
  refine x_iinc (lv' := [(2, .int (x2 + 1)), (3, .int (x3 + 1)), (0, rv x0), (1, .int x1), (4, .int x4), (5, .long x5)]) 3 dX12_number_55 rfl (by decide) rfl ?_
  refine x_goto (tgt := 13) dX12_number_58 (by decide) ?_
  refine xP.pick (lv' := [(0, rv x0), (1, .int x1), (2, .int (x2 + 1)), (3, .int (x3 + 1)), (4, .int x4), (5, .long x5)]) [2, 3, 0, 1, 4, 5] rfl ?_
  exact hq
set_option maxRecDepth 100000 in
def bX12_number_13 (G : xG) (fr lo : Nat) (x0 : Nat) (x1 : Int32) (x2 : Int32) (x3 : Int32) (x4 : Int32) (x5 : Int64) (h : xH) (Q : Outcome → xH → Prop) : Prop := tg h x0 = 13 ∧ 1 ≤ fr ∧ 13 ≤ lo ∧ xRi G YX12_byteAt (fr - 1) (lo - 13) [rv x0, .int x2] h (fun x5 h4 => xext h h4 → 1 ≤ fr ∧ 12 ≤ lo ∧ xRi G YX12_isDigit (fr - 1) (lo - 12) [.int x5] h4 (fun x10 h9 => xext h4 h9 → ((x10 = 0 → 1 ≤ fr ∧ 13 ≤ lo ∧ xRi G YX12_byteAt (fr - 1) (lo - 13) [rv x0, .int x2] h9 (fun x18 h17 => xext h9 h17 → ((¬ x18 = 46 → bX12_number_144 G fr lo x0 x1 x2 x3 x4 x5 0 h17 Q) ∧ (x18 = 46 → 1 ≤ fr ∧ 13 ≤ lo ∧ xRi G YX12_byteAt (fr - 1) (lo - 13) [rv x0, .int (x2 + 1)] h17 (fun x25 h24 => xext h17 h24 → 1 ≤ fr ∧ 12 ≤ lo ∧ xRi G YX12_isDigit (fr - 1) (lo - 12) [.int x25] h24 (fun x30 h29 => xext h24 h29 → ((x30 = 0 → bX12_number_144 G fr lo x0 x1 x2 x3 x4 x5 0 h29 Q) ∧ (¬ x30 = 0 → lX12_number_93 G fr lo x0 x1 (x2 + 1) x3 x4 x5 1 h29 Q))) (fun r h2 => Q (.threw r) h2)) (fun r h2 => Q (.threw r) h2)))) (fun r h2 => Q (.threw r) h2)) ∧ (¬ x10 = 0 → ((0 ≤ (lg_cmp x5 10000000000000000) → bX12_number_52 G fr lo x0 x1 x2 x3 x4 x5 h9 Q) ∧ (¬ 0 ≤ (lg_cmp x5 10000000000000000) → 1 ≤ fr ∧ 15 ≤ lo ∧ xRi G YX12_byteAt (fr - 1) (lo - 15) [rv x0, .int x2] h9 (fun x39 h38 => xext h9 h38 → bX12_number_52 G fr lo x0 x1 x2 x3 x4 (((10 * x5) + (Int32.toInt64 x39)) - 48) h38 Q) (fun r h2 => Q (.threw r) h2)))))) (fun r h2 => Q (.threw r) h2)) (fun r h2 => Q (.threw r) h2)
set_option maxRecDepth 100000 in
theorem uX12_number_13 {G : xG} {fr lo : Nat} {x0 : Nat} {x1 : Int32} {x2 : Int32} {x3 : Int32} {x4 : Int32} {x5 : Int64} {h : xH} {Q : Outcome → xH → Prop} (hq : bX12_number_13 G fr lo x0 x1 x2 x3 x4 x5 h Q) : xP G YX12_number fr lo 13 [(0, rv x0), (1, .int x1), (2, .int x2), (3, .int x3), (4, .int x4), (5, .long x5)] [] h Q := by
  unfold bX12_number_13 at hq
  refine x_aload_n 0 dX12_number_13 rfl ?_
  refine x_iload_n 2 dX12_number_14 rfl ?_
  obtain ⟨g1, hq⟩ := hq
  obtain ⟨g2, g3, hq⟩ := hq
  refine x_callV (Yc := YX12_byteAt) (as := [.int x2]) (st := []) q3725 mvX12_byteAt g1 rfl dX12_number_15 (xle (xal1 (rv_cat _) (xal1 rfl xal0)) (by decide)) (xfr g2) (xlo xsw0 (by decide) g3) (xKi hq (fun x5 h4 hq e6 => ?_) (fun _ _ q _ => q))
  replace hq := hq e6
  obtain ⟨g7, g8, hq⟩ := hq
  refine x_callS (Yc := YX12_isDigit) (as := [.int x5]) (st := []) q3742 msX12_isDigit rfl dX12_number_18 (xle (xal1 rfl xal0) (by decide)) (xfr g7) (xlo xsw0 (by decide) g8) (xKi hq (fun x10 h9 hq e11 => ?_) (fun _ _ q _ => q))
  replace hq := hq e11
  refine x_if_eq (tgt := 61) dX12_number_21 (by decide) (fun c12 => ?_) (fun c12 => ?_)
  · replace hq := hq.1 c12
    refine x_iconst (v := 0) dX12_number_61 (by decide) ?_
    refine x_istore (lv' := [(7, .int 0), (0, rv x0), (1, .int x1), (2, .int x2), (3, .int x3), (4, .int x4), (5, .long x5)]) dX12_number_62 (by decide) rfl ?_
    refine x_aload_n 1 dX12_number_64 rfl ?_
    refine x_iload_n 3 dX12_number_65 rfl ?_
    have t13 : tg h4 x0 = 13 := e6.tg g1 (by decide)
    have t14 : tg h9 x0 = 13 := e11.tg t13 (by decide)
    obtain ⟨g15, g16, hq⟩ := hq
    refine x_callV (Yc := YX12_byteAt) (as := [.int x2]) (st := []) q3725 mvX12_byteAt t14 rfl dX12_number_66 (xle (xal1 (rv_cat _) (xal1 rfl xal0)) (by decide)) (xfr g15) (xlo xsw0 (by decide) g16) (xKi hq (fun x18 h17 hq e19 => ?_) (fun _ _ q _ => q))
    replace hq := hq e19
    refine x_bipush (v := 46) dX12_number_69 (by decide) ?_
    refine x_icmp_ne (tgt := 144) dX12_number_71 (by decide) (fun c20 => ?_) (fun c20 => ?_)
    · replace hq := hq.1 c20
      refine xP.pick (lv' := [(0, rv x0), (1, .int x1), (2, .int x2), (3, .int x3), (4, .int x4), (5, .long x5), (7, .int 0)]) [1, 2, 3, 4, 5, 6, 0] rfl ?_
      exact uX12_number_144 hq
    · replace hq := hq.2 c20
      refine x_aload_n 1 dX12_number_74 rfl ?_
      refine x_iload_n 3 dX12_number_75 rfl ?_
      refine x_iconst (v := 1) dX12_number_76 (by decide) ?_
      refine x_iadd dX12_number_77 ?_
      have t21 : tg h17 x0 = 13 := e19.tg t14 (by decide)
      obtain ⟨g22, g23, hq⟩ := hq
      refine x_callV (Yc := YX12_byteAt) (as := [.int (x2 + 1)]) (st := []) q3725 mvX12_byteAt t21 rfl dX12_number_78 (xle (xal1 (rv_cat _) (xal1 rfl xal0)) (by decide)) (xfr g22) (xlo xsw0 (by decide) g23) (xKi hq (fun x25 h24 hq e26 => ?_) (fun _ _ q _ => q))
      replace hq := hq e26
      obtain ⟨g27, g28, hq⟩ := hq
      refine x_callS (Yc := YX12_isDigit) (as := [.int x25]) (st := []) q3742 msX12_isDigit rfl dX12_number_81 (xle (xal1 rfl xal0) (by decide)) (xfr g27) (xlo xsw0 (by decide) g28) (xKi hq (fun x30 h29 hq e31 => ?_) (fun _ _ q _ => q))
      replace hq := hq e31
      refine x_if_eq (tgt := 144) dX12_number_84 (by decide) (fun c32 => ?_) (fun c32 => ?_)
      · replace hq := hq.1 c32
        refine xP.pick (lv' := [(0, rv x0), (1, .int x1), (2, .int x2), (3, .int x3), (4, .int x4), (5, .long x5), (7, .int 0)]) [1, 2, 3, 4, 5, 6, 0] rfl ?_
        exact uX12_number_144 hq
      · replace hq := hq.2 c32
        refine x_iconst (v := 1) dX12_number_87 (by decide) ?_
        refine x_istore (lv' := [(7, .int 1), (0, rv x0), (1, .int x1), (2, .int x2), (3, .int x3), (4, .int x4), (5, .long x5)]) dX12_number_88 (by decide) rfl ?_
        refine x_iinc (lv' := [(2, .int (x2 + 1)), (7, .int 1), (0, rv x0), (1, .int x1), (3, .int x3), (4, .int x4), (5, .long x5)]) 3 dX12_number_90 rfl (by decide) rfl ?_
        refine xP.pick (lv' := [(0, rv x0), (1, .int x1), (2, .int (x2 + 1)), (3, .int x3), (4, .int x4), (5, .long x5), (7, .int 1)]) [2, 3, 0, 4, 5, 6, 1] rfl ?_
        exact hq
  · replace hq := hq.2 c12
    refine x_lload 5 dX12_number_24 rfl ?_
    refine x_ldc2 (v := 10000000000000000) q3749 dX12_number_26 ?_
    refine x_lcmp dX12_number_29 ?_
    refine x_if_ge (tgt := 52) dX12_number_30 (by decide) (fun c33 => ?_) (fun c33 => ?_)
    · replace hq := hq.1 c33
      exact uX12_number_52 hq
    · replace hq := hq.2 c33
      refine x_ldc2 (v := 10) q3750 dX12_number_33 ?_
      refine x_lload 5 dX12_number_36 rfl ?_
      refine x_lmul dX12_number_38 ?_
      refine x_aload_n 0 dX12_number_39 rfl ?_
      refine x_iload_n 2 dX12_number_40 rfl ?_
      have t34 : tg h4 x0 = 13 := e6.tg g1 (by decide)
      have t35 : tg h9 x0 = 13 := e11.tg t34 (by decide)
      obtain ⟨g36, g37, hq⟩ := hq
      refine x_callV (Yc := YX12_byteAt) (as := [.int x2]) (st := [.long (10 * x5)]) q3725 mvX12_byteAt t35 rfl dX12_number_41 (xle (xal1 (rv_cat _) (xal1 rfl xal0)) (by decide)) (xfr g36) (xlo (xsw2 rfl xsw0) (by decide) g37) (xKi hq (fun x39 h38 hq e40 => ?_) (fun _ _ q _ => q))
      replace hq := hq e40
      refine x_i2l dX12_number_44 ?_
      refine x_ladd dX12_number_45 ?_
      refine x_ldc2 (v := 48) q3751 dX12_number_46 ?_
      refine x_lsub dX12_number_49 ?_
      refine x_lstore (lv' := [(5, .long (((10 * x5) + (Int32.toInt64 x39)) - 48)), (0, rv x0), (1, .int x1), (2, .int x2), (3, .int x3), (4, .int x4)]) dX12_number_50 (by decide) rfl ?_
      refine xP.pick (lv' := [(0, rv x0), (1, .int x1), (2, .int x2), (3, .int x3), (4, .int x4), (5, .long (((10 * x5) + (Int32.toInt64 x39)) - 48))]) [1, 2, 3, 4, 5, 0] rfl ?_
      exact uX12_number_52 hq
set_option maxRecDepth 100000 in
def bX12_number (G : xG) (fr lo : Nat) (x0 : Nat) (x1 : Int32) (h : xH) (Q : Outcome → xH → Prop) : Prop := tg h x0 = 13 ∧ lX12_number_13 G fr lo x0 x1 (fI h x0 3081) 0 0 0 h Q
set_option maxRecDepth 100000 in
theorem uX12_number {G : xG} {fr lo : Nat} {x0 : Nat} {x1 : Int32} {h : xH} {Q : Outcome → xH → Prop} (hq : bX12_number G fr lo x0 x1 h Q) : xP G YX12_number fr lo 0 [(0, rv x0), (1, .int x1)] [] h Q := by
  unfold bX12_number at hq
  refine x_aload_n 0 dX12_number_0 rfl ?_
  obtain ⟨g1, hq⟩ := hq
  refine x_get (v := .int (fI h x0 3081)) fdX12_269 dX12_number_1 g1 rfl ?_
  refine x_istore_n (lv' := [(2, .int (fI h x0 3081)), (0, rv x0), (1, .int x1)]) dX12_number_4 (by decide) rfl ?_
  refine x_iconst (v := 0) dX12_number_5 (by decide) ?_
  refine x_istore_n (lv' := [(3, .int 0), (2, .int (fI h x0 3081)), (0, rv x0), (1, .int x1)]) dX12_number_6 (by decide) rfl ?_
  refine x_iconst (v := 0) dX12_number_7 (by decide) ?_
  refine x_istore (lv' := [(4, .int 0), (3, .int 0), (2, .int (fI h x0 3081)), (0, rv x0), (1, .int x1)]) dX12_number_8 (by decide) rfl ?_
  refine x_lconst (v := 0) dX12_number_10 (by decide) ?_
  refine x_lstore (lv' := [(5, .long 0), (4, .int 0), (3, .int 0), (2, .int (fI h x0 3081)), (0, rv x0), (1, .int x1)]) dX12_number_11 (by decide) rfl ?_
  refine xP.pick (lv' := [(0, rv x0), (1, .int x1), (2, .int (fI h x0 3081)), (3, .int 0), (4, .int 0), (5, .long 0)]) [4, 5, 3, 2, 1, 0] rfl ?_
  exact hq
theorem rX12_number {G : xG} {fr lo : Nat} {x0 : Nat} {x1 : Int32} {h : xH} {Q : Outcome → xH → Prop} (hq : bX12_number G fr lo x0 x1 h Q) : xR G YX12_number fr lo [rv x0, .int x1] h Q := by
  show xP _ _ _ _ _ (lv_args 0 _) _ _ _
  rw [show lv_args 0 [rv x0, .int x1] = [(0, rv x0), (1, .int x1)] from (xla1 (rv_cat _) (xla1 rfl xla0))]
  exact uX12_number hq
