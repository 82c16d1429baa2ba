/-! PascalHouseModel, walked (8) -/
set_option maxRecDepth 100000 in
theorem dX12_execute_0 : decode cX12_execute 0 = .ok (.aload_n 0, 1) := by decide +kernel
set_option maxRecDepth 100000 in
theorem dX12_execute_1 : decode cX12_execute 1 = .ok (.getfield 1348, 3) := by decide +kernel
set_option maxRecDepth 100000 in
theorem dX12_execute_4 : decode cX12_execute 4 = .ok (.istore_n 2, 1) := by decide +kernel
set_option maxRecDepth 100000 in
theorem dX12_execute_5 : decode cX12_execute 5 = .ok (.aload_n 0, 1) := by decide +kernel
set_option maxRecDepth 100000 in
theorem dX12_execute_6 : decode cX12_execute 6 = .ok (.getfield 1226, 3) := by decide +kernel
set_option maxRecDepth 100000 in
theorem dX12_execute_9 : decode cX12_execute 9 = .ok (.aload_n 0, 1) := by decide +kernel
set_option maxRecDepth 100000 in
theorem dX12_execute_10 : decode cX12_execute 10 = .ok (.getfield 1223, 3) := by decide +kernel
set_option maxRecDepth 100000 in
theorem dX12_execute_13 : decode cX12_execute 13 = .ok (.if_icmp .ne 16, 3) := by decide +kernel
set_option maxRecDepth 100000 in
theorem dX12_execute_16 : decode cX12_execute 16 = .ok (.aload_n 0, 1) := by decide +kernel
set_option maxRecDepth 100000 in
theorem dX12_execute_17 : decode cX12_execute 17 = .ok (.bipush 15, 2) := by decide +kernel
set_option maxRecDepth 100000 in
theorem dX12_execute_19 : decode cX12_execute 19 = .ok (.aload_n 0, 1) := by decide +kernel
set_option maxRecDepth 100000 in
theorem dX12_execute_20 : decode cX12_execute 20 = .ok (.getfield 70, 3) := by decide +kernel
set_option maxRecDepth 100000 in
theorem dX12_execute_23 : decode cX12_execute 23 = .ok (.iload_n 1, 1) := by decide +kernel
set_option maxRecDepth 100000 in
theorem dX12_execute_24 : decode cX12_execute 24 = .ok (.iaload, 1) := by decide +kernel
set_option maxRecDepth 100000 in
theorem dX12_execute_25 : decode cX12_execute 25 = .ok (.invokevirtual 1142, 3) := by decide +kernel
set_option maxRecDepth 100000 in
theorem dX12_execute_28 : decode cX12_execute 28 = .ok (.return_, 1) := by decide +kernel
set_option maxRecDepth 100000 in
theorem dX12_execute_29 : decode cX12_execute 29 = .ok (.aload_n 0, 1) := by decide +kernel
set_option maxRecDepth 100000 in
theorem dX12_execute_30 : decode cX12_execute 30 = .ok (.dup, 1) := by decide +kernel
set_option maxRecDepth 100000 in
theorem dX12_execute_31 : decode cX12_execute 31 = .ok (.getfield 1226, 3) := by decide +kernel
set_option maxRecDepth 100000 in
theorem dX12_execute_34 : decode cX12_execute 34 = .ok (.iconst 1, 1) := by decide +kernel
set_option maxRecDepth 100000 in
theorem dX12_execute_35 : decode cX12_execute 35 = .ok (.iadd, 1) := by decide +kernel
set_option maxRecDepth 100000 in
theorem dX12_execute_36 : decode cX12_execute 36 = .ok (.putfield 1226, 3) := by decide +kernel
set_option maxRecDepth 100000 in
theorem dX12_execute_39 : decode cX12_execute 39 = .ok (.aload_n 0, 1) := by decide +kernel
set_option maxRecDepth 100000 in
theorem dX12_execute_40 : decode cX12_execute 40 = .ok (.getfield 67, 3) := by decide +kernel
set_option maxRecDepth 100000 in
theorem dX12_execute_43 : decode cX12_execute 43 = .ok (.iload_n 1, 1) := by decide +kernel
set_option maxRecDepth 100000 in
theorem dX12_execute_44 : decode cX12_execute 44 = .ok (.iaload, 1) := by decide +kernel
set_option maxRecDepth 100000 in
theorem dX12_execute_45 : decode cX12_execute 45 = .ok (.tableswitch 747 31 41 #[59, 241, 368, 747, 307, 59, 400, 629, 652, 684, 692], 59) := by decide +kernel
set_option maxRecDepth 100000 in
theorem dX12_execute_104 : decode cX12_execute 104 = .ok (.aload_n 0, 1) := by decide +kernel
set_option maxRecDepth 100000 in
theorem dX12_execute_105 : decode cX12_execute 105 = .ok (.getfield 67, 3) := by decide +kernel
set_option maxRecDepth 100000 in
theorem dX12_execute_108 : decode cX12_execute 108 = .ok (.iload_n 1, 1) := by decide +kernel
set_option maxRecDepth 100000 in
theorem dX12_execute_109 : decode cX12_execute 109 = .ok (.iaload, 1) := by decide +kernel
set_option maxRecDepth 100000 in
theorem dX12_execute_110 : decode cX12_execute 110 = .ok (.bipush 31, 2) := by decide +kernel
set_option maxRecDepth 100000 in
theorem dX12_execute_112 : decode cX12_execute 112 = .ok (.if_icmp .ne 7, 3) := by decide +kernel
set_option maxRecDepth 100000 in
theorem dX12_execute_115 : decode cX12_execute 115 = .ok (.iload_n 1, 1) := by decide +kernel
set_option maxRecDepth 100000 in
theorem dX12_execute_116 : decode cX12_execute 116 = .ok (.goto 9, 3) := by decide +kernel
set_option maxRecDepth 100000 in
theorem dX12_execute_119 : decode cX12_execute 119 = .ok (.aload_n 0, 1) := by decide +kernel
set_option maxRecDepth 100000 in
theorem dX12_execute_120 : decode cX12_execute 120 = .ok (.getfield 73, 3) := by decide +kernel
set_option maxRecDepth 100000 in
theorem dX12_execute_123 : decode cX12_execute 123 = .ok (.iload_n 1, 1) := by decide +kernel
set_option maxRecDepth 100000 in
theorem dX12_execute_124 : decode cX12_execute 124 = .ok (.iaload, 1) := by decide +kernel
set_option maxRecDepth 100000 in
theorem dX12_execute_125 : decode cX12_execute 125 = .ok (.istore_n 3, 1) := by decide +kernel
set_option maxRecDepth 100000 in
theorem dX12_execute_126 : decode cX12_execute 126 = .ok (.iconst 1, 1) := by decide +kernel
set_option maxRecDepth 100000 in
theorem dX12_execute_127 : decode cX12_execute 127 = .ok (.istore 4, 2) := by decide +kernel
set_option maxRecDepth 100000 in
theorem dX12_execute_129 : decode cX12_execute 129 = .ok (.iload 4, 2) := by decide +kernel
set_option maxRecDepth 100000 in
theorem dX12_execute_131 : decode cX12_execute 131 = .ok (.ifCond .eq 661, 3) := by decide +kernel
set_option maxRecDepth 100000 in
theorem dX12_execute_134 : decode cX12_execute 134 = .ok (.aload_n 0, 1) := by decide +kernel
set_option maxRecDepth 100000 in
theorem dX12_execute_135 : decode cX12_execute 135 = .ok (.getfield 73, 3) := by decide +kernel
set_option maxRecDepth 100000 in
theorem dX12_execute_138 : decode cX12_execute 138 = .ok (.iload_n 3, 1) := by decide +kernel
set_option maxRecDepth 100000 in
theorem dX12_execute_139 : decode cX12_execute 139 = .ok (.iaload, 1) := by decide +kernel
set_option maxRecDepth 100000 in
theorem dX12_execute_140 : decode cX12_execute 140 = .ok (.istore 5, 2) := by decide +kernel
set_option maxRecDepth 100000 in
theorem dX12_execute_142 : decode cX12_execute 142 = .ok (.iload 5, 2) := by decide +kernel
set_option maxRecDepth 100000 in
theorem dX12_execute_144 : decode cX12_execute 144 = .ok (.iconst (-1), 1) := by decide +kernel
set_option maxRecDepth 100000 in
theorem dX12_execute_145 : decode cX12_execute 145 = .ok (.if_icmp .eq 84, 3) := by decide +kernel
set_option maxRecDepth 100000 in
theorem dX12_execute_148 : decode cX12_execute 148 = .ok (.aload_n 0, 1) := by decide +kernel
set_option maxRecDepth 100000 in
theorem dX12_execute_149 : decode cX12_execute 149 = .ok (.iload 5, 2) := by decide +kernel
set_option maxRecDepth 100000 in
theorem dX12_execute_151 : decode cX12_execute 151 = .ok (.invokevirtual 1370, 3) := by decide +kernel
set_option maxRecDepth 100000 in
theorem dX12_execute_154 : decode cX12_execute 154 = .ok (.aload_n 0, 1) := by decide +kernel
set_option maxRecDepth 100000 in
theorem dX12_execute_155 : decode cX12_execute 155 = .ok (.getfield 1121, 3) := by decide +kernel
set_option maxRecDepth 100000 in
theorem dX12_execute_158 : decode cX12_execute 158 = .ok (.ifCond .ne 15, 3) := by decide +kernel
set_option maxRecDepth 100000 in
theorem dX12_execute_161 : decode cX12_execute 161 = .ok (.aload_n 0, 1) := by decide +kernel
set_option maxRecDepth 100000 in
theorem dX12_execute_162 : decode cX12_execute 162 = .ok (.getfield 79, 3) := by decide +kernel
set_option maxRecDepth 100000 in
theorem dX12_execute_165 : decode cX12_execute 165 = .ok (.iload 5, 2) := by decide +kernel
set_option maxRecDepth 100000 in
theorem dX12_execute_167 : decode cX12_execute 167 = .ok (.iaload, 1) := by decide +kernel
set_option maxRecDepth 100000 in
theorem dX12_execute_168 : decode cX12_execute 168 = .ok (.istore 5, 2) := by decide +kernel
set_option maxRecDepth 100000 in
theorem dX12_execute_170 : decode cX12_execute 170 = .ok (.goto (-28), 3) := by decide +kernel
set_option maxRecDepth 100000 in
theorem dX12_execute_173 : decode cX12_execute 173 = .ok (.aload_n 0, 1) := by decide +kernel
set_option maxRecDepth 100000 in
theorem dX12_execute_174 : decode cX12_execute 174 = .ok (.getfield 1124, 3) := by decide +kernel
set_option maxRecDepth 100000 in
theorem dX12_execute_177 : decode cX12_execute 177 = .ok (.ifCond .ne 46, 3) := by decide +kernel
set_option maxRecDepth 100000 in
theorem dX12_execute_180 : decode cX12_execute 180 = .ok (.aload_n 0, 1) := by decide +kernel
set_option maxRecDepth 100000 in
theorem dX12_execute_181 : decode cX12_execute 181 = .ok (.getfield 1385, 3) := by decide +kernel
set_option maxRecDepth 100000 in
theorem dX12_execute_184 : decode cX12_execute 184 = .ok (.aload_n 0, 1) := by decide +kernel
set_option maxRecDepth 100000 in
theorem dX12_execute_185 : decode cX12_execute 185 = .ok (.getfield 1130, 3) := by decide +kernel
set_option maxRecDepth 100000 in
theorem dX12_execute_188 : decode cX12_execute 188 = .ok (.if_icmp .ne 35, 3) := by decide +kernel
set_option maxRecDepth 100000 in
theorem dX12_execute_191 : decode cX12_execute 191 = .ok (.aload_n 0, 1) := by decide +kernel
set_option maxRecDepth 100000 in
theorem dX12_execute_192 : decode cX12_execute 192 = .ok (.getfield 91, 3) := by decide +kernel
set_option maxRecDepth 100000 in
theorem dX12_execute_195 : decode cX12_execute 195 = .ok (.aload_n 0, 1) := by decide +kernel
set_option maxRecDepth 100000 in
theorem dX12_execute_196 : decode cX12_execute 196 = .ok (.getfield 1388, 3) := by decide +kernel
set_option maxRecDepth 100000 in
theorem dX12_execute_199 : decode cX12_execute 199 = .ok (.iaload, 1) := by decide +kernel
set_option maxRecDepth 100000 in
theorem dX12_execute_200 : decode cX12_execute 200 = .ok (.iload_n 3, 1) := by decide +kernel
set_option maxRecDepth 100000 in
theorem dX12_execute_201 : decode cX12_execute 201 = .ok (.if_icmp .ne 22, 3) := by decide +kernel
set_option maxRecDepth 100000 in
theorem dX12_execute_204 : decode cX12_execute 204 = .ok (.aload_n 0, 1) := by decide +kernel
set_option maxRecDepth 100000 in
theorem dX12_execute_205 : decode cX12_execute 205 = .ok (.iconst 0, 1) := by decide +kernel
set_option maxRecDepth 100000 in
theorem dX12_execute_206 : decode cX12_execute 206 = .ok (.putfield 1121, 3) := by decide +kernel
set_option maxRecDepth 100000 in
theorem dX12_execute_209 : decode cX12_execute 209 = .ok (.aload_n 0, 1) := by decide +kernel
set_option maxRecDepth 100000 in
theorem dX12_execute_210 : decode cX12_execute 210 = .ok (.iload_n 2, 1) := by decide +kernel
set_option maxRecDepth 100000 in
theorem dX12_execute_211 : decode cX12_execute 211 = .ok (.putfield 1348, 3) := by decide +kernel
set_option maxRecDepth 100000 in
theorem dX12_execute_214 : decode cX12_execute 214 = .ok (.aload_n 0, 1) := by decide +kernel
set_option maxRecDepth 100000 in
theorem dX12_execute_215 : decode cX12_execute 215 = .ok (.getfield 1388, 3) := by decide +kernel
set_option maxRecDepth 100000 in
theorem dX12_execute_218 : decode cX12_execute 218 = .ok (.istore 5, 2) := by decide +kernel
set_option maxRecDepth 100000 in
theorem dX12_execute_220 : decode cX12_execute 220 = .ok (.goto (-78), 3) := by decide +kernel
set_option maxRecDepth 100000 in
theorem dX12_execute_223 : decode cX12_execute 223 = .ok (.iconst (-1), 1) := by decide +kernel
set_option maxRecDepth 100000 in
theorem dX12_execute_224 : decode cX12_execute 224 = .ok (.istore 5, 2) := by decide +kernel
set_option maxRecDepth 100000 in
theorem dX12_execute_226 : decode cX12_execute 226 = .ok (.goto (-84), 3) := by decide +kernel
set_option maxRecDepth 100000 in
theorem dX12_execute_229 : decode cX12_execute 229 = .ok (.iconst 0, 1) := by decide +kernel
set_option maxRecDepth 100000 in
theorem dX12_execute_230 : decode cX12_execute 230 = .ok (.istore 4, 2) := by decide +kernel
set_option maxRecDepth 100000 in
theorem dX12_execute_232 : decode cX12_execute 232 = .ok (.aload_n 0, 1) := by decide +kernel
set_option maxRecDepth 100000 in
theorem dX12_execute_233 : decode cX12_execute 233 = .ok (.getfield 1121, 3) := by decide +kernel
set_option maxRecDepth 100000 in
theorem dX12_execute_236 : decode cX12_execute 236 = .ok (.ifCond .ne 47, 3) := by decide +kernel
set_option maxRecDepth 100000 in
theorem dX12_execute_239 : decode cX12_execute 239 = .ok (.aload_n 0, 1) := by decide +kernel
set_option maxRecDepth 100000 in
theorem dX12_execute_240 : decode cX12_execute 240 = .ok (.getfield 67, 3) := by decide +kernel
set_option maxRecDepth 100000 in
theorem dX12_execute_243 : decode cX12_execute 243 = .ok (.iload_n 1, 1) := by decide +kernel
set_option maxRecDepth 100000 in
theorem dX12_execute_244 : decode cX12_execute 244 = .ok (.iaload, 1) := by decide +kernel
set_option maxRecDepth 100000 in
theorem dX12_execute_245 : decode cX12_execute 245 = .ok (.bipush 36, 2) := by decide +kernel
set_option maxRecDepth 100000 in
theorem dX12_execute_247 : decode cX12_execute 247 = .ok (.if_icmp .ne 36, 3) := by decide +kernel
set_option maxRecDepth 100000 in
theorem dX12_execute_250 : decode cX12_execute 250 = .ok (.aload_n 0, 1) := by decide +kernel
set_option maxRecDepth 100000 in
theorem dX12_execute_251 : decode cX12_execute 251 = .ok (.aload_n 0, 1) := by decide +kernel
set_option maxRecDepth 100000 in
theorem dX12_execute_252 : decode cX12_execute 252 = .ok (.getfield 79, 3) := by decide +kernel
set_option maxRecDepth 100000 in
theorem dX12_execute_255 : decode cX12_execute 255 = .ok (.iload_n 3, 1) := by decide +kernel
set_option maxRecDepth 100000 in
theorem dX12_execute_256 : decode cX12_execute 256 = .ok (.iaload, 1) := by decide +kernel
set_option maxRecDepth 100000 in
theorem dX12_execute_257 : decode cX12_execute 257 = .ok (.invokevirtual 1233, 3) := by decide +kernel
set_option maxRecDepth 100000 in
theorem dX12_execute_260 : decode cX12_execute 260 = .ok (.aload_n 0, 1) := by decide +kernel
set_option maxRecDepth 100000 in
theorem dX12_execute_261 : decode cX12_execute 261 = .ok (.getfield 1121, 3) := by decide +kernel
set_option maxRecDepth 100000 in
theorem dX12_execute_264 : decode cX12_execute 264 = .ok (.ifCond .ne 16, 3) := by decide +kernel
set_option maxRecDepth 100000 in
theorem dX12_execute_267 : decode cX12_execute 267 = .ok (.aload_n 0, 1) := by decide +kernel
set_option maxRecDepth 100000 in
theorem dX12_execute_268 : decode cX12_execute 268 = .ok (.getfield 1145, 3) := by decide +kernel
set_option maxRecDepth 100000 in
theorem dX12_execute_271 : decode cX12_execute 271 = .ok (.lconst 0, 1) := by decide +kernel
set_option maxRecDepth 100000 in
theorem dX12_execute_272 : decode cX12_execute 272 = .ok (.lcmp, 1) := by decide +kernel
set_option maxRecDepth 100000 in
theorem dX12_execute_273 : decode cX12_execute 273 = .ok (.ifCond .ne 7, 3) := by decide +kernel
set_option maxRecDepth 100000 in
theorem dX12_execute_276 : decode cX12_execute 276 = .ok (.iconst 1, 1) := by decide +kernel
set_option maxRecDepth 100000 in
theorem dX12_execute_277 : decode cX12_execute 277 = .ok (.goto 4, 3) := by decide +kernel
set_option maxRecDepth 100000 in
theorem dX12_execute_280 : decode cX12_execute 280 = .ok (.iconst 0, 1) := by decide +kernel
set_option maxRecDepth 100000 in
theorem dX12_execute_281 : decode cX12_execute 281 = .ok (.istore 4, 2) := by decide +kernel
set_option maxRecDepth 100000 in
theorem dX12_execute_283 : decode cX12_execute 283 = .ok (.goto (-154), 3) := by decide +kernel
set_option maxRecDepth 100000 in
theorem dX12_execute_286 : decode cX12_execute 286 = .ok (.aload_n 0, 1) := by decide +kernel
set_option maxRecDepth 100000 in
theorem dX12_execute_287 : decode cX12_execute 287 = .ok (.aload_n 0, 1) := by decide +kernel
set_option maxRecDepth 100000 in
theorem dX12_execute_288 : decode cX12_execute 288 = .ok (.getfield 73, 3) := by decide +kernel
set_option maxRecDepth 100000 in
theorem dX12_execute_291 : decode cX12_execute 291 = .ok (.iload_n 1, 1) := by decide +kernel
set_option maxRecDepth 100000 in
theorem dX12_execute_292 : decode cX12_execute 292 = .ok (.iaload, 1) := by decide +kernel
set_option maxRecDepth 100000 in
theorem dX12_execute_293 : decode cX12_execute 293 = .ok (.invokevirtual 1233, 3) := by decide +kernel
set_option maxRecDepth 100000 in
theorem dX12_execute_296 : decode cX12_execute 296 = .ok (.aload_n 0, 1) := by decide +kernel
set_option maxRecDepth 100000 in
theorem dX12_execute_297 : decode cX12_execute 297 = .ok (.getfield 1121, 3) := by decide +kernel
set_option maxRecDepth 100000 in
theorem dX12_execute_300 : decode cX12_execute 300 = .ok (.ifCond .eq 6, 3) := by decide +kernel
set_option maxRecDepth 100000 in
theorem dX12_execute_303 : decode cX12_execute 303 = .ok (.goto 489, 3) := by decide +kernel
set_option maxRecDepth 100000 in
theorem dX12_execute_306 : decode cX12_execute 306 = .ok (.aload_n 0, 1) := by decide +kernel
set_option maxRecDepth 100000 in
theorem dX12_execute_307 : decode cX12_execute 307 = .ok (.getfield 79, 3) := by decide +kernel
set_option maxRecDepth 100000 in
theorem dX12_execute_310 : decode cX12_execute 310 = .ok (.aload_n 0, 1) := by decide +kernel
set_option maxRecDepth 100000 in
theorem dX12_execute_311 : decode cX12_execute 311 = .ok (.getfield 73, 3) := by decide +kernel
set_option maxRecDepth 100000 in
theorem dX12_execute_314 : decode cX12_execute 314 = .ok (.iload_n 1, 1) := by decide +kernel
set_option maxRecDepth 100000 in
theorem dX12_execute_315 : decode cX12_execute 315 = .ok (.iaload, 1) := by decide +kernel
set_option maxRecDepth 100000 in
theorem dX12_execute_316 : decode cX12_execute 316 = .ok (.iaload, 1) := by decide +kernel
set_option maxRecDepth 100000 in
theorem dX12_execute_317 : decode cX12_execute 317 = .ok (.istore 5, 2) := by decide +kernel
set_option maxRecDepth 100000 in
theorem dX12_execute_319 : decode cX12_execute 319 = .ok (.aload_n 0, 1) := by decide +kernel
set_option maxRecDepth 100000 in
theorem dX12_execute_320 : decode cX12_execute 320 = .ok (.getfield 1145, 3) := by decide +kernel
set_option maxRecDepth 100000 in
theorem dX12_execute_323 : decode cX12_execute 323 = .ok (.lconst 0, 1) := by decide +kernel
set_option maxRecDepth 100000 in
theorem dX12_execute_324 : decode cX12_execute 324 = .ok (.lcmp, 1) := by decide +kernel
set_option maxRecDepth 100000 in
theorem dX12_execute_325 : decode cX12_execute 325 = .ok (.ifCond .ne 12, 3) := by decide +kernel
set_option maxRecDepth 100000 in
theorem dX12_execute_328 : decode cX12_execute 328 = .ok (.aload_n 0, 1) := by decide +kernel
set_option maxRecDepth 100000 in
theorem dX12_execute_329 : decode cX12_execute 329 = .ok (.getfield 79, 3) := by decide +kernel
set_option maxRecDepth 100000 in
theorem dX12_execute_332 : decode cX12_execute 332 = .ok (.iload 5, 2) := by decide +kernel
set_option maxRecDepth 100000 in
theorem dX12_execute_334 : decode cX12_execute 334 = .ok (.iaload, 1) := by decide +kernel
set_option maxRecDepth 100000 in
theorem dX12_execute_335 : decode cX12_execute 335 = .ok (.istore 5, 2) := by decide +kernel
set_option maxRecDepth 100000 in
theorem dX12_execute_337 : decode cX12_execute 337 = .ok (.iload 5, 2) := by decide +kernel
set_option maxRecDepth 100000 in
theorem dX12_execute_339 : decode cX12_execute 339 = .ok (.iconst (-1), 1) := by decide +kernel
set_option maxRecDepth 100000 in
theorem dX12_execute_340 : decode cX12_execute 340 = .ok (.if_icmp .eq 452, 3) := by decide +kernel
set_option maxRecDepth 100000 in
theorem dX12_execute_343 : decode cX12_execute 343 = .ok (.aload_n 0, 1) := by decide +kernel
set_option maxRecDepth 100000 in
theorem dX12_execute_344 : decode cX12_execute 344 = .ok (.iload 5, 2) := by decide +kernel
set_option maxRecDepth 100000 in
theorem dX12_execute_346 : decode cX12_execute 346 = .ok (.invokevirtual 1370, 3) := by decide +kernel
set_option maxRecDepth 100000 in
theorem dX12_execute_349 : decode cX12_execute 349 = .ok (.goto 443, 3) := by decide +kernel
set_option maxRecDepth 100000 in
theorem dX12_execute_352 : decode cX12_execute 352 = .ok (.aload_n 0, 1) := by decide +kernel
set_option maxRecDepth 100000 in
theorem dX12_execute_353 : decode cX12_execute 353 = .ok (.aload_n 0, 1) := by decide +kernel
set_option maxRecDepth 100000 in
theorem dX12_execute_354 : decode cX12_execute 354 = .ok (.getfield 73, 3) := by decide +kernel
set_option maxRecDepth 100000 in
theorem dX12_execute_357 : decode cX12_execute 357 = .ok (.iload_n 1, 1) := by decide +kernel
set_option maxRecDepth 100000 in
theorem dX12_execute_358 : decode cX12_execute 358 = .ok (.iaload, 1) := by decide +kernel
set_option maxRecDepth 100000 in
theorem dX12_execute_359 : decode cX12_execute 359 = .ok (.invokevirtual 1233, 3) := by decide +kernel
set_option maxRecDepth 100000 in
theorem dX12_execute_362 : decode cX12_execute 362 = .ok (.aload_n 0, 1) := by decide +kernel
set_option maxRecDepth 100000 in
theorem dX12_execute_363 : decode cX12_execute 363 = .ok (.getfield 1121, 3) := by decide +kernel
set_option maxRecDepth 100000 in
theorem dX12_execute_366 : decode cX12_execute 366 = .ok (.ifCond .ne 426, 3) := by decide +kernel
set_option maxRecDepth 100000 in
theorem dX12_execute_369 : decode cX12_execute 369 = .ok (.aload_n 0, 1) := by decide +kernel
set_option maxRecDepth 100000 in
theorem dX12_execute_370 : decode cX12_execute 370 = .ok (.getfield 1145, 3) := by decide +kernel
set_option maxRecDepth 100000 in
theorem dX12_execute_373 : decode cX12_execute 373 = .ok (.lconst 1, 1) := by decide +kernel
set_option maxRecDepth 100000 in
theorem dX12_execute_374 : decode cX12_execute 374 = .ok (.lcmp, 1) := by decide +kernel
set_option maxRecDepth 100000 in
theorem dX12_execute_375 : decode cX12_execute 375 = .ok (.ifCond .ne 417, 3) := by decide +kernel
set_option maxRecDepth 100000 in
theorem dX12_execute_378 : decode cX12_execute 378 = .ok (.aload_n 0, 1) := by decide +kernel
set_option maxRecDepth 100000 in
theorem dX12_execute_379 : decode cX12_execute 379 = .ok (.aload_n 0, 1) := by decide +kernel
set_option maxRecDepth 100000 in
theorem dX12_execute_380 : decode cX12_execute 380 = .ok (.getfield 79, 3) := by decide +kernel
set_option maxRecDepth 100000 in
theorem dX12_execute_383 : decode cX12_execute 383 = .ok (.aload_n 0, 1) := by decide +kernel
set_option maxRecDepth 100000 in
theorem dX12_execute_384 : decode cX12_execute 384 = .ok (.getfield 73, 3) := by decide +kernel
set_option maxRecDepth 100000 in
theorem dX12_execute_387 : decode cX12_execute 387 = .ok (.iload_n 1, 1) := by decide +kernel
set_option maxRecDepth 100000 in
theorem dX12_execute_388 : decode cX12_execute 388 = .ok (.iaload, 1) := by decide +kernel
set_option maxRecDepth 100000 in
theorem dX12_execute_389 : decode cX12_execute 389 = .ok (.iaload, 1) := by decide +kernel
set_option maxRecDepth 100000 in
theorem dX12_execute_390 : decode cX12_execute 390 = .ok (.invokevirtual 1370, 3) := by decide +kernel
set_option maxRecDepth 100000 in
theorem dX12_execute_393 : decode cX12_execute 393 = .ok (.aload_n 0, 1) := by decide +kernel
set_option maxRecDepth 100000 in
theorem dX12_execute_394 : decode cX12_execute 394 = .ok (.getfield 1121, 3) := by decide +kernel
set_option maxRecDepth 100000 in
theorem dX12_execute_397 : decode cX12_execute 397 = .ok (.ifCond .ne (-35), 3) := by decide +kernel
set_option maxRecDepth 100000 in
theorem dX12_execute_400 : decode cX12_execute 400 = .ok (.aload_n 0, 1) := by decide +kernel
set_option maxRecDepth 100000 in
theorem dX12_execute_401 : decode cX12_execute 401 = .ok (.aload_n 0, 1) := by decide +kernel
set_option maxRecDepth 100000 in
theorem dX12_execute_402 : decode cX12_execute 402 = .ok (.getfield 73, 3) := by decide +kernel
set_option maxRecDepth 100000 in
theorem dX12_execute_405 : decode cX12_execute 405 = .ok (.iload_n 1, 1) := by decide +kernel
set_option maxRecDepth 100000 in
theorem dX12_execute_406 : decode cX12_execute 406 = .ok (.iaload, 1) := by decide +kernel
set_option maxRecDepth 100000 in
theorem dX12_execute_407 : decode cX12_execute 407 = .ok (.invokevirtual 1233, 3) := by decide +kernel
set_option maxRecDepth 100000 in
theorem dX12_execute_410 : decode cX12_execute 410 = .ok (.goto (-48), 3) := by decide +kernel
set_option maxRecDepth 100000 in
theorem dX12_execute_413 : decode cX12_execute 413 = .ok (.aload_n 0, 1) := by decide +kernel
set_option maxRecDepth 100000 in
theorem dX12_execute_414 : decode cX12_execute 414 = .ok (.iload_n 1, 1) := by decide +kernel
set_option maxRecDepth 100000 in
theorem dX12_execute_415 : decode cX12_execute 415 = .ok (.invokevirtual 1391, 3) := by decide +kernel
set_option maxRecDepth 100000 in
theorem dX12_execute_418 : decode cX12_execute 418 = .ok (.istore 6, 2) := by decide +kernel
set_option maxRecDepth 100000 in
theorem dX12_execute_420 : decode cX12_execute 420 = .ok (.iload 6, 2) := by decide +kernel
set_option maxRecDepth 100000 in
theorem dX12_execute_422 : decode cX12_execute 422 = .ok (.iconst (-1), 1) := by decide +kernel
set_option maxRecDepth 100000 in
theorem dX12_execute_423 : decode cX12_execute 423 = .ok (.if_icmp .eq 369, 3) := by decide +kernel
set_option maxRecDepth 100000 in
theorem dX12_execute_426 : decode cX12_execute 426 = .ok (.aload_n 0, 1) := by decide +kernel
set_option maxRecDepth 100000 in
theorem dX12_execute_427 : decode cX12_execute 427 = .ok (.aload_n 0, 1) := by decide +kernel
set_option maxRecDepth 100000 in
theorem dX12_execute_428 : decode cX12_execute 428 = .ok (.getfield 79, 3) := by decide +kernel
set_option maxRecDepth 100000 in
theorem dX12_execute_431 : decode cX12_execute 431 = .ok (.aload_n 0, 1) := by decide +kernel
set_option maxRecDepth 100000 in
theorem dX12_execute_432 : decode cX12_execute 432 = .ok (.getfield 73, 3) := by decide +kernel
set_option maxRecDepth 100000 in
theorem dX12_execute_435 : decode cX12_execute 435 = .ok (.iload 6, 2) := by decide +kernel
set_option maxRecDepth 100000 in
theorem dX12_execute_437 : decode cX12_execute 437 = .ok (.iaload, 1) := by decide +kernel
set_option maxRecDepth 100000 in
theorem dX12_execute_438 : decode cX12_execute 438 = .ok (.iaload, 1) := by decide +kernel
set_option maxRecDepth 100000 in
theorem dX12_execute_439 : decode cX12_execute 439 = .ok (.invokevirtual 1370, 3) := by decide +kernel
set_option maxRecDepth 100000 in
theorem dX12_execute_442 : decode cX12_execute 442 = .ok (.goto 350, 3) := by decide +kernel
set_option maxRecDepth 100000 in
theorem dX12_execute_445 : decode cX12_execute 445 = .ok (.aload_n 0, 1) := by decide +kernel
set_option maxRecDepth 100000 in
theorem dX12_execute_446 : decode cX12_execute 446 = .ok (.getfield 79, 3) := by decide +kernel
set_option maxRecDepth 100000 in
theorem dX12_execute_449 : decode cX12_execute 449 = .ok (.aload_n 0, 1) := by decide +kernel
set_option maxRecDepth 100000 in
theorem dX12_execute_450 : decode cX12_execute 450 = .ok (.getfield 73, 3) := by decide +kernel
set_option maxRecDepth 100000 in
theorem dX12_execute_453 : decode cX12_execute 453 = .ok (.iload_n 1, 1) := by decide +kernel
set_option maxRecDepth 100000 in
theorem dX12_execute_454 : decode cX12_execute 454 = .ok (.iaload, 1) := by decide +kernel
set_option maxRecDepth 100000 in
theorem dX12_execute_455 : decode cX12_execute 455 = .ok (.iaload, 1) := by decide +kernel
set_option maxRecDepth 100000 in
theorem dX12_execute_456 : decode cX12_execute 456 = .ok (.istore 7, 2) := by decide +kernel
set_option maxRecDepth 100000 in
theorem dX12_execute_458 : decode cX12_execute 458 = .ok (.aload_n 0, 1) := by decide +kernel
set_option maxRecDepth 100000 in
theorem dX12_execute_459 : decode cX12_execute 459 = .ok (.iload 7, 2) := by decide +kernel
set_option maxRecDepth 100000 in
theorem dX12_execute_461 : decode cX12_execute 461 = .ok (.invokevirtual 1233, 3) := by decide +kernel
set_option maxRecDepth 100000 in
theorem dX12_execute_464 : decode cX12_execute 464 = .ok (.aload_n 0, 1) := by decide +kernel
set_option maxRecDepth 100000 in
theorem dX12_execute_465 : decode cX12_execute 465 = .ok (.getfield 1121, 3) := by decide +kernel
set_option maxRecDepth 100000 in
theorem dX12_execute_468 : decode cX12_execute 468 = .ok (.ifCond .eq 6, 3) := by decide +kernel
set_option maxRecDepth 100000 in
theorem dX12_execute_471 : decode cX12_execute 471 = .ok (.goto 321, 3) := by decide +kernel
set_option maxRecDepth 100000 in
theorem dX12_execute_474 : decode cX12_execute 474 = .ok (.aload_n 0, 1) := by decide +kernel
set_option maxRecDepth 100000 in
theorem dX12_execute_475 : decode cX12_execute 475 = .ok (.getfield 1145, 3) := by decide +kernel
set_option maxRecDepth 100000 in
theorem dX12_execute_478 : decode cX12_execute 478 = .ok (.lstore 8, 2) := by decide +kernel
set_option maxRecDepth 100000 in
theorem dX12_execute_480 : decode cX12_execute 480 = .ok (.aload_n 0, 1) := by decide +kernel
set_option maxRecDepth 100000 in
theorem dX12_execute_481 : decode cX12_execute 481 = .ok (.aload_n 0, 1) := by decide +kernel
set_option maxRecDepth 100000 in
theorem dX12_execute_482 : decode cX12_execute 482 = .ok (.getfield 79, 3) := by decide +kernel
set_option maxRecDepth 100000 in
theorem dX12_execute_485 : decode cX12_execute 485 = .ok (.iload 7, 2) := by decide +kernel
set_option maxRecDepth 100000 in
theorem dX12_execute_487 : decode cX12_execute 487 = .ok (.iaload, 1) := by decide +kernel
set_option maxRecDepth 100000 in
theorem dX12_execute_488 : decode cX12_execute 488 = .ok (.invokevirtual 1233, 3) := by decide +kernel
set_option maxRecDepth 100000 in
theorem dX12_execute_491 : decode cX12_execute 491 = .ok (.aload_n 0, 1) := by decide +kernel
set_option maxRecDepth 100000 in
theorem dX12_execute_492 : decode cX12_execute 492 = .ok (.getfield 1121, 3) := by decide +kernel
set_option maxRecDepth 100000 in
theorem dX12_execute_495 : decode cX12_execute 495 = .ok (.ifCond .eq 6, 3) := by decide +kernel
set_option maxRecDepth 100000 in
theorem dX12_execute_498 : decode cX12_execute 498 = .ok (.goto 294, 3) := by decide +kernel
set_option maxRecDepth 100000 in
theorem dX12_execute_501 : decode cX12_execute 501 = .ok (.aload_n 0, 1) := by decide +kernel
set_option maxRecDepth 100000 in
theorem dX12_execute_502 : decode cX12_execute 502 = .ok (.getfield 1145, 3) := by decide +kernel
set_option maxRecDepth 100000 in
theorem dX12_execute_505 : decode cX12_execute 505 = .ok (.lstore 10, 2) := by decide +kernel
set_option maxRecDepth 100000 in
theorem dX12_execute_507 : decode cX12_execute 507 = .ok (.aload_n 0, 1) := by decide +kernel
set_option maxRecDepth 100000 in
theorem dX12_execute_508 : decode cX12_execute 508 = .ok (.aload_n 0, 1) := by decide +kernel
set_option maxRecDepth 100000 in
theorem dX12_execute_509 : decode cX12_execute 509 = .ok (.getfield 102, 3) := by decide +kernel
set_option maxRecDepth 100000 in
theorem dX12_execute_512 : decode cX12_execute 512 = .ok (.iload_n 1, 1) := by decide +kernel
set_option maxRecDepth 100000 in
theorem dX12_execute_513 : decode cX12_execute 513 = .ok (.aaload, 1) := by decide +kernel
set_option maxRecDepth 100000 in
theorem dX12_execute_514 : decode cX12_execute 514 = .ok (.invokevirtual 1229, 3) := by decide +kernel
set_option maxRecDepth 100000 in
theorem dX12_execute_517 : decode cX12_execute 517 = .ok (.istore 12, 2) := by decide +kernel
set_option maxRecDepth 100000 in
theorem dX12_execute_519 : decode cX12_execute 519 = .ok (.aload_n 0, 1) := by decide +kernel
set_option maxRecDepth 100000 in
theorem dX12_execute_520 : decode cX12_execute 520 = .ok (.getfield 169, 3) := by decide +kernel
set_option maxRecDepth 100000 in
theorem dX12_execute_523 : decode cX12_execute 523 = .ok (.iload 12, 2) := by decide +kernel
set_option maxRecDepth 100000 in
theorem dX12_execute_525 : decode cX12_execute 525 = .ok (.iconst 0, 1) := by decide +kernel
set_option maxRecDepth 100000 in
theorem dX12_execute_526 : decode cX12_execute 526 = .ok (.bastore, 1) := by decide +kernel
set_option maxRecDepth 100000 in
theorem dX12_execute_527 : decode cX12_execute 527 = .ok (.aload_n 0, 1) := by decide +kernel
set_option maxRecDepth 100000 in
theorem dX12_execute_528 : decode cX12_execute 528 = .ok (.getfield 82, 3) := by decide +kernel
set_option maxRecDepth 100000 in
theorem dX12_execute_531 : decode cX12_execute 531 = .ok (.iload_n 1, 1) := by decide +kernel
set_option maxRecDepth 100000 in
theorem dX12_execute_532 : decode cX12_execute 532 = .ok (.iaload, 1) := by decide +kernel
set_option maxRecDepth 100000 in
theorem dX12_execute_533 : decode cX12_execute 533 = .ok (.iconst 1, 1) := by decide +kernel
set_option maxRecDepth 100000 in
theorem dX12_execute_534 : decode cX12_execute 534 = .ok (.if_icmp .ne 14, 3) := by decide +kernel
set_option maxRecDepth 100000 in
theorem dX12_execute_537 : decode cX12_execute 537 = .ok (.lload 8, 2) := by decide +kernel
set_option maxRecDepth 100000 in
theorem dX12_execute_539 : decode cX12_execute 539 = .ok (.lload 10, 2) := by decide +kernel
set_option maxRecDepth 100000 in
theorem dX12_execute_541 : decode cX12_execute 541 = .ok (.lcmp, 1) := by decide +kernel
set_option maxRecDepth 100000 in
theorem dX12_execute_542 : decode cX12_execute 542 = .ok (.ifCond .le 17, 3) := by decide +kernel
set_option maxRecDepth 100000 in
theorem dX12_execute_545 : decode cX12_execute 545 = .ok (.goto 247, 3) := by decide +kernel
set_option maxRecDepth 100000 in
theorem dX12_execute_548 : decode cX12_execute 548 = .ok (.lload 8, 2) := by decide +kernel
set_option maxRecDepth 100000 in
theorem dX12_execute_550 : decode cX12_execute 550 = .ok (.lload 10, 2) := by decide +kernel
set_option maxRecDepth 100000 in
theorem dX12_execute_552 : decode cX12_execute 552 = .ok (.lcmp, 1) := by decide +kernel
set_option maxRecDepth 100000 in
theorem dX12_execute_553 : decode cX12_execute 553 = .ok (.ifCond .ge 6, 3) := by decide +kernel
set_option maxRecDepth 100000 in
theorem dX12_execute_556 : decode cX12_execute 556 = .ok (.goto 236, 3) := by decide +kernel
set_option maxRecDepth 100000 in
theorem dX12_execute_559 : decode cX12_execute 559 = .ok (.aload_n 0, 1) := by decide +kernel
set_option maxRecDepth 100000 in
theorem dX12_execute_560 : decode cX12_execute 560 = .ok (.iload_n 1, 1) := by decide +kernel
set_option maxRecDepth 100000 in
theorem dX12_execute_561 : decode cX12_execute 561 = .ok (.lload 8, 2) := by decide +kernel
set_option maxRecDepth 100000 in
theorem dX12_execute_563 : decode cX12_execute 563 = .ok (.lload 10, 2) := by decide +kernel
set_option maxRecDepth 100000 in
theorem dX12_execute_565 : decode cX12_execute 565 = .ok (.invokevirtual 1394, 3) := by decide +kernel
set_option maxRecDepth 100000 in
theorem dX12_execute_568 : decode cX12_execute 568 = .ok (.lload 8, 2) := by decide +kernel
set_option maxRecDepth 100000 in
theorem dX12_execute_570 : decode cX12_execute 570 = .ok (.lstore 13, 2) := by decide +kernel
set_option maxRecDepth 100000 in
theorem dX12_execute_572 : decode cX12_execute 572 = .ok (.aload_n 0, 1) := by decide +kernel
set_option maxRecDepth 100000 in
theorem dX12_execute_573 : decode cX12_execute 573 = .ok (.getfield 1121, 3) := by decide +kernel
set_option maxRecDepth 100000 in
theorem dX12_execute_576 : decode cX12_execute 576 = .ok (.ifCond .ne 80, 3) := by decide +kernel
set_option maxRecDepth 100000 in
theorem dX12_execute_579 : decode cX12_execute 579 = .ok (.aload_n 0, 1) := by decide +kernel
set_option maxRecDepth 100000 in
theorem dX12_execute_580 : decode cX12_execute 580 = .ok (.getfield 82, 3) := by decide +kernel
set_option maxRecDepth 100000 in
theorem dX12_execute_583 : decode cX12_execute 583 = .ok (.iload_n 1, 1) := by decide +kernel
set_option maxRecDepth 100000 in
theorem dX12_execute_584 : decode cX12_execute 584 = .ok (.iaload, 1) := by decide +kernel
set_option maxRecDepth 100000 in
theorem dX12_execute_585 : decode cX12_execute 585 = .ok (.iconst 1, 1) := by decide +kernel
set_option maxRecDepth 100000 in
theorem dX12_execute_586 : decode cX12_execute 586 = .ok (.if_icmp .ne 14, 3) := by decide +kernel
set_option maxRecDepth 100000 in
theorem dX12_execute_589 : decode cX12_execute 589 = .ok (.lload 13, 2) := by decide +kernel
set_option maxRecDepth 100000 in
theorem dX12_execute_591 : decode cX12_execute 591 = .ok (.lload 10, 2) := by decide +kernel
set_option maxRecDepth 100000 in
theorem dX12_execute_593 : decode cX12_execute 593 = .ok (.lcmp, 1) := by decide +kernel
set_option maxRecDepth 100000 in
theorem dX12_execute_594 : decode cX12_execute 594 = .ok (.ifCond .gt 62, 3) := by decide +kernel
set_option maxRecDepth 100000 in
theorem dX12_execute_597 : decode cX12_execute 597 = .ok (.goto 11, 3) := by decide +kernel
set_option maxRecDepth 100000 in
theorem dX12_execute_600 : decode cX12_execute 600 = .ok (.lload 13, 2) := by decide +kernel
set_option maxRecDepth 100000 in
theorem dX12_execute_602 : decode cX12_execute 602 = .ok (.lload 10, 2) := by decide +kernel
set_option maxRecDepth 100000 in
theorem dX12_execute_604 : decode cX12_execute 604 = .ok (.lcmp, 1) := by decide +kernel
set_option maxRecDepth 100000 in
theorem dX12_execute_605 : decode cX12_execute 605 = .ok (.ifCond .lt 51, 3) := by decide +kernel
set_option maxRecDepth 100000 in
theorem dX12_execute_608 : decode cX12_execute 608 = .ok (.aload_n 0, 1) := by decide +kernel
set_option maxRecDepth 100000 in
theorem dX12_execute_609 : decode cX12_execute 609 = .ok (.getfield 169, 3) := by decide +kernel
set_option maxRecDepth 100000 in
theorem dX12_execute_612 : decode cX12_execute 612 = .ok (.iload 12, 2) := by decide +kernel
set_option maxRecDepth 100000 in
theorem dX12_execute_614 : decode cX12_execute 614 = .ok (.iconst 1, 1) := by decide +kernel
set_option maxRecDepth 100000 in
theorem dX12_execute_615 : decode cX12_execute 615 = .ok (.bastore, 1) := by decide +kernel
set_option maxRecDepth 100000 in
theorem dX12_execute_616 : decode cX12_execute 616 = .ok (.aload_n 0, 1) := by decide +kernel
set_option maxRecDepth 100000 in
theorem dX12_execute_617 : decode cX12_execute 617 = .ok (.getfield 159, 3) := by decide +kernel
set_option maxRecDepth 100000 in
theorem dX12_execute_620 : decode cX12_execute 620 = .ok (.iload 12, 2) := by decide +kernel
set_option maxRecDepth 100000 in
theorem dX12_execute_622 : decode cX12_execute 622 = .ok (.lload 13, 2) := by decide +kernel
set_option maxRecDepth 100000 in
theorem dX12_execute_624 : decode cX12_execute 624 = .ok (.lastore, 1) := by decide +kernel
set_option maxRecDepth 100000 in
theorem dX12_execute_625 : decode cX12_execute 625 = .ok (.aload_n 0, 1) := by decide +kernel
set_option maxRecDepth 100000 in
theorem dX12_execute_626 : decode cX12_execute 626 = .ok (.aload_n 0, 1) := by decide +kernel
set_option maxRecDepth 100000 in
theorem dX12_execute_627 : decode cX12_execute 627 = .ok (.getfield 79, 3) := by decide +kernel
set_option maxRecDepth 100000 in
theorem dX12_execute_630 : decode cX12_execute 630 = .ok (.aload_n 0, 1) := by decide +kernel
set_option maxRecDepth 100000 in
theorem dX12_execute_631 : decode cX12_execute 631 = .ok (.getfield 79, 3) := by decide +kernel
set_option maxRecDepth 100000 in
theorem dX12_execute_634 : decode cX12_execute 634 = .ok (.iload 7, 2) := by decide +kernel
set_option maxRecDepth 100000 in
theorem dX12_execute_636 : decode cX12_execute 636 = .ok (.iaload, 1) := by decide +kernel
set_option maxRecDepth 100000 in
theorem dX12_execute_637 : decode cX12_execute 637 = .ok (.iaload, 1) := by decide +kernel
set_option maxRecDepth 100000 in
theorem dX12_execute_638 : decode cX12_execute 638 = .ok (.invokevirtual 1370, 3) := by decide +kernel
set_option maxRecDepth 100000 in
theorem dX12_execute_641 : decode cX12_execute 641 = .ok (.lload 13, 2) := by decide +kernel
set_option maxRecDepth 100000 in
theorem dX12_execute_643 : decode cX12_execute 643 = .ok (.aload_n 0, 1) := by decide +kernel
set_option maxRecDepth 100000 in
theorem dX12_execute_644 : decode cX12_execute 644 = .ok (.getfield 82, 3) := by decide +kernel
set_option maxRecDepth 100000 in
theorem dX12_execute_647 : decode cX12_execute 647 = .ok (.iload_n 1, 1) := by decide +kernel
set_option maxRecDepth 100000 in
theorem dX12_execute_648 : decode cX12_execute 648 = .ok (.iaload, 1) := by decide +kernel
set_option maxRecDepth 100000 in
theorem dX12_execute_649 : decode cX12_execute 649 = .ok (.i2l, 1) := by decide +kernel
set_option maxRecDepth 100000 in
theorem dX12_execute_650 : decode cX12_execute 650 = .ok (.ladd, 1) := by decide +kernel
set_option maxRecDepth 100000 in
theorem dX12_execute_651 : decode cX12_execute 651 = .ok (.lstore 13, 2) := by decide +kernel
set_option maxRecDepth 100000 in
theorem dX12_execute_653 : decode cX12_execute 653 = .ok (.goto (-81), 3) := by decide +kernel
set_option maxRecDepth 100000 in
theorem dX12_execute_656 : decode cX12_execute 656 = .ok (.aload_n 0, 1) := by decide +kernel
set_option maxRecDepth 100000 in
theorem dX12_execute_657 : decode cX12_execute 657 = .ok (.getfield 1121, 3) := by decide +kernel
set_option maxRecDepth 100000 in
theorem dX12_execute_660 : decode cX12_execute 660 = .ok (.ifCond .ne 132, 3) := by decide +kernel
set_option maxRecDepth 100000 in
theorem dX12_execute_663 : decode cX12_execute 663 = .ok (.aload_n 0, 1) := by decide +kernel
set_option maxRecDepth 100000 in
theorem dX12_execute_664 : decode cX12_execute 664 = .ok (.getfield 169, 3) := by decide +kernel
set_option maxRecDepth 100000 in
theorem dX12_execute_667 : decode cX12_execute 667 = .ok (.iload 12, 2) := by decide +kernel
set_option maxRecDepth 100000 in
theorem dX12_execute_669 : decode cX12_execute 669 = .ok (.iconst 0, 1) := by decide +kernel
set_option maxRecDepth 100000 in
theorem dX12_execute_670 : decode cX12_execute 670 = .ok (.bastore, 1) := by decide +kernel
set_option maxRecDepth 100000 in
theorem dX12_execute_671 : decode cX12_execute 671 = .ok (.goto 121, 3) := by decide +kernel
set_option maxRecDepth 100000 in
theorem dX12_execute_674 : decode cX12_execute 674 = .ok (.aload_n 0, 1) := by decide +kernel
set_option maxRecDepth 100000 in
theorem dX12_execute_675 : decode cX12_execute 675 = .ok (.iload_n 1, 1) := by decide +kernel
set_option maxRecDepth 100000 in
theorem dX12_execute_676 : decode cX12_execute 676 = .ok (.invokevirtual 1398, 3) := by decide +kernel
set_option maxRecDepth 100000 in
theorem dX12_execute_679 : decode cX12_execute 679 = .ok (.istore 13, 2) := by decide +kernel
set_option maxRecDepth 100000 in
theorem dX12_execute_681 : decode cX12_execute 681 = .ok (.aload_n 0, 1) := by decide +kernel
set_option maxRecDepth 100000 in
theorem dX12_execute_682 : decode cX12_execute 682 = .ok (.getfield 1121, 3) := by decide +kernel
set_option maxRecDepth 100000 in
theorem dX12_execute_685 : decode cX12_execute 685 = .ok (.ifCond .ne 107, 3) := by decide +kernel
set_option maxRecDepth 100000 in
theorem dX12_execute_688 : decode cX12_execute 688 = .ok (.aload_n 0, 1) := by decide +kernel
set_option maxRecDepth 100000 in
theorem dX12_execute_689 : decode cX12_execute 689 = .ok (.iload 13, 2) := by decide +kernel
set_option maxRecDepth 100000 in
theorem dX12_execute_691 : decode cX12_execute 691 = .ok (.invokevirtual 1370, 3) := by decide +kernel
set_option maxRecDepth 100000 in
theorem dX12_execute_694 : decode cX12_execute 694 = .ok (.goto 98, 3) := by decide +kernel
set_option maxRecDepth 100000 in
theorem dX12_execute_697 : decode cX12_execute 697 = .ok (.aload_n 0, 1) := by decide +kernel
set_option maxRecDepth 100000 in
theorem dX12_execute_698 : decode cX12_execute 698 = .ok (.iconst 1, 1) := by decide +kernel
set_option maxRecDepth 100000 in
theorem dX12_execute_699 : decode cX12_execute 699 = .ok (.putfield 1121, 3) := by decide +kernel
set_option maxRecDepth 100000 in
theorem dX12_execute_702 : decode cX12_execute 702 = .ok (.aload_n 0, 1) := by decide +kernel
set_option maxRecDepth 100000 in
theorem dX12_execute_703 : decode cX12_execute 703 = .ok (.aload_n 0, 1) := by decide +kernel
set_option maxRecDepth 100000 in
theorem dX12_execute_704 : decode cX12_execute 704 = .ok (.getfield 82, 3) := by decide +kernel
set_option maxRecDepth 100000 in
theorem dX12_execute_707 : decode cX12_execute 707 = .ok (.iload_n 1, 1) := by decide +kernel
set_option maxRecDepth 100000 in
theorem dX12_execute_708 : decode cX12_execute 708 = .ok (.iaload, 1) := by decide +kernel
set_option maxRecDepth 100000 in
theorem dX12_execute_709 : decode cX12_execute 709 = .ok (.putfield 1388, 3) := by decide +kernel
set_option maxRecDepth 100000 in
theorem dX12_execute_712 : decode cX12_execute 712 = .ok (.aload_n 0, 1) := by decide +kernel
set_option maxRecDepth 100000 in
theorem dX12_execute_713 : decode cX12_execute 713 = .ok (.aload_n 0, 1) := by decide +kernel
set_option maxRecDepth 100000 in
theorem dX12_execute_714 : decode cX12_execute 714 = .ok (.aload_n 0, 1) := by decide +kernel
set_option maxRecDepth 100000 in
theorem dX12_execute_715 : decode cX12_execute 715 = .ok (.getfield 85, 3) := by decide +kernel
set_option maxRecDepth 100000 in
theorem dX12_execute_718 : decode cX12_execute 718 = .ok (.iload_n 1, 1) := by decide +kernel
set_option maxRecDepth 100000 in
theorem dX12_execute_719 : decode cX12_execute 719 = .ok (.iaload, 1) := by decide +kernel
set_option maxRecDepth 100000 in
theorem dX12_execute_720 : decode cX12_execute 720 = .ok (.invokevirtual 1133, 3) := by decide +kernel
set_option maxRecDepth 100000 in
theorem dX12_execute_723 : decode cX12_execute 723 = .ok (.putfield 1385, 3) := by decide +kernel
set_option maxRecDepth 100000 in
theorem dX12_execute_726 : decode cX12_execute 726 = .ok (.goto 66, 3) := by decide +kernel
set_option maxRecDepth 100000 in
theorem dX12_execute_729 : decode cX12_execute 729 = .ok (.aload_n 0, 1) := by decide +kernel
set_option maxRecDepth 100000 in
theorem dX12_execute_730 : decode cX12_execute 730 = .ok (.iload_n 1, 1) := by decide +kernel
set_option maxRecDepth 100000 in
theorem dX12_execute_731 : decode cX12_execute 731 = .ok (.invokevirtual 1401, 3) := by decide +kernel
set_option maxRecDepth 100000 in
theorem dX12_execute_734 : decode cX12_execute 734 = .ok (.goto 58, 3) := by decide +kernel
set_option maxRecDepth 100000 in
theorem dX12_execute_737 : decode cX12_execute 737 = .ok (.aload_n 0, 1) := by decide +kernel
set_option maxRecDepth 100000 in
theorem dX12_execute_738 : decode cX12_execute 738 = .ok (.getfield 102, 3) := by decide +kernel
set_option maxRecDepth 100000 in
theorem dX12_execute_741 : decode cX12_execute 741 = .ok (.iload_n 1, 1) := by decide +kernel
set_option maxRecDepth 100000 in
theorem dX12_execute_742 : decode cX12_execute 742 = .ok (.aaload, 1) := by decide +kernel
set_option maxRecDepth 100000 in
theorem dX12_execute_743 : decode cX12_execute 743 = .ok (.getfield 632, 3) := by decide +kernel
set_option maxRecDepth 100000 in
theorem dX12_execute_746 : decode cX12_execute 746 = .ok (.ifCond .ne 29, 3) := by decide +kernel
set_option maxRecDepth 100000 in
theorem dX12_execute_749 : decode cX12_execute 749 = .ok (.aload_n 0, 1) := by decide +kernel
set_option maxRecDepth 100000 in
theorem dX12_execute_750 : decode cX12_execute 750 = .ok (.aload_n 0, 1) := by decide +kernel
set_option maxRecDepth 100000 in
theorem dX12_execute_751 : decode cX12_execute 751 = .ok (.getfield 102, 3) := by decide +kernel
set_option maxRecDepth 100000 in
theorem dX12_execute_754 : decode cX12_execute 754 = .ok (.iload_n 1, 1) := by decide +kernel
set_option maxRecDepth 100000 in
theorem dX12_execute_755 : decode cX12_execute 755 = .ok (.aaload, 1) := by decide +kernel
set_option maxRecDepth 100000 in
theorem dX12_execute_756 : decode cX12_execute 756 = .ok (.aload_n 0, 1) := by decide +kernel
set_option maxRecDepth 100000 in
theorem dX12_execute_757 : decode cX12_execute 757 = .ok (.getfield 73, 3) := by decide +kernel
set_option maxRecDepth 100000 in
theorem dX12_execute_760 : decode cX12_execute 760 = .ok (.iload_n 1, 1) := by decide +kernel
set_option maxRecDepth 100000 in
theorem dX12_execute_761 : decode cX12_execute 761 = .ok (.iaload, 1) := by decide +kernel
set_option maxRecDepth 100000 in
theorem dX12_execute_762 : decode cX12_execute 762 = .ok (.iconst 1, 1) := by decide +kernel
set_option maxRecDepth 100000 in
theorem dX12_execute_763 : decode cX12_execute 763 = .ok (.aload_n 0, 1) := by decide +kernel
set_option maxRecDepth 100000 in
theorem dX12_execute_764 : decode cX12_execute 764 = .ok (.getfield 70, 3) := by decide +kernel
set_option maxRecDepth 100000 in
theorem dX12_execute_767 : decode cX12_execute 767 = .ok (.iload_n 1, 1) := by decide +kernel
set_option maxRecDepth 100000 in
theorem dX12_execute_768 : decode cX12_execute 768 = .ok (.iaload, 1) := by decide +kernel
set_option maxRecDepth 100000 in
theorem dX12_execute_769 : decode cX12_execute 769 = .ok (.invokevirtual 1244, 3) := by decide +kernel
set_option maxRecDepth 100000 in
theorem dX12_execute_772 : decode cX12_execute 772 = .ok (.goto 20, 3) := by decide +kernel
set_option maxRecDepth 100000 in
theorem dX12_execute_775 : decode cX12_execute 775 = .ok (.aload_n 0, 1) := by decide +kernel
set_option maxRecDepth 100000 in
theorem dX12_execute_776 : decode cX12_execute 776 = .ok (.iload_n 1, 1) := by decide +kernel
set_option maxRecDepth 100000 in
theorem dX12_execute_777 : decode cX12_execute 777 = .ok (.aload_n 0, 1) := by decide +kernel
set_option maxRecDepth 100000 in
theorem dX12_execute_778 : decode cX12_execute 778 = .ok (.getfield 102, 3) := by decide +kernel
set_option maxRecDepth 100000 in
theorem dX12_execute_781 : decode cX12_execute 781 = .ok (.iload_n 1, 1) := by decide +kernel
set_option maxRecDepth 100000 in
theorem dX12_execute_782 : decode cX12_execute 782 = .ok (.aaload, 1) := by decide +kernel
set_option maxRecDepth 100000 in
theorem dX12_execute_783 : decode cX12_execute 783 = .ok (.getfield 632, 3) := by decide +kernel
set_option maxRecDepth 100000 in
theorem dX12_execute_786 : decode cX12_execute 786 = .ok (.invokevirtual 1404, 3) := by decide +kernel
set_option maxRecDepth 100000 in
theorem dX12_execute_789 : decode cX12_execute 789 = .ok (.goto 3, 3) := by decide +kernel
set_option maxRecDepth 100000 in
theorem dX12_execute_792 : decode cX12_execute 792 = .ok (.aload_n 0, 1) := by decide +kernel
set_option maxRecDepth 100000 in
theorem dX12_execute_793 : decode cX12_execute 793 = .ok (.getfield 1121, 3) := by decide +kernel
set_option maxRecDepth 100000 in
theorem dX12_execute_796 : decode cX12_execute 796 = .ok (.ifCond .eq 29, 3) := by decide +kernel
set_option maxRecDepth 100000 in
theorem dX12_execute_799 : decode cX12_execute 799 = .ok (.aload_n 0, 1) := by decide +kernel
set_option maxRecDepth 100000 in
theorem dX12_execute_800 : decode cX12_execute 800 = .ok (.getfield 1124, 3) := by decide +kernel
set_option maxRecDepth 100000 in
theorem dX12_execute_803 : decode cX12_execute 803 = .ok (.ifCond .ne 22, 3) := by decide +kernel
set_option maxRecDepth 100000 in
theorem dX12_execute_806 : decode cX12_execute 806 = .ok (.aload_n 0, 1) := by decide +kernel
set_option maxRecDepth 100000 in
theorem dX12_execute_807 : decode cX12_execute 807 = .ok (.getfield 1388, 3) := by decide +kernel
set_option maxRecDepth 100000 in
theorem dX12_execute_810 : decode cX12_execute 810 = .ok (.iload_n 1, 1) := by decide +kernel
set_option maxRecDepth 100000 in
theorem dX12_execute_811 : decode cX12_execute 811 = .ok (.if_icmp .ne 14, 3) := by decide +kernel
set_option maxRecDepth 100000 in
theorem dX12_execute_814 : decode cX12_execute 814 = .ok (.aload_n 0, 1) := by decide +kernel
set_option maxRecDepth 100000 in
theorem dX12_execute_815 : decode cX12_execute 815 = .ok (.getfield 1385, 3) := by decide +kernel
set_option maxRecDepth 100000 in
theorem dX12_execute_818 : decode cX12_execute 818 = .ok (.aload_n 0, 1) := by decide +kernel
set_option maxRecDepth 100000 in
theorem dX12_execute_819 : decode cX12_execute 819 = .ok (.getfield 1130, 3) := by decide +kernel
set_option maxRecDepth 100000 in
theorem dX12_execute_822 : decode cX12_execute 822 = .ok (.if_icmp .eq 4, 3) := by decide +kernel
set_option maxRecDepth 100000 in
theorem dX12_execute_825 : decode cX12_execute 825 = .ok (.return_, 1) := by decide +kernel
set_option maxRecDepth 100000 in
theorem dX12_execute_826 : decode cX12_execute 826 = .ok (.aload_n 0, 1) := by decide +kernel
set_option maxRecDepth 100000 in
theorem dX12_execute_827 : decode cX12_execute 827 = .ok (.iconst 0, 1) := by decide +kernel
set_option maxRecDepth 100000 in
theorem dX12_execute_828 : decode cX12_execute 828 = .ok (.putfield 1121, 3) := by decide +kernel
set_option maxRecDepth 100000 in
theorem dX12_execute_831 : decode cX12_execute 831 = .ok (.aload_n 0, 1) := by decide +kernel
set_option maxRecDepth 100000 in
theorem dX12_execute_832 : decode cX12_execute 832 = .ok (.iload_n 2, 1) := by decide +kernel
set_option maxRecDepth 100000 in
theorem dX12_execute_833 : decode cX12_execute 833 = .ok (.putfield 1348, 3) := by decide +kernel
set_option maxRecDepth 100000 in
theorem dX12_execute_836 : decode cX12_execute 836 = .ok (.goto (-831), 3) := by decide +kernel
def lX12_execute_5 (G : xG) (fr lo : Nat) (x0 : Nat) (x1 : Int32) (x2 : Int32) (h : xH) (Q : Outcome → xH → Prop) : Prop := xP G YX12_execute fr lo 5 [(0, rv x0), (1, .int x1), (2, .int x2)] [] h Q
def lX12_execute_129 (G : xG) (fr lo : Nat) (x0 : Nat) (x1 : Int32) (x2 : Int32) (x3 : Int32) (x4 : Int32) (h : xH) (Q : Outcome → xH → Prop) : Prop := xP G YX12_execute fr lo 129 [(0, rv x0), (1, .int x1), (2, .int x2), (3, .int x3), (4, .int x4)] [] h Q
def lX12_execute_142 (G : xG) (fr lo : Nat) (x0 : Nat) (x1 : Int32) (x2 : Int32) (x3 : Int32) (x5 : Int32) (h : xH) (Q : Outcome → xH → Prop) : Prop := xP G YX12_execute fr lo 142 [(0, rv x0), (1, .int x1), (2, .int x2), (3, .int x3), (5, .int x5)] [] h Q
def lX12_execute_362 (G : xG) (fr lo : Nat) (x0 : Nat) (x1 : Int32) (x2 : Int32) (h : xH) (Q : Outcome → xH → Prop) : Prop := xP G YX12_execute fr lo 362 [(0, rv x0), (1, .int x1), (2, .int x2)] [] h Q
def lX12_execute_572 (G : xG) (fr lo : Nat) (x0 : Nat) (x1 : Int32) (x2 : Int32) (x7 : Int32) (x10 : Int64) (x12 : Int32) (x13 : Int64) (h : xH) (Q : Outcome → xH → Prop) : Prop := xP G YX12_execute fr lo 572 [(0, rv x0), (1, .int x1), (2, .int x2), (7, .int x7), (10, .long x10), (12, .int x12), (13, .long x13)] [] h Q
set_option maxRecDepth 100000 in
def bX12_execute_825 (G : xG) (fr lo : Nat) (h : xH) (Q : Outcome → xH → Prop) : Prop := Q (.returned none) h
set_option maxRecDepth 100000 in
theorem uX12_execute_825 {G : xG} {fr lo : Nat} {h : xH} {Q : Outcome → xH → Prop} (hq : bX12_execute_825 G fr lo h Q) : xP G YX12_execute fr lo 825 [] [] h Q := by
  unfold bX12_execute_825 at hq
  exact x_vret rfl dX12_execute_825 hq
set_option maxRecDepth 100000 in
def bX12_execute_792 (G : xG) (fr lo : Nat) (x0 : Nat) (x1 : Int32) (x2 : Int32) (h : xH) (Q : Outcome → xH → Prop) : Prop := tg h x0 = 13 ∧ (((fI h x0 3170) = 0 → bX12_execute_825 G fr lo h Q) ∧ (¬ (fI h x0 3170) = 0 → ((¬ (fI h x0 3171) = 0 → bX12_execute_825 G fr lo h Q) ∧ ((fI h x0 3171) = 0 → ((¬ (fI h x0 3173) = x1 → bX12_execute_825 G fr lo h Q) ∧ ((fI h x0 3173) = x1 → (((fI h x0 3174) = (fI h x0 3163) → (∀ h6 : xH, h6 = sI h x0 3170 0 → (∀ h9 : xH, h9 = sI h6 x0 3169 x2 → lX12_execute_5 G fr lo x0 x1 x2 h9 Q))) ∧ (¬ (fI h x0 3174) = (fI h x0 3163) → bX12_execute_825 G fr lo h Q))))))))
set_option maxRecDepth 100000 in
theorem uX12_execute_792 {G : xG} {fr lo : Nat} {x0 : Nat} {x1 : Int32} {x2 : Int32} {h : xH} {Q : Outcome → xH → Prop} (hq : bX12_execute_792 G fr lo x0 x1 x2 h Q) : xP G YX12_execute fr lo 792 [(0, rv x0), (1, .int x1), (2, .int x2)] [] h Q := by
  unfold bX12_execute_792 at hq
  refine x_aload_n 0 dX12_execute_792 rfl ?_
  obtain ⟨g1, hq⟩ := hq
  refine x_get (v := .int (fI h x0 3170)) fdX12_1121 dX12_execute_793 g1 rfl ?_
  refine x_if_eq (tgt := 825) dX12_execute_796 (by decide) (fun c2 => ?_) (fun c2 => ?_)
  · replace hq := hq.1 c2
    refine xP.pick (lv' := []) [] rfl ?_
    exact uX12_execute_825 hq
  · replace hq := hq.2 c2
    refine x_aload_n 0 dX12_execute_799 rfl ?_
    refine x_get (v := .int (fI h x0 3171)) fdX12_1124 dX12_execute_800 g1 rfl ?_
    refine x_if_ne (tgt := 825) dX12_execute_803 (by decide) (fun c3 => ?_) (fun c3 => ?_)
    · replace hq := hq.1 c3
      refine xP.pick (lv' := []) [] rfl ?_
      exact uX12_execute_825 hq
    · replace hq := hq.2 c3
      refine x_aload_n 0 dX12_execute_806 rfl ?_
      refine x_get (v := .int (fI h x0 3173)) fdX12_1388 dX12_execute_807 g1 rfl ?_
      refine x_iload_n 1 dX12_execute_810 rfl ?_
      refine x_icmp_ne (tgt := 825) dX12_execute_811 (by decide) (fun c4 => ?_) (fun c4 => ?_)
      · replace hq := hq.1 c4
        refine xP.pick (lv' := []) [] rfl ?_
        exact uX12_execute_825 hq
      · replace hq := hq.2 c4
        refine x_aload_n 0 dX12_execute_814 rfl ?_
        refine x_get (v := .int (fI h x0 3174)) fdX12_1385 dX12_execute_815 g1 rfl ?_
        refine x_aload_n 0 dX12_execute_818 rfl ?_
        refine x_get (v := .int (fI h x0 3163)) fdX12_1130 dX12_execute_819 g1 rfl ?_
        refine x_icmp_eq (tgt := 826) dX12_execute_822 (by decide) (fun c5 => ?_) (fun c5 => ?_)
        · replace hq := hq.1 c5
          refine x_aload_n 0 dX12_execute_826 rfl ?_
          refine x_iconst (v := 0) dX12_execute_827 (by decide) ?_
          obtain ⟨h6, e7⟩ : ∃ y, y = sI h x0 3170 0 := ⟨_, rfl⟩
          replace hq := hq h6 e7
          refine x_putI fdX12_1121 xty_Z1 dX12_execute_828 g1 (Or.inl (by rw [g1]; rfl)) (xnB (Or.inl rfl)) rfl e7 ?_
          refine x_aload_n 0 dX12_execute_831 rfl ?_
          refine x_iload_n 2 dX12_execute_832 rfl ?_
          have t8 : tg h6 x0 = 13 := by rw [e7]; exact g1
          obtain ⟨h9, e10⟩ : ∃ y, y = sI h6 x0 3169 x2 := ⟨_, rfl⟩
          replace hq := hq h9 e10
          refine x_putI fdX12_1348 xty_I1 dX12_execute_833 t8 (Or.inl (by rw [t8]; rfl)) xnI rfl e10 ?_
          refine x_goto (tgt := 5) dX12_execute_836 (by decide) ?_
          exact hq
        · replace hq := hq.2 c5
          refine xP.pick (lv' := []) [] rfl ?_
          exact uX12_execute_825 hq
set_option maxRecDepth 100000 in
def bX12_execute_656 (G : xG) (fr lo : Nat) (x0 : Nat) (x1 : Int32) (x2 : Int32) (x12 : Int32) (h : xH) (Q : Outcome → xH → Prop) : Prop := tg h x0 = 13 ∧ ((¬ (fI h x0 3170) = 0 → bX12_execute_792 G fr lo x0 x1 x2 h Q) ∧ ((fI h x0 3170) = 0 → tg h (fR h x0 3150) = 104 ∧ vp_in x12 (ln h (fR h x0 3150)) ∧ (∀ h5 : xH, h5 = tI h (fR h x0 3150) (Int32.toNatClampNeg x12) (vp_nar .boolean 0) → bX12_execute_792 G fr lo x0 x1 x2 h5 Q)))
set_option maxRecDepth 100000 in
theorem uX12_execute_656 {G : xG} {fr lo : Nat} {x0 : Nat} {x1 : Int32} {x2 : Int32} {x12 : Int32} {h : xH} {Q : Outcome → xH → Prop} (hq : bX12_execute_656 G fr lo x0 x1 x2 x12 h Q) : xP G YX12_execute fr lo 656 [(0, rv x0), (1, .int x1), (2, .int x2), (12, .int x12)] [] h Q := by
  unfold bX12_execute_656 at hq
  refine x_aload_n 0 dX12_execute_656 rfl ?_
  obtain ⟨g1, hq⟩ := hq
  refine x_get (v := .int (fI h x0 3170)) fdX12_1121 dX12_execute_657 g1 rfl ?_
  refine x_if_ne (tgt := 792) dX12_execute_660 (by decide) (fun c2 => ?_) (fun c2 => ?_)
  · replace hq := hq.1 c2
    refine xP.pick (lv' := [(0, rv x0), (1, .int x1), (2, .int x2)]) [0, 1, 2] rfl ?_
    exact uX12_execute_792 hq
  · replace hq := hq.2 c2
    refine x_aload_n 0 dX12_execute_663 rfl ?_
    refine x_get (v := rv (fR h x0 3150)) fdX12_169 dX12_execute_664 g1 rfl ?_
    refine x_iload 3 dX12_execute_667 rfl ?_
    refine x_iconst (v := 0) dX12_execute_669 (by decide) ?_
    obtain ⟨g3, hq⟩ := hq
    obtain ⟨i4, hq⟩ := hq
    obtain ⟨h5, e6⟩ : ∃ y, y = tI h (fR h x0 3150) (Int32.toNatClampNeg x12) (vp_nar .boolean 0) := ⟨_, rfl⟩
    replace hq := hq h5 e6
    refine x_zast' g3 i4 dX12_execute_670 e6 ?_
    refine x_goto (tgt := 792) dX12_execute_671 (by decide) ?_
    refine xP.pick (lv' := [(0, rv x0), (1, .int x1), (2, .int x2)]) [0, 1, 2] rfl ?_
    exact uX12_execute_792 hq
set_option maxRecDepth 100000 in
def bX12_execute_608 (G : xG) (fr lo : Nat) (x0 : Nat) (x1 : Int32) (x2 : Int32) (x7 : Int32) (x10 : Int64) (x12 : Int32) (x13 : Int64) (h : xH) (Q : Outcome → xH → Prop) : Prop := tg h x0 = 13 ∧ tg h (fR h x0 3150) = 104 ∧ vp_in x12 (ln h (fR h x0 3150)) ∧ (∀ h4 : xH, h4 = tI h (fR h x0 3150) (Int32.toNatClampNeg x12) (vp_nar .boolean 1) → tg h4 (fR h4 x0 3147) = 101 ∧ vp_in x12 (ln h4 (fR h4 x0 3147)) ∧ (∀ h9 : xH, h9 = tJ h4 (fR h4 x0 3147) (Int32.toNatClampNeg x12) x13 → tg h9 (fR h9 x0 3105) = 100 ∧ vp_in x7 (ln h9 (fR h9 x0 3105)) ∧ vp_in (aI h9 (fR h9 x0 3105) (Int32.toNatClampNeg x7)) (ln h9 (fR h9 x0 3105)) ∧ 1 ≤ fr ∧ 26 ≤ lo ∧ xRv G YX12_execute (fr - 1) (lo - 26) [rv x0, .int (aI h9 (fR h9 x0 3105) (Int32.toNatClampNeg (aI h9 (fR h9 x0 3105) (Int32.toNatClampNeg x7))))] h9 (fun h17 => xext h9 h17 → tg h17 (fR h17 x0 3106) = 100 ∧ vp_in x1 (ln h17 (fR h17 x0 3106)) ∧ lX12_execute_572 G fr lo x0 x1 x2 x7 x10 x12 (x13 + (Int32.toInt64 (aI h17 (fR h17 x0 3106) (Int32.toNatClampNeg x1)))) h17 Q) (fun r h2 => Q (.threw r) h2)))
set_option maxRecDepth 100000 in
theorem uX12_execute_608 {G : xG} {fr lo : Nat} {x0 : Nat} {x1 : Int32} {x2 : Int32} {x7 : Int32} {x10 : Int64} {x12 : Int32} {x13 : Int64} {h : xH} {Q : Outcome → xH → Prop} (hq : bX12_execute_608 G fr lo x0 x1 x2 x7 x10 x12 x13 h Q) : xP G YX12_execute fr lo 608 [(0, rv x0), (1, .int x1), (2, .int x2), (7, .int x7), (10, .long x10), (12, .int x12), (13, .long x13)] [] h Q := by
  unfold bX12_execute_608 at hq
  refine x_aload_n 0 dX12_execute_608 rfl ?_
  obtain ⟨g1, hq⟩ := hq
  refine x_get (v := rv (fR h x0 3150)) fdX12_169 dX12_execute_609 g1 rfl ?_
  refine x_iload 5 dX12_execute_612 rfl ?_
  refine x_iconst (v := 1) dX12_execute_614 (by decide) ?_
  obtain ⟨g2, hq⟩ := hq
  obtain ⟨i3, hq⟩ := hq
  obtain ⟨h4, e5⟩ : ∃ y, y = tI h (fR h x0 3150) (Int32.toNatClampNeg x12) (vp_nar .boolean 1) := ⟨_, rfl⟩
  replace hq := hq h4 e5
  refine x_zast' g2 i3 dX12_execute_615 e5 ?_
  refine x_aload_n 0 dX12_execute_616 rfl ?_
  have t6 : tg h4 x0 = 13 := by rw [e5]; exact g1
  refine x_get (v := rv (fR h4 x0 3147)) fdX12_159 dX12_execute_617 t6 rfl ?_
  refine x_iload 5 dX12_execute_620 rfl ?_
  refine x_lload 6 dX12_execute_622 rfl ?_
  obtain ⟨g7, hq⟩ := hq
  obtain ⟨i8, hq⟩ := hq
  obtain ⟨h9, e10⟩ : ∃ y, y = tJ h4 (fR h4 x0 3147) (Int32.toNatClampNeg x12) x13 := ⟨_, rfl⟩
  replace hq := hq h9 e10
  refine x_last' g7 i8 dX12_execute_624 e10 ?_
  refine x_aload_n 0 dX12_execute_625 rfl ?_
  refine x_aload_n 0 dX12_execute_626 rfl ?_
  have t11 : tg h9 x0 = 13 := by rw [e10]; exact t6
  refine x_get (v := rv (fR h9 x0 3105)) fdX12_79 dX12_execute_627 t11 rfl ?_
  refine x_aload_n 0 dX12_execute_630 rfl ?_
  refine x_get (v := rv (fR h9 x0 3105)) fdX12_79 dX12_execute_631 t11 rfl ?_
  refine x_iload 3 dX12_execute_634 rfl ?_
  obtain ⟨g12, hq⟩ := hq
  obtain ⟨i13, hq⟩ := hq
  refine x_iald 0 (Or.inl rfl) g12 i13 dX12_execute_636 ?_
  obtain ⟨i14, hq⟩ := hq
  refine x_iald 0 (Or.inl rfl) g12 i14 dX12_execute_637 ?_
  obtain ⟨g15, g16, hq⟩ := hq
  refine x_callV (Yc := YX12_execute) (as := [.int (aI h9 (fR h9 x0 3105) (Int32.toNatClampNeg (aI h9 (fR h9 x0 3105) (Int32.toNatClampNeg x7))))]) (st := []) q4539 mvX12_execute t11 rfl dX12_execute_638 (xle (xal1 (rv_cat _) (xal1 rfl xal0)) (by decide)) (xfr g15) (xlo xsw0 (by decide) g16) (xKv hq (fun h17 hq e19 => ?_) (fun _ _ q _ => q))
  replace hq := hq e19
  refine x_lload 6 dX12_execute_641 rfl ?_
  refine x_aload_n 0 dX12_execute_643 rfl ?_
  have t20 : tg h17 x0 = 13 := e19.tg t11 (by decide)
  refine x_get (v := rv (fR h17 x0 3106)) fdX12_82 dX12_execute_644 t20 rfl ?_
  refine x_iload_n 1 dX12_execute_647 rfl ?_
  obtain ⟨g21, hq⟩ := hq
  obtain ⟨i22, hq⟩ := hq
  refine x_iald 0 (Or.inl rfl) g21 i22 dX12_execute_648 ?_
  refine x_i2l dX12_execute_649 ?_
  refine x_ladd dX12_execute_650 ?_
  refine x_lstore (lv' := [(13, .long (x13 + (Int32.toInt64 (aI h17 (fR h17 x0 3106) (Int32.toNatClampNeg x1))))), (0, rv x0), (1, .int x1), (2, .int x2), (7, .int x7), (10, .long x10), (12, .int x12)]) dX12_execute_651 (by decide) rfl ?_
  refine x_goto (tgt := 572) dX12_execute_653 (by decide) ?_
  refine xP.pick (lv' := [(0, rv x0), (1, .int x1), (2, .int x2), (7, .int x7), (10, .long x10), (12, .int x12), (13, .long (x13 + (Int32.toInt64 (aI h17 (fR h17 x0 3106) (Int32.toNatClampNeg x1)))))]) [1, 2, 3, 4, 5, 6, 0] rfl ?_
  exact hq
set_option maxRecDepth 100000 in
def bX12_execute_572 (G : xG) (fr lo : Nat) (x0 : Nat) (x1 : Int32) (x2 : Int32) (x7 : Int32) (x10 : Int64) (x12 : Int32) (x13 : Int64) (h : xH) (Q : Outcome → xH → Prop) : Prop := tg h x0 = 13 ∧ ((¬ (fI h x0 3170) = 0 → bX12_execute_656 G fr lo x0 x1 x2 x12 h Q) ∧ ((fI h x0 3170) = 0 → tg h (fR h x0 3106) = 100 ∧ vp_in x1 (ln h (fR h x0 3106)) ∧ ((¬ (aI h (fR h x0 3106) (Int32.toNatClampNeg x1)) = 1 → (((lg_cmp x13 x10) < 0 → bX12_execute_656 G fr lo x0 x1 x2 x12 h Q) ∧ (¬ (lg_cmp x13 x10) < 0 → bX12_execute_608 G fr lo x0 x1 x2 x7 x10 x12 x13 h Q))) ∧ ((aI h (fR h x0 3106) (Int32.toNatClampNeg x1)) = 1 → ((0 < (lg_cmp x13 x10) → bX12_execute_656 G fr lo x0 x1 x2 x12 h Q) ∧ (¬ 0 < (lg_cmp x13 x10) → bX12_execute_608 G fr lo x0 x1 x2 x7 x10 x12 x13 h Q))))))
set_option maxRecDepth 100000 in
theorem uX12_execute_572 {G : xG} {fr lo : Nat} {x0 : Nat} {x1 : Int32} {x2 : Int32} {x7 : Int32} {x10 : Int64} {x12 : Int32} {x13 : Int64} {h : xH} {Q : Outcome → xH → Prop} (hq : bX12_execute_572 G fr lo x0 x1 x2 x7 x10 x12 x13 h Q) : xP G YX12_execute fr lo 572 [(0, rv x0), (1, .int x1), (2, .int x2), (7, .int x7), (10, .long x10), (12, .int x12), (13, .long x13)] [] h Q := by
  unfold bX12_execute_572 at hq
  refine x_aload_n 0 dX12_execute_572 rfl ?_
  obtain ⟨g1, hq⟩ := hq
  refine x_get (v := .int (fI h x0 3170)) fdX12_1121 dX12_execute_573 g1 rfl ?_
  refine x_if_ne (tgt := 656) dX12_execute_576 (by decide) (fun c2 => ?_) (fun c2 => ?_)
  · replace hq := hq.1 c2
    refine xP.pick (lv' := [(0, rv x0), (1, .int x1), (2, .int x2), (12, .int x12)]) [0, 1, 2, 5] rfl ?_
    exact uX12_execute_656 hq
  · replace hq := hq.2 c2
    refine x_aload_n 0 dX12_execute_579 rfl ?_
    refine x_get (v := rv (fR h x0 3106)) fdX12_82 dX12_execute_580 g1 rfl ?_
    refine x_iload_n 1 dX12_execute_583 rfl ?_
    obtain ⟨g3, hq⟩ := hq
    obtain ⟨i4, hq⟩ := hq
    refine x_iald 0 (Or.inl rfl) g3 i4 dX12_execute_584 ?_
    refine x_iconst (v := 1) dX12_execute_585 (by decide) ?_
    refine x_icmp_ne (tgt := 600) dX12_execute_586 (by decide) (fun c5 => ?_) (fun c5 => ?_)
    · replace hq := hq.1 c5
      refine x_lload 6 dX12_execute_600 rfl ?_
      refine x_lload 4 dX12_execute_602 rfl ?_
      refine x_lcmp dX12_execute_604 ?_
      refine x_if_lt (tgt := 656) dX12_execute_605 (by decide) (fun c6 => ?_) (fun c6 => ?_)
      · replace hq := hq.1 c6
        refine xP.pick (lv' := [(0, rv x0), (1, .int x1), (2, .int x2), (12, .int x12)]) [0, 1, 2, 5] rfl ?_
        exact uX12_execute_656 hq
      · replace hq := hq.2 c6
        exact uX12_execute_608 hq
    · replace hq := hq.2 c5
      refine x_lload 6 dX12_execute_589 rfl ?_
      refine x_lload 4 dX12_execute_591 rfl ?_
      refine x_lcmp dX12_execute_593 ?_
      refine x_if_gt (tgt := 656) dX12_execute_594 (by decide) (fun c7 => ?_) (fun c7 => ?_)
      · replace hq := hq.1 c7
        refine xP.pick (lv' := [(0, rv x0), (1, .int x1), (2, .int x2), (12, .int x12)]) [0, 1, 2, 5] rfl ?_
        exact uX12_execute_656 hq
      · replace hq := hq.2 c7
        refine x_goto (tgt := 608) dX12_execute_597 (by decide) ?_
        exact uX12_execute_608 hq
set_option maxRecDepth 100000 in
def bX12_execute_559 (G : xG) (fr lo : Nat) (x0 : Nat) (x1 : Int32) (x2 : Int32) (x7 : Int32) (x8 : Int64) (x10 : Int64) (x12 : Int32) (h : xH) (Q : Outcome → xH → Prop) : Prop := tg h x0 = 13 ∧ 1 ≤ fr ∧ 19 ≤ lo ∧ xRv G YX12_bounds (fr - 1) (lo - 19) [rv x0, .int x1, .long x8, .long x10] h (fun h4 => xext h h4 → lX12_execute_572 G fr lo x0 x1 x2 x7 x10 x12 x8 h4 Q) (fun r h2 => Q (.threw r) h2)
set_option maxRecDepth 100000 in
theorem uX12_execute_559 {G : xG} {fr lo : Nat} {x0 : Nat} {x1 : Int32} {x2 : Int32} {x7 : Int32} {x8 : Int64} {x10 : Int64} {x12 : Int32} {h : xH} {Q : Outcome → xH → Prop} (hq : bX12_execute_559 G fr lo x0 x1 x2 x7 x8 x10 x12 h Q) : xP G YX12_execute fr lo 559 [(0, rv x0), (1, .int x1), (2, .int x2), (7, .int x7), (8, .long x8), (10, .long x10), (12, .int x12)] [] h Q := by
  unfold bX12_execute_559 at hq
  refine x_aload_n 0 dX12_execute_559 rfl ?_
  refine x_iload_n 1 dX12_execute_560 rfl ?_
  refine x_lload 4 dX12_execute_561 rfl ?_
  refine x_lload 5 dX12_execute_563 rfl ?_
  obtain ⟨g1, hq⟩ := hq
  obtain ⟨g2, g3, hq⟩ := hq
  refine x_callV (Yc := YX12_bounds) (as := [.int x1, .long x8, .long x10]) (st := []) q4697 mvX12_bounds g1 rfl dX12_execute_565 (xle (xal1 (rv_cat _) (xal1 rfl (xal2 rfl (xal2 rfl xal0)))) (by decide)) (xfr g2) (xlo xsw0 (by decide) g3) (xKv hq (fun h4 hq e6 => ?_) (fun _ _ q _ => q))
  replace hq := hq e6
  refine x_lload 4 dX12_execute_568 rfl ?_
  refine x_lstore (lv' := [(13, .long x8), (0, rv x0), (1, .int x1), (2, .int x2), (7, .int x7), (8, .long x8), (10, .long x10), (12, .int x12)]) dX12_execute_570 (by decide) rfl ?_
  refine xP.pick (lv' := [(0, rv x0), (1, .int x1), (2, .int x2), (7, .int x7), (10, .long x10), (12, .int x12), (13, .long x8)]) [1, 2, 3, 4, 6, 7, 0] rfl ?_
  exact hq
set_option maxRecDepth 100000 in
def bX12_execute_362 (G : xG) (fr lo : Nat) (x0 : Nat) (x1 : Int32) (x2 : Int32) (h : xH) (Q : Outcome → xH → Prop) : Prop := tg h x0 = 13 ∧ ((¬ (fI h x0 3170) = 0 → bX12_execute_792 G fr lo x0 x1 x2 h Q) ∧ ((fI h x0 3170) = 0 → ((¬ (lg_cmp (fJ h x0 3177) 1) = 0 → bX12_execute_792 G fr lo x0 x1 x2 h Q) ∧ ((lg_cmp (fJ h x0 3177) 1) = 0 → tg h (fR h x0 3103) = 100 ∧ vp_in x1 (ln h (fR h x0 3103)) ∧ tg h (fR h x0 3105) = 100 ∧ vp_in (aI h (fR h x0 3103) (Int32.toNatClampNeg x1)) (ln h (fR h x0 3105)) ∧ 1 ≤ fr ∧ 26 ≤ lo ∧ xRv G YX12_execute (fr - 1) (lo - 26) [rv x0, .int (aI h (fR h x0 3105) (Int32.toNatClampNeg (aI h (fR h x0 3103) (Int32.toNatClampNeg x1))))] h (fun h10 => xext h h10 → ((¬ (fI h10 x0 3170) = 0 → lX12_execute_362 G fr lo x0 x1 x2 h10 Q) ∧ ((fI h10 x0 3170) = 0 → tg h10 (fR h10 x0 3103) = 100 ∧ vp_in x1 (ln h10 (fR h10 x0 3103)) ∧ 1 ≤ fr ∧ 37 ≤ lo ∧ xRv G YX12_evaluate (fr - 1) (lo - 37) [rv x0, .int (aI h10 (fR h10 x0 3103) (Int32.toNatClampNeg x1))] h10 (fun h19 => xext h10 h19 → lX12_execute_362 G fr lo x0 x1 x2 h19 Q) (fun r h2 => Q (.threw r) h2)))) (fun r h2 => Q (.threw r) h2)))))
set_option maxRecDepth 100000 in
theorem uX12_execute_362 {G : xG} {fr lo : Nat} {x0 : Nat} {x1 : Int32} {x2 : Int32} {h : xH} {Q : Outcome → xH → Prop} (hq : bX12_execute_362 G fr lo x0 x1 x2 h Q) : xP G YX12_execute fr lo 362 [(0, rv x0), (1, .int x1), (2, .int x2)] [] h Q := by
  unfold bX12_execute_362 at hq
  refine x_aload_n 0 dX12_execute_362 rfl ?_
  obtain ⟨g1, hq⟩ := hq
  refine x_get (v := .int (fI h x0 3170)) fdX12_1121 dX12_execute_363 g1 rfl ?_
  refine x_if_ne (tgt := 792) dX12_execute_366 (by decide) (fun c2 => ?_) (fun c2 => ?_)
  · replace hq := hq.1 c2
    exact uX12_execute_792 hq
  · replace hq := hq.2 c2
    refine x_aload_n 0 dX12_execute_369 rfl ?_
    refine x_get (v := .long (fJ h x0 3177)) fdX12_1145 dX12_execute_370 g1 rfl ?_
    refine x_lconst (v := 1) dX12_execute_373 (by decide) ?_
    refine x_lcmp dX12_execute_374 ?_
    refine x_if_ne (tgt := 792) dX12_execute_375 (by decide) (fun c3 => ?_) (fun c3 => ?_)
    · replace hq := hq.1 c3
      exact uX12_execute_792 hq
    · replace hq := hq.2 c3
      refine x_aload_n 0 dX12_execute_378 rfl ?_
      refine x_aload_n 0 dX12_execute_379 rfl ?_
      refine x_get (v := rv (fR h x0 3105)) fdX12_79 dX12_execute_380 g1 rfl ?_
      refine x_aload_n 0 dX12_execute_383 rfl ?_
      refine x_get (v := rv (fR h x0 3103)) fdX12_73 dX12_execute_384 g1 rfl ?_
      refine x_iload_n 1 dX12_execute_387 rfl ?_
      obtain ⟨g4, hq⟩ := hq
      obtain ⟨i5, hq⟩ := hq
      refine x_iald 0 (Or.inl rfl) g4 i5 dX12_execute_388 ?_
      obtain ⟨g6, hq⟩ := hq
      obtain ⟨i7, hq⟩ := hq
      refine x_iald 0 (Or.inl rfl) g6 i7 dX12_execute_389 ?_
      obtain ⟨g8, g9, hq⟩ := hq
      refine x_callV (Yc := YX12_execute) (as := [.int (aI h (fR h x0 3105) (Int32.toNatClampNeg (aI h (fR h x0 3103) (Int32.toNatClampNeg x1))))]) (st := []) q4539 mvX12_execute g1 rfl dX12_execute_390 (xle (xal1 (rv_cat _) (xal1 rfl xal0)) (by decide)) (xfr g8) (xlo xsw0 (by decide) g9) (xKv hq (fun h10 hq e12 => ?_) (fun _ _ q _ => q))
      replace hq := hq e12
      refine x_aload_n 0 dX12_execute_393 rfl ?_
      have t13 : tg h10 x0 = 13 := e12.tg g1 (by decide)
      refine x_get (v := .int (fI h10 x0 3170)) fdX12_1121 dX12_execute_394 t13 rfl ?_
      refine x_if_ne (tgt := 362) dX12_execute_397 (by decide) (fun c14 => ?_) (fun c14 => ?_)
      · replace hq := hq.1 c14
        exact hq
      · replace hq := hq.2 c14
        refine x_aload_n 0 dX12_execute_400 rfl ?_
        refine x_aload_n 0 dX12_execute_401 rfl ?_
        refine x_get (v := rv (fR h10 x0 3103)) fdX12_73 dX12_execute_402 t13 rfl ?_
        refine x_iload_n 1 dX12_execute_405 rfl ?_
        obtain ⟨g15, hq⟩ := hq
        obtain ⟨i16, hq⟩ := hq
        refine x_iald 0 (Or.inl rfl) g15 i16 dX12_execute_406 ?_
        obtain ⟨g17, g18, hq⟩ := hq
        refine x_callV (Yc := YX12_evaluate) (as := [.int (aI h10 (fR h10 x0 3103) (Int32.toNatClampNeg x1))]) (st := []) q4543 mvX12_evaluate t13 rfl dX12_execute_407 (xle (xal1 (rv_cat _) (xal1 rfl xal0)) (by decide)) (xfr g17) (xlo xsw0 (by decide) g18) (xKv hq (fun h19 hq e21 => ?_) (fun _ _ q _ => q))
        replace hq := hq e21
        refine x_goto (tgt := 362) dX12_execute_410 (by decide) ?_
        exact hq
set_option maxRecDepth 100000 in
def bX12_execute_337 (G : xG) (fr lo : Nat) (x0 : Nat) (x1 : Int32) (x2 : Int32) (x5 : Int32) (h : xH) (Q : Outcome → xH → Prop) : Prop := ((x5 = (-1) → bX12_execute_792 G fr lo x0 x1 x2 h Q) ∧ (¬ x5 = (-1) → tg h x0 = 13 ∧ 1 ≤ fr ∧ 26 ≤ lo ∧ xRv G YX12_execute (fr - 1) (lo - 26) [rv x0, .int x5] h (fun h5 => xext h h5 → bX12_execute_792 G fr lo x0 x1 x2 h5 Q) (fun r h2 => Q (.threw r) h2)))
set_option maxRecDepth 100000 in
theorem uX12_execute_337 {G : xG} {fr lo : Nat} {x0 : Nat} {x1 : Int32} {x2 : Int32} {x5 : Int32} {h : xH} {Q : Outcome → xH → Prop} (hq : bX12_execute_337 G fr lo x0 x1 x2 x5 h Q) : xP G YX12_execute fr lo 337 [(0, rv x0), (1, .int x1), (2, .int x2), (5, .int x5)] [] h Q := by
  unfold bX12_execute_337 at hq
  refine x_iload 3 dX12_execute_337 rfl ?_
  refine x_iconst (v := (-1)) dX12_execute_339 (by decide) ?_
  refine x_icmp_eq (tgt := 792) dX12_execute_340 (by decide) (fun c1 => ?_) (fun c1 => ?_)
  · replace hq := hq.1 c1
    refine xP.pick (lv' := [(0, rv x0), (1, .int x1), (2, .int x2)]) [0, 1, 2] rfl ?_
    exact uX12_execute_792 hq
  · replace hq := hq.2 c1
    refine x_aload_n 0 dX12_execute_343 rfl ?_
    refine x_iload 3 dX12_execute_344 rfl ?_
    obtain ⟨g2, hq⟩ := hq
    obtain ⟨g3, g4, hq⟩ := hq
    refine x_callV (Yc := YX12_execute) (as := [.int x5]) (st := []) q4539 mvX12_execute g2 rfl dX12_execute_346 (xle (xal1 (rv_cat _) (xal1 rfl xal0)) (by decide)) (xfr g3) (xlo xsw0 (by decide) g4) (xKv hq (fun h5 hq e7 => ?_) (fun _ _ q _ => q))
    replace hq := hq e7
    refine x_goto (tgt := 792) dX12_execute_349 (by decide) ?_
    refine xP.pick (lv' := [(0, rv x0), (1, .int x1), (2, .int x2)]) [0, 1, 2] rfl ?_
    exact uX12_execute_792 hq
set_option maxRecDepth 100000 in
def bX12_execute_283 (G : xG) (fr lo : Nat) (x0 : Nat) (x1 : Int32) (x2 : Int32) (x3 : Int32) (x4 : Int32) (h : xH) (Q : Outcome → xH → Prop) : Prop := lX12_execute_129 G fr lo x0 x1 x2 x3 x4 h Q
set_option maxRecDepth 100000 in
theorem uX12_execute_283 {G : xG} {fr lo : Nat} {x0 : Nat} {x1 : Int32} {x2 : Int32} {x3 : Int32} {x4 : Int32} {h : xH} {Q : Outcome → xH → Prop} (hq : bX12_execute_283 G fr lo x0 x1 x2 x3 x4 h Q) : xP G YX12_execute fr lo 283 [(0, rv x0), (1, .int x1), (2, .int x2), (3, .int x3), (4, .int x4)] [] h Q := by
  unfold bX12_execute_283 at hq
  refine x_goto (tgt := 129) dX12_execute_283 (by decide) ?_
  exact hq
set_option maxRecDepth 100000 in
def bX12_execute_281 (G : xG) (fr lo : Nat) (x0 : Nat) (x1 : Int32) (x2 : Int32) (x3 : Int32) (s0 : Int32) (h : xH) (Q : Outcome → xH → Prop) : Prop := bX12_execute_283 G fr lo x0 x1 x2 x3 s0 h Q
set_option maxRecDepth 100000 in
theorem uX12_execute_281 {G : xG} {fr lo : Nat} {x0 : Nat} {x1 : Int32} {x2 : Int32} {x3 : Int32} {s0 : Int32} {h : xH} {Q : Outcome → xH → Prop} (hq : bX12_execute_281 G fr lo x0 x1 x2 x3 s0 h Q) : xP G YX12_execute fr lo 281 [(0, rv x0), (1, .int x1), (2, .int x2), (3, .int x3)] [.int s0] h Q := by
  unfold bX12_execute_281 at hq
  refine x_istore (lv' := [(4, .int s0), (0, rv x0), (1, .int x1), (2, .int x2), (3, .int x3)]) dX12_execute_281 (by decide) rfl ?_
  refine xP.pick (lv' := [(0, rv x0), (1, .int x1), (2, .int x2), (3, .int x3), (4, .int s0)]) [1, 2, 3, 4, 0] rfl ?_
  exact uX12_execute_283 hq
set_option maxRecDepth 100000 in
def bX12_execute_280 (G : xG) (fr lo : Nat) (x0 : Nat) (x1 : Int32) (x2 : Int32) (x3 : Int32) (h : xH) (Q : Outcome → xH → Prop) : Prop := bX12_execute_281 G fr lo x0 x1 x2 x3 0 h Q
set_option maxRecDepth 100000 in
theorem uX12_execute_280 {G : xG} {fr lo : Nat} {x0 : Nat} {x1 : Int32} {x2 : Int32} {x3 : Int32} {h : xH} {Q : Outcome → xH → Prop} (hq : bX12_execute_280 G fr lo x0 x1 x2 x3 h Q) : xP G YX12_execute fr lo 280 [(0, rv x0), (1, .int x1), (2, .int x2), (3, .int x3)] [] h Q := by
  unfold bX12_execute_280 at hq
  refine x_iconst (v := 0) dX12_execute_280 (by decide) ?_
  exact uX12_execute_281 hq
set_option maxRecDepth 100000 in
def bX12_execute_223 (G : xG) (fr lo : Nat) (x0 : Nat) (x1 : Int32) (x2 : Int32) (x3 : Int32) (h : xH) (Q : Outcome → xH → Prop) : Prop := lX12_execute_142 G fr lo x0 x1 x2 x3 (-1) h Q
set_option maxRecDepth 100000 in
theorem uX12_execute_223 {G : xG} {fr lo : Nat} {x0 : Nat} {x1 : Int32} {x2 : Int32} {x3 : Int32} {h : xH} {Q : Outcome → xH → Prop} (hq : bX12_execute_223 G fr lo x0 x1 x2 x3 h Q) : xP G YX12_execute fr lo 223 [(0, rv x0), (1, .int x1), (2, .int x2), (3, .int x3)] [] h Q := by
  unfold bX12_execute_223 at hq
  refine x_iconst (v := (-1)) dX12_execute_223 (by decide) ?_
  refine x_istore (lv' := [(5, .int (-1)), (0, rv x0), (1, .int x1), (2, .int x2), (3, .int x3)]) dX12_execute_224 (by decide) rfl ?_
  refine x_goto (tgt := 142) dX12_execute_226 (by decide) ?_
  refine xP.pick (lv' := [(0, rv x0), (1, .int x1), (2, .int x2), (3, .int x3), (5, .int (-1))]) [1, 2, 3, 4, 0] rfl ?_
  exact hq
set_option maxRecDepth 100000 in
def bX12_execute_142 (G : xG) (fr lo : Nat) (x0 : Nat) (x1 : Int32) (x2 : Int32) (x3 : Int32) (x5 : Int32) (h : xH) (Q : Outcome → xH → Prop) : Prop := ((x5 = (-1) → tg h x0 = 13 ∧ ((¬ (fI h x0 3170) = 0 → bX12_execute_283 G fr lo x0 x1 x2 x3 0 h Q) ∧ ((fI h x0 3170) = 0 → tg h (fR h x0 3101) = 100 ∧ vp_in x1 (ln h (fR h x0 3101)) ∧ ((¬ (aI h (fR h x0 3101) (Int32.toNatClampNeg x1)) = 36 → bX12_execute_283 G fr lo x0 x1 x2 x3 0 h Q) ∧ ((aI h (fR h x0 3101) (Int32.toNatClampNeg x1)) = 36 → tg h (fR h x0 3105) = 100 ∧ vp_in x3 (ln h (fR h x0 3105)) ∧ 1 ≤ fr ∧ 37 ≤ lo ∧ xRv G YX12_evaluate (fr - 1) (lo - 37) [rv x0, .int (aI h (fR h x0 3105) (Int32.toNatClampNeg x3))] h (fun h11 => xext h h11 → ((¬ (fI h11 x0 3170) = 0 → bX12_execute_280 G fr lo x0 x1 x2 x3 h11 Q) ∧ ((fI h11 x0 3170) = 0 → ((¬ (lg_cmp (fJ h11 x0 3177) 0) = 0 → bX12_execute_280 G fr lo x0 x1 x2 x3 h11 Q) ∧ ((lg_cmp (fJ h11 x0 3177) 0) = 0 → bX12_execute_281 G fr lo x0 x1 x2 x3 1 h11 Q))))) (fun r h2 => Q (.threw r) h2)))))) ∧ (¬ x5 = (-1) → tg h x0 = 13 ∧ 1 ≤ fr ∧ 26 ≤ lo ∧ xRv G YX12_execute (fr - 1) (lo - 26) [rv x0, .int x5] h (fun h20 => xext h h20 → ((¬ (fI h20 x0 3170) = 0 → ((¬ (fI h20 x0 3171) = 0 → bX12_execute_223 G fr lo x0 x1 x2 x3 h20 Q) ∧ ((fI h20 x0 3171) = 0 → ((¬ (fI h20 x0 3174) = (fI h20 x0 3163) → bX12_execute_223 G fr lo x0 x1 x2 x3 h20 Q) ∧ ((fI h20 x0 3174) = (fI h20 x0 3163) → tg h20 (fR h20 x0 3109) = 100 ∧ vp_in (fI h20 x0 3173) (ln h20 (fR h20 x0 3109)) ∧ ((¬ (aI h20 (fR h20 x0 3109) (Int32.toNatClampNeg (fI h20 x0 3173))) = x3 → bX12_execute_223 G fr lo x0 x1 x2 x3 h20 Q) ∧ ((aI h20 (fR h20 x0 3109) (Int32.toNatClampNeg (fI h20 x0 3173))) = x3 → (∀ h30 : xH, h30 = sI h20 x0 3170 0 → (∀ h33 : xH, h33 = sI h30 x0 3169 x2 → lX12_execute_142 G fr lo x0 x1 x2 x3 (fI h33 x0 3173) h33 Q))))))))) ∧ ((fI h20 x0 3170) = 0 → tg h20 (fR h20 x0 3105) = 100 ∧ vp_in x5 (ln h20 (fR h20 x0 3105)) ∧ lX12_execute_142 G fr lo x0 x1 x2 x3 (aI h20 (fR h20 x0 3105) (Int32.toNatClampNeg x5)) h20 Q))) (fun r h2 => Q (.threw r) h2)))
set_option maxRecDepth 100000 in
theorem uX12_execute_142 {G : xG} {fr lo : Nat} {x0 : Nat} {x1 : Int32} {x2 : Int32} {x3 : Int32} {x5 : Int32} {h : xH} {Q : Outcome → xH → Prop} (hq : bX12_execute_142 G fr lo x0 x1 x2 x3 x5 h Q) : xP G YX12_execute fr lo 142 [(0, rv x0), (1, .int x1), (2, .int x2), (3, .int x3), (5, .int x5)] [] h Q := by
  unfold bX12_execute_142 at hq
  refine x_iload 4 dX12_execute_142 rfl ?_
  refine x_iconst (v := (-1)) dX12_execute_144 (by decide) ?_
  refine x_icmp_eq (tgt := 229) dX12_execute_145 (by decide) (fun c1 => ?_) (fun c1 => ?_)
  · replace hq := hq.1 c1
    refine x_iconst (v := 0) dX12_execute_229 (by decide) ?_
    refine x_istore (lv' := [(4, .int 0), (0, rv x0), (1, .int x1), (2, .int x2), (3, .int x3), (5, .int x5)]) dX12_execute_230 (by decide) rfl ?_
    refine x_aload_n 1 dX12_execute_232 rfl ?_
    obtain ⟨g2, hq⟩ := hq
    refine x_get (v := .int (fI h x0 3170)) fdX12_1121 dX12_execute_233 g2 rfl ?_
    refine x_if_ne (tgt := 283) dX12_execute_236 (by decide) (fun c3 => ?_) (fun c3 => ?_)
    · replace hq := hq.1 c3
      refine xP.pick (lv' := [(0, rv x0), (1, .int x1), (2, .int x2), (3, .int x3), (4, .int 0)]) [1, 2, 3, 4, 0] rfl ?_
      exact uX12_execute_283 hq
    · replace hq := hq.2 c3
      refine x_aload_n 1 dX12_execute_239 rfl ?_
      refine x_get (v := rv (fR h x0 3101)) fdX12_67 dX12_execute_240 g2 rfl ?_
      refine x_iload_n 2 dX12_execute_243 rfl ?_
      obtain ⟨g4, hq⟩ := hq
      obtain ⟨i5, hq⟩ := hq
      refine x_iald 0 (Or.inl rfl) g4 i5 dX12_execute_244 ?_
      refine x_bipush (v := 36) dX12_execute_245 (by decide) ?_
      refine x_icmp_ne (tgt := 283) dX12_execute_247 (by decide) (fun c6 => ?_) (fun c6 => ?_)
      · replace hq := hq.1 c6
        refine xP.pick (lv' := [(0, rv x0), (1, .int x1), (2, .int x2), (3, .int x3), (4, .int 0)]) [1, 2, 3, 4, 0] rfl ?_
        exact uX12_execute_283 hq
      · replace hq := hq.2 c6
        refine x_aload_n 1 dX12_execute_250 rfl ?_
        refine x_aload_n 1 dX12_execute_251 rfl ?_
        refine x_get (v := rv (fR h x0 3105)) fdX12_79 dX12_execute_252 g2 rfl ?_
        refine x_iload_n 4 dX12_execute_255 rfl ?_
        obtain ⟨g7, hq⟩ := hq
        obtain ⟨i8, hq⟩ := hq
        refine x_iald 0 (Or.inl rfl) g7 i8 dX12_execute_256 ?_
        obtain ⟨g9, g10, hq⟩ := hq
        refine x_callV (Yc := YX12_evaluate) (as := [.int (aI h (fR h x0 3105) (Int32.toNatClampNeg x3))]) (st := []) q4543 mvX12_evaluate g2 rfl dX12_execute_257 (xle (xal1 (rv_cat _) (xal1 rfl xal0)) (by decide)) (xfr g9) (xlo xsw0 (by decide) g10) (xKv hq (fun h11 hq e13 => ?_) (fun _ _ q _ => q))
        replace hq := hq e13
        refine x_aload_n 1 dX12_execute_260 rfl ?_
        have t14 : tg h11 x0 = 13 := e13.tg g2 (by decide)
        refine x_get (v := .int (fI h11 x0 3170)) fdX12_1121 dX12_execute_261 t14 rfl ?_
        refine x_if_ne (tgt := 280) dX12_execute_264 (by decide) (fun c15 => ?_) (fun c15 => ?_)
        · replace hq := hq.1 c15
          refine xP.pick (lv' := [(0, rv x0), (1, .int x1), (2, .int x2), (3, .int x3)]) [1, 2, 3, 4] rfl ?_
          exact uX12_execute_280 hq
        · replace hq := hq.2 c15
          refine x_aload_n 1 dX12_execute_267 rfl ?_
          refine x_get (v := .long (fJ h11 x0 3177)) fdX12_1145 dX12_execute_268 t14 rfl ?_
          refine x_lconst (v := 0) dX12_execute_271 (by decide) ?_
          refine x_lcmp dX12_execute_272 ?_
          refine x_if_ne (tgt := 280) dX12_execute_273 (by decide) (fun c16 => ?_) (fun c16 => ?_)
          · replace hq := hq.1 c16
            refine xP.pick (lv' := [(0, rv x0), (1, .int x1), (2, .int x2), (3, .int x3)]) [1, 2, 3, 4] rfl ?_
            exact uX12_execute_280 hq
          · replace hq := hq.2 c16
            refine x_iconst (v := 1) dX12_execute_276 (by decide) ?_
            refine x_goto (tgt := 281) dX12_execute_277 (by decide) ?_
            refine xP.pick (lv' := [(0, rv x0), (1, .int x1), (2, .int x2), (3, .int x3)]) [1, 2, 3, 4] rfl ?_
            exact uX12_execute_281 hq
  · replace hq := hq.2 c1
    refine x_aload_n 0 dX12_execute_148 rfl ?_
    refine x_iload 4 dX12_execute_149 rfl ?_
    obtain ⟨g17, hq⟩ := hq
    obtain ⟨g18, g19, hq⟩ := hq
    refine x_callV (Yc := YX12_execute) (as := [.int x5]) (st := []) q4539 mvX12_execute g17 rfl dX12_execute_151 (xle (xal1 (rv_cat _) (xal1 rfl xal0)) (by decide)) (xfr g18) (xlo xsw0 (by decide) g19) (xKv hq (fun h20 hq e22 => ?_) (fun _ _ q _ => q))
    replace hq := hq e22
    refine x_aload_n 0 dX12_execute_154 rfl ?_
    have t23 : tg h20 x0 = 13 := e22.tg g17 (by decide)
    refine x_get (v := .int (fI h20 x0 3170)) fdX12_1121 dX12_execute_155 t23 rfl ?_
    refine x_if_ne (tgt := 173) dX12_execute_158 (by decide) (fun c24 => ?_) (fun c24 => ?_)
    · replace hq := hq.1 c24
      refine x_aload_n 0 dX12_execute_173 rfl ?_
      refine x_get (v := .int (fI h20 x0 3171)) fdX12_1124 dX12_execute_174 t23 rfl ?_
      refine x_if_ne (tgt := 223) dX12_execute_177 (by decide) (fun c25 => ?_) (fun c25 => ?_)
      · replace hq := hq.1 c25
        refine xP.pick (lv' := [(0, rv x0), (1, .int x1), (2, .int x2), (3, .int x3)]) [0, 1, 2, 3] rfl ?_
        exact uX12_execute_223 hq
      · replace hq := hq.2 c25
        refine x_aload_n 0 dX12_execute_180 rfl ?_
        refine x_get (v := .int (fI h20 x0 3174)) fdX12_1385 dX12_execute_181 t23 rfl ?_
        refine x_aload_n 0 dX12_execute_184 rfl ?_
        refine x_get (v := .int (fI h20 x0 3163)) fdX12_1130 dX12_execute_185 t23 rfl ?_
        refine x_icmp_ne (tgt := 223) dX12_execute_188 (by decide) (fun c26 => ?_) (fun c26 => ?_)
        · replace hq := hq.1 c26
          refine xP.pick (lv' := [(0, rv x0), (1, .int x1), (2, .int x2), (3, .int x3)]) [0, 1, 2, 3] rfl ?_
          exact uX12_execute_223 hq
        · replace hq := hq.2 c26
          refine x_aload_n 0 dX12_execute_191 rfl ?_
          refine x_get (v := rv (fR h20 x0 3109)) fdX12_91 dX12_execute_192 t23 rfl ?_
          refine x_aload_n 0 dX12_execute_195 rfl ?_
          refine x_get (v := .int (fI h20 x0 3173)) fdX12_1388 dX12_execute_196 t23 rfl ?_
          obtain ⟨g27, hq⟩ := hq
          obtain ⟨i28, hq⟩ := hq
          refine x_iald 0 (Or.inl rfl) g27 i28 dX12_execute_199 ?_
          refine x_iload_n 3 dX12_execute_200 rfl ?_
          refine x_icmp_ne (tgt := 223) dX12_execute_201 (by decide) (fun c29 => ?_) (fun c29 => ?_)
          · replace hq := hq.1 c29
            refine xP.pick (lv' := [(0, rv x0), (1, .int x1), (2, .int x2), (3, .int x3)]) [0, 1, 2, 3] rfl ?_
            exact uX12_execute_223 hq
          · replace hq := hq.2 c29
            refine x_aload_n 0 dX12_execute_204 rfl ?_
            refine x_iconst (v := 0) dX12_execute_205 (by decide) ?_
            obtain ⟨h30, e31⟩ : ∃ y, y = sI h20 x0 3170 0 := ⟨_, rfl⟩
            replace hq := hq h30 e31
            refine x_putI fdX12_1121 xty_Z1 dX12_execute_206 t23 (Or.inl (by rw [t23]; rfl)) (xnB (Or.inl rfl)) rfl e31 ?_
            refine x_aload_n 0 dX12_execute_209 rfl ?_
            refine x_iload_n 2 dX12_execute_210 rfl ?_
            have t32 : tg h30 x0 = 13 := by rw [e31]; exact t23
            obtain ⟨h33, e34⟩ : ∃ y, y = sI h30 x0 3169 x2 := ⟨_, rfl⟩
            replace hq := hq h33 e34
            refine x_putI fdX12_1348 xty_I1 dX12_execute_211 t32 (Or.inl (by rw [t32]; rfl)) xnI rfl e34 ?_
            refine x_aload_n 0 dX12_execute_214 rfl ?_
            have t35 : tg h33 x0 = 13 := by rw [e34]; exact t32
            refine x_get (v := .int (fI h33 x0 3173)) fdX12_1388 dX12_execute_215 t35 rfl ?_
            refine x_istore (lv' := [(5, .int (fI h33 x0 3173)), (0, rv x0), (1, .int x1), (2, .int x2), (3, .int x3)]) dX12_execute_218 (by decide) rfl ?_
            refine x_goto (tgt := 142) dX12_execute_220 (by decide) ?_
            refine xP.pick (lv' := [(0, rv x0), (1, .int x1), (2, .int x2), (3, .int x3), (5, .int (fI h33 x0 3173))]) [1, 2, 3, 4, 0] rfl ?_
            exact hq
    · replace hq := hq.2 c24
      refine x_aload_n 0 dX12_execute_161 rfl ?_
      refine x_get (v := rv (fR h20 x0 3105)) fdX12_79 dX12_execute_162 t23 rfl ?_
      refine x_iload 4 dX12_execute_165 rfl ?_
      obtain ⟨g36, hq⟩ := hq
      obtain ⟨i37, hq⟩ := hq
      refine x_iald 0 (Or.inl rfl) g36 i37 dX12_execute_167 ?_
      refine x_istore (lv' := [(5, .int (aI h20 (fR h20 x0 3105) (Int32.toNatClampNeg x5))), (0, rv x0), (1, .int x1), (2, .int x2), (3, .int x3)]) dX12_execute_168 (by decide) rfl ?_
      refine x_goto (tgt := 142) dX12_execute_170 (by decide) ?_
      refine xP.pick (lv' := [(0, rv x0), (1, .int x1), (2, .int x2), (3, .int x3), (5, .int (aI h20 (fR h20 x0 3105) (Int32.toNatClampNeg x5)))]) [1, 2, 3, 4, 0] rfl ?_
      exact hq
set_option maxRecDepth 100000 in
def bX12_execute_129 (G : xG) (fr lo : Nat) (x0 : Nat) (x1 : Int32) (x2 : Int32) (x3 : Int32) (x4 : Int32) (h : xH) (Q : Outcome → xH → Prop) : Prop := ((x4 = 0 → bX12_execute_792 G fr lo x0 x1 x2 h Q) ∧ (¬ x4 = 0 → tg h x0 = 13 ∧ tg h (fR h x0 3103) = 100 ∧ vp_in x3 (ln h (fR h x0 3103)) ∧ lX12_execute_142 G fr lo x0 x1 x2 x3 (aI h (fR h x0 3103) (Int32.toNatClampNeg x3)) h Q))
set_option maxRecDepth 100000 in
theorem uX12_execute_129 {G : xG} {fr lo : Nat} {x0 : Nat} {x1 : Int32} {x2 : Int32} {x3 : Int32} {x4 : Int32} {h : xH} {Q : Outcome → xH → Prop} (hq : bX12_execute_129 G fr lo x0 x1 x2 x3 x4 h Q) : xP G YX12_execute fr lo 129 [(0, rv x0), (1, .int x1), (2, .int x2), (3, .int x3), (4, .int x4)] [] h Q := by
  unfold bX12_execute_129 at hq
  refine x_iload 4 dX12_execute_129 rfl ?_
  refine x_if_eq (tgt := 792) dX12_execute_131 (by decide) (fun c1 => ?_) (fun c1 => ?_)
  · replace hq := hq.1 c1
    refine xP.pick (lv' := [(0, rv x0), (1, .int x1), (2, .int x2)]) [0, 1, 2] rfl ?_
    exact uX12_execute_792 hq
  · replace hq := hq.2 c1
    refine x_aload_n 0 dX12_execute_134 rfl ?_
    obtain ⟨g2, hq⟩ := hq
    refine x_get (v := rv (fR h x0 3103)) fdX12_73 dX12_execute_135 g2 rfl ?_
    refine x_iload_n 3 dX12_execute_138 rfl ?_
    obtain ⟨g3, hq⟩ := hq
    obtain ⟨i4, hq⟩ := hq
    refine x_iald 0 (Or.inl rfl) g3 i4 dX12_execute_139 ?_
    refine x_istore (lv' := [(5, .int (aI h (fR h x0 3103) (Int32.toNatClampNeg x3))), (0, rv x0), (1, .int x1), (2, .int x2), (3, .int x3), (4, .int x4)]) dX12_execute_140 (by decide) rfl ?_
    refine xP.pick (lv' := [(0, rv x0), (1, .int x1), (2, .int x2), (3, .int x3), (5, .int (aI h (fR h x0 3103) (Int32.toNatClampNeg x3)))]) [1, 2, 3, 4, 0] rfl ?_
    exact hq
set_option maxRecDepth 100000 in
def bX12_execute_125 (G : xG) (fr lo : Nat) (x0 : Nat) (x1 : Int32) (x2 : Int32) (s0 : Int32) (h : xH) (Q : Outcome → xH → Prop) : Prop := lX12_execute_129 G fr lo x0 x1 x2 s0 1 h Q
set_option maxRecDepth 100000 in
theorem uX12_execute_125 {G : xG} {fr lo : Nat} {x0 : Nat} {x1 : Int32} {x2 : Int32} {s0 : Int32} {h : xH} {Q : Outcome → xH → Prop} (hq : bX12_execute_125 G fr lo x0 x1 x2 s0 h Q) : xP G YX12_execute fr lo 125 [(0, rv x0), (1, .int x1), (2, .int x2)] [.int s0] h Q := by
  unfold bX12_execute_125 at hq
  refine x_istore_n (lv' := [(3, .int s0), (0, rv x0), (1, .int x1), (2, .int x2)]) dX12_execute_125 (by decide) rfl ?_
  refine x_iconst (v := 1) dX12_execute_126 (by decide) ?_
  refine x_istore (lv' := [(4, .int 1), (3, .int s0), (0, rv x0), (1, .int x1), (2, .int x2)]) dX12_execute_127 (by decide) rfl ?_
  refine xP.pick (lv' := [(0, rv x0), (1, .int x1), (2, .int x2), (3, .int s0), (4, .int 1)]) [2, 3, 4, 1, 0] rfl ?_
  exact hq
set_option maxRecDepth 100000 in
def bX12_execute_5 (G : xG) (fr lo : Nat) (x0 : Nat) (x1 : Int32) (x2 : Int32) (h : xH) (Q : Outcome → xH → Prop) : Prop := tg h x0 = 13 ∧ ((¬ (fI h x0 3176) = (fI h x0 3175) → (∀ h3 : xH, h3 = sI h x0 3176 ((fI h x0 3176) + 1) → tg h3 (fR h3 x0 3101) = 100 ∧ vp_in x1 (ln h3 (fR h3 x0 3101)) ∧ (((aI h3 (fR h3 x0 3101) (Int32.toNatClampNeg x1)) = 31 → vp_in x1 (ln h3 (fR h3 x0 3101)) ∧ ((¬ (aI h3 (fR h3 x0 3101) (Int32.toNatClampNeg x1)) = 31 → tg h3 (fR h3 x0 3103) = 100 ∧ vp_in x1 (ln h3 (fR h3 x0 3103)) ∧ bX12_execute_125 G fr lo x0 x1 x2 (aI h3 (fR h3 x0 3103) (Int32.toNatClampNeg x1)) h3 Q) ∧ ((aI h3 (fR h3 x0 3101) (Int32.toNatClampNeg x1)) = 31 → bX12_execute_125 G fr lo x0 x1 x2 x1 h3 Q))) ∧ ((aI h3 (fR h3 x0 3101) (Int32.toNatClampNeg x1)) = 32 → tg h3 (fR h3 x0 3103) = 100 ∧ vp_in x1 (ln h3 (fR h3 x0 3103)) ∧ 1 ≤ fr ∧ 37 ≤ lo ∧ xRv G YX12_evaluate (fr - 1) (lo - 37) [rv x0, .int (aI h3 (fR h3 x0 3103) (Int32.toNatClampNeg x1))] h3 (fun h18 => xext h3 h18 → (((fI h18 x0 3170) = 0 → tg h18 (fR h18 x0 3103) = 100 ∧ vp_in x1 (ln h18 (fR h18 x0 3103)) ∧ tg h18 (fR h18 x0 3105) = 100 ∧ vp_in (aI h18 (fR h18 x0 3103) (Int32.toNatClampNeg x1)) (ln h18 (fR h18 x0 3105)) ∧ ((¬ (lg_cmp (fJ h18 x0 3177) 0) = 0 → bX12_execute_337 G fr lo x0 x1 x2 (aI h18 (fR h18 x0 3105) (Int32.toNatClampNeg (aI h18 (fR h18 x0 3103) (Int32.toNatClampNeg x1)))) h18 Q) ∧ ((lg_cmp (fJ h18 x0 3177) 0) = 0 → vp_in (aI h18 (fR h18 x0 3105) (Int32.toNatClampNeg (aI h18 (fR h18 x0 3103) (Int32.toNatClampNeg x1)))) (ln h18 (fR h18 x0 3105)) ∧ bX12_execute_337 G fr lo x0 x1 x2 (aI h18 (fR h18 x0 3105) (Int32.toNatClampNeg (aI h18 (fR h18 x0 3105) (Int32.toNatClampNeg (aI h18 (fR h18 x0 3103) (Int32.toNatClampNeg x1)))))) h18 Q))) ∧ (¬ (fI h18 x0 3170) = 0 → bX12_execute_792 G fr lo x0 x1 x2 h18 Q))) (fun r h2 => Q (.threw r) h2)) ∧ ((aI h3 (fR h3 x0 3101) (Int32.toNatClampNeg x1)) = 33 → 1 ≤ fr ∧ 15 ≤ lo ∧ xRi G YX12_itemOf (fr - 1) (lo - 15) [rv x0, .int x1] h3 (fun x33 h32 => xext h3 h32 → ((x33 = (-1) → bX12_execute_792 G fr lo x0 x1 x2 h32 Q) ∧ (¬ x33 = (-1) → tg h32 (fR h32 x0 3103) = 100 ∧ vp_in x33 (ln h32 (fR h32 x0 3103)) ∧ tg h32 (fR h32 x0 3105) = 100 ∧ vp_in (aI h32 (fR h32 x0 3103) (Int32.toNatClampNeg x33)) (ln h32 (fR h32 x0 3105)) ∧ 1 ≤ fr ∧ 26 ≤ lo ∧ xRv G YX12_execute (fr - 1) (lo - 26) [rv x0, .int (aI h32 (fR h32 x0 3105) (Int32.toNatClampNeg (aI h32 (fR h32 x0 3103) (Int32.toNatClampNeg x33))))] h32 (fun h43 => xext h32 h43 → bX12_execute_792 G fr lo x0 x1 x2 h43 Q) (fun r h2 => Q (.threw r) h2)))) (fun r h2 => Q (.threw r) h2)) ∧ ((aI h3 (fR h3 x0 3101) (Int32.toNatClampNeg x1)) = 34 → bX12_execute_792 G fr lo x0 x1 x2 h3 Q) ∧ ((aI h3 (fR h3 x0 3101) (Int32.toNatClampNeg x1)) = 35 → tg h3 (fR h3 x0 3103) = 100 ∧ vp_in x1 (ln h3 (fR h3 x0 3103)) ∧ 1 ≤ fr ∧ 37 ≤ lo ∧ xRv G YX12_evaluate (fr - 1) (lo - 37) [rv x0, .int (aI h3 (fR h3 x0 3103) (Int32.toNatClampNeg x1))] h3 (fun h52 => xext h3 h52 → lX12_execute_362 G fr lo x0 x1 x2 h52 Q) (fun r h2 => Q (.threw r) h2)) ∧ ((aI h3 (fR h3 x0 3101) (Int32.toNatClampNeg x1)) = 36 → vp_in x1 (ln h3 (fR h3 x0 3101)) ∧ ((¬ (aI h3 (fR h3 x0 3101) (Int32.toNatClampNeg x1)) = 31 → tg h3 (fR h3 x0 3103) = 100 ∧ vp_in x1 (ln h3 (fR h3 x0 3103)) ∧ bX12_execute_125 G fr lo x0 x1 x2 (aI h3 (fR h3 x0 3103) (Int32.toNatClampNeg x1)) h3 Q) ∧ ((aI h3 (fR h3 x0 3101) (Int32.toNatClampNeg x1)) = 31 → bX12_execute_125 G fr lo x0 x1 x2 x1 h3 Q))) ∧ ((aI h3 (fR h3 x0 3101) (Int32.toNatClampNeg x1)) = 37 → tg h3 (fR h3 x0 3103) = 100 ∧ vp_in x1 (ln h3 (fR h3 x0 3103)) ∧ tg h3 (fR h3 x0 3105) = 100 ∧ vp_in (aI h3 (fR h3 x0 3103) (Int32.toNatClampNeg x1)) (ln h3 (fR h3 x0 3105)) ∧ 1 ≤ fr ∧ 37 ≤ lo ∧ xRv G YX12_evaluate (fr - 1) (lo - 37) [rv x0, .int (aI h3 (fR h3 x0 3105) (Int32.toNatClampNeg (aI h3 (fR h3 x0 3103) (Int32.toNatClampNeg x1))))] h3 (fun h67 => xext h3 h67 → (((fI h67 x0 3170) = 0 → tg h67 (fR h67 x0 3105) = 100 ∧ vp_in (aI h3 (fR h3 x0 3105) (Int32.toNatClampNeg (aI h3 (fR h3 x0 3103) (Int32.toNatClampNeg x1)))) (ln h67 (fR h67 x0 3105)) ∧ 1 ≤ fr ∧ 37 ≤ lo ∧ xRv G YX12_evaluate (fr - 1) (lo - 37) [rv x0, .int (aI h67 (fR h67 x0 3105) (Int32.toNatClampNeg (aI h3 (fR h3 x0 3105) (Int32.toNatClampNeg (aI h3 (fR h3 x0 3103) (Int32.toNatClampNeg x1))))))] h67 (fun h76 => xext h67 h76 → (((fI h76 x0 3170) = 0 → tg h76 (fR h76 x0 3114) = 109 ∧ vp_in x1 (ln h76 (fR h76 x0 3114)) ∧ 1 ≤ fr ∧ 14 ≤ lo ∧ xRi G YX12_addressOf (fr - 1) (lo - 14) [rv x0, rv (aR h76 (fR h76 x0 3114) (Int32.toNatClampNeg x1))] h76 (fun x86 h85 => xext h76 h85 → tg h85 (fR h85 x0 3150) = 104 ∧ vp_in x86 (ln h85 (fR h85 x0 3150)) ∧ (∀ h91 : xH, h91 = tI h85 (fR h85 x0 3150) (Int32.toNatClampNeg x86) (vp_nar .boolean 0) → tg h91 (fR h91 x0 3106) = 100 ∧ vp_in x1 (ln h91 (fR h91 x0 3106)) ∧ ((¬ (aI h91 (fR h91 x0 3106) (Int32.toNatClampNeg x1)) = 1 → ((0 ≤ (lg_cmp (fJ h67 x0 3177) (fJ h76 x0 3177)) → bX12_execute_559 G fr lo x0 x1 x2 (aI h3 (fR h3 x0 3105) (Int32.toNatClampNeg (aI h3 (fR h3 x0 3103) (Int32.toNatClampNeg x1)))) (fJ h67 x0 3177) (fJ h76 x0 3177) x86 h91 Q) ∧ (¬ 0 ≤ (lg_cmp (fJ h67 x0 3177) (fJ h76 x0 3177)) → bX12_execute_792 G fr lo x0 x1 x2 h91 Q))) ∧ ((aI h91 (fR h91 x0 3106) (Int32.toNatClampNeg x1)) = 1 → (((lg_cmp (fJ h67 x0 3177) (fJ h76 x0 3177)) ≤ 0 → bX12_execute_559 G fr lo x0 x1 x2 (aI h3 (fR h3 x0 3105) (Int32.toNatClampNeg (aI h3 (fR h3 x0 3103) (Int32.toNatClampNeg x1)))) (fJ h67 x0 3177) (fJ h76 x0 3177) x86 h91 Q) ∧ (¬ (lg_cmp (fJ h67 x0 3177) (fJ h76 x0 3177)) ≤ 0 → bX12_execute_792 G fr lo x0 x1 x2 h91 Q)))))) (fun r h2 => Q (.threw r) h2)) ∧ (¬ (fI h76 x0 3170) = 0 → bX12_execute_792 G fr lo x0 x1 x2 h76 Q))) (fun r h2 => Q (.threw r) h2)) ∧ (¬ (fI h67 x0 3170) = 0 → bX12_execute_792 G fr lo x0 x1 x2 h67 Q))) (fun r h2 => Q (.threw r) h2)) ∧ ((aI h3 (fR h3 x0 3101) (Int32.toNatClampNeg x1)) = 38 → 1 ≤ fr ∧ 14 ≤ lo ∧ xRi G YX12_openAll (fr - 1) (lo - 14) [rv x0, .int x1] h3 (fun x103 h102 => xext h3 h102 → ((¬ (fI h102 x0 3170) = 0 → bX12_execute_792 G fr lo x0 x1 x2 h102 Q) ∧ ((fI h102 x0 3170) = 0 → 1 ≤ fr ∧ 26 ≤ lo ∧ xRv G YX12_execute (fr - 1) (lo - 26) [rv x0, .int x103] h102 (fun h109 => xext h102 h109 → bX12_execute_792 G fr lo x0 x1 x2 h109 Q) (fun r h2 => Q (.threw r) h2)))) (fun r h2 => Q (.threw r) h2)) ∧ ((aI h3 (fR h3 x0 3101) (Int32.toNatClampNeg x1)) = 39 → (∀ h113 : xH, h113 = sI h3 x0 3170 1 → tg h113 (fR h113 x0 3106) = 100 ∧ vp_in x1 (ln h113 (fR h113 x0 3106)) ∧ (∀ h118 : xH, h118 = sI h113 x0 3173 (aI h113 (fR h113 x0 3106) (Int32.toNatClampNeg x1)) → tg h118 (fR h118 x0 3107) = 100 ∧ vp_in x1 (ln h118 (fR h118 x0 3107)) ∧ 1 ≤ fr ∧ 15 ≤ lo ∧ xRi G YX12_frameOf (fr - 1) (lo - 15) [rv x0, .int (aI h118 (fR h118 x0 3107) (Int32.toNatClampNeg x1))] h118 (fun x126 h125 => xext h118 h125 → (∀ h129 : xH, h129 = sI h125 x0 3174 x126 → bX12_execute_792 G fr lo x0 x1 x2 h129 Q)) (fun r h2 => Q (.threw r) h2)))) ∧ ((aI h3 (fR h3 x0 3101) (Int32.toNatClampNeg x1)) = 40 → 1 ≤ fr ∧ 22 ≤ lo ∧ xRv G YX12_assign (fr - 1) (lo - 22) [rv x0, .int x1] h3 (fun h134 => xext h3 h134 → bX12_execute_792 G fr lo x0 x1 x2 h134 Q) (fun r h2 => Q (.threw r) h2)) ∧ ((aI h3 (fR h3 x0 3101) (Int32.toNatClampNeg x1)) = 41 → tg h3 (fR h3 x0 3114) = 109 ∧ vp_in x1 (ln h3 (fR h3 x0 3114)) ∧ tg h3 (aR h3 (fR h3 x0 3114) (Int32.toNatClampNeg x1)) = 24 ∧ ((¬ (fI h3 (aR h3 (fR h3 x0 3114) (Int32.toNatClampNeg x1)) 5903) = 0 → vp_in x1 (ln h3 (fR h3 x0 3114)) ∧ 1 ≤ fr ∧ 16 ≤ lo ∧ xRv G YX12_work (fr - 1) (lo - 16) [rv x0, .int x1, .int (fI h3 (aR h3 (fR h3 x0 3114) (Int32.toNatClampNeg x1)) 5903)] h3 (fun h145 => xext h3 h145 → bX12_execute_792 G fr lo x0 x1 x2 h145 Q) (fun r h2 => Q (.threw r) h2)) ∧ ((fI h3 (aR h3 (fR h3 x0 3114) (Int32.toNatClampNeg x1)) 5903) = 0 → vp_in x1 (ln h3 (fR h3 x0 3114)) ∧ tg h3 (fR h3 x0 3103) = 100 ∧ vp_in x1 (ln h3 (fR h3 x0 3103)) ∧ tg h3 (fR h3 x0 3102) = 100 ∧ vp_in x1 (ln h3 (fR h3 x0 3102)) ∧ 1 ≤ fr ∧ 24 ≤ lo ∧ xRv G YX12_call (fr - 1) (lo - 24) [rv x0, rv (aR h3 (fR h3 x0 3114) (Int32.toNatClampNeg x1)), .int (aI h3 (fR h3 x0 3103) (Int32.toNatClampNeg x1)), .int 1, .int (aI h3 (fR h3 x0 3102) (Int32.toNatClampNeg x1))] h3 (fun h155 => xext h3 h155 → bX12_execute_792 G fr lo x0 x1 x2 h155 Q) (fun r h2 => Q (.threw r) h2)))) ∧ (¬ (aI h3 (fR h3 x0 3101) (Int32.toNatClampNeg x1)) = 31 → ¬ (aI h3 (fR h3 x0 3101) (Int32.toNatClampNeg x1)) = 32 → ¬ (aI h3 (fR h3 x0 3101) (Int32.toNatClampNeg x1)) = 33 → ¬ (aI h3 (fR h3 x0 3101) (Int32.toNatClampNeg x1)) = 34 → ¬ (aI h3 (fR h3 x0 3101) (Int32.toNatClampNeg x1)) = 35 → ¬ (aI h3 (fR h3 x0 3101) (Int32.toNatClampNeg x1)) = 36 → ¬ (aI h3 (fR h3 x0 3101) (Int32.toNatClampNeg x1)) = 37 → ¬ (aI h3 (fR h3 x0 3101) (Int32.toNatClampNeg x1)) = 38 → ¬ (aI h3 (fR h3 x0 3101) (Int32.toNatClampNeg x1)) = 39 → ¬ (aI h3 (fR h3 x0 3101) (Int32.toNatClampNeg x1)) = 40 → ¬ (aI h3 (fR h3 x0 3101) (Int32.toNatClampNeg x1)) = 41 → bX12_execute_792 G fr lo x0 x1 x2 h3 Q)))) ∧ ((fI h x0 3176) = (fI h x0 3175) → tg h (fR h x0 3102) = 100 ∧ vp_in x1 (ln h (fR h x0 3102)) ∧ 1 ≤ fr ∧ 14 ≤ lo ∧ xRv G YX12_error (fr - 1) (lo - 14) [rv x0, .int 15, .int (aI h (fR h x0 3102) (Int32.toNatClampNeg x1))] h (fun h162 => xext h h162 → Q (.returned none) h162) (fun r h2 => Q (.threw r) h2)))
set_option maxRecDepth 100000 in
theorem uX12_execute_5 {G : xG} {fr lo : Nat} {x0 : Nat} {x1 : Int32} {x2 : Int32} {h : xH} {Q : Outcome → xH → Prop} (hq : bX12_execute_5 G fr lo x0 x1 x2 h Q) : xP G YX12_execute fr lo 5 [(0, rv x0), (1, .int x1), (2, .int x2)] [] h Q := by
  unfold bX12_execute_5 at hq
  refine x_aload_n 0 dX12_execute_5 rfl ?_
  obtain ⟨g1, hq⟩ := hq
  refine x_get (v := .int (fI h x0 3176)) fdX12_1226 dX12_execute_6 g1 rfl ?_
  refine x_aload_n 0 dX12_execute_9 rfl ?_
  refine x_get (v := .int (fI h x0 3175)) fdX12_1223 dX12_execute_10 g1 rfl ?_
  refine x_icmp_ne (tgt := 29) dX12_execute_13 (by decide) (fun c2 => ?_) (fun c2 => ?_)
  · replace hq := hq.1 c2
    refine x_aload_n 0 dX12_execute_29 rfl ?_
    refine x_dup dX12_execute_30 (rv_cat _) ?_
    refine x_get (v := .int (fI h x0 3176)) fdX12_1226 dX12_execute_31 g1 rfl ?_
    refine x_iconst (v := 1) dX12_execute_34 (by decide) ?_
    refine x_iadd dX12_execute_35 ?_
    obtain ⟨h3, e4⟩ : ∃ y, y = sI h x0 3176 ((fI h x0 3176) + 1) := ⟨_, rfl⟩
    replace hq := hq h3 e4
    refine x_putI fdX12_1226 xty_I1 dX12_execute_36 g1 (Or.inl (by rw [g1]; rfl)) xnI rfl e4 ?_
    refine x_aload_n 0 dX12_execute_39 rfl ?_
    have t5 : tg h3 x0 = 13 := by rw [e4]; exact g1
    refine x_get (v := rv (fR h3 x0 3101)) fdX12_67 dX12_execute_40 t5 rfl ?_
    refine x_iload_n 1 dX12_execute_43 rfl ?_
    obtain ⟨g6, hq⟩ := hq
    obtain ⟨i7, hq⟩ := hq
    refine x_iald 0 (Or.inl rfl) g6 i7 dX12_execute_44 ?_
    by_cases c8 : (aI h3 (fR h3 x0 3101) (Int32.toNatClampNeg x1)) = 31
    · replace hq := hq.1 c8
      refine x_tin (tgt := 104) (off := 59) 31 c8 dX12_execute_45 (by decide) (by decide) (by decide) (by decide) ?_
      refine x_aload_n 0 dX12_execute_104 rfl ?_
      refine x_get (v := rv (fR h3 x0 3101)) fdX12_67 dX12_execute_105 t5 rfl ?_
      refine x_iload_n 1 dX12_execute_108 rfl ?_
      obtain ⟨i9, hq⟩ := hq
      refine x_iald 0 (Or.inl rfl) g6 i9 dX12_execute_109 ?_
      refine x_bipush (v := 31) dX12_execute_110 (by decide) ?_
      refine x_icmp_ne (tgt := 119) dX12_execute_112 (by decide) (fun c10 => ?_) (fun c10 => ?_)
      · replace hq := hq.1 c10
        refine x_aload_n 0 dX12_execute_119 rfl ?_
        refine x_get (v := rv (fR h3 x0 3103)) fdX12_73 dX12_execute_120 t5 rfl ?_
        refine x_iload_n 1 dX12_execute_123 rfl ?_
        obtain ⟨g11, hq⟩ := hq
        obtain ⟨i12, hq⟩ := hq
        refine x_iald 0 (Or.inl rfl) g11 i12 dX12_execute_124 ?_
        exact uX12_execute_125 hq
      · replace hq := hq.2 c10
        refine x_iload_n 1 dX12_execute_115 rfl ?_
        refine x_goto (tgt := 125) dX12_execute_116 (by decide) ?_
        exact uX12_execute_125 hq
    replace hq := hq.2
    by_cases c13 : (aI h3 (fR h3 x0 3101) (Int32.toNatClampNeg x1)) = 32
    · replace hq := hq.1 c13
      refine x_tin (tgt := 286) (off := 241) 32 c13 dX12_execute_45 (by decide) (by decide) (by decide) (by decide) ?_
      refine x_aload_n 0 dX12_execute_286 rfl ?_
      refine x_aload_n 0 dX12_execute_287 rfl ?_
      refine x_get (v := rv (fR h3 x0 3103)) fdX12_73 dX12_execute_288 t5 rfl ?_
      refine x_iload_n 1 dX12_execute_291 rfl ?_
      obtain ⟨g14, hq⟩ := hq
      obtain ⟨i15, hq⟩ := hq
      refine x_iald 0 (Or.inl rfl) g14 i15 dX12_execute_292 ?_
      obtain ⟨g16, g17, hq⟩ := hq
      refine x_callV (Yc := YX12_evaluate) (as := [.int (aI h3 (fR h3 x0 3103) (Int32.toNatClampNeg x1))]) (st := []) q4543 mvX12_evaluate t5 rfl dX12_execute_293 (xle (xal1 (rv_cat _) (xal1 rfl xal0)) (by decide)) (xfr g16) (xlo xsw0 (by decide) g17) (xKv hq (fun h18 hq e20 => ?_) (fun _ _ q _ => q))
      replace hq := hq e20
      refine x_aload_n 0 dX12_execute_296 rfl ?_
      have t21 : tg h18 x0 = 13 := e20.tg t5 (by decide)
      refine x_get (v := .int (fI h18 x0 3170)) fdX12_1121 dX12_execute_297 t21 rfl ?_
      refine x_if_eq (tgt := 306) dX12_execute_300 (by decide) (fun c22 => ?_) (fun c22 => ?_)
      · replace hq := hq.1 c22
        refine x_aload_n 0 dX12_execute_306 rfl ?_
        refine x_get (v := rv (fR h18 x0 3105)) fdX12_79 dX12_execute_307 t21 rfl ?_
        refine x_aload_n 0 dX12_execute_310 rfl ?_
        refine x_get (v := rv (fR h18 x0 3103)) fdX12_73 dX12_execute_311 t21 rfl ?_
        refine x_iload_n 1 dX12_execute_314 rfl ?_
        obtain ⟨g23, hq⟩ := hq
        obtain ⟨i24, hq⟩ := hq
        refine x_iald 0 (Or.inl rfl) g23 i24 dX12_execute_315 ?_
        obtain ⟨g25, hq⟩ := hq
        obtain ⟨i26, hq⟩ := hq
        refine x_iald 0 (Or.inl rfl) g25 i26 dX12_execute_316 ?_
        refine x_istore (lv' := [(5, .int (aI h18 (fR h18 x0 3105) (Int32.toNatClampNeg (aI h18 (fR h18 x0 3103) (Int32.toNatClampNeg x1))))), (0, rv x0), (1, .int x1), (2, .int x2)]) dX12_execute_317 (by decide) rfl ?_
        refine x_aload_n 1 dX12_execute_319 rfl ?_
        refine x_get (v := .long (fJ h18 x0 3177)) fdX12_1145 dX12_execute_320 t21 rfl ?_
        refine x_lconst (v := 0) dX12_execute_323 (by decide) ?_
        refine x_lcmp dX12_execute_324 ?_
        refine x_if_ne (tgt := 337) dX12_execute_325 (by decide) (fun c27 => ?_) (fun c27 => ?_)
        · replace hq := hq.1 c27
          refine xP.pick (lv' := [(0, rv x0), (1, .int x1), (2, .int x2), (5, .int (aI h18 (fR h18 x0 3105) (Int32.toNatClampNeg (aI h18 (fR h18 x0 3103) (Int32.toNatClampNeg x1)))))]) [1, 2, 3, 0] rfl ?_
          exact uX12_execute_337 hq
        · replace hq := hq.2 c27
          refine x_aload_n 1 dX12_execute_328 rfl ?_
          refine x_get (v := rv (fR h18 x0 3105)) fdX12_79 dX12_execute_329 t21 rfl ?_
          refine x_iload 0 dX12_execute_332 rfl ?_
          obtain ⟨i28, hq⟩ := hq
          refine x_iald 0 (Or.inl rfl) g25 i28 dX12_execute_334 ?_
          refine x_istore (lv' := [(5, .int (aI h18 (fR h18 x0 3105) (Int32.toNatClampNeg (aI h18 (fR h18 x0 3105) (Int32.toNatClampNeg (aI h18 (fR h18 x0 3103) (Int32.toNatClampNeg x1))))))), (0, rv x0), (1, .int x1), (2, .int x2)]) dX12_execute_335 (by decide) rfl ?_
          refine xP.pick (lv' := [(0, rv x0), (1, .int x1), (2, .int x2), (5, .int (aI h18 (fR h18 x0 3105) (Int32.toNatClampNeg (aI h18 (fR h18 x0 3105) (Int32.toNatClampNeg (aI h18 (fR h18 x0 3103) (Int32.toNatClampNeg x1)))))))]) [1, 2, 3, 0] rfl ?_
          exact uX12_execute_337 hq
      · replace hq := hq.2 c22
        refine x_goto (tgt := 792) dX12_execute_303 (by decide) ?_
        exact uX12_execute_792 hq
    replace hq := hq.2
    by_cases c29 : (aI h3 (fR h3 x0 3101) (Int32.toNatClampNeg x1)) = 33
    · replace hq := hq.1 c29
      refine x_tin (tgt := 413) (off := 368) 33 c29 dX12_execute_45 (by decide) (by decide) (by decide) (by decide) ?_
      refine x_aload_n 0 dX12_execute_413 rfl ?_
      refine x_iload_n 1 dX12_execute_414 rfl ?_
      obtain ⟨g30, g31, hq⟩ := hq
      refine x_callV (Yc := YX12_itemOf) (as := [.int x1]) (st := []) q4693 mvX12_itemOf t5 rfl dX12_execute_415 (xle (xal1 (rv_cat _) (xal1 rfl xal0)) (by decide)) (xfr g30) (xlo xsw0 (by decide) g31) (xKi hq (fun x33 h32 hq e34 => ?_) (fun _ _ q _ => q))
      replace hq := hq e34
      refine x_istore (lv' := [(6, .int x33), (0, rv x0), (1, .int x1), (2, .int x2)]) dX12_execute_418 (by decide) rfl ?_
      refine x_iload 0 dX12_execute_420 rfl ?_
      refine x_iconst (v := (-1)) dX12_execute_422 (by decide) ?_
      refine x_icmp_eq (tgt := 792) dX12_execute_423 (by decide) (fun c35 => ?_) (fun c35 => ?_)
      · replace hq := hq.1 c35
        refine xP.pick (lv' := [(0, rv x0), (1, .int x1), (2, .int x2)]) [1, 2, 3] rfl ?_
        exact uX12_execute_792 hq
      · replace hq := hq.2 c35
        refine x_aload_n 1 dX12_execute_426 rfl ?_
        refine x_aload_n 1 dX12_execute_427 rfl ?_
        have t36 : tg h32 x0 = 13 := e34.tg t5 (by decide)
        refine x_get (v := rv (fR h32 x0 3105)) fdX12_79 dX12_execute_428 t36 rfl ?_
        refine x_aload_n 1 dX12_execute_431 rfl ?_
        refine x_get (v := rv (fR h32 x0 3103)) fdX12_73 dX12_execute_432 t36 rfl ?_
        refine x_iload 0 dX12_execute_435 rfl ?_
        obtain ⟨g37, hq⟩ := hq
        obtain ⟨i38, hq⟩ := hq
        refine x_iald 0 (Or.inl rfl) g37 i38 dX12_execute_437 ?_
        obtain ⟨g39, hq⟩ := hq
        obtain ⟨i40, hq⟩ := hq
        refine x_iald 0 (Or.inl rfl) g39 i40 dX12_execute_438 ?_
        obtain ⟨g41, g42, hq⟩ := hq
        refine x_callV (Yc := YX12_execute) (as := [.int (aI h32 (fR h32 x0 3105) (Int32.toNatClampNeg (aI h32 (fR h32 x0 3103) (Int32.toNatClampNeg x33))))]) (st := []) q4539 mvX12_execute t36 rfl dX12_execute_439 (xle (xal1 (rv_cat _) (xal1 rfl xal0)) (by decide)) (xfr g41) (xlo xsw0 (by decide) g42) (xKv hq (fun h43 hq e45 => ?_) (fun _ _ q _ => q))
        replace hq := hq e45
        refine x_goto (tgt := 792) dX12_execute_442 (by decide) ?_
        refine xP.pick (lv' := [(0, rv x0), (1, .int x1), (2, .int x2)]) [1, 2, 3] rfl ?_
        exact uX12_execute_792 hq
    replace hq := hq.2
    by_cases c46 : (aI h3 (fR h3 x0 3101) (Int32.toNatClampNeg x1)) = 34
    · replace hq := hq.1 c46
      refine x_tin (tgt := 792) (off := 747) 34 c46 dX12_execute_45 (by decide) (by decide) (by decide) (by decide) ?_
      exact uX12_execute_792 hq
    replace hq := hq.2
    by_cases c47 : (aI h3 (fR h3 x0 3101) (Int32.toNatClampNeg x1)) = 35
    · replace hq := hq.1 c47
      refine x_tin (tgt := 352) (off := 307) 35 c47 dX12_execute_45 (by decide) (by decide) (by decide) (by decide) ?_
      refine x_aload_n 0 dX12_execute_352 rfl ?_
      refine x_aload_n 0 dX12_execute_353 rfl ?_
      refine x_get (v := rv (fR h3 x0 3103)) fdX12_73 dX12_execute_354 t5 rfl ?_
      refine x_iload_n 1 dX12_execute_357 rfl ?_
      obtain ⟨g48, hq⟩ := hq
      obtain ⟨i49, hq⟩ := hq
      refine x_iald 0 (Or.inl rfl) g48 i49 dX12_execute_358 ?_
      obtain ⟨g50, g51, hq⟩ := hq
      refine x_callV (Yc := YX12_evaluate) (as := [.int (aI h3 (fR h3 x0 3103) (Int32.toNatClampNeg x1))]) (st := []) q4543 mvX12_evaluate t5 rfl dX12_execute_359 (xle (xal1 (rv_cat _) (xal1 rfl xal0)) (by decide)) (xfr g50) (xlo xsw0 (by decide) g51) (xKv hq (fun h52 hq e54 => ?_) (fun _ _ q _ => q))
      replace hq := hq e54
      exact hq
    replace hq := hq.2
    by_cases c55 : (aI h3 (fR h3 x0 3101) (Int32.toNatClampNeg x1)) = 36
    · replace hq := hq.1 c55
      refine x_tin (tgt := 104) (off := 59) 36 c55 dX12_execute_45 (by decide) (by decide) (by decide) (by decide) ?_
      refine x_aload_n 0 dX12_execute_104 rfl ?_
      refine x_get (v := rv (fR h3 x0 3101)) fdX12_67 dX12_execute_105 t5 rfl ?_
      refine x_iload_n 1 dX12_execute_108 rfl ?_
      obtain ⟨i56, hq⟩ := hq
      refine x_iald 0 (Or.inl rfl) g6 i56 dX12_execute_109 ?_
      refine x_bipush (v := 31) dX12_execute_110 (by decide) ?_
      refine x_icmp_ne (tgt := 119) dX12_execute_112 (by decide) (fun c57 => ?_) (fun c57 => ?_)
      · replace hq := hq.1 c57
        refine x_aload_n 0 dX12_execute_119 rfl ?_
        refine x_get (v := rv (fR h3 x0 3103)) fdX12_73 dX12_execute_120 t5 rfl ?_
        refine x_iload_n 1 dX12_execute_123 rfl ?_
        obtain ⟨g58, hq⟩ := hq
        obtain ⟨i59, hq⟩ := hq
        refine x_iald 0 (Or.inl rfl) g58 i59 dX12_execute_124 ?_
        exact uX12_execute_125 hq
      · replace hq := hq.2 c57
        refine x_iload_n 1 dX12_execute_115 rfl ?_
        refine x_goto (tgt := 125) dX12_execute_116 (by decide) ?_
        exact uX12_execute_125 hq
    replace hq := hq.2
    by_cases c60 : (aI h3 (fR h3 x0 3101) (Int32.toNatClampNeg x1)) = 37
    · replace hq := hq.1 c60
      refine x_tin (tgt := 445) (off := 400) 37 c60 dX12_execute_45 (by decide) (by decide) (by decide) (by decide) ?_
      refine x_aload_n 0 dX12_execute_445 rfl ?_
      refine x_get (v := rv (fR h3 x0 3105)) fdX12_79 dX12_execute_446 t5 rfl ?_
      refine x_aload_n 0 dX12_execute_449 rfl ?_
      refine x_get (v := rv (fR h3 x0 3103)) fdX12_73 dX12_execute_450 t5 rfl ?_
      refine x_iload_n 1 dX12_execute_453 rfl ?_
      obtain ⟨g61, hq⟩ := hq
      obtain ⟨i62, hq⟩ := hq
      refine x_iald 0 (Or.inl rfl) g61 i62 dX12_execute_454 ?_
      obtain ⟨g63, hq⟩ := hq
      obtain ⟨i64, hq⟩ := hq
      refine x_iald 0 (Or.inl rfl) g63 i64 dX12_execute_455 ?_
      refine x_istore (lv' := [(7, .int (aI h3 (fR h3 x0 3105) (Int32.toNatClampNeg (aI h3 (fR h3 x0 3103) (Int32.toNatClampNeg x1))))), (0, rv x0), (1, .int x1), (2, .int x2)]) dX12_execute_456 (by decide) rfl ?_
      refine x_aload_n 1 dX12_execute_458 rfl ?_
      refine x_iload 0 dX12_execute_459 rfl ?_
      obtain ⟨g65, g66, hq⟩ := hq
      refine x_callV (Yc := YX12_evaluate) (as := [.int (aI h3 (fR h3 x0 3105) (Int32.toNatClampNeg (aI h3 (fR h3 x0 3103) (Int32.toNatClampNeg x1))))]) (st := []) q4543 mvX12_evaluate t5 rfl dX12_execute_461 (xle (xal1 (rv_cat _) (xal1 rfl xal0)) (by decide)) (xfr g65) (xlo xsw0 (by decide) g66) (xKv hq (fun h67 hq e69 => ?_) (fun _ _ q _ => q))
      replace hq := hq e69
      refine x_aload_n 1 dX12_execute_464 rfl ?_
      have t70 : tg h67 x0 = 13 := e69.tg t5 (by decide)
      refine x_get (v := .int (fI h67 x0 3170)) fdX12_1121 dX12_execute_465 t70 rfl ?_
      refine x_if_eq (tgt := 474) dX12_execute_468 (by decide) (fun c71 => ?_) (fun c71 => ?_)
      · replace hq := hq.1 c71
        refine x_aload_n 1 dX12_execute_474 rfl ?_
        refine x_get (v := .long (fJ h67 x0 3177)) fdX12_1145 dX12_execute_475 t70 rfl ?_
        refine x_lstore (lv' := [(8, .long (fJ h67 x0 3177)), (7, .int (aI h3 (fR h3 x0 3105) (Int32.toNatClampNeg (aI h3 (fR h3 x0 3103) (Int32.toNatClampNeg x1))))), (0, rv x0), (1, .int x1), (2, .int x2)]) dX12_execute_478 (by decide) rfl ?_
        refine x_aload_n 2 dX12_execute_480 rfl ?_
        refine x_aload_n 2 dX12_execute_481 rfl ?_
        refine x_get (v := rv (fR h67 x0 3105)) fdX12_79 dX12_execute_482 t70 rfl ?_
        refine x_iload 1 dX12_execute_485 rfl ?_
        obtain ⟨g72, hq⟩ := hq
        obtain ⟨i73, hq⟩ := hq
        refine x_iald 0 (Or.inl rfl) g72 i73 dX12_execute_487 ?_
        obtain ⟨g74, g75, hq⟩ := hq
        refine x_callV (Yc := YX12_evaluate) (as := [.int (aI h67 (fR h67 x0 3105) (Int32.toNatClampNeg (aI h3 (fR h3 x0 3105) (Int32.toNatClampNeg (aI h3 (fR h3 x0 3103) (Int32.toNatClampNeg x1))))))]) (st := []) q4543 mvX12_evaluate t70 rfl dX12_execute_488 (xle (xal1 (rv_cat _) (xal1 rfl xal0)) (by decide)) (xfr g74) (xlo xsw0 (by decide) g75) (xKv hq (fun h76 hq e78 => ?_) (fun _ _ q _ => q))
        replace hq := hq e78
        refine x_aload_n 2 dX12_execute_491 rfl ?_
        have t79 : tg h76 x0 = 13 := e78.tg t70 (by decide)
        refine x_get (v := .int (fI h76 x0 3170)) fdX12_1121 dX12_execute_492 t79 rfl ?_
        refine x_if_eq (tgt := 501) dX12_execute_495 (by decide) (fun c80 => ?_) (fun c80 => ?_)
        · replace hq := hq.1 c80
          refine x_aload_n 2 dX12_execute_501 rfl ?_
          refine x_get (v := .long (fJ h76 x0 3177)) fdX12_1145 dX12_execute_502 t79 rfl ?_
          refine x_lstore (lv' := [(10, .long (fJ h76 x0 3177)), (8, .long (fJ h67 x0 3177)), (7, .int (aI h3 (fR h3 x0 3105) (Int32.toNatClampNeg (aI h3 (fR h3 x0 3103) (Int32.toNatClampNeg x1))))), (0, rv x0), (1, .int x1), (2, .int x2)]) dX12_execute_505 (by decide) rfl ?_
          refine x_aload_n 3 dX12_execute_507 rfl ?_
          refine x_aload_n 3 dX12_execute_508 rfl ?_
          refine x_get (v := rv (fR h76 x0 3114)) fdX12_102 dX12_execute_509 t79 rfl ?_
          refine x_iload_n 4 dX12_execute_512 rfl ?_
          obtain ⟨g81, hq⟩ := hq
          obtain ⟨i82, hq⟩ := hq
          refine x_aald 9 rfl g81 (by decide) i82 dX12_execute_513 ?_
          obtain ⟨g83, g84, hq⟩ := hq
          refine x_callV (Yc := YX12_addressOf) (as := [rv (aR h76 (fR h76 x0 3114) (Int32.toNatClampNeg x1))]) (st := []) q4506 mvX12_addressOf t79 rfl dX12_execute_514 (xle (xal1 (rv_cat _) (xal1 (rv_cat _) xal0)) (by decide)) (xfr g83) (xlo xsw0 (by decide) g84) (xKi hq (fun x86 h85 hq e87 => ?_) (fun _ _ q _ => q))
          replace hq := hq e87
          refine x_istore (lv' := [(12, .int x86), (10, .long (fJ h76 x0 3177)), (8, .long (fJ h67 x0 3177)), (7, .int (aI h3 (fR h3 x0 3105) (Int32.toNatClampNeg (aI h3 (fR h3 x0 3103) (Int32.toNatClampNeg x1))))), (0, rv x0), (1, .int x1), (2, .int x2)]) dX12_execute_517 (by decide) rfl ?_
          refine x_aload_n 4 dX12_execute_519 rfl ?_
          have t88 : tg h85 x0 = 13 := e87.tg t79 (by decide)
          refine x_get (v := rv (fR h85 x0 3150)) fdX12_169 dX12_execute_520 t88 rfl ?_
          refine x_iload 0 dX12_execute_523 rfl ?_
          refine x_iconst (v := 0) dX12_execute_525 (by decide) ?_
          obtain ⟨g89, hq⟩ := hq
          obtain ⟨i90, hq⟩ := hq
          obtain ⟨h91, e92⟩ : ∃ y, y = tI h85 (fR h85 x0 3150) (Int32.toNatClampNeg x86) (vp_nar .boolean 0) := ⟨_, rfl⟩
          replace hq := hq h91 e92
          refine x_zast' g89 i90 dX12_execute_526 e92 ?_
          refine x_aload_n 4 dX12_execute_527 rfl ?_
          have t93 : tg h91 x0 = 13 := by rw [e92]; exact t88
          refine x_get (v := rv (fR h91 x0 3106)) fdX12_82 dX12_execute_528 t93 rfl ?_
          refine x_iload_n 5 dX12_execute_531 rfl ?_
          obtain ⟨g94, hq⟩ := hq
          obtain ⟨i95, hq⟩ := hq
          refine x_iald 0 (Or.inl rfl) g94 i95 dX12_execute_532 ?_
          refine x_iconst (v := 1) dX12_execute_533 (by decide) ?_
          refine x_icmp_ne (tgt := 548) dX12_execute_534 (by decide) (fun c96 => ?_) (fun c96 => ?_)
          · replace hq := hq.1 c96
            refine x_lload 2 dX12_execute_548 rfl ?_
            refine x_lload 1 dX12_execute_550 rfl ?_
            refine x_lcmp dX12_execute_552 ?_
            refine x_if_ge (tgt := 559) dX12_execute_553 (by decide) (fun c97 => ?_) (fun c97 => ?_)
            · replace hq := hq.1 c97
              refine xP.pick (lv' := [(0, rv x0), (1, .int x1), (2, .int x2), (7, .int (aI h3 (fR h3 x0 3105) (Int32.toNatClampNeg (aI h3 (fR h3 x0 3103) (Int32.toNatClampNeg x1))))), (8, .long (fJ h67 x0 3177)), (10, .long (fJ h76 x0 3177)), (12, .int x86)]) [4, 5, 6, 3, 2, 1, 0] rfl ?_
              exact uX12_execute_559 hq
            · replace hq := hq.2 c97
              refine x_goto (tgt := 792) dX12_execute_556 (by decide) ?_
              refine xP.pick (lv' := [(0, rv x0), (1, .int x1), (2, .int x2)]) [4, 5, 6] rfl ?_
              exact uX12_execute_792 hq
          · replace hq := hq.2 c96
            refine x_lload 2 dX12_execute_537 rfl ?_
            refine x_lload 1 dX12_execute_539 rfl ?_
            refine x_lcmp dX12_execute_541 ?_
            refine x_if_le (tgt := 559) dX12_execute_542 (by decide) (fun c98 => ?_) (fun c98 => ?_)
            · replace hq := hq.1 c98
              refine xP.pick (lv' := [(0, rv x0), (1, .int x1), (2, .int x2), (7, .int (aI h3 (fR h3 x0 3105) (Int32.toNatClampNeg (aI h3 (fR h3 x0 3103) (Int32.toNatClampNeg x1))))), (8, .long (fJ h67 x0 3177)), (10, .long (fJ h76 x0 3177)), (12, .int x86)]) [4, 5, 6, 3, 2, 1, 0] rfl ?_
              exact uX12_execute_559 hq
            · replace hq := hq.2 c98
              refine x_goto (tgt := 792) dX12_execute_545 (by decide) ?_
              refine xP.pick (lv' := [(0, rv x0), (1, .int x1), (2, .int x2)]) [4, 5, 6] rfl ?_
              exact uX12_execute_792 hq
        · replace hq := hq.2 c80
          refine x_goto (tgt := 792) dX12_execute_498 (by decide) ?_
          refine xP.pick (lv' := [(0, rv x0), (1, .int x1), (2, .int x2)]) [2, 3, 4] rfl ?_
          exact uX12_execute_792 hq
      · replace hq := hq.2 c71
        refine x_goto (tgt := 792) dX12_execute_471 (by decide) ?_
        refine xP.pick (lv' := [(0, rv x0), (1, .int x1), (2, .int x2)]) [1, 2, 3] rfl ?_
        exact uX12_execute_792 hq
    replace hq := hq.2
    by_cases c99 : (aI h3 (fR h3 x0 3101) (Int32.toNatClampNeg x1)) = 38
    · replace hq := hq.1 c99
      refine x_tin (tgt := 674) (off := 629) 38 c99 dX12_execute_45 (by decide) (by decide) (by decide) (by decide) ?_
      refine x_aload_n 0 dX12_execute_674 rfl ?_
      refine x_iload_n 1 dX12_execute_675 rfl ?_
      obtain ⟨g100, g101, hq⟩ := hq
      refine x_callV (Yc := YX12_openAll) (as := [.int x1]) (st := []) q4701 mvX12_openAll t5 rfl dX12_execute_676 (xle (xal1 (rv_cat _) (xal1 rfl xal0)) (by decide)) (xfr g100) (xlo xsw0 (by decide) g101) (xKi hq (fun x103 h102 hq e104 => ?_) (fun _ _ q _ => q))
      replace hq := hq e104
      refine x_istore (lv' := [(13, .int x103), (0, rv x0), (1, .int x1), (2, .int x2)]) dX12_execute_679 (by decide) rfl ?_
      refine x_aload_n 1 dX12_execute_681 rfl ?_
      have t105 : tg h102 x0 = 13 := e104.tg t5 (by decide)
      refine x_get (v := .int (fI h102 x0 3170)) fdX12_1121 dX12_execute_682 t105 rfl ?_
      refine x_if_ne (tgt := 792) dX12_execute_685 (by decide) (fun c106 => ?_) (fun c106 => ?_)
      · replace hq := hq.1 c106
        refine xP.pick (lv' := [(0, rv x0), (1, .int x1), (2, .int x2)]) [1, 2, 3] rfl ?_
        exact uX12_execute_792 hq
      · replace hq := hq.2 c106
        refine x_aload_n 1 dX12_execute_688 rfl ?_
        refine x_iload 0 dX12_execute_689 rfl ?_
        obtain ⟨g107, g108, hq⟩ := hq
        refine x_callV (Yc := YX12_execute) (as := [.int x103]) (st := []) q4539 mvX12_execute t105 rfl dX12_execute_691 (xle (xal1 (rv_cat _) (xal1 rfl xal0)) (by decide)) (xfr g107) (xlo xsw0 (by decide) g108) (xKv hq (fun h109 hq e111 => ?_) (fun _ _ q _ => q))
        replace hq := hq e111
        refine x_goto (tgt := 792) dX12_execute_694 (by decide) ?_
        refine xP.pick (lv' := [(0, rv x0), (1, .int x1), (2, .int x2)]) [1, 2, 3] rfl ?_
        exact uX12_execute_792 hq
    replace hq := hq.2
    by_cases c112 : (aI h3 (fR h3 x0 3101) (Int32.toNatClampNeg x1)) = 39
    · replace hq := hq.1 c112
      refine x_tin (tgt := 697) (off := 652) 39 c112 dX12_execute_45 (by decide) (by decide) (by decide) (by decide) ?_
      refine x_aload_n 0 dX12_execute_697 rfl ?_
      refine x_iconst (v := 1) dX12_execute_698 (by decide) ?_
      obtain ⟨h113, e114⟩ : ∃ y, y = sI h3 x0 3170 1 := ⟨_, rfl⟩
      replace hq := hq h113 e114
      refine x_putI fdX12_1121 xty_Z1 dX12_execute_699 t5 (Or.inl (by rw [t5]; rfl)) (xnB (Or.inr rfl)) rfl e114 ?_
      refine x_aload_n 0 dX12_execute_702 rfl ?_
      refine x_aload_n 0 dX12_execute_703 rfl ?_
      have t115 : tg h113 x0 = 13 := by rw [e114]; exact t5
      refine x_get (v := rv (fR h113 x0 3106)) fdX12_82 dX12_execute_704 t115 rfl ?_
      refine x_iload_n 1 dX12_execute_707 rfl ?_
      obtain ⟨g116, hq⟩ := hq
      obtain ⟨i117, hq⟩ := hq
      refine x_iald 0 (Or.inl rfl) g116 i117 dX12_execute_708 ?_
      obtain ⟨h118, e119⟩ : ∃ y, y = sI h113 x0 3173 (aI h113 (fR h113 x0 3106) (Int32.toNatClampNeg x1)) := ⟨_, rfl⟩
      replace hq := hq h118 e119
      refine x_putI fdX12_1388 xty_I1 dX12_execute_709 t115 (Or.inl (by rw [t115]; rfl)) xnI rfl e119 ?_
      refine x_aload_n 0 dX12_execute_712 rfl ?_
      refine x_aload_n 0 dX12_execute_713 rfl ?_
      refine x_aload_n 0 dX12_execute_714 rfl ?_
      have t120 : tg h118 x0 = 13 := by rw [e119]; exact t115
      refine x_get (v := rv (fR h118 x0 3107)) fdX12_85 dX12_execute_715 t120 rfl ?_
      refine x_iload_n 1 dX12_execute_718 rfl ?_
      obtain ⟨g121, hq⟩ := hq
      obtain ⟨i122, hq⟩ := hq
      refine x_iald 0 (Or.inl rfl) g121 i122 dX12_execute_719 ?_
      obtain ⟨g123, g124, hq⟩ := hq
      refine x_callV (Yc := YX12_frameOf) (as := [.int (aI h118 (fR h118 x0 3107) (Int32.toNatClampNeg x1))]) (st := [rv x0]) q4510 mvX12_frameOf t120 rfl dX12_execute_720 (xle (xal1 (rv_cat _) (xal1 rfl xal0)) (by decide)) (xfr g123) (xlo (xsw1 (rv_cat _) xsw0) (by decide) g124) (xKi hq (fun x126 h125 hq e127 => ?_) (fun _ _ q _ => q))
      replace hq := hq e127
      have t128 : tg h125 x0 = 13 := e127.tg t120 (by decide)
      obtain ⟨h129, e130⟩ : ∃ y, y = sI h125 x0 3174 x126 := ⟨_, rfl⟩
      replace hq := hq h129 e130
      refine x_putI fdX12_1385 xty_I1 dX12_execute_723 t128 (Or.inl (by rw [t128]; rfl)) xnI rfl e130 ?_
      refine x_goto (tgt := 792) dX12_execute_726 (by decide) ?_
      exact uX12_execute_792 hq
    replace hq := hq.2
    by_cases c131 : (aI h3 (fR h3 x0 3101) (Int32.toNatClampNeg x1)) = 40
    · replace hq := hq.1 c131
      refine x_tin (tgt := 729) (off := 684) 40 c131 dX12_execute_45 (by decide) (by decide) (by decide) (by decide) ?_
      refine x_aload_n 0 dX12_execute_729 rfl ?_
      refine x_iload_n 1 dX12_execute_730 rfl ?_
      obtain ⟨g132, g133, hq⟩ := hq
      refine x_callV (Yc := YX12_assign) (as := [.int x1]) (st := []) q4705 mvX12_assign t5 rfl dX12_execute_731 (xle (xal1 (rv_cat _) (xal1 rfl xal0)) (by decide)) (xfr g132) (xlo xsw0 (by decide) g133) (xKv hq (fun h134 hq e136 => ?_) (fun _ _ q _ => q))
      replace hq := hq e136
      refine x_goto (tgt := 792) dX12_execute_734 (by decide) ?_
      exact uX12_execute_792 hq
    replace hq := hq.2
    by_cases c137 : (aI h3 (fR h3 x0 3101) (Int32.toNatClampNeg x1)) = 41
    · replace hq := hq.1 c137
      refine x_tin (tgt := 737) (off := 692) 41 c137 dX12_execute_45 (by decide) (by decide) (by decide) (by decide) ?_
      refine x_aload_n 0 dX12_execute_737 rfl ?_
      refine x_get (v := rv (fR h3 x0 3114)) fdX12_102 dX12_execute_738 t5 rfl ?_
      refine x_iload_n 1 dX12_execute_741 rfl ?_
      obtain ⟨g138, hq⟩ := hq
      obtain ⟨i139, hq⟩ := hq
      refine x_aald 9 rfl g138 (by decide) i139 dX12_execute_742 ?_
      obtain ⟨g140, hq⟩ := hq
      refine x_get (v := .int (fI h3 (aR h3 (fR h3 x0 3114) (Int32.toNatClampNeg x1)) 5903)) fdX12_632 dX12_execute_743 g140 rfl ?_
      refine x_if_ne (tgt := 775) dX12_execute_746 (by decide) (fun c141 => ?_) (fun c141 => ?_)
      · replace hq := hq.1 c141
        refine x_aload_n 0 dX12_execute_775 rfl ?_
        refine x_iload_n 1 dX12_execute_776 rfl ?_
        refine x_aload_n 0 dX12_execute_777 rfl ?_
        refine x_get (v := rv (fR h3 x0 3114)) fdX12_102 dX12_execute_778 t5 rfl ?_
        refine x_iload_n 1 dX12_execute_781 rfl ?_
        obtain ⟨i142, hq⟩ := hq
        refine x_aald 9 rfl g138 (by decide) i142 dX12_execute_782 ?_
        refine x_get (v := .int (fI h3 (aR h3 (fR h3 x0 3114) (Int32.toNatClampNeg x1)) 5903)) fdX12_632 dX12_execute_783 g140 rfl ?_
        obtain ⟨g143, g144, hq⟩ := hq
        refine x_callV (Yc := YX12_work) (as := [.int x1, .int (fI h3 (aR h3 (fR h3 x0 3114) (Int32.toNatClampNeg x1)) 5903)]) (st := []) q4721 mvX12_work t5 rfl dX12_execute_786 (xle (xal1 (rv_cat _) (xal1 rfl (xal1 rfl xal0))) (by decide)) (xfr g143) (xlo xsw0 (by decide) g144) (xKv hq (fun h145 hq e147 => ?_) (fun _ _ q _ => q))
        replace hq := hq e147
        refine x_goto (tgt := 792) dX12_execute_789 (by decide) ?_
        exact uX12_execute_792 hq
      · replace hq := hq.2 c141
        refine x_aload_n 0 dX12_execute_749 rfl ?_
        refine x_aload_n 0 dX12_execute_750 rfl ?_
        refine x_get (v := rv (fR h3 x0 3114)) fdX12_102 dX12_execute_751 t5 rfl ?_
        refine x_iload_n 1 dX12_execute_754 rfl ?_
        obtain ⟨i148, hq⟩ := hq
        refine x_aald 9 rfl g138 (by decide) i148 dX12_execute_755 ?_
        refine x_aload_n 0 dX12_execute_756 rfl ?_
        refine x_get (v := rv (fR h3 x0 3103)) fdX12_73 dX12_execute_757 t5 rfl ?_
        refine x_iload_n 1 dX12_execute_760 rfl ?_
        obtain ⟨g149, hq⟩ := hq
        obtain ⟨i150, hq⟩ := hq
        refine x_iald 0 (Or.inl rfl) g149 i150 dX12_execute_761 ?_
        refine x_iconst (v := 1) dX12_execute_762 (by decide) ?_
        refine x_aload_n 0 dX12_execute_763 rfl ?_
        refine x_get (v := rv (fR h3 x0 3102)) fdX12_70 dX12_execute_764 t5 rfl ?_
        refine x_iload_n 1 dX12_execute_767 rfl ?_
        obtain ⟨g151, hq⟩ := hq
        obtain ⟨i152, hq⟩ := hq
        refine x_iald 0 (Or.inl rfl) g151 i152 dX12_execute_768 ?_
        obtain ⟨g153, g154, hq⟩ := hq
        refine x_callV (Yc := YX12_call) (as := [rv (aR h3 (fR h3 x0 3114) (Int32.toNatClampNeg x1)), .int (aI h3 (fR h3 x0 3103) (Int32.toNatClampNeg x1)), .int 1, .int (aI h3 (fR h3 x0 3102) (Int32.toNatClampNeg x1))]) (st := []) q4607 mvX12_call t5 rfl dX12_execute_769 (xle (xal1 (rv_cat _) (xal1 (rv_cat _) (xal1 rfl (xal1 rfl (xal1 rfl xal0))))) (by decide)) (xfr g153) (xlo xsw0 (by decide) g154) (xKv hq (fun h155 hq e157 => ?_) (fun _ _ q _ => q))
        replace hq := hq e157
        refine x_goto (tgt := 792) dX12_execute_772 (by decide) ?_
        exact uX12_execute_792 hq
    replace hq := hq.2
    replace hq := hq c8 c13 c29 c46 c47 c55 c60 c99 c112 c131 c137
    have nc8 := lv_neT c8 (show (31 : Int32).toInt = 31 from by decide)
    have nc13 := lv_neT c13 (show (32 : Int32).toInt = 32 from by decide)
    have nc29 := lv_neT c29 (show (33 : Int32).toInt = 33 from by decide)
    have nc46 := lv_neT c46 (show (34 : Int32).toInt = 34 from by decide)
    have nc47 := lv_neT c47 (show (35 : Int32).toInt = 35 from by decide)
    have nc55 := lv_neT c55 (show (36 : Int32).toInt = 36 from by decide)
    have nc60 := lv_neT c60 (show (37 : Int32).toInt = 37 from by decide)
    have nc99 := lv_neT c99 (show (38 : Int32).toInt = 38 from by decide)
    have nc112 := lv_neT c112 (show (39 : Int32).toInt = 39 from by decide)
    have nc131 := lv_neT c131 (show (40 : Int32).toInt = 40 from by decide)
    have nc137 := lv_neT c137 (show (41 : Int32).toInt = 41 from by decide)
    refine x_tout (tgt := 792) dX12_execute_45 (by omega) (by decide) ?_
    exact uX12_execute_792 hq
  · replace hq := hq.2 c2
    refine x_aload_n 0 dX12_execute_16 rfl ?_
    refine x_bipush (v := 15) dX12_execute_17 (by decide) ?_
    refine x_aload_n 0 dX12_execute_19 rfl ?_
    refine x_get (v := rv (fR h x0 3102)) fdX12_70 dX12_execute_20 g1 rfl ?_
    refine x_iload_n 1 dX12_execute_23 rfl ?_
    obtain ⟨g158, hq⟩ := hq
    obtain ⟨i159, hq⟩ := hq
    refine x_iald 0 (Or.inl rfl) g158 i159 dX12_execute_24 ?_
    obtain ⟨g160, g161, hq⟩ := hq
    refine x_callV (Yc := YX12_error) (as := [.int 15, .int (aI h (fR h x0 3102) (Int32.toNatClampNeg x1))]) (st := []) q4490 mvX12_error g1 rfl dX12_execute_25 (xle (xal1 (rv_cat _) (xal1 rfl (xal1 rfl xal0))) (by decide)) (xfr g160) (xlo xsw0 (by decide) g161) (xKv hq (fun h162 hq e164 => ?_) (fun _ _ q _ => q))
    replace hq := hq e164
    exact x_vret rfl dX12_execute_28 hq
set_option maxRecDepth 100000 in
def bX12_execute (G : xG) (fr lo : Nat) (x0 : Nat) (x1 : Int32) (h : xH) (Q : Outcome → xH → Prop) : Prop := tg h x0 = 13 ∧ lX12_execute_5 G fr lo x0 x1 (fI h x0 3169) h Q
set_option maxRecDepth 100000 in
theorem uX12_execute {G : xG} {fr lo : Nat} {x0 : Nat} {x1 : Int32} {h : xH} {Q : Outcome → xH → Prop} (hq : bX12_execute G fr lo x0 x1 h Q) : xP G YX12_execute fr lo 0 [(0, rv x0), (1, .int x1)] [] h Q := by
  unfold bX12_execute at hq
  refine x_aload_n 0 dX12_execute_0 rfl ?_
  obtain ⟨g1, hq⟩ := hq
  refine x_get (v := .int (fI h x0 3169)) fdX12_1348 dX12_execute_1 g1 rfl ?_
  refine x_istore_n (lv' := [(2, .int (fI h x0 3169)), (0, rv x0), (1, .int x1)]) dX12_execute_4 (by decide) rfl ?_
  refine xP.pick (lv' := [(0, rv x0), (1, .int x1), (2, .int (fI h x0 3169))]) [1, 2, 0] rfl ?_
  exact hq
theorem rX12_execute {G : xG} {fr lo : Nat} {x0 : Nat} {x1 : Int32} {h : xH} {Q : Outcome → xH → Prop} (hq : bX12_execute G fr lo x0 x1 h Q) : xR G YX12_execute fr lo [rv x0, .int x1] h Q := by
  show xP _ _ _ _ _ (lv_args 0 _) _ _ _
  rw [show lv_args 0 [rv x0, .int x1] = [(0, rv x0), (1, .int x1)] from (xla1 (rv_cat _) (xla1 rfl xla0))]
  exact uX12_execute hq
set_option maxRecDepth 100000 in
theorem dX12_evaluate_0 : decode cX12_evaluate 0 = .ok (.lconst 0, 1) := by decide +kernel
set_option maxRecDepth 100000 in
theorem dX12_evaluate_1 : decode cX12_evaluate 1 = .ok (.lstore_n 2, 1) := by decide +kernel
set_option maxRecDepth 100000 in
theorem dX12_evaluate_2 : decode cX12_evaluate 2 = .ok (.lconst 0, 1) := by decide +kernel
set_option maxRecDepth 100000 in
theorem dX12_evaluate_3 : decode cX12_evaluate 3 = .ok (.lstore 4, 2) := by decide +kernel
set_option maxRecDepth 100000 in
theorem dX12_evaluate_5 : decode cX12_evaluate 5 = .ok (.dconst 0, 1) := by decide +kernel
set_option maxRecDepth 100000 in
theorem dX12_evaluate_6 : decode cX12_evaluate 6 = .ok (.dstore 6, 2) := by decide +kernel
set_option maxRecDepth 100000 in
theorem dX12_evaluate_8 : decode cX12_evaluate 8 = .ok (.iconst 0, 1) := by decide +kernel
set_option maxRecDepth 100000 in
theorem dX12_evaluate_9 : decode cX12_evaluate 9 = .ok (.istore 8, 2) := by decide +kernel
set_option maxRecDepth 100000 in
theorem dX12_evaluate_11 : decode cX12_evaluate 11 = .ok (.aload_n 0, 1) := by decide +kernel
set_option maxRecDepth 100000 in
theorem dX12_evaluate_12 : decode cX12_evaluate 12 = .ok (.getfield 73, 3) := by decide +kernel
set_option maxRecDepth 100000 in
theorem dX12_evaluate_15 : decode cX12_evaluate 15 = .ok (.iload_n 1, 1) := by decide +kernel
set_option maxRecDepth 100000 in
theorem dX12_evaluate_16 : decode cX12_evaluate 16 = .ok (.iaload, 1) := by decide +kernel
set_option maxRecDepth 100000 in
theorem dX12_evaluate_17 : decode cX12_evaluate 17 = .ok (.istore 9, 2) := by decide +kernel
set_option maxRecDepth 100000 in
theorem dX12_evaluate_19 : decode cX12_evaluate 19 = .ok (.iload 9, 2) := by decide +kernel
set_option maxRecDepth 100000 in
theorem dX12_evaluate_21 : decode cX12_evaluate 21 = .ok (.iconst (-1), 1) := by decide +kernel
set_option maxRecDepth 100000 in
theorem dX12_evaluate_22 : decode cX12_evaluate 22 = .ok (.if_icmp .eq 569, 3) := by decide +kernel
set_option maxRecDepth 100000 in
theorem dX12_evaluate_25 : decode cX12_evaluate 25 = .ok (.aconst_null, 1) := by decide +kernel
set_option maxRecDepth 100000 in
theorem dX12_evaluate_26 : decode cX12_evaluate 26 = .ok (.astore 10, 2) := by decide +kernel
set_option maxRecDepth 100000 in
theorem dX12_evaluate_28 : decode cX12_evaluate 28 = .ok (.lconst 0, 1) := by decide +kernel
set_option maxRecDepth 100000 in
theorem dX12_evaluate_29 : decode cX12_evaluate 29 = .ok (.lstore 11, 2) := by decide +kernel
set_option maxRecDepth 100000 in
theorem dX12_evaluate_31 : decode cX12_evaluate 31 = .ok (.lconst 0, 1) := by decide +kernel
set_option maxRecDepth 100000 in
theorem dX12_evaluate_32 : decode cX12_evaluate 32 = .ok (.lstore 13, 2) := by decide +kernel
set_option maxRecDepth 100000 in
theorem dX12_evaluate_34 : decode cX12_evaluate 34 = .ok (.dconst 0, 1) := by decide +kernel
set_option maxRecDepth 100000 in
theorem dX12_evaluate_35 : decode cX12_evaluate 35 = .ok (.dstore 15, 2) := by decide +kernel
set_option maxRecDepth 100000 in
theorem dX12_evaluate_37 : decode cX12_evaluate 37 = .ok (.aload_n 0, 1) := by decide +kernel
set_option maxRecDepth 100000 in
theorem dX12_evaluate_38 : decode cX12_evaluate 38 = .ok (.getfield 73, 3) := by decide +kernel
set_option maxRecDepth 100000 in
theorem dX12_evaluate_41 : decode cX12_evaluate 41 = .ok (.iload 9, 2) := by decide +kernel
set_option maxRecDepth 100000 in
theorem dX12_evaluate_43 : decode cX12_evaluate 43 = .ok (.iaload, 1) := by decide +kernel
set_option maxRecDepth 100000 in
theorem dX12_evaluate_44 : decode cX12_evaluate 44 = .ok (.istore 17, 2) := by decide +kernel
set_option maxRecDepth 100000 in
theorem dX12_evaluate_46 : decode cX12_evaluate 46 = .ok (.iload 17, 2) := by decide +kernel
set_option maxRecDepth 100000 in
theorem dX12_evaluate_48 : decode cX12_evaluate 48 = .ok (.iconst (-1), 1) := by decide +kernel
set_option maxRecDepth 100000 in
theorem dX12_evaluate_49 : decode cX12_evaluate 49 = .ok (.if_icmp .eq 450, 3) := by decide +kernel
set_option maxRecDepth 100000 in
theorem dX12_evaluate_52 : decode cX12_evaluate 52 = .ok (.aconst_null, 1) := by decide +kernel
set_option maxRecDepth 100000 in
theorem dX12_evaluate_53 : decode cX12_evaluate 53 = .ok (.astore 18, 2) := by decide +kernel
set_option maxRecDepth 100000 in
theorem dX12_evaluate_55 : decode cX12_evaluate 55 = .ok (.lconst 0, 1) := by decide +kernel
set_option maxRecDepth 100000 in
theorem dX12_evaluate_56 : decode cX12_evaluate 56 = .ok (.lstore 19, 2) := by decide +kernel
set_option maxRecDepth 100000 in
theorem dX12_evaluate_58 : decode cX12_evaluate 58 = .ok (.lconst 0, 1) := by decide +kernel
set_option maxRecDepth 100000 in
theorem dX12_evaluate_59 : decode cX12_evaluate 59 = .ok (.lstore 21, 2) := by decide +kernel
set_option maxRecDepth 100000 in
theorem dX12_evaluate_61 : decode cX12_evaluate 61 = .ok (.dconst 0, 1) := by decide +kernel
set_option maxRecDepth 100000 in
theorem dX12_evaluate_62 : decode cX12_evaluate 62 = .ok (.dstore 23, 2) := by decide +kernel
set_option maxRecDepth 100000 in
theorem dX12_evaluate_64 : decode cX12_evaluate 64 = .ok (.aload_n 0, 1) := by decide +kernel
set_option maxRecDepth 100000 in
theorem dX12_evaluate_65 : decode cX12_evaluate 65 = .ok (.getfield 73, 3) := by decide +kernel
set_option maxRecDepth 100000 in
theorem dX12_evaluate_68 : decode cX12_evaluate 68 = .ok (.iload 17, 2) := by decide +kernel
set_option maxRecDepth 100000 in
theorem dX12_evaluate_70 : decode cX12_evaluate 70 = .ok (.iaload, 1) := by decide +kernel
set_option maxRecDepth 100000 in
theorem dX12_evaluate_71 : decode cX12_evaluate 71 = .ok (.istore 25, 2) := by decide +kernel
set_option maxRecDepth 100000 in
theorem dX12_evaluate_73 : decode cX12_evaluate 73 = .ok (.iload 25, 2) := by decide +kernel
set_option maxRecDepth 100000 in
theorem dX12_evaluate_75 : decode cX12_evaluate 75 = .ok (.iconst (-1), 1) := by decide +kernel
set_option maxRecDepth 100000 in
theorem dX12_evaluate_76 : decode cX12_evaluate 76 = .ok (.if_icmp .eq 318, 3) := by decide +kernel
set_option maxRecDepth 100000 in
theorem dX12_evaluate_79 : decode cX12_evaluate 79 = .ok (.aload_n 0, 1) := by decide +kernel
set_option maxRecDepth 100000 in
theorem dX12_evaluate_80 : decode cX12_evaluate 80 = .ok (.getfield 67, 3) := by decide +kernel
set_option maxRecDepth 100000 in
theorem dX12_evaluate_83 : decode cX12_evaluate 83 = .ok (.iload 25, 2) := by decide +kernel
set_option maxRecDepth 100000 in
theorem dX12_evaluate_85 : decode cX12_evaluate 85 = .ok (.iaload, 1) := by decide +kernel
set_option maxRecDepth 100000 in
theorem dX12_evaluate_86 : decode cX12_evaluate 86 = .ok (.tableswitch 205 57 61 #[34, 205, 48, 57, 130], 34) := by decide +kernel
set_option maxRecDepth 100000 in
theorem dX12_evaluate_120 : decode cX12_evaluate 120 = .ok (.aload_n 0, 1) := by decide +kernel
set_option maxRecDepth 100000 in
theorem dX12_evaluate_121 : decode cX12_evaluate 121 = .ok (.aload_n 0, 1) := by decide +kernel
set_option maxRecDepth 100000 in
theorem dX12_evaluate_122 : decode cX12_evaluate 122 = .ok (.getfield 73, 3) := by decide +kernel
set_option maxRecDepth 100000 in
theorem dX12_evaluate_125 : decode cX12_evaluate 125 = .ok (.iload 25, 2) := by decide +kernel
set_option maxRecDepth 100000 in
theorem dX12_evaluate_127 : decode cX12_evaluate 127 = .ok (.iaload, 1) := by decide +kernel
set_option maxRecDepth 100000 in
theorem dX12_evaluate_128 : decode cX12_evaluate 128 = .ok (.invokevirtual 1233, 3) := by decide +kernel
set_option maxRecDepth 100000 in
theorem dX12_evaluate_131 : decode cX12_evaluate 131 = .ok (.goto 166, 3) := by decide +kernel
set_option maxRecDepth 100000 in
theorem dX12_evaluate_134 : decode cX12_evaluate 134 = .ok (.aload_n 0, 1) := by decide +kernel
set_option maxRecDepth 100000 in
theorem dX12_evaluate_135 : decode cX12_evaluate 135 = .ok (.iload 25, 2) := by decide +kernel
set_option maxRecDepth 100000 in
theorem dX12_evaluate_137 : decode cX12_evaluate 137 = .ok (.invokevirtual 1239, 3) := by decide +kernel
set_option maxRecDepth 100000 in
theorem dX12_evaluate_140 : decode cX12_evaluate 140 = .ok (.goto 157, 3) := by decide +kernel
set_option maxRecDepth 100000 in
theorem dX12_evaluate_143 : decode cX12_evaluate 143 = .ok (.aload_n 0, 1) := by decide +kernel
set_option maxRecDepth 100000 in
theorem dX12_evaluate_144 : decode cX12_evaluate 144 = .ok (.getfield 102, 3) := by decide +kernel
set_option maxRecDepth 100000 in
theorem dX12_evaluate_147 : decode cX12_evaluate 147 = .ok (.iload 25, 2) := by decide +kernel
set_option maxRecDepth 100000 in
theorem dX12_evaluate_149 : decode cX12_evaluate 149 = .ok (.aaload, 1) := by decide +kernel
set_option maxRecDepth 100000 in
theorem dX12_evaluate_150 : decode cX12_evaluate 150 = .ok (.getfield 632, 3) := by decide +kernel
set_option maxRecDepth 100000 in
theorem dX12_evaluate_153 : decode cX12_evaluate 153 = .ok (.ifCond .le 34, 3) := by decide +kernel
set_option maxRecDepth 100000 in
theorem dX12_evaluate_156 : decode cX12_evaluate 156 = .ok (.aload_n 0, 1) := by decide +kernel
set_option maxRecDepth 100000 in
theorem dX12_evaluate_157 : decode cX12_evaluate 157 = .ok (.aload_n 0, 1) := by decide +kernel
set_option maxRecDepth 100000 in
theorem dX12_evaluate_158 : decode cX12_evaluate 158 = .ok (.getfield 102, 3) := by decide +kernel
set_option maxRecDepth 100000 in
theorem dX12_evaluate_161 : decode cX12_evaluate 161 = .ok (.iload 25, 2) := by decide +kernel
set_option maxRecDepth 100000 in
theorem dX12_evaluate_163 : decode cX12_evaluate 163 = .ok (.aaload, 1) := by decide +kernel
set_option maxRecDepth 100000 in
theorem dX12_evaluate_164 : decode cX12_evaluate 164 = .ok (.getfield 632, 3) := by decide +kernel
set_option maxRecDepth 100000 in
theorem dX12_evaluate_167 : decode cX12_evaluate 167 = .ok (.aload_n 0, 1) := by decide +kernel
set_option maxRecDepth 100000 in
theorem dX12_evaluate_168 : decode cX12_evaluate 168 = .ok (.getfield 73, 3) := by decide +kernel
set_option maxRecDepth 100000 in
theorem dX12_evaluate_171 : decode cX12_evaluate 171 = .ok (.iload 25, 2) := by decide +kernel
set_option maxRecDepth 100000 in
theorem dX12_evaluate_173 : decode cX12_evaluate 173 = .ok (.iaload, 1) := by decide +kernel
set_option maxRecDepth 100000 in
theorem dX12_evaluate_174 : decode cX12_evaluate 174 = .ok (.aload_n 0, 1) := by decide +kernel
set_option maxRecDepth 100000 in
theorem dX12_evaluate_175 : decode cX12_evaluate 175 = .ok (.getfield 70, 3) := by decide +kernel
set_option maxRecDepth 100000 in
theorem dX12_evaluate_178 : decode cX12_evaluate 178 = .ok (.iload 25, 2) := by decide +kernel
set_option maxRecDepth 100000 in
theorem dX12_evaluate_180 : decode cX12_evaluate 180 = .ok (.iaload, 1) := by decide +kernel
set_option maxRecDepth 100000 in
theorem dX12_evaluate_181 : decode cX12_evaluate 181 = .ok (.invokevirtual 1242, 3) := by decide +kernel
set_option maxRecDepth 100000 in
theorem dX12_evaluate_184 : decode cX12_evaluate 184 = .ok (.goto 113, 3) := by decide +kernel
set_option maxRecDepth 100000 in
theorem dX12_evaluate_187 : decode cX12_evaluate 187 = .ok (.aload_n 0, 1) := by decide +kernel
set_option maxRecDepth 100000 in
theorem dX12_evaluate_188 : decode cX12_evaluate 188 = .ok (.aload_n 0, 1) := by decide +kernel
set_option maxRecDepth 100000 in
theorem dX12_evaluate_189 : decode cX12_evaluate 189 = .ok (.getfield 102, 3) := by decide +kernel
set_option maxRecDepth 100000 in
theorem dX12_evaluate_192 : decode cX12_evaluate 192 = .ok (.iload 25, 2) := by decide +kernel
set_option maxRecDepth 100000 in
theorem dX12_evaluate_194 : decode cX12_evaluate 194 = .ok (.aaload, 1) := by decide +kernel
set_option maxRecDepth 100000 in
theorem dX12_evaluate_195 : decode cX12_evaluate 195 = .ok (.aload_n 0, 1) := by decide +kernel
set_option maxRecDepth 100000 in
theorem dX12_evaluate_196 : decode cX12_evaluate 196 = .ok (.getfield 73, 3) := by decide +kernel
set_option maxRecDepth 100000 in
theorem dX12_evaluate_199 : decode cX12_evaluate 199 = .ok (.iload 25, 2) := by decide +kernel
set_option maxRecDepth 100000 in
theorem dX12_evaluate_201 : decode cX12_evaluate 201 = .ok (.iaload, 1) := by decide +kernel
set_option maxRecDepth 100000 in
theorem dX12_evaluate_202 : decode cX12_evaluate 202 = .ok (.iconst 0, 1) := by decide +kernel
set_option maxRecDepth 100000 in
theorem dX12_evaluate_203 : decode cX12_evaluate 203 = .ok (.aload_n 0, 1) := by decide +kernel
set_option maxRecDepth 100000 in
theorem dX12_evaluate_204 : decode cX12_evaluate 204 = .ok (.getfield 70, 3) := by decide +kernel
set_option maxRecDepth 100000 in
theorem dX12_evaluate_207 : decode cX12_evaluate 207 = .ok (.iload 25, 2) := by decide +kernel
set_option maxRecDepth 100000 in
theorem dX12_evaluate_209 : decode cX12_evaluate 209 = .ok (.iaload, 1) := by decide +kernel
set_option maxRecDepth 100000 in
theorem dX12_evaluate_210 : decode cX12_evaluate 210 = .ok (.invokevirtual 1244, 3) := by decide +kernel
set_option maxRecDepth 100000 in
theorem dX12_evaluate_213 : decode cX12_evaluate 213 = .ok (.goto 84, 3) := by decide +kernel
set_option maxRecDepth 100000 in
theorem dX12_evaluate_216 : decode cX12_evaluate 216 = .ok (.aload_n 0, 1) := by decide +kernel
set_option maxRecDepth 100000 in
theorem dX12_evaluate_217 : decode cX12_evaluate 217 = .ok (.getfield 102, 3) := by decide +kernel
set_option maxRecDepth 100000 in
theorem dX12_evaluate_220 : decode cX12_evaluate 220 = .ok (.iload 25, 2) := by decide +kernel
set_option maxRecDepth 100000 in
theorem dX12_evaluate_222 : decode cX12_evaluate 222 = .ok (.aaload, 1) := by decide +kernel
set_option maxRecDepth 100000 in
theorem dX12_evaluate_223 : decode cX12_evaluate 223 = .ok (.getfield 577, 3) := by decide +kernel
set_option maxRecDepth 100000 in
theorem dX12_evaluate_226 : decode cX12_evaluate 226 = .ok (.iconst 3, 1) := by decide +kernel
set_option maxRecDepth 100000 in
theorem dX12_evaluate_227 : decode cX12_evaluate 227 = .ok (.if_icmp .eq 17, 3) := by decide +kernel
set_option maxRecDepth 100000 in
theorem dX12_evaluate_230 : decode cX12_evaluate 230 = .ok (.aload_n 0, 1) := by decide +kernel
set_option maxRecDepth 100000 in
theorem dX12_evaluate_231 : decode cX12_evaluate 231 = .ok (.getfield 102, 3) := by decide +kernel
set_option maxRecDepth 100000 in
theorem dX12_evaluate_234 : decode cX12_evaluate 234 = .ok (.iload 25, 2) := by decide +kernel
set_option maxRecDepth 100000 in
theorem dX12_evaluate_236 : decode cX12_evaluate 236 = .ok (.aaload, 1) := by decide +kernel
set_option maxRecDepth 100000 in
theorem dX12_evaluate_237 : decode cX12_evaluate 237 = .ok (.getfield 577, 3) := by decide +kernel
set_option maxRecDepth 100000 in
theorem dX12_evaluate_240 : decode cX12_evaluate 240 = .ok (.iconst 4, 1) := by decide +kernel
set_option maxRecDepth 100000 in
theorem dX12_evaluate_241 : decode cX12_evaluate 241 = .ok (.if_icmp .ne 41, 3) := by decide +kernel
set_option maxRecDepth 100000 in
theorem dX12_evaluate_244 : decode cX12_evaluate 244 = .ok (.aload_n 0, 1) := by decide +kernel
set_option maxRecDepth 100000 in
theorem dX12_evaluate_245 : decode cX12_evaluate 245 = .ok (.iload 25, 2) := by decide +kernel
set_option maxRecDepth 100000 in
theorem dX12_evaluate_247 : decode cX12_evaluate 247 = .ok (.invokevirtual 1248, 3) := by decide +kernel
set_option maxRecDepth 100000 in
theorem dX12_evaluate_250 : decode cX12_evaluate 250 = .ok (.aload_n 0, 1) := by decide +kernel
set_option maxRecDepth 100000 in
theorem dX12_evaluate_251 : decode cX12_evaluate 251 = .ok (.getfield 1121, 3) := by decide +kernel
set_option maxRecDepth 100000 in
theorem dX12_evaluate_254 : decode cX12_evaluate 254 = .ok (.ifCond .ne 43, 3) := by decide +kernel
set_option maxRecDepth 100000 in
theorem dX12_evaluate_257 : decode cX12_evaluate 257 = .ok (.aload_n 0, 1) := by decide +kernel
set_option maxRecDepth 100000 in
theorem dX12_evaluate_258 : decode cX12_evaluate 258 = .ok (.aload_n 0, 1) := by decide +kernel
set_option maxRecDepth 100000 in
theorem dX12_evaluate_259 : decode cX12_evaluate 259 = .ok (.getfield 1236, 3) := by decide +kernel
set_option maxRecDepth 100000 in
theorem dX12_evaluate_262 : decode cX12_evaluate 262 = .ok (.aload_n 0, 1) := by decide +kernel
set_option maxRecDepth 100000 in
theorem dX12_evaluate_263 : decode cX12_evaluate 263 = .ok (.getfield 96, 3) := by decide +kernel
set_option maxRecDepth 100000 in
theorem dX12_evaluate_266 : decode cX12_evaluate 266 = .ok (.iload 25, 2) := by decide +kernel
set_option maxRecDepth 100000 in
theorem dX12_evaluate_268 : decode cX12_evaluate 268 = .ok (.aaload, 1) := by decide +kernel
set_option maxRecDepth 100000 in
theorem dX12_evaluate_269 : decode cX12_evaluate 269 = .ok (.aload_n 0, 1) := by decide +kernel
set_option maxRecDepth 100000 in
theorem dX12_evaluate_270 : decode cX12_evaluate 270 = .ok (.getfield 70, 3) := by decide +kernel
set_option maxRecDepth 100000 in
theorem dX12_evaluate_273 : decode cX12_evaluate 273 = .ok (.iload 25, 2) := by decide +kernel
set_option maxRecDepth 100000 in
theorem dX12_evaluate_275 : decode cX12_evaluate 275 = .ok (.iaload, 1) := by decide +kernel
set_option maxRecDepth 100000 in
theorem dX12_evaluate_276 : decode cX12_evaluate 276 = .ok (.invokevirtual 1251, 3) := by decide +kernel
set_option maxRecDepth 100000 in
theorem dX12_evaluate_279 : decode cX12_evaluate 279 = .ok (.goto 18, 3) := by decide +kernel
set_option maxRecDepth 100000 in
theorem dX12_evaluate_282 : decode cX12_evaluate 282 = .ok (.aload_n 0, 1) := by decide +kernel
set_option maxRecDepth 100000 in
theorem dX12_evaluate_283 : decode cX12_evaluate 283 = .ok (.iload 25, 2) := by decide +kernel
set_option maxRecDepth 100000 in
theorem dX12_evaluate_285 : decode cX12_evaluate 285 = .ok (.invokevirtual 1255, 3) := by decide +kernel
set_option maxRecDepth 100000 in
theorem dX12_evaluate_288 : decode cX12_evaluate 288 = .ok (.goto 9, 3) := by decide +kernel
set_option maxRecDepth 100000 in
theorem dX12_evaluate_291 : decode cX12_evaluate 291 = .ok (.aload_n 0, 1) := by decide +kernel
set_option maxRecDepth 100000 in
theorem dX12_evaluate_292 : decode cX12_evaluate 292 = .ok (.iload 25, 2) := by decide +kernel
set_option maxRecDepth 100000 in
theorem dX12_evaluate_294 : decode cX12_evaluate 294 = .ok (.invokevirtual 1258, 3) := by decide +kernel
set_option maxRecDepth 100000 in
theorem dX12_evaluate_297 : decode cX12_evaluate 297 = .ok (.aload_n 0, 1) := by decide +kernel
set_option maxRecDepth 100000 in
theorem dX12_evaluate_298 : decode cX12_evaluate 298 = .ok (.getfield 1121, 3) := by decide +kernel
set_option maxRecDepth 100000 in
theorem dX12_evaluate_301 : decode cX12_evaluate 301 = .ok (.ifCond .eq 4, 3) := by decide +kernel
set_option maxRecDepth 100000 in
theorem dX12_evaluate_304 : decode cX12_evaluate 304 = .ok (.return_, 1) := by decide +kernel
set_option maxRecDepth 100000 in
theorem dX12_evaluate_305 : decode cX12_evaluate 305 = .ok (.aload 18, 2) := by decide +kernel
set_option maxRecDepth 100000 in
theorem dX12_evaluate_307 : decode cX12_evaluate 307 = .ok (.ifnull 32, 3) := by decide +kernel
set_option maxRecDepth 100000 in
theorem dX12_evaluate_310 : decode cX12_evaluate 310 = .ok (.aload_n 0, 1) := by decide +kernel
set_option maxRecDepth 100000 in
theorem dX12_evaluate_311 : decode cX12_evaluate 311 = .ok (.lload 19, 2) := by decide +kernel
set_option maxRecDepth 100000 in
theorem dX12_evaluate_313 : decode cX12_evaluate 313 = .ok (.lload 21, 2) := by decide +kernel
set_option maxRecDepth 100000 in
theorem dX12_evaluate_315 : decode cX12_evaluate 315 = .ok (.dload 23, 2) := by decide +kernel
set_option maxRecDepth 100000 in
theorem dX12_evaluate_317 : decode cX12_evaluate 317 = .ok (.aload 18, 2) := by decide +kernel
set_option maxRecDepth 100000 in
theorem dX12_evaluate_319 : decode cX12_evaluate 319 = .ok (.aload_n 0, 1) := by decide +kernel
set_option maxRecDepth 100000 in
theorem dX12_evaluate_320 : decode cX12_evaluate 320 = .ok (.getfield 96, 3) := by decide +kernel
set_option maxRecDepth 100000 in
theorem dX12_evaluate_323 : decode cX12_evaluate 323 = .ok (.iload 25, 2) := by decide +kernel
set_option maxRecDepth 100000 in
theorem dX12_evaluate_325 : decode cX12_evaluate 325 = .ok (.aaload, 1) := by decide +kernel
set_option maxRecDepth 100000 in
theorem dX12_evaluate_326 : decode cX12_evaluate 326 = .ok (.aload_n 0, 1) := by decide +kernel
set_option maxRecDepth 100000 in
theorem dX12_evaluate_327 : decode cX12_evaluate 327 = .ok (.getfield 88, 3) := by decide +kernel
set_option maxRecDepth 100000 in
theorem dX12_evaluate_330 : decode cX12_evaluate 330 = .ok (.iload 25, 2) := by decide +kernel
set_option maxRecDepth 100000 in
theorem dX12_evaluate_332 : decode cX12_evaluate 332 = .ok (.iaload, 1) := by decide +kernel
set_option maxRecDepth 100000 in
theorem dX12_evaluate_333 : decode cX12_evaluate 333 = .ok (.invokevirtual 1261, 3) := by decide +kernel
set_option maxRecDepth 100000 in
theorem dX12_evaluate_336 : decode cX12_evaluate 336 = .ok (.goto 14, 3) := by decide +kernel
set_option maxRecDepth 100000 in
theorem dX12_evaluate_339 : decode cX12_evaluate 339 = .ok (.aload_n 0, 1) := by decide +kernel
set_option maxRecDepth 100000 in
theorem dX12_evaluate_340 : decode cX12_evaluate 340 = .ok (.aload_n 0, 1) := by decide +kernel
set_option maxRecDepth 100000 in
theorem dX12_evaluate_341 : decode cX12_evaluate 341 = .ok (.getfield 96, 3) := by decide +kernel
set_option maxRecDepth 100000 in
theorem dX12_evaluate_344 : decode cX12_evaluate 344 = .ok (.iload 25, 2) := by decide +kernel
set_option maxRecDepth 100000 in
theorem dX12_evaluate_346 : decode cX12_evaluate 346 = .ok (.aaload, 1) := by decide +kernel
set_option maxRecDepth 100000 in
theorem dX12_evaluate_347 : decode cX12_evaluate 347 = .ok (.putfield 1265, 3) := by decide +kernel
set_option maxRecDepth 100000 in
theorem dX12_evaluate_350 : decode cX12_evaluate 350 = .ok (.aload_n 0, 1) := by decide +kernel
set_option maxRecDepth 100000 in
theorem dX12_evaluate_351 : decode cX12_evaluate 351 = .ok (.getfield 1121, 3) := by decide +kernel
set_option maxRecDepth 100000 in
theorem dX12_evaluate_354 : decode cX12_evaluate 354 = .ok (.ifCond .eq 4, 3) := by decide +kernel
set_option maxRecDepth 100000 in
theorem dX12_evaluate_357 : decode cX12_evaluate 357 = .ok (.return_, 1) := by decide +kernel
set_option maxRecDepth 100000 in
theorem dX12_evaluate_358 : decode cX12_evaluate 358 = .ok (.aload_n 0, 1) := by decide +kernel
set_option maxRecDepth 100000 in
theorem dX12_evaluate_359 : decode cX12_evaluate 359 = .ok (.getfield 1265, 3) := by decide +kernel
set_option maxRecDepth 100000 in
theorem dX12_evaluate_362 : decode cX12_evaluate 362 = .ok (.astore 18, 2) := by decide +kernel
set_option maxRecDepth 100000 in
theorem dX12_evaluate_364 : decode cX12_evaluate 364 = .ok (.aload_n 0, 1) := by decide +kernel
set_option maxRecDepth 100000 in
theorem dX12_evaluate_365 : decode cX12_evaluate 365 = .ok (.getfield 1145, 3) := by decide +kernel
set_option maxRecDepth 100000 in
theorem dX12_evaluate_368 : decode cX12_evaluate 368 = .ok (.lstore 19, 2) := by decide +kernel
set_option maxRecDepth 100000 in
theorem dX12_evaluate_370 : decode cX12_evaluate 370 = .ok (.aload_n 0, 1) := by decide +kernel
set_option maxRecDepth 100000 in
theorem dX12_evaluate_371 : decode cX12_evaluate 371 = .ok (.getfield 1148, 3) := by decide +kernel
set_option maxRecDepth 100000 in
theorem dX12_evaluate_374 : decode cX12_evaluate 374 = .ok (.lstore 21, 2) := by decide +kernel
set_option maxRecDepth 100000 in
theorem dX12_evaluate_376 : decode cX12_evaluate 376 = .ok (.aload_n 0, 1) := by decide +kernel
set_option maxRecDepth 100000 in
theorem dX12_evaluate_377 : decode cX12_evaluate 377 = .ok (.getfield 1151, 3) := by decide +kernel
set_option maxRecDepth 100000 in
theorem dX12_evaluate_380 : decode cX12_evaluate 380 = .ok (.dstore 23, 2) := by decide +kernel
set_option maxRecDepth 100000 in
theorem dX12_evaluate_382 : decode cX12_evaluate 382 = .ok (.aload_n 0, 1) := by decide +kernel
set_option maxRecDepth 100000 in
theorem dX12_evaluate_383 : decode cX12_evaluate 383 = .ok (.getfield 79, 3) := by decide +kernel
set_option maxRecDepth 100000 in
theorem dX12_evaluate_386 : decode cX12_evaluate 386 = .ok (.iload 25, 2) := by decide +kernel
set_option maxRecDepth 100000 in
theorem dX12_evaluate_388 : decode cX12_evaluate 388 = .ok (.iaload, 1) := by decide +kernel
set_option maxRecDepth 100000 in
theorem dX12_evaluate_389 : decode cX12_evaluate 389 = .ok (.istore 25, 2) := by decide +kernel
set_option maxRecDepth 100000 in
theorem dX12_evaluate_391 : decode cX12_evaluate 391 = .ok (.goto (-318), 3) := by decide +kernel
set_option maxRecDepth 100000 in
theorem dX12_evaluate_394 : decode cX12_evaluate 394 = .ok (.aload 10, 2) := by decide +kernel
set_option maxRecDepth 100000 in
theorem dX12_evaluate_396 : decode cX12_evaluate 396 = .ok (.ifnull 27, 3) := by decide +kernel
set_option maxRecDepth 100000 in
theorem dX12_evaluate_399 : decode cX12_evaluate 399 = .ok (.aload_n 0, 1) := by decide +kernel
set_option maxRecDepth 100000 in
theorem dX12_evaluate_400 : decode cX12_evaluate 400 = .ok (.lload 11, 2) := by decide +kernel
set_option maxRecDepth 100000 in
theorem dX12_evaluate_402 : decode cX12_evaluate 402 = .ok (.lload 13, 2) := by decide +kernel
set_option maxRecDepth 100000 in
theorem dX12_evaluate_404 : decode cX12_evaluate 404 = .ok (.dload 15, 2) := by decide +kernel
set_option maxRecDepth 100000 in
theorem dX12_evaluate_406 : decode cX12_evaluate 406 = .ok (.aload 10, 2) := by decide +kernel
set_option maxRecDepth 100000 in
theorem dX12_evaluate_408 : decode cX12_evaluate 408 = .ok (.aload 18, 2) := by decide +kernel
set_option maxRecDepth 100000 in
theorem dX12_evaluate_410 : decode cX12_evaluate 410 = .ok (.aload_n 0, 1) := by decide +kernel
set_option maxRecDepth 100000 in
theorem dX12_evaluate_411 : decode cX12_evaluate 411 = .ok (.getfield 88, 3) := by decide +kernel
set_option maxRecDepth 100000 in
theorem dX12_evaluate_414 : decode cX12_evaluate 414 = .ok (.iload 17, 2) := by decide +kernel
set_option maxRecDepth 100000 in
theorem dX12_evaluate_416 : decode cX12_evaluate 416 = .ok (.iaload, 1) := by decide +kernel
set_option maxRecDepth 100000 in
theorem dX12_evaluate_417 : decode cX12_evaluate 417 = .ok (.invokevirtual 1261, 3) := by decide +kernel
set_option maxRecDepth 100000 in
theorem dX12_evaluate_420 : decode cX12_evaluate 420 = .ok (.goto 35, 3) := by decide +kernel
set_option maxRecDepth 100000 in
theorem dX12_evaluate_423 : decode cX12_evaluate 423 = .ok (.aload_n 0, 1) := by decide +kernel
set_option maxRecDepth 100000 in
theorem dX12_evaluate_424 : decode cX12_evaluate 424 = .ok (.getfield 82, 3) := by decide +kernel
set_option maxRecDepth 100000 in
theorem dX12_evaluate_427 : decode cX12_evaluate 427 = .ok (.iload 9, 2) := by decide +kernel
set_option maxRecDepth 100000 in
theorem dX12_evaluate_429 : decode cX12_evaluate 429 = .ok (.iaload, 1) := by decide +kernel
set_option maxRecDepth 100000 in
theorem dX12_evaluate_430 : decode cX12_evaluate 430 = .ok (.iconst (-1), 1) := by decide +kernel
set_option maxRecDepth 100000 in
theorem dX12_evaluate_431 : decode cX12_evaluate 431 = .ok (.if_icmp .eq 24, 3) := by decide +kernel
set_option maxRecDepth 100000 in
theorem dX12_evaluate_434 : decode cX12_evaluate 434 = .ok (.aload_n 0, 1) := by decide +kernel
set_option maxRecDepth 100000 in
theorem dX12_evaluate_435 : decode cX12_evaluate 435 = .ok (.getfield 26, 3) := by decide +kernel
set_option maxRecDepth 100000 in
theorem dX12_evaluate_438 : decode cX12_evaluate 438 = .ok (.aload_n 0, 1) := by decide +kernel
set_option maxRecDepth 100000 in
theorem dX12_evaluate_439 : decode cX12_evaluate 439 = .ok (.getfield 82, 3) := by decide +kernel
set_option maxRecDepth 100000 in
theorem dX12_evaluate_442 : decode cX12_evaluate 442 = .ok (.iload 9, 2) := by decide +kernel
set_option maxRecDepth 100000 in
theorem dX12_evaluate_444 : decode cX12_evaluate 444 = .ok (.iaload, 1) := by decide +kernel
set_option maxRecDepth 100000 in
theorem dX12_evaluate_445 : decode cX12_evaluate 445 = .ok (.iaload, 1) := by decide +kernel
set_option maxRecDepth 100000 in
theorem dX12_evaluate_446 : decode cX12_evaluate 446 = .ok (.bipush 51, 2) := by decide +kernel
set_option maxRecDepth 100000 in
theorem dX12_evaluate_448 : decode cX12_evaluate 448 = .ok (.if_icmp .ne 7, 3) := by decide +kernel
set_option maxRecDepth 100000 in
theorem dX12_evaluate_451 : decode cX12_evaluate 451 = .ok (.aload_n 0, 1) := by decide +kernel
set_option maxRecDepth 100000 in
theorem dX12_evaluate_452 : decode cX12_evaluate 452 = .ok (.invokevirtual 1268, 3) := by decide +kernel
set_option maxRecDepth 100000 in
theorem dX12_evaluate_455 : decode cX12_evaluate 455 = .ok (.aload_n 0, 1) := by decide +kernel
set_option maxRecDepth 100000 in
theorem dX12_evaluate_456 : decode cX12_evaluate 456 = .ok (.getfield 1121, 3) := by decide +kernel
set_option maxRecDepth 100000 in
theorem dX12_evaluate_459 : decode cX12_evaluate 459 = .ok (.ifCond .eq 4, 3) := by decide +kernel
set_option maxRecDepth 100000 in
theorem dX12_evaluate_462 : decode cX12_evaluate 462 = .ok (.return_, 1) := by decide +kernel
set_option maxRecDepth 100000 in
theorem dX12_evaluate_463 : decode cX12_evaluate 463 = .ok (.aload_n 0, 1) := by decide +kernel
set_option maxRecDepth 100000 in
theorem dX12_evaluate_464 : decode cX12_evaluate 464 = .ok (.getfield 1265, 3) := by decide +kernel
set_option maxRecDepth 100000 in
theorem dX12_evaluate_467 : decode cX12_evaluate 467 = .ok (.astore 10, 2) := by decide +kernel
set_option maxRecDepth 100000 in
theorem dX12_evaluate_469 : decode cX12_evaluate 469 = .ok (.aload_n 0, 1) := by decide +kernel
set_option maxRecDepth 100000 in
theorem dX12_evaluate_470 : decode cX12_evaluate 470 = .ok (.getfield 1145, 3) := by decide +kernel
set_option maxRecDepth 100000 in
theorem dX12_evaluate_473 : decode cX12_evaluate 473 = .ok (.lstore 11, 2) := by decide +kernel
set_option maxRecDepth 100000 in
theorem dX12_evaluate_475 : decode cX12_evaluate 475 = .ok (.aload_n 0, 1) := by decide +kernel
set_option maxRecDepth 100000 in
theorem dX12_evaluate_476 : decode cX12_evaluate 476 = .ok (.getfield 1148, 3) := by decide +kernel
set_option maxRecDepth 100000 in
theorem dX12_evaluate_479 : decode cX12_evaluate 479 = .ok (.lstore 13, 2) := by decide +kernel
set_option maxRecDepth 100000 in
theorem dX12_evaluate_481 : decode cX12_evaluate 481 = .ok (.aload_n 0, 1) := by decide +kernel
set_option maxRecDepth 100000 in
theorem dX12_evaluate_482 : decode cX12_evaluate 482 = .ok (.getfield 1151, 3) := by decide +kernel
set_option maxRecDepth 100000 in
theorem dX12_evaluate_485 : decode cX12_evaluate 485 = .ok (.dstore 15, 2) := by decide +kernel
set_option maxRecDepth 100000 in
theorem dX12_evaluate_487 : decode cX12_evaluate 487 = .ok (.aload_n 0, 1) := by decide +kernel
set_option maxRecDepth 100000 in
theorem dX12_evaluate_488 : decode cX12_evaluate 488 = .ok (.getfield 79, 3) := by decide +kernel
set_option maxRecDepth 100000 in
theorem dX12_evaluate_491 : decode cX12_evaluate 491 = .ok (.iload 17, 2) := by decide +kernel
set_option maxRecDepth 100000 in
theorem dX12_evaluate_493 : decode cX12_evaluate 493 = .ok (.iaload, 1) := by decide +kernel
set_option maxRecDepth 100000 in
theorem dX12_evaluate_494 : decode cX12_evaluate 494 = .ok (.istore 17, 2) := by decide +kernel
set_option maxRecDepth 100000 in
theorem dX12_evaluate_496 : decode cX12_evaluate 496 = .ok (.goto (-450), 3) := by decide +kernel
set_option maxRecDepth 100000 in
theorem dX12_evaluate_499 : decode cX12_evaluate 499 = .ok (.iload 9, 2) := by decide +kernel
set_option maxRecDepth 100000 in
theorem dX12_evaluate_501 : decode cX12_evaluate 501 = .ok (.aload_n 0, 1) := by decide +kernel
set_option maxRecDepth 100000 in
theorem dX12_evaluate_502 : decode cX12_evaluate 502 = .ok (.getfield 73, 3) := by decide +kernel
set_option maxRecDepth 100000 in
theorem dX12_evaluate_505 : decode cX12_evaluate 505 = .ok (.iload_n 1, 1) := by decide +kernel
set_option maxRecDepth 100000 in
theorem dX12_evaluate_506 : decode cX12_evaluate 506 = .ok (.iaload, 1) := by decide +kernel
set_option maxRecDepth 100000 in
theorem dX12_evaluate_507 : decode cX12_evaluate 507 = .ok (.if_icmp .ne 29, 3) := by decide +kernel
set_option maxRecDepth 100000 in
theorem dX12_evaluate_510 : decode cX12_evaluate 510 = .ok (.aload_n 0, 1) := by decide +kernel
set_option maxRecDepth 100000 in
theorem dX12_evaluate_511 : decode cX12_evaluate 511 = .ok (.getfield 1145, 3) := by decide +kernel
set_option maxRecDepth 100000 in
theorem dX12_evaluate_514 : decode cX12_evaluate 514 = .ok (.lstore_n 2, 1) := by decide +kernel
set_option maxRecDepth 100000 in
theorem dX12_evaluate_515 : decode cX12_evaluate 515 = .ok (.aload_n 0, 1) := by decide +kernel
set_option maxRecDepth 100000 in
theorem dX12_evaluate_516 : decode cX12_evaluate 516 = .ok (.getfield 1148, 3) := by decide +kernel
set_option maxRecDepth 100000 in
theorem dX12_evaluate_519 : decode cX12_evaluate 519 = .ok (.lstore 4, 2) := by decide +kernel
set_option maxRecDepth 100000 in
theorem dX12_evaluate_521 : decode cX12_evaluate 521 = .ok (.aload_n 0, 1) := by decide +kernel
set_option maxRecDepth 100000 in
theorem dX12_evaluate_522 : decode cX12_evaluate 522 = .ok (.getfield 1151, 3) := by decide +kernel
set_option maxRecDepth 100000 in
theorem dX12_evaluate_525 : decode cX12_evaluate 525 = .ok (.dstore 6, 2) := by decide +kernel
set_option maxRecDepth 100000 in
theorem dX12_evaluate_527 : decode cX12_evaluate 527 = .ok (.aload_n 0, 1) := by decide +kernel
set_option maxRecDepth 100000 in
theorem dX12_evaluate_528 : decode cX12_evaluate 528 = .ok (.getfield 1136, 3) := by decide +kernel
set_option maxRecDepth 100000 in
theorem dX12_evaluate_531 : decode cX12_evaluate 531 = .ok (.istore 8, 2) := by decide +kernel
set_option maxRecDepth 100000 in
theorem dX12_evaluate_533 : decode cX12_evaluate 533 = .ok (.goto 38, 3) := by decide +kernel
set_option maxRecDepth 100000 in
theorem dX12_evaluate_536 : decode cX12_evaluate 536 = .ok (.aload_n 0, 1) := by decide +kernel
set_option maxRecDepth 100000 in
theorem dX12_evaluate_537 : decode cX12_evaluate 537 = .ok (.lload_n 2, 1) := by decide +kernel
set_option maxRecDepth 100000 in
theorem dX12_evaluate_538 : decode cX12_evaluate 538 = .ok (.lload 4, 2) := by decide +kernel
set_option maxRecDepth 100000 in
theorem dX12_evaluate_540 : decode cX12_evaluate 540 = .ok (.dload 6, 2) := by decide +kernel
set_option maxRecDepth 100000 in
theorem dX12_evaluate_542 : decode cX12_evaluate 542 = .ok (.iload 8, 2) := by decide +kernel
set_option maxRecDepth 100000 in
theorem dX12_evaluate_544 : decode cX12_evaluate 544 = .ok (.aload_n 0, 1) := by decide +kernel
set_option maxRecDepth 100000 in
theorem dX12_evaluate_545 : decode cX12_evaluate 545 = .ok (.getfield 96, 3) := by decide +kernel
set_option maxRecDepth 100000 in
theorem dX12_evaluate_548 : decode cX12_evaluate 548 = .ok (.aload_n 0, 1) := by decide +kernel
set_option maxRecDepth 100000 in
theorem dX12_evaluate_549 : decode cX12_evaluate 549 = .ok (.getfield 73, 3) := by decide +kernel
set_option maxRecDepth 100000 in
theorem dX12_evaluate_552 : decode cX12_evaluate 552 = .ok (.iload_n 1, 1) := by decide +kernel
set_option maxRecDepth 100000 in
theorem dX12_evaluate_553 : decode cX12_evaluate 553 = .ok (.iaload, 1) := by decide +kernel
set_option maxRecDepth 100000 in
theorem dX12_evaluate_554 : decode cX12_evaluate 554 = .ok (.aaload, 1) := by decide +kernel
set_option maxRecDepth 100000 in
theorem dX12_evaluate_555 : decode cX12_evaluate 555 = .ok (.aload_n 0, 1) := by decide +kernel
set_option maxRecDepth 100000 in
theorem dX12_evaluate_556 : decode cX12_evaluate 556 = .ok (.getfield 96, 3) := by decide +kernel
set_option maxRecDepth 100000 in
theorem dX12_evaluate_559 : decode cX12_evaluate 559 = .ok (.iload 9, 2) := by decide +kernel
set_option maxRecDepth 100000 in
theorem dX12_evaluate_561 : decode cX12_evaluate 561 = .ok (.aaload, 1) := by decide +kernel
set_option maxRecDepth 100000 in
theorem dX12_evaluate_562 : decode cX12_evaluate 562 = .ok (.aload_n 0, 1) := by decide +kernel
set_option maxRecDepth 100000 in
theorem dX12_evaluate_563 : decode cX12_evaluate 563 = .ok (.getfield 82, 3) := by decide +kernel
set_option maxRecDepth 100000 in
theorem dX12_evaluate_566 : decode cX12_evaluate 566 = .ok (.iload_n 1, 1) := by decide +kernel
set_option maxRecDepth 100000 in
theorem dX12_evaluate_567 : decode cX12_evaluate 567 = .ok (.iaload, 1) := by decide +kernel
set_option maxRecDepth 100000 in
theorem dX12_evaluate_568 : decode cX12_evaluate 568 = .ok (.invokevirtual 1271, 3) := by decide +kernel
set_option maxRecDepth 100000 in
theorem dX12_evaluate_571 : decode cX12_evaluate 571 = .ok (.aload_n 0, 1) := by decide +kernel
set_option maxRecDepth 100000 in
theorem dX12_evaluate_572 : decode cX12_evaluate 572 = .ok (.getfield 1121, 3) := by decide +kernel
set_option maxRecDepth 100000 in
theorem dX12_evaluate_575 : decode cX12_evaluate 575 = .ok (.ifCond .eq 4, 3) := by decide +kernel
set_option maxRecDepth 100000 in
theorem dX12_evaluate_578 : decode cX12_evaluate 578 = .ok (.return_, 1) := by decide +kernel
set_option maxRecDepth 100000 in
theorem dX12_evaluate_579 : decode cX12_evaluate 579 = .ok (.aload_n 0, 1) := by decide +kernel
set_option maxRecDepth 100000 in
theorem dX12_evaluate_580 : decode cX12_evaluate 580 = .ok (.getfield 79, 3) := by decide +kernel
set_option maxRecDepth 100000 in
theorem dX12_evaluate_583 : decode cX12_evaluate 583 = .ok (.iload 9, 2) := by decide +kernel
set_option maxRecDepth 100000 in
theorem dX12_evaluate_585 : decode cX12_evaluate 585 = .ok (.iaload, 1) := by decide +kernel
set_option maxRecDepth 100000 in
theorem dX12_evaluate_586 : decode cX12_evaluate 586 = .ok (.istore 9, 2) := by decide +kernel
set_option maxRecDepth 100000 in
theorem dX12_evaluate_588 : decode cX12_evaluate 588 = .ok (.goto (-569), 3) := by decide +kernel
set_option maxRecDepth 100000 in
theorem dX12_evaluate_591 : decode cX12_evaluate 591 = .ok (.return_, 1) := by decide +kernel
def lX12_evaluate_19 (G : xG) (fr lo : Nat) (x0 : Nat) (x1 : Int32) (x2 : Int64) (x4 : Int64) (x6 : UInt64) (x8 : Int32) (x9 : Int32) (h : xH) (Q : Outcome → xH → Prop) : Prop := xP G YX12_evaluate fr lo 19 [(0, rv x0), (1, .int x1), (2, .long x2), (4, .long x4), (6, .double x6), (8, .int x8), (9, .int x9)] [] h Q
def lX12_evaluate_46 (G : xG) (fr lo : Nat) (x0 : Nat) (x1 : Int32) (x2 : Int64) (x4 : Int64) (x6 : UInt64) (x8 : Int32) (x9 : Int32) (x10 : Nat) (x11 : Int64) (x13 : Int64) (x15 : UInt64) (x17 : Int32) (h : xH) (Q : Outcome → xH → Prop) : Prop := xP G YX12_evaluate fr lo 46 [(0, rv x0), (1, .int x1), (2, .long x2), (4, .long x4), (6, .double x6), (8, .int x8), (9, .int x9), (10, rv x10), (11, .long x11), (13, .long x13), (15, .double x15), (17, .int x17)] [] h Q
def lX12_evaluate_73 (G : xG) (fr lo : Nat) (x0 : Nat) (x1 : Int32) (x2 : Int64) (x4 : Int64) (x6 : UInt64) (x8 : Int32) (x9 : Int32) (x10 : Nat) (x11 : Int64) (x13 : Int64) (x15 : UInt64) (x17 : Int32) (x18 : Nat) (x19 : Int64) (x21 : Int64) (x23 : UInt64) (x25 : Int32) (h : xH) (Q : Outcome → xH → Prop) : Prop := xP G YX12_evaluate fr lo 73 [(0, rv x0), (1, .int x1), (2, .long x2), (4, .long x4), (6, .double x6), (8, .int x8), (9, .int x9), (10, rv x10), (11, .long x11), (13, .long x13), (15, .double x15), (17, .int x17), (18, rv x18), (19, .long x19), (21, .long x21), (23, .double x23), (25, .int x25)] [] h Q
set_option maxRecDepth 100000 in
def bX12_evaluate_571 (G : xG) (fr lo : Nat) (x0 : Nat) (x1 : Int32) (x2 : Int64) (x4 : Int64) (x6 : UInt64) (x8 : Int32) (x9 : Int32) (h : xH) (Q : Outcome → xH → Prop) : Prop := tg h x0 = 13 ∧ (((fI h x0 3170) = 0 → tg h (fR h x0 3105) = 100 ∧ vp_in x9 (ln h (fR h x0 3105)) ∧ lX12_evaluate_19 G fr lo x0 x1 x2 x4 x6 x8 (aI h (fR h x0 3105) (Int32.toNatClampNeg x9)) h Q) ∧ (¬ (fI h x0 3170) = 0 → Q (.returned none) h))
set_option maxRecDepth 100000 in
theorem uX12_evaluate_571 {G : xG} {fr lo : Nat} {x0 : Nat} {x1 : Int32} {x2 : Int64} {x4 : Int64} {x6 : UInt64} {x8 : Int32} {x9 : Int32} {h : xH} {Q : Outcome → xH → Prop} (hq : bX12_evaluate_571 G fr lo x0 x1 x2 x4 x6 x8 x9 h Q) : xP G YX12_evaluate fr lo 571 [(0, rv x0), (1, .int x1), (2, .long x2), (4, .long x4), (6, .double x6), (8, .int x8), (9, .int x9)] [] h Q := by
  unfold bX12_evaluate_571 at hq
  refine x_aload_n 0 dX12_evaluate_571 rfl ?_
  obtain ⟨g1, hq⟩ := hq
  refine x_get (v := .int (fI h x0 3170)) fdX12_1121 dX12_evaluate_572 g1 rfl ?_
  refine x_if_eq (tgt := 579) dX12_evaluate_575 (by decide) (fun c2 => ?_) (fun c2 => ?_)
  · replace hq := hq.1 c2
    refine x_aload_n 0 dX12_evaluate_579 rfl ?_
    refine x_get (v := rv (fR h x0 3105)) fdX12_79 dX12_evaluate_580 g1 rfl ?_
    refine x_iload 6 dX12_evaluate_583 rfl ?_
    obtain ⟨g3, hq⟩ := hq
    obtain ⟨i4, hq⟩ := hq
    refine x_iald 0 (Or.inl rfl) g3 i4 dX12_evaluate_585 ?_
    refine x_istore (lv' := [(9, .int (aI h (fR h x0 3105) (Int32.toNatClampNeg x9))), (0, rv x0), (1, .int x1), (2, .long x2), (4, .long x4), (6, .double x6), (8, .int x8)]) dX12_evaluate_586 (by decide) rfl ?_
    refine x_goto (tgt := 19) dX12_evaluate_588 (by decide) ?_
    refine xP.pick (lv' := [(0, rv x0), (1, .int x1), (2, .long x2), (4, .long x4), (6, .double x6), (8, .int x8), (9, .int (aI h (fR h x0 3105) (Int32.toNatClampNeg x9)))]) [1, 2, 3, 4, 5, 6, 0] rfl ?_
    exact hq
  · replace hq := hq.2 c2
    exact x_vret rfl dX12_evaluate_578 hq
set_option maxRecDepth 100000 in
def bX12_evaluate_455 (G : xG) (fr lo : Nat) (x0 : Nat) (x1 : Int32) (x2 : Int64) (x4 : Int64) (x6 : UInt64) (x8 : Int32) (x9 : Int32) (x17 : Int32) (h : xH) (Q : Outcome → xH → Prop) : Prop := tg h x0 = 13 ∧ (((fI h x0 3170) = 0 → tg h (fR h x0 3105) = 100 ∧ vp_in x17 (ln h (fR h x0 3105)) ∧ lX12_evaluate_46 G fr lo x0 x1 x2 x4 x6 x8 x9 (fR h x0 3198) (fJ h x0 3177) (fJ h x0 3178) (fD h x0 3179) (aI h (fR h x0 3105) (Int32.toNatClampNeg x17)) h Q) ∧ (¬ (fI h x0 3170) = 0 → Q (.returned none) h))
set_option maxRecDepth 100000 in
theorem uX12_evaluate_455 {G : xG} {fr lo : Nat} {x0 : Nat} {x1 : Int32} {x2 : Int64} {x4 : Int64} {x6 : UInt64} {x8 : Int32} {x9 : Int32} {x17 : Int32} {h : xH} {Q : Outcome → xH → Prop} (hq : bX12_evaluate_455 G fr lo x0 x1 x2 x4 x6 x8 x9 x17 h Q) : xP G YX12_evaluate fr lo 455 [(0, rv x0), (1, .int x1), (2, .long x2), (4, .long x4), (6, .double x6), (8, .int x8), (9, .int x9), (17, .int x17)] [] h Q := by
  unfold bX12_evaluate_455 at hq
  refine x_aload_n 0 dX12_evaluate_455 rfl ?_
  obtain ⟨g1, hq⟩ := hq
  refine x_get (v := .int (fI h x0 3170)) fdX12_1121 dX12_evaluate_456 g1 rfl ?_
  refine x_if_eq (tgt := 463) dX12_evaluate_459 (by decide) (fun c2 => ?_) (fun c2 => ?_)
  · replace hq := hq.1 c2
    refine x_aload_n 0 dX12_evaluate_463 rfl ?_
    refine x_get (v := rv (fR h x0 3198)) fdX12_1265 dX12_evaluate_464 g1 rfl ?_
    refine x_astore (lv' := [(10, rv (fR h x0 3198)), (0, rv x0), (1, .int x1), (2, .long x2), (4, .long x4), (6, .double x6), (8, .int x8), (9, .int x9), (17, .int x17)]) dX12_evaluate_467 (by decide) rfl ?_
    refine x_aload_n 1 dX12_evaluate_469 rfl ?_
    refine x_get (v := .long (fJ h x0 3177)) fdX12_1145 dX12_evaluate_470 g1 rfl ?_
    refine x_lstore (lv' := [(11, .long (fJ h x0 3177)), (10, rv (fR h x0 3198)), (0, rv x0), (1, .int x1), (2, .long x2), (4, .long x4), (6, .double x6), (8, .int x8), (9, .int x9), (17, .int x17)]) dX12_evaluate_473 (by decide) (by first | rfl | (simp [rv_cat, Value.category]; done) | (simp [rv_cat, Value.category]; decide)) ?_
    refine x_aload_n 2 dX12_evaluate_475 rfl ?_
    refine x_get (v := .long (fJ h x0 3178)) fdX12_1148 dX12_evaluate_476 g1 rfl ?_
    refine x_lstore (lv' := [(13, .long (fJ h x0 3178)), (11, .long (fJ h x0 3177)), (10, rv (fR h x0 3198)), (0, rv x0), (1, .int x1), (2, .long x2), (4, .long x4), (6, .double x6), (8, .int x8), (9, .int x9), (17, .int x17)]) dX12_evaluate_479 (by decide) rfl ?_
    refine x_aload_n 3 dX12_evaluate_481 rfl ?_
    refine x_get (v := .double (fD h x0 3179)) fdX12_1151 dX12_evaluate_482 g1 rfl ?_
    refine x_dstore (lv' := [(15, .double (fD h x0 3179)), (13, .long (fJ h x0 3178)), (11, .long (fJ h x0 3177)), (10, rv (fR h x0 3198)), (0, rv x0), (1, .int x1), (2, .long x2), (4, .long x4), (6, .double x6), (8, .int x8), (9, .int x9), (17, .int x17)]) dX12_evaluate_485 (by decide) rfl ?_
    refine x_aload_n 4 dX12_evaluate_487 rfl ?_
    refine x_get (v := rv (fR h x0 3105)) fdX12_79 dX12_evaluate_488 g1 rfl ?_
    refine x_iload 11 dX12_evaluate_491 rfl ?_
    obtain ⟨g3, hq⟩ := hq
    obtain ⟨i4, hq⟩ := hq
    refine x_iald 0 (Or.inl rfl) g3 i4 dX12_evaluate_493 ?_
    refine x_istore (lv' := [(17, .int (aI h (fR h x0 3105) (Int32.toNatClampNeg x17))), (15, .double (fD h x0 3179)), (13, .long (fJ h x0 3178)), (11, .long (fJ h x0 3177)), (10, rv (fR h x0 3198)), (0, rv x0), (1, .int x1), (2, .long x2), (4, .long x4), (6, .double x6), (8, .int x8), (9, .int x9)]) dX12_evaluate_494 (by decide) rfl ?_
    refine x_goto (tgt := 46) dX12_evaluate_496 (by decide) ?_
    refine xP.pick (lv' := [(0, rv x0), (1, .int x1), (2, .long x2), (4, .long x4), (6, .double x6), (8, .int x8), (9, .int x9), (10, rv (fR h x0 3198)), (11, .long (fJ h x0 3177)), (13, .long (fJ h x0 3178)), (15, .double (fD h x0 3179)), (17, .int (aI h (fR h x0 3105) (Int32.toNatClampNeg x17)))]) [5, 6, 7, 8, 9, 10, 11, 4, 3, 2, 1, 0] rfl ?_
    exact hq
  · replace hq := hq.2 c2
    exact x_vret rfl dX12_evaluate_462 hq
set_option maxRecDepth 100000 in
def bX12_evaluate_350 (G : xG) (fr lo : Nat) (x0 : Nat) (x1 : Int32) (x2 : Int64) (x4 : Int64) (x6 : UInt64) (x8 : Int32) (x9 : Int32) (x10 : Nat) (x11 : Int64) (x13 : Int64) (x15 : UInt64) (x17 : Int32) (x25 : Int32) (h : xH) (Q : Outcome → xH → Prop) : Prop := tg h x0 = 13 ∧ (((fI h x0 3170) = 0 → tg h (fR h x0 3105) = 100 ∧ vp_in x25 (ln h (fR h x0 3105)) ∧ lX12_evaluate_73 G fr lo x0 x1 x2 x4 x6 x8 x9 x10 x11 x13 x15 x17 (fR h x0 3198) (fJ h x0 3177) (fJ h x0 3178) (fD h x0 3179) (aI h (fR h x0 3105) (Int32.toNatClampNeg x25)) h Q) ∧ (¬ (fI h x0 3170) = 0 → Q (.returned none) h))
set_option maxRecDepth 100000 in
theorem uX12_evaluate_350 {G : xG} {fr lo : Nat} {x0 : Nat} {x1 : Int32} {x2 : Int64} {x4 : Int64} {x6 : UInt64} {x8 : Int32} {x9 : Int32} {x10 : Nat} {x11 : Int64} {x13 : Int64} {x15 : UInt64} {x17 : Int32} {x25 : Int32} {h : xH} {Q : Outcome → xH → Prop} (hq : bX12_evaluate_350 G fr lo x0 x1 x2 x4 x6 x8 x9 x10 x11 x13 x15 x17 x25 h Q) : xP G YX12_evaluate fr lo 350 [(0, rv x0), (1, .int x1), (2, .long x2), (4, .long x4), (6, .double x6), (8, .int x8), (9, .int x9), (10, rv x10), (11, .long x11), (13, .long x13), (15, .double x15), (17, .int x17), (25, .int x25)] [] h Q := by
  unfold bX12_evaluate_350 at hq
  refine x_aload_n 0 dX12_evaluate_350 rfl ?_
  obtain ⟨g1, hq⟩ := hq
  refine x_get (v := .int (fI h x0 3170)) fdX12_1121 dX12_evaluate_351 g1 rfl ?_
  refine x_if_eq (tgt := 358) dX12_evaluate_354 (by decide) (fun c2 => ?_) (fun c2 => ?_)
  · replace hq := hq.1 c2
    refine x_aload_n 0 dX12_evaluate_358 rfl ?_
    refine x_get (v := rv (fR h x0 3198)) fdX12_1265 dX12_evaluate_359 g1 rfl ?_
    refine x_astore (lv' := [(18, rv (fR h x0 3198)), (0, rv x0), (1, .int x1), (2, .long x2), (4, .long x4), (6, .double x6), (8, .int x8), (9, .int x9), (10, rv x10), (11, .long x11), (13, .long x13), (15, .double x15), (17, .int x17), (25, .int x25)]) dX12_evaluate_362 (by decide) rfl ?_
    refine x_aload_n 1 dX12_evaluate_364 rfl ?_
    refine x_get (v := .long (fJ h x0 3177)) fdX12_1145 dX12_evaluate_365 g1 rfl ?_
    refine x_lstore (lv' := [(19, .long (fJ h x0 3177)), (18, rv (fR h x0 3198)), (0, rv x0), (1, .int x1), (2, .long x2), (4, .long x4), (6, .double x6), (8, .int x8), (9, .int x9), (10, rv x10), (11, .long x11), (13, .long x13), (15, .double x15), (17, .int x17), (25, .int x25)]) dX12_evaluate_368 (by decide) (by first | rfl | (simp [rv_cat, Value.category]; done) | (simp [rv_cat, Value.category]; decide)) ?_
    refine x_aload_n 2 dX12_evaluate_370 rfl ?_
    refine x_get (v := .long (fJ h x0 3178)) fdX12_1148 dX12_evaluate_371 g1 rfl ?_
    refine x_lstore (lv' := [(21, .long (fJ h x0 3178)), (19, .long (fJ h x0 3177)), (18, rv (fR h x0 3198)), (0, rv x0), (1, .int x1), (2, .long x2), (4, .long x4), (6, .double x6), (8, .int x8), (9, .int x9), (10, rv x10), (11, .long x11), (13, .long x13), (15, .double x15), (17, .int x17), (25, .int x25)]) dX12_evaluate_374 (by decide) rfl ?_
    refine x_aload_n 3 dX12_evaluate_376 rfl ?_
    refine x_get (v := .double (fD h x0 3179)) fdX12_1151 dX12_evaluate_377 g1 rfl ?_
    refine x_dstore (lv' := [(23, .double (fD h x0 3179)), (21, .long (fJ h x0 3178)), (19, .long (fJ h x0 3177)), (18, rv (fR h x0 3198)), (0, rv x0), (1, .int x1), (2, .long x2), (4, .long x4), (6, .double x6), (8, .int x8), (9, .int x9), (10, rv x10), (11, .long x11), (13, .long x13), (15, .double x15), (17, .int x17), (25, .int x25)]) dX12_evaluate_380 (by decide) rfl ?_
    refine x_aload_n 4 dX12_evaluate_382 rfl ?_
    refine x_get (v := rv (fR h x0 3105)) fdX12_79 dX12_evaluate_383 g1 rfl ?_
    refine x_iload 16 dX12_evaluate_386 rfl ?_
    obtain ⟨g3, hq⟩ := hq
    obtain ⟨i4, hq⟩ := hq
    refine x_iald 0 (Or.inl rfl) g3 i4 dX12_evaluate_388 ?_
    refine x_istore (lv' := [(25, .int (aI h (fR h x0 3105) (Int32.toNatClampNeg x25))), (23, .double (fD h x0 3179)), (21, .long (fJ h x0 3178)), (19, .long (fJ h x0 3177)), (18, rv (fR h x0 3198)), (0, rv x0), (1, .int x1), (2, .long x2), (4, .long x4), (6, .double x6), (8, .int x8), (9, .int x9), (10, rv x10), (11, .long x11), (13, .long x13), (15, .double x15), (17, .int x17)]) dX12_evaluate_389 (by decide) rfl ?_
    refine x_goto (tgt := 73) dX12_evaluate_391 (by decide) ?_
    refine xP.pick (lv' := [(0, rv x0), (1, .int x1), (2, .long x2), (4, .long x4), (6, .double x6), (8, .int x8), (9, .int x9), (10, rv x10), (11, .long x11), (13, .long x13), (15, .double x15), (17, .int x17), (18, rv (fR h x0 3198)), (19, .long (fJ h x0 3177)), (21, .long (fJ h x0 3178)), (23, .double (fD h x0 3179)), (25, .int (aI h (fR h x0 3105) (Int32.toNatClampNeg x25)))]) [5, 6, 7, 8, 9, 10, 11, 12, 13, 14, 15, 16, 4, 3, 2, 1, 0] rfl ?_
    exact hq
  · replace hq := hq.2 c2
    exact x_vret rfl dX12_evaluate_357 hq
set_option maxRecDepth 100000 in
def bX12_evaluate_297 (G : xG) (fr lo : Nat) (x0 : Nat) (x1 : Int32) (x2 : Int64) (x4 : Int64) (x6 : UInt64) (x8 : Int32) (x9 : Int32) (x10 : Nat) (x11 : Int64) (x13 : Int64) (x15 : UInt64) (x17 : Int32) (x18 : Nat) (x19 : Int64) (x21 : Int64) (x23 : UInt64) (x25 : Int32) (h : xH) (Q : Outcome → xH → Prop) : Prop := tg h x0 = 13 ∧ (((fI h x0 3170) = 0 → ((x18 = 0 → tg h (fR h x0 3113) = 108 ∧ vp_in x25 (ln h (fR h x0 3113)) ∧ (∀ h6 : xH, h6 = sR h x0 3198 (aR h (fR h x0 3113) (Int32.toNatClampNeg x25)) → bX12_evaluate_350 G fr lo x0 x1 x2 x4 x6 x8 x9 x10 x11 x13 x15 x17 x25 h6 Q)) ∧ (¬ x18 = 0 → tg h (fR h x0 3113) = 108 ∧ vp_in x25 (ln h (fR h x0 3113)) ∧ tg h (fR h x0 3108) = 100 ∧ vp_in x25 (ln h (fR h x0 3108)) ∧ 1 ≤ fr ∧ 27 ≤ lo ∧ xRv G YX12_operate (fr - 1) (lo - 27) [rv x0, .long x19, .long x21, .double x23, rv x18, rv (aR h (fR h x0 3113) (Int32.toNatClampNeg x25)), .int (aI h (fR h x0 3108) (Int32.toNatClampNeg x25))] h (fun h14 => xext h h14 → bX12_evaluate_350 G fr lo x0 x1 x2 x4 x6 x8 x9 x10 x11 x13 x15 x17 x25 h14 Q) (fun r h2 => Q (.threw r) h2)))) ∧ (¬ (fI h x0 3170) = 0 → Q (.returned none) h))
set_option maxRecDepth 100000 in
theorem uX12_evaluate_297 {G : xG} {fr lo : Nat} {x0 : Nat} {x1 : Int32} {x2 : Int64} {x4 : Int64} {x6 : UInt64} {x8 : Int32} {x9 : Int32} {x10 : Nat} {x11 : Int64} {x13 : Int64} {x15 : UInt64} {x17 : Int32} {x18 : Nat} {x19 : Int64} {x21 : Int64} {x23 : UInt64} {x25 : Int32} {h : xH} {Q : Outcome → xH → Prop} (hq : bX12_evaluate_297 G fr lo x0 x1 x2 x4 x6 x8 x9 x10 x11 x13 x15 x17 x18 x19 x21 x23 x25 h Q) : xP G YX12_evaluate fr lo 297 [(0, rv x0), (1, .int x1), (2, .long x2), (4, .long x4), (6, .double x6), (8, .int x8), (9, .int x9), (10, rv x10), (11, .long x11), (13, .long x13), (15, .double x15), (17, .int x17), (18, rv x18), (19, .long x19), (21, .long x21), (23, .double x23), (25, .int x25)] [] h Q := by
  unfold bX12_evaluate_297 at hq
  refine x_aload_n 0 dX12_evaluate_297 rfl ?_
  obtain ⟨g1, hq⟩ := hq
  refine x_get (v := .int (fI h x0 3170)) fdX12_1121 dX12_evaluate_298 g1 rfl ?_
  refine x_if_eq (tgt := 305) dX12_evaluate_301 (by decide) (fun c2 => ?_) (fun c2 => ?_)
  · replace hq := hq.1 c2
    refine x_aload 12 dX12_evaluate_305 rfl ?_
    refine x_ifnull (tgt := 339) dX12_evaluate_307 (by decide) (fun c3 => ?_) (fun c3 => ?_)
    · replace hq := hq.1 c3
      refine x_aload_n 0 dX12_evaluate_339 rfl ?_
      refine x_aload_n 0 dX12_evaluate_340 rfl ?_
      refine x_get (v := rv (fR h x0 3113)) fdX12_96 dX12_evaluate_341 g1 rfl ?_
      refine x_iload 16 dX12_evaluate_344 rfl ?_
      obtain ⟨g4, hq⟩ := hq
      obtain ⟨i5, hq⟩ := hq
      refine x_aald 8 rfl g4 (by decide) i5 dX12_evaluate_346 ?_
      obtain ⟨h6, e7⟩ : ∃ y, y = sR h x0 3198 (aR h (fR h x0 3113) (Int32.toNatClampNeg x25)) := ⟨_, rfl⟩
      replace hq := hq h6 e7
      refine x_putR fdX12_1265 xty_O dX12_evaluate_347 g1 (Or.inl (by rw [g1]; rfl)) rfl e7 ?_
      refine xP.pick (lv' := [(0, rv x0), (1, .int x1), (2, .long x2), (4, .long x4), (6, .double x6), (8, .int x8), (9, .int x9), (10, rv x10), (11, .long x11), (13, .long x13), (15, .double x15), (17, .int x17), (25, .int x25)]) [0, 1, 2, 3, 4, 5, 6, 7, 8, 9, 10, 11, 16] rfl ?_
      exact uX12_evaluate_350 hq
    · replace hq := hq.2 c3
      refine x_aload_n 0 dX12_evaluate_310 rfl ?_
      refine x_lload 13 dX12_evaluate_311 rfl ?_
      refine x_lload 14 dX12_evaluate_313 rfl ?_
      refine x_dload 15 dX12_evaluate_315 rfl ?_
      refine x_aload 12 dX12_evaluate_317 rfl ?_
      refine x_aload_n 0 dX12_evaluate_319 rfl ?_
      refine x_get (v := rv (fR h x0 3113)) fdX12_96 dX12_evaluate_320 g1 rfl ?_
      refine x_iload 16 dX12_evaluate_323 rfl ?_
      obtain ⟨g8, hq⟩ := hq
      obtain ⟨i9, hq⟩ := hq
      refine x_aald 8 rfl g8 (by decide) i9 dX12_evaluate_325 ?_
      refine x_aload_n 0 dX12_evaluate_326 rfl ?_
      refine x_get (v := rv (fR h x0 3108)) fdX12_88 dX12_evaluate_327 g1 rfl ?_
      refine x_iload 16 dX12_evaluate_330 rfl ?_
      obtain ⟨g10, hq⟩ := hq
      obtain ⟨i11, hq⟩ := hq
      refine x_iald 0 (Or.inl rfl) g10 i11 dX12_evaluate_332 ?_
      obtain ⟨g12, g13, hq⟩ := hq
      refine x_callV (Yc := YX12_operate) (as := [.long x19, .long x21, .double x23, rv x18, rv (aR h (fR h x0 3113) (Int32.toNatClampNeg x25)), .int (aI h (fR h x0 3108) (Int32.toNatClampNeg x25))]) (st := []) q4663 mvX12_operate g1 rfl dX12_evaluate_333 (xle (xal1 (rv_cat _) (xal2 rfl (xal2 rfl (xal2 rfl (xal1 (rv_cat _) (xal1 (rv_cat _) (xal1 rfl xal0))))))) (by decide)) (xfr g12) (xlo xsw0 (by decide) g13) (xKv hq (fun h14 hq e16 => ?_) (fun _ _ q _ => q))
      replace hq := hq e16
      refine x_goto (tgt := 350) dX12_evaluate_336 (by decide) ?_
      refine xP.pick (lv' := [(0, rv x0), (1, .int x1), (2, .long x2), (4, .long x4), (6, .double x6), (8, .int x8), (9, .int x9), (10, rv x10), (11, .long x11), (13, .long x13), (15, .double x15), (17, .int x17), (25, .int x25)]) [0, 1, 2, 3, 4, 5, 6, 7, 8, 9, 10, 11, 16] rfl ?_
      exact uX12_evaluate_350 hq
  · replace hq := hq.2 c2
    exact x_vret rfl dX12_evaluate_304 hq
set_option maxRecDepth 100000 in
def bX12_evaluate_244 (G : xG) (fr lo : Nat) (x0 : Nat) (x1 : Int32) (x2 : Int64) (x4 : Int64) (x6 : UInt64) (x8 : Int32) (x9 : Int32) (x10 : Nat) (x11 : Int64) (x13 : Int64) (x15 : UInt64) (x17 : Int32) (x18 : Nat) (x19 : Int64) (x21 : Int64) (x23 : UInt64) (x25 : Int32) (h : xH) (Q : Outcome → xH → Prop) : Prop := tg h x0 = 13 ∧ 1 ≤ fr ∧ 17 ≤ lo ∧ xRv G YX12_find1 (fr - 1) (lo - 17) [rv x0, .int x25] h (fun h4 => xext h h4 → ((¬ (fI h4 x0 3170) = 0 → bX12_evaluate_297 G fr lo x0 x1 x2 x4 x6 x8 x9 x10 x11 x13 x15 x17 x18 x19 x21 x23 x25 h4 Q) ∧ ((fI h4 x0 3170) = 0 → tg h4 (fR h4 x0 3113) = 108 ∧ vp_in x25 (ln h4 (fR h4 x0 3113)) ∧ tg h4 (fR h4 x0 3102) = 100 ∧ vp_in x25 (ln h4 (fR h4 x0 3102)) ∧ 1 ≤ fr ∧ 15 ≤ lo ∧ xRv G YX12_load (fr - 1) (lo - 15) [rv x0, .int (fI h4 x0 3181), rv (aR h4 (fR h4 x0 3113) (Int32.toNatClampNeg x25)), .int (aI h4 (fR h4 x0 3102) (Int32.toNatClampNeg x25))] h4 (fun h15 => xext h4 h15 → bX12_evaluate_297 G fr lo x0 x1 x2 x4 x6 x8 x9 x10 x11 x13 x15 x17 x18 x19 x21 x23 x25 h15 Q) (fun r h2 => Q (.threw r) h2)))) (fun r h2 => Q (.threw r) h2)
set_option maxRecDepth 100000 in
theorem uX12_evaluate_244 {G : xG} {fr lo : Nat} {x0 : Nat} {x1 : Int32} {x2 : Int64} {x4 : Int64} {x6 : UInt64} {x8 : Int32} {x9 : Int32} {x10 : Nat} {x11 : Int64} {x13 : Int64} {x15 : UInt64} {x17 : Int32} {x18 : Nat} {x19 : Int64} {x21 : Int64} {x23 : UInt64} {x25 : Int32} {h : xH} {Q : Outcome → xH → Prop} (hq : bX12_evaluate_244 G fr lo x0 x1 x2 x4 x6 x8 x9 x10 x11 x13 x15 x17 x18 x19 x21 x23 x25 h Q) : xP G YX12_evaluate fr lo 244 [(0, rv x0), (1, .int x1), (2, .long x2), (4, .long x4), (6, .double x6), (8, .int x8), (9, .int x9), (10, rv x10), (11, .long x11), (13, .long x13), (15, .double x15), (17, .int x17), (18, rv x18), (19, .long x19), (21, .long x21), (23, .double x23), (25, .int x25)] [] h Q := by
  unfold bX12_evaluate_244 at hq
  refine x_aload_n 0 dX12_evaluate_244 rfl ?_
  refine x_iload 16 dX12_evaluate_245 rfl ?_
  obtain ⟨g1, hq⟩ := hq
  obtain ⟨g2, g3, hq⟩ := hq
  refine x_callV (Yc := YX12_find1) (as := [.int x25]) (st := []) q4615 mvX12_find1 g1 rfl dX12_evaluate_247 (xle (xal1 (rv_cat _) (xal1 rfl xal0)) (by decide)) (xfr g2) (xlo xsw0 (by decide) g3) (xKv hq (fun h4 hq e6 => ?_) (fun _ _ q _ => q))
  replace hq := hq e6
  refine x_aload_n 0 dX12_evaluate_250 rfl ?_
  have t7 : tg h4 x0 = 13 := e6.tg g1 (by decide)
  refine x_get (v := .int (fI h4 x0 3170)) fdX12_1121 dX12_evaluate_251 t7 rfl ?_
  refine x_if_ne (tgt := 297) dX12_evaluate_254 (by decide) (fun c8 => ?_) (fun c8 => ?_)
  · replace hq := hq.1 c8
    exact uX12_evaluate_297 hq
  · replace hq := hq.2 c8
    refine x_aload_n 0 dX12_evaluate_257 rfl ?_
    refine x_aload_n 0 dX12_evaluate_258 rfl ?_
    refine x_get (v := .int (fI h4 x0 3181)) fdX12_1236 dX12_evaluate_259 t7 rfl ?_
    refine x_aload_n 0 dX12_evaluate_262 rfl ?_
    refine x_get (v := rv (fR h4 x0 3113)) fdX12_96 dX12_evaluate_263 t7 rfl ?_
    refine x_iload 16 dX12_evaluate_266 rfl ?_
    obtain ⟨g9, hq⟩ := hq
    obtain ⟨i10, hq⟩ := hq
    refine x_aald 8 rfl g9 (by decide) i10 dX12_evaluate_268 ?_
    refine x_aload_n 0 dX12_evaluate_269 rfl ?_
    refine x_get (v := rv (fR h4 x0 3102)) fdX12_70 dX12_evaluate_270 t7 rfl ?_
    refine x_iload 16 dX12_evaluate_273 rfl ?_
    obtain ⟨g11, hq⟩ := hq
    obtain ⟨i12, hq⟩ := hq
    refine x_iald 0 (Or.inl rfl) g11 i12 dX12_evaluate_275 ?_
    obtain ⟨g13, g14, hq⟩ := hq
    refine x_callV (Yc := YX12_load) (as := [.int (fI h4 x0 3181), rv (aR h4 (fR h4 x0 3113) (Int32.toNatClampNeg x25)), .int (aI h4 (fR h4 x0 3102) (Int32.toNatClampNeg x25))]) (st := []) q4651 mvX12_load t7 rfl dX12_evaluate_276 (xle (xal1 (rv_cat _) (xal1 rfl (xal1 (rv_cat _) (xal1 rfl xal0)))) (by decide)) (xfr g13) (xlo xsw0 (by decide) g14) (xKv hq (fun h15 hq e17 => ?_) (fun _ _ q _ => q))
    replace hq := hq e17
    refine x_goto (tgt := 297) dX12_evaluate_279 (by decide) ?_
    exact uX12_evaluate_297 hq
set_option maxRecDepth 100000 in
def bX12_evaluate_73 (G : xG) (fr lo : Nat) (x0 : Nat) (x1 : Int32) (x2 : Int64) (x4 : Int64) (x6 : UInt64) (x8 : Int32) (x9 : Int32) (x10 : Nat) (x11 : Int64) (x13 : Int64) (x15 : UInt64) (x17 : Int32) (x18 : Nat) (x19 : Int64) (x21 : Int64) (x23 : UInt64) (x25 : Int32) (h : xH) (Q : Outcome → xH → Prop) : Prop := ((x25 = (-1) → ((x10 = 0 → tg h x0 = 13 ∧ tg h (fR h x0 3106) = 100 ∧ vp_in x9 (ln h (fR h x0 3106)) ∧ (((aI h (fR h x0 3106) (Int32.toNatClampNeg x9)) = (-1) → bX12_evaluate_455 G fr lo x0 x1 x2 x4 x6 x8 x9 x17 h Q) ∧ (¬ (aI h (fR h x0 3106) (Int32.toNatClampNeg x9)) = (-1) → vp_in x9 (ln h (fR h x0 3106)) ∧ tg h (fR h x0 3082) = 100 ∧ vp_in (aI h (fR h x0 3106) (Int32.toNatClampNeg x9)) (ln h (fR h x0 3082)) ∧ ((¬ (aI h (fR h x0 3082) (Int32.toNatClampNeg (aI h (fR h x0 3106) (Int32.toNatClampNeg x9)))) = 51 → bX12_evaluate_455 G fr lo x0 x1 x2 x4 x6 x8 x9 x17 h Q) ∧ ((aI h (fR h x0 3082) (Int32.toNatClampNeg (aI h (fR h x0 3106) (Int32.toNatClampNeg x9)))) = 51 → 1 ≤ fr ∧ 12 ≤ lo ∧ xRv G YX12_negate (fr - 1) (lo - 12) [rv x0] h (fun h13 => xext h h13 → bX12_evaluate_455 G fr lo x0 x1 x2 x4 x6 x8 x9 x17 h13 Q) (fun r h2 => Q (.threw r) h2)))))) ∧ (¬ x10 = 0 → tg h x0 = 13 ∧ tg h (fR h x0 3108) = 100 ∧ vp_in x17 (ln h (fR h x0 3108)) ∧ 1 ≤ fr ∧ 27 ≤ lo ∧ xRv G YX12_operate (fr - 1) (lo - 27) [rv x0, .long x11, .long x13, .double x15, rv x10, rv x18, .int (aI h (fR h x0 3108) (Int32.toNatClampNeg x17))] h (fun h21 => xext h h21 → bX12_evaluate_455 G fr lo x0 x1 x2 x4 x6 x8 x9 x17 h21 Q) (fun r h2 => Q (.threw r) h2)))) ∧ (¬ x25 = (-1) → tg h x0 = 13 ∧ tg h (fR h x0 3101) = 100 ∧ vp_in x25 (ln h (fR h x0 3101)) ∧ (((aI h (fR h x0 3101) (Int32.toNatClampNeg x25)) = 57 → tg h (fR h x0 3103) = 100 ∧ vp_in x25 (ln h (fR h x0 3103)) ∧ 1 ≤ fr ∧ 37 ≤ lo ∧ xRv G YX12_evaluate (fr - 1) (lo - 37) [rv x0, .int (aI h (fR h x0 3103) (Int32.toNatClampNeg x25))] h (fun h32 => xext h h32 → bX12_evaluate_297 G fr lo x0 x1 x2 x4 x6 x8 x9 x10 x11 x13 x15 x17 x18 x19 x21 x23 x25 h32 Q) (fun r h2 => Q (.threw r) h2)) ∧ ((aI h (fR h x0 3101) (Int32.toNatClampNeg x25)) = 58 → 1 ≤ fr ∧ 14 ≤ lo ∧ xRv G YX12_factor (fr - 1) (lo - 14) [rv x0, .int x25] h (fun h38 => xext h h38 → bX12_evaluate_297 G fr lo x0 x1 x2 x4 x6 x8 x9 x10 x11 x13 x15 x17 x18 x19 x21 x23 x25 h38 Q) (fun r h2 => Q (.threw r) h2)) ∧ ((aI h (fR h x0 3101) (Int32.toNatClampNeg x25)) = 59 → 1 ≤ fr ∧ 23 ≤ lo ∧ xRv G YX12_members (fr - 1) (lo - 23) [rv x0, .int x25] h (fun h44 => xext h h44 → bX12_evaluate_297 G fr lo x0 x1 x2 x4 x6 x8 x9 x10 x11 x13 x15 x17 x18 x19 x21 x23 x25 h44 Q) (fun r h2 => Q (.threw r) h2)) ∧ ((aI h (fR h x0 3101) (Int32.toNatClampNeg x25)) = 60 → tg h (fR h x0 3114) = 109 ∧ vp_in x25 (ln h (fR h x0 3114)) ∧ tg h (aR h (fR h x0 3114) (Int32.toNatClampNeg x25)) = 24 ∧ (((fI h (aR h (fR h x0 3114) (Int32.toNatClampNeg x25)) 5903) ≤ 0 → vp_in x25 (ln h (fR h x0 3114)) ∧ tg h (fR h x0 3103) = 100 ∧ vp_in x25 (ln h (fR h x0 3103)) ∧ tg h (fR h x0 3102) = 100 ∧ vp_in x25 (ln h (fR h x0 3102)) ∧ 1 ≤ fr ∧ 24 ≤ lo ∧ xRv G YX12_call (fr - 1) (lo - 24) [rv x0, rv (aR h (fR h x0 3114) (Int32.toNatClampNeg x25)), .int (aI h (fR h x0 3103) (Int32.toNatClampNeg x25)), .int 0, .int (aI h (fR h x0 3102) (Int32.toNatClampNeg x25))] h (fun h59 => xext h h59 → bX12_evaluate_297 G fr lo x0 x1 x2 x4 x6 x8 x9 x10 x11 x13 x15 x17 x18 x19 x21 x23 x25 h59 Q) (fun r h2 => Q (.threw r) h2)) ∧ (¬ (fI h (aR h (fR h x0 3114) (Int32.toNatClampNeg x25)) 5903) ≤ 0 → vp_in x25 (ln h (fR h x0 3114)) ∧ tg h (fR h x0 3103) = 100 ∧ vp_in x25 (ln h (fR h x0 3103)) ∧ tg h (fR h x0 3102) = 100 ∧ vp_in x25 (ln h (fR h x0 3102)) ∧ 1 ≤ fr ∧ 17 ≤ lo ∧ xRv G YX12_there (fr - 1) (lo - 17) [rv x0, .int (fI h (aR h (fR h x0 3114) (Int32.toNatClampNeg x25)) 5903), .int (aI h (fR h x0 3103) (Int32.toNatClampNeg x25)), .int (aI h (fR h x0 3102) (Int32.toNatClampNeg x25))] h (fun h69 => xext h h69 → bX12_evaluate_297 G fr lo x0 x1 x2 x4 x6 x8 x9 x10 x11 x13 x15 x17 x18 x19 x21 x23 x25 h69 Q) (fun r h2 => Q (.threw r) h2)))) ∧ ((aI h (fR h x0 3101) (Int32.toNatClampNeg x25)) = 61 → tg h (fR h x0 3114) = 109 ∧ vp_in x25 (ln h (fR h x0 3114)) ∧ tg h (aR h (fR h x0 3114) (Int32.toNatClampNeg x25)) = 24 ∧ (((fI h (aR h (fR h x0 3114) (Int32.toNatClampNeg x25)) 5888) = 3 → bX12_evaluate_244 G fr lo x0 x1 x2 x4 x6 x8 x9 x10 x11 x13 x15 x17 x18 x19 x21 x23 x25 h Q) ∧ (¬ (fI h (aR h (fR h x0 3114) (Int32.toNatClampNeg x25)) 5888) = 3 → vp_in x25 (ln h (fR h x0 3114)) ∧ ((¬ (fI h (aR h (fR h x0 3114) (Int32.toNatClampNeg x25)) 5888) = 4 → 1 ≤ fr ∧ 14 ≤ lo ∧ xRv G YX12_meant (fr - 1) (lo - 14) [rv x0, .int x25] h (fun h81 => xext h h81 → bX12_evaluate_297 G fr lo x0 x1 x2 x4 x6 x8 x9 x10 x11 x13 x15 x17 x18 x19 x21 x23 x25 h81 Q) (fun r h2 => Q (.threw r) h2)) ∧ ((fI h (aR h (fR h x0 3114) (Int32.toNatClampNeg x25)) 5888) = 4 → bX12_evaluate_244 G fr lo x0 x1 x2 x4 x6 x8 x9 x10 x11 x13 x15 x17 x18 x19 x21 x23 x25 h Q))))) ∧ (¬ (aI h (fR h x0 3101) (Int32.toNatClampNeg x25)) = 57 → ¬ (aI h (fR h x0 3101) (Int32.toNatClampNeg x25)) = 58 → ¬ (aI h (fR h x0 3101) (Int32.toNatClampNeg x25)) = 59 → ¬ (aI h (fR h x0 3101) (Int32.toNatClampNeg x25)) = 60 → ¬ (aI h (fR h x0 3101) (Int32.toNatClampNeg x25)) = 61 → 1 ≤ fr ∧ 14 ≤ lo ∧ xRv G YX12_factor (fr - 1) (lo - 14) [rv x0, .int x25] h (fun h86 => xext h h86 → bX12_evaluate_297 G fr lo x0 x1 x2 x4 x6 x8 x9 x10 x11 x13 x15 x17 x18 x19 x21 x23 x25 h86 Q) (fun r h2 => Q (.threw r) h2)))))
set_option maxRecDepth 100000 in
theorem uX12_evaluate_73 {G : xG} {fr lo : Nat} {x0 : Nat} {x1 : Int32} {x2 : Int64} {x4 : Int64} {x6 : UInt64} {x8 : Int32} {x9 : Int32} {x10 : Nat} {x11 : Int64} {x13 : Int64} {x15 : UInt64} {x17 : Int32} {x18 : Nat} {x19 : Int64} {x21 : Int64} {x23 : UInt64} {x25 : Int32} {h : xH} {Q : Outcome → xH → Prop} (hq : bX12_evaluate_73 G fr lo x0 x1 x2 x4 x6 x8 x9 x10 x11 x13 x15 x17 x18 x19 x21 x23 x25 h Q) : xP G YX12_evaluate fr lo 73 [(0, rv x0), (1, .int x1), (2, .long x2), (4, .long x4), (6, .double x6), (8, .int x8), (9, .int x9), (10, rv x10), (11, .long x11), (13, .long x13), (15, .double x15), (17, .int x17), (18, rv x18), (19, .long x19), (21, .long x21), (23, .double x23), (25, .int x25)] [] h Q := by
  unfold bX12_evaluate_73 at hq
  refine x_iload 16 dX12_evaluate_73 rfl ?_
  refine x_iconst (v := (-1)) dX12_evaluate_75 (by decide) ?_
  refine x_icmp_eq (tgt := 394) dX12_evaluate_76 (by decide) (fun c1 => ?_) (fun c1 => ?_)
  · replace hq := hq.1 c1
    refine x_aload 7 dX12_evaluate_394 rfl ?_
    refine x_ifnull (tgt := 423) dX12_evaluate_396 (by decide) (fun c2 => ?_) (fun c2 => ?_)
    · replace hq := hq.1 c2
      refine x_aload_n 0 dX12_evaluate_423 rfl ?_
      obtain ⟨g3, hq⟩ := hq
      refine x_get (v := rv (fR h x0 3106)) fdX12_82 dX12_evaluate_424 g3 rfl ?_
      refine x_iload 6 dX12_evaluate_427 rfl ?_
      obtain ⟨g4, hq⟩ := hq
      obtain ⟨i5, hq⟩ := hq
      refine x_iald 0 (Or.inl rfl) g4 i5 dX12_evaluate_429 ?_
      refine x_iconst (v := (-1)) dX12_evaluate_430 (by decide) ?_
      refine x_icmp_eq (tgt := 455) dX12_evaluate_431 (by decide) (fun c6 => ?_) (fun c6 => ?_)
      · replace hq := hq.1 c6
        refine xP.pick (lv' := [(0, rv x0), (1, .int x1), (2, .long x2), (4, .long x4), (6, .double x6), (8, .int x8), (9, .int x9), (17, .int x17)]) [0, 1, 2, 3, 4, 5, 6, 11] rfl ?_
        exact uX12_evaluate_455 hq
      · replace hq := hq.2 c6
        refine x_aload_n 0 dX12_evaluate_434 rfl ?_
        refine x_get (v := rv (fR h x0 3082)) fdX12_26 dX12_evaluate_435 g3 rfl ?_
        refine x_aload_n 0 dX12_evaluate_438 rfl ?_
        refine x_get (v := rv (fR h x0 3106)) fdX12_82 dX12_evaluate_439 g3 rfl ?_
        refine x_iload 6 dX12_evaluate_442 rfl ?_
        obtain ⟨i7, hq⟩ := hq
        refine x_iald 0 (Or.inl rfl) g4 i7 dX12_evaluate_444 ?_
        obtain ⟨g8, hq⟩ := hq
        obtain ⟨i9, hq⟩ := hq
        refine x_iald 0 (Or.inl rfl) g8 i9 dX12_evaluate_445 ?_
        refine x_bipush (v := 51) dX12_evaluate_446 (by decide) ?_
        refine x_icmp_ne (tgt := 455) dX12_evaluate_448 (by decide) (fun c10 => ?_) (fun c10 => ?_)
        · replace hq := hq.1 c10
          refine xP.pick (lv' := [(0, rv x0), (1, .int x1), (2, .long x2), (4, .long x4), (6, .double x6), (8, .int x8), (9, .int x9), (17, .int x17)]) [0, 1, 2, 3, 4, 5, 6, 11] rfl ?_
          exact uX12_evaluate_455 hq
        · replace hq := hq.2 c10
          refine x_aload_n 0 dX12_evaluate_451 rfl ?_
          obtain ⟨g11, g12, hq⟩ := hq
          refine x_callV (Yc := YX12_negate) (as := []) (st := []) q4672 mvX12_negate g3 rfl dX12_evaluate_452 (xle (xal1 (rv_cat _) xal0) (by decide)) (xfr g11) (xlo xsw0 (by decide) g12) (xKv hq (fun h13 hq e15 => ?_) (fun _ _ q _ => q))
          replace hq := hq e15
          refine xP.pick (lv' := [(0, rv x0), (1, .int x1), (2, .long x2), (4, .long x4), (6, .double x6), (8, .int x8), (9, .int x9), (17, .int x17)]) [0, 1, 2, 3, 4, 5, 6, 11] rfl ?_
          exact uX12_evaluate_455 hq
    · replace hq := hq.2 c2
      refine x_aload_n 0 dX12_evaluate_399 rfl ?_
      refine x_lload 8 dX12_evaluate_400 rfl ?_
      refine x_lload 9 dX12_evaluate_402 rfl ?_
      refine x_dload 10 dX12_evaluate_404 rfl ?_
      refine x_aload 7 dX12_evaluate_406 rfl ?_
      refine x_aload 12 dX12_evaluate_408 rfl ?_
      refine x_aload_n 0 dX12_evaluate_410 rfl ?_
      obtain ⟨g16, hq⟩ := hq
      refine x_get (v := rv (fR h x0 3108)) fdX12_88 dX12_evaluate_411 g16 rfl ?_
      refine x_iload 11 dX12_evaluate_414 rfl ?_
      obtain ⟨g17, hq⟩ := hq
      obtain ⟨i18, hq⟩ := hq
      refine x_iald 0 (Or.inl rfl) g17 i18 dX12_evaluate_416 ?_
      obtain ⟨g19, g20, hq⟩ := hq
      refine x_callV (Yc := YX12_operate) (as := [.long x11, .long x13, .double x15, rv x10, rv x18, .int (aI h (fR h x0 3108) (Int32.toNatClampNeg x17))]) (st := []) q4663 mvX12_operate g16 rfl dX12_evaluate_417 (xle (xal1 (rv_cat _) (xal2 rfl (xal2 rfl (xal2 rfl (xal1 (rv_cat _) (xal1 (rv_cat _) (xal1 rfl xal0))))))) (by decide)) (xfr g19) (xlo xsw0 (by decide) g20) (xKv hq (fun h21 hq e23 => ?_) (fun _ _ q _ => q))
      replace hq := hq e23
      refine x_goto (tgt := 455) dX12_evaluate_420 (by decide) ?_
      refine xP.pick (lv' := [(0, rv x0), (1, .int x1), (2, .long x2), (4, .long x4), (6, .double x6), (8, .int x8), (9, .int x9), (17, .int x17)]) [0, 1, 2, 3, 4, 5, 6, 11] rfl ?_
      exact uX12_evaluate_455 hq
  · replace hq := hq.2 c1
    refine x_aload_n 0 dX12_evaluate_79 rfl ?_
    obtain ⟨g24, hq⟩ := hq
    refine x_get (v := rv (fR h x0 3101)) fdX12_67 dX12_evaluate_80 g24 rfl ?_
    refine x_iload 16 dX12_evaluate_83 rfl ?_
    obtain ⟨g25, hq⟩ := hq
    obtain ⟨i26, hq⟩ := hq
    refine x_iald 0 (Or.inl rfl) g25 i26 dX12_evaluate_85 ?_
    by_cases c27 : (aI h (fR h x0 3101) (Int32.toNatClampNeg x25)) = 57
    · replace hq := hq.1 c27
      refine x_tin (tgt := 120) (off := 34) 57 c27 dX12_evaluate_86 (by decide) (by decide) (by decide) (by decide) ?_
      refine x_aload_n 0 dX12_evaluate_120 rfl ?_
      refine x_aload_n 0 dX12_evaluate_121 rfl ?_
      refine x_get (v := rv (fR h x0 3103)) fdX12_73 dX12_evaluate_122 g24 rfl ?_
      refine x_iload 16 dX12_evaluate_125 rfl ?_
      obtain ⟨g28, hq⟩ := hq
      obtain ⟨i29, hq⟩ := hq
      refine x_iald 0 (Or.inl rfl) g28 i29 dX12_evaluate_127 ?_
      obtain ⟨g30, g31, hq⟩ := hq
      refine x_callV (Yc := YX12_evaluate) (as := [.int (aI h (fR h x0 3103) (Int32.toNatClampNeg x25))]) (st := []) q4543 mvX12_evaluate g24 rfl dX12_evaluate_128 (xle (xal1 (rv_cat _) (xal1 rfl xal0)) (by decide)) (xfr g30) (xlo xsw0 (by decide) g31) (xKv hq (fun h32 hq e34 => ?_) (fun _ _ q _ => q))
      replace hq := hq e34
      refine x_goto (tgt := 297) dX12_evaluate_131 (by decide) ?_
      exact uX12_evaluate_297 hq
    replace hq := hq.2
    by_cases c35 : (aI h (fR h x0 3101) (Int32.toNatClampNeg x25)) = 58
    · replace hq := hq.1 c35
      refine x_tin (tgt := 291) (off := 205) 58 c35 dX12_evaluate_86 (by decide) (by decide) (by decide) (by decide) ?_
      refine x_aload_n 0 dX12_evaluate_291 rfl ?_
      refine x_iload 16 dX12_evaluate_292 rfl ?_
      obtain ⟨g36, g37, hq⟩ := hq
      refine x_callV (Yc := YX12_factor) (as := [.int x25]) (st := []) q4659 mvX12_factor g24 rfl dX12_evaluate_294 (xle (xal1 (rv_cat _) (xal1 rfl xal0)) (by decide)) (xfr g36) (xlo xsw0 (by decide) g37) (xKv hq (fun h38 hq e40 => ?_) (fun _ _ q _ => q))
      replace hq := hq e40
      exact uX12_evaluate_297 hq
    replace hq := hq.2
    by_cases c41 : (aI h (fR h x0 3101) (Int32.toNatClampNeg x25)) = 59
    · replace hq := hq.1 c41
      refine x_tin (tgt := 134) (off := 48) 59 c41 dX12_evaluate_86 (by decide) (by decide) (by decide) (by decide) ?_
      refine x_aload_n 0 dX12_evaluate_134 rfl ?_
      refine x_iload 16 dX12_evaluate_135 rfl ?_
      obtain ⟨g42, g43, hq⟩ := hq
      refine x_callV (Yc := YX12_members) (as := [.int x25]) (st := []) q4547 mvX12_members g24 rfl dX12_evaluate_137 (xle (xal1 (rv_cat _) (xal1 rfl xal0)) (by decide)) (xfr g42) (xlo xsw0 (by decide) g43) (xKv hq (fun h44 hq e46 => ?_) (fun _ _ q _ => q))
      replace hq := hq e46
      refine x_goto (tgt := 297) dX12_evaluate_140 (by decide) ?_
      exact uX12_evaluate_297 hq
    replace hq := hq.2
    by_cases c47 : (aI h (fR h x0 3101) (Int32.toNatClampNeg x25)) = 60
    · replace hq := hq.1 c47
      refine x_tin (tgt := 143) (off := 57) 60 c47 dX12_evaluate_86 (by decide) (by decide) (by decide) (by decide) ?_
      refine x_aload_n 0 dX12_evaluate_143 rfl ?_
      refine x_get (v := rv (fR h x0 3114)) fdX12_102 dX12_evaluate_144 g24 rfl ?_
      refine x_iload 16 dX12_evaluate_147 rfl ?_
      obtain ⟨g48, hq⟩ := hq
      obtain ⟨i49, hq⟩ := hq
      refine x_aald 9 rfl g48 (by decide) i49 dX12_evaluate_149 ?_
      obtain ⟨g50, hq⟩ := hq
      refine x_get (v := .int (fI h (aR h (fR h x0 3114) (Int32.toNatClampNeg x25)) 5903)) fdX12_632 dX12_evaluate_150 g50 rfl ?_
      refine x_if_le (tgt := 187) dX12_evaluate_153 (by decide) (fun c51 => ?_) (fun c51 => ?_)
      · replace hq := hq.1 c51
        refine x_aload_n 0 dX12_evaluate_187 rfl ?_
        refine x_aload_n 0 dX12_evaluate_188 rfl ?_
        refine x_get (v := rv (fR h x0 3114)) fdX12_102 dX12_evaluate_189 g24 rfl ?_
        refine x_iload 16 dX12_evaluate_192 rfl ?_
        obtain ⟨i52, hq⟩ := hq
        refine x_aald 9 rfl g48 (by decide) i52 dX12_evaluate_194 ?_
        refine x_aload_n 0 dX12_evaluate_195 rfl ?_
        refine x_get (v := rv (fR h x0 3103)) fdX12_73 dX12_evaluate_196 g24 rfl ?_
        refine x_iload 16 dX12_evaluate_199 rfl ?_
        obtain ⟨g53, hq⟩ := hq
        obtain ⟨i54, hq⟩ := hq
        refine x_iald 0 (Or.inl rfl) g53 i54 dX12_evaluate_201 ?_
        refine x_iconst (v := 0) dX12_evaluate_202 (by decide) ?_
        refine x_aload_n 0 dX12_evaluate_203 rfl ?_
        refine x_get (v := rv (fR h x0 3102)) fdX12_70 dX12_evaluate_204 g24 rfl ?_
        refine x_iload 16 dX12_evaluate_207 rfl ?_
        obtain ⟨g55, hq⟩ := hq
        obtain ⟨i56, hq⟩ := hq
        refine x_iald 0 (Or.inl rfl) g55 i56 dX12_evaluate_209 ?_
        obtain ⟨g57, g58, hq⟩ := hq
        refine x_callV (Yc := YX12_call) (as := [rv (aR h (fR h x0 3114) (Int32.toNatClampNeg x25)), .int (aI h (fR h x0 3103) (Int32.toNatClampNeg x25)), .int 0, .int (aI h (fR h x0 3102) (Int32.toNatClampNeg x25))]) (st := []) q4607 mvX12_call g24 rfl dX12_evaluate_210 (xle (xal1 (rv_cat _) (xal1 (rv_cat _) (xal1 rfl (xal1 rfl (xal1 rfl xal0))))) (by decide)) (xfr g57) (xlo xsw0 (by decide) g58) (xKv hq (fun h59 hq e61 => ?_) (fun _ _ q _ => q))
        replace hq := hq e61
        refine x_goto (tgt := 297) dX12_evaluate_213 (by decide) ?_
        exact uX12_evaluate_297 hq
      · replace hq := hq.2 c51
        refine x_aload_n 0 dX12_evaluate_156 rfl ?_
        refine x_aload_n 0 dX12_evaluate_157 rfl ?_
        refine x_get (v := rv (fR h x0 3114)) fdX12_102 dX12_evaluate_158 g24 rfl ?_
        refine x_iload 16 dX12_evaluate_161 rfl ?_
        obtain ⟨i62, hq⟩ := hq
        refine x_aald 9 rfl g48 (by decide) i62 dX12_evaluate_163 ?_
        refine x_get (v := .int (fI h (aR h (fR h x0 3114) (Int32.toNatClampNeg x25)) 5903)) fdX12_632 dX12_evaluate_164 g50 rfl ?_
        refine x_aload_n 0 dX12_evaluate_167 rfl ?_
        refine x_get (v := rv (fR h x0 3103)) fdX12_73 dX12_evaluate_168 g24 rfl ?_
        refine x_iload 16 dX12_evaluate_171 rfl ?_
        obtain ⟨g63, hq⟩ := hq
        obtain ⟨i64, hq⟩ := hq
        refine x_iald 0 (Or.inl rfl) g63 i64 dX12_evaluate_173 ?_
        refine x_aload_n 0 dX12_evaluate_174 rfl ?_
        refine x_get (v := rv (fR h x0 3102)) fdX12_70 dX12_evaluate_175 g24 rfl ?_
        refine x_iload 16 dX12_evaluate_178 rfl ?_
        obtain ⟨g65, hq⟩ := hq
        obtain ⟨i66, hq⟩ := hq
        refine x_iald 0 (Or.inl rfl) g65 i66 dX12_evaluate_180 ?_
        obtain ⟨g67, g68, hq⟩ := hq
        refine x_callV (Yc := YX12_there) (as := [.int (fI h (aR h (fR h x0 3114) (Int32.toNatClampNeg x25)) 5903), .int (aI h (fR h x0 3103) (Int32.toNatClampNeg x25)), .int (aI h (fR h x0 3102) (Int32.toNatClampNeg x25))]) (st := []) q4558 mvX12_there g24 rfl dX12_evaluate_181 (xle (xal1 (rv_cat _) (xal1 rfl (xal1 rfl (xal1 rfl xal0)))) (by decide)) (xfr g67) (xlo xsw0 (by decide) g68) (xKv hq (fun h69 hq e71 => ?_) (fun _ _ q _ => q))
        replace hq := hq e71
        refine x_goto (tgt := 297) dX12_evaluate_184 (by decide) ?_
        exact uX12_evaluate_297 hq
    replace hq := hq.2
    by_cases c72 : (aI h (fR h x0 3101) (Int32.toNatClampNeg x25)) = 61
    · replace hq := hq.1 c72
      refine x_tin (tgt := 216) (off := 130) 61 c72 dX12_evaluate_86 (by decide) (by decide) (by decide) (by decide) ?_
      refine x_aload_n 0 dX12_evaluate_216 rfl ?_
      refine x_get (v := rv (fR h x0 3114)) fdX12_102 dX12_evaluate_217 g24 rfl ?_
      refine x_iload 16 dX12_evaluate_220 rfl ?_
      obtain ⟨g73, hq⟩ := hq
      obtain ⟨i74, hq⟩ := hq
      refine x_aald 9 rfl g73 (by decide) i74 dX12_evaluate_222 ?_
      obtain ⟨g75, hq⟩ := hq
      refine x_get (v := .int (fI h (aR h (fR h x0 3114) (Int32.toNatClampNeg x25)) 5888)) fdX12_577 dX12_evaluate_223 g75 rfl ?_
      refine x_iconst (v := 3) dX12_evaluate_226 (by decide) ?_
      refine x_icmp_eq (tgt := 244) dX12_evaluate_227 (by decide) (fun c76 => ?_) (fun c76 => ?_)
      · replace hq := hq.1 c76
        exact uX12_evaluate_244 hq
      · replace hq := hq.2 c76
        refine x_aload_n 0 dX12_evaluate_230 rfl ?_
        refine x_get (v := rv (fR h x0 3114)) fdX12_102 dX12_evaluate_231 g24 rfl ?_
        refine x_iload 16 dX12_evaluate_234 rfl ?_
        obtain ⟨i77, hq⟩ := hq
        refine x_aald 9 rfl g73 (by decide) i77 dX12_evaluate_236 ?_
        refine x_get (v := .int (fI h (aR h (fR h x0 3114) (Int32.toNatClampNeg x25)) 5888)) fdX12_577 dX12_evaluate_237 g75 rfl ?_
        refine x_iconst (v := 4) dX12_evaluate_240 (by decide) ?_
        refine x_icmp_ne (tgt := 282) dX12_evaluate_241 (by decide) (fun c78 => ?_) (fun c78 => ?_)
        · replace hq := hq.1 c78
          refine x_aload_n 0 dX12_evaluate_282 rfl ?_
          refine x_iload 16 dX12_evaluate_283 rfl ?_
          obtain ⟨g79, g80, hq⟩ := hq
          refine x_callV (Yc := YX12_meant) (as := [.int x25]) (st := []) q4655 mvX12_meant g24 rfl dX12_evaluate_285 (xle (xal1 (rv_cat _) (xal1 rfl xal0)) (by decide)) (xfr g79) (xlo xsw0 (by decide) g80) (xKv hq (fun h81 hq e83 => ?_) (fun _ _ q _ => q))
          replace hq := hq e83
          refine x_goto (tgt := 297) dX12_evaluate_288 (by decide) ?_
          exact uX12_evaluate_297 hq
        · replace hq := hq.2 c78
          exact uX12_evaluate_244 hq
    replace hq := hq.2
    replace hq := hq c27 c35 c41 c47 c72
    have nc27 := lv_neT c27 (show (57 : Int32).toInt = 57 from by decide)
    have nc35 := lv_neT c35 (show (58 : Int32).toInt = 58 from by decide)
    have nc41 := lv_neT c41 (show (59 : Int32).toInt = 59 from by decide)
    have nc47 := lv_neT c47 (show (60 : Int32).toInt = 60 from by decide)
    have nc72 := lv_neT c72 (show (61 : Int32).toInt = 61 from by decide)
    refine x_tout (tgt := 291) dX12_evaluate_86 (by omega) (by decide) ?_
    refine x_aload_n 0 dX12_evaluate_291 rfl ?_
    refine x_iload 16 dX12_evaluate_292 rfl ?_
    obtain ⟨g84, g85, hq⟩ := hq
    refine x_callV (Yc := YX12_factor) (as := [.int x25]) (st := []) q4659 mvX12_factor g24 rfl dX12_evaluate_294 (xle (xal1 (rv_cat _) (xal1 rfl xal0)) (by decide)) (xfr g84) (xlo xsw0 (by decide) g85) (xKv hq (fun h86 hq e88 => ?_) (fun _ _ q _ => q))
    replace hq := hq e88
    exact uX12_evaluate_297 hq
set_option maxRecDepth 100000 in
def bX12_evaluate_46 (G : xG) (fr lo : Nat) (x0 : Nat) (x1 : Int32) (x2 : Int64) (x4 : Int64) (x6 : UInt64) (x8 : Int32) (x9 : Int32) (x10 : Nat) (x11 : Int64) (x13 : Int64) (x15 : UInt64) (x17 : Int32) (h : xH) (Q : Outcome → xH → Prop) : Prop := ((x17 = (-1) → tg h x0 = 13 ∧ tg h (fR h x0 3103) = 100 ∧ vp_in x1 (ln h (fR h x0 3103)) ∧ ((¬ x9 = (aI h (fR h x0 3103) (Int32.toNatClampNeg x1)) → vp_in x1 (ln h (fR h x0 3103)) ∧ tg h (fR h x0 3113) = 108 ∧ vp_in (aI h (fR h x0 3103) (Int32.toNatClampNeg x1)) (ln h (fR h x0 3113)) ∧ vp_in x9 (ln h (fR h x0 3113)) ∧ tg h (fR h x0 3106) = 100 ∧ vp_in x1 (ln h (fR h x0 3106)) ∧ 1 ≤ fr ∧ 29 ≤ lo ∧ xRv G YX12_relate (fr - 1) (lo - 29) [rv x0, .long x2, .long x4, .double x6, .int x8, rv (aR h (fR h x0 3113) (Int32.toNatClampNeg (aI h (fR h x0 3103) (Int32.toNatClampNeg x1)))), rv (aR h (fR h x0 3113) (Int32.toNatClampNeg x9)), .int (aI h (fR h x0 3106) (Int32.toNatClampNeg x1))] h (fun h14 => xext h h14 → bX12_evaluate_571 G fr lo x0 x1 x2 x4 x6 x8 x9 h14 Q) (fun r h2 => Q (.threw r) h2)) ∧ (x9 = (aI h (fR h x0 3103) (Int32.toNatClampNeg x1)) → bX12_evaluate_571 G fr lo x0 x1 (fJ h x0 3177) (fJ h x0 3178) (fD h x0 3179) (fI h x0 3180) x9 h Q))) ∧ (¬ x17 = (-1) → tg h x0 = 13 ∧ tg h (fR h x0 3103) = 100 ∧ vp_in x17 (ln h (fR h x0 3103)) ∧ lX12_evaluate_73 G fr lo x0 x1 x2 x4 x6 x8 x9 x10 x11 x13 x15 x17 0 0 0 FP.dconst0 (aI h (fR h x0 3103) (Int32.toNatClampNeg x17)) h Q))
set_option maxRecDepth 100000 in
theorem uX12_evaluate_46 {G : xG} {fr lo : Nat} {x0 : Nat} {x1 : Int32} {x2 : Int64} {x4 : Int64} {x6 : UInt64} {x8 : Int32} {x9 : Int32} {x10 : Nat} {x11 : Int64} {x13 : Int64} {x15 : UInt64} {x17 : Int32} {h : xH} {Q : Outcome → xH → Prop} (hq : bX12_evaluate_46 G fr lo x0 x1 x2 x4 x6 x8 x9 x10 x11 x13 x15 x17 h Q) : xP G YX12_evaluate fr lo 46 [(0, rv x0), (1, .int x1), (2, .long x2), (4, .long x4), (6, .double x6), (8, .int x8), (9, .int x9), (10, rv x10), (11, .long x11), (13, .long x13), (15, .double x15), (17, .int x17)] [] h Q := by
  unfold bX12_evaluate_46 at hq
  refine x_iload 11 dX12_evaluate_46 rfl ?_
  refine x_iconst (v := (-1)) dX12_evaluate_48 (by decide) ?_
  refine x_icmp_eq (tgt := 499) dX12_evaluate_49 (by decide) (fun c1 => ?_) (fun c1 => ?_)
  · replace hq := hq.1 c1
    refine x_iload 6 dX12_evaluate_499 rfl ?_
    refine x_aload_n 0 dX12_evaluate_501 rfl ?_
    obtain ⟨g2, hq⟩ := hq
    refine x_get (v := rv (fR h x0 3103)) fdX12_73 dX12_evaluate_502 g2 rfl ?_
    refine x_iload_n 1 dX12_evaluate_505 rfl ?_
    obtain ⟨g3, hq⟩ := hq
    obtain ⟨i4, hq⟩ := hq
    refine x_iald 0 (Or.inl rfl) g3 i4 dX12_evaluate_506 ?_
    refine x_icmp_ne (tgt := 536) dX12_evaluate_507 (by decide) (fun c5 => ?_) (fun c5 => ?_)
    · replace hq := hq.1 c5
      refine x_aload_n 0 dX12_evaluate_536 rfl ?_
      refine x_lload_n 2 dX12_evaluate_537 rfl ?_
      refine x_lload 3 dX12_evaluate_538 rfl ?_
      refine x_dload 4 dX12_evaluate_540 rfl ?_
      refine x_iload 5 dX12_evaluate_542 rfl ?_
      refine x_aload_n 0 dX12_evaluate_544 rfl ?_
      refine x_get (v := rv (fR h x0 3113)) fdX12_96 dX12_evaluate_545 g2 rfl ?_
      refine x_aload_n 0 dX12_evaluate_548 rfl ?_
      refine x_get (v := rv (fR h x0 3103)) fdX12_73 dX12_evaluate_549 g2 rfl ?_
      refine x_iload_n 1 dX12_evaluate_552 rfl ?_
      obtain ⟨i6, hq⟩ := hq
      refine x_iald 0 (Or.inl rfl) g3 i6 dX12_evaluate_553 ?_
      obtain ⟨g7, hq⟩ := hq
      obtain ⟨i8, hq⟩ := hq
      refine x_aald 8 rfl g7 (by decide) i8 dX12_evaluate_554 ?_
      refine x_aload_n 0 dX12_evaluate_555 rfl ?_
      refine x_get (v := rv (fR h x0 3113)) fdX12_96 dX12_evaluate_556 g2 rfl ?_
      refine x_iload 6 dX12_evaluate_559 rfl ?_
      obtain ⟨i9, hq⟩ := hq
      refine x_aald 8 rfl g7 (by decide) i9 dX12_evaluate_561 ?_
      refine x_aload_n 0 dX12_evaluate_562 rfl ?_
      refine x_get (v := rv (fR h x0 3106)) fdX12_82 dX12_evaluate_563 g2 rfl ?_
      refine x_iload_n 1 dX12_evaluate_566 rfl ?_
      obtain ⟨g10, hq⟩ := hq
      obtain ⟨i11, hq⟩ := hq
      refine x_iald 0 (Or.inl rfl) g10 i11 dX12_evaluate_567 ?_
      obtain ⟨g12, g13, hq⟩ := hq
      refine x_callV (Yc := YX12_relate) (as := [.long x2, .long x4, .double x6, .int x8, rv (aR h (fR h x0 3113) (Int32.toNatClampNeg (aI h (fR h x0 3103) (Int32.toNatClampNeg x1)))), rv (aR h (fR h x0 3113) (Int32.toNatClampNeg x9)), .int (aI h (fR h x0 3106) (Int32.toNatClampNeg x1))]) (st := []) q4676 mvX12_relate g2 rfl dX12_evaluate_568 (xle (xal1 (rv_cat _) (xal2 rfl (xal2 rfl (xal2 rfl (xal1 rfl (xal1 (rv_cat _) (xal1 (rv_cat _) (xal1 rfl xal0)))))))) (by decide)) (xfr g12) (xlo xsw0 (by decide) g13) (xKv hq (fun h14 hq e16 => ?_) (fun _ _ q _ => q))
      replace hq := hq e16
      refine xP.pick (lv' := [(0, rv x0), (1, .int x1), (2, .long x2), (4, .long x4), (6, .double x6), (8, .int x8), (9, .int x9)]) [0, 1, 2, 3, 4, 5, 6] rfl ?_
      exact uX12_evaluate_571 hq
    · replace hq := hq.2 c5
      refine x_aload_n 0 dX12_evaluate_510 rfl ?_
      refine x_get (v := .long (fJ h x0 3177)) fdX12_1145 dX12_evaluate_511 g2 rfl ?_
      refine x_lstore_n (lv' := [(2, .long (fJ h x0 3177)), (0, rv x0), (1, .int x1), (4, .long x4), (6, .double x6), (8, .int x8), (9, .int x9), (10, rv x10), (11, .long x11), (13, .long x13), (15, .double x15), (17, .int x17)]) dX12_evaluate_514 (by decide) rfl ?_
      refine x_aload_n 1 dX12_evaluate_515 rfl ?_
      refine x_get (v := .long (fJ h x0 3178)) fdX12_1148 dX12_evaluate_516 g2 rfl ?_
      refine x_lstore (lv' := [(4, .long (fJ h x0 3178)), (2, .long (fJ h x0 3177)), (0, rv x0), (1, .int x1), (6, .double x6), (8, .int x8), (9, .int x9), (10, rv x10), (11, .long x11), (13, .long x13), (15, .double x15), (17, .int x17)]) dX12_evaluate_519 (by decide) rfl ?_
      refine x_aload_n 2 dX12_evaluate_521 rfl ?_
      refine x_get (v := .double (fD h x0 3179)) fdX12_1151 dX12_evaluate_522 g2 rfl ?_
      refine x_dstore (lv' := [(6, .double (fD h x0 3179)), (4, .long (fJ h x0 3178)), (2, .long (fJ h x0 3177)), (0, rv x0), (1, .int x1), (8, .int x8), (9, .int x9), (10, rv x10), (11, .long x11), (13, .long x13), (15, .double x15), (17, .int x17)]) dX12_evaluate_525 (by decide) rfl ?_
      refine x_aload_n 3 dX12_evaluate_527 rfl ?_
      refine x_get (v := .int (fI h x0 3180)) fdX12_1136 dX12_evaluate_528 g2 rfl ?_
      refine x_istore (lv' := [(8, .int (fI h x0 3180)), (6, .double (fD h x0 3179)), (4, .long (fJ h x0 3178)), (2, .long (fJ h x0 3177)), (0, rv x0), (1, .int x1), (9, .int x9), (10, rv x10), (11, .long x11), (13, .long x13), (15, .double x15), (17, .int x17)]) dX12_evaluate_531 (by decide) rfl ?_
      refine x_goto (tgt := 571) dX12_evaluate_533 (by decide) ?_
      refine xP.pick (lv' := [(0, rv x0), (1, .int x1), (2, .long (fJ h x0 3177)), (4, .long (fJ h x0 3178)), (6, .double (fD h x0 3179)), (8, .int (fI h x0 3180)), (9, .int x9)]) [4, 5, 3, 2, 1, 0, 6] rfl ?_
      exact uX12_evaluate_571 hq
  · replace hq := hq.2 c1
    refine x_null dX12_evaluate_52 ?_
    refine x_astore (lv' := [(18, rv 0), (0, rv x0), (1, .int x1), (2, .long x2), (4, .long x4), (6, .double x6), (8, .int x8), (9, .int x9), (10, rv x10), (11, .long x11), (13, .long x13), (15, .double x15), (17, .int x17)]) dX12_evaluate_53 (by decide) rfl ?_
    refine x_lconst (v := 0) dX12_evaluate_55 (by decide) ?_
    refine x_lstore (lv' := [(19, .long 0), (18, rv 0), (0, rv x0), (1, .int x1), (2, .long x2), (4, .long x4), (6, .double x6), (8, .int x8), (9, .int x9), (10, rv x10), (11, .long x11), (13, .long x13), (15, .double x15), (17, .int x17)]) dX12_evaluate_56 (by decide) (by first | rfl | (simp [rv_cat, Value.category]; done) | (simp [rv_cat, Value.category]; decide)) ?_
    refine x_lconst (v := 0) dX12_evaluate_58 (by decide) ?_
    refine x_lstore (lv' := [(21, .long 0), (19, .long 0), (18, rv 0), (0, rv x0), (1, .int x1), (2, .long x2), (4, .long x4), (6, .double x6), (8, .int x8), (9, .int x9), (10, rv x10), (11, .long x11), (13, .long x13), (15, .double x15), (17, .int x17)]) dX12_evaluate_59 (by decide) rfl ?_
    refine x_dconst0 dX12_evaluate_61 ?_
    refine x_dstore (lv' := [(23, .double FP.dconst0), (21, .long 0), (19, .long 0), (18, rv 0), (0, rv x0), (1, .int x1), (2, .long x2), (4, .long x4), (6, .double x6), (8, .int x8), (9, .int x9), (10, rv x10), (11, .long x11), (13, .long x13), (15, .double x15), (17, .int x17)]) dX12_evaluate_62 (by decide) rfl ?_
    refine x_aload_n 4 dX12_evaluate_64 rfl ?_
    obtain ⟨g17, hq⟩ := hq
    refine x_get (v := rv (fR h x0 3103)) fdX12_73 dX12_evaluate_65 g17 rfl ?_
    refine x_iload 15 dX12_evaluate_68 rfl ?_
    obtain ⟨g18, hq⟩ := hq
    obtain ⟨i19, hq⟩ := hq
    refine x_iald 0 (Or.inl rfl) g18 i19 dX12_evaluate_70 ?_
    refine x_istore (lv' := [(25, .int (aI h (fR h x0 3103) (Int32.toNatClampNeg x17))), (23, .double FP.dconst0), (21, .long 0), (19, .long 0), (18, rv 0), (0, rv x0), (1, .int x1), (2, .long x2), (4, .long x4), (6, .double x6), (8, .int x8), (9, .int x9), (10, rv x10), (11, .long x11), (13, .long x13), (15, .double x15), (17, .int x17)]) dX12_evaluate_71 (by decide) rfl ?_
    refine xP.pick (lv' := [(0, rv x0), (1, .int x1), (2, .long x2), (4, .long x4), (6, .double x6), (8, .int x8), (9, .int x9), (10, rv x10), (11, .long x11), (13, .long x13), (15, .double x15), (17, .int x17), (18, rv 0), (19, .long 0), (21, .long 0), (23, .double FP.dconst0), (25, .int (aI h (fR h x0 3103) (Int32.toNatClampNeg x17)))]) [5, 6, 7, 8, 9, 10, 11, 12, 13, 14, 15, 16, 4, 3, 2, 1, 0] rfl ?_
    exact hq
set_option maxRecDepth 100000 in
def bX12_evaluate_19 (G : xG) (fr lo : Nat) (x0 : Nat) (x1 : Int32) (x2 : Int64) (x4 : Int64) (x6 : UInt64) (x8 : Int32) (x9 : Int32) (h : xH) (Q : Outcome → xH → Prop) : Prop := ((x9 = (-1) → Q (.returned none) h) ∧ (¬ x9 = (-1) → tg h x0 = 13 ∧ tg h (fR h x0 3103) = 100 ∧ vp_in x9 (ln h (fR h x0 3103)) ∧ lX12_evaluate_46 G fr lo x0 x1 x2 x4 x6 x8 x9 0 0 0 FP.dconst0 (aI h (fR h x0 3103) (Int32.toNatClampNeg x9)) h Q))
set_option maxRecDepth 100000 in
theorem uX12_evaluate_19 {G : xG} {fr lo : Nat} {x0 : Nat} {x1 : Int32} {x2 : Int64} {x4 : Int64} {x6 : UInt64} {x8 : Int32} {x9 : Int32} {h : xH} {Q : Outcome → xH → Prop} (hq : bX12_evaluate_19 G fr lo x0 x1 x2 x4 x6 x8 x9 h Q) : xP G YX12_evaluate fr lo 19 [(0, rv x0), (1, .int x1), (2, .long x2), (4, .long x4), (6, .double x6), (8, .int x8), (9, .int x9)] [] h Q := by
  unfold bX12_evaluate_19 at hq
  refine x_iload 6 dX12_evaluate_19 rfl ?_
  refine x_iconst (v := (-1)) dX12_evaluate_21 (by decide) ?_
  refine x_icmp_eq (tgt := 591) dX12_evaluate_22 (by decide) (fun c1 => ?_) (fun c1 => ?_)
  · replace hq := hq.1 c1
    exact x_vret rfl dX12_evaluate_591 hq
  · replace hq := hq.2 c1
    refine x_null dX12_evaluate_25 ?_
    refine x_astore (lv' := [(10, rv 0), (0, rv x0), (1, .int x1), (2, .long x2), (4, .long x4), (6, .double x6), (8, .int x8), (9, .int x9)]) dX12_evaluate_26 (by decide) rfl ?_
    refine x_lconst (v := 0) dX12_evaluate_28 (by decide) ?_
    refine x_lstore (lv' := [(11, .long 0), (10, rv 0), (0, rv x0), (1, .int x1), (2, .long x2), (4, .long x4), (6, .double x6), (8, .int x8), (9, .int x9)]) dX12_evaluate_29 (by decide) (by first | rfl | (simp [rv_cat, Value.category]; done) | (simp [rv_cat, Value.category]; decide)) ?_
    refine x_lconst (v := 0) dX12_evaluate_31 (by decide) ?_
    refine x_lstore (lv' := [(13, .long 0), (11, .long 0), (10, rv 0), (0, rv x0), (1, .int x1), (2, .long x2), (4, .long x4), (6, .double x6), (8, .int x8), (9, .int x9)]) dX12_evaluate_32 (by decide) rfl ?_
    refine x_dconst0 dX12_evaluate_34 ?_
    refine x_dstore (lv' := [(15, .double FP.dconst0), (13, .long 0), (11, .long 0), (10, rv 0), (0, rv x0), (1, .int x1), (2, .long x2), (4, .long x4), (6, .double x6), (8, .int x8), (9, .int x9)]) dX12_evaluate_35 (by decide) rfl ?_
    refine x_aload_n 4 dX12_evaluate_37 rfl ?_
    obtain ⟨g2, hq⟩ := hq
    refine x_get (v := rv (fR h x0 3103)) fdX12_73 dX12_evaluate_38 g2 rfl ?_
    refine x_iload 10 dX12_evaluate_41 rfl ?_
    obtain ⟨g3, hq⟩ := hq
    obtain ⟨i4, hq⟩ := hq
    refine x_iald 0 (Or.inl rfl) g3 i4 dX12_evaluate_43 ?_
    refine x_istore (lv' := [(17, .int (aI h (fR h x0 3103) (Int32.toNatClampNeg x9))), (15, .double FP.dconst0), (13, .long 0), (11, .long 0), (10, rv 0), (0, rv x0), (1, .int x1), (2, .long x2), (4, .long x4), (6, .double x6), (8, .int x8), (9, .int x9)]) dX12_evaluate_44 (by decide) rfl ?_
    refine xP.pick (lv' := [(0, rv x0), (1, .int x1), (2, .long x2), (4, .long x4), (6, .double x6), (8, .int x8), (9, .int x9), (10, rv 0), (11, .long 0), (13, .long 0), (15, .double FP.dconst0), (17, .int (aI h (fR h x0 3103) (Int32.toNatClampNeg x9)))]) [5, 6, 7, 8, 9, 10, 11, 4, 3, 2, 1, 0] rfl ?_
    exact hq
set_option maxRecDepth 100000 in
def bX12_evaluate (G : xG) (fr lo : Nat) (x0 : Nat) (x1 : Int32) (h : xH) (Q : Outcome → xH → Prop) : Prop := tg h x0 = 13 ∧ tg h (fR h x0 3103) = 100 ∧ vp_in x1 (ln h (fR h x0 3103)) ∧ lX12_evaluate_19 G fr lo x0 x1 0 0 FP.dconst0 0 (aI h (fR h x0 3103) (Int32.toNatClampNeg x1)) h Q
set_option maxRecDepth 100000 in
theorem uX12_evaluate {G : xG} {fr lo : Nat} {x0 : Nat} {x1 : Int32} {h : xH} {Q : Outcome → xH → Prop} (hq : bX12_evaluate G fr lo x0 x1 h Q) : xP G YX12_evaluate fr lo 0 [(0, rv x0), (1, .int x1)] [] h Q := by
  unfold bX12_evaluate at hq
  refine x_lconst (v := 0) dX12_evaluate_0 (by decide) ?_
  refine x_lstore_n (lv' := [(2, .long 0), (0, rv x0), (1, .int x1)]) dX12_evaluate_1 (by decide) rfl ?_
  refine x_lconst (v := 0) dX12_evaluate_2 (by decide) ?_
  refine x_lstore (lv' := [(4, .long 0), (2, .long 0), (0, rv x0), (1, .int x1)]) dX12_evaluate_3 (by decide) rfl ?_
  refine x_dconst0 dX12_evaluate_5 ?_
  refine x_dstore (lv' := [(6, .double FP.dconst0), (4, .long 0), (2, .long 0), (0, rv x0), (1, .int x1)]) dX12_evaluate_6 (by decide) rfl ?_
  refine x_iconst (v := 0) dX12_evaluate_8 (by decide) ?_
  refine x_istore (lv' := [(8, .int 0), (6, .double FP.dconst0), (4, .long 0), (2, .long 0), (0, rv x0), (1, .int x1)]) dX12_evaluate_9 (by decide) rfl ?_
  refine x_aload_n 4 dX12_evaluate_11 rfl ?_
  obtain ⟨g1, hq⟩ := hq
  refine x_get (v := rv (fR h x0 3103)) fdX12_73 dX12_evaluate_12 g1 rfl ?_
  refine x_iload_n 5 dX12_evaluate_15 rfl ?_
  obtain ⟨g2, hq⟩ := hq
  obtain ⟨i3, hq⟩ := hq
  refine x_iald 0 (Or.inl rfl) g2 i3 dX12_evaluate_16 ?_
  refine x_istore (lv' := [(9, .int (aI h (fR h x0 3103) (Int32.toNatClampNeg x1))), (8, .int 0), (6, .double FP.dconst0), (4, .long 0), (2, .long 0), (0, rv x0), (1, .int x1)]) dX12_evaluate_17 (by decide) rfl ?_
  refine xP.pick (lv' := [(0, rv x0), (1, .int x1), (2, .long 0), (4, .long 0), (6, .double FP.dconst0), (8, .int 0), (9, .int (aI h (fR h x0 3103) (Int32.toNatClampNeg x1)))]) [5, 6, 4, 3, 2, 1, 0] rfl ?_
  exact hq
theorem rX12_evaluate {G : xG} {fr lo : Nat} {x0 : Nat} {x1 : Int32} {h : xH} {Q : Outcome → xH → Prop} (hq : bX12_evaluate G fr lo x0 x1 h Q) : xR G YX12_evaluate fr lo [rv x0, .int x1] h Q := by
  show xP _ _ _ _ _ (lv_args 0 _) _ _ _
  rw [show lv_args 0 [rv x0, .int x1] = [(0, rv x0), (1, .int x1)] from (xla1 (rv_cat _) (xla1 rfl xla0))]
  exact uX12_evaluate hq
set_option maxRecDepth 100000 in
theorem dX12_members_0 : decode cX12_members 0 = .ok (.lconst 0, 1) := by decide +kernel
set_option maxRecDepth 100000 in
theorem dX12_members_1 : decode cX12_members 1 = .ok (.lstore_n 2, 1) := by decide +kernel
set_option maxRecDepth 100000 in
theorem dX12_members_2 : decode cX12_members 2 = .ok (.lconst 0, 1) := by decide +kernel
set_option maxRecDepth 100000 in
theorem dX12_members_3 : decode cX12_members 3 = .ok (.lstore 4, 2) := by decide +kernel
set_option maxRecDepth 100000 in
theorem dX12_members_5 : decode cX12_members 5 = .ok (.aload_n 0, 1) := by decide +kernel
set_option maxRecDepth 100000 in
theorem dX12_members_6 : decode cX12_members 6 = .ok (.getfield 73, 3) := by decide +kernel
set_option maxRecDepth 100000 in
theorem dX12_members_9 : decode cX12_members 9 = .ok (.iload_n 1, 1) := by decide +kernel
set_option maxRecDepth 100000 in
theorem dX12_members_10 : decode cX12_members 10 = .ok (.iaload, 1) := by decide +kernel
set_option maxRecDepth 100000 in
theorem dX12_members_11 : decode cX12_members 11 = .ok (.istore 6, 2) := by decide +kernel
set_option maxRecDepth 100000 in
theorem dX12_members_13 : decode cX12_members 13 = .ok (.iload 6, 2) := by decide +kernel
set_option maxRecDepth 100000 in
theorem dX12_members_15 : decode cX12_members 15 = .ok (.iconst (-1), 1) := by decide +kernel
set_option maxRecDepth 100000 in
theorem dX12_members_16 : decode cX12_members 16 = .ok (.if_icmp .eq 150, 3) := by decide +kernel
set_option maxRecDepth 100000 in
theorem dX12_members_19 : decode cX12_members 19 = .ok (.aload_n 0, 1) := by decide +kernel
set_option maxRecDepth 100000 in
theorem dX12_members_20 : decode cX12_members 20 = .ok (.getfield 73, 3) := by decide +kernel
set_option maxRecDepth 100000 in
theorem dX12_members_23 : decode cX12_members 23 = .ok (.iload 6, 2) := by decide +kernel
set_option maxRecDepth 100000 in
theorem dX12_members_25 : decode cX12_members 25 = .ok (.iaload, 1) := by decide +kernel
set_option maxRecDepth 100000 in
theorem dX12_members_26 : decode cX12_members 26 = .ok (.istore 7, 2) := by decide +kernel
set_option maxRecDepth 100000 in
theorem dX12_members_28 : decode cX12_members 28 = .ok (.aload_n 0, 1) := by decide +kernel
set_option maxRecDepth 100000 in
theorem dX12_members_29 : decode cX12_members 29 = .ok (.iload 7, 2) := by decide +kernel
set_option maxRecDepth 100000 in
theorem dX12_members_31 : decode cX12_members 31 = .ok (.invokevirtual 1233, 3) := by decide +kernel
set_option maxRecDepth 100000 in
theorem dX12_members_34 : decode cX12_members 34 = .ok (.aload_n 0, 1) := by decide +kernel
set_option maxRecDepth 100000 in
theorem dX12_members_35 : decode cX12_members 35 = .ok (.getfield 1121, 3) := by decide +kernel
set_option maxRecDepth 100000 in
theorem dX12_members_38 : decode cX12_members 38 = .ok (.ifCond .eq 4, 3) := by decide +kernel
set_option maxRecDepth 100000 in
theorem dX12_members_41 : decode cX12_members 41 = .ok (.return_, 1) := by decide +kernel
set_option maxRecDepth 100000 in
theorem dX12_members_42 : decode cX12_members 42 = .ok (.aload_n 0, 1) := by decide +kernel
set_option maxRecDepth 100000 in
theorem dX12_members_43 : decode cX12_members 43 = .ok (.getfield 1145, 3) := by decide +kernel
set_option maxRecDepth 100000 in
theorem dX12_members_46 : decode cX12_members 46 = .ok (.lstore 8, 2) := by decide +kernel
set_option maxRecDepth 100000 in
theorem dX12_members_48 : decode cX12_members 48 = .ok (.lload 8, 2) := by decide +kernel
set_option maxRecDepth 100000 in
theorem dX12_members_50 : decode cX12_members 50 = .ok (.lstore 10, 2) := by decide +kernel
set_option maxRecDepth 100000 in
theorem dX12_members_52 : decode cX12_members 52 = .ok (.aload_n 0, 1) := by decide +kernel
set_option maxRecDepth 100000 in
theorem dX12_members_53 : decode cX12_members 53 = .ok (.getfield 79, 3) := by decide +kernel
set_option maxRecDepth 100000 in
theorem dX12_members_56 : decode cX12_members 56 = .ok (.iload 7, 2) := by decide +kernel
set_option maxRecDepth 100000 in
theorem dX12_members_58 : decode cX12_members 58 = .ok (.iaload, 1) := by decide +kernel
set_option maxRecDepth 100000 in
theorem dX12_members_59 : decode cX12_members 59 = .ok (.iconst (-1), 1) := by decide +kernel
set_option maxRecDepth 100000 in
theorem dX12_members_60 : decode cX12_members 60 = .ok (.if_icmp .eq 28, 3) := by decide +kernel
set_option maxRecDepth 100000 in
theorem dX12_members_63 : decode cX12_members 63 = .ok (.aload_n 0, 1) := by decide +kernel
set_option maxRecDepth 100000 in
theorem dX12_members_64 : decode cX12_members 64 = .ok (.aload_n 0, 1) := by decide +kernel
set_option maxRecDepth 100000 in
theorem dX12_members_65 : decode cX12_members 65 = .ok (.getfield 79, 3) := by decide +kernel
set_option maxRecDepth 100000 in
theorem dX12_members_68 : decode cX12_members 68 = .ok (.iload 7, 2) := by decide +kernel
set_option maxRecDepth 100000 in
theorem dX12_members_70 : decode cX12_members 70 = .ok (.iaload, 1) := by decide +kernel
set_option maxRecDepth 100000 in
theorem dX12_members_71 : decode cX12_members 71 = .ok (.invokevirtual 1233, 3) := by decide +kernel
set_option maxRecDepth 100000 in
theorem dX12_members_74 : decode cX12_members 74 = .ok (.aload_n 0, 1) := by decide +kernel
set_option maxRecDepth 100000 in
theorem dX12_members_75 : decode cX12_members 75 = .ok (.getfield 1121, 3) := by decide +kernel
set_option maxRecDepth 100000 in
theorem dX12_members_78 : decode cX12_members 78 = .ok (.ifCond .eq 4, 3) := by decide +kernel
set_option maxRecDepth 100000 in
theorem dX12_members_81 : decode cX12_members 81 = .ok (.return_, 1) := by decide +kernel
set_option maxRecDepth 100000 in
theorem dX12_members_82 : decode cX12_members 82 = .ok (.aload_n 0, 1) := by decide +kernel
set_option maxRecDepth 100000 in
theorem dX12_members_83 : decode cX12_members 83 = .ok (.getfield 1145, 3) := by decide +kernel
set_option maxRecDepth 100000 in
theorem dX12_members_86 : decode cX12_members 86 = .ok (.lstore 10, 2) := by decide +kernel
set_option maxRecDepth 100000 in
theorem dX12_members_88 : decode cX12_members 88 = .ok (.lload 8, 2) := by decide +kernel
set_option maxRecDepth 100000 in
theorem dX12_members_90 : decode cX12_members 90 = .ok (.lload 10, 2) := by decide +kernel
set_option maxRecDepth 100000 in
theorem dX12_members_92 : decode cX12_members 92 = .ok (.lcmp, 1) := by decide +kernel
set_option maxRecDepth 100000 in
theorem dX12_members_93 : decode cX12_members 93 = .ok (.ifCond .le 6, 3) := by decide +kernel
set_option maxRecDepth 100000 in
theorem dX12_members_96 : decode cX12_members 96 = .ok (.goto 58, 3) := by decide +kernel
set_option maxRecDepth 100000 in
theorem dX12_members_99 : decode cX12_members 99 = .ok (.lload 8, 2) := by decide +kernel
set_option maxRecDepth 100000 in
theorem dX12_members_101 : decode cX12_members 101 = .ok (.lconst 0, 1) := by decide +kernel
set_option maxRecDepth 100000 in
theorem dX12_members_102 : decode cX12_members 102 = .ok (.lcmp, 1) := by decide +kernel
set_option maxRecDepth 100000 in
theorem dX12_members_103 : decode cX12_members 103 = .ok (.ifCond .lt 12, 3) := by decide +kernel
set_option maxRecDepth 100000 in
theorem dX12_members_106 : decode cX12_members 106 = .ok (.lload 10, 2) := by decide +kernel
set_option maxRecDepth 100000 in
theorem dX12_members_108 : decode cX12_members 108 = .ok (.ldc2_w 1302, 3) := by decide +kernel
set_option maxRecDepth 100000 in
theorem dX12_members_111 : decode cX12_members 111 = .ok (.lcmp, 1) := by decide +kernel
set_option maxRecDepth 100000 in
theorem dX12_members_112 : decode cX12_members 112 = .ok (.ifCond .le 16, 3) := by decide +kernel
set_option maxRecDepth 100000 in
theorem dX12_members_115 : decode cX12_members 115 = .ok (.aload_n 0, 1) := by decide +kernel
set_option maxRecDepth 100000 in
theorem dX12_members_116 : decode cX12_members 116 = .ok (.iconst 1, 1) := by decide +kernel
set_option maxRecDepth 100000 in
theorem dX12_members_117 : decode cX12_members 117 = .ok (.aload_n 0, 1) := by decide +kernel
set_option maxRecDepth 100000 in
theorem dX12_members_118 : decode cX12_members 118 = .ok (.getfield 70, 3) := by decide +kernel
set_option maxRecDepth 100000 in
theorem dX12_members_121 : decode cX12_members 121 = .ok (.iload 7, 2) := by decide +kernel
set_option maxRecDepth 100000 in
theorem dX12_members_123 : decode cX12_members 123 = .ok (.iaload, 1) := by decide +kernel
set_option maxRecDepth 100000 in
theorem dX12_members_124 : decode cX12_members 124 = .ok (.invokevirtual 1142, 3) := by decide +kernel
set_option maxRecDepth 100000 in
theorem dX12_members_127 : decode cX12_members 127 = .ok (.return_, 1) := by decide +kernel
set_option maxRecDepth 100000 in
theorem dX12_members_128 : decode cX12_members 128 = .ok (.lload_n 2, 1) := by decide +kernel
set_option maxRecDepth 100000 in
theorem dX12_members_129 : decode cX12_members 129 = .ok (.lload 8, 2) := by decide +kernel
set_option maxRecDepth 100000 in
theorem dX12_members_131 : decode cX12_members 131 = .ok (.l2i, 1) := by decide +kernel
set_option maxRecDepth 100000 in
theorem dX12_members_132 : decode cX12_members 132 = .ok (.lload 10, 2) := by decide +kernel
set_option maxRecDepth 100000 in
theorem dX12_members_134 : decode cX12_members 134 = .ok (.l2i, 1) := by decide +kernel
set_option maxRecDepth 100000 in
theorem dX12_members_135 : decode cX12_members 135 = .ok (.invokestatic 1157, 3) := by decide +kernel
set_option maxRecDepth 100000 in
theorem dX12_members_138 : decode cX12_members 138 = .ok (.lor, 1) := by decide +kernel
set_option maxRecDepth 100000 in
theorem dX12_members_139 : decode cX12_members 139 = .ok (.lstore_n 2, 1) := by decide +kernel
set_option maxRecDepth 100000 in
theorem dX12_members_140 : decode cX12_members 140 = .ok (.lload 4, 2) := by decide +kernel
set_option maxRecDepth 100000 in
theorem dX12_members_142 : decode cX12_members 142 = .ok (.lload 8, 2) := by decide +kernel
set_option maxRecDepth 100000 in
theorem dX12_members_144 : decode cX12_members 144 = .ok (.l2i, 1) := by decide +kernel
set_option maxRecDepth 100000 in
theorem dX12_members_145 : decode cX12_members 145 = .ok (.lload 10, 2) := by decide +kernel
set_option maxRecDepth 100000 in
theorem dX12_members_147 : decode cX12_members 147 = .ok (.l2i, 1) := by decide +kernel
set_option maxRecDepth 100000 in
theorem dX12_members_148 : decode cX12_members 148 = .ok (.invokestatic 1162, 3) := by decide +kernel
set_option maxRecDepth 100000 in
theorem dX12_members_151 : decode cX12_members 151 = .ok (.lor, 1) := by decide +kernel
set_option maxRecDepth 100000 in
theorem dX12_members_152 : decode cX12_members 152 = .ok (.lstore 4, 2) := by decide +kernel
set_option maxRecDepth 100000 in
theorem dX12_members_154 : decode cX12_members 154 = .ok (.aload_n 0, 1) := by decide +kernel
set_option maxRecDepth 100000 in
theorem dX12_members_155 : decode cX12_members 155 = .ok (.getfield 79, 3) := by decide +kernel
set_option maxRecDepth 100000 in
theorem dX12_members_158 : decode cX12_members 158 = .ok (.iload 6, 2) := by decide +kernel
set_option maxRecDepth 100000 in
theorem dX12_members_160 : decode cX12_members 160 = .ok (.iaload, 1) := by decide +kernel
set_option maxRecDepth 100000 in
theorem dX12_members_161 : decode cX12_members 161 = .ok (.istore 6, 2) := by decide +kernel
set_option maxRecDepth 100000 in
theorem dX12_members_163 : decode cX12_members 163 = .ok (.goto (-150), 3) := by decide +kernel
set_option maxRecDepth 100000 in
theorem dX12_members_166 : decode cX12_members 166 = .ok (.aload_n 0, 1) := by decide +kernel
set_option maxRecDepth 100000 in
theorem dX12_members_167 : decode cX12_members 167 = .ok (.lload_n 2, 1) := by decide +kernel
set_option maxRecDepth 100000 in
theorem dX12_members_168 : decode cX12_members 168 = .ok (.putfield 1145, 3) := by decide +kernel
set_option maxRecDepth 100000 in
theorem dX12_members_171 : decode cX12_members 171 = .ok (.aload_n 0, 1) := by decide +kernel
set_option maxRecDepth 100000 in
theorem dX12_members_172 : decode cX12_members 172 = .ok (.lload 4, 2) := by decide +kernel
set_option maxRecDepth 100000 in
theorem dX12_members_174 : decode cX12_members 174 = .ok (.putfield 1148, 3) := by decide +kernel
set_option maxRecDepth 100000 in
theorem dX12_members_177 : decode cX12_members 177 = .ok (.return_, 1) := by decide +kernel
def lX12_members_13 (G : xG) (fr lo : Nat) (x0 : Nat) (x2 : Int64) (x4 : Int64) (x6 : Int32) (h : xH) (Q : Outcome → xH → Prop) : Prop := xP G YX12_members fr lo 13 [(0, rv x0), (2, .long x2), (4, .long x4), (6, .int x6)] [] h Q
set_option maxRecDepth 100000 in
def bX12_members_154 (G : xG) (fr lo : Nat) (x0 : Nat) (x2 : Int64) (x4 : Int64) (x6 : Int32) (h : xH) (Q : Outcome → xH → Prop) : Prop := tg h x0 = 13 ∧ tg h (fR h x0 3105) = 100 ∧ vp_in x6 (ln h (fR h x0 3105)) ∧ lX12_members_13 G fr lo x0 x2 x4 (aI h (fR h x0 3105) (Int32.toNatClampNeg x6)) h Q
set_option maxRecDepth 100000 in
theorem uX12_members_154 {G : xG} {fr lo : Nat} {x0 : Nat} {x2 : Int64} {x4 : Int64} {x6 : Int32} {h : xH} {Q : Outcome → xH → Prop} (hq : bX12_members_154 G fr lo x0 x2 x4 x6 h Q) : xP G YX12_members fr lo 154 [(0, rv x0), (2, .long x2), (4, .long x4), (6, .int x6)] [] h Q := by
  unfold bX12_members_154 at hq
  refine x_aload_n 0 dX12_members_154 rfl ?_
  obtain ⟨g1, hq⟩ := hq
  refine x_get (v := rv (fR h x0 3105)) fdX12_79 dX12_members_155 g1 rfl ?_
  refine x_iload 3 dX12_members_158 rfl ?_
  obtain ⟨g2, hq⟩ := hq
  obtain ⟨i3, hq⟩ := hq
  refine x_iald 0 (Or.inl rfl) g2 i3 dX12_members_160 ?_
  refine x_istore (lv' := [(6, .int (aI h (fR h x0 3105) (Int32.toNatClampNeg x6))), (0, rv x0), (2, .long x2), (4, .long x4)]) dX12_members_161 (by decide) rfl ?_
  refine x_goto (tgt := 13) dX12_members_163 (by decide) ?_
  refine xP.pick (lv' := [(0, rv x0), (2, .long x2), (4, .long x4), (6, .int (aI h (fR h x0 3105) (Int32.toNatClampNeg x6)))]) [1, 2, 3, 0] rfl ?_
  exact hq
set_option maxRecDepth 100000 in
def bX12_members_115 (G : xG) (fr lo : Nat) (x0 : Nat) (x7 : Int32) (h : xH) (Q : Outcome → xH → Prop) : Prop := tg h x0 = 13 ∧ tg h (fR h x0 3102) = 100 ∧ vp_in x7 (ln h (fR h x0 3102)) ∧ 1 ≤ fr ∧ 14 ≤ lo ∧ xRv G YX12_error (fr - 1) (lo - 14) [rv x0, .int 1, .int (aI h (fR h x0 3102) (Int32.toNatClampNeg x7))] h (fun h6 => xext h h6 → Q (.returned none) h6) (fun r h2 => Q (.threw r) h2)
set_option maxRecDepth 100000 in
theorem uX12_members_115 {G : xG} {fr lo : Nat} {x0 : Nat} {x7 : Int32} {h : xH} {Q : Outcome → xH → Prop} (hq : bX12_members_115 G fr lo x0 x7 h Q) : xP G YX12_members fr lo 115 [(0, rv x0), (7, .int x7)] [] h Q := by
  unfold bX12_members_115 at hq
  refine x_aload_n 0 dX12_members_115 rfl ?_
  refine x_iconst (v := 1) dX12_members_116 (by decide) ?_
  refine x_aload_n 0 dX12_members_117 rfl ?_
  obtain ⟨g1, hq⟩ := hq
  refine x_get (v := rv (fR h x0 3102)) fdX12_70 dX12_members_118 g1 rfl ?_
  refine x_iload 1 dX12_members_121 rfl ?_
  obtain ⟨g2, hq⟩ := hq
  obtain ⟨i3, hq⟩ := hq
  refine x_iald 0 (Or.inl rfl) g2 i3 dX12_members_123 ?_
  obtain ⟨g4, g5, hq⟩ := hq
  refine x_callV (Yc := YX12_error) (as := [.int 1, .int (aI h (fR h x0 3102) (Int32.toNatClampNeg x7))]) (st := []) q4490 mvX12_error g1 rfl dX12_members_124 (xle (xal1 (rv_cat _) (xal1 rfl (xal1 rfl xal0))) (by decide)) (xfr g4) (xlo xsw0 (by decide) g5) (xKv hq (fun h6 hq e8 => ?_) (fun _ _ q _ => q))
  replace hq := hq e8
  exact x_vret rfl dX12_members_127 hq
set_option maxRecDepth 100000 in
def bX12_members_88 (G : xG) (fr lo : Nat) (x0 : Nat) (x2 : Int64) (x4 : Int64) (x6 : Int32) (x7 : Int32) (x8 : Int64) (x10 : Int64) (h : xH) (Q : Outcome → xH → Prop) : Prop := (((lg_cmp x8 x10) ≤ 0 → (((lg_cmp x8 0) < 0 → bX12_members_115 G fr lo x0 x7 h Q) ∧ (¬ (lg_cmp x8 0) < 0 → (((lg_cmp x10 127) ≤ 0 → 1 ≤ fr ∧ 18 ≤ lo ∧ xRj G YX12_lowerBits (fr - 1) (lo - 18) [.int (Int64.toInt32 x8), .int (Int64.toInt32 x10)] h (fun x7 h6 => xext h h6 → 1 ≤ fr ∧ 18 ≤ lo ∧ xRj G YX12_upperBits (fr - 1) (lo - 18) [.int (Int64.toInt32 x8), .int (Int64.toInt32 x10)] h6 (fun x12 h11 => xext h6 h11 → bX12_members_154 G fr lo x0 (x2 ||| x7) (x4 ||| x12) x6 h11 Q) (fun r h2 => Q (.threw r) h2)) (fun r h2 => Q (.threw r) h2)) ∧ (¬ (lg_cmp x10 127) ≤ 0 → bX12_members_115 G fr lo x0 x7 h Q))))) ∧ (¬ (lg_cmp x8 x10) ≤ 0 → bX12_members_154 G fr lo x0 x2 x4 x6 h Q))
set_option maxRecDepth 100000 in
theorem uX12_members_88 {G : xG} {fr lo : Nat} {x0 : Nat} {x2 : Int64} {x4 : Int64} {x6 : Int32} {x7 : Int32} {x8 : Int64} {x10 : Int64} {h : xH} {Q : Outcome → xH → Prop} (hq : bX12_members_88 G fr lo x0 x2 x4 x6 x7 x8 x10 h Q) : xP G YX12_members fr lo 88 [(0, rv x0), (2, .long x2), (4, .long x4), (6, .int x6), (7, .int x7), (8, .long x8), (10, .long x10)] [] h Q := by
  unfold bX12_members_88 at hq
  refine x_lload 5 dX12_members_88 rfl ?_
  refine x_lload 6 dX12_members_90 rfl ?_
  refine x_lcmp dX12_members_92 ?_
  refine x_if_le (tgt := 99) dX12_members_93 (by decide) (fun c1 => ?_) (fun c1 => ?_)
  · replace hq := hq.1 c1
    refine x_lload 5 dX12_members_99 rfl ?_
    refine x_lconst (v := 0) dX12_members_101 (by decide) ?_
    refine x_lcmp dX12_members_102 ?_
    refine x_if_lt (tgt := 115) dX12_members_103 (by decide) (fun c2 => ?_) (fun c2 => ?_)
    · replace hq := hq.1 c2
      refine xP.pick (lv' := [(0, rv x0), (7, .int x7)]) [0, 4] rfl ?_
      exact uX12_members_115 hq
    · replace hq := hq.2 c2
      refine x_lload 6 dX12_members_106 rfl ?_
      refine x_ldc2 (v := 127) q4551 dX12_members_108 ?_
      refine x_lcmp dX12_members_111 ?_
      refine x_if_le (tgt := 128) dX12_members_112 (by decide) (fun c3 => ?_) (fun c3 => ?_)
      · replace hq := hq.1 c3
        refine x_lload_n 1 dX12_members_128 rfl ?_
        refine x_lload 5 dX12_members_129 rfl ?_
        refine x_l2i dX12_members_131 ?_
        refine x_lload 6 dX12_members_132 rfl ?_
        refine x_l2i dX12_members_134 ?_
        obtain ⟨g4, g5, hq⟩ := hq
        refine x_callS (Yc := YX12_lowerBits) (as := [.int (Int64.toInt32 x8), .int (Int64.toInt32 x10)]) (st := [.long x2]) q4552 msX12_lowerBits rfl dX12_members_135 (xle (xal1 rfl (xal1 rfl xal0)) (by decide)) (xfr g4) (xlo (xsw2 rfl xsw0) (by decide) g5) (xKj hq (fun x7 h6 hq e8 => ?_) (fun _ _ q _ => q))
        replace hq := hq e8
        refine x_lor dX12_members_138 ?_
        refine x_lstore_n (lv' := [(2, .long (x2 ||| x7)), (0, rv x0), (4, .long x4), (6, .int x6), (7, .int x7), (8, .long x8), (10, .long x10)]) dX12_members_139 (by decide) rfl ?_
        refine x_lload 2 dX12_members_140 rfl ?_
        refine x_lload 5 dX12_members_142 rfl ?_
        refine x_l2i dX12_members_144 ?_
        refine x_lload 6 dX12_members_145 rfl ?_
        refine x_l2i dX12_members_147 ?_
        obtain ⟨g9, g10, hq⟩ := hq
        refine x_callS (Yc := YX12_upperBits) (as := [.int (Int64.toInt32 x8), .int (Int64.toInt32 x10)]) (st := [.long x4]) q4555 msX12_upperBits rfl dX12_members_148 (xle (xal1 rfl (xal1 rfl xal0)) (by decide)) (xfr g9) (xlo (xsw2 rfl xsw0) (by decide) g10) (xKj hq (fun x12 h11 hq e13 => ?_) (fun _ _ q _ => q))
        replace hq := hq e13
        refine x_lor dX12_members_151 ?_
        refine x_lstore (lv' := [(4, .long (x4 ||| x12)), (2, .long (x2 ||| x7)), (0, rv x0), (6, .int x6), (7, .int x7), (8, .long x8), (10, .long x10)]) dX12_members_152 (by decide) rfl ?_
        refine xP.pick (lv' := [(0, rv x0), (2, .long (x2 ||| x7)), (4, .long (x4 ||| x12)), (6, .int x6)]) [2, 1, 0, 3] rfl ?_
        exact uX12_members_154 hq
      · replace hq := hq.2 c3
        refine xP.pick (lv' := [(0, rv x0), (7, .int x7)]) [0, 4] rfl ?_
        exact uX12_members_115 hq
  · replace hq := hq.2 c1
    refine x_goto (tgt := 154) dX12_members_96 (by decide) ?_
    refine xP.pick (lv' := [(0, rv x0), (2, .long x2), (4, .long x4), (6, .int x6)]) [0, 1, 2, 3] rfl ?_
    exact uX12_members_154 hq
set_option maxRecDepth 100000 in
def bX12_members_13 (G : xG) (fr lo : Nat) (x0 : Nat) (x2 : Int64) (x4 : Int64) (x6 : Int32) (h : xH) (Q : Outcome → xH → Prop) : Prop := ((x6 = (-1) → tg h x0 = 13 ∧ (∀ h3 : xH, h3 = sJ h x0 3177 x2 → (∀ h6 : xH, h6 = sJ h3 x0 3178 x4 → Q (.returned none) h6))) ∧ (¬ x6 = (-1) → tg h x0 = 13 ∧ tg h (fR h x0 3103) = 100 ∧ vp_in x6 (ln h (fR h x0 3103)) ∧ 1 ≤ fr ∧ 37 ≤ lo ∧ xRv G YX12_evaluate (fr - 1) (lo - 37) [rv x0, .int (aI h (fR h x0 3103) (Int32.toNatClampNeg x6))] h (fun h13 => xext h h13 → (((fI h13 x0 3170) = 0 → tg h13 (fR h13 x0 3105) = 100 ∧ vp_in (aI h (fR h x0 3103) (Int32.toNatClampNeg x6)) (ln h13 (fR h13 x0 3105)) ∧ (((aI h13 (fR h13 x0 3105) (Int32.toNatClampNeg (aI h (fR h x0 3103) (Int32.toNatClampNeg x6)))) = (-1) → bX12_members_88 G fr lo x0 x2 x4 x6 (aI h (fR h x0 3103) (Int32.toNatClampNeg x6)) (fJ h13 x0 3177) (fJ h13 x0 3177) h13 Q) ∧ (¬ (aI h13 (fR h13 x0 3105) (Int32.toNatClampNeg (aI h (fR h x0 3103) (Int32.toNatClampNeg x6)))) = (-1) → vp_in (aI h (fR h x0 3103) (Int32.toNatClampNeg x6)) (ln h13 (fR h13 x0 3105)) ∧ 1 ≤ fr ∧ 37 ≤ lo ∧ xRv G YX12_evaluate (fr - 1) (lo - 37) [rv x0, .int (aI h13 (fR h13 x0 3105) (Int32.toNatClampNeg (aI h (fR h x0 3103) (Int32.toNatClampNeg x6))))] h13 (fun h24 => xext h13 h24 → (((fI h24 x0 3170) = 0 → bX12_members_88 G fr lo x0 x2 x4 x6 (aI h (fR h x0 3103) (Int32.toNatClampNeg x6)) (fJ h13 x0 3177) (fJ h24 x0 3177) h24 Q) ∧ (¬ (fI h24 x0 3170) = 0 → Q (.returned none) h24))) (fun r h2 => Q (.threw r) h2)))) ∧ (¬ (fI h13 x0 3170) = 0 → Q (.returned none) h13))) (fun r h2 => Q (.threw r) h2)))
set_option maxRecDepth 100000 in
theorem uX12_members_13 {G : xG} {fr lo : Nat} {x0 : Nat} {x2 : Int64} {x4 : Int64} {x6 : Int32} {h : xH} {Q : Outcome → xH → Prop} (hq : bX12_members_13 G fr lo x0 x2 x4 x6 h Q) : xP G YX12_members fr lo 13 [(0, rv x0), (2, .long x2), (4, .long x4), (6, .int x6)] [] h Q := by
  unfold bX12_members_13 at hq
  refine x_iload 3 dX12_members_13 rfl ?_
  refine x_iconst (v := (-1)) dX12_members_15 (by decide) ?_
  refine x_icmp_eq (tgt := 166) dX12_members_16 (by decide) (fun c1 => ?_) (fun c1 => ?_)
  · replace hq := hq.1 c1
    refine x_aload_n 0 dX12_members_166 rfl ?_
    refine x_lload_n 1 dX12_members_167 rfl ?_
    obtain ⟨g2, hq⟩ := hq
    obtain ⟨h3, e4⟩ : ∃ y, y = sJ h x0 3177 x2 := ⟨_, rfl⟩
    replace hq := hq h3 e4
    refine x_putJ fdX12_1145 dX12_members_168 g2 (Or.inl (by rw [g2]; rfl)) rfl e4 ?_
    refine x_aload_n 0 dX12_members_171 rfl ?_
    refine x_lload 2 dX12_members_172 rfl ?_
    have t5 : tg h3 x0 = 13 := by rw [e4]; exact g2
    obtain ⟨h6, e7⟩ : ∃ y, y = sJ h3 x0 3178 x4 := ⟨_, rfl⟩
    replace hq := hq h6 e7
    refine x_putJ fdX12_1148 dX12_members_174 t5 (Or.inl (by rw [t5]; rfl)) rfl e7 ?_
    exact x_vret rfl dX12_members_177 hq
  · replace hq := hq.2 c1
    refine x_aload_n 0 dX12_members_19 rfl ?_
    obtain ⟨g8, hq⟩ := hq
    refine x_get (v := rv (fR h x0 3103)) fdX12_73 dX12_members_20 g8 rfl ?_
    refine x_iload 3 dX12_members_23 rfl ?_
    obtain ⟨g9, hq⟩ := hq
    obtain ⟨i10, hq⟩ := hq
    refine x_iald 0 (Or.inl rfl) g9 i10 dX12_members_25 ?_
    refine x_istore (lv' := [(7, .int (aI h (fR h x0 3103) (Int32.toNatClampNeg x6))), (0, rv x0), (2, .long x2), (4, .long x4), (6, .int x6)]) dX12_members_26 (by decide) rfl ?_
    refine x_aload_n 1 dX12_members_28 rfl ?_
    refine x_iload 0 dX12_members_29 rfl ?_
    obtain ⟨g11, g12, hq⟩ := hq
    refine x_callV (Yc := YX12_evaluate) (as := [.int (aI h (fR h x0 3103) (Int32.toNatClampNeg x6))]) (st := []) q4543 mvX12_evaluate g8 rfl dX12_members_31 (xle (xal1 (rv_cat _) (xal1 rfl xal0)) (by decide)) (xfr g11) (xlo xsw0 (by decide) g12) (xKv hq (fun h13 hq e15 => ?_) (fun _ _ q _ => q))
    replace hq := hq e15
    refine x_aload_n 1 dX12_members_34 rfl ?_
    have t16 : tg h13 x0 = 13 := e15.tg g8 (by decide)
    refine x_get (v := .int (fI h13 x0 3170)) fdX12_1121 dX12_members_35 t16 rfl ?_
    refine x_if_eq (tgt := 42) dX12_members_38 (by decide) (fun c17 => ?_) (fun c17 => ?_)
    · replace hq := hq.1 c17
      refine x_aload_n 1 dX12_members_42 rfl ?_
      refine x_get (v := .long (fJ h13 x0 3177)) fdX12_1145 dX12_members_43 t16 rfl ?_
      refine x_lstore (lv' := [(8, .long (fJ h13 x0 3177)), (7, .int (aI h (fR h x0 3103) (Int32.toNatClampNeg x6))), (0, rv x0), (2, .long x2), (4, .long x4), (6, .int x6)]) dX12_members_46 (by decide) rfl ?_
      refine x_lload 0 dX12_members_48 rfl ?_
      refine x_lstore (lv' := [(10, .long (fJ h13 x0 3177)), (8, .long (fJ h13 x0 3177)), (7, .int (aI h (fR h x0 3103) (Int32.toNatClampNeg x6))), (0, rv x0), (2, .long x2), (4, .long x4), (6, .int x6)]) dX12_members_50 (by decide) rfl ?_
      refine x_aload_n 3 dX12_members_52 rfl ?_
      refine x_get (v := rv (fR h13 x0 3105)) fdX12_79 dX12_members_53 t16 rfl ?_
      refine x_iload 2 dX12_members_56 rfl ?_
      obtain ⟨g18, hq⟩ := hq
      obtain ⟨i19, hq⟩ := hq
      refine x_iald 0 (Or.inl rfl) g18 i19 dX12_members_58 ?_
      refine x_iconst (v := (-1)) dX12_members_59 (by decide) ?_
      refine x_icmp_eq (tgt := 88) dX12_members_60 (by decide) (fun c20 => ?_) (fun c20 => ?_)
      · replace hq := hq.1 c20
        refine xP.pick (lv' := [(0, rv x0), (2, .long x2), (4, .long x4), (6, .int x6), (7, .int (aI h (fR h x0 3103) (Int32.toNatClampNeg x6))), (8, .long (fJ h13 x0 3177)), (10, .long (fJ h13 x0 3177))]) [3, 4, 5, 6, 2, 1, 0] rfl ?_
        exact uX12_members_88 hq
      · replace hq := hq.2 c20
        refine x_aload_n 3 dX12_members_63 rfl ?_
        refine x_aload_n 3 dX12_members_64 rfl ?_
        refine x_get (v := rv (fR h13 x0 3105)) fdX12_79 dX12_members_65 t16 rfl ?_
        refine x_iload 2 dX12_members_68 rfl ?_
        obtain ⟨i21, hq⟩ := hq
        refine x_iald 0 (Or.inl rfl) g18 i21 dX12_members_70 ?_
        obtain ⟨g22, g23, hq⟩ := hq
        refine x_callV (Yc := YX12_evaluate) (as := [.int (aI h13 (fR h13 x0 3105) (Int32.toNatClampNeg (aI h (fR h x0 3103) (Int32.toNatClampNeg x6))))]) (st := []) q4543 mvX12_evaluate t16 rfl dX12_members_71 (xle (xal1 (rv_cat _) (xal1 rfl xal0)) (by decide)) (xfr g22) (xlo xsw0 (by decide) g23) (xKv hq (fun h24 hq e26 => ?_) (fun _ _ q _ => q))
        replace hq := hq e26
        refine x_aload_n 3 dX12_members_74 rfl ?_
        have t27 : tg h24 x0 = 13 := e26.tg t16 (by decide)
        refine x_get (v := .int (fI h24 x0 3170)) fdX12_1121 dX12_members_75 t27 rfl ?_
        refine x_if_eq (tgt := 82) dX12_members_78 (by decide) (fun c28 => ?_) (fun c28 => ?_)
        · replace hq := hq.1 c28
          refine x_aload_n 3 dX12_members_82 rfl ?_
          refine x_get (v := .long (fJ h24 x0 3177)) fdX12_1145 dX12_members_83 t27 rfl ?_
          refine x_lstore (lv' := [(10, .long (fJ h24 x0 3177)), (8, .long (fJ h13 x0 3177)), (7, .int (aI h (fR h x0 3103) (Int32.toNatClampNeg x6))), (0, rv x0), (2, .long x2), (4, .long x4), (6, .int x6)]) dX12_members_86 (by decide) rfl ?_
          refine xP.pick (lv' := [(0, rv x0), (2, .long x2), (4, .long x4), (6, .int x6), (7, .int (aI h (fR h x0 3103) (Int32.toNatClampNeg x6))), (8, .long (fJ h13 x0 3177)), (10, .long (fJ h24 x0 3177))]) [3, 4, 5, 6, 2, 1, 0] rfl ?_
          exact uX12_members_88 hq
        · replace hq := hq.2 c28
          exact x_vret rfl dX12_members_81 hq
    · replace hq := hq.2 c17
      exact x_vret rfl dX12_members_41 hq
set_option maxRecDepth 100000 in
def bX12_members (G : xG) (fr lo : Nat) (x0 : Nat) (x1 : Int32) (h : xH) (Q : Outcome → xH → Prop) : Prop := tg h x0 = 13 ∧ tg h (fR h x0 3103) = 100 ∧ vp_in x1 (ln h (fR h x0 3103)) ∧ lX12_members_13 G fr lo x0 0 0 (aI h (fR h x0 3103) (Int32.toNatClampNeg x1)) h Q
set_option maxRecDepth 100000 in
theorem uX12_members {G : xG} {fr lo : Nat} {x0 : Nat} {x1 : Int32} {h : xH} {Q : Outcome → xH → Prop} (hq : bX12_members G fr lo x0 x1 h Q) : xP G YX12_members fr lo 0 [(0, rv x0), (1, .int x1)] [] h Q := by
  unfold bX12_members at hq
  refine x_lconst (v := 0) dX12_members_0 (by decide) ?_
  refine x_lstore_n (lv' := [(2, .long 0), (0, rv x0), (1, .int x1)]) dX12_members_1 (by decide) rfl ?_
  refine x_lconst (v := 0) dX12_members_2 (by decide) ?_
  refine x_lstore (lv' := [(4, .long 0), (2, .long 0), (0, rv x0), (1, .int x1)]) dX12_members_3 (by decide) rfl ?_
  refine x_aload_n 2 dX12_members_5 rfl ?_
  obtain ⟨g1, hq⟩ := hq
  refine x_get (v := rv (fR h x0 3103)) fdX12_73 dX12_members_6 g1 rfl ?_
  refine x_iload_n 3 dX12_members_9 rfl ?_
  obtain ⟨g2, hq⟩ := hq
  obtain ⟨i3, hq⟩ := hq
  refine x_iald 0 (Or.inl rfl) g2 i3 dX12_members_10 ?_
  refine x_istore (lv' := [(6, .int (aI h (fR h x0 3103) (Int32.toNatClampNeg x1))), (4, .long 0), (2, .long 0), (0, rv x0), (1, .int x1)]) dX12_members_11 (by decide) rfl ?_
  refine xP.pick (lv' := [(0, rv x0), (2, .long 0), (4, .long 0), (6, .int (aI h (fR h x0 3103) (Int32.toNatClampNeg x1)))]) [3, 2, 1, 0] rfl ?_
  exact hq
theorem rX12_members {G : xG} {fr lo : Nat} {x0 : Nat} {x1 : Int32} {h : xH} {Q : Outcome → xH → Prop} (hq : bX12_members G fr lo x0 x1 h Q) : xR G YX12_members fr lo [rv x0, .int x1] h Q := by
  show xP _ _ _ _ _ (lv_args 0 _) _ _ _
  rw [show lv_args 0 [rv x0, .int x1] = [(0, rv x0), (1, .int x1)] from (xla1 (rv_cat _) (xla1 rfl xla0))]
  exact uX12_members hq
set_option maxRecDepth 100000 in
theorem dX12_lowerBits_0 : decode cX12_lowerBits 0 = .ok (.lconst 0, 1) := by decide +kernel
set_option maxRecDepth 100000 in
theorem dX12_lowerBits_1 : decode cX12_lowerBits 1 = .ok (.lstore_n 2, 1) := by decide +kernel
set_option maxRecDepth 100000 in
theorem dX12_lowerBits_2 : decode cX12_lowerBits 2 = .ok (.iload_n 0, 1) := by decide +kernel
set_option maxRecDepth 100000 in
theorem dX12_lowerBits_3 : decode cX12_lowerBits 3 = .ok (.istore 4, 2) := by decide +kernel
set_option maxRecDepth 100000 in
theorem dX12_lowerBits_5 : decode cX12_lowerBits 5 = .ok (.iload 4, 2) := by decide +kernel
set_option maxRecDepth 100000 in
theorem dX12_lowerBits_7 : decode cX12_lowerBits 7 = .ok (.iload_n 1, 1) := by decide +kernel
set_option maxRecDepth 100000 in
theorem dX12_lowerBits_8 : decode cX12_lowerBits 8 = .ok (.if_icmp .gt 23, 3) := by decide +kernel
set_option maxRecDepth 100000 in
theorem dX12_lowerBits_11 : decode cX12_lowerBits 11 = .ok (.iload 4, 2) := by decide +kernel
set_option maxRecDepth 100000 in
theorem dX12_lowerBits_13 : decode cX12_lowerBits 13 = .ok (.bipush 64, 2) := by decide +kernel
set_option maxRecDepth 100000 in
theorem dX12_lowerBits_15 : decode cX12_lowerBits 15 = .ok (.if_icmp .ge 16, 3) := by decide +kernel
set_option maxRecDepth 100000 in
theorem dX12_lowerBits_18 : decode cX12_lowerBits 18 = .ok (.lload_n 2, 1) := by decide +kernel
set_option maxRecDepth 100000 in
theorem dX12_lowerBits_19 : decode cX12_lowerBits 19 = .ok (.lconst 1, 1) := by decide +kernel
set_option maxRecDepth 100000 in
theorem dX12_lowerBits_20 : decode cX12_lowerBits 20 = .ok (.iload 4, 2) := by decide +kernel
set_option maxRecDepth 100000 in
theorem dX12_lowerBits_22 : decode cX12_lowerBits 22 = .ok (.lshl, 1) := by decide +kernel
set_option maxRecDepth 100000 in
theorem dX12_lowerBits_23 : decode cX12_lowerBits 23 = .ok (.lor, 1) := by decide +kernel
set_option maxRecDepth 100000 in
theorem dX12_lowerBits_24 : decode cX12_lowerBits 24 = .ok (.lstore_n 2, 1) := by decide +kernel
set_option maxRecDepth 100000 in
theorem dX12_lowerBits_25 : decode cX12_lowerBits 25 = .ok (.iinc 4 1, 3) := by decide +kernel
set_option maxRecDepth 100000 in
theorem dX12_lowerBits_28 : decode cX12_lowerBits 28 = .ok (.goto (-23), 3) := by decide +kernel
set_option maxRecDepth 100000 in
theorem dX12_lowerBits_31 : decode cX12_lowerBits 31 = .ok (.lload_n 2, 1) := by decide +kernel
set_option maxRecDepth 100000 in
theorem dX12_lowerBits_32 : decode cX12_lowerBits 32 = .ok (.lreturn, 1) := by decide +kernel
def lX12_lowerBits_5 (G : xG) (fr lo : Nat) (x1 : Int32) (x2 : Int64) (x4 : Int32) (h : xH) (Q : Outcome → xH → Prop) : Prop := xP G YX12_lowerBits fr lo 5 [(1, .int x1), (2, .long x2), (4, .int x4)] [] h Q
set_option maxRecDepth 100000 in
def bX12_lowerBits_31 (G : xG) (fr lo : Nat) (x2 : Int64) (h : xH) (Q : Outcome → xH → Prop) : Prop := Q (.returned (some (.long x2))) h
set_option maxRecDepth 100000 in
theorem uX12_lowerBits_31 {G : xG} {fr lo : Nat} {x2 : Int64} {h : xH} {Q : Outcome → xH → Prop} (hq : bX12_lowerBits_31 G fr lo x2 h Q) : xP G YX12_lowerBits fr lo 31 [(2, .long x2)] [] h Q := by
  unfold bX12_lowerBits_31 at hq
  refine x_lload_n 0 dX12_lowerBits_31 rfl ?_
  exact x_lret rfl dX12_lowerBits_32 hq
set_option maxRecDepth 100000 in
def bX12_lowerBits_5 (G : xG) (fr lo : Nat) (x1 : Int32) (x2 : Int64) (x4 : Int32) (h : xH) (Q : Outcome → xH → Prop) : Prop := ((x1 < x4 → bX12_lowerBits_31 G fr lo x2 h Q) ∧ (¬ x1 < x4 → ((64 ≤ x4 → bX12_lowerBits_31 G fr lo x2 h Q) ∧ (¬ 64 ≤ x4 → lX12_lowerBits_5 G fr lo x1 (x2 ||| (1 <<< (Int32.toInt64 x4 &&& 63))) (x4 + 1) h Q))))
set_option maxRecDepth 100000 in
theorem uX12_lowerBits_5 {G : xG} {fr lo : Nat} {x1 : Int32} {x2 : Int64} {x4 : Int32} {h : xH} {Q : Outcome → xH → Prop} (hq : bX12_lowerBits_5 G fr lo x1 x2 x4 h Q) : xP G YX12_lowerBits fr lo 5 [(1, .int x1), (2, .long x2), (4, .int x4)] [] h Q := by
  unfold bX12_lowerBits_5 at hq
  refine x_iload 2 dX12_lowerBits_5 rfl ?_
  refine x_iload_n 0 dX12_lowerBits_7 rfl ?_
  refine x_icmp_gt (tgt := 31) dX12_lowerBits_8 (by decide) (fun c1 => ?_) (fun c1 => ?_)
  · replace hq := hq.1 c1
    refine xP.pick (lv' := [(2, .long x2)]) [1] rfl ?_
    exact uX12_lowerBits_31 hq
  · replace hq := hq.2 c1
    refine x_iload 2 dX12_lowerBits_11 rfl ?_
    refine x_bipush (v := 64) dX12_lowerBits_13 (by decide) ?_
    refine x_icmp_ge (tgt := 31) dX12_lowerBits_15 (by decide) (fun c2 => ?_) (fun c2 => ?_)
    · replace hq := hq.1 c2
      refine xP.pick (lv' := [(2, .long x2)]) [1] rfl ?_
      exact uX12_lowerBits_31 hq
    · replace hq := hq.2 c2
      refine x_lload_n 1 dX12_lowerBits_18 rfl ?_
      refine x_lconst (v := 1) dX12_lowerBits_19 (by decide) ?_
      refine x_iload 2 dX12_lowerBits_20 rfl ?_
      refine x_lshl dX12_lowerBits_22 ?_
      refine x_lor dX12_lowerBits_23 ?_
      refine x_lstore_n (lv' := [(2, .long (x2 ||| (1 <<< (Int32.toInt64 x4 &&& 63)))), (1, .int x1), (4, .int x4)]) dX12_lowerBits_24 (by decide) rfl ?_
      refine x_iinc (lv' := [(4, .int (x4 + 1)), (2, .long (x2 ||| (1 <<< (Int32.toInt64 x4 &&& 63)))), (1, .int x1)]) 2 dX12_lowerBits_25 rfl (by decide) rfl ?_
      refine x_goto (tgt := 5) dX12_lowerBits_28 (by decide) ?_
      refine xP.pick (lv' := [(1, .int x1), (2, .long (x2 ||| (1 <<< (Int32.toInt64 x4 &&& 63)))), (4, .int (x4 + 1))]) [2, 1, 0] rfl ?_
      exact hq
set_option maxRecDepth 100000 in
def bX12_lowerBits (G : xG) (fr lo : Nat) (x0 : Int32) (x1 : Int32) (h : xH) (Q : Outcome → xH → Prop) : Prop := lX12_lowerBits_5 G fr lo x1 0 x0 h Q
set_option maxRecDepth 100000 in
theorem uX12_lowerBits {G : xG} {fr lo : Nat} {x0 : Int32} {x1 : Int32} {h : xH} {Q : Outcome → xH → Prop} (hq : bX12_lowerBits G fr lo x0 x1 h Q) : xP G YX12_lowerBits fr lo 0 [(0, .int x0), (1, .int x1)] [] h Q := by
  unfold bX12_lowerBits at hq
  refine x_lconst (v := 0) dX12_lowerBits_0 (by decide) ?_
  refine x_lstore_n (lv' := [(2, .long 0), (0, .int x0), (1, .int x1)]) dX12_lowerBits_1 (by decide) rfl ?_
  refine x_iload_n 1 dX12_lowerBits_2 rfl ?_
  refine x_istore (lv' := [(4, .int x0), (2, .long 0), (0, .int x0), (1, .int x1)]) dX12_lowerBits_3 (by decide) rfl ?_
  refine xP.pick (lv' := [(1, .int x1), (2, .long 0), (4, .int x0)]) [3, 1, 0] rfl ?_
  exact hq
theorem rX12_lowerBits {G : xG} {fr lo : Nat} {x0 : Int32} {x1 : Int32} {h : xH} {Q : Outcome → xH → Prop} (hq : bX12_lowerBits G fr lo x0 x1 h Q) : xR G YX12_lowerBits fr lo [.int x0, .int x1] h Q := by
  show xP _ _ _ _ _ (lv_args 0 _) _ _ _
  rw [show lv_args 0 [.int x0, .int x1] = [(0, .int x0), (1, .int x1)] from (xla1 rfl (xla1 rfl xla0))]
  exact uX12_lowerBits hq
set_option maxRecDepth 100000 in
theorem dX12_upperBits_0 : decode cX12_upperBits 0 = .ok (.lconst 0, 1) := by decide +kernel
set_option maxRecDepth 100000 in
theorem dX12_upperBits_1 : decode cX12_upperBits 1 = .ok (.lstore_n 2, 1) := by decide +kernel
set_option maxRecDepth 100000 in
theorem dX12_upperBits_2 : decode cX12_upperBits 2 = .ok (.iload_n 0, 1) := by decide +kernel
set_option maxRecDepth 100000 in
theorem dX12_upperBits_3 : decode cX12_upperBits 3 = .ok (.bipush 64, 2) := by decide +kernel
set_option maxRecDepth 100000 in
theorem dX12_upperBits_5 : decode cX12_upperBits 5 = .ok (.invokestatic 1154, 3) := by decide +kernel
set_option maxRecDepth 100000 in
theorem dX12_upperBits_8 : decode cX12_upperBits 8 = .ok (.istore 4, 2) := by decide +kernel
set_option maxRecDepth 100000 in
theorem dX12_upperBits_10 : decode cX12_upperBits 10 = .ok (.iload 4, 2) := by decide +kernel
set_option maxRecDepth 100000 in
theorem dX12_upperBits_12 : decode cX12_upperBits 12 = .ok (.iload_n 1, 1) := by decide +kernel
set_option maxRecDepth 100000 in
theorem dX12_upperBits_13 : decode cX12_upperBits 13 = .ok (.if_icmp .gt 19, 3) := by decide +kernel
set_option maxRecDepth 100000 in
theorem dX12_upperBits_16 : decode cX12_upperBits 16 = .ok (.lload_n 2, 1) := by decide +kernel
set_option maxRecDepth 100000 in
theorem dX12_upperBits_17 : decode cX12_upperBits 17 = .ok (.lconst 1, 1) := by decide +kernel
set_option maxRecDepth 100000 in
theorem dX12_upperBits_18 : decode cX12_upperBits 18 = .ok (.iload 4, 2) := by decide +kernel
set_option maxRecDepth 100000 in
theorem dX12_upperBits_20 : decode cX12_upperBits 20 = .ok (.bipush 64, 2) := by decide +kernel
set_option maxRecDepth 100000 in
theorem dX12_upperBits_22 : decode cX12_upperBits 22 = .ok (.isub, 1) := by decide +kernel
set_option maxRecDepth 100000 in
theorem dX12_upperBits_23 : decode cX12_upperBits 23 = .ok (.lshl, 1) := by decide +kernel
set_option maxRecDepth 100000 in
theorem dX12_upperBits_24 : decode cX12_upperBits 24 = .ok (.lor, 1) := by decide +kernel
set_option maxRecDepth 100000 in
theorem dX12_upperBits_25 : decode cX12_upperBits 25 = .ok (.lstore_n 2, 1) := by decide +kernel
set_option maxRecDepth 100000 in
theorem dX12_upperBits_26 : decode cX12_upperBits 26 = .ok (.iinc 4 1, 3) := by decide +kernel
set_option maxRecDepth 100000 in
theorem dX12_upperBits_29 : decode cX12_upperBits 29 = .ok (.goto (-19), 3) := by decide +kernel
set_option maxRecDepth 100000 in
theorem dX12_upperBits_32 : decode cX12_upperBits 32 = .ok (.lload_n 2, 1) := by decide +kernel
set_option maxRecDepth 100000 in
theorem dX12_upperBits_33 : decode cX12_upperBits 33 = .ok (.lreturn, 1) := by decide +kernel
def lX12_upperBits_10 (G : xG) (fr lo : Nat) (x1 : Int32) (x2 : Int64) (x4 : Int32) (h : xH) (Q : Outcome → xH → Prop) : Prop := xP G YX12_upperBits fr lo 10 [(1, .int x1), (2, .long x2), (4, .int x4)] [] h Q
set_option maxRecDepth 100000 in
def bX12_upperBits_10 (G : xG) (fr lo : Nat) (x1 : Int32) (x2 : Int64) (x4 : Int32) (h : xH) (Q : Outcome → xH → Prop) : Prop := ((x1 < x4 → Q (.returned (some (.long x2))) h) ∧ (¬ x1 < x4 → lX12_upperBits_10 G fr lo x1 (x2 ||| (1 <<< (Int32.toInt64 (x4 - 64) &&& 63))) (x4 + 1) h Q))
set_option maxRecDepth 100000 in
theorem uX12_upperBits_10 {G : xG} {fr lo : Nat} {x1 : Int32} {x2 : Int64} {x4 : Int32} {h : xH} {Q : Outcome → xH → Prop} (hq : bX12_upperBits_10 G fr lo x1 x2 x4 h Q) : xP G YX12_upperBits fr lo 10 [(1, .int x1), (2, .long x2), (4, .int x4)] [] h Q := by
  unfold bX12_upperBits_10 at hq
  refine x_iload 2 dX12_upperBits_10 rfl ?_
  refine x_iload_n 0 dX12_upperBits_12 rfl ?_
  refine x_icmp_gt (tgt := 32) dX12_upperBits_13 (by decide) (fun c1 => ?_) (fun c1 => ?_)
  · replace hq := hq.1 c1
    refine x_lload_n 1 dX12_upperBits_32 rfl ?_
    exact x_lret rfl dX12_upperBits_33 hq
  · replace hq := hq.2 c1
    refine x_lload_n 1 dX12_upperBits_16 rfl ?_
    refine x_lconst (v := 1) dX12_upperBits_17 (by decide) ?_
    refine x_iload 2 dX12_upperBits_18 rfl ?_
    refine x_bipush (v := 64) dX12_upperBits_20 (by decide) ?_
    refine x_isub dX12_upperBits_22 ?_
    refine x_lshl dX12_upperBits_23 ?_
    refine x_lor dX12_upperBits_24 ?_
    refine x_lstore_n (lv' := [(2, .long (x2 ||| (1 <<< (Int32.toInt64 (x4 - 64) &&& 63)))), (1, .int x1), (4, .int x4)]) dX12_upperBits_25 (by decide) rfl ?_
    refine x_iinc (lv' := [(4, .int (x4 + 1)), (2, .long (x2 ||| (1 <<< (Int32.toInt64 (x4 - 64) &&& 63)))), (1, .int x1)]) 2 dX12_upperBits_26 rfl (by decide) rfl ?_
    refine x_goto (tgt := 10) dX12_upperBits_29 (by decide) ?_
    refine xP.pick (lv' := [(1, .int x1), (2, .long (x2 ||| (1 <<< (Int32.toInt64 (x4 - 64) &&& 63)))), (4, .int (x4 + 1))]) [2, 1, 0] rfl ?_
    exact hq
set_option maxRecDepth 100000 in
def bX12_upperBits (G : xG) (fr lo : Nat) (x0 : Int32) (x1 : Int32) (h : xH) (Q : Outcome → xH → Prop) : Prop := 1 ≤ fr ∧ 13 ≤ lo ∧ xRi G YJ10_max (fr - 1) (lo - 13) [.int x0, .int 64] h (fun x4 h3 => xext h h3 → lX12_upperBits_10 G fr lo x1 0 x4 h3 Q) (fun r h2 => Q (.threw r) h2)
set_option maxRecDepth 100000 in
theorem uX12_upperBits {G : xG} {fr lo : Nat} {x0 : Int32} {x1 : Int32} {h : xH} {Q : Outcome → xH → Prop} (hq : bX12_upperBits G fr lo x0 x1 h Q) : xP G YX12_upperBits fr lo 0 [(0, .int x0), (1, .int x1)] [] h Q := by
  unfold bX12_upperBits at hq
  refine x_lconst (v := 0) dX12_upperBits_0 (by decide) ?_
  refine x_lstore_n (lv' := [(2, .long 0), (0, .int x0), (1, .int x1)]) dX12_upperBits_1 (by decide) rfl ?_
  refine x_iload_n 1 dX12_upperBits_2 rfl ?_
  refine x_bipush (v := 64) dX12_upperBits_3 (by decide) ?_
  obtain ⟨g1, g2, hq⟩ := hq
  refine x_callS (Yc := YJ10_max) (as := [.int x0, .int 64]) (st := []) q4488 msJ10_max rfl dX12_upperBits_5 (xle (xal1 rfl (xal1 rfl xal0)) (by decide)) (xfr g1) (xlo xsw0 (by decide) g2) (xKi hq (fun x4 h3 hq e5 => ?_) (fun _ _ q _ => q))
  replace hq := hq e5
  refine x_istore (lv' := [(4, .int x4), (2, .long 0), (0, .int x0), (1, .int x1)]) dX12_upperBits_8 (by decide) rfl ?_
  refine xP.pick (lv' := [(1, .int x1), (2, .long 0), (4, .int x4)]) [3, 1, 0] rfl ?_
  exact hq
theorem rX12_upperBits {G : xG} {fr lo : Nat} {x0 : Int32} {x1 : Int32} {h : xH} {Q : Outcome → xH → Prop} (hq : bX12_upperBits G fr lo x0 x1 h Q) : xR G YX12_upperBits fr lo [.int x0, .int x1] h Q := by
  show xP _ _ _ _ _ (lv_args 0 _) _ _ _
  rw [show lv_args 0 [.int x0, .int x1] = [(0, .int x0), (1, .int x1)] from (xla1 rfl (xla1 rfl xla0))]
  exact uX12_upperBits hq
set_option maxRecDepth 100000 in
theorem dX12_there_0 : decode cX12_there 0 = .ok (.iload_n 1, 1) := by decide +kernel
set_option maxRecDepth 100000 in
theorem dX12_there_1 : decode cX12_there 1 = .ok (.bipush 21, 2) := by decide +kernel
set_option maxRecDepth 100000 in
theorem dX12_there_3 : decode cX12_there 3 = .ok (.if_icmp .lt 149, 3) := by decide +kernel
set_option maxRecDepth 100000 in
theorem dX12_there_6 : decode cX12_there 6 = .ok (.aload_n 0, 1) := by decide +kernel
set_option maxRecDepth 100000 in
theorem dX12_there_7 : decode cX12_there 7 = .ok (.iload_n 2, 1) := by decide +kernel
set_option maxRecDepth 100000 in
theorem dX12_there_8 : decode cX12_there 8 = .ok (.iconst (-1), 1) := by decide +kernel
set_option maxRecDepth 100000 in
theorem dX12_there_9 : decode cX12_there 9 = .ok (.if_icmp .ne 10, 3) := by decide +kernel
set_option maxRecDepth 100000 in
theorem dX12_there_12 : decode cX12_there 12 = .ok (.aload_n 0, 1) := by decide +kernel
set_option maxRecDepth 100000 in
theorem dX12_there_13 : decode cX12_there 13 = .ok (.getfield 727, 3) := by decide +kernel
set_option maxRecDepth 100000 in
theorem dX12_there_16 : decode cX12_there 16 = .ok (.goto 13, 3) := by decide +kernel
set_option maxRecDepth 100000 in
theorem dX12_there_19 : decode cX12_there 19 = .ok (.aload_n 0, 1) := by decide +kernel
set_option maxRecDepth 100000 in
theorem dX12_there_20 : decode cX12_there 20 = .ok (.getfield 102, 3) := by decide +kernel
set_option maxRecDepth 100000 in
theorem dX12_there_23 : decode cX12_there 23 = .ok (.aload_n 0, 1) := by decide +kernel
set_option maxRecDepth 100000 in
theorem dX12_there_24 : decode cX12_there 24 = .ok (.iload_n 2, 1) := by decide +kernel
set_option maxRecDepth 100000 in
theorem dX12_there_25 : decode cX12_there 25 = .ok (.invokevirtual 1022, 3) := by decide +kernel
set_option maxRecDepth 100000 in
theorem dX12_there_28 : decode cX12_there 28 = .ok (.aaload, 1) := by decide +kernel
set_option maxRecDepth 100000 in
theorem dX12_there_29 : decode cX12_there 29 = .ok (.invokevirtual 1304, 3) := by decide +kernel
set_option maxRecDepth 100000 in
theorem dX12_there_32 : decode cX12_there 32 = .ok (.istore 4, 2) := by decide +kernel
set_option maxRecDepth 100000 in
theorem dX12_there_34 : decode cX12_there 34 = .ok (.iload_n 1, 1) := by decide +kernel
set_option maxRecDepth 100000 in
theorem dX12_there_35 : decode cX12_there 35 = .ok (.bipush 21, 2) := by decide +kernel
set_option maxRecDepth 100000 in
theorem dX12_there_37 : decode cX12_there 37 = .ok (.if_icmp .ne 54, 3) := by decide +kernel
set_option maxRecDepth 100000 in
theorem dX12_there_40 : decode cX12_there 40 = .ok (.aload_n 0, 1) := by decide +kernel
set_option maxRecDepth 100000 in
theorem dX12_there_41 : decode cX12_there 41 = .ok (.getfield 204, 3) := by decide +kernel
set_option maxRecDepth 100000 in
theorem dX12_there_44 : decode cX12_there 44 = .ok (.iload 4, 2) := by decide +kernel
set_option maxRecDepth 100000 in
theorem dX12_there_46 : decode cX12_there 46 = .ok (.iaload, 1) := by decide +kernel
set_option maxRecDepth 100000 in
theorem dX12_there_47 : decode cX12_there 47 = .ok (.ifCond .ne 10, 3) := by decide +kernel
set_option maxRecDepth 100000 in
theorem dX12_there_50 : decode cX12_there 50 = .ok (.aload_n 0, 1) := by decide +kernel
set_option maxRecDepth 100000 in
theorem dX12_there_51 : decode cX12_there 51 = .ok (.bipush 10, 2) := by decide +kernel
set_option maxRecDepth 100000 in
theorem dX12_there_53 : decode cX12_there 53 = .ok (.iload_n 3, 1) := by decide +kernel
set_option maxRecDepth 100000 in
theorem dX12_there_54 : decode cX12_there 54 = .ok (.invokevirtual 1142, 3) := by decide +kernel
set_option maxRecDepth 100000 in
theorem dX12_there_57 : decode cX12_there 57 = .ok (.aload_n 0, 1) := by decide +kernel
set_option maxRecDepth 100000 in
theorem dX12_there_58 : decode cX12_there 58 = .ok (.aload_n 0, 1) := by decide +kernel
set_option maxRecDepth 100000 in
theorem dX12_there_59 : decode cX12_there 59 = .ok (.getfield 204, 3) := by decide +kernel
set_option maxRecDepth 100000 in
theorem dX12_there_62 : decode cX12_there 62 = .ok (.iload 4, 2) := by decide +kernel
set_option maxRecDepth 100000 in
theorem dX12_there_64 : decode cX12_there 64 = .ok (.iaload, 1) := by decide +kernel
set_option maxRecDepth 100000 in
theorem dX12_there_65 : decode cX12_there 65 = .ok (.iconst 2, 1) := by decide +kernel
set_option maxRecDepth 100000 in
theorem dX12_there_66 : decode cX12_there 66 = .ok (.if_icmp .eq 14, 3) := by decide +kernel
set_option maxRecDepth 100000 in
theorem dX12_there_69 : decode cX12_there 69 = .ok (.aload_n 0, 1) := by decide +kernel
set_option maxRecDepth 100000 in
theorem dX12_there_70 : decode cX12_there 70 = .ok (.getfield 213, 3) := by decide +kernel
set_option maxRecDepth 100000 in
theorem dX12_there_73 : decode cX12_there 73 = .ok (.iload 4, 2) := by decide +kernel
set_option maxRecDepth 100000 in
theorem dX12_there_75 : decode cX12_there 75 = .ok (.iaload, 1) := by decide +kernel
set_option maxRecDepth 100000 in
theorem dX12_there_76 : decode cX12_there 76 = .ok (.iconst (-1), 1) := by decide +kernel
set_option maxRecDepth 100000 in
theorem dX12_there_77 : decode cX12_there 77 = .ok (.if_icmp .ne 7, 3) := by decide +kernel
set_option maxRecDepth 100000 in
theorem dX12_there_80 : decode cX12_there 80 = .ok (.lconst 1, 1) := by decide +kernel
set_option maxRecDepth 100000 in
theorem dX12_there_81 : decode cX12_there 81 = .ok (.goto 4, 3) := by decide +kernel
set_option maxRecDepth 100000 in
theorem dX12_there_84 : decode cX12_there 84 = .ok (.lconst 0, 1) := by decide +kernel
set_option maxRecDepth 100000 in
theorem dX12_there_85 : decode cX12_there 85 = .ok (.putfield 1145, 3) := by decide +kernel
set_option maxRecDepth 100000 in
theorem dX12_there_88 : decode cX12_there 88 = .ok (.goto 63, 3) := by decide +kernel
set_option maxRecDepth 100000 in
theorem dX12_there_91 : decode cX12_there 91 = .ok (.aload_n 0, 1) := by decide +kernel
set_option maxRecDepth 100000 in
theorem dX12_there_92 : decode cX12_there 92 = .ok (.getfield 204, 3) := by decide +kernel
set_option maxRecDepth 100000 in
theorem dX12_there_95 : decode cX12_there 95 = .ok (.iload 4, 2) := by decide +kernel
set_option maxRecDepth 100000 in
theorem dX12_there_97 : decode cX12_there 97 = .ok (.iaload, 1) := by decide +kernel
set_option maxRecDepth 100000 in
theorem dX12_there_98 : decode cX12_there 98 = .ok (.iconst 1, 1) := by decide +kernel
set_option maxRecDepth 100000 in
theorem dX12_there_99 : decode cX12_there 99 = .ok (.if_icmp .ne 14, 3) := by decide +kernel
set_option maxRecDepth 100000 in
theorem dX12_there_102 : decode cX12_there 102 = .ok (.aload_n 0, 1) := by decide +kernel
set_option maxRecDepth 100000 in
theorem dX12_there_103 : decode cX12_there 103 = .ok (.getfield 213, 3) := by decide +kernel
set_option maxRecDepth 100000 in
theorem dX12_there_106 : decode cX12_there 106 = .ok (.iload 4, 2) := by decide +kernel
set_option maxRecDepth 100000 in
theorem dX12_there_108 : decode cX12_there 108 = .ok (.iaload, 1) := by decide +kernel
set_option maxRecDepth 100000 in
theorem dX12_there_109 : decode cX12_there 109 = .ok (.iconst (-1), 1) := by decide +kernel
set_option maxRecDepth 100000 in
theorem dX12_there_110 : decode cX12_there 110 = .ok (.if_icmp .ne 13, 3) := by decide +kernel
set_option maxRecDepth 100000 in
theorem dX12_there_113 : decode cX12_there 113 = .ok (.aload_n 0, 1) := by decide +kernel
set_option maxRecDepth 100000 in
theorem dX12_there_114 : decode cX12_there 114 = .ok (.bipush 10, 2) := by decide +kernel
set_option maxRecDepth 100000 in
theorem dX12_there_116 : decode cX12_there 116 = .ok (.iload_n 3, 1) := by decide +kernel
set_option maxRecDepth 100000 in
theorem dX12_there_117 : decode cX12_there 117 = .ok (.invokevirtual 1142, 3) := by decide +kernel
set_option maxRecDepth 100000 in
theorem dX12_there_120 : decode cX12_there 120 = .ok (.goto 31, 3) := by decide +kernel
set_option maxRecDepth 100000 in
theorem dX12_there_123 : decode cX12_there 123 = .ok (.aload_n 0, 1) := by decide +kernel
set_option maxRecDepth 100000 in
theorem dX12_there_124 : decode cX12_there 124 = .ok (.aload_n 0, 1) := by decide +kernel
set_option maxRecDepth 100000 in
theorem dX12_there_125 : decode cX12_there 125 = .ok (.getfield 229, 3) := by decide +kernel
set_option maxRecDepth 100000 in
theorem dX12_there_128 : decode cX12_there 128 = .ok (.aload_n 0, 1) := by decide +kernel
set_option maxRecDepth 100000 in
theorem dX12_there_129 : decode cX12_there 129 = .ok (.getfield 213, 3) := by decide +kernel
set_option maxRecDepth 100000 in
theorem dX12_there_132 : decode cX12_there 132 = .ok (.iload 4, 2) := by decide +kernel
set_option maxRecDepth 100000 in
theorem dX12_there_134 : decode cX12_there 134 = .ok (.iaload, 1) := by decide +kernel
set_option maxRecDepth 100000 in
theorem dX12_there_135 : decode cX12_there 135 = .ok (.laload, 1) := by decide +kernel
set_option maxRecDepth 100000 in
theorem dX12_there_136 : decode cX12_there 136 = .ok (.ldc2_w 389, 3) := by decide +kernel
set_option maxRecDepth 100000 in
theorem dX12_there_139 : decode cX12_there 139 = .ok (.lcmp, 1) := by decide +kernel
set_option maxRecDepth 100000 in
theorem dX12_there_140 : decode cX12_there 140 = .ok (.ifCond .ne 7, 3) := by decide +kernel
set_option maxRecDepth 100000 in
theorem dX12_there_143 : decode cX12_there 143 = .ok (.lconst 1, 1) := by decide +kernel
set_option maxRecDepth 100000 in
theorem dX12_there_144 : decode cX12_there 144 = .ok (.goto 4, 3) := by decide +kernel
set_option maxRecDepth 100000 in
theorem dX12_there_147 : decode cX12_there 147 = .ok (.lconst 0, 1) := by decide +kernel
set_option maxRecDepth 100000 in
theorem dX12_there_148 : decode cX12_there 148 = .ok (.putfield 1145, 3) := by decide +kernel
set_option maxRecDepth 100000 in
theorem dX12_there_151 : decode cX12_there 151 = .ok (.return_, 1) := by decide +kernel
set_option maxRecDepth 100000 in
theorem dX12_there_152 : decode cX12_there 152 = .ok (.aload_n 0, 1) := by decide +kernel
set_option maxRecDepth 100000 in
theorem dX12_there_153 : decode cX12_there 153 = .ok (.iload_n 2, 1) := by decide +kernel
set_option maxRecDepth 100000 in
theorem dX12_there_154 : decode cX12_there 154 = .ok (.invokevirtual 1233, 3) := by decide +kernel
set_option maxRecDepth 100000 in
theorem dX12_there_157 : decode cX12_there 157 = .ok (.aload_n 0, 1) := by decide +kernel
set_option maxRecDepth 100000 in
theorem dX12_there_158 : decode cX12_there 158 = .ok (.getfield 1121, 3) := by decide +kernel
set_option maxRecDepth 100000 in
theorem dX12_there_161 : decode cX12_there 161 = .ok (.ifCond .eq 4, 3) := by decide +kernel
set_option maxRecDepth 100000 in
theorem dX12_there_164 : decode cX12_there 164 = .ok (.return_, 1) := by decide +kernel
set_option maxRecDepth 100000 in
theorem dX12_there_165 : decode cX12_there 165 = .ok (.aload_n 0, 1) := by decide +kernel
set_option maxRecDepth 100000 in
theorem dX12_there_166 : decode cX12_there 166 = .ok (.getfield 96, 3) := by decide +kernel
set_option maxRecDepth 100000 in
theorem dX12_there_169 : decode cX12_there 169 = .ok (.iload_n 2, 1) := by decide +kernel
set_option maxRecDepth 100000 in
theorem dX12_there_170 : decode cX12_there 170 = .ok (.aaload, 1) := by decide +kernel
set_option maxRecDepth 100000 in
theorem dX12_there_171 : decode cX12_there 171 = .ok (.invokevirtual 867, 3) := by decide +kernel
set_option maxRecDepth 100000 in
theorem dX12_there_174 : decode cX12_there 174 = .ok (.astore 4, 2) := by decide +kernel
set_option maxRecDepth 100000 in
theorem dX12_there_176 : decode cX12_there 176 = .ok (.aload 4, 2) := by decide +kernel
set_option maxRecDepth 100000 in
theorem dX12_there_178 : decode cX12_there 178 = .ok (.getfield 845, 3) := by decide +kernel
set_option maxRecDepth 100000 in
theorem dX12_there_181 : decode cX12_there 181 = .ok (.iconst 2, 1) := by decide +kernel
set_option maxRecDepth 100000 in
theorem dX12_there_182 : decode cX12_there 182 = .ok (.if_icmp .eq 7, 3) := by decide +kernel
set_option maxRecDepth 100000 in
theorem dX12_there_185 : decode cX12_there 185 = .ok (.iconst 1, 1) := by decide +kernel
set_option maxRecDepth 100000 in
theorem dX12_there_186 : decode cX12_there 186 = .ok (.goto 4, 3) := by decide +kernel
set_option maxRecDepth 100000 in
theorem dX12_there_189 : decode cX12_there 189 = .ok (.iconst 0, 1) := by decide +kernel
set_option maxRecDepth 100000 in
theorem dX12_there_190 : decode cX12_there 190 = .ok (.istore 5, 2) := by decide +kernel
set_option maxRecDepth 100000 in
theorem dX12_there_192 : decode cX12_there 192 = .ok (.iload_n 1, 1) := by decide +kernel
set_option maxRecDepth 100000 in
theorem dX12_there_193 : decode cX12_there 193 = .ok (.tableswitch 302 11 20 #[55, 80, 152, 199, 216, 257, 260, 302, 302, 289], 55) := by decide +kernel
set_option maxRecDepth 100000 in
theorem dX12_there_248 : decode cX12_there 248 = .ok (.aload_n 0, 1) := by decide +kernel
set_option maxRecDepth 100000 in
theorem dX12_there_249 : decode cX12_there 249 = .ok (.aload_n 0, 1) := by decide +kernel
set_option maxRecDepth 100000 in
theorem dX12_there_250 : decode cX12_there 250 = .ok (.getfield 1145, 3) := by decide +kernel
set_option maxRecDepth 100000 in
theorem dX12_there_253 : decode cX12_there 253 = .ok (.invokestatic 1307, 3) := by decide +kernel
set_option maxRecDepth 100000 in
theorem dX12_there_256 : decode cX12_there 256 = .ok (.putfield 1145, 3) := by decide +kernel
set_option maxRecDepth 100000 in
theorem dX12_there_259 : decode cX12_there 259 = .ok (.aload_n 0, 1) := by decide +kernel
set_option maxRecDepth 100000 in
theorem dX12_there_260 : decode cX12_there 260 = .ok (.aload_n 0, 1) := by decide +kernel
set_option maxRecDepth 100000 in
theorem dX12_there_261 : decode cX12_there 261 = .ok (.getfield 1151, 3) := by decide +kernel
set_option maxRecDepth 100000 in
theorem dX12_there_264 : decode cX12_there 264 = .ok (.invokestatic 1310, 3) := by decide +kernel
set_option maxRecDepth 100000 in
theorem dX12_there_267 : decode cX12_there 267 = .ok (.putfield 1151, 3) := by decide +kernel
set_option maxRecDepth 100000 in
theorem dX12_there_270 : decode cX12_there 270 = .ok (.goto 295, 3) := by decide +kernel
set_option maxRecDepth 100000 in
theorem dX12_there_273 : decode cX12_there 273 = .ok (.iload 5, 2) := by decide +kernel
set_option maxRecDepth 100000 in
theorem dX12_there_275 : decode cX12_there 275 = .ok (.ifCond .eq 37, 3) := by decide +kernel
set_option maxRecDepth 100000 in
theorem dX12_there_278 : decode cX12_there 278 = .ok (.aload_n 0, 1) := by decide +kernel
set_option maxRecDepth 100000 in
theorem dX12_there_279 : decode cX12_there 279 = .ok (.aload_n 0, 1) := by decide +kernel
set_option maxRecDepth 100000 in
theorem dX12_there_280 : decode cX12_there 280 = .ok (.getfield 1145, 3) := by decide +kernel
set_option maxRecDepth 100000 in
theorem dX12_there_283 : decode cX12_there 283 = .ok (.aload_n 0, 1) := by decide +kernel
set_option maxRecDepth 100000 in
theorem dX12_there_284 : decode cX12_there 284 = .ok (.getfield 1145, 3) := by decide +kernel
set_option maxRecDepth 100000 in
theorem dX12_there_287 : decode cX12_there 287 = .ok (.lmul, 1) := by decide +kernel
set_option maxRecDepth 100000 in
theorem dX12_there_288 : decode cX12_there 288 = .ok (.putfield 1145, 3) := by decide +kernel
set_option maxRecDepth 100000 in
theorem dX12_there_291 : decode cX12_there 291 = .ok (.aload_n 0, 1) := by decide +kernel
set_option maxRecDepth 100000 in
theorem dX12_there_292 : decode cX12_there 292 = .ok (.getfield 1145, 3) := by decide +kernel
set_option maxRecDepth 100000 in
theorem dX12_there_295 : decode cX12_there 295 = .ok (.ldc2_w 397, 3) := by decide +kernel
set_option maxRecDepth 100000 in
theorem dX12_there_298 : decode cX12_there 298 = .ok (.lcmp, 1) := by decide +kernel
set_option maxRecDepth 100000 in
theorem dX12_there_299 : decode cX12_there 299 = .ok (.ifCond .le 266, 3) := by decide +kernel
set_option maxRecDepth 100000 in
theorem dX12_there_302 : decode cX12_there 302 = .ok (.aload_n 0, 1) := by decide +kernel
set_option maxRecDepth 100000 in
theorem dX12_there_303 : decode cX12_there 303 = .ok (.bipush 8, 2) := by decide +kernel
set_option maxRecDepth 100000 in
theorem dX12_there_305 : decode cX12_there 305 = .ok (.iload_n 3, 1) := by decide +kernel
set_option maxRecDepth 100000 in
theorem dX12_there_306 : decode cX12_there 306 = .ok (.invokevirtual 1142, 3) := by decide +kernel
set_option maxRecDepth 100000 in
theorem dX12_there_309 : decode cX12_there 309 = .ok (.goto 256, 3) := by decide +kernel
set_option maxRecDepth 100000 in
theorem dX12_there_312 : decode cX12_there 312 = .ok (.aload_n 0, 1) := by decide +kernel
set_option maxRecDepth 100000 in
theorem dX12_there_313 : decode cX12_there 313 = .ok (.aload_n 0, 1) := by decide +kernel
set_option maxRecDepth 100000 in
theorem dX12_there_314 : decode cX12_there 314 = .ok (.getfield 1151, 3) := by decide +kernel
set_option maxRecDepth 100000 in
theorem dX12_there_317 : decode cX12_there 317 = .ok (.aload_n 0, 1) := by decide +kernel
set_option maxRecDepth 100000 in
theorem dX12_there_318 : decode cX12_there 318 = .ok (.getfield 1151, 3) := by decide +kernel
set_option maxRecDepth 100000 in
theorem dX12_there_321 : decode cX12_there 321 = .ok (.dmul, 1) := by decide +kernel
set_option maxRecDepth 100000 in
theorem dX12_there_322 : decode cX12_there 322 = .ok (.putfield 1151, 3) := by decide +kernel
set_option maxRecDepth 100000 in
theorem dX12_there_325 : decode cX12_there 325 = .ok (.aload_n 0, 1) := by decide +kernel
set_option maxRecDepth 100000 in
theorem dX12_there_326 : decode cX12_there 326 = .ok (.getfield 1151, 3) := by decide +kernel
set_option maxRecDepth 100000 in
theorem dX12_there_329 : decode cX12_there 329 = .ok (.invokestatic 1283, 3) := by decide +kernel
set_option maxRecDepth 100000 in
theorem dX12_there_332 : decode cX12_there 332 = .ok (.ifCond .ne 233, 3) := by decide +kernel
set_option maxRecDepth 100000 in
theorem dX12_there_335 : decode cX12_there 335 = .ok (.aload_n 0, 1) := by decide +kernel
set_option maxRecDepth 100000 in
theorem dX12_there_336 : decode cX12_there 336 = .ok (.bipush 8, 2) := by decide +kernel
set_option maxRecDepth 100000 in
theorem dX12_there_338 : decode cX12_there 338 = .ok (.iload_n 3, 1) := by decide +kernel
set_option maxRecDepth 100000 in
theorem dX12_there_339 : decode cX12_there 339 = .ok (.invokevirtual 1142, 3) := by decide +kernel
set_option maxRecDepth 100000 in
theorem dX12_there_342 : decode cX12_there 342 = .ok (.goto 223, 3) := by decide +kernel
set_option maxRecDepth 100000 in
theorem dX12_there_345 : decode cX12_there 345 = .ok (.iload 5, 2) := by decide +kernel
set_option maxRecDepth 100000 in
theorem dX12_there_347 : decode cX12_there 347 = .ok (.ifCond .eq 12, 3) := by decide +kernel
set_option maxRecDepth 100000 in
theorem dX12_there_350 : decode cX12_there 350 = .ok (.aload_n 0, 1) := by decide +kernel
set_option maxRecDepth 100000 in
theorem dX12_there_351 : decode cX12_there 351 = .ok (.aload_n 0, 1) := by decide +kernel
set_option maxRecDepth 100000 in
theorem dX12_there_352 : decode cX12_there 352 = .ok (.getfield 1145, 3) := by decide +kernel
set_option maxRecDepth 100000 in
theorem dX12_there_355 : decode cX12_there 355 = .ok (.l2d, 1) := by decide +kernel
set_option maxRecDepth 100000 in
theorem dX12_there_356 : decode cX12_there 356 = .ok (.putfield 1151, 3) := by decide +kernel
set_option maxRecDepth 100000 in
theorem dX12_there_359 : decode cX12_there 359 = .ok (.aload_n 0, 1) := by decide +kernel
set_option maxRecDepth 100000 in
theorem dX12_there_360 : decode cX12_there 360 = .ok (.getfield 1151, 3) := by decide +kernel
set_option maxRecDepth 100000 in
theorem dX12_there_363 : decode cX12_there 363 = .ok (.dconst 0, 1) := by decide +kernel
set_option maxRecDepth 100000 in
theorem dX12_there_364 : decode cX12_there 364 = .ok (.dcmp .g, 1) := by decide +kernel
set_option maxRecDepth 100000 in
theorem dX12_there_365 : decode cX12_there 365 = .ok (.ifCond .ge 13, 3) := by decide +kernel
set_option maxRecDepth 100000 in
theorem dX12_there_368 : decode cX12_there 368 = .ok (.aload_n 0, 1) := by decide +kernel
set_option maxRecDepth 100000 in
theorem dX12_there_369 : decode cX12_there 369 = .ok (.bipush 16, 2) := by decide +kernel
set_option maxRecDepth 100000 in
theorem dX12_there_371 : decode cX12_there 371 = .ok (.iload_n 3, 1) := by decide +kernel
set_option maxRecDepth 100000 in
theorem dX12_there_372 : decode cX12_there 372 = .ok (.invokevirtual 1142, 3) := by decide +kernel
set_option maxRecDepth 100000 in
theorem dX12_there_375 : decode cX12_there 375 = .ok (.goto 190, 3) := by decide +kernel
set_option maxRecDepth 100000 in
theorem dX12_there_378 : decode cX12_there 378 = .ok (.aload_n 0, 1) := by decide +kernel
set_option maxRecDepth 100000 in
theorem dX12_there_379 : decode cX12_there 379 = .ok (.aload_n 0, 1) := by decide +kernel
set_option maxRecDepth 100000 in
theorem dX12_there_380 : decode cX12_there 380 = .ok (.getfield 1151, 3) := by decide +kernel
set_option maxRecDepth 100000 in
theorem dX12_there_383 : decode cX12_there 383 = .ok (.invokestatic 1313, 3) := by decide +kernel
set_option maxRecDepth 100000 in
theorem dX12_there_386 : decode cX12_there 386 = .ok (.putfield 1151, 3) := by decide +kernel
set_option maxRecDepth 100000 in
theorem dX12_there_389 : decode cX12_there 389 = .ok (.goto 176, 3) := by decide +kernel
set_option maxRecDepth 100000 in
theorem dX12_there_392 : decode cX12_there 392 = .ok (.iload 5, 2) := by decide +kernel
set_option maxRecDepth 100000 in
theorem dX12_there_394 : decode cX12_there 394 = .ok (.ifCond .ne 171, 3) := by decide +kernel
set_option maxRecDepth 100000 in
theorem dX12_there_397 : decode cX12_there 397 = .ok (.aload_n 0, 1) := by decide +kernel
set_option maxRecDepth 100000 in
theorem dX12_there_398 : decode cX12_there 398 = .ok (.aload_n 0, 1) := by decide +kernel
set_option maxRecDepth 100000 in
theorem dX12_there_399 : decode cX12_there 399 = .ok (.getfield 1151, 3) := by decide +kernel
set_option maxRecDepth 100000 in
theorem dX12_there_402 : decode cX12_there 402 = .ok (.iload_n 3, 1) := by decide +kernel
set_option maxRecDepth 100000 in
theorem dX12_there_403 : decode cX12_there 403 = .ok (.invokevirtual 1316, 3) := by decide +kernel
set_option maxRecDepth 100000 in
theorem dX12_there_406 : decode cX12_there 406 = .ok (.goto 159, 3) := by decide +kernel
set_option maxRecDepth 100000 in
theorem dX12_there_409 : decode cX12_there 409 = .ok (.iload 5, 2) := by decide +kernel
set_option maxRecDepth 100000 in
theorem dX12_there_411 : decode cX12_there 411 = .ok (.ifCond .ne 154, 3) := by decide +kernel
set_option maxRecDepth 100000 in
theorem dX12_there_414 : decode cX12_there 414 = .ok (.aload_n 0, 1) := by decide +kernel
set_option maxRecDepth 100000 in
theorem dX12_there_415 : decode cX12_there 415 = .ok (.aload_n 0, 1) := by decide +kernel
set_option maxRecDepth 100000 in
theorem dX12_there_416 : decode cX12_there 416 = .ok (.getfield 1151, 3) := by decide +kernel
set_option maxRecDepth 100000 in
theorem dX12_there_419 : decode cX12_there 419 = .ok (.dconst 0, 1) := by decide +kernel
set_option maxRecDepth 100000 in
theorem dX12_there_420 : decode cX12_there 420 = .ok (.dcmp .g, 1) := by decide +kernel
set_option maxRecDepth 100000 in
theorem dX12_there_421 : decode cX12_there 421 = .ok (.ifCond .ge 14, 3) := by decide +kernel
set_option maxRecDepth 100000 in
theorem dX12_there_424 : decode cX12_there 424 = .ok (.aload_n 0, 1) := by decide +kernel
set_option maxRecDepth 100000 in
theorem dX12_there_425 : decode cX12_there 425 = .ok (.getfield 1151, 3) := by decide +kernel
set_option maxRecDepth 100000 in
theorem dX12_there_428 : decode cX12_there 428 = .ok (.ldc2_w 1320, 3) := by decide +kernel
set_option maxRecDepth 100000 in
theorem dX12_there_431 : decode cX12_there 431 = .ok (.dsub, 1) := by decide +kernel
set_option maxRecDepth 100000 in
theorem dX12_there_432 : decode cX12_there 432 = .ok (.goto 11, 3) := by decide +kernel
set_option maxRecDepth 100000 in
theorem dX12_there_435 : decode cX12_there 435 = .ok (.aload_n 0, 1) := by decide +kernel
set_option maxRecDepth 100000 in
theorem dX12_there_436 : decode cX12_there 436 = .ok (.getfield 1151, 3) := by decide +kernel
set_option maxRecDepth 100000 in
theorem dX12_there_439 : decode cX12_there 439 = .ok (.ldc2_w 1320, 3) := by decide +kernel
set_option maxRecDepth 100000 in
theorem dX12_there_442 : decode cX12_there 442 = .ok (.dadd, 1) := by decide +kernel
set_option maxRecDepth 100000 in
theorem dX12_there_443 : decode cX12_there 443 = .ok (.iload_n 3, 1) := by decide +kernel
set_option maxRecDepth 100000 in
theorem dX12_there_444 : decode cX12_there 444 = .ok (.invokevirtual 1316, 3) := by decide +kernel
set_option maxRecDepth 100000 in
theorem dX12_there_447 : decode cX12_there 447 = .ok (.goto 118, 3) := by decide +kernel
set_option maxRecDepth 100000 in
theorem dX12_there_450 : decode cX12_there 450 = .ok (.goto 115, 3) := by decide +kernel
set_option maxRecDepth 100000 in
theorem dX12_there_453 : decode cX12_there 453 = .ok (.aload_n 0, 1) := by decide +kernel
set_option maxRecDepth 100000 in
theorem dX12_there_454 : decode cX12_there 454 = .ok (.getfield 1145, 3) := by decide +kernel
set_option maxRecDepth 100000 in
theorem dX12_there_457 : decode cX12_there 457 = .ok (.lconst 0, 1) := by decide +kernel
set_option maxRecDepth 100000 in
theorem dX12_there_458 : decode cX12_there 458 = .ok (.lcmp, 1) := by decide +kernel
set_option maxRecDepth 100000 in
theorem dX12_there_459 : decode cX12_there 459 = .ok (.ifCond .lt 14, 3) := by decide +kernel
set_option maxRecDepth 100000 in
theorem dX12_there_462 : decode cX12_there 462 = .ok (.aload_n 0, 1) := by decide +kernel
set_option maxRecDepth 100000 in
theorem dX12_there_463 : decode cX12_there 463 = .ok (.getfield 1145, 3) := by decide +kernel
set_option maxRecDepth 100000 in
theorem dX12_there_466 : decode cX12_there 466 = .ok (.ldc2_w 1302, 3) := by decide +kernel
set_option maxRecDepth 100000 in
theorem dX12_there_469 : decode cX12_there 469 = .ok (.lcmp, 1) := by decide +kernel
set_option maxRecDepth 100000 in
theorem dX12_there_470 : decode cX12_there 470 = .ok (.ifCond .le 95, 3) := by decide +kernel
set_option maxRecDepth 100000 in
theorem dX12_there_473 : decode cX12_there 473 = .ok (.aload_n 0, 1) := by decide +kernel
set_option maxRecDepth 100000 in
theorem dX12_there_474 : decode cX12_there 474 = .ok (.iconst 1, 1) := by decide +kernel
set_option maxRecDepth 100000 in
theorem dX12_there_475 : decode cX12_there 475 = .ok (.iload_n 3, 1) := by decide +kernel
set_option maxRecDepth 100000 in
theorem dX12_there_476 : decode cX12_there 476 = .ok (.invokevirtual 1142, 3) := by decide +kernel
set_option maxRecDepth 100000 in
theorem dX12_there_479 : decode cX12_there 479 = .ok (.goto 86, 3) := by decide +kernel
set_option maxRecDepth 100000 in
theorem dX12_there_482 : decode cX12_there 482 = .ok (.aload_n 0, 1) := by decide +kernel
set_option maxRecDepth 100000 in
theorem dX12_there_483 : decode cX12_there 483 = .ok (.aload_n 0, 1) := by decide +kernel
set_option maxRecDepth 100000 in
theorem dX12_there_484 : decode cX12_there 484 = .ok (.getfield 1145, 3) := by decide +kernel
set_option maxRecDepth 100000 in
theorem dX12_there_487 : decode cX12_there 487 = .ok (.lconst 1, 1) := by decide +kernel
set_option maxRecDepth 100000 in
theorem dX12_there_488 : decode cX12_there 488 = .ok (.land, 1) := by decide +kernel
set_option maxRecDepth 100000 in
theorem dX12_there_489 : decode cX12_there 489 = .ok (.putfield 1145, 3) := by decide +kernel
set_option maxRecDepth 100000 in
theorem dX12_there_492 : decode cX12_there 492 = .ok (.goto 73, 3) := by decide +kernel
set_option maxRecDepth 100000 in
theorem dX12_there_495 : decode cX12_there 495 = .ok (.aload_n 0, 1) := by decide +kernel
set_option maxRecDepth 100000 in
theorem dX12_there_496 : decode cX12_there 496 = .ok (.dup, 1) := by decide +kernel
set_option maxRecDepth 100000 in
theorem dX12_there_497 : decode cX12_there 497 = .ok (.getfield 1145, 3) := by decide +kernel
set_option maxRecDepth 100000 in
theorem dX12_there_500 : decode cX12_there 500 = .ok (.iload_n 1, 1) := by decide +kernel
set_option maxRecDepth 100000 in
theorem dX12_there_501 : decode cX12_there 501 = .ok (.bipush 18, 2) := by decide +kernel
set_option maxRecDepth 100000 in
theorem dX12_there_503 : decode cX12_there 503 = .ok (.if_icmp .ne 7, 3) := by decide +kernel
set_option maxRecDepth 100000 in
theorem dX12_there_506 : decode cX12_there 506 = .ok (.lconst 1, 1) := by decide +kernel
set_option maxRecDepth 100000 in
theorem dX12_there_507 : decode cX12_there 507 = .ok (.goto 6, 3) := by decide +kernel
set_option maxRecDepth 100000 in
theorem dX12_there_510 : decode cX12_there 510 = .ok (.ldc2_w 1160, 3) := by decide +kernel
set_option maxRecDepth 100000 in
theorem dX12_there_513 : decode cX12_there 513 = .ok (.ladd, 1) := by decide +kernel
set_option maxRecDepth 100000 in
theorem dX12_there_514 : decode cX12_there 514 = .ok (.putfield 1145, 3) := by decide +kernel
set_option maxRecDepth 100000 in
theorem dX12_there_517 : decode cX12_there 517 = .ok (.aload_n 0, 1) := by decide +kernel
set_option maxRecDepth 100000 in
theorem dX12_there_518 : decode cX12_there 518 = .ok (.getfield 1145, 3) := by decide +kernel
set_option maxRecDepth 100000 in
theorem dX12_there_521 : decode cX12_there 521 = .ok (.aload 4, 2) := by decide +kernel
set_option maxRecDepth 100000 in
theorem dX12_there_523 : decode cX12_there 523 = .ok (.getfield 591, 3) := by decide +kernel
set_option maxRecDepth 100000 in
theorem dX12_there_526 : decode cX12_there 526 = .ok (.i2l, 1) := by decide +kernel
set_option maxRecDepth 100000 in
theorem dX12_there_527 : decode cX12_there 527 = .ok (.lcmp, 1) := by decide +kernel
set_option maxRecDepth 100000 in
theorem dX12_there_528 : decode cX12_there 528 = .ok (.ifCond .lt 17, 3) := by decide +kernel
set_option maxRecDepth 100000 in
theorem dX12_there_531 : decode cX12_there 531 = .ok (.aload_n 0, 1) := by decide +kernel
set_option maxRecDepth 100000 in
theorem dX12_there_532 : decode cX12_there 532 = .ok (.getfield 1145, 3) := by decide +kernel
set_option maxRecDepth 100000 in
theorem dX12_there_535 : decode cX12_there 535 = .ok (.aload 4, 2) := by decide +kernel
set_option maxRecDepth 100000 in
theorem dX12_there_537 : decode cX12_there 537 = .ok (.getfield 595, 3) := by decide +kernel
set_option maxRecDepth 100000 in
theorem dX12_there_540 : decode cX12_there 540 = .ok (.i2l, 1) := by decide +kernel
set_option maxRecDepth 100000 in
theorem dX12_there_541 : decode cX12_there 541 = .ok (.lcmp, 1) := by decide +kernel
set_option maxRecDepth 100000 in
theorem dX12_there_542 : decode cX12_there 542 = .ok (.ifCond .le 23, 3) := by decide +kernel
set_option maxRecDepth 100000 in
theorem dX12_there_545 : decode cX12_there 545 = .ok (.aload_n 0, 1) := by decide +kernel
set_option maxRecDepth 100000 in
theorem dX12_there_546 : decode cX12_there 546 = .ok (.aload 4, 2) := by decide +kernel
set_option maxRecDepth 100000 in
theorem dX12_there_548 : decode cX12_there 548 = .ok (.getfield 845, 3) := by decide +kernel
set_option maxRecDepth 100000 in
theorem dX12_there_551 : decode cX12_there 551 = .ok (.iconst 1, 1) := by decide +kernel
set_option maxRecDepth 100000 in
theorem dX12_there_552 : decode cX12_there 552 = .ok (.if_icmp .ne 8, 3) := by decide +kernel
set_option maxRecDepth 100000 in
theorem dX12_there_555 : decode cX12_there 555 = .ok (.bipush 8, 2) := by decide +kernel
set_option maxRecDepth 100000 in
theorem dX12_there_557 : decode cX12_there 557 = .ok (.goto 4, 3) := by decide +kernel
set_option maxRecDepth 100000 in
theorem dX12_there_560 : decode cX12_there 560 = .ok (.iconst 1, 1) := by decide +kernel
set_option maxRecDepth 100000 in
theorem dX12_there_561 : decode cX12_there 561 = .ok (.iload_n 3, 1) := by decide +kernel
set_option maxRecDepth 100000 in
theorem dX12_there_562 : decode cX12_there 562 = .ok (.invokevirtual 1142, 3) := by decide +kernel
set_option maxRecDepth 100000 in
theorem dX12_there_565 : decode cX12_there 565 = .ok (.return_, 1) := by decide +kernel
set_option maxRecDepth 100000 in
def bX12_there_565 (G : xG) (fr lo : Nat) (h : xH) (Q : Outcome → xH → Prop) : Prop := Q (.returned none) h
set_option maxRecDepth 100000 in
theorem uX12_there_565 {G : xG} {fr lo : Nat} {h : xH} {Q : Outcome → xH → Prop} (hq : bX12_there_565 G fr lo h Q) : xP G YX12_there fr lo 565 [] [] h Q := by
  unfold bX12_there_565 at hq
  exact x_vret rfl dX12_there_565 hq
set_option maxRecDepth 100000 in
def bX12_there_561 (G : xG) (fr lo : Nat) (x3 : Int32) (s0 : Int32) (s1 : Nat) (h : xH) (Q : Outcome → xH → Prop) : Prop := tg h s1 = 13 ∧ 1 ≤ fr ∧ 14 ≤ lo ∧ xRv G YX12_error (fr - 1) (lo - 14) [rv s1, .int s0, .int x3] h (fun h4 => xext h h4 → bX12_there_565 G fr lo h4 Q) (fun r h2 => Q (.threw r) h2)
set_option maxRecDepth 100000 in
theorem uX12_there_561 {G : xG} {fr lo : Nat} {x3 : Int32} {s0 : Int32} {s1 : Nat} {h : xH} {Q : Outcome → xH → Prop} (hq : bX12_there_561 G fr lo x3 s0 s1 h Q) : xP G YX12_there fr lo 561 [(3, .int x3)] [.int s0, rv s1] h Q := by
  unfold bX12_there_561 at hq
  refine x_iload_n 0 dX12_there_561 rfl ?_
  obtain ⟨g1, hq⟩ := hq
  obtain ⟨g2, g3, hq⟩ := hq
  refine x_callV (Yc := YX12_error) (as := [.int s0, .int x3]) (st := []) q4490 mvX12_error g1 rfl dX12_there_562 (xle (xal1 (rv_cat _) (xal1 rfl (xal1 rfl xal0))) (by decide)) (xfr g2) (xlo xsw0 (by decide) g3) (xKv hq (fun h4 hq e6 => ?_) (fun _ _ q _ => q))
  replace hq := hq e6
  refine xP.pick (lv' := []) [] rfl ?_
  exact uX12_there_565 hq
set_option maxRecDepth 100000 in
def bX12_there_545 (G : xG) (fr lo : Nat) (x0 : Nat) (x3 : Int32) (x4 : Nat) (h : xH) (Q : Outcome → xH → Prop) : Prop := tg h x4 = 14 ∧ ((¬ (fI h x4 3328) = 1 → bX12_there_561 G fr lo x3 1 x0 h Q) ∧ ((fI h x4 3328) = 1 → bX12_there_561 G fr lo x3 8 x0 h Q))
set_option maxRecDepth 100000 in
theorem uX12_there_545 {G : xG} {fr lo : Nat} {x0 : Nat} {x3 : Int32} {x4 : Nat} {h : xH} {Q : Outcome → xH → Prop} (hq : bX12_there_545 G fr lo x0 x3 x4 h Q) : xP G YX12_there fr lo 545 [(0, rv x0), (3, .int x3), (4, rv x4)] [] h Q := by
  unfold bX12_there_545 at hq
  refine x_aload_n 0 dX12_there_545 rfl ?_
  refine x_aload 2 dX12_there_546 rfl ?_
  obtain ⟨g1, hq⟩ := hq
  refine x_get (v := .int (fI h x4 3328)) fdX12_845 dX12_there_548 g1 rfl ?_
  refine x_iconst (v := 1) dX12_there_551 (by decide) ?_
  refine x_icmp_ne (tgt := 560) dX12_there_552 (by decide) (fun c2 => ?_) (fun c2 => ?_)
  · replace hq := hq.1 c2
    refine x_iconst (v := 1) dX12_there_560 (by decide) ?_
    refine xP.pick (lv' := [(3, .int x3)]) [1] rfl ?_
    exact uX12_there_561 hq
  · replace hq := hq.2 c2
    refine x_bipush (v := 8) dX12_there_555 (by decide) ?_
    refine x_goto (tgt := 561) dX12_there_557 (by decide) ?_
    refine xP.pick (lv' := [(3, .int x3)]) [1] rfl ?_
    exact uX12_there_561 hq
set_option maxRecDepth 100000 in
def bX12_there_513 (G : xG) (fr lo : Nat) (x0 : Nat) (x3 : Int32) (x4 : Nat) (s0 : Int64) (s1 : Int64) (s2 : Nat) (h : xH) (Q : Outcome → xH → Prop) : Prop := tg h s2 = 13 ∧ (∀ h2 : xH, h2 = sJ h s2 3177 (s1 + s0) → tg h2 x0 = 13 ∧ tg h2 x4 = 14 ∧ (((lg_cmp (fJ h2 x0 3177) (Int32.toInt64 (fI h2 x4 3329))) < 0 → bX12_there_545 G fr lo x0 x3 x4 h2 Q) ∧ (¬ (lg_cmp (fJ h2 x0 3177) (Int32.toInt64 (fI h2 x4 3329))) < 0 → (((lg_cmp (fJ h2 x0 3177) (Int32.toInt64 (fI h2 x4 3330))) ≤ 0 → bX12_there_565 G fr lo h2 Q) ∧ (¬ (lg_cmp (fJ h2 x0 3177) (Int32.toInt64 (fI h2 x4 3330))) ≤ 0 → bX12_there_545 G fr lo x0 x3 x4 h2 Q)))))
set_option maxRecDepth 100000 in
theorem uX12_there_513 {G : xG} {fr lo : Nat} {x0 : Nat} {x3 : Int32} {x4 : Nat} {s0 : Int64} {s1 : Int64} {s2 : Nat} {h : xH} {Q : Outcome → xH → Prop} (hq : bX12_there_513 G fr lo x0 x3 x4 s0 s1 s2 h Q) : xP G YX12_there fr lo 513 [(0, rv x0), (3, .int x3), (4, rv x4)] [.long s0, .long s1, rv s2] h Q := by
  unfold bX12_there_513 at hq
  refine x_ladd dX12_there_513 ?_
  obtain ⟨g1, hq⟩ := hq
  obtain ⟨h2, e3⟩ : ∃ y, y = sJ h s2 3177 (s1 + s0) := ⟨_, rfl⟩
  replace hq := hq h2 e3
  refine x_putJ fdX12_1145 dX12_there_514 g1 (Or.inl (by rw [g1]; rfl)) rfl e3 ?_
  refine x_aload_n 0 dX12_there_517 rfl ?_
  obtain ⟨g4, hq⟩ := hq
  refine x_get (v := .long (fJ h2 x0 3177)) fdX12_1145 dX12_there_518 g4 rfl ?_
  refine x_aload 2 dX12_there_521 rfl ?_
  obtain ⟨g5, hq⟩ := hq
  refine x_get (v := .int (fI h2 x4 3329)) fdX12_591 dX12_there_523 g5 rfl ?_
  refine x_i2l dX12_there_526 ?_
  refine x_lcmp dX12_there_527 ?_
  refine x_if_lt (tgt := 545) dX12_there_528 (by decide) (fun c6 => ?_) (fun c6 => ?_)
  · replace hq := hq.1 c6
    exact uX12_there_545 hq
  · replace hq := hq.2 c6
    refine x_aload_n 0 dX12_there_531 rfl ?_
    refine x_get (v := .long (fJ h2 x0 3177)) fdX12_1145 dX12_there_532 g4 rfl ?_
    refine x_aload 2 dX12_there_535 rfl ?_
    refine x_get (v := .int (fI h2 x4 3330)) fdX12_595 dX12_there_537 g5 rfl ?_
    refine x_i2l dX12_there_540 ?_
    refine x_lcmp dX12_there_541 ?_
    refine x_if_le (tgt := 565) dX12_there_542 (by decide) (fun c7 => ?_) (fun c7 => ?_)
    · replace hq := hq.1 c7
      refine xP.pick (lv' := []) [] rfl ?_
      exact uX12_there_565 hq
    · replace hq := hq.2 c7
      exact uX12_there_545 hq
set_option maxRecDepth 100000 in
def bX12_there_473 (G : xG) (fr lo : Nat) (x0 : Nat) (x3 : Int32) (h : xH) (Q : Outcome → xH → Prop) : Prop := tg h x0 = 13 ∧ 1 ≤ fr ∧ 14 ≤ lo ∧ xRv G YX12_error (fr - 1) (lo - 14) [rv x0, .int 1, .int x3] h (fun h4 => xext h h4 → bX12_there_565 G fr lo h4 Q) (fun r h2 => Q (.threw r) h2)
set_option maxRecDepth 100000 in
theorem uX12_there_473 {G : xG} {fr lo : Nat} {x0 : Nat} {x3 : Int32} {h : xH} {Q : Outcome → xH → Prop} (hq : bX12_there_473 G fr lo x0 x3 h Q) : xP G YX12_there fr lo 473 [(0, rv x0), (3, .int x3)] [] h Q := by
  unfold bX12_there_473 at hq
  refine x_aload_n 0 dX12_there_473 rfl ?_
  refine x_iconst (v := 1) dX12_there_474 (by decide) ?_
  refine x_iload_n 1 dX12_there_475 rfl ?_
  obtain ⟨g1, hq⟩ := hq
  obtain ⟨g2, g3, hq⟩ := hq
  refine x_callV (Yc := YX12_error) (as := [.int 1, .int x3]) (st := []) q4490 mvX12_error g1 rfl dX12_there_476 (xle (xal1 (rv_cat _) (xal1 rfl (xal1 rfl xal0))) (by decide)) (xfr g2) (xlo xsw0 (by decide) g3) (xKv hq (fun h4 hq e6 => ?_) (fun _ _ q _ => q))
  replace hq := hq e6
  refine x_goto (tgt := 565) dX12_there_479 (by decide) ?_
  refine xP.pick (lv' := []) [] rfl ?_
  exact uX12_there_565 hq
set_option maxRecDepth 100000 in
def bX12_there_443 (G : xG) (fr lo : Nat) (x3 : Int32) (s0 : UInt64) (s1 : Nat) (h : xH) (Q : Outcome → xH → Prop) : Prop := tg h s1 = 13 ∧ 1 ≤ fr ∧ 15 ≤ lo ∧ xRv G YX12_cut (fr - 1) (lo - 15) [rv s1, .double s0, .int x3] h (fun h4 => xext h h4 → bX12_there_565 G fr lo h4 Q) (fun r h2 => Q (.threw r) h2)
set_option maxRecDepth 100000 in
theorem uX12_there_443 {G : xG} {fr lo : Nat} {x3 : Int32} {s0 : UInt64} {s1 : Nat} {h : xH} {Q : Outcome → xH → Prop} (hq : bX12_there_443 G fr lo x3 s0 s1 h Q) : xP G YX12_there fr lo 443 [(3, .int x3)] [.double s0, rv s1] h Q := by
  unfold bX12_there_443 at hq
  refine x_iload_n 0 dX12_there_443 rfl ?_
  obtain ⟨g1, hq⟩ := hq
  obtain ⟨g2, g3, hq⟩ := hq
  refine x_callV (Yc := YX12_cut) (as := [.double s0, .int x3]) (st := []) q4599 mvX12_cut g1 rfl dX12_there_444 (xle (xal1 (rv_cat _) (xal2 rfl (xal1 rfl xal0))) (by decide)) (xfr g2) (xlo xsw0 (by decide) g3) (xKv hq (fun h4 hq e6 => ?_) (fun _ _ q _ => q))
  replace hq := hq e6
  refine x_goto (tgt := 565) dX12_there_447 (by decide) ?_
  refine xP.pick (lv' := []) [] rfl ?_
  exact uX12_there_565 hq
set_option maxRecDepth 100000 in
def bX12_there_359 (G : xG) (fr lo : Nat) (x0 : Nat) (x3 : Int32) (h : xH) (Q : Outcome → xH → Prop) : Prop := tg h x0 = 13 ∧ ((0 ≤ (Op.cmpValue (FP.dcmp (fD h x0 3179) FP.dconst0) .g) → 1 ≤ fr ∧ 37 ≤ lo ∧ xRd G YX12_rootOf (fr - 1) (lo - 37) [.double (fD h x0 3179)] h (fun x6 h5 => xext h h5 → (∀ h9 : xH, h9 = sD h5 x0 3179 x6 → bX12_there_565 G fr lo h9 Q)) (fun r h2 => Q (.threw r) h2)) ∧ (¬ 0 ≤ (Op.cmpValue (FP.dcmp (fD h x0 3179) FP.dconst0) .g) → 1 ≤ fr ∧ 14 ≤ lo ∧ xRv G YX12_error (fr - 1) (lo - 14) [rv x0, .int 16, .int x3] h (fun h13 => xext h h13 → bX12_there_565 G fr lo h13 Q) (fun r h2 => Q (.threw r) h2)))
set_option maxRecDepth 100000 in
theorem uX12_there_359 {G : xG} {fr lo : Nat} {x0 : Nat} {x3 : Int32} {h : xH} {Q : Outcome → xH → Prop} (hq : bX12_there_359 G fr lo x0 x3 h Q) : xP G YX12_there fr lo 359 [(0, rv x0), (3, .int x3)] [] h Q := by
  unfold bX12_there_359 at hq
  refine x_aload_n 0 dX12_there_359 rfl ?_
  obtain ⟨g1, hq⟩ := hq
  refine x_get (v := .double (fD h x0 3179)) fdX12_1151 dX12_there_360 g1 rfl ?_
  refine x_dconst0 dX12_there_363 ?_
  refine x_dcmp dX12_there_364 ?_
  refine x_if_ge (tgt := 378) dX12_there_365 (by decide) (fun c2 => ?_) (fun c2 => ?_)
  · replace hq := hq.1 c2
    refine x_aload_n 0 dX12_there_378 rfl ?_
    refine x_aload_n 0 dX12_there_379 rfl ?_
    refine x_get (v := .double (fD h x0 3179)) fdX12_1151 dX12_there_380 g1 rfl ?_
    obtain ⟨g3, g4, hq⟩ := hq
    refine x_callS (Yc := YX12_rootOf) (as := [.double (fD h x0 3179)]) (st := [rv x0]) q4576 msX12_rootOf rfl dX12_there_383 (xle (xal2 rfl xal0) (by decide)) (xfr g3) (xlo (xsw1 (rv_cat _) xsw0) (by decide) g4) (xKd hq (fun x6 h5 hq e7 => ?_) (fun _ _ q _ => q))
    replace hq := hq e7
    have t8 : tg h5 x0 = 13 := e7.tg g1 (by decide)
    obtain ⟨h9, e10⟩ : ∃ y, y = sD h5 x0 3179 x6 := ⟨_, rfl⟩
    replace hq := hq h9 e10
    refine x_putD fdX12_1151 dX12_there_386 t8 (Or.inl (by rw [t8]; rfl)) rfl e10 ?_
    refine x_goto (tgt := 565) dX12_there_389 (by decide) ?_
    refine xP.pick (lv' := []) [] rfl ?_
    exact uX12_there_565 hq
  · replace hq := hq.2 c2
    refine x_aload_n 0 dX12_there_368 rfl ?_
    refine x_bipush (v := 16) dX12_there_369 (by decide) ?_
    refine x_iload_n 1 dX12_there_371 rfl ?_
    obtain ⟨g11, g12, hq⟩ := hq
    refine x_callV (Yc := YX12_error) (as := [.int 16, .int x3]) (st := []) q4490 mvX12_error g1 rfl dX12_there_372 (xle (xal1 (rv_cat _) (xal1 rfl (xal1 rfl xal0))) (by decide)) (xfr g11) (xlo xsw0 (by decide) g12) (xKv hq (fun h13 hq e15 => ?_) (fun _ _ q _ => q))
    replace hq := hq e15
    refine x_goto (tgt := 565) dX12_there_375 (by decide) ?_
    refine xP.pick (lv' := []) [] rfl ?_
    exact uX12_there_565 hq
set_option maxRecDepth 100000 in
def bX12_there_190 (G : xG) (fr lo : Nat) (x0 : Nat) (x1 : Int32) (x3 : Int32) (x4 : Nat) (s0 : Int32) (h : xH) (Q : Outcome → xH → Prop) : Prop := ((x1 = 11 → tg h x0 = 13 ∧ 1 ≤ fr ∧ 14 ≤ lo ∧ xRj G YJ10_abs (fr - 1) (lo - 14) [.long (fJ h x0 3177)] h (fun x6 h5 => xext h h5 → (∀ h9 : xH, h9 = sJ h5 x0 3177 x6 → xnn (fD h9 x0 3179) ∧ 1 ≤ fr ∧ 14 ≤ lo ∧ (∀ h15 : xH, h15 = sD h9 x0 3179 ((fD h9 x0 3179) &&& 0x7fffffffffffffff) → bX12_there_565 G fr lo h15 Q))) (fun r h2 => Q (.threw r) h2)) ∧ (x1 = 12 → ((s0 = 0 → tg h x0 = 13 ∧ vf_n64 (FP.dmul (fD h x0 3179) (fD h x0 3179)) ∧ (∀ h21 : xH, h21 = sD h x0 3179 (FP.dmul (fD h x0 3179) (fD h x0 3179)) → 1 ≤ fr ∧ 13 ≤ lo ∧ xRi G YX12_isFinite (fr - 1) (lo - 13) [.double (fD h21 x0 3179)] h21 (fun x27 h26 => xext h21 h26 → ((¬ x27 = 0 → bX12_there_565 G fr lo h26 Q) ∧ (x27 = 0 → 1 ≤ fr ∧ 14 ≤ lo ∧ xRv G YX12_error (fr - 1) (lo - 14) [rv x0, .int 8, .int x3] h26 (fun h33 => xext h26 h33 → bX12_there_565 G fr lo h33 Q) (fun r h2 => Q (.threw r) h2)))) (fun r h2 => Q (.threw r) h2))) ∧ (¬ s0 = 0 → tg h x0 = 13 ∧ (∀ h37 : xH, h37 = sJ h x0 3177 ((fJ h x0 3177) * (fJ h x0 3177)) → (((lg_cmp (fJ h37 x0 3177) 2147483647) ≤ 0 → bX12_there_565 G fr lo h37 Q) ∧ (¬ (lg_cmp (fJ h37 x0 3177) 2147483647) ≤ 0 → 1 ≤ fr ∧ 14 ≤ lo ∧ xRv G YX12_error (fr - 1) (lo - 14) [rv x0, .int 8, .int x3] h37 (fun h43 => xext h37 h43 → bX12_there_565 G fr lo h43 Q) (fun r h2 => Q (.threw r) h2))))))) ∧ (x1 = 13 → ((s0 = 0 → bX12_there_359 G fr lo x0 x3 h Q) ∧ (¬ s0 = 0 → tg h x0 = 13 ∧ (∀ h49 : xH, h49 = sD h x0 3179 (FP.l2d (fJ h x0 3177)) → bX12_there_359 G fr lo x0 x3 h49 Q)))) ∧ (x1 = 14 → ((¬ s0 = 0 → bX12_there_565 G fr lo h Q) ∧ (s0 = 0 → tg h x0 = 13 ∧ 1 ≤ fr ∧ 15 ≤ lo ∧ xRv G YX12_cut (fr - 1) (lo - 15) [rv x0, .double (fD h x0 3179), .int x3] h (fun h56 => xext h h56 → bX12_there_565 G fr lo h56 Q) (fun r h2 => Q (.threw r) h2)))) ∧ (x1 = 15 → ((¬ s0 = 0 → bX12_there_565 G fr lo h Q) ∧ (s0 = 0 → tg h x0 = 13 ∧ ((0 ≤ (Op.cmpValue (FP.dcmp (fD h x0 3179) FP.dconst0) .g) → vf_n64 (FP.dadd (fD h x0 3179) 4602678819172646912) ∧ bX12_there_443 G fr lo x3 (FP.dadd (fD h x0 3179) 4602678819172646912) x0 h Q) ∧ (¬ 0 ≤ (Op.cmpValue (FP.dcmp (fD h x0 3179) FP.dconst0) .g) → vf_n64 (FP.dsub (fD h x0 3179) 4602678819172646912) ∧ bX12_there_443 G fr lo x3 (FP.dsub (fD h x0 3179) 4602678819172646912) x0 h Q))))) ∧ (x1 = 16 → bX12_there_565 G fr lo h Q) ∧ (x1 = 17 → tg h x0 = 13 ∧ (((lg_cmp (fJ h x0 3177) 0) < 0 → bX12_there_473 G fr lo x0 x3 h Q) ∧ (¬ (lg_cmp (fJ h x0 3177) 0) < 0 → (((lg_cmp (fJ h x0 3177) 127) ≤ 0 → bX12_there_565 G fr lo h Q) ∧ (¬ (lg_cmp (fJ h x0 3177) 127) ≤ 0 → bX12_there_473 G fr lo x0 x3 h Q))))) ∧ (x1 = 18 → tg h x0 = 13 ∧ ((¬ x1 = 18 → bX12_there_513 G fr lo x0 x3 x4 (-1) (fJ h x0 3177) x0 h Q) ∧ (x1 = 18 → bX12_there_513 G fr lo x0 x3 x4 1 (fJ h x0 3177) x0 h Q))) ∧ (x1 = 19 → tg h x0 = 13 ∧ ((¬ x1 = 18 → bX12_there_513 G fr lo x0 x3 x4 (-1) (fJ h x0 3177) x0 h Q) ∧ (x1 = 18 → bX12_there_513 G fr lo x0 x3 x4 1 (fJ h x0 3177) x0 h Q))) ∧ (x1 = 20 → tg h x0 = 13 ∧ (∀ h78 : xH, h78 = sJ h x0 3177 ((fJ h x0 3177) &&& 1) → bX12_there_565 G fr lo h78 Q)) ∧ (¬ x1 = 11 → ¬ x1 = 12 → ¬ x1 = 13 → ¬ x1 = 14 → ¬ x1 = 15 → ¬ x1 = 16 → ¬ x1 = 17 → ¬ x1 = 18 → ¬ x1 = 19 → ¬ x1 = 20 → tg h x0 = 13 ∧ ((¬ x1 = 18 → bX12_there_513 G fr lo x0 x3 x4 (-1) (fJ h x0 3177) x0 h Q) ∧ (x1 = 18 → bX12_there_513 G fr lo x0 x3 x4 1 (fJ h x0 3177) x0 h Q))))
set_option maxRecDepth 100000 in
theorem uX12_there_190 {G : xG} {fr lo : Nat} {x0 : Nat} {x1 : Int32} {x3 : Int32} {x4 : Nat} {s0 : Int32} {h : xH} {Q : Outcome → xH → Prop} (hq : bX12_there_190 G fr lo x0 x1 x3 x4 s0 h Q) : xP G YX12_there fr lo 190 [(0, rv x0), (1, .int x1), (3, .int x3), (4, rv x4)] [.int s0] h Q := by
  unfold bX12_there_190 at hq
  refine x_istore (lv' := [(5, .int s0), (0, rv x0), (1, .int x1), (3, .int x3), (4, rv x4)]) dX12_there_190 (by decide) (by first | rfl | (simp [rv_cat, Value.category]; done) | (simp [rv_cat, Value.category]; decide)) ?_
  refine x_iload_n 2 dX12_there_192 rfl ?_
  by_cases c1 : x1 = 11
  · replace hq := hq.1 c1
    refine x_tin (tgt := 248) (off := 55) 11 c1 dX12_there_193 (by decide) (by decide) (by decide) (by decide) ?_
    refine x_aload_n 1 dX12_there_248 rfl ?_
    refine x_aload_n 1 dX12_there_249 rfl ?_
    obtain ⟨g2, hq⟩ := hq
    refine x_get (v := .long (fJ h x0 3177)) fdX12_1145 dX12_there_250 g2 rfl ?_
    obtain ⟨g3, g4, hq⟩ := hq
    refine x_callS (Yc := YJ10_abs) (as := [.long (fJ h x0 3177)]) (st := [rv x0]) q4562 msJ10_abs rfl dX12_there_253 (xle (xal2 rfl xal0) (by decide)) (xfr g3) (xlo (xsw1 (rv_cat _) xsw0) (by decide) g4) (xKj hq (fun x6 h5 hq e7 => ?_) (fun _ _ q _ => q))
    replace hq := hq e7
    have t8 : tg h5 x0 = 13 := e7.tg g2 (by decide)
    obtain ⟨h9, e10⟩ : ∃ y, y = sJ h5 x0 3177 x6 := ⟨_, rfl⟩
    replace hq := hq h9 e10
    refine x_putJ fdX12_1145 dX12_there_256 t8 (Or.inl (by rw [t8]; rfl)) rfl e10 ?_
    refine x_aload_n 1 dX12_there_259 rfl ?_
    refine x_aload_n 1 dX12_there_260 rfl ?_
    have t11 : tg h9 x0 = 13 := by rw [e10]; exact t8
    refine x_get (v := .double (fD h9 x0 3179)) fdX12_1151 dX12_there_261 t11 rfl ?_
    obtain ⟨g12, hq⟩ := hq
    obtain ⟨g13, g14, hq⟩ := hq
    refine x_absd q4565 q4567 q4566 q395 g12 dX12_there_264 g13 (by simp only [List.map_cons, List.map_nil, List.sum_cons, List.sum_nil, rv_cat, Value.category]; omega) ?_
    obtain ⟨h15, e16⟩ : ∃ y, y = sD h9 x0 3179 ((fD h9 x0 3179) &&& 0x7fffffffffffffff) := ⟨_, rfl⟩
    replace hq := hq h15 e16
    refine x_putD fdX12_1151 dX12_there_267 t11 (Or.inl (by rw [t11]; rfl)) rfl e16 ?_
    refine x_goto (tgt := 565) dX12_there_270 (by decide) ?_
    refine xP.pick (lv' := []) [] rfl ?_
    exact uX12_there_565 hq
  replace hq := hq.2
  by_cases c17 : x1 = 12
  · replace hq := hq.1 c17
    refine x_tin (tgt := 273) (off := 80) 12 c17 dX12_there_193 (by decide) (by decide) (by decide) (by decide) ?_
    refine x_iload 0 dX12_there_273 rfl ?_
    refine x_if_eq (tgt := 312) dX12_there_275 (by decide) (fun c18 => ?_) (fun c18 => ?_)
    · replace hq := hq.1 c18
      refine x_aload_n 1 dX12_there_312 rfl ?_
      refine x_aload_n 1 dX12_there_313 rfl ?_
      obtain ⟨g19, hq⟩ := hq
      refine x_get (v := .double (fD h x0 3179)) fdX12_1151 dX12_there_314 g19 rfl ?_
      refine x_aload_n 1 dX12_there_317 rfl ?_
      refine x_get (v := .double (fD h x0 3179)) fdX12_1151 dX12_there_318 g19 rfl ?_
      obtain ⟨g20, hq⟩ := hq
      refine x_dmul dX12_there_321 g20 ?_
      obtain ⟨h21, e22⟩ : ∃ y, y = sD h x0 3179 (FP.dmul (fD h x0 3179) (fD h x0 3179)) := ⟨_, rfl⟩
      replace hq := hq h21 e22
      refine x_putD fdX12_1151 dX12_there_322 g19 (Or.inl (by rw [g19]; rfl)) rfl e22 ?_
      refine x_aload_n 1 dX12_there_325 rfl ?_
      have t23 : tg h21 x0 = 13 := by rw [e22]; exact g19
      refine x_get (v := .double (fD h21 x0 3179)) fdX12_1151 dX12_there_326 t23 rfl ?_
      obtain ⟨g24, g25, hq⟩ := hq
      refine x_callS (Yc := YX12_isFinite) (as := [.double (fD h21 x0 3179)]) (st := []) q4571 msX12_isFinite rfl dX12_there_329 (xle (xal2 rfl xal0) (by decide)) (xfr g24) (xlo xsw0 (by decide) g25) (xKi hq (fun x27 h26 hq e28 => ?_) (fun _ _ q _ => q))
      replace hq := hq e28
      refine x_if_ne (tgt := 565) dX12_there_332 (by decide) (fun c29 => ?_) (fun c29 => ?_)
      · replace hq := hq.1 c29
        refine xP.pick (lv' := []) [] rfl ?_
        exact uX12_there_565 hq
      · replace hq := hq.2 c29
        refine x_aload_n 1 dX12_there_335 rfl ?_
        refine x_bipush (v := 8) dX12_there_336 (by decide) ?_
        refine x_iload_n 3 dX12_there_338 rfl ?_
        have t30 : tg h26 x0 = 13 := e28.tg t23 (by decide)
        obtain ⟨g31, g32, hq⟩ := hq
        refine x_callV (Yc := YX12_error) (as := [.int 8, .int x3]) (st := []) q4490 mvX12_error t30 rfl dX12_there_339 (xle (xal1 (rv_cat _) (xal1 rfl (xal1 rfl xal0))) (by decide)) (xfr g31) (xlo xsw0 (by decide) g32) (xKv hq (fun h33 hq e35 => ?_) (fun _ _ q _ => q))
        replace hq := hq e35
        refine x_goto (tgt := 565) dX12_there_342 (by decide) ?_
        refine xP.pick (lv' := []) [] rfl ?_
        exact uX12_there_565 hq
    · replace hq := hq.2 c18
      refine x_aload_n 1 dX12_there_278 rfl ?_
      refine x_aload_n 1 dX12_there_279 rfl ?_
      obtain ⟨g36, hq⟩ := hq
      refine x_get (v := .long (fJ h x0 3177)) fdX12_1145 dX12_there_280 g36 rfl ?_
      refine x_aload_n 1 dX12_there_283 rfl ?_
      refine x_get (v := .long (fJ h x0 3177)) fdX12_1145 dX12_there_284 g36 rfl ?_
      refine x_lmul dX12_there_287 ?_
      obtain ⟨h37, e38⟩ : ∃ y, y = sJ h x0 3177 ((fJ h x0 3177) * (fJ h x0 3177)) := ⟨_, rfl⟩
      replace hq := hq h37 e38
      refine x_putJ fdX12_1145 dX12_there_288 g36 (Or.inl (by rw [g36]; rfl)) rfl e38 ?_
      refine x_aload_n 1 dX12_there_291 rfl ?_
      have t39 : tg h37 x0 = 13 := by rw [e38]; exact g36
      refine x_get (v := .long (fJ h37 x0 3177)) fdX12_1145 dX12_there_292 t39 rfl ?_
      refine x_ldc2 (v := 2147483647) q3756 dX12_there_295 ?_
      refine x_lcmp dX12_there_298 ?_
      refine x_if_le (tgt := 565) dX12_there_299 (by decide) (fun c40 => ?_) (fun c40 => ?_)
      · replace hq := hq.1 c40
        refine xP.pick (lv' := []) [] rfl ?_
        exact uX12_there_565 hq
      · replace hq := hq.2 c40
        refine x_aload_n 1 dX12_there_302 rfl ?_
        refine x_bipush (v := 8) dX12_there_303 (by decide) ?_
        refine x_iload_n 3 dX12_there_305 rfl ?_
        obtain ⟨g41, g42, hq⟩ := hq
        refine x_callV (Yc := YX12_error) (as := [.int 8, .int x3]) (st := []) q4490 mvX12_error t39 rfl dX12_there_306 (xle (xal1 (rv_cat _) (xal1 rfl (xal1 rfl xal0))) (by decide)) (xfr g41) (xlo xsw0 (by decide) g42) (xKv hq (fun h43 hq e45 => ?_) (fun _ _ q _ => q))
        replace hq := hq e45
        refine x_goto (tgt := 565) dX12_there_309 (by decide) ?_
        refine xP.pick (lv' := []) [] rfl ?_
        exact uX12_there_565 hq
  replace hq := hq.2
  by_cases c46 : x1 = 13
  · replace hq := hq.1 c46
    refine x_tin (tgt := 345) (off := 152) 13 c46 dX12_there_193 (by decide) (by decide) (by decide) (by decide) ?_
    refine x_iload 0 dX12_there_345 rfl ?_
    refine x_if_eq (tgt := 359) dX12_there_347 (by decide) (fun c47 => ?_) (fun c47 => ?_)
    · replace hq := hq.1 c47
      refine xP.pick (lv' := [(0, rv x0), (3, .int x3)]) [1, 3] rfl ?_
      exact uX12_there_359 hq
    · replace hq := hq.2 c47
      refine x_aload_n 1 dX12_there_350 rfl ?_
      refine x_aload_n 1 dX12_there_351 rfl ?_
      obtain ⟨g48, hq⟩ := hq
      refine x_get (v := .long (fJ h x0 3177)) fdX12_1145 dX12_there_352 g48 rfl ?_
      refine x_l2d dX12_there_355 ?_
      obtain ⟨h49, e50⟩ : ∃ y, y = sD h x0 3179 (FP.l2d (fJ h x0 3177)) := ⟨_, rfl⟩
      replace hq := hq h49 e50
      refine x_putD fdX12_1151 dX12_there_356 g48 (Or.inl (by rw [g48]; rfl)) rfl e50 ?_
      refine xP.pick (lv' := [(0, rv x0), (3, .int x3)]) [1, 3] rfl ?_
      exact uX12_there_359 hq
  replace hq := hq.2
  by_cases c51 : x1 = 14
  · replace hq := hq.1 c51
    refine x_tin (tgt := 392) (off := 199) 14 c51 dX12_there_193 (by decide) (by decide) (by decide) (by decide) ?_
    refine x_iload 0 dX12_there_392 rfl ?_
    refine x_if_ne (tgt := 565) dX12_there_394 (by decide) (fun c52 => ?_) (fun c52 => ?_)
    · replace hq := hq.1 c52
      refine xP.pick (lv' := []) [] rfl ?_
      exact uX12_there_565 hq
    · replace hq := hq.2 c52
      refine x_aload_n 1 dX12_there_397 rfl ?_
      refine x_aload_n 1 dX12_there_398 rfl ?_
      obtain ⟨g53, hq⟩ := hq
      refine x_get (v := .double (fD h x0 3179)) fdX12_1151 dX12_there_399 g53 rfl ?_
      refine x_iload_n 3 dX12_there_402 rfl ?_
      obtain ⟨g54, g55, hq⟩ := hq
      refine x_callV (Yc := YX12_cut) (as := [.double (fD h x0 3179), .int x3]) (st := []) q4599 mvX12_cut g53 rfl dX12_there_403 (xle (xal1 (rv_cat _) (xal2 rfl (xal1 rfl xal0))) (by decide)) (xfr g54) (xlo xsw0 (by decide) g55) (xKv hq (fun h56 hq e58 => ?_) (fun _ _ q _ => q))
      replace hq := hq e58
      refine x_goto (tgt := 565) dX12_there_406 (by decide) ?_
      refine xP.pick (lv' := []) [] rfl ?_
      exact uX12_there_565 hq
  replace hq := hq.2
  by_cases c59 : x1 = 15
  · replace hq := hq.1 c59
    refine x_tin (tgt := 409) (off := 216) 15 c59 dX12_there_193 (by decide) (by decide) (by decide) (by decide) ?_
    refine x_iload 0 dX12_there_409 rfl ?_
    refine x_if_ne (tgt := 565) dX12_there_411 (by decide) (fun c60 => ?_) (fun c60 => ?_)
    · replace hq := hq.1 c60
      refine xP.pick (lv' := []) [] rfl ?_
      exact uX12_there_565 hq
    · replace hq := hq.2 c60
      refine x_aload_n 1 dX12_there_414 rfl ?_
      refine x_aload_n 1 dX12_there_415 rfl ?_
      obtain ⟨g61, hq⟩ := hq
      refine x_get (v := .double (fD h x0 3179)) fdX12_1151 dX12_there_416 g61 rfl ?_
      refine x_dconst0 dX12_there_419 ?_
      refine x_dcmp dX12_there_420 ?_
      refine x_if_ge (tgt := 435) dX12_there_421 (by decide) (fun c62 => ?_) (fun c62 => ?_)
      · replace hq := hq.1 c62
        refine x_aload_n 1 dX12_there_435 rfl ?_
        refine x_get (v := .double (fD h x0 3179)) fdX12_1151 dX12_there_436 g61 rfl ?_
        refine x_ldc2d (v := 4602678819172646912) q4605 dX12_there_439 ?_
        obtain ⟨g63, hq⟩ := hq
        refine x_dadd dX12_there_442 g63 ?_
        refine xP.pick (lv' := [(3, .int x3)]) [3] rfl ?_
        exact uX12_there_443 hq
      · replace hq := hq.2 c62
        refine x_aload_n 1 dX12_there_424 rfl ?_
        refine x_get (v := .double (fD h x0 3179)) fdX12_1151 dX12_there_425 g61 rfl ?_
        refine x_ldc2d (v := 4602678819172646912) q4605 dX12_there_428 ?_
        obtain ⟨g64, hq⟩ := hq
        refine x_dsub dX12_there_431 g64 ?_
        refine x_goto (tgt := 443) dX12_there_432 (by decide) ?_
        refine xP.pick (lv' := [(3, .int x3)]) [3] rfl ?_
        exact uX12_there_443 hq
  replace hq := hq.2
  by_cases c65 : x1 = 16
  · replace hq := hq.1 c65
    refine x_tin (tgt := 450) (off := 257) 16 c65 dX12_there_193 (by decide) (by decide) (by decide) (by decide) ?_
    refine x_goto (tgt := 565) dX12_there_450 (by decide) ?_
    refine xP.pick (lv' := []) [] rfl ?_
    exact uX12_there_565 hq
  replace hq := hq.2
  by_cases c66 : x1 = 17
  · replace hq := hq.1 c66
    refine x_tin (tgt := 453) (off := 260) 17 c66 dX12_there_193 (by decide) (by decide) (by decide) (by decide) ?_
    refine x_aload_n 1 dX12_there_453 rfl ?_
    obtain ⟨g67, hq⟩ := hq
    refine x_get (v := .long (fJ h x0 3177)) fdX12_1145 dX12_there_454 g67 rfl ?_
    refine x_lconst (v := 0) dX12_there_457 (by decide) ?_
    refine x_lcmp dX12_there_458 ?_
    refine x_if_lt (tgt := 473) dX12_there_459 (by decide) (fun c68 => ?_) (fun c68 => ?_)
    · replace hq := hq.1 c68
      refine xP.pick (lv' := [(0, rv x0), (3, .int x3)]) [1, 3] rfl ?_
      exact uX12_there_473 hq
    · replace hq := hq.2 c68
      refine x_aload_n 1 dX12_there_462 rfl ?_
      refine x_get (v := .long (fJ h x0 3177)) fdX12_1145 dX12_there_463 g67 rfl ?_
      refine x_ldc2 (v := 127) q4551 dX12_there_466 ?_
      refine x_lcmp dX12_there_469 ?_
      refine x_if_le (tgt := 565) dX12_there_470 (by decide) (fun c69 => ?_) (fun c69 => ?_)
      · replace hq := hq.1 c69
        refine xP.pick (lv' := []) [] rfl ?_
        exact uX12_there_565 hq
      · replace hq := hq.2 c69
        refine xP.pick (lv' := [(0, rv x0), (3, .int x3)]) [1, 3] rfl ?_
        exact uX12_there_473 hq
  replace hq := hq.2
  by_cases c70 : x1 = 18
  · replace hq := hq.1 c70
    refine x_tin (tgt := 495) (off := 302) 18 c70 dX12_there_193 (by decide) (by decide) (by decide) (by decide) ?_
    refine x_aload_n 1 dX12_there_495 rfl ?_
    refine x_dup dX12_there_496 (rv_cat _) ?_
    obtain ⟨g71, hq⟩ := hq
    refine x_get (v := .long (fJ h x0 3177)) fdX12_1145 dX12_there_497 g71 rfl ?_
    refine x_iload_n 2 dX12_there_500 rfl ?_
    refine x_bipush (v := 18) dX12_there_501 (by decide) ?_
    refine x_icmp_ne (tgt := 510) dX12_there_503 (by decide) (fun c72 => ?_) (fun c72 => ?_)
    · replace hq := hq.1 c72
      refine x_ldc2 (v := (-1)) q4606 dX12_there_510 ?_
      refine xP.pick (lv' := [(0, rv x0), (3, .int x3), (4, rv x4)]) [1, 3, 4] rfl ?_
      exact uX12_there_513 hq
    · replace hq := hq.2 c72
      refine x_lconst (v := 1) dX12_there_506 (by decide) ?_
      refine x_goto (tgt := 513) dX12_there_507 (by decide) ?_
      refine xP.pick (lv' := [(0, rv x0), (3, .int x3), (4, rv x4)]) [1, 3, 4] rfl ?_
      exact uX12_there_513 hq
  replace hq := hq.2
  by_cases c73 : x1 = 19
  · replace hq := hq.1 c73
    refine x_tin (tgt := 495) (off := 302) 19 c73 dX12_there_193 (by decide) (by decide) (by decide) (by decide) ?_
    refine x_aload_n 1 dX12_there_495 rfl ?_
    refine x_dup dX12_there_496 (rv_cat _) ?_
    obtain ⟨g74, hq⟩ := hq
    refine x_get (v := .long (fJ h x0 3177)) fdX12_1145 dX12_there_497 g74 rfl ?_
    refine x_iload_n 2 dX12_there_500 rfl ?_
    refine x_bipush (v := 18) dX12_there_501 (by decide) ?_
    refine x_icmp_ne (tgt := 510) dX12_there_503 (by decide) (fun c75 => ?_) (fun c75 => ?_)
    · replace hq := hq.1 c75
      refine x_ldc2 (v := (-1)) q4606 dX12_there_510 ?_
      refine xP.pick (lv' := [(0, rv x0), (3, .int x3), (4, rv x4)]) [1, 3, 4] rfl ?_
      exact uX12_there_513 hq
    · replace hq := hq.2 c75
      refine x_lconst (v := 1) dX12_there_506 (by decide) ?_
      refine x_goto (tgt := 513) dX12_there_507 (by decide) ?_
      refine xP.pick (lv' := [(0, rv x0), (3, .int x3), (4, rv x4)]) [1, 3, 4] rfl ?_
      exact uX12_there_513 hq
  replace hq := hq.2
  by_cases c76 : x1 = 20
  · replace hq := hq.1 c76
    refine x_tin (tgt := 482) (off := 289) 20 c76 dX12_there_193 (by decide) (by decide) (by decide) (by decide) ?_
    refine x_aload_n 1 dX12_there_482 rfl ?_
    refine x_aload_n 1 dX12_there_483 rfl ?_
    obtain ⟨g77, hq⟩ := hq
    refine x_get (v := .long (fJ h x0 3177)) fdX12_1145 dX12_there_484 g77 rfl ?_
    refine x_lconst (v := 1) dX12_there_487 (by decide) ?_
    refine x_land dX12_there_488 ?_
    obtain ⟨h78, e79⟩ : ∃ y, y = sJ h x0 3177 ((fJ h x0 3177) &&& 1) := ⟨_, rfl⟩
    replace hq := hq h78 e79
    refine x_putJ fdX12_1145 dX12_there_489 g77 (Or.inl (by rw [g77]; rfl)) rfl e79 ?_
    refine x_goto (tgt := 565) dX12_there_492 (by decide) ?_
    refine xP.pick (lv' := []) [] rfl ?_
    exact uX12_there_565 hq
  replace hq := hq.2
  replace hq := hq c1 c17 c46 c51 c59 c65 c66 c70 c73 c76
  have nc1 := lv_neT c1 (show (11 : Int32).toInt = 11 from by decide)
  have nc17 := lv_neT c17 (show (12 : Int32).toInt = 12 from by decide)
  have nc46 := lv_neT c46 (show (13 : Int32).toInt = 13 from by decide)
  have nc51 := lv_neT c51 (show (14 : Int32).toInt = 14 from by decide)
  have nc59 := lv_neT c59 (show (15 : Int32).toInt = 15 from by decide)
  have nc65 := lv_neT c65 (show (16 : Int32).toInt = 16 from by decide)
  have nc66 := lv_neT c66 (show (17 : Int32).toInt = 17 from by decide)
  have nc70 := lv_neT c70 (show (18 : Int32).toInt = 18 from by decide)
  have nc73 := lv_neT c73 (show (19 : Int32).toInt = 19 from by decide)
  have nc76 := lv_neT c76 (show (20 : Int32).toInt = 20 from by decide)
  refine x_tout (tgt := 495) dX12_there_193 (by omega) (by decide) ?_
  refine x_aload_n 1 dX12_there_495 rfl ?_
  refine x_dup dX12_there_496 (rv_cat _) ?_
  obtain ⟨g80, hq⟩ := hq
  refine x_get (v := .long (fJ h x0 3177)) fdX12_1145 dX12_there_497 g80 rfl ?_
  refine x_iload_n 2 dX12_there_500 rfl ?_
  refine x_bipush (v := 18) dX12_there_501 (by decide) ?_
  refine x_icmp_ne (tgt := 510) dX12_there_503 (by decide) (fun c81 => ?_) (fun c81 => ?_)
  · replace hq := hq.1 c81
    refine x_ldc2 (v := (-1)) q4606 dX12_there_510 ?_
    refine xP.pick (lv' := [(0, rv x0), (3, .int x3), (4, rv x4)]) [1, 3, 4] rfl ?_
    exact uX12_there_513 hq
  · replace hq := hq.2 c81
    refine x_lconst (v := 1) dX12_there_506 (by decide) ?_
    refine x_goto (tgt := 513) dX12_there_507 (by decide) ?_
    refine xP.pick (lv' := [(0, rv x0), (3, .int x3), (4, rv x4)]) [1, 3, 4] rfl ?_
    exact uX12_there_513 hq
set_option maxRecDepth 100000 in
def bX12_there_151 (G : xG) (fr lo : Nat) (h : xH) (Q : Outcome → xH → Prop) : Prop := Q (.returned none) h
set_option maxRecDepth 100000 in
theorem uX12_there_151 {G : xG} {fr lo : Nat} {h : xH} {Q : Outcome → xH → Prop} (hq : bX12_there_151 G fr lo h Q) : xP G YX12_there fr lo 151 [] [] h Q := by
  unfold bX12_there_151 at hq
  exact x_vret rfl dX12_there_151 hq
set_option maxRecDepth 100000 in
def bX12_there_148 (G : xG) (fr lo : Nat) (s0 : Int64) (s1 : Nat) (h : xH) (Q : Outcome → xH → Prop) : Prop := tg h s1 = 13 ∧ (∀ h2 : xH, h2 = sJ h s1 3177 s0 → bX12_there_151 G fr lo h2 Q)
set_option maxRecDepth 100000 in
theorem uX12_there_148 {G : xG} {fr lo : Nat} {s0 : Int64} {s1 : Nat} {h : xH} {Q : Outcome → xH → Prop} (hq : bX12_there_148 G fr lo s0 s1 h Q) : xP G YX12_there fr lo 148 [] [.long s0, rv s1] h Q := by
  unfold bX12_there_148 at hq
  obtain ⟨g1, hq⟩ := hq
  obtain ⟨h2, e3⟩ : ∃ y, y = sJ h s1 3177 s0 := ⟨_, rfl⟩
  replace hq := hq h2 e3
  refine x_putJ fdX12_1145 dX12_there_148 g1 (Or.inl (by rw [g1]; rfl)) rfl e3 ?_
  exact uX12_there_151 hq
set_option maxRecDepth 100000 in
def bX12_there_113 (G : xG) (fr lo : Nat) (x0 : Nat) (x3 : Int32) (h : xH) (Q : Outcome → xH → Prop) : Prop := tg h x0 = 13 ∧ 1 ≤ fr ∧ 14 ≤ lo ∧ xRv G YX12_error (fr - 1) (lo - 14) [rv x0, .int 10, .int x3] h (fun h4 => xext h h4 → bX12_there_151 G fr lo h4 Q) (fun r h2 => Q (.threw r) h2)
set_option maxRecDepth 100000 in
theorem uX12_there_113 {G : xG} {fr lo : Nat} {x0 : Nat} {x3 : Int32} {h : xH} {Q : Outcome → xH → Prop} (hq : bX12_there_113 G fr lo x0 x3 h Q) : xP G YX12_there fr lo 113 [(0, rv x0), (3, .int x3)] [] h Q := by
  unfold bX12_there_113 at hq
  refine x_aload_n 0 dX12_there_113 rfl ?_
  refine x_bipush (v := 10) dX12_there_114 (by decide) ?_
  refine x_iload_n 1 dX12_there_116 rfl ?_
  obtain ⟨g1, hq⟩ := hq
  obtain ⟨g2, g3, hq⟩ := hq
  refine x_callV (Yc := YX12_error) (as := [.int 10, .int x3]) (st := []) q4490 mvX12_error g1 rfl dX12_there_117 (xle (xal1 (rv_cat _) (xal1 rfl (xal1 rfl xal0))) (by decide)) (xfr g2) (xlo xsw0 (by decide) g3) (xKv hq (fun h4 hq e6 => ?_) (fun _ _ q _ => q))
  replace hq := hq e6
  refine x_goto (tgt := 151) dX12_there_120 (by decide) ?_
  refine xP.pick (lv' := []) [] rfl ?_
  exact uX12_there_151 hq
set_option maxRecDepth 100000 in
def bX12_there_85 (G : xG) (fr lo : Nat) (s0 : Int64) (s1 : Nat) (h : xH) (Q : Outcome → xH → Prop) : Prop := tg h s1 = 13 ∧ (∀ h2 : xH, h2 = sJ h s1 3177 s0 → bX12_there_151 G fr lo h2 Q)
set_option maxRecDepth 100000 in
theorem uX12_there_85 {G : xG} {fr lo : Nat} {s0 : Int64} {s1 : Nat} {h : xH} {Q : Outcome → xH → Prop} (hq : bX12_there_85 G fr lo s0 s1 h Q) : xP G YX12_there fr lo 85 [] [.long s0, rv s1] h Q := by
  unfold bX12_there_85 at hq
  obtain ⟨g1, hq⟩ := hq
  obtain ⟨h2, e3⟩ : ∃ y, y = sJ h s1 3177 s0 := ⟨_, rfl⟩
  replace hq := hq h2 e3
  refine x_putJ fdX12_1145 dX12_there_85 g1 (Or.inl (by rw [g1]; rfl)) rfl e3 ?_
  refine x_goto (tgt := 151) dX12_there_88 (by decide) ?_
  exact uX12_there_151 hq
set_option maxRecDepth 100000 in
def bX12_there_80 (G : xG) (fr lo : Nat) (s0 : Nat) (h : xH) (Q : Outcome → xH → Prop) : Prop := bX12_there_85 G fr lo 1 s0 h Q
set_option maxRecDepth 100000 in
theorem uX12_there_80 {G : xG} {fr lo : Nat} {s0 : Nat} {h : xH} {Q : Outcome → xH → Prop} (hq : bX12_there_80 G fr lo s0 h Q) : xP G YX12_there fr lo 80 [] [rv s0] h Q := by
  unfold bX12_there_80 at hq
  refine x_lconst (v := 1) dX12_there_80 (by decide) ?_
  refine x_goto (tgt := 85) dX12_there_81 (by decide) ?_
  exact uX12_there_85 hq
set_option maxRecDepth 100000 in
def bX12_there_57 (G : xG) (fr lo : Nat) (x0 : Nat) (x4 : Int32) (h : xH) (Q : Outcome → xH → Prop) : Prop := tg h x0 = 13 ∧ tg h (fR h x0 3182) = 100 ∧ vp_in x4 (ln h (fR h x0 3182)) ∧ (((aI h (fR h x0 3182) (Int32.toNatClampNeg x4)) = 2 → bX12_there_80 G fr lo x0 h Q) ∧ (¬ (aI h (fR h x0 3182) (Int32.toNatClampNeg x4)) = 2 → tg h (fR h x0 3185) = 100 ∧ vp_in x4 (ln h (fR h x0 3185)) ∧ ((¬ (aI h (fR h x0 3185) (Int32.toNatClampNeg x4)) = (-1) → bX12_there_85 G fr lo 0 x0 h Q) ∧ ((aI h (fR h x0 3185) (Int32.toNatClampNeg x4)) = (-1) → bX12_there_80 G fr lo x0 h Q))))
set_option maxRecDepth 100000 in
theorem uX12_there_57 {G : xG} {fr lo : Nat} {x0 : Nat} {x4 : Int32} {h : xH} {Q : Outcome → xH → Prop} (hq : bX12_there_57 G fr lo x0 x4 h Q) : xP G YX12_there fr lo 57 [(0, rv x0), (4, .int x4)] [] h Q := by
  unfold bX12_there_57 at hq
  refine x_aload_n 0 dX12_there_57 rfl ?_
  refine x_aload_n 0 dX12_there_58 rfl ?_
  obtain ⟨g1, hq⟩ := hq
  refine x_get (v := rv (fR h x0 3182)) fdX12_204 dX12_there_59 g1 rfl ?_
  refine x_iload 1 dX12_there_62 rfl ?_
  obtain ⟨g2, hq⟩ := hq
  obtain ⟨i3, hq⟩ := hq
  refine x_iald 0 (Or.inl rfl) g2 i3 dX12_there_64 ?_
  refine x_iconst (v := 2) dX12_there_65 (by decide) ?_
  refine x_icmp_eq (tgt := 80) dX12_there_66 (by decide) (fun c4 => ?_) (fun c4 => ?_)
  · replace hq := hq.1 c4
    refine xP.pick (lv' := []) [] rfl ?_
    exact uX12_there_80 hq
  · replace hq := hq.2 c4
    refine x_aload_n 0 dX12_there_69 rfl ?_
    refine x_get (v := rv (fR h x0 3185)) fdX12_213 dX12_there_70 g1 rfl ?_
    refine x_iload 1 dX12_there_73 rfl ?_
    obtain ⟨g5, hq⟩ := hq
    obtain ⟨i6, hq⟩ := hq
    refine x_iald 0 (Or.inl rfl) g5 i6 dX12_there_75 ?_
    refine x_iconst (v := (-1)) dX12_there_76 (by decide) ?_
    refine x_icmp_ne (tgt := 84) dX12_there_77 (by decide) (fun c7 => ?_) (fun c7 => ?_)
    · replace hq := hq.1 c7
      refine x_lconst (v := 0) dX12_there_84 (by decide) ?_
      refine xP.pick (lv' := []) [] rfl ?_
      exact uX12_there_85 hq
    · replace hq := hq.2 c7
      refine xP.pick (lv' := []) [] rfl ?_
      exact uX12_there_80 hq
set_option maxRecDepth 100000 in
def bX12_there_29 (G : xG) (fr lo : Nat) (x0 : Nat) (x1 : Int32) (x3 : Int32) (s0 : Nat) (s1 : Nat) (h : xH) (Q : Outcome → xH → Prop) : Prop := tg h s1 = 13 ∧ 1 ≤ fr ∧ 13 ≤ lo ∧ xRi G YX12_fileOfRun (fr - 1) (lo - 13) [rv s1, rv s0] h (fun x5 h4 => xext h h4 → ((¬ x1 = 21 → tg h4 x0 = 13 ∧ tg h4 (fR h4 x0 3182) = 100 ∧ vp_in x5 (ln h4 (fR h4 x0 3182)) ∧ ((¬ (aI h4 (fR h4 x0 3182) (Int32.toNatClampNeg x5)) = 1 → bX12_there_113 G fr lo x0 x3 h4 Q) ∧ ((aI h4 (fR h4 x0 3182) (Int32.toNatClampNeg x5)) = 1 → tg h4 (fR h4 x0 3185) = 100 ∧ vp_in x5 (ln h4 (fR h4 x0 3185)) ∧ ((¬ (aI h4 (fR h4 x0 3185) (Int32.toNatClampNeg x5)) = (-1) → vp_in x5 (ln h4 (fR h4 x0 3185)) ∧ tg h4 (fR h4 x0 3192) = 101 ∧ vp_in (aI h4 (fR h4 x0 3185) (Int32.toNatClampNeg x5)) (ln h4 (fR h4 x0 3192)) ∧ ((¬ (lg_cmp (aJ h4 (fR h4 x0 3192) (Int32.toNatClampNeg (aI h4 (fR h4 x0 3185) (Int32.toNatClampNeg x5)))) 10) = 0 → bX12_there_148 G fr lo 0 x0 h4 Q) ∧ ((lg_cmp (aJ h4 (fR h4 x0 3192) (Int32.toNatClampNeg (aI h4 (fR h4 x0 3185) (Int32.toNatClampNeg x5)))) 10) = 0 → bX12_there_148 G fr lo 1 x0 h4 Q))) ∧ ((aI h4 (fR h4 x0 3185) (Int32.toNatClampNeg x5)) = (-1) → bX12_there_113 G fr lo x0 x3 h4 Q))))) ∧ (x1 = 21 → tg h4 x0 = 13 ∧ tg h4 (fR h4 x0 3182) = 100 ∧ vp_in x5 (ln h4 (fR h4 x0 3182)) ∧ ((¬ (aI h4 (fR h4 x0 3182) (Int32.toNatClampNeg x5)) = 0 → bX12_there_57 G fr lo x0 x5 h4 Q) ∧ ((aI h4 (fR h4 x0 3182) (Int32.toNatClampNeg x5)) = 0 → 1 ≤ fr ∧ 14 ≤ lo ∧ xRv G YX12_error (fr - 1) (lo - 14) [rv x0, .int 10, .int x3] h4 (fun h25 => xext h4 h25 → bX12_there_57 G fr lo x0 x5 h25 Q) (fun r h2 => Q (.threw r) h2)))))) (fun r h2 => Q (.threw r) h2)
set_option maxRecDepth 100000 in
theorem uX12_there_29 {G : xG} {fr lo : Nat} {x0 : Nat} {x1 : Int32} {x3 : Int32} {s0 : Nat} {s1 : Nat} {h : xH} {Q : Outcome → xH → Prop} (hq : bX12_there_29 G fr lo x0 x1 x3 s0 s1 h Q) : xP G YX12_there fr lo 29 [(0, rv x0), (1, .int x1), (3, .int x3)] [rv s0, rv s1] h Q := by
  unfold bX12_there_29 at hq
  obtain ⟨g1, hq⟩ := hq
  obtain ⟨g2, g3, hq⟩ := hq
  refine x_callV (Yc := YX12_fileOfRun) (as := [rv s0]) (st := []) q4502 mvX12_fileOfRun g1 rfl dX12_there_29 (xle (xal1 (rv_cat _) (xal1 (rv_cat _) xal0)) (by decide)) (xfr g2) (xlo xsw0 (by decide) g3) (xKi hq (fun x5 h4 hq e6 => ?_) (fun _ _ q _ => q))
  replace hq := hq e6
  refine x_istore (lv' := [(4, .int x5), (0, rv x0), (1, .int x1), (3, .int x3)]) dX12_there_32 (by decide) rfl ?_
  refine x_iload_n 2 dX12_there_34 rfl ?_
  refine x_bipush (v := 21) dX12_there_35 (by decide) ?_
  refine x_icmp_ne (tgt := 91) dX12_there_37 (by decide) (fun c7 => ?_) (fun c7 => ?_)
  · replace hq := hq.1 c7
    refine x_aload_n 1 dX12_there_91 rfl ?_
    obtain ⟨g8, hq⟩ := hq
    refine x_get (v := rv (fR h4 x0 3182)) fdX12_204 dX12_there_92 g8 rfl ?_
    refine x_iload 0 dX12_there_95 rfl ?_
    obtain ⟨g9, hq⟩ := hq
    obtain ⟨i10, hq⟩ := hq
    refine x_iald 0 (Or.inl rfl) g9 i10 dX12_there_97 ?_
    refine x_iconst (v := 1) dX12_there_98 (by decide) ?_
    refine x_icmp_ne (tgt := 113) dX12_there_99 (by decide) (fun c11 => ?_) (fun c11 => ?_)
    · replace hq := hq.1 c11
      refine xP.pick (lv' := [(0, rv x0), (3, .int x3)]) [1, 3] rfl ?_
      exact uX12_there_113 hq
    · replace hq := hq.2 c11
      refine x_aload_n 1 dX12_there_102 rfl ?_
      refine x_get (v := rv (fR h4 x0 3185)) fdX12_213 dX12_there_103 g8 rfl ?_
      refine x_iload 0 dX12_there_106 rfl ?_
      obtain ⟨g12, hq⟩ := hq
      obtain ⟨i13, hq⟩ := hq
      refine x_iald 0 (Or.inl rfl) g12 i13 dX12_there_108 ?_
      refine x_iconst (v := (-1)) dX12_there_109 (by decide) ?_
      refine x_icmp_ne (tgt := 123) dX12_there_110 (by decide) (fun c14 => ?_) (fun c14 => ?_)
      · replace hq := hq.1 c14
        refine x_aload_n 1 dX12_there_123 rfl ?_
        refine x_aload_n 1 dX12_there_124 rfl ?_
        refine x_get (v := rv (fR h4 x0 3192)) fdX12_229 dX12_there_125 g8 rfl ?_
        refine x_aload_n 1 dX12_there_128 rfl ?_
        refine x_get (v := rv (fR h4 x0 3185)) fdX12_213 dX12_there_129 g8 rfl ?_
        refine x_iload 0 dX12_there_132 rfl ?_
        obtain ⟨i15, hq⟩ := hq
        refine x_iald 0 (Or.inl rfl) g12 i15 dX12_there_134 ?_
        obtain ⟨g16, hq⟩ := hq
        obtain ⟨i17, hq⟩ := hq
        refine x_lald g16 i17 dX12_there_135 ?_
        refine x_ldc2 (v := 10) q3750 dX12_there_136 ?_
        refine x_lcmp dX12_there_139 ?_
        refine x_if_ne (tgt := 147) dX12_there_140 (by decide) (fun c18 => ?_) (fun c18 => ?_)
        · replace hq := hq.1 c18
          refine x_lconst (v := 0) dX12_there_147 (by decide) ?_
          refine xP.pick (lv' := []) [] rfl ?_
          exact uX12_there_148 hq
        · replace hq := hq.2 c18
          refine x_lconst (v := 1) dX12_there_143 (by decide) ?_
          refine x_goto (tgt := 148) dX12_there_144 (by decide) ?_
          refine xP.pick (lv' := []) [] rfl ?_
          exact uX12_there_148 hq
      · replace hq := hq.2 c14
        refine xP.pick (lv' := [(0, rv x0), (3, .int x3)]) [1, 3] rfl ?_
        exact uX12_there_113 hq
  · replace hq := hq.2 c7
    refine x_aload_n 1 dX12_there_40 rfl ?_
    obtain ⟨g19, hq⟩ := hq
    refine x_get (v := rv (fR h4 x0 3182)) fdX12_204 dX12_there_41 g19 rfl ?_
    refine x_iload 0 dX12_there_44 rfl ?_
    obtain ⟨g20, hq⟩ := hq
    obtain ⟨i21, hq⟩ := hq
    refine x_iald 0 (Or.inl rfl) g20 i21 dX12_there_46 ?_
    refine x_if_ne (tgt := 57) dX12_there_47 (by decide) (fun c22 => ?_) (fun c22 => ?_)
    · replace hq := hq.1 c22
      refine xP.pick (lv' := [(0, rv x0), (4, .int x5)]) [1, 0] rfl ?_
      exact uX12_there_57 hq
    · replace hq := hq.2 c22
      refine x_aload_n 1 dX12_there_50 rfl ?_
      refine x_bipush (v := 10) dX12_there_51 (by decide) ?_
      refine x_iload_n 3 dX12_there_53 rfl ?_
      obtain ⟨g23, g24, hq⟩ := hq
      refine x_callV (Yc := YX12_error) (as := [.int 10, .int x3]) (st := []) q4490 mvX12_error g19 rfl dX12_there_54 (xle (xal1 (rv_cat _) (xal1 rfl (xal1 rfl xal0))) (by decide)) (xfr g23) (xlo xsw0 (by decide) g24) (xKv hq (fun h25 hq e27 => ?_) (fun _ _ q _ => q))
      replace hq := hq e27
      refine xP.pick (lv' := [(0, rv x0), (4, .int x5)]) [1, 0] rfl ?_
      exact uX12_there_57 hq
set_option maxRecDepth 100000 in
def bX12_there (G : xG) (fr lo : Nat) (x0 : Nat) (x1 : Int32) (x2 : Int32) (x3 : Int32) (h : xH) (Q : Outcome → xH → Prop) : Prop := ((x1 < 21 → tg h x0 = 13 ∧ 1 ≤ fr ∧ 37 ≤ lo ∧ xRv G YX12_evaluate (fr - 1) (lo - 37) [rv x0, .int x2] h (fun h5 => xext h h5 → (((fI h5 x0 3170) = 0 → tg h5 (fR h5 x0 3113) = 108 ∧ vp_in x2 (ln h5 (fR h5 x0 3113)) ∧ tg h5 (aR h5 (fR h5 x0 3113) (Int32.toNatClampNeg x2)) = 14 ∧ 1 ≤ fr ∧ 12 ≤ lo ∧ xRr G YX13_own (fr - 1) (lo - 12) [rv (aR h5 (fR h5 x0 3113) (Int32.toNatClampNeg x2))] h5 (fun x16 h15 => xext h5 h15 → tg h15 x16 = 14 ∧ (((fI h15 x16 3328) = 2 → bX12_there_190 G fr lo x0 x1 x3 x16 0 h15 Q) ∧ (¬ (fI h15 x16 3328) = 2 → bX12_there_190 G fr lo x0 x1 x3 x16 1 h15 Q))) (fun r h2 => Q (.threw r) h2)) ∧ (¬ (fI h5 x0 3170) = 0 → Q (.returned none) h5))) (fun r h2 => Q (.threw r) h2)) ∧ (¬ x1 < 21 → ((¬ x2 = (-1) → tg h x0 = 13 ∧ 1 ≤ fr ∧ 17 ≤ lo ∧ xRi G YX12_loneVariable (fr - 1) (lo - 17) [rv x0, .int x2] h (fun x25 h24 => xext h h24 → tg h24 (fR h x0 3114) = 109 ∧ vp_in x25 (ln h24 (fR h x0 3114)) ∧ bX12_there_29 G fr lo x0 x1 x3 (aR h24 (fR h x0 3114) (Int32.toNatClampNeg x25)) x0 h24 Q) (fun r h2 => Q (.threw r) h2)) ∧ (x2 = (-1) → tg h x0 = 13 ∧ bX12_there_29 G fr lo x0 x1 x3 (fR h x0 3129) x0 h Q))))
set_option maxRecDepth 100000 in
theorem uX12_there {G : xG} {fr lo : Nat} {x0 : Nat} {x1 : Int32} {x2 : Int32} {x3 : Int32} {h : xH} {Q : Outcome → xH → Prop} (hq : bX12_there G fr lo x0 x1 x2 x3 h Q) : xP G YX12_there fr lo 0 [(0, rv x0), (1, .int x1), (2, .int x2), (3, .int x3)] [] h Q := by
  unfold bX12_there at hq
  refine x_iload_n 1 dX12_there_0 rfl ?_
  refine x_bipush (v := 21) dX12_there_1 (by decide) ?_
  refine x_icmp_lt (tgt := 152) dX12_there_3 (by decide) (fun c1 => ?_) (fun c1 => ?_)
  · replace hq := hq.1 c1
    refine x_aload_n 0 dX12_there_152 rfl ?_
    refine x_iload_n 2 dX12_there_153 rfl ?_
    obtain ⟨g2, hq⟩ := hq
    obtain ⟨g3, g4, hq⟩ := hq
    refine x_callV (Yc := YX12_evaluate) (as := [.int x2]) (st := []) q4543 mvX12_evaluate g2 rfl dX12_there_154 (xle (xal1 (rv_cat _) (xal1 rfl xal0)) (by decide)) (xfr g3) (xlo xsw0 (by decide) g4) (xKv hq (fun h5 hq e7 => ?_) (fun _ _ q _ => q))
    replace hq := hq e7
    refine x_aload_n 0 dX12_there_157 rfl ?_
    have t8 : tg h5 x0 = 13 := e7.tg g2 (by decide)
    refine x_get (v := .int (fI h5 x0 3170)) fdX12_1121 dX12_there_158 t8 rfl ?_
    refine x_if_eq (tgt := 165) dX12_there_161 (by decide) (fun c9 => ?_) (fun c9 => ?_)
    · replace hq := hq.1 c9
      refine x_aload_n 0 dX12_there_165 rfl ?_
      refine x_get (v := rv (fR h5 x0 3113)) fdX12_96 dX12_there_166 t8 rfl ?_
      refine x_iload_n 2 dX12_there_169 rfl ?_
      obtain ⟨g10, hq⟩ := hq
      obtain ⟨i11, hq⟩ := hq
      refine x_aald 8 rfl g10 (by decide) i11 dX12_there_170 ?_
      obtain ⟨g12, hq⟩ := hq
      obtain ⟨g13, g14, hq⟩ := hq
      refine x_callV (Yc := YX13_own) (as := []) (st := []) q4189 mvX13_own g12 rfl dX12_there_171 (xle (xal1 (rv_cat _) xal0) (by decide)) (xfr g13) (xlo xsw0 (by decide) g14) (xKr hq (fun x16 h15 hq e17 => ?_) (fun _ _ q _ => q))
      replace hq := hq e17
      refine x_astore (lv' := [(4, rv x16), (0, rv x0), (1, .int x1), (2, .int x2), (3, .int x3)]) dX12_there_174 (by decide) rfl ?_
      refine x_aload 0 dX12_there_176 rfl ?_
      obtain ⟨g18, hq⟩ := hq
      refine x_get (v := .int (fI h15 x16 3328)) fdX12_845 dX12_there_178 g18 rfl ?_
      refine x_iconst (v := 2) dX12_there_181 (by decide) ?_
      refine x_icmp_eq (tgt := 189) dX12_there_182 (by decide) (fun c19 => ?_) (fun c19 => ?_)
      · replace hq := hq.1 c19
        refine x_iconst (v := 0) dX12_there_189 (by decide) ?_
        refine xP.pick (lv' := [(0, rv x0), (1, .int x1), (3, .int x3), (4, rv x16)]) [1, 2, 4, 0] rfl ?_
        exact uX12_there_190 hq
      · replace hq := hq.2 c19
        refine x_iconst (v := 1) dX12_there_185 (by decide) ?_
        refine x_goto (tgt := 190) dX12_there_186 (by decide) ?_
        refine xP.pick (lv' := [(0, rv x0), (1, .int x1), (3, .int x3), (4, rv x16)]) [1, 2, 4, 0] rfl ?_
        exact uX12_there_190 hq
    · replace hq := hq.2 c9
      exact x_vret rfl dX12_there_164 hq
  · replace hq := hq.2 c1
    refine x_aload_n 0 dX12_there_6 rfl ?_
    refine x_iload_n 2 dX12_there_7 rfl ?_
    refine x_iconst (v := (-1)) dX12_there_8 (by decide) ?_
    refine x_icmp_ne (tgt := 19) dX12_there_9 (by decide) (fun c20 => ?_) (fun c20 => ?_)
    · replace hq := hq.1 c20
      refine x_aload_n 0 dX12_there_19 rfl ?_
      obtain ⟨g21, hq⟩ := hq
      refine x_get (v := rv (fR h x0 3114)) fdX12_102 dX12_there_20 g21 rfl ?_
      refine x_aload_n 0 dX12_there_23 rfl ?_
      refine x_iload_n 2 dX12_there_24 rfl ?_
      obtain ⟨g22, g23, hq⟩ := hq
      refine x_callV (Yc := YX12_loneVariable) (as := [.int x2]) (st := [rv (fR h x0 3114), rv x0]) q4348 mvX12_loneVariable g21 rfl dX12_there_25 (xle (xal1 (rv_cat _) (xal1 rfl xal0)) (by decide)) (xfr g22) (xlo (xsw1 (rv_cat _) (xsw1 (rv_cat _) xsw0)) (by decide) g23) (xKi hq (fun x25 h24 hq e26 => ?_) (fun _ _ q _ => q))
      replace hq := hq e26
      obtain ⟨g27, hq⟩ := hq
      obtain ⟨i28, hq⟩ := hq
      refine x_aald 9 rfl g27 (by decide) i28 dX12_there_28 ?_
      refine xP.pick (lv' := [(0, rv x0), (1, .int x1), (3, .int x3)]) [0, 1, 3] rfl ?_
      exact uX12_there_29 hq
    · replace hq := hq.2 c20
      refine x_aload_n 0 dX12_there_12 rfl ?_
      obtain ⟨g29, hq⟩ := hq
      refine x_get (v := rv (fR h x0 3129)) fdX12_727 dX12_there_13 g29 rfl ?_
      refine x_goto (tgt := 29) dX12_there_16 (by decide) ?_
      refine xP.pick (lv' := [(0, rv x0), (1, .int x1), (3, .int x3)]) [0, 1, 3] rfl ?_
      exact uX12_there_29 hq
theorem rX12_there {G : xG} {fr lo : Nat} {x0 : Nat} {x1 : Int32} {x2 : Int32} {x3 : Int32} {h : xH} {Q : Outcome → xH → Prop} (hq : bX12_there G fr lo x0 x1 x2 x3 h Q) : xR G YX12_there fr lo [rv x0, .int x1, .int x2, .int x3] h Q := by
  show xP _ _ _ _ _ (lv_args 0 _) _ _ _
  rw [show lv_args 0 [rv x0, .int x1, .int x2, .int x3] = [(0, rv x0), (1, .int x1), (2, .int x2), (3, .int x3)] from (xla1 (rv_cat _) (xla1 rfl (xla1 rfl (xla1 rfl xla0))))]
  exact uX12_there hq
set_option maxRecDepth 100000 in
theorem dX12_isFinite_0 : decode cX12_isFinite 0 = .ok (.dload_n 0, 1) := by decide +kernel
set_option maxRecDepth 100000 in
theorem dX12_isFinite_1 : decode cX12_isFinite 1 = .ok (.ldc2_w 1275, 3) := by decide +kernel
set_option maxRecDepth 100000 in
theorem dX12_isFinite_4 : decode cX12_isFinite 4 = .ok (.dcmp .l, 1) := by decide +kernel
set_option maxRecDepth 100000 in
theorem dX12_isFinite_5 : decode cX12_isFinite 5 = .ok (.ifCond .lt 15, 3) := by decide +kernel
set_option maxRecDepth 100000 in
theorem dX12_isFinite_8 : decode cX12_isFinite 8 = .ok (.dload_n 0, 1) := by decide +kernel
set_option maxRecDepth 100000 in
theorem dX12_isFinite_9 : decode cX12_isFinite 9 = .ok (.ldc2_w 1277, 3) := by decide +kernel
set_option maxRecDepth 100000 in
theorem dX12_isFinite_12 : decode cX12_isFinite 12 = .ok (.dcmp .g, 1) := by decide +kernel
set_option maxRecDepth 100000 in
theorem dX12_isFinite_13 : decode cX12_isFinite 13 = .ok (.ifCond .gt 7, 3) := by decide +kernel
set_option maxRecDepth 100000 in
theorem dX12_isFinite_16 : decode cX12_isFinite 16 = .ok (.iconst 1, 1) := by decide +kernel
set_option maxRecDepth 100000 in
theorem dX12_isFinite_17 : decode cX12_isFinite 17 = .ok (.goto 4, 3) := by decide +kernel
set_option maxRecDepth 100000 in
theorem dX12_isFinite_20 : decode cX12_isFinite 20 = .ok (.iconst 0, 1) := by decide +kernel
set_option maxRecDepth 100000 in
theorem dX12_isFinite_21 : decode cX12_isFinite 21 = .ok (.ireturn, 1) := by decide +kernel
set_option maxRecDepth 100000 in
def bX12_isFinite_21 (G : xG) (fr lo : Nat) (s0 : Int32) (h : xH) (Q : Outcome → xH → Prop) : Prop := xbz s0 ∧ Q (.returned (some (.int s0))) h
set_option maxRecDepth 100000 in
theorem uX12_isFinite_21 {G : xG} {fr lo : Nat} {s0 : Int32} {h : xH} {Q : Outcome → xH → Prop} (hq : bX12_isFinite_21 G fr lo s0 h Q) : xP G YX12_isFinite fr lo 21 [] [.int s0] h Q := by
  unfold bX12_isFinite_21 at hq
  obtain ⟨g1, hq⟩ := hq
  exact x_iret rfl (xnZ g1) dX12_isFinite_21 hq
set_option maxRecDepth 100000 in
def bX12_isFinite_20 (G : xG) (fr lo : Nat) (h : xH) (Q : Outcome → xH → Prop) : Prop := bX12_isFinite_21 G fr lo 0 h Q
set_option maxRecDepth 100000 in
theorem uX12_isFinite_20 {G : xG} {fr lo : Nat} {h : xH} {Q : Outcome → xH → Prop} (hq : bX12_isFinite_20 G fr lo h Q) : xP G YX12_isFinite fr lo 20 [] [] h Q := by
  unfold bX12_isFinite_20 at hq
  refine x_iconst (v := 0) dX12_isFinite_20 (by decide) ?_
  exact uX12_isFinite_21 hq
set_option maxRecDepth 100000 in
def bX12_isFinite (G : xG) (fr lo : Nat) (x0 : UInt64) (h : xH) (Q : Outcome → xH → Prop) : Prop := (((Op.cmpValue (FP.dcmp x0 18442240474082181119) .l) < 0 → bX12_isFinite_20 G fr lo h Q) ∧ (¬ (Op.cmpValue (FP.dcmp x0 18442240474082181119) .l) < 0 → ((0 < (Op.cmpValue (FP.dcmp x0 9218868437227405311) .g) → bX12_isFinite_20 G fr lo h Q) ∧ (¬ 0 < (Op.cmpValue (FP.dcmp x0 9218868437227405311) .g) → bX12_isFinite_21 G fr lo 1 h Q))))
set_option maxRecDepth 100000 in
theorem uX12_isFinite {G : xG} {fr lo : Nat} {x0 : UInt64} {h : xH} {Q : Outcome → xH → Prop} (hq : bX12_isFinite G fr lo x0 h Q) : xP G YX12_isFinite fr lo 0 [(0, .double x0)] [] h Q := by
  unfold bX12_isFinite at hq
  refine x_dload_n 0 dX12_isFinite_0 rfl ?_
  refine x_ldc2d (v := 18442240474082181119) q4574 dX12_isFinite_1 ?_
  refine x_dcmp dX12_isFinite_4 ?_
  refine x_if_lt (tgt := 20) dX12_isFinite_5 (by decide) (fun c1 => ?_) (fun c1 => ?_)
  · replace hq := hq.1 c1
    refine xP.pick (lv' := []) [] rfl ?_
    exact uX12_isFinite_20 hq
  · replace hq := hq.2 c1
    refine x_dload_n 0 dX12_isFinite_8 rfl ?_
    refine x_ldc2d (v := 9218868437227405311) q4575 dX12_isFinite_9 ?_
    refine x_dcmp dX12_isFinite_12 ?_
    refine x_if_gt (tgt := 20) dX12_isFinite_13 (by decide) (fun c2 => ?_) (fun c2 => ?_)
    · replace hq := hq.1 c2
      refine xP.pick (lv' := []) [] rfl ?_
      exact uX12_isFinite_20 hq
    · replace hq := hq.2 c2
      refine x_iconst (v := 1) dX12_isFinite_16 (by decide) ?_
      refine x_goto (tgt := 21) dX12_isFinite_17 (by decide) ?_
      refine xP.pick (lv' := []) [] rfl ?_
      exact uX12_isFinite_21 hq
theorem rX12_isFinite {G : xG} {fr lo : Nat} {x0 : UInt64} {h : xH} {Q : Outcome → xH → Prop} (hq : bX12_isFinite G fr lo x0 h Q) : xR G YX12_isFinite fr lo [.double x0] h Q := by
  show xP _ _ _ _ _ (lv_args 0 _) _ _ _
  rw [show lv_args 0 [.double x0] = [(0, .double x0)] from (xla2 rfl xla0)]
  exact uX12_isFinite hq
set_option maxRecDepth 100000 in
theorem dX12_rootOf_0 : decode cX12_rootOf 0 = .ok (.dload_n 0, 1) := by decide +kernel
set_option maxRecDepth 100000 in
theorem dX12_rootOf_1 : decode cX12_rootOf 1 = .ok (.dconst 0, 1) := by decide +kernel
set_option maxRecDepth 100000 in
theorem dX12_rootOf_2 : decode cX12_rootOf 2 = .ok (.dcmp .l, 1) := by decide +kernel
set_option maxRecDepth 100000 in
theorem dX12_rootOf_3 : decode cX12_rootOf 3 = .ok (.ifCond .ne 5, 3) := by decide +kernel
set_option maxRecDepth 100000 in
theorem dX12_rootOf_6 : decode cX12_rootOf 6 = .ok (.dload_n 0, 1) := by decide +kernel
set_option maxRecDepth 100000 in
theorem dX12_rootOf_7 : decode cX12_rootOf 7 = .ok (.dreturn, 1) := by decide +kernel
set_option maxRecDepth 100000 in
theorem dX12_rootOf_8 : decode cX12_rootOf 8 = .ok (.dload_n 0, 1) := by decide +kernel
set_option maxRecDepth 100000 in
theorem dX12_rootOf_9 : decode cX12_rootOf 9 = .ok (.invokestatic 1326, 3) := by decide +kernel
set_option maxRecDepth 100000 in
theorem dX12_rootOf_12 : decode cX12_rootOf 12 = .ok (.lstore_n 2, 1) := by decide +kernel
set_option maxRecDepth 100000 in
theorem dX12_rootOf_13 : decode cX12_rootOf 13 = .ok (.lload_n 2, 1) := by decide +kernel
set_option maxRecDepth 100000 in
theorem dX12_rootOf_14 : decode cX12_rootOf 14 = .ok (.bipush 52, 2) := by decide +kernel
set_option maxRecDepth 100000 in
theorem dX12_rootOf_16 : decode cX12_rootOf 16 = .ok (.lshr, 1) := by decide +kernel
set_option maxRecDepth 100000 in
theorem dX12_rootOf_17 : decode cX12_rootOf 17 = .ok (.ldc2_w 1332, 3) := by decide +kernel
set_option maxRecDepth 100000 in
theorem dX12_rootOf_20 : decode cX12_rootOf 20 = .ok (.land, 1) := by decide +kernel
set_option maxRecDepth 100000 in
theorem dX12_rootOf_21 : decode cX12_rootOf 21 = .ok (.l2i, 1) := by decide +kernel
set_option maxRecDepth 100000 in
theorem dX12_rootOf_22 : decode cX12_rootOf 22 = .ok (.istore 4, 2) := by decide +kernel
set_option maxRecDepth 100000 in
theorem dX12_rootOf_24 : decode cX12_rootOf 24 = .ok (.lload_n 2, 1) := by decide +kernel
set_option maxRecDepth 100000 in
theorem dX12_rootOf_25 : decode cX12_rootOf 25 = .ok (.ldc2_w 1334, 3) := by decide +kernel
set_option maxRecDepth 100000 in
theorem dX12_rootOf_28 : decode cX12_rootOf 28 = .ok (.land, 1) := by decide +kernel
set_option maxRecDepth 100000 in
theorem dX12_rootOf_29 : decode cX12_rootOf 29 = .ok (.lstore 5, 2) := by decide +kernel
set_option maxRecDepth 100000 in
theorem dX12_rootOf_31 : decode cX12_rootOf 31 = .ok (.iload 4, 2) := by decide +kernel
set_option maxRecDepth 100000 in
theorem dX12_rootOf_33 : decode cX12_rootOf 33 = .ok (.ifCond .ne 9, 3) := by decide +kernel
set_option maxRecDepth 100000 in
theorem dX12_rootOf_36 : decode cX12_rootOf 36 = .ok (.iconst 1, 1) := by decide +kernel
set_option maxRecDepth 100000 in
theorem dX12_rootOf_37 : decode cX12_rootOf 37 = .ok (.istore 4, 2) := by decide +kernel
set_option maxRecDepth 100000 in
theorem dX12_rootOf_39 : decode cX12_rootOf 39 = .ok (.goto 11, 3) := by decide +kernel
set_option maxRecDepth 100000 in
theorem dX12_rootOf_42 : decode cX12_rootOf 42 = .ok (.lload 5, 2) := by decide +kernel
set_option maxRecDepth 100000 in
theorem dX12_rootOf_44 : decode cX12_rootOf 44 = .ok (.ldc2_w 1336, 3) := by decide +kernel
set_option maxRecDepth 100000 in
theorem dX12_rootOf_47 : decode cX12_rootOf 47 = .ok (.lor, 1) := by decide +kernel
set_option maxRecDepth 100000 in
theorem dX12_rootOf_48 : decode cX12_rootOf 48 = .ok (.lstore 5, 2) := by decide +kernel
set_option maxRecDepth 100000 in
theorem dX12_rootOf_50 : decode cX12_rootOf 50 = .ok (.lload 5, 2) := by decide +kernel
set_option maxRecDepth 100000 in
theorem dX12_rootOf_52 : decode cX12_rootOf 52 = .ok (.ldc2_w 1336, 3) := by decide +kernel
set_option maxRecDepth 100000 in
theorem dX12_rootOf_55 : decode cX12_rootOf 55 = .ok (.lcmp, 1) := by decide +kernel
set_option maxRecDepth 100000 in
theorem dX12_rootOf_56 : decode cX12_rootOf 56 = .ok (.ifCond .ge 15, 3) := by decide +kernel
set_option maxRecDepth 100000 in
theorem dX12_rootOf_59 : decode cX12_rootOf 59 = .ok (.lload 5, 2) := by decide +kernel
set_option maxRecDepth 100000 in
theorem dX12_rootOf_61 : decode cX12_rootOf 61 = .ok (.iconst 1, 1) := by decide +kernel
set_option maxRecDepth 100000 in
theorem dX12_rootOf_62 : decode cX12_rootOf 62 = .ok (.lshl, 1) := by decide +kernel
set_option maxRecDepth 100000 in
theorem dX12_rootOf_63 : decode cX12_rootOf 63 = .ok (.lstore 5, 2) := by decide +kernel
set_option maxRecDepth 100000 in
theorem dX12_rootOf_65 : decode cX12_rootOf 65 = .ok (.iinc 4 (-1), 3) := by decide +kernel
set_option maxRecDepth 100000 in
theorem dX12_rootOf_68 : decode cX12_rootOf 68 = .ok (.goto (-18), 3) := by decide +kernel
set_option maxRecDepth 100000 in
theorem dX12_rootOf_71 : decode cX12_rootOf 71 = .ok (.iload 4, 2) := by decide +kernel
set_option maxRecDepth 100000 in
theorem dX12_rootOf_73 : decode cX12_rootOf 73 = .ok (.sipush 1075, 3) := by decide +kernel
set_option maxRecDepth 100000 in
theorem dX12_rootOf_76 : decode cX12_rootOf 76 = .ok (.isub, 1) := by decide +kernel
set_option maxRecDepth 100000 in
theorem dX12_rootOf_77 : decode cX12_rootOf 77 = .ok (.istore 7, 2) := by decide +kernel
set_option maxRecDepth 100000 in
theorem dX12_rootOf_79 : decode cX12_rootOf 79 = .ok (.iload 7, 2) := by decide +kernel
set_option maxRecDepth 100000 in
theorem dX12_rootOf_81 : decode cX12_rootOf 81 = .ok (.iconst 1, 1) := by decide +kernel
set_option maxRecDepth 100000 in
theorem dX12_rootOf_82 : decode cX12_rootOf 82 = .ok (.iand, 1) := by decide +kernel
set_option maxRecDepth 100000 in
theorem dX12_rootOf_83 : decode cX12_rootOf 83 = .ok (.ifCond .eq 12, 3) := by decide +kernel
set_option maxRecDepth 100000 in
theorem dX12_rootOf_86 : decode cX12_rootOf 86 = .ok (.lload 5, 2) := by decide +kernel
set_option maxRecDepth 100000 in
theorem dX12_rootOf_88 : decode cX12_rootOf 88 = .ok (.iconst 1, 1) := by decide +kernel
set_option maxRecDepth 100000 in
theorem dX12_rootOf_89 : decode cX12_rootOf 89 = .ok (.lshl, 1) := by decide +kernel
set_option maxRecDepth 100000 in
theorem dX12_rootOf_90 : decode cX12_rootOf 90 = .ok (.lstore 5, 2) := by decide +kernel
set_option maxRecDepth 100000 in
theorem dX12_rootOf_92 : decode cX12_rootOf 92 = .ok (.iinc 7 (-1), 3) := by decide +kernel
set_option maxRecDepth 100000 in
theorem dX12_rootOf_95 : decode cX12_rootOf 95 = .ok (.lconst 0, 1) := by decide +kernel
set_option maxRecDepth 100000 in
theorem dX12_rootOf_96 : decode cX12_rootOf 96 = .ok (.lstore 8, 2) := by decide +kernel
set_option maxRecDepth 100000 in
theorem dX12_rootOf_98 : decode cX12_rootOf 98 = .ok (.lconst 0, 1) := by decide +kernel
set_option maxRecDepth 100000 in
theorem dX12_rootOf_99 : decode cX12_rootOf 99 = .ok (.lstore 10, 2) := by decide +kernel
set_option maxRecDepth 100000 in
theorem dX12_rootOf_101 : decode cX12_rootOf 101 = .ok (.bipush 27, 2) := by decide +kernel
set_option maxRecDepth 100000 in
theorem dX12_rootOf_103 : decode cX12_rootOf 103 = .ok (.istore 12, 2) := by decide +kernel
set_option maxRecDepth 100000 in
theorem dX12_rootOf_105 : decode cX12_rootOf 105 = .ok (.iload 12, 2) := by decide +kernel
set_option maxRecDepth 100000 in
theorem dX12_rootOf_107 : decode cX12_rootOf 107 = .ok (.bipush (-27), 2) := by decide +kernel
set_option maxRecDepth 100000 in
theorem dX12_rootOf_109 : decode cX12_rootOf 109 = .ok (.if_icmp .lt 75, 3) := by decide +kernel
set_option maxRecDepth 100000 in
theorem dX12_rootOf_112 : decode cX12_rootOf 112 = .ok (.iload 12, 2) := by decide +kernel
set_option maxRecDepth 100000 in
theorem dX12_rootOf_114 : decode cX12_rootOf 114 = .ok (.ifCond .lt 17, 3) := by decide +kernel
set_option maxRecDepth 100000 in
theorem dX12_rootOf_117 : decode cX12_rootOf 117 = .ok (.lload 5, 2) := by decide +kernel
set_option maxRecDepth 100000 in
theorem dX12_rootOf_119 : decode cX12_rootOf 119 = .ok (.iconst 2, 1) := by decide +kernel
set_option maxRecDepth 100000 in
theorem dX12_rootOf_120 : decode cX12_rootOf 120 = .ok (.iload 12, 2) := by decide +kernel
set_option maxRecDepth 100000 in
theorem dX12_rootOf_122 : decode cX12_rootOf 122 = .ok (.imul, 1) := by decide +kernel
set_option maxRecDepth 100000 in
theorem dX12_rootOf_123 : decode cX12_rootOf 123 = .ok (.lshr, 1) := by decide +kernel
set_option maxRecDepth 100000 in
theorem dX12_rootOf_124 : decode cX12_rootOf 124 = .ok (.ldc2_w 1338, 3) := by decide +kernel
set_option maxRecDepth 100000 in
theorem dX12_rootOf_127 : decode cX12_rootOf 127 = .ok (.land, 1) := by decide +kernel
set_option maxRecDepth 100000 in
theorem dX12_rootOf_128 : decode cX12_rootOf 128 = .ok (.goto 4, 3) := by decide +kernel
set_option maxRecDepth 100000 in
theorem dX12_rootOf_131 : decode cX12_rootOf 131 = .ok (.lconst 0, 1) := by decide +kernel
set_option maxRecDepth 100000 in
theorem dX12_rootOf_132 : decode cX12_rootOf 132 = .ok (.lstore 13, 2) := by decide +kernel
set_option maxRecDepth 100000 in
theorem dX12_rootOf_134 : decode cX12_rootOf 134 = .ok (.lload 10, 2) := by decide +kernel
set_option maxRecDepth 100000 in
theorem dX12_rootOf_136 : decode cX12_rootOf 136 = .ok (.iconst 2, 1) := by decide +kernel
set_option maxRecDepth 100000 in
theorem dX12_rootOf_137 : decode cX12_rootOf 137 = .ok (.lshl, 1) := by decide +kernel
set_option maxRecDepth 100000 in
theorem dX12_rootOf_138 : decode cX12_rootOf 138 = .ok (.lload 13, 2) := by decide +kernel
set_option maxRecDepth 100000 in
theorem dX12_rootOf_140 : decode cX12_rootOf 140 = .ok (.lor, 1) := by decide +kernel
set_option maxRecDepth 100000 in
theorem dX12_rootOf_141 : decode cX12_rootOf 141 = .ok (.lstore 10, 2) := by decide +kernel
set_option maxRecDepth 100000 in
theorem dX12_rootOf_143 : decode cX12_rootOf 143 = .ok (.lload 8, 2) := by decide +kernel
set_option maxRecDepth 100000 in
theorem dX12_rootOf_145 : decode cX12_rootOf 145 = .ok (.iconst 2, 1) := by decide +kernel
set_option maxRecDepth 100000 in
theorem dX12_rootOf_146 : decode cX12_rootOf 146 = .ok (.lshl, 1) := by decide +kernel
set_option maxRecDepth 100000 in
theorem dX12_rootOf_147 : decode cX12_rootOf 147 = .ok (.lconst 1, 1) := by decide +kernel
set_option maxRecDepth 100000 in
theorem dX12_rootOf_148 : decode cX12_rootOf 148 = .ok (.lor, 1) := by decide +kernel
set_option maxRecDepth 100000 in
theorem dX12_rootOf_149 : decode cX12_rootOf 149 = .ok (.lstore 15, 2) := by decide +kernel
set_option maxRecDepth 100000 in
theorem dX12_rootOf_151 : decode cX12_rootOf 151 = .ok (.lload 8, 2) := by decide +kernel
set_option maxRecDepth 100000 in
theorem dX12_rootOf_153 : decode cX12_rootOf 153 = .ok (.iconst 1, 1) := by decide +kernel
set_option maxRecDepth 100000 in
theorem dX12_rootOf_154 : decode cX12_rootOf 154 = .ok (.lshl, 1) := by decide +kernel
set_option maxRecDepth 100000 in
theorem dX12_rootOf_155 : decode cX12_rootOf 155 = .ok (.lstore 8, 2) := by decide +kernel
set_option maxRecDepth 100000 in
theorem dX12_rootOf_157 : decode cX12_rootOf 157 = .ok (.lload 10, 2) := by decide +kernel
set_option maxRecDepth 100000 in
theorem dX12_rootOf_159 : decode cX12_rootOf 159 = .ok (.lload 15, 2) := by decide +kernel
set_option maxRecDepth 100000 in
theorem dX12_rootOf_161 : decode cX12_rootOf 161 = .ok (.lcmp, 1) := by decide +kernel
set_option maxRecDepth 100000 in
theorem dX12_rootOf_162 : decode cX12_rootOf 162 = .ok (.ifCond .lt 16, 3) := by decide +kernel
set_option maxRecDepth 100000 in
theorem dX12_rootOf_165 : decode cX12_rootOf 165 = .ok (.lload 10, 2) := by decide +kernel
set_option maxRecDepth 100000 in
theorem dX12_rootOf_167 : decode cX12_rootOf 167 = .ok (.lload 15, 2) := by decide +kernel
set_option maxRecDepth 100000 in
theorem dX12_rootOf_169 : decode cX12_rootOf 169 = .ok (.lsub, 1) := by decide +kernel
set_option maxRecDepth 100000 in
theorem dX12_rootOf_170 : decode cX12_rootOf 170 = .ok (.lstore 10, 2) := by decide +kernel
set_option maxRecDepth 100000 in
theorem dX12_rootOf_172 : decode cX12_rootOf 172 = .ok (.lload 8, 2) := by decide +kernel
set_option maxRecDepth 100000 in
theorem dX12_rootOf_174 : decode cX12_rootOf 174 = .ok (.lconst 1, 1) := by decide +kernel
set_option maxRecDepth 100000 in
theorem dX12_rootOf_175 : decode cX12_rootOf 175 = .ok (.lor, 1) := by decide +kernel
set_option maxRecDepth 100000 in
theorem dX12_rootOf_176 : decode cX12_rootOf 176 = .ok (.lstore 8, 2) := by decide +kernel
set_option maxRecDepth 100000 in
theorem dX12_rootOf_178 : decode cX12_rootOf 178 = .ok (.iinc 12 (-1), 3) := by decide +kernel
set_option maxRecDepth 100000 in
theorem dX12_rootOf_181 : decode cX12_rootOf 181 = .ok (.goto (-76), 3) := by decide +kernel
set_option maxRecDepth 100000 in
theorem dX12_rootOf_184 : decode cX12_rootOf 184 = .ok (.iload 7, 2) := by decide +kernel
set_option maxRecDepth 100000 in
theorem dX12_rootOf_186 : decode cX12_rootOf 186 = .ok (.iconst 2, 1) := by decide +kernel
set_option maxRecDepth 100000 in
theorem dX12_rootOf_187 : decode cX12_rootOf 187 = .ok (.idiv, 1) := by decide +kernel
set_option maxRecDepth 100000 in
theorem dX12_rootOf_188 : decode cX12_rootOf 188 = .ok (.bipush 27, 2) := by decide +kernel
set_option maxRecDepth 100000 in
theorem dX12_rootOf_190 : decode cX12_rootOf 190 = .ok (.isub, 1) := by decide +kernel
set_option maxRecDepth 100000 in
theorem dX12_rootOf_191 : decode cX12_rootOf 191 = .ok (.istore 12, 2) := by decide +kernel
set_option maxRecDepth 100000 in
theorem dX12_rootOf_193 : decode cX12_rootOf 193 = .ok (.bipush 64, 2) := by decide +kernel
set_option maxRecDepth 100000 in
theorem dX12_rootOf_195 : decode cX12_rootOf 195 = .ok (.lload 8, 2) := by decide +kernel
set_option maxRecDepth 100000 in
theorem dX12_rootOf_197 : decode cX12_rootOf 197 = .ok (.invokestatic 1340, 3) := by decide +kernel
set_option maxRecDepth 100000 in
theorem dX12_rootOf_200 : decode cX12_rootOf 200 = .ok (.isub, 1) := by decide +kernel
set_option maxRecDepth 100000 in
theorem dX12_rootOf_201 : decode cX12_rootOf 201 = .ok (.bipush 53, 2) := by decide +kernel
set_option maxRecDepth 100000 in
theorem dX12_rootOf_203 : decode cX12_rootOf 203 = .ok (.isub, 1) := by decide +kernel
set_option maxRecDepth 100000 in
theorem dX12_rootOf_204 : decode cX12_rootOf 204 = .ok (.istore 13, 2) := by decide +kernel
set_option maxRecDepth 100000 in
theorem dX12_rootOf_206 : decode cX12_rootOf 206 = .ok (.lconst 1, 1) := by decide +kernel
set_option maxRecDepth 100000 in
theorem dX12_rootOf_207 : decode cX12_rootOf 207 = .ok (.iload 13, 2) := by decide +kernel
set_option maxRecDepth 100000 in
theorem dX12_rootOf_209 : decode cX12_rootOf 209 = .ok (.lshl, 1) := by decide +kernel
set_option maxRecDepth 100000 in
theorem dX12_rootOf_210 : decode cX12_rootOf 210 = .ok (.lconst 1, 1) := by decide +kernel
set_option maxRecDepth 100000 in
theorem dX12_rootOf_211 : decode cX12_rootOf 211 = .ok (.lsub, 1) := by decide +kernel
set_option maxRecDepth 100000 in
theorem dX12_rootOf_212 : decode cX12_rootOf 212 = .ok (.lstore 14, 2) := by decide +kernel
set_option maxRecDepth 100000 in
theorem dX12_rootOf_214 : decode cX12_rootOf 214 = .ok (.lload 8, 2) := by decide +kernel
set_option maxRecDepth 100000 in
theorem dX12_rootOf_216 : decode cX12_rootOf 216 = .ok (.lload 14, 2) := by decide +kernel
set_option maxRecDepth 100000 in
theorem dX12_rootOf_218 : decode cX12_rootOf 218 = .ok (.land, 1) := by decide +kernel
set_option maxRecDepth 100000 in
theorem dX12_rootOf_219 : decode cX12_rootOf 219 = .ok (.lstore 16, 2) := by decide +kernel
set_option maxRecDepth 100000 in
theorem dX12_rootOf_221 : decode cX12_rootOf 221 = .ok (.lconst 1, 1) := by decide +kernel
set_option maxRecDepth 100000 in
theorem dX12_rootOf_222 : decode cX12_rootOf 222 = .ok (.iload 13, 2) := by decide +kernel
set_option maxRecDepth 100000 in
theorem dX12_rootOf_224 : decode cX12_rootOf 224 = .ok (.iconst 1, 1) := by decide +kernel
set_option maxRecDepth 100000 in
theorem dX12_rootOf_225 : decode cX12_rootOf 225 = .ok (.isub, 1) := by decide +kernel
set_option maxRecDepth 100000 in
theorem dX12_rootOf_226 : decode cX12_rootOf 226 = .ok (.lshl, 1) := by decide +kernel
set_option maxRecDepth 100000 in
theorem dX12_rootOf_227 : decode cX12_rootOf 227 = .ok (.lstore 18, 2) := by decide +kernel
set_option maxRecDepth 100000 in
theorem dX12_rootOf_229 : decode cX12_rootOf 229 = .ok (.lload 8, 2) := by decide +kernel
set_option maxRecDepth 100000 in
theorem dX12_rootOf_231 : decode cX12_rootOf 231 = .ok (.iload 13, 2) := by decide +kernel
set_option maxRecDepth 100000 in
theorem dX12_rootOf_233 : decode cX12_rootOf 233 = .ok (.lshr, 1) := by decide +kernel
set_option maxRecDepth 100000 in
theorem dX12_rootOf_234 : decode cX12_rootOf 234 = .ok (.lstore 20, 2) := by decide +kernel
set_option maxRecDepth 100000 in
theorem dX12_rootOf_236 : decode cX12_rootOf 236 = .ok (.iload 12, 2) := by decide +kernel
set_option maxRecDepth 100000 in
theorem dX12_rootOf_238 : decode cX12_rootOf 238 = .ok (.iload 13, 2) := by decide +kernel
set_option maxRecDepth 100000 in
theorem dX12_rootOf_240 : decode cX12_rootOf 240 = .ok (.iadd, 1) := by decide +kernel
set_option maxRecDepth 100000 in
theorem dX12_rootOf_241 : decode cX12_rootOf 241 = .ok (.istore 12, 2) := by decide +kernel
set_option maxRecDepth 100000 in
theorem dX12_rootOf_243 : decode cX12_rootOf 243 = .ok (.lload 16, 2) := by decide +kernel
set_option maxRecDepth 100000 in
theorem dX12_rootOf_245 : decode cX12_rootOf 245 = .ok (.lload 18, 2) := by decide +kernel
set_option maxRecDepth 100000 in
theorem dX12_rootOf_247 : decode cX12_rootOf 247 = .ok (.lcmp, 1) := by decide +kernel
set_option maxRecDepth 100000 in
theorem dX12_rootOf_248 : decode cX12_rootOf 248 = .ok (.ifCond .gt 27, 3) := by decide +kernel
set_option maxRecDepth 100000 in
theorem dX12_rootOf_251 : decode cX12_rootOf 251 = .ok (.lload 16, 2) := by decide +kernel
set_option maxRecDepth 100000 in
theorem dX12_rootOf_253 : decode cX12_rootOf 253 = .ok (.lload 18, 2) := by decide +kernel
set_option maxRecDepth 100000 in
theorem dX12_rootOf_255 : decode cX12_rootOf 255 = .ok (.lcmp, 1) := by decide +kernel
set_option maxRecDepth 100000 in
theorem dX12_rootOf_256 : decode cX12_rootOf 256 = .ok (.ifCond .ne 23, 3) := by decide +kernel
set_option maxRecDepth 100000 in
theorem dX12_rootOf_259 : decode cX12_rootOf 259 = .ok (.lload 10, 2) := by decide +kernel
set_option maxRecDepth 100000 in
theorem dX12_rootOf_261 : decode cX12_rootOf 261 = .ok (.lconst 0, 1) := by decide +kernel
set_option maxRecDepth 100000 in
theorem dX12_rootOf_262 : decode cX12_rootOf 262 = .ok (.lcmp, 1) := by decide +kernel
set_option maxRecDepth 100000 in
theorem dX12_rootOf_263 : decode cX12_rootOf 263 = .ok (.ifCond .ne 12, 3) := by decide +kernel
set_option maxRecDepth 100000 in
theorem dX12_rootOf_266 : decode cX12_rootOf 266 = .ok (.lload 20, 2) := by decide +kernel
set_option maxRecDepth 100000 in
theorem dX12_rootOf_268 : decode cX12_rootOf 268 = .ok (.lconst 1, 1) := by decide +kernel
set_option maxRecDepth 100000 in
theorem dX12_rootOf_269 : decode cX12_rootOf 269 = .ok (.land, 1) := by decide +kernel
set_option maxRecDepth 100000 in
theorem dX12_rootOf_270 : decode cX12_rootOf 270 = .ok (.lconst 1, 1) := by decide +kernel
set_option maxRecDepth 100000 in
theorem dX12_rootOf_271 : decode cX12_rootOf 271 = .ok (.lcmp, 1) := by decide +kernel
set_option maxRecDepth 100000 in
theorem dX12_rootOf_272 : decode cX12_rootOf 272 = .ok (.ifCond .ne 7, 3) := by decide +kernel
set_option maxRecDepth 100000 in
theorem dX12_rootOf_275 : decode cX12_rootOf 275 = .ok (.iconst 1, 1) := by decide +kernel
set_option maxRecDepth 100000 in
theorem dX12_rootOf_276 : decode cX12_rootOf 276 = .ok (.goto 4, 3) := by decide +kernel
set_option maxRecDepth 100000 in
theorem dX12_rootOf_279 : decode cX12_rootOf 279 = .ok (.iconst 0, 1) := by decide +kernel
set_option maxRecDepth 100000 in
theorem dX12_rootOf_280 : decode cX12_rootOf 280 = .ok (.istore 22, 2) := by decide +kernel
set_option maxRecDepth 100000 in
theorem dX12_rootOf_282 : decode cX12_rootOf 282 = .ok (.iload 22, 2) := by decide +kernel
set_option maxRecDepth 100000 in
theorem dX12_rootOf_284 : decode cX12_rootOf 284 = .ok (.ifCond .eq 9, 3) := by decide +kernel
set_option maxRecDepth 100000 in
theorem dX12_rootOf_287 : decode cX12_rootOf 287 = .ok (.lload 20, 2) := by decide +kernel
set_option maxRecDepth 100000 in
theorem dX12_rootOf_289 : decode cX12_rootOf 289 = .ok (.lconst 1, 1) := by decide +kernel
set_option maxRecDepth 100000 in
theorem dX12_rootOf_290 : decode cX12_rootOf 290 = .ok (.ladd, 1) := by decide +kernel
set_option maxRecDepth 100000 in
theorem dX12_rootOf_291 : decode cX12_rootOf 291 = .ok (.lstore 20, 2) := by decide +kernel
set_option maxRecDepth 100000 in
theorem dX12_rootOf_293 : decode cX12_rootOf 293 = .ok (.lload 20, 2) := by decide +kernel
set_option maxRecDepth 100000 in
theorem dX12_rootOf_295 : decode cX12_rootOf 295 = .ok (.l2d, 1) := by decide +kernel
set_option maxRecDepth 100000 in
theorem dX12_rootOf_296 : decode cX12_rootOf 296 = .ok (.dstore 23, 2) := by decide +kernel
set_option maxRecDepth 100000 in
theorem dX12_rootOf_298 : decode cX12_rootOf 298 = .ok (.iload 12, 2) := by decide +kernel
set_option maxRecDepth 100000 in
theorem dX12_rootOf_300 : decode cX12_rootOf 300 = .ok (.ifCond .le 17, 3) := by decide +kernel
set_option maxRecDepth 100000 in
theorem dX12_rootOf_303 : decode cX12_rootOf 303 = .ok (.dload 23, 2) := by decide +kernel
set_option maxRecDepth 100000 in
theorem dX12_rootOf_305 : decode cX12_rootOf 305 = .ok (.ldc2_w 1346, 3) := by decide +kernel
set_option maxRecDepth 100000 in
theorem dX12_rootOf_308 : decode cX12_rootOf 308 = .ok (.dmul, 1) := by decide +kernel
set_option maxRecDepth 100000 in
theorem dX12_rootOf_309 : decode cX12_rootOf 309 = .ok (.dstore 23, 2) := by decide +kernel
set_option maxRecDepth 100000 in
theorem dX12_rootOf_311 : decode cX12_rootOf 311 = .ok (.iinc 12 (-1), 3) := by decide +kernel
set_option maxRecDepth 100000 in
theorem dX12_rootOf_314 : decode cX12_rootOf 314 = .ok (.goto (-16), 3) := by decide +kernel
set_option maxRecDepth 100000 in
theorem dX12_rootOf_317 : decode cX12_rootOf 317 = .ok (.iload 12, 2) := by decide +kernel
set_option maxRecDepth 100000 in
theorem dX12_rootOf_319 : decode cX12_rootOf 319 = .ok (.ifCond .ge 17, 3) := by decide +kernel
set_option maxRecDepth 100000 in
theorem dX12_rootOf_322 : decode cX12_rootOf 322 = .ok (.dload 23, 2) := by decide +kernel
set_option maxRecDepth 100000 in
theorem dX12_rootOf_324 : decode cX12_rootOf 324 = .ok (.ldc2_w 1346, 3) := by decide +kernel
set_option maxRecDepth 100000 in
theorem dX12_rootOf_327 : decode cX12_rootOf 327 = .ok (.ddiv, 1) := by decide +kernel
set_option maxRecDepth 100000 in
theorem dX12_rootOf_328 : decode cX12_rootOf 328 = .ok (.dstore 23, 2) := by decide +kernel
set_option maxRecDepth 100000 in
theorem dX12_rootOf_330 : decode cX12_rootOf 330 = .ok (.iinc 12 1, 3) := by decide +kernel
set_option maxRecDepth 100000 in
theorem dX12_rootOf_333 : decode cX12_rootOf 333 = .ok (.goto (-16), 3) := by decide +kernel
set_option maxRecDepth 100000 in
theorem dX12_rootOf_336 : decode cX12_rootOf 336 = .ok (.dload 23, 2) := by decide +kernel
set_option maxRecDepth 100000 in
theorem dX12_rootOf_338 : decode cX12_rootOf 338 = .ok (.dreturn, 1) := by decide +kernel
def lX12_rootOf_50 (G : xG) (fr lo : Nat) (x4 : Int32) (x5 : Int64) (h : xH) (Q : Outcome → xH → Prop) : Prop := xP G YX12_rootOf fr lo 50 [(4, .int x4), (5, .long x5)] [] h Q
def lX12_rootOf_105 (G : xG) (fr lo : Nat) (x5 : Int64) (x7 : Int32) (x8 : Int64) (x10 : Int64) (x12 : Int32) (h : xH) (Q : Outcome → xH → Prop) : Prop := xP G YX12_rootOf fr lo 105 [(5, .long x5), (7, .int x7), (8, .long x8), (10, .long x10), (12, .int x12)] [] h Q
def lX12_rootOf_298 (G : xG) (fr lo : Nat) (x12 : Int32) (x23 : UInt64) (h : xH) (Q : Outcome → xH → Prop) : Prop := xP G YX12_rootOf fr lo 298 [(12, .int x12), (23, .double x23)] [] h Q
def lX12_rootOf_317 (G : xG) (fr lo : Nat) (x12 : Int32) (x23 : UInt64) (h : xH) (Q : Outcome → xH → Prop) : Prop := xP G YX12_rootOf fr lo 317 [(12, .int x12), (23, .double x23)] [] h Q
set_option maxRecDepth 100000 in
def bX12_rootOf_317 (G : xG) (fr lo : Nat) (x12 : Int32) (x23 : UInt64) (h : xH) (Q : Outcome → xH → Prop) : Prop := ((0 ≤ x12 → Q (.returned (some (.double x23))) h) ∧ (¬ 0 ≤ x12 → vf_n64 (FP.ddiv x23 4611686018427387904) ∧ lX12_rootOf_317 G fr lo (x12 + 1) (FP.ddiv x23 4611686018427387904) h Q))
set_option maxRecDepth 100000 in
theorem uX12_rootOf_317 {G : xG} {fr lo : Nat} {x12 : Int32} {x23 : UInt64} {h : xH} {Q : Outcome → xH → Prop} (hq : bX12_rootOf_317 G fr lo x12 x23 h Q) : xP G YX12_rootOf fr lo 317 [(12, .int x12), (23, .double x23)] [] h Q := by
  unfold bX12_rootOf_317 at hq
  refine x_iload 0 dX12_rootOf_317 rfl ?_
  refine x_if_ge (tgt := 336) dX12_rootOf_319 (by decide) (fun c1 => ?_) (fun c1 => ?_)
  · replace hq := hq.1 c1
    refine x_dload 1 dX12_rootOf_336 rfl ?_
    exact x_dret rfl dX12_rootOf_338 hq
  · replace hq := hq.2 c1
    refine x_dload 1 dX12_rootOf_322 rfl ?_
    refine x_ldc2d (v := 4611686018427387904) q4598 dX12_rootOf_324 ?_
    obtain ⟨g2, hq⟩ := hq
    refine x_ddiv dX12_rootOf_327 g2 ?_
    refine x_dstore (lv' := [(23, .double (FP.ddiv x23 4611686018427387904)), (12, .int x12)]) dX12_rootOf_328 (by decide) rfl ?_
    refine x_iinc (lv' := [(12, .int (x12 + 1)), (23, .double (FP.ddiv x23 4611686018427387904))]) 1 dX12_rootOf_330 rfl (by decide) rfl ?_
    refine x_goto (tgt := 317) dX12_rootOf_333 (by decide) ?_
    exact hq
set_option maxRecDepth 100000 in
def bX12_rootOf_298 (G : xG) (fr lo : Nat) (x12 : Int32) (x23 : UInt64) (h : xH) (Q : Outcome → xH → Prop) : Prop := ((x12 ≤ 0 → lX12_rootOf_317 G fr lo x12 x23 h Q) ∧ (¬ x12 ≤ 0 → vf_n64 (FP.dmul x23 4611686018427387904) ∧ lX12_rootOf_298 G fr lo (x12 + (-1)) (FP.dmul x23 4611686018427387904) h Q))
set_option maxRecDepth 100000 in
theorem uX12_rootOf_298 {G : xG} {fr lo : Nat} {x12 : Int32} {x23 : UInt64} {h : xH} {Q : Outcome → xH → Prop} (hq : bX12_rootOf_298 G fr lo x12 x23 h Q) : xP G YX12_rootOf fr lo 298 [(12, .int x12), (23, .double x23)] [] h Q := by
  unfold bX12_rootOf_298 at hq
  refine x_iload 0 dX12_rootOf_298 rfl ?_
  refine x_if_le (tgt := 317) dX12_rootOf_300 (by decide) (fun c1 => ?_) (fun c1 => ?_)
  · replace hq := hq.1 c1
    exact hq
  · replace hq := hq.2 c1
    refine x_dload 1 dX12_rootOf_303 rfl ?_
    refine x_ldc2d (v := 4611686018427387904) q4598 dX12_rootOf_305 ?_
    obtain ⟨g2, hq⟩ := hq
    refine x_dmul dX12_rootOf_308 g2 ?_
    refine x_dstore (lv' := [(23, .double (FP.dmul x23 4611686018427387904)), (12, .int x12)]) dX12_rootOf_309 (by decide) rfl ?_
    refine x_iinc (lv' := [(12, .int (x12 + (-1))), (23, .double (FP.dmul x23 4611686018427387904))]) 1 dX12_rootOf_311 rfl (by decide) rfl ?_
    refine x_goto (tgt := 298) dX12_rootOf_314 (by decide) ?_
    exact hq
set_option maxRecDepth 100000 in
def bX12_rootOf_293 (G : xG) (fr lo : Nat) (x12 : Int32) (x20 : Int64) (h : xH) (Q : Outcome → xH → Prop) : Prop := lX12_rootOf_298 G fr lo x12 (FP.l2d x20) h Q
set_option maxRecDepth 100000 in
theorem uX12_rootOf_293 {G : xG} {fr lo : Nat} {x12 : Int32} {x20 : Int64} {h : xH} {Q : Outcome → xH → Prop} (hq : bX12_rootOf_293 G fr lo x12 x20 h Q) : xP G YX12_rootOf fr lo 293 [(12, .int x12), (20, .long x20)] [] h Q := by
  unfold bX12_rootOf_293 at hq
  refine x_lload 1 dX12_rootOf_293 rfl ?_
  refine x_l2d dX12_rootOf_295 ?_
  refine x_dstore (lv' := [(23, .double (FP.l2d x20)), (12, .int x12), (20, .long x20)]) dX12_rootOf_296 (by decide) rfl ?_
  refine xP.pick (lv' := [(12, .int x12), (23, .double (FP.l2d x20))]) [1, 0] rfl ?_
  exact hq
set_option maxRecDepth 100000 in
def bX12_rootOf_280 (G : xG) (fr lo : Nat) (x12 : Int32) (x20 : Int64) (s0 : Int32) (h : xH) (Q : Outcome → xH → Prop) : Prop := ((s0 = 0 → bX12_rootOf_293 G fr lo x12 x20 h Q) ∧ (¬ s0 = 0 → bX12_rootOf_293 G fr lo x12 (x20 + 1) h Q))
set_option maxRecDepth 100000 in
theorem uX12_rootOf_280 {G : xG} {fr lo : Nat} {x12 : Int32} {x20 : Int64} {s0 : Int32} {h : xH} {Q : Outcome → xH → Prop} (hq : bX12_rootOf_280 G fr lo x12 x20 s0 h Q) : xP G YX12_rootOf fr lo 280 [(12, .int x12), (20, .long x20)] [.int s0] h Q := by
  unfold bX12_rootOf_280 at hq
  refine x_istore (lv' := [(22, .int s0), (12, .int x12), (20, .long x20)]) dX12_rootOf_280 (by decide) rfl ?_
  refine x_iload 0 dX12_rootOf_282 rfl ?_
  refine x_if_eq (tgt := 293) dX12_rootOf_284 (by decide) (fun c1 => ?_) (fun c1 => ?_)
  · replace hq := hq.1 c1
    refine xP.pick (lv' := [(12, .int x12), (20, .long x20)]) [1, 2] rfl ?_
    exact uX12_rootOf_293 hq
  · replace hq := hq.2 c1
    refine x_lload 2 dX12_rootOf_287 rfl ?_
    refine x_lconst (v := 1) dX12_rootOf_289 (by decide) ?_
    refine x_ladd dX12_rootOf_290 ?_
    refine x_lstore (lv' := [(20, .long (x20 + 1)), (22, .int s0), (12, .int x12)]) dX12_rootOf_291 (by decide) rfl ?_
    refine xP.pick (lv' := [(12, .int x12), (20, .long (x20 + 1))]) [2, 0] rfl ?_
    exact uX12_rootOf_293 hq
set_option maxRecDepth 100000 in
def bX12_rootOf_279 (G : xG) (fr lo : Nat) (x12 : Int32) (x20 : Int64) (h : xH) (Q : Outcome → xH → Prop) : Prop := bX12_rootOf_280 G fr lo x12 x20 0 h Q
set_option maxRecDepth 100000 in
theorem uX12_rootOf_279 {G : xG} {fr lo : Nat} {x12 : Int32} {x20 : Int64} {h : xH} {Q : Outcome → xH → Prop} (hq : bX12_rootOf_279 G fr lo x12 x20 h Q) : xP G YX12_rootOf fr lo 279 [(12, .int x12), (20, .long x20)] [] h Q := by
  unfold bX12_rootOf_279 at hq
  refine x_iconst (v := 0) dX12_rootOf_279 (by decide) ?_
  exact uX12_rootOf_280 hq
set_option maxRecDepth 100000 in
def bX12_rootOf_275 (G : xG) (fr lo : Nat) (x12 : Int32) (x20 : Int64) (h : xH) (Q : Outcome → xH → Prop) : Prop := bX12_rootOf_280 G fr lo x12 x20 1 h Q
set_option maxRecDepth 100000 in
theorem uX12_rootOf_275 {G : xG} {fr lo : Nat} {x12 : Int32} {x20 : Int64} {h : xH} {Q : Outcome → xH → Prop} (hq : bX12_rootOf_275 G fr lo x12 x20 h Q) : xP G YX12_rootOf fr lo 275 [(12, .int x12), (20, .long x20)] [] h Q := by
  unfold bX12_rootOf_275 at hq
  refine x_iconst (v := 1) dX12_rootOf_275 (by decide) ?_
  refine x_goto (tgt := 280) dX12_rootOf_276 (by decide) ?_
  exact uX12_rootOf_280 hq
set_option maxRecDepth 100000 in
def bX12_rootOf_178 (G : xG) (fr lo : Nat) (x5 : Int64) (x7 : Int32) (x8 : Int64) (x10 : Int64) (x12 : Int32) (h : xH) (Q : Outcome → xH → Prop) : Prop := lX12_rootOf_105 G fr lo x5 x7 x8 x10 (x12 + (-1)) h Q
set_option maxRecDepth 100000 in
theorem uX12_rootOf_178 {G : xG} {fr lo : Nat} {x5 : Int64} {x7 : Int32} {x8 : Int64} {x10 : Int64} {x12 : Int32} {h : xH} {Q : Outcome → xH → Prop} (hq : bX12_rootOf_178 G fr lo x5 x7 x8 x10 x12 h Q) : xP G YX12_rootOf fr lo 178 [(5, .long x5), (7, .int x7), (8, .long x8), (10, .long x10), (12, .int x12)] [] h Q := by
  unfold bX12_rootOf_178 at hq
  refine x_iinc (lv' := [(12, .int (x12 + (-1))), (5, .long x5), (7, .int x7), (8, .long x8), (10, .long x10)]) 4 dX12_rootOf_178 rfl (by decide) rfl ?_
  refine x_goto (tgt := 105) dX12_rootOf_181 (by decide) ?_
  refine xP.pick (lv' := [(5, .long x5), (7, .int x7), (8, .long x8), (10, .long x10), (12, .int (x12 + (-1)))]) [1, 2, 3, 4, 0] rfl ?_
  exact hq
set_option maxRecDepth 100000 in
def bX12_rootOf_132 (G : xG) (fr lo : Nat) (x5 : Int64) (x7 : Int32) (x8 : Int64) (x10 : Int64) (x12 : Int32) (s0 : Int64) (h : xH) (Q : Outcome → xH → Prop) : Prop := (((lg_cmp ((x10 <<< (Int32.toInt64 2 &&& 63)) ||| s0) ((x8 <<< (Int32.toInt64 2 &&& 63)) ||| 1)) < 0 → bX12_rootOf_178 G fr lo x5 x7 (x8 <<< (Int32.toInt64 1 &&& 63)) ((x10 <<< (Int32.toInt64 2 &&& 63)) ||| s0) x12 h Q) ∧ (¬ (lg_cmp ((x10 <<< (Int32.toInt64 2 &&& 63)) ||| s0) ((x8 <<< (Int32.toInt64 2 &&& 63)) ||| 1)) < 0 → bX12_rootOf_178 G fr lo x5 x7 ((x8 <<< (Int32.toInt64 1 &&& 63)) ||| 1) (((x10 <<< (Int32.toInt64 2 &&& 63)) ||| s0) - ((x8 <<< (Int32.toInt64 2 &&& 63)) ||| 1)) x12 h Q))
set_option maxRecDepth 100000 in
theorem uX12_rootOf_132 {G : xG} {fr lo : Nat} {x5 : Int64} {x7 : Int32} {x8 : Int64} {x10 : Int64} {x12 : Int32} {s0 : Int64} {h : xH} {Q : Outcome → xH → Prop} (hq : bX12_rootOf_132 G fr lo x5 x7 x8 x10 x12 s0 h Q) : xP G YX12_rootOf fr lo 132 [(5, .long x5), (7, .int x7), (8, .long x8), (10, .long x10), (12, .int x12)] [.long s0] h Q := by
  unfold bX12_rootOf_132 at hq
  refine x_lstore (lv' := [(13, .long s0), (5, .long x5), (7, .int x7), (8, .long x8), (10, .long x10), (12, .int x12)]) dX12_rootOf_132 (by decide) rfl ?_
  refine x_lload 4 dX12_rootOf_134 rfl ?_
  refine x_iconst (v := 2) dX12_rootOf_136 (by decide) ?_
  refine x_lshl dX12_rootOf_137 ?_
  refine x_lload 0 dX12_rootOf_138 rfl ?_
  refine x_lor dX12_rootOf_140 ?_
  refine x_lstore (lv' := [(10, .long ((x10 <<< (Int32.toInt64 2 &&& 63)) ||| s0)), (13, .long s0), (5, .long x5), (7, .int x7), (8, .long x8), (12, .int x12)]) dX12_rootOf_141 (by decide) rfl ?_
  refine x_lload 4 dX12_rootOf_143 rfl ?_
  refine x_iconst (v := 2) dX12_rootOf_145 (by decide) ?_
  refine x_lshl dX12_rootOf_146 ?_
  refine x_lconst (v := 1) dX12_rootOf_147 (by decide) ?_
  refine x_lor dX12_rootOf_148 ?_
  refine x_lstore (lv' := [(15, .long ((x8 <<< (Int32.toInt64 2 &&& 63)) ||| 1)), (10, .long ((x10 <<< (Int32.toInt64 2 &&& 63)) ||| s0)), (13, .long s0), (5, .long x5), (7, .int x7), (8, .long x8), (12, .int x12)]) dX12_rootOf_149 (by decide) rfl ?_
  refine x_lload 5 dX12_rootOf_151 rfl ?_
  refine x_iconst (v := 1) dX12_rootOf_153 (by decide) ?_
  refine x_lshl dX12_rootOf_154 ?_
  refine x_lstore (lv' := [(8, .long (x8 <<< (Int32.toInt64 1 &&& 63))), (15, .long ((x8 <<< (Int32.toInt64 2 &&& 63)) ||| 1)), (10, .long ((x10 <<< (Int32.toInt64 2 &&& 63)) ||| s0)), (13, .long s0), (5, .long x5), (7, .int x7), (12, .int x12)]) dX12_rootOf_155 (by decide) rfl ?_
  refine x_lload 2 dX12_rootOf_157 rfl ?_
  refine x_lload 1 dX12_rootOf_159 rfl ?_
  refine x_lcmp dX12_rootOf_161 ?_
  refine x_if_lt (tgt := 178) dX12_rootOf_162 (by decide) (fun c1 => ?_) (fun c1 => ?_)
  · replace hq := hq.1 c1
    refine xP.pick (lv' := [(5, .long x5), (7, .int x7), (8, .long (x8 <<< (Int32.toInt64 1 &&& 63))), (10, .long ((x10 <<< (Int32.toInt64 2 &&& 63)) ||| s0)), (12, .int x12)]) [4, 5, 0, 2, 6] rfl ?_
    exact uX12_rootOf_178 hq
  · replace hq := hq.2 c1
    refine x_lload 2 dX12_rootOf_165 rfl ?_
    refine x_lload 1 dX12_rootOf_167 rfl ?_
    refine x_lsub dX12_rootOf_169 ?_
    refine x_lstore (lv' := [(10, .long (((x10 <<< (Int32.toInt64 2 &&& 63)) ||| s0) - ((x8 <<< (Int32.toInt64 2 &&& 63)) ||| 1))), (8, .long (x8 <<< (Int32.toInt64 1 &&& 63))), (15, .long ((x8 <<< (Int32.toInt64 2 &&& 63)) ||| 1)), (13, .long s0), (5, .long x5), (7, .int x7), (12, .int x12)]) dX12_rootOf_170 (by decide) rfl ?_
    refine x_lload 1 dX12_rootOf_172 rfl ?_
    refine x_lconst (v := 1) dX12_rootOf_174 (by decide) ?_
    refine x_lor dX12_rootOf_175 ?_
    refine x_lstore (lv' := [(8, .long ((x8 <<< (Int32.toInt64 1 &&& 63)) ||| 1)), (10, .long (((x10 <<< (Int32.toInt64 2 &&& 63)) ||| s0) - ((x8 <<< (Int32.toInt64 2 &&& 63)) ||| 1))), (15, .long ((x8 <<< (Int32.toInt64 2 &&& 63)) ||| 1)), (13, .long s0), (5, .long x5), (7, .int x7), (12, .int x12)]) dX12_rootOf_176 (by decide) rfl ?_
    refine xP.pick (lv' := [(5, .long x5), (7, .int x7), (8, .long ((x8 <<< (Int32.toInt64 1 &&& 63)) ||| 1)), (10, .long (((x10 <<< (Int32.toInt64 2 &&& 63)) ||| s0) - ((x8 <<< (Int32.toInt64 2 &&& 63)) ||| 1))), (12, .int x12)]) [4, 5, 0, 1, 6] rfl ?_
    exact uX12_rootOf_178 hq
set_option maxRecDepth 100000 in
def bX12_rootOf_105 (G : xG) (fr lo : Nat) (x5 : Int64) (x7 : Int32) (x8 : Int64) (x10 : Int64) (x12 : Int32) (h : xH) (Q : Outcome → xH → Prop) : Prop := ((x12 < (-27) → 1 ≤ fr ∧ 15 ≤ lo ∧ xRi G YJ22_numberOfLeadingZeros (fr - 1) (lo - 15) [.long x8] h (fun x5 h4 => xext h h4 → ((0 < (lg_cmp (x8 &&& ((1 <<< (Int32.toInt64 ((64 - x5) - 53) &&& 63)) - 1)) (1 <<< (Int32.toInt64 (((64 - x5) - 53) - 1) &&& 63))) → bX12_rootOf_275 G fr lo (((x7 / 2) - 27) + ((64 - x5) - 53)) (x8 >>> (Int32.toInt64 ((64 - x5) - 53) &&& 63)) h4 Q) ∧ (¬ 0 < (lg_cmp (x8 &&& ((1 <<< (Int32.toInt64 ((64 - x5) - 53) &&& 63)) - 1)) (1 <<< (Int32.toInt64 (((64 - x5) - 53) - 1) &&& 63))) → ((¬ (lg_cmp (x8 &&& ((1 <<< (Int32.toInt64 ((64 - x5) - 53) &&& 63)) - 1)) (1 <<< (Int32.toInt64 (((64 - x5) - 53) - 1) &&& 63))) = 0 → bX12_rootOf_279 G fr lo (((x7 / 2) - 27) + ((64 - x5) - 53)) (x8 >>> (Int32.toInt64 ((64 - x5) - 53) &&& 63)) h4 Q) ∧ ((lg_cmp (x8 &&& ((1 <<< (Int32.toInt64 ((64 - x5) - 53) &&& 63)) - 1)) (1 <<< (Int32.toInt64 (((64 - x5) - 53) - 1) &&& 63))) = 0 → ((¬ (lg_cmp x10 0) = 0 → bX12_rootOf_275 G fr lo (((x7 / 2) - 27) + ((64 - x5) - 53)) (x8 >>> (Int32.toInt64 ((64 - x5) - 53) &&& 63)) h4 Q) ∧ ((lg_cmp x10 0) = 0 → ((¬ (lg_cmp ((x8 >>> (Int32.toInt64 ((64 - x5) - 53) &&& 63)) &&& 1) 1) = 0 → bX12_rootOf_279 G fr lo (((x7 / 2) - 27) + ((64 - x5) - 53)) (x8 >>> (Int32.toInt64 ((64 - x5) - 53) &&& 63)) h4 Q) ∧ ((lg_cmp ((x8 >>> (Int32.toInt64 ((64 - x5) - 53) &&& 63)) &&& 1) 1) = 0 → bX12_rootOf_275 G fr lo (((x7 / 2) - 27) + ((64 - x5) - 53)) (x8 >>> (Int32.toInt64 ((64 - x5) - 53) &&& 63)) h4 Q))))))))) (fun r h2 => Q (.threw r) h2)) ∧ (¬ x12 < (-27) → ((x12 < 0 → bX12_rootOf_132 G fr lo x5 x7 x8 x10 x12 0 h Q) ∧ (¬ x12 < 0 → bX12_rootOf_132 G fr lo x5 x7 x8 x10 x12 ((x5 >>> (Int32.toInt64 (2 * x12) &&& 63)) &&& 3) h Q))))
set_option maxRecDepth 100000 in
theorem uX12_rootOf_105 {G : xG} {fr lo : Nat} {x5 : Int64} {x7 : Int32} {x8 : Int64} {x10 : Int64} {x12 : Int32} {h : xH} {Q : Outcome → xH → Prop} (hq : bX12_rootOf_105 G fr lo x5 x7 x8 x10 x12 h Q) : xP G YX12_rootOf fr lo 105 [(5, .long x5), (7, .int x7), (8, .long x8), (10, .long x10), (12, .int x12)] [] h Q := by
  unfold bX12_rootOf_105 at hq
  refine x_iload 4 dX12_rootOf_105 rfl ?_
  refine x_bipush (v := (-27)) dX12_rootOf_107 (by decide) ?_
  refine x_icmp_lt (tgt := 184) dX12_rootOf_109 (by decide) (fun c1 => ?_) (fun c1 => ?_)
  · replace hq := hq.1 c1
    refine x_iload 1 dX12_rootOf_184 rfl ?_
    refine x_iconst (v := 2) dX12_rootOf_186 (by decide) ?_
    refine x_idiv dX12_rootOf_187 (by decide) ?_
    refine x_bipush (v := 27) dX12_rootOf_188 (by decide) ?_
    refine x_isub dX12_rootOf_190 ?_
    refine x_istore (lv' := [(12, .int ((x7 / 2) - 27)), (5, .long x5), (7, .int x7), (8, .long x8), (10, .long x10)]) dX12_rootOf_191 (by decide) rfl ?_
    refine x_bipush (v := 64) dX12_rootOf_193 (by decide) ?_
    refine x_lload 3 dX12_rootOf_195 rfl ?_
    obtain ⟨g2, g3, hq⟩ := hq
    refine x_callS (Yc := YJ22_numberOfLeadingZeros) (as := [.long x8]) (st := [.int 64]) q4591 msJ22_numberOfLeadingZeros rfl dX12_rootOf_197 (xle (xal2 rfl xal0) (by decide)) (xfr g2) (xlo (xsw1 rfl xsw0) (by decide) g3) (xKi hq (fun x5 h4 hq e6 => ?_) (fun _ _ q _ => q))
    replace hq := hq e6
    refine x_isub dX12_rootOf_200 ?_
    refine x_bipush (v := 53) dX12_rootOf_201 (by decide) ?_
    refine x_isub dX12_rootOf_203 ?_
    refine x_istore (lv' := [(13, .int ((64 - x5) - 53)), (12, .int ((x7 / 2) - 27)), (5, .long x5), (7, .int x7), (8, .long x8), (10, .long x10)]) dX12_rootOf_204 (by decide) rfl ?_
    refine x_lconst (v := 1) dX12_rootOf_206 (by decide) ?_
    refine x_iload 0 dX12_rootOf_207 rfl ?_
    refine x_lshl dX12_rootOf_209 ?_
    refine x_lconst (v := 1) dX12_rootOf_210 (by decide) ?_
    refine x_lsub dX12_rootOf_211 ?_
    refine x_lstore (lv' := [(14, .long ((1 <<< (Int32.toInt64 ((64 - x5) - 53) &&& 63)) - 1)), (13, .int ((64 - x5) - 53)), (12, .int ((x7 / 2) - 27)), (5, .long x5), (7, .int x7), (8, .long x8), (10, .long x10)]) dX12_rootOf_212 (by decide) rfl ?_
    refine x_lload 5 dX12_rootOf_214 rfl ?_
    refine x_lload 0 dX12_rootOf_216 rfl ?_
    refine x_land dX12_rootOf_218 ?_
    refine x_lstore (lv' := [(16, .long (x8 &&& ((1 <<< (Int32.toInt64 ((64 - x5) - 53) &&& 63)) - 1))), (14, .long ((1 <<< (Int32.toInt64 ((64 - x5) - 53) &&& 63)) - 1)), (13, .int ((64 - x5) - 53)), (12, .int ((x7 / 2) - 27)), (5, .long x5), (7, .int x7), (8, .long x8), (10, .long x10)]) dX12_rootOf_219 (by decide) rfl ?_
    refine x_lconst (v := 1) dX12_rootOf_221 (by decide) ?_
    refine x_iload 2 dX12_rootOf_222 rfl ?_
    refine x_iconst (v := 1) dX12_rootOf_224 (by decide) ?_
    refine x_isub dX12_rootOf_225 ?_
    refine x_lshl dX12_rootOf_226 ?_
    refine x_lstore (lv' := [(18, .long (1 <<< (Int32.toInt64 (((64 - x5) - 53) - 1) &&& 63))), (16, .long (x8 &&& ((1 <<< (Int32.toInt64 ((64 - x5) - 53) &&& 63)) - 1))), (14, .long ((1 <<< (Int32.toInt64 ((64 - x5) - 53) &&& 63)) - 1)), (13, .int ((64 - x5) - 53)), (12, .int ((x7 / 2) - 27)), (5, .long x5), (7, .int x7), (8, .long x8), (10, .long x10)]) dX12_rootOf_227 (by decide) rfl ?_
    refine x_lload 7 dX12_rootOf_229 rfl ?_
    refine x_iload 3 dX12_rootOf_231 rfl ?_
    refine x_lshr dX12_rootOf_233 ?_
    refine x_lstore (lv' := [(20, .long (x8 >>> (Int32.toInt64 ((64 - x5) - 53) &&& 63))), (18, .long (1 <<< (Int32.toInt64 (((64 - x5) - 53) - 1) &&& 63))), (16, .long (x8 &&& ((1 <<< (Int32.toInt64 ((64 - x5) - 53) &&& 63)) - 1))), (14, .long ((1 <<< (Int32.toInt64 ((64 - x5) - 53) &&& 63)) - 1)), (13, .int ((64 - x5) - 53)), (12, .int ((x7 / 2) - 27)), (5, .long x5), (7, .int x7), (8, .long x8), (10, .long x10)]) dX12_rootOf_234 (by decide) rfl ?_
    refine x_iload 5 dX12_rootOf_236 rfl ?_
    refine x_iload 4 dX12_rootOf_238 rfl ?_
    refine x_iadd dX12_rootOf_240 ?_
    refine x_istore (lv' := [(12, .int (((x7 / 2) - 27) + ((64 - x5) - 53))), (20, .long (x8 >>> (Int32.toInt64 ((64 - x5) - 53) &&& 63))), (18, .long (1 <<< (Int32.toInt64 (((64 - x5) - 53) - 1) &&& 63))), (16, .long (x8 &&& ((1 <<< (Int32.toInt64 ((64 - x5) - 53) &&& 63)) - 1))), (14, .long ((1 <<< (Int32.toInt64 ((64 - x5) - 53) &&& 63)) - 1)), (13, .int ((64 - x5) - 53)), (5, .long x5), (7, .int x7), (8, .long x8), (10, .long x10)]) dX12_rootOf_241 (by decide) rfl ?_
    refine x_lload 3 dX12_rootOf_243 rfl ?_
    refine x_lload 2 dX12_rootOf_245 rfl ?_
    refine x_lcmp dX12_rootOf_247 ?_
    refine x_if_gt (tgt := 275) dX12_rootOf_248 (by decide) (fun c7 => ?_) (fun c7 => ?_)
    · replace hq := hq.1 c7
      refine xP.pick (lv' := [(12, .int (((x7 / 2) - 27) + ((64 - x5) - 53))), (20, .long (x8 >>> (Int32.toInt64 ((64 - x5) - 53) &&& 63)))]) [0, 1] rfl ?_
      exact uX12_rootOf_275 hq
    · replace hq := hq.2 c7
      refine x_lload 3 dX12_rootOf_251 rfl ?_
      refine x_lload 2 dX12_rootOf_253 rfl ?_
      refine x_lcmp dX12_rootOf_255 ?_
      refine x_if_ne (tgt := 279) dX12_rootOf_256 (by decide) (fun c8 => ?_) (fun c8 => ?_)
      · replace hq := hq.1 c8
        refine xP.pick (lv' := [(12, .int (((x7 / 2) - 27) + ((64 - x5) - 53))), (20, .long (x8 >>> (Int32.toInt64 ((64 - x5) - 53) &&& 63)))]) [0, 1] rfl ?_
        exact uX12_rootOf_279 hq
      · replace hq := hq.2 c8
        refine x_lload 9 dX12_rootOf_259 rfl ?_
        refine x_lconst (v := 0) dX12_rootOf_261 (by decide) ?_
        refine x_lcmp dX12_rootOf_262 ?_
        refine x_if_ne (tgt := 275) dX12_rootOf_263 (by decide) (fun c9 => ?_) (fun c9 => ?_)
        · replace hq := hq.1 c9
          refine xP.pick (lv' := [(12, .int (((x7 / 2) - 27) + ((64 - x5) - 53))), (20, .long (x8 >>> (Int32.toInt64 ((64 - x5) - 53) &&& 63)))]) [0, 1] rfl ?_
          exact uX12_rootOf_275 hq
        · replace hq := hq.2 c9
          refine x_lload 1 dX12_rootOf_266 rfl ?_
          refine x_lconst (v := 1) dX12_rootOf_268 (by decide) ?_
          refine x_land dX12_rootOf_269 ?_
          refine x_lconst (v := 1) dX12_rootOf_270 (by decide) ?_
          refine x_lcmp dX12_rootOf_271 ?_
          refine x_if_ne (tgt := 279) dX12_rootOf_272 (by decide) (fun c10 => ?_) (fun c10 => ?_)
          · replace hq := hq.1 c10
            refine xP.pick (lv' := [(12, .int (((x7 / 2) - 27) + ((64 - x5) - 53))), (20, .long (x8 >>> (Int32.toInt64 ((64 - x5) - 53) &&& 63)))]) [0, 1] rfl ?_
            exact uX12_rootOf_279 hq
          · replace hq := hq.2 c10
            refine xP.pick (lv' := [(12, .int (((x7 / 2) - 27) + ((64 - x5) - 53))), (20, .long (x8 >>> (Int32.toInt64 ((64 - x5) - 53) &&& 63)))]) [0, 1] rfl ?_
            exact uX12_rootOf_275 hq
  · replace hq := hq.2 c1
    refine x_iload 4 dX12_rootOf_112 rfl ?_
    refine x_if_lt (tgt := 131) dX12_rootOf_114 (by decide) (fun c11 => ?_) (fun c11 => ?_)
    · replace hq := hq.1 c11
      refine x_lconst (v := 0) dX12_rootOf_131 (by decide) ?_
      exact uX12_rootOf_132 hq
    · replace hq := hq.2 c11
      refine x_lload 0 dX12_rootOf_117 rfl ?_
      refine x_iconst (v := 2) dX12_rootOf_119 (by decide) ?_
      refine x_iload 4 dX12_rootOf_120 rfl ?_
      refine x_imul dX12_rootOf_122 ?_
      refine x_lshr dX12_rootOf_123 ?_
      refine x_ldc2 (v := 3) q4590 dX12_rootOf_124 ?_
      refine x_land dX12_rootOf_127 ?_
      refine x_goto (tgt := 132) dX12_rootOf_128 (by decide) ?_
      exact uX12_rootOf_132 hq
set_option maxRecDepth 100000 in
def bX12_rootOf_95 (G : xG) (fr lo : Nat) (x5 : Int64) (x7 : Int32) (h : xH) (Q : Outcome → xH → Prop) : Prop := lX12_rootOf_105 G fr lo x5 x7 0 0 27 h Q
set_option maxRecDepth 100000 in
theorem uX12_rootOf_95 {G : xG} {fr lo : Nat} {x5 : Int64} {x7 : Int32} {h : xH} {Q : Outcome → xH → Prop} (hq : bX12_rootOf_95 G fr lo x5 x7 h Q) : xP G YX12_rootOf fr lo 95 [(5, .long x5), (7, .int x7)] [] h Q := by
  unfold bX12_rootOf_95 at hq
  refine x_lconst (v := 0) dX12_rootOf_95 (by decide) ?_
  refine x_lstore (lv' := [(8, .long 0), (5, .long x5), (7, .int x7)]) dX12_rootOf_96 (by decide) rfl ?_
  refine x_lconst (v := 0) dX12_rootOf_98 (by decide) ?_
  refine x_lstore (lv' := [(10, .long 0), (8, .long 0), (5, .long x5), (7, .int x7)]) dX12_rootOf_99 (by decide) rfl ?_
  refine x_bipush (v := 27) dX12_rootOf_101 (by decide) ?_
  refine x_istore (lv' := [(12, .int 27), (10, .long 0), (8, .long 0), (5, .long x5), (7, .int x7)]) dX12_rootOf_103 (by decide) rfl ?_
  refine xP.pick (lv' := [(5, .long x5), (7, .int x7), (8, .long 0), (10, .long 0), (12, .int 27)]) [3, 4, 2, 1, 0] rfl ?_
  exact hq
set_option maxRecDepth 100000 in
def bX12_rootOf_50 (G : xG) (fr lo : Nat) (x4 : Int32) (x5 : Int64) (h : xH) (Q : Outcome → xH → Prop) : Prop := ((0 ≤ (lg_cmp x5 4503599627370496) → ((((x4 - 1075) &&& 1) = 0 → bX12_rootOf_95 G fr lo x5 (x4 - 1075) h Q) ∧ (¬ ((x4 - 1075) &&& 1) = 0 → bX12_rootOf_95 G fr lo (x5 <<< (Int32.toInt64 1 &&& 63)) ((x4 - 1075) + (-1)) h Q))) ∧ (¬ 0 ≤ (lg_cmp x5 4503599627370496) → lX12_rootOf_50 G fr lo (x4 + (-1)) (x5 <<< (Int32.toInt64 1 &&& 63)) h Q))
set_option maxRecDepth 100000 in
theorem uX12_rootOf_50 {G : xG} {fr lo : Nat} {x4 : Int32} {x5 : Int64} {h : xH} {Q : Outcome → xH → Prop} (hq : bX12_rootOf_50 G fr lo x4 x5 h Q) : xP G YX12_rootOf fr lo 50 [(4, .int x4), (5, .long x5)] [] h Q := by
  unfold bX12_rootOf_50 at hq
  refine x_lload 1 dX12_rootOf_50 rfl ?_
  refine x_ldc2 (v := 4503599627370496) q4589 dX12_rootOf_52 ?_
  refine x_lcmp dX12_rootOf_55 ?_
  refine x_if_ge (tgt := 71) dX12_rootOf_56 (by decide) (fun c1 => ?_) (fun c1 => ?_)
  · replace hq := hq.1 c1
    refine x_iload 0 dX12_rootOf_71 rfl ?_
    refine x_sipush (v := 1075) dX12_rootOf_73 (by decide) ?_
    refine x_isub dX12_rootOf_76 ?_
    refine x_istore (lv' := [(7, .int (x4 - 1075)), (4, .int x4), (5, .long x5)]) dX12_rootOf_77 (by decide) rfl ?_
    refine x_iload 0 dX12_rootOf_79 rfl ?_
    refine x_iconst (v := 1) dX12_rootOf_81 (by decide) ?_
    refine x_iand dX12_rootOf_82 ?_
    refine x_if_eq (tgt := 95) dX12_rootOf_83 (by decide) (fun c2 => ?_) (fun c2 => ?_)
    · replace hq := hq.1 c2
      refine xP.pick (lv' := [(5, .long x5), (7, .int (x4 - 1075))]) [2, 0] rfl ?_
      exact uX12_rootOf_95 hq
    · replace hq := hq.2 c2
      refine x_lload 2 dX12_rootOf_86 rfl ?_
      refine x_iconst (v := 1) dX12_rootOf_88 (by decide) ?_
      refine x_lshl dX12_rootOf_89 ?_
      refine x_lstore (lv' := [(5, .long (x5 <<< (Int32.toInt64 1 &&& 63))), (7, .int (x4 - 1075)), (4, .int x4)]) dX12_rootOf_90 (by decide) rfl ?_
      refine x_iinc (lv' := [(7, .int ((x4 - 1075) + (-1))), (5, .long (x5 <<< (Int32.toInt64 1 &&& 63))), (4, .int x4)]) 1 dX12_rootOf_92 rfl (by decide) rfl ?_
      refine xP.pick (lv' := [(5, .long (x5 <<< (Int32.toInt64 1 &&& 63))), (7, .int ((x4 - 1075) + (-1)))]) [1, 0] rfl ?_
      exact uX12_rootOf_95 hq
  · replace hq := hq.2 c1
    refine x_lload 1 dX12_rootOf_59 rfl ?_
    refine x_iconst (v := 1) dX12_rootOf_61 (by decide) ?_
    refine x_lshl dX12_rootOf_62 ?_
    refine x_lstore (lv' := [(5, .long (x5 <<< (Int32.toInt64 1 &&& 63))), (4, .int x4)]) dX12_rootOf_63 (by decide) rfl ?_
    refine x_iinc (lv' := [(4, .int (x4 + (-1))), (5, .long (x5 <<< (Int32.toInt64 1 &&& 63)))]) 1 dX12_rootOf_65 rfl (by decide) rfl ?_
    refine x_goto (tgt := 50) dX12_rootOf_68 (by decide) ?_
    exact hq
set_option maxRecDepth 100000 in
def bX12_rootOf (G : xG) (fr lo : Nat) (x0 : UInt64) (h : xH) (Q : Outcome → xH → Prop) : Prop := ((¬ (Op.cmpValue (FP.dcmp x0 FP.dconst0) .l) = 0 → 1 ≤ fr ∧ 13 ≤ lo ∧ xRj G YJ20_doubleToLongBits (fr - 1) (lo - 13) [.double x0] h (fun x5 h4 => xext h h4 → ((¬ (Int64.toInt32 ((x5 >>> (Int32.toInt64 52 &&& 63)) &&& 2047)) = 0 → lX12_rootOf_50 G fr lo (Int64.toInt32 ((x5 >>> (Int32.toInt64 52 &&& 63)) &&& 2047)) ((x5 &&& 4503599627370495) ||| 4503599627370496) h4 Q) ∧ ((Int64.toInt32 ((x5 >>> (Int32.toInt64 52 &&& 63)) &&& 2047)) = 0 → lX12_rootOf_50 G fr lo 1 (x5 &&& 4503599627370495) h4 Q))) (fun r h2 => Q (.threw r) h2)) ∧ ((Op.cmpValue (FP.dcmp x0 FP.dconst0) .l) = 0 → Q (.returned (some (.double x0))) h))
set_option maxRecDepth 100000 in
theorem uX12_rootOf {G : xG} {fr lo : Nat} {x0 : UInt64} {h : xH} {Q : Outcome → xH → Prop} (hq : bX12_rootOf G fr lo x0 h Q) : xP G YX12_rootOf fr lo 0 [(0, .double x0)] [] h Q := by
  unfold bX12_rootOf at hq
  refine x_dload_n 0 dX12_rootOf_0 rfl ?_
  refine x_dconst0 dX12_rootOf_1 ?_
  refine x_dcmp dX12_rootOf_2 ?_
  refine x_if_ne (tgt := 8) dX12_rootOf_3 (by decide) (fun c1 => ?_) (fun c1 => ?_)
  · replace hq := hq.1 c1
    refine x_dload_n 0 dX12_rootOf_8 rfl ?_
    obtain ⟨g2, g3, hq⟩ := hq
    refine x_callS (Yc := YJ20_doubleToLongBits) (as := [.double x0]) (st := []) q4579 msJ20_doubleToLongBits rfl dX12_rootOf_9 (xle (xal2 rfl xal0) (by decide)) (xfr g2) (xlo xsw0 (by decide) g3) (xKj hq (fun x5 h4 hq e6 => ?_) (fun _ _ q _ => q))
    replace hq := hq e6
    refine x_lstore_n (lv' := [(2, .long x5), (0, .double x0)]) dX12_rootOf_12 (by decide) rfl ?_
    refine x_lload_n 0 dX12_rootOf_13 rfl ?_
    refine x_bipush (v := 52) dX12_rootOf_14 (by decide) ?_
    refine x_lshr dX12_rootOf_16 ?_
    refine x_ldc2 (v := 2047) q4587 dX12_rootOf_17 ?_
    refine x_land dX12_rootOf_20 ?_
    refine x_l2i dX12_rootOf_21 ?_
    refine x_istore (lv' := [(4, .int (Int64.toInt32 ((x5 >>> (Int32.toInt64 52 &&& 63)) &&& 2047))), (2, .long x5), (0, .double x0)]) dX12_rootOf_22 (by decide) rfl ?_
    refine x_lload_n 1 dX12_rootOf_24 rfl ?_
    refine x_ldc2 (v := 4503599627370495) q4588 dX12_rootOf_25 ?_
    refine x_land dX12_rootOf_28 ?_
    refine x_lstore (lv' := [(5, .long (x5 &&& 4503599627370495)), (4, .int (Int64.toInt32 ((x5 >>> (Int32.toInt64 52 &&& 63)) &&& 2047))), (2, .long x5), (0, .double x0)]) dX12_rootOf_29 (by decide) rfl ?_
    refine x_iload 1 dX12_rootOf_31 rfl ?_
    refine x_if_ne (tgt := 42) dX12_rootOf_33 (by decide) (fun c7 => ?_) (fun c7 => ?_)
    · replace hq := hq.1 c7
      refine x_lload 0 dX12_rootOf_42 rfl ?_
      refine x_ldc2 (v := 4503599627370496) q4589 dX12_rootOf_44 ?_
      refine x_lor dX12_rootOf_47 ?_
      refine x_lstore (lv' := [(5, .long ((x5 &&& 4503599627370495) ||| 4503599627370496)), (4, .int (Int64.toInt32 ((x5 >>> (Int32.toInt64 52 &&& 63)) &&& 2047))), (2, .long x5), (0, .double x0)]) dX12_rootOf_48 (by decide) rfl ?_
      refine xP.pick (lv' := [(4, .int (Int64.toInt32 ((x5 >>> (Int32.toInt64 52 &&& 63)) &&& 2047))), (5, .long ((x5 &&& 4503599627370495) ||| 4503599627370496))]) [1, 0] rfl ?_
      exact hq
    · replace hq := hq.2 c7
      refine x_iconst (v := 1) dX12_rootOf_36 (by decide) ?_
      refine x_istore (lv' := [(4, .int 1), (5, .long (x5 &&& 4503599627370495)), (2, .long x5), (0, .double x0)]) dX12_rootOf_37 (by decide) rfl ?_
      refine x_goto (tgt := 50) dX12_rootOf_39 (by decide) ?_
      refine xP.pick (lv' := [(4, .int 1), (5, .long (x5 &&& 4503599627370495))]) [0, 1] rfl ?_
      exact hq
  · replace hq := hq.2 c1
    refine x_dload_n 0 dX12_rootOf_6 rfl ?_
    exact x_dret rfl dX12_rootOf_7 hq
theorem rX12_rootOf {G : xG} {fr lo : Nat} {x0 : UInt64} {h : xH} {Q : Outcome → xH → Prop} (hq : bX12_rootOf G fr lo x0 h Q) : xR G YX12_rootOf fr lo [.double x0] h Q := by
  show xP _ _ _ _ _ (lv_args 0 _) _ _ _
  rw [show lv_args 0 [.double x0] = [(0, .double x0)] from (xla2 rfl xla0)]
  exact uX12_rootOf hq
set_option maxRecDepth 100000 in
theorem dX12_cut_0 : decode cX12_cut 0 = .ok (.dload_n 1, 1) := by decide +kernel
set_option maxRecDepth 100000 in
theorem dX12_cut_1 : decode cX12_cut 1 = .ok (.ldc2_w 1322, 3) := by decide +kernel
set_option maxRecDepth 100000 in
theorem dX12_cut_4 : decode cX12_cut 4 = .ok (.dcmp .l, 1) := by decide +kernel
set_option maxRecDepth 100000 in
theorem dX12_cut_5 : decode cX12_cut 5 = .ok (.ifCond .ge 11, 3) := by decide +kernel
set_option maxRecDepth 100000 in
theorem dX12_cut_8 : decode cX12_cut 8 = .ok (.dload_n 1, 1) := by decide +kernel
set_option maxRecDepth 100000 in
theorem dX12_cut_9 : decode cX12_cut 9 = .ok (.ldc2_w 1324, 3) := by decide +kernel
set_option maxRecDepth 100000 in
theorem dX12_cut_12 : decode cX12_cut 12 = .ok (.dcmp .g, 1) := by decide +kernel
set_option maxRecDepth 100000 in
theorem dX12_cut_13 : decode cX12_cut 13 = .ok (.ifCond .gt 13, 3) := by decide +kernel
set_option maxRecDepth 100000 in
theorem dX12_cut_16 : decode cX12_cut 16 = .ok (.aload_n 0, 1) := by decide +kernel
set_option maxRecDepth 100000 in
theorem dX12_cut_17 : decode cX12_cut 17 = .ok (.bipush 8, 2) := by decide +kernel
set_option maxRecDepth 100000 in
theorem dX12_cut_19 : decode cX12_cut 19 = .ok (.iload_n 3, 1) := by decide +kernel
set_option maxRecDepth 100000 in
theorem dX12_cut_20 : decode cX12_cut 20 = .ok (.invokevirtual 1142, 3) := by decide +kernel
set_option maxRecDepth 100000 in
theorem dX12_cut_23 : decode cX12_cut 23 = .ok (.goto 9, 3) := by decide +kernel
set_option maxRecDepth 100000 in
theorem dX12_cut_26 : decode cX12_cut 26 = .ok (.aload_n 0, 1) := by decide +kernel
set_option maxRecDepth 100000 in
theorem dX12_cut_27 : decode cX12_cut 27 = .ok (.dload_n 1, 1) := by decide +kernel
set_option maxRecDepth 100000 in
theorem dX12_cut_28 : decode cX12_cut 28 = .ok (.d2l, 1) := by decide +kernel
set_option maxRecDepth 100000 in
theorem dX12_cut_29 : decode cX12_cut 29 = .ok (.putfield 1145, 3) := by decide +kernel
set_option maxRecDepth 100000 in
theorem dX12_cut_32 : decode cX12_cut 32 = .ok (.return_, 1) := by decide +kernel
set_option maxRecDepth 100000 in
def bX12_cut_32 (G : xG) (fr lo : Nat) (h : xH) (Q : Outcome → xH → Prop) : Prop := Q (.returned none) h
set_option maxRecDepth 100000 in
theorem uX12_cut_32 {G : xG} {fr lo : Nat} {h : xH} {Q : Outcome → xH → Prop} (hq : bX12_cut_32 G fr lo h Q) : xP G YX12_cut fr lo 32 [] [] h Q := by
  unfold bX12_cut_32 at hq
  exact x_vret rfl dX12_cut_32 hq
set_option maxRecDepth 100000 in
def bX12_cut_16 (G : xG) (fr lo : Nat) (x0 : Nat) (x3 : Int32) (h : xH) (Q : Outcome → xH → Prop) : Prop := tg h x0 = 13 ∧ 1 ≤ fr ∧ 14 ≤ lo ∧ xRv G YX12_error (fr - 1) (lo - 14) [rv x0, .int 8, .int x3] h (fun h4 => xext h h4 → bX12_cut_32 G fr lo h4 Q) (fun r h2 => Q (.threw r) h2)
set_option maxRecDepth 100000 in
theorem uX12_cut_16 {G : xG} {fr lo : Nat} {x0 : Nat} {x3 : Int32} {h : xH} {Q : Outcome → xH → Prop} (hq : bX12_cut_16 G fr lo x0 x3 h Q) : xP G YX12_cut fr lo 16 [(0, rv x0), (3, .int x3)] [] h Q := by
  unfold bX12_cut_16 at hq
  refine x_aload_n 0 dX12_cut_16 rfl ?_
  refine x_bipush (v := 8) dX12_cut_17 (by decide) ?_
  refine x_iload_n 1 dX12_cut_19 rfl ?_
  obtain ⟨g1, hq⟩ := hq
  obtain ⟨g2, g3, hq⟩ := hq
  refine x_callV (Yc := YX12_error) (as := [.int 8, .int x3]) (st := []) q4490 mvX12_error g1 rfl dX12_cut_20 (xle (xal1 (rv_cat _) (xal1 rfl (xal1 rfl xal0))) (by decide)) (xfr g2) (xlo xsw0 (by decide) g3) (xKv hq (fun h4 hq e6 => ?_) (fun _ _ q _ => q))
  replace hq := hq e6
  refine x_goto (tgt := 32) dX12_cut_23 (by decide) ?_
  refine xP.pick (lv' := []) [] rfl ?_
  exact uX12_cut_32 hq
set_option maxRecDepth 100000 in
def bX12_cut (G : xG) (fr lo : Nat) (x0 : Nat) (x1 : UInt64) (x3 : Int32) (h : xH) (Q : Outcome → xH → Prop) : Prop := ((0 ≤ (Op.cmpValue (FP.dcmp x1 4746794007248502784) .l) → bX12_cut_16 G fr lo x0 x3 h Q) ∧ (¬ 0 ≤ (Op.cmpValue (FP.dcmp x1 4746794007248502784) .l) → ((0 < (Op.cmpValue (FP.dcmp x1 13970166044103278592) .g) → tg h x0 = 13 ∧ (∀ h4 : xH, h4 = sJ h x0 3177 (FP.d2l x1) → bX12_cut_32 G fr lo h4 Q)) ∧ (¬ 0 < (Op.cmpValue (FP.dcmp x1 13970166044103278592) .g) → bX12_cut_16 G fr lo x0 x3 h Q))))
set_option maxRecDepth 100000 in
theorem uX12_cut {G : xG} {fr lo : Nat} {x0 : Nat} {x1 : UInt64} {x3 : Int32} {h : xH} {Q : Outcome → xH → Prop} (hq : bX12_cut G fr lo x0 x1 x3 h Q) : xP G YX12_cut fr lo 0 [(0, rv x0), (1, .double x1), (3, .int x3)] [] h Q := by
  unfold bX12_cut at hq
  refine x_dload_n 1 dX12_cut_0 rfl ?_
  refine x_ldc2d (v := 4746794007248502784) q4603 dX12_cut_1 ?_
  refine x_dcmp dX12_cut_4 ?_
  refine x_if_ge (tgt := 16) dX12_cut_5 (by decide) (fun c1 => ?_) (fun c1 => ?_)
  · replace hq := hq.1 c1
    refine xP.pick (lv' := [(0, rv x0), (3, .int x3)]) [0, 2] rfl ?_
    exact uX12_cut_16 hq
  · replace hq := hq.2 c1
    refine x_dload_n 1 dX12_cut_8 rfl ?_
    refine x_ldc2d (v := 13970166044103278592) q4604 dX12_cut_9 ?_
    refine x_dcmp dX12_cut_12 ?_
    refine x_if_gt (tgt := 26) dX12_cut_13 (by decide) (fun c2 => ?_) (fun c2 => ?_)
    · replace hq := hq.1 c2
      refine x_aload_n 0 dX12_cut_26 rfl ?_
      refine x_dload_n 1 dX12_cut_27 rfl ?_
      refine x_d2l dX12_cut_28 ?_
      obtain ⟨g3, hq⟩ := hq
      obtain ⟨h4, e5⟩ : ∃ y, y = sJ h x0 3177 (FP.d2l x1) := ⟨_, rfl⟩
      replace hq := hq h4 e5
      refine x_putJ fdX12_1145 dX12_cut_29 g3 (Or.inl (by rw [g3]; rfl)) rfl e5 ?_
      refine xP.pick (lv' := []) [] rfl ?_
      exact uX12_cut_32 hq
    · replace hq := hq.2 c2
      refine xP.pick (lv' := [(0, rv x0), (3, .int x3)]) [0, 2] rfl ?_
      exact uX12_cut_16 hq
theorem rX12_cut {G : xG} {fr lo : Nat} {x0 : Nat} {x1 : UInt64} {x3 : Int32} {h : xH} {Q : Outcome → xH → Prop} (hq : bX12_cut G fr lo x0 x1 x3 h Q) : xR G YX12_cut fr lo [rv x0, .double x1, .int x3] h Q := by
  show xP _ _ _ _ _ (lv_args 0 _) _ _ _
  rw [show lv_args 0 [rv x0, .double x1, .int x3] = [(0, rv x0), (1, .double x1), (3, .int x3)] from (xla1 (rv_cat _) (xla2 rfl (xla1 rfl xla0)))]
  exact uX12_cut hq
