/-! PascalHouseModel, walked (3) -/
set_option maxRecDepth 100000 in
theorem dX12_parseStatement_0 : decode cX12_parseStatement 0 = .ok (.aload_n 0, 1) := by decide +kernel
set_option maxRecDepth 100000 in
theorem dX12_parseStatement_1 : decode cX12_parseStatement 1 = .ok (.invokevirtual 472, 3) := by decide +kernel
set_option maxRecDepth 100000 in
theorem dX12_parseStatement_4 : decode cX12_parseStatement 4 = .ok (.iconst (-1), 1) := by decide +kernel
set_option maxRecDepth 100000 in
theorem dX12_parseStatement_5 : decode cX12_parseStatement 5 = .ok (.istore_n 1, 1) := by decide +kernel
set_option maxRecDepth 100000 in
theorem dX12_parseStatement_6 : decode cX12_parseStatement 6 = .ok (.aload_n 0, 1) := by decide +kernel
set_option maxRecDepth 100000 in
theorem dX12_parseStatement_7 : decode cX12_parseStatement 7 = .ok (.bipush 41, 2) := by decide +kernel
set_option maxRecDepth 100000 in
theorem dX12_parseStatement_9 : decode cX12_parseStatement 9 = .ok (.invokevirtual 439, 3) := by decide +kernel
set_option maxRecDepth 100000 in
theorem dX12_parseStatement_12 : decode cX12_parseStatement 12 = .ok (.ifCond .eq 15, 3) := by decide +kernel
set_option maxRecDepth 100000 in
theorem dX12_parseStatement_15 : decode cX12_parseStatement 15 = .ok (.aload_n 0, 1) := by decide +kernel
set_option maxRecDepth 100000 in
theorem dX12_parseStatement_16 : decode cX12_parseStatement 16 = .ok (.invokevirtual 442, 3) := by decide +kernel
set_option maxRecDepth 100000 in
theorem dX12_parseStatement_19 : decode cX12_parseStatement 19 = .ok (.istore_n 1, 1) := by decide +kernel
set_option maxRecDepth 100000 in
theorem dX12_parseStatement_20 : decode cX12_parseStatement 20 = .ok (.aload_n 0, 1) := by decide +kernel
set_option maxRecDepth 100000 in
theorem dX12_parseStatement_21 : decode cX12_parseStatement 21 = .ok (.bipush 68, 2) := by decide +kernel
set_option maxRecDepth 100000 in
theorem dX12_parseStatement_23 : decode cX12_parseStatement 23 = .ok (.invokevirtual 457, 3) := by decide +kernel
set_option maxRecDepth 100000 in
theorem dX12_parseStatement_26 : decode cX12_parseStatement 26 = .ok (.pop, 1) := by decide +kernel
set_option maxRecDepth 100000 in
theorem dX12_parseStatement_27 : decode cX12_parseStatement 27 = .ok (.aload_n 0, 1) := by decide +kernel
set_option maxRecDepth 100000 in
theorem dX12_parseStatement_28 : decode cX12_parseStatement 28 = .ok (.getfield 26, 3) := by decide +kernel
set_option maxRecDepth 100000 in
theorem dX12_parseStatement_31 : decode cX12_parseStatement 31 = .ok (.aload_n 0, 1) := by decide +kernel
set_option maxRecDepth 100000 in
theorem dX12_parseStatement_32 : decode cX12_parseStatement 32 = .ok (.invokevirtual 445, 3) := by decide +kernel
set_option maxRecDepth 100000 in
theorem dX12_parseStatement_35 : decode cX12_parseStatement 35 = .ok (.iaload, 1) := by decide +kernel
set_option maxRecDepth 100000 in
theorem dX12_parseStatement_36 : decode cX12_parseStatement 36 = .ok (.lookupswitch 507 #[(3, 84), (4, 167), (12, 270), (14, 469), (15, 110), (27, 214), (34, 175), (35, 388), (40, 499)], 84) := by decide +kernel
set_option maxRecDepth 100000 in
theorem dX12_parseStatement_120 : decode cX12_parseStatement 120 = .ok (.aload_n 0, 1) := by decide +kernel
set_option maxRecDepth 100000 in
theorem dX12_parseStatement_121 : decode cX12_parseStatement 121 = .ok (.bipush 31, 2) := by decide +kernel
set_option maxRecDepth 100000 in
theorem dX12_parseStatement_123 : decode cX12_parseStatement 123 = .ok (.aload_n 0, 1) := by decide +kernel
set_option maxRecDepth 100000 in
theorem dX12_parseStatement_124 : decode cX12_parseStatement 124 = .ok (.invokevirtual 442, 3) := by decide +kernel
set_option maxRecDepth 100000 in
theorem dX12_parseStatement_127 : decode cX12_parseStatement 127 = .ok (.invokevirtual 454, 3) := by decide +kernel
set_option maxRecDepth 100000 in
theorem dX12_parseStatement_130 : decode cX12_parseStatement 130 = .ok (.istore_n 2, 1) := by decide +kernel
set_option maxRecDepth 100000 in
theorem dX12_parseStatement_131 : decode cX12_parseStatement 131 = .ok (.aload_n 0, 1) := by decide +kernel
set_option maxRecDepth 100000 in
theorem dX12_parseStatement_132 : decode cX12_parseStatement 132 = .ok (.iload_n 2, 1) := by decide +kernel
set_option maxRecDepth 100000 in
theorem dX12_parseStatement_133 : decode cX12_parseStatement 133 = .ok (.invokevirtual 487, 3) := by decide +kernel
set_option maxRecDepth 100000 in
theorem dX12_parseStatement_136 : decode cX12_parseStatement 136 = .ok (.aload_n 0, 1) := by decide +kernel
set_option maxRecDepth 100000 in
theorem dX12_parseStatement_137 : decode cX12_parseStatement 137 = .ok (.bipush 10, 2) := by decide +kernel
set_option maxRecDepth 100000 in
theorem dX12_parseStatement_139 : decode cX12_parseStatement 139 = .ok (.invokevirtual 457, 3) := by decide +kernel
set_option maxRecDepth 100000 in
theorem dX12_parseStatement_142 : decode cX12_parseStatement 142 = .ok (.pop, 1) := by decide +kernel
set_option maxRecDepth 100000 in
theorem dX12_parseStatement_143 : decode cX12_parseStatement 143 = .ok (.goto 411, 3) := by decide +kernel
set_option maxRecDepth 100000 in
theorem dX12_parseStatement_146 : decode cX12_parseStatement 146 = .ok (.aload_n 0, 1) := by decide +kernel
set_option maxRecDepth 100000 in
theorem dX12_parseStatement_147 : decode cX12_parseStatement 147 = .ok (.bipush 32, 2) := by decide +kernel
set_option maxRecDepth 100000 in
theorem dX12_parseStatement_149 : decode cX12_parseStatement 149 = .ok (.aload_n 0, 1) := by decide +kernel
set_option maxRecDepth 100000 in
theorem dX12_parseStatement_150 : decode cX12_parseStatement 150 = .ok (.invokevirtual 442, 3) := by decide +kernel
set_option maxRecDepth 100000 in
theorem dX12_parseStatement_153 : decode cX12_parseStatement 153 = .ok (.invokevirtual 454, 3) := by decide +kernel
set_option maxRecDepth 100000 in
theorem dX12_parseStatement_156 : decode cX12_parseStatement 156 = .ok (.istore_n 2, 1) := by decide +kernel
set_option maxRecDepth 100000 in
theorem dX12_parseStatement_157 : decode cX12_parseStatement 157 = .ok (.aload_n 0, 1) := by decide +kernel
set_option maxRecDepth 100000 in
theorem dX12_parseStatement_158 : decode cX12_parseStatement 158 = .ok (.iload_n 2, 1) := by decide +kernel
set_option maxRecDepth 100000 in
theorem dX12_parseStatement_159 : decode cX12_parseStatement 159 = .ok (.aload_n 0, 1) := by decide +kernel
set_option maxRecDepth 100000 in
theorem dX12_parseStatement_160 : decode cX12_parseStatement 160 = .ok (.invokevirtual 518, 3) := by decide +kernel
set_option maxRecDepth 100000 in
theorem dX12_parseStatement_163 : decode cX12_parseStatement 163 = .ok (.invokevirtual 460, 3) := by decide +kernel
set_option maxRecDepth 100000 in
theorem dX12_parseStatement_166 : decode cX12_parseStatement 166 = .ok (.aload_n 0, 1) := by decide +kernel
set_option maxRecDepth 100000 in
theorem dX12_parseStatement_167 : decode cX12_parseStatement 167 = .ok (.bipush 29, 2) := by decide +kernel
set_option maxRecDepth 100000 in
theorem dX12_parseStatement_169 : decode cX12_parseStatement 169 = .ok (.invokevirtual 457, 3) := by decide +kernel
set_option maxRecDepth 100000 in
theorem dX12_parseStatement_172 : decode cX12_parseStatement 172 = .ok (.pop, 1) := by decide +kernel
set_option maxRecDepth 100000 in
theorem dX12_parseStatement_173 : decode cX12_parseStatement 173 = .ok (.aload_n 0, 1) := by decide +kernel
set_option maxRecDepth 100000 in
theorem dX12_parseStatement_174 : decode cX12_parseStatement 174 = .ok (.iload_n 2, 1) := by decide +kernel
set_option maxRecDepth 100000 in
theorem dX12_parseStatement_175 : decode cX12_parseStatement 175 = .ok (.aload_n 0, 1) := by decide +kernel
set_option maxRecDepth 100000 in
theorem dX12_parseStatement_176 : decode cX12_parseStatement 176 = .ok (.invokevirtual 515, 3) := by decide +kernel
set_option maxRecDepth 100000 in
theorem dX12_parseStatement_179 : decode cX12_parseStatement 179 = .ok (.invokevirtual 460, 3) := by decide +kernel
set_option maxRecDepth 100000 in
theorem dX12_parseStatement_182 : decode cX12_parseStatement 182 = .ok (.aload_n 0, 1) := by decide +kernel
set_option maxRecDepth 100000 in
theorem dX12_parseStatement_183 : decode cX12_parseStatement 183 = .ok (.bipush 9, 2) := by decide +kernel
set_option maxRecDepth 100000 in
theorem dX12_parseStatement_185 : decode cX12_parseStatement 185 = .ok (.invokevirtual 463, 3) := by decide +kernel
set_option maxRecDepth 100000 in
theorem dX12_parseStatement_188 : decode cX12_parseStatement 188 = .ok (.ifCond .eq 366, 3) := by decide +kernel
set_option maxRecDepth 100000 in
theorem dX12_parseStatement_191 : decode cX12_parseStatement 191 = .ok (.aload_n 0, 1) := by decide +kernel
set_option maxRecDepth 100000 in
theorem dX12_parseStatement_192 : decode cX12_parseStatement 192 = .ok (.iload_n 2, 1) := by decide +kernel
set_option maxRecDepth 100000 in
theorem dX12_parseStatement_193 : decode cX12_parseStatement 193 = .ok (.aload_n 0, 1) := by decide +kernel
set_option maxRecDepth 100000 in
theorem dX12_parseStatement_194 : decode cX12_parseStatement 194 = .ok (.invokevirtual 515, 3) := by decide +kernel
set_option maxRecDepth 100000 in
theorem dX12_parseStatement_197 : decode cX12_parseStatement 197 = .ok (.invokevirtual 460, 3) := by decide +kernel
set_option maxRecDepth 100000 in
theorem dX12_parseStatement_200 : decode cX12_parseStatement 200 = .ok (.goto 354, 3) := by decide +kernel
set_option maxRecDepth 100000 in
theorem dX12_parseStatement_203 : decode cX12_parseStatement 203 = .ok (.aload_n 0, 1) := by decide +kernel
set_option maxRecDepth 100000 in
theorem dX12_parseStatement_204 : decode cX12_parseStatement 204 = .ok (.invokevirtual 521, 3) := by decide +kernel
set_option maxRecDepth 100000 in
theorem dX12_parseStatement_207 : decode cX12_parseStatement 207 = .ok (.istore_n 2, 1) := by decide +kernel
set_option maxRecDepth 100000 in
theorem dX12_parseStatement_208 : decode cX12_parseStatement 208 = .ok (.goto 346, 3) := by decide +kernel
set_option maxRecDepth 100000 in
theorem dX12_parseStatement_211 : decode cX12_parseStatement 211 = .ok (.aload_n 0, 1) := by decide +kernel
set_option maxRecDepth 100000 in
theorem dX12_parseStatement_212 : decode cX12_parseStatement 212 = .ok (.bipush 35, 2) := by decide +kernel
set_option maxRecDepth 100000 in
theorem dX12_parseStatement_214 : decode cX12_parseStatement 214 = .ok (.aload_n 0, 1) := by decide +kernel
set_option maxRecDepth 100000 in
theorem dX12_parseStatement_215 : decode cX12_parseStatement 215 = .ok (.invokevirtual 442, 3) := by decide +kernel
set_option maxRecDepth 100000 in
theorem dX12_parseStatement_218 : decode cX12_parseStatement 218 = .ok (.invokevirtual 454, 3) := by decide +kernel
set_option maxRecDepth 100000 in
theorem dX12_parseStatement_221 : decode cX12_parseStatement 221 = .ok (.istore_n 2, 1) := by decide +kernel
set_option maxRecDepth 100000 in
theorem dX12_parseStatement_222 : decode cX12_parseStatement 222 = .ok (.aload_n 0, 1) := by decide +kernel
set_option maxRecDepth 100000 in
theorem dX12_parseStatement_223 : decode cX12_parseStatement 223 = .ok (.iload_n 2, 1) := by decide +kernel
set_option maxRecDepth 100000 in
theorem dX12_parseStatement_224 : decode cX12_parseStatement 224 = .ok (.aload_n 0, 1) := by decide +kernel
set_option maxRecDepth 100000 in
theorem dX12_parseStatement_225 : decode cX12_parseStatement 225 = .ok (.invokevirtual 518, 3) := by decide +kernel
set_option maxRecDepth 100000 in
theorem dX12_parseStatement_228 : decode cX12_parseStatement 228 = .ok (.invokevirtual 460, 3) := by decide +kernel
set_option maxRecDepth 100000 in
theorem dX12_parseStatement_231 : decode cX12_parseStatement 231 = .ok (.aload_n 0, 1) := by decide +kernel
set_option maxRecDepth 100000 in
theorem dX12_parseStatement_232 : decode cX12_parseStatement 232 = .ok (.bipush 7, 2) := by decide +kernel
set_option maxRecDepth 100000 in
theorem dX12_parseStatement_234 : decode cX12_parseStatement 234 = .ok (.invokevirtual 457, 3) := by decide +kernel
set_option maxRecDepth 100000 in
theorem dX12_parseStatement_237 : decode cX12_parseStatement 237 = .ok (.pop, 1) := by decide +kernel
set_option maxRecDepth 100000 in
theorem dX12_parseStatement_238 : decode cX12_parseStatement 238 = .ok (.aload_n 0, 1) := by decide +kernel
set_option maxRecDepth 100000 in
theorem dX12_parseStatement_239 : decode cX12_parseStatement 239 = .ok (.iload_n 2, 1) := by decide +kernel
set_option maxRecDepth 100000 in
theorem dX12_parseStatement_240 : decode cX12_parseStatement 240 = .ok (.aload_n 0, 1) := by decide +kernel
set_option maxRecDepth 100000 in
theorem dX12_parseStatement_241 : decode cX12_parseStatement 241 = .ok (.invokevirtual 515, 3) := by decide +kernel
set_option maxRecDepth 100000 in
theorem dX12_parseStatement_244 : decode cX12_parseStatement 244 = .ok (.invokevirtual 460, 3) := by decide +kernel
set_option maxRecDepth 100000 in
theorem dX12_parseStatement_247 : decode cX12_parseStatement 247 = .ok (.goto 307, 3) := by decide +kernel
set_option maxRecDepth 100000 in
theorem dX12_parseStatement_250 : decode cX12_parseStatement 250 = .ok (.aload_n 0, 1) := by decide +kernel
set_option maxRecDepth 100000 in
theorem dX12_parseStatement_251 : decode cX12_parseStatement 251 = .ok (.bipush 36, 2) := by decide +kernel
set_option maxRecDepth 100000 in
theorem dX12_parseStatement_253 : decode cX12_parseStatement 253 = .ok (.aload_n 0, 1) := by decide +kernel
set_option maxRecDepth 100000 in
theorem dX12_parseStatement_254 : decode cX12_parseStatement 254 = .ok (.invokevirtual 442, 3) := by decide +kernel
set_option maxRecDepth 100000 in
theorem dX12_parseStatement_257 : decode cX12_parseStatement 257 = .ok (.invokevirtual 454, 3) := by decide +kernel
set_option maxRecDepth 100000 in
theorem dX12_parseStatement_260 : decode cX12_parseStatement 260 = .ok (.istore_n 2, 1) := by decide +kernel
set_option maxRecDepth 100000 in
theorem dX12_parseStatement_261 : decode cX12_parseStatement 261 = .ok (.aload_n 0, 1) := by decide +kernel
set_option maxRecDepth 100000 in
theorem dX12_parseStatement_262 : decode cX12_parseStatement 262 = .ok (.iconst 3, 1) := by decide +kernel
set_option maxRecDepth 100000 in
theorem dX12_parseStatement_263 : decode cX12_parseStatement 263 = .ok (.aload_n 0, 1) := by decide +kernel
set_option maxRecDepth 100000 in
theorem dX12_parseStatement_264 : decode cX12_parseStatement 264 = .ok (.invokevirtual 445, 3) := by decide +kernel
set_option maxRecDepth 100000 in
theorem dX12_parseStatement_267 : decode cX12_parseStatement 267 = .ok (.invokevirtual 454, 3) := by decide +kernel
set_option maxRecDepth 100000 in
theorem dX12_parseStatement_270 : decode cX12_parseStatement 270 = .ok (.istore_n 3, 1) := by decide +kernel
set_option maxRecDepth 100000 in
theorem dX12_parseStatement_271 : decode cX12_parseStatement 271 = .ok (.aload_n 0, 1) := by decide +kernel
set_option maxRecDepth 100000 in
theorem dX12_parseStatement_272 : decode cX12_parseStatement 272 = .ok (.iload_n 3, 1) := by decide +kernel
set_option maxRecDepth 100000 in
theorem dX12_parseStatement_273 : decode cX12_parseStatement 273 = .ok (.invokevirtual 487, 3) := by decide +kernel
set_option maxRecDepth 100000 in
theorem dX12_parseStatement_276 : decode cX12_parseStatement 276 = .ok (.aload_n 0, 1) := by decide +kernel
set_option maxRecDepth 100000 in
theorem dX12_parseStatement_277 : decode cX12_parseStatement 277 = .ok (.iload_n 2, 1) := by decide +kernel
set_option maxRecDepth 100000 in
theorem dX12_parseStatement_278 : decode cX12_parseStatement 278 = .ok (.iload_n 3, 1) := by decide +kernel
set_option maxRecDepth 100000 in
theorem dX12_parseStatement_279 : decode cX12_parseStatement 279 = .ok (.invokevirtual 460, 3) := by decide +kernel
set_option maxRecDepth 100000 in
theorem dX12_parseStatement_282 : decode cX12_parseStatement 282 = .ok (.aload_n 0, 1) := by decide +kernel
set_option maxRecDepth 100000 in
theorem dX12_parseStatement_283 : decode cX12_parseStatement 283 = .ok (.getfield 82, 3) := by decide +kernel
set_option maxRecDepth 100000 in
theorem dX12_parseStatement_286 : decode cX12_parseStatement 286 = .ok (.iload_n 2, 1) := by decide +kernel
set_option maxRecDepth 100000 in
theorem dX12_parseStatement_287 : decode cX12_parseStatement 287 = .ok (.aload_n 0, 1) := by decide +kernel
set_option maxRecDepth 100000 in
theorem dX12_parseStatement_288 : decode cX12_parseStatement 288 = .ok (.bipush 32, 2) := by decide +kernel
set_option maxRecDepth 100000 in
theorem dX12_parseStatement_290 : decode cX12_parseStatement 290 = .ok (.invokevirtual 457, 3) := by decide +kernel
set_option maxRecDepth 100000 in
theorem dX12_parseStatement_293 : decode cX12_parseStatement 293 = .ok (.iastore, 1) := by decide +kernel
set_option maxRecDepth 100000 in
theorem dX12_parseStatement_294 : decode cX12_parseStatement 294 = .ok (.aload_n 0, 1) := by decide +kernel
set_option maxRecDepth 100000 in
theorem dX12_parseStatement_295 : decode cX12_parseStatement 295 = .ok (.iload_n 2, 1) := by decide +kernel
set_option maxRecDepth 100000 in
theorem dX12_parseStatement_296 : decode cX12_parseStatement 296 = .ok (.aload_n 0, 1) := by decide +kernel
set_option maxRecDepth 100000 in
theorem dX12_parseStatement_297 : decode cX12_parseStatement 297 = .ok (.invokevirtual 518, 3) := by decide +kernel
set_option maxRecDepth 100000 in
theorem dX12_parseStatement_300 : decode cX12_parseStatement 300 = .ok (.invokevirtual 460, 3) := by decide +kernel
set_option maxRecDepth 100000 in
theorem dX12_parseStatement_303 : decode cX12_parseStatement 303 = .ok (.goto 251, 3) := by decide +kernel
set_option maxRecDepth 100000 in
theorem dX12_parseStatement_306 : decode cX12_parseStatement 306 = .ok (.aload_n 0, 1) := by decide +kernel
set_option maxRecDepth 100000 in
theorem dX12_parseStatement_307 : decode cX12_parseStatement 307 = .ok (.bipush 37, 2) := by decide +kernel
set_option maxRecDepth 100000 in
theorem dX12_parseStatement_309 : decode cX12_parseStatement 309 = .ok (.aload_n 0, 1) := by decide +kernel
set_option maxRecDepth 100000 in
theorem dX12_parseStatement_310 : decode cX12_parseStatement 310 = .ok (.invokevirtual 442, 3) := by decide +kernel
set_option maxRecDepth 100000 in
theorem dX12_parseStatement_313 : decode cX12_parseStatement 313 = .ok (.invokevirtual 454, 3) := by decide +kernel
set_option maxRecDepth 100000 in
theorem dX12_parseStatement_316 : decode cX12_parseStatement 316 = .ok (.istore_n 2, 1) := by decide +kernel
set_option maxRecDepth 100000 in
theorem dX12_parseStatement_317 : decode cX12_parseStatement 317 = .ok (.aload_n 0, 1) := by decide +kernel
set_option maxRecDepth 100000 in
theorem dX12_parseStatement_318 : decode cX12_parseStatement 318 = .ok (.iload_n 2, 1) := by decide +kernel
set_option maxRecDepth 100000 in
theorem dX12_parseStatement_319 : decode cX12_parseStatement 319 = .ok (.aload_n 0, 1) := by decide +kernel
set_option maxRecDepth 100000 in
theorem dX12_parseStatement_320 : decode cX12_parseStatement 320 = .ok (.iconst 4, 1) := by decide +kernel
set_option maxRecDepth 100000 in
theorem dX12_parseStatement_321 : decode cX12_parseStatement 321 = .ok (.aload_n 0, 1) := by decide +kernel
set_option maxRecDepth 100000 in
theorem dX12_parseStatement_322 : decode cX12_parseStatement 322 = .ok (.bipush 40, 2) := by decide +kernel
set_option maxRecDepth 100000 in
theorem dX12_parseStatement_324 : decode cX12_parseStatement 324 = .ok (.invokevirtual 457, 3) := by decide +kernel
set_option maxRecDepth 100000 in
theorem dX12_parseStatement_327 : decode cX12_parseStatement 327 = .ok (.invokevirtual 454, 3) := by decide +kernel
set_option maxRecDepth 100000 in
theorem dX12_parseStatement_330 : decode cX12_parseStatement 330 = .ok (.invokevirtual 460, 3) := by decide +kernel
set_option maxRecDepth 100000 in
theorem dX12_parseStatement_333 : decode cX12_parseStatement 333 = .ok (.aload_n 0, 1) := by decide +kernel
set_option maxRecDepth 100000 in
theorem dX12_parseStatement_334 : decode cX12_parseStatement 334 = .ok (.bipush 64, 2) := by decide +kernel
set_option maxRecDepth 100000 in
theorem dX12_parseStatement_336 : decode cX12_parseStatement 336 = .ok (.invokevirtual 457, 3) := by decide +kernel
set_option maxRecDepth 100000 in
theorem dX12_parseStatement_339 : decode cX12_parseStatement 339 = .ok (.pop, 1) := by decide +kernel
set_option maxRecDepth 100000 in
theorem dX12_parseStatement_340 : decode cX12_parseStatement 340 = .ok (.aload_n 0, 1) := by decide +kernel
set_option maxRecDepth 100000 in
theorem dX12_parseStatement_341 : decode cX12_parseStatement 341 = .ok (.iload_n 2, 1) := by decide +kernel
set_option maxRecDepth 100000 in
theorem dX12_parseStatement_342 : decode cX12_parseStatement 342 = .ok (.aload_n 0, 1) := by decide +kernel
set_option maxRecDepth 100000 in
theorem dX12_parseStatement_343 : decode cX12_parseStatement 343 = .ok (.invokevirtual 518, 3) := by decide +kernel
set_option maxRecDepth 100000 in
theorem dX12_parseStatement_346 : decode cX12_parseStatement 346 = .ok (.invokevirtual 460, 3) := by decide +kernel
set_option maxRecDepth 100000 in
theorem dX12_parseStatement_349 : decode cX12_parseStatement 349 = .ok (.aload_n 0, 1) := by decide +kernel
set_option maxRecDepth 100000 in
theorem dX12_parseStatement_350 : decode cX12_parseStatement 350 = .ok (.bipush 30, 2) := by decide +kernel
set_option maxRecDepth 100000 in
theorem dX12_parseStatement_352 : decode cX12_parseStatement 352 = .ok (.invokevirtual 439, 3) := by decide +kernel
set_option maxRecDepth 100000 in
theorem dX12_parseStatement_355 : decode cX12_parseStatement 355 = .ok (.ifCond .ne 16, 3) := by decide +kernel
set_option maxRecDepth 100000 in
theorem dX12_parseStatement_358 : decode cX12_parseStatement 358 = .ok (.aload_n 0, 1) := by decide +kernel
set_option maxRecDepth 100000 in
theorem dX12_parseStatement_359 : decode cX12_parseStatement 359 = .ok (.bipush 8, 2) := by decide +kernel
set_option maxRecDepth 100000 in
theorem dX12_parseStatement_361 : decode cX12_parseStatement 361 = .ok (.invokevirtual 439, 3) := by decide +kernel
set_option maxRecDepth 100000 in
theorem dX12_parseStatement_364 : decode cX12_parseStatement 364 = .ok (.ifCond .ne 7, 3) := by decide +kernel
set_option maxRecDepth 100000 in
theorem dX12_parseStatement_367 : decode cX12_parseStatement 367 = .ok (.aload_n 0, 1) := by decide +kernel
set_option maxRecDepth 100000 in
theorem dX12_parseStatement_368 : decode cX12_parseStatement 368 = .ok (.invokevirtual 448, 3) := by decide +kernel
set_option maxRecDepth 100000 in
theorem dX12_parseStatement_371 : decode cX12_parseStatement 371 = .ok (.aload_n 0, 1) := by decide +kernel
set_option maxRecDepth 100000 in
theorem dX12_parseStatement_372 : decode cX12_parseStatement 372 = .ok (.getfield 82, 3) := by decide +kernel
set_option maxRecDepth 100000 in
theorem dX12_parseStatement_375 : decode cX12_parseStatement 375 = .ok (.iload_n 2, 1) := by decide +kernel
set_option maxRecDepth 100000 in
theorem dX12_parseStatement_376 : decode cX12_parseStatement 376 = .ok (.aload_n 0, 1) := by decide +kernel
set_option maxRecDepth 100000 in
theorem dX12_parseStatement_377 : decode cX12_parseStatement 377 = .ok (.bipush 30, 2) := by decide +kernel
set_option maxRecDepth 100000 in
theorem dX12_parseStatement_379 : decode cX12_parseStatement 379 = .ok (.invokevirtual 439, 3) := by decide +kernel
set_option maxRecDepth 100000 in
theorem dX12_parseStatement_382 : decode cX12_parseStatement 382 = .ok (.ifCond .eq 7, 3) := by decide +kernel
set_option maxRecDepth 100000 in
theorem dX12_parseStatement_385 : decode cX12_parseStatement 385 = .ok (.iconst 1, 1) := by decide +kernel
set_option maxRecDepth 100000 in
theorem dX12_parseStatement_386 : decode cX12_parseStatement 386 = .ok (.goto 4, 3) := by decide +kernel
set_option maxRecDepth 100000 in
theorem dX12_parseStatement_389 : decode cX12_parseStatement 389 = .ok (.iconst (-1), 1) := by decide +kernel
set_option maxRecDepth 100000 in
theorem dX12_parseStatement_390 : decode cX12_parseStatement 390 = .ok (.iastore, 1) := by decide +kernel
set_option maxRecDepth 100000 in
theorem dX12_parseStatement_391 : decode cX12_parseStatement 391 = .ok (.aload_n 0, 1) := by decide +kernel
set_option maxRecDepth 100000 in
theorem dX12_parseStatement_392 : decode cX12_parseStatement 392 = .ok (.invokevirtual 442, 3) := by decide +kernel
set_option maxRecDepth 100000 in
theorem dX12_parseStatement_395 : decode cX12_parseStatement 395 = .ok (.pop, 1) := by decide +kernel
set_option maxRecDepth 100000 in
theorem dX12_parseStatement_396 : decode cX12_parseStatement 396 = .ok (.aload_n 0, 1) := by decide +kernel
set_option maxRecDepth 100000 in
theorem dX12_parseStatement_397 : decode cX12_parseStatement 397 = .ok (.iload_n 2, 1) := by decide +kernel
set_option maxRecDepth 100000 in
theorem dX12_parseStatement_398 : decode cX12_parseStatement 398 = .ok (.aload_n 0, 1) := by decide +kernel
set_option maxRecDepth 100000 in
theorem dX12_parseStatement_399 : decode cX12_parseStatement 399 = .ok (.invokevirtual 518, 3) := by decide +kernel
set_option maxRecDepth 100000 in
theorem dX12_parseStatement_402 : decode cX12_parseStatement 402 = .ok (.invokevirtual 460, 3) := by decide +kernel
set_option maxRecDepth 100000 in
theorem dX12_parseStatement_405 : decode cX12_parseStatement 405 = .ok (.aload_n 0, 1) := by decide +kernel
set_option maxRecDepth 100000 in
theorem dX12_parseStatement_406 : decode cX12_parseStatement 406 = .ok (.bipush 7, 2) := by decide +kernel
set_option maxRecDepth 100000 in
theorem dX12_parseStatement_408 : decode cX12_parseStatement 408 = .ok (.invokevirtual 457, 3) := by decide +kernel
set_option maxRecDepth 100000 in
theorem dX12_parseStatement_411 : decode cX12_parseStatement 411 = .ok (.pop, 1) := by decide +kernel
set_option maxRecDepth 100000 in
theorem dX12_parseStatement_412 : decode cX12_parseStatement 412 = .ok (.aload_n 0, 1) := by decide +kernel
set_option maxRecDepth 100000 in
theorem dX12_parseStatement_413 : decode cX12_parseStatement 413 = .ok (.iload_n 2, 1) := by decide +kernel
set_option maxRecDepth 100000 in
theorem dX12_parseStatement_414 : decode cX12_parseStatement 414 = .ok (.aload_n 0, 1) := by decide +kernel
set_option maxRecDepth 100000 in
theorem dX12_parseStatement_415 : decode cX12_parseStatement 415 = .ok (.invokevirtual 515, 3) := by decide +kernel
set_option maxRecDepth 100000 in
theorem dX12_parseStatement_418 : decode cX12_parseStatement 418 = .ok (.invokevirtual 460, 3) := by decide +kernel
set_option maxRecDepth 100000 in
theorem dX12_parseStatement_421 : decode cX12_parseStatement 421 = .ok (.goto 133, 3) := by decide +kernel
set_option maxRecDepth 100000 in
theorem dX12_parseStatement_424 : decode cX12_parseStatement 424 = .ok (.aload_n 0, 1) := by decide +kernel
set_option maxRecDepth 100000 in
theorem dX12_parseStatement_425 : decode cX12_parseStatement 425 = .ok (.bipush 38, 2) := by decide +kernel
set_option maxRecDepth 100000 in
theorem dX12_parseStatement_427 : decode cX12_parseStatement 427 = .ok (.aload_n 0, 1) := by decide +kernel
set_option maxRecDepth 100000 in
theorem dX12_parseStatement_428 : decode cX12_parseStatement 428 = .ok (.invokevirtual 442, 3) := by decide +kernel
set_option maxRecDepth 100000 in
theorem dX12_parseStatement_431 : decode cX12_parseStatement 431 = .ok (.invokevirtual 454, 3) := by decide +kernel
set_option maxRecDepth 100000 in
theorem dX12_parseStatement_434 : decode cX12_parseStatement 434 = .ok (.istore_n 2, 1) := by decide +kernel
set_option maxRecDepth 100000 in
theorem dX12_parseStatement_435 : decode cX12_parseStatement 435 = .ok (.aload_n 0, 1) := by decide +kernel
set_option maxRecDepth 100000 in
theorem dX12_parseStatement_436 : decode cX12_parseStatement 436 = .ok (.iload_n 2, 1) := by decide +kernel
set_option maxRecDepth 100000 in
theorem dX12_parseStatement_437 : decode cX12_parseStatement 437 = .ok (.aload_n 0, 1) := by decide +kernel
set_option maxRecDepth 100000 in
theorem dX12_parseStatement_438 : decode cX12_parseStatement 438 = .ok (.invokevirtual 524, 3) := by decide +kernel
set_option maxRecDepth 100000 in
theorem dX12_parseStatement_441 : decode cX12_parseStatement 441 = .ok (.invokevirtual 460, 3) := by decide +kernel
set_option maxRecDepth 100000 in
theorem dX12_parseStatement_444 : decode cX12_parseStatement 444 = .ok (.iconst 0, 1) := by decide +kernel
set_option maxRecDepth 100000 in
theorem dX12_parseStatement_445 : decode cX12_parseStatement 445 = .ok (.istore 4, 2) := by decide +kernel
set_option maxRecDepth 100000 in
theorem dX12_parseStatement_447 : decode cX12_parseStatement 447 = .ok (.aload_n 0, 1) := by decide +kernel
set_option maxRecDepth 100000 in
theorem dX12_parseStatement_448 : decode cX12_parseStatement 448 = .ok (.bipush 66, 2) := by decide +kernel
set_option maxRecDepth 100000 in
theorem dX12_parseStatement_450 : decode cX12_parseStatement 450 = .ok (.invokevirtual 463, 3) := by decide +kernel
set_option maxRecDepth 100000 in
theorem dX12_parseStatement_453 : decode cX12_parseStatement 453 = .ok (.ifCond .eq 22, 3) := by decide +kernel
set_option maxRecDepth 100000 in
theorem dX12_parseStatement_456 : decode cX12_parseStatement 456 = .ok (.aload_n 0, 1) := by decide +kernel
set_option maxRecDepth 100000 in
theorem dX12_parseStatement_457 : decode cX12_parseStatement 457 = .ok (.invokevirtual 472, 3) := by decide +kernel
set_option maxRecDepth 100000 in
theorem dX12_parseStatement_460 : decode cX12_parseStatement 460 = .ok (.iinc 4 1, 3) := by decide +kernel
set_option maxRecDepth 100000 in
theorem dX12_parseStatement_463 : decode cX12_parseStatement 463 = .ok (.aload_n 0, 1) := by decide +kernel
set_option maxRecDepth 100000 in
theorem dX12_parseStatement_464 : decode cX12_parseStatement 464 = .ok (.iload_n 2, 1) := by decide +kernel
set_option maxRecDepth 100000 in
theorem dX12_parseStatement_465 : decode cX12_parseStatement 465 = .ok (.aload_n 0, 1) := by decide +kernel
set_option maxRecDepth 100000 in
theorem dX12_parseStatement_466 : decode cX12_parseStatement 466 = .ok (.invokevirtual 524, 3) := by decide +kernel
set_option maxRecDepth 100000 in
theorem dX12_parseStatement_469 : decode cX12_parseStatement 469 = .ok (.invokevirtual 460, 3) := by decide +kernel
set_option maxRecDepth 100000 in
theorem dX12_parseStatement_472 : decode cX12_parseStatement 472 = .ok (.goto (-25), 3) := by decide +kernel
set_option maxRecDepth 100000 in
theorem dX12_parseStatement_475 : decode cX12_parseStatement 475 = .ok (.aload_n 0, 1) := by decide +kernel
set_option maxRecDepth 100000 in
theorem dX12_parseStatement_476 : decode cX12_parseStatement 476 = .ok (.bipush 7, 2) := by decide +kernel
set_option maxRecDepth 100000 in
theorem dX12_parseStatement_478 : decode cX12_parseStatement 478 = .ok (.invokevirtual 457, 3) := by decide +kernel
set_option maxRecDepth 100000 in
theorem dX12_parseStatement_481 : decode cX12_parseStatement 481 = .ok (.pop, 1) := by decide +kernel
set_option maxRecDepth 100000 in
theorem dX12_parseStatement_482 : decode cX12_parseStatement 482 = .ok (.aload_n 0, 1) := by decide +kernel
set_option maxRecDepth 100000 in
theorem dX12_parseStatement_483 : decode cX12_parseStatement 483 = .ok (.iload_n 2, 1) := by decide +kernel
set_option maxRecDepth 100000 in
theorem dX12_parseStatement_484 : decode cX12_parseStatement 484 = .ok (.aload_n 0, 1) := by decide +kernel
set_option maxRecDepth 100000 in
theorem dX12_parseStatement_485 : decode cX12_parseStatement 485 = .ok (.invokevirtual 515, 3) := by decide +kernel
set_option maxRecDepth 100000 in
theorem dX12_parseStatement_488 : decode cX12_parseStatement 488 = .ok (.invokevirtual 460, 3) := by decide +kernel
set_option maxRecDepth 100000 in
theorem dX12_parseStatement_491 : decode cX12_parseStatement 491 = .ok (.aload_n 0, 1) := by decide +kernel
set_option maxRecDepth 100000 in
theorem dX12_parseStatement_492 : decode cX12_parseStatement 492 = .ok (.dup, 1) := by decide +kernel
set_option maxRecDepth 100000 in
theorem dX12_parseStatement_493 : decode cX12_parseStatement 493 = .ok (.getfield 451, 3) := by decide +kernel
set_option maxRecDepth 100000 in
theorem dX12_parseStatement_496 : decode cX12_parseStatement 496 = .ok (.iload 4, 2) := by decide +kernel
set_option maxRecDepth 100000 in
theorem dX12_parseStatement_498 : decode cX12_parseStatement 498 = .ok (.isub, 1) := by decide +kernel
set_option maxRecDepth 100000 in
theorem dX12_parseStatement_499 : decode cX12_parseStatement 499 = .ok (.putfield 451, 3) := by decide +kernel
set_option maxRecDepth 100000 in
theorem dX12_parseStatement_502 : decode cX12_parseStatement 502 = .ok (.goto 52, 3) := by decide +kernel
set_option maxRecDepth 100000 in
theorem dX12_parseStatement_505 : decode cX12_parseStatement 505 = .ok (.aload_n 0, 1) := by decide +kernel
set_option maxRecDepth 100000 in
theorem dX12_parseStatement_506 : decode cX12_parseStatement 506 = .ok (.bipush 39, 2) := by decide +kernel
set_option maxRecDepth 100000 in
theorem dX12_parseStatement_508 : decode cX12_parseStatement 508 = .ok (.aload_n 0, 1) := by decide +kernel
set_option maxRecDepth 100000 in
theorem dX12_parseStatement_509 : decode cX12_parseStatement 509 = .ok (.invokevirtual 442, 3) := by decide +kernel
set_option maxRecDepth 100000 in
theorem dX12_parseStatement_512 : decode cX12_parseStatement 512 = .ok (.invokevirtual 454, 3) := by decide +kernel
set_option maxRecDepth 100000 in
theorem dX12_parseStatement_515 : decode cX12_parseStatement 515 = .ok (.istore_n 2, 1) := by decide +kernel
set_option maxRecDepth 100000 in
theorem dX12_parseStatement_516 : decode cX12_parseStatement 516 = .ok (.aload_n 0, 1) := by decide +kernel
set_option maxRecDepth 100000 in
theorem dX12_parseStatement_517 : decode cX12_parseStatement 517 = .ok (.iload_n 2, 1) := by decide +kernel
set_option maxRecDepth 100000 in
theorem dX12_parseStatement_518 : decode cX12_parseStatement 518 = .ok (.aload_n 0, 1) := by decide +kernel
set_option maxRecDepth 100000 in
theorem dX12_parseStatement_519 : decode cX12_parseStatement 519 = .ok (.iconst 5, 1) := by decide +kernel
set_option maxRecDepth 100000 in
theorem dX12_parseStatement_520 : decode cX12_parseStatement 520 = .ok (.aload_n 0, 1) := by decide +kernel
set_option maxRecDepth 100000 in
theorem dX12_parseStatement_521 : decode cX12_parseStatement 521 = .ok (.bipush 41, 2) := by decide +kernel
set_option maxRecDepth 100000 in
theorem dX12_parseStatement_523 : decode cX12_parseStatement 523 = .ok (.invokevirtual 457, 3) := by decide +kernel
set_option maxRecDepth 100000 in
theorem dX12_parseStatement_526 : decode cX12_parseStatement 526 = .ok (.invokevirtual 454, 3) := by decide +kernel
set_option maxRecDepth 100000 in
theorem dX12_parseStatement_529 : decode cX12_parseStatement 529 = .ok (.invokevirtual 460, 3) := by decide +kernel
set_option maxRecDepth 100000 in
theorem dX12_parseStatement_532 : decode cX12_parseStatement 532 = .ok (.goto 22, 3) := by decide +kernel
set_option maxRecDepth 100000 in
theorem dX12_parseStatement_535 : decode cX12_parseStatement 535 = .ok (.aload_n 0, 1) := by decide +kernel
set_option maxRecDepth 100000 in
theorem dX12_parseStatement_536 : decode cX12_parseStatement 536 = .ok (.invokevirtual 527, 3) := by decide +kernel
set_option maxRecDepth 100000 in
theorem dX12_parseStatement_539 : decode cX12_parseStatement 539 = .ok (.istore_n 2, 1) := by decide +kernel
set_option maxRecDepth 100000 in
theorem dX12_parseStatement_540 : decode cX12_parseStatement 540 = .ok (.goto 14, 3) := by decide +kernel
set_option maxRecDepth 100000 in
theorem dX12_parseStatement_543 : decode cX12_parseStatement 543 = .ok (.aload_n 0, 1) := by decide +kernel
set_option maxRecDepth 100000 in
theorem dX12_parseStatement_544 : decode cX12_parseStatement 544 = .ok (.bipush 30, 2) := by decide +kernel
set_option maxRecDepth 100000 in
theorem dX12_parseStatement_546 : decode cX12_parseStatement 546 = .ok (.aload_n 0, 1) := by decide +kernel
set_option maxRecDepth 100000 in
theorem dX12_parseStatement_547 : decode cX12_parseStatement 547 = .ok (.invokevirtual 445, 3) := by decide +kernel
set_option maxRecDepth 100000 in
theorem dX12_parseStatement_550 : decode cX12_parseStatement 550 = .ok (.invokevirtual 454, 3) := by decide +kernel
set_option maxRecDepth 100000 in
theorem dX12_parseStatement_553 : decode cX12_parseStatement 553 = .ok (.istore_n 2, 1) := by decide +kernel
set_option maxRecDepth 100000 in
theorem dX12_parseStatement_554 : decode cX12_parseStatement 554 = .ok (.aload_n 0, 1) := by decide +kernel
set_option maxRecDepth 100000 in
theorem dX12_parseStatement_555 : decode cX12_parseStatement 555 = .ok (.getfield 88, 3) := by decide +kernel
set_option maxRecDepth 100000 in
theorem dX12_parseStatement_558 : decode cX12_parseStatement 558 = .ok (.iload_n 2, 1) := by decide +kernel
set_option maxRecDepth 100000 in
theorem dX12_parseStatement_559 : decode cX12_parseStatement 559 = .ok (.iload_n 1, 1) := by decide +kernel
set_option maxRecDepth 100000 in
theorem dX12_parseStatement_560 : decode cX12_parseStatement 560 = .ok (.iastore, 1) := by decide +kernel
set_option maxRecDepth 100000 in
theorem dX12_parseStatement_561 : decode cX12_parseStatement 561 = .ok (.aload_n 0, 1) := by decide +kernel
set_option maxRecDepth 100000 in
theorem dX12_parseStatement_562 : decode cX12_parseStatement 562 = .ok (.dup, 1) := by decide +kernel
set_option maxRecDepth 100000 in
theorem dX12_parseStatement_563 : decode cX12_parseStatement 563 = .ok (.getfield 451, 3) := by decide +kernel
set_option maxRecDepth 100000 in
theorem dX12_parseStatement_566 : decode cX12_parseStatement 566 = .ok (.iconst 1, 1) := by decide +kernel
set_option maxRecDepth 100000 in
theorem dX12_parseStatement_567 : decode cX12_parseStatement 567 = .ok (.isub, 1) := by decide +kernel
set_option maxRecDepth 100000 in
theorem dX12_parseStatement_568 : decode cX12_parseStatement 568 = .ok (.putfield 451, 3) := by decide +kernel
set_option maxRecDepth 100000 in
theorem dX12_parseStatement_571 : decode cX12_parseStatement 571 = .ok (.iload_n 2, 1) := by decide +kernel
set_option maxRecDepth 100000 in
theorem dX12_parseStatement_572 : decode cX12_parseStatement 572 = .ok (.ireturn, 1) := by decide +kernel
def lX12_parseStatement_447 (G : xG) (fr lo : Nat) (x0 : Nat) (x1 : Int32) (x2 : Int32) (x4 : Int32) (h : xH) (Q : Outcome → xH → Prop) : Prop := xP G YX12_parseStatement fr lo 447 [(0, rv x0), (1, .int x1), (2, .int x2), (4, .int x4)] [] h Q
set_option maxRecDepth 100000 in
def bX12_parseStatement_554 (G : xG) (fr lo : Nat) (x0 : Nat) (x1 : Int32) (x2 : Int32) (h : xH) (Q : Outcome → xH → Prop) : Prop := tg h x0 = 13 ∧ tg h (fR h x0 3108) = 100 ∧ vp_in x2 (ln h (fR h x0 3108)) ∧ (∀ h4 : xH, h4 = tI h (fR h x0 3108) (Int32.toNatClampNeg x2) x1 → (∀ h7 : xH, h7 = sI h4 x0 3111 ((fI h4 x0 3111) - 1) → Q (.returned (some (.int x2))) h7))
set_option maxRecDepth 100000 in
theorem uX12_parseStatement_554 {G : xG} {fr lo : Nat} {x0 : Nat} {x1 : Int32} {x2 : Int32} {h : xH} {Q : Outcome → xH → Prop} (hq : bX12_parseStatement_554 G fr lo x0 x1 x2 h Q) : xP G YX12_parseStatement fr lo 554 [(0, rv x0), (1, .int x1), (2, .int x2)] [] h Q := by
  unfold bX12_parseStatement_554 at hq
  refine x_aload_n 0 dX12_parseStatement_554 rfl ?_
  obtain ⟨g1, hq⟩ := hq
  refine x_get (v := rv (fR h x0 3108)) fdX12_88 dX12_parseStatement_555 g1 rfl ?_
  refine x_iload_n 2 dX12_parseStatement_558 rfl ?_
  refine x_iload_n 1 dX12_parseStatement_559 rfl ?_
  obtain ⟨g2, hq⟩ := hq
  obtain ⟨i3, hq⟩ := hq
  obtain ⟨h4, e5⟩ : ∃ y, y = tI h (fR h x0 3108) (Int32.toNatClampNeg x2) x1 := ⟨_, rfl⟩
  replace hq := hq h4 e5
  refine x_iast' g2 i3 dX12_parseStatement_560 e5 ?_
  refine x_aload_n 0 dX12_parseStatement_561 rfl ?_
  refine x_dup dX12_parseStatement_562 (rv_cat _) ?_
  have t6 : tg h4 x0 = 13 := by rw [e5]; exact g1
  refine x_get (v := .int (fI h4 x0 3111)) fdX12_451 dX12_parseStatement_563 t6 rfl ?_
  refine x_iconst (v := 1) dX12_parseStatement_566 (by decide) ?_
  refine x_isub dX12_parseStatement_567 ?_
  obtain ⟨h7, e8⟩ : ∃ y, y = sI h4 x0 3111 ((fI h4 x0 3111) - 1) := ⟨_, rfl⟩
  replace hq := hq h7 e8
  refine x_putI fdX12_451 xty_I1 dX12_parseStatement_568 t6 (Or.inl (by rw [t6]; rfl)) xnI rfl e8 ?_
  refine x_iload_n 2 dX12_parseStatement_571 rfl ?_
  exact x_iret rfl rfl dX12_parseStatement_572 hq
set_option maxRecDepth 100000 in
def bX12_parseStatement_447 (G : xG) (fr lo : Nat) (x0 : Nat) (x1 : Int32) (x2 : Int32) (x4 : Int32) (h : xH) (Q : Outcome → xH → Prop) : Prop := tg h x0 = 13 ∧ 1 ≤ fr ∧ 13 ≤ lo ∧ xRi G YX12_takes (fr - 1) (lo - 13) [rv x0, .int 66] h (fun x5 h4 => xext h h4 → ((x5 = 0 → 1 ≤ fr ∧ 13 ≤ lo ∧ xRi G YX12_must (fr - 1) (lo - 13) [rv x0, .int 7] h4 (fun x12 h11 => xext h4 h11 → 1 ≤ fr ∧ 18 ≤ lo ∧ xRi G YX12_parseStatement (fr - 1) (lo - 18) [rv x0] h11 (fun x18 h17 => xext h11 h17 → 1 ≤ fr ∧ 14 ≤ lo ∧ xRv G YX12_add (fr - 1) (lo - 14) [rv x0, .int x2, .int x18] h17 (fun h23 => xext h17 h23 → (∀ h27 : xH, h27 = sI h23 x0 3111 ((fI h23 x0 3111) - x4) → bX12_parseStatement_554 G fr lo x0 x1 x2 h27 Q)) (fun r h2 => Q (.threw r) h2)) (fun r h2 => Q (.threw r) h2)) (fun r h2 => Q (.threw r) h2)) ∧ (¬ x5 = 0 → 1 ≤ fr ∧ 12 ≤ lo ∧ xRv G YX12_enter (fr - 1) (lo - 12) [rv x0] h4 (fun h32 => xext h4 h32 → 1 ≤ fr ∧ 14 ≤ lo ∧ xRi G YX12_parseVariable (fr - 1) (lo - 14) [rv x0] h32 (fun x39 h38 => xext h32 h38 → 1 ≤ fr ∧ 14 ≤ lo ∧ xRv G YX12_add (fr - 1) (lo - 14) [rv x0, .int x2, .int x39] h38 (fun h44 => xext h38 h44 → lX12_parseStatement_447 G fr lo x0 x1 x2 (x4 + 1) h44 Q) (fun r h2 => Q (.threw r) h2)) (fun r h2 => Q (.threw r) h2)) (fun r h2 => Q (.threw r) h2)))) (fun r h2 => Q (.threw r) h2)
set_option maxRecDepth 100000 in
theorem uX12_parseStatement_447 {G : xG} {fr lo : Nat} {x0 : Nat} {x1 : Int32} {x2 : Int32} {x4 : Int32} {h : xH} {Q : Outcome → xH → Prop} (hq : bX12_parseStatement_447 G fr lo x0 x1 x2 x4 h Q) : xP G YX12_parseStatement fr lo 447 [(0, rv x0), (1, .int x1), (2, .int x2), (4, .int x4)] [] h Q := by
  unfold bX12_parseStatement_447 at hq
  refine x_aload_n 0 dX12_parseStatement_447 rfl ?_
  refine x_bipush (v := 66) dX12_parseStatement_448 (by decide) ?_
  obtain ⟨g1, hq⟩ := hq
  obtain ⟨g2, g3, hq⟩ := hq
  refine x_callV (Yc := YX12_takes) (as := [.int 66]) (st := []) q3802 mvX12_takes g1 rfl dX12_parseStatement_450 (xle (xal1 (rv_cat _) (xal1 rfl xal0)) (by decide)) (xfr g2) (xlo xsw0 (by decide) g3) (xKi hq (fun x5 h4 hq e6 => ?_) (fun _ _ q _ => q))
  replace hq := hq e6
  refine x_if_eq (tgt := 475) dX12_parseStatement_453 (by decide) (fun c7 => ?_) (fun c7 => ?_)
  · replace hq := hq.1 c7
    refine x_aload_n 0 dX12_parseStatement_475 rfl ?_
    refine x_bipush (v := 7) dX12_parseStatement_476 (by decide) ?_
    have t8 : tg h4 x0 = 13 := e6.tg g1 (by decide)
    obtain ⟨g9, g10, hq⟩ := hq
    refine x_callV (Yc := YX12_must) (as := [.int 7]) (st := []) q3778 mvX12_must t8 rfl dX12_parseStatement_478 (xle (xal1 (rv_cat _) (xal1 rfl xal0)) (by decide)) (xfr g9) (xlo xsw0 (by decide) g10) (xKi hq (fun x12 h11 hq e13 => ?_) (fun _ _ q _ => q))
    replace hq := hq e13
    refine x_pop dX12_parseStatement_481 rfl ?_
    refine x_aload_n 0 dX12_parseStatement_482 rfl ?_
    refine x_iload_n 2 dX12_parseStatement_483 rfl ?_
    refine x_aload_n 0 dX12_parseStatement_484 rfl ?_
    have t14 : tg h11 x0 = 13 := e13.tg t8 (by decide)
    obtain ⟨g15, g16, hq⟩ := hq
    refine x_callV (Yc := YX12_parseStatement) (as := []) (st := [.int x2, rv x0]) q3870 mvX12_parseStatement t14 rfl dX12_parseStatement_485 (xle (xal1 (rv_cat _) xal0) (by decide)) (xfr g15) (xlo (xsw1 rfl (xsw1 (rv_cat _) xsw0)) (by decide) g16) (xKi hq (fun x18 h17 hq e19 => ?_) (fun _ _ q _ => q))
    replace hq := hq e19
    have t20 : tg h17 x0 = 13 := e19.tg t14 (by decide)
    obtain ⟨g21, g22, hq⟩ := hq
    refine x_callV (Yc := YX12_add) (as := [.int x2, .int x18]) (st := []) q3810 mvX12_add t20 rfl dX12_parseStatement_488 (xle (xal1 (rv_cat _) (xal1 rfl (xal1 rfl xal0))) (by decide)) (xfr g21) (xlo xsw0 (by decide) g22) (xKv hq (fun h23 hq e25 => ?_) (fun _ _ q _ => q))
    replace hq := hq e25
    refine x_aload_n 0 dX12_parseStatement_491 rfl ?_
    refine x_dup dX12_parseStatement_492 (rv_cat _) ?_
    have t26 : tg h23 x0 = 13 := e25.tg t20 (by decide)
    refine x_get (v := .int (fI h23 x0 3111)) fdX12_451 dX12_parseStatement_493 t26 rfl ?_
    refine x_iload 3 dX12_parseStatement_496 rfl ?_
    refine x_isub dX12_parseStatement_498 ?_
    obtain ⟨h27, e28⟩ : ∃ y, y = sI h23 x0 3111 ((fI h23 x0 3111) - x4) := ⟨_, rfl⟩
    replace hq := hq h27 e28
    refine x_putI fdX12_451 xty_I1 dX12_parseStatement_499 t26 (Or.inl (by rw [t26]; rfl)) xnI rfl e28 ?_
    refine x_goto (tgt := 554) dX12_parseStatement_502 (by decide) ?_
    refine xP.pick (lv' := [(0, rv x0), (1, .int x1), (2, .int x2)]) [0, 1, 2] rfl ?_
    exact uX12_parseStatement_554 hq
  · replace hq := hq.2 c7
    refine x_aload_n 0 dX12_parseStatement_456 rfl ?_
    have t29 : tg h4 x0 = 13 := e6.tg g1 (by decide)
    obtain ⟨g30, g31, hq⟩ := hq
    refine x_callV (Yc := YX12_enter) (as := []) (st := []) q3818 mvX12_enter t29 rfl dX12_parseStatement_457 (xle (xal1 (rv_cat _) xal0) (by decide)) (xfr g30) (xlo xsw0 (by decide) g31) (xKv hq (fun h32 hq e34 => ?_) (fun _ _ q _ => q))
    replace hq := hq e34
    refine x_iinc (lv' := [(4, .int (x4 + 1)), (0, rv x0), (1, .int x1), (2, .int x2)]) 3 dX12_parseStatement_460 rfl (by decide) rfl ?_
    refine x_aload_n 1 dX12_parseStatement_463 rfl ?_
    refine x_iload_n 3 dX12_parseStatement_464 rfl ?_
    refine x_aload_n 1 dX12_parseStatement_465 rfl ?_
    have t35 : tg h32 x0 = 13 := e34.tg t29 (by decide)
    obtain ⟨g36, g37, hq⟩ := hq
    refine x_callV (Yc := YX12_parseVariable) (as := []) (st := [.int x2, rv x0]) q3910 mvX12_parseVariable t35 rfl dX12_parseStatement_466 (xle (xal1 (rv_cat _) xal0) (by decide)) (xfr g36) (xlo (xsw1 rfl (xsw1 (rv_cat _) xsw0)) (by decide) g37) (xKi hq (fun x39 h38 hq e40 => ?_) (fun _ _ q _ => q))
    replace hq := hq e40
    have t41 : tg h38 x0 = 13 := e40.tg t35 (by decide)
    obtain ⟨g42, g43, hq⟩ := hq
    refine x_callV (Yc := YX12_add) (as := [.int x2, .int x39]) (st := []) q3810 mvX12_add t41 rfl dX12_parseStatement_469 (xle (xal1 (rv_cat _) (xal1 rfl (xal1 rfl xal0))) (by decide)) (xfr g42) (xlo xsw0 (by decide) g43) (xKv hq (fun h44 hq e46 => ?_) (fun _ _ q _ => q))
    replace hq := hq e46
    refine x_goto (tgt := 447) dX12_parseStatement_472 (by decide) ?_
    refine xP.pick (lv' := [(0, rv x0), (1, .int x1), (2, .int x2), (4, .int (x4 + 1))]) [1, 2, 3, 0] rfl ?_
    exact hq
set_option maxRecDepth 100000 in
def bX12_parseStatement_390 (G : xG) (fr lo : Nat) (x0 : Nat) (x1 : Int32) (x2 : Int32) (s0 : Int32) (s1 : Int32) (s2 : Nat) (h : xH) (Q : Outcome → xH → Prop) : Prop := tg h s2 = 100 ∧ vp_in s1 (ln h s2) ∧ (∀ h3 : xH, h3 = tI h s2 (Int32.toNatClampNeg s1) s0 → tg h3 x0 = 13 ∧ 1 ≤ fr ∧ 13 ≤ lo ∧ xRi G YX12_take (fr - 1) (lo - 13) [rv x0] h3 (fun x9 h8 => xext h3 h8 → 1 ≤ fr ∧ 15 ≤ lo ∧ xRi G YX12_parseE (fr - 1) (lo - 15) [rv x0] h8 (fun x15 h14 => xext h8 h14 → 1 ≤ fr ∧ 14 ≤ lo ∧ xRv G YX12_add (fr - 1) (lo - 14) [rv x0, .int x2, .int x15] h14 (fun h20 => xext h14 h20 → 1 ≤ fr ∧ 13 ≤ lo ∧ xRi G YX12_must (fr - 1) (lo - 13) [rv x0, .int 7] h20 (fun x27 h26 => xext h20 h26 → 1 ≤ fr ∧ 18 ≤ lo ∧ xRi G YX12_parseStatement (fr - 1) (lo - 18) [rv x0] h26 (fun x33 h32 => xext h26 h32 → 1 ≤ fr ∧ 14 ≤ lo ∧ xRv G YX12_add (fr - 1) (lo - 14) [rv x0, .int x2, .int x33] h32 (fun h38 => xext h32 h38 → bX12_parseStatement_554 G fr lo x0 x1 x2 h38 Q) (fun r h2 => Q (.threw r) h2)) (fun r h2 => Q (.threw r) h2)) (fun r h2 => Q (.threw r) h2)) (fun r h2 => Q (.threw r) h2)) (fun r h2 => Q (.threw r) h2)) (fun r h2 => Q (.threw r) h2))
set_option maxRecDepth 100000 in
theorem uX12_parseStatement_390 {G : xG} {fr lo : Nat} {x0 : Nat} {x1 : Int32} {x2 : Int32} {s0 : Int32} {s1 : Int32} {s2 : Nat} {h : xH} {Q : Outcome → xH → Prop} (hq : bX12_parseStatement_390 G fr lo x0 x1 x2 s0 s1 s2 h Q) : xP G YX12_parseStatement fr lo 390 [(0, rv x0), (1, .int x1), (2, .int x2)] [.int s0, .int s1, rv s2] h Q := by
  unfold bX12_parseStatement_390 at hq
  obtain ⟨g1, hq⟩ := hq
  obtain ⟨i2, hq⟩ := hq
  obtain ⟨h3, e4⟩ : ∃ y, y = tI h s2 (Int32.toNatClampNeg s1) s0 := ⟨_, rfl⟩
  replace hq := hq h3 e4
  refine x_iast' g1 i2 dX12_parseStatement_390 e4 ?_
  refine x_aload_n 0 dX12_parseStatement_391 rfl ?_
  obtain ⟨g5, hq⟩ := hq
  obtain ⟨g6, g7, hq⟩ := hq
  refine x_callV (Yc := YX12_take) (as := []) (st := []) q3794 mvX12_take g5 rfl dX12_parseStatement_392 (xle (xal1 (rv_cat _) xal0) (by decide)) (xfr g6) (xlo xsw0 (by decide) g7) (xKi hq (fun x9 h8 hq e10 => ?_) (fun _ _ q _ => q))
  replace hq := hq e10
  refine x_pop dX12_parseStatement_395 rfl ?_
  refine x_aload_n 0 dX12_parseStatement_396 rfl ?_
  refine x_iload_n 2 dX12_parseStatement_397 rfl ?_
  refine x_aload_n 0 dX12_parseStatement_398 rfl ?_
  have t11 : tg h8 x0 = 13 := e10.tg g5 (by decide)
  obtain ⟨g12, g13, hq⟩ := hq
  refine x_callV (Yc := YX12_parseE) (as := []) (st := [.int x2, rv x0]) q3874 mvX12_parseE t11 rfl dX12_parseStatement_399 (xle (xal1 (rv_cat _) xal0) (by decide)) (xfr g12) (xlo (xsw1 rfl (xsw1 (rv_cat _) xsw0)) (by decide) g13) (xKi hq (fun x15 h14 hq e16 => ?_) (fun _ _ q _ => q))
  replace hq := hq e16
  have t17 : tg h14 x0 = 13 := e16.tg t11 (by decide)
  obtain ⟨g18, g19, hq⟩ := hq
  refine x_callV (Yc := YX12_add) (as := [.int x2, .int x15]) (st := []) q3810 mvX12_add t17 rfl dX12_parseStatement_402 (xle (xal1 (rv_cat _) (xal1 rfl (xal1 rfl xal0))) (by decide)) (xfr g18) (xlo xsw0 (by decide) g19) (xKv hq (fun h20 hq e22 => ?_) (fun _ _ q _ => q))
  replace hq := hq e22
  refine x_aload_n 0 dX12_parseStatement_405 rfl ?_
  refine x_bipush (v := 7) dX12_parseStatement_406 (by decide) ?_
  have t23 : tg h20 x0 = 13 := e22.tg t17 (by decide)
  obtain ⟨g24, g25, hq⟩ := hq
  refine x_callV (Yc := YX12_must) (as := [.int 7]) (st := []) q3778 mvX12_must t23 rfl dX12_parseStatement_408 (xle (xal1 (rv_cat _) (xal1 rfl xal0)) (by decide)) (xfr g24) (xlo xsw0 (by decide) g25) (xKi hq (fun x27 h26 hq e28 => ?_) (fun _ _ q _ => q))
  replace hq := hq e28
  refine x_pop dX12_parseStatement_411 rfl ?_
  refine x_aload_n 0 dX12_parseStatement_412 rfl ?_
  refine x_iload_n 2 dX12_parseStatement_413 rfl ?_
  refine x_aload_n 0 dX12_parseStatement_414 rfl ?_
  have t29 : tg h26 x0 = 13 := e28.tg t23 (by decide)
  obtain ⟨g30, g31, hq⟩ := hq
  refine x_callV (Yc := YX12_parseStatement) (as := []) (st := [.int x2, rv x0]) q3870 mvX12_parseStatement t29 rfl dX12_parseStatement_415 (xle (xal1 (rv_cat _) xal0) (by decide)) (xfr g30) (xlo (xsw1 rfl (xsw1 (rv_cat _) xsw0)) (by decide) g31) (xKi hq (fun x33 h32 hq e34 => ?_) (fun _ _ q _ => q))
  replace hq := hq e34
  have t35 : tg h32 x0 = 13 := e34.tg t29 (by decide)
  obtain ⟨g36, g37, hq⟩ := hq
  refine x_callV (Yc := YX12_add) (as := [.int x2, .int x33]) (st := []) q3810 mvX12_add t35 rfl dX12_parseStatement_418 (xle (xal1 (rv_cat _) (xal1 rfl (xal1 rfl xal0))) (by decide)) (xfr g36) (xlo xsw0 (by decide) g37) (xKv hq (fun h38 hq e40 => ?_) (fun _ _ q _ => q))
  replace hq := hq e40
  refine x_goto (tgt := 554) dX12_parseStatement_421 (by decide) ?_
  exact uX12_parseStatement_554 hq
set_option maxRecDepth 100000 in
def bX12_parseStatement_371 (G : xG) (fr lo : Nat) (x0 : Nat) (x1 : Int32) (x2 : Int32) (h : xH) (Q : Outcome → xH → Prop) : Prop := tg h x0 = 13 ∧ 1 ≤ fr ∧ 15 ≤ lo ∧ xRi G YX12_sees (fr - 1) (lo - 15) [rv x0, .int 30] h (fun x5 h4 => xext h h4 → ((x5 = 0 → bX12_parseStatement_390 G fr lo x0 x1 x2 (-1) x2 (fR h x0 3106) h4 Q) ∧ (¬ x5 = 0 → bX12_parseStatement_390 G fr lo x0 x1 x2 1 x2 (fR h x0 3106) h4 Q))) (fun r h2 => Q (.threw r) h2)
set_option maxRecDepth 100000 in
theorem uX12_parseStatement_371 {G : xG} {fr lo : Nat} {x0 : Nat} {x1 : Int32} {x2 : Int32} {h : xH} {Q : Outcome → xH → Prop} (hq : bX12_parseStatement_371 G fr lo x0 x1 x2 h Q) : xP G YX12_parseStatement fr lo 371 [(0, rv x0), (1, .int x1), (2, .int x2)] [] h Q := by
  unfold bX12_parseStatement_371 at hq
  refine x_aload_n 0 dX12_parseStatement_371 rfl ?_
  obtain ⟨g1, hq⟩ := hq
  refine x_get (v := rv (fR h x0 3106)) fdX12_82 dX12_parseStatement_372 g1 rfl ?_
  refine x_iload_n 2 dX12_parseStatement_375 rfl ?_
  refine x_aload_n 0 dX12_parseStatement_376 rfl ?_
  refine x_bipush (v := 30) dX12_parseStatement_377 (by decide) ?_
  obtain ⟨g2, g3, hq⟩ := hq
  refine x_callV (Yc := YX12_sees) (as := [.int 30]) (st := [.int x2, rv (fR h x0 3106)]) q3782 mvX12_sees g1 rfl dX12_parseStatement_379 (xle (xal1 (rv_cat _) (xal1 rfl xal0)) (by decide)) (xfr g2) (xlo (xsw1 rfl (xsw1 (rv_cat _) xsw0)) (by decide) g3) (xKi hq (fun x5 h4 hq e6 => ?_) (fun _ _ q _ => q))
  replace hq := hq e6
  refine x_if_eq (tgt := 389) dX12_parseStatement_382 (by decide) (fun c7 => ?_) (fun c7 => ?_)
  · replace hq := hq.1 c7
    refine x_iconst (v := (-1)) dX12_parseStatement_389 (by decide) ?_
    exact uX12_parseStatement_390 hq
  · replace hq := hq.2 c7
    refine x_iconst (v := 1) dX12_parseStatement_385 (by decide) ?_
    refine x_goto (tgt := 390) dX12_parseStatement_386 (by decide) ?_
    exact uX12_parseStatement_390 hq
set_option maxRecDepth 100000 in
def bX12_parseStatement_27 (G : xG) (fr lo : Nat) (x0 : Nat) (x1 : Int32) (h : xH) (Q : Outcome → xH → Prop) : Prop := tg h x0 = 13 ∧ 1 ≤ fr ∧ 13 ≤ lo ∧ xRi G YX12_now (fr - 1) (lo - 13) [rv x0] h (fun x5 h4 => xext h h4 → tg h4 (fR h x0 3082) = 100 ∧ vp_in x5 (ln h4 (fR h x0 3082)) ∧ (((aI h4 (fR h x0 3082) (Int32.toNatClampNeg x5)) = 3 → 1 ≤ fr ∧ 15 ≤ lo ∧ xRi G YX12_take (fr - 1) (lo - 15) [rv x0] h4 (fun x14 h13 => xext h4 h13 → 1 ≤ fr ∧ 15 ≤ lo ∧ xRi G YX12_node (fr - 1) (lo - 15) [rv x0, .int 31, .int x14] h13 (fun x20 h19 => xext h13 h19 → 1 ≤ fr ∧ 13 ≤ lo ∧ xRv G YX12_parseRow (fr - 1) (lo - 13) [rv x0, .int x20] h19 (fun h25 => xext h19 h25 → 1 ≤ fr ∧ 13 ≤ lo ∧ xRi G YX12_must (fr - 1) (lo - 13) [rv x0, .int 10] h25 (fun x32 h31 => xext h25 h31 → bX12_parseStatement_554 G fr lo x0 x1 x20 h31 Q) (fun r h2 => Q (.threw r) h2)) (fun r h2 => Q (.threw r) h2)) (fun r h2 => Q (.threw r) h2)) (fun r h2 => Q (.threw r) h2)) ∧ ((aI h4 (fR h x0 3082) (Int32.toNatClampNeg x5)) = 4 → 1 ≤ fr ∧ 15 ≤ lo ∧ xRi G YX12_parseCase (fr - 1) (lo - 15) [rv x0] h4 (fun x39 h38 => xext h4 h38 → bX12_parseStatement_554 G fr lo x0 x1 x39 h38 Q) (fun r h2 => Q (.threw r) h2)) ∧ ((aI h4 (fR h x0 3082) (Int32.toNatClampNeg x5)) = 12 → 1 ≤ fr ∧ 15 ≤ lo ∧ xRi G YX12_take (fr - 1) (lo - 15) [rv x0] h4 (fun x46 h45 => xext h4 h45 → 1 ≤ fr ∧ 15 ≤ lo ∧ xRi G YX12_node (fr - 1) (lo - 15) [rv x0, .int 37, .int x46] h45 (fun x52 h51 => xext h45 h51 → 1 ≤ fr ∧ 17 ≤ lo ∧ xRi G YX12_must (fr - 1) (lo - 17) [rv x0, .int 40] h51 (fun x58 h57 => xext h51 h57 → 1 ≤ fr ∧ 17 ≤ lo ∧ xRi G YX12_node (fr - 1) (lo - 17) [rv x0, .int 4, .int x58] h57 (fun x64 h63 => xext h57 h63 → 1 ≤ fr ∧ 14 ≤ lo ∧ xRv G YX12_add (fr - 1) (lo - 14) [rv x0, .int x52, .int x64] h63 (fun h69 => xext h63 h69 → 1 ≤ fr ∧ 13 ≤ lo ∧ xRi G YX12_must (fr - 1) (lo - 13) [rv x0, .int 64] h69 (fun x76 h75 => xext h69 h75 → 1 ≤ fr ∧ 15 ≤ lo ∧ xRi G YX12_parseE (fr - 1) (lo - 15) [rv x0] h75 (fun x82 h81 => xext h75 h81 → 1 ≤ fr ∧ 14 ≤ lo ∧ xRv G YX12_add (fr - 1) (lo - 14) [rv x0, .int x52, .int x82] h81 (fun h87 => xext h81 h87 → 1 ≤ fr ∧ 13 ≤ lo ∧ xRi G YX12_sees (fr - 1) (lo - 13) [rv x0, .int 30] h87 (fun x94 h93 => xext h87 h93 → ((¬ x94 = 0 → bX12_parseStatement_371 G fr lo x0 x1 x52 h93 Q) ∧ (x94 = 0 → 1 ≤ fr ∧ 13 ≤ lo ∧ xRi G YX12_sees (fr - 1) (lo - 13) [rv x0, .int 8] h93 (fun x101 h100 => xext h93 h100 → ((¬ x101 = 0 → bX12_parseStatement_371 G fr lo x0 x1 x52 h100 Q) ∧ (x101 = 0 → 1 ≤ fr ∧ 12 ≤ lo ∧ xRv G YX12_bad (fr - 1) (lo - 12) [rv x0] h100 (fun h107 => xext h100 h107 → bX12_parseStatement_371 G fr lo x0 x1 x52 h107 Q) (fun r h2 => Q (.threw r) h2)))) (fun r h2 => Q (.threw r) h2)))) (fun r h2 => Q (.threw r) h2)) (fun r h2 => Q (.threw r) h2)) (fun r h2 => Q (.threw r) h2)) (fun r h2 => Q (.threw r) h2)) (fun r h2 => Q (.threw r) h2)) (fun r h2 => Q (.threw r) h2)) (fun r h2 => Q (.threw r) h2)) (fun r h2 => Q (.threw r) h2)) (fun r h2 => Q (.threw r) h2)) ∧ ((aI h4 (fR h x0 3082) (Int32.toNatClampNeg x5)) = 14 → 1 ≤ fr ∧ 15 ≤ lo ∧ xRi G YX12_take (fr - 1) (lo - 15) [rv x0] h4 (fun x115 h114 => xext h4 h114 → 1 ≤ fr ∧ 15 ≤ lo ∧ xRi G YX12_node (fr - 1) (lo - 15) [rv x0, .int 39, .int x115] h114 (fun x121 h120 => xext h114 h120 → 1 ≤ fr ∧ 17 ≤ lo ∧ xRi G YX12_must (fr - 1) (lo - 17) [rv x0, .int 41] h120 (fun x127 h126 => xext h120 h126 → 1 ≤ fr ∧ 17 ≤ lo ∧ xRi G YX12_node (fr - 1) (lo - 17) [rv x0, .int 5, .int x127] h126 (fun x133 h132 => xext h126 h132 → 1 ≤ fr ∧ 14 ≤ lo ∧ xRv G YX12_add (fr - 1) (lo - 14) [rv x0, .int x121, .int x133] h132 (fun h138 => xext h132 h138 → bX12_parseStatement_554 G fr lo x0 x1 x121 h138 Q) (fun r h2 => Q (.threw r) h2)) (fun r h2 => Q (.threw r) h2)) (fun r h2 => Q (.threw r) h2)) (fun r h2 => Q (.threw r) h2)) (fun r h2 => Q (.threw r) h2)) ∧ ((aI h4 (fR h x0 3082) (Int32.toNatClampNeg x5)) = 15 → 1 ≤ fr ∧ 15 ≤ lo ∧ xRi G YX12_take (fr - 1) (lo - 15) [rv x0] h4 (fun x146 h145 => xext h4 h145 → 1 ≤ fr ∧ 15 ≤ lo ∧ xRi G YX12_node (fr - 1) (lo - 15) [rv x0, .int 32, .int x146] h145 (fun x152 h151 => xext h145 h151 → 1 ≤ fr ∧ 15 ≤ lo ∧ xRi G YX12_parseE (fr - 1) (lo - 15) [rv x0] h151 (fun x158 h157 => xext h151 h157 → 1 ≤ fr ∧ 14 ≤ lo ∧ xRv G YX12_add (fr - 1) (lo - 14) [rv x0, .int x152, .int x158] h157 (fun h163 => xext h157 h163 → 1 ≤ fr ∧ 13 ≤ lo ∧ xRi G YX12_must (fr - 1) (lo - 13) [rv x0, .int 29] h163 (fun x170 h169 => xext h163 h169 → 1 ≤ fr ∧ 18 ≤ lo ∧ xRi G YX12_parseStatement (fr - 1) (lo - 18) [rv x0] h169 (fun x176 h175 => xext h169 h175 → 1 ≤ fr ∧ 14 ≤ lo ∧ xRv G YX12_add (fr - 1) (lo - 14) [rv x0, .int x152, .int x176] h175 (fun h181 => xext h175 h181 → 1 ≤ fr ∧ 13 ≤ lo ∧ xRi G YX12_takes (fr - 1) (lo - 13) [rv x0, .int 9] h181 (fun x188 h187 => xext h181 h187 → ((x188 = 0 → bX12_parseStatement_554 G fr lo x0 x1 x152 h187 Q) ∧ (¬ x188 = 0 → 1 ≤ fr ∧ 18 ≤ lo ∧ xRi G YX12_parseStatement (fr - 1) (lo - 18) [rv x0] h187 (fun x195 h194 => xext h187 h194 → 1 ≤ fr ∧ 14 ≤ lo ∧ xRv G YX12_add (fr - 1) (lo - 14) [rv x0, .int x152, .int x195] h194 (fun h200 => xext h194 h200 → bX12_parseStatement_554 G fr lo x0 x1 x152 h200 Q) (fun r h2 => Q (.threw r) h2)) (fun r h2 => Q (.threw r) h2)))) (fun r h2 => Q (.threw r) h2)) (fun r h2 => Q (.threw r) h2)) (fun r h2 => Q (.threw r) h2)) (fun r h2 => Q (.threw r) h2)) (fun r h2 => Q (.threw r) h2)) (fun r h2 => Q (.threw r) h2)) (fun r h2 => Q (.threw r) h2)) (fun r h2 => Q (.threw r) h2)) ∧ ((aI h4 (fR h x0 3082) (Int32.toNatClampNeg x5)) = 27 → 1 ≤ fr ∧ 15 ≤ lo ∧ xRi G YX12_take (fr - 1) (lo - 15) [rv x0] h4 (fun x208 h207 => xext h4 h207 → 1 ≤ fr ∧ 15 ≤ lo ∧ xRi G YX12_node (fr - 1) (lo - 15) [rv x0, .int 36, .int x208] h207 (fun x214 h213 => xext h207 h213 → 1 ≤ fr ∧ 14 ≤ lo ∧ xRi G YX12_now (fr - 1) (lo - 14) [rv x0] h213 (fun x220 h219 => xext h213 h219 → 1 ≤ fr ∧ 15 ≤ lo ∧ xRi G YX12_node (fr - 1) (lo - 15) [rv x0, .int 3, .int x220] h219 (fun x226 h225 => xext h219 h225 → 1 ≤ fr ∧ 13 ≤ lo ∧ xRv G YX12_parseRow (fr - 1) (lo - 13) [rv x0, .int x226] h225 (fun h231 => xext h225 h231 → 1 ≤ fr ∧ 14 ≤ lo ∧ xRv G YX12_add (fr - 1) (lo - 14) [rv x0, .int x214, .int x226] h231 (fun h237 => xext h231 h237 → 1 ≤ fr ∧ 15 ≤ lo ∧ xRi G YX12_must (fr - 1) (lo - 15) [rv x0, .int 32] h237 (fun x244 h243 => xext h237 h243 → tg h243 (fR h237 x0 3106) = 100 ∧ vp_in x214 (ln h243 (fR h237 x0 3106)) ∧ (∀ h248 : xH, h248 = tI h243 (fR h237 x0 3106) (Int32.toNatClampNeg x214) x244 → 1 ≤ fr ∧ 15 ≤ lo ∧ xRi G YX12_parseE (fr - 1) (lo - 15) [rv x0] h248 (fun x255 h254 => xext h248 h254 → 1 ≤ fr ∧ 14 ≤ lo ∧ xRv G YX12_add (fr - 1) (lo - 14) [rv x0, .int x214, .int x255] h254 (fun h260 => xext h254 h260 → bX12_parseStatement_554 G fr lo x0 x1 x214 h260 Q) (fun r h2 => Q (.threw r) h2)) (fun r h2 => Q (.threw r) h2))) (fun r h2 => Q (.threw r) h2)) (fun r h2 => Q (.threw r) h2)) (fun r h2 => Q (.threw r) h2)) (fun r h2 => Q (.threw r) h2)) (fun r h2 => Q (.threw r) h2)) (fun r h2 => Q (.threw r) h2)) (fun r h2 => Q (.threw r) h2)) ∧ ((aI h4 (fR h x0 3082) (Int32.toNatClampNeg x5)) = 34 → 1 ≤ fr ∧ 15 ≤ lo ∧ xRi G YX12_take (fr - 1) (lo - 15) [rv x0] h4 (fun x268 h267 => xext h4 h267 → 1 ≤ fr ∧ 15 ≤ lo ∧ xRi G YX12_node (fr - 1) (lo - 15) [rv x0, .int 35, .int x268] h267 (fun x274 h273 => xext h267 h273 → 1 ≤ fr ∧ 15 ≤ lo ∧ xRi G YX12_parseE (fr - 1) (lo - 15) [rv x0] h273 (fun x280 h279 => xext h273 h279 → 1 ≤ fr ∧ 14 ≤ lo ∧ xRv G YX12_add (fr - 1) (lo - 14) [rv x0, .int x274, .int x280] h279 (fun h285 => xext h279 h285 → 1 ≤ fr ∧ 13 ≤ lo ∧ xRi G YX12_must (fr - 1) (lo - 13) [rv x0, .int 7] h285 (fun x292 h291 => xext h285 h291 → 1 ≤ fr ∧ 18 ≤ lo ∧ xRi G YX12_parseStatement (fr - 1) (lo - 18) [rv x0] h291 (fun x298 h297 => xext h291 h297 → 1 ≤ fr ∧ 14 ≤ lo ∧ xRv G YX12_add (fr - 1) (lo - 14) [rv x0, .int x274, .int x298] h297 (fun h303 => xext h297 h303 → bX12_parseStatement_554 G fr lo x0 x1 x274 h303 Q) (fun r h2 => Q (.threw r) h2)) (fun r h2 => Q (.threw r) h2)) (fun r h2 => Q (.threw r) h2)) (fun r h2 => Q (.threw r) h2)) (fun r h2 => Q (.threw r) h2)) (fun r h2 => Q (.threw r) h2)) (fun r h2 => Q (.threw r) h2)) ∧ ((aI h4 (fR h x0 3082) (Int32.toNatClampNeg x5)) = 35 → 1 ≤ fr ∧ 15 ≤ lo ∧ xRi G YX12_take (fr - 1) (lo - 15) [rv x0] h4 (fun x311 h310 => xext h4 h310 → 1 ≤ fr ∧ 15 ≤ lo ∧ xRi G YX12_node (fr - 1) (lo - 15) [rv x0, .int 38, .int x311] h310 (fun x317 h316 => xext h310 h316 → 1 ≤ fr ∧ 14 ≤ lo ∧ xRi G YX12_parseVariable (fr - 1) (lo - 14) [rv x0] h316 (fun x323 h322 => xext h316 h322 → 1 ≤ fr ∧ 14 ≤ lo ∧ xRv G YX12_add (fr - 1) (lo - 14) [rv x0, .int x317, .int x323] h322 (fun h328 => xext h322 h328 → lX12_parseStatement_447 G fr lo x0 x1 x317 0 h328 Q) (fun r h2 => Q (.threw r) h2)) (fun r h2 => Q (.threw r) h2)) (fun r h2 => Q (.threw r) h2)) (fun r h2 => Q (.threw r) h2)) ∧ ((aI h4 (fR h x0 3082) (Int32.toNatClampNeg x5)) = 40 → 1 ≤ fr ∧ 14 ≤ lo ∧ xRi G YX12_parseNameStatement (fr - 1) (lo - 14) [rv x0] h4 (fun x336 h335 => xext h4 h335 → bX12_parseStatement_554 G fr lo x0 x1 x336 h335 Q) (fun r h2 => Q (.threw r) h2)) ∧ (¬ (aI h4 (fR h x0 3082) (Int32.toNatClampNeg x5)) = 3 → ¬ (aI h4 (fR h x0 3082) (Int32.toNatClampNeg x5)) = 4 → ¬ (aI h4 (fR h x0 3082) (Int32.toNatClampNeg x5)) = 12 → ¬ (aI h4 (fR h x0 3082) (Int32.toNatClampNeg x5)) = 14 → ¬ (aI h4 (fR h x0 3082) (Int32.toNatClampNeg x5)) = 15 → ¬ (aI h4 (fR h x0 3082) (Int32.toNatClampNeg x5)) = 27 → ¬ (aI h4 (fR h x0 3082) (Int32.toNatClampNeg x5)) = 34 → ¬ (aI h4 (fR h x0 3082) (Int32.toNatClampNeg x5)) = 35 → ¬ (aI h4 (fR h x0 3082) (Int32.toNatClampNeg x5)) = 40 → 1 ≤ fr ∧ 14 ≤ lo ∧ xRi G YX12_now (fr - 1) (lo - 14) [rv x0] h4 (fun x342 h341 => xext h4 h341 → 1 ≤ fr ∧ 15 ≤ lo ∧ xRi G YX12_node (fr - 1) (lo - 15) [rv x0, .int 30, .int x342] h341 (fun x348 h347 => xext h341 h347 → bX12_parseStatement_554 G fr lo x0 x1 x348 h347 Q) (fun r h2 => Q (.threw r) h2)) (fun r h2 => Q (.threw r) h2)))) (fun r h2 => Q (.threw r) h2)
set_option maxRecDepth 100000 in
theorem uX12_parseStatement_27 {G : xG} {fr lo : Nat} {x0 : Nat} {x1 : Int32} {h : xH} {Q : Outcome → xH → Prop} (hq : bX12_parseStatement_27 G fr lo x0 x1 h Q) : xP G YX12_parseStatement fr lo 27 [(0, rv x0), (1, .int x1)] [] h Q := by
  unfold bX12_parseStatement_27 at hq
  refine x_aload_n 0 dX12_parseStatement_27 rfl ?_
  obtain ⟨g1, hq⟩ := hq
  refine x_get (v := rv (fR h x0 3082)) fdX12_26 dX12_parseStatement_28 g1 rfl ?_
  refine x_aload_n 0 dX12_parseStatement_31 rfl ?_
  obtain ⟨g2, g3, hq⟩ := hq
  refine x_callV (Yc := YX12_now) (as := []) (st := [rv (fR h x0 3082)]) q3790 mvX12_now g1 rfl dX12_parseStatement_32 (xle (xal1 (rv_cat _) xal0) (by decide)) (xfr g2) (xlo (xsw1 (rv_cat _) xsw0) (by decide) g3) (xKi hq (fun x5 h4 hq e6 => ?_) (fun _ _ q _ => q))
  replace hq := hq e6
  obtain ⟨g7, hq⟩ := hq
  obtain ⟨i8, hq⟩ := hq
  refine x_iald 0 (Or.inl rfl) g7 i8 dX12_parseStatement_35 ?_
  by_cases c9 : (aI h4 (fR h x0 3082) (Int32.toNatClampNeg x5)) = 3
  · replace hq := hq.1 c9
    rw [c9]
    refine x_look (tgt := 120) (off := 84) dX12_parseStatement_36 (by decide) (by decide) (by decide) ?_
    refine x_aload_n 0 dX12_parseStatement_120 rfl ?_
    refine x_bipush (v := 31) dX12_parseStatement_121 (by decide) ?_
    refine x_aload_n 0 dX12_parseStatement_123 rfl ?_
    have t10 : tg h4 x0 = 13 := e6.tg g1 (by decide)
    obtain ⟨g11, g12, hq⟩ := hq
    refine x_callV (Yc := YX12_take) (as := []) (st := [.int 31, rv x0]) q3794 mvX12_take t10 rfl dX12_parseStatement_124 (xle (xal1 (rv_cat _) xal0) (by decide)) (xfr g11) (xlo (xsw1 rfl (xsw1 (rv_cat _) xsw0)) (by decide) g12) (xKi hq (fun x14 h13 hq e15 => ?_) (fun _ _ q _ => q))
    replace hq := hq e15
    have t16 : tg h13 x0 = 13 := e15.tg t10 (by decide)
    obtain ⟨g17, g18, hq⟩ := hq
    refine x_callV (Yc := YX12_node) (as := [.int 31, .int x14]) (st := []) q3798 mvX12_node t16 rfl dX12_parseStatement_127 (xle (xal1 (rv_cat _) (xal1 rfl (xal1 rfl xal0))) (by decide)) (xfr g17) (xlo xsw0 (by decide) g18) (xKi hq (fun x20 h19 hq e21 => ?_) (fun _ _ q _ => q))
    replace hq := hq e21
    refine x_istore_n (lv' := [(2, .int x20), (0, rv x0), (1, .int x1)]) dX12_parseStatement_130 (by decide) rfl ?_
    refine x_aload_n 1 dX12_parseStatement_131 rfl ?_
    refine x_iload_n 0 dX12_parseStatement_132 rfl ?_
    have t22 : tg h19 x0 = 13 := e21.tg t16 (by decide)
    obtain ⟨g23, g24, hq⟩ := hq
    refine x_callV (Yc := YX12_parseRow) (as := [.int x20]) (st := []) q3866 mvX12_parseRow t22 rfl dX12_parseStatement_133 (xle (xal1 (rv_cat _) (xal1 rfl xal0)) (by decide)) (xfr g23) (xlo xsw0 (by decide) g24) (xKv hq (fun h25 hq e27 => ?_) (fun _ _ q _ => q))
    replace hq := hq e27
    refine x_aload_n 1 dX12_parseStatement_136 rfl ?_
    refine x_bipush (v := 10) dX12_parseStatement_137 (by decide) ?_
    have t28 : tg h25 x0 = 13 := e27.tg t22 (by decide)
    obtain ⟨g29, g30, hq⟩ := hq
    refine x_callV (Yc := YX12_must) (as := [.int 10]) (st := []) q3778 mvX12_must t28 rfl dX12_parseStatement_139 (xle (xal1 (rv_cat _) (xal1 rfl xal0)) (by decide)) (xfr g29) (xlo xsw0 (by decide) g30) (xKi hq (fun x32 h31 hq e33 => ?_) (fun _ _ q _ => q))
    replace hq := hq e33
    refine x_pop dX12_parseStatement_142 rfl ?_
    refine x_goto (tgt := 554) dX12_parseStatement_143 (by decide) ?_
    refine xP.pick (lv' := [(0, rv x0), (1, .int x1), (2, .int x20)]) [1, 2, 0] rfl ?_
    exact uX12_parseStatement_554 hq
  replace hq := hq.2
  by_cases c34 : (aI h4 (fR h x0 3082) (Int32.toNatClampNeg x5)) = 4
  · replace hq := hq.1 c34
    rw [c34]
    refine x_look (tgt := 203) (off := 167) dX12_parseStatement_36 (by decide) (by decide) (by decide) ?_
    refine x_aload_n 0 dX12_parseStatement_203 rfl ?_
    have t35 : tg h4 x0 = 13 := e6.tg g1 (by decide)
    obtain ⟨g36, g37, hq⟩ := hq
    refine x_callV (Yc := YX12_parseCase) (as := []) (st := []) q3906 mvX12_parseCase t35 rfl dX12_parseStatement_204 (xle (xal1 (rv_cat _) xal0) (by decide)) (xfr g36) (xlo xsw0 (by decide) g37) (xKi hq (fun x39 h38 hq e40 => ?_) (fun _ _ q _ => q))
    replace hq := hq e40
    refine x_istore_n (lv' := [(2, .int x39), (0, rv x0), (1, .int x1)]) dX12_parseStatement_207 (by decide) rfl ?_
    refine x_goto (tgt := 554) dX12_parseStatement_208 (by decide) ?_
    refine xP.pick (lv' := [(0, rv x0), (1, .int x1), (2, .int x39)]) [1, 2, 0] rfl ?_
    exact uX12_parseStatement_554 hq
  replace hq := hq.2
  by_cases c41 : (aI h4 (fR h x0 3082) (Int32.toNatClampNeg x5)) = 12
  · replace hq := hq.1 c41
    rw [c41]
    refine x_look (tgt := 306) (off := 270) dX12_parseStatement_36 (by decide) (by decide) (by decide) ?_
    refine x_aload_n 0 dX12_parseStatement_306 rfl ?_
    refine x_bipush (v := 37) dX12_parseStatement_307 (by decide) ?_
    refine x_aload_n 0 dX12_parseStatement_309 rfl ?_
    have t42 : tg h4 x0 = 13 := e6.tg g1 (by decide)
    obtain ⟨g43, g44, hq⟩ := hq
    refine x_callV (Yc := YX12_take) (as := []) (st := [.int 37, rv x0]) q3794 mvX12_take t42 rfl dX12_parseStatement_310 (xle (xal1 (rv_cat _) xal0) (by decide)) (xfr g43) (xlo (xsw1 rfl (xsw1 (rv_cat _) xsw0)) (by decide) g44) (xKi hq (fun x46 h45 hq e47 => ?_) (fun _ _ q _ => q))
    replace hq := hq e47
    have t48 : tg h45 x0 = 13 := e47.tg t42 (by decide)
    obtain ⟨g49, g50, hq⟩ := hq
    refine x_callV (Yc := YX12_node) (as := [.int 37, .int x46]) (st := []) q3798 mvX12_node t48 rfl dX12_parseStatement_313 (xle (xal1 (rv_cat _) (xal1 rfl (xal1 rfl xal0))) (by decide)) (xfr g49) (xlo xsw0 (by decide) g50) (xKi hq (fun x52 h51 hq e53 => ?_) (fun _ _ q _ => q))
    replace hq := hq e53
    refine x_istore_n (lv' := [(2, .int x52), (0, rv x0), (1, .int x1)]) dX12_parseStatement_316 (by decide) rfl ?_
    refine x_aload_n 1 dX12_parseStatement_317 rfl ?_
    refine x_iload_n 0 dX12_parseStatement_318 rfl ?_
    refine x_aload_n 1 dX12_parseStatement_319 rfl ?_
    refine x_iconst (v := 4) dX12_parseStatement_320 (by decide) ?_
    refine x_aload_n 1 dX12_parseStatement_321 rfl ?_
    refine x_bipush (v := 40) dX12_parseStatement_322 (by decide) ?_
    have t54 : tg h51 x0 = 13 := e53.tg t48 (by decide)
    obtain ⟨g55, g56, hq⟩ := hq
    refine x_callV (Yc := YX12_must) (as := [.int 40]) (st := [.int 4, rv x0, .int x52, rv x0]) q3778 mvX12_must t54 rfl dX12_parseStatement_324 (xle (xal1 (rv_cat _) (xal1 rfl xal0)) (by decide)) (xfr g55) (xlo (xsw1 rfl (xsw1 (rv_cat _) (xsw1 rfl (xsw1 (rv_cat _) xsw0)))) (by decide) g56) (xKi hq (fun x58 h57 hq e59 => ?_) (fun _ _ q _ => q))
    replace hq := hq e59
    have t60 : tg h57 x0 = 13 := e59.tg t54 (by decide)
    obtain ⟨g61, g62, hq⟩ := hq
    refine x_callV (Yc := YX12_node) (as := [.int 4, .int x58]) (st := [.int x52, rv x0]) q3798 mvX12_node t60 rfl dX12_parseStatement_327 (xle (xal1 (rv_cat _) (xal1 rfl (xal1 rfl xal0))) (by decide)) (xfr g61) (xlo (xsw1 rfl (xsw1 (rv_cat _) xsw0)) (by decide) g62) (xKi hq (fun x64 h63 hq e65 => ?_) (fun _ _ q _ => q))
    replace hq := hq e65
    have t66 : tg h63 x0 = 13 := e65.tg t60 (by decide)
    obtain ⟨g67, g68, hq⟩ := hq
    refine x_callV (Yc := YX12_add) (as := [.int x52, .int x64]) (st := []) q3810 mvX12_add t66 rfl dX12_parseStatement_330 (xle (xal1 (rv_cat _) (xal1 rfl (xal1 rfl xal0))) (by decide)) (xfr g67) (xlo xsw0 (by decide) g68) (xKv hq (fun h69 hq e71 => ?_) (fun _ _ q _ => q))
    replace hq := hq e71
    refine x_aload_n 1 dX12_parseStatement_333 rfl ?_
    refine x_bipush (v := 64) dX12_parseStatement_334 (by decide) ?_
    have t72 : tg h69 x0 = 13 := e71.tg t66 (by decide)
    obtain ⟨g73, g74, hq⟩ := hq
    refine x_callV (Yc := YX12_must) (as := [.int 64]) (st := []) q3778 mvX12_must t72 rfl dX12_parseStatement_336 (xle (xal1 (rv_cat _) (xal1 rfl xal0)) (by decide)) (xfr g73) (xlo xsw0 (by decide) g74) (xKi hq (fun x76 h75 hq e77 => ?_) (fun _ _ q _ => q))
    replace hq := hq e77
    refine x_pop dX12_parseStatement_339 rfl ?_
    refine x_aload_n 1 dX12_parseStatement_340 rfl ?_
    refine x_iload_n 0 dX12_parseStatement_341 rfl ?_
    refine x_aload_n 1 dX12_parseStatement_342 rfl ?_
    have t78 : tg h75 x0 = 13 := e77.tg t72 (by decide)
    obtain ⟨g79, g80, hq⟩ := hq
    refine x_callV (Yc := YX12_parseE) (as := []) (st := [.int x52, rv x0]) q3874 mvX12_parseE t78 rfl dX12_parseStatement_343 (xle (xal1 (rv_cat _) xal0) (by decide)) (xfr g79) (xlo (xsw1 rfl (xsw1 (rv_cat _) xsw0)) (by decide) g80) (xKi hq (fun x82 h81 hq e83 => ?_) (fun _ _ q _ => q))
    replace hq := hq e83
    have t84 : tg h81 x0 = 13 := e83.tg t78 (by decide)
    obtain ⟨g85, g86, hq⟩ := hq
    refine x_callV (Yc := YX12_add) (as := [.int x52, .int x82]) (st := []) q3810 mvX12_add t84 rfl dX12_parseStatement_346 (xle (xal1 (rv_cat _) (xal1 rfl (xal1 rfl xal0))) (by decide)) (xfr g85) (xlo xsw0 (by decide) g86) (xKv hq (fun h87 hq e89 => ?_) (fun _ _ q _ => q))
    replace hq := hq e89
    refine x_aload_n 1 dX12_parseStatement_349 rfl ?_
    refine x_bipush (v := 30) dX12_parseStatement_350 (by decide) ?_
    have t90 : tg h87 x0 = 13 := e89.tg t84 (by decide)
    obtain ⟨g91, g92, hq⟩ := hq
    refine x_callV (Yc := YX12_sees) (as := [.int 30]) (st := []) q3782 mvX12_sees t90 rfl dX12_parseStatement_352 (xle (xal1 (rv_cat _) (xal1 rfl xal0)) (by decide)) (xfr g91) (xlo xsw0 (by decide) g92) (xKi hq (fun x94 h93 hq e95 => ?_) (fun _ _ q _ => q))
    replace hq := hq e95
    refine x_if_ne (tgt := 371) dX12_parseStatement_355 (by decide) (fun c96 => ?_) (fun c96 => ?_)
    · replace hq := hq.1 c96
      refine xP.pick (lv' := [(0, rv x0), (1, .int x1), (2, .int x52)]) [1, 2, 0] rfl ?_
      exact uX12_parseStatement_371 hq
    · replace hq := hq.2 c96
      refine x_aload_n 1 dX12_parseStatement_358 rfl ?_
      refine x_bipush (v := 8) dX12_parseStatement_359 (by decide) ?_
      have t97 : tg h93 x0 = 13 := e95.tg t90 (by decide)
      obtain ⟨g98, g99, hq⟩ := hq
      refine x_callV (Yc := YX12_sees) (as := [.int 8]) (st := []) q3782 mvX12_sees t97 rfl dX12_parseStatement_361 (xle (xal1 (rv_cat _) (xal1 rfl xal0)) (by decide)) (xfr g98) (xlo xsw0 (by decide) g99) (xKi hq (fun x101 h100 hq e102 => ?_) (fun _ _ q _ => q))
      replace hq := hq e102
      refine x_if_ne (tgt := 371) dX12_parseStatement_364 (by decide) (fun c103 => ?_) (fun c103 => ?_)
      · replace hq := hq.1 c103
        refine xP.pick (lv' := [(0, rv x0), (1, .int x1), (2, .int x52)]) [1, 2, 0] rfl ?_
        exact uX12_parseStatement_371 hq
      · replace hq := hq.2 c103
        refine x_aload_n 1 dX12_parseStatement_367 rfl ?_
        have t104 : tg h100 x0 = 13 := e102.tg t97 (by decide)
        obtain ⟨g105, g106, hq⟩ := hq
        refine x_callV (Yc := YX12_bad) (as := []) (st := []) q3786 mvX12_bad t104 rfl dX12_parseStatement_368 (xle (xal1 (rv_cat _) xal0) (by decide)) (xfr g105) (xlo xsw0 (by decide) g106) (xKv hq (fun h107 hq e109 => ?_) (fun _ _ q _ => q))
        replace hq := hq e109
        refine xP.pick (lv' := [(0, rv x0), (1, .int x1), (2, .int x52)]) [1, 2, 0] rfl ?_
        exact uX12_parseStatement_371 hq
  replace hq := hq.2
  by_cases c110 : (aI h4 (fR h x0 3082) (Int32.toNatClampNeg x5)) = 14
  · replace hq := hq.1 c110
    rw [c110]
    refine x_look (tgt := 505) (off := 469) dX12_parseStatement_36 (by decide) (by decide) (by decide) ?_
    refine x_aload_n 0 dX12_parseStatement_505 rfl ?_
    refine x_bipush (v := 39) dX12_parseStatement_506 (by decide) ?_
    refine x_aload_n 0 dX12_parseStatement_508 rfl ?_
    have t111 : tg h4 x0 = 13 := e6.tg g1 (by decide)
    obtain ⟨g112, g113, hq⟩ := hq
    refine x_callV (Yc := YX12_take) (as := []) (st := [.int 39, rv x0]) q3794 mvX12_take t111 rfl dX12_parseStatement_509 (xle (xal1 (rv_cat _) xal0) (by decide)) (xfr g112) (xlo (xsw1 rfl (xsw1 (rv_cat _) xsw0)) (by decide) g113) (xKi hq (fun x115 h114 hq e116 => ?_) (fun _ _ q _ => q))
    replace hq := hq e116
    have t117 : tg h114 x0 = 13 := e116.tg t111 (by decide)
    obtain ⟨g118, g119, hq⟩ := hq
    refine x_callV (Yc := YX12_node) (as := [.int 39, .int x115]) (st := []) q3798 mvX12_node t117 rfl dX12_parseStatement_512 (xle (xal1 (rv_cat _) (xal1 rfl (xal1 rfl xal0))) (by decide)) (xfr g118) (xlo xsw0 (by decide) g119) (xKi hq (fun x121 h120 hq e122 => ?_) (fun _ _ q _ => q))
    replace hq := hq e122
    refine x_istore_n (lv' := [(2, .int x121), (0, rv x0), (1, .int x1)]) dX12_parseStatement_515 (by decide) rfl ?_
    refine x_aload_n 1 dX12_parseStatement_516 rfl ?_
    refine x_iload_n 0 dX12_parseStatement_517 rfl ?_
    refine x_aload_n 1 dX12_parseStatement_518 rfl ?_
    refine x_iconst (v := 5) dX12_parseStatement_519 (by decide) ?_
    refine x_aload_n 1 dX12_parseStatement_520 rfl ?_
    refine x_bipush (v := 41) dX12_parseStatement_521 (by decide) ?_
    have t123 : tg h120 x0 = 13 := e122.tg t117 (by decide)
    obtain ⟨g124, g125, hq⟩ := hq
    refine x_callV (Yc := YX12_must) (as := [.int 41]) (st := [.int 5, rv x0, .int x121, rv x0]) q3778 mvX12_must t123 rfl dX12_parseStatement_523 (xle (xal1 (rv_cat _) (xal1 rfl xal0)) (by decide)) (xfr g124) (xlo (xsw1 rfl (xsw1 (rv_cat _) (xsw1 rfl (xsw1 (rv_cat _) xsw0)))) (by decide) g125) (xKi hq (fun x127 h126 hq e128 => ?_) (fun _ _ q _ => q))
    replace hq := hq e128
    have t129 : tg h126 x0 = 13 := e128.tg t123 (by decide)
    obtain ⟨g130, g131, hq⟩ := hq
    refine x_callV (Yc := YX12_node) (as := [.int 5, .int x127]) (st := [.int x121, rv x0]) q3798 mvX12_node t129 rfl dX12_parseStatement_526 (xle (xal1 (rv_cat _) (xal1 rfl (xal1 rfl xal0))) (by decide)) (xfr g130) (xlo (xsw1 rfl (xsw1 (rv_cat _) xsw0)) (by decide) g131) (xKi hq (fun x133 h132 hq e134 => ?_) (fun _ _ q _ => q))
    replace hq := hq e134
    have t135 : tg h132 x0 = 13 := e134.tg t129 (by decide)
    obtain ⟨g136, g137, hq⟩ := hq
    refine x_callV (Yc := YX12_add) (as := [.int x121, .int x133]) (st := []) q3810 mvX12_add t135 rfl dX12_parseStatement_529 (xle (xal1 (rv_cat _) (xal1 rfl (xal1 rfl xal0))) (by decide)) (xfr g136) (xlo xsw0 (by decide) g137) (xKv hq (fun h138 hq e140 => ?_) (fun _ _ q _ => q))
    replace hq := hq e140
    refine x_goto (tgt := 554) dX12_parseStatement_532 (by decide) ?_
    refine xP.pick (lv' := [(0, rv x0), (1, .int x1), (2, .int x121)]) [1, 2, 0] rfl ?_
    exact uX12_parseStatement_554 hq
  replace hq := hq.2
  by_cases c141 : (aI h4 (fR h x0 3082) (Int32.toNatClampNeg x5)) = 15
  · replace hq := hq.1 c141
    rw [c141]
    refine x_look (tgt := 146) (off := 110) dX12_parseStatement_36 (by decide) (by decide) (by decide) ?_
    refine x_aload_n 0 dX12_parseStatement_146 rfl ?_
    refine x_bipush (v := 32) dX12_parseStatement_147 (by decide) ?_
    refine x_aload_n 0 dX12_parseStatement_149 rfl ?_
    have t142 : tg h4 x0 = 13 := e6.tg g1 (by decide)
    obtain ⟨g143, g144, hq⟩ := hq
    refine x_callV (Yc := YX12_take) (as := []) (st := [.int 32, rv x0]) q3794 mvX12_take t142 rfl dX12_parseStatement_150 (xle (xal1 (rv_cat _) xal0) (by decide)) (xfr g143) (xlo (xsw1 rfl (xsw1 (rv_cat _) xsw0)) (by decide) g144) (xKi hq (fun x146 h145 hq e147 => ?_) (fun _ _ q _ => q))
    replace hq := hq e147
    have t148 : tg h145 x0 = 13 := e147.tg t142 (by decide)
    obtain ⟨g149, g150, hq⟩ := hq
    refine x_callV (Yc := YX12_node) (as := [.int 32, .int x146]) (st := []) q3798 mvX12_node t148 rfl dX12_parseStatement_153 (xle (xal1 (rv_cat _) (xal1 rfl (xal1 rfl xal0))) (by decide)) (xfr g149) (xlo xsw0 (by decide) g150) (xKi hq (fun x152 h151 hq e153 => ?_) (fun _ _ q _ => q))
    replace hq := hq e153
    refine x_istore_n (lv' := [(2, .int x152), (0, rv x0), (1, .int x1)]) dX12_parseStatement_156 (by decide) rfl ?_
    refine x_aload_n 1 dX12_parseStatement_157 rfl ?_
    refine x_iload_n 0 dX12_parseStatement_158 rfl ?_
    refine x_aload_n 1 dX12_parseStatement_159 rfl ?_
    have t154 : tg h151 x0 = 13 := e153.tg t148 (by decide)
    obtain ⟨g155, g156, hq⟩ := hq
    refine x_callV (Yc := YX12_parseE) (as := []) (st := [.int x152, rv x0]) q3874 mvX12_parseE t154 rfl dX12_parseStatement_160 (xle (xal1 (rv_cat _) xal0) (by decide)) (xfr g155) (xlo (xsw1 rfl (xsw1 (rv_cat _) xsw0)) (by decide) g156) (xKi hq (fun x158 h157 hq e159 => ?_) (fun _ _ q _ => q))
    replace hq := hq e159
    have t160 : tg h157 x0 = 13 := e159.tg t154 (by decide)
    obtain ⟨g161, g162, hq⟩ := hq
    refine x_callV (Yc := YX12_add) (as := [.int x152, .int x158]) (st := []) q3810 mvX12_add t160 rfl dX12_parseStatement_163 (xle (xal1 (rv_cat _) (xal1 rfl (xal1 rfl xal0))) (by decide)) (xfr g161) (xlo xsw0 (by decide) g162) (xKv hq (fun h163 hq e165 => ?_) (fun _ _ q _ => q))
    replace hq := hq e165
    refine x_aload_n 1 dX12_parseStatement_166 rfl ?_
    refine x_bipush (v := 29) dX12_parseStatement_167 (by decide) ?_
    have t166 : tg h163 x0 = 13 := e165.tg t160 (by decide)
    obtain ⟨g167, g168, hq⟩ := hq
    refine x_callV (Yc := YX12_must) (as := [.int 29]) (st := []) q3778 mvX12_must t166 rfl dX12_parseStatement_169 (xle (xal1 (rv_cat _) (xal1 rfl xal0)) (by decide)) (xfr g167) (xlo xsw0 (by decide) g168) (xKi hq (fun x170 h169 hq e171 => ?_) (fun _ _ q _ => q))
    replace hq := hq e171
    refine x_pop dX12_parseStatement_172 rfl ?_
    refine x_aload_n 1 dX12_parseStatement_173 rfl ?_
    refine x_iload_n 0 dX12_parseStatement_174 rfl ?_
    refine x_aload_n 1 dX12_parseStatement_175 rfl ?_
    have t172 : tg h169 x0 = 13 := e171.tg t166 (by decide)
    obtain ⟨g173, g174, hq⟩ := hq
    refine x_callV (Yc := YX12_parseStatement) (as := []) (st := [.int x152, rv x0]) q3870 mvX12_parseStatement t172 rfl dX12_parseStatement_176 (xle (xal1 (rv_cat _) xal0) (by decide)) (xfr g173) (xlo (xsw1 rfl (xsw1 (rv_cat _) xsw0)) (by decide) g174) (xKi hq (fun x176 h175 hq e177 => ?_) (fun _ _ q _ => q))
    replace hq := hq e177
    have t178 : tg h175 x0 = 13 := e177.tg t172 (by decide)
    obtain ⟨g179, g180, hq⟩ := hq
    refine x_callV (Yc := YX12_add) (as := [.int x152, .int x176]) (st := []) q3810 mvX12_add t178 rfl dX12_parseStatement_179 (xle (xal1 (rv_cat _) (xal1 rfl (xal1 rfl xal0))) (by decide)) (xfr g179) (xlo xsw0 (by decide) g180) (xKv hq (fun h181 hq e183 => ?_) (fun _ _ q _ => q))
    replace hq := hq e183
    refine x_aload_n 1 dX12_parseStatement_182 rfl ?_
    refine x_bipush (v := 9) dX12_parseStatement_183 (by decide) ?_
    have t184 : tg h181 x0 = 13 := e183.tg t178 (by decide)
    obtain ⟨g185, g186, hq⟩ := hq
    refine x_callV (Yc := YX12_takes) (as := [.int 9]) (st := []) q3802 mvX12_takes t184 rfl dX12_parseStatement_185 (xle (xal1 (rv_cat _) (xal1 rfl xal0)) (by decide)) (xfr g185) (xlo xsw0 (by decide) g186) (xKi hq (fun x188 h187 hq e189 => ?_) (fun _ _ q _ => q))
    replace hq := hq e189
    refine x_if_eq (tgt := 554) dX12_parseStatement_188 (by decide) (fun c190 => ?_) (fun c190 => ?_)
    · replace hq := hq.1 c190
      refine xP.pick (lv' := [(0, rv x0), (1, .int x1), (2, .int x152)]) [1, 2, 0] rfl ?_
      exact uX12_parseStatement_554 hq
    · replace hq := hq.2 c190
      refine x_aload_n 1 dX12_parseStatement_191 rfl ?_
      refine x_iload_n 0 dX12_parseStatement_192 rfl ?_
      refine x_aload_n 1 dX12_parseStatement_193 rfl ?_
      have t191 : tg h187 x0 = 13 := e189.tg t184 (by decide)
      obtain ⟨g192, g193, hq⟩ := hq
      refine x_callV (Yc := YX12_parseStatement) (as := []) (st := [.int x152, rv x0]) q3870 mvX12_parseStatement t191 rfl dX12_parseStatement_194 (xle (xal1 (rv_cat _) xal0) (by decide)) (xfr g192) (xlo (xsw1 rfl (xsw1 (rv_cat _) xsw0)) (by decide) g193) (xKi hq (fun x195 h194 hq e196 => ?_) (fun _ _ q _ => q))
      replace hq := hq e196
      have t197 : tg h194 x0 = 13 := e196.tg t191 (by decide)
      obtain ⟨g198, g199, hq⟩ := hq
      refine x_callV (Yc := YX12_add) (as := [.int x152, .int x195]) (st := []) q3810 mvX12_add t197 rfl dX12_parseStatement_197 (xle (xal1 (rv_cat _) (xal1 rfl (xal1 rfl xal0))) (by decide)) (xfr g198) (xlo xsw0 (by decide) g199) (xKv hq (fun h200 hq e202 => ?_) (fun _ _ q _ => q))
      replace hq := hq e202
      refine x_goto (tgt := 554) dX12_parseStatement_200 (by decide) ?_
      refine xP.pick (lv' := [(0, rv x0), (1, .int x1), (2, .int x152)]) [1, 2, 0] rfl ?_
      exact uX12_parseStatement_554 hq
  replace hq := hq.2
  by_cases c203 : (aI h4 (fR h x0 3082) (Int32.toNatClampNeg x5)) = 27
  · replace hq := hq.1 c203
    rw [c203]
    refine x_look (tgt := 250) (off := 214) dX12_parseStatement_36 (by decide) (by decide) (by decide) ?_
    refine x_aload_n 0 dX12_parseStatement_250 rfl ?_
    refine x_bipush (v := 36) dX12_parseStatement_251 (by decide) ?_
    refine x_aload_n 0 dX12_parseStatement_253 rfl ?_
    have t204 : tg h4 x0 = 13 := e6.tg g1 (by decide)
    obtain ⟨g205, g206, hq⟩ := hq
    refine x_callV (Yc := YX12_take) (as := []) (st := [.int 36, rv x0]) q3794 mvX12_take t204 rfl dX12_parseStatement_254 (xle (xal1 (rv_cat _) xal0) (by decide)) (xfr g205) (xlo (xsw1 rfl (xsw1 (rv_cat _) xsw0)) (by decide) g206) (xKi hq (fun x208 h207 hq e209 => ?_) (fun _ _ q _ => q))
    replace hq := hq e209
    have t210 : tg h207 x0 = 13 := e209.tg t204 (by decide)
    obtain ⟨g211, g212, hq⟩ := hq
    refine x_callV (Yc := YX12_node) (as := [.int 36, .int x208]) (st := []) q3798 mvX12_node t210 rfl dX12_parseStatement_257 (xle (xal1 (rv_cat _) (xal1 rfl (xal1 rfl xal0))) (by decide)) (xfr g211) (xlo xsw0 (by decide) g212) (xKi hq (fun x214 h213 hq e215 => ?_) (fun _ _ q _ => q))
    replace hq := hq e215
    refine x_istore_n (lv' := [(2, .int x214), (0, rv x0), (1, .int x1)]) dX12_parseStatement_260 (by decide) rfl ?_
    refine x_aload_n 1 dX12_parseStatement_261 rfl ?_
    refine x_iconst (v := 3) dX12_parseStatement_262 (by decide) ?_
    refine x_aload_n 1 dX12_parseStatement_263 rfl ?_
    have t216 : tg h213 x0 = 13 := e215.tg t210 (by decide)
    obtain ⟨g217, g218, hq⟩ := hq
    refine x_callV (Yc := YX12_now) (as := []) (st := [.int 3, rv x0]) q3790 mvX12_now t216 rfl dX12_parseStatement_264 (xle (xal1 (rv_cat _) xal0) (by decide)) (xfr g217) (xlo (xsw1 rfl (xsw1 (rv_cat _) xsw0)) (by decide) g218) (xKi hq (fun x220 h219 hq e221 => ?_) (fun _ _ q _ => q))
    replace hq := hq e221
    have t222 : tg h219 x0 = 13 := e221.tg t216 (by decide)
    obtain ⟨g223, g224, hq⟩ := hq
    refine x_callV (Yc := YX12_node) (as := [.int 3, .int x220]) (st := []) q3798 mvX12_node t222 rfl dX12_parseStatement_267 (xle (xal1 (rv_cat _) (xal1 rfl (xal1 rfl xal0))) (by decide)) (xfr g223) (xlo xsw0 (by decide) g224) (xKi hq (fun x226 h225 hq e227 => ?_) (fun _ _ q _ => q))
    replace hq := hq e227
    refine x_istore_n (lv' := [(3, .int x226), (2, .int x214), (0, rv x0), (1, .int x1)]) dX12_parseStatement_270 (by decide) rfl ?_
    refine x_aload_n 2 dX12_parseStatement_271 rfl ?_
    refine x_iload_n 0 dX12_parseStatement_272 rfl ?_
    have t228 : tg h225 x0 = 13 := e227.tg t222 (by decide)
    obtain ⟨g229, g230, hq⟩ := hq
    refine x_callV (Yc := YX12_parseRow) (as := [.int x226]) (st := []) q3866 mvX12_parseRow t228 rfl dX12_parseStatement_273 (xle (xal1 (rv_cat _) (xal1 rfl xal0)) (by decide)) (xfr g229) (xlo xsw0 (by decide) g230) (xKv hq (fun h231 hq e233 => ?_) (fun _ _ q _ => q))
    replace hq := hq e233
    refine x_aload_n 2 dX12_parseStatement_276 rfl ?_
    refine x_iload_n 1 dX12_parseStatement_277 rfl ?_
    refine x_iload_n 0 dX12_parseStatement_278 rfl ?_
    have t234 : tg h231 x0 = 13 := e233.tg t228 (by decide)
    obtain ⟨g235, g236, hq⟩ := hq
    refine x_callV (Yc := YX12_add) (as := [.int x214, .int x226]) (st := []) q3810 mvX12_add t234 rfl dX12_parseStatement_279 (xle (xal1 (rv_cat _) (xal1 rfl (xal1 rfl xal0))) (by decide)) (xfr g235) (xlo xsw0 (by decide) g236) (xKv hq (fun h237 hq e239 => ?_) (fun _ _ q _ => q))
    replace hq := hq e239
    refine x_aload_n 2 dX12_parseStatement_282 rfl ?_
    have t240 : tg h237 x0 = 13 := e239.tg t234 (by decide)
    refine x_get (v := rv (fR h237 x0 3106)) fdX12_82 dX12_parseStatement_283 t240 rfl ?_
    refine x_iload_n 1 dX12_parseStatement_286 rfl ?_
    refine x_aload_n 2 dX12_parseStatement_287 rfl ?_
    refine x_bipush (v := 32) dX12_parseStatement_288 (by decide) ?_
    obtain ⟨g241, g242, hq⟩ := hq
    refine x_callV (Yc := YX12_must) (as := [.int 32]) (st := [.int x214, rv (fR h237 x0 3106)]) q3778 mvX12_must t240 rfl dX12_parseStatement_290 (xle (xal1 (rv_cat _) (xal1 rfl xal0)) (by decide)) (xfr g241) (xlo (xsw1 rfl (xsw1 (rv_cat _) xsw0)) (by decide) g242) (xKi hq (fun x244 h243 hq e245 => ?_) (fun _ _ q _ => q))
    replace hq := hq e245
    obtain ⟨g246, hq⟩ := hq
    obtain ⟨i247, hq⟩ := hq
    obtain ⟨h248, e249⟩ : ∃ y, y = tI h243 (fR h237 x0 3106) (Int32.toNatClampNeg x214) x244 := ⟨_, rfl⟩
    replace hq := hq h248 e249
    refine x_iast' g246 i247 dX12_parseStatement_293 e249 ?_
    refine x_aload_n 2 dX12_parseStatement_294 rfl ?_
    refine x_iload_n 1 dX12_parseStatement_295 rfl ?_
    refine x_aload_n 2 dX12_parseStatement_296 rfl ?_
    have t250 : tg h243 x0 = 13 := e245.tg t240 (by decide)
    have t251 : tg h248 x0 = 13 := by rw [e249]; exact t250
    obtain ⟨g252, g253, hq⟩ := hq
    refine x_callV (Yc := YX12_parseE) (as := []) (st := [.int x214, rv x0]) q3874 mvX12_parseE t251 rfl dX12_parseStatement_297 (xle (xal1 (rv_cat _) xal0) (by decide)) (xfr g252) (xlo (xsw1 rfl (xsw1 (rv_cat _) xsw0)) (by decide) g253) (xKi hq (fun x255 h254 hq e256 => ?_) (fun _ _ q _ => q))
    replace hq := hq e256
    have t257 : tg h254 x0 = 13 := e256.tg t251 (by decide)
    obtain ⟨g258, g259, hq⟩ := hq
    refine x_callV (Yc := YX12_add) (as := [.int x214, .int x255]) (st := []) q3810 mvX12_add t257 rfl dX12_parseStatement_300 (xle (xal1 (rv_cat _) (xal1 rfl (xal1 rfl xal0))) (by decide)) (xfr g258) (xlo xsw0 (by decide) g259) (xKv hq (fun h260 hq e262 => ?_) (fun _ _ q _ => q))
    replace hq := hq e262
    refine x_goto (tgt := 554) dX12_parseStatement_303 (by decide) ?_
    refine xP.pick (lv' := [(0, rv x0), (1, .int x1), (2, .int x214)]) [2, 3, 1] rfl ?_
    exact uX12_parseStatement_554 hq
  replace hq := hq.2
  by_cases c263 : (aI h4 (fR h x0 3082) (Int32.toNatClampNeg x5)) = 34
  · replace hq := hq.1 c263
    rw [c263]
    refine x_look (tgt := 211) (off := 175) dX12_parseStatement_36 (by decide) (by decide) (by decide) ?_
    refine x_aload_n 0 dX12_parseStatement_211 rfl ?_
    refine x_bipush (v := 35) dX12_parseStatement_212 (by decide) ?_
    refine x_aload_n 0 dX12_parseStatement_214 rfl ?_
    have t264 : tg h4 x0 = 13 := e6.tg g1 (by decide)
    obtain ⟨g265, g266, hq⟩ := hq
    refine x_callV (Yc := YX12_take) (as := []) (st := [.int 35, rv x0]) q3794 mvX12_take t264 rfl dX12_parseStatement_215 (xle (xal1 (rv_cat _) xal0) (by decide)) (xfr g265) (xlo (xsw1 rfl (xsw1 (rv_cat _) xsw0)) (by decide) g266) (xKi hq (fun x268 h267 hq e269 => ?_) (fun _ _ q _ => q))
    replace hq := hq e269
    have t270 : tg h267 x0 = 13 := e269.tg t264 (by decide)
    obtain ⟨g271, g272, hq⟩ := hq
    refine x_callV (Yc := YX12_node) (as := [.int 35, .int x268]) (st := []) q3798 mvX12_node t270 rfl dX12_parseStatement_218 (xle (xal1 (rv_cat _) (xal1 rfl (xal1 rfl xal0))) (by decide)) (xfr g271) (xlo xsw0 (by decide) g272) (xKi hq (fun x274 h273 hq e275 => ?_) (fun _ _ q _ => q))
    replace hq := hq e275
    refine x_istore_n (lv' := [(2, .int x274), (0, rv x0), (1, .int x1)]) dX12_parseStatement_221 (by decide) rfl ?_
    refine x_aload_n 1 dX12_parseStatement_222 rfl ?_
    refine x_iload_n 0 dX12_parseStatement_223 rfl ?_
    refine x_aload_n 1 dX12_parseStatement_224 rfl ?_
    have t276 : tg h273 x0 = 13 := e275.tg t270 (by decide)
    obtain ⟨g277, g278, hq⟩ := hq
    refine x_callV (Yc := YX12_parseE) (as := []) (st := [.int x274, rv x0]) q3874 mvX12_parseE t276 rfl dX12_parseStatement_225 (xle (xal1 (rv_cat _) xal0) (by decide)) (xfr g277) (xlo (xsw1 rfl (xsw1 (rv_cat _) xsw0)) (by decide) g278) (xKi hq (fun x280 h279 hq e281 => ?_) (fun _ _ q _ => q))
    replace hq := hq e281
    have t282 : tg h279 x0 = 13 := e281.tg t276 (by decide)
    obtain ⟨g283, g284, hq⟩ := hq
    refine x_callV (Yc := YX12_add) (as := [.int x274, .int x280]) (st := []) q3810 mvX12_add t282 rfl dX12_parseStatement_228 (xle (xal1 (rv_cat _) (xal1 rfl (xal1 rfl xal0))) (by decide)) (xfr g283) (xlo xsw0 (by decide) g284) (xKv hq (fun h285 hq e287 => ?_) (fun _ _ q _ => q))
    replace hq := hq e287
    refine x_aload_n 1 dX12_parseStatement_231 rfl ?_
    refine x_bipush (v := 7) dX12_parseStatement_232 (by decide) ?_
    have t288 : tg h285 x0 = 13 := e287.tg t282 (by decide)
    obtain ⟨g289, g290, hq⟩ := hq
    refine x_callV (Yc := YX12_must) (as := [.int 7]) (st := []) q3778 mvX12_must t288 rfl dX12_parseStatement_234 (xle (xal1 (rv_cat _) (xal1 rfl xal0)) (by decide)) (xfr g289) (xlo xsw0 (by decide) g290) (xKi hq (fun x292 h291 hq e293 => ?_) (fun _ _ q _ => q))
    replace hq := hq e293
    refine x_pop dX12_parseStatement_237 rfl ?_
    refine x_aload_n 1 dX12_parseStatement_238 rfl ?_
    refine x_iload_n 0 dX12_parseStatement_239 rfl ?_
    refine x_aload_n 1 dX12_parseStatement_240 rfl ?_
    have t294 : tg h291 x0 = 13 := e293.tg t288 (by decide)
    obtain ⟨g295, g296, hq⟩ := hq
    refine x_callV (Yc := YX12_parseStatement) (as := []) (st := [.int x274, rv x0]) q3870 mvX12_parseStatement t294 rfl dX12_parseStatement_241 (xle (xal1 (rv_cat _) xal0) (by decide)) (xfr g295) (xlo (xsw1 rfl (xsw1 (rv_cat _) xsw0)) (by decide) g296) (xKi hq (fun x298 h297 hq e299 => ?_) (fun _ _ q _ => q))
    replace hq := hq e299
    have t300 : tg h297 x0 = 13 := e299.tg t294 (by decide)
    obtain ⟨g301, g302, hq⟩ := hq
    refine x_callV (Yc := YX12_add) (as := [.int x274, .int x298]) (st := []) q3810 mvX12_add t300 rfl dX12_parseStatement_244 (xle (xal1 (rv_cat _) (xal1 rfl (xal1 rfl xal0))) (by decide)) (xfr g301) (xlo xsw0 (by decide) g302) (xKv hq (fun h303 hq e305 => ?_) (fun _ _ q _ => q))
    replace hq := hq e305
    refine x_goto (tgt := 554) dX12_parseStatement_247 (by decide) ?_
    refine xP.pick (lv' := [(0, rv x0), (1, .int x1), (2, .int x274)]) [1, 2, 0] rfl ?_
    exact uX12_parseStatement_554 hq
  replace hq := hq.2
  by_cases c306 : (aI h4 (fR h x0 3082) (Int32.toNatClampNeg x5)) = 35
  · replace hq := hq.1 c306
    rw [c306]
    refine x_look (tgt := 424) (off := 388) dX12_parseStatement_36 (by decide) (by decide) (by decide) ?_
    refine x_aload_n 0 dX12_parseStatement_424 rfl ?_
    refine x_bipush (v := 38) dX12_parseStatement_425 (by decide) ?_
    refine x_aload_n 0 dX12_parseStatement_427 rfl ?_
    have t307 : tg h4 x0 = 13 := e6.tg g1 (by decide)
    obtain ⟨g308, g309, hq⟩ := hq
    refine x_callV (Yc := YX12_take) (as := []) (st := [.int 38, rv x0]) q3794 mvX12_take t307 rfl dX12_parseStatement_428 (xle (xal1 (rv_cat _) xal0) (by decide)) (xfr g308) (xlo (xsw1 rfl (xsw1 (rv_cat _) xsw0)) (by decide) g309) (xKi hq (fun x311 h310 hq e312 => ?_) (fun _ _ q _ => q))
    replace hq := hq e312
    have t313 : tg h310 x0 = 13 := e312.tg t307 (by decide)
    obtain ⟨g314, g315, hq⟩ := hq
    refine x_callV (Yc := YX12_node) (as := [.int 38, .int x311]) (st := []) q3798 mvX12_node t313 rfl dX12_parseStatement_431 (xle (xal1 (rv_cat _) (xal1 rfl (xal1 rfl xal0))) (by decide)) (xfr g314) (xlo xsw0 (by decide) g315) (xKi hq (fun x317 h316 hq e318 => ?_) (fun _ _ q _ => q))
    replace hq := hq e318
    refine x_istore_n (lv' := [(2, .int x317), (0, rv x0), (1, .int x1)]) dX12_parseStatement_434 (by decide) rfl ?_
    refine x_aload_n 1 dX12_parseStatement_435 rfl ?_
    refine x_iload_n 0 dX12_parseStatement_436 rfl ?_
    refine x_aload_n 1 dX12_parseStatement_437 rfl ?_
    have t319 : tg h316 x0 = 13 := e318.tg t313 (by decide)
    obtain ⟨g320, g321, hq⟩ := hq
    refine x_callV (Yc := YX12_parseVariable) (as := []) (st := [.int x317, rv x0]) q3910 mvX12_parseVariable t319 rfl dX12_parseStatement_438 (xle (xal1 (rv_cat _) xal0) (by decide)) (xfr g320) (xlo (xsw1 rfl (xsw1 (rv_cat _) xsw0)) (by decide) g321) (xKi hq (fun x323 h322 hq e324 => ?_) (fun _ _ q _ => q))
    replace hq := hq e324
    have t325 : tg h322 x0 = 13 := e324.tg t319 (by decide)
    obtain ⟨g326, g327, hq⟩ := hq
    refine x_callV (Yc := YX12_add) (as := [.int x317, .int x323]) (st := []) q3810 mvX12_add t325 rfl dX12_parseStatement_441 (xle (xal1 (rv_cat _) (xal1 rfl (xal1 rfl xal0))) (by decide)) (xfr g326) (xlo xsw0 (by decide) g327) (xKv hq (fun h328 hq e330 => ?_) (fun _ _ q _ => q))
    replace hq := hq e330
    refine x_iconst (v := 0) dX12_parseStatement_444 (by decide) ?_
    refine x_istore (lv' := [(4, .int 0), (2, .int x317), (0, rv x0), (1, .int x1)]) dX12_parseStatement_445 (by decide) rfl ?_
    refine xP.pick (lv' := [(0, rv x0), (1, .int x1), (2, .int x317), (4, .int 0)]) [2, 3, 1, 0] rfl ?_
    exact hq
  replace hq := hq.2
  by_cases c331 : (aI h4 (fR h x0 3082) (Int32.toNatClampNeg x5)) = 40
  · replace hq := hq.1 c331
    rw [c331]
    refine x_look (tgt := 535) (off := 499) dX12_parseStatement_36 (by decide) (by decide) (by decide) ?_
    refine x_aload_n 0 dX12_parseStatement_535 rfl ?_
    have t332 : tg h4 x0 = 13 := e6.tg g1 (by decide)
    obtain ⟨g333, g334, hq⟩ := hq
    refine x_callV (Yc := YX12_parseNameStatement) (as := []) (st := []) q3914 mvX12_parseNameStatement t332 rfl dX12_parseStatement_536 (xle (xal1 (rv_cat _) xal0) (by decide)) (xfr g333) (xlo xsw0 (by decide) g334) (xKi hq (fun x336 h335 hq e337 => ?_) (fun _ _ q _ => q))
    replace hq := hq e337
    refine x_istore_n (lv' := [(2, .int x336), (0, rv x0), (1, .int x1)]) dX12_parseStatement_539 (by decide) rfl ?_
    refine x_goto (tgt := 554) dX12_parseStatement_540 (by decide) ?_
    refine xP.pick (lv' := [(0, rv x0), (1, .int x1), (2, .int x336)]) [1, 2, 0] rfl ?_
    exact uX12_parseStatement_554 hq
  replace hq := hq.2
  replace hq := hq c9 c34 c41 c110 c141 c203 c263 c306 c331
  refine x_look (tgt := 543) (off := 507) dX12_parseStatement_36 (by decide) (by rw [lv_osw c9 (show (3 : Int32).toInt = 3 from by decide)]; rw [lv_osw c34 (show (4 : Int32).toInt = 4 from by decide)]; rw [lv_osw c41 (show (12 : Int32).toInt = 12 from by decide)]; rw [lv_osw c110 (show (14 : Int32).toInt = 14 from by decide)]; rw [lv_osw c141 (show (15 : Int32).toInt = 15 from by decide)]; rw [lv_osw c203 (show (27 : Int32).toInt = 27 from by decide)]; rw [lv_osw c263 (show (34 : Int32).toInt = 34 from by decide)]; rw [lv_osw c306 (show (35 : Int32).toInt = 35 from by decide)]; rw [lv_osw c331 (show (40 : Int32).toInt = 40 from by decide)]; rfl) (by decide) ?_
  refine x_aload_n 0 dX12_parseStatement_543 rfl ?_
  refine x_bipush (v := 30) dX12_parseStatement_544 (by decide) ?_
  refine x_aload_n 0 dX12_parseStatement_546 rfl ?_
  have t338 : tg h4 x0 = 13 := e6.tg g1 (by decide)
  obtain ⟨g339, g340, hq⟩ := hq
  refine x_callV (Yc := YX12_now) (as := []) (st := [.int 30, rv x0]) q3790 mvX12_now t338 rfl dX12_parseStatement_547 (xle (xal1 (rv_cat _) xal0) (by decide)) (xfr g339) (xlo (xsw1 rfl (xsw1 (rv_cat _) xsw0)) (by decide) g340) (xKi hq (fun x342 h341 hq e343 => ?_) (fun _ _ q _ => q))
  replace hq := hq e343
  have t344 : tg h341 x0 = 13 := e343.tg t338 (by decide)
  obtain ⟨g345, g346, hq⟩ := hq
  refine x_callV (Yc := YX12_node) (as := [.int 30, .int x342]) (st := []) q3798 mvX12_node t344 rfl dX12_parseStatement_550 (xle (xal1 (rv_cat _) (xal1 rfl (xal1 rfl xal0))) (by decide)) (xfr g345) (xlo xsw0 (by decide) g346) (xKi hq (fun x348 h347 hq e349 => ?_) (fun _ _ q _ => q))
  replace hq := hq e349
  refine x_istore_n (lv' := [(2, .int x348), (0, rv x0), (1, .int x1)]) dX12_parseStatement_553 (by decide) rfl ?_
  refine xP.pick (lv' := [(0, rv x0), (1, .int x1), (2, .int x348)]) [1, 2, 0] rfl ?_
  exact uX12_parseStatement_554 hq
set_option maxRecDepth 100000 in
def bX12_parseStatement (G : xG) (fr lo : Nat) (x0 : Nat) (h : xH) (Q : Outcome → xH → Prop) : Prop := tg h x0 = 13 ∧ 1 ≤ fr ∧ 12 ≤ lo ∧ xRv G YX12_enter (fr - 1) (lo - 12) [rv x0] h (fun h4 => xext h h4 → 1 ≤ fr ∧ 13 ≤ lo ∧ xRi G YX12_sees (fr - 1) (lo - 13) [rv x0, .int 41] h4 (fun x11 h10 => xext h4 h10 → ((x11 = 0 → bX12_parseStatement_27 G fr lo x0 (-1) h10 Q) ∧ (¬ x11 = 0 → 1 ≤ fr ∧ 13 ≤ lo ∧ xRi G YX12_take (fr - 1) (lo - 13) [rv x0] h10 (fun x18 h17 => xext h10 h17 → 1 ≤ fr ∧ 13 ≤ lo ∧ xRi G YX12_must (fr - 1) (lo - 13) [rv x0, .int 68] h17 (fun x24 h23 => xext h17 h23 → bX12_parseStatement_27 G fr lo x0 x18 h23 Q) (fun r h2 => Q (.threw r) h2)) (fun r h2 => Q (.threw r) h2)))) (fun r h2 => Q (.threw r) h2)) (fun r h2 => Q (.threw r) h2)
set_option maxRecDepth 100000 in
theorem uX12_parseStatement {G : xG} {fr lo : Nat} {x0 : Nat} {h : xH} {Q : Outcome → xH → Prop} (hq : bX12_parseStatement G fr lo x0 h Q) : xP G YX12_parseStatement fr lo 0 [(0, rv x0)] [] h Q := by
  unfold bX12_parseStatement at hq
  refine x_aload_n 0 dX12_parseStatement_0 rfl ?_
  obtain ⟨g1, hq⟩ := hq
  obtain ⟨g2, g3, hq⟩ := hq
  refine x_callV (Yc := YX12_enter) (as := []) (st := []) q3818 mvX12_enter g1 rfl dX12_parseStatement_1 (xle (xal1 (rv_cat _) xal0) (by decide)) (xfr g2) (xlo xsw0 (by decide) g3) (xKv hq (fun h4 hq e6 => ?_) (fun _ _ q _ => q))
  replace hq := hq e6
  refine x_iconst (v := (-1)) dX12_parseStatement_4 (by decide) ?_
  refine x_istore_n (lv' := [(1, .int (-1)), (0, rv x0)]) dX12_parseStatement_5 (by decide) (by first | rfl | (simp [rv_cat, Value.category]; done) | (simp [rv_cat, Value.category]; decide)) ?_
  refine x_aload_n 1 dX12_parseStatement_6 rfl ?_
  refine x_bipush (v := 41) dX12_parseStatement_7 (by decide) ?_
  have t7 : tg h4 x0 = 13 := e6.tg g1 (by decide)
  obtain ⟨g8, g9, hq⟩ := hq
  refine x_callV (Yc := YX12_sees) (as := [.int 41]) (st := []) q3782 mvX12_sees t7 rfl dX12_parseStatement_9 (xle (xal1 (rv_cat _) (xal1 rfl xal0)) (by decide)) (xfr g8) (xlo xsw0 (by decide) g9) (xKi hq (fun x11 h10 hq e12 => ?_) (fun _ _ q _ => q))
  replace hq := hq e12
  refine x_if_eq (tgt := 27) dX12_parseStatement_12 (by decide) (fun c13 => ?_) (fun c13 => ?_)
  · replace hq := hq.1 c13
    refine xP.pick (lv' := [(0, rv x0), (1, .int (-1))]) [1, 0] rfl ?_
    exact uX12_parseStatement_27 hq
  · replace hq := hq.2 c13
    refine x_aload_n 1 dX12_parseStatement_15 rfl ?_
    have t14 : tg h10 x0 = 13 := e12.tg t7 (by decide)
    obtain ⟨g15, g16, hq⟩ := hq
    refine x_callV (Yc := YX12_take) (as := []) (st := []) q3794 mvX12_take t14 rfl dX12_parseStatement_16 (xle (xal1 (rv_cat _) xal0) (by decide)) (xfr g15) (xlo xsw0 (by decide) g16) (xKi hq (fun x18 h17 hq e19 => ?_) (fun _ _ q _ => q))
    replace hq := hq e19
    refine x_istore_n (lv' := [(1, .int x18), (0, rv x0)]) dX12_parseStatement_19 (by decide) (by first | rfl | (simp [rv_cat, Value.category]; done) | (simp [rv_cat, Value.category]; decide)) ?_
    refine x_aload_n 1 dX12_parseStatement_20 rfl ?_
    refine x_bipush (v := 68) dX12_parseStatement_21 (by decide) ?_
    have t20 : tg h17 x0 = 13 := e19.tg t14 (by decide)
    obtain ⟨g21, g22, hq⟩ := hq
    refine x_callV (Yc := YX12_must) (as := [.int 68]) (st := []) q3778 mvX12_must t20 rfl dX12_parseStatement_23 (xle (xal1 (rv_cat _) (xal1 rfl xal0)) (by decide)) (xfr g21) (xlo xsw0 (by decide) g22) (xKi hq (fun x24 h23 hq e25 => ?_) (fun _ _ q _ => q))
    replace hq := hq e25
    refine x_pop dX12_parseStatement_26 rfl ?_
    refine xP.pick (lv' := [(0, rv x0), (1, .int x18)]) [1, 0] rfl ?_
    exact uX12_parseStatement_27 hq
theorem rX12_parseStatement {G : xG} {fr lo : Nat} {x0 : Nat} {h : xH} {Q : Outcome → xH → Prop} (hq : bX12_parseStatement G fr lo x0 h Q) : xR G YX12_parseStatement fr lo [rv x0] h Q := by
  show xP _ _ _ _ _ (lv_args 0 _) _ _ _
  rw [show lv_args 0 [rv x0] = [(0, rv x0)] from (xla1 (rv_cat _) xla0)]
  exact uX12_parseStatement hq
set_option maxRecDepth 100000 in
theorem dX12_parseE_0 : decode cX12_parseE 0 = .ok (.aload_n 0, 1) := by decide +kernel
set_option maxRecDepth 100000 in
theorem dX12_parseE_1 : decode cX12_parseE 1 = .ok (.invokevirtual 472, 3) := by decide +kernel
set_option maxRecDepth 100000 in
theorem dX12_parseE_4 : decode cX12_parseE 4 = .ok (.aload_n 0, 1) := by decide +kernel
set_option maxRecDepth 100000 in
theorem dX12_parseE_5 : decode cX12_parseE 5 = .ok (.bipush 50, 2) := by decide +kernel
set_option maxRecDepth 100000 in
theorem dX12_parseE_7 : decode cX12_parseE 7 = .ok (.aload_n 0, 1) := by decide +kernel
set_option maxRecDepth 100000 in
theorem dX12_parseE_8 : decode cX12_parseE 8 = .ok (.invokevirtual 445, 3) := by decide +kernel
set_option maxRecDepth 100000 in
theorem dX12_parseE_11 : decode cX12_parseE 11 = .ok (.invokevirtual 454, 3) := by decide +kernel
set_option maxRecDepth 100000 in
theorem dX12_parseE_14 : decode cX12_parseE 14 = .ok (.istore_n 1, 1) := by decide +kernel
set_option maxRecDepth 100000 in
theorem dX12_parseE_15 : decode cX12_parseE 15 = .ok (.aload_n 0, 1) := by decide +kernel
set_option maxRecDepth 100000 in
theorem dX12_parseE_16 : decode cX12_parseE 16 = .ok (.iload_n 1, 1) := by decide +kernel
set_option maxRecDepth 100000 in
theorem dX12_parseE_17 : decode cX12_parseE 17 = .ok (.aload_n 0, 1) := by decide +kernel
set_option maxRecDepth 100000 in
theorem dX12_parseE_18 : decode cX12_parseE 18 = .ok (.invokevirtual 536, 3) := by decide +kernel
set_option maxRecDepth 100000 in
theorem dX12_parseE_21 : decode cX12_parseE 21 = .ok (.invokevirtual 460, 3) := by decide +kernel
set_option maxRecDepth 100000 in
theorem dX12_parseE_24 : decode cX12_parseE 24 = .ok (.aload_n 0, 1) := by decide +kernel
set_option maxRecDepth 100000 in
theorem dX12_parseE_25 : decode cX12_parseE 25 = .ok (.invokevirtual 539, 3) := by decide +kernel
set_option maxRecDepth 100000 in
theorem dX12_parseE_28 : decode cX12_parseE 28 = .ok (.ifCond .eq 22, 3) := by decide +kernel
set_option maxRecDepth 100000 in
theorem dX12_parseE_31 : decode cX12_parseE 31 = .ok (.aload_n 0, 1) := by decide +kernel
set_option maxRecDepth 100000 in
theorem dX12_parseE_32 : decode cX12_parseE 32 = .ok (.getfield 82, 3) := by decide +kernel
set_option maxRecDepth 100000 in
theorem dX12_parseE_35 : decode cX12_parseE 35 = .ok (.iload_n 1, 1) := by decide +kernel
set_option maxRecDepth 100000 in
theorem dX12_parseE_36 : decode cX12_parseE 36 = .ok (.aload_n 0, 1) := by decide +kernel
set_option maxRecDepth 100000 in
theorem dX12_parseE_37 : decode cX12_parseE 37 = .ok (.invokevirtual 442, 3) := by decide +kernel
set_option maxRecDepth 100000 in
theorem dX12_parseE_40 : decode cX12_parseE 40 = .ok (.iastore, 1) := by decide +kernel
set_option maxRecDepth 100000 in
theorem dX12_parseE_41 : decode cX12_parseE 41 = .ok (.aload_n 0, 1) := by decide +kernel
set_option maxRecDepth 100000 in
theorem dX12_parseE_42 : decode cX12_parseE 42 = .ok (.iload_n 1, 1) := by decide +kernel
set_option maxRecDepth 100000 in
theorem dX12_parseE_43 : decode cX12_parseE 43 = .ok (.aload_n 0, 1) := by decide +kernel
set_option maxRecDepth 100000 in
theorem dX12_parseE_44 : decode cX12_parseE 44 = .ok (.invokevirtual 536, 3) := by decide +kernel
set_option maxRecDepth 100000 in
theorem dX12_parseE_47 : decode cX12_parseE 47 = .ok (.invokevirtual 460, 3) := by decide +kernel
set_option maxRecDepth 100000 in
theorem dX12_parseE_50 : decode cX12_parseE 50 = .ok (.aload_n 0, 1) := by decide +kernel
set_option maxRecDepth 100000 in
theorem dX12_parseE_51 : decode cX12_parseE 51 = .ok (.dup, 1) := by decide +kernel
set_option maxRecDepth 100000 in
theorem dX12_parseE_52 : decode cX12_parseE 52 = .ok (.getfield 451, 3) := by decide +kernel
set_option maxRecDepth 100000 in
theorem dX12_parseE_55 : decode cX12_parseE 55 = .ok (.iconst 1, 1) := by decide +kernel
set_option maxRecDepth 100000 in
theorem dX12_parseE_56 : decode cX12_parseE 56 = .ok (.isub, 1) := by decide +kernel
set_option maxRecDepth 100000 in
theorem dX12_parseE_57 : decode cX12_parseE 57 = .ok (.putfield 451, 3) := by decide +kernel
set_option maxRecDepth 100000 in
theorem dX12_parseE_60 : decode cX12_parseE 60 = .ok (.iload_n 1, 1) := by decide +kernel
set_option maxRecDepth 100000 in
theorem dX12_parseE_61 : decode cX12_parseE 61 = .ok (.ireturn, 1) := by decide +kernel
set_option maxRecDepth 100000 in
def bX12_parseE_50 (G : xG) (fr lo : Nat) (x0 : Nat) (x1 : Int32) (h : xH) (Q : Outcome → xH → Prop) : Prop := tg h x0 = 13 ∧ (∀ h2 : xH, h2 = sI h x0 3111 ((fI h x0 3111) - 1) → Q (.returned (some (.int x1))) h2)
set_option maxRecDepth 100000 in
theorem uX12_parseE_50 {G : xG} {fr lo : Nat} {x0 : Nat} {x1 : Int32} {h : xH} {Q : Outcome → xH → Prop} (hq : bX12_parseE_50 G fr lo x0 x1 h Q) : xP G YX12_parseE fr lo 50 [(0, rv x0), (1, .int x1)] [] h Q := by
  unfold bX12_parseE_50 at hq
  refine x_aload_n 0 dX12_parseE_50 rfl ?_
  refine x_dup dX12_parseE_51 (rv_cat _) ?_
  obtain ⟨g1, hq⟩ := hq
  refine x_get (v := .int (fI h x0 3111)) fdX12_451 dX12_parseE_52 g1 rfl ?_
  refine x_iconst (v := 1) dX12_parseE_55 (by decide) ?_
  refine x_isub dX12_parseE_56 ?_
  obtain ⟨h2, e3⟩ : ∃ y, y = sI h x0 3111 ((fI h x0 3111) - 1) := ⟨_, rfl⟩
  replace hq := hq h2 e3
  refine x_putI fdX12_451 xty_I1 dX12_parseE_57 g1 (Or.inl (by rw [g1]; rfl)) xnI rfl e3 ?_
  refine x_iload_n 1 dX12_parseE_60 rfl ?_
  exact x_iret rfl rfl dX12_parseE_61 hq
set_option maxRecDepth 100000 in
def bX12_parseE (G : xG) (fr lo : Nat) (x0 : Nat) (h : xH) (Q : Outcome → xH → Prop) : Prop := tg h x0 = 13 ∧ 1 ≤ fr ∧ 12 ≤ lo ∧ xRv G YX12_enter (fr - 1) (lo - 12) [rv x0] h (fun h4 => xext h h4 → 1 ≤ fr ∧ 14 ≤ lo ∧ xRi G YX12_now (fr - 1) (lo - 14) [rv x0] h4 (fun x11 h10 => xext h4 h10 → 1 ≤ fr ∧ 15 ≤ lo ∧ xRi G YX12_node (fr - 1) (lo - 15) [rv x0, .int 50, .int x11] h10 (fun x17 h16 => xext h10 h16 → 1 ≤ fr ∧ 17 ≤ lo ∧ xRi G YX12_parseSum (fr - 1) (lo - 17) [rv x0] h16 (fun x23 h22 => xext h16 h22 → 1 ≤ fr ∧ 14 ≤ lo ∧ xRv G YX12_add (fr - 1) (lo - 14) [rv x0, .int x17, .int x23] h22 (fun h28 => xext h22 h28 → 1 ≤ fr ∧ 12 ≤ lo ∧ xRi G YX12_seesRelation (fr - 1) (lo - 12) [rv x0] h28 (fun x35 h34 => xext h28 h34 → ((x35 = 0 → bX12_parseE_50 G fr lo x0 x17 h34 Q) ∧ (¬ x35 = 0 → 1 ≤ fr ∧ 15 ≤ lo ∧ xRi G YX12_take (fr - 1) (lo - 15) [rv x0] h34 (fun x42 h41 => xext h34 h41 → tg h41 (fR h34 x0 3106) = 100 ∧ vp_in x17 (ln h41 (fR h34 x0 3106)) ∧ (∀ h46 : xH, h46 = tI h41 (fR h34 x0 3106) (Int32.toNatClampNeg x17) x42 → 1 ≤ fr ∧ 17 ≤ lo ∧ xRi G YX12_parseSum (fr - 1) (lo - 17) [rv x0] h46 (fun x53 h52 => xext h46 h52 → 1 ≤ fr ∧ 14 ≤ lo ∧ xRv G YX12_add (fr - 1) (lo - 14) [rv x0, .int x17, .int x53] h52 (fun h58 => xext h52 h58 → bX12_parseE_50 G fr lo x0 x17 h58 Q) (fun r h2 => Q (.threw r) h2)) (fun r h2 => Q (.threw r) h2))) (fun r h2 => Q (.threw r) h2)))) (fun r h2 => Q (.threw r) h2)) (fun r h2 => Q (.threw r) h2)) (fun r h2 => Q (.threw r) h2)) (fun r h2 => Q (.threw r) h2)) (fun r h2 => Q (.threw r) h2)) (fun r h2 => Q (.threw r) h2)
set_option maxRecDepth 100000 in
theorem uX12_parseE {G : xG} {fr lo : Nat} {x0 : Nat} {h : xH} {Q : Outcome → xH → Prop} (hq : bX12_parseE G fr lo x0 h Q) : xP G YX12_parseE fr lo 0 [(0, rv x0)] [] h Q := by
  unfold bX12_parseE at hq
  refine x_aload_n 0 dX12_parseE_0 rfl ?_
  obtain ⟨g1, hq⟩ := hq
  obtain ⟨g2, g3, hq⟩ := hq
  refine x_callV (Yc := YX12_enter) (as := []) (st := []) q3818 mvX12_enter g1 rfl dX12_parseE_1 (xle (xal1 (rv_cat _) xal0) (by decide)) (xfr g2) (xlo xsw0 (by decide) g3) (xKv hq (fun h4 hq e6 => ?_) (fun _ _ q _ => q))
  replace hq := hq e6
  refine x_aload_n 0 dX12_parseE_4 rfl ?_
  refine x_bipush (v := 50) dX12_parseE_5 (by decide) ?_
  refine x_aload_n 0 dX12_parseE_7 rfl ?_
  have t7 : tg h4 x0 = 13 := e6.tg g1 (by decide)
  obtain ⟨g8, g9, hq⟩ := hq
  refine x_callV (Yc := YX12_now) (as := []) (st := [.int 50, rv x0]) q3790 mvX12_now t7 rfl dX12_parseE_8 (xle (xal1 (rv_cat _) xal0) (by decide)) (xfr g8) (xlo (xsw1 rfl (xsw1 (rv_cat _) xsw0)) (by decide) g9) (xKi hq (fun x11 h10 hq e12 => ?_) (fun _ _ q _ => q))
  replace hq := hq e12
  have t13 : tg h10 x0 = 13 := e12.tg t7 (by decide)
  obtain ⟨g14, g15, hq⟩ := hq
  refine x_callV (Yc := YX12_node) (as := [.int 50, .int x11]) (st := []) q3798 mvX12_node t13 rfl dX12_parseE_11 (xle (xal1 (rv_cat _) (xal1 rfl (xal1 rfl xal0))) (by decide)) (xfr g14) (xlo xsw0 (by decide) g15) (xKi hq (fun x17 h16 hq e18 => ?_) (fun _ _ q _ => q))
  replace hq := hq e18
  refine x_istore_n (lv' := [(1, .int x17), (0, rv x0)]) dX12_parseE_14 (by decide) (by first | rfl | (simp [rv_cat, Value.category]; done) | (simp [rv_cat, Value.category]; decide)) ?_
  refine x_aload_n 1 dX12_parseE_15 rfl ?_
  refine x_iload_n 0 dX12_parseE_16 rfl ?_
  refine x_aload_n 1 dX12_parseE_17 rfl ?_
  have t19 : tg h16 x0 = 13 := e18.tg t13 (by decide)
  obtain ⟨g20, g21, hq⟩ := hq
  refine x_callV (Yc := YX12_parseSum) (as := []) (st := [.int x17, rv x0]) q3878 mvX12_parseSum t19 rfl dX12_parseE_18 (xle (xal1 (rv_cat _) xal0) (by decide)) (xfr g20) (xlo (xsw1 rfl (xsw1 (rv_cat _) xsw0)) (by decide) g21) (xKi hq (fun x23 h22 hq e24 => ?_) (fun _ _ q _ => q))
  replace hq := hq e24
  have t25 : tg h22 x0 = 13 := e24.tg t19 (by decide)
  obtain ⟨g26, g27, hq⟩ := hq
  refine x_callV (Yc := YX12_add) (as := [.int x17, .int x23]) (st := []) q3810 mvX12_add t25 rfl dX12_parseE_21 (xle (xal1 (rv_cat _) (xal1 rfl (xal1 rfl xal0))) (by decide)) (xfr g26) (xlo xsw0 (by decide) g27) (xKv hq (fun h28 hq e30 => ?_) (fun _ _ q _ => q))
  replace hq := hq e30
  refine x_aload_n 1 dX12_parseE_24 rfl ?_
  have t31 : tg h28 x0 = 13 := e30.tg t25 (by decide)
  obtain ⟨g32, g33, hq⟩ := hq
  refine x_callV (Yc := YX12_seesRelation) (as := []) (st := []) q3902 mvX12_seesRelation t31 rfl dX12_parseE_25 (xle (xal1 (rv_cat _) xal0) (by decide)) (xfr g32) (xlo xsw0 (by decide) g33) (xKi hq (fun x35 h34 hq e36 => ?_) (fun _ _ q _ => q))
  replace hq := hq e36
  refine x_if_eq (tgt := 50) dX12_parseE_28 (by decide) (fun c37 => ?_) (fun c37 => ?_)
  · replace hq := hq.1 c37
    refine xP.pick (lv' := [(0, rv x0), (1, .int x17)]) [1, 0] rfl ?_
    exact uX12_parseE_50 hq
  · replace hq := hq.2 c37
    refine x_aload_n 1 dX12_parseE_31 rfl ?_
    have t38 : tg h34 x0 = 13 := e36.tg t31 (by decide)
    refine x_get (v := rv (fR h34 x0 3106)) fdX12_82 dX12_parseE_32 t38 rfl ?_
    refine x_iload_n 0 dX12_parseE_35 rfl ?_
    refine x_aload_n 1 dX12_parseE_36 rfl ?_
    obtain ⟨g39, g40, hq⟩ := hq
    refine x_callV (Yc := YX12_take) (as := []) (st := [.int x17, rv (fR h34 x0 3106)]) q3794 mvX12_take t38 rfl dX12_parseE_37 (xle (xal1 (rv_cat _) xal0) (by decide)) (xfr g39) (xlo (xsw1 rfl (xsw1 (rv_cat _) xsw0)) (by decide) g40) (xKi hq (fun x42 h41 hq e43 => ?_) (fun _ _ q _ => q))
    replace hq := hq e43
    obtain ⟨g44, hq⟩ := hq
    obtain ⟨i45, hq⟩ := hq
    obtain ⟨h46, e47⟩ : ∃ y, y = tI h41 (fR h34 x0 3106) (Int32.toNatClampNeg x17) x42 := ⟨_, rfl⟩
    replace hq := hq h46 e47
    refine x_iast' g44 i45 dX12_parseE_40 e47 ?_
    refine x_aload_n 1 dX12_parseE_41 rfl ?_
    refine x_iload_n 0 dX12_parseE_42 rfl ?_
    refine x_aload_n 1 dX12_parseE_43 rfl ?_
    have t48 : tg h41 x0 = 13 := e43.tg t38 (by decide)
    have t49 : tg h46 x0 = 13 := by rw [e47]; exact t48
    obtain ⟨g50, g51, hq⟩ := hq
    refine x_callV (Yc := YX12_parseSum) (as := []) (st := [.int x17, rv x0]) q3878 mvX12_parseSum t49 rfl dX12_parseE_44 (xle (xal1 (rv_cat _) xal0) (by decide)) (xfr g50) (xlo (xsw1 rfl (xsw1 (rv_cat _) xsw0)) (by decide) g51) (xKi hq (fun x53 h52 hq e54 => ?_) (fun _ _ q _ => q))
    replace hq := hq e54
    have t55 : tg h52 x0 = 13 := e54.tg t49 (by decide)
    obtain ⟨g56, g57, hq⟩ := hq
    refine x_callV (Yc := YX12_add) (as := [.int x17, .int x53]) (st := []) q3810 mvX12_add t55 rfl dX12_parseE_47 (xle (xal1 (rv_cat _) (xal1 rfl (xal1 rfl xal0))) (by decide)) (xfr g56) (xlo xsw0 (by decide) g57) (xKv hq (fun h58 hq e60 => ?_) (fun _ _ q _ => q))
    replace hq := hq e60
    refine xP.pick (lv' := [(0, rv x0), (1, .int x17)]) [1, 0] rfl ?_
    exact uX12_parseE_50 hq
theorem rX12_parseE {G : xG} {fr lo : Nat} {x0 : Nat} {h : xH} {Q : Outcome → xH → Prop} (hq : bX12_parseE G fr lo x0 h Q) : xR G YX12_parseE fr lo [rv x0] h Q := by
  show xP _ _ _ _ _ (lv_args 0 _) _ _ _
  rw [show lv_args 0 [rv x0] = [(0, rv x0)] from (xla1 (rv_cat _) xla0)]
  exact uX12_parseE hq
set_option maxRecDepth 100000 in
theorem dX12_parseSum_0 : decode cX12_parseSum 0 = .ok (.aload_n 0, 1) := by decide +kernel
set_option maxRecDepth 100000 in
theorem dX12_parseSum_1 : decode cX12_parseSum 1 = .ok (.bipush 51, 2) := by decide +kernel
set_option maxRecDepth 100000 in
theorem dX12_parseSum_3 : decode cX12_parseSum 3 = .ok (.aload_n 0, 1) := by decide +kernel
set_option maxRecDepth 100000 in
theorem dX12_parseSum_4 : decode cX12_parseSum 4 = .ok (.invokevirtual 445, 3) := by decide +kernel
set_option maxRecDepth 100000 in
theorem dX12_parseSum_7 : decode cX12_parseSum 7 = .ok (.invokevirtual 454, 3) := by decide +kernel
set_option maxRecDepth 100000 in
theorem dX12_parseSum_10 : decode cX12_parseSum 10 = .ok (.istore_n 1, 1) := by decide +kernel
set_option maxRecDepth 100000 in
theorem dX12_parseSum_11 : decode cX12_parseSum 11 = .ok (.aload_n 0, 1) := by decide +kernel
set_option maxRecDepth 100000 in
theorem dX12_parseSum_12 : decode cX12_parseSum 12 = .ok (.bipush 50, 2) := by decide +kernel
set_option maxRecDepth 100000 in
theorem dX12_parseSum_14 : decode cX12_parseSum 14 = .ok (.invokevirtual 439, 3) := by decide +kernel
set_option maxRecDepth 100000 in
theorem dX12_parseSum_17 : decode cX12_parseSum 17 = .ok (.ifCond .ne 12, 3) := by decide +kernel
set_option maxRecDepth 100000 in
theorem dX12_parseSum_20 : decode cX12_parseSum 20 = .ok (.aload_n 0, 1) := by decide +kernel
set_option maxRecDepth 100000 in
theorem dX12_parseSum_21 : decode cX12_parseSum 21 = .ok (.bipush 51, 2) := by decide +kernel
set_option maxRecDepth 100000 in
theorem dX12_parseSum_23 : decode cX12_parseSum 23 = .ok (.invokevirtual 439, 3) := by decide +kernel
set_option maxRecDepth 100000 in
theorem dX12_parseSum_26 : decode cX12_parseSum 26 = .ok (.ifCond .eq 13, 3) := by decide +kernel
set_option maxRecDepth 100000 in
theorem dX12_parseSum_29 : decode cX12_parseSum 29 = .ok (.aload_n 0, 1) := by decide +kernel
set_option maxRecDepth 100000 in
theorem dX12_parseSum_30 : decode cX12_parseSum 30 = .ok (.getfield 82, 3) := by decide +kernel
set_option maxRecDepth 100000 in
theorem dX12_parseSum_33 : decode cX12_parseSum 33 = .ok (.iload_n 1, 1) := by decide +kernel
set_option maxRecDepth 100000 in
theorem dX12_parseSum_34 : decode cX12_parseSum 34 = .ok (.aload_n 0, 1) := by decide +kernel
set_option maxRecDepth 100000 in
theorem dX12_parseSum_35 : decode cX12_parseSum 35 = .ok (.invokevirtual 442, 3) := by decide +kernel
set_option maxRecDepth 100000 in
theorem dX12_parseSum_38 : decode cX12_parseSum 38 = .ok (.iastore, 1) := by decide +kernel
set_option maxRecDepth 100000 in
theorem dX12_parseSum_39 : decode cX12_parseSum 39 = .ok (.aload_n 0, 1) := by decide +kernel
set_option maxRecDepth 100000 in
theorem dX12_parseSum_40 : decode cX12_parseSum 40 = .ok (.iload_n 1, 1) := by decide +kernel
set_option maxRecDepth 100000 in
theorem dX12_parseSum_41 : decode cX12_parseSum 41 = .ok (.aload_n 0, 1) := by decide +kernel
set_option maxRecDepth 100000 in
theorem dX12_parseSum_42 : decode cX12_parseSum 42 = .ok (.invokevirtual 542, 3) := by decide +kernel
set_option maxRecDepth 100000 in
theorem dX12_parseSum_45 : decode cX12_parseSum 45 = .ok (.invokevirtual 460, 3) := by decide +kernel
set_option maxRecDepth 100000 in
theorem dX12_parseSum_48 : decode cX12_parseSum 48 = .ok (.aload_n 0, 1) := by decide +kernel
set_option maxRecDepth 100000 in
theorem dX12_parseSum_49 : decode cX12_parseSum 49 = .ok (.bipush 50, 2) := by decide +kernel
set_option maxRecDepth 100000 in
theorem dX12_parseSum_51 : decode cX12_parseSum 51 = .ok (.invokevirtual 439, 3) := by decide +kernel
set_option maxRecDepth 100000 in
theorem dX12_parseSum_54 : decode cX12_parseSum 54 = .ok (.ifCond .ne 21, 3) := by decide +kernel
set_option maxRecDepth 100000 in
theorem dX12_parseSum_57 : decode cX12_parseSum 57 = .ok (.aload_n 0, 1) := by decide +kernel
set_option maxRecDepth 100000 in
theorem dX12_parseSum_58 : decode cX12_parseSum 58 = .ok (.bipush 51, 2) := by decide +kernel
set_option maxRecDepth 100000 in
theorem dX12_parseSum_60 : decode cX12_parseSum 60 = .ok (.invokevirtual 439, 3) := by decide +kernel
set_option maxRecDepth 100000 in
theorem dX12_parseSum_63 : decode cX12_parseSum 63 = .ok (.ifCond .ne 12, 3) := by decide +kernel
set_option maxRecDepth 100000 in
theorem dX12_parseSum_66 : decode cX12_parseSum 66 = .ok (.aload_n 0, 1) := by decide +kernel
set_option maxRecDepth 100000 in
theorem dX12_parseSum_67 : decode cX12_parseSum 67 = .ok (.bipush 22, 2) := by decide +kernel
set_option maxRecDepth 100000 in
theorem dX12_parseSum_69 : decode cX12_parseSum 69 = .ok (.invokevirtual 439, 3) := by decide +kernel
set_option maxRecDepth 100000 in
theorem dX12_parseSum_72 : decode cX12_parseSum 72 = .ok (.ifCond .eq 29, 3) := by decide +kernel
set_option maxRecDepth 100000 in
theorem dX12_parseSum_75 : decode cX12_parseSum 75 = .ok (.aload_n 0, 1) := by decide +kernel
set_option maxRecDepth 100000 in
theorem dX12_parseSum_76 : decode cX12_parseSum 76 = .ok (.invokevirtual 442, 3) := by decide +kernel
set_option maxRecDepth 100000 in
theorem dX12_parseSum_79 : decode cX12_parseSum 79 = .ok (.istore_n 2, 1) := by decide +kernel
set_option maxRecDepth 100000 in
theorem dX12_parseSum_80 : decode cX12_parseSum 80 = .ok (.aload_n 0, 1) := by decide +kernel
set_option maxRecDepth 100000 in
theorem dX12_parseSum_81 : decode cX12_parseSum 81 = .ok (.invokevirtual 542, 3) := by decide +kernel
set_option maxRecDepth 100000 in
theorem dX12_parseSum_84 : decode cX12_parseSum 84 = .ok (.istore_n 3, 1) := by decide +kernel
set_option maxRecDepth 100000 in
theorem dX12_parseSum_85 : decode cX12_parseSum 85 = .ok (.aload_n 0, 1) := by decide +kernel
set_option maxRecDepth 100000 in
theorem dX12_parseSum_86 : decode cX12_parseSum 86 = .ok (.getfield 88, 3) := by decide +kernel
set_option maxRecDepth 100000 in
theorem dX12_parseSum_89 : decode cX12_parseSum 89 = .ok (.iload_n 3, 1) := by decide +kernel
set_option maxRecDepth 100000 in
theorem dX12_parseSum_90 : decode cX12_parseSum 90 = .ok (.iload_n 2, 1) := by decide +kernel
set_option maxRecDepth 100000 in
theorem dX12_parseSum_91 : decode cX12_parseSum 91 = .ok (.iastore, 1) := by decide +kernel
set_option maxRecDepth 100000 in
theorem dX12_parseSum_92 : decode cX12_parseSum 92 = .ok (.aload_n 0, 1) := by decide +kernel
set_option maxRecDepth 100000 in
theorem dX12_parseSum_93 : decode cX12_parseSum 93 = .ok (.iload_n 1, 1) := by decide +kernel
set_option maxRecDepth 100000 in
theorem dX12_parseSum_94 : decode cX12_parseSum 94 = .ok (.iload_n 3, 1) := by decide +kernel
set_option maxRecDepth 100000 in
theorem dX12_parseSum_95 : decode cX12_parseSum 95 = .ok (.invokevirtual 460, 3) := by decide +kernel
set_option maxRecDepth 100000 in
theorem dX12_parseSum_98 : decode cX12_parseSum 98 = .ok (.goto (-50), 3) := by decide +kernel
set_option maxRecDepth 100000 in
theorem dX12_parseSum_101 : decode cX12_parseSum 101 = .ok (.iload_n 1, 1) := by decide +kernel
set_option maxRecDepth 100000 in
theorem dX12_parseSum_102 : decode cX12_parseSum 102 = .ok (.ireturn, 1) := by decide +kernel
def lX12_parseSum_48 (G : xG) (fr lo : Nat) (x0 : Nat) (x1 : Int32) (h : xH) (Q : Outcome → xH → Prop) : Prop := xP G YX12_parseSum fr lo 48 [(0, rv x0), (1, .int x1)] [] h Q
set_option maxRecDepth 100000 in
def bX12_parseSum_75 (G : xG) (fr lo : Nat) (x0 : Nat) (x1 : Int32) (h : xH) (Q : Outcome → xH → Prop) : Prop := tg h x0 = 13 ∧ 1 ≤ fr ∧ 13 ≤ lo ∧ xRi G YX12_take (fr - 1) (lo - 13) [rv x0] h (fun x5 h4 => xext h h4 → 1 ≤ fr ∧ 15 ≤ lo ∧ xRi G YX12_parseTerm (fr - 1) (lo - 15) [rv x0] h4 (fun x11 h10 => xext h4 h10 → tg h10 (fR h10 x0 3108) = 100 ∧ vp_in x11 (ln h10 (fR h10 x0 3108)) ∧ (∀ h16 : xH, h16 = tI h10 (fR h10 x0 3108) (Int32.toNatClampNeg x11) x5 → 1 ≤ fr ∧ 14 ≤ lo ∧ xRv G YX12_add (fr - 1) (lo - 14) [rv x0, .int x1, .int x11] h16 (fun h21 => xext h16 h21 → lX12_parseSum_48 G fr lo x0 x1 h21 Q) (fun r h2 => Q (.threw r) h2))) (fun r h2 => Q (.threw r) h2)) (fun r h2 => Q (.threw r) h2)
set_option maxRecDepth 100000 in
theorem uX12_parseSum_75 {G : xG} {fr lo : Nat} {x0 : Nat} {x1 : Int32} {h : xH} {Q : Outcome → xH → Prop} (hq : bX12_parseSum_75 G fr lo x0 x1 h Q) : xP G YX12_parseSum fr lo 75 [(0, rv x0), (1, .int x1)] [] h Q := by
  unfold bX12_parseSum_75 at hq
  refine x_aload_n 0 dX12_parseSum_75 rfl ?_
  obtain ⟨g1, hq⟩ := hq
  obtain ⟨g2, g3, hq⟩ := hq
  refine x_callV (Yc := YX12_take) (as := []) (st := []) q3794 mvX12_take g1 rfl dX12_parseSum_76 (xle (xal1 (rv_cat _) xal0) (by decide)) (xfr g2) (xlo xsw0 (by decide) g3) (xKi hq (fun x5 h4 hq e6 => ?_) (fun _ _ q _ => q))
  replace hq := hq e6
  refine x_istore_n (lv' := [(2, .int x5), (0, rv x0), (1, .int x1)]) dX12_parseSum_79 (by decide) rfl ?_
  refine x_aload_n 1 dX12_parseSum_80 rfl ?_
  have t7 : tg h4 x0 = 13 := e6.tg g1 (by decide)
  obtain ⟨g8, g9, hq⟩ := hq
  refine x_callV (Yc := YX12_parseTerm) (as := []) (st := []) q3882 mvX12_parseTerm t7 rfl dX12_parseSum_81 (xle (xal1 (rv_cat _) xal0) (by decide)) (xfr g8) (xlo xsw0 (by decide) g9) (xKi hq (fun x11 h10 hq e12 => ?_) (fun _ _ q _ => q))
  replace hq := hq e12
  refine x_istore_n (lv' := [(3, .int x11), (2, .int x5), (0, rv x0), (1, .int x1)]) dX12_parseSum_84 (by decide) rfl ?_
  refine x_aload_n 2 dX12_parseSum_85 rfl ?_
  have t13 : tg h10 x0 = 13 := e12.tg t7 (by decide)
  refine x_get (v := rv (fR h10 x0 3108)) fdX12_88 dX12_parseSum_86 t13 rfl ?_
  refine x_iload_n 0 dX12_parseSum_89 rfl ?_
  refine x_iload_n 1 dX12_parseSum_90 rfl ?_
  obtain ⟨g14, hq⟩ := hq
  obtain ⟨i15, hq⟩ := hq
  obtain ⟨h16, e17⟩ : ∃ y, y = tI h10 (fR h10 x0 3108) (Int32.toNatClampNeg x11) x5 := ⟨_, rfl⟩
  replace hq := hq h16 e17
  refine x_iast' g14 i15 dX12_parseSum_91 e17 ?_
  refine x_aload_n 2 dX12_parseSum_92 rfl ?_
  refine x_iload_n 3 dX12_parseSum_93 rfl ?_
  refine x_iload_n 0 dX12_parseSum_94 rfl ?_
  have t18 : tg h16 x0 = 13 := by rw [e17]; exact t13
  obtain ⟨g19, g20, hq⟩ := hq
  refine x_callV (Yc := YX12_add) (as := [.int x1, .int x11]) (st := []) q3810 mvX12_add t18 rfl dX12_parseSum_95 (xle (xal1 (rv_cat _) (xal1 rfl (xal1 rfl xal0))) (by decide)) (xfr g19) (xlo xsw0 (by decide) g20) (xKv hq (fun h21 hq e23 => ?_) (fun _ _ q _ => q))
  replace hq := hq e23
  refine x_goto (tgt := 48) dX12_parseSum_98 (by decide) ?_
  refine xP.pick (lv' := [(0, rv x0), (1, .int x1)]) [2, 3] rfl ?_
  exact hq
set_option maxRecDepth 100000 in
def bX12_parseSum_48 (G : xG) (fr lo : Nat) (x0 : Nat) (x1 : Int32) (h : xH) (Q : Outcome → xH → Prop) : Prop := tg h x0 = 13 ∧ 1 ≤ fr ∧ 13 ≤ lo ∧ xRi G YX12_sees (fr - 1) (lo - 13) [rv x0, .int 50] h (fun x5 h4 => xext h h4 → ((¬ x5 = 0 → bX12_parseSum_75 G fr lo x0 x1 h4 Q) ∧ (x5 = 0 → 1 ≤ fr ∧ 13 ≤ lo ∧ xRi G YX12_sees (fr - 1) (lo - 13) [rv x0, .int 51] h4 (fun x12 h11 => xext h4 h11 → ((¬ x12 = 0 → bX12_parseSum_75 G fr lo x0 x1 h11 Q) ∧ (x12 = 0 → 1 ≤ fr ∧ 13 ≤ lo ∧ xRi G YX12_sees (fr - 1) (lo - 13) [rv x0, .int 22] h11 (fun x19 h18 => xext h11 h18 → ((x19 = 0 → Q (.returned (some (.int x1))) h18) ∧ (¬ x19 = 0 → bX12_parseSum_75 G fr lo x0 x1 h18 Q))) (fun r h2 => Q (.threw r) h2)))) (fun r h2 => Q (.threw r) h2)))) (fun r h2 => Q (.threw r) h2)
set_option maxRecDepth 100000 in
theorem uX12_parseSum_48 {G : xG} {fr lo : Nat} {x0 : Nat} {x1 : Int32} {h : xH} {Q : Outcome → xH → Prop} (hq : bX12_parseSum_48 G fr lo x0 x1 h Q) : xP G YX12_parseSum fr lo 48 [(0, rv x0), (1, .int x1)] [] h Q := by
  unfold bX12_parseSum_48 at hq
  refine x_aload_n 0 dX12_parseSum_48 rfl ?_
  refine x_bipush (v := 50) dX12_parseSum_49 (by decide) ?_
  obtain ⟨g1, hq⟩ := hq
  obtain ⟨g2, g3, hq⟩ := hq
  refine x_callV (Yc := YX12_sees) (as := [.int 50]) (st := []) q3782 mvX12_sees g1 rfl dX12_parseSum_51 (xle (xal1 (rv_cat _) (xal1 rfl xal0)) (by decide)) (xfr g2) (xlo xsw0 (by decide) g3) (xKi hq (fun x5 h4 hq e6 => ?_) (fun _ _ q _ => q))
  replace hq := hq e6
  refine x_if_ne (tgt := 75) dX12_parseSum_54 (by decide) (fun c7 => ?_) (fun c7 => ?_)
  · replace hq := hq.1 c7
    exact uX12_parseSum_75 hq
  · replace hq := hq.2 c7
    refine x_aload_n 0 dX12_parseSum_57 rfl ?_
    refine x_bipush (v := 51) dX12_parseSum_58 (by decide) ?_
    have t8 : tg h4 x0 = 13 := e6.tg g1 (by decide)
    obtain ⟨g9, g10, hq⟩ := hq
    refine x_callV (Yc := YX12_sees) (as := [.int 51]) (st := []) q3782 mvX12_sees t8 rfl dX12_parseSum_60 (xle (xal1 (rv_cat _) (xal1 rfl xal0)) (by decide)) (xfr g9) (xlo xsw0 (by decide) g10) (xKi hq (fun x12 h11 hq e13 => ?_) (fun _ _ q _ => q))
    replace hq := hq e13
    refine x_if_ne (tgt := 75) dX12_parseSum_63 (by decide) (fun c14 => ?_) (fun c14 => ?_)
    · replace hq := hq.1 c14
      exact uX12_parseSum_75 hq
    · replace hq := hq.2 c14
      refine x_aload_n 0 dX12_parseSum_66 rfl ?_
      refine x_bipush (v := 22) dX12_parseSum_67 (by decide) ?_
      have t15 : tg h11 x0 = 13 := e13.tg t8 (by decide)
      obtain ⟨g16, g17, hq⟩ := hq
      refine x_callV (Yc := YX12_sees) (as := [.int 22]) (st := []) q3782 mvX12_sees t15 rfl dX12_parseSum_69 (xle (xal1 (rv_cat _) (xal1 rfl xal0)) (by decide)) (xfr g16) (xlo xsw0 (by decide) g17) (xKi hq (fun x19 h18 hq e20 => ?_) (fun _ _ q _ => q))
      replace hq := hq e20
      refine x_if_eq (tgt := 101) dX12_parseSum_72 (by decide) (fun c21 => ?_) (fun c21 => ?_)
      · replace hq := hq.1 c21
        refine x_iload_n 1 dX12_parseSum_101 rfl ?_
        exact x_iret rfl rfl dX12_parseSum_102 hq
      · replace hq := hq.2 c21
        exact uX12_parseSum_75 hq
set_option maxRecDepth 100000 in
def bX12_parseSum_39 (G : xG) (fr lo : Nat) (x0 : Nat) (x1 : Int32) (h : xH) (Q : Outcome → xH → Prop) : Prop := tg h x0 = 13 ∧ 1 ≤ fr ∧ 17 ≤ lo ∧ xRi G YX12_parseTerm (fr - 1) (lo - 17) [rv x0] h (fun x5 h4 => xext h h4 → 1 ≤ fr ∧ 14 ≤ lo ∧ xRv G YX12_add (fr - 1) (lo - 14) [rv x0, .int x1, .int x5] h4 (fun h10 => xext h4 h10 → lX12_parseSum_48 G fr lo x0 x1 h10 Q) (fun r h2 => Q (.threw r) h2)) (fun r h2 => Q (.threw r) h2)
set_option maxRecDepth 100000 in
theorem uX12_parseSum_39 {G : xG} {fr lo : Nat} {x0 : Nat} {x1 : Int32} {h : xH} {Q : Outcome → xH → Prop} (hq : bX12_parseSum_39 G fr lo x0 x1 h Q) : xP G YX12_parseSum fr lo 39 [(0, rv x0), (1, .int x1)] [] h Q := by
  unfold bX12_parseSum_39 at hq
  refine x_aload_n 0 dX12_parseSum_39 rfl ?_
  refine x_iload_n 1 dX12_parseSum_40 rfl ?_
  refine x_aload_n 0 dX12_parseSum_41 rfl ?_
  obtain ⟨g1, hq⟩ := hq
  obtain ⟨g2, g3, hq⟩ := hq
  refine x_callV (Yc := YX12_parseTerm) (as := []) (st := [.int x1, rv x0]) q3882 mvX12_parseTerm g1 rfl dX12_parseSum_42 (xle (xal1 (rv_cat _) xal0) (by decide)) (xfr g2) (xlo (xsw1 rfl (xsw1 (rv_cat _) xsw0)) (by decide) g3) (xKi hq (fun x5 h4 hq e6 => ?_) (fun _ _ q _ => q))
  replace hq := hq e6
  have t7 : tg h4 x0 = 13 := e6.tg g1 (by decide)
  obtain ⟨g8, g9, hq⟩ := hq
  refine x_callV (Yc := YX12_add) (as := [.int x1, .int x5]) (st := []) q3810 mvX12_add t7 rfl dX12_parseSum_45 (xle (xal1 (rv_cat _) (xal1 rfl (xal1 rfl xal0))) (by decide)) (xfr g8) (xlo xsw0 (by decide) g9) (xKv hq (fun h10 hq e12 => ?_) (fun _ _ q _ => q))
  replace hq := hq e12
  exact hq
set_option maxRecDepth 100000 in
def bX12_parseSum_29 (G : xG) (fr lo : Nat) (x0 : Nat) (x1 : Int32) (h : xH) (Q : Outcome → xH → Prop) : Prop := tg h x0 = 13 ∧ 1 ≤ fr ∧ 15 ≤ lo ∧ xRi G YX12_take (fr - 1) (lo - 15) [rv x0] h (fun x5 h4 => xext h h4 → tg h4 (fR h x0 3106) = 100 ∧ vp_in x1 (ln h4 (fR h x0 3106)) ∧ (∀ h9 : xH, h9 = tI h4 (fR h x0 3106) (Int32.toNatClampNeg x1) x5 → bX12_parseSum_39 G fr lo x0 x1 h9 Q)) (fun r h2 => Q (.threw r) h2)
set_option maxRecDepth 100000 in
theorem uX12_parseSum_29 {G : xG} {fr lo : Nat} {x0 : Nat} {x1 : Int32} {h : xH} {Q : Outcome → xH → Prop} (hq : bX12_parseSum_29 G fr lo x0 x1 h Q) : xP G YX12_parseSum fr lo 29 [(0, rv x0), (1, .int x1)] [] h Q := by
  unfold bX12_parseSum_29 at hq
  refine x_aload_n 0 dX12_parseSum_29 rfl ?_
  obtain ⟨g1, hq⟩ := hq
  refine x_get (v := rv (fR h x0 3106)) fdX12_82 dX12_parseSum_30 g1 rfl ?_
  refine x_iload_n 1 dX12_parseSum_33 rfl ?_
  refine x_aload_n 0 dX12_parseSum_34 rfl ?_
  obtain ⟨g2, g3, hq⟩ := hq
  refine x_callV (Yc := YX12_take) (as := []) (st := [.int x1, rv (fR h x0 3106)]) q3794 mvX12_take g1 rfl dX12_parseSum_35 (xle (xal1 (rv_cat _) xal0) (by decide)) (xfr g2) (xlo (xsw1 rfl (xsw1 (rv_cat _) xsw0)) (by decide) g3) (xKi hq (fun x5 h4 hq e6 => ?_) (fun _ _ q _ => q))
  replace hq := hq e6
  obtain ⟨g7, hq⟩ := hq
  obtain ⟨i8, hq⟩ := hq
  obtain ⟨h9, e10⟩ : ∃ y, y = tI h4 (fR h x0 3106) (Int32.toNatClampNeg x1) x5 := ⟨_, rfl⟩
  replace hq := hq h9 e10
  refine x_iast' g7 i8 dX12_parseSum_38 e10 ?_
  exact uX12_parseSum_39 hq
set_option maxRecDepth 100000 in
def bX12_parseSum (G : xG) (fr lo : Nat) (x0 : Nat) (h : xH) (Q : Outcome → xH → Prop) : Prop := tg h x0 = 13 ∧ 1 ≤ fr ∧ 14 ≤ lo ∧ xRi G YX12_now (fr - 1) (lo - 14) [rv x0] h (fun x5 h4 => xext h h4 → 1 ≤ fr ∧ 15 ≤ lo ∧ xRi G YX12_node (fr - 1) (lo - 15) [rv x0, .int 51, .int x5] h4 (fun x11 h10 => xext h4 h10 → 1 ≤ fr ∧ 13 ≤ lo ∧ xRi G YX12_sees (fr - 1) (lo - 13) [rv x0, .int 50] h10 (fun x17 h16 => xext h10 h16 → ((¬ x17 = 0 → bX12_parseSum_29 G fr lo x0 x11 h16 Q) ∧ (x17 = 0 → 1 ≤ fr ∧ 13 ≤ lo ∧ xRi G YX12_sees (fr - 1) (lo - 13) [rv x0, .int 51] h16 (fun x24 h23 => xext h16 h23 → ((x24 = 0 → bX12_parseSum_39 G fr lo x0 x11 h23 Q) ∧ (¬ x24 = 0 → bX12_parseSum_29 G fr lo x0 x11 h23 Q))) (fun r h2 => Q (.threw r) h2)))) (fun r h2 => Q (.threw r) h2)) (fun r h2 => Q (.threw r) h2)) (fun r h2 => Q (.threw r) h2)
set_option maxRecDepth 100000 in
theorem uX12_parseSum {G : xG} {fr lo : Nat} {x0 : Nat} {h : xH} {Q : Outcome → xH → Prop} (hq : bX12_parseSum G fr lo x0 h Q) : xP G YX12_parseSum fr lo 0 [(0, rv x0)] [] h Q := by
  unfold bX12_parseSum at hq
  refine x_aload_n 0 dX12_parseSum_0 rfl ?_
  refine x_bipush (v := 51) dX12_parseSum_1 (by decide) ?_
  refine x_aload_n 0 dX12_parseSum_3 rfl ?_
  obtain ⟨g1, hq⟩ := hq
  obtain ⟨g2, g3, hq⟩ := hq
  refine x_callV (Yc := YX12_now) (as := []) (st := [.int 51, rv x0]) q3790 mvX12_now g1 rfl dX12_parseSum_4 (xle (xal1 (rv_cat _) xal0) (by decide)) (xfr g2) (xlo (xsw1 rfl (xsw1 (rv_cat _) xsw0)) (by decide) g3) (xKi hq (fun x5 h4 hq e6 => ?_) (fun _ _ q _ => q))
  replace hq := hq e6
  have t7 : tg h4 x0 = 13 := e6.tg g1 (by decide)
  obtain ⟨g8, g9, hq⟩ := hq
  refine x_callV (Yc := YX12_node) (as := [.int 51, .int x5]) (st := []) q3798 mvX12_node t7 rfl dX12_parseSum_7 (xle (xal1 (rv_cat _) (xal1 rfl (xal1 rfl xal0))) (by decide)) (xfr g8) (xlo xsw0 (by decide) g9) (xKi hq (fun x11 h10 hq e12 => ?_) (fun _ _ q _ => q))
  replace hq := hq e12
  refine x_istore_n (lv' := [(1, .int x11), (0, rv x0)]) dX12_parseSum_10 (by decide) (by first | rfl | (simp [rv_cat, Value.category]; done) | (simp [rv_cat, Value.category]; decide)) ?_
  refine x_aload_n 1 dX12_parseSum_11 rfl ?_
  refine x_bipush (v := 50) dX12_parseSum_12 (by decide) ?_
  have t13 : tg h10 x0 = 13 := e12.tg t7 (by decide)
  obtain ⟨g14, g15, hq⟩ := hq
  refine x_callV (Yc := YX12_sees) (as := [.int 50]) (st := []) q3782 mvX12_sees t13 rfl dX12_parseSum_14 (xle (xal1 (rv_cat _) (xal1 rfl xal0)) (by decide)) (xfr g14) (xlo xsw0 (by decide) g15) (xKi hq (fun x17 h16 hq e18 => ?_) (fun _ _ q _ => q))
  replace hq := hq e18
  refine x_if_ne (tgt := 29) dX12_parseSum_17 (by decide) (fun c19 => ?_) (fun c19 => ?_)
  · replace hq := hq.1 c19
    refine xP.pick (lv' := [(0, rv x0), (1, .int x11)]) [1, 0] rfl ?_
    exact uX12_parseSum_29 hq
  · replace hq := hq.2 c19
    refine x_aload_n 1 dX12_parseSum_20 rfl ?_
    refine x_bipush (v := 51) dX12_parseSum_21 (by decide) ?_
    have t20 : tg h16 x0 = 13 := e18.tg t13 (by decide)
    obtain ⟨g21, g22, hq⟩ := hq
    refine x_callV (Yc := YX12_sees) (as := [.int 51]) (st := []) q3782 mvX12_sees t20 rfl dX12_parseSum_23 (xle (xal1 (rv_cat _) (xal1 rfl xal0)) (by decide)) (xfr g21) (xlo xsw0 (by decide) g22) (xKi hq (fun x24 h23 hq e25 => ?_) (fun _ _ q _ => q))
    replace hq := hq e25
    refine x_if_eq (tgt := 39) dX12_parseSum_26 (by decide) (fun c26 => ?_) (fun c26 => ?_)
    · replace hq := hq.1 c26
      refine xP.pick (lv' := [(0, rv x0), (1, .int x11)]) [1, 0] rfl ?_
      exact uX12_parseSum_39 hq
    · replace hq := hq.2 c26
      refine xP.pick (lv' := [(0, rv x0), (1, .int x11)]) [1, 0] rfl ?_
      exact uX12_parseSum_29 hq
theorem rX12_parseSum {G : xG} {fr lo : Nat} {x0 : Nat} {h : xH} {Q : Outcome → xH → Prop} (hq : bX12_parseSum G fr lo x0 h Q) : xR G YX12_parseSum fr lo [rv x0] h Q := by
  show xP _ _ _ _ _ (lv_args 0 _) _ _ _
  rw [show lv_args 0 [rv x0] = [(0, rv x0)] from (xla1 (rv_cat _) xla0)]
  exact uX12_parseSum hq
set_option maxRecDepth 100000 in
theorem dX12_parseTerm_0 : decode cX12_parseTerm 0 = .ok (.aload_n 0, 1) := by decide +kernel
set_option maxRecDepth 100000 in
theorem dX12_parseTerm_1 : decode cX12_parseTerm 1 = .ok (.bipush 52, 2) := by decide +kernel
set_option maxRecDepth 100000 in
theorem dX12_parseTerm_3 : decode cX12_parseTerm 3 = .ok (.aload_n 0, 1) := by decide +kernel
set_option maxRecDepth 100000 in
theorem dX12_parseTerm_4 : decode cX12_parseTerm 4 = .ok (.invokevirtual 445, 3) := by decide +kernel
set_option maxRecDepth 100000 in
theorem dX12_parseTerm_7 : decode cX12_parseTerm 7 = .ok (.invokevirtual 454, 3) := by decide +kernel
set_option maxRecDepth 100000 in
theorem dX12_parseTerm_10 : decode cX12_parseTerm 10 = .ok (.istore_n 1, 1) := by decide +kernel
set_option maxRecDepth 100000 in
theorem dX12_parseTerm_11 : decode cX12_parseTerm 11 = .ok (.aload_n 0, 1) := by decide +kernel
set_option maxRecDepth 100000 in
theorem dX12_parseTerm_12 : decode cX12_parseTerm 12 = .ok (.iload_n 1, 1) := by decide +kernel
set_option maxRecDepth 100000 in
theorem dX12_parseTerm_13 : decode cX12_parseTerm 13 = .ok (.aload_n 0, 1) := by decide +kernel
set_option maxRecDepth 100000 in
theorem dX12_parseTerm_14 : decode cX12_parseTerm 14 = .ok (.invokevirtual 545, 3) := by decide +kernel
set_option maxRecDepth 100000 in
theorem dX12_parseTerm_17 : decode cX12_parseTerm 17 = .ok (.invokevirtual 460, 3) := by decide +kernel
set_option maxRecDepth 100000 in
theorem dX12_parseTerm_20 : decode cX12_parseTerm 20 = .ok (.aload_n 0, 1) := by decide +kernel
set_option maxRecDepth 100000 in
theorem dX12_parseTerm_21 : decode cX12_parseTerm 21 = .ok (.bipush 52, 2) := by decide +kernel
set_option maxRecDepth 100000 in
theorem dX12_parseTerm_23 : decode cX12_parseTerm 23 = .ok (.invokevirtual 439, 3) := by decide +kernel
set_option maxRecDepth 100000 in
theorem dX12_parseTerm_26 : decode cX12_parseTerm 26 = .ok (.ifCond .ne 38, 3) := by decide +kernel
set_option maxRecDepth 100000 in
theorem dX12_parseTerm_29 : decode cX12_parseTerm 29 = .ok (.aload_n 0, 1) := by decide +kernel
set_option maxRecDepth 100000 in
theorem dX12_parseTerm_30 : decode cX12_parseTerm 30 = .ok (.bipush 53, 2) := by decide +kernel
set_option maxRecDepth 100000 in
theorem dX12_parseTerm_32 : decode cX12_parseTerm 32 = .ok (.invokevirtual 439, 3) := by decide +kernel
set_option maxRecDepth 100000 in
theorem dX12_parseTerm_35 : decode cX12_parseTerm 35 = .ok (.ifCond .ne 29, 3) := by decide +kernel
set_option maxRecDepth 100000 in
theorem dX12_parseTerm_38 : decode cX12_parseTerm 38 = .ok (.aload_n 0, 1) := by decide +kernel
set_option maxRecDepth 100000 in
theorem dX12_parseTerm_39 : decode cX12_parseTerm 39 = .ok (.bipush 6, 2) := by decide +kernel
set_option maxRecDepth 100000 in
theorem dX12_parseTerm_41 : decode cX12_parseTerm 41 = .ok (.invokevirtual 439, 3) := by decide +kernel
set_option maxRecDepth 100000 in
theorem dX12_parseTerm_44 : decode cX12_parseTerm 44 = .ok (.ifCond .ne 20, 3) := by decide +kernel
set_option maxRecDepth 100000 in
theorem dX12_parseTerm_47 : decode cX12_parseTerm 47 = .ok (.aload_n 0, 1) := by decide +kernel
set_option maxRecDepth 100000 in
theorem dX12_parseTerm_48 : decode cX12_parseTerm 48 = .ok (.bipush 18, 2) := by decide +kernel
set_option maxRecDepth 100000 in
theorem dX12_parseTerm_50 : decode cX12_parseTerm 50 = .ok (.invokevirtual 439, 3) := by decide +kernel
set_option maxRecDepth 100000 in
theorem dX12_parseTerm_53 : decode cX12_parseTerm 53 = .ok (.ifCond .ne 11, 3) := by decide +kernel
set_option maxRecDepth 100000 in
theorem dX12_parseTerm_56 : decode cX12_parseTerm 56 = .ok (.aload_n 0, 1) := by decide +kernel
set_option maxRecDepth 100000 in
theorem dX12_parseTerm_57 : decode cX12_parseTerm 57 = .ok (.iconst 1, 1) := by decide +kernel
set_option maxRecDepth 100000 in
theorem dX12_parseTerm_58 : decode cX12_parseTerm 58 = .ok (.invokevirtual 439, 3) := by decide +kernel
set_option maxRecDepth 100000 in
theorem dX12_parseTerm_61 : decode cX12_parseTerm 61 = .ok (.ifCond .eq 29, 3) := by decide +kernel
set_option maxRecDepth 100000 in
theorem dX12_parseTerm_64 : decode cX12_parseTerm 64 = .ok (.aload_n 0, 1) := by decide +kernel
set_option maxRecDepth 100000 in
theorem dX12_parseTerm_65 : decode cX12_parseTerm 65 = .ok (.invokevirtual 442, 3) := by decide +kernel
set_option maxRecDepth 100000 in
theorem dX12_parseTerm_68 : decode cX12_parseTerm 68 = .ok (.istore_n 2, 1) := by decide +kernel
set_option maxRecDepth 100000 in
theorem dX12_parseTerm_69 : decode cX12_parseTerm 69 = .ok (.aload_n 0, 1) := by decide +kernel
set_option maxRecDepth 100000 in
theorem dX12_parseTerm_70 : decode cX12_parseTerm 70 = .ok (.invokevirtual 545, 3) := by decide +kernel
set_option maxRecDepth 100000 in
theorem dX12_parseTerm_73 : decode cX12_parseTerm 73 = .ok (.istore_n 3, 1) := by decide +kernel
set_option maxRecDepth 100000 in
theorem dX12_parseTerm_74 : decode cX12_parseTerm 74 = .ok (.aload_n 0, 1) := by decide +kernel
set_option maxRecDepth 100000 in
theorem dX12_parseTerm_75 : decode cX12_parseTerm 75 = .ok (.getfield 88, 3) := by decide +kernel
set_option maxRecDepth 100000 in
theorem dX12_parseTerm_78 : decode cX12_parseTerm 78 = .ok (.iload_n 3, 1) := by decide +kernel
set_option maxRecDepth 100000 in
theorem dX12_parseTerm_79 : decode cX12_parseTerm 79 = .ok (.iload_n 2, 1) := by decide +kernel
set_option maxRecDepth 100000 in
theorem dX12_parseTerm_80 : decode cX12_parseTerm 80 = .ok (.iastore, 1) := by decide +kernel
set_option maxRecDepth 100000 in
theorem dX12_parseTerm_81 : decode cX12_parseTerm 81 = .ok (.aload_n 0, 1) := by decide +kernel
set_option maxRecDepth 100000 in
theorem dX12_parseTerm_82 : decode cX12_parseTerm 82 = .ok (.iload_n 1, 1) := by decide +kernel
set_option maxRecDepth 100000 in
theorem dX12_parseTerm_83 : decode cX12_parseTerm 83 = .ok (.iload_n 3, 1) := by decide +kernel
set_option maxRecDepth 100000 in
theorem dX12_parseTerm_84 : decode cX12_parseTerm 84 = .ok (.invokevirtual 460, 3) := by decide +kernel
set_option maxRecDepth 100000 in
theorem dX12_parseTerm_87 : decode cX12_parseTerm 87 = .ok (.goto (-67), 3) := by decide +kernel
set_option maxRecDepth 100000 in
theorem dX12_parseTerm_90 : decode cX12_parseTerm 90 = .ok (.iload_n 1, 1) := by decide +kernel
set_option maxRecDepth 100000 in
theorem dX12_parseTerm_91 : decode cX12_parseTerm 91 = .ok (.ireturn, 1) := by decide +kernel
def lX12_parseTerm_20 (G : xG) (fr lo : Nat) (x0 : Nat) (x1 : Int32) (h : xH) (Q : Outcome → xH → Prop) : Prop := xP G YX12_parseTerm fr lo 20 [(0, rv x0), (1, .int x1)] [] h Q
set_option maxRecDepth 100000 in
def bX12_parseTerm_64 (G : xG) (fr lo : Nat) (x0 : Nat) (x1 : Int32) (h : xH) (Q : Outcome → xH → Prop) : Prop := tg h x0 = 13 ∧ 1 ≤ fr ∧ 13 ≤ lo ∧ xRi G YX12_take (fr - 1) (lo - 13) [rv x0] h (fun x5 h4 => xext h h4 → 1 ≤ fr ∧ 13 ≤ lo ∧ xRi G YX12_parseFactor (fr - 1) (lo - 13) [rv x0] h4 (fun x11 h10 => xext h4 h10 → tg h10 (fR h10 x0 3108) = 100 ∧ vp_in x11 (ln h10 (fR h10 x0 3108)) ∧ (∀ h16 : xH, h16 = tI h10 (fR h10 x0 3108) (Int32.toNatClampNeg x11) x5 → 1 ≤ fr ∧ 14 ≤ lo ∧ xRv G YX12_add (fr - 1) (lo - 14) [rv x0, .int x1, .int x11] h16 (fun h21 => xext h16 h21 → lX12_parseTerm_20 G fr lo x0 x1 h21 Q) (fun r h2 => Q (.threw r) h2))) (fun r h2 => Q (.threw r) h2)) (fun r h2 => Q (.threw r) h2)
set_option maxRecDepth 100000 in
theorem uX12_parseTerm_64 {G : xG} {fr lo : Nat} {x0 : Nat} {x1 : Int32} {h : xH} {Q : Outcome → xH → Prop} (hq : bX12_parseTerm_64 G fr lo x0 x1 h Q) : xP G YX12_parseTerm fr lo 64 [(0, rv x0), (1, .int x1)] [] h Q := by
  unfold bX12_parseTerm_64 at hq
  refine x_aload_n 0 dX12_parseTerm_64 rfl ?_
  obtain ⟨g1, hq⟩ := hq
  obtain ⟨g2, g3, hq⟩ := hq
  refine x_callV (Yc := YX12_take) (as := []) (st := []) q3794 mvX12_take g1 rfl dX12_parseTerm_65 (xle (xal1 (rv_cat _) xal0) (by decide)) (xfr g2) (xlo xsw0 (by decide) g3) (xKi hq (fun x5 h4 hq e6 => ?_) (fun _ _ q _ => q))
  replace hq := hq e6
  refine x_istore_n (lv' := [(2, .int x5), (0, rv x0), (1, .int x1)]) dX12_parseTerm_68 (by decide) rfl ?_
  refine x_aload_n 1 dX12_parseTerm_69 rfl ?_
  have t7 : tg h4 x0 = 13 := e6.tg g1 (by decide)
  obtain ⟨g8, g9, hq⟩ := hq
  refine x_callV (Yc := YX12_parseFactor) (as := []) (st := []) q3886 mvX12_parseFactor t7 rfl dX12_parseTerm_70 (xle (xal1 (rv_cat _) xal0) (by decide)) (xfr g8) (xlo xsw0 (by decide) g9) (xKi hq (fun x11 h10 hq e12 => ?_) (fun _ _ q _ => q))
  replace hq := hq e12
  refine x_istore_n (lv' := [(3, .int x11), (2, .int x5), (0, rv x0), (1, .int x1)]) dX12_parseTerm_73 (by decide) rfl ?_
  refine x_aload_n 2 dX12_parseTerm_74 rfl ?_
  have t13 : tg h10 x0 = 13 := e12.tg t7 (by decide)
  refine x_get (v := rv (fR h10 x0 3108)) fdX12_88 dX12_parseTerm_75 t13 rfl ?_
  refine x_iload_n 0 dX12_parseTerm_78 rfl ?_
  refine x_iload_n 1 dX12_parseTerm_79 rfl ?_
  obtain ⟨g14, hq⟩ := hq
  obtain ⟨i15, hq⟩ := hq
  obtain ⟨h16, e17⟩ : ∃ y, y = tI h10 (fR h10 x0 3108) (Int32.toNatClampNeg x11) x5 := ⟨_, rfl⟩
  replace hq := hq h16 e17
  refine x_iast' g14 i15 dX12_parseTerm_80 e17 ?_
  refine x_aload_n 2 dX12_parseTerm_81 rfl ?_
  refine x_iload_n 3 dX12_parseTerm_82 rfl ?_
  refine x_iload_n 0 dX12_parseTerm_83 rfl ?_
  have t18 : tg h16 x0 = 13 := by rw [e17]; exact t13
  obtain ⟨g19, g20, hq⟩ := hq
  refine x_callV (Yc := YX12_add) (as := [.int x1, .int x11]) (st := []) q3810 mvX12_add t18 rfl dX12_parseTerm_84 (xle (xal1 (rv_cat _) (xal1 rfl (xal1 rfl xal0))) (by decide)) (xfr g19) (xlo xsw0 (by decide) g20) (xKv hq (fun h21 hq e23 => ?_) (fun _ _ q _ => q))
  replace hq := hq e23
  refine x_goto (tgt := 20) dX12_parseTerm_87 (by decide) ?_
  refine xP.pick (lv' := [(0, rv x0), (1, .int x1)]) [2, 3] rfl ?_
  exact hq
set_option maxRecDepth 100000 in
def bX12_parseTerm_20 (G : xG) (fr lo : Nat) (x0 : Nat) (x1 : Int32) (h : xH) (Q : Outcome → xH → Prop) : Prop := tg h x0 = 13 ∧ 1 ≤ fr ∧ 13 ≤ lo ∧ xRi G YX12_sees (fr - 1) (lo - 13) [rv x0, .int 52] h (fun x5 h4 => xext h h4 → ((¬ x5 = 0 → bX12_parseTerm_64 G fr lo x0 x1 h4 Q) ∧ (x5 = 0 → 1 ≤ fr ∧ 13 ≤ lo ∧ xRi G YX12_sees (fr - 1) (lo - 13) [rv x0, .int 53] h4 (fun x12 h11 => xext h4 h11 → ((¬ x12 = 0 → bX12_parseTerm_64 G fr lo x0 x1 h11 Q) ∧ (x12 = 0 → 1 ≤ fr ∧ 13 ≤ lo ∧ xRi G YX12_sees (fr - 1) (lo - 13) [rv x0, .int 6] h11 (fun x19 h18 => xext h11 h18 → ((¬ x19 = 0 → bX12_parseTerm_64 G fr lo x0 x1 h18 Q) ∧ (x19 = 0 → 1 ≤ fr ∧ 13 ≤ lo ∧ xRi G YX12_sees (fr - 1) (lo - 13) [rv x0, .int 18] h18 (fun x26 h25 => xext h18 h25 → ((¬ x26 = 0 → bX12_parseTerm_64 G fr lo x0 x1 h25 Q) ∧ (x26 = 0 → 1 ≤ fr ∧ 13 ≤ lo ∧ xRi G YX12_sees (fr - 1) (lo - 13) [rv x0, .int 1] h25 (fun x33 h32 => xext h25 h32 → ((x33 = 0 → Q (.returned (some (.int x1))) h32) ∧ (¬ x33 = 0 → bX12_parseTerm_64 G fr lo x0 x1 h32 Q))) (fun r h2 => Q (.threw r) h2)))) (fun r h2 => Q (.threw r) h2)))) (fun r h2 => Q (.threw r) h2)))) (fun r h2 => Q (.threw r) h2)))) (fun r h2 => Q (.threw r) h2)
set_option maxRecDepth 100000 in
theorem uX12_parseTerm_20 {G : xG} {fr lo : Nat} {x0 : Nat} {x1 : Int32} {h : xH} {Q : Outcome → xH → Prop} (hq : bX12_parseTerm_20 G fr lo x0 x1 h Q) : xP G YX12_parseTerm fr lo 20 [(0, rv x0), (1, .int x1)] [] h Q := by
  unfold bX12_parseTerm_20 at hq
  refine x_aload_n 0 dX12_parseTerm_20 rfl ?_
  refine x_bipush (v := 52) dX12_parseTerm_21 (by decide) ?_
  obtain ⟨g1, hq⟩ := hq
  obtain ⟨g2, g3, hq⟩ := hq
  refine x_callV (Yc := YX12_sees) (as := [.int 52]) (st := []) q3782 mvX12_sees g1 rfl dX12_parseTerm_23 (xle (xal1 (rv_cat _) (xal1 rfl xal0)) (by decide)) (xfr g2) (xlo xsw0 (by decide) g3) (xKi hq (fun x5 h4 hq e6 => ?_) (fun _ _ q _ => q))
  replace hq := hq e6
  refine x_if_ne (tgt := 64) dX12_parseTerm_26 (by decide) (fun c7 => ?_) (fun c7 => ?_)
  · replace hq := hq.1 c7
    exact uX12_parseTerm_64 hq
  · replace hq := hq.2 c7
    refine x_aload_n 0 dX12_parseTerm_29 rfl ?_
    refine x_bipush (v := 53) dX12_parseTerm_30 (by decide) ?_
    have t8 : tg h4 x0 = 13 := e6.tg g1 (by decide)
    obtain ⟨g9, g10, hq⟩ := hq
    refine x_callV (Yc := YX12_sees) (as := [.int 53]) (st := []) q3782 mvX12_sees t8 rfl dX12_parseTerm_32 (xle (xal1 (rv_cat _) (xal1 rfl xal0)) (by decide)) (xfr g9) (xlo xsw0 (by decide) g10) (xKi hq (fun x12 h11 hq e13 => ?_) (fun _ _ q _ => q))
    replace hq := hq e13
    refine x_if_ne (tgt := 64) dX12_parseTerm_35 (by decide) (fun c14 => ?_) (fun c14 => ?_)
    · replace hq := hq.1 c14
      exact uX12_parseTerm_64 hq
    · replace hq := hq.2 c14
      refine x_aload_n 0 dX12_parseTerm_38 rfl ?_
      refine x_bipush (v := 6) dX12_parseTerm_39 (by decide) ?_
      have t15 : tg h11 x0 = 13 := e13.tg t8 (by decide)
      obtain ⟨g16, g17, hq⟩ := hq
      refine x_callV (Yc := YX12_sees) (as := [.int 6]) (st := []) q3782 mvX12_sees t15 rfl dX12_parseTerm_41 (xle (xal1 (rv_cat _) (xal1 rfl xal0)) (by decide)) (xfr g16) (xlo xsw0 (by decide) g17) (xKi hq (fun x19 h18 hq e20 => ?_) (fun _ _ q _ => q))
      replace hq := hq e20
      refine x_if_ne (tgt := 64) dX12_parseTerm_44 (by decide) (fun c21 => ?_) (fun c21 => ?_)
      · replace hq := hq.1 c21
        exact uX12_parseTerm_64 hq
      · replace hq := hq.2 c21
        refine x_aload_n 0 dX12_parseTerm_47 rfl ?_
        refine x_bipush (v := 18) dX12_parseTerm_48 (by decide) ?_
        have t22 : tg h18 x0 = 13 := e20.tg t15 (by decide)
        obtain ⟨g23, g24, hq⟩ := hq
        refine x_callV (Yc := YX12_sees) (as := [.int 18]) (st := []) q3782 mvX12_sees t22 rfl dX12_parseTerm_50 (xle (xal1 (rv_cat _) (xal1 rfl xal0)) (by decide)) (xfr g23) (xlo xsw0 (by decide) g24) (xKi hq (fun x26 h25 hq e27 => ?_) (fun _ _ q _ => q))
        replace hq := hq e27
        refine x_if_ne (tgt := 64) dX12_parseTerm_53 (by decide) (fun c28 => ?_) (fun c28 => ?_)
        · replace hq := hq.1 c28
          exact uX12_parseTerm_64 hq
        · replace hq := hq.2 c28
          refine x_aload_n 0 dX12_parseTerm_56 rfl ?_
          refine x_iconst (v := 1) dX12_parseTerm_57 (by decide) ?_
          have t29 : tg h25 x0 = 13 := e27.tg t22 (by decide)
          obtain ⟨g30, g31, hq⟩ := hq
          refine x_callV (Yc := YX12_sees) (as := [.int 1]) (st := []) q3782 mvX12_sees t29 rfl dX12_parseTerm_58 (xle (xal1 (rv_cat _) (xal1 rfl xal0)) (by decide)) (xfr g30) (xlo xsw0 (by decide) g31) (xKi hq (fun x33 h32 hq e34 => ?_) (fun _ _ q _ => q))
          replace hq := hq e34
          refine x_if_eq (tgt := 90) dX12_parseTerm_61 (by decide) (fun c35 => ?_) (fun c35 => ?_)
          · replace hq := hq.1 c35
            refine x_iload_n 1 dX12_parseTerm_90 rfl ?_
            exact x_iret rfl rfl dX12_parseTerm_91 hq
          · replace hq := hq.2 c35
            exact uX12_parseTerm_64 hq
set_option maxRecDepth 100000 in
def bX12_parseTerm (G : xG) (fr lo : Nat) (x0 : Nat) (h : xH) (Q : Outcome → xH → Prop) : Prop := tg h x0 = 13 ∧ 1 ≤ fr ∧ 14 ≤ lo ∧ xRi G YX12_now (fr - 1) (lo - 14) [rv x0] h (fun x5 h4 => xext h h4 → 1 ≤ fr ∧ 15 ≤ lo ∧ xRi G YX12_node (fr - 1) (lo - 15) [rv x0, .int 52, .int x5] h4 (fun x11 h10 => xext h4 h10 → 1 ≤ fr ∧ 15 ≤ lo ∧ xRi G YX12_parseFactor (fr - 1) (lo - 15) [rv x0] h10 (fun x17 h16 => xext h10 h16 → 1 ≤ fr ∧ 14 ≤ lo ∧ xRv G YX12_add (fr - 1) (lo - 14) [rv x0, .int x11, .int x17] h16 (fun h22 => xext h16 h22 → lX12_parseTerm_20 G fr lo x0 x11 h22 Q) (fun r h2 => Q (.threw r) h2)) (fun r h2 => Q (.threw r) h2)) (fun r h2 => Q (.threw r) h2)) (fun r h2 => Q (.threw r) h2)
set_option maxRecDepth 100000 in
theorem uX12_parseTerm {G : xG} {fr lo : Nat} {x0 : Nat} {h : xH} {Q : Outcome → xH → Prop} (hq : bX12_parseTerm G fr lo x0 h Q) : xP G YX12_parseTerm fr lo 0 [(0, rv x0)] [] h Q := by
  unfold bX12_parseTerm at hq
  refine x_aload_n 0 dX12_parseTerm_0 rfl ?_
  refine x_bipush (v := 52) dX12_parseTerm_1 (by decide) ?_
  refine x_aload_n 0 dX12_parseTerm_3 rfl ?_
  obtain ⟨g1, hq⟩ := hq
  obtain ⟨g2, g3, hq⟩ := hq
  refine x_callV (Yc := YX12_now) (as := []) (st := [.int 52, rv x0]) q3790 mvX12_now g1 rfl dX12_parseTerm_4 (xle (xal1 (rv_cat _) xal0) (by decide)) (xfr g2) (xlo (xsw1 rfl (xsw1 (rv_cat _) xsw0)) (by decide) g3) (xKi hq (fun x5 h4 hq e6 => ?_) (fun _ _ q _ => q))
  replace hq := hq e6
  have t7 : tg h4 x0 = 13 := e6.tg g1 (by decide)
  obtain ⟨g8, g9, hq⟩ := hq
  refine x_callV (Yc := YX12_node) (as := [.int 52, .int x5]) (st := []) q3798 mvX12_node t7 rfl dX12_parseTerm_7 (xle (xal1 (rv_cat _) (xal1 rfl (xal1 rfl xal0))) (by decide)) (xfr g8) (xlo xsw0 (by decide) g9) (xKi hq (fun x11 h10 hq e12 => ?_) (fun _ _ q _ => q))
  replace hq := hq e12
  refine x_istore_n (lv' := [(1, .int x11), (0, rv x0)]) dX12_parseTerm_10 (by decide) (by first | rfl | (simp [rv_cat, Value.category]; done) | (simp [rv_cat, Value.category]; decide)) ?_
  refine x_aload_n 1 dX12_parseTerm_11 rfl ?_
  refine x_iload_n 0 dX12_parseTerm_12 rfl ?_
  refine x_aload_n 1 dX12_parseTerm_13 rfl ?_
  have t13 : tg h10 x0 = 13 := e12.tg t7 (by decide)
  obtain ⟨g14, g15, hq⟩ := hq
  refine x_callV (Yc := YX12_parseFactor) (as := []) (st := [.int x11, rv x0]) q3886 mvX12_parseFactor t13 rfl dX12_parseTerm_14 (xle (xal1 (rv_cat _) xal0) (by decide)) (xfr g14) (xlo (xsw1 rfl (xsw1 (rv_cat _) xsw0)) (by decide) g15) (xKi hq (fun x17 h16 hq e18 => ?_) (fun _ _ q _ => q))
  replace hq := hq e18
  have t19 : tg h16 x0 = 13 := e18.tg t13 (by decide)
  obtain ⟨g20, g21, hq⟩ := hq
  refine x_callV (Yc := YX12_add) (as := [.int x11, .int x17]) (st := []) q3810 mvX12_add t19 rfl dX12_parseTerm_17 (xle (xal1 (rv_cat _) (xal1 rfl (xal1 rfl xal0))) (by decide)) (xfr g20) (xlo xsw0 (by decide) g21) (xKv hq (fun h22 hq e24 => ?_) (fun _ _ q _ => q))
  replace hq := hq e24
  refine xP.pick (lv' := [(0, rv x0), (1, .int x11)]) [1, 0] rfl ?_
  exact hq
theorem rX12_parseTerm {G : xG} {fr lo : Nat} {x0 : Nat} {h : xH} {Q : Outcome → xH → Prop} (hq : bX12_parseTerm G fr lo x0 h Q) : xR G YX12_parseTerm fr lo [rv x0] h Q := by
  show xP _ _ _ _ _ (lv_args 0 _) _ _ _
  rw [show lv_args 0 [rv x0] = [(0, rv x0)] from (xla1 (rv_cat _) xla0)]
  exact uX12_parseTerm hq
set_option maxRecDepth 100000 in
theorem dX12_parseFactor_0 : decode cX12_parseFactor 0 = .ok (.aload_n 0, 1) := by decide +kernel
set_option maxRecDepth 100000 in
theorem dX12_parseFactor_1 : decode cX12_parseFactor 1 = .ok (.invokevirtual 472, 3) := by decide +kernel
set_option maxRecDepth 100000 in
theorem dX12_parseFactor_4 : decode cX12_parseFactor 4 = .ok (.iconst (-1), 1) := by decide +kernel
set_option maxRecDepth 100000 in
theorem dX12_parseFactor_5 : decode cX12_parseFactor 5 = .ok (.istore_n 1, 1) := by decide +kernel
set_option maxRecDepth 100000 in
theorem dX12_parseFactor_6 : decode cX12_parseFactor 6 = .ok (.aload_n 0, 1) := by decide +kernel
set_option maxRecDepth 100000 in
theorem dX12_parseFactor_7 : decode cX12_parseFactor 7 = .ok (.getfield 26, 3) := by decide +kernel
set_option maxRecDepth 100000 in
theorem dX12_parseFactor_10 : decode cX12_parseFactor 10 = .ok (.aload_n 0, 1) := by decide +kernel
set_option maxRecDepth 100000 in
theorem dX12_parseFactor_11 : decode cX12_parseFactor 11 = .ok (.invokevirtual 445, 3) := by decide +kernel
set_option maxRecDepth 100000 in
theorem dX12_parseFactor_14 : decode cX12_parseFactor 14 = .ok (.iaload, 1) := by decide +kernel
set_option maxRecDepth 100000 in
theorem dX12_parseFactor_15 : decode cX12_parseFactor 15 = .ok (.lookupswitch 238 #[(19, 115), (20, 159), (40, 230), (41, 73), (42, 87), (43, 101), (60, 129), (62, 182)], 73) := by decide +kernel
set_option maxRecDepth 100000 in
theorem dX12_parseFactor_88 : decode cX12_parseFactor 88 = .ok (.aload_n 0, 1) := by decide +kernel
set_option maxRecDepth 100000 in
theorem dX12_parseFactor_89 : decode cX12_parseFactor 89 = .ok (.bipush 53, 2) := by decide +kernel
set_option maxRecDepth 100000 in
theorem dX12_parseFactor_91 : decode cX12_parseFactor 91 = .ok (.aload_n 0, 1) := by decide +kernel
set_option maxRecDepth 100000 in
theorem dX12_parseFactor_92 : decode cX12_parseFactor 92 = .ok (.invokevirtual 442, 3) := by decide +kernel
set_option maxRecDepth 100000 in
theorem dX12_parseFactor_95 : decode cX12_parseFactor 95 = .ok (.invokevirtual 454, 3) := by decide +kernel
set_option maxRecDepth 100000 in
theorem dX12_parseFactor_98 : decode cX12_parseFactor 98 = .ok (.istore_n 1, 1) := by decide +kernel
set_option maxRecDepth 100000 in
theorem dX12_parseFactor_99 : decode cX12_parseFactor 99 = .ok (.goto 158, 3) := by decide +kernel
set_option maxRecDepth 100000 in
theorem dX12_parseFactor_102 : decode cX12_parseFactor 102 = .ok (.aload_n 0, 1) := by decide +kernel
set_option maxRecDepth 100000 in
theorem dX12_parseFactor_103 : decode cX12_parseFactor 103 = .ok (.bipush 54, 2) := by decide +kernel
set_option maxRecDepth 100000 in
theorem dX12_parseFactor_105 : decode cX12_parseFactor 105 = .ok (.aload_n 0, 1) := by decide +kernel
set_option maxRecDepth 100000 in
theorem dX12_parseFactor_106 : decode cX12_parseFactor 106 = .ok (.invokevirtual 442, 3) := by decide +kernel
set_option maxRecDepth 100000 in
theorem dX12_parseFactor_109 : decode cX12_parseFactor 109 = .ok (.invokevirtual 454, 3) := by decide +kernel
set_option maxRecDepth 100000 in
theorem dX12_parseFactor_112 : decode cX12_parseFactor 112 = .ok (.istore_n 1, 1) := by decide +kernel
set_option maxRecDepth 100000 in
theorem dX12_parseFactor_113 : decode cX12_parseFactor 113 = .ok (.goto 144, 3) := by decide +kernel
set_option maxRecDepth 100000 in
theorem dX12_parseFactor_116 : decode cX12_parseFactor 116 = .ok (.aload_n 0, 1) := by decide +kernel
set_option maxRecDepth 100000 in
theorem dX12_parseFactor_117 : decode cX12_parseFactor 117 = .ok (.bipush 55, 2) := by decide +kernel
set_option maxRecDepth 100000 in
theorem dX12_parseFactor_119 : decode cX12_parseFactor 119 = .ok (.aload_n 0, 1) := by decide +kernel
set_option maxRecDepth 100000 in
theorem dX12_parseFactor_120 : decode cX12_parseFactor 120 = .ok (.invokevirtual 442, 3) := by decide +kernel
set_option maxRecDepth 100000 in
theorem dX12_parseFactor_123 : decode cX12_parseFactor 123 = .ok (.invokevirtual 454, 3) := by decide +kernel
set_option maxRecDepth 100000 in
theorem dX12_parseFactor_126 : decode cX12_parseFactor 126 = .ok (.istore_n 1, 1) := by decide +kernel
set_option maxRecDepth 100000 in
theorem dX12_parseFactor_127 : decode cX12_parseFactor 127 = .ok (.goto 130, 3) := by decide +kernel
set_option maxRecDepth 100000 in
theorem dX12_parseFactor_130 : decode cX12_parseFactor 130 = .ok (.aload_n 0, 1) := by decide +kernel
set_option maxRecDepth 100000 in
theorem dX12_parseFactor_131 : decode cX12_parseFactor 131 = .ok (.bipush 56, 2) := by decide +kernel
set_option maxRecDepth 100000 in
theorem dX12_parseFactor_133 : decode cX12_parseFactor 133 = .ok (.aload_n 0, 1) := by decide +kernel
set_option maxRecDepth 100000 in
theorem dX12_parseFactor_134 : decode cX12_parseFactor 134 = .ok (.invokevirtual 442, 3) := by decide +kernel
set_option maxRecDepth 100000 in
theorem dX12_parseFactor_137 : decode cX12_parseFactor 137 = .ok (.invokevirtual 454, 3) := by decide +kernel
set_option maxRecDepth 100000 in
theorem dX12_parseFactor_140 : decode cX12_parseFactor 140 = .ok (.istore_n 1, 1) := by decide +kernel
set_option maxRecDepth 100000 in
theorem dX12_parseFactor_141 : decode cX12_parseFactor 141 = .ok (.goto 116, 3) := by decide +kernel
set_option maxRecDepth 100000 in
theorem dX12_parseFactor_144 : decode cX12_parseFactor 144 = .ok (.aload_n 0, 1) := by decide +kernel
set_option maxRecDepth 100000 in
theorem dX12_parseFactor_145 : decode cX12_parseFactor 145 = .ok (.bipush 57, 2) := by decide +kernel
set_option maxRecDepth 100000 in
theorem dX12_parseFactor_147 : decode cX12_parseFactor 147 = .ok (.aload_n 0, 1) := by decide +kernel
set_option maxRecDepth 100000 in
theorem dX12_parseFactor_148 : decode cX12_parseFactor 148 = .ok (.invokevirtual 442, 3) := by decide +kernel
set_option maxRecDepth 100000 in
theorem dX12_parseFactor_151 : decode cX12_parseFactor 151 = .ok (.invokevirtual 454, 3) := by decide +kernel
set_option maxRecDepth 100000 in
theorem dX12_parseFactor_154 : decode cX12_parseFactor 154 = .ok (.istore_n 1, 1) := by decide +kernel
set_option maxRecDepth 100000 in
theorem dX12_parseFactor_155 : decode cX12_parseFactor 155 = .ok (.aload_n 0, 1) := by decide +kernel
set_option maxRecDepth 100000 in
theorem dX12_parseFactor_156 : decode cX12_parseFactor 156 = .ok (.iload_n 1, 1) := by decide +kernel
set_option maxRecDepth 100000 in
theorem dX12_parseFactor_157 : decode cX12_parseFactor 157 = .ok (.aload_n 0, 1) := by decide +kernel
set_option maxRecDepth 100000 in
theorem dX12_parseFactor_158 : decode cX12_parseFactor 158 = .ok (.invokevirtual 518, 3) := by decide +kernel
set_option maxRecDepth 100000 in
theorem dX12_parseFactor_161 : decode cX12_parseFactor 161 = .ok (.invokevirtual 460, 3) := by decide +kernel
set_option maxRecDepth 100000 in
theorem dX12_parseFactor_164 : decode cX12_parseFactor 164 = .ok (.aload_n 0, 1) := by decide +kernel
set_option maxRecDepth 100000 in
theorem dX12_parseFactor_165 : decode cX12_parseFactor 165 = .ok (.bipush 61, 2) := by decide +kernel
set_option maxRecDepth 100000 in
theorem dX12_parseFactor_167 : decode cX12_parseFactor 167 = .ok (.invokevirtual 457, 3) := by decide +kernel
set_option maxRecDepth 100000 in
theorem dX12_parseFactor_170 : decode cX12_parseFactor 170 = .ok (.pop, 1) := by decide +kernel
set_option maxRecDepth 100000 in
theorem dX12_parseFactor_171 : decode cX12_parseFactor 171 = .ok (.goto 86, 3) := by decide +kernel
set_option maxRecDepth 100000 in
theorem dX12_parseFactor_174 : decode cX12_parseFactor 174 = .ok (.aload_n 0, 1) := by decide +kernel
set_option maxRecDepth 100000 in
theorem dX12_parseFactor_175 : decode cX12_parseFactor 175 = .ok (.bipush 58, 2) := by decide +kernel
set_option maxRecDepth 100000 in
theorem dX12_parseFactor_177 : decode cX12_parseFactor 177 = .ok (.aload_n 0, 1) := by decide +kernel
set_option maxRecDepth 100000 in
theorem dX12_parseFactor_178 : decode cX12_parseFactor 178 = .ok (.invokevirtual 442, 3) := by decide +kernel
set_option maxRecDepth 100000 in
theorem dX12_parseFactor_181 : decode cX12_parseFactor 181 = .ok (.invokevirtual 454, 3) := by decide +kernel
set_option maxRecDepth 100000 in
theorem dX12_parseFactor_184 : decode cX12_parseFactor 184 = .ok (.istore_n 1, 1) := by decide +kernel
set_option maxRecDepth 100000 in
theorem dX12_parseFactor_185 : decode cX12_parseFactor 185 = .ok (.aload_n 0, 1) := by decide +kernel
set_option maxRecDepth 100000 in
theorem dX12_parseFactor_186 : decode cX12_parseFactor 186 = .ok (.iload_n 1, 1) := by decide +kernel
set_option maxRecDepth 100000 in
theorem dX12_parseFactor_187 : decode cX12_parseFactor 187 = .ok (.aload_n 0, 1) := by decide +kernel
set_option maxRecDepth 100000 in
theorem dX12_parseFactor_188 : decode cX12_parseFactor 188 = .ok (.invokevirtual 545, 3) := by decide +kernel
set_option maxRecDepth 100000 in
theorem dX12_parseFactor_191 : decode cX12_parseFactor 191 = .ok (.invokevirtual 460, 3) := by decide +kernel
set_option maxRecDepth 100000 in
theorem dX12_parseFactor_194 : decode cX12_parseFactor 194 = .ok (.goto 63, 3) := by decide +kernel
set_option maxRecDepth 100000 in
theorem dX12_parseFactor_197 : decode cX12_parseFactor 197 = .ok (.aload_n 0, 1) := by decide +kernel
set_option maxRecDepth 100000 in
theorem dX12_parseFactor_198 : decode cX12_parseFactor 198 = .ok (.bipush 59, 2) := by decide +kernel
set_option maxRecDepth 100000 in
theorem dX12_parseFactor_200 : decode cX12_parseFactor 200 = .ok (.aload_n 0, 1) := by decide +kernel
set_option maxRecDepth 100000 in
theorem dX12_parseFactor_201 : decode cX12_parseFactor 201 = .ok (.invokevirtual 442, 3) := by decide +kernel
set_option maxRecDepth 100000 in
theorem dX12_parseFactor_204 : decode cX12_parseFactor 204 = .ok (.invokevirtual 454, 3) := by decide +kernel
set_option maxRecDepth 100000 in
theorem dX12_parseFactor_207 : decode cX12_parseFactor 207 = .ok (.istore_n 1, 1) := by decide +kernel
set_option maxRecDepth 100000 in
theorem dX12_parseFactor_208 : decode cX12_parseFactor 208 = .ok (.aload_n 0, 1) := by decide +kernel
set_option maxRecDepth 100000 in
theorem dX12_parseFactor_209 : decode cX12_parseFactor 209 = .ok (.bipush 63, 2) := by decide +kernel
set_option maxRecDepth 100000 in
theorem dX12_parseFactor_211 : decode cX12_parseFactor 211 = .ok (.invokevirtual 439, 3) := by decide +kernel
set_option maxRecDepth 100000 in
theorem dX12_parseFactor_214 : decode cX12_parseFactor 214 = .ok (.ifCond .ne 21, 3) := by decide +kernel
set_option maxRecDepth 100000 in
theorem dX12_parseFactor_217 : decode cX12_parseFactor 217 = .ok (.aload_n 0, 1) := by decide +kernel
set_option maxRecDepth 100000 in
theorem dX12_parseFactor_218 : decode cX12_parseFactor 218 = .ok (.iload_n 1, 1) := by decide +kernel
set_option maxRecDepth 100000 in
theorem dX12_parseFactor_219 : decode cX12_parseFactor 219 = .ok (.aload_n 0, 1) := by decide +kernel
set_option maxRecDepth 100000 in
theorem dX12_parseFactor_220 : decode cX12_parseFactor 220 = .ok (.invokevirtual 548, 3) := by decide +kernel
set_option maxRecDepth 100000 in
theorem dX12_parseFactor_223 : decode cX12_parseFactor 223 = .ok (.invokevirtual 460, 3) := by decide +kernel
set_option maxRecDepth 100000 in
theorem dX12_parseFactor_226 : decode cX12_parseFactor 226 = .ok (.aload_n 0, 1) := by decide +kernel
set_option maxRecDepth 100000 in
theorem dX12_parseFactor_227 : decode cX12_parseFactor 227 = .ok (.bipush 66, 2) := by decide +kernel
set_option maxRecDepth 100000 in
theorem dX12_parseFactor_229 : decode cX12_parseFactor 229 = .ok (.invokevirtual 463, 3) := by decide +kernel
set_option maxRecDepth 100000 in
theorem dX12_parseFactor_232 : decode cX12_parseFactor 232 = .ok (.ifCond .ne (-15), 3) := by decide +kernel
set_option maxRecDepth 100000 in
theorem dX12_parseFactor_235 : decode cX12_parseFactor 235 = .ok (.aload_n 0, 1) := by decide +kernel
set_option maxRecDepth 100000 in
theorem dX12_parseFactor_236 : decode cX12_parseFactor 236 = .ok (.bipush 63, 2) := by decide +kernel
set_option maxRecDepth 100000 in
theorem dX12_parseFactor_238 : decode cX12_parseFactor 238 = .ok (.invokevirtual 457, 3) := by decide +kernel
set_option maxRecDepth 100000 in
theorem dX12_parseFactor_241 : decode cX12_parseFactor 241 = .ok (.pop, 1) := by decide +kernel
set_option maxRecDepth 100000 in
theorem dX12_parseFactor_242 : decode cX12_parseFactor 242 = .ok (.goto 15, 3) := by decide +kernel
set_option maxRecDepth 100000 in
theorem dX12_parseFactor_245 : decode cX12_parseFactor 245 = .ok (.aload_n 0, 1) := by decide +kernel
set_option maxRecDepth 100000 in
theorem dX12_parseFactor_246 : decode cX12_parseFactor 246 = .ok (.invokevirtual 551, 3) := by decide +kernel
set_option maxRecDepth 100000 in
theorem dX12_parseFactor_249 : decode cX12_parseFactor 249 = .ok (.istore_n 1, 1) := by decide +kernel
set_option maxRecDepth 100000 in
theorem dX12_parseFactor_250 : decode cX12_parseFactor 250 = .ok (.goto 7, 3) := by decide +kernel
set_option maxRecDepth 100000 in
theorem dX12_parseFactor_253 : decode cX12_parseFactor 253 = .ok (.aload_n 0, 1) := by decide +kernel
set_option maxRecDepth 100000 in
theorem dX12_parseFactor_254 : decode cX12_parseFactor 254 = .ok (.invokevirtual 448, 3) := by decide +kernel
set_option maxRecDepth 100000 in
theorem dX12_parseFactor_257 : decode cX12_parseFactor 257 = .ok (.aload_n 0, 1) := by decide +kernel
set_option maxRecDepth 100000 in
theorem dX12_parseFactor_258 : decode cX12_parseFactor 258 = .ok (.dup, 1) := by decide +kernel
set_option maxRecDepth 100000 in
theorem dX12_parseFactor_259 : decode cX12_parseFactor 259 = .ok (.getfield 451, 3) := by decide +kernel
set_option maxRecDepth 100000 in
theorem dX12_parseFactor_262 : decode cX12_parseFactor 262 = .ok (.iconst 1, 1) := by decide +kernel
set_option maxRecDepth 100000 in
theorem dX12_parseFactor_263 : decode cX12_parseFactor 263 = .ok (.isub, 1) := by decide +kernel
set_option maxRecDepth 100000 in
theorem dX12_parseFactor_264 : decode cX12_parseFactor 264 = .ok (.putfield 451, 3) := by decide +kernel
set_option maxRecDepth 100000 in
theorem dX12_parseFactor_267 : decode cX12_parseFactor 267 = .ok (.iload_n 1, 1) := by decide +kernel
set_option maxRecDepth 100000 in
theorem dX12_parseFactor_268 : decode cX12_parseFactor 268 = .ok (.ireturn, 1) := by decide +kernel
def lX12_parseFactor_217 (G : xG) (fr lo : Nat) (x0 : Nat) (x1 : Int32) (h : xH) (Q : Outcome → xH → Prop) : Prop := xP G YX12_parseFactor fr lo 217 [(0, rv x0), (1, .int x1)] [] h Q
set_option maxRecDepth 100000 in
def bX12_parseFactor_257 (G : xG) (fr lo : Nat) (x0 : Nat) (x1 : Int32) (h : xH) (Q : Outcome → xH → Prop) : Prop := tg h x0 = 13 ∧ (∀ h2 : xH, h2 = sI h x0 3111 ((fI h x0 3111) - 1) → Q (.returned (some (.int x1))) h2)
set_option maxRecDepth 100000 in
theorem uX12_parseFactor_257 {G : xG} {fr lo : Nat} {x0 : Nat} {x1 : Int32} {h : xH} {Q : Outcome → xH → Prop} (hq : bX12_parseFactor_257 G fr lo x0 x1 h Q) : xP G YX12_parseFactor fr lo 257 [(0, rv x0), (1, .int x1)] [] h Q := by
  unfold bX12_parseFactor_257 at hq
  refine x_aload_n 0 dX12_parseFactor_257 rfl ?_
  refine x_dup dX12_parseFactor_258 (rv_cat _) ?_
  obtain ⟨g1, hq⟩ := hq
  refine x_get (v := .int (fI h x0 3111)) fdX12_451 dX12_parseFactor_259 g1 rfl ?_
  refine x_iconst (v := 1) dX12_parseFactor_262 (by decide) ?_
  refine x_isub dX12_parseFactor_263 ?_
  obtain ⟨h2, e3⟩ : ∃ y, y = sI h x0 3111 ((fI h x0 3111) - 1) := ⟨_, rfl⟩
  replace hq := hq h2 e3
  refine x_putI fdX12_451 xty_I1 dX12_parseFactor_264 g1 (Or.inl (by rw [g1]; rfl)) xnI rfl e3 ?_
  refine x_iload_n 1 dX12_parseFactor_267 rfl ?_
  exact x_iret rfl rfl dX12_parseFactor_268 hq
set_option maxRecDepth 100000 in
def bX12_parseFactor_235 (G : xG) (fr lo : Nat) (x0 : Nat) (x1 : Int32) (h : xH) (Q : Outcome → xH → Prop) : Prop := tg h x0 = 13 ∧ 1 ≤ fr ∧ 13 ≤ lo ∧ xRi G YX12_must (fr - 1) (lo - 13) [rv x0, .int 63] h (fun x5 h4 => xext h h4 → bX12_parseFactor_257 G fr lo x0 x1 h4 Q) (fun r h2 => Q (.threw r) h2)
set_option maxRecDepth 100000 in
theorem uX12_parseFactor_235 {G : xG} {fr lo : Nat} {x0 : Nat} {x1 : Int32} {h : xH} {Q : Outcome → xH → Prop} (hq : bX12_parseFactor_235 G fr lo x0 x1 h Q) : xP G YX12_parseFactor fr lo 235 [(0, rv x0), (1, .int x1)] [] h Q := by
  unfold bX12_parseFactor_235 at hq
  refine x_aload_n 0 dX12_parseFactor_235 rfl ?_
  refine x_bipush (v := 63) dX12_parseFactor_236 (by decide) ?_
  obtain ⟨g1, hq⟩ := hq
  obtain ⟨g2, g3, hq⟩ := hq
  refine x_callV (Yc := YX12_must) (as := [.int 63]) (st := []) q3778 mvX12_must g1 rfl dX12_parseFactor_238 (xle (xal1 (rv_cat _) (xal1 rfl xal0)) (by decide)) (xfr g2) (xlo xsw0 (by decide) g3) (xKi hq (fun x5 h4 hq e6 => ?_) (fun _ _ q _ => q))
  replace hq := hq e6
  refine x_pop dX12_parseFactor_241 rfl ?_
  refine x_goto (tgt := 257) dX12_parseFactor_242 (by decide) ?_
  exact uX12_parseFactor_257 hq
set_option maxRecDepth 100000 in
def bX12_parseFactor_217 (G : xG) (fr lo : Nat) (x0 : Nat) (x1 : Int32) (h : xH) (Q : Outcome → xH → Prop) : Prop := tg h x0 = 13 ∧ 1 ≤ fr ∧ 15 ≤ lo ∧ xRi G YX12_parsePart (fr - 1) (lo - 15) [rv x0] h (fun x5 h4 => xext h h4 → 1 ≤ fr ∧ 14 ≤ lo ∧ xRv G YX12_add (fr - 1) (lo - 14) [rv x0, .int x1, .int x5] h4 (fun h10 => xext h4 h10 → 1 ≤ fr ∧ 13 ≤ lo ∧ xRi G YX12_takes (fr - 1) (lo - 13) [rv x0, .int 66] h10 (fun x17 h16 => xext h10 h16 → ((¬ x17 = 0 → lX12_parseFactor_217 G fr lo x0 x1 h16 Q) ∧ (x17 = 0 → bX12_parseFactor_235 G fr lo x0 x1 h16 Q))) (fun r h2 => Q (.threw r) h2)) (fun r h2 => Q (.threw r) h2)) (fun r h2 => Q (.threw r) h2)
set_option maxRecDepth 100000 in
theorem uX12_parseFactor_217 {G : xG} {fr lo : Nat} {x0 : Nat} {x1 : Int32} {h : xH} {Q : Outcome → xH → Prop} (hq : bX12_parseFactor_217 G fr lo x0 x1 h Q) : xP G YX12_parseFactor fr lo 217 [(0, rv x0), (1, .int x1)] [] h Q := by
  unfold bX12_parseFactor_217 at hq
  refine x_aload_n 0 dX12_parseFactor_217 rfl ?_
  refine x_iload_n 1 dX12_parseFactor_218 rfl ?_
  refine x_aload_n 0 dX12_parseFactor_219 rfl ?_
  obtain ⟨g1, hq⟩ := hq
  obtain ⟨g2, g3, hq⟩ := hq
  refine x_callV (Yc := YX12_parsePart) (as := []) (st := [.int x1, rv x0]) q3890 mvX12_parsePart g1 rfl dX12_parseFactor_220 (xle (xal1 (rv_cat _) xal0) (by decide)) (xfr g2) (xlo (xsw1 rfl (xsw1 (rv_cat _) xsw0)) (by decide) g3) (xKi hq (fun x5 h4 hq e6 => ?_) (fun _ _ q _ => q))
  replace hq := hq e6
  have t7 : tg h4 x0 = 13 := e6.tg g1 (by decide)
  obtain ⟨g8, g9, hq⟩ := hq
  refine x_callV (Yc := YX12_add) (as := [.int x1, .int x5]) (st := []) q3810 mvX12_add t7 rfl dX12_parseFactor_223 (xle (xal1 (rv_cat _) (xal1 rfl (xal1 rfl xal0))) (by decide)) (xfr g8) (xlo xsw0 (by decide) g9) (xKv hq (fun h10 hq e12 => ?_) (fun _ _ q _ => q))
  replace hq := hq e12
  refine x_aload_n 0 dX12_parseFactor_226 rfl ?_
  refine x_bipush (v := 66) dX12_parseFactor_227 (by decide) ?_
  have t13 : tg h10 x0 = 13 := e12.tg t7 (by decide)
  obtain ⟨g14, g15, hq⟩ := hq
  refine x_callV (Yc := YX12_takes) (as := [.int 66]) (st := []) q3802 mvX12_takes t13 rfl dX12_parseFactor_229 (xle (xal1 (rv_cat _) (xal1 rfl xal0)) (by decide)) (xfr g14) (xlo xsw0 (by decide) g15) (xKi hq (fun x17 h16 hq e18 => ?_) (fun _ _ q _ => q))
  replace hq := hq e18
  refine x_if_ne (tgt := 217) dX12_parseFactor_232 (by decide) (fun c19 => ?_) (fun c19 => ?_)
  · replace hq := hq.1 c19
    exact hq
  · replace hq := hq.2 c19
    exact uX12_parseFactor_235 hq
set_option maxRecDepth 100000 in
def bX12_parseFactor (G : xG) (fr lo : Nat) (x0 : Nat) (h : xH) (Q : Outcome → xH → Prop) : Prop := tg h x0 = 13 ∧ 1 ≤ fr ∧ 12 ≤ lo ∧ xRv G YX12_enter (fr - 1) (lo - 12) [rv x0] h (fun h4 => xext h h4 → 1 ≤ fr ∧ 13 ≤ lo ∧ xRi G YX12_now (fr - 1) (lo - 13) [rv x0] h4 (fun x11 h10 => xext h4 h10 → tg h10 (fR h4 x0 3082) = 100 ∧ vp_in x11 (ln h10 (fR h4 x0 3082)) ∧ (((aI h10 (fR h4 x0 3082) (Int32.toNatClampNeg x11)) = 19 → 1 ≤ fr ∧ 15 ≤ lo ∧ xRi G YX12_take (fr - 1) (lo - 15) [rv x0] h10 (fun x20 h19 => xext h10 h19 → 1 ≤ fr ∧ 15 ≤ lo ∧ xRi G YX12_node (fr - 1) (lo - 15) [rv x0, .int 56, .int x20] h19 (fun x26 h25 => xext h19 h25 → bX12_parseFactor_257 G fr lo x0 x26 h25 Q) (fun r h2 => Q (.threw r) h2)) (fun r h2 => Q (.threw r) h2)) ∧ ((aI h10 (fR h4 x0 3082) (Int32.toNatClampNeg x11)) = 20 → 1 ≤ fr ∧ 15 ≤ lo ∧ xRi G YX12_take (fr - 1) (lo - 15) [rv x0] h10 (fun x33 h32 => xext h10 h32 → 1 ≤ fr ∧ 15 ≤ lo ∧ xRi G YX12_node (fr - 1) (lo - 15) [rv x0, .int 58, .int x33] h32 (fun x39 h38 => xext h32 h38 → 1 ≤ fr ∧ 15 ≤ lo ∧ xRi G YX12_parseFactor (fr - 1) (lo - 15) [rv x0] h38 (fun x45 h44 => xext h38 h44 → 1 ≤ fr ∧ 14 ≤ lo ∧ xRv G YX12_add (fr - 1) (lo - 14) [rv x0, .int x39, .int x45] h44 (fun h50 => xext h44 h50 → bX12_parseFactor_257 G fr lo x0 x39 h50 Q) (fun r h2 => Q (.threw r) h2)) (fun r h2 => Q (.threw r) h2)) (fun r h2 => Q (.threw r) h2)) (fun r h2 => Q (.threw r) h2)) ∧ ((aI h10 (fR h4 x0 3082) (Int32.toNatClampNeg x11)) = 40 → 1 ≤ fr ∧ 14 ≤ lo ∧ xRi G YX12_parseNameFactor (fr - 1) (lo - 14) [rv x0] h10 (fun x58 h57 => xext h10 h57 → bX12_parseFactor_257 G fr lo x0 x58 h57 Q) (fun r h2 => Q (.threw r) h2)) ∧ ((aI h10 (fR h4 x0 3082) (Int32.toNatClampNeg x11)) = 41 → 1 ≤ fr ∧ 15 ≤ lo ∧ xRi G YX12_take (fr - 1) (lo - 15) [rv x0] h10 (fun x65 h64 => xext h10 h64 → 1 ≤ fr ∧ 15 ≤ lo ∧ xRi G YX12_node (fr - 1) (lo - 15) [rv x0, .int 53, .int x65] h64 (fun x71 h70 => xext h64 h70 → bX12_parseFactor_257 G fr lo x0 x71 h70 Q) (fun r h2 => Q (.threw r) h2)) (fun r h2 => Q (.threw r) h2)) ∧ ((aI h10 (fR h4 x0 3082) (Int32.toNatClampNeg x11)) = 42 → 1 ≤ fr ∧ 15 ≤ lo ∧ xRi G YX12_take (fr - 1) (lo - 15) [rv x0] h10 (fun x78 h77 => xext h10 h77 → 1 ≤ fr ∧ 15 ≤ lo ∧ xRi G YX12_node (fr - 1) (lo - 15) [rv x0, .int 54, .int x78] h77 (fun x84 h83 => xext h77 h83 → bX12_parseFactor_257 G fr lo x0 x84 h83 Q) (fun r h2 => Q (.threw r) h2)) (fun r h2 => Q (.threw r) h2)) ∧ ((aI h10 (fR h4 x0 3082) (Int32.toNatClampNeg x11)) = 43 → 1 ≤ fr ∧ 15 ≤ lo ∧ xRi G YX12_take (fr - 1) (lo - 15) [rv x0] h10 (fun x91 h90 => xext h10 h90 → 1 ≤ fr ∧ 15 ≤ lo ∧ xRi G YX12_node (fr - 1) (lo - 15) [rv x0, .int 55, .int x91] h90 (fun x97 h96 => xext h90 h96 → bX12_parseFactor_257 G fr lo x0 x97 h96 Q) (fun r h2 => Q (.threw r) h2)) (fun r h2 => Q (.threw r) h2)) ∧ ((aI h10 (fR h4 x0 3082) (Int32.toNatClampNeg x11)) = 60 → 1 ≤ fr ∧ 15 ≤ lo ∧ xRi G YX12_take (fr - 1) (lo - 15) [rv x0] h10 (fun x104 h103 => xext h10 h103 → 1 ≤ fr ∧ 15 ≤ lo ∧ xRi G YX12_node (fr - 1) (lo - 15) [rv x0, .int 57, .int x104] h103 (fun x110 h109 => xext h103 h109 → 1 ≤ fr ∧ 15 ≤ lo ∧ xRi G YX12_parseE (fr - 1) (lo - 15) [rv x0] h109 (fun x116 h115 => xext h109 h115 → 1 ≤ fr ∧ 14 ≤ lo ∧ xRv G YX12_add (fr - 1) (lo - 14) [rv x0, .int x110, .int x116] h115 (fun h121 => xext h115 h121 → 1 ≤ fr ∧ 13 ≤ lo ∧ xRi G YX12_must (fr - 1) (lo - 13) [rv x0, .int 61] h121 (fun x128 h127 => xext h121 h127 → bX12_parseFactor_257 G fr lo x0 x110 h127 Q) (fun r h2 => Q (.threw r) h2)) (fun r h2 => Q (.threw r) h2)) (fun r h2 => Q (.threw r) h2)) (fun r h2 => Q (.threw r) h2)) (fun r h2 => Q (.threw r) h2)) ∧ ((aI h10 (fR h4 x0 3082) (Int32.toNatClampNeg x11)) = 62 → 1 ≤ fr ∧ 15 ≤ lo ∧ xRi G YX12_take (fr - 1) (lo - 15) [rv x0] h10 (fun x135 h134 => xext h10 h134 → 1 ≤ fr ∧ 15 ≤ lo ∧ xRi G YX12_node (fr - 1) (lo - 15) [rv x0, .int 59, .int x135] h134 (fun x141 h140 => xext h134 h140 → 1 ≤ fr ∧ 13 ≤ lo ∧ xRi G YX12_sees (fr - 1) (lo - 13) [rv x0, .int 63] h140 (fun x147 h146 => xext h140 h146 → ((¬ x147 = 0 → bX12_parseFactor_235 G fr lo x0 x141 h146 Q) ∧ (x147 = 0 → lX12_parseFactor_217 G fr lo x0 x141 h146 Q))) (fun r h2 => Q (.threw r) h2)) (fun r h2 => Q (.threw r) h2)) (fun r h2 => Q (.threw r) h2)) ∧ (¬ (aI h10 (fR h4 x0 3082) (Int32.toNatClampNeg x11)) = 19 → ¬ (aI h10 (fR h4 x0 3082) (Int32.toNatClampNeg x11)) = 20 → ¬ (aI h10 (fR h4 x0 3082) (Int32.toNatClampNeg x11)) = 40 → ¬ (aI h10 (fR h4 x0 3082) (Int32.toNatClampNeg x11)) = 41 → ¬ (aI h10 (fR h4 x0 3082) (Int32.toNatClampNeg x11)) = 42 → ¬ (aI h10 (fR h4 x0 3082) (Int32.toNatClampNeg x11)) = 43 → ¬ (aI h10 (fR h4 x0 3082) (Int32.toNatClampNeg x11)) = 60 → ¬ (aI h10 (fR h4 x0 3082) (Int32.toNatClampNeg x11)) = 62 → 1 ≤ fr ∧ 12 ≤ lo ∧ xRv G YX12_bad (fr - 1) (lo - 12) [rv x0] h10 (fun h153 => xext h10 h153 → bX12_parseFactor_257 G fr lo x0 (-1) h153 Q) (fun r h2 => Q (.threw r) h2)))) (fun r h2 => Q (.threw r) h2)) (fun r h2 => Q (.threw r) h2)
set_option maxRecDepth 100000 in
theorem uX12_parseFactor {G : xG} {fr lo : Nat} {x0 : Nat} {h : xH} {Q : Outcome → xH → Prop} (hq : bX12_parseFactor G fr lo x0 h Q) : xP G YX12_parseFactor fr lo 0 [(0, rv x0)] [] h Q := by
  unfold bX12_parseFactor at hq
  refine x_aload_n 0 dX12_parseFactor_0 rfl ?_
  obtain ⟨g1, hq⟩ := hq
  obtain ⟨g2, g3, hq⟩ := hq
  refine x_callV (Yc := YX12_enter) (as := []) (st := []) q3818 mvX12_enter g1 rfl dX12_parseFactor_1 (xle (xal1 (rv_cat _) xal0) (by decide)) (xfr g2) (xlo xsw0 (by decide) g3) (xKv hq (fun h4 hq e6 => ?_) (fun _ _ q _ => q))
  replace hq := hq e6
  refine x_iconst (v := (-1)) dX12_parseFactor_4 (by decide) ?_
  refine x_istore_n (lv' := [(1, .int (-1)), (0, rv x0)]) dX12_parseFactor_5 (by decide) (by first | rfl | (simp [rv_cat, Value.category]; done) | (simp [rv_cat, Value.category]; decide)) ?_
  refine x_aload_n 1 dX12_parseFactor_6 rfl ?_
  have t7 : tg h4 x0 = 13 := e6.tg g1 (by decide)
  refine x_get (v := rv (fR h4 x0 3082)) fdX12_26 dX12_parseFactor_7 t7 rfl ?_
  refine x_aload_n 1 dX12_parseFactor_10 rfl ?_
  obtain ⟨g8, g9, hq⟩ := hq
  refine x_callV (Yc := YX12_now) (as := []) (st := [rv (fR h4 x0 3082)]) q3790 mvX12_now t7 rfl dX12_parseFactor_11 (xle (xal1 (rv_cat _) xal0) (by decide)) (xfr g8) (xlo (xsw1 (rv_cat _) xsw0) (by decide) g9) (xKi hq (fun x11 h10 hq e12 => ?_) (fun _ _ q _ => q))
  replace hq := hq e12
  obtain ⟨g13, hq⟩ := hq
  obtain ⟨i14, hq⟩ := hq
  refine x_iald 0 (Or.inl rfl) g13 i14 dX12_parseFactor_14 ?_
  by_cases c15 : (aI h10 (fR h4 x0 3082) (Int32.toNatClampNeg x11)) = 19
  · replace hq := hq.1 c15
    rw [c15]
    refine x_look (tgt := 130) (off := 115) dX12_parseFactor_15 (by decide) (by decide) (by decide) ?_
    refine x_aload_n 1 dX12_parseFactor_130 rfl ?_
    refine x_bipush (v := 56) dX12_parseFactor_131 (by decide) ?_
    refine x_aload_n 1 dX12_parseFactor_133 rfl ?_
    have t16 : tg h10 x0 = 13 := e12.tg t7 (by decide)
    obtain ⟨g17, g18, hq⟩ := hq
    refine x_callV (Yc := YX12_take) (as := []) (st := [.int 56, rv x0]) q3794 mvX12_take t16 rfl dX12_parseFactor_134 (xle (xal1 (rv_cat _) xal0) (by decide)) (xfr g17) (xlo (xsw1 rfl (xsw1 (rv_cat _) xsw0)) (by decide) g18) (xKi hq (fun x20 h19 hq e21 => ?_) (fun _ _ q _ => q))
    replace hq := hq e21
    have t22 : tg h19 x0 = 13 := e21.tg t16 (by decide)
    obtain ⟨g23, g24, hq⟩ := hq
    refine x_callV (Yc := YX12_node) (as := [.int 56, .int x20]) (st := []) q3798 mvX12_node t22 rfl dX12_parseFactor_137 (xle (xal1 (rv_cat _) (xal1 rfl (xal1 rfl xal0))) (by decide)) (xfr g23) (xlo xsw0 (by decide) g24) (xKi hq (fun x26 h25 hq e27 => ?_) (fun _ _ q _ => q))
    replace hq := hq e27
    refine x_istore_n (lv' := [(1, .int x26), (0, rv x0)]) dX12_parseFactor_140 (by decide) (by first | rfl | (simp [rv_cat, Value.category]; done) | (simp [rv_cat, Value.category]; decide)) ?_
    refine x_goto (tgt := 257) dX12_parseFactor_141 (by decide) ?_
    refine xP.pick (lv' := [(0, rv x0), (1, .int x26)]) [1, 0] rfl ?_
    exact uX12_parseFactor_257 hq
  replace hq := hq.2
  by_cases c28 : (aI h10 (fR h4 x0 3082) (Int32.toNatClampNeg x11)) = 20
  · replace hq := hq.1 c28
    rw [c28]
    refine x_look (tgt := 174) (off := 159) dX12_parseFactor_15 (by decide) (by decide) (by decide) ?_
    refine x_aload_n 1 dX12_parseFactor_174 rfl ?_
    refine x_bipush (v := 58) dX12_parseFactor_175 (by decide) ?_
    refine x_aload_n 1 dX12_parseFactor_177 rfl ?_
    have t29 : tg h10 x0 = 13 := e12.tg t7 (by decide)
    obtain ⟨g30, g31, hq⟩ := hq
    refine x_callV (Yc := YX12_take) (as := []) (st := [.int 58, rv x0]) q3794 mvX12_take t29 rfl dX12_parseFactor_178 (xle (xal1 (rv_cat _) xal0) (by decide)) (xfr g30) (xlo (xsw1 rfl (xsw1 (rv_cat _) xsw0)) (by decide) g31) (xKi hq (fun x33 h32 hq e34 => ?_) (fun _ _ q _ => q))
    replace hq := hq e34
    have t35 : tg h32 x0 = 13 := e34.tg t29 (by decide)
    obtain ⟨g36, g37, hq⟩ := hq
    refine x_callV (Yc := YX12_node) (as := [.int 58, .int x33]) (st := []) q3798 mvX12_node t35 rfl dX12_parseFactor_181 (xle (xal1 (rv_cat _) (xal1 rfl (xal1 rfl xal0))) (by decide)) (xfr g36) (xlo xsw0 (by decide) g37) (xKi hq (fun x39 h38 hq e40 => ?_) (fun _ _ q _ => q))
    replace hq := hq e40
    refine x_istore_n (lv' := [(1, .int x39), (0, rv x0)]) dX12_parseFactor_184 (by decide) (by first | rfl | (simp [rv_cat, Value.category]; done) | (simp [rv_cat, Value.category]; decide)) ?_
    refine x_aload_n 1 dX12_parseFactor_185 rfl ?_
    refine x_iload_n 0 dX12_parseFactor_186 rfl ?_
    refine x_aload_n 1 dX12_parseFactor_187 rfl ?_
    have t41 : tg h38 x0 = 13 := e40.tg t35 (by decide)
    obtain ⟨g42, g43, hq⟩ := hq
    refine x_callV (Yc := YX12_parseFactor) (as := []) (st := [.int x39, rv x0]) q3886 mvX12_parseFactor t41 rfl dX12_parseFactor_188 (xle (xal1 (rv_cat _) xal0) (by decide)) (xfr g42) (xlo (xsw1 rfl (xsw1 (rv_cat _) xsw0)) (by decide) g43) (xKi hq (fun x45 h44 hq e46 => ?_) (fun _ _ q _ => q))
    replace hq := hq e46
    have t47 : tg h44 x0 = 13 := e46.tg t41 (by decide)
    obtain ⟨g48, g49, hq⟩ := hq
    refine x_callV (Yc := YX12_add) (as := [.int x39, .int x45]) (st := []) q3810 mvX12_add t47 rfl dX12_parseFactor_191 (xle (xal1 (rv_cat _) (xal1 rfl (xal1 rfl xal0))) (by decide)) (xfr g48) (xlo xsw0 (by decide) g49) (xKv hq (fun h50 hq e52 => ?_) (fun _ _ q _ => q))
    replace hq := hq e52
    refine x_goto (tgt := 257) dX12_parseFactor_194 (by decide) ?_
    refine xP.pick (lv' := [(0, rv x0), (1, .int x39)]) [1, 0] rfl ?_
    exact uX12_parseFactor_257 hq
  replace hq := hq.2
  by_cases c53 : (aI h10 (fR h4 x0 3082) (Int32.toNatClampNeg x11)) = 40
  · replace hq := hq.1 c53
    rw [c53]
    refine x_look (tgt := 245) (off := 230) dX12_parseFactor_15 (by decide) (by decide) (by decide) ?_
    refine x_aload_n 1 dX12_parseFactor_245 rfl ?_
    have t54 : tg h10 x0 = 13 := e12.tg t7 (by decide)
    obtain ⟨g55, g56, hq⟩ := hq
    refine x_callV (Yc := YX12_parseNameFactor) (as := []) (st := []) q3894 mvX12_parseNameFactor t54 rfl dX12_parseFactor_246 (xle (xal1 (rv_cat _) xal0) (by decide)) (xfr g55) (xlo xsw0 (by decide) g56) (xKi hq (fun x58 h57 hq e59 => ?_) (fun _ _ q _ => q))
    replace hq := hq e59
    refine x_istore_n (lv' := [(1, .int x58), (0, rv x0)]) dX12_parseFactor_249 (by decide) (by first | rfl | (simp [rv_cat, Value.category]; done) | (simp [rv_cat, Value.category]; decide)) ?_
    refine x_goto (tgt := 257) dX12_parseFactor_250 (by decide) ?_
    refine xP.pick (lv' := [(0, rv x0), (1, .int x58)]) [1, 0] rfl ?_
    exact uX12_parseFactor_257 hq
  replace hq := hq.2
  by_cases c60 : (aI h10 (fR h4 x0 3082) (Int32.toNatClampNeg x11)) = 41
  · replace hq := hq.1 c60
    rw [c60]
    refine x_look (tgt := 88) (off := 73) dX12_parseFactor_15 (by decide) (by decide) (by decide) ?_
    refine x_aload_n 1 dX12_parseFactor_88 rfl ?_
    refine x_bipush (v := 53) dX12_parseFactor_89 (by decide) ?_
    refine x_aload_n 1 dX12_parseFactor_91 rfl ?_
    have t61 : tg h10 x0 = 13 := e12.tg t7 (by decide)
    obtain ⟨g62, g63, hq⟩ := hq
    refine x_callV (Yc := YX12_take) (as := []) (st := [.int 53, rv x0]) q3794 mvX12_take t61 rfl dX12_parseFactor_92 (xle (xal1 (rv_cat _) xal0) (by decide)) (xfr g62) (xlo (xsw1 rfl (xsw1 (rv_cat _) xsw0)) (by decide) g63) (xKi hq (fun x65 h64 hq e66 => ?_) (fun _ _ q _ => q))
    replace hq := hq e66
    have t67 : tg h64 x0 = 13 := e66.tg t61 (by decide)
    obtain ⟨g68, g69, hq⟩ := hq
    refine x_callV (Yc := YX12_node) (as := [.int 53, .int x65]) (st := []) q3798 mvX12_node t67 rfl dX12_parseFactor_95 (xle (xal1 (rv_cat _) (xal1 rfl (xal1 rfl xal0))) (by decide)) (xfr g68) (xlo xsw0 (by decide) g69) (xKi hq (fun x71 h70 hq e72 => ?_) (fun _ _ q _ => q))
    replace hq := hq e72
    refine x_istore_n (lv' := [(1, .int x71), (0, rv x0)]) dX12_parseFactor_98 (by decide) (by first | rfl | (simp [rv_cat, Value.category]; done) | (simp [rv_cat, Value.category]; decide)) ?_
    refine x_goto (tgt := 257) dX12_parseFactor_99 (by decide) ?_
    refine xP.pick (lv' := [(0, rv x0), (1, .int x71)]) [1, 0] rfl ?_
    exact uX12_parseFactor_257 hq
  replace hq := hq.2
  by_cases c73 : (aI h10 (fR h4 x0 3082) (Int32.toNatClampNeg x11)) = 42
  · replace hq := hq.1 c73
    rw [c73]
    refine x_look (tgt := 102) (off := 87) dX12_parseFactor_15 (by decide) (by decide) (by decide) ?_
    refine x_aload_n 1 dX12_parseFactor_102 rfl ?_
    refine x_bipush (v := 54) dX12_parseFactor_103 (by decide) ?_
    refine x_aload_n 1 dX12_parseFactor_105 rfl ?_
    have t74 : tg h10 x0 = 13 := e12.tg t7 (by decide)
    obtain ⟨g75, g76, hq⟩ := hq
    refine x_callV (Yc := YX12_take) (as := []) (st := [.int 54, rv x0]) q3794 mvX12_take t74 rfl dX12_parseFactor_106 (xle (xal1 (rv_cat _) xal0) (by decide)) (xfr g75) (xlo (xsw1 rfl (xsw1 (rv_cat _) xsw0)) (by decide) g76) (xKi hq (fun x78 h77 hq e79 => ?_) (fun _ _ q _ => q))
    replace hq := hq e79
    have t80 : tg h77 x0 = 13 := e79.tg t74 (by decide)
    obtain ⟨g81, g82, hq⟩ := hq
    refine x_callV (Yc := YX12_node) (as := [.int 54, .int x78]) (st := []) q3798 mvX12_node t80 rfl dX12_parseFactor_109 (xle (xal1 (rv_cat _) (xal1 rfl (xal1 rfl xal0))) (by decide)) (xfr g81) (xlo xsw0 (by decide) g82) (xKi hq (fun x84 h83 hq e85 => ?_) (fun _ _ q _ => q))
    replace hq := hq e85
    refine x_istore_n (lv' := [(1, .int x84), (0, rv x0)]) dX12_parseFactor_112 (by decide) (by first | rfl | (simp [rv_cat, Value.category]; done) | (simp [rv_cat, Value.category]; decide)) ?_
    refine x_goto (tgt := 257) dX12_parseFactor_113 (by decide) ?_
    refine xP.pick (lv' := [(0, rv x0), (1, .int x84)]) [1, 0] rfl ?_
    exact uX12_parseFactor_257 hq
  replace hq := hq.2
  by_cases c86 : (aI h10 (fR h4 x0 3082) (Int32.toNatClampNeg x11)) = 43
  · replace hq := hq.1 c86
    rw [c86]
    refine x_look (tgt := 116) (off := 101) dX12_parseFactor_15 (by decide) (by decide) (by decide) ?_
    refine x_aload_n 1 dX12_parseFactor_116 rfl ?_
    refine x_bipush (v := 55) dX12_parseFactor_117 (by decide) ?_
    refine x_aload_n 1 dX12_parseFactor_119 rfl ?_
    have t87 : tg h10 x0 = 13 := e12.tg t7 (by decide)
    obtain ⟨g88, g89, hq⟩ := hq
    refine x_callV (Yc := YX12_take) (as := []) (st := [.int 55, rv x0]) q3794 mvX12_take t87 rfl dX12_parseFactor_120 (xle (xal1 (rv_cat _) xal0) (by decide)) (xfr g88) (xlo (xsw1 rfl (xsw1 (rv_cat _) xsw0)) (by decide) g89) (xKi hq (fun x91 h90 hq e92 => ?_) (fun _ _ q _ => q))
    replace hq := hq e92
    have t93 : tg h90 x0 = 13 := e92.tg t87 (by decide)
    obtain ⟨g94, g95, hq⟩ := hq
    refine x_callV (Yc := YX12_node) (as := [.int 55, .int x91]) (st := []) q3798 mvX12_node t93 rfl dX12_parseFactor_123 (xle (xal1 (rv_cat _) (xal1 rfl (xal1 rfl xal0))) (by decide)) (xfr g94) (xlo xsw0 (by decide) g95) (xKi hq (fun x97 h96 hq e98 => ?_) (fun _ _ q _ => q))
    replace hq := hq e98
    refine x_istore_n (lv' := [(1, .int x97), (0, rv x0)]) dX12_parseFactor_126 (by decide) (by first | rfl | (simp [rv_cat, Value.category]; done) | (simp [rv_cat, Value.category]; decide)) ?_
    refine x_goto (tgt := 257) dX12_parseFactor_127 (by decide) ?_
    refine xP.pick (lv' := [(0, rv x0), (1, .int x97)]) [1, 0] rfl ?_
    exact uX12_parseFactor_257 hq
  replace hq := hq.2
  by_cases c99 : (aI h10 (fR h4 x0 3082) (Int32.toNatClampNeg x11)) = 60
  · replace hq := hq.1 c99
    rw [c99]
    refine x_look (tgt := 144) (off := 129) dX12_parseFactor_15 (by decide) (by decide) (by decide) ?_
    refine x_aload_n 1 dX12_parseFactor_144 rfl ?_
    refine x_bipush (v := 57) dX12_parseFactor_145 (by decide) ?_
    refine x_aload_n 1 dX12_parseFactor_147 rfl ?_
    have t100 : tg h10 x0 = 13 := e12.tg t7 (by decide)
    obtain ⟨g101, g102, hq⟩ := hq
    refine x_callV (Yc := YX12_take) (as := []) (st := [.int 57, rv x0]) q3794 mvX12_take t100 rfl dX12_parseFactor_148 (xle (xal1 (rv_cat _) xal0) (by decide)) (xfr g101) (xlo (xsw1 rfl (xsw1 (rv_cat _) xsw0)) (by decide) g102) (xKi hq (fun x104 h103 hq e105 => ?_) (fun _ _ q _ => q))
    replace hq := hq e105
    have t106 : tg h103 x0 = 13 := e105.tg t100 (by decide)
    obtain ⟨g107, g108, hq⟩ := hq
    refine x_callV (Yc := YX12_node) (as := [.int 57, .int x104]) (st := []) q3798 mvX12_node t106 rfl dX12_parseFactor_151 (xle (xal1 (rv_cat _) (xal1 rfl (xal1 rfl xal0))) (by decide)) (xfr g107) (xlo xsw0 (by decide) g108) (xKi hq (fun x110 h109 hq e111 => ?_) (fun _ _ q _ => q))
    replace hq := hq e111
    refine x_istore_n (lv' := [(1, .int x110), (0, rv x0)]) dX12_parseFactor_154 (by decide) (by first | rfl | (simp [rv_cat, Value.category]; done) | (simp [rv_cat, Value.category]; decide)) ?_
    refine x_aload_n 1 dX12_parseFactor_155 rfl ?_
    refine x_iload_n 0 dX12_parseFactor_156 rfl ?_
    refine x_aload_n 1 dX12_parseFactor_157 rfl ?_
    have t112 : tg h109 x0 = 13 := e111.tg t106 (by decide)
    obtain ⟨g113, g114, hq⟩ := hq
    refine x_callV (Yc := YX12_parseE) (as := []) (st := [.int x110, rv x0]) q3874 mvX12_parseE t112 rfl dX12_parseFactor_158 (xle (xal1 (rv_cat _) xal0) (by decide)) (xfr g113) (xlo (xsw1 rfl (xsw1 (rv_cat _) xsw0)) (by decide) g114) (xKi hq (fun x116 h115 hq e117 => ?_) (fun _ _ q _ => q))
    replace hq := hq e117
    have t118 : tg h115 x0 = 13 := e117.tg t112 (by decide)
    obtain ⟨g119, g120, hq⟩ := hq
    refine x_callV (Yc := YX12_add) (as := [.int x110, .int x116]) (st := []) q3810 mvX12_add t118 rfl dX12_parseFactor_161 (xle (xal1 (rv_cat _) (xal1 rfl (xal1 rfl xal0))) (by decide)) (xfr g119) (xlo xsw0 (by decide) g120) (xKv hq (fun h121 hq e123 => ?_) (fun _ _ q _ => q))
    replace hq := hq e123
    refine x_aload_n 1 dX12_parseFactor_164 rfl ?_
    refine x_bipush (v := 61) dX12_parseFactor_165 (by decide) ?_
    have t124 : tg h121 x0 = 13 := e123.tg t118 (by decide)
    obtain ⟨g125, g126, hq⟩ := hq
    refine x_callV (Yc := YX12_must) (as := [.int 61]) (st := []) q3778 mvX12_must t124 rfl dX12_parseFactor_167 (xle (xal1 (rv_cat _) (xal1 rfl xal0)) (by decide)) (xfr g125) (xlo xsw0 (by decide) g126) (xKi hq (fun x128 h127 hq e129 => ?_) (fun _ _ q _ => q))
    replace hq := hq e129
    refine x_pop dX12_parseFactor_170 rfl ?_
    refine x_goto (tgt := 257) dX12_parseFactor_171 (by decide) ?_
    refine xP.pick (lv' := [(0, rv x0), (1, .int x110)]) [1, 0] rfl ?_
    exact uX12_parseFactor_257 hq
  replace hq := hq.2
  by_cases c130 : (aI h10 (fR h4 x0 3082) (Int32.toNatClampNeg x11)) = 62
  · replace hq := hq.1 c130
    rw [c130]
    refine x_look (tgt := 197) (off := 182) dX12_parseFactor_15 (by decide) (by decide) (by decide) ?_
    refine x_aload_n 1 dX12_parseFactor_197 rfl ?_
    refine x_bipush (v := 59) dX12_parseFactor_198 (by decide) ?_
    refine x_aload_n 1 dX12_parseFactor_200 rfl ?_
    have t131 : tg h10 x0 = 13 := e12.tg t7 (by decide)
    obtain ⟨g132, g133, hq⟩ := hq
    refine x_callV (Yc := YX12_take) (as := []) (st := [.int 59, rv x0]) q3794 mvX12_take t131 rfl dX12_parseFactor_201 (xle (xal1 (rv_cat _) xal0) (by decide)) (xfr g132) (xlo (xsw1 rfl (xsw1 (rv_cat _) xsw0)) (by decide) g133) (xKi hq (fun x135 h134 hq e136 => ?_) (fun _ _ q _ => q))
    replace hq := hq e136
    have t137 : tg h134 x0 = 13 := e136.tg t131 (by decide)
    obtain ⟨g138, g139, hq⟩ := hq
    refine x_callV (Yc := YX12_node) (as := [.int 59, .int x135]) (st := []) q3798 mvX12_node t137 rfl dX12_parseFactor_204 (xle (xal1 (rv_cat _) (xal1 rfl (xal1 rfl xal0))) (by decide)) (xfr g138) (xlo xsw0 (by decide) g139) (xKi hq (fun x141 h140 hq e142 => ?_) (fun _ _ q _ => q))
    replace hq := hq e142
    refine x_istore_n (lv' := [(1, .int x141), (0, rv x0)]) dX12_parseFactor_207 (by decide) (by first | rfl | (simp [rv_cat, Value.category]; done) | (simp [rv_cat, Value.category]; decide)) ?_
    refine x_aload_n 1 dX12_parseFactor_208 rfl ?_
    refine x_bipush (v := 63) dX12_parseFactor_209 (by decide) ?_
    have t143 : tg h140 x0 = 13 := e142.tg t137 (by decide)
    obtain ⟨g144, g145, hq⟩ := hq
    refine x_callV (Yc := YX12_sees) (as := [.int 63]) (st := []) q3782 mvX12_sees t143 rfl dX12_parseFactor_211 (xle (xal1 (rv_cat _) (xal1 rfl xal0)) (by decide)) (xfr g144) (xlo xsw0 (by decide) g145) (xKi hq (fun x147 h146 hq e148 => ?_) (fun _ _ q _ => q))
    replace hq := hq e148
    refine x_if_ne (tgt := 235) dX12_parseFactor_214 (by decide) (fun c149 => ?_) (fun c149 => ?_)
    · replace hq := hq.1 c149
      refine xP.pick (lv' := [(0, rv x0), (1, .int x141)]) [1, 0] rfl ?_
      exact uX12_parseFactor_235 hq
    · replace hq := hq.2 c149
      refine xP.pick (lv' := [(0, rv x0), (1, .int x141)]) [1, 0] rfl ?_
      exact hq
  replace hq := hq.2
  replace hq := hq c15 c28 c53 c60 c73 c86 c99 c130
  refine x_look (tgt := 253) (off := 238) dX12_parseFactor_15 (by decide) (by rw [lv_osw c15 (show (19 : Int32).toInt = 19 from by decide)]; rw [lv_osw c28 (show (20 : Int32).toInt = 20 from by decide)]; rw [lv_osw c53 (show (40 : Int32).toInt = 40 from by decide)]; rw [lv_osw c60 (show (41 : Int32).toInt = 41 from by decide)]; rw [lv_osw c73 (show (42 : Int32).toInt = 42 from by decide)]; rw [lv_osw c86 (show (43 : Int32).toInt = 43 from by decide)]; rw [lv_osw c99 (show (60 : Int32).toInt = 60 from by decide)]; rw [lv_osw c130 (show (62 : Int32).toInt = 62 from by decide)]; rfl) (by decide) ?_
  refine x_aload_n 1 dX12_parseFactor_253 rfl ?_
  have t150 : tg h10 x0 = 13 := e12.tg t7 (by decide)
  obtain ⟨g151, g152, hq⟩ := hq
  refine x_callV (Yc := YX12_bad) (as := []) (st := []) q3786 mvX12_bad t150 rfl dX12_parseFactor_254 (xle (xal1 (rv_cat _) xal0) (by decide)) (xfr g151) (xlo xsw0 (by decide) g152) (xKv hq (fun h153 hq e155 => ?_) (fun _ _ q _ => q))
  replace hq := hq e155
  refine xP.pick (lv' := [(0, rv x0), (1, .int (-1))]) [1, 0] rfl ?_
  exact uX12_parseFactor_257 hq
theorem rX12_parseFactor {G : xG} {fr lo : Nat} {x0 : Nat} {h : xH} {Q : Outcome → xH → Prop} (hq : bX12_parseFactor G fr lo x0 h Q) : xR G YX12_parseFactor fr lo [rv x0] h Q := by
  show xP _ _ _ _ _ (lv_args 0 _) _ _ _
  rw [show lv_args 0 [rv x0] = [(0, rv x0)] from (xla1 (rv_cat _) xla0)]
  exact uX12_parseFactor hq
set_option maxRecDepth 100000 in
theorem dX12_parsePart_0 : decode cX12_parsePart 0 = .ok (.aload_n 0, 1) := by decide +kernel
set_option maxRecDepth 100000 in
theorem dX12_parsePart_1 : decode cX12_parsePart 1 = .ok (.bipush 62, 2) := by decide +kernel
set_option maxRecDepth 100000 in
theorem dX12_parsePart_3 : decode cX12_parsePart 3 = .ok (.aload_n 0, 1) := by decide +kernel
set_option maxRecDepth 100000 in
theorem dX12_parsePart_4 : decode cX12_parsePart 4 = .ok (.invokevirtual 445, 3) := by decide +kernel
set_option maxRecDepth 100000 in
theorem dX12_parsePart_7 : decode cX12_parsePart 7 = .ok (.invokevirtual 454, 3) := by decide +kernel
set_option maxRecDepth 100000 in
theorem dX12_parsePart_10 : decode cX12_parsePart 10 = .ok (.istore_n 1, 1) := by decide +kernel
set_option maxRecDepth 100000 in
theorem dX12_parsePart_11 : decode cX12_parsePart 11 = .ok (.aload_n 0, 1) := by decide +kernel
set_option maxRecDepth 100000 in
theorem dX12_parsePart_12 : decode cX12_parsePart 12 = .ok (.iload_n 1, 1) := by decide +kernel
set_option maxRecDepth 100000 in
theorem dX12_parsePart_13 : decode cX12_parsePart 13 = .ok (.aload_n 0, 1) := by decide +kernel
set_option maxRecDepth 100000 in
theorem dX12_parsePart_14 : decode cX12_parsePart 14 = .ok (.invokevirtual 518, 3) := by decide +kernel
set_option maxRecDepth 100000 in
theorem dX12_parsePart_17 : decode cX12_parsePart 17 = .ok (.invokevirtual 460, 3) := by decide +kernel
set_option maxRecDepth 100000 in
theorem dX12_parsePart_20 : decode cX12_parsePart 20 = .ok (.aload_n 0, 1) := by decide +kernel
set_option maxRecDepth 100000 in
theorem dX12_parsePart_21 : decode cX12_parsePart 21 = .ok (.bipush 69, 2) := by decide +kernel
set_option maxRecDepth 100000 in
theorem dX12_parsePart_23 : decode cX12_parsePart 23 = .ok (.invokevirtual 439, 3) := by decide +kernel
set_option maxRecDepth 100000 in
theorem dX12_parsePart_26 : decode cX12_parsePart 26 = .ok (.ifCond .eq 22, 3) := by decide +kernel
set_option maxRecDepth 100000 in
theorem dX12_parsePart_29 : decode cX12_parsePart 29 = .ok (.aload_n 0, 1) := by decide +kernel
set_option maxRecDepth 100000 in
theorem dX12_parsePart_30 : decode cX12_parsePart 30 = .ok (.getfield 82, 3) := by decide +kernel
set_option maxRecDepth 100000 in
theorem dX12_parsePart_33 : decode cX12_parsePart 33 = .ok (.iload_n 1, 1) := by decide +kernel
set_option maxRecDepth 100000 in
theorem dX12_parsePart_34 : decode cX12_parsePart 34 = .ok (.aload_n 0, 1) := by decide +kernel
set_option maxRecDepth 100000 in
theorem dX12_parsePart_35 : decode cX12_parsePart 35 = .ok (.invokevirtual 442, 3) := by decide +kernel
set_option maxRecDepth 100000 in
theorem dX12_parsePart_38 : decode cX12_parsePart 38 = .ok (.iastore, 1) := by decide +kernel
set_option maxRecDepth 100000 in
theorem dX12_parsePart_39 : decode cX12_parsePart 39 = .ok (.aload_n 0, 1) := by decide +kernel
set_option maxRecDepth 100000 in
theorem dX12_parsePart_40 : decode cX12_parsePart 40 = .ok (.iload_n 1, 1) := by decide +kernel
set_option maxRecDepth 100000 in
theorem dX12_parsePart_41 : decode cX12_parsePart 41 = .ok (.aload_n 0, 1) := by decide +kernel
set_option maxRecDepth 100000 in
theorem dX12_parsePart_42 : decode cX12_parsePart 42 = .ok (.invokevirtual 518, 3) := by decide +kernel
set_option maxRecDepth 100000 in
theorem dX12_parsePart_45 : decode cX12_parsePart 45 = .ok (.invokevirtual 460, 3) := by decide +kernel
set_option maxRecDepth 100000 in
theorem dX12_parsePart_48 : decode cX12_parsePart 48 = .ok (.iload_n 1, 1) := by decide +kernel
set_option maxRecDepth 100000 in
theorem dX12_parsePart_49 : decode cX12_parsePart 49 = .ok (.ireturn, 1) := by decide +kernel
set_option maxRecDepth 100000 in
def bX12_parsePart_48 (G : xG) (fr lo : Nat) (x1 : Int32) (h : xH) (Q : Outcome → xH → Prop) : Prop := Q (.returned (some (.int x1))) h
set_option maxRecDepth 100000 in
theorem uX12_parsePart_48 {G : xG} {fr lo : Nat} {x1 : Int32} {h : xH} {Q : Outcome → xH → Prop} (hq : bX12_parsePart_48 G fr lo x1 h Q) : xP G YX12_parsePart fr lo 48 [(1, .int x1)] [] h Q := by
  unfold bX12_parsePart_48 at hq
  refine x_iload_n 0 dX12_parsePart_48 rfl ?_
  exact x_iret rfl rfl dX12_parsePart_49 hq
set_option maxRecDepth 100000 in
def bX12_parsePart (G : xG) (fr lo : Nat) (x0 : Nat) (h : xH) (Q : Outcome → xH → Prop) : Prop := tg h x0 = 13 ∧ 1 ≤ fr ∧ 14 ≤ lo ∧ xRi G YX12_now (fr - 1) (lo - 14) [rv x0] h (fun x5 h4 => xext h h4 → 1 ≤ fr ∧ 15 ≤ lo ∧ xRi G YX12_node (fr - 1) (lo - 15) [rv x0, .int 62, .int x5] h4 (fun x11 h10 => xext h4 h10 → 1 ≤ fr ∧ 15 ≤ lo ∧ xRi G YX12_parseE (fr - 1) (lo - 15) [rv x0] h10 (fun x17 h16 => xext h10 h16 → 1 ≤ fr ∧ 14 ≤ lo ∧ xRv G YX12_add (fr - 1) (lo - 14) [rv x0, .int x11, .int x17] h16 (fun h22 => xext h16 h22 → 1 ≤ fr ∧ 13 ≤ lo ∧ xRi G YX12_sees (fr - 1) (lo - 13) [rv x0, .int 69] h22 (fun x29 h28 => xext h22 h28 → ((x29 = 0 → bX12_parsePart_48 G fr lo x11 h28 Q) ∧ (¬ x29 = 0 → 1 ≤ fr ∧ 15 ≤ lo ∧ xRi G YX12_take (fr - 1) (lo - 15) [rv x0] h28 (fun x36 h35 => xext h28 h35 → tg h35 (fR h28 x0 3106) = 100 ∧ vp_in x11 (ln h35 (fR h28 x0 3106)) ∧ (∀ h40 : xH, h40 = tI h35 (fR h28 x0 3106) (Int32.toNatClampNeg x11) x36 → 1 ≤ fr ∧ 15 ≤ lo ∧ xRi G YX12_parseE (fr - 1) (lo - 15) [rv x0] h40 (fun x47 h46 => xext h40 h46 → 1 ≤ fr ∧ 14 ≤ lo ∧ xRv G YX12_add (fr - 1) (lo - 14) [rv x0, .int x11, .int x47] h46 (fun h52 => xext h46 h52 → bX12_parsePart_48 G fr lo x11 h52 Q) (fun r h2 => Q (.threw r) h2)) (fun r h2 => Q (.threw r) h2))) (fun r h2 => Q (.threw r) h2)))) (fun r h2 => Q (.threw r) h2)) (fun r h2 => Q (.threw r) h2)) (fun r h2 => Q (.threw r) h2)) (fun r h2 => Q (.threw r) h2)) (fun r h2 => Q (.threw r) h2)
set_option maxRecDepth 100000 in
theorem uX12_parsePart {G : xG} {fr lo : Nat} {x0 : Nat} {h : xH} {Q : Outcome → xH → Prop} (hq : bX12_parsePart G fr lo x0 h Q) : xP G YX12_parsePart fr lo 0 [(0, rv x0)] [] h Q := by
  unfold bX12_parsePart at hq
  refine x_aload_n 0 dX12_parsePart_0 rfl ?_
  refine x_bipush (v := 62) dX12_parsePart_1 (by decide) ?_
  refine x_aload_n 0 dX12_parsePart_3 rfl ?_
  obtain ⟨g1, hq⟩ := hq
  obtain ⟨g2, g3, hq⟩ := hq
  refine x_callV (Yc := YX12_now) (as := []) (st := [.int 62, rv x0]) q3790 mvX12_now g1 rfl dX12_parsePart_4 (xle (xal1 (rv_cat _) xal0) (by decide)) (xfr g2) (xlo (xsw1 rfl (xsw1 (rv_cat _) xsw0)) (by decide) g3) (xKi hq (fun x5 h4 hq e6 => ?_) (fun _ _ q _ => q))
  replace hq := hq e6
  have t7 : tg h4 x0 = 13 := e6.tg g1 (by decide)
  obtain ⟨g8, g9, hq⟩ := hq
  refine x_callV (Yc := YX12_node) (as := [.int 62, .int x5]) (st := []) q3798 mvX12_node t7 rfl dX12_parsePart_7 (xle (xal1 (rv_cat _) (xal1 rfl (xal1 rfl xal0))) (by decide)) (xfr g8) (xlo xsw0 (by decide) g9) (xKi hq (fun x11 h10 hq e12 => ?_) (fun _ _ q _ => q))
  replace hq := hq e12
  refine x_istore_n (lv' := [(1, .int x11), (0, rv x0)]) dX12_parsePart_10 (by decide) (by first | rfl | (simp [rv_cat, Value.category]; done) | (simp [rv_cat, Value.category]; decide)) ?_
  refine x_aload_n 1 dX12_parsePart_11 rfl ?_
  refine x_iload_n 0 dX12_parsePart_12 rfl ?_
  refine x_aload_n 1 dX12_parsePart_13 rfl ?_
  have t13 : tg h10 x0 = 13 := e12.tg t7 (by decide)
  obtain ⟨g14, g15, hq⟩ := hq
  refine x_callV (Yc := YX12_parseE) (as := []) (st := [.int x11, rv x0]) q3874 mvX12_parseE t13 rfl dX12_parsePart_14 (xle (xal1 (rv_cat _) xal0) (by decide)) (xfr g14) (xlo (xsw1 rfl (xsw1 (rv_cat _) xsw0)) (by decide) g15) (xKi hq (fun x17 h16 hq e18 => ?_) (fun _ _ q _ => q))
  replace hq := hq e18
  have t19 : tg h16 x0 = 13 := e18.tg t13 (by decide)
  obtain ⟨g20, g21, hq⟩ := hq
  refine x_callV (Yc := YX12_add) (as := [.int x11, .int x17]) (st := []) q3810 mvX12_add t19 rfl dX12_parsePart_17 (xle (xal1 (rv_cat _) (xal1 rfl (xal1 rfl xal0))) (by decide)) (xfr g20) (xlo xsw0 (by decide) g21) (xKv hq (fun h22 hq e24 => ?_) (fun _ _ q _ => q))
  replace hq := hq e24
  refine x_aload_n 1 dX12_parsePart_20 rfl ?_
  refine x_bipush (v := 69) dX12_parsePart_21 (by decide) ?_
  have t25 : tg h22 x0 = 13 := e24.tg t19 (by decide)
  obtain ⟨g26, g27, hq⟩ := hq
  refine x_callV (Yc := YX12_sees) (as := [.int 69]) (st := []) q3782 mvX12_sees t25 rfl dX12_parsePart_23 (xle (xal1 (rv_cat _) (xal1 rfl xal0)) (by decide)) (xfr g26) (xlo xsw0 (by decide) g27) (xKi hq (fun x29 h28 hq e30 => ?_) (fun _ _ q _ => q))
  replace hq := hq e30
  refine x_if_eq (tgt := 48) dX12_parsePart_26 (by decide) (fun c31 => ?_) (fun c31 => ?_)
  · replace hq := hq.1 c31
    refine xP.pick (lv' := [(1, .int x11)]) [0] rfl ?_
    exact uX12_parsePart_48 hq
  · replace hq := hq.2 c31
    refine x_aload_n 1 dX12_parsePart_29 rfl ?_
    have t32 : tg h28 x0 = 13 := e30.tg t25 (by decide)
    refine x_get (v := rv (fR h28 x0 3106)) fdX12_82 dX12_parsePart_30 t32 rfl ?_
    refine x_iload_n 0 dX12_parsePart_33 rfl ?_
    refine x_aload_n 1 dX12_parsePart_34 rfl ?_
    obtain ⟨g33, g34, hq⟩ := hq
    refine x_callV (Yc := YX12_take) (as := []) (st := [.int x11, rv (fR h28 x0 3106)]) q3794 mvX12_take t32 rfl dX12_parsePart_35 (xle (xal1 (rv_cat _) xal0) (by decide)) (xfr g33) (xlo (xsw1 rfl (xsw1 (rv_cat _) xsw0)) (by decide) g34) (xKi hq (fun x36 h35 hq e37 => ?_) (fun _ _ q _ => q))
    replace hq := hq e37
    obtain ⟨g38, hq⟩ := hq
    obtain ⟨i39, hq⟩ := hq
    obtain ⟨h40, e41⟩ : ∃ y, y = tI h35 (fR h28 x0 3106) (Int32.toNatClampNeg x11) x36 := ⟨_, rfl⟩
    replace hq := hq h40 e41
    refine x_iast' g38 i39 dX12_parsePart_38 e41 ?_
    refine x_aload_n 1 dX12_parsePart_39 rfl ?_
    refine x_iload_n 0 dX12_parsePart_40 rfl ?_
    refine x_aload_n 1 dX12_parsePart_41 rfl ?_
    have t42 : tg h35 x0 = 13 := e37.tg t32 (by decide)
    have t43 : tg h40 x0 = 13 := by rw [e41]; exact t42
    obtain ⟨g44, g45, hq⟩ := hq
    refine x_callV (Yc := YX12_parseE) (as := []) (st := [.int x11, rv x0]) q3874 mvX12_parseE t43 rfl dX12_parsePart_42 (xle (xal1 (rv_cat _) xal0) (by decide)) (xfr g44) (xlo (xsw1 rfl (xsw1 (rv_cat _) xsw0)) (by decide) g45) (xKi hq (fun x47 h46 hq e48 => ?_) (fun _ _ q _ => q))
    replace hq := hq e48
    have t49 : tg h46 x0 = 13 := e48.tg t43 (by decide)
    obtain ⟨g50, g51, hq⟩ := hq
    refine x_callV (Yc := YX12_add) (as := [.int x11, .int x47]) (st := []) q3810 mvX12_add t49 rfl dX12_parsePart_45 (xle (xal1 (rv_cat _) (xal1 rfl (xal1 rfl xal0))) (by decide)) (xfr g50) (xlo xsw0 (by decide) g51) (xKv hq (fun h52 hq e54 => ?_) (fun _ _ q _ => q))
    replace hq := hq e54
    refine xP.pick (lv' := [(1, .int x11)]) [0] rfl ?_
    exact uX12_parsePart_48 hq
theorem rX12_parsePart {G : xG} {fr lo : Nat} {x0 : Nat} {h : xH} {Q : Outcome → xH → Prop} (hq : bX12_parsePart G fr lo x0 h Q) : xR G YX12_parsePart fr lo [rv x0] h Q := by
  show xP _ _ _ _ _ (lv_args 0 _) _ _ _
  rw [show lv_args 0 [rv x0] = [(0, rv x0)] from (xla1 (rv_cat _) xla0)]
  exact uX12_parsePart hq
set_option maxRecDepth 100000 in
theorem dX12_parseNameFactor_0 : decode cX12_parseNameFactor 0 = .ok (.aload_n 0, 1) := by decide +kernel
set_option maxRecDepth 100000 in
theorem dX12_parseNameFactor_1 : decode cX12_parseNameFactor 1 = .ok (.invokevirtual 442, 3) := by decide +kernel
set_option maxRecDepth 100000 in
theorem dX12_parseNameFactor_4 : decode cX12_parseNameFactor 4 = .ok (.istore_n 1, 1) := by decide +kernel
set_option maxRecDepth 100000 in
theorem dX12_parseNameFactor_5 : decode cX12_parseNameFactor 5 = .ok (.aload_n 0, 1) := by decide +kernel
set_option maxRecDepth 100000 in
theorem dX12_parseNameFactor_6 : decode cX12_parseNameFactor 6 = .ok (.bipush 60, 2) := by decide +kernel
set_option maxRecDepth 100000 in
theorem dX12_parseNameFactor_8 : decode cX12_parseNameFactor 8 = .ok (.invokevirtual 439, 3) := by decide +kernel
set_option maxRecDepth 100000 in
theorem dX12_parseNameFactor_11 : decode cX12_parseNameFactor 11 = .ok (.ifCond .ne 9, 3) := by decide +kernel
set_option maxRecDepth 100000 in
theorem dX12_parseNameFactor_14 : decode cX12_parseNameFactor 14 = .ok (.aload_n 0, 1) := by decide +kernel
set_option maxRecDepth 100000 in
theorem dX12_parseNameFactor_15 : decode cX12_parseNameFactor 15 = .ok (.iload_n 1, 1) := by decide +kernel
set_option maxRecDepth 100000 in
theorem dX12_parseNameFactor_16 : decode cX12_parseNameFactor 16 = .ok (.invokevirtual 533, 3) := by decide +kernel
set_option maxRecDepth 100000 in
theorem dX12_parseNameFactor_19 : decode cX12_parseNameFactor 19 = .ok (.ireturn, 1) := by decide +kernel
set_option maxRecDepth 100000 in
theorem dX12_parseNameFactor_20 : decode cX12_parseNameFactor 20 = .ok (.aload_n 0, 1) := by decide +kernel
set_option maxRecDepth 100000 in
theorem dX12_parseNameFactor_21 : decode cX12_parseNameFactor 21 = .ok (.bipush 60, 2) := by decide +kernel
set_option maxRecDepth 100000 in
theorem dX12_parseNameFactor_23 : decode cX12_parseNameFactor 23 = .ok (.iload_n 1, 1) := by decide +kernel
set_option maxRecDepth 100000 in
theorem dX12_parseNameFactor_24 : decode cX12_parseNameFactor 24 = .ok (.invokevirtual 454, 3) := by decide +kernel
set_option maxRecDepth 100000 in
theorem dX12_parseNameFactor_27 : decode cX12_parseNameFactor 27 = .ok (.istore_n 2, 1) := by decide +kernel
set_option maxRecDepth 100000 in
theorem dX12_parseNameFactor_28 : decode cX12_parseNameFactor 28 = .ok (.aload_n 0, 1) := by decide +kernel
set_option maxRecDepth 100000 in
theorem dX12_parseNameFactor_29 : decode cX12_parseNameFactor 29 = .ok (.invokevirtual 442, 3) := by decide +kernel
set_option maxRecDepth 100000 in
theorem dX12_parseNameFactor_32 : decode cX12_parseNameFactor 32 = .ok (.pop, 1) := by decide +kernel
set_option maxRecDepth 100000 in
theorem dX12_parseNameFactor_33 : decode cX12_parseNameFactor 33 = .ok (.aload_n 0, 1) := by decide +kernel
set_option maxRecDepth 100000 in
theorem dX12_parseNameFactor_34 : decode cX12_parseNameFactor 34 = .ok (.iload_n 2, 1) := by decide +kernel
set_option maxRecDepth 100000 in
theorem dX12_parseNameFactor_35 : decode cX12_parseNameFactor 35 = .ok (.aload_n 0, 1) := by decide +kernel
set_option maxRecDepth 100000 in
theorem dX12_parseNameFactor_36 : decode cX12_parseNameFactor 36 = .ok (.invokevirtual 518, 3) := by decide +kernel
set_option maxRecDepth 100000 in
theorem dX12_parseNameFactor_39 : decode cX12_parseNameFactor 39 = .ok (.invokevirtual 460, 3) := by decide +kernel
set_option maxRecDepth 100000 in
theorem dX12_parseNameFactor_42 : decode cX12_parseNameFactor 42 = .ok (.aload_n 0, 1) := by decide +kernel
set_option maxRecDepth 100000 in
theorem dX12_parseNameFactor_43 : decode cX12_parseNameFactor 43 = .ok (.bipush 66, 2) := by decide +kernel
set_option maxRecDepth 100000 in
theorem dX12_parseNameFactor_45 : decode cX12_parseNameFactor 45 = .ok (.invokevirtual 463, 3) := by decide +kernel
set_option maxRecDepth 100000 in
theorem dX12_parseNameFactor_48 : decode cX12_parseNameFactor 48 = .ok (.ifCond .ne (-15), 3) := by decide +kernel
set_option maxRecDepth 100000 in
theorem dX12_parseNameFactor_51 : decode cX12_parseNameFactor 51 = .ok (.aload_n 0, 1) := by decide +kernel
set_option maxRecDepth 100000 in
theorem dX12_parseNameFactor_52 : decode cX12_parseNameFactor 52 = .ok (.bipush 61, 2) := by decide +kernel
set_option maxRecDepth 100000 in
theorem dX12_parseNameFactor_54 : decode cX12_parseNameFactor 54 = .ok (.invokevirtual 457, 3) := by decide +kernel
set_option maxRecDepth 100000 in
theorem dX12_parseNameFactor_57 : decode cX12_parseNameFactor 57 = .ok (.pop, 1) := by decide +kernel
set_option maxRecDepth 100000 in
theorem dX12_parseNameFactor_58 : decode cX12_parseNameFactor 58 = .ok (.iload_n 2, 1) := by decide +kernel
set_option maxRecDepth 100000 in
theorem dX12_parseNameFactor_59 : decode cX12_parseNameFactor 59 = .ok (.ireturn, 1) := by decide +kernel
def lX12_parseNameFactor_33 (G : xG) (fr lo : Nat) (x0 : Nat) (x2 : Int32) (h : xH) (Q : Outcome → xH → Prop) : Prop := xP G YX12_parseNameFactor fr lo 33 [(0, rv x0), (2, .int x2)] [] h Q
set_option maxRecDepth 100000 in
def bX12_parseNameFactor_33 (G : xG) (fr lo : Nat) (x0 : Nat) (x2 : Int32) (h : xH) (Q : Outcome → xH → Prop) : Prop := tg h x0 = 13 ∧ 1 ≤ fr ∧ 15 ≤ lo ∧ xRi G YX12_parseE (fr - 1) (lo - 15) [rv x0] h (fun x5 h4 => xext h h4 → 1 ≤ fr ∧ 14 ≤ lo ∧ xRv G YX12_add (fr - 1) (lo - 14) [rv x0, .int x2, .int x5] h4 (fun h10 => xext h4 h10 → 1 ≤ fr ∧ 13 ≤ lo ∧ xRi G YX12_takes (fr - 1) (lo - 13) [rv x0, .int 66] h10 (fun x17 h16 => xext h10 h16 → ((¬ x17 = 0 → lX12_parseNameFactor_33 G fr lo x0 x2 h16 Q) ∧ (x17 = 0 → 1 ≤ fr ∧ 13 ≤ lo ∧ xRi G YX12_must (fr - 1) (lo - 13) [rv x0, .int 61] h16 (fun x24 h23 => xext h16 h23 → Q (.returned (some (.int x2))) h23) (fun r h2 => Q (.threw r) h2)))) (fun r h2 => Q (.threw r) h2)) (fun r h2 => Q (.threw r) h2)) (fun r h2 => Q (.threw r) h2)
set_option maxRecDepth 100000 in
theorem uX12_parseNameFactor_33 {G : xG} {fr lo : Nat} {x0 : Nat} {x2 : Int32} {h : xH} {Q : Outcome → xH → Prop} (hq : bX12_parseNameFactor_33 G fr lo x0 x2 h Q) : xP G YX12_parseNameFactor fr lo 33 [(0, rv x0), (2, .int x2)] [] h Q := by
  unfold bX12_parseNameFactor_33 at hq
  refine x_aload_n 0 dX12_parseNameFactor_33 rfl ?_
  refine x_iload_n 1 dX12_parseNameFactor_34 rfl ?_
  refine x_aload_n 0 dX12_parseNameFactor_35 rfl ?_
  obtain ⟨g1, hq⟩ := hq
  obtain ⟨g2, g3, hq⟩ := hq
  refine x_callV (Yc := YX12_parseE) (as := []) (st := [.int x2, rv x0]) q3874 mvX12_parseE g1 rfl dX12_parseNameFactor_36 (xle (xal1 (rv_cat _) xal0) (by decide)) (xfr g2) (xlo (xsw1 rfl (xsw1 (rv_cat _) xsw0)) (by decide) g3) (xKi hq (fun x5 h4 hq e6 => ?_) (fun _ _ q _ => q))
  replace hq := hq e6
  have t7 : tg h4 x0 = 13 := e6.tg g1 (by decide)
  obtain ⟨g8, g9, hq⟩ := hq
  refine x_callV (Yc := YX12_add) (as := [.int x2, .int x5]) (st := []) q3810 mvX12_add t7 rfl dX12_parseNameFactor_39 (xle (xal1 (rv_cat _) (xal1 rfl (xal1 rfl xal0))) (by decide)) (xfr g8) (xlo xsw0 (by decide) g9) (xKv hq (fun h10 hq e12 => ?_) (fun _ _ q _ => q))
  replace hq := hq e12
  refine x_aload_n 0 dX12_parseNameFactor_42 rfl ?_
  refine x_bipush (v := 66) dX12_parseNameFactor_43 (by decide) ?_
  have t13 : tg h10 x0 = 13 := e12.tg t7 (by decide)
  obtain ⟨g14, g15, hq⟩ := hq
  refine x_callV (Yc := YX12_takes) (as := [.int 66]) (st := []) q3802 mvX12_takes t13 rfl dX12_parseNameFactor_45 (xle (xal1 (rv_cat _) (xal1 rfl xal0)) (by decide)) (xfr g14) (xlo xsw0 (by decide) g15) (xKi hq (fun x17 h16 hq e18 => ?_) (fun _ _ q _ => q))
  replace hq := hq e18
  refine x_if_ne (tgt := 33) dX12_parseNameFactor_48 (by decide) (fun c19 => ?_) (fun c19 => ?_)
  · replace hq := hq.1 c19
    exact hq
  · replace hq := hq.2 c19
    refine x_aload_n 0 dX12_parseNameFactor_51 rfl ?_
    refine x_bipush (v := 61) dX12_parseNameFactor_52 (by decide) ?_
    have t20 : tg h16 x0 = 13 := e18.tg t13 (by decide)
    obtain ⟨g21, g22, hq⟩ := hq
    refine x_callV (Yc := YX12_must) (as := [.int 61]) (st := []) q3778 mvX12_must t20 rfl dX12_parseNameFactor_54 (xle (xal1 (rv_cat _) (xal1 rfl xal0)) (by decide)) (xfr g21) (xlo xsw0 (by decide) g22) (xKi hq (fun x24 h23 hq e25 => ?_) (fun _ _ q _ => q))
    replace hq := hq e25
    refine x_pop dX12_parseNameFactor_57 rfl ?_
    refine x_iload_n 1 dX12_parseNameFactor_58 rfl ?_
    exact x_iret rfl rfl dX12_parseNameFactor_59 hq
set_option maxRecDepth 100000 in
def bX12_parseNameFactor (G : xG) (fr lo : Nat) (x0 : Nat) (h : xH) (Q : Outcome → xH → Prop) : Prop := tg h x0 = 13 ∧ 1 ≤ fr ∧ 13 ≤ lo ∧ xRi G YX12_take (fr - 1) (lo - 13) [rv x0] h (fun x5 h4 => xext h h4 → 1 ≤ fr ∧ 13 ≤ lo ∧ xRi G YX12_sees (fr - 1) (lo - 13) [rv x0, .int 60] h4 (fun x11 h10 => xext h4 h10 → ((¬ x11 = 0 → 1 ≤ fr ∧ 15 ≤ lo ∧ xRi G YX12_node (fr - 1) (lo - 15) [rv x0, .int 60, .int x5] h10 (fun x18 h17 => xext h10 h17 → 1 ≤ fr ∧ 13 ≤ lo ∧ xRi G YX12_take (fr - 1) (lo - 13) [rv x0] h17 (fun x24 h23 => xext h17 h23 → lX12_parseNameFactor_33 G fr lo x0 x18 h23 Q) (fun r h2 => Q (.threw r) h2)) (fun r h2 => Q (.threw r) h2)) ∧ (x11 = 0 → 1 ≤ fr ∧ 15 ≤ lo ∧ xRi G YX12_parseSelectors (fr - 1) (lo - 15) [rv x0, .int x5] h10 (fun x30 h29 => xext h10 h29 → Q (.returned (some (.int x30))) h29) (fun r h2 => Q (.threw r) h2)))) (fun r h2 => Q (.threw r) h2)) (fun r h2 => Q (.threw r) h2)
set_option maxRecDepth 100000 in
theorem uX12_parseNameFactor {G : xG} {fr lo : Nat} {x0 : Nat} {h : xH} {Q : Outcome → xH → Prop} (hq : bX12_parseNameFactor G fr lo x0 h Q) : xP G YX12_parseNameFactor fr lo 0 [(0, rv x0)] [] h Q := by
  unfold bX12_parseNameFactor at hq
  refine x_aload_n 0 dX12_parseNameFactor_0 rfl ?_
  obtain ⟨g1, hq⟩ := hq
  obtain ⟨g2, g3, hq⟩ := hq
  refine x_callV (Yc := YX12_take) (as := []) (st := []) q3794 mvX12_take g1 rfl dX12_parseNameFactor_1 (xle (xal1 (rv_cat _) xal0) (by decide)) (xfr g2) (xlo xsw0 (by decide) g3) (xKi hq (fun x5 h4 hq e6 => ?_) (fun _ _ q _ => q))
  replace hq := hq e6
  refine x_istore_n (lv' := [(1, .int x5), (0, rv x0)]) dX12_parseNameFactor_4 (by decide) (by first | rfl | (simp [rv_cat, Value.category]; done) | (simp [rv_cat, Value.category]; decide)) ?_
  refine x_aload_n 1 dX12_parseNameFactor_5 rfl ?_
  refine x_bipush (v := 60) dX12_parseNameFactor_6 (by decide) ?_
  have t7 : tg h4 x0 = 13 := e6.tg g1 (by decide)
  obtain ⟨g8, g9, hq⟩ := hq
  refine x_callV (Yc := YX12_sees) (as := [.int 60]) (st := []) q3782 mvX12_sees t7 rfl dX12_parseNameFactor_8 (xle (xal1 (rv_cat _) (xal1 rfl xal0)) (by decide)) (xfr g8) (xlo xsw0 (by decide) g9) (xKi hq (fun x11 h10 hq e12 => ?_) (fun _ _ q _ => q))
  replace hq := hq e12
  refine x_if_ne (tgt := 20) dX12_parseNameFactor_11 (by decide) (fun c13 => ?_) (fun c13 => ?_)
  · replace hq := hq.1 c13
    refine x_aload_n 1 dX12_parseNameFactor_20 rfl ?_
    refine x_bipush (v := 60) dX12_parseNameFactor_21 (by decide) ?_
    refine x_iload_n 0 dX12_parseNameFactor_23 rfl ?_
    have t14 : tg h10 x0 = 13 := e12.tg t7 (by decide)
    obtain ⟨g15, g16, hq⟩ := hq
    refine x_callV (Yc := YX12_node) (as := [.int 60, .int x5]) (st := []) q3798 mvX12_node t14 rfl dX12_parseNameFactor_24 (xle (xal1 (rv_cat _) (xal1 rfl (xal1 rfl xal0))) (by decide)) (xfr g15) (xlo xsw0 (by decide) g16) (xKi hq (fun x18 h17 hq e19 => ?_) (fun _ _ q _ => q))
    replace hq := hq e19
    refine x_istore_n (lv' := [(2, .int x18), (1, .int x5), (0, rv x0)]) dX12_parseNameFactor_27 (by decide) rfl ?_
    refine x_aload_n 2 dX12_parseNameFactor_28 rfl ?_
    have t20 : tg h17 x0 = 13 := e19.tg t14 (by decide)
    obtain ⟨g21, g22, hq⟩ := hq
    refine x_callV (Yc := YX12_take) (as := []) (st := []) q3794 mvX12_take t20 rfl dX12_parseNameFactor_29 (xle (xal1 (rv_cat _) xal0) (by decide)) (xfr g21) (xlo xsw0 (by decide) g22) (xKi hq (fun x24 h23 hq e25 => ?_) (fun _ _ q _ => q))
    replace hq := hq e25
    refine x_pop dX12_parseNameFactor_32 rfl ?_
    refine xP.pick (lv' := [(0, rv x0), (2, .int x18)]) [2, 0] rfl ?_
    exact hq
  · replace hq := hq.2 c13
    refine x_aload_n 1 dX12_parseNameFactor_14 rfl ?_
    refine x_iload_n 0 dX12_parseNameFactor_15 rfl ?_
    have t26 : tg h10 x0 = 13 := e12.tg t7 (by decide)
    obtain ⟨g27, g28, hq⟩ := hq
    refine x_callV (Yc := YX12_parseSelectors) (as := [.int x5]) (st := []) q3898 mvX12_parseSelectors t26 rfl dX12_parseNameFactor_16 (xle (xal1 (rv_cat _) (xal1 rfl xal0)) (by decide)) (xfr g27) (xlo xsw0 (by decide) g28) (xKi hq (fun x30 h29 hq e31 => ?_) (fun _ _ q _ => q))
    replace hq := hq e31
    exact x_iret rfl rfl dX12_parseNameFactor_19 hq
theorem rX12_parseNameFactor {G : xG} {fr lo : Nat} {x0 : Nat} {h : xH} {Q : Outcome → xH → Prop} (hq : bX12_parseNameFactor G fr lo x0 h Q) : xR G YX12_parseNameFactor fr lo [rv x0] h Q := by
  show xP _ _ _ _ _ (lv_args 0 _) _ _ _
  rw [show lv_args 0 [rv x0] = [(0, rv x0)] from (xla1 (rv_cat _) xla0)]
  exact uX12_parseNameFactor hq
set_option maxRecDepth 100000 in
theorem dX12_parseSelectors_0 : decode cX12_parseSelectors 0 = .ok (.aload_n 0, 1) := by decide +kernel
set_option maxRecDepth 100000 in
theorem dX12_parseSelectors_1 : decode cX12_parseSelectors 1 = .ok (.bipush 61, 2) := by decide +kernel
set_option maxRecDepth 100000 in
theorem dX12_parseSelectors_3 : decode cX12_parseSelectors 3 = .ok (.iload_n 1, 1) := by decide +kernel
set_option maxRecDepth 100000 in
theorem dX12_parseSelectors_4 : decode cX12_parseSelectors 4 = .ok (.invokevirtual 454, 3) := by decide +kernel
set_option maxRecDepth 100000 in
theorem dX12_parseSelectors_7 : decode cX12_parseSelectors 7 = .ok (.istore_n 2, 1) := by decide +kernel
set_option maxRecDepth 100000 in
theorem dX12_parseSelectors_8 : decode cX12_parseSelectors 8 = .ok (.aload_n 0, 1) := by decide +kernel
set_option maxRecDepth 100000 in
theorem dX12_parseSelectors_9 : decode cX12_parseSelectors 9 = .ok (.bipush 62, 2) := by decide +kernel
set_option maxRecDepth 100000 in
theorem dX12_parseSelectors_11 : decode cX12_parseSelectors 11 = .ok (.invokevirtual 439, 3) := by decide +kernel
set_option maxRecDepth 100000 in
theorem dX12_parseSelectors_14 : decode cX12_parseSelectors 14 = .ok (.ifCond .ne 21, 3) := by decide +kernel
set_option maxRecDepth 100000 in
theorem dX12_parseSelectors_17 : decode cX12_parseSelectors 17 = .ok (.aload_n 0, 1) := by decide +kernel
set_option maxRecDepth 100000 in
theorem dX12_parseSelectors_18 : decode cX12_parseSelectors 18 = .ok (.bipush 65, 2) := by decide +kernel
set_option maxRecDepth 100000 in
theorem dX12_parseSelectors_20 : decode cX12_parseSelectors 20 = .ok (.invokevirtual 439, 3) := by decide +kernel
set_option maxRecDepth 100000 in
theorem dX12_parseSelectors_23 : decode cX12_parseSelectors 23 = .ok (.ifCond .ne 12, 3) := by decide +kernel
set_option maxRecDepth 100000 in
theorem dX12_parseSelectors_26 : decode cX12_parseSelectors 26 = .ok (.aload_n 0, 1) := by decide +kernel
set_option maxRecDepth 100000 in
theorem dX12_parseSelectors_27 : decode cX12_parseSelectors 27 = .ok (.bipush 70, 2) := by decide +kernel
set_option maxRecDepth 100000 in
theorem dX12_parseSelectors_29 : decode cX12_parseSelectors 29 = .ok (.invokevirtual 439, 3) := by decide +kernel
set_option maxRecDepth 100000 in
theorem dX12_parseSelectors_32 : decode cX12_parseSelectors 32 = .ok (.ifCond .eq 116, 3) := by decide +kernel
set_option maxRecDepth 100000 in
theorem dX12_parseSelectors_35 : decode cX12_parseSelectors 35 = .ok (.aload_n 0, 1) := by decide +kernel
set_option maxRecDepth 100000 in
theorem dX12_parseSelectors_36 : decode cX12_parseSelectors 36 = .ok (.bipush 70, 2) := by decide +kernel
set_option maxRecDepth 100000 in
theorem dX12_parseSelectors_38 : decode cX12_parseSelectors 38 = .ok (.invokevirtual 439, 3) := by decide +kernel
set_option maxRecDepth 100000 in
theorem dX12_parseSelectors_41 : decode cX12_parseSelectors 41 = .ok (.ifCond .eq 21, 3) := by decide +kernel
set_option maxRecDepth 100000 in
theorem dX12_parseSelectors_44 : decode cX12_parseSelectors 44 = .ok (.aload_n 0, 1) := by decide +kernel
set_option maxRecDepth 100000 in
theorem dX12_parseSelectors_45 : decode cX12_parseSelectors 45 = .ok (.iload_n 2, 1) := by decide +kernel
set_option maxRecDepth 100000 in
theorem dX12_parseSelectors_46 : decode cX12_parseSelectors 46 = .ok (.aload_n 0, 1) := by decide +kernel
set_option maxRecDepth 100000 in
theorem dX12_parseSelectors_47 : decode cX12_parseSelectors 47 = .ok (.bipush 65, 2) := by decide +kernel
set_option maxRecDepth 100000 in
theorem dX12_parseSelectors_49 : decode cX12_parseSelectors 49 = .ok (.aload_n 0, 1) := by decide +kernel
set_option maxRecDepth 100000 in
theorem dX12_parseSelectors_50 : decode cX12_parseSelectors 50 = .ok (.invokevirtual 442, 3) := by decide +kernel
set_option maxRecDepth 100000 in
theorem dX12_parseSelectors_53 : decode cX12_parseSelectors 53 = .ok (.invokevirtual 454, 3) := by decide +kernel
set_option maxRecDepth 100000 in
theorem dX12_parseSelectors_56 : decode cX12_parseSelectors 56 = .ok (.invokevirtual 460, 3) := by decide +kernel
set_option maxRecDepth 100000 in
theorem dX12_parseSelectors_59 : decode cX12_parseSelectors 59 = .ok (.goto (-51), 3) := by decide +kernel
set_option maxRecDepth 100000 in
theorem dX12_parseSelectors_62 : decode cX12_parseSelectors 62 = .ok (.aload_n 0, 1) := by decide +kernel
set_option maxRecDepth 100000 in
theorem dX12_parseSelectors_63 : decode cX12_parseSelectors 63 = .ok (.bipush 65, 2) := by decide +kernel
set_option maxRecDepth 100000 in
theorem dX12_parseSelectors_65 : decode cX12_parseSelectors 65 = .ok (.invokevirtual 439, 3) := by decide +kernel
set_option maxRecDepth 100000 in
theorem dX12_parseSelectors_68 : decode cX12_parseSelectors 68 = .ok (.ifCond .eq 35, 3) := by decide +kernel
set_option maxRecDepth 100000 in
theorem dX12_parseSelectors_71 : decode cX12_parseSelectors 71 = .ok (.aload_n 0, 1) := by decide +kernel
set_option maxRecDepth 100000 in
theorem dX12_parseSelectors_72 : decode cX12_parseSelectors 72 = .ok (.bipush 64, 2) := by decide +kernel
set_option maxRecDepth 100000 in
theorem dX12_parseSelectors_74 : decode cX12_parseSelectors 74 = .ok (.aload_n 0, 1) := by decide +kernel
set_option maxRecDepth 100000 in
theorem dX12_parseSelectors_75 : decode cX12_parseSelectors 75 = .ok (.invokevirtual 442, 3) := by decide +kernel
set_option maxRecDepth 100000 in
theorem dX12_parseSelectors_78 : decode cX12_parseSelectors 78 = .ok (.invokevirtual 454, 3) := by decide +kernel
set_option maxRecDepth 100000 in
theorem dX12_parseSelectors_81 : decode cX12_parseSelectors 81 = .ok (.istore_n 3, 1) := by decide +kernel
set_option maxRecDepth 100000 in
theorem dX12_parseSelectors_82 : decode cX12_parseSelectors 82 = .ok (.aload_n 0, 1) := by decide +kernel
set_option maxRecDepth 100000 in
theorem dX12_parseSelectors_83 : decode cX12_parseSelectors 83 = .ok (.getfield 82, 3) := by decide +kernel
set_option maxRecDepth 100000 in
theorem dX12_parseSelectors_86 : decode cX12_parseSelectors 86 = .ok (.iload_n 3, 1) := by decide +kernel
set_option maxRecDepth 100000 in
theorem dX12_parseSelectors_87 : decode cX12_parseSelectors 87 = .ok (.aload_n 0, 1) := by decide +kernel
set_option maxRecDepth 100000 in
theorem dX12_parseSelectors_88 : decode cX12_parseSelectors 88 = .ok (.bipush 40, 2) := by decide +kernel
set_option maxRecDepth 100000 in
theorem dX12_parseSelectors_90 : decode cX12_parseSelectors 90 = .ok (.invokevirtual 457, 3) := by decide +kernel
set_option maxRecDepth 100000 in
theorem dX12_parseSelectors_93 : decode cX12_parseSelectors 93 = .ok (.iastore, 1) := by decide +kernel
set_option maxRecDepth 100000 in
theorem dX12_parseSelectors_94 : decode cX12_parseSelectors 94 = .ok (.aload_n 0, 1) := by decide +kernel
set_option maxRecDepth 100000 in
theorem dX12_parseSelectors_95 : decode cX12_parseSelectors 95 = .ok (.iload_n 2, 1) := by decide +kernel
set_option maxRecDepth 100000 in
theorem dX12_parseSelectors_96 : decode cX12_parseSelectors 96 = .ok (.iload_n 3, 1) := by decide +kernel
set_option maxRecDepth 100000 in
theorem dX12_parseSelectors_97 : decode cX12_parseSelectors 97 = .ok (.invokevirtual 460, 3) := by decide +kernel
set_option maxRecDepth 100000 in
theorem dX12_parseSelectors_100 : decode cX12_parseSelectors 100 = .ok (.goto (-92), 3) := by decide +kernel
set_option maxRecDepth 100000 in
theorem dX12_parseSelectors_103 : decode cX12_parseSelectors 103 = .ok (.aload_n 0, 1) := by decide +kernel
set_option maxRecDepth 100000 in
theorem dX12_parseSelectors_104 : decode cX12_parseSelectors 104 = .ok (.bipush 63, 2) := by decide +kernel
set_option maxRecDepth 100000 in
theorem dX12_parseSelectors_106 : decode cX12_parseSelectors 106 = .ok (.aload_n 0, 1) := by decide +kernel
set_option maxRecDepth 100000 in
theorem dX12_parseSelectors_107 : decode cX12_parseSelectors 107 = .ok (.invokevirtual 442, 3) := by decide +kernel
set_option maxRecDepth 100000 in
theorem dX12_parseSelectors_110 : decode cX12_parseSelectors 110 = .ok (.invokevirtual 454, 3) := by decide +kernel
set_option maxRecDepth 100000 in
theorem dX12_parseSelectors_113 : decode cX12_parseSelectors 113 = .ok (.istore_n 3, 1) := by decide +kernel
set_option maxRecDepth 100000 in
theorem dX12_parseSelectors_114 : decode cX12_parseSelectors 114 = .ok (.aload_n 0, 1) := by decide +kernel
set_option maxRecDepth 100000 in
theorem dX12_parseSelectors_115 : decode cX12_parseSelectors 115 = .ok (.iload_n 3, 1) := by decide +kernel
set_option maxRecDepth 100000 in
theorem dX12_parseSelectors_116 : decode cX12_parseSelectors 116 = .ok (.aload_n 0, 1) := by decide +kernel
set_option maxRecDepth 100000 in
theorem dX12_parseSelectors_117 : decode cX12_parseSelectors 117 = .ok (.invokevirtual 518, 3) := by decide +kernel
set_option maxRecDepth 100000 in
theorem dX12_parseSelectors_120 : decode cX12_parseSelectors 120 = .ok (.invokevirtual 460, 3) := by decide +kernel
set_option maxRecDepth 100000 in
theorem dX12_parseSelectors_123 : decode cX12_parseSelectors 123 = .ok (.aload_n 0, 1) := by decide +kernel
set_option maxRecDepth 100000 in
theorem dX12_parseSelectors_124 : decode cX12_parseSelectors 124 = .ok (.iload_n 2, 1) := by decide +kernel
set_option maxRecDepth 100000 in
theorem dX12_parseSelectors_125 : decode cX12_parseSelectors 125 = .ok (.iload_n 3, 1) := by decide +kernel
set_option maxRecDepth 100000 in
theorem dX12_parseSelectors_126 : decode cX12_parseSelectors 126 = .ok (.invokevirtual 460, 3) := by decide +kernel
set_option maxRecDepth 100000 in
theorem dX12_parseSelectors_129 : decode cX12_parseSelectors 129 = .ok (.aload_n 0, 1) := by decide +kernel
set_option maxRecDepth 100000 in
theorem dX12_parseSelectors_130 : decode cX12_parseSelectors 130 = .ok (.bipush 66, 2) := by decide +kernel
set_option maxRecDepth 100000 in
theorem dX12_parseSelectors_132 : decode cX12_parseSelectors 132 = .ok (.invokevirtual 439, 3) := by decide +kernel
set_option maxRecDepth 100000 in
theorem dX12_parseSelectors_135 : decode cX12_parseSelectors 135 = .ok (.ifCond .ne (-32), 3) := by decide +kernel
set_option maxRecDepth 100000 in
theorem dX12_parseSelectors_138 : decode cX12_parseSelectors 138 = .ok (.aload_n 0, 1) := by decide +kernel
set_option maxRecDepth 100000 in
theorem dX12_parseSelectors_139 : decode cX12_parseSelectors 139 = .ok (.bipush 63, 2) := by decide +kernel
set_option maxRecDepth 100000 in
theorem dX12_parseSelectors_141 : decode cX12_parseSelectors 141 = .ok (.invokevirtual 457, 3) := by decide +kernel
set_option maxRecDepth 100000 in
theorem dX12_parseSelectors_144 : decode cX12_parseSelectors 144 = .ok (.pop, 1) := by decide +kernel
set_option maxRecDepth 100000 in
theorem dX12_parseSelectors_145 : decode cX12_parseSelectors 145 = .ok (.goto (-137), 3) := by decide +kernel
set_option maxRecDepth 100000 in
theorem dX12_parseSelectors_148 : decode cX12_parseSelectors 148 = .ok (.iload_n 2, 1) := by decide +kernel
set_option maxRecDepth 100000 in
theorem dX12_parseSelectors_149 : decode cX12_parseSelectors 149 = .ok (.ireturn, 1) := by decide +kernel
def lX12_parseSelectors_8 (G : xG) (fr lo : Nat) (x0 : Nat) (x2 : Int32) (h : xH) (Q : Outcome → xH → Prop) : Prop := xP G YX12_parseSelectors fr lo 8 [(0, rv x0), (2, .int x2)] [] h Q
def lX12_parseSelectors_103 (G : xG) (fr lo : Nat) (x0 : Nat) (x2 : Int32) (h : xH) (Q : Outcome → xH → Prop) : Prop := xP G YX12_parseSelectors fr lo 103 [(0, rv x0), (2, .int x2)] [] h Q
set_option maxRecDepth 100000 in
def bX12_parseSelectors_103 (G : xG) (fr lo : Nat) (x0 : Nat) (x2 : Int32) (h : xH) (Q : Outcome → xH → Prop) : Prop := tg h x0 = 13 ∧ 1 ≤ fr ∧ 15 ≤ lo ∧ xRi G YX12_take (fr - 1) (lo - 15) [rv x0] h (fun x5 h4 => xext h h4 → 1 ≤ fr ∧ 15 ≤ lo ∧ xRi G YX12_node (fr - 1) (lo - 15) [rv x0, .int 63, .int x5] h4 (fun x11 h10 => xext h4 h10 → 1 ≤ fr ∧ 15 ≤ lo ∧ xRi G YX12_parseE (fr - 1) (lo - 15) [rv x0] h10 (fun x17 h16 => xext h10 h16 → 1 ≤ fr ∧ 14 ≤ lo ∧ xRv G YX12_add (fr - 1) (lo - 14) [rv x0, .int x11, .int x17] h16 (fun h22 => xext h16 h22 → 1 ≤ fr ∧ 14 ≤ lo ∧ xRv G YX12_add (fr - 1) (lo - 14) [rv x0, .int x2, .int x11] h22 (fun h28 => xext h22 h28 → 1 ≤ fr ∧ 13 ≤ lo ∧ xRi G YX12_sees (fr - 1) (lo - 13) [rv x0, .int 66] h28 (fun x35 h34 => xext h28 h34 → ((¬ x35 = 0 → lX12_parseSelectors_103 G fr lo x0 x2 h34 Q) ∧ (x35 = 0 → 1 ≤ fr ∧ 13 ≤ lo ∧ xRi G YX12_must (fr - 1) (lo - 13) [rv x0, .int 63] h34 (fun x42 h41 => xext h34 h41 → lX12_parseSelectors_8 G fr lo x0 x2 h41 Q) (fun r h2 => Q (.threw r) h2)))) (fun r h2 => Q (.threw r) h2)) (fun r h2 => Q (.threw r) h2)) (fun r h2 => Q (.threw r) h2)) (fun r h2 => Q (.threw r) h2)) (fun r h2 => Q (.threw r) h2)) (fun r h2 => Q (.threw r) h2)
set_option maxRecDepth 100000 in
theorem uX12_parseSelectors_103 {G : xG} {fr lo : Nat} {x0 : Nat} {x2 : Int32} {h : xH} {Q : Outcome → xH → Prop} (hq : bX12_parseSelectors_103 G fr lo x0 x2 h Q) : xP G YX12_parseSelectors fr lo 103 [(0, rv x0), (2, .int x2)] [] h Q := by
  unfold bX12_parseSelectors_103 at hq
  refine x_aload_n 0 dX12_parseSelectors_103 rfl ?_
  refine x_bipush (v := 63) dX12_parseSelectors_104 (by decide) ?_
  refine x_aload_n 0 dX12_parseSelectors_106 rfl ?_
  obtain ⟨g1, hq⟩ := hq
  obtain ⟨g2, g3, hq⟩ := hq
  refine x_callV (Yc := YX12_take) (as := []) (st := [.int 63, rv x0]) q3794 mvX12_take g1 rfl dX12_parseSelectors_107 (xle (xal1 (rv_cat _) xal0) (by decide)) (xfr g2) (xlo (xsw1 rfl (xsw1 (rv_cat _) xsw0)) (by decide) g3) (xKi hq (fun x5 h4 hq e6 => ?_) (fun _ _ q _ => q))
  replace hq := hq e6
  have t7 : tg h4 x0 = 13 := e6.tg g1 (by decide)
  obtain ⟨g8, g9, hq⟩ := hq
  refine x_callV (Yc := YX12_node) (as := [.int 63, .int x5]) (st := []) q3798 mvX12_node t7 rfl dX12_parseSelectors_110 (xle (xal1 (rv_cat _) (xal1 rfl (xal1 rfl xal0))) (by decide)) (xfr g8) (xlo xsw0 (by decide) g9) (xKi hq (fun x11 h10 hq e12 => ?_) (fun _ _ q _ => q))
  replace hq := hq e12
  refine x_istore_n (lv' := [(3, .int x11), (0, rv x0), (2, .int x2)]) dX12_parseSelectors_113 (by decide) rfl ?_
  refine x_aload_n 1 dX12_parseSelectors_114 rfl ?_
  refine x_iload_n 0 dX12_parseSelectors_115 rfl ?_
  refine x_aload_n 1 dX12_parseSelectors_116 rfl ?_
  have t13 : tg h10 x0 = 13 := e12.tg t7 (by decide)
  obtain ⟨g14, g15, hq⟩ := hq
  refine x_callV (Yc := YX12_parseE) (as := []) (st := [.int x11, rv x0]) q3874 mvX12_parseE t13 rfl dX12_parseSelectors_117 (xle (xal1 (rv_cat _) xal0) (by decide)) (xfr g14) (xlo (xsw1 rfl (xsw1 (rv_cat _) xsw0)) (by decide) g15) (xKi hq (fun x17 h16 hq e18 => ?_) (fun _ _ q _ => q))
  replace hq := hq e18
  have t19 : tg h16 x0 = 13 := e18.tg t13 (by decide)
  obtain ⟨g20, g21, hq⟩ := hq
  refine x_callV (Yc := YX12_add) (as := [.int x11, .int x17]) (st := []) q3810 mvX12_add t19 rfl dX12_parseSelectors_120 (xle (xal1 (rv_cat _) (xal1 rfl (xal1 rfl xal0))) (by decide)) (xfr g20) (xlo xsw0 (by decide) g21) (xKv hq (fun h22 hq e24 => ?_) (fun _ _ q _ => q))
  replace hq := hq e24
  refine x_aload_n 1 dX12_parseSelectors_123 rfl ?_
  refine x_iload_n 2 dX12_parseSelectors_124 rfl ?_
  refine x_iload_n 0 dX12_parseSelectors_125 rfl ?_
  have t25 : tg h22 x0 = 13 := e24.tg t19 (by decide)
  obtain ⟨g26, g27, hq⟩ := hq
  refine x_callV (Yc := YX12_add) (as := [.int x2, .int x11]) (st := []) q3810 mvX12_add t25 rfl dX12_parseSelectors_126 (xle (xal1 (rv_cat _) (xal1 rfl (xal1 rfl xal0))) (by decide)) (xfr g26) (xlo xsw0 (by decide) g27) (xKv hq (fun h28 hq e30 => ?_) (fun _ _ q _ => q))
  replace hq := hq e30
  refine x_aload_n 1 dX12_parseSelectors_129 rfl ?_
  refine x_bipush (v := 66) dX12_parseSelectors_130 (by decide) ?_
  have t31 : tg h28 x0 = 13 := e30.tg t25 (by decide)
  obtain ⟨g32, g33, hq⟩ := hq
  refine x_callV (Yc := YX12_sees) (as := [.int 66]) (st := []) q3782 mvX12_sees t31 rfl dX12_parseSelectors_132 (xle (xal1 (rv_cat _) (xal1 rfl xal0)) (by decide)) (xfr g32) (xlo xsw0 (by decide) g33) (xKi hq (fun x35 h34 hq e36 => ?_) (fun _ _ q _ => q))
  replace hq := hq e36
  refine x_if_ne (tgt := 103) dX12_parseSelectors_135 (by decide) (fun c37 => ?_) (fun c37 => ?_)
  · replace hq := hq.1 c37
    refine xP.pick (lv' := [(0, rv x0), (2, .int x2)]) [1, 2] rfl ?_
    exact hq
  · replace hq := hq.2 c37
    refine x_aload_n 1 dX12_parseSelectors_138 rfl ?_
    refine x_bipush (v := 63) dX12_parseSelectors_139 (by decide) ?_
    have t38 : tg h34 x0 = 13 := e36.tg t31 (by decide)
    obtain ⟨g39, g40, hq⟩ := hq
    refine x_callV (Yc := YX12_must) (as := [.int 63]) (st := []) q3778 mvX12_must t38 rfl dX12_parseSelectors_141 (xle (xal1 (rv_cat _) (xal1 rfl xal0)) (by decide)) (xfr g39) (xlo xsw0 (by decide) g40) (xKi hq (fun x42 h41 hq e43 => ?_) (fun _ _ q _ => q))
    replace hq := hq e43
    refine x_pop dX12_parseSelectors_144 rfl ?_
    refine x_goto (tgt := 8) dX12_parseSelectors_145 (by decide) ?_
    refine xP.pick (lv' := [(0, rv x0), (2, .int x2)]) [1, 2] rfl ?_
    exact hq
set_option maxRecDepth 100000 in
def bX12_parseSelectors_35 (G : xG) (fr lo : Nat) (x0 : Nat) (x2 : Int32) (h : xH) (Q : Outcome → xH → Prop) : Prop := tg h x0 = 13 ∧ 1 ≤ fr ∧ 13 ≤ lo ∧ xRi G YX12_sees (fr - 1) (lo - 13) [rv x0, .int 70] h (fun x5 h4 => xext h h4 → ((x5 = 0 → 1 ≤ fr ∧ 13 ≤ lo ∧ xRi G YX12_sees (fr - 1) (lo - 13) [rv x0, .int 65] h4 (fun x12 h11 => xext h4 h11 → ((x12 = 0 → lX12_parseSelectors_103 G fr lo x0 x2 h11 Q) ∧ (¬ x12 = 0 → 1 ≤ fr ∧ 15 ≤ lo ∧ xRi G YX12_take (fr - 1) (lo - 15) [rv x0] h11 (fun x19 h18 => xext h11 h18 → 1 ≤ fr ∧ 15 ≤ lo ∧ xRi G YX12_node (fr - 1) (lo - 15) [rv x0, .int 64, .int x19] h18 (fun x25 h24 => xext h18 h24 → 1 ≤ fr ∧ 15 ≤ lo ∧ xRi G YX12_must (fr - 1) (lo - 15) [rv x0, .int 40] h24 (fun x31 h30 => xext h24 h30 → tg h30 (fR h24 x0 3106) = 100 ∧ vp_in x25 (ln h30 (fR h24 x0 3106)) ∧ (∀ h35 : xH, h35 = tI h30 (fR h24 x0 3106) (Int32.toNatClampNeg x25) x31 → 1 ≤ fr ∧ 14 ≤ lo ∧ xRv G YX12_add (fr - 1) (lo - 14) [rv x0, .int x2, .int x25] h35 (fun h41 => xext h35 h41 → lX12_parseSelectors_8 G fr lo x0 x2 h41 Q) (fun r h2 => Q (.threw r) h2))) (fun r h2 => Q (.threw r) h2)) (fun r h2 => Q (.threw r) h2)) (fun r h2 => Q (.threw r) h2)))) (fun r h2 => Q (.threw r) h2)) ∧ (¬ x5 = 0 → 1 ≤ fr ∧ 17 ≤ lo ∧ xRi G YX12_take (fr - 1) (lo - 17) [rv x0] h4 (fun x48 h47 => xext h4 h47 → 1 ≤ fr ∧ 17 ≤ lo ∧ xRi G YX12_node (fr - 1) (lo - 17) [rv x0, .int 65, .int x48] h47 (fun x54 h53 => xext h47 h53 → 1 ≤ fr ∧ 14 ≤ lo ∧ xRv G YX12_add (fr - 1) (lo - 14) [rv x0, .int x2, .int x54] h53 (fun h59 => xext h53 h59 → lX12_parseSelectors_8 G fr lo x0 x2 h59 Q) (fun r h2 => Q (.threw r) h2)) (fun r h2 => Q (.threw r) h2)) (fun r h2 => Q (.threw r) h2)))) (fun r h2 => Q (.threw r) h2)
set_option maxRecDepth 100000 in
theorem uX12_parseSelectors_35 {G : xG} {fr lo : Nat} {x0 : Nat} {x2 : Int32} {h : xH} {Q : Outcome → xH → Prop} (hq : bX12_parseSelectors_35 G fr lo x0 x2 h Q) : xP G YX12_parseSelectors fr lo 35 [(0, rv x0), (2, .int x2)] [] h Q := by
  unfold bX12_parseSelectors_35 at hq
  refine x_aload_n 0 dX12_parseSelectors_35 rfl ?_
  refine x_bipush (v := 70) dX12_parseSelectors_36 (by decide) ?_
  obtain ⟨g1, hq⟩ := hq
  obtain ⟨g2, g3, hq⟩ := hq
  refine x_callV (Yc := YX12_sees) (as := [.int 70]) (st := []) q3782 mvX12_sees g1 rfl dX12_parseSelectors_38 (xle (xal1 (rv_cat _) (xal1 rfl xal0)) (by decide)) (xfr g2) (xlo xsw0 (by decide) g3) (xKi hq (fun x5 h4 hq e6 => ?_) (fun _ _ q _ => q))
  replace hq := hq e6
  refine x_if_eq (tgt := 62) dX12_parseSelectors_41 (by decide) (fun c7 => ?_) (fun c7 => ?_)
  · replace hq := hq.1 c7
    refine x_aload_n 0 dX12_parseSelectors_62 rfl ?_
    refine x_bipush (v := 65) dX12_parseSelectors_63 (by decide) ?_
    have t8 : tg h4 x0 = 13 := e6.tg g1 (by decide)
    obtain ⟨g9, g10, hq⟩ := hq
    refine x_callV (Yc := YX12_sees) (as := [.int 65]) (st := []) q3782 mvX12_sees t8 rfl dX12_parseSelectors_65 (xle (xal1 (rv_cat _) (xal1 rfl xal0)) (by decide)) (xfr g9) (xlo xsw0 (by decide) g10) (xKi hq (fun x12 h11 hq e13 => ?_) (fun _ _ q _ => q))
    replace hq := hq e13
    refine x_if_eq (tgt := 103) dX12_parseSelectors_68 (by decide) (fun c14 => ?_) (fun c14 => ?_)
    · replace hq := hq.1 c14
      exact hq
    · replace hq := hq.2 c14
      refine x_aload_n 0 dX12_parseSelectors_71 rfl ?_
      refine x_bipush (v := 64) dX12_parseSelectors_72 (by decide) ?_
      refine x_aload_n 0 dX12_parseSelectors_74 rfl ?_
      have t15 : tg h11 x0 = 13 := e13.tg t8 (by decide)
      obtain ⟨g16, g17, hq⟩ := hq
      refine x_callV (Yc := YX12_take) (as := []) (st := [.int 64, rv x0]) q3794 mvX12_take t15 rfl dX12_parseSelectors_75 (xle (xal1 (rv_cat _) xal0) (by decide)) (xfr g16) (xlo (xsw1 rfl (xsw1 (rv_cat _) xsw0)) (by decide) g17) (xKi hq (fun x19 h18 hq e20 => ?_) (fun _ _ q _ => q))
      replace hq := hq e20
      have t21 : tg h18 x0 = 13 := e20.tg t15 (by decide)
      obtain ⟨g22, g23, hq⟩ := hq
      refine x_callV (Yc := YX12_node) (as := [.int 64, .int x19]) (st := []) q3798 mvX12_node t21 rfl dX12_parseSelectors_78 (xle (xal1 (rv_cat _) (xal1 rfl (xal1 rfl xal0))) (by decide)) (xfr g22) (xlo xsw0 (by decide) g23) (xKi hq (fun x25 h24 hq e26 => ?_) (fun _ _ q _ => q))
      replace hq := hq e26
      refine x_istore_n (lv' := [(3, .int x25), (0, rv x0), (2, .int x2)]) dX12_parseSelectors_81 (by decide) rfl ?_
      refine x_aload_n 1 dX12_parseSelectors_82 rfl ?_
      have t27 : tg h24 x0 = 13 := e26.tg t21 (by decide)
      refine x_get (v := rv (fR h24 x0 3106)) fdX12_82 dX12_parseSelectors_83 t27 rfl ?_
      refine x_iload_n 0 dX12_parseSelectors_86 rfl ?_
      refine x_aload_n 1 dX12_parseSelectors_87 rfl ?_
      refine x_bipush (v := 40) dX12_parseSelectors_88 (by decide) ?_
      obtain ⟨g28, g29, hq⟩ := hq
      refine x_callV (Yc := YX12_must) (as := [.int 40]) (st := [.int x25, rv (fR h24 x0 3106)]) q3778 mvX12_must t27 rfl dX12_parseSelectors_90 (xle (xal1 (rv_cat _) (xal1 rfl xal0)) (by decide)) (xfr g28) (xlo (xsw1 rfl (xsw1 (rv_cat _) xsw0)) (by decide) g29) (xKi hq (fun x31 h30 hq e32 => ?_) (fun _ _ q _ => q))
      replace hq := hq e32
      obtain ⟨g33, hq⟩ := hq
      obtain ⟨i34, hq⟩ := hq
      obtain ⟨h35, e36⟩ : ∃ y, y = tI h30 (fR h24 x0 3106) (Int32.toNatClampNeg x25) x31 := ⟨_, rfl⟩
      replace hq := hq h35 e36
      refine x_iast' g33 i34 dX12_parseSelectors_93 e36 ?_
      refine x_aload_n 1 dX12_parseSelectors_94 rfl ?_
      refine x_iload_n 2 dX12_parseSelectors_95 rfl ?_
      refine x_iload_n 0 dX12_parseSelectors_96 rfl ?_
      have t37 : tg h30 x0 = 13 := e32.tg t27 (by decide)
      have t38 : tg h35 x0 = 13 := by rw [e36]; exact t37
      obtain ⟨g39, g40, hq⟩ := hq
      refine x_callV (Yc := YX12_add) (as := [.int x2, .int x25]) (st := []) q3810 mvX12_add t38 rfl dX12_parseSelectors_97 (xle (xal1 (rv_cat _) (xal1 rfl (xal1 rfl xal0))) (by decide)) (xfr g39) (xlo xsw0 (by decide) g40) (xKv hq (fun h41 hq e43 => ?_) (fun _ _ q _ => q))
      replace hq := hq e43
      refine x_goto (tgt := 8) dX12_parseSelectors_100 (by decide) ?_
      refine xP.pick (lv' := [(0, rv x0), (2, .int x2)]) [1, 2] rfl ?_
      exact hq
  · replace hq := hq.2 c7
    refine x_aload_n 0 dX12_parseSelectors_44 rfl ?_
    refine x_iload_n 1 dX12_parseSelectors_45 rfl ?_
    refine x_aload_n 0 dX12_parseSelectors_46 rfl ?_
    refine x_bipush (v := 65) dX12_parseSelectors_47 (by decide) ?_
    refine x_aload_n 0 dX12_parseSelectors_49 rfl ?_
    have t44 : tg h4 x0 = 13 := e6.tg g1 (by decide)
    obtain ⟨g45, g46, hq⟩ := hq
    refine x_callV (Yc := YX12_take) (as := []) (st := [.int 65, rv x0, .int x2, rv x0]) q3794 mvX12_take t44 rfl dX12_parseSelectors_50 (xle (xal1 (rv_cat _) xal0) (by decide)) (xfr g45) (xlo (xsw1 rfl (xsw1 (rv_cat _) (xsw1 rfl (xsw1 (rv_cat _) xsw0)))) (by decide) g46) (xKi hq (fun x48 h47 hq e49 => ?_) (fun _ _ q _ => q))
    replace hq := hq e49
    have t50 : tg h47 x0 = 13 := e49.tg t44 (by decide)
    obtain ⟨g51, g52, hq⟩ := hq
    refine x_callV (Yc := YX12_node) (as := [.int 65, .int x48]) (st := [.int x2, rv x0]) q3798 mvX12_node t50 rfl dX12_parseSelectors_53 (xle (xal1 (rv_cat _) (xal1 rfl (xal1 rfl xal0))) (by decide)) (xfr g51) (xlo (xsw1 rfl (xsw1 (rv_cat _) xsw0)) (by decide) g52) (xKi hq (fun x54 h53 hq e55 => ?_) (fun _ _ q _ => q))
    replace hq := hq e55
    have t56 : tg h53 x0 = 13 := e55.tg t50 (by decide)
    obtain ⟨g57, g58, hq⟩ := hq
    refine x_callV (Yc := YX12_add) (as := [.int x2, .int x54]) (st := []) q3810 mvX12_add t56 rfl dX12_parseSelectors_56 (xle (xal1 (rv_cat _) (xal1 rfl (xal1 rfl xal0))) (by decide)) (xfr g57) (xlo xsw0 (by decide) g58) (xKv hq (fun h59 hq e61 => ?_) (fun _ _ q _ => q))
    replace hq := hq e61
    refine x_goto (tgt := 8) dX12_parseSelectors_59 (by decide) ?_
    exact hq
set_option maxRecDepth 100000 in
def bX12_parseSelectors_8 (G : xG) (fr lo : Nat) (x0 : Nat) (x2 : Int32) (h : xH) (Q : Outcome → xH → Prop) : Prop := tg h x0 = 13 ∧ 1 ≤ fr ∧ 13 ≤ lo ∧ xRi G YX12_sees (fr - 1) (lo - 13) [rv x0, .int 62] h (fun x5 h4 => xext h h4 → ((¬ x5 = 0 → bX12_parseSelectors_35 G fr lo x0 x2 h4 Q) ∧ (x5 = 0 → 1 ≤ fr ∧ 13 ≤ lo ∧ xRi G YX12_sees (fr - 1) (lo - 13) [rv x0, .int 65] h4 (fun x12 h11 => xext h4 h11 → ((¬ x12 = 0 → bX12_parseSelectors_35 G fr lo x0 x2 h11 Q) ∧ (x12 = 0 → 1 ≤ fr ∧ 13 ≤ lo ∧ xRi G YX12_sees (fr - 1) (lo - 13) [rv x0, .int 70] h11 (fun x19 h18 => xext h11 h18 → ((x19 = 0 → Q (.returned (some (.int x2))) h18) ∧ (¬ x19 = 0 → bX12_parseSelectors_35 G fr lo x0 x2 h18 Q))) (fun r h2 => Q (.threw r) h2)))) (fun r h2 => Q (.threw r) h2)))) (fun r h2 => Q (.threw r) h2)
set_option maxRecDepth 100000 in
theorem uX12_parseSelectors_8 {G : xG} {fr lo : Nat} {x0 : Nat} {x2 : Int32} {h : xH} {Q : Outcome → xH → Prop} (hq : bX12_parseSelectors_8 G fr lo x0 x2 h Q) : xP G YX12_parseSelectors fr lo 8 [(0, rv x0), (2, .int x2)] [] h Q := by
  unfold bX12_parseSelectors_8 at hq
  refine x_aload_n 0 dX12_parseSelectors_8 rfl ?_
  refine x_bipush (v := 62) dX12_parseSelectors_9 (by decide) ?_
  obtain ⟨g1, hq⟩ := hq
  obtain ⟨g2, g3, hq⟩ := hq
  refine x_callV (Yc := YX12_sees) (as := [.int 62]) (st := []) q3782 mvX12_sees g1 rfl dX12_parseSelectors_11 (xle (xal1 (rv_cat _) (xal1 rfl xal0)) (by decide)) (xfr g2) (xlo xsw0 (by decide) g3) (xKi hq (fun x5 h4 hq e6 => ?_) (fun _ _ q _ => q))
  replace hq := hq e6
  refine x_if_ne (tgt := 35) dX12_parseSelectors_14 (by decide) (fun c7 => ?_) (fun c7 => ?_)
  · replace hq := hq.1 c7
    exact uX12_parseSelectors_35 hq
  · replace hq := hq.2 c7
    refine x_aload_n 0 dX12_parseSelectors_17 rfl ?_
    refine x_bipush (v := 65) dX12_parseSelectors_18 (by decide) ?_
    have t8 : tg h4 x0 = 13 := e6.tg g1 (by decide)
    obtain ⟨g9, g10, hq⟩ := hq
    refine x_callV (Yc := YX12_sees) (as := [.int 65]) (st := []) q3782 mvX12_sees t8 rfl dX12_parseSelectors_20 (xle (xal1 (rv_cat _) (xal1 rfl xal0)) (by decide)) (xfr g9) (xlo xsw0 (by decide) g10) (xKi hq (fun x12 h11 hq e13 => ?_) (fun _ _ q _ => q))
    replace hq := hq e13
    refine x_if_ne (tgt := 35) dX12_parseSelectors_23 (by decide) (fun c14 => ?_) (fun c14 => ?_)
    · replace hq := hq.1 c14
      exact uX12_parseSelectors_35 hq
    · replace hq := hq.2 c14
      refine x_aload_n 0 dX12_parseSelectors_26 rfl ?_
      refine x_bipush (v := 70) dX12_parseSelectors_27 (by decide) ?_
      have t15 : tg h11 x0 = 13 := e13.tg t8 (by decide)
      obtain ⟨g16, g17, hq⟩ := hq
      refine x_callV (Yc := YX12_sees) (as := [.int 70]) (st := []) q3782 mvX12_sees t15 rfl dX12_parseSelectors_29 (xle (xal1 (rv_cat _) (xal1 rfl xal0)) (by decide)) (xfr g16) (xlo xsw0 (by decide) g17) (xKi hq (fun x19 h18 hq e20 => ?_) (fun _ _ q _ => q))
      replace hq := hq e20
      refine x_if_eq (tgt := 148) dX12_parseSelectors_32 (by decide) (fun c21 => ?_) (fun c21 => ?_)
      · replace hq := hq.1 c21
        refine x_iload_n 1 dX12_parseSelectors_148 rfl ?_
        exact x_iret rfl rfl dX12_parseSelectors_149 hq
      · replace hq := hq.2 c21
        exact uX12_parseSelectors_35 hq
set_option maxRecDepth 100000 in
def bX12_parseSelectors (G : xG) (fr lo : Nat) (x0 : Nat) (x1 : Int32) (h : xH) (Q : Outcome → xH → Prop) : Prop := tg h x0 = 13 ∧ 1 ≤ fr ∧ 15 ≤ lo ∧ xRi G YX12_node (fr - 1) (lo - 15) [rv x0, .int 61, .int x1] h (fun x5 h4 => xext h h4 → lX12_parseSelectors_8 G fr lo x0 x5 h4 Q) (fun r h2 => Q (.threw r) h2)
set_option maxRecDepth 100000 in
theorem uX12_parseSelectors {G : xG} {fr lo : Nat} {x0 : Nat} {x1 : Int32} {h : xH} {Q : Outcome → xH → Prop} (hq : bX12_parseSelectors G fr lo x0 x1 h Q) : xP G YX12_parseSelectors fr lo 0 [(0, rv x0), (1, .int x1)] [] h Q := by
  unfold bX12_parseSelectors at hq
  refine x_aload_n 0 dX12_parseSelectors_0 rfl ?_
  refine x_bipush (v := 61) dX12_parseSelectors_1 (by decide) ?_
  refine x_iload_n 1 dX12_parseSelectors_3 rfl ?_
  obtain ⟨g1, hq⟩ := hq
  obtain ⟨g2, g3, hq⟩ := hq
  refine x_callV (Yc := YX12_node) (as := [.int 61, .int x1]) (st := []) q3798 mvX12_node g1 rfl dX12_parseSelectors_4 (xle (xal1 (rv_cat _) (xal1 rfl (xal1 rfl xal0))) (by decide)) (xfr g2) (xlo xsw0 (by decide) g3) (xKi hq (fun x5 h4 hq e6 => ?_) (fun _ _ q _ => q))
  replace hq := hq e6
  refine x_istore_n (lv' := [(2, .int x5), (0, rv x0), (1, .int x1)]) dX12_parseSelectors_7 (by decide) rfl ?_
  refine xP.pick (lv' := [(0, rv x0), (2, .int x5)]) [1, 0] rfl ?_
  exact hq
theorem rX12_parseSelectors {G : xG} {fr lo : Nat} {x0 : Nat} {x1 : Int32} {h : xH} {Q : Outcome → xH → Prop} (hq : bX12_parseSelectors G fr lo x0 x1 h Q) : xR G YX12_parseSelectors fr lo [rv x0, .int x1] h Q := by
  show xP _ _ _ _ _ (lv_args 0 _) _ _ _
  rw [show lv_args 0 [rv x0, .int x1] = [(0, rv x0), (1, .int x1)] from (xla1 (rv_cat _) (xla1 rfl xla0))]
  exact uX12_parseSelectors hq
set_option maxRecDepth 100000 in
theorem dX12_seesRelation_0 : decode cX12_seesRelation 0 = .ok (.aload_n 0, 1) := by decide +kernel
set_option maxRecDepth 100000 in
theorem dX12_seesRelation_1 : decode cX12_seesRelation 1 = .ok (.bipush 54, 2) := by decide +kernel
set_option maxRecDepth 100000 in
theorem dX12_seesRelation_3 : decode cX12_seesRelation 3 = .ok (.invokevirtual 439, 3) := by decide +kernel
set_option maxRecDepth 100000 in
theorem dX12_seesRelation_6 : decode cX12_seesRelation 6 = .ok (.ifCond .ne 57, 3) := by decide +kernel
set_option maxRecDepth 100000 in
theorem dX12_seesRelation_9 : decode cX12_seesRelation 9 = .ok (.aload_n 0, 1) := by decide +kernel
set_option maxRecDepth 100000 in
theorem dX12_seesRelation_10 : decode cX12_seesRelation 10 = .ok (.bipush 59, 2) := by decide +kernel
set_option maxRecDepth 100000 in
theorem dX12_seesRelation_12 : decode cX12_seesRelation 12 = .ok (.invokevirtual 439, 3) := by decide +kernel
set_option maxRecDepth 100000 in
theorem dX12_seesRelation_15 : decode cX12_seesRelation 15 = .ok (.ifCond .ne 48, 3) := by decide +kernel
set_option maxRecDepth 100000 in
theorem dX12_seesRelation_18 : decode cX12_seesRelation 18 = .ok (.aload_n 0, 1) := by decide +kernel
set_option maxRecDepth 100000 in
theorem dX12_seesRelation_19 : decode cX12_seesRelation 19 = .ok (.bipush 55, 2) := by decide +kernel
set_option maxRecDepth 100000 in
theorem dX12_seesRelation_21 : decode cX12_seesRelation 21 = .ok (.invokevirtual 439, 3) := by decide +kernel
set_option maxRecDepth 100000 in
theorem dX12_seesRelation_24 : decode cX12_seesRelation 24 = .ok (.ifCond .ne 39, 3) := by decide +kernel
set_option maxRecDepth 100000 in
theorem dX12_seesRelation_27 : decode cX12_seesRelation 27 = .ok (.aload_n 0, 1) := by decide +kernel
set_option maxRecDepth 100000 in
theorem dX12_seesRelation_28 : decode cX12_seesRelation 28 = .ok (.bipush 56, 2) := by decide +kernel
set_option maxRecDepth 100000 in
theorem dX12_seesRelation_30 : decode cX12_seesRelation 30 = .ok (.invokevirtual 439, 3) := by decide +kernel
set_option maxRecDepth 100000 in
theorem dX12_seesRelation_33 : decode cX12_seesRelation 33 = .ok (.ifCond .ne 30, 3) := by decide +kernel
set_option maxRecDepth 100000 in
theorem dX12_seesRelation_36 : decode cX12_seesRelation 36 = .ok (.aload_n 0, 1) := by decide +kernel
set_option maxRecDepth 100000 in
theorem dX12_seesRelation_37 : decode cX12_seesRelation 37 = .ok (.bipush 57, 2) := by decide +kernel
set_option maxRecDepth 100000 in
theorem dX12_seesRelation_39 : decode cX12_seesRelation 39 = .ok (.invokevirtual 439, 3) := by decide +kernel
set_option maxRecDepth 100000 in
theorem dX12_seesRelation_42 : decode cX12_seesRelation 42 = .ok (.ifCond .ne 21, 3) := by decide +kernel
set_option maxRecDepth 100000 in
theorem dX12_seesRelation_45 : decode cX12_seesRelation 45 = .ok (.aload_n 0, 1) := by decide +kernel
set_option maxRecDepth 100000 in
theorem dX12_seesRelation_46 : decode cX12_seesRelation 46 = .ok (.bipush 58, 2) := by decide +kernel
set_option maxRecDepth 100000 in
theorem dX12_seesRelation_48 : decode cX12_seesRelation 48 = .ok (.invokevirtual 439, 3) := by decide +kernel
set_option maxRecDepth 100000 in
theorem dX12_seesRelation_51 : decode cX12_seesRelation 51 = .ok (.ifCond .ne 12, 3) := by decide +kernel
set_option maxRecDepth 100000 in
theorem dX12_seesRelation_54 : decode cX12_seesRelation 54 = .ok (.aload_n 0, 1) := by decide +kernel
set_option maxRecDepth 100000 in
theorem dX12_seesRelation_55 : decode cX12_seesRelation 55 = .ok (.bipush 16, 2) := by decide +kernel
set_option maxRecDepth 100000 in
theorem dX12_seesRelation_57 : decode cX12_seesRelation 57 = .ok (.invokevirtual 439, 3) := by decide +kernel
set_option maxRecDepth 100000 in
theorem dX12_seesRelation_60 : decode cX12_seesRelation 60 = .ok (.ifCond .eq 7, 3) := by decide +kernel
set_option maxRecDepth 100000 in
theorem dX12_seesRelation_63 : decode cX12_seesRelation 63 = .ok (.iconst 1, 1) := by decide +kernel
set_option maxRecDepth 100000 in
theorem dX12_seesRelation_64 : decode cX12_seesRelation 64 = .ok (.goto 4, 3) := by decide +kernel
set_option maxRecDepth 100000 in
theorem dX12_seesRelation_67 : decode cX12_seesRelation 67 = .ok (.iconst 0, 1) := by decide +kernel
set_option maxRecDepth 100000 in
theorem dX12_seesRelation_68 : decode cX12_seesRelation 68 = .ok (.ireturn, 1) := by decide +kernel
set_option maxRecDepth 100000 in
def bX12_seesRelation_68 (G : xG) (fr lo : Nat) (s0 : Int32) (h : xH) (Q : Outcome → xH → Prop) : Prop := xbz s0 ∧ Q (.returned (some (.int s0))) h
set_option maxRecDepth 100000 in
theorem uX12_seesRelation_68 {G : xG} {fr lo : Nat} {s0 : Int32} {h : xH} {Q : Outcome → xH → Prop} (hq : bX12_seesRelation_68 G fr lo s0 h Q) : xP G YX12_seesRelation fr lo 68 [] [.int s0] h Q := by
  unfold bX12_seesRelation_68 at hq
  obtain ⟨g1, hq⟩ := hq
  exact x_iret rfl (xnZ g1) dX12_seesRelation_68 hq
set_option maxRecDepth 100000 in
def bX12_seesRelation_63 (G : xG) (fr lo : Nat) (h : xH) (Q : Outcome → xH → Prop) : Prop := bX12_seesRelation_68 G fr lo 1 h Q
set_option maxRecDepth 100000 in
theorem uX12_seesRelation_63 {G : xG} {fr lo : Nat} {h : xH} {Q : Outcome → xH → Prop} (hq : bX12_seesRelation_63 G fr lo h Q) : xP G YX12_seesRelation fr lo 63 [] [] h Q := by
  unfold bX12_seesRelation_63 at hq
  refine x_iconst (v := 1) dX12_seesRelation_63 (by decide) ?_
  refine x_goto (tgt := 68) dX12_seesRelation_64 (by decide) ?_
  exact uX12_seesRelation_68 hq
set_option maxRecDepth 100000 in
def bX12_seesRelation (G : xG) (fr lo : Nat) (x0 : Nat) (h : xH) (Q : Outcome → xH → Prop) : Prop := tg h x0 = 13 ∧ 1 ≤ fr ∧ 13 ≤ lo ∧ xRi G YX12_sees (fr - 1) (lo - 13) [rv x0, .int 54] h (fun x5 h4 => xext h h4 → ((¬ x5 = 0 → bX12_seesRelation_63 G fr lo h4 Q) ∧ (x5 = 0 → 1 ≤ fr ∧ 13 ≤ lo ∧ xRi G YX12_sees (fr - 1) (lo - 13) [rv x0, .int 59] h4 (fun x12 h11 => xext h4 h11 → ((¬ x12 = 0 → bX12_seesRelation_63 G fr lo h11 Q) ∧ (x12 = 0 → 1 ≤ fr ∧ 13 ≤ lo ∧ xRi G YX12_sees (fr - 1) (lo - 13) [rv x0, .int 55] h11 (fun x19 h18 => xext h11 h18 → ((¬ x19 = 0 → bX12_seesRelation_63 G fr lo h18 Q) ∧ (x19 = 0 → 1 ≤ fr ∧ 13 ≤ lo ∧ xRi G YX12_sees (fr - 1) (lo - 13) [rv x0, .int 56] h18 (fun x26 h25 => xext h18 h25 → ((¬ x26 = 0 → bX12_seesRelation_63 G fr lo h25 Q) ∧ (x26 = 0 → 1 ≤ fr ∧ 13 ≤ lo ∧ xRi G YX12_sees (fr - 1) (lo - 13) [rv x0, .int 57] h25 (fun x33 h32 => xext h25 h32 → ((¬ x33 = 0 → bX12_seesRelation_63 G fr lo h32 Q) ∧ (x33 = 0 → 1 ≤ fr ∧ 13 ≤ lo ∧ xRi G YX12_sees (fr - 1) (lo - 13) [rv x0, .int 58] h32 (fun x40 h39 => xext h32 h39 → ((¬ x40 = 0 → bX12_seesRelation_63 G fr lo h39 Q) ∧ (x40 = 0 → 1 ≤ fr ∧ 13 ≤ lo ∧ xRi G YX12_sees (fr - 1) (lo - 13) [rv x0, .int 16] h39 (fun x47 h46 => xext h39 h46 → ((x47 = 0 → bX12_seesRelation_68 G fr lo 0 h46 Q) ∧ (¬ x47 = 0 → bX12_seesRelation_63 G fr lo h46 Q))) (fun r h2 => Q (.threw r) h2)))) (fun r h2 => Q (.threw r) h2)))) (fun r h2 => Q (.threw r) h2)))) (fun r h2 => Q (.threw r) h2)))) (fun r h2 => Q (.threw r) h2)))) (fun r h2 => Q (.threw r) h2)))) (fun r h2 => Q (.threw r) h2)
set_option maxRecDepth 100000 in
theorem uX12_seesRelation {G : xG} {fr lo : Nat} {x0 : Nat} {h : xH} {Q : Outcome → xH → Prop} (hq : bX12_seesRelation G fr lo x0 h Q) : xP G YX12_seesRelation fr lo 0 [(0, rv x0)] [] h Q := by
  unfold bX12_seesRelation at hq
  refine x_aload_n 0 dX12_seesRelation_0 rfl ?_
  refine x_bipush (v := 54) dX12_seesRelation_1 (by decide) ?_
  obtain ⟨g1, hq⟩ := hq
  obtain ⟨g2, g3, hq⟩ := hq
  refine x_callV (Yc := YX12_sees) (as := [.int 54]) (st := []) q3782 mvX12_sees g1 rfl dX12_seesRelation_3 (xle (xal1 (rv_cat _) (xal1 rfl xal0)) (by decide)) (xfr g2) (xlo xsw0 (by decide) g3) (xKi hq (fun x5 h4 hq e6 => ?_) (fun _ _ q _ => q))
  replace hq := hq e6
  refine x_if_ne (tgt := 63) dX12_seesRelation_6 (by decide) (fun c7 => ?_) (fun c7 => ?_)
  · replace hq := hq.1 c7
    refine xP.pick (lv' := []) [] rfl ?_
    exact uX12_seesRelation_63 hq
  · replace hq := hq.2 c7
    refine x_aload_n 0 dX12_seesRelation_9 rfl ?_
    refine x_bipush (v := 59) dX12_seesRelation_10 (by decide) ?_
    have t8 : tg h4 x0 = 13 := e6.tg g1 (by decide)
    obtain ⟨g9, g10, hq⟩ := hq
    refine x_callV (Yc := YX12_sees) (as := [.int 59]) (st := []) q3782 mvX12_sees t8 rfl dX12_seesRelation_12 (xle (xal1 (rv_cat _) (xal1 rfl xal0)) (by decide)) (xfr g9) (xlo xsw0 (by decide) g10) (xKi hq (fun x12 h11 hq e13 => ?_) (fun _ _ q _ => q))
    replace hq := hq e13
    refine x_if_ne (tgt := 63) dX12_seesRelation_15 (by decide) (fun c14 => ?_) (fun c14 => ?_)
    · replace hq := hq.1 c14
      refine xP.pick (lv' := []) [] rfl ?_
      exact uX12_seesRelation_63 hq
    · replace hq := hq.2 c14
      refine x_aload_n 0 dX12_seesRelation_18 rfl ?_
      refine x_bipush (v := 55) dX12_seesRelation_19 (by decide) ?_
      have t15 : tg h11 x0 = 13 := e13.tg t8 (by decide)
      obtain ⟨g16, g17, hq⟩ := hq
      refine x_callV (Yc := YX12_sees) (as := [.int 55]) (st := []) q3782 mvX12_sees t15 rfl dX12_seesRelation_21 (xle (xal1 (rv_cat _) (xal1 rfl xal0)) (by decide)) (xfr g16) (xlo xsw0 (by decide) g17) (xKi hq (fun x19 h18 hq e20 => ?_) (fun _ _ q _ => q))
      replace hq := hq e20
      refine x_if_ne (tgt := 63) dX12_seesRelation_24 (by decide) (fun c21 => ?_) (fun c21 => ?_)
      · replace hq := hq.1 c21
        refine xP.pick (lv' := []) [] rfl ?_
        exact uX12_seesRelation_63 hq
      · replace hq := hq.2 c21
        refine x_aload_n 0 dX12_seesRelation_27 rfl ?_
        refine x_bipush (v := 56) dX12_seesRelation_28 (by decide) ?_
        have t22 : tg h18 x0 = 13 := e20.tg t15 (by decide)
        obtain ⟨g23, g24, hq⟩ := hq
        refine x_callV (Yc := YX12_sees) (as := [.int 56]) (st := []) q3782 mvX12_sees t22 rfl dX12_seesRelation_30 (xle (xal1 (rv_cat _) (xal1 rfl xal0)) (by decide)) (xfr g23) (xlo xsw0 (by decide) g24) (xKi hq (fun x26 h25 hq e27 => ?_) (fun _ _ q _ => q))
        replace hq := hq e27
        refine x_if_ne (tgt := 63) dX12_seesRelation_33 (by decide) (fun c28 => ?_) (fun c28 => ?_)
        · replace hq := hq.1 c28
          refine xP.pick (lv' := []) [] rfl ?_
          exact uX12_seesRelation_63 hq
        · replace hq := hq.2 c28
          refine x_aload_n 0 dX12_seesRelation_36 rfl ?_
          refine x_bipush (v := 57) dX12_seesRelation_37 (by decide) ?_
          have t29 : tg h25 x0 = 13 := e27.tg t22 (by decide)
          obtain ⟨g30, g31, hq⟩ := hq
          refine x_callV (Yc := YX12_sees) (as := [.int 57]) (st := []) q3782 mvX12_sees t29 rfl dX12_seesRelation_39 (xle (xal1 (rv_cat _) (xal1 rfl xal0)) (by decide)) (xfr g30) (xlo xsw0 (by decide) g31) (xKi hq (fun x33 h32 hq e34 => ?_) (fun _ _ q _ => q))
          replace hq := hq e34
          refine x_if_ne (tgt := 63) dX12_seesRelation_42 (by decide) (fun c35 => ?_) (fun c35 => ?_)
          · replace hq := hq.1 c35
            refine xP.pick (lv' := []) [] rfl ?_
            exact uX12_seesRelation_63 hq
          · replace hq := hq.2 c35
            refine x_aload_n 0 dX12_seesRelation_45 rfl ?_
            refine x_bipush (v := 58) dX12_seesRelation_46 (by decide) ?_
            have t36 : tg h32 x0 = 13 := e34.tg t29 (by decide)
            obtain ⟨g37, g38, hq⟩ := hq
            refine x_callV (Yc := YX12_sees) (as := [.int 58]) (st := []) q3782 mvX12_sees t36 rfl dX12_seesRelation_48 (xle (xal1 (rv_cat _) (xal1 rfl xal0)) (by decide)) (xfr g37) (xlo xsw0 (by decide) g38) (xKi hq (fun x40 h39 hq e41 => ?_) (fun _ _ q _ => q))
            replace hq := hq e41
            refine x_if_ne (tgt := 63) dX12_seesRelation_51 (by decide) (fun c42 => ?_) (fun c42 => ?_)
            · replace hq := hq.1 c42
              refine xP.pick (lv' := []) [] rfl ?_
              exact uX12_seesRelation_63 hq
            · replace hq := hq.2 c42
              refine x_aload_n 0 dX12_seesRelation_54 rfl ?_
              refine x_bipush (v := 16) dX12_seesRelation_55 (by decide) ?_
              have t43 : tg h39 x0 = 13 := e41.tg t36 (by decide)
              obtain ⟨g44, g45, hq⟩ := hq
              refine x_callV (Yc := YX12_sees) (as := [.int 16]) (st := []) q3782 mvX12_sees t43 rfl dX12_seesRelation_57 (xle (xal1 (rv_cat _) (xal1 rfl xal0)) (by decide)) (xfr g44) (xlo xsw0 (by decide) g45) (xKi hq (fun x47 h46 hq e48 => ?_) (fun _ _ q _ => q))
              replace hq := hq e48
              refine x_if_eq (tgt := 67) dX12_seesRelation_60 (by decide) (fun c49 => ?_) (fun c49 => ?_)
              · replace hq := hq.1 c49
                refine x_iconst (v := 0) dX12_seesRelation_67 (by decide) ?_
                refine xP.pick (lv' := []) [] rfl ?_
                exact uX12_seesRelation_68 hq
              · replace hq := hq.2 c49
                refine xP.pick (lv' := []) [] rfl ?_
                exact uX12_seesRelation_63 hq
theorem rX12_seesRelation {G : xG} {fr lo : Nat} {x0 : Nat} {h : xH} {Q : Outcome → xH → Prop} (hq : bX12_seesRelation G fr lo x0 h Q) : xR G YX12_seesRelation fr lo [rv x0] h Q := by
  show xP _ _ _ _ _ (lv_args 0 _) _ _ _
  rw [show lv_args 0 [rv x0] = [(0, rv x0)] from (xla1 (rv_cat _) xla0)]
  exact uX12_seesRelation hq
set_option maxRecDepth 100000 in
theorem dX12_parseCase_0 : decode cX12_parseCase 0 = .ok (.aload_n 0, 1) := by decide +kernel
set_option maxRecDepth 100000 in
theorem dX12_parseCase_1 : decode cX12_parseCase 1 = .ok (.bipush 33, 2) := by decide +kernel
set_option maxRecDepth 100000 in
theorem dX12_parseCase_3 : decode cX12_parseCase 3 = .ok (.aload_n 0, 1) := by decide +kernel
set_option maxRecDepth 100000 in
theorem dX12_parseCase_4 : decode cX12_parseCase 4 = .ok (.invokevirtual 442, 3) := by decide +kernel
set_option maxRecDepth 100000 in
theorem dX12_parseCase_7 : decode cX12_parseCase 7 = .ok (.invokevirtual 454, 3) := by decide +kernel
set_option maxRecDepth 100000 in
theorem dX12_parseCase_10 : decode cX12_parseCase 10 = .ok (.istore_n 1, 1) := by decide +kernel
set_option maxRecDepth 100000 in
theorem dX12_parseCase_11 : decode cX12_parseCase 11 = .ok (.aload_n 0, 1) := by decide +kernel
set_option maxRecDepth 100000 in
theorem dX12_parseCase_12 : decode cX12_parseCase 12 = .ok (.iload_n 1, 1) := by decide +kernel
set_option maxRecDepth 100000 in
theorem dX12_parseCase_13 : decode cX12_parseCase 13 = .ok (.aload_n 0, 1) := by decide +kernel
set_option maxRecDepth 100000 in
theorem dX12_parseCase_14 : decode cX12_parseCase 14 = .ok (.invokevirtual 518, 3) := by decide +kernel
set_option maxRecDepth 100000 in
theorem dX12_parseCase_17 : decode cX12_parseCase 17 = .ok (.invokevirtual 460, 3) := by decide +kernel
set_option maxRecDepth 100000 in
theorem dX12_parseCase_20 : decode cX12_parseCase 20 = .ok (.aload_n 0, 1) := by decide +kernel
set_option maxRecDepth 100000 in
theorem dX12_parseCase_21 : decode cX12_parseCase 21 = .ok (.bipush 21, 2) := by decide +kernel
set_option maxRecDepth 100000 in
theorem dX12_parseCase_23 : decode cX12_parseCase 23 = .ok (.invokevirtual 457, 3) := by decide +kernel
set_option maxRecDepth 100000 in
theorem dX12_parseCase_26 : decode cX12_parseCase 26 = .ok (.pop, 1) := by decide +kernel
set_option maxRecDepth 100000 in
theorem dX12_parseCase_27 : decode cX12_parseCase 27 = .ok (.aload_n 0, 1) := by decide +kernel
set_option maxRecDepth 100000 in
theorem dX12_parseCase_28 : decode cX12_parseCase 28 = .ok (.invokevirtual 499, 3) := by decide +kernel
set_option maxRecDepth 100000 in
theorem dX12_parseCase_31 : decode cX12_parseCase 31 = .ok (.ifCond .eq 70, 3) := by decide +kernel
set_option maxRecDepth 100000 in
theorem dX12_parseCase_34 : decode cX12_parseCase 34 = .ok (.aload_n 0, 1) := by decide +kernel
set_option maxRecDepth 100000 in
theorem dX12_parseCase_35 : decode cX12_parseCase 35 = .ok (.bipush 34, 2) := by decide +kernel
set_option maxRecDepth 100000 in
theorem dX12_parseCase_37 : decode cX12_parseCase 37 = .ok (.aload_n 0, 1) := by decide +kernel
set_option maxRecDepth 100000 in
theorem dX12_parseCase_38 : decode cX12_parseCase 38 = .ok (.invokevirtual 445, 3) := by decide +kernel
set_option maxRecDepth 100000 in
theorem dX12_parseCase_41 : decode cX12_parseCase 41 = .ok (.invokevirtual 454, 3) := by decide +kernel
set_option maxRecDepth 100000 in
theorem dX12_parseCase_44 : decode cX12_parseCase 44 = .ok (.istore_n 2, 1) := by decide +kernel
set_option maxRecDepth 100000 in
theorem dX12_parseCase_45 : decode cX12_parseCase 45 = .ok (.aload_n 0, 1) := by decide +kernel
set_option maxRecDepth 100000 in
theorem dX12_parseCase_46 : decode cX12_parseCase 46 = .ok (.iconst 3, 1) := by decide +kernel
set_option maxRecDepth 100000 in
theorem dX12_parseCase_47 : decode cX12_parseCase 47 = .ok (.aload_n 0, 1) := by decide +kernel
set_option maxRecDepth 100000 in
theorem dX12_parseCase_48 : decode cX12_parseCase 48 = .ok (.invokevirtual 445, 3) := by decide +kernel
set_option maxRecDepth 100000 in
theorem dX12_parseCase_51 : decode cX12_parseCase 51 = .ok (.invokevirtual 454, 3) := by decide +kernel
set_option maxRecDepth 100000 in
theorem dX12_parseCase_54 : decode cX12_parseCase 54 = .ok (.istore_n 3, 1) := by decide +kernel
set_option maxRecDepth 100000 in
theorem dX12_parseCase_55 : decode cX12_parseCase 55 = .ok (.aload_n 0, 1) := by decide +kernel
set_option maxRecDepth 100000 in
theorem dX12_parseCase_56 : decode cX12_parseCase 56 = .ok (.iload_n 3, 1) := by decide +kernel
set_option maxRecDepth 100000 in
theorem dX12_parseCase_57 : decode cX12_parseCase 57 = .ok (.aload_n 0, 1) := by decide +kernel
set_option maxRecDepth 100000 in
theorem dX12_parseCase_58 : decode cX12_parseCase 58 = .ok (.invokevirtual 475, 3) := by decide +kernel
set_option maxRecDepth 100000 in
theorem dX12_parseCase_61 : decode cX12_parseCase 61 = .ok (.invokevirtual 460, 3) := by decide +kernel
set_option maxRecDepth 100000 in
theorem dX12_parseCase_64 : decode cX12_parseCase 64 = .ok (.aload_n 0, 1) := by decide +kernel
set_option maxRecDepth 100000 in
theorem dX12_parseCase_65 : decode cX12_parseCase 65 = .ok (.bipush 66, 2) := by decide +kernel
set_option maxRecDepth 100000 in
theorem dX12_parseCase_67 : decode cX12_parseCase 67 = .ok (.invokevirtual 463, 3) := by decide +kernel
set_option maxRecDepth 100000 in
theorem dX12_parseCase_70 : decode cX12_parseCase 70 = .ok (.ifCond .ne (-15), 3) := by decide +kernel
set_option maxRecDepth 100000 in
theorem dX12_parseCase_73 : decode cX12_parseCase 73 = .ok (.aload_n 0, 1) := by decide +kernel
set_option maxRecDepth 100000 in
theorem dX12_parseCase_74 : decode cX12_parseCase 74 = .ok (.iload_n 2, 1) := by decide +kernel
set_option maxRecDepth 100000 in
theorem dX12_parseCase_75 : decode cX12_parseCase 75 = .ok (.iload_n 3, 1) := by decide +kernel
set_option maxRecDepth 100000 in
theorem dX12_parseCase_76 : decode cX12_parseCase 76 = .ok (.invokevirtual 460, 3) := by decide +kernel
set_option maxRecDepth 100000 in
theorem dX12_parseCase_79 : decode cX12_parseCase 79 = .ok (.aload_n 0, 1) := by decide +kernel
set_option maxRecDepth 100000 in
theorem dX12_parseCase_80 : decode cX12_parseCase 80 = .ok (.bipush 68, 2) := by decide +kernel
set_option maxRecDepth 100000 in
theorem dX12_parseCase_82 : decode cX12_parseCase 82 = .ok (.invokevirtual 457, 3) := by decide +kernel
set_option maxRecDepth 100000 in
theorem dX12_parseCase_85 : decode cX12_parseCase 85 = .ok (.pop, 1) := by decide +kernel
set_option maxRecDepth 100000 in
theorem dX12_parseCase_86 : decode cX12_parseCase 86 = .ok (.aload_n 0, 1) := by decide +kernel
set_option maxRecDepth 100000 in
theorem dX12_parseCase_87 : decode cX12_parseCase 87 = .ok (.iload_n 2, 1) := by decide +kernel
set_option maxRecDepth 100000 in
theorem dX12_parseCase_88 : decode cX12_parseCase 88 = .ok (.aload_n 0, 1) := by decide +kernel
set_option maxRecDepth 100000 in
theorem dX12_parseCase_89 : decode cX12_parseCase 89 = .ok (.invokevirtual 515, 3) := by decide +kernel
set_option maxRecDepth 100000 in
theorem dX12_parseCase_92 : decode cX12_parseCase 92 = .ok (.invokevirtual 460, 3) := by decide +kernel
set_option maxRecDepth 100000 in
theorem dX12_parseCase_95 : decode cX12_parseCase 95 = .ok (.aload_n 0, 1) := by decide +kernel
set_option maxRecDepth 100000 in
theorem dX12_parseCase_96 : decode cX12_parseCase 96 = .ok (.iload_n 1, 1) := by decide +kernel
set_option maxRecDepth 100000 in
theorem dX12_parseCase_97 : decode cX12_parseCase 97 = .ok (.iload_n 2, 1) := by decide +kernel
set_option maxRecDepth 100000 in
theorem dX12_parseCase_98 : decode cX12_parseCase 98 = .ok (.invokevirtual 460, 3) := by decide +kernel
set_option maxRecDepth 100000 in
theorem dX12_parseCase_101 : decode cX12_parseCase 101 = .ok (.aload_n 0, 1) := by decide +kernel
set_option maxRecDepth 100000 in
theorem dX12_parseCase_102 : decode cX12_parseCase 102 = .ok (.bipush 67, 2) := by decide +kernel
set_option maxRecDepth 100000 in
theorem dX12_parseCase_104 : decode cX12_parseCase 104 = .ok (.invokevirtual 463, 3) := by decide +kernel
set_option maxRecDepth 100000 in
theorem dX12_parseCase_107 : decode cX12_parseCase 107 = .ok (.ifCond .ne (-80), 3) := by decide +kernel
set_option maxRecDepth 100000 in
theorem dX12_parseCase_110 : decode cX12_parseCase 110 = .ok (.aload_n 0, 1) := by decide +kernel
set_option maxRecDepth 100000 in
theorem dX12_parseCase_111 : decode cX12_parseCase 111 = .ok (.bipush 10, 2) := by decide +kernel
set_option maxRecDepth 100000 in
theorem dX12_parseCase_113 : decode cX12_parseCase 113 = .ok (.invokevirtual 457, 3) := by decide +kernel
set_option maxRecDepth 100000 in
theorem dX12_parseCase_116 : decode cX12_parseCase 116 = .ok (.pop, 1) := by decide +kernel
set_option maxRecDepth 100000 in
theorem dX12_parseCase_117 : decode cX12_parseCase 117 = .ok (.iload_n 1, 1) := by decide +kernel
set_option maxRecDepth 100000 in
theorem dX12_parseCase_118 : decode cX12_parseCase 118 = .ok (.ireturn, 1) := by decide +kernel
def lX12_parseCase_27 (G : xG) (fr lo : Nat) (x0 : Nat) (x1 : Int32) (h : xH) (Q : Outcome → xH → Prop) : Prop := xP G YX12_parseCase fr lo 27 [(0, rv x0), (1, .int x1)] [] h Q
def lX12_parseCase_55 (G : xG) (fr lo : Nat) (x0 : Nat) (x1 : Int32) (x2 : Int32) (x3 : Int32) (h : xH) (Q : Outcome → xH → Prop) : Prop := xP G YX12_parseCase fr lo 55 [(0, rv x0), (1, .int x1), (2, .int x2), (3, .int x3)] [] h Q
set_option maxRecDepth 100000 in
def bX12_parseCase_101 (G : xG) (fr lo : Nat) (x0 : Nat) (x1 : Int32) (h : xH) (Q : Outcome → xH → Prop) : Prop := tg h x0 = 13 ∧ 1 ≤ fr ∧ 13 ≤ lo ∧ xRi G YX12_takes (fr - 1) (lo - 13) [rv x0, .int 67] h (fun x5 h4 => xext h h4 → ((¬ x5 = 0 → lX12_parseCase_27 G fr lo x0 x1 h4 Q) ∧ (x5 = 0 → 1 ≤ fr ∧ 13 ≤ lo ∧ xRi G YX12_must (fr - 1) (lo - 13) [rv x0, .int 10] h4 (fun x12 h11 => xext h4 h11 → Q (.returned (some (.int x1))) h11) (fun r h2 => Q (.threw r) h2)))) (fun r h2 => Q (.threw r) h2)
set_option maxRecDepth 100000 in
theorem uX12_parseCase_101 {G : xG} {fr lo : Nat} {x0 : Nat} {x1 : Int32} {h : xH} {Q : Outcome → xH → Prop} (hq : bX12_parseCase_101 G fr lo x0 x1 h Q) : xP G YX12_parseCase fr lo 101 [(0, rv x0), (1, .int x1)] [] h Q := by
  unfold bX12_parseCase_101 at hq
  refine x_aload_n 0 dX12_parseCase_101 rfl ?_
  refine x_bipush (v := 67) dX12_parseCase_102 (by decide) ?_
  obtain ⟨g1, hq⟩ := hq
  obtain ⟨g2, g3, hq⟩ := hq
  refine x_callV (Yc := YX12_takes) (as := [.int 67]) (st := []) q3802 mvX12_takes g1 rfl dX12_parseCase_104 (xle (xal1 (rv_cat _) (xal1 rfl xal0)) (by decide)) (xfr g2) (xlo xsw0 (by decide) g3) (xKi hq (fun x5 h4 hq e6 => ?_) (fun _ _ q _ => q))
  replace hq := hq e6
  refine x_if_ne (tgt := 27) dX12_parseCase_107 (by decide) (fun c7 => ?_) (fun c7 => ?_)
  · replace hq := hq.1 c7
    exact hq
  · replace hq := hq.2 c7
    refine x_aload_n 0 dX12_parseCase_110 rfl ?_
    refine x_bipush (v := 10) dX12_parseCase_111 (by decide) ?_
    have t8 : tg h4 x0 = 13 := e6.tg g1 (by decide)
    obtain ⟨g9, g10, hq⟩ := hq
    refine x_callV (Yc := YX12_must) (as := [.int 10]) (st := []) q3778 mvX12_must t8 rfl dX12_parseCase_113 (xle (xal1 (rv_cat _) (xal1 rfl xal0)) (by decide)) (xfr g9) (xlo xsw0 (by decide) g10) (xKi hq (fun x12 h11 hq e13 => ?_) (fun _ _ q _ => q))
    replace hq := hq e13
    refine x_pop dX12_parseCase_116 rfl ?_
    refine x_iload_n 1 dX12_parseCase_117 rfl ?_
    exact x_iret rfl rfl dX12_parseCase_118 hq
set_option maxRecDepth 100000 in
def bX12_parseCase_55 (G : xG) (fr lo : Nat) (x0 : Nat) (x1 : Int32) (x2 : Int32) (x3 : Int32) (h : xH) (Q : Outcome → xH → Prop) : Prop := tg h x0 = 13 ∧ 1 ≤ fr ∧ 15 ≤ lo ∧ xRi G YX12_parseConstant (fr - 1) (lo - 15) [rv x0] h (fun x5 h4 => xext h h4 → 1 ≤ fr ∧ 14 ≤ lo ∧ xRv G YX12_add (fr - 1) (lo - 14) [rv x0, .int x3, .int x5] h4 (fun h10 => xext h4 h10 → 1 ≤ fr ∧ 13 ≤ lo ∧ xRi G YX12_takes (fr - 1) (lo - 13) [rv x0, .int 66] h10 (fun x17 h16 => xext h10 h16 → ((¬ x17 = 0 → lX12_parseCase_55 G fr lo x0 x1 x2 x3 h16 Q) ∧ (x17 = 0 → 1 ≤ fr ∧ 14 ≤ lo ∧ xRv G YX12_add (fr - 1) (lo - 14) [rv x0, .int x2, .int x3] h16 (fun h23 => xext h16 h23 → 1 ≤ fr ∧ 13 ≤ lo ∧ xRi G YX12_must (fr - 1) (lo - 13) [rv x0, .int 68] h23 (fun x30 h29 => xext h23 h29 → 1 ≤ fr ∧ 18 ≤ lo ∧ xRi G YX12_parseStatement (fr - 1) (lo - 18) [rv x0] h29 (fun x36 h35 => xext h29 h35 → 1 ≤ fr ∧ 14 ≤ lo ∧ xRv G YX12_add (fr - 1) (lo - 14) [rv x0, .int x2, .int x36] h35 (fun h41 => xext h35 h41 → 1 ≤ fr ∧ 14 ≤ lo ∧ xRv G YX12_add (fr - 1) (lo - 14) [rv x0, .int x1, .int x2] h41 (fun h47 => xext h41 h47 → bX12_parseCase_101 G fr lo x0 x1 h47 Q) (fun r h2 => Q (.threw r) h2)) (fun r h2 => Q (.threw r) h2)) (fun r h2 => Q (.threw r) h2)) (fun r h2 => Q (.threw r) h2)) (fun r h2 => Q (.threw r) h2)))) (fun r h2 => Q (.threw r) h2)) (fun r h2 => Q (.threw r) h2)) (fun r h2 => Q (.threw r) h2)
set_option maxRecDepth 100000 in
theorem uX12_parseCase_55 {G : xG} {fr lo : Nat} {x0 : Nat} {x1 : Int32} {x2 : Int32} {x3 : Int32} {h : xH} {Q : Outcome → xH → Prop} (hq : bX12_parseCase_55 G fr lo x0 x1 x2 x3 h Q) : xP G YX12_parseCase fr lo 55 [(0, rv x0), (1, .int x1), (2, .int x2), (3, .int x3)] [] h Q := by
  unfold bX12_parseCase_55 at hq
  refine x_aload_n 0 dX12_parseCase_55 rfl ?_
  refine x_iload_n 3 dX12_parseCase_56 rfl ?_
  refine x_aload_n 0 dX12_parseCase_57 rfl ?_
  obtain ⟨g1, hq⟩ := hq
  obtain ⟨g2, g3, hq⟩ := hq
  refine x_callV (Yc := YX12_parseConstant) (as := []) (st := [.int x3, rv x0]) q3822 mvX12_parseConstant g1 rfl dX12_parseCase_58 (xle (xal1 (rv_cat _) xal0) (by decide)) (xfr g2) (xlo (xsw1 rfl (xsw1 (rv_cat _) xsw0)) (by decide) g3) (xKi hq (fun x5 h4 hq e6 => ?_) (fun _ _ q _ => q))
  replace hq := hq e6
  have t7 : tg h4 x0 = 13 := e6.tg g1 (by decide)
  obtain ⟨g8, g9, hq⟩ := hq
  refine x_callV (Yc := YX12_add) (as := [.int x3, .int x5]) (st := []) q3810 mvX12_add t7 rfl dX12_parseCase_61 (xle (xal1 (rv_cat _) (xal1 rfl (xal1 rfl xal0))) (by decide)) (xfr g8) (xlo xsw0 (by decide) g9) (xKv hq (fun h10 hq e12 => ?_) (fun _ _ q _ => q))
  replace hq := hq e12
  refine x_aload_n 0 dX12_parseCase_64 rfl ?_
  refine x_bipush (v := 66) dX12_parseCase_65 (by decide) ?_
  have t13 : tg h10 x0 = 13 := e12.tg t7 (by decide)
  obtain ⟨g14, g15, hq⟩ := hq
  refine x_callV (Yc := YX12_takes) (as := [.int 66]) (st := []) q3802 mvX12_takes t13 rfl dX12_parseCase_67 (xle (xal1 (rv_cat _) (xal1 rfl xal0)) (by decide)) (xfr g14) (xlo xsw0 (by decide) g15) (xKi hq (fun x17 h16 hq e18 => ?_) (fun _ _ q _ => q))
  replace hq := hq e18
  refine x_if_ne (tgt := 55) dX12_parseCase_70 (by decide) (fun c19 => ?_) (fun c19 => ?_)
  · replace hq := hq.1 c19
    exact hq
  · replace hq := hq.2 c19
    refine x_aload_n 0 dX12_parseCase_73 rfl ?_
    refine x_iload_n 2 dX12_parseCase_74 rfl ?_
    refine x_iload_n 3 dX12_parseCase_75 rfl ?_
    have t20 : tg h16 x0 = 13 := e18.tg t13 (by decide)
    obtain ⟨g21, g22, hq⟩ := hq
    refine x_callV (Yc := YX12_add) (as := [.int x2, .int x3]) (st := []) q3810 mvX12_add t20 rfl dX12_parseCase_76 (xle (xal1 (rv_cat _) (xal1 rfl (xal1 rfl xal0))) (by decide)) (xfr g21) (xlo xsw0 (by decide) g22) (xKv hq (fun h23 hq e25 => ?_) (fun _ _ q _ => q))
    replace hq := hq e25
    refine x_aload_n 0 dX12_parseCase_79 rfl ?_
    refine x_bipush (v := 68) dX12_parseCase_80 (by decide) ?_
    have t26 : tg h23 x0 = 13 := e25.tg t20 (by decide)
    obtain ⟨g27, g28, hq⟩ := hq
    refine x_callV (Yc := YX12_must) (as := [.int 68]) (st := []) q3778 mvX12_must t26 rfl dX12_parseCase_82 (xle (xal1 (rv_cat _) (xal1 rfl xal0)) (by decide)) (xfr g27) (xlo xsw0 (by decide) g28) (xKi hq (fun x30 h29 hq e31 => ?_) (fun _ _ q _ => q))
    replace hq := hq e31
    refine x_pop dX12_parseCase_85 rfl ?_
    refine x_aload_n 0 dX12_parseCase_86 rfl ?_
    refine x_iload_n 2 dX12_parseCase_87 rfl ?_
    refine x_aload_n 0 dX12_parseCase_88 rfl ?_
    have t32 : tg h29 x0 = 13 := e31.tg t26 (by decide)
    obtain ⟨g33, g34, hq⟩ := hq
    refine x_callV (Yc := YX12_parseStatement) (as := []) (st := [.int x2, rv x0]) q3870 mvX12_parseStatement t32 rfl dX12_parseCase_89 (xle (xal1 (rv_cat _) xal0) (by decide)) (xfr g33) (xlo (xsw1 rfl (xsw1 (rv_cat _) xsw0)) (by decide) g34) (xKi hq (fun x36 h35 hq e37 => ?_) (fun _ _ q _ => q))
    replace hq := hq e37
    have t38 : tg h35 x0 = 13 := e37.tg t32 (by decide)
    obtain ⟨g39, g40, hq⟩ := hq
    refine x_callV (Yc := YX12_add) (as := [.int x2, .int x36]) (st := []) q3810 mvX12_add t38 rfl dX12_parseCase_92 (xle (xal1 (rv_cat _) (xal1 rfl (xal1 rfl xal0))) (by decide)) (xfr g39) (xlo xsw0 (by decide) g40) (xKv hq (fun h41 hq e43 => ?_) (fun _ _ q _ => q))
    replace hq := hq e43
    refine x_aload_n 0 dX12_parseCase_95 rfl ?_
    refine x_iload_n 1 dX12_parseCase_96 rfl ?_
    refine x_iload_n 2 dX12_parseCase_97 rfl ?_
    have t44 : tg h41 x0 = 13 := e43.tg t38 (by decide)
    obtain ⟨g45, g46, hq⟩ := hq
    refine x_callV (Yc := YX12_add) (as := [.int x1, .int x2]) (st := []) q3810 mvX12_add t44 rfl dX12_parseCase_98 (xle (xal1 (rv_cat _) (xal1 rfl (xal1 rfl xal0))) (by decide)) (xfr g45) (xlo xsw0 (by decide) g46) (xKv hq (fun h47 hq e49 => ?_) (fun _ _ q _ => q))
    replace hq := hq e49
    refine xP.pick (lv' := [(0, rv x0), (1, .int x1)]) [0, 1] rfl ?_
    exact uX12_parseCase_101 hq
set_option maxRecDepth 100000 in
def bX12_parseCase_27 (G : xG) (fr lo : Nat) (x0 : Nat) (x1 : Int32) (h : xH) (Q : Outcome → xH → Prop) : Prop := tg h x0 = 13 ∧ 1 ≤ fr ∧ 12 ≤ lo ∧ xRi G YX12_beginsConstant (fr - 1) (lo - 12) [rv x0] h (fun x5 h4 => xext h h4 → ((x5 = 0 → bX12_parseCase_101 G fr lo x0 x1 h4 Q) ∧ (¬ x5 = 0 → 1 ≤ fr ∧ 14 ≤ lo ∧ xRi G YX12_now (fr - 1) (lo - 14) [rv x0] h4 (fun x12 h11 => xext h4 h11 → 1 ≤ fr ∧ 15 ≤ lo ∧ xRi G YX12_node (fr - 1) (lo - 15) [rv x0, .int 34, .int x12] h11 (fun x18 h17 => xext h11 h17 → 1 ≤ fr ∧ 14 ≤ lo ∧ xRi G YX12_now (fr - 1) (lo - 14) [rv x0] h17 (fun x24 h23 => xext h17 h23 → 1 ≤ fr ∧ 15 ≤ lo ∧ xRi G YX12_node (fr - 1) (lo - 15) [rv x0, .int 3, .int x24] h23 (fun x30 h29 => xext h23 h29 → lX12_parseCase_55 G fr lo x0 x1 x18 x30 h29 Q) (fun r h2 => Q (.threw r) h2)) (fun r h2 => Q (.threw r) h2)) (fun r h2 => Q (.threw r) h2)) (fun r h2 => Q (.threw r) h2)))) (fun r h2 => Q (.threw r) h2)
set_option maxRecDepth 100000 in
theorem uX12_parseCase_27 {G : xG} {fr lo : Nat} {x0 : Nat} {x1 : Int32} {h : xH} {Q : Outcome → xH → Prop} (hq : bX12_parseCase_27 G fr lo x0 x1 h Q) : xP G YX12_parseCase fr lo 27 [(0, rv x0), (1, .int x1)] [] h Q := by
  unfold bX12_parseCase_27 at hq
  refine x_aload_n 0 dX12_parseCase_27 rfl ?_
  obtain ⟨g1, hq⟩ := hq
  obtain ⟨g2, g3, hq⟩ := hq
  refine x_callV (Yc := YX12_beginsConstant) (as := []) (st := []) q3838 mvX12_beginsConstant g1 rfl dX12_parseCase_28 (xle (xal1 (rv_cat _) xal0) (by decide)) (xfr g2) (xlo xsw0 (by decide) g3) (xKi hq (fun x5 h4 hq e6 => ?_) (fun _ _ q _ => q))
  replace hq := hq e6
  refine x_if_eq (tgt := 101) dX12_parseCase_31 (by decide) (fun c7 => ?_) (fun c7 => ?_)
  · replace hq := hq.1 c7
    exact uX12_parseCase_101 hq
  · replace hq := hq.2 c7
    refine x_aload_n 0 dX12_parseCase_34 rfl ?_
    refine x_bipush (v := 34) dX12_parseCase_35 (by decide) ?_
    refine x_aload_n 0 dX12_parseCase_37 rfl ?_
    have t8 : tg h4 x0 = 13 := e6.tg g1 (by decide)
    obtain ⟨g9, g10, hq⟩ := hq
    refine x_callV (Yc := YX12_now) (as := []) (st := [.int 34, rv x0]) q3790 mvX12_now t8 rfl dX12_parseCase_38 (xle (xal1 (rv_cat _) xal0) (by decide)) (xfr g9) (xlo (xsw1 rfl (xsw1 (rv_cat _) xsw0)) (by decide) g10) (xKi hq (fun x12 h11 hq e13 => ?_) (fun _ _ q _ => q))
    replace hq := hq e13
    have t14 : tg h11 x0 = 13 := e13.tg t8 (by decide)
    obtain ⟨g15, g16, hq⟩ := hq
    refine x_callV (Yc := YX12_node) (as := [.int 34, .int x12]) (st := []) q3798 mvX12_node t14 rfl dX12_parseCase_41 (xle (xal1 (rv_cat _) (xal1 rfl (xal1 rfl xal0))) (by decide)) (xfr g15) (xlo xsw0 (by decide) g16) (xKi hq (fun x18 h17 hq e19 => ?_) (fun _ _ q _ => q))
    replace hq := hq e19
    refine x_istore_n (lv' := [(2, .int x18), (0, rv x0), (1, .int x1)]) dX12_parseCase_44 (by decide) rfl ?_
    refine x_aload_n 1 dX12_parseCase_45 rfl ?_
    refine x_iconst (v := 3) dX12_parseCase_46 (by decide) ?_
    refine x_aload_n 1 dX12_parseCase_47 rfl ?_
    have t20 : tg h17 x0 = 13 := e19.tg t14 (by decide)
    obtain ⟨g21, g22, hq⟩ := hq
    refine x_callV (Yc := YX12_now) (as := []) (st := [.int 3, rv x0]) q3790 mvX12_now t20 rfl dX12_parseCase_48 (xle (xal1 (rv_cat _) xal0) (by decide)) (xfr g21) (xlo (xsw1 rfl (xsw1 (rv_cat _) xsw0)) (by decide) g22) (xKi hq (fun x24 h23 hq e25 => ?_) (fun _ _ q _ => q))
    replace hq := hq e25
    have t26 : tg h23 x0 = 13 := e25.tg t20 (by decide)
    obtain ⟨g27, g28, hq⟩ := hq
    refine x_callV (Yc := YX12_node) (as := [.int 3, .int x24]) (st := []) q3798 mvX12_node t26 rfl dX12_parseCase_51 (xle (xal1 (rv_cat _) (xal1 rfl (xal1 rfl xal0))) (by decide)) (xfr g27) (xlo xsw0 (by decide) g28) (xKi hq (fun x30 h29 hq e31 => ?_) (fun _ _ q _ => q))
    replace hq := hq e31
    refine x_istore_n (lv' := [(3, .int x30), (2, .int x18), (0, rv x0), (1, .int x1)]) dX12_parseCase_54 (by decide) rfl ?_
    refine xP.pick (lv' := [(0, rv x0), (1, .int x1), (2, .int x18), (3, .int x30)]) [2, 3, 1, 0] rfl ?_
    exact hq
set_option maxRecDepth 100000 in
def bX12_parseCase (G : xG) (fr lo : Nat) (x0 : Nat) (h : xH) (Q : Outcome → xH → Prop) : Prop := tg h x0 = 13 ∧ 1 ≤ fr ∧ 15 ≤ lo ∧ xRi G YX12_take (fr - 1) (lo - 15) [rv x0] h (fun x5 h4 => xext h h4 → 1 ≤ fr ∧ 15 ≤ lo ∧ xRi G YX12_node (fr - 1) (lo - 15) [rv x0, .int 33, .int x5] h4 (fun x11 h10 => xext h4 h10 → 1 ≤ fr ∧ 15 ≤ lo ∧ xRi G YX12_parseE (fr - 1) (lo - 15) [rv x0] h10 (fun x17 h16 => xext h10 h16 → 1 ≤ fr ∧ 14 ≤ lo ∧ xRv G YX12_add (fr - 1) (lo - 14) [rv x0, .int x11, .int x17] h16 (fun h22 => xext h16 h22 → 1 ≤ fr ∧ 13 ≤ lo ∧ xRi G YX12_must (fr - 1) (lo - 13) [rv x0, .int 21] h22 (fun x29 h28 => xext h22 h28 → lX12_parseCase_27 G fr lo x0 x11 h28 Q) (fun r h2 => Q (.threw r) h2)) (fun r h2 => Q (.threw r) h2)) (fun r h2 => Q (.threw r) h2)) (fun r h2 => Q (.threw r) h2)) (fun r h2 => Q (.threw r) h2)
set_option maxRecDepth 100000 in
theorem uX12_parseCase {G : xG} {fr lo : Nat} {x0 : Nat} {h : xH} {Q : Outcome → xH → Prop} (hq : bX12_parseCase G fr lo x0 h Q) : xP G YX12_parseCase fr lo 0 [(0, rv x0)] [] h Q := by
  unfold bX12_parseCase at hq
  refine x_aload_n 0 dX12_parseCase_0 rfl ?_
  refine x_bipush (v := 33) dX12_parseCase_1 (by decide) ?_
  refine x_aload_n 0 dX12_parseCase_3 rfl ?_
  obtain ⟨g1, hq⟩ := hq
  obtain ⟨g2, g3, hq⟩ := hq
  refine x_callV (Yc := YX12_take) (as := []) (st := [.int 33, rv x0]) q3794 mvX12_take g1 rfl dX12_parseCase_4 (xle (xal1 (rv_cat _) xal0) (by decide)) (xfr g2) (xlo (xsw1 rfl (xsw1 (rv_cat _) xsw0)) (by decide) g3) (xKi hq (fun x5 h4 hq e6 => ?_) (fun _ _ q _ => q))
  replace hq := hq e6
  have t7 : tg h4 x0 = 13 := e6.tg g1 (by decide)
  obtain ⟨g8, g9, hq⟩ := hq
  refine x_callV (Yc := YX12_node) (as := [.int 33, .int x5]) (st := []) q3798 mvX12_node t7 rfl dX12_parseCase_7 (xle (xal1 (rv_cat _) (xal1 rfl (xal1 rfl xal0))) (by decide)) (xfr g8) (xlo xsw0 (by decide) g9) (xKi hq (fun x11 h10 hq e12 => ?_) (fun _ _ q _ => q))
  replace hq := hq e12
  refine x_istore_n (lv' := [(1, .int x11), (0, rv x0)]) dX12_parseCase_10 (by decide) (by first | rfl | (simp [rv_cat, Value.category]; done) | (simp [rv_cat, Value.category]; decide)) ?_
  refine x_aload_n 1 dX12_parseCase_11 rfl ?_
  refine x_iload_n 0 dX12_parseCase_12 rfl ?_
  refine x_aload_n 1 dX12_parseCase_13 rfl ?_
  have t13 : tg h10 x0 = 13 := e12.tg t7 (by decide)
  obtain ⟨g14, g15, hq⟩ := hq
  refine x_callV (Yc := YX12_parseE) (as := []) (st := [.int x11, rv x0]) q3874 mvX12_parseE t13 rfl dX12_parseCase_14 (xle (xal1 (rv_cat _) xal0) (by decide)) (xfr g14) (xlo (xsw1 rfl (xsw1 (rv_cat _) xsw0)) (by decide) g15) (xKi hq (fun x17 h16 hq e18 => ?_) (fun _ _ q _ => q))
  replace hq := hq e18
  have t19 : tg h16 x0 = 13 := e18.tg t13 (by decide)
  obtain ⟨g20, g21, hq⟩ := hq
  refine x_callV (Yc := YX12_add) (as := [.int x11, .int x17]) (st := []) q3810 mvX12_add t19 rfl dX12_parseCase_17 (xle (xal1 (rv_cat _) (xal1 rfl (xal1 rfl xal0))) (by decide)) (xfr g20) (xlo xsw0 (by decide) g21) (xKv hq (fun h22 hq e24 => ?_) (fun _ _ q _ => q))
  replace hq := hq e24
  refine x_aload_n 1 dX12_parseCase_20 rfl ?_
  refine x_bipush (v := 21) dX12_parseCase_21 (by decide) ?_
  have t25 : tg h22 x0 = 13 := e24.tg t19 (by decide)
  obtain ⟨g26, g27, hq⟩ := hq
  refine x_callV (Yc := YX12_must) (as := [.int 21]) (st := []) q3778 mvX12_must t25 rfl dX12_parseCase_23 (xle (xal1 (rv_cat _) (xal1 rfl xal0)) (by decide)) (xfr g26) (xlo xsw0 (by decide) g27) (xKi hq (fun x29 h28 hq e30 => ?_) (fun _ _ q _ => q))
  replace hq := hq e30
  refine x_pop dX12_parseCase_26 rfl ?_
  refine xP.pick (lv' := [(0, rv x0), (1, .int x11)]) [1, 0] rfl ?_
  exact hq
theorem rX12_parseCase {G : xG} {fr lo : Nat} {x0 : Nat} {h : xH} {Q : Outcome → xH → Prop} (hq : bX12_parseCase G fr lo x0 h Q) : xR G YX12_parseCase fr lo [rv x0] h Q := by
  show xP _ _ _ _ _ (lv_args 0 _) _ _ _
  rw [show lv_args 0 [rv x0] = [(0, rv x0)] from (xla1 (rv_cat _) xla0)]
  exact uX12_parseCase hq
set_option maxRecDepth 100000 in
theorem dX12_parseVariable_0 : decode cX12_parseVariable 0 = .ok (.aload_n 0, 1) := by decide +kernel
set_option maxRecDepth 100000 in
theorem dX12_parseVariable_1 : decode cX12_parseVariable 1 = .ok (.aload_n 0, 1) := by decide +kernel
set_option maxRecDepth 100000 in
theorem dX12_parseVariable_2 : decode cX12_parseVariable 2 = .ok (.bipush 40, 2) := by decide +kernel
set_option maxRecDepth 100000 in
theorem dX12_parseVariable_4 : decode cX12_parseVariable 4 = .ok (.invokevirtual 457, 3) := by decide +kernel
set_option maxRecDepth 100000 in
theorem dX12_parseVariable_7 : decode cX12_parseVariable 7 = .ok (.invokevirtual 533, 3) := by decide +kernel
set_option maxRecDepth 100000 in
theorem dX12_parseVariable_10 : decode cX12_parseVariable 10 = .ok (.ireturn, 1) := by decide +kernel
set_option maxRecDepth 100000 in
def bX12_parseVariable (G : xG) (fr lo : Nat) (x0 : Nat) (h : xH) (Q : Outcome → xH → Prop) : Prop := tg h x0 = 13 ∧ 1 ≤ fr ∧ 14 ≤ lo ∧ xRi G YX12_must (fr - 1) (lo - 14) [rv x0, .int 40] h (fun x5 h4 => xext h h4 → 1 ≤ fr ∧ 15 ≤ lo ∧ xRi G YX12_parseSelectors (fr - 1) (lo - 15) [rv x0, .int x5] h4 (fun x11 h10 => xext h4 h10 → Q (.returned (some (.int x11))) h10) (fun r h2 => Q (.threw r) h2)) (fun r h2 => Q (.threw r) h2)
set_option maxRecDepth 100000 in
theorem uX12_parseVariable {G : xG} {fr lo : Nat} {x0 : Nat} {h : xH} {Q : Outcome → xH → Prop} (hq : bX12_parseVariable G fr lo x0 h Q) : xP G YX12_parseVariable fr lo 0 [(0, rv x0)] [] h Q := by
  unfold bX12_parseVariable at hq
  refine x_aload_n 0 dX12_parseVariable_0 rfl ?_
  refine x_aload_n 0 dX12_parseVariable_1 rfl ?_
  refine x_bipush (v := 40) dX12_parseVariable_2 (by decide) ?_
  obtain ⟨g1, hq⟩ := hq
  obtain ⟨g2, g3, hq⟩ := hq
  refine x_callV (Yc := YX12_must) (as := [.int 40]) (st := [rv x0]) q3778 mvX12_must g1 rfl dX12_parseVariable_4 (xle (xal1 (rv_cat _) (xal1 rfl xal0)) (by decide)) (xfr g2) (xlo (xsw1 (rv_cat _) xsw0) (by decide) g3) (xKi hq (fun x5 h4 hq e6 => ?_) (fun _ _ q _ => q))
  replace hq := hq e6
  have t7 : tg h4 x0 = 13 := e6.tg g1 (by decide)
  obtain ⟨g8, g9, hq⟩ := hq
  refine x_callV (Yc := YX12_parseSelectors) (as := [.int x5]) (st := []) q3898 mvX12_parseSelectors t7 rfl dX12_parseVariable_7 (xle (xal1 (rv_cat _) (xal1 rfl xal0)) (by decide)) (xfr g8) (xlo xsw0 (by decide) g9) (xKi hq (fun x11 h10 hq e12 => ?_) (fun _ _ q _ => q))
  replace hq := hq e12
  exact x_iret rfl rfl dX12_parseVariable_10 hq
theorem rX12_parseVariable {G : xG} {fr lo : Nat} {x0 : Nat} {h : xH} {Q : Outcome → xH → Prop} (hq : bX12_parseVariable G fr lo x0 h Q) : xR G YX12_parseVariable fr lo [rv x0] h Q := by
  show xP _ _ _ _ _ (lv_args 0 _) _ _ _
  rw [show lv_args 0 [rv x0] = [(0, rv x0)] from (xla1 (rv_cat _) xla0)]
  exact uX12_parseVariable hq
set_option maxRecDepth 100000 in
theorem dX12_parseNameStatement_0 : decode cX12_parseNameStatement 0 = .ok (.aload_n 0, 1) := by decide +kernel
set_option maxRecDepth 100000 in
theorem dX12_parseNameStatement_1 : decode cX12_parseNameStatement 1 = .ok (.invokevirtual 442, 3) := by decide +kernel
set_option maxRecDepth 100000 in
theorem dX12_parseNameStatement_4 : decode cX12_parseNameStatement 4 = .ok (.istore_n 1, 1) := by decide +kernel
set_option maxRecDepth 100000 in
theorem dX12_parseNameStatement_5 : decode cX12_parseNameStatement 5 = .ok (.aload_n 0, 1) := by decide +kernel
set_option maxRecDepth 100000 in
theorem dX12_parseNameStatement_6 : decode cX12_parseNameStatement 6 = .ok (.bipush 60, 2) := by decide +kernel
set_option maxRecDepth 100000 in
theorem dX12_parseNameStatement_8 : decode cX12_parseNameStatement 8 = .ok (.invokevirtual 439, 3) := by decide +kernel
set_option maxRecDepth 100000 in
theorem dX12_parseNameStatement_11 : decode cX12_parseNameStatement 11 = .ok (.ifCond .eq 43, 3) := by decide +kernel
set_option maxRecDepth 100000 in
theorem dX12_parseNameStatement_14 : decode cX12_parseNameStatement 14 = .ok (.aload_n 0, 1) := by decide +kernel
set_option maxRecDepth 100000 in
theorem dX12_parseNameStatement_15 : decode cX12_parseNameStatement 15 = .ok (.bipush 41, 2) := by decide +kernel
set_option maxRecDepth 100000 in
theorem dX12_parseNameStatement_17 : decode cX12_parseNameStatement 17 = .ok (.iload_n 1, 1) := by decide +kernel
set_option maxRecDepth 100000 in
theorem dX12_parseNameStatement_18 : decode cX12_parseNameStatement 18 = .ok (.invokevirtual 454, 3) := by decide +kernel
set_option maxRecDepth 100000 in
theorem dX12_parseNameStatement_21 : decode cX12_parseNameStatement 21 = .ok (.istore_n 2, 1) := by decide +kernel
set_option maxRecDepth 100000 in
theorem dX12_parseNameStatement_22 : decode cX12_parseNameStatement 22 = .ok (.aload_n 0, 1) := by decide +kernel
set_option maxRecDepth 100000 in
theorem dX12_parseNameStatement_23 : decode cX12_parseNameStatement 23 = .ok (.invokevirtual 442, 3) := by decide +kernel
set_option maxRecDepth 100000 in
theorem dX12_parseNameStatement_26 : decode cX12_parseNameStatement 26 = .ok (.pop, 1) := by decide +kernel
set_option maxRecDepth 100000 in
theorem dX12_parseNameStatement_27 : decode cX12_parseNameStatement 27 = .ok (.aload_n 0, 1) := by decide +kernel
set_option maxRecDepth 100000 in
theorem dX12_parseNameStatement_28 : decode cX12_parseNameStatement 28 = .ok (.iload_n 2, 1) := by decide +kernel
set_option maxRecDepth 100000 in
theorem dX12_parseNameStatement_29 : decode cX12_parseNameStatement 29 = .ok (.aload_n 0, 1) := by decide +kernel
set_option maxRecDepth 100000 in
theorem dX12_parseNameStatement_30 : decode cX12_parseNameStatement 30 = .ok (.invokevirtual 530, 3) := by decide +kernel
set_option maxRecDepth 100000 in
theorem dX12_parseNameStatement_33 : decode cX12_parseNameStatement 33 = .ok (.invokevirtual 460, 3) := by decide +kernel
set_option maxRecDepth 100000 in
theorem dX12_parseNameStatement_36 : decode cX12_parseNameStatement 36 = .ok (.aload_n 0, 1) := by decide +kernel
set_option maxRecDepth 100000 in
theorem dX12_parseNameStatement_37 : decode cX12_parseNameStatement 37 = .ok (.bipush 66, 2) := by decide +kernel
set_option maxRecDepth 100000 in
theorem dX12_parseNameStatement_39 : decode cX12_parseNameStatement 39 = .ok (.invokevirtual 463, 3) := by decide +kernel
set_option maxRecDepth 100000 in
theorem dX12_parseNameStatement_42 : decode cX12_parseNameStatement 42 = .ok (.ifCond .ne (-15), 3) := by decide +kernel
set_option maxRecDepth 100000 in
theorem dX12_parseNameStatement_45 : decode cX12_parseNameStatement 45 = .ok (.aload_n 0, 1) := by decide +kernel
set_option maxRecDepth 100000 in
theorem dX12_parseNameStatement_46 : decode cX12_parseNameStatement 46 = .ok (.bipush 61, 2) := by decide +kernel
set_option maxRecDepth 100000 in
theorem dX12_parseNameStatement_48 : decode cX12_parseNameStatement 48 = .ok (.invokevirtual 457, 3) := by decide +kernel
set_option maxRecDepth 100000 in
theorem dX12_parseNameStatement_51 : decode cX12_parseNameStatement 51 = .ok (.pop, 1) := by decide +kernel
set_option maxRecDepth 100000 in
theorem dX12_parseNameStatement_52 : decode cX12_parseNameStatement 52 = .ok (.iload_n 2, 1) := by decide +kernel
set_option maxRecDepth 100000 in
theorem dX12_parseNameStatement_53 : decode cX12_parseNameStatement 53 = .ok (.ireturn, 1) := by decide +kernel
set_option maxRecDepth 100000 in
theorem dX12_parseNameStatement_54 : decode cX12_parseNameStatement 54 = .ok (.aload_n 0, 1) := by decide +kernel
set_option maxRecDepth 100000 in
theorem dX12_parseNameStatement_55 : decode cX12_parseNameStatement 55 = .ok (.bipush 62, 2) := by decide +kernel
set_option maxRecDepth 100000 in
theorem dX12_parseNameStatement_57 : decode cX12_parseNameStatement 57 = .ok (.invokevirtual 439, 3) := by decide +kernel
set_option maxRecDepth 100000 in
theorem dX12_parseNameStatement_60 : decode cX12_parseNameStatement 60 = .ok (.ifCond .ne 38, 3) := by decide +kernel
set_option maxRecDepth 100000 in
theorem dX12_parseNameStatement_63 : decode cX12_parseNameStatement 63 = .ok (.aload_n 0, 1) := by decide +kernel
set_option maxRecDepth 100000 in
theorem dX12_parseNameStatement_64 : decode cX12_parseNameStatement 64 = .ok (.bipush 65, 2) := by decide +kernel
set_option maxRecDepth 100000 in
theorem dX12_parseNameStatement_66 : decode cX12_parseNameStatement 66 = .ok (.invokevirtual 439, 3) := by decide +kernel
set_option maxRecDepth 100000 in
theorem dX12_parseNameStatement_69 : decode cX12_parseNameStatement 69 = .ok (.ifCond .ne 29, 3) := by decide +kernel
set_option maxRecDepth 100000 in
theorem dX12_parseNameStatement_72 : decode cX12_parseNameStatement 72 = .ok (.aload_n 0, 1) := by decide +kernel
set_option maxRecDepth 100000 in
theorem dX12_parseNameStatement_73 : decode cX12_parseNameStatement 73 = .ok (.bipush 70, 2) := by decide +kernel
set_option maxRecDepth 100000 in
theorem dX12_parseNameStatement_75 : decode cX12_parseNameStatement 75 = .ok (.invokevirtual 439, 3) := by decide +kernel
set_option maxRecDepth 100000 in
theorem dX12_parseNameStatement_78 : decode cX12_parseNameStatement 78 = .ok (.ifCond .ne 20, 3) := by decide +kernel
set_option maxRecDepth 100000 in
theorem dX12_parseNameStatement_81 : decode cX12_parseNameStatement 81 = .ok (.aload_n 0, 1) := by decide +kernel
set_option maxRecDepth 100000 in
theorem dX12_parseNameStatement_82 : decode cX12_parseNameStatement 82 = .ok (.bipush 64, 2) := by decide +kernel
set_option maxRecDepth 100000 in
theorem dX12_parseNameStatement_84 : decode cX12_parseNameStatement 84 = .ok (.invokevirtual 439, 3) := by decide +kernel
set_option maxRecDepth 100000 in
theorem dX12_parseNameStatement_87 : decode cX12_parseNameStatement 87 = .ok (.ifCond .ne 11, 3) := by decide +kernel
set_option maxRecDepth 100000 in
theorem dX12_parseNameStatement_90 : decode cX12_parseNameStatement 90 = .ok (.aload_n 0, 1) := by decide +kernel
set_option maxRecDepth 100000 in
theorem dX12_parseNameStatement_91 : decode cX12_parseNameStatement 91 = .ok (.bipush 41, 2) := by decide +kernel
set_option maxRecDepth 100000 in
theorem dX12_parseNameStatement_93 : decode cX12_parseNameStatement 93 = .ok (.iload_n 1, 1) := by decide +kernel
set_option maxRecDepth 100000 in
theorem dX12_parseNameStatement_94 : decode cX12_parseNameStatement 94 = .ok (.invokevirtual 454, 3) := by decide +kernel
set_option maxRecDepth 100000 in
theorem dX12_parseNameStatement_97 : decode cX12_parseNameStatement 97 = .ok (.ireturn, 1) := by decide +kernel
set_option maxRecDepth 100000 in
theorem dX12_parseNameStatement_98 : decode cX12_parseNameStatement 98 = .ok (.aload_n 0, 1) := by decide +kernel
set_option maxRecDepth 100000 in
theorem dX12_parseNameStatement_99 : decode cX12_parseNameStatement 99 = .ok (.bipush 40, 2) := by decide +kernel
set_option maxRecDepth 100000 in
theorem dX12_parseNameStatement_101 : decode cX12_parseNameStatement 101 = .ok (.iload_n 1, 1) := by decide +kernel
set_option maxRecDepth 100000 in
theorem dX12_parseNameStatement_102 : decode cX12_parseNameStatement 102 = .ok (.invokevirtual 454, 3) := by decide +kernel
set_option maxRecDepth 100000 in
theorem dX12_parseNameStatement_105 : decode cX12_parseNameStatement 105 = .ok (.istore_n 2, 1) := by decide +kernel
set_option maxRecDepth 100000 in
theorem dX12_parseNameStatement_106 : decode cX12_parseNameStatement 106 = .ok (.aload_n 0, 1) := by decide +kernel
set_option maxRecDepth 100000 in
theorem dX12_parseNameStatement_107 : decode cX12_parseNameStatement 107 = .ok (.iload_n 2, 1) := by decide +kernel
set_option maxRecDepth 100000 in
theorem dX12_parseNameStatement_108 : decode cX12_parseNameStatement 108 = .ok (.aload_n 0, 1) := by decide +kernel
set_option maxRecDepth 100000 in
theorem dX12_parseNameStatement_109 : decode cX12_parseNameStatement 109 = .ok (.iload_n 1, 1) := by decide +kernel
set_option maxRecDepth 100000 in
theorem dX12_parseNameStatement_110 : decode cX12_parseNameStatement 110 = .ok (.invokevirtual 533, 3) := by decide +kernel
set_option maxRecDepth 100000 in
theorem dX12_parseNameStatement_113 : decode cX12_parseNameStatement 113 = .ok (.invokevirtual 460, 3) := by decide +kernel
set_option maxRecDepth 100000 in
theorem dX12_parseNameStatement_116 : decode cX12_parseNameStatement 116 = .ok (.aload_n 0, 1) := by decide +kernel
set_option maxRecDepth 100000 in
theorem dX12_parseNameStatement_117 : decode cX12_parseNameStatement 117 = .ok (.getfield 82, 3) := by decide +kernel
set_option maxRecDepth 100000 in
theorem dX12_parseNameStatement_120 : decode cX12_parseNameStatement 120 = .ok (.iload_n 2, 1) := by decide +kernel
set_option maxRecDepth 100000 in
theorem dX12_parseNameStatement_121 : decode cX12_parseNameStatement 121 = .ok (.aload_n 0, 1) := by decide +kernel
set_option maxRecDepth 100000 in
theorem dX12_parseNameStatement_122 : decode cX12_parseNameStatement 122 = .ok (.bipush 64, 2) := by decide +kernel
set_option maxRecDepth 100000 in
theorem dX12_parseNameStatement_124 : decode cX12_parseNameStatement 124 = .ok (.invokevirtual 457, 3) := by decide +kernel
set_option maxRecDepth 100000 in
theorem dX12_parseNameStatement_127 : decode cX12_parseNameStatement 127 = .ok (.iastore, 1) := by decide +kernel
set_option maxRecDepth 100000 in
theorem dX12_parseNameStatement_128 : decode cX12_parseNameStatement 128 = .ok (.aload_n 0, 1) := by decide +kernel
set_option maxRecDepth 100000 in
theorem dX12_parseNameStatement_129 : decode cX12_parseNameStatement 129 = .ok (.iload_n 2, 1) := by decide +kernel
set_option maxRecDepth 100000 in
theorem dX12_parseNameStatement_130 : decode cX12_parseNameStatement 130 = .ok (.aload_n 0, 1) := by decide +kernel
set_option maxRecDepth 100000 in
theorem dX12_parseNameStatement_131 : decode cX12_parseNameStatement 131 = .ok (.invokevirtual 518, 3) := by decide +kernel
set_option maxRecDepth 100000 in
theorem dX12_parseNameStatement_134 : decode cX12_parseNameStatement 134 = .ok (.invokevirtual 460, 3) := by decide +kernel
set_option maxRecDepth 100000 in
theorem dX12_parseNameStatement_137 : decode cX12_parseNameStatement 137 = .ok (.iload_n 2, 1) := by decide +kernel
set_option maxRecDepth 100000 in
theorem dX12_parseNameStatement_138 : decode cX12_parseNameStatement 138 = .ok (.ireturn, 1) := by decide +kernel
def lX12_parseNameStatement_27 (G : xG) (fr lo : Nat) (x0 : Nat) (x2 : Int32) (h : xH) (Q : Outcome → xH → Prop) : Prop := xP G YX12_parseNameStatement fr lo 27 [(0, rv x0), (2, .int x2)] [] h Q
set_option maxRecDepth 100000 in
def bX12_parseNameStatement_98 (G : xG) (fr lo : Nat) (x0 : Nat) (x1 : Int32) (h : xH) (Q : Outcome → xH → Prop) : Prop := tg h x0 = 13 ∧ 1 ≤ fr ∧ 15 ≤ lo ∧ xRi G YX12_node (fr - 1) (lo - 15) [rv x0, .int 40, .int x1] h (fun x5 h4 => xext h h4 → 1 ≤ fr ∧ 17 ≤ lo ∧ xRi G YX12_parseSelectors (fr - 1) (lo - 17) [rv x0, .int x1] h4 (fun x11 h10 => xext h4 h10 → 1 ≤ fr ∧ 14 ≤ lo ∧ xRv G YX12_add (fr - 1) (lo - 14) [rv x0, .int x5, .int x11] h10 (fun h16 => xext h10 h16 → 1 ≤ fr ∧ 15 ≤ lo ∧ xRi G YX12_must (fr - 1) (lo - 15) [rv x0, .int 64] h16 (fun x23 h22 => xext h16 h22 → tg h22 (fR h16 x0 3106) = 100 ∧ vp_in x5 (ln h22 (fR h16 x0 3106)) ∧ (∀ h27 : xH, h27 = tI h22 (fR h16 x0 3106) (Int32.toNatClampNeg x5) x23 → 1 ≤ fr ∧ 15 ≤ lo ∧ xRi G YX12_parseE (fr - 1) (lo - 15) [rv x0] h27 (fun x34 h33 => xext h27 h33 → 1 ≤ fr ∧ 14 ≤ lo ∧ xRv G YX12_add (fr - 1) (lo - 14) [rv x0, .int x5, .int x34] h33 (fun h39 => xext h33 h39 → Q (.returned (some (.int x5))) h39) (fun r h2 => Q (.threw r) h2)) (fun r h2 => Q (.threw r) h2))) (fun r h2 => Q (.threw r) h2)) (fun r h2 => Q (.threw r) h2)) (fun r h2 => Q (.threw r) h2)) (fun r h2 => Q (.threw r) h2)
set_option maxRecDepth 100000 in
theorem uX12_parseNameStatement_98 {G : xG} {fr lo : Nat} {x0 : Nat} {x1 : Int32} {h : xH} {Q : Outcome → xH → Prop} (hq : bX12_parseNameStatement_98 G fr lo x0 x1 h Q) : xP G YX12_parseNameStatement fr lo 98 [(0, rv x0), (1, .int x1)] [] h Q := by
  unfold bX12_parseNameStatement_98 at hq
  refine x_aload_n 0 dX12_parseNameStatement_98 rfl ?_
  refine x_bipush (v := 40) dX12_parseNameStatement_99 (by decide) ?_
  refine x_iload_n 1 dX12_parseNameStatement_101 rfl ?_
  obtain ⟨g1, hq⟩ := hq
  obtain ⟨g2, g3, hq⟩ := hq
  refine x_callV (Yc := YX12_node) (as := [.int 40, .int x1]) (st := []) q3798 mvX12_node g1 rfl dX12_parseNameStatement_102 (xle (xal1 (rv_cat _) (xal1 rfl (xal1 rfl xal0))) (by decide)) (xfr g2) (xlo xsw0 (by decide) g3) (xKi hq (fun x5 h4 hq e6 => ?_) (fun _ _ q _ => q))
  replace hq := hq e6
  refine x_istore_n (lv' := [(2, .int x5), (0, rv x0), (1, .int x1)]) dX12_parseNameStatement_105 (by decide) rfl ?_
  refine x_aload_n 1 dX12_parseNameStatement_106 rfl ?_
  refine x_iload_n 0 dX12_parseNameStatement_107 rfl ?_
  refine x_aload_n 1 dX12_parseNameStatement_108 rfl ?_
  refine x_iload_n 2 dX12_parseNameStatement_109 rfl ?_
  have t7 : tg h4 x0 = 13 := e6.tg g1 (by decide)
  obtain ⟨g8, g9, hq⟩ := hq
  refine x_callV (Yc := YX12_parseSelectors) (as := [.int x1]) (st := [.int x5, rv x0]) q3898 mvX12_parseSelectors t7 rfl dX12_parseNameStatement_110 (xle (xal1 (rv_cat _) (xal1 rfl xal0)) (by decide)) (xfr g8) (xlo (xsw1 rfl (xsw1 (rv_cat _) xsw0)) (by decide) g9) (xKi hq (fun x11 h10 hq e12 => ?_) (fun _ _ q _ => q))
  replace hq := hq e12
  have t13 : tg h10 x0 = 13 := e12.tg t7 (by decide)
  obtain ⟨g14, g15, hq⟩ := hq
  refine x_callV (Yc := YX12_add) (as := [.int x5, .int x11]) (st := []) q3810 mvX12_add t13 rfl dX12_parseNameStatement_113 (xle (xal1 (rv_cat _) (xal1 rfl (xal1 rfl xal0))) (by decide)) (xfr g14) (xlo xsw0 (by decide) g15) (xKv hq (fun h16 hq e18 => ?_) (fun _ _ q _ => q))
  replace hq := hq e18
  refine x_aload_n 1 dX12_parseNameStatement_116 rfl ?_
  have t19 : tg h16 x0 = 13 := e18.tg t13 (by decide)
  refine x_get (v := rv (fR h16 x0 3106)) fdX12_82 dX12_parseNameStatement_117 t19 rfl ?_
  refine x_iload_n 0 dX12_parseNameStatement_120 rfl ?_
  refine x_aload_n 1 dX12_parseNameStatement_121 rfl ?_
  refine x_bipush (v := 64) dX12_parseNameStatement_122 (by decide) ?_
  obtain ⟨g20, g21, hq⟩ := hq
  refine x_callV (Yc := YX12_must) (as := [.int 64]) (st := [.int x5, rv (fR h16 x0 3106)]) q3778 mvX12_must t19 rfl dX12_parseNameStatement_124 (xle (xal1 (rv_cat _) (xal1 rfl xal0)) (by decide)) (xfr g20) (xlo (xsw1 rfl (xsw1 (rv_cat _) xsw0)) (by decide) g21) (xKi hq (fun x23 h22 hq e24 => ?_) (fun _ _ q _ => q))
  replace hq := hq e24
  obtain ⟨g25, hq⟩ := hq
  obtain ⟨i26, hq⟩ := hq
  obtain ⟨h27, e28⟩ : ∃ y, y = tI h22 (fR h16 x0 3106) (Int32.toNatClampNeg x5) x23 := ⟨_, rfl⟩
  replace hq := hq h27 e28
  refine x_iast' g25 i26 dX12_parseNameStatement_127 e28 ?_
  refine x_aload_n 1 dX12_parseNameStatement_128 rfl ?_
  refine x_iload_n 0 dX12_parseNameStatement_129 rfl ?_
  refine x_aload_n 1 dX12_parseNameStatement_130 rfl ?_
  have t29 : tg h22 x0 = 13 := e24.tg t19 (by decide)
  have t30 : tg h27 x0 = 13 := by rw [e28]; exact t29
  obtain ⟨g31, g32, hq⟩ := hq
  refine x_callV (Yc := YX12_parseE) (as := []) (st := [.int x5, rv x0]) q3874 mvX12_parseE t30 rfl dX12_parseNameStatement_131 (xle (xal1 (rv_cat _) xal0) (by decide)) (xfr g31) (xlo (xsw1 rfl (xsw1 (rv_cat _) xsw0)) (by decide) g32) (xKi hq (fun x34 h33 hq e35 => ?_) (fun _ _ q _ => q))
  replace hq := hq e35
  have t36 : tg h33 x0 = 13 := e35.tg t30 (by decide)
  obtain ⟨g37, g38, hq⟩ := hq
  refine x_callV (Yc := YX12_add) (as := [.int x5, .int x34]) (st := []) q3810 mvX12_add t36 rfl dX12_parseNameStatement_134 (xle (xal1 (rv_cat _) (xal1 rfl (xal1 rfl xal0))) (by decide)) (xfr g37) (xlo xsw0 (by decide) g38) (xKv hq (fun h39 hq e41 => ?_) (fun _ _ q _ => q))
  replace hq := hq e41
  refine x_iload_n 0 dX12_parseNameStatement_137 rfl ?_
  exact x_iret rfl rfl dX12_parseNameStatement_138 hq
set_option maxRecDepth 100000 in
def bX12_parseNameStatement_27 (G : xG) (fr lo : Nat) (x0 : Nat) (x2 : Int32) (h : xH) (Q : Outcome → xH → Prop) : Prop := tg h x0 = 13 ∧ 1 ≤ fr ∧ 15 ≤ lo ∧ xRi G YX12_parseArgument (fr - 1) (lo - 15) [rv x0] h (fun x5 h4 => xext h h4 → 1 ≤ fr ∧ 14 ≤ lo ∧ xRv G YX12_add (fr - 1) (lo - 14) [rv x0, .int x2, .int x5] h4 (fun h10 => xext h4 h10 → 1 ≤ fr ∧ 13 ≤ lo ∧ xRi G YX12_takes (fr - 1) (lo - 13) [rv x0, .int 66] h10 (fun x17 h16 => xext h10 h16 → ((¬ x17 = 0 → lX12_parseNameStatement_27 G fr lo x0 x2 h16 Q) ∧ (x17 = 0 → 1 ≤ fr ∧ 13 ≤ lo ∧ xRi G YX12_must (fr - 1) (lo - 13) [rv x0, .int 61] h16 (fun x24 h23 => xext h16 h23 → Q (.returned (some (.int x2))) h23) (fun r h2 => Q (.threw r) h2)))) (fun r h2 => Q (.threw r) h2)) (fun r h2 => Q (.threw r) h2)) (fun r h2 => Q (.threw r) h2)
set_option maxRecDepth 100000 in
theorem uX12_parseNameStatement_27 {G : xG} {fr lo : Nat} {x0 : Nat} {x2 : Int32} {h : xH} {Q : Outcome → xH → Prop} (hq : bX12_parseNameStatement_27 G fr lo x0 x2 h Q) : xP G YX12_parseNameStatement fr lo 27 [(0, rv x0), (2, .int x2)] [] h Q := by
  unfold bX12_parseNameStatement_27 at hq
  refine x_aload_n 0 dX12_parseNameStatement_27 rfl ?_
  refine x_iload_n 1 dX12_parseNameStatement_28 rfl ?_
  refine x_aload_n 0 dX12_parseNameStatement_29 rfl ?_
  obtain ⟨g1, hq⟩ := hq
  obtain ⟨g2, g3, hq⟩ := hq
  refine x_callV (Yc := YX12_parseArgument) (as := []) (st := [.int x2, rv x0]) q3918 mvX12_parseArgument g1 rfl dX12_parseNameStatement_30 (xle (xal1 (rv_cat _) xal0) (by decide)) (xfr g2) (xlo (xsw1 rfl (xsw1 (rv_cat _) xsw0)) (by decide) g3) (xKi hq (fun x5 h4 hq e6 => ?_) (fun _ _ q _ => q))
  replace hq := hq e6
  have t7 : tg h4 x0 = 13 := e6.tg g1 (by decide)
  obtain ⟨g8, g9, hq⟩ := hq
  refine x_callV (Yc := YX12_add) (as := [.int x2, .int x5]) (st := []) q3810 mvX12_add t7 rfl dX12_parseNameStatement_33 (xle (xal1 (rv_cat _) (xal1 rfl (xal1 rfl xal0))) (by decide)) (xfr g8) (xlo xsw0 (by decide) g9) (xKv hq (fun h10 hq e12 => ?_) (fun _ _ q _ => q))
  replace hq := hq e12
  refine x_aload_n 0 dX12_parseNameStatement_36 rfl ?_
  refine x_bipush (v := 66) dX12_parseNameStatement_37 (by decide) ?_
  have t13 : tg h10 x0 = 13 := e12.tg t7 (by decide)
  obtain ⟨g14, g15, hq⟩ := hq
  refine x_callV (Yc := YX12_takes) (as := [.int 66]) (st := []) q3802 mvX12_takes t13 rfl dX12_parseNameStatement_39 (xle (xal1 (rv_cat _) (xal1 rfl xal0)) (by decide)) (xfr g14) (xlo xsw0 (by decide) g15) (xKi hq (fun x17 h16 hq e18 => ?_) (fun _ _ q _ => q))
  replace hq := hq e18
  refine x_if_ne (tgt := 27) dX12_parseNameStatement_42 (by decide) (fun c19 => ?_) (fun c19 => ?_)
  · replace hq := hq.1 c19
    exact hq
  · replace hq := hq.2 c19
    refine x_aload_n 0 dX12_parseNameStatement_45 rfl ?_
    refine x_bipush (v := 61) dX12_parseNameStatement_46 (by decide) ?_
    have t20 : tg h16 x0 = 13 := e18.tg t13 (by decide)
    obtain ⟨g21, g22, hq⟩ := hq
    refine x_callV (Yc := YX12_must) (as := [.int 61]) (st := []) q3778 mvX12_must t20 rfl dX12_parseNameStatement_48 (xle (xal1 (rv_cat _) (xal1 rfl xal0)) (by decide)) (xfr g21) (xlo xsw0 (by decide) g22) (xKi hq (fun x24 h23 hq e25 => ?_) (fun _ _ q _ => q))
    replace hq := hq e25
    refine x_pop dX12_parseNameStatement_51 rfl ?_
    refine x_iload_n 1 dX12_parseNameStatement_52 rfl ?_
    exact x_iret rfl rfl dX12_parseNameStatement_53 hq
set_option maxRecDepth 100000 in
def bX12_parseNameStatement (G : xG) (fr lo : Nat) (x0 : Nat) (h : xH) (Q : Outcome → xH → Prop) : Prop := tg h x0 = 13 ∧ 1 ≤ fr ∧ 13 ≤ lo ∧ xRi G YX12_take (fr - 1) (lo - 13) [rv x0] h (fun x5 h4 => xext h h4 → 1 ≤ fr ∧ 13 ≤ lo ∧ xRi G YX12_sees (fr - 1) (lo - 13) [rv x0, .int 60] h4 (fun x11 h10 => xext h4 h10 → ((x11 = 0 → 1 ≤ fr ∧ 13 ≤ lo ∧ xRi G YX12_sees (fr - 1) (lo - 13) [rv x0, .int 62] h10 (fun x18 h17 => xext h10 h17 → ((¬ x18 = 0 → bX12_parseNameStatement_98 G fr lo x0 x5 h17 Q) ∧ (x18 = 0 → 1 ≤ fr ∧ 13 ≤ lo ∧ xRi G YX12_sees (fr - 1) (lo - 13) [rv x0, .int 65] h17 (fun x25 h24 => xext h17 h24 → ((¬ x25 = 0 → bX12_parseNameStatement_98 G fr lo x0 x5 h24 Q) ∧ (x25 = 0 → 1 ≤ fr ∧ 13 ≤ lo ∧ xRi G YX12_sees (fr - 1) (lo - 13) [rv x0, .int 70] h24 (fun x32 h31 => xext h24 h31 → ((¬ x32 = 0 → bX12_parseNameStatement_98 G fr lo x0 x5 h31 Q) ∧ (x32 = 0 → 1 ≤ fr ∧ 13 ≤ lo ∧ xRi G YX12_sees (fr - 1) (lo - 13) [rv x0, .int 64] h31 (fun x39 h38 => xext h31 h38 → ((¬ x39 = 0 → bX12_parseNameStatement_98 G fr lo x0 x5 h38 Q) ∧ (x39 = 0 → 1 ≤ fr ∧ 15 ≤ lo ∧ xRi G YX12_node (fr - 1) (lo - 15) [rv x0, .int 41, .int x5] h38 (fun x46 h45 => xext h38 h45 → Q (.returned (some (.int x46))) h45) (fun r h2 => Q (.threw r) h2)))) (fun r h2 => Q (.threw r) h2)))) (fun r h2 => Q (.threw r) h2)))) (fun r h2 => Q (.threw r) h2)))) (fun r h2 => Q (.threw r) h2)) ∧ (¬ x11 = 0 → 1 ≤ fr ∧ 15 ≤ lo ∧ xRi G YX12_node (fr - 1) (lo - 15) [rv x0, .int 41, .int x5] h10 (fun x52 h51 => xext h10 h51 → 1 ≤ fr ∧ 13 ≤ lo ∧ xRi G YX12_take (fr - 1) (lo - 13) [rv x0] h51 (fun x58 h57 => xext h51 h57 → lX12_parseNameStatement_27 G fr lo x0 x52 h57 Q) (fun r h2 => Q (.threw r) h2)) (fun r h2 => Q (.threw r) h2)))) (fun r h2 => Q (.threw r) h2)) (fun r h2 => Q (.threw r) h2)
set_option maxRecDepth 100000 in
theorem uX12_parseNameStatement {G : xG} {fr lo : Nat} {x0 : Nat} {h : xH} {Q : Outcome → xH → Prop} (hq : bX12_parseNameStatement G fr lo x0 h Q) : xP G YX12_parseNameStatement fr lo 0 [(0, rv x0)] [] h Q := by
  unfold bX12_parseNameStatement at hq
  refine x_aload_n 0 dX12_parseNameStatement_0 rfl ?_
  obtain ⟨g1, hq⟩ := hq
  obtain ⟨g2, g3, hq⟩ := hq
  refine x_callV (Yc := YX12_take) (as := []) (st := []) q3794 mvX12_take g1 rfl dX12_parseNameStatement_1 (xle (xal1 (rv_cat _) xal0) (by decide)) (xfr g2) (xlo xsw0 (by decide) g3) (xKi hq (fun x5 h4 hq e6 => ?_) (fun _ _ q _ => q))
  replace hq := hq e6
  refine x_istore_n (lv' := [(1, .int x5), (0, rv x0)]) dX12_parseNameStatement_4 (by decide) (by first | rfl | (simp [rv_cat, Value.category]; done) | (simp [rv_cat, Value.category]; decide)) ?_
  refine x_aload_n 1 dX12_parseNameStatement_5 rfl ?_
  refine x_bipush (v := 60) dX12_parseNameStatement_6 (by decide) ?_
  have t7 : tg h4 x0 = 13 := e6.tg g1 (by decide)
  obtain ⟨g8, g9, hq⟩ := hq
  refine x_callV (Yc := YX12_sees) (as := [.int 60]) (st := []) q3782 mvX12_sees t7 rfl dX12_parseNameStatement_8 (xle (xal1 (rv_cat _) (xal1 rfl xal0)) (by decide)) (xfr g8) (xlo xsw0 (by decide) g9) (xKi hq (fun x11 h10 hq e12 => ?_) (fun _ _ q _ => q))
  replace hq := hq e12
  refine x_if_eq (tgt := 54) dX12_parseNameStatement_11 (by decide) (fun c13 => ?_) (fun c13 => ?_)
  · replace hq := hq.1 c13
    refine x_aload_n 1 dX12_parseNameStatement_54 rfl ?_
    refine x_bipush (v := 62) dX12_parseNameStatement_55 (by decide) ?_
    have t14 : tg h10 x0 = 13 := e12.tg t7 (by decide)
    obtain ⟨g15, g16, hq⟩ := hq
    refine x_callV (Yc := YX12_sees) (as := [.int 62]) (st := []) q3782 mvX12_sees t14 rfl dX12_parseNameStatement_57 (xle (xal1 (rv_cat _) (xal1 rfl xal0)) (by decide)) (xfr g15) (xlo xsw0 (by decide) g16) (xKi hq (fun x18 h17 hq e19 => ?_) (fun _ _ q _ => q))
    replace hq := hq e19
    refine x_if_ne (tgt := 98) dX12_parseNameStatement_60 (by decide) (fun c20 => ?_) (fun c20 => ?_)
    · replace hq := hq.1 c20
      refine xP.pick (lv' := [(0, rv x0), (1, .int x5)]) [1, 0] rfl ?_
      exact uX12_parseNameStatement_98 hq
    · replace hq := hq.2 c20
      refine x_aload_n 1 dX12_parseNameStatement_63 rfl ?_
      refine x_bipush (v := 65) dX12_parseNameStatement_64 (by decide) ?_
      have t21 : tg h17 x0 = 13 := e19.tg t14 (by decide)
      obtain ⟨g22, g23, hq⟩ := hq
      refine x_callV (Yc := YX12_sees) (as := [.int 65]) (st := []) q3782 mvX12_sees t21 rfl dX12_parseNameStatement_66 (xle (xal1 (rv_cat _) (xal1 rfl xal0)) (by decide)) (xfr g22) (xlo xsw0 (by decide) g23) (xKi hq (fun x25 h24 hq e26 => ?_) (fun _ _ q _ => q))
      replace hq := hq e26
      refine x_if_ne (tgt := 98) dX12_parseNameStatement_69 (by decide) (fun c27 => ?_) (fun c27 => ?_)
      · replace hq := hq.1 c27
        refine xP.pick (lv' := [(0, rv x0), (1, .int x5)]) [1, 0] rfl ?_
        exact uX12_parseNameStatement_98 hq
      · replace hq := hq.2 c27
        refine x_aload_n 1 dX12_parseNameStatement_72 rfl ?_
        refine x_bipush (v := 70) dX12_parseNameStatement_73 (by decide) ?_
        have t28 : tg h24 x0 = 13 := e26.tg t21 (by decide)
        obtain ⟨g29, g30, hq⟩ := hq
        refine x_callV (Yc := YX12_sees) (as := [.int 70]) (st := []) q3782 mvX12_sees t28 rfl dX12_parseNameStatement_75 (xle (xal1 (rv_cat _) (xal1 rfl xal0)) (by decide)) (xfr g29) (xlo xsw0 (by decide) g30) (xKi hq (fun x32 h31 hq e33 => ?_) (fun _ _ q _ => q))
        replace hq := hq e33
        refine x_if_ne (tgt := 98) dX12_parseNameStatement_78 (by decide) (fun c34 => ?_) (fun c34 => ?_)
        · replace hq := hq.1 c34
          refine xP.pick (lv' := [(0, rv x0), (1, .int x5)]) [1, 0] rfl ?_
          exact uX12_parseNameStatement_98 hq
        · replace hq := hq.2 c34
          refine x_aload_n 1 dX12_parseNameStatement_81 rfl ?_
          refine x_bipush (v := 64) dX12_parseNameStatement_82 (by decide) ?_
          have t35 : tg h31 x0 = 13 := e33.tg t28 (by decide)
          obtain ⟨g36, g37, hq⟩ := hq
          refine x_callV (Yc := YX12_sees) (as := [.int 64]) (st := []) q3782 mvX12_sees t35 rfl dX12_parseNameStatement_84 (xle (xal1 (rv_cat _) (xal1 rfl xal0)) (by decide)) (xfr g36) (xlo xsw0 (by decide) g37) (xKi hq (fun x39 h38 hq e40 => ?_) (fun _ _ q _ => q))
          replace hq := hq e40
          refine x_if_ne (tgt := 98) dX12_parseNameStatement_87 (by decide) (fun c41 => ?_) (fun c41 => ?_)
          · replace hq := hq.1 c41
            refine xP.pick (lv' := [(0, rv x0), (1, .int x5)]) [1, 0] rfl ?_
            exact uX12_parseNameStatement_98 hq
          · replace hq := hq.2 c41
            refine x_aload_n 1 dX12_parseNameStatement_90 rfl ?_
            refine x_bipush (v := 41) dX12_parseNameStatement_91 (by decide) ?_
            refine x_iload_n 0 dX12_parseNameStatement_93 rfl ?_
            have t42 : tg h38 x0 = 13 := e40.tg t35 (by decide)
            obtain ⟨g43, g44, hq⟩ := hq
            refine x_callV (Yc := YX12_node) (as := [.int 41, .int x5]) (st := []) q3798 mvX12_node t42 rfl dX12_parseNameStatement_94 (xle (xal1 (rv_cat _) (xal1 rfl (xal1 rfl xal0))) (by decide)) (xfr g43) (xlo xsw0 (by decide) g44) (xKi hq (fun x46 h45 hq e47 => ?_) (fun _ _ q _ => q))
            replace hq := hq e47
            exact x_iret rfl rfl dX12_parseNameStatement_97 hq
  · replace hq := hq.2 c13
    refine x_aload_n 1 dX12_parseNameStatement_14 rfl ?_
    refine x_bipush (v := 41) dX12_parseNameStatement_15 (by decide) ?_
    refine x_iload_n 0 dX12_parseNameStatement_17 rfl ?_
    have t48 : tg h10 x0 = 13 := e12.tg t7 (by decide)
    obtain ⟨g49, g50, hq⟩ := hq
    refine x_callV (Yc := YX12_node) (as := [.int 41, .int x5]) (st := []) q3798 mvX12_node t48 rfl dX12_parseNameStatement_18 (xle (xal1 (rv_cat _) (xal1 rfl (xal1 rfl xal0))) (by decide)) (xfr g49) (xlo xsw0 (by decide) g50) (xKi hq (fun x52 h51 hq e53 => ?_) (fun _ _ q _ => q))
    replace hq := hq e53
    refine x_istore_n (lv' := [(2, .int x52), (1, .int x5), (0, rv x0)]) dX12_parseNameStatement_21 (by decide) rfl ?_
    refine x_aload_n 2 dX12_parseNameStatement_22 rfl ?_
    have t54 : tg h51 x0 = 13 := e53.tg t48 (by decide)
    obtain ⟨g55, g56, hq⟩ := hq
    refine x_callV (Yc := YX12_take) (as := []) (st := []) q3794 mvX12_take t54 rfl dX12_parseNameStatement_23 (xle (xal1 (rv_cat _) xal0) (by decide)) (xfr g55) (xlo xsw0 (by decide) g56) (xKi hq (fun x58 h57 hq e59 => ?_) (fun _ _ q _ => q))
    replace hq := hq e59
    refine x_pop dX12_parseNameStatement_26 rfl ?_
    refine xP.pick (lv' := [(0, rv x0), (2, .int x52)]) [2, 0] rfl ?_
    exact hq
theorem rX12_parseNameStatement {G : xG} {fr lo : Nat} {x0 : Nat} {h : xH} {Q : Outcome → xH → Prop} (hq : bX12_parseNameStatement G fr lo x0 h Q) : xR G YX12_parseNameStatement fr lo [rv x0] h Q := by
  show xP _ _ _ _ _ (lv_args 0 _) _ _ _
  rw [show lv_args 0 [rv x0] = [(0, rv x0)] from (xla1 (rv_cat _) xla0)]
  exact uX12_parseNameStatement hq
set_option maxRecDepth 100000 in
theorem dX12_parseArgument_0 : decode cX12_parseArgument 0 = .ok (.aload_n 0, 1) := by decide +kernel
set_option maxRecDepth 100000 in
theorem dX12_parseArgument_1 : decode cX12_parseArgument 1 = .ok (.bipush 42, 2) := by decide +kernel
set_option maxRecDepth 100000 in
theorem dX12_parseArgument_3 : decode cX12_parseArgument 3 = .ok (.aload_n 0, 1) := by decide +kernel
set_option maxRecDepth 100000 in
theorem dX12_parseArgument_4 : decode cX12_parseArgument 4 = .ok (.invokevirtual 445, 3) := by decide +kernel
set_option maxRecDepth 100000 in
theorem dX12_parseArgument_7 : decode cX12_parseArgument 7 = .ok (.invokevirtual 454, 3) := by decide +kernel
set_option maxRecDepth 100000 in
theorem dX12_parseArgument_10 : decode cX12_parseArgument 10 = .ok (.istore_n 1, 1) := by decide +kernel
set_option maxRecDepth 100000 in
theorem dX12_parseArgument_11 : decode cX12_parseArgument 11 = .ok (.aload_n 0, 1) := by decide +kernel
set_option maxRecDepth 100000 in
theorem dX12_parseArgument_12 : decode cX12_parseArgument 12 = .ok (.iload_n 1, 1) := by decide +kernel
set_option maxRecDepth 100000 in
theorem dX12_parseArgument_13 : decode cX12_parseArgument 13 = .ok (.aload_n 0, 1) := by decide +kernel
set_option maxRecDepth 100000 in
theorem dX12_parseArgument_14 : decode cX12_parseArgument 14 = .ok (.invokevirtual 518, 3) := by decide +kernel
set_option maxRecDepth 100000 in
theorem dX12_parseArgument_17 : decode cX12_parseArgument 17 = .ok (.invokevirtual 460, 3) := by decide +kernel
set_option maxRecDepth 100000 in
theorem dX12_parseArgument_20 : decode cX12_parseArgument 20 = .ok (.aload_n 0, 1) := by decide +kernel
set_option maxRecDepth 100000 in
theorem dX12_parseArgument_21 : decode cX12_parseArgument 21 = .ok (.bipush 68, 2) := by decide +kernel
set_option maxRecDepth 100000 in
theorem dX12_parseArgument_23 : decode cX12_parseArgument 23 = .ok (.invokevirtual 439, 3) := by decide +kernel
set_option maxRecDepth 100000 in
theorem dX12_parseArgument_26 : decode cX12_parseArgument 26 = .ok (.ifCond .ne 5, 3) := by decide +kernel
set_option maxRecDepth 100000 in
theorem dX12_parseArgument_29 : decode cX12_parseArgument 29 = .ok (.iload_n 1, 1) := by decide +kernel
set_option maxRecDepth 100000 in
theorem dX12_parseArgument_30 : decode cX12_parseArgument 30 = .ok (.ireturn, 1) := by decide +kernel
set_option maxRecDepth 100000 in
theorem dX12_parseArgument_31 : decode cX12_parseArgument 31 = .ok (.aload_n 0, 1) := by decide +kernel
set_option maxRecDepth 100000 in
theorem dX12_parseArgument_32 : decode cX12_parseArgument 32 = .ok (.getfield 82, 3) := by decide +kernel
set_option maxRecDepth 100000 in
theorem dX12_parseArgument_35 : decode cX12_parseArgument 35 = .ok (.iload_n 1, 1) := by decide +kernel
set_option maxRecDepth 100000 in
theorem dX12_parseArgument_36 : decode cX12_parseArgument 36 = .ok (.aload_n 0, 1) := by decide +kernel
set_option maxRecDepth 100000 in
theorem dX12_parseArgument_37 : decode cX12_parseArgument 37 = .ok (.invokevirtual 442, 3) := by decide +kernel
set_option maxRecDepth 100000 in
theorem dX12_parseArgument_40 : decode cX12_parseArgument 40 = .ok (.iastore, 1) := by decide +kernel
set_option maxRecDepth 100000 in
theorem dX12_parseArgument_41 : decode cX12_parseArgument 41 = .ok (.aload_n 0, 1) := by decide +kernel
set_option maxRecDepth 100000 in
theorem dX12_parseArgument_42 : decode cX12_parseArgument 42 = .ok (.iload_n 1, 1) := by decide +kernel
set_option maxRecDepth 100000 in
theorem dX12_parseArgument_43 : decode cX12_parseArgument 43 = .ok (.aload_n 0, 1) := by decide +kernel
set_option maxRecDepth 100000 in
theorem dX12_parseArgument_44 : decode cX12_parseArgument 44 = .ok (.invokevirtual 518, 3) := by decide +kernel
set_option maxRecDepth 100000 in
theorem dX12_parseArgument_47 : decode cX12_parseArgument 47 = .ok (.invokevirtual 460, 3) := by decide +kernel
set_option maxRecDepth 100000 in
theorem dX12_parseArgument_50 : decode cX12_parseArgument 50 = .ok (.aload_n 0, 1) := by decide +kernel
set_option maxRecDepth 100000 in
theorem dX12_parseArgument_51 : decode cX12_parseArgument 51 = .ok (.bipush 68, 2) := by decide +kernel
set_option maxRecDepth 100000 in
theorem dX12_parseArgument_53 : decode cX12_parseArgument 53 = .ok (.invokevirtual 439, 3) := by decide +kernel
set_option maxRecDepth 100000 in
theorem dX12_parseArgument_56 : decode cX12_parseArgument 56 = .ok (.ifCond .ne 5, 3) := by decide +kernel
set_option maxRecDepth 100000 in
theorem dX12_parseArgument_59 : decode cX12_parseArgument 59 = .ok (.iload_n 1, 1) := by decide +kernel
set_option maxRecDepth 100000 in
theorem dX12_parseArgument_60 : decode cX12_parseArgument 60 = .ok (.ireturn, 1) := by decide +kernel
set_option maxRecDepth 100000 in
theorem dX12_parseArgument_61 : decode cX12_parseArgument 61 = .ok (.aload_n 0, 1) := by decide +kernel
set_option maxRecDepth 100000 in
theorem dX12_parseArgument_62 : decode cX12_parseArgument 62 = .ok (.getfield 85, 3) := by decide +kernel
set_option maxRecDepth 100000 in
theorem dX12_parseArgument_65 : decode cX12_parseArgument 65 = .ok (.iload_n 1, 1) := by decide +kernel
set_option maxRecDepth 100000 in
theorem dX12_parseArgument_66 : decode cX12_parseArgument 66 = .ok (.aload_n 0, 1) := by decide +kernel
set_option maxRecDepth 100000 in
theorem dX12_parseArgument_67 : decode cX12_parseArgument 67 = .ok (.invokevirtual 442, 3) := by decide +kernel
set_option maxRecDepth 100000 in
theorem dX12_parseArgument_70 : decode cX12_parseArgument 70 = .ok (.iastore, 1) := by decide +kernel
set_option maxRecDepth 100000 in
theorem dX12_parseArgument_71 : decode cX12_parseArgument 71 = .ok (.aload_n 0, 1) := by decide +kernel
set_option maxRecDepth 100000 in
theorem dX12_parseArgument_72 : decode cX12_parseArgument 72 = .ok (.iload_n 1, 1) := by decide +kernel
set_option maxRecDepth 100000 in
theorem dX12_parseArgument_73 : decode cX12_parseArgument 73 = .ok (.aload_n 0, 1) := by decide +kernel
set_option maxRecDepth 100000 in
theorem dX12_parseArgument_74 : decode cX12_parseArgument 74 = .ok (.invokevirtual 518, 3) := by decide +kernel
set_option maxRecDepth 100000 in
theorem dX12_parseArgument_77 : decode cX12_parseArgument 77 = .ok (.invokevirtual 460, 3) := by decide +kernel
set_option maxRecDepth 100000 in
theorem dX12_parseArgument_80 : decode cX12_parseArgument 80 = .ok (.iload_n 1, 1) := by decide +kernel
set_option maxRecDepth 100000 in
theorem dX12_parseArgument_81 : decode cX12_parseArgument 81 = .ok (.ireturn, 1) := by decide +kernel
set_option maxRecDepth 100000 in
def bX12_parseArgument (G : xG) (fr lo : Nat) (x0 : Nat) (h : xH) (Q : Outcome → xH → Prop) : Prop := tg h x0 = 13 ∧ 1 ≤ fr ∧ 14 ≤ lo ∧ xRi G YX12_now (fr - 1) (lo - 14) [rv x0] h (fun x5 h4 => xext h h4 → 1 ≤ fr ∧ 15 ≤ lo ∧ xRi G YX12_node (fr - 1) (lo - 15) [rv x0, .int 42, .int x5] h4 (fun x11 h10 => xext h4 h10 → 1 ≤ fr ∧ 15 ≤ lo ∧ xRi G YX12_parseE (fr - 1) (lo - 15) [rv x0] h10 (fun x17 h16 => xext h10 h16 → 1 ≤ fr ∧ 14 ≤ lo ∧ xRv G YX12_add (fr - 1) (lo - 14) [rv x0, .int x11, .int x17] h16 (fun h22 => xext h16 h22 → 1 ≤ fr ∧ 13 ≤ lo ∧ xRi G YX12_sees (fr - 1) (lo - 13) [rv x0, .int 68] h22 (fun x29 h28 => xext h22 h28 → ((¬ x29 = 0 → 1 ≤ fr ∧ 15 ≤ lo ∧ xRi G YX12_take (fr - 1) (lo - 15) [rv x0] h28 (fun x36 h35 => xext h28 h35 → tg h35 (fR h28 x0 3106) = 100 ∧ vp_in x11 (ln h35 (fR h28 x0 3106)) ∧ (∀ h40 : xH, h40 = tI h35 (fR h28 x0 3106) (Int32.toNatClampNeg x11) x36 → 1 ≤ fr ∧ 15 ≤ lo ∧ xRi G YX12_parseE (fr - 1) (lo - 15) [rv x0] h40 (fun x47 h46 => xext h40 h46 → 1 ≤ fr ∧ 14 ≤ lo ∧ xRv G YX12_add (fr - 1) (lo - 14) [rv x0, .int x11, .int x47] h46 (fun h52 => xext h46 h52 → 1 ≤ fr ∧ 13 ≤ lo ∧ xRi G YX12_sees (fr - 1) (lo - 13) [rv x0, .int 68] h52 (fun x59 h58 => xext h52 h58 → ((¬ x59 = 0 → 1 ≤ fr ∧ 15 ≤ lo ∧ xRi G YX12_take (fr - 1) (lo - 15) [rv x0] h58 (fun x66 h65 => xext h58 h65 → tg h65 (fR h58 x0 3107) = 100 ∧ vp_in x11 (ln h65 (fR h58 x0 3107)) ∧ (∀ h70 : xH, h70 = tI h65 (fR h58 x0 3107) (Int32.toNatClampNeg x11) x66 → 1 ≤ fr ∧ 15 ≤ lo ∧ xRi G YX12_parseE (fr - 1) (lo - 15) [rv x0] h70 (fun x77 h76 => xext h70 h76 → 1 ≤ fr ∧ 14 ≤ lo ∧ xRv G YX12_add (fr - 1) (lo - 14) [rv x0, .int x11, .int x77] h76 (fun h82 => xext h76 h82 → Q (.returned (some (.int x11))) h82) (fun r h2 => Q (.threw r) h2)) (fun r h2 => Q (.threw r) h2))) (fun r h2 => Q (.threw r) h2)) ∧ (x59 = 0 → Q (.returned (some (.int x11))) h58))) (fun r h2 => Q (.threw r) h2)) (fun r h2 => Q (.threw r) h2)) (fun r h2 => Q (.threw r) h2))) (fun r h2 => Q (.threw r) h2)) ∧ (x29 = 0 → Q (.returned (some (.int x11))) h28))) (fun r h2 => Q (.threw r) h2)) (fun r h2 => Q (.threw r) h2)) (fun r h2 => Q (.threw r) h2)) (fun r h2 => Q (.threw r) h2)) (fun r h2 => Q (.threw r) h2)
set_option maxRecDepth 100000 in
theorem uX12_parseArgument {G : xG} {fr lo : Nat} {x0 : Nat} {h : xH} {Q : Outcome → xH → Prop} (hq : bX12_parseArgument G fr lo x0 h Q) : xP G YX12_parseArgument fr lo 0 [(0, rv x0)] [] h Q := by
  unfold bX12_parseArgument at hq
  refine x_aload_n 0 dX12_parseArgument_0 rfl ?_
  refine x_bipush (v := 42) dX12_parseArgument_1 (by decide) ?_
  refine x_aload_n 0 dX12_parseArgument_3 rfl ?_
  obtain ⟨g1, hq⟩ := hq
  obtain ⟨g2, g3, hq⟩ := hq
  refine x_callV (Yc := YX12_now) (as := []) (st := [.int 42, rv x0]) q3790 mvX12_now g1 rfl dX12_parseArgument_4 (xle (xal1 (rv_cat _) xal0) (by decide)) (xfr g2) (xlo (xsw1 rfl (xsw1 (rv_cat _) xsw0)) (by decide) g3) (xKi hq (fun x5 h4 hq e6 => ?_) (fun _ _ q _ => q))
  replace hq := hq e6
  have t7 : tg h4 x0 = 13 := e6.tg g1 (by decide)
  obtain ⟨g8, g9, hq⟩ := hq
  refine x_callV (Yc := YX12_node) (as := [.int 42, .int x5]) (st := []) q3798 mvX12_node t7 rfl dX12_parseArgument_7 (xle (xal1 (rv_cat _) (xal1 rfl (xal1 rfl xal0))) (by decide)) (xfr g8) (xlo xsw0 (by decide) g9) (xKi hq (fun x11 h10 hq e12 => ?_) (fun _ _ q _ => q))
  replace hq := hq e12
  refine x_istore_n (lv' := [(1, .int x11), (0, rv x0)]) dX12_parseArgument_10 (by decide) (by first | rfl | (simp [rv_cat, Value.category]; done) | (simp [rv_cat, Value.category]; decide)) ?_
  refine x_aload_n 1 dX12_parseArgument_11 rfl ?_
  refine x_iload_n 0 dX12_parseArgument_12 rfl ?_
  refine x_aload_n 1 dX12_parseArgument_13 rfl ?_
  have t13 : tg h10 x0 = 13 := e12.tg t7 (by decide)
  obtain ⟨g14, g15, hq⟩ := hq
  refine x_callV (Yc := YX12_parseE) (as := []) (st := [.int x11, rv x0]) q3874 mvX12_parseE t13 rfl dX12_parseArgument_14 (xle (xal1 (rv_cat _) xal0) (by decide)) (xfr g14) (xlo (xsw1 rfl (xsw1 (rv_cat _) xsw0)) (by decide) g15) (xKi hq (fun x17 h16 hq e18 => ?_) (fun _ _ q _ => q))
  replace hq := hq e18
  have t19 : tg h16 x0 = 13 := e18.tg t13 (by decide)
  obtain ⟨g20, g21, hq⟩ := hq
  refine x_callV (Yc := YX12_add) (as := [.int x11, .int x17]) (st := []) q3810 mvX12_add t19 rfl dX12_parseArgument_17 (xle (xal1 (rv_cat _) (xal1 rfl (xal1 rfl xal0))) (by decide)) (xfr g20) (xlo xsw0 (by decide) g21) (xKv hq (fun h22 hq e24 => ?_) (fun _ _ q _ => q))
  replace hq := hq e24
  refine x_aload_n 1 dX12_parseArgument_20 rfl ?_
  refine x_bipush (v := 68) dX12_parseArgument_21 (by decide) ?_
  have t25 : tg h22 x0 = 13 := e24.tg t19 (by decide)
  obtain ⟨g26, g27, hq⟩ := hq
  refine x_callV (Yc := YX12_sees) (as := [.int 68]) (st := []) q3782 mvX12_sees t25 rfl dX12_parseArgument_23 (xle (xal1 (rv_cat _) (xal1 rfl xal0)) (by decide)) (xfr g26) (xlo xsw0 (by decide) g27) (xKi hq (fun x29 h28 hq e30 => ?_) (fun _ _ q _ => q))
  replace hq := hq e30
  refine x_if_ne (tgt := 31) dX12_parseArgument_26 (by decide) (fun c31 => ?_) (fun c31 => ?_)
  · replace hq := hq.1 c31
    refine x_aload_n 1 dX12_parseArgument_31 rfl ?_
    have t32 : tg h28 x0 = 13 := e30.tg t25 (by decide)
    refine x_get (v := rv (fR h28 x0 3106)) fdX12_82 dX12_parseArgument_32 t32 rfl ?_
    refine x_iload_n 0 dX12_parseArgument_35 rfl ?_
    refine x_aload_n 1 dX12_parseArgument_36 rfl ?_
    obtain ⟨g33, g34, hq⟩ := hq
    refine x_callV (Yc := YX12_take) (as := []) (st := [.int x11, rv (fR h28 x0 3106)]) q3794 mvX12_take t32 rfl dX12_parseArgument_37 (xle (xal1 (rv_cat _) xal0) (by decide)) (xfr g33) (xlo (xsw1 rfl (xsw1 (rv_cat _) xsw0)) (by decide) g34) (xKi hq (fun x36 h35 hq e37 => ?_) (fun _ _ q _ => q))
    replace hq := hq e37
    obtain ⟨g38, hq⟩ := hq
    obtain ⟨i39, hq⟩ := hq
    obtain ⟨h40, e41⟩ : ∃ y, y = tI h35 (fR h28 x0 3106) (Int32.toNatClampNeg x11) x36 := ⟨_, rfl⟩
    replace hq := hq h40 e41
    refine x_iast' g38 i39 dX12_parseArgument_40 e41 ?_
    refine x_aload_n 1 dX12_parseArgument_41 rfl ?_
    refine x_iload_n 0 dX12_parseArgument_42 rfl ?_
    refine x_aload_n 1 dX12_parseArgument_43 rfl ?_
    have t42 : tg h35 x0 = 13 := e37.tg t32 (by decide)
    have t43 : tg h40 x0 = 13 := by rw [e41]; exact t42
    obtain ⟨g44, g45, hq⟩ := hq
    refine x_callV (Yc := YX12_parseE) (as := []) (st := [.int x11, rv x0]) q3874 mvX12_parseE t43 rfl dX12_parseArgument_44 (xle (xal1 (rv_cat _) xal0) (by decide)) (xfr g44) (xlo (xsw1 rfl (xsw1 (rv_cat _) xsw0)) (by decide) g45) (xKi hq (fun x47 h46 hq e48 => ?_) (fun _ _ q _ => q))
    replace hq := hq e48
    have t49 : tg h46 x0 = 13 := e48.tg t43 (by decide)
    obtain ⟨g50, g51, hq⟩ := hq
    refine x_callV (Yc := YX12_add) (as := [.int x11, .int x47]) (st := []) q3810 mvX12_add t49 rfl dX12_parseArgument_47 (xle (xal1 (rv_cat _) (xal1 rfl (xal1 rfl xal0))) (by decide)) (xfr g50) (xlo xsw0 (by decide) g51) (xKv hq (fun h52 hq e54 => ?_) (fun _ _ q _ => q))
    replace hq := hq e54
    refine x_aload_n 1 dX12_parseArgument_50 rfl ?_
    refine x_bipush (v := 68) dX12_parseArgument_51 (by decide) ?_
    have t55 : tg h52 x0 = 13 := e54.tg t49 (by decide)
    obtain ⟨g56, g57, hq⟩ := hq
    refine x_callV (Yc := YX12_sees) (as := [.int 68]) (st := []) q3782 mvX12_sees t55 rfl dX12_parseArgument_53 (xle (xal1 (rv_cat _) (xal1 rfl xal0)) (by decide)) (xfr g56) (xlo xsw0 (by decide) g57) (xKi hq (fun x59 h58 hq e60 => ?_) (fun _ _ q _ => q))
    replace hq := hq e60
    refine x_if_ne (tgt := 61) dX12_parseArgument_56 (by decide) (fun c61 => ?_) (fun c61 => ?_)
    · replace hq := hq.1 c61
      refine x_aload_n 1 dX12_parseArgument_61 rfl ?_
      have t62 : tg h58 x0 = 13 := e60.tg t55 (by decide)
      refine x_get (v := rv (fR h58 x0 3107)) fdX12_85 dX12_parseArgument_62 t62 rfl ?_
      refine x_iload_n 0 dX12_parseArgument_65 rfl ?_
      refine x_aload_n 1 dX12_parseArgument_66 rfl ?_
      obtain ⟨g63, g64, hq⟩ := hq
      refine x_callV (Yc := YX12_take) (as := []) (st := [.int x11, rv (fR h58 x0 3107)]) q3794 mvX12_take t62 rfl dX12_parseArgument_67 (xle (xal1 (rv_cat _) xal0) (by decide)) (xfr g63) (xlo (xsw1 rfl (xsw1 (rv_cat _) xsw0)) (by decide) g64) (xKi hq (fun x66 h65 hq e67 => ?_) (fun _ _ q _ => q))
      replace hq := hq e67
      obtain ⟨g68, hq⟩ := hq
      obtain ⟨i69, hq⟩ := hq
      obtain ⟨h70, e71⟩ : ∃ y, y = tI h65 (fR h58 x0 3107) (Int32.toNatClampNeg x11) x66 := ⟨_, rfl⟩
      replace hq := hq h70 e71
      refine x_iast' g68 i69 dX12_parseArgument_70 e71 ?_
      refine x_aload_n 1 dX12_parseArgument_71 rfl ?_
      refine x_iload_n 0 dX12_parseArgument_72 rfl ?_
      refine x_aload_n 1 dX12_parseArgument_73 rfl ?_
      have t72 : tg h65 x0 = 13 := e67.tg t62 (by decide)
      have t73 : tg h70 x0 = 13 := by rw [e71]; exact t72
      obtain ⟨g74, g75, hq⟩ := hq
      refine x_callV (Yc := YX12_parseE) (as := []) (st := [.int x11, rv x0]) q3874 mvX12_parseE t73 rfl dX12_parseArgument_74 (xle (xal1 (rv_cat _) xal0) (by decide)) (xfr g74) (xlo (xsw1 rfl (xsw1 (rv_cat _) xsw0)) (by decide) g75) (xKi hq (fun x77 h76 hq e78 => ?_) (fun _ _ q _ => q))
      replace hq := hq e78
      have t79 : tg h76 x0 = 13 := e78.tg t73 (by decide)
      obtain ⟨g80, g81, hq⟩ := hq
      refine x_callV (Yc := YX12_add) (as := [.int x11, .int x77]) (st := []) q3810 mvX12_add t79 rfl dX12_parseArgument_77 (xle (xal1 (rv_cat _) (xal1 rfl (xal1 rfl xal0))) (by decide)) (xfr g80) (xlo xsw0 (by decide) g81) (xKv hq (fun h82 hq e84 => ?_) (fun _ _ q _ => q))
      replace hq := hq e84
      refine x_iload_n 0 dX12_parseArgument_80 rfl ?_
      exact x_iret rfl rfl dX12_parseArgument_81 hq
    · replace hq := hq.2 c61
      refine x_iload_n 0 dX12_parseArgument_59 rfl ?_
      exact x_iret rfl rfl dX12_parseArgument_60 hq
  · replace hq := hq.2 c31
    refine x_iload_n 0 dX12_parseArgument_29 rfl ?_
    exact x_iret rfl rfl dX12_parseArgument_30 hq
theorem rX12_parseArgument {G : xG} {fr lo : Nat} {x0 : Nat} {h : xH} {Q : Outcome → xH → Prop} (hq : bX12_parseArgument G fr lo x0 h Q) : xR G YX12_parseArgument fr lo [rv x0] h Q := by
  show xP _ _ _ _ _ (lv_args 0 _) _ _ _
  rw [show lv_args 0 [rv x0] = [(0, rv x0)] from (xla1 (rv_cat _) xla0)]
  exact uX12_parseArgument hq
set_option maxRecDepth 100000 in
theorem dX12_bringAll_0 : decode cX12_bringAll 0 = .ok (.new 131, 3) := by decide +kernel
set_option maxRecDepth 100000 in
theorem dX12_bringAll_3 : decode cX12_bringAll 3 = .ok (.dup, 1) := by decide +kernel
set_option maxRecDepth 100000 in
theorem dX12_bringAll_4 : decode cX12_bringAll 4 = .ok (.invokespecial 133, 3) := by decide +kernel
set_option maxRecDepth 100000 in
theorem dX12_bringAll_7 : decode cX12_bringAll 7 = .ok (.astore_n 1, 1) := by decide +kernel
set_option maxRecDepth 100000 in
theorem dX12_bringAll_8 : decode cX12_bringAll 8 = .ok (.aload_n 0, 1) := by decide +kernel
set_option maxRecDepth 100000 in
theorem dX12_bringAll_9 : decode cX12_bringAll 9 = .ok (.getfield 109, 3) := by decide +kernel
set_option maxRecDepth 100000 in
theorem dX12_bringAll_12 : decode cX12_bringAll 12 = .ok (.ldc_w 590, 3) := by decide +kernel
set_option maxRecDepth 100000 in
theorem dX12_bringAll_15 : decode cX12_bringAll 15 = .ok (.putfield 591, 3) := by decide +kernel
set_option maxRecDepth 100000 in
theorem dX12_bringAll_18 : decode cX12_bringAll 18 = .ok (.aload_n 0, 1) := by decide +kernel
set_option maxRecDepth 100000 in
theorem dX12_bringAll_19 : decode cX12_bringAll 19 = .ok (.getfield 109, 3) := by decide +kernel
set_option maxRecDepth 100000 in
theorem dX12_bringAll_22 : decode cX12_bringAll 22 = .ok (.ldc_w 594, 3) := by decide +kernel
set_option maxRecDepth 100000 in
theorem dX12_bringAll_25 : decode cX12_bringAll 25 = .ok (.putfield 595, 3) := by decide +kernel
set_option maxRecDepth 100000 in
theorem dX12_bringAll_28 : decode cX12_bringAll 28 = .ok (.aload_n 0, 1) := by decide +kernel
set_option maxRecDepth 100000 in
theorem dX12_bringAll_29 : decode cX12_bringAll 29 = .ok (.getfield 116, 3) := by decide +kernel
set_option maxRecDepth 100000 in
theorem dX12_bringAll_32 : decode cX12_bringAll 32 = .ok (.iconst 1, 1) := by decide +kernel
set_option maxRecDepth 100000 in
theorem dX12_bringAll_33 : decode cX12_bringAll 33 = .ok (.putfield 595, 3) := by decide +kernel
set_option maxRecDepth 100000 in
theorem dX12_bringAll_36 : decode cX12_bringAll 36 = .ok (.aload_n 0, 1) := by decide +kernel
set_option maxRecDepth 100000 in
theorem dX12_bringAll_37 : decode cX12_bringAll 37 = .ok (.getfield 119, 3) := by decide +kernel
set_option maxRecDepth 100000 in
theorem dX12_bringAll_40 : decode cX12_bringAll 40 = .ok (.bipush 127, 2) := by decide +kernel
set_option maxRecDepth 100000 in
theorem dX12_bringAll_42 : decode cX12_bringAll 42 = .ok (.putfield 595, 3) := by decide +kernel
set_option maxRecDepth 100000 in
theorem dX12_bringAll_45 : decode cX12_bringAll 45 = .ok (.aload_n 0, 1) := by decide +kernel
set_option maxRecDepth 100000 in
theorem dX12_bringAll_46 : decode cX12_bringAll 46 = .ok (.getfield 122, 3) := by decide +kernel
set_option maxRecDepth 100000 in
theorem dX12_bringAll_49 : decode cX12_bringAll 49 = .ok (.aload_n 0, 1) := by decide +kernel
set_option maxRecDepth 100000 in
theorem dX12_bringAll_50 : decode cX12_bringAll 50 = .ok (.getfield 119, 3) := by decide +kernel
set_option maxRecDepth 100000 in
theorem dX12_bringAll_53 : decode cX12_bringAll 53 = .ok (.putfield 598, 3) := by decide +kernel
set_option maxRecDepth 100000 in
theorem dX12_bringAll_56 : decode cX12_bringAll 56 = .ok (.aload_n 0, 1) := by decide +kernel
set_option maxRecDepth 100000 in
theorem dX12_bringAll_57 : decode cX12_bringAll 57 = .ok (.getfield 122, 3) := by decide +kernel
set_option maxRecDepth 100000 in
theorem dX12_bringAll_60 : decode cX12_bringAll 60 = .ok (.ldc2_w 601, 3) := by decide +kernel
set_option maxRecDepth 100000 in
theorem dX12_bringAll_63 : decode cX12_bringAll 63 = .ok (.putfield 603, 3) := by decide +kernel
set_option maxRecDepth 100000 in
theorem dX12_bringAll_66 : decode cX12_bringAll 66 = .ok (.aload_n 0, 1) := by decide +kernel
set_option maxRecDepth 100000 in
theorem dX12_bringAll_67 : decode cX12_bringAll 67 = .ok (.aload_n 1, 1) := by decide +kernel
set_option maxRecDepth 100000 in
theorem dX12_bringAll_68 : decode cX12_bringAll 68 = .ok (.iconst 2, 1) := by decide +kernel
set_option maxRecDepth 100000 in
theorem dX12_bringAll_69 : decode cX12_bringAll 69 = .ok (.ldc_w 607, 3) := by decide +kernel
set_option maxRecDepth 100000 in
theorem dX12_bringAll_72 : decode cX12_bringAll 72 = .ok (.invokevirtual 608, 3) := by decide +kernel
set_option maxRecDepth 100000 in
theorem dX12_bringAll_75 : decode cX12_bringAll 75 = .ok (.aload_n 0, 1) := by decide +kernel
set_option maxRecDepth 100000 in
theorem dX12_bringAll_76 : decode cX12_bringAll 76 = .ok (.getfield 109, 3) := by decide +kernel
set_option maxRecDepth 100000 in
theorem dX12_bringAll_79 : decode cX12_bringAll 79 = .ok (.putfield 612, 3) := by decide +kernel
set_option maxRecDepth 100000 in
theorem dX12_bringAll_82 : decode cX12_bringAll 82 = .ok (.aload_n 0, 1) := by decide +kernel
set_option maxRecDepth 100000 in
theorem dX12_bringAll_83 : decode cX12_bringAll 83 = .ok (.aload_n 1, 1) := by decide +kernel
set_option maxRecDepth 100000 in
theorem dX12_bringAll_84 : decode cX12_bringAll 84 = .ok (.iconst 2, 1) := by decide +kernel
set_option maxRecDepth 100000 in
theorem dX12_bringAll_85 : decode cX12_bringAll 85 = .ok (.ldc_w 614, 3) := by decide +kernel
set_option maxRecDepth 100000 in
theorem dX12_bringAll_88 : decode cX12_bringAll 88 = .ok (.invokevirtual 608, 3) := by decide +kernel
set_option maxRecDepth 100000 in
theorem dX12_bringAll_91 : decode cX12_bringAll 91 = .ok (.aload_n 0, 1) := by decide +kernel
set_option maxRecDepth 100000 in
theorem dX12_bringAll_92 : decode cX12_bringAll 92 = .ok (.getfield 113, 3) := by decide +kernel
set_option maxRecDepth 100000 in
theorem dX12_bringAll_95 : decode cX12_bringAll 95 = .ok (.putfield 612, 3) := by decide +kernel
set_option maxRecDepth 100000 in
theorem dX12_bringAll_98 : decode cX12_bringAll 98 = .ok (.aload_n 0, 1) := by decide +kernel
set_option maxRecDepth 100000 in
theorem dX12_bringAll_99 : decode cX12_bringAll 99 = .ok (.aload_n 1, 1) := by decide +kernel
set_option maxRecDepth 100000 in
theorem dX12_bringAll_100 : decode cX12_bringAll 100 = .ok (.iconst 2, 1) := by decide +kernel
set_option maxRecDepth 100000 in
theorem dX12_bringAll_101 : decode cX12_bringAll 101 = .ok (.ldc_w 615, 3) := by decide +kernel
set_option maxRecDepth 100000 in
theorem dX12_bringAll_104 : decode cX12_bringAll 104 = .ok (.invokevirtual 608, 3) := by decide +kernel
set_option maxRecDepth 100000 in
theorem dX12_bringAll_107 : decode cX12_bringAll 107 = .ok (.aload_n 0, 1) := by decide +kernel
set_option maxRecDepth 100000 in
theorem dX12_bringAll_108 : decode cX12_bringAll 108 = .ok (.getfield 116, 3) := by decide +kernel
set_option maxRecDepth 100000 in
theorem dX12_bringAll_111 : decode cX12_bringAll 111 = .ok (.putfield 612, 3) := by decide +kernel
set_option maxRecDepth 100000 in
theorem dX12_bringAll_114 : decode cX12_bringAll 114 = .ok (.aload_n 0, 1) := by decide +kernel
set_option maxRecDepth 100000 in
theorem dX12_bringAll_115 : decode cX12_bringAll 115 = .ok (.aload_n 1, 1) := by decide +kernel
set_option maxRecDepth 100000 in
theorem dX12_bringAll_116 : decode cX12_bringAll 116 = .ok (.iconst 2, 1) := by decide +kernel
set_option maxRecDepth 100000 in
theorem dX12_bringAll_117 : decode cX12_bringAll 117 = .ok (.ldc_w 617, 3) := by decide +kernel
set_option maxRecDepth 100000 in
theorem dX12_bringAll_120 : decode cX12_bringAll 120 = .ok (.invokevirtual 608, 3) := by decide +kernel
set_option maxRecDepth 100000 in
theorem dX12_bringAll_123 : decode cX12_bringAll 123 = .ok (.aload_n 0, 1) := by decide +kernel
set_option maxRecDepth 100000 in
theorem dX12_bringAll_124 : decode cX12_bringAll 124 = .ok (.getfield 119, 3) := by decide +kernel
set_option maxRecDepth 100000 in
theorem dX12_bringAll_127 : decode cX12_bringAll 127 = .ok (.putfield 612, 3) := by decide +kernel
set_option maxRecDepth 100000 in
theorem dX12_bringAll_130 : decode cX12_bringAll 130 = .ok (.aload_n 0, 1) := by decide +kernel
set_option maxRecDepth 100000 in
theorem dX12_bringAll_131 : decode cX12_bringAll 131 = .ok (.aload_n 1, 1) := by decide +kernel
set_option maxRecDepth 100000 in
theorem dX12_bringAll_132 : decode cX12_bringAll 132 = .ok (.iconst 2, 1) := by decide +kernel
set_option maxRecDepth 100000 in
theorem dX12_bringAll_133 : decode cX12_bringAll 133 = .ok (.ldc_w 619, 3) := by decide +kernel
set_option maxRecDepth 100000 in
theorem dX12_bringAll_136 : decode cX12_bringAll 136 = .ok (.invokevirtual 608, 3) := by decide +kernel
set_option maxRecDepth 100000 in
theorem dX12_bringAll_139 : decode cX12_bringAll 139 = .ok (.aload_n 0, 1) := by decide +kernel
set_option maxRecDepth 100000 in
theorem dX12_bringAll_140 : decode cX12_bringAll 140 = .ok (.getfield 122, 3) := by decide +kernel
set_option maxRecDepth 100000 in
theorem dX12_bringAll_143 : decode cX12_bringAll 143 = .ok (.putfield 612, 3) := by decide +kernel
set_option maxRecDepth 100000 in
theorem dX12_bringAll_146 : decode cX12_bringAll 146 = .ok (.aload_n 0, 1) := by decide +kernel
set_option maxRecDepth 100000 in
theorem dX12_bringAll_147 : decode cX12_bringAll 147 = .ok (.aload_n 1, 1) := by decide +kernel
set_option maxRecDepth 100000 in
theorem dX12_bringAll_148 : decode cX12_bringAll 148 = .ok (.iconst 1, 1) := by decide +kernel
set_option maxRecDepth 100000 in
theorem dX12_bringAll_149 : decode cX12_bringAll 149 = .ok (.ldc_w 620, 3) := by decide +kernel
set_option maxRecDepth 100000 in
theorem dX12_bringAll_152 : decode cX12_bringAll 152 = .ok (.invokevirtual 608, 3) := by decide +kernel
set_option maxRecDepth 100000 in
theorem dX12_bringAll_155 : decode cX12_bringAll 155 = .ok (.aload_n 0, 1) := by decide +kernel
set_option maxRecDepth 100000 in
theorem dX12_bringAll_156 : decode cX12_bringAll 156 = .ok (.getfield 116, 3) := by decide +kernel
set_option maxRecDepth 100000 in
theorem dX12_bringAll_159 : decode cX12_bringAll 159 = .ok (.putfield 612, 3) := by decide +kernel
set_option maxRecDepth 100000 in
theorem dX12_bringAll_162 : decode cX12_bringAll 162 = .ok (.aload_n 0, 1) := by decide +kernel
set_option maxRecDepth 100000 in
theorem dX12_bringAll_163 : decode cX12_bringAll 163 = .ok (.aload_n 1, 1) := by decide +kernel
set_option maxRecDepth 100000 in
theorem dX12_bringAll_164 : decode cX12_bringAll 164 = .ok (.iconst 1, 1) := by decide +kernel
set_option maxRecDepth 100000 in
theorem dX12_bringAll_165 : decode cX12_bringAll 165 = .ok (.ldc_w 622, 3) := by decide +kernel
set_option maxRecDepth 100000 in
theorem dX12_bringAll_168 : decode cX12_bringAll 168 = .ok (.invokevirtual 608, 3) := by decide +kernel
set_option maxRecDepth 100000 in
theorem dX12_bringAll_171 : decode cX12_bringAll 171 = .ok (.astore_n 2, 1) := by decide +kernel
set_option maxRecDepth 100000 in
theorem dX12_bringAll_172 : decode cX12_bringAll 172 = .ok (.aload_n 2, 1) := by decide +kernel
set_option maxRecDepth 100000 in
theorem dX12_bringAll_173 : decode cX12_bringAll 173 = .ok (.aload_n 0, 1) := by decide +kernel
set_option maxRecDepth 100000 in
theorem dX12_bringAll_174 : decode cX12_bringAll 174 = .ok (.getfield 116, 3) := by decide +kernel
set_option maxRecDepth 100000 in
theorem dX12_bringAll_177 : decode cX12_bringAll 177 = .ok (.putfield 612, 3) := by decide +kernel
set_option maxRecDepth 100000 in
theorem dX12_bringAll_180 : decode cX12_bringAll 180 = .ok (.aload_n 2, 1) := by decide +kernel
set_option maxRecDepth 100000 in
theorem dX12_bringAll_181 : decode cX12_bringAll 181 = .ok (.lconst 1, 1) := by decide +kernel
set_option maxRecDepth 100000 in
theorem dX12_bringAll_182 : decode cX12_bringAll 182 = .ok (.putfield 624, 3) := by decide +kernel
set_option maxRecDepth 100000 in
theorem dX12_bringAll_185 : decode cX12_bringAll 185 = .ok (.aload_n 0, 1) := by decide +kernel
set_option maxRecDepth 100000 in
theorem dX12_bringAll_186 : decode cX12_bringAll 186 = .ok (.aload_n 1, 1) := by decide +kernel
set_option maxRecDepth 100000 in
theorem dX12_bringAll_187 : decode cX12_bringAll 187 = .ok (.iconst 1, 1) := by decide +kernel
set_option maxRecDepth 100000 in
theorem dX12_bringAll_188 : decode cX12_bringAll 188 = .ok (.ldc_w 627, 3) := by decide +kernel
set_option maxRecDepth 100000 in
theorem dX12_bringAll_191 : decode cX12_bringAll 191 = .ok (.invokevirtual 608, 3) := by decide +kernel
set_option maxRecDepth 100000 in
theorem dX12_bringAll_194 : decode cX12_bringAll 194 = .ok (.astore_n 2, 1) := by decide +kernel
set_option maxRecDepth 100000 in
theorem dX12_bringAll_195 : decode cX12_bringAll 195 = .ok (.aload_n 2, 1) := by decide +kernel
set_option maxRecDepth 100000 in
theorem dX12_bringAll_196 : decode cX12_bringAll 196 = .ok (.aload_n 0, 1) := by decide +kernel
set_option maxRecDepth 100000 in
theorem dX12_bringAll_197 : decode cX12_bringAll 197 = .ok (.getfield 109, 3) := by decide +kernel
set_option maxRecDepth 100000 in
theorem dX12_bringAll_200 : decode cX12_bringAll 200 = .ok (.putfield 612, 3) := by decide +kernel
set_option maxRecDepth 100000 in
theorem dX12_bringAll_203 : decode cX12_bringAll 203 = .ok (.aload_n 2, 1) := by decide +kernel
set_option maxRecDepth 100000 in
theorem dX12_bringAll_204 : decode cX12_bringAll 204 = .ok (.ldc2_w 397, 3) := by decide +kernel
set_option maxRecDepth 100000 in
theorem dX12_bringAll_207 : decode cX12_bringAll 207 = .ok (.putfield 624, 3) := by decide +kernel
set_option maxRecDepth 100000 in
theorem dX12_bringAll_210 : decode cX12_bringAll 210 = .ok (.iconst 1, 1) := by decide +kernel
set_option maxRecDepth 100000 in
theorem dX12_bringAll_211 : decode cX12_bringAll 211 = .ok (.istore_n 3, 1) := by decide +kernel
set_option maxRecDepth 100000 in
theorem dX12_bringAll_212 : decode cX12_bringAll 212 = .ok (.iload_n 3, 1) := by decide +kernel
set_option maxRecDepth 100000 in
theorem dX12_bringAll_213 : decode cX12_bringAll 213 = .ok (.bipush 22, 2) := by decide +kernel
set_option maxRecDepth 100000 in
theorem dX12_bringAll_215 : decode cX12_bringAll 215 = .ok (.if_icmp .gt 40, 3) := by decide +kernel
set_option maxRecDepth 100000 in
theorem dX12_bringAll_218 : decode cX12_bringAll 218 = .ok (.aload_n 0, 1) := by decide +kernel
set_option maxRecDepth 100000 in
theorem dX12_bringAll_219 : decode cX12_bringAll 219 = .ok (.aload_n 1, 1) := by decide +kernel
set_option maxRecDepth 100000 in
theorem dX12_bringAll_220 : decode cX12_bringAll 220 = .ok (.iconst 5, 1) := by decide +kernel
set_option maxRecDepth 100000 in
theorem dX12_bringAll_221 : decode cX12_bringAll 221 = .ok (.iload_n 3, 1) := by decide +kernel
set_option maxRecDepth 100000 in
theorem dX12_bringAll_222 : decode cX12_bringAll 222 = .ok (.invokestatic 629, 3) := by decide +kernel
set_option maxRecDepth 100000 in
theorem dX12_bringAll_225 : decode cX12_bringAll 225 = .ok (.invokevirtual 608, 3) := by decide +kernel
set_option maxRecDepth 100000 in
theorem dX12_bringAll_228 : decode cX12_bringAll 228 = .ok (.astore_n 2, 1) := by decide +kernel
set_option maxRecDepth 100000 in
theorem dX12_bringAll_229 : decode cX12_bringAll 229 = .ok (.aload_n 2, 1) := by decide +kernel
set_option maxRecDepth 100000 in
theorem dX12_bringAll_230 : decode cX12_bringAll 230 = .ok (.iload_n 3, 1) := by decide +kernel
set_option maxRecDepth 100000 in
theorem dX12_bringAll_231 : decode cX12_bringAll 231 = .ok (.putfield 632, 3) := by decide +kernel
set_option maxRecDepth 100000 in
theorem dX12_bringAll_234 : decode cX12_bringAll 234 = .ok (.aload_n 2, 1) := by decide +kernel
set_option maxRecDepth 100000 in
theorem dX12_bringAll_235 : decode cX12_bringAll 235 = .ok (.iload_n 3, 1) := by decide +kernel
set_option maxRecDepth 100000 in
theorem dX12_bringAll_236 : decode cX12_bringAll 236 = .ok (.bipush 11, 2) := by decide +kernel
set_option maxRecDepth 100000 in
theorem dX12_bringAll_238 : decode cX12_bringAll 238 = .ok (.if_icmp .lt 7, 3) := by decide +kernel
set_option maxRecDepth 100000 in
theorem dX12_bringAll_241 : decode cX12_bringAll 241 = .ok (.iconst 1, 1) := by decide +kernel
set_option maxRecDepth 100000 in
theorem dX12_bringAll_242 : decode cX12_bringAll 242 = .ok (.goto 4, 3) := by decide +kernel
set_option maxRecDepth 100000 in
theorem dX12_bringAll_245 : decode cX12_bringAll 245 = .ok (.iconst 0, 1) := by decide +kernel
set_option maxRecDepth 100000 in
theorem dX12_bringAll_246 : decode cX12_bringAll 246 = .ok (.putfield 635, 3) := by decide +kernel
set_option maxRecDepth 100000 in
theorem dX12_bringAll_249 : decode cX12_bringAll 249 = .ok (.iinc 3 1, 3) := by decide +kernel
set_option maxRecDepth 100000 in
theorem dX12_bringAll_252 : decode cX12_bringAll 252 = .ok (.goto (-40), 3) := by decide +kernel
set_option maxRecDepth 100000 in
theorem dX12_bringAll_255 : decode cX12_bringAll 255 = .ok (.aload_n 0, 1) := by decide +kernel
set_option maxRecDepth 100000 in
theorem dX12_bringAll_256 : decode cX12_bringAll 256 = .ok (.aload_n 1, 1) := by decide +kernel
set_option maxRecDepth 100000 in
theorem dX12_bringAll_257 : decode cX12_bringAll 257 = .ok (.iconst (-1), 1) := by decide +kernel
set_option maxRecDepth 100000 in
theorem dX12_bringAll_258 : decode cX12_bringAll 258 = .ok (.invokevirtual 639, 3) := by decide +kernel
set_option maxRecDepth 100000 in
theorem dX12_bringAll_261 : decode cX12_bringAll 261 = .ok (.return_, 1) := by decide +kernel
def lX12_bringAll_212 (G : xG) (fr lo : Nat) (x0 : Nat) (x1 : Nat) (x3 : Int32) (h : xH) (Q : Outcome → xH → Prop) : Prop := xP G YX12_bringAll fr lo 212 [(0, rv x0), (1, rv x1), (3, .int x3)] [] h Q
set_option maxRecDepth 100000 in
def bX12_bringAll_246 (G : xG) (fr lo : Nat) (x0 : Nat) (x1 : Nat) (x3 : Int32) (s0 : Int32) (s1 : Nat) (h : xH) (Q : Outcome → xH → Prop) : Prop := tg h s1 = 24 ∧ xbz s0 ∧ (∀ h3 : xH, h3 = sI h s1 5905 s0 → lX12_bringAll_212 G fr lo x0 x1 (x3 + 1) h3 Q)
set_option maxRecDepth 100000 in
theorem uX12_bringAll_246 {G : xG} {fr lo : Nat} {x0 : Nat} {x1 : Nat} {x3 : Int32} {s0 : Int32} {s1 : Nat} {h : xH} {Q : Outcome → xH → Prop} (hq : bX12_bringAll_246 G fr lo x0 x1 x3 s0 s1 h Q) : xP G YX12_bringAll fr lo 246 [(0, rv x0), (1, rv x1), (3, .int x3)] [.int s0, rv s1] h Q := by
  unfold bX12_bringAll_246 at hq
  obtain ⟨g1, hq⟩ := hq
  obtain ⟨g2, hq⟩ := hq
  obtain ⟨h3, e4⟩ : ∃ y, y = sI h s1 5905 s0 := ⟨_, rfl⟩
  replace hq := hq h3 e4
  refine x_putI fdX12_635 xty_Z1 dX12_bringAll_246 g1 (Or.inl (by rw [g1]; rfl)) (xnB g2) rfl e4 ?_
  refine x_iinc (lv' := [(3, .int (x3 + 1)), (0, rv x0), (1, rv x1)]) 2 dX12_bringAll_249 rfl (by decide) rfl ?_
  refine x_goto (tgt := 212) dX12_bringAll_252 (by decide) ?_
  refine xP.pick (lv' := [(0, rv x0), (1, rv x1), (3, .int (x3 + 1))]) [1, 2, 0] rfl ?_
  exact hq
set_option maxRecDepth 100000 in
def bX12_bringAll_212 (G : xG) (fr lo : Nat) (x0 : Nat) (x1 : Nat) (x3 : Int32) (h : xH) (Q : Outcome → xH → Prop) : Prop := ((22 < x3 → tg h x0 = 13 ∧ 1 ≤ fr ∧ 14 ≤ lo ∧ xRv G YX12_push (fr - 1) (lo - 14) [rv x0, rv x1, .int (-1)] h (fun h5 => xext h h5 → Q (.returned none) h5) (fun r h2 => Q (.threw r) h2)) ∧ (¬ 22 < x3 → 1 ≤ fr ∧ 15 ≤ lo ∧ xRr G YX12_thereName (fr - 1) (lo - 15) [.int x3] h (fun x11 h10 => xext h h10 → tg h10 x0 = 13 ∧ 1 ≤ fr ∧ 16 ≤ lo ∧ xRr G YX12_bring (fr - 1) (lo - 16) [rv x0, rv x1, .int 5, rv x11] h10 (fun x17 h16 => xext h10 h16 → tg h16 x17 = 24 ∧ (∀ h20 : xH, h20 = sI h16 x17 5903 x3 → ((x3 < 11 → bX12_bringAll_246 G fr lo x0 x1 x3 0 x17 h20 Q) ∧ (¬ x3 < 11 → bX12_bringAll_246 G fr lo x0 x1 x3 1 x17 h20 Q)))) (fun r h2 => Q (.threw r) h2)) (fun r h2 => Q (.threw r) h2)))
set_option maxRecDepth 100000 in
theorem uX12_bringAll_212 {G : xG} {fr lo : Nat} {x0 : Nat} {x1 : Nat} {x3 : Int32} {h : xH} {Q : Outcome → xH → Prop} (hq : bX12_bringAll_212 G fr lo x0 x1 x3 h Q) : xP G YX12_bringAll fr lo 212 [(0, rv x0), (1, rv x1), (3, .int x3)] [] h Q := by
  unfold bX12_bringAll_212 at hq
  refine x_iload_n 2 dX12_bringAll_212 rfl ?_
  refine x_bipush (v := 22) dX12_bringAll_213 (by decide) ?_
  refine x_icmp_gt (tgt := 255) dX12_bringAll_215 (by decide) (fun c1 => ?_) (fun c1 => ?_)
  · replace hq := hq.1 c1
    refine x_aload_n 0 dX12_bringAll_255 rfl ?_
    refine x_aload_n 1 dX12_bringAll_256 rfl ?_
    refine x_iconst (v := (-1)) dX12_bringAll_257 (by decide) ?_
    obtain ⟨g2, hq⟩ := hq
    obtain ⟨g3, g4, hq⟩ := hq
    refine x_callV (Yc := YX12_push) (as := [rv x1, .int (-1)]) (st := []) q4063 mvX12_push g2 rfl dX12_bringAll_258 (xle (xal1 (rv_cat _) (xal1 (rv_cat _) (xal1 rfl xal0))) (by decide)) (xfr g3) (xlo xsw0 (by decide) g4) (xKv hq (fun h5 hq e7 => ?_) (fun _ _ q _ => q))
    replace hq := hq e7
    exact x_vret rfl dX12_bringAll_261 hq
  · replace hq := hq.2 c1
    refine x_aload_n 0 dX12_bringAll_218 rfl ?_
    refine x_aload_n 1 dX12_bringAll_219 rfl ?_
    refine x_iconst (v := 5) dX12_bringAll_220 (by decide) ?_
    refine x_iload_n 2 dX12_bringAll_221 rfl ?_
    obtain ⟨g8, g9, hq⟩ := hq
    refine x_callS (Yc := YX12_thereName) (as := [.int x3]) (st := [.int 5, rv x1, rv x0]) q4038 msX12_thereName rfl dX12_bringAll_222 (xle (xal1 rfl xal0) (by decide)) (xfr g8) (xlo (xsw1 rfl (xsw1 (rv_cat _) (xsw1 (rv_cat _) xsw0))) (by decide) g9) (xKr hq (fun x11 h10 hq e12 => ?_) (fun _ _ q _ => q))
    replace hq := hq e12
    obtain ⟨g13, hq⟩ := hq
    obtain ⟨g14, g15, hq⟩ := hq
    refine x_callV (Yc := YX12_bring) (as := [rv x1, .int 5, rv x11]) (st := []) q3930 mvX12_bring g13 rfl dX12_bringAll_225 (xle (xal1 (rv_cat _) (xal1 (rv_cat _) (xal1 rfl (xal1 (rv_cat _) xal0)))) (by decide)) (xfr g14) (xlo xsw0 (by decide) g15) (xKr hq (fun x17 h16 hq e18 => ?_) (fun _ _ q _ => q))
    replace hq := hq e18
    refine x_astore_n (lv' := [(2, rv x17), (0, rv x0), (1, rv x1), (3, .int x3)]) dX12_bringAll_228 (by decide) (by first | rfl | (simp [rv_cat, Value.category]; done) | (simp [rv_cat, Value.category]; decide)) ?_
    refine x_aload_n 0 dX12_bringAll_229 rfl ?_
    refine x_iload_n 3 dX12_bringAll_230 rfl ?_
    obtain ⟨g19, hq⟩ := hq
    obtain ⟨h20, e21⟩ : ∃ y, y = sI h16 x17 5903 x3 := ⟨_, rfl⟩
    replace hq := hq h20 e21
    refine x_putI fdX12_632 xty_I1 dX12_bringAll_231 g19 (Or.inl (by rw [g19]; rfl)) xnI rfl e21 ?_
    refine x_aload_n 0 dX12_bringAll_234 rfl ?_
    refine x_iload_n 3 dX12_bringAll_235 rfl ?_
    refine x_bipush (v := 11) dX12_bringAll_236 (by decide) ?_
    refine x_icmp_lt (tgt := 245) dX12_bringAll_238 (by decide) (fun c22 => ?_) (fun c22 => ?_)
    · replace hq := hq.1 c22
      refine x_iconst (v := 0) dX12_bringAll_245 (by decide) ?_
      refine xP.pick (lv' := [(0, rv x0), (1, rv x1), (3, .int x3)]) [1, 2, 3] rfl ?_
      exact uX12_bringAll_246 hq
    · replace hq := hq.2 c22
      refine x_iconst (v := 1) dX12_bringAll_241 (by decide) ?_
      refine x_goto (tgt := 246) dX12_bringAll_242 (by decide) ?_
      refine xP.pick (lv' := [(0, rv x0), (1, rv x1), (3, .int x3)]) [1, 2, 3] rfl ?_
      exact uX12_bringAll_246 hq
set_option maxRecDepth 100000 in
def bX12_bringAll (G : xG) (fr lo : Nat) (x0 : Nat) (h : xH) (Q : Outcome → xH → Prop) : Prop := nx h + 1 ≤ xGN G ∧ us h + 3 ≤ xGU G ∧ (∀ (a3 : Nat) (h4 : xH), a3 = nx h + 1 → h4 = nO h 29 3 → xfresh h a3 → 1 ≤ fr ∧ 13 ≤ lo ∧ xRv G YJ2_init_2 (fr - 1) (lo - 13) [rv a3] h4 (fun h11 => xext h4 h11 → tg h11 x0 = 13 ∧ tg h11 (fR h11 x0 3115) = 14 ∧ (∀ h16 : xH, h16 = sI h11 (fR h11 x0 3115) 3329 (-2147483647) → tg h16 (fR h16 x0 3115) = 14 ∧ (∀ h20 : xH, h20 = sI h16 (fR h16 x0 3115) 3330 2147483647 → tg h20 (fR h20 x0 3117) = 14 ∧ (∀ h24 : xH, h24 = sI h20 (fR h20 x0 3117) 3330 1 → tg h24 (fR h24 x0 3118) = 14 ∧ (∀ h28 : xH, h28 = sI h24 (fR h24 x0 3118) 3330 127 → tg h28 (fR h28 x0 3119) = 14 ∧ (∀ h32 : xH, h32 = sR h28 (fR h28 x0 3119) 3333 (fR h28 x0 3118) → tg h32 (fR h32 x0 3119) = 14 ∧ (∀ h36 : xH, h36 = sJ h32 (fR h32 x0 3119) 3334 2 → 1 ≤ fr ∧ 16 ≤ lo ∧ xRr G YX12_bring (fr - 1) (lo - 16) [rv x0, rv a3, .int 2, rv (tx G 35)] h36 (fun x42 h41 => xext h36 h41 → tg h41 x42 = 24 ∧ (∀ h46 : xH, h46 = sR h41 x42 5890 (fR h41 x0 3115) → 1 ≤ fr ∧ 16 ≤ lo ∧ xRr G YX12_bring (fr - 1) (lo - 16) [rv x0, rv a3, .int 2, rv (tx G 36)] h46 (fun x52 h51 => xext h46 h51 → tg h51 x52 = 24 ∧ (∀ h56 : xH, h56 = sR h51 x52 5890 (fR h51 x0 3116) → 1 ≤ fr ∧ 16 ≤ lo ∧ xRr G YX12_bring (fr - 1) (lo - 16) [rv x0, rv a3, .int 2, rv (tx G 37)] h56 (fun x62 h61 => xext h56 h61 → tg h61 x62 = 24 ∧ (∀ h66 : xH, h66 = sR h61 x62 5890 (fR h61 x0 3117) → 1 ≤ fr ∧ 16 ≤ lo ∧ xRr G YX12_bring (fr - 1) (lo - 16) [rv x0, rv a3, .int 2, rv (tx G 38)] h66 (fun x72 h71 => xext h66 h71 → tg h71 x72 = 24 ∧ (∀ h76 : xH, h76 = sR h71 x72 5890 (fR h71 x0 3118) → 1 ≤ fr ∧ 16 ≤ lo ∧ xRr G YX12_bring (fr - 1) (lo - 16) [rv x0, rv a3, .int 2, rv (tx G 39)] h76 (fun x82 h81 => xext h76 h81 → tg h81 x82 = 24 ∧ (∀ h86 : xH, h86 = sR h81 x82 5890 (fR h81 x0 3119) → 1 ≤ fr ∧ 16 ≤ lo ∧ xRr G YX12_bring (fr - 1) (lo - 16) [rv x0, rv a3, .int 1, rv (tx G 40)] h86 (fun x92 h91 => xext h86 h91 → tg h91 x92 = 24 ∧ (∀ h96 : xH, h96 = sR h91 x92 5890 (fR h91 x0 3117) → 1 ≤ fr ∧ 16 ≤ lo ∧ xRr G YX12_bring (fr - 1) (lo - 16) [rv x0, rv a3, .int 1, rv (tx G 41)] h96 (fun x102 h101 => xext h96 h101 → tg h101 x102 = 24 ∧ (∀ h106 : xH, h106 = sR h101 x102 5890 (fR h101 x0 3117) → (∀ h109 : xH, h109 = sJ h106 x102 5891 1 → 1 ≤ fr ∧ 16 ≤ lo ∧ xRr G YX12_bring (fr - 1) (lo - 16) [rv x0, rv a3, .int 1, rv (tx G 42)] h109 (fun x116 h115 => xext h109 h115 → tg h115 x116 = 24 ∧ (∀ h120 : xH, h120 = sR h115 x116 5890 (fR h115 x0 3115) → (∀ h123 : xH, h123 = sJ h120 x116 5891 2147483647 → lX12_bringAll_212 G fr lo x0 a3 1 h123 Q))) (fun r h2 => Q (.threw r) h2)))) (fun r h2 => Q (.threw r) h2))) (fun r h2 => Q (.threw r) h2))) (fun r h2 => Q (.threw r) h2))) (fun r h2 => Q (.threw r) h2))) (fun r h2 => Q (.threw r) h2))) (fun r h2 => Q (.threw r) h2))) (fun r h2 => Q (.threw r) h2)))))))) (fun r h2 => Q (.threw r) h2))
set_option maxRecDepth 100000 in
theorem uX12_bringAll {G : xG} {fr lo : Nat} {x0 : Nat} {h : xH} {Q : Outcome → xH → Prop} (hq : bX12_bringAll G fr lo x0 h Q) : xP G YX12_bringAll fr lo 0 [(0, rv x0)] [] h Q := by
  unfold bX12_bringAll at hq
  obtain ⟨g1, g2, hq⟩ := hq
  obtain ⟨a3, e5⟩ : ∃ y, y = nx h + 1 := ⟨_, rfl⟩
  obtain ⟨h4, e6⟩ : ∃ y, y = nO h 29 3 := ⟨_, rfl⟩
  refine x_new' cdX12_131 dX12_bringAll_0 g1 g2 e5 e6 (fun f7 => ?_)
  replace hq := hq a3 h4 e5 e6 f7
  have t8 : tg h4 a3 = 29 := by rw [e6, e5]; exact tg_nO
  refine x_dup dX12_bringAll_3 (rv_cat _) ?_
  obtain ⟨g9, g10, hq⟩ := hq
  refine x_callI (Yc := YJ2_init_2) (as := []) (st := [rv a3]) q3246 miJ2_init_2 (by rw [t8]; decide) rfl dX12_bringAll_4 (xle (xal1 (rv_cat _) xal0) (by decide)) (xfr g9) (xlo (xsw1 (rv_cat _) xsw0) (by decide) g10) (xKv hq (fun h11 hq e13 => ?_) (fun _ _ q _ => q))
  replace hq := hq e13
  refine x_astore_n (lv' := [(1, rv a3), (0, rv x0)]) dX12_bringAll_7 (by decide) (by first | rfl | (simp [rv_cat, Value.category]; done) | (simp [rv_cat, Value.category]; decide)) ?_
  refine x_aload_n 1 dX12_bringAll_8 rfl ?_
  obtain ⟨g14, hq⟩ := hq
  refine x_get (v := rv (fR h11 x0 3115)) fdX12_109 dX12_bringAll_9 g14 rfl ?_
  refine x_ldcw (v := (-2147483647)) q3926 dX12_bringAll_12 ?_
  obtain ⟨g15, hq⟩ := hq
  obtain ⟨h16, e17⟩ : ∃ y, y = sI h11 (fR h11 x0 3115) 3329 (-2147483647) := ⟨_, rfl⟩
  replace hq := hq h16 e17
  refine x_putI fdX12_591 xty_I1 dX12_bringAll_15 g15 (Or.inl (by rw [g15]; rfl)) xnI rfl e17 ?_
  refine x_aload_n 1 dX12_bringAll_18 rfl ?_
  have t18 : tg h16 x0 = 13 := by rw [e17]; exact g14
  refine x_get (v := rv (fR h16 x0 3115)) fdX12_109 dX12_bringAll_19 t18 rfl ?_
  refine x_ldcw (v := 2147483647) q3927 dX12_bringAll_22 ?_
  obtain ⟨g19, hq⟩ := hq
  obtain ⟨h20, e21⟩ : ∃ y, y = sI h16 (fR h16 x0 3115) 3330 2147483647 := ⟨_, rfl⟩
  replace hq := hq h20 e21
  refine x_putI fdX12_595 xty_I1 dX12_bringAll_25 g19 (Or.inl (by rw [g19]; rfl)) xnI rfl e21 ?_
  refine x_aload_n 1 dX12_bringAll_28 rfl ?_
  have t22 : tg h20 x0 = 13 := by rw [e21]; exact t18
  refine x_get (v := rv (fR h20 x0 3117)) fdX12_116 dX12_bringAll_29 t22 rfl ?_
  refine x_iconst (v := 1) dX12_bringAll_32 (by decide) ?_
  obtain ⟨g23, hq⟩ := hq
  obtain ⟨h24, e25⟩ : ∃ y, y = sI h20 (fR h20 x0 3117) 3330 1 := ⟨_, rfl⟩
  replace hq := hq h24 e25
  refine x_putI fdX12_595 xty_I1 dX12_bringAll_33 g23 (Or.inl (by rw [g23]; rfl)) xnI rfl e25 ?_
  refine x_aload_n 1 dX12_bringAll_36 rfl ?_
  have t26 : tg h24 x0 = 13 := by rw [e25]; exact t22
  refine x_get (v := rv (fR h24 x0 3118)) fdX12_119 dX12_bringAll_37 t26 rfl ?_
  refine x_bipush (v := 127) dX12_bringAll_40 (by decide) ?_
  obtain ⟨g27, hq⟩ := hq
  obtain ⟨h28, e29⟩ : ∃ y, y = sI h24 (fR h24 x0 3118) 3330 127 := ⟨_, rfl⟩
  replace hq := hq h28 e29
  refine x_putI fdX12_595 xty_I1 dX12_bringAll_42 g27 (Or.inl (by rw [g27]; rfl)) xnI rfl e29 ?_
  refine x_aload_n 1 dX12_bringAll_45 rfl ?_
  have t30 : tg h28 x0 = 13 := by rw [e29]; exact t26
  refine x_get (v := rv (fR h28 x0 3119)) fdX12_122 dX12_bringAll_46 t30 rfl ?_
  refine x_aload_n 1 dX12_bringAll_49 rfl ?_
  refine x_get (v := rv (fR h28 x0 3118)) fdX12_119 dX12_bringAll_50 t30 rfl ?_
  obtain ⟨g31, hq⟩ := hq
  obtain ⟨h32, e33⟩ : ∃ y, y = sR h28 (fR h28 x0 3119) 3333 (fR h28 x0 3118) := ⟨_, rfl⟩
  replace hq := hq h32 e33
  refine x_putR fdX12_598 xty_O dX12_bringAll_53 g31 (Or.inl (by rw [g31]; rfl)) rfl e33 ?_
  refine x_aload_n 1 dX12_bringAll_56 rfl ?_
  have t34 : tg h32 x0 = 13 := by rw [e33]; exact t30
  refine x_get (v := rv (fR h32 x0 3119)) fdX12_122 dX12_bringAll_57 t34 rfl ?_
  refine x_ldc2 (v := 2) q3928 dX12_bringAll_60 ?_
  obtain ⟨g35, hq⟩ := hq
  obtain ⟨h36, e37⟩ : ∃ y, y = sJ h32 (fR h32 x0 3119) 3334 2 := ⟨_, rfl⟩
  replace hq := hq h36 e37
  refine x_putJ fdX12_603 dX12_bringAll_63 g35 (Or.inl (by rw [g35]; rfl)) rfl e37 ?_
  refine x_aload_n 1 dX12_bringAll_66 rfl ?_
  refine x_aload_n 0 dX12_bringAll_67 rfl ?_
  refine x_iconst (v := 2) dX12_bringAll_68 (by decide) ?_
  refine x_ldcwS (n := 35) 177 srX12_607 dX12_bringAll_69 ?_
  have t38 : tg h36 x0 = 13 := by rw [e37]; exact t34
  obtain ⟨g39, g40, hq⟩ := hq
  refine x_callV (Yc := YX12_bring) (as := [rv a3, .int 2, rv (tx G 35)]) (st := []) q3930 mvX12_bring t38 rfl dX12_bringAll_72 (xle (xal1 (rv_cat _) (xal1 (rv_cat _) (xal1 rfl (xal1 (rv_cat _) xal0)))) (by decide)) (xfr g39) (xlo xsw0 (by decide) g40) (xKr hq (fun x42 h41 hq e43 => ?_) (fun _ _ q _ => q))
  replace hq := hq e43
  refine x_aload_n 1 dX12_bringAll_75 rfl ?_
  have t44 : tg h41 x0 = 13 := e43.tg t38 (by decide)
  refine x_get (v := rv (fR h41 x0 3115)) fdX12_109 dX12_bringAll_76 t44 rfl ?_
  obtain ⟨g45, hq⟩ := hq
  obtain ⟨h46, e47⟩ : ∃ y, y = sR h41 x42 5890 (fR h41 x0 3115) := ⟨_, rfl⟩
  replace hq := hq h46 e47
  refine x_putR fdX12_612 xty_O dX12_bringAll_79 g45 (Or.inl (by rw [g45]; rfl)) rfl e47 ?_
  refine x_aload_n 1 dX12_bringAll_82 rfl ?_
  refine x_aload_n 0 dX12_bringAll_83 rfl ?_
  refine x_iconst (v := 2) dX12_bringAll_84 (by decide) ?_
  refine x_ldcwS (n := 36) 178 srX12_614 dX12_bringAll_85 ?_
  have t48 : tg h46 x0 = 13 := by rw [e47]; exact t44
  obtain ⟨g49, g50, hq⟩ := hq
  refine x_callV (Yc := YX12_bring) (as := [rv a3, .int 2, rv (tx G 36)]) (st := []) q3930 mvX12_bring t48 rfl dX12_bringAll_88 (xle (xal1 (rv_cat _) (xal1 (rv_cat _) (xal1 rfl (xal1 (rv_cat _) xal0)))) (by decide)) (xfr g49) (xlo xsw0 (by decide) g50) (xKr hq (fun x52 h51 hq e53 => ?_) (fun _ _ q _ => q))
  replace hq := hq e53
  refine x_aload_n 1 dX12_bringAll_91 rfl ?_
  have t54 : tg h51 x0 = 13 := e53.tg t48 (by decide)
  refine x_get (v := rv (fR h51 x0 3116)) fdX12_113 dX12_bringAll_92 t54 rfl ?_
  obtain ⟨g55, hq⟩ := hq
  obtain ⟨h56, e57⟩ : ∃ y, y = sR h51 x52 5890 (fR h51 x0 3116) := ⟨_, rfl⟩
  replace hq := hq h56 e57
  refine x_putR fdX12_612 xty_O dX12_bringAll_95 g55 (Or.inl (by rw [g55]; rfl)) rfl e57 ?_
  refine x_aload_n 1 dX12_bringAll_98 rfl ?_
  refine x_aload_n 0 dX12_bringAll_99 rfl ?_
  refine x_iconst (v := 2) dX12_bringAll_100 (by decide) ?_
  refine x_ldcwS (n := 37) 179 srX12_615 dX12_bringAll_101 ?_
  have t58 : tg h56 x0 = 13 := by rw [e57]; exact t54
  obtain ⟨g59, g60, hq⟩ := hq
  refine x_callV (Yc := YX12_bring) (as := [rv a3, .int 2, rv (tx G 37)]) (st := []) q3930 mvX12_bring t58 rfl dX12_bringAll_104 (xle (xal1 (rv_cat _) (xal1 (rv_cat _) (xal1 rfl (xal1 (rv_cat _) xal0)))) (by decide)) (xfr g59) (xlo xsw0 (by decide) g60) (xKr hq (fun x62 h61 hq e63 => ?_) (fun _ _ q _ => q))
  replace hq := hq e63
  refine x_aload_n 1 dX12_bringAll_107 rfl ?_
  have t64 : tg h61 x0 = 13 := e63.tg t58 (by decide)
  refine x_get (v := rv (fR h61 x0 3117)) fdX12_116 dX12_bringAll_108 t64 rfl ?_
  obtain ⟨g65, hq⟩ := hq
  obtain ⟨h66, e67⟩ : ∃ y, y = sR h61 x62 5890 (fR h61 x0 3117) := ⟨_, rfl⟩
  replace hq := hq h66 e67
  refine x_putR fdX12_612 xty_O dX12_bringAll_111 g65 (Or.inl (by rw [g65]; rfl)) rfl e67 ?_
  refine x_aload_n 1 dX12_bringAll_114 rfl ?_
  refine x_aload_n 0 dX12_bringAll_115 rfl ?_
  refine x_iconst (v := 2) dX12_bringAll_116 (by decide) ?_
  refine x_ldcwS (n := 38) 180 srX12_617 dX12_bringAll_117 ?_
  have t68 : tg h66 x0 = 13 := by rw [e67]; exact t64
  obtain ⟨g69, g70, hq⟩ := hq
  refine x_callV (Yc := YX12_bring) (as := [rv a3, .int 2, rv (tx G 38)]) (st := []) q3930 mvX12_bring t68 rfl dX12_bringAll_120 (xle (xal1 (rv_cat _) (xal1 (rv_cat _) (xal1 rfl (xal1 (rv_cat _) xal0)))) (by decide)) (xfr g69) (xlo xsw0 (by decide) g70) (xKr hq (fun x72 h71 hq e73 => ?_) (fun _ _ q _ => q))
  replace hq := hq e73
  refine x_aload_n 1 dX12_bringAll_123 rfl ?_
  have t74 : tg h71 x0 = 13 := e73.tg t68 (by decide)
  refine x_get (v := rv (fR h71 x0 3118)) fdX12_119 dX12_bringAll_124 t74 rfl ?_
  obtain ⟨g75, hq⟩ := hq
  obtain ⟨h76, e77⟩ : ∃ y, y = sR h71 x72 5890 (fR h71 x0 3118) := ⟨_, rfl⟩
  replace hq := hq h76 e77
  refine x_putR fdX12_612 xty_O dX12_bringAll_127 g75 (Or.inl (by rw [g75]; rfl)) rfl e77 ?_
  refine x_aload_n 1 dX12_bringAll_130 rfl ?_
  refine x_aload_n 0 dX12_bringAll_131 rfl ?_
  refine x_iconst (v := 2) dX12_bringAll_132 (by decide) ?_
  refine x_ldcwS (n := 39) 181 srX12_619 dX12_bringAll_133 ?_
  have t78 : tg h76 x0 = 13 := by rw [e77]; exact t74
  obtain ⟨g79, g80, hq⟩ := hq
  refine x_callV (Yc := YX12_bring) (as := [rv a3, .int 2, rv (tx G 39)]) (st := []) q3930 mvX12_bring t78 rfl dX12_bringAll_136 (xle (xal1 (rv_cat _) (xal1 (rv_cat _) (xal1 rfl (xal1 (rv_cat _) xal0)))) (by decide)) (xfr g79) (xlo xsw0 (by decide) g80) (xKr hq (fun x82 h81 hq e83 => ?_) (fun _ _ q _ => q))
  replace hq := hq e83
  refine x_aload_n 1 dX12_bringAll_139 rfl ?_
  have t84 : tg h81 x0 = 13 := e83.tg t78 (by decide)
  refine x_get (v := rv (fR h81 x0 3119)) fdX12_122 dX12_bringAll_140 t84 rfl ?_
  obtain ⟨g85, hq⟩ := hq
  obtain ⟨h86, e87⟩ : ∃ y, y = sR h81 x82 5890 (fR h81 x0 3119) := ⟨_, rfl⟩
  replace hq := hq h86 e87
  refine x_putR fdX12_612 xty_O dX12_bringAll_143 g85 (Or.inl (by rw [g85]; rfl)) rfl e87 ?_
  refine x_aload_n 1 dX12_bringAll_146 rfl ?_
  refine x_aload_n 0 dX12_bringAll_147 rfl ?_
  refine x_iconst (v := 1) dX12_bringAll_148 (by decide) ?_
  refine x_ldcwS (n := 40) 182 srX12_620 dX12_bringAll_149 ?_
  have t88 : tg h86 x0 = 13 := by rw [e87]; exact t84
  obtain ⟨g89, g90, hq⟩ := hq
  refine x_callV (Yc := YX12_bring) (as := [rv a3, .int 1, rv (tx G 40)]) (st := []) q3930 mvX12_bring t88 rfl dX12_bringAll_152 (xle (xal1 (rv_cat _) (xal1 (rv_cat _) (xal1 rfl (xal1 (rv_cat _) xal0)))) (by decide)) (xfr g89) (xlo xsw0 (by decide) g90) (xKr hq (fun x92 h91 hq e93 => ?_) (fun _ _ q _ => q))
  replace hq := hq e93
  refine x_aload_n 1 dX12_bringAll_155 rfl ?_
  have t94 : tg h91 x0 = 13 := e93.tg t88 (by decide)
  refine x_get (v := rv (fR h91 x0 3117)) fdX12_116 dX12_bringAll_156 t94 rfl ?_
  obtain ⟨g95, hq⟩ := hq
  obtain ⟨h96, e97⟩ : ∃ y, y = sR h91 x92 5890 (fR h91 x0 3117) := ⟨_, rfl⟩
  replace hq := hq h96 e97
  refine x_putR fdX12_612 xty_O dX12_bringAll_159 g95 (Or.inl (by rw [g95]; rfl)) rfl e97 ?_
  refine x_aload_n 1 dX12_bringAll_162 rfl ?_
  refine x_aload_n 0 dX12_bringAll_163 rfl ?_
  refine x_iconst (v := 1) dX12_bringAll_164 (by decide) ?_
  refine x_ldcwS (n := 41) 183 srX12_622 dX12_bringAll_165 ?_
  have t98 : tg h96 x0 = 13 := by rw [e97]; exact t94
  obtain ⟨g99, g100, hq⟩ := hq
  refine x_callV (Yc := YX12_bring) (as := [rv a3, .int 1, rv (tx G 41)]) (st := []) q3930 mvX12_bring t98 rfl dX12_bringAll_168 (xle (xal1 (rv_cat _) (xal1 (rv_cat _) (xal1 rfl (xal1 (rv_cat _) xal0)))) (by decide)) (xfr g99) (xlo xsw0 (by decide) g100) (xKr hq (fun x102 h101 hq e103 => ?_) (fun _ _ q _ => q))
  replace hq := hq e103
  refine x_astore_n (lv' := [(2, rv x102), (1, rv a3), (0, rv x0)]) dX12_bringAll_171 (by decide) (by first | rfl | (simp [rv_cat, Value.category]; done) | (simp [rv_cat, Value.category]; decide)) ?_
  refine x_aload_n 0 dX12_bringAll_172 rfl ?_
  refine x_aload_n 2 dX12_bringAll_173 rfl ?_
  have t104 : tg h101 x0 = 13 := e103.tg t98 (by decide)
  refine x_get (v := rv (fR h101 x0 3117)) fdX12_116 dX12_bringAll_174 t104 rfl ?_
  obtain ⟨g105, hq⟩ := hq
  obtain ⟨h106, e107⟩ : ∃ y, y = sR h101 x102 5890 (fR h101 x0 3117) := ⟨_, rfl⟩
  replace hq := hq h106 e107
  refine x_putR fdX12_612 xty_O dX12_bringAll_177 g105 (Or.inl (by rw [g105]; rfl)) rfl e107 ?_
  refine x_aload_n 0 dX12_bringAll_180 rfl ?_
  refine x_lconst (v := 1) dX12_bringAll_181 (by decide) ?_
  have t108 : tg h106 x102 = 24 := by rw [e107]; exact g105
  obtain ⟨h109, e110⟩ : ∃ y, y = sJ h106 x102 5891 1 := ⟨_, rfl⟩
  replace hq := hq h109 e110
  refine x_putJ fdX12_624 dX12_bringAll_182 t108 (Or.inl (by rw [t108]; rfl)) rfl e110 ?_
  refine x_aload_n 2 dX12_bringAll_185 rfl ?_
  refine x_aload_n 1 dX12_bringAll_186 rfl ?_
  refine x_iconst (v := 1) dX12_bringAll_187 (by decide) ?_
  refine x_ldcwS (n := 42) 184 srX12_627 dX12_bringAll_188 ?_
  have t111 : tg h106 x0 = 13 := by rw [e107]; exact t104
  have t112 : tg h109 x0 = 13 := by rw [e110]; exact t111
  obtain ⟨g113, g114, hq⟩ := hq
  refine x_callV (Yc := YX12_bring) (as := [rv a3, .int 1, rv (tx G 42)]) (st := []) q3930 mvX12_bring t112 rfl dX12_bringAll_191 (xle (xal1 (rv_cat _) (xal1 (rv_cat _) (xal1 rfl (xal1 (rv_cat _) xal0)))) (by decide)) (xfr g113) (xlo xsw0 (by decide) g114) (xKr hq (fun x116 h115 hq e117 => ?_) (fun _ _ q _ => q))
  replace hq := hq e117
  refine x_astore_n (lv' := [(2, rv x116), (1, rv a3), (0, rv x0)]) dX12_bringAll_194 (by decide) (by first | rfl | (simp [rv_cat, Value.category]; done) | (simp [rv_cat, Value.category]; decide)) ?_
  refine x_aload_n 0 dX12_bringAll_195 rfl ?_
  refine x_aload_n 2 dX12_bringAll_196 rfl ?_
  have t118 : tg h115 x0 = 13 := e117.tg t112 (by decide)
  refine x_get (v := rv (fR h115 x0 3115)) fdX12_109 dX12_bringAll_197 t118 rfl ?_
  obtain ⟨g119, hq⟩ := hq
  obtain ⟨h120, e121⟩ : ∃ y, y = sR h115 x116 5890 (fR h115 x0 3115) := ⟨_, rfl⟩
  replace hq := hq h120 e121
  refine x_putR fdX12_612 xty_O dX12_bringAll_200 g119 (Or.inl (by rw [g119]; rfl)) rfl e121 ?_
  refine x_aload_n 0 dX12_bringAll_203 rfl ?_
  refine x_ldc2 (v := 2147483647) q3756 dX12_bringAll_204 ?_
  have t122 : tg h120 x116 = 24 := by rw [e121]; exact g119
  obtain ⟨h123, e124⟩ : ∃ y, y = sJ h120 x116 5891 2147483647 := ⟨_, rfl⟩
  replace hq := hq h123 e124
  refine x_putJ fdX12_624 dX12_bringAll_207 t122 (Or.inl (by rw [t122]; rfl)) rfl e124 ?_
  refine x_iconst (v := 1) dX12_bringAll_210 (by decide) ?_
  refine x_istore_n (lv' := [(3, .int 1), (2, rv x116), (1, rv a3), (0, rv x0)]) dX12_bringAll_211 (by decide) (by first | rfl | (simp [rv_cat, Value.category]; done) | (simp [rv_cat, Value.category]; decide)) ?_
  refine xP.pick (lv' := [(0, rv x0), (1, rv a3), (3, .int 1)]) [3, 2, 0] rfl ?_
  exact hq
theorem rX12_bringAll {G : xG} {fr lo : Nat} {x0 : Nat} {h : xH} {Q : Outcome → xH → Prop} (hq : bX12_bringAll G fr lo x0 h Q) : xR G YX12_bringAll fr lo [rv x0] h Q := by
  show xP _ _ _ _ _ (lv_args 0 _) _ _ _
  rw [show lv_args 0 [rv x0] = [(0, rv x0)] from (xla1 (rv_cat _) xla0)]
  exact uX12_bringAll hq
set_option maxRecDepth 100000 in
theorem dX12_bring_0 : decode cX12_bring 0 = .ok (.new 100, 3) := by decide +kernel
set_option maxRecDepth 100000 in
theorem dX12_bring_3 : decode cX12_bring 3 = .ok (.dup, 1) := by decide +kernel
set_option maxRecDepth 100000 in
theorem dX12_bring_4 : decode cX12_bring 4 = .ok (.iload_n 2, 1) := by decide +kernel
set_option maxRecDepth 100000 in
theorem dX12_bring_5 : decode cX12_bring 5 = .ok (.aload_n 0, 1) := by decide +kernel
set_option maxRecDepth 100000 in
theorem dX12_bring_6 : decode cX12_bring 6 = .ok (.aload_n 3, 1) := by decide +kernel
set_option maxRecDepth 100000 in
theorem dX12_bring_7 : decode cX12_bring 7 = .ok (.invokevirtual 374, 3) := by decide +kernel
set_option maxRecDepth 100000 in
theorem dX12_bring_10 : decode cX12_bring 10 = .ok (.invokespecial 585, 3) := by decide +kernel
set_option maxRecDepth 100000 in
theorem dX12_bring_13 : decode cX12_bring 13 = .ok (.astore 4, 2) := by decide +kernel
set_option maxRecDepth 100000 in
theorem dX12_bring_15 : decode cX12_bring 15 = .ok (.aload_n 1, 1) := by decide +kernel
set_option maxRecDepth 100000 in
theorem dX12_bring_16 : decode cX12_bring 16 = .ok (.aload 4, 2) := by decide +kernel
set_option maxRecDepth 100000 in
theorem dX12_bring_18 : decode cX12_bring 18 = .ok (.invokevirtual 579, 3) := by decide +kernel
set_option maxRecDepth 100000 in
theorem dX12_bring_21 : decode cX12_bring 21 = .ok (.pop, 1) := by decide +kernel
set_option maxRecDepth 100000 in
theorem dX12_bring_22 : decode cX12_bring 22 = .ok (.aload 4, 2) := by decide +kernel
set_option maxRecDepth 100000 in
theorem dX12_bring_24 : decode cX12_bring 24 = .ok (.areturn, 1) := by decide +kernel
set_option maxRecDepth 100000 in
def bX12_bring (G : xG) (fr lo : Nat) (x0 : Nat) (x1 : Nat) (x2 : Int32) (x3 : Nat) (h : xH) (Q : Outcome → xH → Prop) : Prop := nx h + 1 ≤ xGN G ∧ us h + 28 ≤ xGU G ∧ (∀ (a3 : Nat) (h4 : xH), a3 = nx h + 1 → h4 = nO h 24 28 → xfresh h a3 → tg h4 x0 = 13 ∧ 1 ≤ fr ∧ 17 ≤ lo ∧ xRi G YX12_nameOf (fr - 1) (lo - 17) [rv x0, rv x3] h4 (fun x13 h12 => xext h4 h12 → 1 ≤ fr ∧ 15 ≤ lo ∧ xRv G YX23_init (fr - 1) (lo - 15) [rv a3, .int x2, .int x13] h12 (fun h18 => xext h12 h18 → tg h18 x1 = 29 ∧ 1 ≤ fr ∧ 13 ≤ lo ∧ xRi G YJ2_add (fr - 1) (lo - 13) [rv x1, rv a3] h18 (fun x25 h24 => xext h18 h24 → Q (.returned (some (rv a3))) h24) (fun r h2 => Q (.threw r) h2)) (fun r h2 => Q (.threw r) h2)) (fun r h2 => Q (.threw r) h2))
set_option maxRecDepth 100000 in
theorem uX12_bring {G : xG} {fr lo : Nat} {x0 : Nat} {x1 : Nat} {x2 : Int32} {x3 : Nat} {h : xH} {Q : Outcome → xH → Prop} (hq : bX12_bring G fr lo x0 x1 x2 x3 h Q) : xP G YX12_bring fr lo 0 [(0, rv x0), (1, rv x1), (2, .int x2), (3, rv x3)] [] h Q := by
  unfold bX12_bring at hq
  obtain ⟨g1, g2, hq⟩ := hq
  obtain ⟨a3, e5⟩ : ∃ y, y = nx h + 1 := ⟨_, rfl⟩
  obtain ⟨h4, e6⟩ : ∃ y, y = nO h 24 28 := ⟨_, rfl⟩
  refine x_new' cdX12_100 dX12_bring_0 g1 g2 e5 e6 (fun f7 => ?_)
  replace hq := hq a3 h4 e5 e6 f7
  have t8 : tg h4 a3 = 24 := by rw [e6, e5]; exact tg_nO
  refine x_dup dX12_bring_3 (rv_cat _) ?_
  refine x_iload_n 2 dX12_bring_4 rfl ?_
  refine x_aload_n 0 dX12_bring_5 rfl ?_
  refine x_aload_n 3 dX12_bring_6 rfl ?_
  obtain ⟨g9, hq⟩ := hq
  obtain ⟨g10, g11, hq⟩ := hq
  refine x_callV (Yc := YX12_nameOf) (as := [rv x3]) (st := [.int x2, rv a3, rv a3]) q3706 mvX12_nameOf g9 rfl dX12_bring_7 (xle (xal1 (rv_cat _) (xal1 (rv_cat _) xal0)) (by decide)) (xfr g10) (xlo (xsw1 rfl (xsw1 (rv_cat _) (xsw1 (rv_cat _) xsw0))) (by decide) g11) (xKi hq (fun x13 h12 hq e14 => ?_) (fun _ _ q _ => q))
  replace hq := hq e14
  have t15 : tg h12 a3 = 24 := e14.tg t8 (by decide)
  obtain ⟨g16, g17, hq⟩ := hq
  refine x_callI (Yc := YX23_init) (as := [.int x2, .int x13]) (st := [rv a3]) q3935 miX23_init (by rw [t15]; decide) rfl dX12_bring_10 (xle (xal1 (rv_cat _) (xal1 rfl (xal1 rfl xal0))) (by decide)) (xfr g16) (xlo (xsw1 (rv_cat _) xsw0) (by decide) g17) (xKv hq (fun h18 hq e20 => ?_) (fun _ _ q _ => q))
  replace hq := hq e20
  refine x_astore (lv' := [(4, rv a3), (0, rv x0), (1, rv x1), (2, .int x2), (3, rv x3)]) dX12_bring_13 (by decide) (by first | rfl | (simp [rv_cat, Value.category]; done) | (simp [rv_cat, Value.category]; decide)) ?_
  refine x_aload_n 2 dX12_bring_15 rfl ?_
  refine x_aload 0 dX12_bring_16 rfl ?_
  obtain ⟨g21, hq⟩ := hq
  obtain ⟨g22, g23, hq⟩ := hq
  refine x_callV (Yc := YJ2_add) (as := [rv a3]) (st := []) q4030 mvJ2_add g21 rfl dX12_bring_18 (xle (xal1 (rv_cat _) (xal1 (rv_cat _) xal0)) (by decide)) (xfr g22) (xlo xsw0 (by decide) g23) (xKi hq (fun x25 h24 hq e26 => ?_) (fun _ _ q _ => q))
  replace hq := hq e26
  refine x_pop dX12_bring_21 rfl ?_
  refine x_aload 0 dX12_bring_22 rfl ?_
  exact x_aret rfl xty_O dX12_bring_24 hq
theorem rX12_bring {G : xG} {fr lo : Nat} {x0 : Nat} {x1 : Nat} {x2 : Int32} {x3 : Nat} {h : xH} {Q : Outcome → xH → Prop} (hq : bX12_bring G fr lo x0 x1 x2 x3 h Q) : xR G YX12_bring fr lo [rv x0, rv x1, .int x2, rv x3] h Q := by
  show xP _ _ _ _ _ (lv_args 0 _) _ _ _
  rw [show lv_args 0 [rv x0, rv x1, .int x2, rv x3] = [(0, rv x0), (1, rv x1), (2, .int x2), (3, rv x3)] from (xla1 (rv_cat _) (xla1 (rv_cat _) (xla1 rfl (xla1 (rv_cat _) xla0))))]
  exact uX12_bring hq
set_option maxRecDepth 100000 in
theorem dX12_thereName_0 : decode cX12_thereName 0 = .ok (.iload_n 0, 1) := by decide +kernel
set_option maxRecDepth 100000 in
theorem dX12_thereName_1 : decode cX12_thereName 1 = .ok (.tableswitch 183 1 21 #[99, 103, 107, 111, 115, 119, 123, 127, 131, 135, 139, 143, 147, 151, 155, 159, 163, 167, 171, 175, 179], 99) := by decide +kernel
set_option maxRecDepth 100000 in
theorem dX12_thereName_100 : decode cX12_thereName 100 = .ok (.ldc_w 643, 3) := by decide +kernel
set_option maxRecDepth 100000 in
theorem dX12_thereName_103 : decode cX12_thereName 103 = .ok (.areturn, 1) := by decide +kernel
set_option maxRecDepth 100000 in
theorem dX12_thereName_104 : decode cX12_thereName 104 = .ok (.ldc_w 644, 3) := by decide +kernel
set_option maxRecDepth 100000 in
theorem dX12_thereName_107 : decode cX12_thereName 107 = .ok (.areturn, 1) := by decide +kernel
set_option maxRecDepth 100000 in
theorem dX12_thereName_108 : decode cX12_thereName 108 = .ok (.ldc_w 646, 3) := by decide +kernel
set_option maxRecDepth 100000 in
theorem dX12_thereName_111 : decode cX12_thereName 111 = .ok (.areturn, 1) := by decide +kernel
set_option maxRecDepth 100000 in
theorem dX12_thereName_112 : decode cX12_thereName 112 = .ok (.ldc_w 648, 3) := by decide +kernel
set_option maxRecDepth 100000 in
theorem dX12_thereName_115 : decode cX12_thereName 115 = .ok (.areturn, 1) := by decide +kernel
set_option maxRecDepth 100000 in
theorem dX12_thereName_116 : decode cX12_thereName 116 = .ok (.ldc_w 650, 3) := by decide +kernel
set_option maxRecDepth 100000 in
theorem dX12_thereName_119 : decode cX12_thereName 119 = .ok (.areturn, 1) := by decide +kernel
set_option maxRecDepth 100000 in
theorem dX12_thereName_120 : decode cX12_thereName 120 = .ok (.ldc_w 652, 3) := by decide +kernel
set_option maxRecDepth 100000 in
theorem dX12_thereName_123 : decode cX12_thereName 123 = .ok (.areturn, 1) := by decide +kernel
set_option maxRecDepth 100000 in
theorem dX12_thereName_124 : decode cX12_thereName 124 = .ok (.ldc_w 654, 3) := by decide +kernel
set_option maxRecDepth 100000 in
theorem dX12_thereName_127 : decode cX12_thereName 127 = .ok (.areturn, 1) := by decide +kernel
set_option maxRecDepth 100000 in
theorem dX12_thereName_128 : decode cX12_thereName 128 = .ok (.ldc_w 655, 3) := by decide +kernel
set_option maxRecDepth 100000 in
theorem dX12_thereName_131 : decode cX12_thereName 131 = .ok (.areturn, 1) := by decide +kernel
set_option maxRecDepth 100000 in
theorem dX12_thereName_132 : decode cX12_thereName 132 = .ok (.ldc_w 657, 3) := by decide +kernel
set_option maxRecDepth 100000 in
theorem dX12_thereName_135 : decode cX12_thereName 135 = .ok (.areturn, 1) := by decide +kernel
set_option maxRecDepth 100000 in
theorem dX12_thereName_136 : decode cX12_thereName 136 = .ok (.ldc_w 659, 3) := by decide +kernel
set_option maxRecDepth 100000 in
theorem dX12_thereName_139 : decode cX12_thereName 139 = .ok (.areturn, 1) := by decide +kernel
set_option maxRecDepth 100000 in
theorem dX12_thereName_140 : decode cX12_thereName 140 = .ok (.ldc_w 661, 3) := by decide +kernel
set_option maxRecDepth 100000 in
theorem dX12_thereName_143 : decode cX12_thereName 143 = .ok (.areturn, 1) := by decide +kernel
set_option maxRecDepth 100000 in
theorem dX12_thereName_144 : decode cX12_thereName 144 = .ok (.ldc_w 663, 3) := by decide +kernel
set_option maxRecDepth 100000 in
theorem dX12_thereName_147 : decode cX12_thereName 147 = .ok (.areturn, 1) := by decide +kernel
set_option maxRecDepth 100000 in
theorem dX12_thereName_148 : decode cX12_thereName 148 = .ok (.ldc_w 665, 3) := by decide +kernel
set_option maxRecDepth 100000 in
theorem dX12_thereName_151 : decode cX12_thereName 151 = .ok (.areturn, 1) := by decide +kernel
set_option maxRecDepth 100000 in
theorem dX12_thereName_152 : decode cX12_thereName 152 = .ok (.ldc_w 667, 3) := by decide +kernel
set_option maxRecDepth 100000 in
theorem dX12_thereName_155 : decode cX12_thereName 155 = .ok (.areturn, 1) := by decide +kernel
set_option maxRecDepth 100000 in
theorem dX12_thereName_156 : decode cX12_thereName 156 = .ok (.ldc_w 669, 3) := by decide +kernel
set_option maxRecDepth 100000 in
theorem dX12_thereName_159 : decode cX12_thereName 159 = .ok (.areturn, 1) := by decide +kernel
set_option maxRecDepth 100000 in
theorem dX12_thereName_160 : decode cX12_thereName 160 = .ok (.ldc_w 671, 3) := by decide +kernel
set_option maxRecDepth 100000 in
theorem dX12_thereName_163 : decode cX12_thereName 163 = .ok (.areturn, 1) := by decide +kernel
set_option maxRecDepth 100000 in
theorem dX12_thereName_164 : decode cX12_thereName 164 = .ok (.ldc_w 673, 3) := by decide +kernel
set_option maxRecDepth 100000 in
theorem dX12_thereName_167 : decode cX12_thereName 167 = .ok (.areturn, 1) := by decide +kernel
set_option maxRecDepth 100000 in
theorem dX12_thereName_168 : decode cX12_thereName 168 = .ok (.ldc_w 675, 3) := by decide +kernel
set_option maxRecDepth 100000 in
theorem dX12_thereName_171 : decode cX12_thereName 171 = .ok (.areturn, 1) := by decide +kernel
set_option maxRecDepth 100000 in
theorem dX12_thereName_172 : decode cX12_thereName 172 = .ok (.ldc_w 677, 3) := by decide +kernel
set_option maxRecDepth 100000 in
theorem dX12_thereName_175 : decode cX12_thereName 175 = .ok (.areturn, 1) := by decide +kernel
set_option maxRecDepth 100000 in
theorem dX12_thereName_176 : decode cX12_thereName 176 = .ok (.ldc_w 679, 3) := by decide +kernel
set_option maxRecDepth 100000 in
theorem dX12_thereName_179 : decode cX12_thereName 179 = .ok (.areturn, 1) := by decide +kernel
set_option maxRecDepth 100000 in
theorem dX12_thereName_180 : decode cX12_thereName 180 = .ok (.ldc_w 681, 3) := by decide +kernel
set_option maxRecDepth 100000 in
theorem dX12_thereName_183 : decode cX12_thereName 183 = .ok (.areturn, 1) := by decide +kernel
set_option maxRecDepth 100000 in
theorem dX12_thereName_184 : decode cX12_thereName 184 = .ok (.ldc_w 683, 3) := by decide +kernel
set_option maxRecDepth 100000 in
theorem dX12_thereName_187 : decode cX12_thereName 187 = .ok (.areturn, 1) := by decide +kernel
set_option maxRecDepth 100000 in
def bX12_thereName (G : xG) (fr lo : Nat) (x0 : Int32) (h : xH) (Q : Outcome → xH → Prop) : Prop := ((x0 = 1 → Q (.returned (some (rv (tx G 70)))) h) ∧ (x0 = 2 → Q (.returned (some (rv (tx G 71)))) h) ∧ (x0 = 3 → Q (.returned (some (rv (tx G 72)))) h) ∧ (x0 = 4 → Q (.returned (some (rv (tx G 73)))) h) ∧ (x0 = 5 → Q (.returned (some (rv (tx G 74)))) h) ∧ (x0 = 6 → Q (.returned (some (rv (tx G 75)))) h) ∧ (x0 = 7 → Q (.returned (some (rv (tx G 76)))) h) ∧ (x0 = 8 → Q (.returned (some (rv (tx G 77)))) h) ∧ (x0 = 9 → Q (.returned (some (rv (tx G 78)))) h) ∧ (x0 = 10 → Q (.returned (some (rv (tx G 79)))) h) ∧ (x0 = 11 → Q (.returned (some (rv (tx G 80)))) h) ∧ (x0 = 12 → Q (.returned (some (rv (tx G 81)))) h) ∧ (x0 = 13 → Q (.returned (some (rv (tx G 82)))) h) ∧ (x0 = 14 → Q (.returned (some (rv (tx G 83)))) h) ∧ (x0 = 15 → Q (.returned (some (rv (tx G 84)))) h) ∧ (x0 = 16 → Q (.returned (some (rv (tx G 85)))) h) ∧ (x0 = 17 → Q (.returned (some (rv (tx G 86)))) h) ∧ (x0 = 18 → Q (.returned (some (rv (tx G 87)))) h) ∧ (x0 = 19 → Q (.returned (some (rv (tx G 88)))) h) ∧ (x0 = 20 → Q (.returned (some (rv (tx G 89)))) h) ∧ (x0 = 21 → Q (.returned (some (rv (tx G 90)))) h) ∧ (¬ x0 = 1 → ¬ x0 = 2 → ¬ x0 = 3 → ¬ x0 = 4 → ¬ x0 = 5 → ¬ x0 = 6 → ¬ x0 = 7 → ¬ x0 = 8 → ¬ x0 = 9 → ¬ x0 = 10 → ¬ x0 = 11 → ¬ x0 = 12 → ¬ x0 = 13 → ¬ x0 = 14 → ¬ x0 = 15 → ¬ x0 = 16 → ¬ x0 = 17 → ¬ x0 = 18 → ¬ x0 = 19 → ¬ x0 = 20 → ¬ x0 = 21 → Q (.returned (some (rv (tx G 91)))) h))
set_option maxRecDepth 100000 in
theorem uX12_thereName {G : xG} {fr lo : Nat} {x0 : Int32} {h : xH} {Q : Outcome → xH → Prop} (hq : bX12_thereName G fr lo x0 h Q) : xP G YX12_thereName fr lo 0 [(0, .int x0)] [] h Q := by
  unfold bX12_thereName at hq
  refine x_iload_n 0 dX12_thereName_0 rfl ?_
  by_cases c1 : x0 = 1
  · replace hq := hq.1 c1
    refine x_tin (tgt := 100) (off := 99) 1 c1 dX12_thereName_1 (by decide) (by decide) (by decide) (by decide) ?_
    refine x_ldcwS (n := 70) 185 srX12_643 dX12_thereName_100 ?_
    exact x_aret rfl xty_O dX12_thereName_103 hq
  replace hq := hq.2
  by_cases c2 : x0 = 2
  · replace hq := hq.1 c2
    refine x_tin (tgt := 104) (off := 103) 2 c2 dX12_thereName_1 (by decide) (by decide) (by decide) (by decide) ?_
    refine x_ldcwS (n := 71) 186 srX12_644 dX12_thereName_104 ?_
    exact x_aret rfl xty_O dX12_thereName_107 hq
  replace hq := hq.2
  by_cases c3 : x0 = 3
  · replace hq := hq.1 c3
    refine x_tin (tgt := 108) (off := 107) 3 c3 dX12_thereName_1 (by decide) (by decide) (by decide) (by decide) ?_
    refine x_ldcwS (n := 72) 187 srX12_646 dX12_thereName_108 ?_
    exact x_aret rfl xty_O dX12_thereName_111 hq
  replace hq := hq.2
  by_cases c4 : x0 = 4
  · replace hq := hq.1 c4
    refine x_tin (tgt := 112) (off := 111) 4 c4 dX12_thereName_1 (by decide) (by decide) (by decide) (by decide) ?_
    refine x_ldcwS (n := 73) 188 srX12_648 dX12_thereName_112 ?_
    exact x_aret rfl xty_O dX12_thereName_115 hq
  replace hq := hq.2
  by_cases c5 : x0 = 5
  · replace hq := hq.1 c5
    refine x_tin (tgt := 116) (off := 115) 5 c5 dX12_thereName_1 (by decide) (by decide) (by decide) (by decide) ?_
    refine x_ldcwS (n := 74) 189 srX12_650 dX12_thereName_116 ?_
    exact x_aret rfl xty_O dX12_thereName_119 hq
  replace hq := hq.2
  by_cases c6 : x0 = 6
  · replace hq := hq.1 c6
    refine x_tin (tgt := 120) (off := 119) 6 c6 dX12_thereName_1 (by decide) (by decide) (by decide) (by decide) ?_
    refine x_ldcwS (n := 75) 190 srX12_652 dX12_thereName_120 ?_
    exact x_aret rfl xty_O dX12_thereName_123 hq
  replace hq := hq.2
  by_cases c7 : x0 = 7
  · replace hq := hq.1 c7
    refine x_tin (tgt := 124) (off := 123) 7 c7 dX12_thereName_1 (by decide) (by decide) (by decide) (by decide) ?_
    refine x_ldcwS (n := 76) 191 srX12_654 dX12_thereName_124 ?_
    exact x_aret rfl xty_O dX12_thereName_127 hq
  replace hq := hq.2
  by_cases c8 : x0 = 8
  · replace hq := hq.1 c8
    refine x_tin (tgt := 128) (off := 127) 8 c8 dX12_thereName_1 (by decide) (by decide) (by decide) (by decide) ?_
    refine x_ldcwS (n := 77) 192 srX12_655 dX12_thereName_128 ?_
    exact x_aret rfl xty_O dX12_thereName_131 hq
  replace hq := hq.2
  by_cases c9 : x0 = 9
  · replace hq := hq.1 c9
    refine x_tin (tgt := 132) (off := 131) 9 c9 dX12_thereName_1 (by decide) (by decide) (by decide) (by decide) ?_
    refine x_ldcwS (n := 78) 193 srX12_657 dX12_thereName_132 ?_
    exact x_aret rfl xty_O dX12_thereName_135 hq
  replace hq := hq.2
  by_cases c10 : x0 = 10
  · replace hq := hq.1 c10
    refine x_tin (tgt := 136) (off := 135) 10 c10 dX12_thereName_1 (by decide) (by decide) (by decide) (by decide) ?_
    refine x_ldcwS (n := 79) 194 srX12_659 dX12_thereName_136 ?_
    exact x_aret rfl xty_O dX12_thereName_139 hq
  replace hq := hq.2
  by_cases c11 : x0 = 11
  · replace hq := hq.1 c11
    refine x_tin (tgt := 140) (off := 139) 11 c11 dX12_thereName_1 (by decide) (by decide) (by decide) (by decide) ?_
    refine x_ldcwS (n := 80) 195 srX12_661 dX12_thereName_140 ?_
    exact x_aret rfl xty_O dX12_thereName_143 hq
  replace hq := hq.2
  by_cases c12 : x0 = 12
  · replace hq := hq.1 c12
    refine x_tin (tgt := 144) (off := 143) 12 c12 dX12_thereName_1 (by decide) (by decide) (by decide) (by decide) ?_
    refine x_ldcwS (n := 81) 196 srX12_663 dX12_thereName_144 ?_
    exact x_aret rfl xty_O dX12_thereName_147 hq
  replace hq := hq.2
  by_cases c13 : x0 = 13
  · replace hq := hq.1 c13
    refine x_tin (tgt := 148) (off := 147) 13 c13 dX12_thereName_1 (by decide) (by decide) (by decide) (by decide) ?_
    refine x_ldcwS (n := 82) 197 srX12_665 dX12_thereName_148 ?_
    exact x_aret rfl xty_O dX12_thereName_151 hq
  replace hq := hq.2
  by_cases c14 : x0 = 14
  · replace hq := hq.1 c14
    refine x_tin (tgt := 152) (off := 151) 14 c14 dX12_thereName_1 (by decide) (by decide) (by decide) (by decide) ?_
    refine x_ldcwS (n := 83) 198 srX12_667 dX12_thereName_152 ?_
    exact x_aret rfl xty_O dX12_thereName_155 hq
  replace hq := hq.2
  by_cases c15 : x0 = 15
  · replace hq := hq.1 c15
    refine x_tin (tgt := 156) (off := 155) 15 c15 dX12_thereName_1 (by decide) (by decide) (by decide) (by decide) ?_
    refine x_ldcwS (n := 84) 199 srX12_669 dX12_thereName_156 ?_
    exact x_aret rfl xty_O dX12_thereName_159 hq
  replace hq := hq.2
  by_cases c16 : x0 = 16
  · replace hq := hq.1 c16
    refine x_tin (tgt := 160) (off := 159) 16 c16 dX12_thereName_1 (by decide) (by decide) (by decide) (by decide) ?_
    refine x_ldcwS (n := 85) 200 srX12_671 dX12_thereName_160 ?_
    exact x_aret rfl xty_O dX12_thereName_163 hq
  replace hq := hq.2
  by_cases c17 : x0 = 17
  · replace hq := hq.1 c17
    refine x_tin (tgt := 164) (off := 163) 17 c17 dX12_thereName_1 (by decide) (by decide) (by decide) (by decide) ?_
    refine x_ldcwS (n := 86) 201 srX12_673 dX12_thereName_164 ?_
    exact x_aret rfl xty_O dX12_thereName_167 hq
  replace hq := hq.2
  by_cases c18 : x0 = 18
  · replace hq := hq.1 c18
    refine x_tin (tgt := 168) (off := 167) 18 c18 dX12_thereName_1 (by decide) (by decide) (by decide) (by decide) ?_
    refine x_ldcwS (n := 87) 202 srX12_675 dX12_thereName_168 ?_
    exact x_aret rfl xty_O dX12_thereName_171 hq
  replace hq := hq.2
  by_cases c19 : x0 = 19
  · replace hq := hq.1 c19
    refine x_tin (tgt := 172) (off := 171) 19 c19 dX12_thereName_1 (by decide) (by decide) (by decide) (by decide) ?_
    refine x_ldcwS (n := 88) 203 srX12_677 dX12_thereName_172 ?_
    exact x_aret rfl xty_O dX12_thereName_175 hq
  replace hq := hq.2
  by_cases c20 : x0 = 20
  · replace hq := hq.1 c20
    refine x_tin (tgt := 176) (off := 175) 20 c20 dX12_thereName_1 (by decide) (by decide) (by decide) (by decide) ?_
    refine x_ldcwS (n := 89) 204 srX12_679 dX12_thereName_176 ?_
    exact x_aret rfl xty_O dX12_thereName_179 hq
  replace hq := hq.2
  by_cases c21 : x0 = 21
  · replace hq := hq.1 c21
    refine x_tin (tgt := 180) (off := 179) 21 c21 dX12_thereName_1 (by decide) (by decide) (by decide) (by decide) ?_
    refine x_ldcwS (n := 90) 205 srX12_681 dX12_thereName_180 ?_
    exact x_aret rfl xty_O dX12_thereName_183 hq
  replace hq := hq.2
  replace hq := hq c1 c2 c3 c4 c5 c6 c7 c8 c9 c10 c11 c12 c13 c14 c15 c16 c17 c18 c19 c20 c21
  have nc1 := lv_neT c1 (show (1 : Int32).toInt = 1 from by decide)
  have nc2 := lv_neT c2 (show (2 : Int32).toInt = 2 from by decide)
  have nc3 := lv_neT c3 (show (3 : Int32).toInt = 3 from by decide)
  have nc4 := lv_neT c4 (show (4 : Int32).toInt = 4 from by decide)
  have nc5 := lv_neT c5 (show (5 : Int32).toInt = 5 from by decide)
  have nc6 := lv_neT c6 (show (6 : Int32).toInt = 6 from by decide)
  have nc7 := lv_neT c7 (show (7 : Int32).toInt = 7 from by decide)
  have nc8 := lv_neT c8 (show (8 : Int32).toInt = 8 from by decide)
  have nc9 := lv_neT c9 (show (9 : Int32).toInt = 9 from by decide)
  have nc10 := lv_neT c10 (show (10 : Int32).toInt = 10 from by decide)
  have nc11 := lv_neT c11 (show (11 : Int32).toInt = 11 from by decide)
  have nc12 := lv_neT c12 (show (12 : Int32).toInt = 12 from by decide)
  have nc13 := lv_neT c13 (show (13 : Int32).toInt = 13 from by decide)
  have nc14 := lv_neT c14 (show (14 : Int32).toInt = 14 from by decide)
  have nc15 := lv_neT c15 (show (15 : Int32).toInt = 15 from by decide)
  have nc16 := lv_neT c16 (show (16 : Int32).toInt = 16 from by decide)
  have nc17 := lv_neT c17 (show (17 : Int32).toInt = 17 from by decide)
  have nc18 := lv_neT c18 (show (18 : Int32).toInt = 18 from by decide)
  have nc19 := lv_neT c19 (show (19 : Int32).toInt = 19 from by decide)
  have nc20 := lv_neT c20 (show (20 : Int32).toInt = 20 from by decide)
  have nc21 := lv_neT c21 (show (21 : Int32).toInt = 21 from by decide)
  refine x_tout (tgt := 184) dX12_thereName_1 (by omega) (by decide) ?_
  refine x_ldcwS (n := 91) 206 srX12_683 dX12_thereName_184 ?_
  exact x_aret rfl xty_O dX12_thereName_187 hq
theorem rX12_thereName {G : xG} {fr lo : Nat} {x0 : Int32} {h : xH} {Q : Outcome → xH → Prop} (hq : bX12_thereName G fr lo x0 h Q) : xR G YX12_thereName fr lo [.int x0] h Q := by
  show xP _ _ _ _ _ (lv_args 0 _) _ _ _
  rw [show lv_args 0 [.int x0] = [(0, .int x0)] from (xla1 rfl xla0)]
  exact uX12_thereName hq
set_option maxRecDepth 100000 in
theorem dX12_push_0 : decode cX12_push 0 = .ok (.aload_n 0, 1) := by decide +kernel
set_option maxRecDepth 100000 in
theorem dX12_push_1 : decode cX12_push 1 = .ok (.getfield 138, 3) := by decide +kernel
set_option maxRecDepth 100000 in
theorem dX12_push_4 : decode cX12_push 4 = .ok (.aload_n 0, 1) := by decide +kernel
set_option maxRecDepth 100000 in
theorem dX12_push_5 : decode cX12_push 5 = .ok (.getfield 134, 3) := by decide +kernel
set_option maxRecDepth 100000 in
theorem dX12_push_8 : decode cX12_push 8 = .ok (.invokevirtual 554, 3) := by decide +kernel
set_option maxRecDepth 100000 in
theorem dX12_push_11 : decode cX12_push 11 = .ok (.iload_n 2, 1) := by decide +kernel
set_option maxRecDepth 100000 in
theorem dX12_push_12 : decode cX12_push 12 = .ok (.iastore, 1) := by decide +kernel
set_option maxRecDepth 100000 in
theorem dX12_push_13 : decode cX12_push 13 = .ok (.aload_n 0, 1) := by decide +kernel
set_option maxRecDepth 100000 in
theorem dX12_push_14 : decode cX12_push 14 = .ok (.getfield 134, 3) := by decide +kernel
set_option maxRecDepth 100000 in
theorem dX12_push_17 : decode cX12_push 17 = .ok (.aload_n 1, 1) := by decide +kernel
set_option maxRecDepth 100000 in
theorem dX12_push_18 : decode cX12_push 18 = .ok (.invokevirtual 579, 3) := by decide +kernel
set_option maxRecDepth 100000 in
theorem dX12_push_21 : decode cX12_push 21 = .ok (.pop, 1) := by decide +kernel
set_option maxRecDepth 100000 in
theorem dX12_push_22 : decode cX12_push 22 = .ok (.return_, 1) := by decide +kernel
set_option maxRecDepth 100000 in
def bX12_push (G : xG) (fr lo : Nat) (x0 : Nat) (x1 : Nat) (x2 : Int32) (h : xH) (Q : Outcome → xH → Prop) : Prop := tg h x0 = 13 ∧ tg h (fR h x0 3122) = 29 ∧ 1 ≤ fr ∧ 13 ≤ lo ∧ xRi G YJ2_size (fr - 1) (lo - 13) [rv (fR h x0 3122)] h (fun x6 h5 => xext h h5 → tg h5 (fR h x0 3123) = 100 ∧ vp_in x6 (ln h5 (fR h x0 3123)) ∧ (∀ h10 : xH, h10 = tI h5 (fR h x0 3123) (Int32.toNatClampNeg x6) x2 → tg h10 (fR h10 x0 3122) = 29 ∧ 1 ≤ fr ∧ 13 ≤ lo ∧ xRi G YJ2_add (fr - 1) (lo - 13) [rv (fR h10 x0 3122), rv x1] h10 (fun x18 h17 => xext h10 h17 → Q (.returned none) h17) (fun r h2 => Q (.threw r) h2))) (fun r h2 => Q (.threw r) h2)
set_option maxRecDepth 100000 in
theorem uX12_push {G : xG} {fr lo : Nat} {x0 : Nat} {x1 : Nat} {x2 : Int32} {h : xH} {Q : Outcome → xH → Prop} (hq : bX12_push G fr lo x0 x1 x2 h Q) : xP G YX12_push fr lo 0 [(0, rv x0), (1, rv x1), (2, .int x2)] [] h Q := by
  unfold bX12_push at hq
  refine x_aload_n 0 dX12_push_0 rfl ?_
  obtain ⟨g1, hq⟩ := hq
  refine x_get (v := rv (fR h x0 3123)) fdX12_138 dX12_push_1 g1 rfl ?_
  refine x_aload_n 0 dX12_push_4 rfl ?_
  refine x_get (v := rv (fR h x0 3122)) fdX12_134 dX12_push_5 g1 rfl ?_
  obtain ⟨g2, hq⟩ := hq
  obtain ⟨g3, g4, hq⟩ := hq
  refine x_callV (Yc := YJ2_size) (as := []) (st := [rv (fR h x0 3123)]) q4067 mvJ2_size g2 rfl dX12_push_8 (xle (xal1 (rv_cat _) xal0) (by decide)) (xfr g3) (xlo (xsw1 (rv_cat _) xsw0) (by decide) g4) (xKi hq (fun x6 h5 hq e7 => ?_) (fun _ _ q _ => q))
  replace hq := hq e7
  refine x_iload_n 2 dX12_push_11 rfl ?_
  obtain ⟨g8, hq⟩ := hq
  obtain ⟨i9, hq⟩ := hq
  obtain ⟨h10, e11⟩ : ∃ y, y = tI h5 (fR h x0 3123) (Int32.toNatClampNeg x6) x2 := ⟨_, rfl⟩
  replace hq := hq h10 e11
  refine x_iast' g8 i9 dX12_push_12 e11 ?_
  refine x_aload_n 0 dX12_push_13 rfl ?_
  have t12 : tg h5 x0 = 13 := e7.tg g1 (by decide)
  have t13 : tg h10 x0 = 13 := by rw [e11]; exact t12
  refine x_get (v := rv (fR h10 x0 3122)) fdX12_134 dX12_push_14 t13 rfl ?_
  refine x_aload_n 1 dX12_push_17 rfl ?_
  obtain ⟨g14, hq⟩ := hq
  obtain ⟨g15, g16, hq⟩ := hq
  refine x_callV (Yc := YJ2_add) (as := [rv x1]) (st := []) q4030 mvJ2_add g14 rfl dX12_push_18 (xle (xal1 (rv_cat _) (xal1 (rv_cat _) xal0)) (by decide)) (xfr g15) (xlo xsw0 (by decide) g16) (xKi hq (fun x18 h17 hq e19 => ?_) (fun _ _ q _ => q))
  replace hq := hq e19
  refine x_pop dX12_push_21 rfl ?_
  exact x_vret rfl dX12_push_22 hq
theorem rX12_push {G : xG} {fr lo : Nat} {x0 : Nat} {x1 : Nat} {x2 : Int32} {h : xH} {Q : Outcome → xH → Prop} (hq : bX12_push G fr lo x0 x1 x2 h Q) : xR G YX12_push fr lo [rv x0, rv x1, .int x2] h Q := by
  show xP _ _ _ _ _ (lv_args 0 _) _ _ _
  rw [show lv_args 0 [rv x0, rv x1, .int x2] = [(0, rv x0), (1, rv x1), (2, .int x2)] from (xla1 (rv_cat _) (xla1 (rv_cat _) (xla1 rfl xla0)))]
  exact uX12_push hq
set_option maxRecDepth 100000 in
theorem dX12_checkProgram_0 : decode cX12_checkProgram 0 = .ok (.aload_n 0, 1) := by decide +kernel
set_option maxRecDepth 100000 in
theorem dX12_checkProgram_1 : decode cX12_checkProgram 1 = .ok (.getfield 141, 3) := by decide +kernel
set_option maxRecDepth 100000 in
theorem dX12_checkProgram_4 : decode cX12_checkProgram 4 = .ok (.new 685, 3) := by decide +kernel
set_option maxRecDepth 100000 in
theorem dX12_checkProgram_7 : decode cX12_checkProgram 7 = .ok (.dup, 1) := by decide +kernel
set_option maxRecDepth 100000 in
theorem dX12_checkProgram_8 : decode cX12_checkProgram 8 = .ok (.invokespecial 716, 3) := by decide +kernel
set_option maxRecDepth 100000 in
theorem dX12_checkProgram_11 : decode cX12_checkProgram 11 = .ok (.invokevirtual 579, 3) := by decide +kernel
set_option maxRecDepth 100000 in
theorem dX12_checkProgram_14 : decode cX12_checkProgram 14 = .ok (.pop, 1) := by decide +kernel
set_option maxRecDepth 100000 in
theorem dX12_checkProgram_15 : decode cX12_checkProgram 15 = .ok (.aload_n 0, 1) := by decide +kernel
set_option maxRecDepth 100000 in
theorem dX12_checkProgram_16 : decode cX12_checkProgram 16 = .ok (.new 131, 3) := by decide +kernel
set_option maxRecDepth 100000 in
theorem dX12_checkProgram_19 : decode cX12_checkProgram 19 = .ok (.dup, 1) := by decide +kernel
set_option maxRecDepth 100000 in
theorem dX12_checkProgram_20 : decode cX12_checkProgram 20 = .ok (.invokespecial 133, 3) := by decide +kernel
set_option maxRecDepth 100000 in
theorem dX12_checkProgram_23 : decode cX12_checkProgram 23 = .ok (.putfield 717, 3) := by decide +kernel
set_option maxRecDepth 100000 in
theorem dX12_checkProgram_26 : decode cX12_checkProgram 26 = .ok (.aload_n 0, 1) := by decide +kernel
set_option maxRecDepth 100000 in
theorem dX12_checkProgram_27 : decode cX12_checkProgram 27 = .ok (.aload_n 0, 1) := by decide +kernel
set_option maxRecDepth 100000 in
theorem dX12_checkProgram_28 : decode cX12_checkProgram 28 = .ok (.getfield 717, 3) := by decide +kernel
set_option maxRecDepth 100000 in
theorem dX12_checkProgram_31 : decode cX12_checkProgram 31 = .ok (.iconst (-1), 1) := by decide +kernel
set_option maxRecDepth 100000 in
theorem dX12_checkProgram_32 : decode cX12_checkProgram 32 = .ok (.invokevirtual 639, 3) := by decide +kernel
set_option maxRecDepth 100000 in
theorem dX12_checkProgram_35 : decode cX12_checkProgram 35 = .ok (.iconst 0, 1) := by decide +kernel
set_option maxRecDepth 100000 in
theorem dX12_checkProgram_36 : decode cX12_checkProgram 36 = .ok (.istore_n 2, 1) := by decide +kernel
set_option maxRecDepth 100000 in
theorem dX12_checkProgram_37 : decode cX12_checkProgram 37 = .ok (.aload_n 0, 1) := by decide +kernel
set_option maxRecDepth 100000 in
theorem dX12_checkProgram_38 : decode cX12_checkProgram 38 = .ok (.getfield 73, 3) := by decide +kernel
set_option maxRecDepth 100000 in
theorem dX12_checkProgram_41 : decode cX12_checkProgram 41 = .ok (.aload_n 0, 1) := by decide +kernel
set_option maxRecDepth 100000 in
theorem dX12_checkProgram_42 : decode cX12_checkProgram 42 = .ok (.getfield 73, 3) := by decide +kernel
set_option maxRecDepth 100000 in
theorem dX12_checkProgram_45 : decode cX12_checkProgram 45 = .ok (.iload_n 1, 1) := by decide +kernel
set_option maxRecDepth 100000 in
theorem dX12_checkProgram_46 : decode cX12_checkProgram 46 = .ok (.iaload, 1) := by decide +kernel
set_option maxRecDepth 100000 in
theorem dX12_checkProgram_47 : decode cX12_checkProgram 47 = .ok (.iaload, 1) := by decide +kernel
set_option maxRecDepth 100000 in
theorem dX12_checkProgram_48 : decode cX12_checkProgram 48 = .ok (.istore_n 3, 1) := by decide +kernel
set_option maxRecDepth 100000 in
theorem dX12_checkProgram_49 : decode cX12_checkProgram 49 = .ok (.iload_n 3, 1) := by decide +kernel
set_option maxRecDepth 100000 in
theorem dX12_checkProgram_50 : decode cX12_checkProgram 50 = .ok (.iconst (-1), 1) := by decide +kernel
set_option maxRecDepth 100000 in
theorem dX12_checkProgram_51 : decode cX12_checkProgram 51 = .ok (.if_icmp .eq 204, 3) := by decide +kernel
set_option maxRecDepth 100000 in
theorem dX12_checkProgram_54 : decode cX12_checkProgram 54 = .ok (.aload_n 0, 1) := by decide +kernel
set_option maxRecDepth 100000 in
theorem dX12_checkProgram_55 : decode cX12_checkProgram 55 = .ok (.getfield 70, 3) := by decide +kernel
set_option maxRecDepth 100000 in
theorem dX12_checkProgram_58 : decode cX12_checkProgram 58 = .ok (.iload_n 3, 1) := by decide +kernel
set_option maxRecDepth 100000 in
theorem dX12_checkProgram_59 : decode cX12_checkProgram 59 = .ok (.iaload, 1) := by decide +kernel
set_option maxRecDepth 100000 in
theorem dX12_checkProgram_60 : decode cX12_checkProgram 60 = .ok (.istore 4, 2) := by decide +kernel
set_option maxRecDepth 100000 in
theorem dX12_checkProgram_62 : decode cX12_checkProgram 62 = .ok (.aload_n 0, 1) := by decide +kernel
set_option maxRecDepth 100000 in
theorem dX12_checkProgram_63 : decode cX12_checkProgram 63 = .ok (.getfield 73, 3) := by decide +kernel
set_option maxRecDepth 100000 in
theorem dX12_checkProgram_66 : decode cX12_checkProgram 66 = .ok (.aload_n 0, 1) := by decide +kernel
set_option maxRecDepth 100000 in
theorem dX12_checkProgram_67 : decode cX12_checkProgram 67 = .ok (.getfield 73, 3) := by decide +kernel
set_option maxRecDepth 100000 in
theorem dX12_checkProgram_70 : decode cX12_checkProgram 70 = .ok (.iload_n 1, 1) := by decide +kernel
set_option maxRecDepth 100000 in
theorem dX12_checkProgram_71 : decode cX12_checkProgram 71 = .ok (.iaload, 1) := by decide +kernel
set_option maxRecDepth 100000 in
theorem dX12_checkProgram_72 : decode cX12_checkProgram 72 = .ok (.iaload, 1) := by decide +kernel
set_option maxRecDepth 100000 in
theorem dX12_checkProgram_73 : decode cX12_checkProgram 73 = .ok (.istore 5, 2) := by decide +kernel
set_option maxRecDepth 100000 in
theorem dX12_checkProgram_75 : decode cX12_checkProgram 75 = .ok (.iload 5, 2) := by decide +kernel
set_option maxRecDepth 100000 in
theorem dX12_checkProgram_77 : decode cX12_checkProgram 77 = .ok (.iload_n 3, 1) := by decide +kernel
set_option maxRecDepth 100000 in
theorem dX12_checkProgram_78 : decode cX12_checkProgram 78 = .ok (.if_icmp .eq 44, 3) := by decide +kernel
set_option maxRecDepth 100000 in
theorem dX12_checkProgram_81 : decode cX12_checkProgram 81 = .ok (.aload_n 0, 1) := by decide +kernel
set_option maxRecDepth 100000 in
theorem dX12_checkProgram_82 : decode cX12_checkProgram 82 = .ok (.getfield 32, 3) := by decide +kernel
set_option maxRecDepth 100000 in
theorem dX12_checkProgram_85 : decode cX12_checkProgram 85 = .ok (.aload_n 0, 1) := by decide +kernel
set_option maxRecDepth 100000 in
theorem dX12_checkProgram_86 : decode cX12_checkProgram 86 = .ok (.getfield 70, 3) := by decide +kernel
set_option maxRecDepth 100000 in
theorem dX12_checkProgram_89 : decode cX12_checkProgram 89 = .ok (.iload 5, 2) := by decide +kernel
set_option maxRecDepth 100000 in
theorem dX12_checkProgram_91 : decode cX12_checkProgram 91 = .ok (.iaload, 1) := by decide +kernel
set_option maxRecDepth 100000 in
theorem dX12_checkProgram_92 : decode cX12_checkProgram 92 = .ok (.iaload, 1) := by decide +kernel
set_option maxRecDepth 100000 in
theorem dX12_checkProgram_93 : decode cX12_checkProgram 93 = .ok (.aload_n 0, 1) := by decide +kernel
set_option maxRecDepth 100000 in
theorem dX12_checkProgram_94 : decode cX12_checkProgram 94 = .ok (.getfield 32, 3) := by decide +kernel
set_option maxRecDepth 100000 in
theorem dX12_checkProgram_97 : decode cX12_checkProgram 97 = .ok (.iload 4, 2) := by decide +kernel
set_option maxRecDepth 100000 in
theorem dX12_checkProgram_99 : decode cX12_checkProgram 99 = .ok (.iaload, 1) := by decide +kernel
set_option maxRecDepth 100000 in
theorem dX12_checkProgram_100 : decode cX12_checkProgram 100 = .ok (.if_icmp .ne 10, 3) := by decide +kernel
set_option maxRecDepth 100000 in
theorem dX12_checkProgram_103 : decode cX12_checkProgram 103 = .ok (.aload_n 0, 1) := by decide +kernel
set_option maxRecDepth 100000 in
theorem dX12_checkProgram_104 : decode cX12_checkProgram 104 = .ok (.iconst 5, 1) := by decide +kernel
set_option maxRecDepth 100000 in
theorem dX12_checkProgram_105 : decode cX12_checkProgram 105 = .ok (.iload 4, 2) := by decide +kernel
set_option maxRecDepth 100000 in
theorem dX12_checkProgram_107 : decode cX12_checkProgram 107 = .ok (.invokevirtual 570, 3) := by decide +kernel
set_option maxRecDepth 100000 in
theorem dX12_checkProgram_110 : decode cX12_checkProgram 110 = .ok (.aload_n 0, 1) := by decide +kernel
set_option maxRecDepth 100000 in
theorem dX12_checkProgram_111 : decode cX12_checkProgram 111 = .ok (.getfield 79, 3) := by decide +kernel
set_option maxRecDepth 100000 in
theorem dX12_checkProgram_114 : decode cX12_checkProgram 114 = .ok (.iload 5, 2) := by decide +kernel
set_option maxRecDepth 100000 in
theorem dX12_checkProgram_116 : decode cX12_checkProgram 116 = .ok (.iaload, 1) := by decide +kernel
set_option maxRecDepth 100000 in
theorem dX12_checkProgram_117 : decode cX12_checkProgram 117 = .ok (.istore 5, 2) := by decide +kernel
set_option maxRecDepth 100000 in
theorem dX12_checkProgram_119 : decode cX12_checkProgram 119 = .ok (.goto (-44), 3) := by decide +kernel
set_option maxRecDepth 100000 in
theorem dX12_checkProgram_122 : decode cX12_checkProgram 122 = .ok (.iinc 2 1, 3) := by decide +kernel
set_option maxRecDepth 100000 in
theorem dX12_checkProgram_125 : decode cX12_checkProgram 125 = .ok (.iload_n 2, 1) := by decide +kernel
set_option maxRecDepth 100000 in
theorem dX12_checkProgram_126 : decode cX12_checkProgram 126 = .ok (.bipush 9, 2) := by decide +kernel
set_option maxRecDepth 100000 in
theorem dX12_checkProgram_128 : decode cX12_checkProgram 128 = .ok (.if_icmp .ne 11, 3) := by decide +kernel
set_option maxRecDepth 100000 in
theorem dX12_checkProgram_131 : decode cX12_checkProgram 131 = .ok (.aload_n 0, 1) := by decide +kernel
set_option maxRecDepth 100000 in
theorem dX12_checkProgram_132 : decode cX12_checkProgram 132 = .ok (.bipush 9, 2) := by decide +kernel
set_option maxRecDepth 100000 in
theorem dX12_checkProgram_134 : decode cX12_checkProgram 134 = .ok (.iload 4, 2) := by decide +kernel
set_option maxRecDepth 100000 in
theorem dX12_checkProgram_136 : decode cX12_checkProgram 136 = .ok (.invokevirtual 570, 3) := by decide +kernel
set_option maxRecDepth 100000 in
theorem dX12_checkProgram_139 : decode cX12_checkProgram 139 = .ok (.aload_n 0, 1) := by decide +kernel
set_option maxRecDepth 100000 in
theorem dX12_checkProgram_140 : decode cX12_checkProgram 140 = .ok (.getfield 32, 3) := by decide +kernel
set_option maxRecDepth 100000 in
theorem dX12_checkProgram_143 : decode cX12_checkProgram 143 = .ok (.iload 4, 2) := by decide +kernel
set_option maxRecDepth 100000 in
theorem dX12_checkProgram_145 : decode cX12_checkProgram 145 = .ok (.iaload, 1) := by decide +kernel
set_option maxRecDepth 100000 in
theorem dX12_checkProgram_146 : decode cX12_checkProgram 146 = .ok (.aload_n 0, 1) := by decide +kernel
set_option maxRecDepth 100000 in
theorem dX12_checkProgram_147 : decode cX12_checkProgram 147 = .ok (.ldc_w 720, 3) := by decide +kernel
set_option maxRecDepth 100000 in
theorem dX12_checkProgram_150 : decode cX12_checkProgram 150 = .ok (.invokevirtual 374, 3) := by decide +kernel
set_option maxRecDepth 100000 in
theorem dX12_checkProgram_153 : decode cX12_checkProgram 153 = .ok (.if_icmp .ne 7, 3) := by decide +kernel
set_option maxRecDepth 100000 in
theorem dX12_checkProgram_156 : decode cX12_checkProgram 156 = .ok (.iconst 1, 1) := by decide +kernel
set_option maxRecDepth 100000 in
theorem dX12_checkProgram_157 : decode cX12_checkProgram 157 = .ok (.goto 4, 3) := by decide +kernel
set_option maxRecDepth 100000 in
theorem dX12_checkProgram_160 : decode cX12_checkProgram 160 = .ok (.iconst 0, 1) := by decide +kernel
set_option maxRecDepth 100000 in
theorem dX12_checkProgram_161 : decode cX12_checkProgram 161 = .ok (.istore 5, 2) := by decide +kernel
set_option maxRecDepth 100000 in
theorem dX12_checkProgram_163 : decode cX12_checkProgram 163 = .ok (.aload_n 0, 1) := by decide +kernel
set_option maxRecDepth 100000 in
theorem dX12_checkProgram_164 : decode cX12_checkProgram 164 = .ok (.getfield 32, 3) := by decide +kernel
set_option maxRecDepth 100000 in
theorem dX12_checkProgram_167 : decode cX12_checkProgram 167 = .ok (.iload 4, 2) := by decide +kernel
set_option maxRecDepth 100000 in
theorem dX12_checkProgram_169 : decode cX12_checkProgram 169 = .ok (.iaload, 1) := by decide +kernel
set_option maxRecDepth 100000 in
theorem dX12_checkProgram_170 : decode cX12_checkProgram 170 = .ok (.aload_n 0, 1) := by decide +kernel
set_option maxRecDepth 100000 in
theorem dX12_checkProgram_171 : decode cX12_checkProgram 171 = .ok (.ldc_w 721, 3) := by decide +kernel
set_option maxRecDepth 100000 in
theorem dX12_checkProgram_174 : decode cX12_checkProgram 174 = .ok (.invokevirtual 374, 3) := by decide +kernel
set_option maxRecDepth 100000 in
theorem dX12_checkProgram_177 : decode cX12_checkProgram 177 = .ok (.if_icmp .ne 7, 3) := by decide +kernel
set_option maxRecDepth 100000 in
theorem dX12_checkProgram_180 : decode cX12_checkProgram 180 = .ok (.iconst 1, 1) := by decide +kernel
set_option maxRecDepth 100000 in
theorem dX12_checkProgram_181 : decode cX12_checkProgram 181 = .ok (.goto 4, 3) := by decide +kernel
set_option maxRecDepth 100000 in
theorem dX12_checkProgram_184 : decode cX12_checkProgram 184 = .ok (.iconst 0, 1) := by decide +kernel
set_option maxRecDepth 100000 in
theorem dX12_checkProgram_185 : decode cX12_checkProgram 185 = .ok (.istore 6, 2) := by decide +kernel
set_option maxRecDepth 100000 in
theorem dX12_checkProgram_187 : decode cX12_checkProgram 187 = .ok (.iload 5, 2) := by decide +kernel
set_option maxRecDepth 100000 in
theorem dX12_checkProgram_189 : decode cX12_checkProgram 189 = .ok (.ifCond .ne 8, 3) := by decide +kernel
set_option maxRecDepth 100000 in
theorem dX12_checkProgram_192 : decode cX12_checkProgram 192 = .ok (.iload 6, 2) := by decide +kernel
set_option maxRecDepth 100000 in
theorem dX12_checkProgram_194 : decode cX12_checkProgram 194 = .ok (.ifCond .eq 16, 3) := by decide +kernel
set_option maxRecDepth 100000 in
theorem dX12_checkProgram_197 : decode cX12_checkProgram 197 = .ok (.aload_n 0, 1) := by decide +kernel
set_option maxRecDepth 100000 in
theorem dX12_checkProgram_198 : decode cX12_checkProgram 198 = .ok (.iload 4, 2) := by decide +kernel
set_option maxRecDepth 100000 in
theorem dX12_checkProgram_200 : decode cX12_checkProgram 200 = .ok (.aload_n 0, 1) := by decide +kernel
set_option maxRecDepth 100000 in
theorem dX12_checkProgram_201 : decode cX12_checkProgram 201 = .ok (.getfield 122, 3) := by decide +kernel
set_option maxRecDepth 100000 in
theorem dX12_checkProgram_204 : decode cX12_checkProgram 204 = .ok (.invokevirtual 723, 3) := by decide +kernel
set_option maxRecDepth 100000 in
theorem dX12_checkProgram_207 : decode cX12_checkProgram 207 = .ok (.goto 4, 3) := by decide +kernel
set_option maxRecDepth 100000 in
theorem dX12_checkProgram_210 : decode cX12_checkProgram 210 = .ok (.aconst_null, 1) := by decide +kernel
set_option maxRecDepth 100000 in
theorem dX12_checkProgram_211 : decode cX12_checkProgram 211 = .ok (.astore 7, 2) := by decide +kernel
set_option maxRecDepth 100000 in
theorem dX12_checkProgram_213 : decode cX12_checkProgram 213 = .ok (.iload 5, 2) := by decide +kernel
set_option maxRecDepth 100000 in
theorem dX12_checkProgram_215 : decode cX12_checkProgram 215 = .ok (.ifCond .eq 9, 3) := by decide +kernel
set_option maxRecDepth 100000 in
theorem dX12_checkProgram_218 : decode cX12_checkProgram 218 = .ok (.aload_n 0, 1) := by decide +kernel
set_option maxRecDepth 100000 in
theorem dX12_checkProgram_219 : decode cX12_checkProgram 219 = .ok (.aload 7, 2) := by decide +kernel
set_option maxRecDepth 100000 in
theorem dX12_checkProgram_221 : decode cX12_checkProgram 221 = .ok (.putfield 727, 3) := by decide +kernel
set_option maxRecDepth 100000 in
theorem dX12_checkProgram_224 : decode cX12_checkProgram 224 = .ok (.iload 6, 2) := by decide +kernel
set_option maxRecDepth 100000 in
theorem dX12_checkProgram_226 : decode cX12_checkProgram 226 = .ok (.ifCond .eq 9, 3) := by decide +kernel
set_option maxRecDepth 100000 in
theorem dX12_checkProgram_229 : decode cX12_checkProgram 229 = .ok (.aload_n 0, 1) := by decide +kernel
set_option maxRecDepth 100000 in
theorem dX12_checkProgram_230 : decode cX12_checkProgram 230 = .ok (.aload 7, 2) := by decide +kernel
set_option maxRecDepth 100000 in
theorem dX12_checkProgram_232 : decode cX12_checkProgram 232 = .ok (.putfield 731, 3) := by decide +kernel
set_option maxRecDepth 100000 in
theorem dX12_checkProgram_235 : decode cX12_checkProgram 235 = .ok (.aload_n 0, 1) := by decide +kernel
set_option maxRecDepth 100000 in
theorem dX12_checkProgram_236 : decode cX12_checkProgram 236 = .ok (.getfield 147, 3) := by decide +kernel
set_option maxRecDepth 100000 in
theorem dX12_checkProgram_239 : decode cX12_checkProgram 239 = .ok (.aload 7, 2) := by decide +kernel
set_option maxRecDepth 100000 in
theorem dX12_checkProgram_241 : decode cX12_checkProgram 241 = .ok (.invokevirtual 579, 3) := by decide +kernel
set_option maxRecDepth 100000 in
theorem dX12_checkProgram_244 : decode cX12_checkProgram 244 = .ok (.pop, 1) := by decide +kernel
set_option maxRecDepth 100000 in
theorem dX12_checkProgram_245 : decode cX12_checkProgram 245 = .ok (.aload_n 0, 1) := by decide +kernel
set_option maxRecDepth 100000 in
theorem dX12_checkProgram_246 : decode cX12_checkProgram 246 = .ok (.getfield 79, 3) := by decide +kernel
set_option maxRecDepth 100000 in
theorem dX12_checkProgram_249 : decode cX12_checkProgram 249 = .ok (.iload_n 3, 1) := by decide +kernel
set_option maxRecDepth 100000 in
theorem dX12_checkProgram_250 : decode cX12_checkProgram 250 = .ok (.iaload, 1) := by decide +kernel
set_option maxRecDepth 100000 in
theorem dX12_checkProgram_251 : decode cX12_checkProgram 251 = .ok (.istore_n 3, 1) := by decide +kernel
set_option maxRecDepth 100000 in
theorem dX12_checkProgram_252 : decode cX12_checkProgram 252 = .ok (.goto (-203), 3) := by decide +kernel
set_option maxRecDepth 100000 in
theorem dX12_checkProgram_255 : decode cX12_checkProgram 255 = .ok (.aload_n 0, 1) := by decide +kernel
set_option maxRecDepth 100000 in
theorem dX12_checkProgram_256 : decode cX12_checkProgram 256 = .ok (.aload_n 0, 1) := by decide +kernel
set_option maxRecDepth 100000 in
theorem dX12_checkProgram_257 : decode cX12_checkProgram 257 = .ok (.iload_n 1, 1) := by decide +kernel
set_option maxRecDepth 100000 in
theorem dX12_checkProgram_258 : decode cX12_checkProgram 258 = .ok (.iconst 1, 1) := by decide +kernel
set_option maxRecDepth 100000 in
theorem dX12_checkProgram_259 : decode cX12_checkProgram 259 = .ok (.invokevirtual 734, 3) := by decide +kernel
set_option maxRecDepth 100000 in
theorem dX12_checkProgram_262 : decode cX12_checkProgram 262 = .ok (.putfield 737, 3) := by decide +kernel
set_option maxRecDepth 100000 in
theorem dX12_checkProgram_265 : decode cX12_checkProgram 265 = .ok (.aload_n 0, 1) := by decide +kernel
set_option maxRecDepth 100000 in
theorem dX12_checkProgram_266 : decode cX12_checkProgram 266 = .ok (.aload_n 0, 1) := by decide +kernel
set_option maxRecDepth 100000 in
theorem dX12_checkProgram_267 : decode cX12_checkProgram 267 = .ok (.getfield 737, 3) := by decide +kernel
set_option maxRecDepth 100000 in
theorem dX12_checkProgram_270 : decode cX12_checkProgram 270 = .ok (.aload_n 0, 1) := by decide +kernel
set_option maxRecDepth 100000 in
theorem dX12_checkProgram_271 : decode cX12_checkProgram 271 = .ok (.getfield 73, 3) := by decide +kernel
set_option maxRecDepth 100000 in
theorem dX12_checkProgram_274 : decode cX12_checkProgram 274 = .ok (.iload_n 1, 1) := by decide +kernel
set_option maxRecDepth 100000 in
theorem dX12_checkProgram_275 : decode cX12_checkProgram 275 = .ok (.iaload, 1) := by decide +kernel
set_option maxRecDepth 100000 in
theorem dX12_checkProgram_276 : decode cX12_checkProgram 276 = .ok (.invokevirtual 740, 3) := by decide +kernel
set_option maxRecDepth 100000 in
theorem dX12_checkProgram_279 : decode cX12_checkProgram 279 = .ok (.aload_n 0, 1) := by decide +kernel
set_option maxRecDepth 100000 in
theorem dX12_checkProgram_280 : decode cX12_checkProgram 280 = .ok (.aload_n 0, 1) := by decide +kernel
set_option maxRecDepth 100000 in
theorem dX12_checkProgram_281 : decode cX12_checkProgram 281 = .ok (.invokevirtual 707, 3) := by decide +kernel
set_option maxRecDepth 100000 in
theorem dX12_checkProgram_284 : decode cX12_checkProgram 284 = .ok (.getfield 711, 3) := by decide +kernel
set_option maxRecDepth 100000 in
theorem dX12_checkProgram_287 : decode cX12_checkProgram 287 = .ok (.putfield 743, 3) := by decide +kernel
set_option maxRecDepth 100000 in
theorem dX12_checkProgram_290 : decode cX12_checkProgram 290 = .ok (.aload_n 0, 1) := by decide +kernel
set_option maxRecDepth 100000 in
theorem dX12_checkProgram_291 : decode cX12_checkProgram 291 = .ok (.invokevirtual 746, 3) := by decide +kernel
set_option maxRecDepth 100000 in
theorem dX12_checkProgram_294 : decode cX12_checkProgram 294 = .ok (.pop, 1) := by decide +kernel
set_option maxRecDepth 100000 in
theorem dX12_checkProgram_295 : decode cX12_checkProgram 295 = .ok (.aload_n 0, 1) := by decide +kernel
set_option maxRecDepth 100000 in
theorem dX12_checkProgram_296 : decode cX12_checkProgram 296 = .ok (.getfield 141, 3) := by decide +kernel
set_option maxRecDepth 100000 in
theorem dX12_checkProgram_299 : decode cX12_checkProgram 299 = .ok (.aload_n 0, 1) := by decide +kernel
set_option maxRecDepth 100000 in
theorem dX12_checkProgram_300 : decode cX12_checkProgram 300 = .ok (.getfield 141, 3) := by decide +kernel
set_option maxRecDepth 100000 in
theorem dX12_checkProgram_303 : decode cX12_checkProgram 303 = .ok (.invokevirtual 554, 3) := by decide +kernel
set_option maxRecDepth 100000 in
theorem dX12_checkProgram_306 : decode cX12_checkProgram 306 = .ok (.iconst 1, 1) := by decide +kernel
set_option maxRecDepth 100000 in
theorem dX12_checkProgram_307 : decode cX12_checkProgram 307 = .ok (.isub, 1) := by decide +kernel
set_option maxRecDepth 100000 in
theorem dX12_checkProgram_308 : decode cX12_checkProgram 308 = .ok (.invokevirtual 582, 3) := by decide +kernel
set_option maxRecDepth 100000 in
theorem dX12_checkProgram_311 : decode cX12_checkProgram 311 = .ok (.pop, 1) := by decide +kernel
set_option maxRecDepth 100000 in
theorem dX12_checkProgram_312 : decode cX12_checkProgram 312 = .ok (.return_, 1) := by decide +kernel
def lX12_checkProgram_49 (G : xG) (fr lo : Nat) (x0 : Nat) (x1 : Int32) (x2 : Int32) (x3 : Int32) (h : xH) (Q : Outcome → xH → Prop) : Prop := xP G YX12_checkProgram fr lo 49 [(0, rv x0), (1, .int x1), (2, .int x2), (3, .int x3)] [] h Q
def lX12_checkProgram_75 (G : xG) (fr lo : Nat) (x0 : Nat) (x1 : Int32) (x2 : Int32) (x3 : Int32) (x4 : Int32) (x5 : Int32) (h : xH) (Q : Outcome → xH → Prop) : Prop := xP G YX12_checkProgram fr lo 75 [(0, rv x0), (1, .int x1), (2, .int x2), (3, .int x3), (4, .int x4), (5, .int x5)] [] h Q
set_option maxRecDepth 100000 in
def bX12_checkProgram_235 (G : xG) (fr lo : Nat) (x0 : Nat) (x1 : Int32) (x2 : Int32) (x3 : Int32) (x7 : Nat) (h : xH) (Q : Outcome → xH → Prop) : Prop := tg h x0 = 13 ∧ tg h (fR h x0 3128) = 29 ∧ 1 ≤ fr ∧ 13 ≤ lo ∧ xRi G YJ2_add (fr - 1) (lo - 13) [rv (fR h x0 3128), rv x7] h (fun x6 h5 => xext h h5 → tg h5 (fR h5 x0 3105) = 100 ∧ vp_in x3 (ln h5 (fR h5 x0 3105)) ∧ lX12_checkProgram_49 G fr lo x0 x1 x2 (aI h5 (fR h5 x0 3105) (Int32.toNatClampNeg x3)) h5 Q) (fun r h2 => Q (.threw r) h2)
set_option maxRecDepth 100000 in
theorem uX12_checkProgram_235 {G : xG} {fr lo : Nat} {x0 : Nat} {x1 : Int32} {x2 : Int32} {x3 : Int32} {x7 : Nat} {h : xH} {Q : Outcome → xH → Prop} (hq : bX12_checkProgram_235 G fr lo x0 x1 x2 x3 x7 h Q) : xP G YX12_checkProgram fr lo 235 [(0, rv x0), (1, .int x1), (2, .int x2), (3, .int x3), (7, rv x7)] [] h Q := by
  unfold bX12_checkProgram_235 at hq
  refine x_aload_n 0 dX12_checkProgram_235 rfl ?_
  obtain ⟨g1, hq⟩ := hq
  refine x_get (v := rv (fR h x0 3128)) fdX12_147 dX12_checkProgram_236 g1 rfl ?_
  refine x_aload 4 dX12_checkProgram_239 rfl ?_
  obtain ⟨g2, hq⟩ := hq
  obtain ⟨g3, g4, hq⟩ := hq
  refine x_callV (Yc := YJ2_add) (as := [rv x7]) (st := []) q4030 mvJ2_add g2 rfl dX12_checkProgram_241 (xle (xal1 (rv_cat _) (xal1 (rv_cat _) xal0)) (by decide)) (xfr g3) (xlo xsw0 (by decide) g4) (xKi hq (fun x6 h5 hq e7 => ?_) (fun _ _ q _ => q))
  replace hq := hq e7
  refine x_pop dX12_checkProgram_244 rfl ?_
  refine x_aload_n 0 dX12_checkProgram_245 rfl ?_
  have t8 : tg h5 x0 = 13 := e7.tg g1 (by decide)
  refine x_get (v := rv (fR h5 x0 3105)) fdX12_79 dX12_checkProgram_246 t8 rfl ?_
  refine x_iload_n 3 dX12_checkProgram_249 rfl ?_
  obtain ⟨g9, hq⟩ := hq
  obtain ⟨i10, hq⟩ := hq
  refine x_iald 0 (Or.inl rfl) g9 i10 dX12_checkProgram_250 ?_
  refine x_istore_n (lv' := [(3, .int (aI h5 (fR h5 x0 3105) (Int32.toNatClampNeg x3))), (0, rv x0), (1, .int x1), (2, .int x2), (7, rv x7)]) dX12_checkProgram_251 (by decide) rfl ?_
  refine x_goto (tgt := 49) dX12_checkProgram_252 (by decide) ?_
  refine xP.pick (lv' := [(0, rv x0), (1, .int x1), (2, .int x2), (3, .int (aI h5 (fR h5 x0 3105) (Int32.toNatClampNeg x3)))]) [1, 2, 3, 0] rfl ?_
  exact hq
set_option maxRecDepth 100000 in
def bX12_checkProgram_224 (G : xG) (fr lo : Nat) (x0 : Nat) (x1 : Int32) (x2 : Int32) (x3 : Int32) (x6 : Int32) (x7 : Nat) (h : xH) (Q : Outcome → xH → Prop) : Prop := ((x6 = 0 → bX12_checkProgram_235 G fr lo x0 x1 x2 x3 x7 h Q) ∧ (¬ x6 = 0 → tg h x0 = 13 ∧ (∀ h3 : xH, h3 = sR h x0 3130 x7 → bX12_checkProgram_235 G fr lo x0 x1 x2 x3 x7 h3 Q)))
set_option maxRecDepth 100000 in
theorem uX12_checkProgram_224 {G : xG} {fr lo : Nat} {x0 : Nat} {x1 : Int32} {x2 : Int32} {x3 : Int32} {x6 : Int32} {x7 : Nat} {h : xH} {Q : Outcome → xH → Prop} (hq : bX12_checkProgram_224 G fr lo x0 x1 x2 x3 x6 x7 h Q) : xP G YX12_checkProgram fr lo 224 [(0, rv x0), (1, .int x1), (2, .int x2), (3, .int x3), (6, .int x6), (7, rv x7)] [] h Q := by
  unfold bX12_checkProgram_224 at hq
  refine x_iload 4 dX12_checkProgram_224 rfl ?_
  refine x_if_eq (tgt := 235) dX12_checkProgram_226 (by decide) (fun c1 => ?_) (fun c1 => ?_)
  · replace hq := hq.1 c1
    refine xP.pick (lv' := [(0, rv x0), (1, .int x1), (2, .int x2), (3, .int x3), (7, rv x7)]) [0, 1, 2, 3, 5] rfl ?_
    exact uX12_checkProgram_235 hq
  · replace hq := hq.2 c1
    refine x_aload_n 0 dX12_checkProgram_229 rfl ?_
    refine x_aload 5 dX12_checkProgram_230 rfl ?_
    obtain ⟨g2, hq⟩ := hq
    obtain ⟨h3, e4⟩ : ∃ y, y = sR h x0 3130 x7 := ⟨_, rfl⟩
    replace hq := hq h3 e4
    refine x_putR fdX12_731 xty_O dX12_checkProgram_232 g2 (Or.inl (by rw [g2]; rfl)) rfl e4 ?_
    refine xP.pick (lv' := [(0, rv x0), (1, .int x1), (2, .int x2), (3, .int x3), (7, rv x7)]) [0, 1, 2, 3, 5] rfl ?_
    exact uX12_checkProgram_235 hq
set_option maxRecDepth 100000 in
def bX12_checkProgram_211 (G : xG) (fr lo : Nat) (x0 : Nat) (x1 : Int32) (x2 : Int32) (x3 : Int32) (x5 : Int32) (x6 : Int32) (s0 : Nat) (h : xH) (Q : Outcome → xH → Prop) : Prop := ((x5 = 0 → bX12_checkProgram_224 G fr lo x0 x1 x2 x3 x6 s0 h Q) ∧ (¬ x5 = 0 → tg h x0 = 13 ∧ (∀ h3 : xH, h3 = sR h x0 3129 s0 → bX12_checkProgram_224 G fr lo x0 x1 x2 x3 x6 s0 h3 Q)))
set_option maxRecDepth 100000 in
theorem uX12_checkProgram_211 {G : xG} {fr lo : Nat} {x0 : Nat} {x1 : Int32} {x2 : Int32} {x3 : Int32} {x5 : Int32} {x6 : Int32} {s0 : Nat} {h : xH} {Q : Outcome → xH → Prop} (hq : bX12_checkProgram_211 G fr lo x0 x1 x2 x3 x5 x6 s0 h Q) : xP G YX12_checkProgram fr lo 211 [(0, rv x0), (1, .int x1), (2, .int x2), (3, .int x3), (5, .int x5), (6, .int x6)] [rv s0] h Q := by
  unfold bX12_checkProgram_211 at hq
  refine x_astore (lv' := [(7, rv s0), (0, rv x0), (1, .int x1), (2, .int x2), (3, .int x3), (5, .int x5), (6, .int x6)]) dX12_checkProgram_211 (by decide) rfl ?_
  refine x_iload 5 dX12_checkProgram_213 rfl ?_
  refine x_if_eq (tgt := 224) dX12_checkProgram_215 (by decide) (fun c1 => ?_) (fun c1 => ?_)
  · replace hq := hq.1 c1
    refine xP.pick (lv' := [(0, rv x0), (1, .int x1), (2, .int x2), (3, .int x3), (6, .int x6), (7, rv s0)]) [1, 2, 3, 4, 6, 0] rfl ?_
    exact uX12_checkProgram_224 hq
  · replace hq := hq.2 c1
    refine x_aload_n 1 dX12_checkProgram_218 rfl ?_
    refine x_aload 0 dX12_checkProgram_219 rfl ?_
    obtain ⟨g2, hq⟩ := hq
    obtain ⟨h3, e4⟩ : ∃ y, y = sR h x0 3129 s0 := ⟨_, rfl⟩
    replace hq := hq h3 e4
    refine x_putR fdX12_727 xty_O dX12_checkProgram_221 g2 (Or.inl (by rw [g2]; rfl)) rfl e4 ?_
    refine xP.pick (lv' := [(0, rv x0), (1, .int x1), (2, .int x2), (3, .int x3), (6, .int x6), (7, rv s0)]) [1, 2, 3, 4, 6, 0] rfl ?_
    exact uX12_checkProgram_224 hq
set_option maxRecDepth 100000 in
def bX12_checkProgram_197 (G : xG) (fr lo : Nat) (x0 : Nat) (x1 : Int32) (x2 : Int32) (x3 : Int32) (x4 : Int32) (x5 : Int32) (x6 : Int32) (h : xH) (Q : Outcome → xH → Prop) : Prop := tg h x0 = 13 ∧ 1 ≤ fr ∧ 15 ≤ lo ∧ xRr G YX12_variable (fr - 1) (lo - 15) [rv x0, .int x4, rv (fR h x0 3119)] h (fun x5 h4 => xext h h4 → bX12_checkProgram_211 G fr lo x0 x1 x2 x3 x5 x6 x5 h4 Q) (fun r h2 => Q (.threw r) h2)
set_option maxRecDepth 100000 in
theorem uX12_checkProgram_197 {G : xG} {fr lo : Nat} {x0 : Nat} {x1 : Int32} {x2 : Int32} {x3 : Int32} {x4 : Int32} {x5 : Int32} {x6 : Int32} {h : xH} {Q : Outcome → xH → Prop} (hq : bX12_checkProgram_197 G fr lo x0 x1 x2 x3 x4 x5 x6 h Q) : xP G YX12_checkProgram fr lo 197 [(0, rv x0), (1, .int x1), (2, .int x2), (3, .int x3), (4, .int x4), (5, .int x5), (6, .int x6)] [] h Q := by
  unfold bX12_checkProgram_197 at hq
  refine x_aload_n 0 dX12_checkProgram_197 rfl ?_
  refine x_iload 4 dX12_checkProgram_198 rfl ?_
  refine x_aload_n 0 dX12_checkProgram_200 rfl ?_
  obtain ⟨g1, hq⟩ := hq
  refine x_get (v := rv (fR h x0 3119)) fdX12_122 dX12_checkProgram_201 g1 rfl ?_
  obtain ⟨g2, g3, hq⟩ := hq
  refine x_callV (Yc := YX12_variable) (as := [.int x4, rv (fR h x0 3119)]) (st := []) q4101 mvX12_variable g1 rfl dX12_checkProgram_204 (xle (xal1 (rv_cat _) (xal1 rfl (xal1 (rv_cat _) xal0))) (by decide)) (xfr g2) (xlo xsw0 (by decide) g3) (xKr hq (fun x5 h4 hq e6 => ?_) (fun _ _ q _ => q))
  replace hq := hq e6
  refine x_goto (tgt := 211) dX12_checkProgram_207 (by decide) ?_
  refine xP.pick (lv' := [(0, rv x0), (1, .int x1), (2, .int x2), (3, .int x3), (5, .int x5), (6, .int x6)]) [0, 1, 2, 3, 5, 6] rfl ?_
  exact uX12_checkProgram_211 hq
set_option maxRecDepth 100000 in
def bX12_checkProgram_185 (G : xG) (fr lo : Nat) (x0 : Nat) (x1 : Int32) (x2 : Int32) (x3 : Int32) (x4 : Int32) (x5 : Int32) (s0 : Int32) (h : xH) (Q : Outcome → xH → Prop) : Prop := ((¬ x5 = 0 → bX12_checkProgram_197 G fr lo x0 x1 x2 x3 x4 x5 s0 h Q) ∧ (x5 = 0 → ((s0 = 0 → bX12_checkProgram_211 G fr lo x0 x1 x2 x3 x5 s0 0 h Q) ∧ (¬ s0 = 0 → bX12_checkProgram_197 G fr lo x0 x1 x2 x3 x4 x5 s0 h Q))))
set_option maxRecDepth 100000 in
theorem uX12_checkProgram_185 {G : xG} {fr lo : Nat} {x0 : Nat} {x1 : Int32} {x2 : Int32} {x3 : Int32} {x4 : Int32} {x5 : Int32} {s0 : Int32} {h : xH} {Q : Outcome → xH → Prop} (hq : bX12_checkProgram_185 G fr lo x0 x1 x2 x3 x4 x5 s0 h Q) : xP G YX12_checkProgram fr lo 185 [(0, rv x0), (1, .int x1), (2, .int x2), (3, .int x3), (4, .int x4), (5, .int x5)] [.int s0] h Q := by
  unfold bX12_checkProgram_185 at hq
  refine x_istore (lv' := [(6, .int s0), (0, rv x0), (1, .int x1), (2, .int x2), (3, .int x3), (4, .int x4), (5, .int x5)]) dX12_checkProgram_185 (by decide) rfl ?_
  refine x_iload 6 dX12_checkProgram_187 rfl ?_
  refine x_if_ne (tgt := 197) dX12_checkProgram_189 (by decide) (fun c1 => ?_) (fun c1 => ?_)
  · replace hq := hq.1 c1
    refine xP.pick (lv' := [(0, rv x0), (1, .int x1), (2, .int x2), (3, .int x3), (4, .int x4), (5, .int x5), (6, .int s0)]) [1, 2, 3, 4, 5, 6, 0] rfl ?_
    exact uX12_checkProgram_197 hq
  · replace hq := hq.2 c1
    refine x_iload 0 dX12_checkProgram_192 rfl ?_
    refine x_if_eq (tgt := 210) dX12_checkProgram_194 (by decide) (fun c2 => ?_) (fun c2 => ?_)
    · replace hq := hq.1 c2
      refine x_null dX12_checkProgram_210 ?_
      refine xP.pick (lv' := [(0, rv x0), (1, .int x1), (2, .int x2), (3, .int x3), (5, .int x5), (6, .int s0)]) [1, 2, 3, 4, 6, 0] rfl ?_
      exact uX12_checkProgram_211 hq
    · replace hq := hq.2 c2
      refine xP.pick (lv' := [(0, rv x0), (1, .int x1), (2, .int x2), (3, .int x3), (4, .int x4), (5, .int x5), (6, .int s0)]) [1, 2, 3, 4, 5, 6, 0] rfl ?_
      exact uX12_checkProgram_197 hq
set_option maxRecDepth 100000 in
def bX12_checkProgram_161 (G : xG) (fr lo : Nat) (x0 : Nat) (x1 : Int32) (x2 : Int32) (x3 : Int32) (x4 : Int32) (s0 : Int32) (h : xH) (Q : Outcome → xH → Prop) : Prop := tg h x0 = 13 ∧ tg h (fR h x0 3084) = 100 ∧ vp_in x4 (ln h (fR h x0 3084)) ∧ 1 ≤ fr ∧ 15 ≤ lo ∧ xRi G YX12_nameOf (fr - 1) (lo - 15) [rv x0, rv (tx G 69)] h (fun x7 h6 => xext h h6 → ((¬ (aI h (fR h x0 3084) (Int32.toNatClampNeg x4)) = x7 → bX12_checkProgram_185 G fr lo x0 x1 x2 x3 x4 s0 0 h6 Q) ∧ ((aI h (fR h x0 3084) (Int32.toNatClampNeg x4)) = x7 → bX12_checkProgram_185 G fr lo x0 x1 x2 x3 x4 s0 1 h6 Q))) (fun r h2 => Q (.threw r) h2)
set_option maxRecDepth 100000 in
theorem uX12_checkProgram_161 {G : xG} {fr lo : Nat} {x0 : Nat} {x1 : Int32} {x2 : Int32} {x3 : Int32} {x4 : Int32} {s0 : Int32} {h : xH} {Q : Outcome → xH → Prop} (hq : bX12_checkProgram_161 G fr lo x0 x1 x2 x3 x4 s0 h Q) : xP G YX12_checkProgram fr lo 161 [(0, rv x0), (1, .int x1), (2, .int x2), (3, .int x3), (4, .int x4)] [.int s0] h Q := by
  unfold bX12_checkProgram_161 at hq
  refine x_istore (lv' := [(5, .int s0), (0, rv x0), (1, .int x1), (2, .int x2), (3, .int x3), (4, .int x4)]) dX12_checkProgram_161 (by decide) rfl ?_
  refine x_aload_n 1 dX12_checkProgram_163 rfl ?_
  obtain ⟨g1, hq⟩ := hq
  refine x_get (v := rv (fR h x0 3084)) fdX12_32 dX12_checkProgram_164 g1 rfl ?_
  refine x_iload 5 dX12_checkProgram_167 rfl ?_
  obtain ⟨g2, hq⟩ := hq
  obtain ⟨i3, hq⟩ := hq
  refine x_iald 0 (Or.inl rfl) g2 i3 dX12_checkProgram_169 ?_
  refine x_aload_n 1 dX12_checkProgram_170 rfl ?_
  refine x_ldcwS (n := 69) 208 srX12_721 dX12_checkProgram_171 ?_
  obtain ⟨g4, g5, hq⟩ := hq
  refine x_callV (Yc := YX12_nameOf) (as := [rv (tx G 69)]) (st := [.int (aI h (fR h x0 3084) (Int32.toNatClampNeg x4))]) q3706 mvX12_nameOf g1 rfl dX12_checkProgram_174 (xle (xal1 (rv_cat _) (xal1 (rv_cat _) xal0)) (by decide)) (xfr g4) (xlo (xsw1 rfl xsw0) (by decide) g5) (xKi hq (fun x7 h6 hq e8 => ?_) (fun _ _ q _ => q))
  replace hq := hq e8
  refine x_icmp_ne (tgt := 184) dX12_checkProgram_177 (by decide) (fun c9 => ?_) (fun c9 => ?_)
  · replace hq := hq.1 c9
    refine x_iconst (v := 0) dX12_checkProgram_184 (by decide) ?_
    refine xP.pick (lv' := [(0, rv x0), (1, .int x1), (2, .int x2), (3, .int x3), (4, .int x4), (5, .int s0)]) [1, 2, 3, 4, 5, 0] rfl ?_
    exact uX12_checkProgram_185 hq
  · replace hq := hq.2 c9
    refine x_iconst (v := 1) dX12_checkProgram_180 (by decide) ?_
    refine x_goto (tgt := 185) dX12_checkProgram_181 (by decide) ?_
    refine xP.pick (lv' := [(0, rv x0), (1, .int x1), (2, .int x2), (3, .int x3), (4, .int x4), (5, .int s0)]) [1, 2, 3, 4, 5, 0] rfl ?_
    exact uX12_checkProgram_185 hq
set_option maxRecDepth 100000 in
def bX12_checkProgram_139 (G : xG) (fr lo : Nat) (x0 : Nat) (x1 : Int32) (x2 : Int32) (x3 : Int32) (x4 : Int32) (h : xH) (Q : Outcome → xH → Prop) : Prop := tg h x0 = 13 ∧ tg h (fR h x0 3084) = 100 ∧ vp_in x4 (ln h (fR h x0 3084)) ∧ 1 ≤ fr ∧ 15 ≤ lo ∧ xRi G YX12_nameOf (fr - 1) (lo - 15) [rv x0, rv (tx G 68)] h (fun x7 h6 => xext h h6 → ((¬ (aI h (fR h x0 3084) (Int32.toNatClampNeg x4)) = x7 → bX12_checkProgram_161 G fr lo x0 x1 x2 x3 x4 0 h6 Q) ∧ ((aI h (fR h x0 3084) (Int32.toNatClampNeg x4)) = x7 → bX12_checkProgram_161 G fr lo x0 x1 x2 x3 x4 1 h6 Q))) (fun r h2 => Q (.threw r) h2)
set_option maxRecDepth 100000 in
theorem uX12_checkProgram_139 {G : xG} {fr lo : Nat} {x0 : Nat} {x1 : Int32} {x2 : Int32} {x3 : Int32} {x4 : Int32} {h : xH} {Q : Outcome → xH → Prop} (hq : bX12_checkProgram_139 G fr lo x0 x1 x2 x3 x4 h Q) : xP G YX12_checkProgram fr lo 139 [(0, rv x0), (1, .int x1), (2, .int x2), (3, .int x3), (4, .int x4)] [] h Q := by
  unfold bX12_checkProgram_139 at hq
  refine x_aload_n 0 dX12_checkProgram_139 rfl ?_
  obtain ⟨g1, hq⟩ := hq
  refine x_get (v := rv (fR h x0 3084)) fdX12_32 dX12_checkProgram_140 g1 rfl ?_
  refine x_iload 4 dX12_checkProgram_143 rfl ?_
  obtain ⟨g2, hq⟩ := hq
  obtain ⟨i3, hq⟩ := hq
  refine x_iald 0 (Or.inl rfl) g2 i3 dX12_checkProgram_145 ?_
  refine x_aload_n 0 dX12_checkProgram_146 rfl ?_
  refine x_ldcwS (n := 68) 207 srX12_720 dX12_checkProgram_147 ?_
  obtain ⟨g4, g5, hq⟩ := hq
  refine x_callV (Yc := YX12_nameOf) (as := [rv (tx G 68)]) (st := [.int (aI h (fR h x0 3084) (Int32.toNatClampNeg x4))]) q3706 mvX12_nameOf g1 rfl dX12_checkProgram_150 (xle (xal1 (rv_cat _) (xal1 (rv_cat _) xal0)) (by decide)) (xfr g4) (xlo (xsw1 rfl xsw0) (by decide) g5) (xKi hq (fun x7 h6 hq e8 => ?_) (fun _ _ q _ => q))
  replace hq := hq e8
  refine x_icmp_ne (tgt := 160) dX12_checkProgram_153 (by decide) (fun c9 => ?_) (fun c9 => ?_)
  · replace hq := hq.1 c9
    refine x_iconst (v := 0) dX12_checkProgram_160 (by decide) ?_
    exact uX12_checkProgram_161 hq
  · replace hq := hq.2 c9
    refine x_iconst (v := 1) dX12_checkProgram_156 (by decide) ?_
    refine x_goto (tgt := 161) dX12_checkProgram_157 (by decide) ?_
    exact uX12_checkProgram_161 hq
set_option maxRecDepth 100000 in
def bX12_checkProgram_110 (G : xG) (fr lo : Nat) (x0 : Nat) (x1 : Int32) (x2 : Int32) (x3 : Int32) (x4 : Int32) (x5 : Int32) (h : xH) (Q : Outcome → xH → Prop) : Prop := tg h x0 = 13 ∧ tg h (fR h x0 3105) = 100 ∧ vp_in x5 (ln h (fR h x0 3105)) ∧ lX12_checkProgram_75 G fr lo x0 x1 x2 x3 x4 (aI h (fR h x0 3105) (Int32.toNatClampNeg x5)) h Q
set_option maxRecDepth 100000 in
theorem uX12_checkProgram_110 {G : xG} {fr lo : Nat} {x0 : Nat} {x1 : Int32} {x2 : Int32} {x3 : Int32} {x4 : Int32} {x5 : Int32} {h : xH} {Q : Outcome → xH → Prop} (hq : bX12_checkProgram_110 G fr lo x0 x1 x2 x3 x4 x5 h Q) : xP G YX12_checkProgram fr lo 110 [(0, rv x0), (1, .int x1), (2, .int x2), (3, .int x3), (4, .int x4), (5, .int x5)] [] h Q := by
  unfold bX12_checkProgram_110 at hq
  refine x_aload_n 0 dX12_checkProgram_110 rfl ?_
  obtain ⟨g1, hq⟩ := hq
  refine x_get (v := rv (fR h x0 3105)) fdX12_79 dX12_checkProgram_111 g1 rfl ?_
  refine x_iload 5 dX12_checkProgram_114 rfl ?_
  obtain ⟨g2, hq⟩ := hq
  obtain ⟨i3, hq⟩ := hq
  refine x_iald 0 (Or.inl rfl) g2 i3 dX12_checkProgram_116 ?_
  refine x_istore (lv' := [(5, .int (aI h (fR h x0 3105) (Int32.toNatClampNeg x5))), (0, rv x0), (1, .int x1), (2, .int x2), (3, .int x3), (4, .int x4)]) dX12_checkProgram_117 (by decide) rfl ?_
  refine x_goto (tgt := 75) dX12_checkProgram_119 (by decide) ?_
  refine xP.pick (lv' := [(0, rv x0), (1, .int x1), (2, .int x2), (3, .int x3), (4, .int x4), (5, .int (aI h (fR h x0 3105) (Int32.toNatClampNeg x5)))]) [1, 2, 3, 4, 5, 0] rfl ?_
  exact hq
set_option maxRecDepth 100000 in
def bX12_checkProgram_75 (G : xG) (fr lo : Nat) (x0 : Nat) (x1 : Int32) (x2 : Int32) (x3 : Int32) (x4 : Int32) (x5 : Int32) (h : xH) (Q : Outcome → xH → Prop) : Prop := ((x5 = x3 → ((¬ (x2 + 1) = 9 → bX12_checkProgram_139 G fr lo x0 x1 (x2 + 1) x3 x4 h Q) ∧ ((x2 + 1) = 9 → tg h x0 = 13 ∧ 1 ≤ fr ∧ 14 ≤ lo ∧ xRv G YX12_refuse (fr - 1) (lo - 14) [rv x0, .int 9, .int x4] h (fun h6 => xext h h6 → bX12_checkProgram_139 G fr lo x0 x1 (x2 + 1) x3 x4 h6 Q) (fun r h2 => Q (.threw r) h2)))) ∧ (¬ x5 = x3 → tg h x0 = 13 ∧ tg h (fR h x0 3102) = 100 ∧ vp_in x5 (ln h (fR h x0 3102)) ∧ tg h (fR h x0 3084) = 100 ∧ vp_in (aI h (fR h x0 3102) (Int32.toNatClampNeg x5)) (ln h (fR h x0 3084)) ∧ vp_in x4 (ln h (fR h x0 3084)) ∧ ((¬ (aI h (fR h x0 3084) (Int32.toNatClampNeg (aI h (fR h x0 3102) (Int32.toNatClampNeg x5)))) = (aI h (fR h x0 3084) (Int32.toNatClampNeg x4)) → bX12_checkProgram_110 G fr lo x0 x1 x2 x3 x4 x5 h Q) ∧ ((aI h (fR h x0 3084) (Int32.toNatClampNeg (aI h (fR h x0 3102) (Int32.toNatClampNeg x5)))) = (aI h (fR h x0 3084) (Int32.toNatClampNeg x4)) → 1 ≤ fr ∧ 14 ≤ lo ∧ xRv G YX12_refuse (fr - 1) (lo - 14) [rv x0, .int 5, .int x4] h (fun h18 => xext h h18 → bX12_checkProgram_110 G fr lo x0 x1 x2 x3 x4 x5 h18 Q) (fun r h2 => Q (.threw r) h2)))))
set_option maxRecDepth 100000 in
theorem uX12_checkProgram_75 {G : xG} {fr lo : Nat} {x0 : Nat} {x1 : Int32} {x2 : Int32} {x3 : Int32} {x4 : Int32} {x5 : Int32} {h : xH} {Q : Outcome → xH → Prop} (hq : bX12_checkProgram_75 G fr lo x0 x1 x2 x3 x4 x5 h Q) : xP G YX12_checkProgram fr lo 75 [(0, rv x0), (1, .int x1), (2, .int x2), (3, .int x3), (4, .int x4), (5, .int x5)] [] h Q := by
  unfold bX12_checkProgram_75 at hq
  refine x_iload 5 dX12_checkProgram_75 rfl ?_
  refine x_iload_n 3 dX12_checkProgram_77 rfl ?_
  refine x_icmp_eq (tgt := 122) dX12_checkProgram_78 (by decide) (fun c1 => ?_) (fun c1 => ?_)
  · replace hq := hq.1 c1
    refine x_iinc (lv' := [(2, .int (x2 + 1)), (0, rv x0), (1, .int x1), (3, .int x3), (4, .int x4), (5, .int x5)]) 2 dX12_checkProgram_122 rfl (by decide) rfl ?_
    refine x_iload_n 0 dX12_checkProgram_125 rfl ?_
    refine x_bipush (v := 9) dX12_checkProgram_126 (by decide) ?_
    refine x_icmp_ne (tgt := 139) dX12_checkProgram_128 (by decide) (fun c2 => ?_) (fun c2 => ?_)
    · replace hq := hq.1 c2
      refine xP.pick (lv' := [(0, rv x0), (1, .int x1), (2, .int (x2 + 1)), (3, .int x3), (4, .int x4)]) [1, 2, 0, 3, 4] rfl ?_
      exact uX12_checkProgram_139 hq
    · replace hq := hq.2 c2
      refine x_aload_n 1 dX12_checkProgram_131 rfl ?_
      refine x_bipush (v := 9) dX12_checkProgram_132 (by decide) ?_
      refine x_iload 4 dX12_checkProgram_134 rfl ?_
      obtain ⟨g3, hq⟩ := hq
      obtain ⟨g4, g5, hq⟩ := hq
      refine x_callV (Yc := YX12_refuse) (as := [.int 9, .int x4]) (st := []) q4095 mvX12_refuse g3 rfl dX12_checkProgram_136 (xle (xal1 (rv_cat _) (xal1 rfl (xal1 rfl xal0))) (by decide)) (xfr g4) (xlo xsw0 (by decide) g5) (xKv hq (fun h6 hq e8 => ?_) (fun _ _ q _ => q))
      replace hq := hq e8
      refine xP.pick (lv' := [(0, rv x0), (1, .int x1), (2, .int (x2 + 1)), (3, .int x3), (4, .int x4)]) [1, 2, 0, 3, 4] rfl ?_
      exact uX12_checkProgram_139 hq
  · replace hq := hq.2 c1
    refine x_aload_n 0 dX12_checkProgram_81 rfl ?_
    obtain ⟨g9, hq⟩ := hq
    refine x_get (v := rv (fR h x0 3084)) fdX12_32 dX12_checkProgram_82 g9 rfl ?_
    refine x_aload_n 0 dX12_checkProgram_85 rfl ?_
    refine x_get (v := rv (fR h x0 3102)) fdX12_70 dX12_checkProgram_86 g9 rfl ?_
    refine x_iload 5 dX12_checkProgram_89 rfl ?_
    obtain ⟨g10, hq⟩ := hq
    obtain ⟨i11, hq⟩ := hq
    refine x_iald 0 (Or.inl rfl) g10 i11 dX12_checkProgram_91 ?_
    obtain ⟨g12, hq⟩ := hq
    obtain ⟨i13, hq⟩ := hq
    refine x_iald 0 (Or.inl rfl) g12 i13 dX12_checkProgram_92 ?_
    refine x_aload_n 0 dX12_checkProgram_93 rfl ?_
    refine x_get (v := rv (fR h x0 3084)) fdX12_32 dX12_checkProgram_94 g9 rfl ?_
    refine x_iload 4 dX12_checkProgram_97 rfl ?_
    obtain ⟨i14, hq⟩ := hq
    refine x_iald 0 (Or.inl rfl) g12 i14 dX12_checkProgram_99 ?_
    refine x_icmp_ne (tgt := 110) dX12_checkProgram_100 (by decide) (fun c15 => ?_) (fun c15 => ?_)
    · replace hq := hq.1 c15
      exact uX12_checkProgram_110 hq
    · replace hq := hq.2 c15
      refine x_aload_n 0 dX12_checkProgram_103 rfl ?_
      refine x_iconst (v := 5) dX12_checkProgram_104 (by decide) ?_
      refine x_iload 4 dX12_checkProgram_105 rfl ?_
      obtain ⟨g16, g17, hq⟩ := hq
      refine x_callV (Yc := YX12_refuse) (as := [.int 5, .int x4]) (st := []) q4095 mvX12_refuse g9 rfl dX12_checkProgram_107 (xle (xal1 (rv_cat _) (xal1 rfl (xal1 rfl xal0))) (by decide)) (xfr g16) (xlo xsw0 (by decide) g17) (xKv hq (fun h18 hq e20 => ?_) (fun _ _ q _ => q))
      replace hq := hq e20
      exact uX12_checkProgram_110 hq
set_option maxRecDepth 100000 in
def bX12_checkProgram_49 (G : xG) (fr lo : Nat) (x0 : Nat) (x1 : Int32) (x2 : Int32) (x3 : Int32) (h : xH) (Q : Outcome → xH → Prop) : Prop := ((x3 = (-1) → tg h x0 = 13 ∧ 1 ≤ fr ∧ 17 ≤ lo ∧ xRi G YX12_child (fr - 1) (lo - 17) [rv x0, .int x1, .int 1] h (fun x6 h5 => xext h h5 → (∀ h9 : xH, h9 = sI h5 x0 3135 x6 → tg h9 (fR h9 x0 3103) = 100 ∧ vp_in x1 (ln h9 (fR h9 x0 3103)) ∧ 1 ≤ fr ∧ 23 ≤ lo ∧ xRv G YX12_checkBlock (fr - 1) (lo - 23) [rv x0, .int (fI h9 x0 3135), .int (aI h9 (fR h9 x0 3103) (Int32.toNatClampNeg x1))] h9 (fun h16 => xext h9 h16 → 1 ≤ fr ∧ 13 ≤ lo ∧ xRr G YX12_scope (fr - 1) (lo - 13) [rv x0] h16 (fun x23 h22 => xext h16 h22 → tg h22 x23 = 25 ∧ (∀ h27 : xH, h27 = sI h22 x0 3136 (fI h22 x23 6146) → 1 ≤ fr ∧ 12 ≤ lo ∧ xRr G YX12_pop (fr - 1) (lo - 12) [rv x0] h27 (fun x33 h32 => xext h27 h32 → tg h32 (fR h32 x0 3126) = 29 ∧ 1 ≤ fr ∧ 13 ≤ lo ∧ xRi G YJ2_size (fr - 1) (lo - 13) [rv (fR h32 x0 3126)] h32 (fun x40 h39 => xext h32 h39 → 1 ≤ fr ∧ 15 ≤ lo ∧ xRr G YJ2_remove (fr - 1) (lo - 15) [rv (fR h32 x0 3126), .int (x40 - 1)] h39 (fun x46 h45 => xext h39 h45 → Q (.returned none) h45) (fun r h2 => Q (.threw r) h2)) (fun r h2 => Q (.threw r) h2)) (fun r h2 => Q (.threw r) h2))) (fun r h2 => Q (.threw r) h2)) (fun r h2 => Q (.threw r) h2))) (fun r h2 => Q (.threw r) h2)) ∧ (¬ x3 = (-1) → tg h x0 = 13 ∧ tg h (fR h x0 3102) = 100 ∧ vp_in x3 (ln h (fR h x0 3102)) ∧ tg h (fR h x0 3103) = 100 ∧ vp_in x1 (ln h (fR h x0 3103)) ∧ vp_in (aI h (fR h x0 3103) (Int32.toNatClampNeg x1)) (ln h (fR h x0 3103)) ∧ lX12_checkProgram_75 G fr lo x0 x1 x2 x3 (aI h (fR h x0 3102) (Int32.toNatClampNeg x3)) (aI h (fR h x0 3103) (Int32.toNatClampNeg (aI h (fR h x0 3103) (Int32.toNatClampNeg x1)))) h Q))
set_option maxRecDepth 100000 in
theorem uX12_checkProgram_49 {G : xG} {fr lo : Nat} {x0 : Nat} {x1 : Int32} {x2 : Int32} {x3 : Int32} {h : xH} {Q : Outcome → xH → Prop} (hq : bX12_checkProgram_49 G fr lo x0 x1 x2 x3 h Q) : xP G YX12_checkProgram fr lo 49 [(0, rv x0), (1, .int x1), (2, .int x2), (3, .int x3)] [] h Q := by
  unfold bX12_checkProgram_49 at hq
  refine x_iload_n 3 dX12_checkProgram_49 rfl ?_
  refine x_iconst (v := (-1)) dX12_checkProgram_50 (by decide) ?_
  refine x_icmp_eq (tgt := 255) dX12_checkProgram_51 (by decide) (fun c1 => ?_) (fun c1 => ?_)
  · replace hq := hq.1 c1
    refine x_aload_n 0 dX12_checkProgram_255 rfl ?_
    refine x_aload_n 0 dX12_checkProgram_256 rfl ?_
    refine x_iload_n 1 dX12_checkProgram_257 rfl ?_
    refine x_iconst (v := 1) dX12_checkProgram_258 (by decide) ?_
    obtain ⟨g2, hq⟩ := hq
    obtain ⟨g3, g4, hq⟩ := hq
    refine x_callV (Yc := YX12_child) (as := [.int x1, .int 1]) (st := [rv x0]) q4126 mvX12_child g2 rfl dX12_checkProgram_259 (xle (xal1 (rv_cat _) (xal1 rfl (xal1 rfl xal0))) (by decide)) (xfr g3) (xlo (xsw1 (rv_cat _) xsw0) (by decide) g4) (xKi hq (fun x6 h5 hq e7 => ?_) (fun _ _ q _ => q))
    replace hq := hq e7
    have t8 : tg h5 x0 = 13 := e7.tg g2 (by decide)
    obtain ⟨h9, e10⟩ : ∃ y, y = sI h5 x0 3135 x6 := ⟨_, rfl⟩
    replace hq := hq h9 e10
    refine x_putI fdX12_737 xty_I1 dX12_checkProgram_262 t8 (Or.inl (by rw [t8]; rfl)) xnI rfl e10 ?_
    refine x_aload_n 0 dX12_checkProgram_265 rfl ?_
    refine x_aload_n 0 dX12_checkProgram_266 rfl ?_
    have t11 : tg h9 x0 = 13 := by rw [e10]; exact t8
    refine x_get (v := .int (fI h9 x0 3135)) fdX12_737 dX12_checkProgram_267 t11 rfl ?_
    refine x_aload_n 0 dX12_checkProgram_270 rfl ?_
    refine x_get (v := rv (fR h9 x0 3103)) fdX12_73 dX12_checkProgram_271 t11 rfl ?_
    refine x_iload_n 1 dX12_checkProgram_274 rfl ?_
    obtain ⟨g12, hq⟩ := hq
    obtain ⟨i13, hq⟩ := hq
    refine x_iald 0 (Or.inl rfl) g12 i13 dX12_checkProgram_275 ?_
    obtain ⟨g14, g15, hq⟩ := hq
    refine x_callV (Yc := YX12_checkBlock) (as := [.int (fI h9 x0 3135), .int (aI h9 (fR h9 x0 3103) (Int32.toNatClampNeg x1))]) (st := []) q4130 mvX12_checkBlock t11 rfl dX12_checkProgram_276 (xle (xal1 (rv_cat _) (xal1 rfl (xal1 rfl xal0))) (by decide)) (xfr g14) (xlo xsw0 (by decide) g15) (xKv hq (fun h16 hq e18 => ?_) (fun _ _ q _ => q))
    replace hq := hq e18
    refine x_aload_n 0 dX12_checkProgram_279 rfl ?_
    refine x_aload_n 0 dX12_checkProgram_280 rfl ?_
    have t19 : tg h16 x0 = 13 := e18.tg t11 (by decide)
    obtain ⟨g20, g21, hq⟩ := hq
    refine x_callV (Yc := YX12_scope) (as := []) (st := [rv x0]) q4122 mvX12_scope t19 rfl dX12_checkProgram_281 (xle (xal1 (rv_cat _) xal0) (by decide)) (xfr g20) (xlo (xsw1 (rv_cat _) xsw0) (by decide) g21) (xKr hq (fun x23 h22 hq e24 => ?_) (fun _ _ q _ => q))
    replace hq := hq e24
    obtain ⟨g25, hq⟩ := hq
    refine x_get (v := .int (fI h22 x23 6146)) fdX12_711 dX12_checkProgram_284 g25 rfl ?_
    have t26 : tg h22 x0 = 13 := e24.tg t19 (by decide)
    obtain ⟨h27, e28⟩ : ∃ y, y = sI h22 x0 3136 (fI h22 x23 6146) := ⟨_, rfl⟩
    replace hq := hq h27 e28
    refine x_putI fdX12_743 xty_I1 dX12_checkProgram_287 t26 (Or.inl (by rw [t26]; rfl)) xnI rfl e28 ?_
    refine x_aload_n 0 dX12_checkProgram_290 rfl ?_
    have t29 : tg h27 x0 = 13 := by rw [e28]; exact t26
    obtain ⟨g30, g31, hq⟩ := hq
    refine x_callV (Yc := YX12_pop) (as := []) (st := []) q4283 mvX12_pop t29 rfl dX12_checkProgram_291 (xle (xal1 (rv_cat _) xal0) (by decide)) (xfr g30) (xlo xsw0 (by decide) g31) (xKr hq (fun x33 h32 hq e34 => ?_) (fun _ _ q _ => q))
    replace hq := hq e34
    refine x_pop dX12_checkProgram_294 (rv_cat _) ?_
    refine x_aload_n 0 dX12_checkProgram_295 rfl ?_
    have t35 : tg h32 x0 = 13 := e34.tg t29 (by decide)
    refine x_get (v := rv (fR h32 x0 3126)) fdX12_141 dX12_checkProgram_296 t35 rfl ?_
    refine x_aload_n 0 dX12_checkProgram_299 rfl ?_
    refine x_get (v := rv (fR h32 x0 3126)) fdX12_141 dX12_checkProgram_300 t35 rfl ?_
    obtain ⟨g36, hq⟩ := hq
    obtain ⟨g37, g38, hq⟩ := hq
    refine x_callV (Yc := YJ2_size) (as := []) (st := [rv (fR h32 x0 3126)]) q4067 mvJ2_size g36 rfl dX12_checkProgram_303 (xle (xal1 (rv_cat _) xal0) (by decide)) (xfr g37) (xlo (xsw1 (rv_cat _) xsw0) (by decide) g38) (xKi hq (fun x40 h39 hq e41 => ?_) (fun _ _ q _ => q))
    replace hq := hq e41
    refine x_iconst (v := 1) dX12_checkProgram_306 (by decide) ?_
    refine x_isub dX12_checkProgram_307 ?_
    have t42 : tg h39 (fR h32 x0 3126) = 29 := e41.tg g36 (by decide)
    obtain ⟨g43, g44, hq⟩ := hq
    refine x_callV (Yc := YJ2_remove) (as := [.int (x40 - 1)]) (st := []) q4287 mvJ2_remove t42 rfl dX12_checkProgram_308 (xle (xal1 (rv_cat _) (xal1 rfl xal0)) (by decide)) (xfr g43) (xlo xsw0 (by decide) g44) (xKr hq (fun x46 h45 hq e47 => ?_) (fun _ _ q _ => q))
    replace hq := hq e47
    refine x_pop dX12_checkProgram_311 (rv_cat _) ?_
    exact x_vret rfl dX12_checkProgram_312 hq
  · replace hq := hq.2 c1
    refine x_aload_n 0 dX12_checkProgram_54 rfl ?_
    obtain ⟨g48, hq⟩ := hq
    refine x_get (v := rv (fR h x0 3102)) fdX12_70 dX12_checkProgram_55 g48 rfl ?_
    refine x_iload_n 3 dX12_checkProgram_58 rfl ?_
    obtain ⟨g49, hq⟩ := hq
    obtain ⟨i50, hq⟩ := hq
    refine x_iald 0 (Or.inl rfl) g49 i50 dX12_checkProgram_59 ?_
    refine x_istore (lv' := [(4, .int (aI h (fR h x0 3102) (Int32.toNatClampNeg x3))), (0, rv x0), (1, .int x1), (2, .int x2), (3, .int x3)]) dX12_checkProgram_60 (by decide) rfl ?_
    refine x_aload_n 1 dX12_checkProgram_62 rfl ?_
    refine x_get (v := rv (fR h x0 3103)) fdX12_73 dX12_checkProgram_63 g48 rfl ?_
    refine x_aload_n 1 dX12_checkProgram_66 rfl ?_
    refine x_get (v := rv (fR h x0 3103)) fdX12_73 dX12_checkProgram_67 g48 rfl ?_
    refine x_iload_n 2 dX12_checkProgram_70 rfl ?_
    obtain ⟨g51, hq⟩ := hq
    obtain ⟨i52, hq⟩ := hq
    refine x_iald 0 (Or.inl rfl) g51 i52 dX12_checkProgram_71 ?_
    obtain ⟨i53, hq⟩ := hq
    refine x_iald 0 (Or.inl rfl) g51 i53 dX12_checkProgram_72 ?_
    refine x_istore (lv' := [(5, .int (aI h (fR h x0 3103) (Int32.toNatClampNeg (aI h (fR h x0 3103) (Int32.toNatClampNeg x1))))), (4, .int (aI h (fR h x0 3102) (Int32.toNatClampNeg x3))), (0, rv x0), (1, .int x1), (2, .int x2), (3, .int x3)]) dX12_checkProgram_73 (by decide) rfl ?_
    refine xP.pick (lv' := [(0, rv x0), (1, .int x1), (2, .int x2), (3, .int x3), (4, .int (aI h (fR h x0 3102) (Int32.toNatClampNeg x3))), (5, .int (aI h (fR h x0 3103) (Int32.toNatClampNeg (aI h (fR h x0 3103) (Int32.toNatClampNeg x1)))))]) [2, 3, 4, 5, 1, 0] rfl ?_
    exact hq
set_option maxRecDepth 100000 in
def bX12_checkProgram (G : xG) (fr lo : Nat) (x0 : Nat) (x1 : Int32) (h : xH) (Q : Outcome → xH → Prop) : Prop := tg h x0 = 13 ∧ nx h + 1 ≤ xGN G ∧ us h + 4 ≤ xGU G ∧ (∀ (a4 : Nat) (h5 : xH), a4 = nx h + 1 → h5 = nO h 25 4 → xfresh h a4 → 1 ≤ fr ∧ 14 ≤ lo ∧ xRv G YX24_init (fr - 1) (lo - 14) [rv a4] h5 (fun h12 => xext h5 h12 → tg h12 (fR h x0 3126) = 29 ∧ 1 ≤ fr ∧ 13 ≤ lo ∧ xRi G YJ2_add (fr - 1) (lo - 13) [rv (fR h x0 3126), rv a4] h12 (fun x19 h18 => xext h12 h18 → nx h18 + 1 ≤ xGN G ∧ us h18 + 3 ≤ xGU G ∧ (∀ (a23 : Nat) (h24 : xH), a23 = nx h18 + 1 → h24 = nO h18 29 3 → xfresh h18 a23 → 1 ≤ fr ∧ 14 ≤ lo ∧ xRv G YJ2_init_2 (fr - 1) (lo - 14) [rv a23] h24 (fun h31 => xext h24 h31 → (∀ h39 : xH, h39 = sR h31 x0 3137 a23 → 1 ≤ fr ∧ 14 ≤ lo ∧ xRv G YX12_push (fr - 1) (lo - 14) [rv x0, rv (fR h39 x0 3137), .int (-1)] h39 (fun h44 => xext h39 h44 → tg h44 (fR h44 x0 3103) = 100 ∧ vp_in x1 (ln h44 (fR h44 x0 3103)) ∧ vp_in (aI h44 (fR h44 x0 3103) (Int32.toNatClampNeg x1)) (ln h44 (fR h44 x0 3103)) ∧ lX12_checkProgram_49 G fr lo x0 x1 0 (aI h44 (fR h44 x0 3103) (Int32.toNatClampNeg (aI h44 (fR h44 x0 3103) (Int32.toNatClampNeg x1)))) h44 Q) (fun r h2 => Q (.threw r) h2))) (fun r h2 => Q (.threw r) h2))) (fun r h2 => Q (.threw r) h2)) (fun r h2 => Q (.threw r) h2))
set_option maxRecDepth 100000 in
theorem uX12_checkProgram {G : xG} {fr lo : Nat} {x0 : Nat} {x1 : Int32} {h : xH} {Q : Outcome → xH → Prop} (hq : bX12_checkProgram G fr lo x0 x1 h Q) : xP G YX12_checkProgram fr lo 0 [(0, rv x0), (1, .int x1)] [] h Q := by
  unfold bX12_checkProgram at hq
  refine x_aload_n 0 dX12_checkProgram_0 rfl ?_
  obtain ⟨g1, hq⟩ := hq
  refine x_get (v := rv (fR h x0 3126)) fdX12_141 dX12_checkProgram_1 g1 rfl ?_
  obtain ⟨g2, g3, hq⟩ := hq
  obtain ⟨a4, e6⟩ : ∃ y, y = nx h + 1 := ⟨_, rfl⟩
  obtain ⟨h5, e7⟩ : ∃ y, y = nO h 25 4 := ⟨_, rfl⟩
  refine x_new' cdX12_685 dX12_checkProgram_4 g2 g3 e6 e7 (fun f8 => ?_)
  replace hq := hq a4 h5 e6 e7 f8
  have t9 : tg h5 a4 = 25 := by rw [e7, e6]; exact tg_nO
  refine x_dup dX12_checkProgram_7 (rv_cat _) ?_
  obtain ⟨g10, g11, hq⟩ := hq
  refine x_callIN (Yc := YX24_init) (as := []) (st := [rv a4, rv (fR h x0 3126)]) (List.mem_filter.mpr ⟨q4074, rfl⟩) miX24_init (by rw [t9]; decide) rfl dX12_checkProgram_8 (xle (xal1 (rv_cat _) xal0) (by decide)) (xfr g10) (xlo (xsw1 (rv_cat _) (xsw1 (rv_cat _) xsw0)) (by decide) g11) (xKv hq (fun h12 hq e14 => ?_) (fun _ _ q _ => q))
  replace hq := hq e14
  obtain ⟨g15, hq⟩ := hq
  obtain ⟨g16, g17, hq⟩ := hq
  refine x_callV (Yc := YJ2_add) (as := [rv a4]) (st := []) q4030 mvJ2_add g15 rfl dX12_checkProgram_11 (xle (xal1 (rv_cat _) (xal1 (rv_cat _) xal0)) (by decide)) (xfr g16) (xlo xsw0 (by decide) g17) (xKi hq (fun x19 h18 hq e20 => ?_) (fun _ _ q _ => q))
  replace hq := hq e20
  refine x_pop dX12_checkProgram_14 rfl ?_
  refine x_aload_n 0 dX12_checkProgram_15 rfl ?_
  obtain ⟨g21, g22, hq⟩ := hq
  obtain ⟨a23, e25⟩ : ∃ y, y = nx h18 + 1 := ⟨_, rfl⟩
  obtain ⟨h24, e26⟩ : ∃ y, y = nO h18 29 3 := ⟨_, rfl⟩
  refine x_new' cdX12_131 dX12_checkProgram_16 g21 g22 e25 e26 (fun f27 => ?_)
  replace hq := hq a23 h24 e25 e26 f27
  have t28 : tg h24 a23 = 29 := by rw [e26, e25]; exact tg_nO
  refine x_dup dX12_checkProgram_19 (rv_cat _) ?_
  obtain ⟨g29, g30, hq⟩ := hq
  refine x_callI (Yc := YJ2_init_2) (as := []) (st := [rv a23, rv x0]) q3246 miJ2_init_2 (by rw [t28]; decide) rfl dX12_checkProgram_20 (xle (xal1 (rv_cat _) xal0) (by decide)) (xfr g29) (xlo (xsw1 (rv_cat _) (xsw1 (rv_cat _) xsw0)) (by decide) g30) (xKv hq (fun h31 hq e33 => ?_) (fun _ _ q _ => q))
  replace hq := hq e33
  have t34 : tg h5 x0 = 13 := by rw [e7]; exact tg_nO_ne e6 f8 g1 (by decide)
  have t35 : tg h12 x0 = 13 := e14.tg t34 (by decide)
  have t36 : tg h18 x0 = 13 := e20.tg t35 (by decide)
  have t37 : tg h24 x0 = 13 := by rw [e26]; exact tg_nO_ne e25 f27 t36 (by decide)
  have t38 : tg h31 x0 = 13 := e33.tg t37 (by decide)
  obtain ⟨h39, e40⟩ : ∃ y, y = sR h31 x0 3137 a23 := ⟨_, rfl⟩
  replace hq := hq h39 e40
  refine x_putR fdX12_717 xty_O dX12_checkProgram_23 t38 (Or.inl (by rw [t38]; rfl)) rfl e40 ?_
  refine x_aload_n 0 dX12_checkProgram_26 rfl ?_
  refine x_aload_n 0 dX12_checkProgram_27 rfl ?_
  have t41 : tg h39 x0 = 13 := by rw [e40]; exact t38
  refine x_get (v := rv (fR h39 x0 3137)) fdX12_717 dX12_checkProgram_28 t41 rfl ?_
  refine x_iconst (v := (-1)) dX12_checkProgram_31 (by decide) ?_
  obtain ⟨g42, g43, hq⟩ := hq
  refine x_callV (Yc := YX12_push) (as := [rv (fR h39 x0 3137), .int (-1)]) (st := []) q4063 mvX12_push t41 rfl dX12_checkProgram_32 (xle (xal1 (rv_cat _) (xal1 (rv_cat _) (xal1 rfl xal0))) (by decide)) (xfr g42) (xlo xsw0 (by decide) g43) (xKv hq (fun h44 hq e46 => ?_) (fun _ _ q _ => q))
  replace hq := hq e46
  refine x_iconst (v := 0) dX12_checkProgram_35 (by decide) ?_
  refine x_istore_n (lv' := [(2, .int 0), (0, rv x0), (1, .int x1)]) dX12_checkProgram_36 (by decide) rfl ?_
  refine x_aload_n 1 dX12_checkProgram_37 rfl ?_
  have t47 : tg h44 x0 = 13 := e46.tg t41 (by decide)
  refine x_get (v := rv (fR h44 x0 3103)) fdX12_73 dX12_checkProgram_38 t47 rfl ?_
  refine x_aload_n 1 dX12_checkProgram_41 rfl ?_
  refine x_get (v := rv (fR h44 x0 3103)) fdX12_73 dX12_checkProgram_42 t47 rfl ?_
  refine x_iload_n 2 dX12_checkProgram_45 rfl ?_
  obtain ⟨g48, hq⟩ := hq
  obtain ⟨i49, hq⟩ := hq
  refine x_iald 0 (Or.inl rfl) g48 i49 dX12_checkProgram_46 ?_
  obtain ⟨i50, hq⟩ := hq
  refine x_iald 0 (Or.inl rfl) g48 i50 dX12_checkProgram_47 ?_
  refine x_istore_n (lv' := [(3, .int (aI h44 (fR h44 x0 3103) (Int32.toNatClampNeg (aI h44 (fR h44 x0 3103) (Int32.toNatClampNeg x1))))), (2, .int 0), (0, rv x0), (1, .int x1)]) dX12_checkProgram_48 (by decide) rfl ?_
  refine xP.pick (lv' := [(0, rv x0), (1, .int x1), (2, .int 0), (3, .int (aI h44 (fR h44 x0 3103) (Int32.toNatClampNeg (aI h44 (fR h44 x0 3103) (Int32.toNatClampNeg x1)))))]) [2, 3, 1, 0] rfl ?_
  exact hq
theorem rX12_checkProgram {G : xG} {fr lo : Nat} {x0 : Nat} {x1 : Int32} {h : xH} {Q : Outcome → xH → Prop} (hq : bX12_checkProgram G fr lo x0 x1 h Q) : xR G YX12_checkProgram fr lo [rv x0, .int x1] h Q := by
  show xP _ _ _ _ _ (lv_args 0 _) _ _ _
  rw [show lv_args 0 [rv x0, .int x1] = [(0, rv x0), (1, .int x1)] from (xla1 (rv_cat _) (xla1 rfl xla0))]
  exact uX12_checkProgram hq
set_option maxRecDepth 100000 in
theorem dX12_refuse_0 : decode cX12_refuse 0 = .ok (.aload_n 0, 1) := by decide +kernel
set_option maxRecDepth 100000 in
theorem dX12_refuse_1 : decode cX12_refuse 1 = .ok (.iload_n 1, 1) := by decide +kernel
set_option maxRecDepth 100000 in
theorem dX12_refuse_2 : decode cX12_refuse 2 = .ok (.aload_n 0, 1) := by decide +kernel
set_option maxRecDepth 100000 in
theorem dX12_refuse_3 : decode cX12_refuse 3 = .ok (.getfield 29, 3) := by decide +kernel
set_option maxRecDepth 100000 in
theorem dX12_refuse_6 : decode cX12_refuse 6 = .ok (.iload_n 2, 1) := by decide +kernel
set_option maxRecDepth 100000 in
theorem dX12_refuse_7 : decode cX12_refuse 7 = .ok (.iaload, 1) := by decide +kernel
set_option maxRecDepth 100000 in
theorem dX12_refuse_8 : decode cX12_refuse 8 = .ok (.invokevirtual 276, 3) := by decide +kernel
set_option maxRecDepth 100000 in
theorem dX12_refuse_11 : decode cX12_refuse 11 = .ok (.return_, 1) := by decide +kernel
set_option maxRecDepth 100000 in
def bX12_refuse (G : xG) (fr lo : Nat) (x0 : Nat) (x1 : Int32) (x2 : Int32) (h : xH) (Q : Outcome → xH → Prop) : Prop := tg h x0 = 13 ∧ tg h (fR h x0 3083) = 100 ∧ vp_in x2 (ln h (fR h x0 3083)) ∧ 1 ≤ fr ∧ 14 ≤ lo ∧ xRv G YX12_stop (fr - 1) (lo - 14) [rv x0, .int x1, .int (aI h (fR h x0 3083) (Int32.toNatClampNeg x2))] h (fun h6 => xext h h6 → Q (.returned none) h6) (fun r h2 => Q (.threw r) h2)
set_option maxRecDepth 100000 in
theorem uX12_refuse {G : xG} {fr lo : Nat} {x0 : Nat} {x1 : Int32} {x2 : Int32} {h : xH} {Q : Outcome → xH → Prop} (hq : bX12_refuse G fr lo x0 x1 x2 h Q) : xP G YX12_refuse fr lo 0 [(0, rv x0), (1, .int x1), (2, .int x2)] [] h Q := by
  unfold bX12_refuse at hq
  refine x_aload_n 0 dX12_refuse_0 rfl ?_
  refine x_iload_n 1 dX12_refuse_1 rfl ?_
  refine x_aload_n 0 dX12_refuse_2 rfl ?_
  obtain ⟨g1, hq⟩ := hq
  refine x_get (v := rv (fR h x0 3083)) fdX12_29 dX12_refuse_3 g1 rfl ?_
  refine x_iload_n 2 dX12_refuse_6 rfl ?_
  obtain ⟨g2, hq⟩ := hq
  obtain ⟨i3, hq⟩ := hq
  refine x_iald 0 (Or.inl rfl) g2 i3 dX12_refuse_7 ?_
  obtain ⟨g4, g5, hq⟩ := hq
  refine x_callV (Yc := YX12_stop) (as := [.int x1, .int (aI h (fR h x0 3083) (Int32.toNatClampNeg x2))]) (st := []) q3729 mvX12_stop g1 rfl dX12_refuse_8 (xle (xal1 (rv_cat _) (xal1 rfl (xal1 rfl xal0))) (by decide)) (xfr g4) (xlo xsw0 (by decide) g5) (xKv hq (fun h6 hq e8 => ?_) (fun _ _ q _ => q))
  replace hq := hq e8
  exact x_vret rfl dX12_refuse_11 hq
theorem rX12_refuse {G : xG} {fr lo : Nat} {x0 : Nat} {x1 : Int32} {x2 : Int32} {h : xH} {Q : Outcome → xH → Prop} (hq : bX12_refuse G fr lo x0 x1 x2 h Q) : xR G YX12_refuse fr lo [rv x0, .int x1, .int x2] h Q := by
  show xP _ _ _ _ _ (lv_args 0 _) _ _ _
  rw [show lv_args 0 [rv x0, .int x1, .int x2] = [(0, rv x0), (1, .int x1), (2, .int x2)] from (xla1 (rv_cat _) (xla1 rfl (xla1 rfl xla0)))]
  exact uX12_refuse hq
set_option maxRecDepth 100000 in
theorem dX12_variable_0 : decode cX12_variable 0 = .ok (.aload_n 0, 1) := by decide +kernel
set_option maxRecDepth 100000 in
theorem dX12_variable_1 : decode cX12_variable 1 = .ok (.iconst 3, 1) := by decide +kernel
set_option maxRecDepth 100000 in
theorem dX12_variable_2 : decode cX12_variable 2 = .ok (.iload_n 1, 1) := by decide +kernel
set_option maxRecDepth 100000 in
theorem dX12_variable_3 : decode cX12_variable 3 = .ok (.aload_n 0, 1) := by decide +kernel
set_option maxRecDepth 100000 in
theorem dX12_variable_4 : decode cX12_variable 4 = .ok (.invokevirtual 694, 3) := by decide +kernel
set_option maxRecDepth 100000 in
theorem dX12_variable_7 : decode cX12_variable 7 = .ok (.invokevirtual 698, 3) := by decide +kernel
set_option maxRecDepth 100000 in
theorem dX12_variable_10 : decode cX12_variable 10 = .ok (.astore_n 3, 1) := by decide +kernel
set_option maxRecDepth 100000 in
theorem dX12_variable_11 : decode cX12_variable 11 = .ok (.aload_n 3, 1) := by decide +kernel
set_option maxRecDepth 100000 in
theorem dX12_variable_12 : decode cX12_variable 12 = .ok (.aload_n 2, 1) := by decide +kernel
set_option maxRecDepth 100000 in
theorem dX12_variable_13 : decode cX12_variable 13 = .ok (.putfield 612, 3) := by decide +kernel
set_option maxRecDepth 100000 in
theorem dX12_variable_16 : decode cX12_variable 16 = .ok (.aload_n 3, 1) := by decide +kernel
set_option maxRecDepth 100000 in
theorem dX12_variable_17 : decode cX12_variable 17 = .ok (.aload_n 0, 1) := by decide +kernel
set_option maxRecDepth 100000 in
theorem dX12_variable_18 : decode cX12_variable 18 = .ok (.invokevirtual 702, 3) := by decide +kernel
set_option maxRecDepth 100000 in
theorem dX12_variable_21 : decode cX12_variable 21 = .ok (.putfield 705, 3) := by decide +kernel
set_option maxRecDepth 100000 in
theorem dX12_variable_24 : decode cX12_variable 24 = .ok (.aload_n 3, 1) := by decide +kernel
set_option maxRecDepth 100000 in
theorem dX12_variable_25 : decode cX12_variable 25 = .ok (.aload_n 0, 1) := by decide +kernel
set_option maxRecDepth 100000 in
theorem dX12_variable_26 : decode cX12_variable 26 = .ok (.invokevirtual 707, 3) := by decide +kernel
set_option maxRecDepth 100000 in
theorem dX12_variable_29 : decode cX12_variable 29 = .ok (.getfield 711, 3) := by decide +kernel
set_option maxRecDepth 100000 in
theorem dX12_variable_32 : decode cX12_variable 32 = .ok (.putfield 713, 3) := by decide +kernel
set_option maxRecDepth 100000 in
theorem dX12_variable_35 : decode cX12_variable 35 = .ok (.aload_n 0, 1) := by decide +kernel
set_option maxRecDepth 100000 in
theorem dX12_variable_36 : decode cX12_variable 36 = .ok (.invokevirtual 707, 3) := by decide +kernel
set_option maxRecDepth 100000 in
theorem dX12_variable_39 : decode cX12_variable 39 = .ok (.dup, 1) := by decide +kernel
set_option maxRecDepth 100000 in
theorem dX12_variable_40 : decode cX12_variable 40 = .ok (.getfield 711, 3) := by decide +kernel
set_option maxRecDepth 100000 in
theorem dX12_variable_43 : decode cX12_variable 43 = .ok (.i2l, 1) := by decide +kernel
set_option maxRecDepth 100000 in
theorem dX12_variable_44 : decode cX12_variable 44 = .ok (.aload_n 2, 1) := by decide +kernel
set_option maxRecDepth 100000 in
theorem dX12_variable_45 : decode cX12_variable 45 = .ok (.getfield 603, 3) := by decide +kernel
set_option maxRecDepth 100000 in
theorem dX12_variable_48 : decode cX12_variable 48 = .ok (.ladd, 1) := by decide +kernel
set_option maxRecDepth 100000 in
theorem dX12_variable_49 : decode cX12_variable 49 = .ok (.l2i, 1) := by decide +kernel
set_option maxRecDepth 100000 in
theorem dX12_variable_50 : decode cX12_variable 50 = .ok (.putfield 711, 3) := by decide +kernel
set_option maxRecDepth 100000 in
theorem dX12_variable_53 : decode cX12_variable 53 = .ok (.aload_n 3, 1) := by decide +kernel
set_option maxRecDepth 100000 in
theorem dX12_variable_54 : decode cX12_variable 54 = .ok (.areturn, 1) := by decide +kernel
set_option maxRecDepth 100000 in
def bX12_variable (G : xG) (fr lo : Nat) (x0 : Nat) (x1 : Int32) (x2 : Nat) (h : xH) (Q : Outcome → xH → Prop) : Prop := tg h x0 = 13 ∧ 1 ≤ fr ∧ 15 ≤ lo ∧ xRr G YX12_here (fr - 1) (lo - 15) [rv x0] h (fun x5 h4 => xext h h4 → 1 ≤ fr ∧ 16 ≤ lo ∧ xRr G YX12_define (fr - 1) (lo - 16) [rv x0, .int 3, .int x1, rv x5] h4 (fun x11 h10 => xext h4 h10 → tg h10 x11 = 24 ∧ (∀ h14 : xH, h14 = sR h10 x11 5890 x2 → 1 ≤ fr ∧ 13 ≤ lo ∧ xRi G YX12_level (fr - 1) (lo - 13) [rv x0] h14 (fun x21 h20 => xext h14 h20 → (∀ h25 : xH, h25 = sI h20 x11 5893 x21 → 1 ≤ fr ∧ 13 ≤ lo ∧ xRr G YX12_scope (fr - 1) (lo - 13) [rv x0] h25 (fun x32 h31 => xext h25 h31 → tg h31 x32 = 25 ∧ (∀ h37 : xH, h37 = sI h31 x11 5894 (fI h31 x32 6146) → 1 ≤ fr ∧ 12 ≤ lo ∧ xRr G YX12_scope (fr - 1) (lo - 12) [rv x0] h37 (fun x44 h43 => xext h37 h43 → tg h43 x44 = 25 ∧ tg h43 x2 = 14 ∧ (∀ h48 : xH, h48 = sI h43 x44 6146 (Int64.toInt32 ((Int32.toInt64 (fI h43 x44 6146)) + (fJ h43 x2 3334))) → Q (.returned (some (rv x11))) h48)) (fun r h2 => Q (.threw r) h2))) (fun r h2 => Q (.threw r) h2))) (fun r h2 => Q (.threw r) h2))) (fun r h2 => Q (.threw r) h2)) (fun r h2 => Q (.threw r) h2)
set_option maxRecDepth 100000 in
theorem uX12_variable {G : xG} {fr lo : Nat} {x0 : Nat} {x1 : Int32} {x2 : Nat} {h : xH} {Q : Outcome → xH → Prop} (hq : bX12_variable G fr lo x0 x1 x2 h Q) : xP G YX12_variable fr lo 0 [(0, rv x0), (1, .int x1), (2, rv x2)] [] h Q := by
  unfold bX12_variable at hq
  refine x_aload_n 0 dX12_variable_0 rfl ?_
  refine x_iconst (v := 3) dX12_variable_1 (by decide) ?_
  refine x_iload_n 1 dX12_variable_2 rfl ?_
  refine x_aload_n 0 dX12_variable_3 rfl ?_
  obtain ⟨g1, hq⟩ := hq
  obtain ⟨g2, g3, hq⟩ := hq
  refine x_callV (Yc := YX12_here) (as := []) (st := [.int x1, .int 3, rv x0]) q4105 mvX12_here g1 rfl dX12_variable_4 (xle (xal1 (rv_cat _) xal0) (by decide)) (xfr g2) (xlo (xsw1 rfl (xsw1 rfl (xsw1 (rv_cat _) xsw0))) (by decide) g3) (xKr hq (fun x5 h4 hq e6 => ?_) (fun _ _ q _ => q))
  replace hq := hq e6
  have t7 : tg h4 x0 = 13 := e6.tg g1 (by decide)
  obtain ⟨g8, g9, hq⟩ := hq
  refine x_callV (Yc := YX12_define) (as := [.int 3, .int x1, rv x5]) (st := []) q4110 mvX12_define t7 rfl dX12_variable_7 (xle (xal1 (rv_cat _) (xal1 rfl (xal1 rfl (xal1 (rv_cat _) xal0)))) (by decide)) (xfr g8) (xlo xsw0 (by decide) g9) (xKr hq (fun x11 h10 hq e12 => ?_) (fun _ _ q _ => q))
  replace hq := hq e12
  refine x_astore_n (lv' := [(3, rv x11), (0, rv x0), (1, .int x1), (2, rv x2)]) dX12_variable_10 (by decide) (by first | rfl | (simp [rv_cat, Value.category]; done) | (simp [rv_cat, Value.category]; decide)) ?_
  refine x_aload_n 0 dX12_variable_11 rfl ?_
  refine x_aload_n 3 dX12_variable_12 rfl ?_
  obtain ⟨g13, hq⟩ := hq
  obtain ⟨h14, e15⟩ : ∃ y, y = sR h10 x11 5890 x2 := ⟨_, rfl⟩
  replace hq := hq h14 e15
  refine x_putR fdX12_612 xty_O dX12_variable_13 g13 (Or.inl (by rw [g13]; rfl)) rfl e15 ?_
  refine x_aload_n 0 dX12_variable_16 rfl ?_
  refine x_aload_n 1 dX12_variable_17 rfl ?_
  have t16 : tg h10 x0 = 13 := e12.tg t7 (by decide)
  have t17 : tg h14 x0 = 13 := by rw [e15]; exact t16
  obtain ⟨g18, g19, hq⟩ := hq
  refine x_callV (Yc := YX12_level) (as := []) (st := [rv x11]) q4118 mvX12_level t17 rfl dX12_variable_18 (xle (xal1 (rv_cat _) xal0) (by decide)) (xfr g18) (xlo (xsw1 (rv_cat _) xsw0) (by decide) g19) (xKi hq (fun x21 h20 hq e22 => ?_) (fun _ _ q _ => q))
  replace hq := hq e22
  have t23 : tg h14 x11 = 24 := by rw [e15]; exact g13
  have t24 : tg h20 x11 = 24 := e22.tg t23 (by decide)
  obtain ⟨h25, e26⟩ : ∃ y, y = sI h20 x11 5893 x21 := ⟨_, rfl⟩
  replace hq := hq h25 e26
  refine x_putI fdX12_705 xty_I1 dX12_variable_21 t24 (Or.inl (by rw [t24]; rfl)) xnI rfl e26 ?_
  refine x_aload_n 0 dX12_variable_24 rfl ?_
  refine x_aload_n 1 dX12_variable_25 rfl ?_
  have t27 : tg h20 x0 = 13 := e22.tg t17 (by decide)
  have t28 : tg h25 x0 = 13 := by rw [e26]; exact t27
  obtain ⟨g29, g30, hq⟩ := hq
  refine x_callV (Yc := YX12_scope) (as := []) (st := [rv x11]) q4122 mvX12_scope t28 rfl dX12_variable_26 (xle (xal1 (rv_cat _) xal0) (by decide)) (xfr g29) (xlo (xsw1 (rv_cat _) xsw0) (by decide) g30) (xKr hq (fun x32 h31 hq e33 => ?_) (fun _ _ q _ => q))
  replace hq := hq e33
  obtain ⟨g34, hq⟩ := hq
  refine x_get (v := .int (fI h31 x32 6146)) fdX12_711 dX12_variable_29 g34 rfl ?_
  have t35 : tg h25 x11 = 24 := by rw [e26]; exact t24
  have t36 : tg h31 x11 = 24 := e33.tg t35 (by decide)
  obtain ⟨h37, e38⟩ : ∃ y, y = sI h31 x11 5894 (fI h31 x32 6146) := ⟨_, rfl⟩
  replace hq := hq h37 e38
  refine x_putI fdX12_713 xty_I1 dX12_variable_32 t36 (Or.inl (by rw [t36]; rfl)) xnI rfl e38 ?_
  refine x_aload_n 1 dX12_variable_35 rfl ?_
  have t39 : tg h31 x0 = 13 := e33.tg t28 (by decide)
  have t40 : tg h37 x0 = 13 := by rw [e38]; exact t39
  obtain ⟨g41, g42, hq⟩ := hq
  refine x_callV (Yc := YX12_scope) (as := []) (st := []) q4122 mvX12_scope t40 rfl dX12_variable_36 (xle (xal1 (rv_cat _) xal0) (by decide)) (xfr g41) (xlo xsw0 (by decide) g42) (xKr hq (fun x44 h43 hq e45 => ?_) (fun _ _ q _ => q))
  replace hq := hq e45
  refine x_dup dX12_variable_39 (rv_cat _) ?_
  obtain ⟨g46, hq⟩ := hq
  refine x_get (v := .int (fI h43 x44 6146)) fdX12_711 dX12_variable_40 g46 rfl ?_
  refine x_i2l dX12_variable_43 ?_
  refine x_aload_n 3 dX12_variable_44 rfl ?_
  obtain ⟨g47, hq⟩ := hq
  refine x_get (v := .long (fJ h43 x2 3334)) fdX12_603 dX12_variable_45 g47 rfl ?_
  refine x_ladd dX12_variable_48 ?_
  refine x_l2i dX12_variable_49 ?_
  obtain ⟨h48, e49⟩ : ∃ y, y = sI h43 x44 6146 (Int64.toInt32 ((Int32.toInt64 (fI h43 x44 6146)) + (fJ h43 x2 3334))) := ⟨_, rfl⟩
  replace hq := hq h48 e49
  refine x_putI fdX12_711 xty_I1 dX12_variable_50 g46 (Or.inl (by rw [g46]; rfl)) xnI rfl e49 ?_
  refine x_aload_n 0 dX12_variable_53 rfl ?_
  exact x_aret rfl xty_O dX12_variable_54 hq
theorem rX12_variable {G : xG} {fr lo : Nat} {x0 : Nat} {x1 : Int32} {x2 : Nat} {h : xH} {Q : Outcome → xH → Prop} (hq : bX12_variable G fr lo x0 x1 x2 h Q) : xR G YX12_variable fr lo [rv x0, .int x1, rv x2] h Q := by
  show xP _ _ _ _ _ (lv_args 0 _) _ _ _
  rw [show lv_args 0 [rv x0, .int x1, rv x2] = [(0, rv x0), (1, .int x1), (2, rv x2)] from (xla1 (rv_cat _) (xla1 rfl (xla1 (rv_cat _) xla0)))]
  exact uX12_variable hq
set_option maxRecDepth 100000 in
theorem dX12_here_0 : decode cX12_here 0 = .ok (.aload_n 0, 1) := by decide +kernel
set_option maxRecDepth 100000 in
theorem dX12_here_1 : decode cX12_here 1 = .ok (.getfield 134, 3) := by decide +kernel
set_option maxRecDepth 100000 in
theorem dX12_here_4 : decode cX12_here 4 = .ok (.aload_n 0, 1) := by decide +kernel
set_option maxRecDepth 100000 in
theorem dX12_here_5 : decode cX12_here 5 = .ok (.getfield 134, 3) := by decide +kernel
set_option maxRecDepth 100000 in
theorem dX12_here_8 : decode cX12_here 8 = .ok (.invokevirtual 554, 3) := by decide +kernel
set_option maxRecDepth 100000 in
theorem dX12_here_11 : decode cX12_here 11 = .ok (.iconst 1, 1) := by decide +kernel
set_option maxRecDepth 100000 in
theorem dX12_here_12 : decode cX12_here 12 = .ok (.isub, 1) := by decide +kernel
set_option maxRecDepth 100000 in
theorem dX12_here_13 : decode cX12_here 13 = .ok (.invokevirtual 556, 3) := by decide +kernel
set_option maxRecDepth 100000 in
theorem dX12_here_16 : decode cX12_here 16 = .ok (.checkcast 131, 3) := by decide +kernel
set_option maxRecDepth 100000 in
theorem dX12_here_19 : decode cX12_here 19 = .ok (.areturn, 1) := by decide +kernel
set_option maxRecDepth 100000 in
def bX12_here (G : xG) (fr lo : Nat) (x0 : Nat) (h : xH) (Q : Outcome → xH → Prop) : Prop := tg h x0 = 13 ∧ tg h (fR h x0 3122) = 29 ∧ 1 ≤ fr ∧ 13 ≤ lo ∧ xRi G YJ2_size (fr - 1) (lo - 13) [rv (fR h x0 3122)] h (fun x6 h5 => xext h h5 → 1 ≤ fr ∧ 13 ≤ lo ∧ xRr G YJ2_get (fr - 1) (lo - 13) [rv (fR h x0 3122), .int (x6 - 1)] h5 (fun x12 h11 => xext h5 h11 → tg h11 x12 = 29 ∧ Q (.returned (some (rv x12))) h11) (fun r h2 => Q (.threw r) h2)) (fun r h2 => Q (.threw r) h2)
set_option maxRecDepth 100000 in
theorem uX12_here {G : xG} {fr lo : Nat} {x0 : Nat} {h : xH} {Q : Outcome → xH → Prop} (hq : bX12_here G fr lo x0 h Q) : xP G YX12_here fr lo 0 [(0, rv x0)] [] h Q := by
  unfold bX12_here at hq
  refine x_aload_n 0 dX12_here_0 rfl ?_
  obtain ⟨g1, hq⟩ := hq
  refine x_get (v := rv (fR h x0 3122)) fdX12_134 dX12_here_1 g1 rfl ?_
  refine x_aload_n 0 dX12_here_4 rfl ?_
  refine x_get (v := rv (fR h x0 3122)) fdX12_134 dX12_here_5 g1 rfl ?_
  obtain ⟨g2, hq⟩ := hq
  obtain ⟨g3, g4, hq⟩ := hq
  refine x_callV (Yc := YJ2_size) (as := []) (st := [rv (fR h x0 3122)]) q4067 mvJ2_size g2 rfl dX12_here_8 (xle (xal1 (rv_cat _) xal0) (by decide)) (xfr g3) (xlo (xsw1 (rv_cat _) xsw0) (by decide) g4) (xKi hq (fun x6 h5 hq e7 => ?_) (fun _ _ q _ => q))
  replace hq := hq e7
  refine x_iconst (v := 1) dX12_here_11 (by decide) ?_
  refine x_isub dX12_here_12 ?_
  have t8 : tg h5 (fR h x0 3122) = 29 := e7.tg g2 (by decide)
  obtain ⟨g9, g10, hq⟩ := hq
  refine x_callV (Yc := YJ2_get) (as := [.int (x6 - 1)]) (st := []) q4109 mvJ2_get t8 rfl dX12_here_13 (xle (xal1 (rv_cat _) (xal1 rfl xal0)) (by decide)) (xfr g9) (xlo xsw0 (by decide) g10) (xKr hq (fun x12 h11 hq e13 => ?_) (fun _ _ q _ => q))
  replace hq := hq e13
  obtain ⟨g14, hq⟩ := hq
  refine x_cast (ci := 28) (by decide) rfl q3245 g14 dX12_here_16 ?_
  exact x_aret rfl xty_O dX12_here_19 hq
theorem rX12_here {G : xG} {fr lo : Nat} {x0 : Nat} {h : xH} {Q : Outcome → xH → Prop} (hq : bX12_here G fr lo x0 h Q) : xR G YX12_here fr lo [rv x0] h Q := by
  show xP _ _ _ _ _ (lv_args 0 _) _ _ _
  rw [show lv_args 0 [rv x0] = [(0, rv x0)] from (xla1 (rv_cat _) xla0)]
  exact uX12_here hq
set_option maxRecDepth 100000 in
theorem dX12_define_0 : decode cX12_define 0 = .ok (.aload_n 0, 1) := by decide +kernel
set_option maxRecDepth 100000 in
theorem dX12_define_1 : decode cX12_define 1 = .ok (.aload_n 3, 1) := by decide +kernel
set_option maxRecDepth 100000 in
theorem dX12_define_2 : decode cX12_define 2 = .ok (.aload_n 0, 1) := by decide +kernel
set_option maxRecDepth 100000 in
theorem dX12_define_3 : decode cX12_define 3 = .ok (.getfield 32, 3) := by decide +kernel
set_option maxRecDepth 100000 in
theorem dX12_define_6 : decode cX12_define 6 = .ok (.iload_n 2, 1) := by decide +kernel
set_option maxRecDepth 100000 in
theorem dX12_define_7 : decode cX12_define 7 = .ok (.iaload, 1) := by decide +kernel
set_option maxRecDepth 100000 in
theorem dX12_define_8 : decode cX12_define 8 = .ok (.invokevirtual 566, 3) := by decide +kernel
set_option maxRecDepth 100000 in
theorem dX12_define_11 : decode cX12_define 11 = .ok (.ifnull 9, 3) := by decide +kernel
set_option maxRecDepth 100000 in
theorem dX12_define_14 : decode cX12_define 14 = .ok (.aload_n 0, 1) := by decide +kernel
set_option maxRecDepth 100000 in
theorem dX12_define_15 : decode cX12_define 15 = .ok (.iconst 5, 1) := by decide +kernel
set_option maxRecDepth 100000 in
theorem dX12_define_16 : decode cX12_define 16 = .ok (.iload_n 2, 1) := by decide +kernel
set_option maxRecDepth 100000 in
theorem dX12_define_17 : decode cX12_define 17 = .ok (.invokevirtual 570, 3) := by decide +kernel
set_option maxRecDepth 100000 in
theorem dX12_define_20 : decode cX12_define 20 = .ok (.new 100, 3) := by decide +kernel
set_option maxRecDepth 100000 in
theorem dX12_define_23 : decode cX12_define 23 = .ok (.dup, 1) := by decide +kernel
set_option maxRecDepth 100000 in
theorem dX12_define_24 : decode cX12_define 24 = .ok (.iload_n 1, 1) := by decide +kernel
set_option maxRecDepth 100000 in
theorem dX12_define_25 : decode cX12_define 25 = .ok (.aload_n 0, 1) := by decide +kernel
set_option maxRecDepth 100000 in
theorem dX12_define_26 : decode cX12_define 26 = .ok (.getfield 32, 3) := by decide +kernel
set_option maxRecDepth 100000 in
theorem dX12_define_29 : decode cX12_define 29 = .ok (.iload_n 2, 1) := by decide +kernel
set_option maxRecDepth 100000 in
theorem dX12_define_30 : decode cX12_define 30 = .ok (.iaload, 1) := by decide +kernel
set_option maxRecDepth 100000 in
theorem dX12_define_31 : decode cX12_define 31 = .ok (.invokespecial 585, 3) := by decide +kernel
set_option maxRecDepth 100000 in
theorem dX12_define_34 : decode cX12_define 34 = .ok (.astore 4, 2) := by decide +kernel
set_option maxRecDepth 100000 in
theorem dX12_define_36 : decode cX12_define 36 = .ok (.aload 4, 2) := by decide +kernel
set_option maxRecDepth 100000 in
theorem dX12_define_38 : decode cX12_define 38 = .ok (.iload_n 2, 1) := by decide +kernel
set_option maxRecDepth 100000 in
theorem dX12_define_39 : decode cX12_define 39 = .ok (.putfield 587, 3) := by decide +kernel
set_option maxRecDepth 100000 in
theorem dX12_define_42 : decode cX12_define 42 = .ok (.aload_n 3, 1) := by decide +kernel
set_option maxRecDepth 100000 in
theorem dX12_define_43 : decode cX12_define 43 = .ok (.aload 4, 2) := by decide +kernel
set_option maxRecDepth 100000 in
theorem dX12_define_45 : decode cX12_define 45 = .ok (.invokevirtual 579, 3) := by decide +kernel
set_option maxRecDepth 100000 in
theorem dX12_define_48 : decode cX12_define 48 = .ok (.pop, 1) := by decide +kernel
set_option maxRecDepth 100000 in
theorem dX12_define_49 : decode cX12_define 49 = .ok (.aload 4, 2) := by decide +kernel
set_option maxRecDepth 100000 in
theorem dX12_define_51 : decode cX12_define 51 = .ok (.areturn, 1) := by decide +kernel
set_option maxRecDepth 100000 in
def bX12_define_20 (G : xG) (fr lo : Nat) (x0 : Nat) (x1 : Int32) (x2 : Int32) (x3 : Nat) (h : xH) (Q : Outcome → xH → Prop) : Prop := nx h + 1 ≤ xGN G ∧ us h + 28 ≤ xGU G ∧ (∀ (a3 : Nat) (h4 : xH), a3 = nx h + 1 → h4 = nO h 24 28 → xfresh h a3 → tg h4 x0 = 13 ∧ tg h4 (fR h4 x0 3084) = 100 ∧ vp_in x2 (ln h4 (fR h4 x0 3084)) ∧ 1 ≤ fr ∧ 15 ≤ lo ∧ xRv G YX23_init (fr - 1) (lo - 15) [rv a3, .int x1, .int (aI h4 (fR h4 x0 3084) (Int32.toNatClampNeg x2))] h4 (fun h14 => xext h4 h14 → (∀ h18 : xH, h18 = sI h14 a3 5913 x2 → tg h18 x3 = 29 ∧ 1 ≤ fr ∧ 13 ≤ lo ∧ xRi G YJ2_add (fr - 1) (lo - 13) [rv x3, rv a3] h18 (fun x24 h23 => xext h18 h23 → Q (.returned (some (rv a3))) h23) (fun r h2 => Q (.threw r) h2))) (fun r h2 => Q (.threw r) h2))
set_option maxRecDepth 100000 in
theorem uX12_define_20 {G : xG} {fr lo : Nat} {x0 : Nat} {x1 : Int32} {x2 : Int32} {x3 : Nat} {h : xH} {Q : Outcome → xH → Prop} (hq : bX12_define_20 G fr lo x0 x1 x2 x3 h Q) : xP G YX12_define fr lo 20 [(0, rv x0), (1, .int x1), (2, .int x2), (3, rv x3)] [] h Q := by
  unfold bX12_define_20 at hq
  obtain ⟨g1, g2, hq⟩ := hq
  obtain ⟨a3, e5⟩ : ∃ y, y = nx h + 1 := ⟨_, rfl⟩
  obtain ⟨h4, e6⟩ : ∃ y, y = nO h 24 28 := ⟨_, rfl⟩
  refine x_new' cdX12_100 dX12_define_20 g1 g2 e5 e6 (fun f7 => ?_)
  replace hq := hq a3 h4 e5 e6 f7
  have t8 : tg h4 a3 = 24 := by rw [e6, e5]; exact tg_nO
  refine x_dup dX12_define_23 (rv_cat _) ?_
  refine x_iload_n 1 dX12_define_24 rfl ?_
  refine x_aload_n 0 dX12_define_25 rfl ?_
  obtain ⟨g9, hq⟩ := hq
  refine x_get (v := rv (fR h4 x0 3084)) fdX12_32 dX12_define_26 g9 rfl ?_
  refine x_iload_n 2 dX12_define_29 rfl ?_
  obtain ⟨g10, hq⟩ := hq
  obtain ⟨i11, hq⟩ := hq
  refine x_iald 0 (Or.inl rfl) g10 i11 dX12_define_30 ?_
  obtain ⟨g12, g13, hq⟩ := hq
  refine x_callI (Yc := YX23_init) (as := [.int x1, .int (aI h4 (fR h4 x0 3084) (Int32.toNatClampNeg x2))]) (st := [rv a3]) q3935 miX23_init (by rw [t8]; decide) rfl dX12_define_31 (xle (xal1 (rv_cat _) (xal1 rfl (xal1 rfl xal0))) (by decide)) (xfr g12) (xlo (xsw1 (rv_cat _) xsw0) (by decide) g13) (xKv hq (fun h14 hq e16 => ?_) (fun _ _ q _ => q))
  replace hq := hq e16
  refine x_astore (lv' := [(4, rv a3), (0, rv x0), (1, .int x1), (2, .int x2), (3, rv x3)]) dX12_define_34 (by decide) (by first | rfl | (simp [rv_cat, Value.category]; done) | (simp [rv_cat, Value.category]; decide)) ?_
  refine x_aload 0 dX12_define_36 rfl ?_
  refine x_iload_n 3 dX12_define_38 rfl ?_
  have t17 : tg h14 a3 = 24 := e16.tg t8 (by decide)
  obtain ⟨h18, e19⟩ : ∃ y, y = sI h14 a3 5913 x2 := ⟨_, rfl⟩
  replace hq := hq h18 e19
  refine x_putI fdX12_587 xty_I1 dX12_define_39 t17 (Or.inl (by rw [t17]; rfl)) xnI rfl e19 ?_
  refine x_aload_n 4 dX12_define_42 rfl ?_
  refine x_aload 0 dX12_define_43 rfl ?_
  obtain ⟨g20, hq⟩ := hq
  obtain ⟨g21, g22, hq⟩ := hq
  refine x_callV (Yc := YJ2_add) (as := [rv a3]) (st := []) q4030 mvJ2_add g20 rfl dX12_define_45 (xle (xal1 (rv_cat _) (xal1 (rv_cat _) xal0)) (by decide)) (xfr g21) (xlo xsw0 (by decide) g22) (xKi hq (fun x24 h23 hq e25 => ?_) (fun _ _ q _ => q))
  replace hq := hq e25
  refine x_pop dX12_define_48 rfl ?_
  refine x_aload 0 dX12_define_49 rfl ?_
  exact x_aret rfl xty_O dX12_define_51 hq
set_option maxRecDepth 100000 in
def bX12_define (G : xG) (fr lo : Nat) (x0 : Nat) (x1 : Int32) (x2 : Int32) (x3 : Nat) (h : xH) (Q : Outcome → xH → Prop) : Prop := tg h x0 = 13 ∧ tg h (fR h x0 3084) = 100 ∧ vp_in x2 (ln h (fR h x0 3084)) ∧ 1 ≤ fr ∧ 15 ≤ lo ∧ xRr G YX12_inRegion (fr - 1) (lo - 15) [rv x0, rv x3, .int (aI h (fR h x0 3084) (Int32.toNatClampNeg x2))] h (fun x7 h6 => xext h h6 → ((x7 = 0 → bX12_define_20 G fr lo x0 x1 x2 x3 h6 Q) ∧ (¬ x7 = 0 → 1 ≤ fr ∧ 14 ≤ lo ∧ xRv G YX12_refuse (fr - 1) (lo - 14) [rv x0, .int 5, .int x2] h6 (fun h13 => xext h6 h13 → bX12_define_20 G fr lo x0 x1 x2 x3 h13 Q) (fun r h2 => Q (.threw r) h2)))) (fun r h2 => Q (.threw r) h2)
set_option maxRecDepth 100000 in
theorem uX12_define {G : xG} {fr lo : Nat} {x0 : Nat} {x1 : Int32} {x2 : Int32} {x3 : Nat} {h : xH} {Q : Outcome → xH → Prop} (hq : bX12_define G fr lo x0 x1 x2 x3 h Q) : xP G YX12_define fr lo 0 [(0, rv x0), (1, .int x1), (2, .int x2), (3, rv x3)] [] h Q := by
  unfold bX12_define at hq
  refine x_aload_n 0 dX12_define_0 rfl ?_
  refine x_aload_n 3 dX12_define_1 rfl ?_
  refine x_aload_n 0 dX12_define_2 rfl ?_
  obtain ⟨g1, hq⟩ := hq
  refine x_get (v := rv (fR h x0 3084)) fdX12_32 dX12_define_3 g1 rfl ?_
  refine x_iload_n 2 dX12_define_6 rfl ?_
  obtain ⟨g2, hq⟩ := hq
  obtain ⟨i3, hq⟩ := hq
  refine x_iald 0 (Or.inl rfl) g2 i3 dX12_define_7 ?_
  obtain ⟨g4, g5, hq⟩ := hq
  refine x_callV (Yc := YX12_inRegion) (as := [rv x3, .int (aI h (fR h x0 3084) (Int32.toNatClampNeg x2))]) (st := []) q4114 mvX12_inRegion g1 rfl dX12_define_8 (xle (xal1 (rv_cat _) (xal1 (rv_cat _) (xal1 rfl xal0))) (by decide)) (xfr g4) (xlo xsw0 (by decide) g5) (xKr hq (fun x7 h6 hq e8 => ?_) (fun _ _ q _ => q))
  replace hq := hq e8
  refine x_ifnull (tgt := 20) dX12_define_11 (by decide) (fun c9 => ?_) (fun c9 => ?_)
  · replace hq := hq.1 c9
    exact uX12_define_20 hq
  · replace hq := hq.2 c9
    refine x_aload_n 0 dX12_define_14 rfl ?_
    refine x_iconst (v := 5) dX12_define_15 (by decide) ?_
    refine x_iload_n 2 dX12_define_16 rfl ?_
    have t10 : tg h6 x0 = 13 := e8.tg g1 (by decide)
    obtain ⟨g11, g12, hq⟩ := hq
    refine x_callV (Yc := YX12_refuse) (as := [.int 5, .int x2]) (st := []) q4095 mvX12_refuse t10 rfl dX12_define_17 (xle (xal1 (rv_cat _) (xal1 rfl (xal1 rfl xal0))) (by decide)) (xfr g11) (xlo xsw0 (by decide) g12) (xKv hq (fun h13 hq e15 => ?_) (fun _ _ q _ => q))
    replace hq := hq e15
    exact uX12_define_20 hq
theorem rX12_define {G : xG} {fr lo : Nat} {x0 : Nat} {x1 : Int32} {x2 : Int32} {x3 : Nat} {h : xH} {Q : Outcome → xH → Prop} (hq : bX12_define G fr lo x0 x1 x2 x3 h Q) : xR G YX12_define fr lo [rv x0, .int x1, .int x2, rv x3] h Q := by
  show xP _ _ _ _ _ (lv_args 0 _) _ _ _
  rw [show lv_args 0 [rv x0, .int x1, .int x2, rv x3] = [(0, rv x0), (1, .int x1), (2, .int x2), (3, rv x3)] from (xla1 (rv_cat _) (xla1 rfl (xla1 rfl (xla1 (rv_cat _) xla0))))]
  exact uX12_define hq
set_option maxRecDepth 100000 in
theorem dX12_inRegion_0 : decode cX12_inRegion 0 = .ok (.iconst 0, 1) := by decide +kernel
set_option maxRecDepth 100000 in
theorem dX12_inRegion_1 : decode cX12_inRegion 1 = .ok (.istore_n 3, 1) := by decide +kernel
set_option maxRecDepth 100000 in
theorem dX12_inRegion_2 : decode cX12_inRegion 2 = .ok (.iload_n 3, 1) := by decide +kernel
set_option maxRecDepth 100000 in
theorem dX12_inRegion_3 : decode cX12_inRegion 3 = .ok (.aload_n 1, 1) := by decide +kernel
set_option maxRecDepth 100000 in
theorem dX12_inRegion_4 : decode cX12_inRegion 4 = .ok (.invokevirtual 554, 3) := by decide +kernel
set_option maxRecDepth 100000 in
theorem dX12_inRegion_7 : decode cX12_inRegion 7 = .ok (.if_icmp .ge 33, 3) := by decide +kernel
set_option maxRecDepth 100000 in
theorem dX12_inRegion_10 : decode cX12_inRegion 10 = .ok (.aload_n 1, 1) := by decide +kernel
set_option maxRecDepth 100000 in
theorem dX12_inRegion_11 : decode cX12_inRegion 11 = .ok (.iload_n 3, 1) := by decide +kernel
set_option maxRecDepth 100000 in
theorem dX12_inRegion_12 : decode cX12_inRegion 12 = .ok (.invokevirtual 556, 3) := by decide +kernel
set_option maxRecDepth 100000 in
theorem dX12_inRegion_15 : decode cX12_inRegion 15 = .ok (.checkcast 100, 3) := by decide +kernel
set_option maxRecDepth 100000 in
theorem dX12_inRegion_18 : decode cX12_inRegion 18 = .ok (.getfield 560, 3) := by decide +kernel
set_option maxRecDepth 100000 in
theorem dX12_inRegion_21 : decode cX12_inRegion 21 = .ok (.iload_n 2, 1) := by decide +kernel
set_option maxRecDepth 100000 in
theorem dX12_inRegion_22 : decode cX12_inRegion 22 = .ok (.if_icmp .ne 12, 3) := by decide +kernel
set_option maxRecDepth 100000 in
theorem dX12_inRegion_25 : decode cX12_inRegion 25 = .ok (.aload_n 1, 1) := by decide +kernel
set_option maxRecDepth 100000 in
theorem dX12_inRegion_26 : decode cX12_inRegion 26 = .ok (.iload_n 3, 1) := by decide +kernel
set_option maxRecDepth 100000 in
theorem dX12_inRegion_27 : decode cX12_inRegion 27 = .ok (.invokevirtual 556, 3) := by decide +kernel
set_option maxRecDepth 100000 in
theorem dX12_inRegion_30 : decode cX12_inRegion 30 = .ok (.checkcast 100, 3) := by decide +kernel
set_option maxRecDepth 100000 in
theorem dX12_inRegion_33 : decode cX12_inRegion 33 = .ok (.areturn, 1) := by decide +kernel
set_option maxRecDepth 100000 in
theorem dX12_inRegion_34 : decode cX12_inRegion 34 = .ok (.iinc 3 1, 3) := by decide +kernel
set_option maxRecDepth 100000 in
theorem dX12_inRegion_37 : decode cX12_inRegion 37 = .ok (.goto (-35), 3) := by decide +kernel
set_option maxRecDepth 100000 in
theorem dX12_inRegion_40 : decode cX12_inRegion 40 = .ok (.aconst_null, 1) := by decide +kernel
set_option maxRecDepth 100000 in
theorem dX12_inRegion_41 : decode cX12_inRegion 41 = .ok (.areturn, 1) := by decide +kernel
def lX12_inRegion_2 (G : xG) (fr lo : Nat) (x1 : Nat) (x2 : Int32) (x3 : Int32) (h : xH) (Q : Outcome → xH → Prop) : Prop := xP G YX12_inRegion fr lo 2 [(1, rv x1), (2, .int x2), (3, .int x3)] [] h Q
set_option maxRecDepth 100000 in
def bX12_inRegion_2 (G : xG) (fr lo : Nat) (x1 : Nat) (x2 : Int32) (x3 : Int32) (h : xH) (Q : Outcome → xH → Prop) : Prop := tg h x1 = 29 ∧ 1 ≤ fr ∧ 13 ≤ lo ∧ xRi G YJ2_size (fr - 1) (lo - 13) [rv x1] h (fun x5 h4 => xext h h4 → ((x5 ≤ x3 → Q (.returned (some (rv 0))) h4) ∧ (¬ x5 ≤ x3 → 1 ≤ fr ∧ 13 ≤ lo ∧ xRr G YJ2_get (fr - 1) (lo - 13) [rv x1, .int x3] h4 (fun x12 h11 => xext h4 h11 → tg h11 x12 = 24 ∧ ((¬ (fI h11 x12 5889) = x2 → lX12_inRegion_2 G fr lo x1 x2 (x3 + 1) h11 Q) ∧ ((fI h11 x12 5889) = x2 → 1 ≤ fr ∧ 13 ≤ lo ∧ xRr G YJ2_get (fr - 1) (lo - 13) [rv x1, .int x3] h11 (fun x20 h19 => xext h11 h19 → tg h19 x20 = 24 ∧ Q (.returned (some (rv x20))) h19) (fun r h2 => Q (.threw r) h2)))) (fun r h2 => Q (.threw r) h2)))) (fun r h2 => Q (.threw r) h2)
set_option maxRecDepth 100000 in
theorem uX12_inRegion_2 {G : xG} {fr lo : Nat} {x1 : Nat} {x2 : Int32} {x3 : Int32} {h : xH} {Q : Outcome → xH → Prop} (hq : bX12_inRegion_2 G fr lo x1 x2 x3 h Q) : xP G YX12_inRegion fr lo 2 [(1, rv x1), (2, .int x2), (3, .int x3)] [] h Q := by
  unfold bX12_inRegion_2 at hq
  refine x_iload_n 2 dX12_inRegion_2 rfl ?_
  refine x_aload_n 0 dX12_inRegion_3 rfl ?_
  obtain ⟨g1, hq⟩ := hq
  obtain ⟨g2, g3, hq⟩ := hq
  refine x_callV (Yc := YJ2_size) (as := []) (st := [.int x3]) q4067 mvJ2_size g1 rfl dX12_inRegion_4 (xle (xal1 (rv_cat _) xal0) (by decide)) (xfr g2) (xlo (xsw1 rfl xsw0) (by decide) g3) (xKi hq (fun x5 h4 hq e6 => ?_) (fun _ _ q _ => q))
  replace hq := hq e6
  refine x_icmp_ge (tgt := 40) dX12_inRegion_7 (by decide) (fun c7 => ?_) (fun c7 => ?_)
  · replace hq := hq.1 c7
    refine x_null dX12_inRegion_40 ?_
    exact x_aret rfl xty_O dX12_inRegion_41 hq
  · replace hq := hq.2 c7
    refine x_aload_n 0 dX12_inRegion_10 rfl ?_
    refine x_iload_n 2 dX12_inRegion_11 rfl ?_
    have t8 : tg h4 x1 = 29 := e6.tg g1 (by decide)
    obtain ⟨g9, g10, hq⟩ := hq
    refine x_callV (Yc := YJ2_get) (as := [.int x3]) (st := []) q4109 mvJ2_get t8 rfl dX12_inRegion_12 (xle (xal1 (rv_cat _) (xal1 rfl xal0)) (by decide)) (xfr g9) (xlo xsw0 (by decide) g10) (xKr hq (fun x12 h11 hq e13 => ?_) (fun _ _ q _ => q))
    replace hq := hq e13
    obtain ⟨g14, hq⟩ := hq
    refine x_cast (ci := 23) (by decide) rfl q3206 g14 dX12_inRegion_15 ?_
    refine x_get (v := .int (fI h11 x12 5889)) fdX12_560 dX12_inRegion_18 g14 rfl ?_
    refine x_iload_n 1 dX12_inRegion_21 rfl ?_
    refine x_icmp_ne (tgt := 34) dX12_inRegion_22 (by decide) (fun c15 => ?_) (fun c15 => ?_)
    · replace hq := hq.1 c15
      refine x_iinc (lv' := [(3, .int (x3 + 1)), (1, rv x1), (2, .int x2)]) 2 dX12_inRegion_34 rfl (by decide) rfl ?_
      refine x_goto (tgt := 2) dX12_inRegion_37 (by decide) ?_
      refine xP.pick (lv' := [(1, rv x1), (2, .int x2), (3, .int (x3 + 1))]) [1, 2, 0] rfl ?_
      exact hq
    · replace hq := hq.2 c15
      refine x_aload_n 0 dX12_inRegion_25 rfl ?_
      refine x_iload_n 2 dX12_inRegion_26 rfl ?_
      have t16 : tg h11 x1 = 29 := e13.tg t8 (by decide)
      obtain ⟨g17, g18, hq⟩ := hq
      refine x_callV (Yc := YJ2_get) (as := [.int x3]) (st := []) q4109 mvJ2_get t16 rfl dX12_inRegion_27 (xle (xal1 (rv_cat _) (xal1 rfl xal0)) (by decide)) (xfr g17) (xlo xsw0 (by decide) g18) (xKr hq (fun x20 h19 hq e21 => ?_) (fun _ _ q _ => q))
      replace hq := hq e21
      obtain ⟨g22, hq⟩ := hq
      refine x_cast (ci := 23) (by decide) rfl q3206 g22 dX12_inRegion_30 ?_
      exact x_aret rfl xty_O dX12_inRegion_33 hq
set_option maxRecDepth 100000 in
def bX12_inRegion (G : xG) (fr lo : Nat) (x0 : Nat) (x1 : Nat) (x2 : Int32) (h : xH) (Q : Outcome → xH → Prop) : Prop := lX12_inRegion_2 G fr lo x1 x2 0 h Q
set_option maxRecDepth 100000 in
theorem uX12_inRegion {G : xG} {fr lo : Nat} {x0 : Nat} {x1 : Nat} {x2 : Int32} {h : xH} {Q : Outcome → xH → Prop} (hq : bX12_inRegion G fr lo x0 x1 x2 h Q) : xP G YX12_inRegion fr lo 0 [(0, rv x0), (1, rv x1), (2, .int x2)] [] h Q := by
  unfold bX12_inRegion at hq
  refine x_iconst (v := 0) dX12_inRegion_0 (by decide) ?_
  refine x_istore_n (lv' := [(3, .int 0), (0, rv x0), (1, rv x1), (2, .int x2)]) dX12_inRegion_1 (by decide) rfl ?_
  refine xP.pick (lv' := [(1, rv x1), (2, .int x2), (3, .int 0)]) [2, 3, 0] rfl ?_
  exact hq
theorem rX12_inRegion {G : xG} {fr lo : Nat} {x0 : Nat} {x1 : Nat} {x2 : Int32} {h : xH} {Q : Outcome → xH → Prop} (hq : bX12_inRegion G fr lo x0 x1 x2 h Q) : xR G YX12_inRegion fr lo [rv x0, rv x1, .int x2] h Q := by
  show xP _ _ _ _ _ (lv_args 0 _) _ _ _
  rw [show lv_args 0 [rv x0, rv x1, .int x2] = [(0, rv x0), (1, rv x1), (2, .int x2)] from (xla1 (rv_cat _) (xla1 (rv_cat _) (xla1 rfl xla0)))]
  exact uX12_inRegion hq
set_option maxRecDepth 100000 in
theorem dX12_level_0 : decode cX12_level 0 = .ok (.aload_n 0, 1) := by decide +kernel
set_option maxRecDepth 100000 in
theorem dX12_level_1 : decode cX12_level 1 = .ok (.getfield 141, 3) := by decide +kernel
set_option maxRecDepth 100000 in
theorem dX12_level_4 : decode cX12_level 4 = .ok (.invokevirtual 554, 3) := by decide +kernel
set_option maxRecDepth 100000 in
theorem dX12_level_7 : decode cX12_level 7 = .ok (.iconst 1, 1) := by decide +kernel
set_option maxRecDepth 100000 in
theorem dX12_level_8 : decode cX12_level 8 = .ok (.isub, 1) := by decide +kernel
set_option maxRecDepth 100000 in
theorem dX12_level_9 : decode cX12_level 9 = .ok (.ireturn, 1) := by decide +kernel
set_option maxRecDepth 100000 in
def bX12_level (G : xG) (fr lo : Nat) (x0 : Nat) (h : xH) (Q : Outcome → xH → Prop) : Prop := tg h x0 = 13 ∧ tg h (fR h x0 3126) = 29 ∧ 1 ≤ fr ∧ 12 ≤ lo ∧ xRi G YJ2_size (fr - 1) (lo - 12) [rv (fR h x0 3126)] h (fun x6 h5 => xext h h5 → Q (.returned (some (.int (x6 - 1)))) h5) (fun r h2 => Q (.threw r) h2)
set_option maxRecDepth 100000 in
theorem uX12_level {G : xG} {fr lo : Nat} {x0 : Nat} {h : xH} {Q : Outcome → xH → Prop} (hq : bX12_level G fr lo x0 h Q) : xP G YX12_level fr lo 0 [(0, rv x0)] [] h Q := by
  unfold bX12_level at hq
  refine x_aload_n 0 dX12_level_0 rfl ?_
  obtain ⟨g1, hq⟩ := hq
  refine x_get (v := rv (fR h x0 3126)) fdX12_141 dX12_level_1 g1 rfl ?_
  obtain ⟨g2, hq⟩ := hq
  obtain ⟨g3, g4, hq⟩ := hq
  refine x_callV (Yc := YJ2_size) (as := []) (st := []) q4067 mvJ2_size g2 rfl dX12_level_4 (xle (xal1 (rv_cat _) xal0) (by decide)) (xfr g3) (xlo xsw0 (by decide) g4) (xKi hq (fun x6 h5 hq e7 => ?_) (fun _ _ q _ => q))
  replace hq := hq e7
  refine x_iconst (v := 1) dX12_level_7 (by decide) ?_
  refine x_isub dX12_level_8 ?_
  exact x_iret rfl rfl dX12_level_9 hq
theorem rX12_level {G : xG} {fr lo : Nat} {x0 : Nat} {h : xH} {Q : Outcome → xH → Prop} (hq : bX12_level G fr lo x0 h Q) : xR G YX12_level fr lo [rv x0] h Q := by
  show xP _ _ _ _ _ (lv_args 0 _) _ _ _
  rw [show lv_args 0 [rv x0] = [(0, rv x0)] from (xla1 (rv_cat _) xla0)]
  exact uX12_level hq
set_option maxRecDepth 100000 in
theorem dX12_scope_0 : decode cX12_scope 0 = .ok (.aload_n 0, 1) := by decide +kernel
set_option maxRecDepth 100000 in
theorem dX12_scope_1 : decode cX12_scope 1 = .ok (.getfield 141, 3) := by decide +kernel
set_option maxRecDepth 100000 in
theorem dX12_scope_4 : decode cX12_scope 4 = .ok (.aload_n 0, 1) := by decide +kernel
set_option maxRecDepth 100000 in
theorem dX12_scope_5 : decode cX12_scope 5 = .ok (.getfield 141, 3) := by decide +kernel
set_option maxRecDepth 100000 in
theorem dX12_scope_8 : decode cX12_scope 8 = .ok (.invokevirtual 554, 3) := by decide +kernel
set_option maxRecDepth 100000 in
theorem dX12_scope_11 : decode cX12_scope 11 = .ok (.iconst 1, 1) := by decide +kernel
set_option maxRecDepth 100000 in
theorem dX12_scope_12 : decode cX12_scope 12 = .ok (.isub, 1) := by decide +kernel
set_option maxRecDepth 100000 in
theorem dX12_scope_13 : decode cX12_scope 13 = .ok (.invokevirtual 556, 3) := by decide +kernel
set_option maxRecDepth 100000 in
theorem dX12_scope_16 : decode cX12_scope 16 = .ok (.checkcast 685, 3) := by decide +kernel
set_option maxRecDepth 100000 in
theorem dX12_scope_19 : decode cX12_scope 19 = .ok (.areturn, 1) := by decide +kernel
set_option maxRecDepth 100000 in
def bX12_scope (G : xG) (fr lo : Nat) (x0 : Nat) (h : xH) (Q : Outcome → xH → Prop) : Prop := tg h x0 = 13 ∧ tg h (fR h x0 3126) = 29 ∧ 1 ≤ fr ∧ 13 ≤ lo ∧ xRi G YJ2_size (fr - 1) (lo - 13) [rv (fR h x0 3126)] h (fun x6 h5 => xext h h5 → 1 ≤ fr ∧ 13 ≤ lo ∧ xRr G YJ2_get (fr - 1) (lo - 13) [rv (fR h x0 3126), .int (x6 - 1)] h5 (fun x12 h11 => xext h5 h11 → tg h11 x12 = 25 ∧ Q (.returned (some (rv x12))) h11) (fun r h2 => Q (.threw r) h2)) (fun r h2 => Q (.threw r) h2)
set_option maxRecDepth 100000 in
theorem uX12_scope {G : xG} {fr lo : Nat} {x0 : Nat} {h : xH} {Q : Outcome → xH → Prop} (hq : bX12_scope G fr lo x0 h Q) : xP G YX12_scope fr lo 0 [(0, rv x0)] [] h Q := by
  unfold bX12_scope at hq
  refine x_aload_n 0 dX12_scope_0 rfl ?_
  obtain ⟨g1, hq⟩ := hq
  refine x_get (v := rv (fR h x0 3126)) fdX12_141 dX12_scope_1 g1 rfl ?_
  refine x_aload_n 0 dX12_scope_4 rfl ?_
  refine x_get (v := rv (fR h x0 3126)) fdX12_141 dX12_scope_5 g1 rfl ?_
  obtain ⟨g2, hq⟩ := hq
  obtain ⟨g3, g4, hq⟩ := hq
  refine x_callV (Yc := YJ2_size) (as := []) (st := [rv (fR h x0 3126)]) q4067 mvJ2_size g2 rfl dX12_scope_8 (xle (xal1 (rv_cat _) xal0) (by decide)) (xfr g3) (xlo (xsw1 (rv_cat _) xsw0) (by decide) g4) (xKi hq (fun x6 h5 hq e7 => ?_) (fun _ _ q _ => q))
  replace hq := hq e7
  refine x_iconst (v := 1) dX12_scope_11 (by decide) ?_
  refine x_isub dX12_scope_12 ?_
  have t8 : tg h5 (fR h x0 3126) = 29 := e7.tg g2 (by decide)
  obtain ⟨g9, g10, hq⟩ := hq
  refine x_callV (Yc := YJ2_get) (as := [.int (x6 - 1)]) (st := []) q4109 mvJ2_get t8 rfl dX12_scope_13 (xle (xal1 (rv_cat _) (xal1 rfl xal0)) (by decide)) (xfr g9) (xlo xsw0 (by decide) g10) (xKr hq (fun x12 h11 hq e13 => ?_) (fun _ _ q _ => q))
  replace hq := hq e13
  obtain ⟨g14, hq⟩ := hq
  refine x_cast (ci := 24) (by decide) rfl q4072 g14 dX12_scope_16 ?_
  exact x_aret rfl xty_O dX12_scope_19 hq
theorem rX12_scope {G : xG} {fr lo : Nat} {x0 : Nat} {h : xH} {Q : Outcome → xH → Prop} (hq : bX12_scope G fr lo x0 h Q) : xR G YX12_scope fr lo [rv x0] h Q := by
  show xP _ _ _ _ _ (lv_args 0 _) _ _ _
  rw [show lv_args 0 [rv x0] = [(0, rv x0)] from (xla1 (rv_cat _) xla0)]
  exact uX12_scope hq
set_option maxRecDepth 100000 in
theorem dX12_child_0 : decode cX12_child 0 = .ok (.aload_n 0, 1) := by decide +kernel
set_option maxRecDepth 100000 in
theorem dX12_child_1 : decode cX12_child 1 = .ok (.getfield 73, 3) := by decide +kernel
set_option maxRecDepth 100000 in
theorem dX12_child_4 : decode cX12_child 4 = .ok (.iload_n 1, 1) := by decide +kernel
set_option maxRecDepth 100000 in
theorem dX12_child_5 : decode cX12_child 5 = .ok (.iaload, 1) := by decide +kernel
set_option maxRecDepth 100000 in
theorem dX12_child_6 : decode cX12_child 6 = .ok (.istore_n 3, 1) := by decide +kernel
set_option maxRecDepth 100000 in
theorem dX12_child_7 : decode cX12_child 7 = .ok (.iconst 0, 1) := by decide +kernel
set_option maxRecDepth 100000 in
theorem dX12_child_8 : decode cX12_child 8 = .ok (.istore 4, 2) := by decide +kernel
set_option maxRecDepth 100000 in
theorem dX12_child_10 : decode cX12_child 10 = .ok (.iload 4, 2) := by decide +kernel
set_option maxRecDepth 100000 in
theorem dX12_child_12 : decode cX12_child 12 = .ok (.iload_n 2, 1) := by decide +kernel
set_option maxRecDepth 100000 in
theorem dX12_child_13 : decode cX12_child 13 = .ok (.if_icmp .ge 16, 3) := by decide +kernel
set_option maxRecDepth 100000 in
theorem dX12_child_16 : decode cX12_child 16 = .ok (.aload_n 0, 1) := by decide +kernel
set_option maxRecDepth 100000 in
theorem dX12_child_17 : decode cX12_child 17 = .ok (.getfield 79, 3) := by decide +kernel
set_option maxRecDepth 100000 in
theorem dX12_child_20 : decode cX12_child 20 = .ok (.iload_n 3, 1) := by decide +kernel
set_option maxRecDepth 100000 in
theorem dX12_child_21 : decode cX12_child 21 = .ok (.iaload, 1) := by decide +kernel
set_option maxRecDepth 100000 in
theorem dX12_child_22 : decode cX12_child 22 = .ok (.istore_n 3, 1) := by decide +kernel
set_option maxRecDepth 100000 in
theorem dX12_child_23 : decode cX12_child 23 = .ok (.iinc 4 1, 3) := by decide +kernel
set_option maxRecDepth 100000 in
theorem dX12_child_26 : decode cX12_child 26 = .ok (.goto (-16), 3) := by decide +kernel
set_option maxRecDepth 100000 in
theorem dX12_child_29 : decode cX12_child 29 = .ok (.iload_n 3, 1) := by decide +kernel
set_option maxRecDepth 100000 in
theorem dX12_child_30 : decode cX12_child 30 = .ok (.ireturn, 1) := by decide +kernel
def lX12_child_10 (G : xG) (fr lo : Nat) (x0 : Nat) (x2 : Int32) (x3 : Int32) (x4 : Int32) (h : xH) (Q : Outcome → xH → Prop) : Prop := xP G YX12_child fr lo 10 [(0, rv x0), (2, .int x2), (3, .int x3), (4, .int x4)] [] h Q
set_option maxRecDepth 100000 in
def bX12_child_10 (G : xG) (fr lo : Nat) (x0 : Nat) (x2 : Int32) (x3 : Int32) (x4 : Int32) (h : xH) (Q : Outcome → xH → Prop) : Prop := ((x2 ≤ x4 → Q (.returned (some (.int x3))) h) ∧ (¬ x2 ≤ x4 → tg h x0 = 13 ∧ tg h (fR h x0 3105) = 100 ∧ vp_in x3 (ln h (fR h x0 3105)) ∧ lX12_child_10 G fr lo x0 x2 (aI h (fR h x0 3105) (Int32.toNatClampNeg x3)) (x4 + 1) h Q))
set_option maxRecDepth 100000 in
theorem uX12_child_10 {G : xG} {fr lo : Nat} {x0 : Nat} {x2 : Int32} {x3 : Int32} {x4 : Int32} {h : xH} {Q : Outcome → xH → Prop} (hq : bX12_child_10 G fr lo x0 x2 x3 x4 h Q) : xP G YX12_child fr lo 10 [(0, rv x0), (2, .int x2), (3, .int x3), (4, .int x4)] [] h Q := by
  unfold bX12_child_10 at hq
  refine x_iload 3 dX12_child_10 rfl ?_
  refine x_iload_n 1 dX12_child_12 rfl ?_
  refine x_icmp_ge (tgt := 29) dX12_child_13 (by decide) (fun c1 => ?_) (fun c1 => ?_)
  · replace hq := hq.1 c1
    refine x_iload_n 2 dX12_child_29 rfl ?_
    exact x_iret rfl rfl dX12_child_30 hq
  · replace hq := hq.2 c1
    refine x_aload_n 0 dX12_child_16 rfl ?_
    obtain ⟨g2, hq⟩ := hq
    refine x_get (v := rv (fR h x0 3105)) fdX12_79 dX12_child_17 g2 rfl ?_
    refine x_iload_n 2 dX12_child_20 rfl ?_
    obtain ⟨g3, hq⟩ := hq
    obtain ⟨i4, hq⟩ := hq
    refine x_iald 0 (Or.inl rfl) g3 i4 dX12_child_21 ?_
    refine x_istore_n (lv' := [(3, .int (aI h (fR h x0 3105) (Int32.toNatClampNeg x3))), (0, rv x0), (2, .int x2), (4, .int x4)]) dX12_child_22 (by decide) rfl ?_
    refine x_iinc (lv' := [(4, .int (x4 + 1)), (3, .int (aI h (fR h x0 3105) (Int32.toNatClampNeg x3))), (0, rv x0), (2, .int x2)]) 3 dX12_child_23 rfl (by decide) rfl ?_
    refine x_goto (tgt := 10) dX12_child_26 (by decide) ?_
    refine xP.pick (lv' := [(0, rv x0), (2, .int x2), (3, .int (aI h (fR h x0 3105) (Int32.toNatClampNeg x3))), (4, .int (x4 + 1))]) [2, 3, 1, 0] rfl ?_
    exact hq
set_option maxRecDepth 100000 in
def bX12_child (G : xG) (fr lo : Nat) (x0 : Nat) (x1 : Int32) (x2 : Int32) (h : xH) (Q : Outcome → xH → Prop) : Prop := tg h x0 = 13 ∧ tg h (fR h x0 3103) = 100 ∧ vp_in x1 (ln h (fR h x0 3103)) ∧ lX12_child_10 G fr lo x0 x2 (aI h (fR h x0 3103) (Int32.toNatClampNeg x1)) 0 h Q
set_option maxRecDepth 100000 in
theorem uX12_child {G : xG} {fr lo : Nat} {x0 : Nat} {x1 : Int32} {x2 : Int32} {h : xH} {Q : Outcome → xH → Prop} (hq : bX12_child G fr lo x0 x1 x2 h Q) : xP G YX12_child fr lo 0 [(0, rv x0), (1, .int x1), (2, .int x2)] [] h Q := by
  unfold bX12_child at hq
  refine x_aload_n 0 dX12_child_0 rfl ?_
  obtain ⟨g1, hq⟩ := hq
  refine x_get (v := rv (fR h x0 3103)) fdX12_73 dX12_child_1 g1 rfl ?_
  refine x_iload_n 1 dX12_child_4 rfl ?_
  obtain ⟨g2, hq⟩ := hq
  obtain ⟨i3, hq⟩ := hq
  refine x_iald 0 (Or.inl rfl) g2 i3 dX12_child_5 ?_
  refine x_istore_n (lv' := [(3, .int (aI h (fR h x0 3103) (Int32.toNatClampNeg x1))), (0, rv x0), (1, .int x1), (2, .int x2)]) dX12_child_6 (by decide) rfl ?_
  refine x_iconst (v := 0) dX12_child_7 (by decide) ?_
  refine x_istore (lv' := [(4, .int 0), (3, .int (aI h (fR h x0 3103) (Int32.toNatClampNeg x1))), (0, rv x0), (1, .int x1), (2, .int x2)]) dX12_child_8 (by decide) rfl ?_
  refine xP.pick (lv' := [(0, rv x0), (2, .int x2), (3, .int (aI h (fR h x0 3103) (Int32.toNatClampNeg x1))), (4, .int 0)]) [2, 4, 1, 0] rfl ?_
  exact hq
theorem rX12_child {G : xG} {fr lo : Nat} {x0 : Nat} {x1 : Int32} {x2 : Int32} {h : xH} {Q : Outcome → xH → Prop} (hq : bX12_child G fr lo x0 x1 x2 h Q) : xR G YX12_child fr lo [rv x0, .int x1, .int x2] h Q := by
  show xP _ _ _ _ _ (lv_args 0 _) _ _ _
  rw [show lv_args 0 [rv x0, .int x1, .int x2] = [(0, rv x0), (1, .int x1), (2, .int x2)] from (xla1 (rv_cat _) (xla1 rfl (xla1 rfl xla0)))]
  exact uX12_child hq
