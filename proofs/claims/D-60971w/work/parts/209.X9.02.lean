/-! PascalHouse$Machine, walked (3) -/
set_option maxRecDepth 100000 in
theorem dX9_counts_0 : decode cX9_counts 0 = .ok (.aload_n 0, 1) := by decide +kernel
set_option maxRecDepth 100000 in
theorem dX9_counts_1 : decode cX9_counts 1 = .ok (.getfield 75, 3) := by decide +kernel
set_option maxRecDepth 100000 in
theorem dX9_counts_4 : decode cX9_counts 4 = .ok (.getfield 222, 3) := by decide +kernel
set_option maxRecDepth 100000 in
theorem dX9_counts_7 : decode cX9_counts 7 = .ok (.iload_n 2, 1) := by decide +kernel
set_option maxRecDepth 100000 in
theorem dX9_counts_8 : decode cX9_counts 8 = .ok (.iaload, 1) := by decide +kernel
set_option maxRecDepth 100000 in
theorem dX9_counts_9 : decode cX9_counts 9 = .ok (.istore_n 3, 1) := by decide +kernel
set_option maxRecDepth 100000 in
theorem dX9_counts_10 : decode cX9_counts 10 = .ok (.aload_n 0, 1) := by decide +kernel
set_option maxRecDepth 100000 in
theorem dX9_counts_11 : decode cX9_counts 11 = .ok (.getfield 28, 3) := by decide +kernel
set_option maxRecDepth 100000 in
theorem dX9_counts_14 : decode cX9_counts 14 = .ok (.aload_n 0, 1) := by decide +kernel
set_option maxRecDepth 100000 in
theorem dX9_counts_15 : decode cX9_counts 15 = .ok (.getfield 86, 3) := by decide +kernel
set_option maxRecDepth 100000 in
theorem dX9_counts_18 : decode cX9_counts 18 = .ok (.iconst 1, 1) := by decide +kernel
set_option maxRecDepth 100000 in
theorem dX9_counts_19 : decode cX9_counts 19 = .ok (.isub, 1) := by decide +kernel
set_option maxRecDepth 100000 in
theorem dX9_counts_20 : decode cX9_counts 20 = .ok (.laload, 1) := by decide +kernel
set_option maxRecDepth 100000 in
theorem dX9_counts_21 : decode cX9_counts 21 = .ok (.lstore 4, 2) := by decide +kernel
set_option maxRecDepth 100000 in
theorem dX9_counts_23 : decode cX9_counts 23 = .ok (.aload_n 0, 1) := by decide +kernel
set_option maxRecDepth 100000 in
theorem dX9_counts_24 : decode cX9_counts 24 = .ok (.getfield 35, 3) := by decide +kernel
set_option maxRecDepth 100000 in
theorem dX9_counts_27 : decode cX9_counts 27 = .ok (.aload_n 0, 1) := by decide +kernel
set_option maxRecDepth 100000 in
theorem dX9_counts_28 : decode cX9_counts 28 = .ok (.getfield 86, 3) := by decide +kernel
set_option maxRecDepth 100000 in
theorem dX9_counts_31 : decode cX9_counts 31 = .ok (.iconst 1, 1) := by decide +kernel
set_option maxRecDepth 100000 in
theorem dX9_counts_32 : decode cX9_counts 32 = .ok (.isub, 1) := by decide +kernel
set_option maxRecDepth 100000 in
theorem dX9_counts_33 : decode cX9_counts 33 = .ok (.daload, 1) := by decide +kernel
set_option maxRecDepth 100000 in
theorem dX9_counts_34 : decode cX9_counts 34 = .ok (.dstore 6, 2) := by decide +kernel
set_option maxRecDepth 100000 in
theorem dX9_counts_36 : decode cX9_counts 36 = .ok (.iload_n 1, 1) := by decide +kernel
set_option maxRecDepth 100000 in
theorem dX9_counts_37 : decode cX9_counts 37 = .ok (.tableswitch 339 70 78 #[51, 80, 93, 122, 135, 171, 181, 211, 236], 51) := by decide +kernel
set_option maxRecDepth 100000 in
theorem dX9_counts_88 : decode cX9_counts 88 = .ok (.aload_n 0, 1) := by decide +kernel
set_option maxRecDepth 100000 in
theorem dX9_counts_89 : decode cX9_counts 89 = .ok (.getfield 28, 3) := by decide +kernel
set_option maxRecDepth 100000 in
theorem dX9_counts_92 : decode cX9_counts 92 = .ok (.aload_n 0, 1) := by decide +kernel
set_option maxRecDepth 100000 in
theorem dX9_counts_93 : decode cX9_counts 93 = .ok (.getfield 86, 3) := by decide +kernel
set_option maxRecDepth 100000 in
theorem dX9_counts_96 : decode cX9_counts 96 = .ok (.iconst 1, 1) := by decide +kernel
set_option maxRecDepth 100000 in
theorem dX9_counts_97 : decode cX9_counts 97 = .ok (.isub, 1) := by decide +kernel
set_option maxRecDepth 100000 in
theorem dX9_counts_98 : decode cX9_counts 98 = .ok (.lload 4, 2) := by decide +kernel
set_option maxRecDepth 100000 in
theorem dX9_counts_100 : decode cX9_counts 100 = .ok (.lconst 0, 1) := by decide +kernel
set_option maxRecDepth 100000 in
theorem dX9_counts_101 : decode cX9_counts 101 = .ok (.lcmp, 1) := by decide +kernel
set_option maxRecDepth 100000 in
theorem dX9_counts_102 : decode cX9_counts 102 = .ok (.ifCond .ge 9, 3) := by decide +kernel
set_option maxRecDepth 100000 in
theorem dX9_counts_105 : decode cX9_counts 105 = .ok (.lload 4, 2) := by decide +kernel
set_option maxRecDepth 100000 in
theorem dX9_counts_107 : decode cX9_counts 107 = .ok (.lneg, 1) := by decide +kernel
set_option maxRecDepth 100000 in
theorem dX9_counts_108 : decode cX9_counts 108 = .ok (.goto 5, 3) := by decide +kernel
set_option maxRecDepth 100000 in
theorem dX9_counts_111 : decode cX9_counts 111 = .ok (.lload 4, 2) := by decide +kernel
set_option maxRecDepth 100000 in
theorem dX9_counts_113 : decode cX9_counts 113 = .ok (.lastore, 1) := by decide +kernel
set_option maxRecDepth 100000 in
theorem dX9_counts_114 : decode cX9_counts 114 = .ok (.goto 277, 3) := by decide +kernel
set_option maxRecDepth 100000 in
theorem dX9_counts_117 : decode cX9_counts 117 = .ok (.aload_n 0, 1) := by decide +kernel
set_option maxRecDepth 100000 in
theorem dX9_counts_118 : decode cX9_counts 118 = .ok (.lload 4, 2) := by decide +kernel
set_option maxRecDepth 100000 in
theorem dX9_counts_120 : decode cX9_counts 120 = .ok (.lload 4, 2) := by decide +kernel
set_option maxRecDepth 100000 in
theorem dX9_counts_122 : decode cX9_counts 122 = .ok (.lmul, 1) := by decide +kernel
set_option maxRecDepth 100000 in
theorem dX9_counts_123 : decode cX9_counts 123 = .ok (.iload_n 3, 1) := by decide +kernel
set_option maxRecDepth 100000 in
theorem dX9_counts_124 : decode cX9_counts 124 = .ok (.invokevirtual 312, 3) := by decide +kernel
set_option maxRecDepth 100000 in
theorem dX9_counts_127 : decode cX9_counts 127 = .ok (.goto 264, 3) := by decide +kernel
set_option maxRecDepth 100000 in
theorem dX9_counts_130 : decode cX9_counts 130 = .ok (.aload_n 0, 1) := by decide +kernel
set_option maxRecDepth 100000 in
theorem dX9_counts_131 : decode cX9_counts 131 = .ok (.getfield 35, 3) := by decide +kernel
set_option maxRecDepth 100000 in
theorem dX9_counts_134 : decode cX9_counts 134 = .ok (.aload_n 0, 1) := by decide +kernel
set_option maxRecDepth 100000 in
theorem dX9_counts_135 : decode cX9_counts 135 = .ok (.getfield 86, 3) := by decide +kernel
set_option maxRecDepth 100000 in
theorem dX9_counts_138 : decode cX9_counts 138 = .ok (.iconst 1, 1) := by decide +kernel
set_option maxRecDepth 100000 in
theorem dX9_counts_139 : decode cX9_counts 139 = .ok (.isub, 1) := by decide +kernel
set_option maxRecDepth 100000 in
theorem dX9_counts_140 : decode cX9_counts 140 = .ok (.dload 6, 2) := by decide +kernel
set_option maxRecDepth 100000 in
theorem dX9_counts_142 : decode cX9_counts 142 = .ok (.dconst 0, 1) := by decide +kernel
set_option maxRecDepth 100000 in
theorem dX9_counts_143 : decode cX9_counts 143 = .ok (.dcmp .g, 1) := by decide +kernel
set_option maxRecDepth 100000 in
theorem dX9_counts_144 : decode cX9_counts 144 = .ok (.ifCond .ge 9, 3) := by decide +kernel
set_option maxRecDepth 100000 in
theorem dX9_counts_147 : decode cX9_counts 147 = .ok (.dload 6, 2) := by decide +kernel
set_option maxRecDepth 100000 in
theorem dX9_counts_149 : decode cX9_counts 149 = .ok (.dneg, 1) := by decide +kernel
set_option maxRecDepth 100000 in
theorem dX9_counts_150 : decode cX9_counts 150 = .ok (.goto 5, 3) := by decide +kernel
set_option maxRecDepth 100000 in
theorem dX9_counts_153 : decode cX9_counts 153 = .ok (.dload 6, 2) := by decide +kernel
set_option maxRecDepth 100000 in
theorem dX9_counts_155 : decode cX9_counts 155 = .ok (.dastore, 1) := by decide +kernel
set_option maxRecDepth 100000 in
theorem dX9_counts_156 : decode cX9_counts 156 = .ok (.goto 235, 3) := by decide +kernel
set_option maxRecDepth 100000 in
theorem dX9_counts_159 : decode cX9_counts 159 = .ok (.aload_n 0, 1) := by decide +kernel
set_option maxRecDepth 100000 in
theorem dX9_counts_160 : decode cX9_counts 160 = .ok (.dload 6, 2) := by decide +kernel
set_option maxRecDepth 100000 in
theorem dX9_counts_162 : decode cX9_counts 162 = .ok (.dload 6, 2) := by decide +kernel
set_option maxRecDepth 100000 in
theorem dX9_counts_164 : decode cX9_counts 164 = .ok (.dmul, 1) := by decide +kernel
set_option maxRecDepth 100000 in
theorem dX9_counts_165 : decode cX9_counts 165 = .ok (.iload_n 3, 1) := by decide +kernel
set_option maxRecDepth 100000 in
theorem dX9_counts_166 : decode cX9_counts 166 = .ok (.invokevirtual 316, 3) := by decide +kernel
set_option maxRecDepth 100000 in
theorem dX9_counts_169 : decode cX9_counts 169 = .ok (.goto 222, 3) := by decide +kernel
set_option maxRecDepth 100000 in
theorem dX9_counts_172 : decode cX9_counts 172 = .ok (.dload 6, 2) := by decide +kernel
set_option maxRecDepth 100000 in
theorem dX9_counts_174 : decode cX9_counts 174 = .ok (.dconst 0, 1) := by decide +kernel
set_option maxRecDepth 100000 in
theorem dX9_counts_175 : decode cX9_counts 175 = .ok (.dcmp .g, 1) := by decide +kernel
set_option maxRecDepth 100000 in
theorem dX9_counts_176 : decode cX9_counts 176 = .ok (.ifCond .ge 13, 3) := by decide +kernel
set_option maxRecDepth 100000 in
theorem dX9_counts_179 : decode cX9_counts 179 = .ok (.aload_n 0, 1) := by decide +kernel
set_option maxRecDepth 100000 in
theorem dX9_counts_180 : decode cX9_counts 180 = .ok (.bipush 16, 2) := by decide +kernel
set_option maxRecDepth 100000 in
theorem dX9_counts_182 : decode cX9_counts 182 = .ok (.iload_n 3, 1) := by decide +kernel
set_option maxRecDepth 100000 in
theorem dX9_counts_183 : decode cX9_counts 183 = .ok (.invokevirtual 147, 3) := by decide +kernel
set_option maxRecDepth 100000 in
theorem dX9_counts_186 : decode cX9_counts 186 = .ok (.goto 205, 3) := by decide +kernel
set_option maxRecDepth 100000 in
theorem dX9_counts_189 : decode cX9_counts 189 = .ok (.aload_n 0, 1) := by decide +kernel
set_option maxRecDepth 100000 in
theorem dX9_counts_190 : decode cX9_counts 190 = .ok (.getfield 35, 3) := by decide +kernel
set_option maxRecDepth 100000 in
theorem dX9_counts_193 : decode cX9_counts 193 = .ok (.aload_n 0, 1) := by decide +kernel
set_option maxRecDepth 100000 in
theorem dX9_counts_194 : decode cX9_counts 194 = .ok (.getfield 86, 3) := by decide +kernel
set_option maxRecDepth 100000 in
theorem dX9_counts_197 : decode cX9_counts 197 = .ok (.iconst 1, 1) := by decide +kernel
set_option maxRecDepth 100000 in
theorem dX9_counts_198 : decode cX9_counts 198 = .ok (.isub, 1) := by decide +kernel
set_option maxRecDepth 100000 in
theorem dX9_counts_199 : decode cX9_counts 199 = .ok (.dload 6, 2) := by decide +kernel
set_option maxRecDepth 100000 in
theorem dX9_counts_201 : decode cX9_counts 201 = .ok (.invokestatic 401, 3) := by decide +kernel
set_option maxRecDepth 100000 in
theorem dX9_counts_204 : decode cX9_counts 204 = .ok (.dastore, 1) := by decide +kernel
set_option maxRecDepth 100000 in
theorem dX9_counts_205 : decode cX9_counts 205 = .ok (.goto 186, 3) := by decide +kernel
set_option maxRecDepth 100000 in
theorem dX9_counts_208 : decode cX9_counts 208 = .ok (.aload_n 0, 1) := by decide +kernel
set_option maxRecDepth 100000 in
theorem dX9_counts_209 : decode cX9_counts 209 = .ok (.dload 6, 2) := by decide +kernel
set_option maxRecDepth 100000 in
theorem dX9_counts_211 : decode cX9_counts 211 = .ok (.iload_n 3, 1) := by decide +kernel
set_option maxRecDepth 100000 in
theorem dX9_counts_212 : decode cX9_counts 212 = .ok (.invokevirtual 407, 3) := by decide +kernel
set_option maxRecDepth 100000 in
theorem dX9_counts_215 : decode cX9_counts 215 = .ok (.goto 176, 3) := by decide +kernel
set_option maxRecDepth 100000 in
theorem dX9_counts_218 : decode cX9_counts 218 = .ok (.aload_n 0, 1) := by decide +kernel
set_option maxRecDepth 100000 in
theorem dX9_counts_219 : decode cX9_counts 219 = .ok (.dload 6, 2) := by decide +kernel
set_option maxRecDepth 100000 in
theorem dX9_counts_221 : decode cX9_counts 221 = .ok (.dconst 0, 1) := by decide +kernel
set_option maxRecDepth 100000 in
theorem dX9_counts_222 : decode cX9_counts 222 = .ok (.dcmp .g, 1) := by decide +kernel
set_option maxRecDepth 100000 in
theorem dX9_counts_223 : decode cX9_counts 223 = .ok (.ifCond .ge 12, 3) := by decide +kernel
set_option maxRecDepth 100000 in
theorem dX9_counts_226 : decode cX9_counts 226 = .ok (.dload 6, 2) := by decide +kernel
set_option maxRecDepth 100000 in
theorem dX9_counts_228 : decode cX9_counts 228 = .ok (.ldc2_w 410, 3) := by decide +kernel
set_option maxRecDepth 100000 in
theorem dX9_counts_231 : decode cX9_counts 231 = .ok (.dsub, 1) := by decide +kernel
set_option maxRecDepth 100000 in
theorem dX9_counts_232 : decode cX9_counts 232 = .ok (.goto 9, 3) := by decide +kernel
set_option maxRecDepth 100000 in
theorem dX9_counts_235 : decode cX9_counts 235 = .ok (.dload 6, 2) := by decide +kernel
set_option maxRecDepth 100000 in
theorem dX9_counts_237 : decode cX9_counts 237 = .ok (.ldc2_w 410, 3) := by decide +kernel
set_option maxRecDepth 100000 in
theorem dX9_counts_240 : decode cX9_counts 240 = .ok (.dadd, 1) := by decide +kernel
set_option maxRecDepth 100000 in
theorem dX9_counts_241 : decode cX9_counts 241 = .ok (.iload_n 3, 1) := by decide +kernel
set_option maxRecDepth 100000 in
theorem dX9_counts_242 : decode cX9_counts 242 = .ok (.invokevirtual 407, 3) := by decide +kernel
set_option maxRecDepth 100000 in
theorem dX9_counts_245 : decode cX9_counts 245 = .ok (.goto 146, 3) := by decide +kernel
set_option maxRecDepth 100000 in
theorem dX9_counts_248 : decode cX9_counts 248 = .ok (.lload 4, 2) := by decide +kernel
set_option maxRecDepth 100000 in
theorem dX9_counts_250 : decode cX9_counts 250 = .ok (.lconst 0, 1) := by decide +kernel
set_option maxRecDepth 100000 in
theorem dX9_counts_251 : decode cX9_counts 251 = .ok (.lcmp, 1) := by decide +kernel
set_option maxRecDepth 100000 in
theorem dX9_counts_252 : decode cX9_counts 252 = .ok (.ifCond .lt 12, 3) := by decide +kernel
set_option maxRecDepth 100000 in
theorem dX9_counts_255 : decode cX9_counts 255 = .ok (.lload 4, 2) := by decide +kernel
set_option maxRecDepth 100000 in
theorem dX9_counts_257 : decode cX9_counts 257 = .ok (.ldc2_w 293, 3) := by decide +kernel
set_option maxRecDepth 100000 in
theorem dX9_counts_260 : decode cX9_counts 260 = .ok (.lcmp, 1) := by decide +kernel
set_option maxRecDepth 100000 in
theorem dX9_counts_261 : decode cX9_counts 261 = .ok (.ifCond .le 130, 3) := by decide +kernel
set_option maxRecDepth 100000 in
theorem dX9_counts_264 : decode cX9_counts 264 = .ok (.aload_n 0, 1) := by decide +kernel
set_option maxRecDepth 100000 in
theorem dX9_counts_265 : decode cX9_counts 265 = .ok (.iconst 1, 1) := by decide +kernel
set_option maxRecDepth 100000 in
theorem dX9_counts_266 : decode cX9_counts 266 = .ok (.iload_n 3, 1) := by decide +kernel
set_option maxRecDepth 100000 in
theorem dX9_counts_267 : decode cX9_counts 267 = .ok (.invokevirtual 147, 3) := by decide +kernel
set_option maxRecDepth 100000 in
theorem dX9_counts_270 : decode cX9_counts 270 = .ok (.goto 121, 3) := by decide +kernel
set_option maxRecDepth 100000 in
theorem dX9_counts_273 : decode cX9_counts 273 = .ok (.aload_n 0, 1) := by decide +kernel
set_option maxRecDepth 100000 in
theorem dX9_counts_274 : decode cX9_counts 274 = .ok (.getfield 28, 3) := by decide +kernel
set_option maxRecDepth 100000 in
theorem dX9_counts_277 : decode cX9_counts 277 = .ok (.aload_n 0, 1) := by decide +kernel
set_option maxRecDepth 100000 in
theorem dX9_counts_278 : decode cX9_counts 278 = .ok (.getfield 86, 3) := by decide +kernel
set_option maxRecDepth 100000 in
theorem dX9_counts_281 : decode cX9_counts 281 = .ok (.iconst 1, 1) := by decide +kernel
set_option maxRecDepth 100000 in
theorem dX9_counts_282 : decode cX9_counts 282 = .ok (.isub, 1) := by decide +kernel
set_option maxRecDepth 100000 in
theorem dX9_counts_283 : decode cX9_counts 283 = .ok (.lload 4, 2) := by decide +kernel
set_option maxRecDepth 100000 in
theorem dX9_counts_285 : decode cX9_counts 285 = .ok (.aload_n 0, 1) := by decide +kernel
set_option maxRecDepth 100000 in
theorem dX9_counts_286 : decode cX9_counts 286 = .ok (.getfield 75, 3) := by decide +kernel
set_option maxRecDepth 100000 in
theorem dX9_counts_289 : decode cX9_counts 289 = .ok (.getfield 224, 3) := by decide +kernel
set_option maxRecDepth 100000 in
theorem dX9_counts_292 : decode cX9_counts 292 = .ok (.iload_n 2, 1) := by decide +kernel
set_option maxRecDepth 100000 in
theorem dX9_counts_293 : decode cX9_counts 293 = .ok (.iaload, 1) := by decide +kernel
set_option maxRecDepth 100000 in
theorem dX9_counts_294 : decode cX9_counts 294 = .ok (.i2l, 1) := by decide +kernel
set_option maxRecDepth 100000 in
theorem dX9_counts_295 : decode cX9_counts 295 = .ok (.ladd, 1) := by decide +kernel
set_option maxRecDepth 100000 in
theorem dX9_counts_296 : decode cX9_counts 296 = .ok (.lastore, 1) := by decide +kernel
set_option maxRecDepth 100000 in
theorem dX9_counts_297 : decode cX9_counts 297 = .ok (.aload_n 0, 1) := by decide +kernel
set_option maxRecDepth 100000 in
theorem dX9_counts_298 : decode cX9_counts 298 = .ok (.getfield 28, 3) := by decide +kernel
set_option maxRecDepth 100000 in
theorem dX9_counts_301 : decode cX9_counts 301 = .ok (.aload_n 0, 1) := by decide +kernel
set_option maxRecDepth 100000 in
theorem dX9_counts_302 : decode cX9_counts 302 = .ok (.getfield 86, 3) := by decide +kernel
set_option maxRecDepth 100000 in
theorem dX9_counts_305 : decode cX9_counts 305 = .ok (.iconst 1, 1) := by decide +kernel
set_option maxRecDepth 100000 in
theorem dX9_counts_306 : decode cX9_counts 306 = .ok (.isub, 1) := by decide +kernel
set_option maxRecDepth 100000 in
theorem dX9_counts_307 : decode cX9_counts 307 = .ok (.laload, 1) := by decide +kernel
set_option maxRecDepth 100000 in
theorem dX9_counts_308 : decode cX9_counts 308 = .ok (.aload_n 0, 1) := by decide +kernel
set_option maxRecDepth 100000 in
theorem dX9_counts_309 : decode cX9_counts 309 = .ok (.getfield 75, 3) := by decide +kernel
set_option maxRecDepth 100000 in
theorem dX9_counts_312 : decode cX9_counts 312 = .ok (.getfield 201, 3) := by decide +kernel
set_option maxRecDepth 100000 in
theorem dX9_counts_315 : decode cX9_counts 315 = .ok (.iload_n 2, 1) := by decide +kernel
set_option maxRecDepth 100000 in
theorem dX9_counts_316 : decode cX9_counts 316 = .ok (.iaload, 1) := by decide +kernel
set_option maxRecDepth 100000 in
theorem dX9_counts_317 : decode cX9_counts 317 = .ok (.i2l, 1) := by decide +kernel
set_option maxRecDepth 100000 in
theorem dX9_counts_318 : decode cX9_counts 318 = .ok (.lcmp, 1) := by decide +kernel
set_option maxRecDepth 100000 in
theorem dX9_counts_319 : decode cX9_counts 319 = .ok (.ifCond .lt 28, 3) := by decide +kernel
set_option maxRecDepth 100000 in
theorem dX9_counts_322 : decode cX9_counts 322 = .ok (.aload_n 0, 1) := by decide +kernel
set_option maxRecDepth 100000 in
theorem dX9_counts_323 : decode cX9_counts 323 = .ok (.getfield 28, 3) := by decide +kernel
set_option maxRecDepth 100000 in
theorem dX9_counts_326 : decode cX9_counts 326 = .ok (.aload_n 0, 1) := by decide +kernel
set_option maxRecDepth 100000 in
theorem dX9_counts_327 : decode cX9_counts 327 = .ok (.getfield 86, 3) := by decide +kernel
set_option maxRecDepth 100000 in
theorem dX9_counts_330 : decode cX9_counts 330 = .ok (.iconst 1, 1) := by decide +kernel
set_option maxRecDepth 100000 in
theorem dX9_counts_331 : decode cX9_counts 331 = .ok (.isub, 1) := by decide +kernel
set_option maxRecDepth 100000 in
theorem dX9_counts_332 : decode cX9_counts 332 = .ok (.laload, 1) := by decide +kernel
set_option maxRecDepth 100000 in
theorem dX9_counts_333 : decode cX9_counts 333 = .ok (.aload_n 0, 1) := by decide +kernel
set_option maxRecDepth 100000 in
theorem dX9_counts_334 : decode cX9_counts 334 = .ok (.getfield 75, 3) := by decide +kernel
set_option maxRecDepth 100000 in
theorem dX9_counts_337 : decode cX9_counts 337 = .ok (.getfield 204, 3) := by decide +kernel
set_option maxRecDepth 100000 in
theorem dX9_counts_340 : decode cX9_counts 340 = .ok (.iload_n 2, 1) := by decide +kernel
set_option maxRecDepth 100000 in
theorem dX9_counts_341 : decode cX9_counts 341 = .ok (.iaload, 1) := by decide +kernel
set_option maxRecDepth 100000 in
theorem dX9_counts_342 : decode cX9_counts 342 = .ok (.i2l, 1) := by decide +kernel
set_option maxRecDepth 100000 in
theorem dX9_counts_343 : decode cX9_counts 343 = .ok (.lcmp, 1) := by decide +kernel
set_option maxRecDepth 100000 in
theorem dX9_counts_344 : decode cX9_counts 344 = .ok (.ifCond .le 47, 3) := by decide +kernel
set_option maxRecDepth 100000 in
theorem dX9_counts_347 : decode cX9_counts 347 = .ok (.aload_n 0, 1) := by decide +kernel
set_option maxRecDepth 100000 in
theorem dX9_counts_348 : decode cX9_counts 348 = .ok (.aload_n 0, 1) := by decide +kernel
set_option maxRecDepth 100000 in
theorem dX9_counts_349 : decode cX9_counts 349 = .ok (.getfield 75, 3) := by decide +kernel
set_option maxRecDepth 100000 in
theorem dX9_counts_352 : decode cX9_counts 352 = .ok (.getfield 204, 3) := by decide +kernel
set_option maxRecDepth 100000 in
theorem dX9_counts_355 : decode cX9_counts 355 = .ok (.iload_n 2, 1) := by decide +kernel
set_option maxRecDepth 100000 in
theorem dX9_counts_356 : decode cX9_counts 356 = .ok (.iaload, 1) := by decide +kernel
set_option maxRecDepth 100000 in
theorem dX9_counts_357 : decode cX9_counts 357 = .ok (.ldc_w 412, 3) := by decide +kernel
set_option maxRecDepth 100000 in
theorem dX9_counts_360 : decode cX9_counts 360 = .ok (.if_icmp .ne 8, 3) := by decide +kernel
set_option maxRecDepth 100000 in
theorem dX9_counts_363 : decode cX9_counts 363 = .ok (.bipush 8, 2) := by decide +kernel
set_option maxRecDepth 100000 in
theorem dX9_counts_365 : decode cX9_counts 365 = .ok (.goto 4, 3) := by decide +kernel
set_option maxRecDepth 100000 in
theorem dX9_counts_368 : decode cX9_counts 368 = .ok (.iconst 1, 1) := by decide +kernel
set_option maxRecDepth 100000 in
theorem dX9_counts_369 : decode cX9_counts 369 = .ok (.iload_n 3, 1) := by decide +kernel
set_option maxRecDepth 100000 in
theorem dX9_counts_370 : decode cX9_counts 370 = .ok (.invokevirtual 147, 3) := by decide +kernel
set_option maxRecDepth 100000 in
theorem dX9_counts_373 : decode cX9_counts 373 = .ok (.goto 18, 3) := by decide +kernel
set_option maxRecDepth 100000 in
theorem dX9_counts_376 : decode cX9_counts 376 = .ok (.aload_n 0, 1) := by decide +kernel
set_option maxRecDepth 100000 in
theorem dX9_counts_377 : decode cX9_counts 377 = .ok (.getfield 28, 3) := by decide +kernel
set_option maxRecDepth 100000 in
theorem dX9_counts_380 : decode cX9_counts 380 = .ok (.aload_n 0, 1) := by decide +kernel
set_option maxRecDepth 100000 in
theorem dX9_counts_381 : decode cX9_counts 381 = .ok (.getfield 86, 3) := by decide +kernel
set_option maxRecDepth 100000 in
theorem dX9_counts_384 : decode cX9_counts 384 = .ok (.iconst 1, 1) := by decide +kernel
set_option maxRecDepth 100000 in
theorem dX9_counts_385 : decode cX9_counts 385 = .ok (.isub, 1) := by decide +kernel
set_option maxRecDepth 100000 in
theorem dX9_counts_386 : decode cX9_counts 386 = .ok (.lload 4, 2) := by decide +kernel
set_option maxRecDepth 100000 in
theorem dX9_counts_388 : decode cX9_counts 388 = .ok (.lconst 1, 1) := by decide +kernel
set_option maxRecDepth 100000 in
theorem dX9_counts_389 : decode cX9_counts 389 = .ok (.land, 1) := by decide +kernel
set_option maxRecDepth 100000 in
theorem dX9_counts_390 : decode cX9_counts 390 = .ok (.lastore, 1) := by decide +kernel
set_option maxRecDepth 100000 in
theorem dX9_counts_391 : decode cX9_counts 391 = .ok (.return_, 1) := by decide +kernel
set_option maxRecDepth 100000 in
def bX9_counts_391 (G : xG) (fr lo : Nat) (h : xH) (Q : Outcome → xH → Prop) : Prop := Q (.returned none) h
set_option maxRecDepth 100000 in
theorem uX9_counts_391 {G : xG} {fr lo : Nat} {h : xH} {Q : Outcome → xH → Prop} (hq : bX9_counts_391 G fr lo h Q) : xP G YX9_counts fr lo 391 [] [] h Q := by
  unfold bX9_counts_391 at hq
  exact x_vret rfl dX9_counts_391 hq
set_option maxRecDepth 100000 in
def bX9_counts_369 (G : xG) (fr lo : Nat) (x3 : Int32) (s0 : Int32) (s1 : Nat) (h : xH) (Q : Outcome → xH → Prop) : Prop := tg h s1 = 10 ∧ 1 ≤ fr ∧ 14 ≤ lo ∧ xRv G YX9_fail (fr - 1) (lo - 14) [rv s1, .int s0, .int x3] h (fun h4 => xext h h4 → bX9_counts_391 G fr lo h4 Q) (fun r h2 => Q (.threw r) h2)
set_option maxRecDepth 100000 in
theorem uX9_counts_369 {G : xG} {fr lo : Nat} {x3 : Int32} {s0 : Int32} {s1 : Nat} {h : xH} {Q : Outcome → xH → Prop} (hq : bX9_counts_369 G fr lo x3 s0 s1 h Q) : xP G YX9_counts fr lo 369 [(3, .int x3)] [.int s0, rv s1] h Q := by
  unfold bX9_counts_369 at hq
  refine x_iload_n 0 dX9_counts_369 rfl ?_
  obtain ⟨g1, hq⟩ := hq
  obtain ⟨g2, g3, hq⟩ := hq
  refine x_callV (Yc := YX9_fail) (as := [.int s0, .int x3]) (st := []) q2835 mvX9_fail g1 rfl dX9_counts_370 (xle (xal1 (rv_cat _) (xal1 rfl (xal1 rfl xal0))) (by decide)) (xfr g2) (xlo xsw0 (by decide) g3) (xKv hq (fun h4 hq e6 => ?_) (fun _ _ q _ => q))
  replace hq := hq e6
  refine x_goto (tgt := 391) dX9_counts_373 (by decide) ?_
  refine xP.pick (lv' := []) [] rfl ?_
  exact uX9_counts_391 hq
set_option maxRecDepth 100000 in
def bX9_counts_347 (G : xG) (fr lo : Nat) (x0 : Nat) (x2 : Int32) (x3 : Int32) (h : xH) (Q : Outcome → xH → Prop) : Prop := tg h x0 = 10 ∧ tg h (fR h x0 2304) = 3 ∧ tg h (fR h (fR h x0 2304) 514) = 100 ∧ vp_in x2 (ln h (fR h (fR h x0 2304) 514)) ∧ ((¬ (aI h (fR h (fR h x0 2304) 514) (Int32.toNatClampNeg x2)) = 2147483647 → bX9_counts_369 G fr lo x3 1 x0 h Q) ∧ ((aI h (fR h (fR h x0 2304) 514) (Int32.toNatClampNeg x2)) = 2147483647 → bX9_counts_369 G fr lo x3 8 x0 h Q))
set_option maxRecDepth 100000 in
theorem uX9_counts_347 {G : xG} {fr lo : Nat} {x0 : Nat} {x2 : Int32} {x3 : Int32} {h : xH} {Q : Outcome → xH → Prop} (hq : bX9_counts_347 G fr lo x0 x2 x3 h Q) : xP G YX9_counts fr lo 347 [(0, rv x0), (2, .int x2), (3, .int x3)] [] h Q := by
  unfold bX9_counts_347 at hq
  refine x_aload_n 0 dX9_counts_347 rfl ?_
  refine x_aload_n 0 dX9_counts_348 rfl ?_
  obtain ⟨g1, hq⟩ := hq
  refine x_get (v := rv (fR h x0 2304)) fdX9_75 dX9_counts_349 g1 rfl ?_
  obtain ⟨g2, hq⟩ := hq
  refine x_getN (v := rv (fR h (fR h x0 2304) 514)) gfX9_204 dX9_counts_352 g2 rfl ?_
  refine x_iload_n 1 dX9_counts_355 rfl ?_
  obtain ⟨g3, hq⟩ := hq
  obtain ⟨i4, hq⟩ := hq
  refine x_iald 0 (Or.inl rfl) g3 i4 dX9_counts_356 ?_
  refine x_ldcw (v := 2147483647) q3075 dX9_counts_357 ?_
  refine x_icmp_ne (tgt := 368) dX9_counts_360 (by decide) (fun c5 => ?_) (fun c5 => ?_)
  · replace hq := hq.1 c5
    refine x_iconst (v := 1) dX9_counts_368 (by decide) ?_
    refine xP.pick (lv' := [(3, .int x3)]) [2] rfl ?_
    exact uX9_counts_369 hq
  · replace hq := hq.2 c5
    refine x_bipush (v := 8) dX9_counts_363 (by decide) ?_
    refine x_goto (tgt := 369) dX9_counts_365 (by decide) ?_
    refine xP.pick (lv' := [(3, .int x3)]) [2] rfl ?_
    exact uX9_counts_369 hq
set_option maxRecDepth 100000 in
def bX9_counts_264 (G : xG) (fr lo : Nat) (x0 : Nat) (x3 : Int32) (h : xH) (Q : Outcome → xH → Prop) : Prop := tg h x0 = 10 ∧ 1 ≤ fr ∧ 14 ≤ lo ∧ xRv G YX9_fail (fr - 1) (lo - 14) [rv x0, .int 1, .int x3] h (fun h4 => xext h h4 → bX9_counts_391 G fr lo h4 Q) (fun r h2 => Q (.threw r) h2)
set_option maxRecDepth 100000 in
theorem uX9_counts_264 {G : xG} {fr lo : Nat} {x0 : Nat} {x3 : Int32} {h : xH} {Q : Outcome → xH → Prop} (hq : bX9_counts_264 G fr lo x0 x3 h Q) : xP G YX9_counts fr lo 264 [(0, rv x0), (3, .int x3)] [] h Q := by
  unfold bX9_counts_264 at hq
  refine x_aload_n 0 dX9_counts_264 rfl ?_
  refine x_iconst (v := 1) dX9_counts_265 (by decide) ?_
  refine x_iload_n 1 dX9_counts_266 rfl ?_
  obtain ⟨g1, hq⟩ := hq
  obtain ⟨g2, g3, hq⟩ := hq
  refine x_callV (Yc := YX9_fail) (as := [.int 1, .int x3]) (st := []) q2835 mvX9_fail g1 rfl dX9_counts_267 (xle (xal1 (rv_cat _) (xal1 rfl (xal1 rfl xal0))) (by decide)) (xfr g2) (xlo xsw0 (by decide) g3) (xKv hq (fun h4 hq e6 => ?_) (fun _ _ q _ => q))
  replace hq := hq e6
  refine x_goto (tgt := 391) dX9_counts_270 (by decide) ?_
  refine xP.pick (lv' := []) [] rfl ?_
  exact uX9_counts_391 hq
set_option maxRecDepth 100000 in
def bX9_counts_241 (G : xG) (fr lo : Nat) (x3 : Int32) (s0 : UInt64) (s1 : Nat) (h : xH) (Q : Outcome → xH → Prop) : Prop := tg h s1 = 10 ∧ 1 ≤ fr ∧ 15 ≤ lo ∧ xRv G YX9_cuts (fr - 1) (lo - 15) [rv s1, .double s0, .int x3] h (fun h4 => xext h h4 → bX9_counts_391 G fr lo h4 Q) (fun r h2 => Q (.threw r) h2)
set_option maxRecDepth 100000 in
theorem uX9_counts_241 {G : xG} {fr lo : Nat} {x3 : Int32} {s0 : UInt64} {s1 : Nat} {h : xH} {Q : Outcome → xH → Prop} (hq : bX9_counts_241 G fr lo x3 s0 s1 h Q) : xP G YX9_counts fr lo 241 [(3, .int x3)] [.double s0, rv s1] h Q := by
  unfold bX9_counts_241 at hq
  refine x_iload_n 0 dX9_counts_241 rfl ?_
  obtain ⟨g1, hq⟩ := hq
  obtain ⟨g2, g3, hq⟩ := hq
  refine x_callV (Yc := YX9_cuts) (as := [.double s0, .int x3]) (st := []) q3068 mvX9_cuts g1 rfl dX9_counts_242 (xle (xal1 (rv_cat _) (xal2 rfl (xal1 rfl xal0))) (by decide)) (xfr g2) (xlo xsw0 (by decide) g3) (xKv hq (fun h4 hq e6 => ?_) (fun _ _ q _ => q))
  replace hq := hq e6
  refine x_goto (tgt := 391) dX9_counts_245 (by decide) ?_
  refine xP.pick (lv' := []) [] rfl ?_
  exact uX9_counts_391 hq
set_option maxRecDepth 100000 in
def bX9_counts_155 (G : xG) (fr lo : Nat) (s0 : UInt64) (s1 : Int32) (s2 : Nat) (h : xH) (Q : Outcome → xH → Prop) : Prop := tg h s2 = 102 ∧ vp_in s1 (ln h s2) ∧ (∀ h3 : xH, h3 = tD h s2 (Int32.toNatClampNeg s1) s0 → bX9_counts_391 G fr lo h3 Q)
set_option maxRecDepth 100000 in
theorem uX9_counts_155 {G : xG} {fr lo : Nat} {s0 : UInt64} {s1 : Int32} {s2 : Nat} {h : xH} {Q : Outcome → xH → Prop} (hq : bX9_counts_155 G fr lo s0 s1 s2 h Q) : xP G YX9_counts fr lo 155 [] [.double s0, .int s1, rv s2] h Q := by
  unfold bX9_counts_155 at hq
  obtain ⟨g1, hq⟩ := hq
  obtain ⟨i2, hq⟩ := hq
  obtain ⟨h3, e4⟩ : ∃ y, y = tD h s2 (Int32.toNatClampNeg s1) s0 := ⟨_, rfl⟩
  replace hq := hq h3 e4
  refine x_dast' g1 i2 dX9_counts_155 e4 ?_
  refine x_goto (tgt := 391) dX9_counts_156 (by decide) ?_
  exact uX9_counts_391 hq
set_option maxRecDepth 100000 in
def bX9_counts_113 (G : xG) (fr lo : Nat) (s0 : Int64) (s1 : Int32) (s2 : Nat) (h : xH) (Q : Outcome → xH → Prop) : Prop := tg h s2 = 101 ∧ vp_in s1 (ln h s2) ∧ (∀ h3 : xH, h3 = tJ h s2 (Int32.toNatClampNeg s1) s0 → bX9_counts_391 G fr lo h3 Q)
set_option maxRecDepth 100000 in
theorem uX9_counts_113 {G : xG} {fr lo : Nat} {s0 : Int64} {s1 : Int32} {s2 : Nat} {h : xH} {Q : Outcome → xH → Prop} (hq : bX9_counts_113 G fr lo s0 s1 s2 h Q) : xP G YX9_counts fr lo 113 [] [.long s0, .int s1, rv s2] h Q := by
  unfold bX9_counts_113 at hq
  obtain ⟨g1, hq⟩ := hq
  obtain ⟨i2, hq⟩ := hq
  obtain ⟨h3, e4⟩ : ∃ y, y = tJ h s2 (Int32.toNatClampNeg s1) s0 := ⟨_, rfl⟩
  replace hq := hq h3 e4
  refine x_last' g1 i2 dX9_counts_113 e4 ?_
  refine x_goto (tgt := 391) dX9_counts_114 (by decide) ?_
  exact uX9_counts_391 hq
set_option maxRecDepth 100000 in
def bX9_counts (G : xG) (fr lo : Nat) (x0 : Nat) (x1 : Int32) (x2 : Int32) (h : xH) (Q : Outcome → xH → Prop) : Prop := tg h x0 = 10 ∧ tg h (fR h x0 2304) = 3 ∧ tg h (fR h (fR h x0 2304) 516) = 100 ∧ vp_in x2 (ln h (fR h (fR h x0 2304) 516)) ∧ tg h (fR h x0 2307) = 101 ∧ vp_in ((fI h x0 2310) - 1) (ln h (fR h x0 2307)) ∧ tg h (fR h x0 2309) = 102 ∧ vp_in ((fI h x0 2310) - 1) (ln h (fR h x0 2309)) ∧ ((x1 = 70 → ((0 ≤ (lg_cmp (aJ h (fR h x0 2307) (Int32.toNatClampNeg ((fI h x0 2310) - 1))) 0) → bX9_counts_113 G fr lo (aJ h (fR h x0 2307) (Int32.toNatClampNeg ((fI h x0 2310) - 1))) ((fI h x0 2310) - 1) (fR h x0 2307) h Q) ∧ (¬ 0 ≤ (lg_cmp (aJ h (fR h x0 2307) (Int32.toNatClampNeg ((fI h x0 2310) - 1))) 0) → bX9_counts_113 G fr lo (-(aJ h (fR h x0 2307) (Int32.toNatClampNeg ((fI h x0 2310) - 1)))) ((fI h x0 2310) - 1) (fR h x0 2307) h Q))) ∧ (x1 = 71 → 1 ≤ fr ∧ 15 ≤ lo ∧ xRv G YX9_whole (fr - 1) (lo - 15) [rv x0, .long ((aJ h (fR h x0 2307) (Int32.toNatClampNeg ((fI h x0 2310) - 1))) * (aJ h (fR h x0 2307) (Int32.toNatClampNeg ((fI h x0 2310) - 1)))), .int (aI h (fR h (fR h x0 2304) 516) (Int32.toNatClampNeg x2))] h (fun h14 => xext h h14 → bX9_counts_391 G fr lo h14 Q) (fun r h2 => Q (.threw r) h2)) ∧ (x1 = 72 → ((0 ≤ (Op.cmpValue (FP.dcmp (aD h (fR h x0 2309) (Int32.toNatClampNeg ((fI h x0 2310) - 1))) FP.dconst0) .g) → bX9_counts_155 G fr lo (aD h (fR h x0 2309) (Int32.toNatClampNeg ((fI h x0 2310) - 1))) ((fI h x0 2310) - 1) (fR h x0 2309) h Q) ∧ (¬ 0 ≤ (Op.cmpValue (FP.dcmp (aD h (fR h x0 2309) (Int32.toNatClampNeg ((fI h x0 2310) - 1))) FP.dconst0) .g) → bX9_counts_155 G fr lo (FP.dneg (aD h (fR h x0 2309) (Int32.toNatClampNeg ((fI h x0 2310) - 1)))) ((fI h x0 2310) - 1) (fR h x0 2309) h Q))) ∧ (x1 = 73 → vf_n64 (FP.dmul (aD h (fR h x0 2309) (Int32.toNatClampNeg ((fI h x0 2310) - 1))) (aD h (fR h x0 2309) (Int32.toNatClampNeg ((fI h x0 2310) - 1)))) ∧ 1 ≤ fr ∧ 15 ≤ lo ∧ xRv G YX9_fraction (fr - 1) (lo - 15) [rv x0, .double (FP.dmul (aD h (fR h x0 2309) (Int32.toNatClampNeg ((fI h x0 2310) - 1))) (aD h (fR h x0 2309) (Int32.toNatClampNeg ((fI h x0 2310) - 1)))), .int (aI h (fR h (fR h x0 2304) 516) (Int32.toNatClampNeg x2))] h (fun h23 => xext h h23 → bX9_counts_391 G fr lo h23 Q) (fun r h2 => Q (.threw r) h2)) ∧ (x1 = 74 → ((0 ≤ (Op.cmpValue (FP.dcmp (aD h (fR h x0 2309) (Int32.toNatClampNeg ((fI h x0 2310) - 1))) FP.dconst0) .g) → 1 ≤ fr ∧ 15 ≤ lo ∧ xRd G YJ10_sqrt (fr - 1) (lo - 15) [.double (aD h (fR h x0 2309) (Int32.toNatClampNeg ((fI h x0 2310) - 1)))] h (fun x31 h30 => xext h h30 → vp_in ((fI h x0 2310) - 1) (ln h30 (fR h x0 2309)) ∧ (∀ h35 : xH, h35 = tD h30 (fR h x0 2309) (Int32.toNatClampNeg ((fI h x0 2310) - 1)) x31 → bX9_counts_391 G fr lo h35 Q)) (fun r h2 => Q (.threw r) h2)) ∧ (¬ 0 ≤ (Op.cmpValue (FP.dcmp (aD h (fR h x0 2309) (Int32.toNatClampNeg ((fI h x0 2310) - 1))) FP.dconst0) .g) → 1 ≤ fr ∧ 14 ≤ lo ∧ xRv G YX9_fail (fr - 1) (lo - 14) [rv x0, .int 16, .int (aI h (fR h (fR h x0 2304) 516) (Int32.toNatClampNeg x2))] h (fun h39 => xext h h39 → bX9_counts_391 G fr lo h39 Q) (fun r h2 => Q (.threw r) h2)))) ∧ (x1 = 75 → 1 ≤ fr ∧ 15 ≤ lo ∧ xRv G YX9_cuts (fr - 1) (lo - 15) [rv x0, .double (aD h (fR h x0 2309) (Int32.toNatClampNeg ((fI h x0 2310) - 1))), .int (aI h (fR h (fR h x0 2304) 516) (Int32.toNatClampNeg x2))] h (fun h45 => xext h h45 → bX9_counts_391 G fr lo h45 Q) (fun r h2 => Q (.threw r) h2)) ∧ (x1 = 76 → ((0 ≤ (Op.cmpValue (FP.dcmp (aD h (fR h x0 2309) (Int32.toNatClampNeg ((fI h x0 2310) - 1))) FP.dconst0) .g) → vf_n64 (FP.dadd (aD h (fR h x0 2309) (Int32.toNatClampNeg ((fI h x0 2310) - 1))) 4602678819172646912) ∧ bX9_counts_241 G fr lo (aI h (fR h (fR h x0 2304) 516) (Int32.toNatClampNeg x2)) (FP.dadd (aD h (fR h x0 2309) (Int32.toNatClampNeg ((fI h x0 2310) - 1))) 4602678819172646912) x0 h Q) ∧ (¬ 0 ≤ (Op.cmpValue (FP.dcmp (aD h (fR h x0 2309) (Int32.toNatClampNeg ((fI h x0 2310) - 1))) FP.dconst0) .g) → vf_n64 (FP.dsub (aD h (fR h x0 2309) (Int32.toNatClampNeg ((fI h x0 2310) - 1))) 4602678819172646912) ∧ bX9_counts_241 G fr lo (aI h (fR h (fR h x0 2304) 516) (Int32.toNatClampNeg x2)) (FP.dsub (aD h (fR h x0 2309) (Int32.toNatClampNeg ((fI h x0 2310) - 1))) 4602678819172646912) x0 h Q))) ∧ (x1 = 77 → (((lg_cmp (aJ h (fR h x0 2307) (Int32.toNatClampNeg ((fI h x0 2310) - 1))) 0) < 0 → bX9_counts_264 G fr lo x0 (aI h (fR h (fR h x0 2304) 516) (Int32.toNatClampNeg x2)) h Q) ∧ (¬ (lg_cmp (aJ h (fR h x0 2307) (Int32.toNatClampNeg ((fI h x0 2310) - 1))) 0) < 0 → (((lg_cmp (aJ h (fR h x0 2307) (Int32.toNatClampNeg ((fI h x0 2310) - 1))) 127) ≤ 0 → bX9_counts_391 G fr lo h Q) ∧ (¬ (lg_cmp (aJ h (fR h x0 2307) (Int32.toNatClampNeg ((fI h x0 2310) - 1))) 127) ≤ 0 → bX9_counts_264 G fr lo x0 (aI h (fR h (fR h x0 2304) 516) (Int32.toNatClampNeg x2)) h Q))))) ∧ (x1 = 78 → tg h (fR h (fR h x0 2304) 515) = 100 ∧ vp_in x2 (ln h (fR h (fR h x0 2304) 515)) ∧ vp_in ((fI h x0 2310) - 1) (ln h (fR h x0 2307)) ∧ (∀ h59 : xH, h59 = tJ h (fR h x0 2307) (Int32.toNatClampNeg ((fI h x0 2310) - 1)) ((aJ h (fR h x0 2307) (Int32.toNatClampNeg ((fI h x0 2310) - 1))) + (Int32.toInt64 (aI h (fR h (fR h x0 2304) 515) (Int32.toNatClampNeg x2)))) → tg h59 (fR h59 x0 2307) = 101 ∧ vp_in ((fI h59 x0 2310) - 1) (ln h59 (fR h59 x0 2307)) ∧ tg h59 (fR h59 x0 2304) = 3 ∧ tg h59 (fR h59 (fR h59 x0 2304) 513) = 100 ∧ vp_in x2 (ln h59 (fR h59 (fR h59 x0 2304) 513)) ∧ (((lg_cmp (aJ h59 (fR h59 x0 2307) (Int32.toNatClampNeg ((fI h59 x0 2310) - 1))) (Int32.toInt64 (aI h59 (fR h59 (fR h59 x0 2304) 513) (Int32.toNatClampNeg x2)))) < 0 → bX9_counts_347 G fr lo x0 x2 (aI h (fR h (fR h x0 2304) 516) (Int32.toNatClampNeg x2)) h59 Q) ∧ (¬ (lg_cmp (aJ h59 (fR h59 x0 2307) (Int32.toNatClampNeg ((fI h59 x0 2310) - 1))) (Int32.toInt64 (aI h59 (fR h59 (fR h59 x0 2304) 513) (Int32.toNatClampNeg x2)))) < 0 → vp_in ((fI h59 x0 2310) - 1) (ln h59 (fR h59 x0 2307)) ∧ tg h59 (fR h59 (fR h59 x0 2304) 514) = 100 ∧ vp_in x2 (ln h59 (fR h59 (fR h59 x0 2304) 514)) ∧ (((lg_cmp (aJ h59 (fR h59 x0 2307) (Int32.toNatClampNeg ((fI h59 x0 2310) - 1))) (Int32.toInt64 (aI h59 (fR h59 (fR h59 x0 2304) 514) (Int32.toNatClampNeg x2)))) ≤ 0 → bX9_counts_391 G fr lo h59 Q) ∧ (¬ (lg_cmp (aJ h59 (fR h59 x0 2307) (Int32.toNatClampNeg ((fI h59 x0 2310) - 1))) (Int32.toInt64 (aI h59 (fR h59 (fR h59 x0 2304) 514) (Int32.toNatClampNeg x2)))) ≤ 0 → bX9_counts_347 G fr lo x0 x2 (aI h (fR h (fR h x0 2304) 516) (Int32.toNatClampNeg x2)) h59 Q)))))) ∧ (¬ x1 = 70 → ¬ x1 = 71 → ¬ x1 = 72 → ¬ x1 = 73 → ¬ x1 = 74 → ¬ x1 = 75 → ¬ x1 = 76 → ¬ x1 = 77 → ¬ x1 = 78 → vp_in ((fI h x0 2310) - 1) (ln h (fR h x0 2307)) ∧ (∀ h73 : xH, h73 = tJ h (fR h x0 2307) (Int32.toNatClampNeg ((fI h x0 2310) - 1)) ((aJ h (fR h x0 2307) (Int32.toNatClampNeg ((fI h x0 2310) - 1))) &&& 1) → bX9_counts_391 G fr lo h73 Q)))
set_option maxRecDepth 100000 in
theorem uX9_counts {G : xG} {fr lo : Nat} {x0 : Nat} {x1 : Int32} {x2 : Int32} {h : xH} {Q : Outcome → xH → Prop} (hq : bX9_counts G fr lo x0 x1 x2 h Q) : xP G YX9_counts fr lo 0 [(0, rv x0), (1, .int x1), (2, .int x2)] [] h Q := by
  unfold bX9_counts at hq
  refine x_aload_n 0 dX9_counts_0 rfl ?_
  obtain ⟨g1, hq⟩ := hq
  refine x_get (v := rv (fR h x0 2304)) fdX9_75 dX9_counts_1 g1 rfl ?_
  obtain ⟨g2, hq⟩ := hq
  refine x_getN (v := rv (fR h (fR h x0 2304) 516)) gfX9_222 dX9_counts_4 g2 rfl ?_
  refine x_iload_n 2 dX9_counts_7 rfl ?_
  obtain ⟨g3, hq⟩ := hq
  obtain ⟨i4, hq⟩ := hq
  refine x_iald 0 (Or.inl rfl) g3 i4 dX9_counts_8 ?_
  refine x_istore_n (lv' := [(3, .int (aI h (fR h (fR h x0 2304) 516) (Int32.toNatClampNeg x2))), (0, rv x0), (1, .int x1), (2, .int x2)]) dX9_counts_9 (by decide) rfl ?_
  refine x_aload_n 1 dX9_counts_10 rfl ?_
  refine x_get (v := rv (fR h x0 2307)) fdX9_28 dX9_counts_11 g1 rfl ?_
  refine x_aload_n 1 dX9_counts_14 rfl ?_
  refine x_get (v := .int (fI h x0 2310)) fdX9_86 dX9_counts_15 g1 rfl ?_
  refine x_iconst (v := 1) dX9_counts_18 (by decide) ?_
  refine x_isub dX9_counts_19 ?_
  obtain ⟨g5, hq⟩ := hq
  obtain ⟨i6, hq⟩ := hq
  refine x_lald g5 i6 dX9_counts_20 ?_
  refine x_lstore (lv' := [(4, .long (aJ h (fR h x0 2307) (Int32.toNatClampNeg ((fI h x0 2310) - 1)))), (3, .int (aI h (fR h (fR h x0 2304) 516) (Int32.toNatClampNeg x2))), (0, rv x0), (1, .int x1), (2, .int x2)]) dX9_counts_21 (by decide) rfl ?_
  refine x_aload_n 2 dX9_counts_23 rfl ?_
  refine x_get (v := rv (fR h x0 2309)) fdX9_35 dX9_counts_24 g1 rfl ?_
  refine x_aload_n 2 dX9_counts_27 rfl ?_
  refine x_get (v := .int (fI h x0 2310)) fdX9_86 dX9_counts_28 g1 rfl ?_
  refine x_iconst (v := 1) dX9_counts_31 (by decide) ?_
  refine x_isub dX9_counts_32 ?_
  obtain ⟨g7, hq⟩ := hq
  obtain ⟨i8, hq⟩ := hq
  refine x_dald g7 i8 dX9_counts_33 ?_
  refine x_dstore (lv' := [(6, .double (aD h (fR h x0 2309) (Int32.toNatClampNeg ((fI h x0 2310) - 1)))), (4, .long (aJ h (fR h x0 2307) (Int32.toNatClampNeg ((fI h x0 2310) - 1)))), (3, .int (aI h (fR h (fR h x0 2304) 516) (Int32.toNatClampNeg x2))), (0, rv x0), (1, .int x1), (2, .int x2)]) dX9_counts_34 (by decide) rfl ?_
  refine x_iload_n 4 dX9_counts_36 rfl ?_
  by_cases c9 : x1 = 70
  · replace hq := hq.1 c9
    refine x_tin (tgt := 88) (off := 51) 70 c9 dX9_counts_37 (by decide) (by decide) (by decide) (by decide) ?_
    refine x_aload_n 3 dX9_counts_88 rfl ?_
    refine x_get (v := rv (fR h x0 2307)) fdX9_28 dX9_counts_89 g1 rfl ?_
    refine x_aload_n 3 dX9_counts_92 rfl ?_
    refine x_get (v := .int (fI h x0 2310)) fdX9_86 dX9_counts_93 g1 rfl ?_
    refine x_iconst (v := 1) dX9_counts_96 (by decide) ?_
    refine x_isub dX9_counts_97 ?_
    refine x_lload 1 dX9_counts_98 rfl ?_
    refine x_lconst (v := 0) dX9_counts_100 (by decide) ?_
    refine x_lcmp dX9_counts_101 ?_
    refine x_if_ge (tgt := 111) dX9_counts_102 (by decide) (fun c10 => ?_) (fun c10 => ?_)
    · replace hq := hq.1 c10
      refine x_lload 1 dX9_counts_111 rfl ?_
      refine xP.pick (lv' := []) [] rfl ?_
      exact uX9_counts_113 hq
    · replace hq := hq.2 c10
      refine x_lload 1 dX9_counts_105 rfl ?_
      refine x_lneg dX9_counts_107 ?_
      refine x_goto (tgt := 113) dX9_counts_108 (by decide) ?_
      refine xP.pick (lv' := []) [] rfl ?_
      exact uX9_counts_113 hq
  replace hq := hq.2
  by_cases c11 : x1 = 71
  · replace hq := hq.1 c11
    refine x_tin (tgt := 117) (off := 80) 71 c11 dX9_counts_37 (by decide) (by decide) (by decide) (by decide) ?_
    refine x_aload_n 3 dX9_counts_117 rfl ?_
    refine x_lload 1 dX9_counts_118 rfl ?_
    refine x_lload 1 dX9_counts_120 rfl ?_
    refine x_lmul dX9_counts_122 ?_
    refine x_iload_n 2 dX9_counts_123 rfl ?_
    obtain ⟨g12, g13, hq⟩ := hq
    refine x_callV (Yc := YX9_whole) (as := [.long ((aJ h (fR h x0 2307) (Int32.toNatClampNeg ((fI h x0 2310) - 1))) * (aJ h (fR h x0 2307) (Int32.toNatClampNeg ((fI h x0 2310) - 1)))), .int (aI h (fR h (fR h x0 2304) 516) (Int32.toNatClampNeg x2))]) (st := []) q2946 mvX9_whole g1 rfl dX9_counts_124 (xle (xal1 (rv_cat _) (xal2 rfl (xal1 rfl xal0))) (by decide)) (xfr g12) (xlo xsw0 (by decide) g13) (xKv hq (fun h14 hq e16 => ?_) (fun _ _ q _ => q))
    replace hq := hq e16
    refine x_goto (tgt := 391) dX9_counts_127 (by decide) ?_
    refine xP.pick (lv' := []) [] rfl ?_
    exact uX9_counts_391 hq
  replace hq := hq.2
  by_cases c17 : x1 = 72
  · replace hq := hq.1 c17
    refine x_tin (tgt := 130) (off := 93) 72 c17 dX9_counts_37 (by decide) (by decide) (by decide) (by decide) ?_
    refine x_aload_n 3 dX9_counts_130 rfl ?_
    refine x_get (v := rv (fR h x0 2309)) fdX9_35 dX9_counts_131 g1 rfl ?_
    refine x_aload_n 3 dX9_counts_134 rfl ?_
    refine x_get (v := .int (fI h x0 2310)) fdX9_86 dX9_counts_135 g1 rfl ?_
    refine x_iconst (v := 1) dX9_counts_138 (by decide) ?_
    refine x_isub dX9_counts_139 ?_
    refine x_dload 0 dX9_counts_140 rfl ?_
    refine x_dconst0 dX9_counts_142 ?_
    refine x_dcmp dX9_counts_143 ?_
    refine x_if_ge (tgt := 153) dX9_counts_144 (by decide) (fun c18 => ?_) (fun c18 => ?_)
    · replace hq := hq.1 c18
      refine x_dload 0 dX9_counts_153 rfl ?_
      refine xP.pick (lv' := []) [] rfl ?_
      exact uX9_counts_155 hq
    · replace hq := hq.2 c18
      refine x_dload 0 dX9_counts_147 rfl ?_
      refine x_dneg dX9_counts_149 ?_
      refine x_goto (tgt := 155) dX9_counts_150 (by decide) ?_
      refine xP.pick (lv' := []) [] rfl ?_
      exact uX9_counts_155 hq
  replace hq := hq.2
  by_cases c19 : x1 = 73
  · replace hq := hq.1 c19
    refine x_tin (tgt := 159) (off := 122) 73 c19 dX9_counts_37 (by decide) (by decide) (by decide) (by decide) ?_
    refine x_aload_n 3 dX9_counts_159 rfl ?_
    refine x_dload 0 dX9_counts_160 rfl ?_
    refine x_dload 0 dX9_counts_162 rfl ?_
    obtain ⟨g20, hq⟩ := hq
    refine x_dmul dX9_counts_164 g20 ?_
    refine x_iload_n 2 dX9_counts_165 rfl ?_
    obtain ⟨g21, g22, hq⟩ := hq
    refine x_callV (Yc := YX9_fraction) (as := [.double (FP.dmul (aD h (fR h x0 2309) (Int32.toNatClampNeg ((fI h x0 2310) - 1))) (aD h (fR h x0 2309) (Int32.toNatClampNeg ((fI h x0 2310) - 1)))), .int (aI h (fR h (fR h x0 2304) 516) (Int32.toNatClampNeg x2))]) (st := []) q2956 mvX9_fraction g1 rfl dX9_counts_166 (xle (xal1 (rv_cat _) (xal2 rfl (xal1 rfl xal0))) (by decide)) (xfr g21) (xlo xsw0 (by decide) g22) (xKv hq (fun h23 hq e25 => ?_) (fun _ _ q _ => q))
    replace hq := hq e25
    refine x_goto (tgt := 391) dX9_counts_169 (by decide) ?_
    refine xP.pick (lv' := []) [] rfl ?_
    exact uX9_counts_391 hq
  replace hq := hq.2
  by_cases c26 : x1 = 74
  · replace hq := hq.1 c26
    refine x_tin (tgt := 172) (off := 135) 74 c26 dX9_counts_37 (by decide) (by decide) (by decide) (by decide) ?_
    refine x_dload 0 dX9_counts_172 rfl ?_
    refine x_dconst0 dX9_counts_174 ?_
    refine x_dcmp dX9_counts_175 ?_
    refine x_if_ge (tgt := 189) dX9_counts_176 (by decide) (fun c27 => ?_) (fun c27 => ?_)
    · replace hq := hq.1 c27
      refine x_aload_n 3 dX9_counts_189 rfl ?_
      refine x_get (v := rv (fR h x0 2309)) fdX9_35 dX9_counts_190 g1 rfl ?_
      refine x_aload_n 3 dX9_counts_193 rfl ?_
      refine x_get (v := .int (fI h x0 2310)) fdX9_86 dX9_counts_194 g1 rfl ?_
      refine x_iconst (v := 1) dX9_counts_197 (by decide) ?_
      refine x_isub dX9_counts_198 ?_
      refine x_dload 0 dX9_counts_199 rfl ?_
      obtain ⟨g28, g29, hq⟩ := hq
      refine x_callS (Yc := YJ10_sqrt) (as := [.double (aD h (fR h x0 2309) (Int32.toNatClampNeg ((fI h x0 2310) - 1)))]) (st := [.int ((fI h x0 2310) - 1), rv (fR h x0 2309)]) q3030 msJ10_sqrt rfl dX9_counts_201 (xle (xal2 rfl xal0) (by decide)) (xfr g28) (xlo (xsw1 rfl (xsw1 (rv_cat _) xsw0)) (by decide) g29) (xKd hq (fun x31 h30 hq e32 => ?_) (fun _ _ q _ => q))
      replace hq := hq e32
      have t33 : tg h30 (fR h x0 2309) = 102 := e32.tg g7 (by decide)
      obtain ⟨i34, hq⟩ := hq
      obtain ⟨h35, e36⟩ : ∃ y, y = tD h30 (fR h x0 2309) (Int32.toNatClampNeg ((fI h x0 2310) - 1)) x31 := ⟨_, rfl⟩
      replace hq := hq h35 e36
      refine x_dast' t33 i34 dX9_counts_204 e36 ?_
      refine x_goto (tgt := 391) dX9_counts_205 (by decide) ?_
      refine xP.pick (lv' := []) [] rfl ?_
      exact uX9_counts_391 hq
    · replace hq := hq.2 c27
      refine x_aload_n 3 dX9_counts_179 rfl ?_
      refine x_bipush (v := 16) dX9_counts_180 (by decide) ?_
      refine x_iload_n 2 dX9_counts_182 rfl ?_
      obtain ⟨g37, g38, hq⟩ := hq
      refine x_callV (Yc := YX9_fail) (as := [.int 16, .int (aI h (fR h (fR h x0 2304) 516) (Int32.toNatClampNeg x2))]) (st := []) q2835 mvX9_fail g1 rfl dX9_counts_183 (xle (xal1 (rv_cat _) (xal1 rfl (xal1 rfl xal0))) (by decide)) (xfr g37) (xlo xsw0 (by decide) g38) (xKv hq (fun h39 hq e41 => ?_) (fun _ _ q _ => q))
      replace hq := hq e41
      refine x_goto (tgt := 391) dX9_counts_186 (by decide) ?_
      refine xP.pick (lv' := []) [] rfl ?_
      exact uX9_counts_391 hq
  replace hq := hq.2
  by_cases c42 : x1 = 75
  · replace hq := hq.1 c42
    refine x_tin (tgt := 208) (off := 171) 75 c42 dX9_counts_37 (by decide) (by decide) (by decide) (by decide) ?_
    refine x_aload_n 3 dX9_counts_208 rfl ?_
    refine x_dload 0 dX9_counts_209 rfl ?_
    refine x_iload_n 2 dX9_counts_211 rfl ?_
    obtain ⟨g43, g44, hq⟩ := hq
    refine x_callV (Yc := YX9_cuts) (as := [.double (aD h (fR h x0 2309) (Int32.toNatClampNeg ((fI h x0 2310) - 1))), .int (aI h (fR h (fR h x0 2304) 516) (Int32.toNatClampNeg x2))]) (st := []) q3068 mvX9_cuts g1 rfl dX9_counts_212 (xle (xal1 (rv_cat _) (xal2 rfl (xal1 rfl xal0))) (by decide)) (xfr g43) (xlo xsw0 (by decide) g44) (xKv hq (fun h45 hq e47 => ?_) (fun _ _ q _ => q))
    replace hq := hq e47
    refine x_goto (tgt := 391) dX9_counts_215 (by decide) ?_
    refine xP.pick (lv' := []) [] rfl ?_
    exact uX9_counts_391 hq
  replace hq := hq.2
  by_cases c48 : x1 = 76
  · replace hq := hq.1 c48
    refine x_tin (tgt := 218) (off := 181) 76 c48 dX9_counts_37 (by decide) (by decide) (by decide) (by decide) ?_
    refine x_aload_n 3 dX9_counts_218 rfl ?_
    refine x_dload 0 dX9_counts_219 rfl ?_
    refine x_dconst0 dX9_counts_221 ?_
    refine x_dcmp dX9_counts_222 ?_
    refine x_if_ge (tgt := 235) dX9_counts_223 (by decide) (fun c49 => ?_) (fun c49 => ?_)
    · replace hq := hq.1 c49
      refine x_dload 0 dX9_counts_235 rfl ?_
      refine x_ldc2d (v := 4602678819172646912) q3074 dX9_counts_237 ?_
      obtain ⟨g50, hq⟩ := hq
      refine x_dadd dX9_counts_240 g50 ?_
      refine xP.pick (lv' := [(3, .int (aI h (fR h (fR h x0 2304) 516) (Int32.toNatClampNeg x2)))]) [2] rfl ?_
      exact uX9_counts_241 hq
    · replace hq := hq.2 c49
      refine x_dload 0 dX9_counts_226 rfl ?_
      refine x_ldc2d (v := 4602678819172646912) q3074 dX9_counts_228 ?_
      obtain ⟨g51, hq⟩ := hq
      refine x_dsub dX9_counts_231 g51 ?_
      refine x_goto (tgt := 241) dX9_counts_232 (by decide) ?_
      refine xP.pick (lv' := [(3, .int (aI h (fR h (fR h x0 2304) 516) (Int32.toNatClampNeg x2)))]) [2] rfl ?_
      exact uX9_counts_241 hq
  replace hq := hq.2
  by_cases c52 : x1 = 77
  · replace hq := hq.1 c52
    refine x_tin (tgt := 248) (off := 211) 77 c52 dX9_counts_37 (by decide) (by decide) (by decide) (by decide) ?_
    refine x_lload 1 dX9_counts_248 rfl ?_
    refine x_lconst (v := 0) dX9_counts_250 (by decide) ?_
    refine x_lcmp dX9_counts_251 ?_
    refine x_if_lt (tgt := 264) dX9_counts_252 (by decide) (fun c53 => ?_) (fun c53 => ?_)
    · replace hq := hq.1 c53
      refine xP.pick (lv' := [(0, rv x0), (3, .int (aI h (fR h (fR h x0 2304) 516) (Int32.toNatClampNeg x2)))]) [3, 2] rfl ?_
      exact uX9_counts_264 hq
    · replace hq := hq.2 c53
      refine x_lload 1 dX9_counts_255 rfl ?_
      refine x_ldc2 (v := 127) q2937 dX9_counts_257 ?_
      refine x_lcmp dX9_counts_260 ?_
      refine x_if_le (tgt := 391) dX9_counts_261 (by decide) (fun c54 => ?_) (fun c54 => ?_)
      · replace hq := hq.1 c54
        refine xP.pick (lv' := []) [] rfl ?_
        exact uX9_counts_391 hq
      · replace hq := hq.2 c54
        refine xP.pick (lv' := [(0, rv x0), (3, .int (aI h (fR h (fR h x0 2304) 516) (Int32.toNatClampNeg x2)))]) [3, 2] rfl ?_
        exact uX9_counts_264 hq
  replace hq := hq.2
  by_cases c55 : x1 = 78
  · replace hq := hq.1 c55
    refine x_tin (tgt := 273) (off := 236) 78 c55 dX9_counts_37 (by decide) (by decide) (by decide) (by decide) ?_
    refine x_aload_n 3 dX9_counts_273 rfl ?_
    refine x_get (v := rv (fR h x0 2307)) fdX9_28 dX9_counts_274 g1 rfl ?_
    refine x_aload_n 3 dX9_counts_277 rfl ?_
    refine x_get (v := .int (fI h x0 2310)) fdX9_86 dX9_counts_278 g1 rfl ?_
    refine x_iconst (v := 1) dX9_counts_281 (by decide) ?_
    refine x_isub dX9_counts_282 ?_
    refine x_lload 1 dX9_counts_283 rfl ?_
    refine x_aload_n 3 dX9_counts_285 rfl ?_
    refine x_get (v := rv (fR h x0 2304)) fdX9_75 dX9_counts_286 g1 rfl ?_
    refine x_getN (v := rv (fR h (fR h x0 2304) 515)) gfX9_224 dX9_counts_289 g2 rfl ?_
    refine x_iload_n 5 dX9_counts_292 rfl ?_
    obtain ⟨g56, hq⟩ := hq
    obtain ⟨i57, hq⟩ := hq
    refine x_iald 0 (Or.inl rfl) g56 i57 dX9_counts_293 ?_
    refine x_i2l dX9_counts_294 ?_
    refine x_ladd dX9_counts_295 ?_
    obtain ⟨i58, hq⟩ := hq
    obtain ⟨h59, e60⟩ : ∃ y, y = tJ h (fR h x0 2307) (Int32.toNatClampNeg ((fI h x0 2310) - 1)) ((aJ h (fR h x0 2307) (Int32.toNatClampNeg ((fI h x0 2310) - 1))) + (Int32.toInt64 (aI h (fR h (fR h x0 2304) 515) (Int32.toNatClampNeg x2)))) := ⟨_, rfl⟩
    replace hq := hq h59 e60
    refine x_last' g5 i58 dX9_counts_296 e60 ?_
    refine x_aload_n 3 dX9_counts_297 rfl ?_
    have t61 : tg h59 x0 = 10 := by rw [e60]; exact g1
    refine x_get (v := rv (fR h59 x0 2307)) fdX9_28 dX9_counts_298 t61 rfl ?_
    refine x_aload_n 3 dX9_counts_301 rfl ?_
    refine x_get (v := .int (fI h59 x0 2310)) fdX9_86 dX9_counts_302 t61 rfl ?_
    refine x_iconst (v := 1) dX9_counts_305 (by decide) ?_
    refine x_isub dX9_counts_306 ?_
    obtain ⟨g62, hq⟩ := hq
    obtain ⟨i63, hq⟩ := hq
    refine x_lald g62 i63 dX9_counts_307 ?_
    refine x_aload_n 3 dX9_counts_308 rfl ?_
    refine x_get (v := rv (fR h59 x0 2304)) fdX9_75 dX9_counts_309 t61 rfl ?_
    obtain ⟨g64, hq⟩ := hq
    refine x_getN (v := rv (fR h59 (fR h59 x0 2304) 513)) gfX9_201 dX9_counts_312 g64 rfl ?_
    refine x_iload_n 5 dX9_counts_315 rfl ?_
    obtain ⟨g65, hq⟩ := hq
    obtain ⟨i66, hq⟩ := hq
    refine x_iald 0 (Or.inl rfl) g65 i66 dX9_counts_316 ?_
    refine x_i2l dX9_counts_317 ?_
    refine x_lcmp dX9_counts_318 ?_
    refine x_if_lt (tgt := 347) dX9_counts_319 (by decide) (fun c67 => ?_) (fun c67 => ?_)
    · replace hq := hq.1 c67
      refine xP.pick (lv' := [(0, rv x0), (2, .int x2), (3, .int (aI h (fR h (fR h x0 2304) 516) (Int32.toNatClampNeg x2)))]) [3, 5, 2] rfl ?_
      exact uX9_counts_347 hq
    · replace hq := hq.2 c67
      refine x_aload_n 3 dX9_counts_322 rfl ?_
      refine x_get (v := rv (fR h59 x0 2307)) fdX9_28 dX9_counts_323 t61 rfl ?_
      refine x_aload_n 3 dX9_counts_326 rfl ?_
      refine x_get (v := .int (fI h59 x0 2310)) fdX9_86 dX9_counts_327 t61 rfl ?_
      refine x_iconst (v := 1) dX9_counts_330 (by decide) ?_
      refine x_isub dX9_counts_331 ?_
      obtain ⟨i68, hq⟩ := hq
      refine x_lald g62 i68 dX9_counts_332 ?_
      refine x_aload_n 3 dX9_counts_333 rfl ?_
      refine x_get (v := rv (fR h59 x0 2304)) fdX9_75 dX9_counts_334 t61 rfl ?_
      refine x_getN (v := rv (fR h59 (fR h59 x0 2304) 514)) gfX9_204 dX9_counts_337 g64 rfl ?_
      refine x_iload_n 5 dX9_counts_340 rfl ?_
      obtain ⟨g69, hq⟩ := hq
      obtain ⟨i70, hq⟩ := hq
      refine x_iald 0 (Or.inl rfl) g69 i70 dX9_counts_341 ?_
      refine x_i2l dX9_counts_342 ?_
      refine x_lcmp dX9_counts_343 ?_
      refine x_if_le (tgt := 391) dX9_counts_344 (by decide) (fun c71 => ?_) (fun c71 => ?_)
      · replace hq := hq.1 c71
        refine xP.pick (lv' := []) [] rfl ?_
        exact uX9_counts_391 hq
      · replace hq := hq.2 c71
        refine xP.pick (lv' := [(0, rv x0), (2, .int x2), (3, .int (aI h (fR h (fR h x0 2304) 516) (Int32.toNatClampNeg x2)))]) [3, 5, 2] rfl ?_
        exact uX9_counts_347 hq
  replace hq := hq.2
  replace hq := hq c9 c11 c17 c19 c26 c42 c48 c52 c55
  have nc9 := lv_neT c9 (show (70 : Int32).toInt = 70 from by decide)
  have nc11 := lv_neT c11 (show (71 : Int32).toInt = 71 from by decide)
  have nc17 := lv_neT c17 (show (72 : Int32).toInt = 72 from by decide)
  have nc19 := lv_neT c19 (show (73 : Int32).toInt = 73 from by decide)
  have nc26 := lv_neT c26 (show (74 : Int32).toInt = 74 from by decide)
  have nc42 := lv_neT c42 (show (75 : Int32).toInt = 75 from by decide)
  have nc48 := lv_neT c48 (show (76 : Int32).toInt = 76 from by decide)
  have nc52 := lv_neT c52 (show (77 : Int32).toInt = 77 from by decide)
  have nc55 := lv_neT c55 (show (78 : Int32).toInt = 78 from by decide)
  refine x_tout (tgt := 376) dX9_counts_37 (by omega) (by decide) ?_
  refine x_aload_n 3 dX9_counts_376 rfl ?_
  refine x_get (v := rv (fR h x0 2307)) fdX9_28 dX9_counts_377 g1 rfl ?_
  refine x_aload_n 3 dX9_counts_380 rfl ?_
  refine x_get (v := .int (fI h x0 2310)) fdX9_86 dX9_counts_381 g1 rfl ?_
  refine x_iconst (v := 1) dX9_counts_384 (by decide) ?_
  refine x_isub dX9_counts_385 ?_
  refine x_lload 1 dX9_counts_386 rfl ?_
  refine x_lconst (v := 1) dX9_counts_388 (by decide) ?_
  refine x_land dX9_counts_389 ?_
  obtain ⟨i72, hq⟩ := hq
  obtain ⟨h73, e74⟩ : ∃ y, y = tJ h (fR h x0 2307) (Int32.toNatClampNeg ((fI h x0 2310) - 1)) ((aJ h (fR h x0 2307) (Int32.toNatClampNeg ((fI h x0 2310) - 1))) &&& 1) := ⟨_, rfl⟩
  replace hq := hq h73 e74
  refine x_last' g5 i72 dX9_counts_390 e74 ?_
  refine xP.pick (lv' := []) [] rfl ?_
  exact uX9_counts_391 hq
theorem rX9_counts {G : xG} {fr lo : Nat} {x0 : Nat} {x1 : Int32} {x2 : Int32} {h : xH} {Q : Outcome → xH → Prop} (hq : bX9_counts G fr lo x0 x1 x2 h Q) : xR G YX9_counts fr lo [rv x0, .int x1, .int x2] h Q := by
  show xP _ _ _ _ _ (lv_args 0 _) _ _ _
  rw [show lv_args 0 [rv x0, .int x1, .int x2] = [(0, rv x0), (1, .int x1), (2, .int x2)] from (xla1 (rv_cat _) (xla1 rfl (xla1 rfl xla0)))]
  exact uX9_counts hq
set_option maxRecDepth 100000 in
theorem dX9_cuts_0 : decode cX9_cuts 0 = .ok (.dload_n 1, 1) := by decide +kernel
set_option maxRecDepth 100000 in
theorem dX9_cuts_1 : decode cX9_cuts 1 = .ok (.ldc2_w 413, 3) := by decide +kernel
set_option maxRecDepth 100000 in
theorem dX9_cuts_4 : decode cX9_cuts 4 = .ok (.dcmp .l, 1) := by decide +kernel
set_option maxRecDepth 100000 in
theorem dX9_cuts_5 : decode cX9_cuts 5 = .ok (.ifCond .ge 11, 3) := by decide +kernel
set_option maxRecDepth 100000 in
theorem dX9_cuts_8 : decode cX9_cuts 8 = .ok (.dload_n 1, 1) := by decide +kernel
set_option maxRecDepth 100000 in
theorem dX9_cuts_9 : decode cX9_cuts 9 = .ok (.ldc2_w 415, 3) := by decide +kernel
set_option maxRecDepth 100000 in
theorem dX9_cuts_12 : decode cX9_cuts 12 = .ok (.dcmp .g, 1) := by decide +kernel
set_option maxRecDepth 100000 in
theorem dX9_cuts_13 : decode cX9_cuts 13 = .ok (.ifCond .gt 13, 3) := by decide +kernel
set_option maxRecDepth 100000 in
theorem dX9_cuts_16 : decode cX9_cuts 16 = .ok (.aload_n 0, 1) := by decide +kernel
set_option maxRecDepth 100000 in
theorem dX9_cuts_17 : decode cX9_cuts 17 = .ok (.bipush 8, 2) := by decide +kernel
set_option maxRecDepth 100000 in
theorem dX9_cuts_19 : decode cX9_cuts 19 = .ok (.iload_n 3, 1) := by decide +kernel
set_option maxRecDepth 100000 in
theorem dX9_cuts_20 : decode cX9_cuts 20 = .ok (.invokevirtual 147, 3) := by decide +kernel
set_option maxRecDepth 100000 in
theorem dX9_cuts_23 : decode cX9_cuts 23 = .ok (.goto 16, 3) := by decide +kernel
set_option maxRecDepth 100000 in
theorem dX9_cuts_26 : decode cX9_cuts 26 = .ok (.aload_n 0, 1) := by decide +kernel
set_option maxRecDepth 100000 in
theorem dX9_cuts_27 : decode cX9_cuts 27 = .ok (.getfield 28, 3) := by decide +kernel
set_option maxRecDepth 100000 in
theorem dX9_cuts_30 : decode cX9_cuts 30 = .ok (.aload_n 0, 1) := by decide +kernel
set_option maxRecDepth 100000 in
theorem dX9_cuts_31 : decode cX9_cuts 31 = .ok (.getfield 86, 3) := by decide +kernel
set_option maxRecDepth 100000 in
theorem dX9_cuts_34 : decode cX9_cuts 34 = .ok (.iconst 1, 1) := by decide +kernel
set_option maxRecDepth 100000 in
theorem dX9_cuts_35 : decode cX9_cuts 35 = .ok (.isub, 1) := by decide +kernel
set_option maxRecDepth 100000 in
theorem dX9_cuts_36 : decode cX9_cuts 36 = .ok (.dload_n 1, 1) := by decide +kernel
set_option maxRecDepth 100000 in
theorem dX9_cuts_37 : decode cX9_cuts 37 = .ok (.d2l, 1) := by decide +kernel
set_option maxRecDepth 100000 in
theorem dX9_cuts_38 : decode cX9_cuts 38 = .ok (.lastore, 1) := by decide +kernel
set_option maxRecDepth 100000 in
theorem dX9_cuts_39 : decode cX9_cuts 39 = .ok (.return_, 1) := by decide +kernel
set_option maxRecDepth 100000 in
def bX9_cuts_39 (G : xG) (fr lo : Nat) (h : xH) (Q : Outcome → xH → Prop) : Prop := Q (.returned none) h
set_option maxRecDepth 100000 in
theorem uX9_cuts_39 {G : xG} {fr lo : Nat} {h : xH} {Q : Outcome → xH → Prop} (hq : bX9_cuts_39 G fr lo h Q) : xP G YX9_cuts fr lo 39 [] [] h Q := by
  unfold bX9_cuts_39 at hq
  exact x_vret rfl dX9_cuts_39 hq
set_option maxRecDepth 100000 in
def bX9_cuts_16 (G : xG) (fr lo : Nat) (x0 : Nat) (x3 : Int32) (h : xH) (Q : Outcome → xH → Prop) : Prop := tg h x0 = 10 ∧ 1 ≤ fr ∧ 14 ≤ lo ∧ xRv G YX9_fail (fr - 1) (lo - 14) [rv x0, .int 8, .int x3] h (fun h4 => xext h h4 → bX9_cuts_39 G fr lo h4 Q) (fun r h2 => Q (.threw r) h2)
set_option maxRecDepth 100000 in
theorem uX9_cuts_16 {G : xG} {fr lo : Nat} {x0 : Nat} {x3 : Int32} {h : xH} {Q : Outcome → xH → Prop} (hq : bX9_cuts_16 G fr lo x0 x3 h Q) : xP G YX9_cuts fr lo 16 [(0, rv x0), (3, .int x3)] [] h Q := by
  unfold bX9_cuts_16 at hq
  refine x_aload_n 0 dX9_cuts_16 rfl ?_
  refine x_bipush (v := 8) dX9_cuts_17 (by decide) ?_
  refine x_iload_n 1 dX9_cuts_19 rfl ?_
  obtain ⟨g1, hq⟩ := hq
  obtain ⟨g2, g3, hq⟩ := hq
  refine x_callV (Yc := YX9_fail) (as := [.int 8, .int x3]) (st := []) q2835 mvX9_fail g1 rfl dX9_cuts_20 (xle (xal1 (rv_cat _) (xal1 rfl (xal1 rfl xal0))) (by decide)) (xfr g2) (xlo xsw0 (by decide) g3) (xKv hq (fun h4 hq e6 => ?_) (fun _ _ q _ => q))
  replace hq := hq e6
  refine x_goto (tgt := 39) dX9_cuts_23 (by decide) ?_
  refine xP.pick (lv' := []) [] rfl ?_
  exact uX9_cuts_39 hq
set_option maxRecDepth 100000 in
def bX9_cuts (G : xG) (fr lo : Nat) (x0 : Nat) (x1 : UInt64) (x3 : Int32) (h : xH) (Q : Outcome → xH → Prop) : Prop := ((0 ≤ (Op.cmpValue (FP.dcmp x1 4746794007248502784) .l) → bX9_cuts_16 G fr lo x0 x3 h Q) ∧ (¬ 0 ≤ (Op.cmpValue (FP.dcmp x1 4746794007248502784) .l) → ((0 < (Op.cmpValue (FP.dcmp x1 13970166044103278592) .g) → tg h x0 = 10 ∧ tg h (fR h x0 2307) = 101 ∧ vp_in ((fI h x0 2310) - 1) (ln h (fR h x0 2307)) ∧ (∀ h6 : xH, h6 = tJ h (fR h x0 2307) (Int32.toNatClampNeg ((fI h x0 2310) - 1)) (FP.d2l x1) → bX9_cuts_39 G fr lo h6 Q)) ∧ (¬ 0 < (Op.cmpValue (FP.dcmp x1 13970166044103278592) .g) → bX9_cuts_16 G fr lo x0 x3 h Q))))
set_option maxRecDepth 100000 in
theorem uX9_cuts {G : xG} {fr lo : Nat} {x0 : Nat} {x1 : UInt64} {x3 : Int32} {h : xH} {Q : Outcome → xH → Prop} (hq : bX9_cuts G fr lo x0 x1 x3 h Q) : xP G YX9_cuts fr lo 0 [(0, rv x0), (1, .double x1), (3, .int x3)] [] h Q := by
  unfold bX9_cuts at hq
  refine x_dload_n 1 dX9_cuts_0 rfl ?_
  refine x_ldc2d (v := 4746794007248502784) q3072 dX9_cuts_1 ?_
  refine x_dcmp dX9_cuts_4 ?_
  refine x_if_ge (tgt := 16) dX9_cuts_5 (by decide) (fun c1 => ?_) (fun c1 => ?_)
  · replace hq := hq.1 c1
    refine xP.pick (lv' := [(0, rv x0), (3, .int x3)]) [0, 2] rfl ?_
    exact uX9_cuts_16 hq
  · replace hq := hq.2 c1
    refine x_dload_n 1 dX9_cuts_8 rfl ?_
    refine x_ldc2d (v := 13970166044103278592) q3073 dX9_cuts_9 ?_
    refine x_dcmp dX9_cuts_12 ?_
    refine x_if_gt (tgt := 26) dX9_cuts_13 (by decide) (fun c2 => ?_) (fun c2 => ?_)
    · replace hq := hq.1 c2
      refine x_aload_n 0 dX9_cuts_26 rfl ?_
      obtain ⟨g3, hq⟩ := hq
      refine x_get (v := rv (fR h x0 2307)) fdX9_28 dX9_cuts_27 g3 rfl ?_
      refine x_aload_n 0 dX9_cuts_30 rfl ?_
      refine x_get (v := .int (fI h x0 2310)) fdX9_86 dX9_cuts_31 g3 rfl ?_
      refine x_iconst (v := 1) dX9_cuts_34 (by decide) ?_
      refine x_isub dX9_cuts_35 ?_
      refine x_dload_n 1 dX9_cuts_36 rfl ?_
      refine x_d2l dX9_cuts_37 ?_
      obtain ⟨g4, hq⟩ := hq
      obtain ⟨i5, hq⟩ := hq
      obtain ⟨h6, e7⟩ : ∃ y, y = tJ h (fR h x0 2307) (Int32.toNatClampNeg ((fI h x0 2310) - 1)) (FP.d2l x1) := ⟨_, rfl⟩
      replace hq := hq h6 e7
      refine x_last' g4 i5 dX9_cuts_38 e7 ?_
      refine xP.pick (lv' := []) [] rfl ?_
      exact uX9_cuts_39 hq
    · replace hq := hq.2 c2
      refine xP.pick (lv' := [(0, rv x0), (3, .int x3)]) [0, 2] rfl ?_
      exact uX9_cuts_16 hq
theorem rX9_cuts {G : xG} {fr lo : Nat} {x0 : Nat} {x1 : UInt64} {x3 : Int32} {h : xH} {Q : Outcome → xH → Prop} (hq : bX9_cuts G fr lo x0 x1 x3 h Q) : xR G YX9_cuts fr lo [rv x0, .double x1, .int x3] h Q := by
  show xP _ _ _ _ _ (lv_args 0 _) _ _ _
  rw [show lv_args 0 [rv x0, .double x1, .int x3] = [(0, rv x0), (1, .double x1), (3, .int x3)] from (xla1 (rv_cat _) (xla2 rfl (xla1 rfl xla0)))]
  exact uX9_cuts hq
set_option maxRecDepth 100000 in
theorem dX9_library_0 : decode cX9_library 0 = .ok (.aload_n 0, 1) := by decide +kernel
set_option maxRecDepth 100000 in
theorem dX9_library_1 : decode cX9_library 1 = .ok (.getfield 75, 3) := by decide +kernel
set_option maxRecDepth 100000 in
theorem dX9_library_4 : decode cX9_library 4 = .ok (.getfield 201, 3) := by decide +kernel
set_option maxRecDepth 100000 in
theorem dX9_library_7 : decode cX9_library 7 = .ok (.iload_n 2, 1) := by decide +kernel
set_option maxRecDepth 100000 in
theorem dX9_library_8 : decode cX9_library 8 = .ok (.iaload, 1) := by decide +kernel
set_option maxRecDepth 100000 in
theorem dX9_library_9 : decode cX9_library 9 = .ok (.istore_n 3, 1) := by decide +kernel
set_option maxRecDepth 100000 in
theorem dX9_library_10 : decode cX9_library 10 = .ok (.aload_n 0, 1) := by decide +kernel
set_option maxRecDepth 100000 in
theorem dX9_library_11 : decode cX9_library 11 = .ok (.getfield 75, 3) := by decide +kernel
set_option maxRecDepth 100000 in
theorem dX9_library_14 : decode cX9_library 14 = .ok (.getfield 222, 3) := by decide +kernel
set_option maxRecDepth 100000 in
theorem dX9_library_17 : decode cX9_library 17 = .ok (.iload_n 2, 1) := by decide +kernel
set_option maxRecDepth 100000 in
theorem dX9_library_18 : decode cX9_library 18 = .ok (.iaload, 1) := by decide +kernel
set_option maxRecDepth 100000 in
theorem dX9_library_19 : decode cX9_library 19 = .ok (.istore 4, 2) := by decide +kernel
set_option maxRecDepth 100000 in
theorem dX9_library_21 : decode cX9_library 21 = .ok (.aload_n 0, 1) := by decide +kernel
set_option maxRecDepth 100000 in
theorem dX9_library_22 : decode cX9_library 22 = .ok (.getfield 28, 3) := by decide +kernel
set_option maxRecDepth 100000 in
theorem dX9_library_25 : decode cX9_library 25 = .ok (.aload_n 0, 1) := by decide +kernel
set_option maxRecDepth 100000 in
theorem dX9_library_26 : decode cX9_library 26 = .ok (.getfield 86, 3) := by decide +kernel
set_option maxRecDepth 100000 in
theorem dX9_library_29 : decode cX9_library 29 = .ok (.iconst 1, 1) := by decide +kernel
set_option maxRecDepth 100000 in
theorem dX9_library_30 : decode cX9_library 30 = .ok (.isub, 1) := by decide +kernel
set_option maxRecDepth 100000 in
theorem dX9_library_31 : decode cX9_library 31 = .ok (.laload, 1) := by decide +kernel
set_option maxRecDepth 100000 in
theorem dX9_library_32 : decode cX9_library 32 = .ok (.l2i, 1) := by decide +kernel
set_option maxRecDepth 100000 in
theorem dX9_library_33 : decode cX9_library 33 = .ok (.istore 5, 2) := by decide +kernel
set_option maxRecDepth 100000 in
theorem dX9_library_35 : decode cX9_library 35 = .ok (.iload_n 1, 1) := by decide +kernel
set_option maxRecDepth 100000 in
theorem dX9_library_36 : decode cX9_library 36 = .ok (.bipush 92, 2) := by decide +kernel
set_option maxRecDepth 100000 in
theorem dX9_library_38 : decode cX9_library 38 = .ok (.if_icmp .le 10, 3) := by decide +kernel
set_option maxRecDepth 100000 in
theorem dX9_library_41 : decode cX9_library 41 = .ok (.aload_n 0, 1) := by decide +kernel
set_option maxRecDepth 100000 in
theorem dX9_library_42 : decode cX9_library 42 = .ok (.iload_n 1, 1) := by decide +kernel
set_option maxRecDepth 100000 in
theorem dX9_library_43 : decode cX9_library 43 = .ok (.iload_n 2, 1) := by decide +kernel
set_option maxRecDepth 100000 in
theorem dX9_library_44 : decode cX9_library 44 = .ok (.invokevirtual 417, 3) := by decide +kernel
set_option maxRecDepth 100000 in
theorem dX9_library_47 : decode cX9_library 47 = .ok (.return_, 1) := by decide +kernel
set_option maxRecDepth 100000 in
theorem dX9_library_48 : decode cX9_library 48 = .ok (.iload_n 1, 1) := by decide +kernel
set_option maxRecDepth 100000 in
theorem dX9_library_49 : decode cX9_library 49 = .ok (.tableswitch 146 80 92 #[67, 67, 146, 146, 146, 146, 77, 87, 146, 146, 146, 146, 94], 67) := by decide +kernel
set_option maxRecDepth 100000 in
theorem dX9_library_116 : decode cX9_library 116 = .ok (.aload_n 0, 1) := by decide +kernel
set_option maxRecDepth 100000 in
theorem dX9_library_117 : decode cX9_library 117 = .ok (.iload_n 1, 1) := by decide +kernel
set_option maxRecDepth 100000 in
theorem dX9_library_118 : decode cX9_library 118 = .ok (.iload 5, 2) := by decide +kernel
set_option maxRecDepth 100000 in
theorem dX9_library_120 : decode cX9_library 120 = .ok (.iload 4, 2) := by decide +kernel
set_option maxRecDepth 100000 in
theorem dX9_library_122 : decode cX9_library 122 = .ok (.invokevirtual 420, 3) := by decide +kernel
set_option maxRecDepth 100000 in
theorem dX9_library_125 : decode cX9_library 125 = .ok (.return_, 1) := by decide +kernel
set_option maxRecDepth 100000 in
theorem dX9_library_126 : decode cX9_library 126 = .ok (.aload_n 0, 1) := by decide +kernel
set_option maxRecDepth 100000 in
theorem dX9_library_127 : decode cX9_library 127 = .ok (.iload 5, 2) := by decide +kernel
set_option maxRecDepth 100000 in
theorem dX9_library_129 : decode cX9_library 129 = .ok (.iload_n 3, 1) := by decide +kernel
set_option maxRecDepth 100000 in
theorem dX9_library_130 : decode cX9_library 130 = .ok (.iload 4, 2) := by decide +kernel
set_option maxRecDepth 100000 in
theorem dX9_library_132 : decode cX9_library 132 = .ok (.invokevirtual 423, 3) := by decide +kernel
set_option maxRecDepth 100000 in
theorem dX9_library_135 : decode cX9_library 135 = .ok (.return_, 1) := by decide +kernel
set_option maxRecDepth 100000 in
theorem dX9_library_136 : decode cX9_library 136 = .ok (.aload_n 0, 1) := by decide +kernel
set_option maxRecDepth 100000 in
theorem dX9_library_137 : decode cX9_library 137 = .ok (.iload 4, 2) := by decide +kernel
set_option maxRecDepth 100000 in
theorem dX9_library_139 : decode cX9_library 139 = .ok (.invokevirtual 426, 3) := by decide +kernel
set_option maxRecDepth 100000 in
theorem dX9_library_142 : decode cX9_library 142 = .ok (.return_, 1) := by decide +kernel
set_option maxRecDepth 100000 in
theorem dX9_library_143 : decode cX9_library 143 = .ok (.aload_n 0, 1) := by decide +kernel
set_option maxRecDepth 100000 in
theorem dX9_library_144 : decode cX9_library 144 = .ok (.getfield 23, 3) := by decide +kernel
set_option maxRecDepth 100000 in
theorem dX9_library_147 : decode cX9_library 147 = .ok (.getfield 429, 3) := by decide +kernel
set_option maxRecDepth 100000 in
theorem dX9_library_150 : decode cX9_library 150 = .ok (.iload 5, 2) := by decide +kernel
set_option maxRecDepth 100000 in
theorem dX9_library_152 : decode cX9_library 152 = .ok (.iaload, 1) := by decide +kernel
set_option maxRecDepth 100000 in
theorem dX9_library_153 : decode cX9_library 153 = .ok (.iconst 1, 1) := by decide +kernel
set_option maxRecDepth 100000 in
theorem dX9_library_154 : decode cX9_library 154 = .ok (.if_icmp .ne 17, 3) := by decide +kernel
set_option maxRecDepth 100000 in
theorem dX9_library_157 : decode cX9_library 157 = .ok (.aload_n 0, 1) := by decide +kernel
set_option maxRecDepth 100000 in
theorem dX9_library_158 : decode cX9_library 158 = .ok (.getfield 23, 3) := by decide +kernel
set_option maxRecDepth 100000 in
theorem dX9_library_161 : decode cX9_library 161 = .ok (.getfield 432, 3) := by decide +kernel
set_option maxRecDepth 100000 in
theorem dX9_library_164 : decode cX9_library 164 = .ok (.iload 5, 2) := by decide +kernel
set_option maxRecDepth 100000 in
theorem dX9_library_166 : decode cX9_library 166 = .ok (.iaload, 1) := by decide +kernel
set_option maxRecDepth 100000 in
theorem dX9_library_167 : decode cX9_library 167 = .ok (.iconst (-1), 1) := by decide +kernel
set_option maxRecDepth 100000 in
theorem dX9_library_168 : decode cX9_library 168 = .ok (.if_icmp .ne 11, 3) := by decide +kernel
set_option maxRecDepth 100000 in
theorem dX9_library_171 : decode cX9_library 171 = .ok (.aload_n 0, 1) := by decide +kernel
set_option maxRecDepth 100000 in
theorem dX9_library_172 : decode cX9_library 172 = .ok (.bipush 10, 2) := by decide +kernel
set_option maxRecDepth 100000 in
theorem dX9_library_174 : decode cX9_library 174 = .ok (.iload 4, 2) := by decide +kernel
set_option maxRecDepth 100000 in
theorem dX9_library_176 : decode cX9_library 176 = .ok (.invokevirtual 147, 3) := by decide +kernel
set_option maxRecDepth 100000 in
theorem dX9_library_179 : decode cX9_library 179 = .ok (.aload_n 0, 1) := by decide +kernel
set_option maxRecDepth 100000 in
theorem dX9_library_180 : decode cX9_library 180 = .ok (.getfield 28, 3) := by decide +kernel
set_option maxRecDepth 100000 in
theorem dX9_library_183 : decode cX9_library 183 = .ok (.aload_n 0, 1) := by decide +kernel
set_option maxRecDepth 100000 in
theorem dX9_library_184 : decode cX9_library 184 = .ok (.getfield 86, 3) := by decide +kernel
set_option maxRecDepth 100000 in
theorem dX9_library_187 : decode cX9_library 187 = .ok (.iconst 1, 1) := by decide +kernel
set_option maxRecDepth 100000 in
theorem dX9_library_188 : decode cX9_library 188 = .ok (.isub, 1) := by decide +kernel
set_option maxRecDepth 100000 in
theorem dX9_library_189 : decode cX9_library 189 = .ok (.dup2, 1) := by decide +kernel
set_option maxRecDepth 100000 in
theorem dX9_library_190 : decode cX9_library 190 = .ok (.laload, 1) := by decide +kernel
set_option maxRecDepth 100000 in
theorem dX9_library_191 : decode cX9_library 191 = .ok (.lconst 1, 1) := by decide +kernel
set_option maxRecDepth 100000 in
theorem dX9_library_192 : decode cX9_library 192 = .ok (.ladd, 1) := by decide +kernel
set_option maxRecDepth 100000 in
theorem dX9_library_193 : decode cX9_library 193 = .ok (.lastore, 1) := by decide +kernel
set_option maxRecDepth 100000 in
theorem dX9_library_194 : decode cX9_library 194 = .ok (.return_, 1) := by decide +kernel
set_option maxRecDepth 100000 in
theorem dX9_library_195 : decode cX9_library 195 = .ok (.aload_n 0, 1) := by decide +kernel
set_option maxRecDepth 100000 in
theorem dX9_library_196 : decode cX9_library 196 = .ok (.dup, 1) := by decide +kernel
set_option maxRecDepth 100000 in
theorem dX9_library_197 : decode cX9_library 197 = .ok (.getfield 86, 3) := by decide +kernel
set_option maxRecDepth 100000 in
theorem dX9_library_200 : decode cX9_library 200 = .ok (.iconst 1, 1) := by decide +kernel
set_option maxRecDepth 100000 in
theorem dX9_library_201 : decode cX9_library 201 = .ok (.isub, 1) := by decide +kernel
set_option maxRecDepth 100000 in
theorem dX9_library_202 : decode cX9_library 202 = .ok (.putfield 86, 3) := by decide +kernel
set_option maxRecDepth 100000 in
theorem dX9_library_205 : decode cX9_library 205 = .ok (.iload_n 1, 1) := by decide +kernel
set_option maxRecDepth 100000 in
theorem dX9_library_206 : decode cX9_library 206 = .ok (.tableswitch 268 82 91 #[54, 112, 153, 219, 268, 268, 268, 268, 268, 257], 54) := by decide +kernel
set_option maxRecDepth 100000 in
theorem dX9_library_260 : decode cX9_library 260 = .ok (.aload_n 0, 1) := by decide +kernel
set_option maxRecDepth 100000 in
theorem dX9_library_261 : decode cX9_library 261 = .ok (.getfield 23, 3) := by decide +kernel
set_option maxRecDepth 100000 in
theorem dX9_library_264 : decode cX9_library 264 = .ok (.getfield 429, 3) := by decide +kernel
set_option maxRecDepth 100000 in
theorem dX9_library_267 : decode cX9_library 267 = .ok (.iload 5, 2) := by decide +kernel
set_option maxRecDepth 100000 in
theorem dX9_library_269 : decode cX9_library 269 = .ok (.iaload, 1) := by decide +kernel
set_option maxRecDepth 100000 in
theorem dX9_library_270 : decode cX9_library 270 = .ok (.ifCond .ne 27, 3) := by decide +kernel
set_option maxRecDepth 100000 in
theorem dX9_library_273 : decode cX9_library 273 = .ok (.aload_n 0, 1) := by decide +kernel
set_option maxRecDepth 100000 in
theorem dX9_library_274 : decode cX9_library 274 = .ok (.getfield 23, 3) := by decide +kernel
set_option maxRecDepth 100000 in
theorem dX9_library_277 : decode cX9_library 277 = .ok (.getfield 435, 3) := by decide +kernel
set_option maxRecDepth 100000 in
theorem dX9_library_280 : decode cX9_library 280 = .ok (.iload 5, 2) := by decide +kernel
set_option maxRecDepth 100000 in
theorem dX9_library_282 : decode cX9_library 282 = .ok (.baload, 1) := by decide +kernel
set_option maxRecDepth 100000 in
theorem dX9_library_283 : decode cX9_library 283 = .ok (.ifCond .ne 14, 3) := by decide +kernel
set_option maxRecDepth 100000 in
theorem dX9_library_286 : decode cX9_library 286 = .ok (.aload_n 0, 1) := by decide +kernel
set_option maxRecDepth 100000 in
theorem dX9_library_287 : decode cX9_library 287 = .ok (.bipush 10, 2) := by decide +kernel
set_option maxRecDepth 100000 in
theorem dX9_library_289 : decode cX9_library 289 = .ok (.iload 4, 2) := by decide +kernel
set_option maxRecDepth 100000 in
theorem dX9_library_291 : decode cX9_library 291 = .ok (.invokevirtual 147, 3) := by decide +kernel
set_option maxRecDepth 100000 in
theorem dX9_library_294 : decode cX9_library 294 = .ok (.goto 198, 3) := by decide +kernel
set_option maxRecDepth 100000 in
theorem dX9_library_297 : decode cX9_library 297 = .ok (.aload_n 0, 1) := by decide +kernel
set_option maxRecDepth 100000 in
theorem dX9_library_298 : decode cX9_library 298 = .ok (.getfield 23, 3) := by decide +kernel
set_option maxRecDepth 100000 in
theorem dX9_library_301 : decode cX9_library 301 = .ok (.iload 5, 2) := by decide +kernel
set_option maxRecDepth 100000 in
theorem dX9_library_303 : decode cX9_library 303 = .ok (.aload_n 0, 1) := by decide +kernel
set_option maxRecDepth 100000 in
theorem dX9_library_304 : decode cX9_library 304 = .ok (.getfield 75, 3) := by decide +kernel
set_option maxRecDepth 100000 in
theorem dX9_library_307 : decode cX9_library 307 = .ok (.getfield 204, 3) := by decide +kernel
set_option maxRecDepth 100000 in
theorem dX9_library_310 : decode cX9_library 310 = .ok (.iload_n 2, 1) := by decide +kernel
set_option maxRecDepth 100000 in
theorem dX9_library_311 : decode cX9_library 311 = .ok (.iaload, 1) := by decide +kernel
set_option maxRecDepth 100000 in
theorem dX9_library_312 : decode cX9_library 312 = .ok (.invokevirtual 438, 3) := by decide +kernel
set_option maxRecDepth 100000 in
theorem dX9_library_315 : decode cX9_library 315 = .ok (.goto 177, 3) := by decide +kernel
set_option maxRecDepth 100000 in
theorem dX9_library_318 : decode cX9_library 318 = .ok (.aload_n 0, 1) := by decide +kernel
set_option maxRecDepth 100000 in
theorem dX9_library_319 : decode cX9_library 319 = .ok (.getfield 23, 3) := by decide +kernel
set_option maxRecDepth 100000 in
theorem dX9_library_322 : decode cX9_library 322 = .ok (.iload 5, 2) := by decide +kernel
set_option maxRecDepth 100000 in
theorem dX9_library_324 : decode cX9_library 324 = .ok (.invokevirtual 389, 3) := by decide +kernel
set_option maxRecDepth 100000 in
theorem dX9_library_327 : decode cX9_library 327 = .ok (.aload_n 0, 1) := by decide +kernel
set_option maxRecDepth 100000 in
theorem dX9_library_328 : decode cX9_library 328 = .ok (.getfield 23, 3) := by decide +kernel
set_option maxRecDepth 100000 in
theorem dX9_library_331 : decode cX9_library 331 = .ok (.getfield 429, 3) := by decide +kernel
set_option maxRecDepth 100000 in
theorem dX9_library_334 : decode cX9_library 334 = .ok (.iload 5, 2) := by decide +kernel
set_option maxRecDepth 100000 in
theorem dX9_library_336 : decode cX9_library 336 = .ok (.iconst 2, 1) := by decide +kernel
set_option maxRecDepth 100000 in
theorem dX9_library_337 : decode cX9_library 337 = .ok (.iastore, 1) := by decide +kernel
set_option maxRecDepth 100000 in
theorem dX9_library_338 : decode cX9_library 338 = .ok (.aload_n 0, 1) := by decide +kernel
set_option maxRecDepth 100000 in
theorem dX9_library_339 : decode cX9_library 339 = .ok (.getfield 23, 3) := by decide +kernel
set_option maxRecDepth 100000 in
theorem dX9_library_342 : decode cX9_library 342 = .ok (.iload 5, 2) := by decide +kernel
set_option maxRecDepth 100000 in
theorem dX9_library_344 : decode cX9_library 344 = .ok (.aload_n 0, 1) := by decide +kernel
set_option maxRecDepth 100000 in
theorem dX9_library_345 : decode cX9_library 345 = .ok (.getfield 75, 3) := by decide +kernel
set_option maxRecDepth 100000 in
theorem dX9_library_348 : decode cX9_library 348 = .ok (.getfield 204, 3) := by decide +kernel
set_option maxRecDepth 100000 in
theorem dX9_library_351 : decode cX9_library 351 = .ok (.iload_n 2, 1) := by decide +kernel
set_option maxRecDepth 100000 in
theorem dX9_library_352 : decode cX9_library 352 = .ok (.iaload, 1) := by decide +kernel
set_option maxRecDepth 100000 in
theorem dX9_library_353 : decode cX9_library 353 = .ok (.invokevirtual 441, 3) := by decide +kernel
set_option maxRecDepth 100000 in
theorem dX9_library_356 : decode cX9_library 356 = .ok (.goto 136, 3) := by decide +kernel
set_option maxRecDepth 100000 in
theorem dX9_library_359 : decode cX9_library 359 = .ok (.aload_n 0, 1) := by decide +kernel
set_option maxRecDepth 100000 in
theorem dX9_library_360 : decode cX9_library 360 = .ok (.getfield 23, 3) := by decide +kernel
set_option maxRecDepth 100000 in
theorem dX9_library_363 : decode cX9_library 363 = .ok (.getfield 429, 3) := by decide +kernel
set_option maxRecDepth 100000 in
theorem dX9_library_366 : decode cX9_library 366 = .ok (.iload 5, 2) := by decide +kernel
set_option maxRecDepth 100000 in
theorem dX9_library_368 : decode cX9_library 368 = .ok (.iaload, 1) := by decide +kernel
set_option maxRecDepth 100000 in
theorem dX9_library_369 : decode cX9_library 369 = .ok (.iconst 1, 1) := by decide +kernel
set_option maxRecDepth 100000 in
theorem dX9_library_370 : decode cX9_library 370 = .ok (.if_icmp .ne 17, 3) := by decide +kernel
set_option maxRecDepth 100000 in
theorem dX9_library_373 : decode cX9_library 373 = .ok (.aload_n 0, 1) := by decide +kernel
set_option maxRecDepth 100000 in
theorem dX9_library_374 : decode cX9_library 374 = .ok (.getfield 23, 3) := by decide +kernel
set_option maxRecDepth 100000 in
theorem dX9_library_377 : decode cX9_library 377 = .ok (.getfield 432, 3) := by decide +kernel
set_option maxRecDepth 100000 in
theorem dX9_library_380 : decode cX9_library 380 = .ok (.iload 5, 2) := by decide +kernel
set_option maxRecDepth 100000 in
theorem dX9_library_382 : decode cX9_library 382 = .ok (.iaload, 1) := by decide +kernel
set_option maxRecDepth 100000 in
theorem dX9_library_383 : decode cX9_library 383 = .ok (.iconst (-1), 1) := by decide +kernel
set_option maxRecDepth 100000 in
theorem dX9_library_384 : decode cX9_library 384 = .ok (.if_icmp .ne 11, 3) := by decide +kernel
set_option maxRecDepth 100000 in
theorem dX9_library_387 : decode cX9_library 387 = .ok (.aload_n 0, 1) := by decide +kernel
set_option maxRecDepth 100000 in
theorem dX9_library_388 : decode cX9_library 388 = .ok (.bipush 10, 2) := by decide +kernel
set_option maxRecDepth 100000 in
theorem dX9_library_390 : decode cX9_library 390 = .ok (.iload 4, 2) := by decide +kernel
set_option maxRecDepth 100000 in
theorem dX9_library_392 : decode cX9_library 392 = .ok (.invokevirtual 147, 3) := by decide +kernel
set_option maxRecDepth 100000 in
theorem dX9_library_395 : decode cX9_library 395 = .ok (.aload_n 0, 1) := by decide +kernel
set_option maxRecDepth 100000 in
theorem dX9_library_396 : decode cX9_library 396 = .ok (.getfield 23, 3) := by decide +kernel
set_option maxRecDepth 100000 in
theorem dX9_library_399 : decode cX9_library 399 = .ok (.iload 5, 2) := by decide +kernel
set_option maxRecDepth 100000 in
theorem dX9_library_401 : decode cX9_library 401 = .ok (.invokevirtual 444, 3) := by decide +kernel
set_option maxRecDepth 100000 in
theorem dX9_library_404 : decode cX9_library 404 = .ok (.aload_n 0, 1) := by decide +kernel
set_option maxRecDepth 100000 in
theorem dX9_library_405 : decode cX9_library 405 = .ok (.getfield 23, 3) := by decide +kernel
set_option maxRecDepth 100000 in
theorem dX9_library_408 : decode cX9_library 408 = .ok (.iload 5, 2) := by decide +kernel
set_option maxRecDepth 100000 in
theorem dX9_library_410 : decode cX9_library 410 = .ok (.aload_n 0, 1) := by decide +kernel
set_option maxRecDepth 100000 in
theorem dX9_library_411 : decode cX9_library 411 = .ok (.getfield 75, 3) := by decide +kernel
set_option maxRecDepth 100000 in
theorem dX9_library_414 : decode cX9_library 414 = .ok (.getfield 204, 3) := by decide +kernel
set_option maxRecDepth 100000 in
theorem dX9_library_417 : decode cX9_library 417 = .ok (.iload_n 2, 1) := by decide +kernel
set_option maxRecDepth 100000 in
theorem dX9_library_418 : decode cX9_library 418 = .ok (.iaload, 1) := by decide +kernel
set_option maxRecDepth 100000 in
theorem dX9_library_419 : decode cX9_library 419 = .ok (.invokevirtual 441, 3) := by decide +kernel
set_option maxRecDepth 100000 in
theorem dX9_library_422 : decode cX9_library 422 = .ok (.goto 70, 3) := by decide +kernel
set_option maxRecDepth 100000 in
theorem dX9_library_425 : decode cX9_library 425 = .ok (.aload_n 0, 1) := by decide +kernel
set_option maxRecDepth 100000 in
theorem dX9_library_426 : decode cX9_library 426 = .ok (.iload 5, 2) := by decide +kernel
set_option maxRecDepth 100000 in
theorem dX9_library_428 : decode cX9_library 428 = .ok (.aload_n 0, 1) := by decide +kernel
set_option maxRecDepth 100000 in
theorem dX9_library_429 : decode cX9_library 429 = .ok (.getfield 75, 3) := by decide +kernel
set_option maxRecDepth 100000 in
theorem dX9_library_432 : decode cX9_library 432 = .ok (.getfield 204, 3) := by decide +kernel
set_option maxRecDepth 100000 in
theorem dX9_library_435 : decode cX9_library 435 = .ok (.iload_n 2, 1) := by decide +kernel
set_option maxRecDepth 100000 in
theorem dX9_library_436 : decode cX9_library 436 = .ok (.iaload, 1) := by decide +kernel
set_option maxRecDepth 100000 in
theorem dX9_library_437 : decode cX9_library 437 = .ok (.aload_n 0, 1) := by decide +kernel
set_option maxRecDepth 100000 in
theorem dX9_library_438 : decode cX9_library 438 = .ok (.getfield 75, 3) := by decide +kernel
set_option maxRecDepth 100000 in
theorem dX9_library_441 : decode cX9_library 441 = .ok (.getfield 224, 3) := by decide +kernel
set_option maxRecDepth 100000 in
theorem dX9_library_444 : decode cX9_library 444 = .ok (.iload_n 2, 1) := by decide +kernel
set_option maxRecDepth 100000 in
theorem dX9_library_445 : decode cX9_library 445 = .ok (.iaload, 1) := by decide +kernel
set_option maxRecDepth 100000 in
theorem dX9_library_446 : decode cX9_library 446 = .ok (.iconst 1, 1) := by decide +kernel
set_option maxRecDepth 100000 in
theorem dX9_library_447 : decode cX9_library 447 = .ok (.if_icmp .ne 7, 3) := by decide +kernel
set_option maxRecDepth 100000 in
theorem dX9_library_450 : decode cX9_library 450 = .ok (.iconst 1, 1) := by decide +kernel
set_option maxRecDepth 100000 in
theorem dX9_library_451 : decode cX9_library 451 = .ok (.goto 4, 3) := by decide +kernel
set_option maxRecDepth 100000 in
theorem dX9_library_454 : decode cX9_library 454 = .ok (.iconst 0, 1) := by decide +kernel
set_option maxRecDepth 100000 in
theorem dX9_library_455 : decode cX9_library 455 = .ok (.iload 4, 2) := by decide +kernel
set_option maxRecDepth 100000 in
theorem dX9_library_457 : decode cX9_library 457 = .ok (.invokevirtual 447, 3) := by decide +kernel
set_option maxRecDepth 100000 in
theorem dX9_library_460 : decode cX9_library 460 = .ok (.goto 32, 3) := by decide +kernel
set_option maxRecDepth 100000 in
theorem dX9_library_463 : decode cX9_library 463 = .ok (.aload_n 0, 1) := by decide +kernel
set_option maxRecDepth 100000 in
theorem dX9_library_464 : decode cX9_library 464 = .ok (.iload 5, 2) := by decide +kernel
set_option maxRecDepth 100000 in
theorem dX9_library_466 : decode cX9_library 466 = .ok (.iload 4, 2) := by decide +kernel
set_option maxRecDepth 100000 in
theorem dX9_library_468 : decode cX9_library 468 = .ok (.invokevirtual 451, 3) := by decide +kernel
set_option maxRecDepth 100000 in
theorem dX9_library_471 : decode cX9_library 471 = .ok (.goto 21, 3) := by decide +kernel
set_option maxRecDepth 100000 in
theorem dX9_library_474 : decode cX9_library 474 = .ok (.aload_n 0, 1) := by decide +kernel
set_option maxRecDepth 100000 in
theorem dX9_library_475 : decode cX9_library 475 = .ok (.iload_n 1, 1) := by decide +kernel
set_option maxRecDepth 100000 in
theorem dX9_library_476 : decode cX9_library 476 = .ok (.iload 5, 2) := by decide +kernel
set_option maxRecDepth 100000 in
theorem dX9_library_478 : decode cX9_library 478 = .ok (.iload 4, 2) := by decide +kernel
set_option maxRecDepth 100000 in
theorem dX9_library_480 : decode cX9_library 480 = .ok (.aload_n 0, 1) := by decide +kernel
set_option maxRecDepth 100000 in
theorem dX9_library_481 : decode cX9_library 481 = .ok (.getfield 75, 3) := by decide +kernel
set_option maxRecDepth 100000 in
theorem dX9_library_484 : decode cX9_library 484 = .ok (.getfield 224, 3) := by decide +kernel
set_option maxRecDepth 100000 in
theorem dX9_library_487 : decode cX9_library 487 = .ok (.iload_n 2, 1) := by decide +kernel
set_option maxRecDepth 100000 in
theorem dX9_library_488 : decode cX9_library 488 = .ok (.iaload, 1) := by decide +kernel
set_option maxRecDepth 100000 in
theorem dX9_library_489 : decode cX9_library 489 = .ok (.invokevirtual 454, 3) := by decide +kernel
set_option maxRecDepth 100000 in
theorem dX9_library_492 : decode cX9_library 492 = .ok (.return_, 1) := by decide +kernel
set_option maxRecDepth 100000 in
def bX9_library_492 (G : xG) (fr lo : Nat) (h : xH) (Q : Outcome → xH → Prop) : Prop := Q (.returned none) h
set_option maxRecDepth 100000 in
theorem uX9_library_492 {G : xG} {fr lo : Nat} {h : xH} {Q : Outcome → xH → Prop} (hq : bX9_library_492 G fr lo h Q) : xP G YX9_library fr lo 492 [] [] h Q := by
  unfold bX9_library_492 at hq
  exact x_vret rfl dX9_library_492 hq
set_option maxRecDepth 100000 in
def bX9_library_455 (G : xG) (fr lo : Nat) (x4 : Int32) (s0 : Int32) (s1 : Int32) (s2 : Int32) (s3 : Nat) (h : xH) (Q : Outcome → xH → Prop) : Prop := tg h s3 = 10 ∧ 1 ≤ fr ∧ 16 ≤ lo ∧ xRv G YX9_adds (fr - 1) (lo - 16) [rv s3, .int s2, .int s1, .int s0, .int x4] h (fun h4 => xext h h4 → bX9_library_492 G fr lo h4 Q) (fun r h2 => Q (.threw r) h2)
set_option maxRecDepth 100000 in
theorem uX9_library_455 {G : xG} {fr lo : Nat} {x4 : Int32} {s0 : Int32} {s1 : Int32} {s2 : Int32} {s3 : Nat} {h : xH} {Q : Outcome → xH → Prop} (hq : bX9_library_455 G fr lo x4 s0 s1 s2 s3 h Q) : xP G YX9_library fr lo 455 [(4, .int x4)] [.int s0, .int s1, .int s2, rv s3] h Q := by
  unfold bX9_library_455 at hq
  refine x_iload 0 dX9_library_455 rfl ?_
  obtain ⟨g1, hq⟩ := hq
  obtain ⟨g2, g3, hq⟩ := hq
  refine x_callV (Yc := YX9_adds) (as := [.int s2, .int s1, .int s0, .int x4]) (st := []) q3149 mvX9_adds g1 rfl dX9_library_457 (xle (xal1 (rv_cat _) (xal1 rfl (xal1 rfl (xal1 rfl (xal1 rfl xal0))))) (by decide)) (xfr g2) (xlo xsw0 (by decide) g3) (xKv hq (fun h4 hq e6 => ?_) (fun _ _ q _ => q))
  replace hq := hq e6
  refine x_goto (tgt := 492) dX9_library_460 (by decide) ?_
  refine xP.pick (lv' := []) [] rfl ?_
  exact uX9_library_492 hq
set_option maxRecDepth 100000 in
def bX9_library_395 (G : xG) (fr lo : Nat) (x0 : Nat) (x2 : Int32) (x5 : Int32) (h : xH) (Q : Outcome → xH → Prop) : Prop := tg h x0 = 10 ∧ tg h (fR h x0 2306) = 12 ∧ 1 ≤ fr ∧ 14 ≤ lo ∧ xRv G YX11_goOn (fr - 1) (lo - 14) [rv (fR h x0 2306), .int x5] h (fun h5 => xext h h5 → tg h5 (fR h5 x0 2304) = 3 ∧ tg h5 (fR h5 (fR h5 x0 2304) 514) = 100 ∧ vp_in x2 (ln h5 (fR h5 (fR h5 x0 2304) 514)) ∧ tg h5 (fR h5 x0 2306) = 12 ∧ 1 ≤ fr ∧ 17 ≤ lo ∧ xRv G YX11_bring (fr - 1) (lo - 17) [rv (fR h5 x0 2306), .int x5, .int (aI h5 (fR h5 (fR h5 x0 2304) 514) (Int32.toNatClampNeg x2))] h5 (fun h15 => xext h5 h15 → bX9_library_492 G fr lo h15 Q) (fun r h2 => Q (.threw r) h2)) (fun r h2 => Q (.threw r) h2)
set_option maxRecDepth 100000 in
theorem uX9_library_395 {G : xG} {fr lo : Nat} {x0 : Nat} {x2 : Int32} {x5 : Int32} {h : xH} {Q : Outcome → xH → Prop} (hq : bX9_library_395 G fr lo x0 x2 x5 h Q) : xP G YX9_library fr lo 395 [(0, rv x0), (2, .int x2), (5, .int x5)] [] h Q := by
  unfold bX9_library_395 at hq
  refine x_aload_n 0 dX9_library_395 rfl ?_
  obtain ⟨g1, hq⟩ := hq
  refine x_get (v := rv (fR h x0 2306)) fdX9_23 dX9_library_396 g1 rfl ?_
  refine x_iload 2 dX9_library_399 rfl ?_
  obtain ⟨g2, hq⟩ := hq
  obtain ⟨g3, g4, hq⟩ := hq
  refine x_callV (Yc := YX11_goOn) (as := [.int x5]) (st := []) q3145 mvX11_goOn g2 rfl dX9_library_401 (xle (xal1 (rv_cat _) (xal1 rfl xal0)) (by decide)) (xfr g3) (xlo xsw0 (by decide) g4) (xKv hq (fun h5 hq e7 => ?_) (fun _ _ q _ => q))
  replace hq := hq e7
  refine x_aload_n 0 dX9_library_404 rfl ?_
  have t8 : tg h5 x0 = 10 := e7.tg g1 (by decide)
  refine x_get (v := rv (fR h5 x0 2306)) fdX9_23 dX9_library_405 t8 rfl ?_
  refine x_iload 2 dX9_library_408 rfl ?_
  refine x_aload_n 0 dX9_library_410 rfl ?_
  refine x_get (v := rv (fR h5 x0 2304)) fdX9_75 dX9_library_411 t8 rfl ?_
  obtain ⟨g9, hq⟩ := hq
  refine x_getN (v := rv (fR h5 (fR h5 x0 2304) 514)) gfX9_204 dX9_library_414 g9 rfl ?_
  refine x_iload_n 1 dX9_library_417 rfl ?_
  obtain ⟨g10, hq⟩ := hq
  obtain ⟨i11, hq⟩ := hq
  refine x_iald 0 (Or.inl rfl) g10 i11 dX9_library_418 ?_
  obtain ⟨g12, hq⟩ := hq
  obtain ⟨g13, g14, hq⟩ := hq
  refine x_callV (Yc := YX11_bring) (as := [.int x5, .int (aI h5 (fR h5 (fR h5 x0 2304) 514) (Int32.toNatClampNeg x2))]) (st := []) q3144 mvX11_bring g12 rfl dX9_library_419 (xle (xal1 (rv_cat _) (xal1 rfl (xal1 rfl xal0))) (by decide)) (xfr g13) (xlo xsw0 (by decide) g14) (xKv hq (fun h15 hq e17 => ?_) (fun _ _ q _ => q))
  replace hq := hq e17
  refine x_goto (tgt := 492) dX9_library_422 (by decide) ?_
  refine xP.pick (lv' := []) [] rfl ?_
  exact uX9_library_492 hq
set_option maxRecDepth 100000 in
def bX9_library_387 (G : xG) (fr lo : Nat) (x0 : Nat) (x2 : Int32) (x4 : Int32) (x5 : Int32) (h : xH) (Q : Outcome → xH → Prop) : Prop := tg h x0 = 10 ∧ 1 ≤ fr ∧ 14 ≤ lo ∧ xRv G YX9_fail (fr - 1) (lo - 14) [rv x0, .int 10, .int x4] h (fun h4 => xext h h4 → bX9_library_395 G fr lo x0 x2 x5 h4 Q) (fun r h2 => Q (.threw r) h2)
set_option maxRecDepth 100000 in
theorem uX9_library_387 {G : xG} {fr lo : Nat} {x0 : Nat} {x2 : Int32} {x4 : Int32} {x5 : Int32} {h : xH} {Q : Outcome → xH → Prop} (hq : bX9_library_387 G fr lo x0 x2 x4 x5 h Q) : xP G YX9_library fr lo 387 [(0, rv x0), (2, .int x2), (4, .int x4), (5, .int x5)] [] h Q := by
  unfold bX9_library_387 at hq
  refine x_aload_n 0 dX9_library_387 rfl ?_
  refine x_bipush (v := 10) dX9_library_388 (by decide) ?_
  refine x_iload 2 dX9_library_390 rfl ?_
  obtain ⟨g1, hq⟩ := hq
  obtain ⟨g2, g3, hq⟩ := hq
  refine x_callV (Yc := YX9_fail) (as := [.int 10, .int x4]) (st := []) q2835 mvX9_fail g1 rfl dX9_library_392 (xle (xal1 (rv_cat _) (xal1 rfl (xal1 rfl xal0))) (by decide)) (xfr g2) (xlo xsw0 (by decide) g3) (xKv hq (fun h4 hq e6 => ?_) (fun _ _ q _ => q))
  replace hq := hq e6
  refine xP.pick (lv' := [(0, rv x0), (2, .int x2), (5, .int x5)]) [0, 1, 3] rfl ?_
  exact uX9_library_395 hq
set_option maxRecDepth 100000 in
def bX9_library_297 (G : xG) (fr lo : Nat) (x0 : Nat) (x2 : Int32) (x5 : Int32) (h : xH) (Q : Outcome → xH → Prop) : Prop := tg h x0 = 10 ∧ tg h (fR h x0 2304) = 3 ∧ tg h (fR h (fR h x0 2304) 514) = 100 ∧ vp_in x2 (ln h (fR h (fR h x0 2304) 514)) ∧ tg h (fR h x0 2306) = 12 ∧ 1 ≤ fr ∧ 14 ≤ lo ∧ xRv G YX11_reset (fr - 1) (lo - 14) [rv (fR h x0 2306), .int x5, .int (aI h (fR h (fR h x0 2304) 514) (Int32.toNatClampNeg x2))] h (fun h8 => xext h h8 → bX9_library_492 G fr lo h8 Q) (fun r h2 => Q (.threw r) h2)
set_option maxRecDepth 100000 in
theorem uX9_library_297 {G : xG} {fr lo : Nat} {x0 : Nat} {x2 : Int32} {x5 : Int32} {h : xH} {Q : Outcome → xH → Prop} (hq : bX9_library_297 G fr lo x0 x2 x5 h Q) : xP G YX9_library fr lo 297 [(0, rv x0), (2, .int x2), (5, .int x5)] [] h Q := by
  unfold bX9_library_297 at hq
  refine x_aload_n 0 dX9_library_297 rfl ?_
  obtain ⟨g1, hq⟩ := hq
  refine x_get (v := rv (fR h x0 2306)) fdX9_23 dX9_library_298 g1 rfl ?_
  refine x_iload 2 dX9_library_301 rfl ?_
  refine x_aload_n 0 dX9_library_303 rfl ?_
  refine x_get (v := rv (fR h x0 2304)) fdX9_75 dX9_library_304 g1 rfl ?_
  obtain ⟨g2, hq⟩ := hq
  refine x_getN (v := rv (fR h (fR h x0 2304) 514)) gfX9_204 dX9_library_307 g2 rfl ?_
  refine x_iload_n 1 dX9_library_310 rfl ?_
  obtain ⟨g3, hq⟩ := hq
  obtain ⟨i4, hq⟩ := hq
  refine x_iald 0 (Or.inl rfl) g3 i4 dX9_library_311 ?_
  obtain ⟨g5, hq⟩ := hq
  obtain ⟨g6, g7, hq⟩ := hq
  refine x_callV (Yc := YX11_reset) (as := [.int x5, .int (aI h (fR h (fR h x0 2304) 514) (Int32.toNatClampNeg x2))]) (st := []) q3143 mvX11_reset g5 rfl dX9_library_312 (xle (xal1 (rv_cat _) (xal1 rfl (xal1 rfl xal0))) (by decide)) (xfr g6) (xlo xsw0 (by decide) g7) (xKv hq (fun h8 hq e10 => ?_) (fun _ _ q _ => q))
  replace hq := hq e10
  refine x_goto (tgt := 492) dX9_library_315 (by decide) ?_
  refine xP.pick (lv' := []) [] rfl ?_
  exact uX9_library_492 hq
set_option maxRecDepth 100000 in
def bX9_library_179 (G : xG) (fr lo : Nat) (x0 : Nat) (h : xH) (Q : Outcome → xH → Prop) : Prop := tg h x0 = 10 ∧ tg h (fR h x0 2307) = 101 ∧ vp_in ((fI h x0 2310) - 1) (ln h (fR h x0 2307)) ∧ vp_in ((fI h x0 2310) - 1) (ln h (fR h x0 2307)) ∧ (∀ h5 : xH, h5 = tJ h (fR h x0 2307) (Int32.toNatClampNeg ((fI h x0 2310) - 1)) ((aJ h (fR h x0 2307) (Int32.toNatClampNeg ((fI h x0 2310) - 1))) + 1) → Q (.returned none) h5)
set_option maxRecDepth 100000 in
theorem uX9_library_179 {G : xG} {fr lo : Nat} {x0 : Nat} {h : xH} {Q : Outcome → xH → Prop} (hq : bX9_library_179 G fr lo x0 h Q) : xP G YX9_library fr lo 179 [(0, rv x0)] [] h Q := by
  unfold bX9_library_179 at hq
  refine x_aload_n 0 dX9_library_179 rfl ?_
  obtain ⟨g1, hq⟩ := hq
  refine x_get (v := rv (fR h x0 2307)) fdX9_28 dX9_library_180 g1 rfl ?_
  refine x_aload_n 0 dX9_library_183 rfl ?_
  refine x_get (v := .int (fI h x0 2310)) fdX9_86 dX9_library_184 g1 rfl ?_
  refine x_iconst (v := 1) dX9_library_187 (by decide) ?_
  refine x_isub dX9_library_188 ?_
  refine x_dup2 dX9_library_189 rfl (rv_cat _) ?_
  obtain ⟨g2, hq⟩ := hq
  obtain ⟨i3, hq⟩ := hq
  refine x_lald g2 i3 dX9_library_190 ?_
  refine x_lconst (v := 1) dX9_library_191 (by decide) ?_
  refine x_ladd dX9_library_192 ?_
  obtain ⟨i4, hq⟩ := hq
  obtain ⟨h5, e6⟩ : ∃ y, y = tJ h (fR h x0 2307) (Int32.toNatClampNeg ((fI h x0 2310) - 1)) ((aJ h (fR h x0 2307) (Int32.toNatClampNeg ((fI h x0 2310) - 1))) + 1) := ⟨_, rfl⟩
  replace hq := hq h5 e6
  refine x_last' g2 i4 dX9_library_193 e6 ?_
  exact x_vret rfl dX9_library_194 hq
set_option maxRecDepth 100000 in
def bX9_library_171 (G : xG) (fr lo : Nat) (x0 : Nat) (x4 : Int32) (h : xH) (Q : Outcome → xH → Prop) : Prop := tg h x0 = 10 ∧ 1 ≤ fr ∧ 14 ≤ lo ∧ xRv G YX9_fail (fr - 1) (lo - 14) [rv x0, .int 10, .int x4] h (fun h4 => xext h h4 → bX9_library_179 G fr lo x0 h4 Q) (fun r h2 => Q (.threw r) h2)
set_option maxRecDepth 100000 in
theorem uX9_library_171 {G : xG} {fr lo : Nat} {x0 : Nat} {x4 : Int32} {h : xH} {Q : Outcome → xH → Prop} (hq : bX9_library_171 G fr lo x0 x4 h Q) : xP G YX9_library fr lo 171 [(0, rv x0), (4, .int x4)] [] h Q := by
  unfold bX9_library_171 at hq
  refine x_aload_n 0 dX9_library_171 rfl ?_
  refine x_bipush (v := 10) dX9_library_172 (by decide) ?_
  refine x_iload 1 dX9_library_174 rfl ?_
  obtain ⟨g1, hq⟩ := hq
  obtain ⟨g2, g3, hq⟩ := hq
  refine x_callV (Yc := YX9_fail) (as := [.int 10, .int x4]) (st := []) q2835 mvX9_fail g1 rfl dX9_library_176 (xle (xal1 (rv_cat _) (xal1 rfl (xal1 rfl xal0))) (by decide)) (xfr g2) (xlo xsw0 (by decide) g3) (xKv hq (fun h4 hq e6 => ?_) (fun _ _ q _ => q))
  replace hq := hq e6
  refine xP.pick (lv' := [(0, rv x0)]) [0] rfl ?_
  exact uX9_library_179 hq
set_option maxRecDepth 100000 in
def bX9_library (G : xG) (fr lo : Nat) (x0 : Nat) (x1 : Int32) (x2 : Int32) (h : xH) (Q : Outcome → xH → Prop) : Prop := tg h x0 = 10 ∧ tg h (fR h x0 2304) = 3 ∧ tg h (fR h (fR h x0 2304) 513) = 100 ∧ vp_in x2 (ln h (fR h (fR h x0 2304) 513)) ∧ tg h (fR h (fR h x0 2304) 516) = 100 ∧ vp_in x2 (ln h (fR h (fR h x0 2304) 516)) ∧ tg h (fR h x0 2307) = 101 ∧ vp_in ((fI h x0 2310) - 1) (ln h (fR h x0 2307)) ∧ ((x1 ≤ 92 → ((x1 = 80 → 1 ≤ fr ∧ 16 ≤ lo ∧ xRv G YX9_asks (fr - 1) (lo - 16) [rv x0, .int x1, .int (Int64.toInt32 (aJ h (fR h x0 2307) (Int32.toNatClampNeg ((fI h x0 2310) - 1)))), .int (aI h (fR h (fR h x0 2304) 516) (Int32.toNatClampNeg x2))] h (fun h13 => xext h h13 → Q (.returned none) h13) (fun r h2 => Q (.threw r) h2)) ∧ (x1 = 81 → 1 ≤ fr ∧ 16 ≤ lo ∧ xRv G YX9_asks (fr - 1) (lo - 16) [rv x0, .int x1, .int (Int64.toInt32 (aJ h (fR h x0 2307) (Int32.toNatClampNeg ((fI h x0 2310) - 1)))), .int (aI h (fR h (fR h x0 2304) 516) (Int32.toNatClampNeg x2))] h (fun h19 => xext h h19 → Q (.returned none) h19) (fun r h2 => Q (.threw r) h2)) ∧ (x1 = 82 → (∀ h23 : xH, h23 = sI h x0 2310 ((fI h x0 2310) - 1) → ((x1 = 82 → tg h23 (fR h23 x0 2306) = 12 ∧ tg h23 (fR h23 (fR h23 x0 2306) 2817) = 100 ∧ vp_in (Int64.toInt32 (aJ h (fR h x0 2307) (Int32.toNatClampNeg ((fI h x0 2310) - 1)))) (ln h23 (fR h23 (fR h23 x0 2306) 2817)) ∧ ((¬ (aI h23 (fR h23 (fR h23 x0 2306) 2817) (Int32.toNatClampNeg (Int64.toInt32 (aJ h (fR h x0 2307) (Int32.toNatClampNeg ((fI h x0 2310) - 1)))))) = 0 → bX9_library_297 G fr lo x0 x2 (Int64.toInt32 (aJ h (fR h x0 2307) (Int32.toNatClampNeg ((fI h x0 2310) - 1)))) h23 Q) ∧ ((aI h23 (fR h23 (fR h23 x0 2306) 2817) (Int32.toNatClampNeg (Int64.toInt32 (aJ h (fR h x0 2307) (Int32.toNatClampNeg ((fI h x0 2310) - 1)))))) = 0 → tg h23 (fR h23 (fR h23 x0 2306) 2824) = 104 ∧ vp_in (Int64.toInt32 (aJ h (fR h x0 2307) (Int32.toNatClampNeg ((fI h x0 2310) - 1)))) (ln h23 (fR h23 (fR h23 x0 2306) 2824)) ∧ ((¬ (aI h23 (fR h23 (fR h23 x0 2306) 2824) (Int32.toNatClampNeg (Int64.toInt32 (aJ h (fR h x0 2307) (Int32.toNatClampNeg ((fI h x0 2310) - 1)))))) = 0 → bX9_library_297 G fr lo x0 x2 (Int64.toInt32 (aJ h (fR h x0 2307) (Int32.toNatClampNeg ((fI h x0 2310) - 1)))) h23 Q) ∧ ((aI h23 (fR h23 (fR h23 x0 2306) 2824) (Int32.toNatClampNeg (Int64.toInt32 (aJ h (fR h x0 2307) (Int32.toNatClampNeg ((fI h x0 2310) - 1)))))) = 0 → 1 ≤ fr ∧ 14 ≤ lo ∧ xRv G YX9_fail (fr - 1) (lo - 14) [rv x0, .int 10, .int (aI h (fR h (fR h x0 2304) 516) (Int32.toNatClampNeg x2))] h23 (fun h36 => xext h23 h36 → bX9_library_492 G fr lo h36 Q) (fun r h2 => Q (.threw r) h2)))))) ∧ (x1 = 83 → tg h23 (fR h23 x0 2306) = 12 ∧ 1 ≤ fr ∧ 13 ≤ lo ∧ xRv G YX11_empty (fr - 1) (lo - 13) [rv (fR h23 x0 2306), .int (Int64.toInt32 (aJ h (fR h x0 2307) (Int32.toNatClampNeg ((fI h x0 2310) - 1))))] h23 (fun h44 => xext h23 h44 → tg h44 (fR h44 x0 2306) = 12 ∧ tg h44 (fR h44 (fR h44 x0 2306) 2817) = 100 ∧ vp_in (Int64.toInt32 (aJ h (fR h x0 2307) (Int32.toNatClampNeg ((fI h x0 2310) - 1)))) (ln h44 (fR h44 (fR h44 x0 2306) 2817)) ∧ (∀ h51 : xH, h51 = tI h44 (fR h44 (fR h44 x0 2306) 2817) (Int32.toNatClampNeg (Int64.toInt32 (aJ h (fR h x0 2307) (Int32.toNatClampNeg ((fI h x0 2310) - 1))))) 2 → tg h51 (fR h51 x0 2304) = 3 ∧ tg h51 (fR h51 (fR h51 x0 2304) 514) = 100 ∧ vp_in x2 (ln h51 (fR h51 (fR h51 x0 2304) 514)) ∧ tg h51 (fR h51 x0 2306) = 12 ∧ 1 ≤ fr ∧ 17 ≤ lo ∧ xRv G YX11_bring (fr - 1) (lo - 17) [rv (fR h51 x0 2306), .int (Int64.toInt32 (aJ h (fR h x0 2307) (Int32.toNatClampNeg ((fI h x0 2310) - 1)))), .int (aI h51 (fR h51 (fR h51 x0 2304) 514) (Int32.toNatClampNeg x2))] h51 (fun h60 => xext h51 h60 → bX9_library_492 G fr lo h60 Q) (fun r h2 => Q (.threw r) h2))) (fun r h2 => Q (.threw r) h2)) ∧ (x1 = 84 → tg h23 (fR h23 x0 2306) = 12 ∧ tg h23 (fR h23 (fR h23 x0 2306) 2817) = 100 ∧ vp_in (Int64.toInt32 (aJ h (fR h x0 2307) (Int32.toNatClampNeg ((fI h x0 2310) - 1)))) (ln h23 (fR h23 (fR h23 x0 2306) 2817)) ∧ ((¬ (aI h23 (fR h23 (fR h23 x0 2306) 2817) (Int32.toNatClampNeg (Int64.toInt32 (aJ h (fR h x0 2307) (Int32.toNatClampNeg ((fI h x0 2310) - 1)))))) = 1 → bX9_library_387 G fr lo x0 x2 (aI h (fR h (fR h x0 2304) 516) (Int32.toNatClampNeg x2)) (Int64.toInt32 (aJ h (fR h x0 2307) (Int32.toNatClampNeg ((fI h x0 2310) - 1)))) h23 Q) ∧ ((aI h23 (fR h23 (fR h23 x0 2306) 2817) (Int32.toNatClampNeg (Int64.toInt32 (aJ h (fR h x0 2307) (Int32.toNatClampNeg ((fI h x0 2310) - 1)))))) = 1 → tg h23 (fR h23 (fR h23 x0 2306) 2820) = 100 ∧ vp_in (Int64.toInt32 (aJ h (fR h x0 2307) (Int32.toNatClampNeg ((fI h x0 2310) - 1)))) (ln h23 (fR h23 (fR h23 x0 2306) 2820)) ∧ ((¬ (aI h23 (fR h23 (fR h23 x0 2306) 2820) (Int32.toNatClampNeg (Int64.toInt32 (aJ h (fR h x0 2307) (Int32.toNatClampNeg ((fI h x0 2310) - 1)))))) = (-1) → bX9_library_395 G fr lo x0 x2 (Int64.toInt32 (aJ h (fR h x0 2307) (Int32.toNatClampNeg ((fI h x0 2310) - 1)))) h23 Q) ∧ ((aI h23 (fR h23 (fR h23 x0 2306) 2820) (Int32.toNatClampNeg (Int64.toInt32 (aJ h (fR h x0 2307) (Int32.toNatClampNeg ((fI h x0 2310) - 1)))))) = (-1) → bX9_library_387 G fr lo x0 x2 (aI h (fR h (fR h x0 2304) 516) (Int32.toNatClampNeg x2)) (Int64.toInt32 (aJ h (fR h x0 2307) (Int32.toNatClampNeg ((fI h x0 2310) - 1)))) h23 Q))))) ∧ (x1 = 85 → tg h23 (fR h23 x0 2304) = 3 ∧ tg h23 (fR h23 (fR h23 x0 2304) 514) = 100 ∧ vp_in x2 (ln h23 (fR h23 (fR h23 x0 2304) 514)) ∧ tg h23 (fR h23 (fR h23 x0 2304) 515) = 100 ∧ vp_in x2 (ln h23 (fR h23 (fR h23 x0 2304) 515)) ∧ ((¬ (aI h23 (fR h23 (fR h23 x0 2304) 515) (Int32.toNatClampNeg x2)) = 1 → bX9_library_455 G fr lo (aI h (fR h (fR h x0 2304) 516) (Int32.toNatClampNeg x2)) 0 (aI h23 (fR h23 (fR h23 x0 2304) 514) (Int32.toNatClampNeg x2)) (Int64.toInt32 (aJ h (fR h x0 2307) (Int32.toNatClampNeg ((fI h x0 2310) - 1)))) x0 h23 Q) ∧ ((aI h23 (fR h23 (fR h23 x0 2304) 515) (Int32.toNatClampNeg x2)) = 1 → bX9_library_455 G fr lo (aI h (fR h (fR h x0 2304) 516) (Int32.toNatClampNeg x2)) 1 (aI h23 (fR h23 (fR h23 x0 2304) 514) (Int32.toNatClampNeg x2)) (Int64.toInt32 (aJ h (fR h x0 2307) (Int32.toNatClampNeg ((fI h x0 2310) - 1)))) x0 h23 Q))) ∧ (x1 = 86 → tg h23 (fR h23 x0 2304) = 3 ∧ tg h23 (fR h23 (fR h23 x0 2304) 515) = 100 ∧ vp_in x2 (ln h23 (fR h23 (fR h23 x0 2304) 515)) ∧ 1 ≤ fr ∧ 25 ≤ lo ∧ xRv G YX9_readsNumber (fr - 1) (lo - 25) [rv x0, .int x1, .int (Int64.toInt32 (aJ h (fR h x0 2307) (Int32.toNatClampNeg ((fI h x0 2310) - 1)))), .int (aI h (fR h (fR h x0 2304) 516) (Int32.toNatClampNeg x2)), .int (aI h23 (fR h23 (fR h23 x0 2304) 515) (Int32.toNatClampNeg x2))] h23 (fun h87 => xext h23 h87 → bX9_library_492 G fr lo h87 Q) (fun r h2 => Q (.threw r) h2)) ∧ (x1 = 87 → tg h23 (fR h23 x0 2304) = 3 ∧ tg h23 (fR h23 (fR h23 x0 2304) 515) = 100 ∧ vp_in x2 (ln h23 (fR h23 (fR h23 x0 2304) 515)) ∧ 1 ≤ fr ∧ 25 ≤ lo ∧ xRv G YX9_readsNumber (fr - 1) (lo - 25) [rv x0, .int x1, .int (Int64.toInt32 (aJ h (fR h x0 2307) (Int32.toNatClampNeg ((fI h x0 2310) - 1)))), .int (aI h (fR h (fR h x0 2304) 516) (Int32.toNatClampNeg x2)), .int (aI h23 (fR h23 (fR h23 x0 2304) 515) (Int32.toNatClampNeg x2))] h23 (fun h97 => xext h23 h97 → bX9_library_492 G fr lo h97 Q) (fun r h2 => Q (.threw r) h2)) ∧ (x1 = 88 → tg h23 (fR h23 x0 2304) = 3 ∧ tg h23 (fR h23 (fR h23 x0 2304) 515) = 100 ∧ vp_in x2 (ln h23 (fR h23 (fR h23 x0 2304) 515)) ∧ 1 ≤ fr ∧ 25 ≤ lo ∧ xRv G YX9_readsNumber (fr - 1) (lo - 25) [rv x0, .int x1, .int (Int64.toInt32 (aJ h (fR h x0 2307) (Int32.toNatClampNeg ((fI h x0 2310) - 1)))), .int (aI h (fR h (fR h x0 2304) 516) (Int32.toNatClampNeg x2)), .int (aI h23 (fR h23 (fR h23 x0 2304) 515) (Int32.toNatClampNeg x2))] h23 (fun h107 => xext h23 h107 → bX9_library_492 G fr lo h107 Q) (fun r h2 => Q (.threw r) h2)) ∧ (x1 = 89 → tg h23 (fR h23 x0 2304) = 3 ∧ tg h23 (fR h23 (fR h23 x0 2304) 515) = 100 ∧ vp_in x2 (ln h23 (fR h23 (fR h23 x0 2304) 515)) ∧ 1 ≤ fr ∧ 25 ≤ lo ∧ xRv G YX9_readsNumber (fr - 1) (lo - 25) [rv x0, .int x1, .int (Int64.toInt32 (aJ h (fR h x0 2307) (Int32.toNatClampNeg ((fI h x0 2310) - 1)))), .int (aI h (fR h (fR h x0 2304) 516) (Int32.toNatClampNeg x2)), .int (aI h23 (fR h23 (fR h23 x0 2304) 515) (Int32.toNatClampNeg x2))] h23 (fun h117 => xext h23 h117 → bX9_library_492 G fr lo h117 Q) (fun r h2 => Q (.threw r) h2)) ∧ (x1 = 90 → tg h23 (fR h23 x0 2304) = 3 ∧ tg h23 (fR h23 (fR h23 x0 2304) 515) = 100 ∧ vp_in x2 (ln h23 (fR h23 (fR h23 x0 2304) 515)) ∧ 1 ≤ fr ∧ 25 ≤ lo ∧ xRv G YX9_readsNumber (fr - 1) (lo - 25) [rv x0, .int x1, .int (Int64.toInt32 (aJ h (fR h x0 2307) (Int32.toNatClampNeg ((fI h x0 2310) - 1)))), .int (aI h (fR h (fR h x0 2304) 516) (Int32.toNatClampNeg x2)), .int (aI h23 (fR h23 (fR h23 x0 2304) 515) (Int32.toNatClampNeg x2))] h23 (fun h127 => xext h23 h127 → bX9_library_492 G fr lo h127 Q) (fun r h2 => Q (.threw r) h2)) ∧ (x1 = 91 → 1 ≤ fr ∧ 14 ≤ lo ∧ xRv G YX9_passes (fr - 1) (lo - 14) [rv x0, .int (Int64.toInt32 (aJ h (fR h x0 2307) (Int32.toNatClampNeg ((fI h x0 2310) - 1)))), .int (aI h (fR h (fR h x0 2304) 516) (Int32.toNatClampNeg x2))] h23 (fun h134 => xext h23 h134 → bX9_library_492 G fr lo h134 Q) (fun r h2 => Q (.threw r) h2)) ∧ (¬ x1 = 82 → ¬ x1 = 83 → ¬ x1 = 84 → ¬ x1 = 85 → ¬ x1 = 86 → ¬ x1 = 87 → ¬ x1 = 88 → ¬ x1 = 89 → ¬ x1 = 90 → ¬ x1 = 91 → tg h23 (fR h23 x0 2304) = 3 ∧ tg h23 (fR h23 (fR h23 x0 2304) 515) = 100 ∧ vp_in x2 (ln h23 (fR h23 (fR h23 x0 2304) 515)) ∧ 1 ≤ fr ∧ 25 ≤ lo ∧ xRv G YX9_readsNumber (fr - 1) (lo - 25) [rv x0, .int x1, .int (Int64.toInt32 (aJ h (fR h x0 2307) (Int32.toNatClampNeg ((fI h x0 2310) - 1)))), .int (aI h (fR h (fR h x0 2304) 516) (Int32.toNatClampNeg x2)), .int (aI h23 (fR h23 (fR h23 x0 2304) 515) (Int32.toNatClampNeg x2))] h23 (fun h143 => xext h23 h143 → bX9_library_492 G fr lo h143 Q) (fun r h2 => Q (.threw r) h2))))) ∧ (x1 = 83 → (∀ h147 : xH, h147 = sI h x0 2310 ((fI h x0 2310) - 1) → ((x1 = 82 → tg h147 (fR h147 x0 2306) = 12 ∧ tg h147 (fR h147 (fR h147 x0 2306) 2817) = 100 ∧ vp_in (Int64.toInt32 (aJ h (fR h x0 2307) (Int32.toNatClampNeg ((fI h x0 2310) - 1)))) (ln h147 (fR h147 (fR h147 x0 2306) 2817)) ∧ ((¬ (aI h147 (fR h147 (fR h147 x0 2306) 2817) (Int32.toNatClampNeg (Int64.toInt32 (aJ h (fR h x0 2307) (Int32.toNatClampNeg ((fI h x0 2310) - 1)))))) = 0 → bX9_library_297 G fr lo x0 x2 (Int64.toInt32 (aJ h (fR h x0 2307) (Int32.toNatClampNeg ((fI h x0 2310) - 1)))) h147 Q) ∧ ((aI h147 (fR h147 (fR h147 x0 2306) 2817) (Int32.toNatClampNeg (Int64.toInt32 (aJ h (fR h x0 2307) (Int32.toNatClampNeg ((fI h x0 2310) - 1)))))) = 0 → tg h147 (fR h147 (fR h147 x0 2306) 2824) = 104 ∧ vp_in (Int64.toInt32 (aJ h (fR h x0 2307) (Int32.toNatClampNeg ((fI h x0 2310) - 1)))) (ln h147 (fR h147 (fR h147 x0 2306) 2824)) ∧ ((¬ (aI h147 (fR h147 (fR h147 x0 2306) 2824) (Int32.toNatClampNeg (Int64.toInt32 (aJ h (fR h x0 2307) (Int32.toNatClampNeg ((fI h x0 2310) - 1)))))) = 0 → bX9_library_297 G fr lo x0 x2 (Int64.toInt32 (aJ h (fR h x0 2307) (Int32.toNatClampNeg ((fI h x0 2310) - 1)))) h147 Q) ∧ ((aI h147 (fR h147 (fR h147 x0 2306) 2824) (Int32.toNatClampNeg (Int64.toInt32 (aJ h (fR h x0 2307) (Int32.toNatClampNeg ((fI h x0 2310) - 1)))))) = 0 → 1 ≤ fr ∧ 14 ≤ lo ∧ xRv G YX9_fail (fr - 1) (lo - 14) [rv x0, .int 10, .int (aI h (fR h (fR h x0 2304) 516) (Int32.toNatClampNeg x2))] h147 (fun h160 => xext h147 h160 → bX9_library_492 G fr lo h160 Q) (fun r h2 => Q (.threw r) h2)))))) ∧ (x1 = 83 → tg h147 (fR h147 x0 2306) = 12 ∧ 1 ≤ fr ∧ 13 ≤ lo ∧ xRv G YX11_empty (fr - 1) (lo - 13) [rv (fR h147 x0 2306), .int (Int64.toInt32 (aJ h (fR h x0 2307) (Int32.toNatClampNeg ((fI h x0 2310) - 1))))] h147 (fun h168 => xext h147 h168 → tg h168 (fR h168 x0 2306) = 12 ∧ tg h168 (fR h168 (fR h168 x0 2306) 2817) = 100 ∧ vp_in (Int64.toInt32 (aJ h (fR h x0 2307) (Int32.toNatClampNeg ((fI h x0 2310) - 1)))) (ln h168 (fR h168 (fR h168 x0 2306) 2817)) ∧ (∀ h175 : xH, h175 = tI h168 (fR h168 (fR h168 x0 2306) 2817) (Int32.toNatClampNeg (Int64.toInt32 (aJ h (fR h x0 2307) (Int32.toNatClampNeg ((fI h x0 2310) - 1))))) 2 → tg h175 (fR h175 x0 2304) = 3 ∧ tg h175 (fR h175 (fR h175 x0 2304) 514) = 100 ∧ vp_in x2 (ln h175 (fR h175 (fR h175 x0 2304) 514)) ∧ tg h175 (fR h175 x0 2306) = 12 ∧ 1 ≤ fr ∧ 17 ≤ lo ∧ xRv G YX11_bring (fr - 1) (lo - 17) [rv (fR h175 x0 2306), .int (Int64.toInt32 (aJ h (fR h x0 2307) (Int32.toNatClampNeg ((fI h x0 2310) - 1)))), .int (aI h175 (fR h175 (fR h175 x0 2304) 514) (Int32.toNatClampNeg x2))] h175 (fun h184 => xext h175 h184 → bX9_library_492 G fr lo h184 Q) (fun r h2 => Q (.threw r) h2))) (fun r h2 => Q (.threw r) h2)) ∧ (x1 = 84 → tg h147 (fR h147 x0 2306) = 12 ∧ tg h147 (fR h147 (fR h147 x0 2306) 2817) = 100 ∧ vp_in (Int64.toInt32 (aJ h (fR h x0 2307) (Int32.toNatClampNeg ((fI h x0 2310) - 1)))) (ln h147 (fR h147 (fR h147 x0 2306) 2817)) ∧ ((¬ (aI h147 (fR h147 (fR h147 x0 2306) 2817) (Int32.toNatClampNeg (Int64.toInt32 (aJ h (fR h x0 2307) (Int32.toNatClampNeg ((fI h x0 2310) - 1)))))) = 1 → bX9_library_387 G fr lo x0 x2 (aI h (fR h (fR h x0 2304) 516) (Int32.toNatClampNeg x2)) (Int64.toInt32 (aJ h (fR h x0 2307) (Int32.toNatClampNeg ((fI h x0 2310) - 1)))) h147 Q) ∧ ((aI h147 (fR h147 (fR h147 x0 2306) 2817) (Int32.toNatClampNeg (Int64.toInt32 (aJ h (fR h x0 2307) (Int32.toNatClampNeg ((fI h x0 2310) - 1)))))) = 1 → tg h147 (fR h147 (fR h147 x0 2306) 2820) = 100 ∧ vp_in (Int64.toInt32 (aJ h (fR h x0 2307) (Int32.toNatClampNeg ((fI h x0 2310) - 1)))) (ln h147 (fR h147 (fR h147 x0 2306) 2820)) ∧ ((¬ (aI h147 (fR h147 (fR h147 x0 2306) 2820) (Int32.toNatClampNeg (Int64.toInt32 (aJ h (fR h x0 2307) (Int32.toNatClampNeg ((fI h x0 2310) - 1)))))) = (-1) → bX9_library_395 G fr lo x0 x2 (Int64.toInt32 (aJ h (fR h x0 2307) (Int32.toNatClampNeg ((fI h x0 2310) - 1)))) h147 Q) ∧ ((aI h147 (fR h147 (fR h147 x0 2306) 2820) (Int32.toNatClampNeg (Int64.toInt32 (aJ h (fR h x0 2307) (Int32.toNatClampNeg ((fI h x0 2310) - 1)))))) = (-1) → bX9_library_387 G fr lo x0 x2 (aI h (fR h (fR h x0 2304) 516) (Int32.toNatClampNeg x2)) (Int64.toInt32 (aJ h (fR h x0 2307) (Int32.toNatClampNeg ((fI h x0 2310) - 1)))) h147 Q))))) ∧ (x1 = 85 → tg h147 (fR h147 x0 2304) = 3 ∧ tg h147 (fR h147 (fR h147 x0 2304) 514) = 100 ∧ vp_in x2 (ln h147 (fR h147 (fR h147 x0 2304) 514)) ∧ tg h147 (fR h147 (fR h147 x0 2304) 515) = 100 ∧ vp_in x2 (ln h147 (fR h147 (fR h147 x0 2304) 515)) ∧ ((¬ (aI h147 (fR h147 (fR h147 x0 2304) 515) (Int32.toNatClampNeg x2)) = 1 → bX9_library_455 G fr lo (aI h (fR h (fR h x0 2304) 516) (Int32.toNatClampNeg x2)) 0 (aI h147 (fR h147 (fR h147 x0 2304) 514) (Int32.toNatClampNeg x2)) (Int64.toInt32 (aJ h (fR h x0 2307) (Int32.toNatClampNeg ((fI h x0 2310) - 1)))) x0 h147 Q) ∧ ((aI h147 (fR h147 (fR h147 x0 2304) 515) (Int32.toNatClampNeg x2)) = 1 → bX9_library_455 G fr lo (aI h (fR h (fR h x0 2304) 516) (Int32.toNatClampNeg x2)) 1 (aI h147 (fR h147 (fR h147 x0 2304) 514) (Int32.toNatClampNeg x2)) (Int64.toInt32 (aJ h (fR h x0 2307) (Int32.toNatClampNeg ((fI h x0 2310) - 1)))) x0 h147 Q))) ∧ (x1 = 86 → tg h147 (fR h147 x0 2304) = 3 ∧ tg h147 (fR h147 (fR h147 x0 2304) 515) = 100 ∧ vp_in x2 (ln h147 (fR h147 (fR h147 x0 2304) 515)) ∧ 1 ≤ fr ∧ 25 ≤ lo ∧ xRv G YX9_readsNumber (fr - 1) (lo - 25) [rv x0, .int x1, .int (Int64.toInt32 (aJ h (fR h x0 2307) (Int32.toNatClampNeg ((fI h x0 2310) - 1)))), .int (aI h (fR h (fR h x0 2304) 516) (Int32.toNatClampNeg x2)), .int (aI h147 (fR h147 (fR h147 x0 2304) 515) (Int32.toNatClampNeg x2))] h147 (fun h211 => xext h147 h211 → bX9_library_492 G fr lo h211 Q) (fun r h2 => Q (.threw r) h2)) ∧ (x1 = 87 → tg h147 (fR h147 x0 2304) = 3 ∧ tg h147 (fR h147 (fR h147 x0 2304) 515) = 100 ∧ vp_in x2 (ln h147 (fR h147 (fR h147 x0 2304) 515)) ∧ 1 ≤ fr ∧ 25 ≤ lo ∧ xRv G YX9_readsNumber (fr - 1) (lo - 25) [rv x0, .int x1, .int (Int64.toInt32 (aJ h (fR h x0 2307) (Int32.toNatClampNeg ((fI h x0 2310) - 1)))), .int (aI h (fR h (fR h x0 2304) 516) (Int32.toNatClampNeg x2)), .int (aI h147 (fR h147 (fR h147 x0 2304) 515) (Int32.toNatClampNeg x2))] h147 (fun h221 => xext h147 h221 → bX9_library_492 G fr lo h221 Q) (fun r h2 => Q (.threw r) h2)) ∧ (x1 = 88 → tg h147 (fR h147 x0 2304) = 3 ∧ tg h147 (fR h147 (fR h147 x0 2304) 515) = 100 ∧ vp_in x2 (ln h147 (fR h147 (fR h147 x0 2304) 515)) ∧ 1 ≤ fr ∧ 25 ≤ lo ∧ xRv G YX9_readsNumber (fr - 1) (lo - 25) [rv x0, .int x1, .int (Int64.toInt32 (aJ h (fR h x0 2307) (Int32.toNatClampNeg ((fI h x0 2310) - 1)))), .int (aI h (fR h (fR h x0 2304) 516) (Int32.toNatClampNeg x2)), .int (aI h147 (fR h147 (fR h147 x0 2304) 515) (Int32.toNatClampNeg x2))] h147 (fun h231 => xext h147 h231 → bX9_library_492 G fr lo h231 Q) (fun r h2 => Q (.threw r) h2)) ∧ (x1 = 89 → tg h147 (fR h147 x0 2304) = 3 ∧ tg h147 (fR h147 (fR h147 x0 2304) 515) = 100 ∧ vp_in x2 (ln h147 (fR h147 (fR h147 x0 2304) 515)) ∧ 1 ≤ fr ∧ 25 ≤ lo ∧ xRv G YX9_readsNumber (fr - 1) (lo - 25) [rv x0, .int x1, .int (Int64.toInt32 (aJ h (fR h x0 2307) (Int32.toNatClampNeg ((fI h x0 2310) - 1)))), .int (aI h (fR h (fR h x0 2304) 516) (Int32.toNatClampNeg x2)), .int (aI h147 (fR h147 (fR h147 x0 2304) 515) (Int32.toNatClampNeg x2))] h147 (fun h241 => xext h147 h241 → bX9_library_492 G fr lo h241 Q) (fun r h2 => Q (.threw r) h2)) ∧ (x1 = 90 → tg h147 (fR h147 x0 2304) = 3 ∧ tg h147 (fR h147 (fR h147 x0 2304) 515) = 100 ∧ vp_in x2 (ln h147 (fR h147 (fR h147 x0 2304) 515)) ∧ 1 ≤ fr ∧ 25 ≤ lo ∧ xRv G YX9_readsNumber (fr - 1) (lo - 25) [rv x0, .int x1, .int (Int64.toInt32 (aJ h (fR h x0 2307) (Int32.toNatClampNeg ((fI h x0 2310) - 1)))), .int (aI h (fR h (fR h x0 2304) 516) (Int32.toNatClampNeg x2)), .int (aI h147 (fR h147 (fR h147 x0 2304) 515) (Int32.toNatClampNeg x2))] h147 (fun h251 => xext h147 h251 → bX9_library_492 G fr lo h251 Q) (fun r h2 => Q (.threw r) h2)) ∧ (x1 = 91 → 1 ≤ fr ∧ 14 ≤ lo ∧ xRv G YX9_passes (fr - 1) (lo - 14) [rv x0, .int (Int64.toInt32 (aJ h (fR h x0 2307) (Int32.toNatClampNeg ((fI h x0 2310) - 1)))), .int (aI h (fR h (fR h x0 2304) 516) (Int32.toNatClampNeg x2))] h147 (fun h258 => xext h147 h258 → bX9_library_492 G fr lo h258 Q) (fun r h2 => Q (.threw r) h2)) ∧ (¬ x1 = 82 → ¬ x1 = 83 → ¬ x1 = 84 → ¬ x1 = 85 → ¬ x1 = 86 → ¬ x1 = 87 → ¬ x1 = 88 → ¬ x1 = 89 → ¬ x1 = 90 → ¬ x1 = 91 → tg h147 (fR h147 x0 2304) = 3 ∧ tg h147 (fR h147 (fR h147 x0 2304) 515) = 100 ∧ vp_in x2 (ln h147 (fR h147 (fR h147 x0 2304) 515)) ∧ 1 ≤ fr ∧ 25 ≤ lo ∧ xRv G YX9_readsNumber (fr - 1) (lo - 25) [rv x0, .int x1, .int (Int64.toInt32 (aJ h (fR h x0 2307) (Int32.toNatClampNeg ((fI h x0 2310) - 1)))), .int (aI h (fR h (fR h x0 2304) 516) (Int32.toNatClampNeg x2)), .int (aI h147 (fR h147 (fR h147 x0 2304) 515) (Int32.toNatClampNeg x2))] h147 (fun h267 => xext h147 h267 → bX9_library_492 G fr lo h267 Q) (fun r h2 => Q (.threw r) h2))))) ∧ (x1 = 84 → (∀ h271 : xH, h271 = sI h x0 2310 ((fI h x0 2310) - 1) → ((x1 = 82 → tg h271 (fR h271 x0 2306) = 12 ∧ tg h271 (fR h271 (fR h271 x0 2306) 2817) = 100 ∧ vp_in (Int64.toInt32 (aJ h (fR h x0 2307) (Int32.toNatClampNeg ((fI h x0 2310) - 1)))) (ln h271 (fR h271 (fR h271 x0 2306) 2817)) ∧ ((¬ (aI h271 (fR h271 (fR h271 x0 2306) 2817) (Int32.toNatClampNeg (Int64.toInt32 (aJ h (fR h x0 2307) (Int32.toNatClampNeg ((fI h x0 2310) - 1)))))) = 0 → bX9_library_297 G fr lo x0 x2 (Int64.toInt32 (aJ h (fR h x0 2307) (Int32.toNatClampNeg ((fI h x0 2310) - 1)))) h271 Q) ∧ ((aI h271 (fR h271 (fR h271 x0 2306) 2817) (Int32.toNatClampNeg (Int64.toInt32 (aJ h (fR h x0 2307) (Int32.toNatClampNeg ((fI h x0 2310) - 1)))))) = 0 → tg h271 (fR h271 (fR h271 x0 2306) 2824) = 104 ∧ vp_in (Int64.toInt32 (aJ h (fR h x0 2307) (Int32.toNatClampNeg ((fI h x0 2310) - 1)))) (ln h271 (fR h271 (fR h271 x0 2306) 2824)) ∧ ((¬ (aI h271 (fR h271 (fR h271 x0 2306) 2824) (Int32.toNatClampNeg (Int64.toInt32 (aJ h (fR h x0 2307) (Int32.toNatClampNeg ((fI h x0 2310) - 1)))))) = 0 → bX9_library_297 G fr lo x0 x2 (Int64.toInt32 (aJ h (fR h x0 2307) (Int32.toNatClampNeg ((fI h x0 2310) - 1)))) h271 Q) ∧ ((aI h271 (fR h271 (fR h271 x0 2306) 2824) (Int32.toNatClampNeg (Int64.toInt32 (aJ h (fR h x0 2307) (Int32.toNatClampNeg ((fI h x0 2310) - 1)))))) = 0 → 1 ≤ fr ∧ 14 ≤ lo ∧ xRv G YX9_fail (fr - 1) (lo - 14) [rv x0, .int 10, .int (aI h (fR h (fR h x0 2304) 516) (Int32.toNatClampNeg x2))] h271 (fun h284 => xext h271 h284 → bX9_library_492 G fr lo h284 Q) (fun r h2 => Q (.threw r) h2)))))) ∧ (x1 = 83 → tg h271 (fR h271 x0 2306) = 12 ∧ 1 ≤ fr ∧ 13 ≤ lo ∧ xRv G YX11_empty (fr - 1) (lo - 13) [rv (fR h271 x0 2306), .int (Int64.toInt32 (aJ h (fR h x0 2307) (Int32.toNatClampNeg ((fI h x0 2310) - 1))))] h271 (fun h292 => xext h271 h292 → tg h292 (fR h292 x0 2306) = 12 ∧ tg h292 (fR h292 (fR h292 x0 2306) 2817) = 100 ∧ vp_in (Int64.toInt32 (aJ h (fR h x0 2307) (Int32.toNatClampNeg ((fI h x0 2310) - 1)))) (ln h292 (fR h292 (fR h292 x0 2306) 2817)) ∧ (∀ h299 : xH, h299 = tI h292 (fR h292 (fR h292 x0 2306) 2817) (Int32.toNatClampNeg (Int64.toInt32 (aJ h (fR h x0 2307) (Int32.toNatClampNeg ((fI h x0 2310) - 1))))) 2 → tg h299 (fR h299 x0 2304) = 3 ∧ tg h299 (fR h299 (fR h299 x0 2304) 514) = 100 ∧ vp_in x2 (ln h299 (fR h299 (fR h299 x0 2304) 514)) ∧ tg h299 (fR h299 x0 2306) = 12 ∧ 1 ≤ fr ∧ 17 ≤ lo ∧ xRv G YX11_bring (fr - 1) (lo - 17) [rv (fR h299 x0 2306), .int (Int64.toInt32 (aJ h (fR h x0 2307) (Int32.toNatClampNeg ((fI h x0 2310) - 1)))), .int (aI h299 (fR h299 (fR h299 x0 2304) 514) (Int32.toNatClampNeg x2))] h299 (fun h308 => xext h299 h308 → bX9_library_492 G fr lo h308 Q) (fun r h2 => Q (.threw r) h2))) (fun r h2 => Q (.threw r) h2)) ∧ (x1 = 84 → tg h271 (fR h271 x0 2306) = 12 ∧ tg h271 (fR h271 (fR h271 x0 2306) 2817) = 100 ∧ vp_in (Int64.toInt32 (aJ h (fR h x0 2307) (Int32.toNatClampNeg ((fI h x0 2310) - 1)))) (ln h271 (fR h271 (fR h271 x0 2306) 2817)) ∧ ((¬ (aI h271 (fR h271 (fR h271 x0 2306) 2817) (Int32.toNatClampNeg (Int64.toInt32 (aJ h (fR h x0 2307) (Int32.toNatClampNeg ((fI h x0 2310) - 1)))))) = 1 → bX9_library_387 G fr lo x0 x2 (aI h (fR h (fR h x0 2304) 516) (Int32.toNatClampNeg x2)) (Int64.toInt32 (aJ h (fR h x0 2307) (Int32.toNatClampNeg ((fI h x0 2310) - 1)))) h271 Q) ∧ ((aI h271 (fR h271 (fR h271 x0 2306) 2817) (Int32.toNatClampNeg (Int64.toInt32 (aJ h (fR h x0 2307) (Int32.toNatClampNeg ((fI h x0 2310) - 1)))))) = 1 → tg h271 (fR h271 (fR h271 x0 2306) 2820) = 100 ∧ vp_in (Int64.toInt32 (aJ h (fR h x0 2307) (Int32.toNatClampNeg ((fI h x0 2310) - 1)))) (ln h271 (fR h271 (fR h271 x0 2306) 2820)) ∧ ((¬ (aI h271 (fR h271 (fR h271 x0 2306) 2820) (Int32.toNatClampNeg (Int64.toInt32 (aJ h (fR h x0 2307) (Int32.toNatClampNeg ((fI h x0 2310) - 1)))))) = (-1) → bX9_library_395 G fr lo x0 x2 (Int64.toInt32 (aJ h (fR h x0 2307) (Int32.toNatClampNeg ((fI h x0 2310) - 1)))) h271 Q) ∧ ((aI h271 (fR h271 (fR h271 x0 2306) 2820) (Int32.toNatClampNeg (Int64.toInt32 (aJ h (fR h x0 2307) (Int32.toNatClampNeg ((fI h x0 2310) - 1)))))) = (-1) → bX9_library_387 G fr lo x0 x2 (aI h (fR h (fR h x0 2304) 516) (Int32.toNatClampNeg x2)) (Int64.toInt32 (aJ h (fR h x0 2307) (Int32.toNatClampNeg ((fI h x0 2310) - 1)))) h271 Q))))) ∧ (x1 = 85 → tg h271 (fR h271 x0 2304) = 3 ∧ tg h271 (fR h271 (fR h271 x0 2304) 514) = 100 ∧ vp_in x2 (ln h271 (fR h271 (fR h271 x0 2304) 514)) ∧ tg h271 (fR h271 (fR h271 x0 2304) 515) = 100 ∧ vp_in x2 (ln h271 (fR h271 (fR h271 x0 2304) 515)) ∧ ((¬ (aI h271 (fR h271 (fR h271 x0 2304) 515) (Int32.toNatClampNeg x2)) = 1 → bX9_library_455 G fr lo (aI h (fR h (fR h x0 2304) 516) (Int32.toNatClampNeg x2)) 0 (aI h271 (fR h271 (fR h271 x0 2304) 514) (Int32.toNatClampNeg x2)) (Int64.toInt32 (aJ h (fR h x0 2307) (Int32.toNatClampNeg ((fI h x0 2310) - 1)))) x0 h271 Q) ∧ ((aI h271 (fR h271 (fR h271 x0 2304) 515) (Int32.toNatClampNeg x2)) = 1 → bX9_library_455 G fr lo (aI h (fR h (fR h x0 2304) 516) (Int32.toNatClampNeg x2)) 1 (aI h271 (fR h271 (fR h271 x0 2304) 514) (Int32.toNatClampNeg x2)) (Int64.toInt32 (aJ h (fR h x0 2307) (Int32.toNatClampNeg ((fI h x0 2310) - 1)))) x0 h271 Q))) ∧ (x1 = 86 → tg h271 (fR h271 x0 2304) = 3 ∧ tg h271 (fR h271 (fR h271 x0 2304) 515) = 100 ∧ vp_in x2 (ln h271 (fR h271 (fR h271 x0 2304) 515)) ∧ 1 ≤ fr ∧ 25 ≤ lo ∧ xRv G YX9_readsNumber (fr - 1) (lo - 25) [rv x0, .int x1, .int (Int64.toInt32 (aJ h (fR h x0 2307) (Int32.toNatClampNeg ((fI h x0 2310) - 1)))), .int (aI h (fR h (fR h x0 2304) 516) (Int32.toNatClampNeg x2)), .int (aI h271 (fR h271 (fR h271 x0 2304) 515) (Int32.toNatClampNeg x2))] h271 (fun h335 => xext h271 h335 → bX9_library_492 G fr lo h335 Q) (fun r h2 => Q (.threw r) h2)) ∧ (x1 = 87 → tg h271 (fR h271 x0 2304) = 3 ∧ tg h271 (fR h271 (fR h271 x0 2304) 515) = 100 ∧ vp_in x2 (ln h271 (fR h271 (fR h271 x0 2304) 515)) ∧ 1 ≤ fr ∧ 25 ≤ lo ∧ xRv G YX9_readsNumber (fr - 1) (lo - 25) [rv x0, .int x1, .int (Int64.toInt32 (aJ h (fR h x0 2307) (Int32.toNatClampNeg ((fI h x0 2310) - 1)))), .int (aI h (fR h (fR h x0 2304) 516) (Int32.toNatClampNeg x2)), .int (aI h271 (fR h271 (fR h271 x0 2304) 515) (Int32.toNatClampNeg x2))] h271 (fun h345 => xext h271 h345 → bX9_library_492 G fr lo h345 Q) (fun r h2 => Q (.threw r) h2)) ∧ (x1 = 88 → tg h271 (fR h271 x0 2304) = 3 ∧ tg h271 (fR h271 (fR h271 x0 2304) 515) = 100 ∧ vp_in x2 (ln h271 (fR h271 (fR h271 x0 2304) 515)) ∧ 1 ≤ fr ∧ 25 ≤ lo ∧ xRv G YX9_readsNumber (fr - 1) (lo - 25) [rv x0, .int x1, .int (Int64.toInt32 (aJ h (fR h x0 2307) (Int32.toNatClampNeg ((fI h x0 2310) - 1)))), .int (aI h (fR h (fR h x0 2304) 516) (Int32.toNatClampNeg x2)), .int (aI h271 (fR h271 (fR h271 x0 2304) 515) (Int32.toNatClampNeg x2))] h271 (fun h355 => xext h271 h355 → bX9_library_492 G fr lo h355 Q) (fun r h2 => Q (.threw r) h2)) ∧ (x1 = 89 → tg h271 (fR h271 x0 2304) = 3 ∧ tg h271 (fR h271 (fR h271 x0 2304) 515) = 100 ∧ vp_in x2 (ln h271 (fR h271 (fR h271 x0 2304) 515)) ∧ 1 ≤ fr ∧ 25 ≤ lo ∧ xRv G YX9_readsNumber (fr - 1) (lo - 25) [rv x0, .int x1, .int (Int64.toInt32 (aJ h (fR h x0 2307) (Int32.toNatClampNeg ((fI h x0 2310) - 1)))), .int (aI h (fR h (fR h x0 2304) 516) (Int32.toNatClampNeg x2)), .int (aI h271 (fR h271 (fR h271 x0 2304) 515) (Int32.toNatClampNeg x2))] h271 (fun h365 => xext h271 h365 → bX9_library_492 G fr lo h365 Q) (fun r h2 => Q (.threw r) h2)) ∧ (x1 = 90 → tg h271 (fR h271 x0 2304) = 3 ∧ tg h271 (fR h271 (fR h271 x0 2304) 515) = 100 ∧ vp_in x2 (ln h271 (fR h271 (fR h271 x0 2304) 515)) ∧ 1 ≤ fr ∧ 25 ≤ lo ∧ xRv G YX9_readsNumber (fr - 1) (lo - 25) [rv x0, .int x1, .int (Int64.toInt32 (aJ h (fR h x0 2307) (Int32.toNatClampNeg ((fI h x0 2310) - 1)))), .int (aI h (fR h (fR h x0 2304) 516) (Int32.toNatClampNeg x2)), .int (aI h271 (fR h271 (fR h271 x0 2304) 515) (Int32.toNatClampNeg x2))] h271 (fun h375 => xext h271 h375 → bX9_library_492 G fr lo h375 Q) (fun r h2 => Q (.threw r) h2)) ∧ (x1 = 91 → 1 ≤ fr ∧ 14 ≤ lo ∧ xRv G YX9_passes (fr - 1) (lo - 14) [rv x0, .int (Int64.toInt32 (aJ h (fR h x0 2307) (Int32.toNatClampNeg ((fI h x0 2310) - 1)))), .int (aI h (fR h (fR h x0 2304) 516) (Int32.toNatClampNeg x2))] h271 (fun h382 => xext h271 h382 → bX9_library_492 G fr lo h382 Q) (fun r h2 => Q (.threw r) h2)) ∧ (¬ x1 = 82 → ¬ x1 = 83 → ¬ x1 = 84 → ¬ x1 = 85 → ¬ x1 = 86 → ¬ x1 = 87 → ¬ x1 = 88 → ¬ x1 = 89 → ¬ x1 = 90 → ¬ x1 = 91 → tg h271 (fR h271 x0 2304) = 3 ∧ tg h271 (fR h271 (fR h271 x0 2304) 515) = 100 ∧ vp_in x2 (ln h271 (fR h271 (fR h271 x0 2304) 515)) ∧ 1 ≤ fr ∧ 25 ≤ lo ∧ xRv G YX9_readsNumber (fr - 1) (lo - 25) [rv x0, .int x1, .int (Int64.toInt32 (aJ h (fR h x0 2307) (Int32.toNatClampNeg ((fI h x0 2310) - 1)))), .int (aI h (fR h (fR h x0 2304) 516) (Int32.toNatClampNeg x2)), .int (aI h271 (fR h271 (fR h271 x0 2304) 515) (Int32.toNatClampNeg x2))] h271 (fun h391 => xext h271 h391 → bX9_library_492 G fr lo h391 Q) (fun r h2 => Q (.threw r) h2))))) ∧ (x1 = 85 → (∀ h395 : xH, h395 = sI h x0 2310 ((fI h x0 2310) - 1) → ((x1 = 82 → tg h395 (fR h395 x0 2306) = 12 ∧ tg h395 (fR h395 (fR h395 x0 2306) 2817) = 100 ∧ vp_in (Int64.toInt32 (aJ h (fR h x0 2307) (Int32.toNatClampNeg ((fI h x0 2310) - 1)))) (ln h395 (fR h395 (fR h395 x0 2306) 2817)) ∧ ((¬ (aI h395 (fR h395 (fR h395 x0 2306) 2817) (Int32.toNatClampNeg (Int64.toInt32 (aJ h (fR h x0 2307) (Int32.toNatClampNeg ((fI h x0 2310) - 1)))))) = 0 → bX9_library_297 G fr lo x0 x2 (Int64.toInt32 (aJ h (fR h x0 2307) (Int32.toNatClampNeg ((fI h x0 2310) - 1)))) h395 Q) ∧ ((aI h395 (fR h395 (fR h395 x0 2306) 2817) (Int32.toNatClampNeg (Int64.toInt32 (aJ h (fR h x0 2307) (Int32.toNatClampNeg ((fI h x0 2310) - 1)))))) = 0 → tg h395 (fR h395 (fR h395 x0 2306) 2824) = 104 ∧ vp_in (Int64.toInt32 (aJ h (fR h x0 2307) (Int32.toNatClampNeg ((fI h x0 2310) - 1)))) (ln h395 (fR h395 (fR h395 x0 2306) 2824)) ∧ ((¬ (aI h395 (fR h395 (fR h395 x0 2306) 2824) (Int32.toNatClampNeg (Int64.toInt32 (aJ h (fR h x0 2307) (Int32.toNatClampNeg ((fI h x0 2310) - 1)))))) = 0 → bX9_library_297 G fr lo x0 x2 (Int64.toInt32 (aJ h (fR h x0 2307) (Int32.toNatClampNeg ((fI h x0 2310) - 1)))) h395 Q) ∧ ((aI h395 (fR h395 (fR h395 x0 2306) 2824) (Int32.toNatClampNeg (Int64.toInt32 (aJ h (fR h x0 2307) (Int32.toNatClampNeg ((fI h x0 2310) - 1)))))) = 0 → 1 ≤ fr ∧ 14 ≤ lo ∧ xRv G YX9_fail (fr - 1) (lo - 14) [rv x0, .int 10, .int (aI h (fR h (fR h x0 2304) 516) (Int32.toNatClampNeg x2))] h395 (fun h408 => xext h395 h408 → bX9_library_492 G fr lo h408 Q) (fun r h2 => Q (.threw r) h2)))))) ∧ (x1 = 83 → tg h395 (fR h395 x0 2306) = 12 ∧ 1 ≤ fr ∧ 13 ≤ lo ∧ xRv G YX11_empty (fr - 1) (lo - 13) [rv (fR h395 x0 2306), .int (Int64.toInt32 (aJ h (fR h x0 2307) (Int32.toNatClampNeg ((fI h x0 2310) - 1))))] h395 (fun h416 => xext h395 h416 → tg h416 (fR h416 x0 2306) = 12 ∧ tg h416 (fR h416 (fR h416 x0 2306) 2817) = 100 ∧ vp_in (Int64.toInt32 (aJ h (fR h x0 2307) (Int32.toNatClampNeg ((fI h x0 2310) - 1)))) (ln h416 (fR h416 (fR h416 x0 2306) 2817)) ∧ (∀ h423 : xH, h423 = tI h416 (fR h416 (fR h416 x0 2306) 2817) (Int32.toNatClampNeg (Int64.toInt32 (aJ h (fR h x0 2307) (Int32.toNatClampNeg ((fI h x0 2310) - 1))))) 2 → tg h423 (fR h423 x0 2304) = 3 ∧ tg h423 (fR h423 (fR h423 x0 2304) 514) = 100 ∧ vp_in x2 (ln h423 (fR h423 (fR h423 x0 2304) 514)) ∧ tg h423 (fR h423 x0 2306) = 12 ∧ 1 ≤ fr ∧ 17 ≤ lo ∧ xRv G YX11_bring (fr - 1) (lo - 17) [rv (fR h423 x0 2306), .int (Int64.toInt32 (aJ h (fR h x0 2307) (Int32.toNatClampNeg ((fI h x0 2310) - 1)))), .int (aI h423 (fR h423 (fR h423 x0 2304) 514) (Int32.toNatClampNeg x2))] h423 (fun h432 => xext h423 h432 → bX9_library_492 G fr lo h432 Q) (fun r h2 => Q (.threw r) h2))) (fun r h2 => Q (.threw r) h2)) ∧ (x1 = 84 → tg h395 (fR h395 x0 2306) = 12 ∧ tg h395 (fR h395 (fR h395 x0 2306) 2817) = 100 ∧ vp_in (Int64.toInt32 (aJ h (fR h x0 2307) (Int32.toNatClampNeg ((fI h x0 2310) - 1)))) (ln h395 (fR h395 (fR h395 x0 2306) 2817)) ∧ ((¬ (aI h395 (fR h395 (fR h395 x0 2306) 2817) (Int32.toNatClampNeg (Int64.toInt32 (aJ h (fR h x0 2307) (Int32.toNatClampNeg ((fI h x0 2310) - 1)))))) = 1 → bX9_library_387 G fr lo x0 x2 (aI h (fR h (fR h x0 2304) 516) (Int32.toNatClampNeg x2)) (Int64.toInt32 (aJ h (fR h x0 2307) (Int32.toNatClampNeg ((fI h x0 2310) - 1)))) h395 Q) ∧ ((aI h395 (fR h395 (fR h395 x0 2306) 2817) (Int32.toNatClampNeg (Int64.toInt32 (aJ h (fR h x0 2307) (Int32.toNatClampNeg ((fI h x0 2310) - 1)))))) = 1 → tg h395 (fR h395 (fR h395 x0 2306) 2820) = 100 ∧ vp_in (Int64.toInt32 (aJ h (fR h x0 2307) (Int32.toNatClampNeg ((fI h x0 2310) - 1)))) (ln h395 (fR h395 (fR h395 x0 2306) 2820)) ∧ ((¬ (aI h395 (fR h395 (fR h395 x0 2306) 2820) (Int32.toNatClampNeg (Int64.toInt32 (aJ h (fR h x0 2307) (Int32.toNatClampNeg ((fI h x0 2310) - 1)))))) = (-1) → bX9_library_395 G fr lo x0 x2 (Int64.toInt32 (aJ h (fR h x0 2307) (Int32.toNatClampNeg ((fI h x0 2310) - 1)))) h395 Q) ∧ ((aI h395 (fR h395 (fR h395 x0 2306) 2820) (Int32.toNatClampNeg (Int64.toInt32 (aJ h (fR h x0 2307) (Int32.toNatClampNeg ((fI h x0 2310) - 1)))))) = (-1) → bX9_library_387 G fr lo x0 x2 (aI h (fR h (fR h x0 2304) 516) (Int32.toNatClampNeg x2)) (Int64.toInt32 (aJ h (fR h x0 2307) (Int32.toNatClampNeg ((fI h x0 2310) - 1)))) h395 Q))))) ∧ (x1 = 85 → tg h395 (fR h395 x0 2304) = 3 ∧ tg h395 (fR h395 (fR h395 x0 2304) 514) = 100 ∧ vp_in x2 (ln h395 (fR h395 (fR h395 x0 2304) 514)) ∧ tg h395 (fR h395 (fR h395 x0 2304) 515) = 100 ∧ vp_in x2 (ln h395 (fR h395 (fR h395 x0 2304) 515)) ∧ ((¬ (aI h395 (fR h395 (fR h395 x0 2304) 515) (Int32.toNatClampNeg x2)) = 1 → bX9_library_455 G fr lo (aI h (fR h (fR h x0 2304) 516) (Int32.toNatClampNeg x2)) 0 (aI h395 (fR h395 (fR h395 x0 2304) 514) (Int32.toNatClampNeg x2)) (Int64.toInt32 (aJ h (fR h x0 2307) (Int32.toNatClampNeg ((fI h x0 2310) - 1)))) x0 h395 Q) ∧ ((aI h395 (fR h395 (fR h395 x0 2304) 515) (Int32.toNatClampNeg x2)) = 1 → bX9_library_455 G fr lo (aI h (fR h (fR h x0 2304) 516) (Int32.toNatClampNeg x2)) 1 (aI h395 (fR h395 (fR h395 x0 2304) 514) (Int32.toNatClampNeg x2)) (Int64.toInt32 (aJ h (fR h x0 2307) (Int32.toNatClampNeg ((fI h x0 2310) - 1)))) x0 h395 Q))) ∧ (x1 = 86 → tg h395 (fR h395 x0 2304) = 3 ∧ tg h395 (fR h395 (fR h395 x0 2304) 515) = 100 ∧ vp_in x2 (ln h395 (fR h395 (fR h395 x0 2304) 515)) ∧ 1 ≤ fr ∧ 25 ≤ lo ∧ xRv G YX9_readsNumber (fr - 1) (lo - 25) [rv x0, .int x1, .int (Int64.toInt32 (aJ h (fR h x0 2307) (Int32.toNatClampNeg ((fI h x0 2310) - 1)))), .int (aI h (fR h (fR h x0 2304) 516) (Int32.toNatClampNeg x2)), .int (aI h395 (fR h395 (fR h395 x0 2304) 515) (Int32.toNatClampNeg x2))] h395 (fun h459 => xext h395 h459 → bX9_library_492 G fr lo h459 Q) (fun r h2 => Q (.threw r) h2)) ∧ (x1 = 87 → tg h395 (fR h395 x0 2304) = 3 ∧ tg h395 (fR h395 (fR h395 x0 2304) 515) = 100 ∧ vp_in x2 (ln h395 (fR h395 (fR h395 x0 2304) 515)) ∧ 1 ≤ fr ∧ 25 ≤ lo ∧ xRv G YX9_readsNumber (fr - 1) (lo - 25) [rv x0, .int x1, .int (Int64.toInt32 (aJ h (fR h x0 2307) (Int32.toNatClampNeg ((fI h x0 2310) - 1)))), .int (aI h (fR h (fR h x0 2304) 516) (Int32.toNatClampNeg x2)), .int (aI h395 (fR h395 (fR h395 x0 2304) 515) (Int32.toNatClampNeg x2))] h395 (fun h469 => xext h395 h469 → bX9_library_492 G fr lo h469 Q) (fun r h2 => Q (.threw r) h2)) ∧ (x1 = 88 → tg h395 (fR h395 x0 2304) = 3 ∧ tg h395 (fR h395 (fR h395 x0 2304) 515) = 100 ∧ vp_in x2 (ln h395 (fR h395 (fR h395 x0 2304) 515)) ∧ 1 ≤ fr ∧ 25 ≤ lo ∧ xRv G YX9_readsNumber (fr - 1) (lo - 25) [rv x0, .int x1, .int (Int64.toInt32 (aJ h (fR h x0 2307) (Int32.toNatClampNeg ((fI h x0 2310) - 1)))), .int (aI h (fR h (fR h x0 2304) 516) (Int32.toNatClampNeg x2)), .int (aI h395 (fR h395 (fR h395 x0 2304) 515) (Int32.toNatClampNeg x2))] h395 (fun h479 => xext h395 h479 → bX9_library_492 G fr lo h479 Q) (fun r h2 => Q (.threw r) h2)) ∧ (x1 = 89 → tg h395 (fR h395 x0 2304) = 3 ∧ tg h395 (fR h395 (fR h395 x0 2304) 515) = 100 ∧ vp_in x2 (ln h395 (fR h395 (fR h395 x0 2304) 515)) ∧ 1 ≤ fr ∧ 25 ≤ lo ∧ xRv G YX9_readsNumber (fr - 1) (lo - 25) [rv x0, .int x1, .int (Int64.toInt32 (aJ h (fR h x0 2307) (Int32.toNatClampNeg ((fI h x0 2310) - 1)))), .int (aI h (fR h (fR h x0 2304) 516) (Int32.toNatClampNeg x2)), .int (aI h395 (fR h395 (fR h395 x0 2304) 515) (Int32.toNatClampNeg x2))] h395 (fun h489 => xext h395 h489 → bX9_library_492 G fr lo h489 Q) (fun r h2 => Q (.threw r) h2)) ∧ (x1 = 90 → tg h395 (fR h395 x0 2304) = 3 ∧ tg h395 (fR h395 (fR h395 x0 2304) 515) = 100 ∧ vp_in x2 (ln h395 (fR h395 (fR h395 x0 2304) 515)) ∧ 1 ≤ fr ∧ 25 ≤ lo ∧ xRv G YX9_readsNumber (fr - 1) (lo - 25) [rv x0, .int x1, .int (Int64.toInt32 (aJ h (fR h x0 2307) (Int32.toNatClampNeg ((fI h x0 2310) - 1)))), .int (aI h (fR h (fR h x0 2304) 516) (Int32.toNatClampNeg x2)), .int (aI h395 (fR h395 (fR h395 x0 2304) 515) (Int32.toNatClampNeg x2))] h395 (fun h499 => xext h395 h499 → bX9_library_492 G fr lo h499 Q) (fun r h2 => Q (.threw r) h2)) ∧ (x1 = 91 → 1 ≤ fr ∧ 14 ≤ lo ∧ xRv G YX9_passes (fr - 1) (lo - 14) [rv x0, .int (Int64.toInt32 (aJ h (fR h x0 2307) (Int32.toNatClampNeg ((fI h x0 2310) - 1)))), .int (aI h (fR h (fR h x0 2304) 516) (Int32.toNatClampNeg x2))] h395 (fun h506 => xext h395 h506 → bX9_library_492 G fr lo h506 Q) (fun r h2 => Q (.threw r) h2)) ∧ (¬ x1 = 82 → ¬ x1 = 83 → ¬ x1 = 84 → ¬ x1 = 85 → ¬ x1 = 86 → ¬ x1 = 87 → ¬ x1 = 88 → ¬ x1 = 89 → ¬ x1 = 90 → ¬ x1 = 91 → tg h395 (fR h395 x0 2304) = 3 ∧ tg h395 (fR h395 (fR h395 x0 2304) 515) = 100 ∧ vp_in x2 (ln h395 (fR h395 (fR h395 x0 2304) 515)) ∧ 1 ≤ fr ∧ 25 ≤ lo ∧ xRv G YX9_readsNumber (fr - 1) (lo - 25) [rv x0, .int x1, .int (Int64.toInt32 (aJ h (fR h x0 2307) (Int32.toNatClampNeg ((fI h x0 2310) - 1)))), .int (aI h (fR h (fR h x0 2304) 516) (Int32.toNatClampNeg x2)), .int (aI h395 (fR h395 (fR h395 x0 2304) 515) (Int32.toNatClampNeg x2))] h395 (fun h515 => xext h395 h515 → bX9_library_492 G fr lo h515 Q) (fun r h2 => Q (.threw r) h2))))) ∧ (x1 = 86 → 1 ≤ fr ∧ 16 ≤ lo ∧ xRv G YX9_makes (fr - 1) (lo - 16) [rv x0, .int (Int64.toInt32 (aJ h (fR h x0 2307) (Int32.toNatClampNeg ((fI h x0 2310) - 1)))), .int (aI h (fR h (fR h x0 2304) 513) (Int32.toNatClampNeg x2)), .int (aI h (fR h (fR h x0 2304) 516) (Int32.toNatClampNeg x2))] h (fun h521 => xext h h521 → Q (.returned none) h521) (fun r h2 => Q (.threw r) h2)) ∧ (x1 = 87 → 1 ≤ fr ∧ 14 ≤ lo ∧ xRv G YX9_drops (fr - 1) (lo - 14) [rv x0, .int (aI h (fR h (fR h x0 2304) 516) (Int32.toNatClampNeg x2))] h (fun h527 => xext h h527 → Q (.returned none) h527) (fun r h2 => Q (.threw r) h2)) ∧ (x1 = 88 → (∀ h531 : xH, h531 = sI h x0 2310 ((fI h x0 2310) - 1) → ((x1 = 82 → tg h531 (fR h531 x0 2306) = 12 ∧ tg h531 (fR h531 (fR h531 x0 2306) 2817) = 100 ∧ vp_in (Int64.toInt32 (aJ h (fR h x0 2307) (Int32.toNatClampNeg ((fI h x0 2310) - 1)))) (ln h531 (fR h531 (fR h531 x0 2306) 2817)) ∧ ((¬ (aI h531 (fR h531 (fR h531 x0 2306) 2817) (Int32.toNatClampNeg (Int64.toInt32 (aJ h (fR h x0 2307) (Int32.toNatClampNeg ((fI h x0 2310) - 1)))))) = 0 → bX9_library_297 G fr lo x0 x2 (Int64.toInt32 (aJ h (fR h x0 2307) (Int32.toNatClampNeg ((fI h x0 2310) - 1)))) h531 Q) ∧ ((aI h531 (fR h531 (fR h531 x0 2306) 2817) (Int32.toNatClampNeg (Int64.toInt32 (aJ h (fR h x0 2307) (Int32.toNatClampNeg ((fI h x0 2310) - 1)))))) = 0 → tg h531 (fR h531 (fR h531 x0 2306) 2824) = 104 ∧ vp_in (Int64.toInt32 (aJ h (fR h x0 2307) (Int32.toNatClampNeg ((fI h x0 2310) - 1)))) (ln h531 (fR h531 (fR h531 x0 2306) 2824)) ∧ ((¬ (aI h531 (fR h531 (fR h531 x0 2306) 2824) (Int32.toNatClampNeg (Int64.toInt32 (aJ h (fR h x0 2307) (Int32.toNatClampNeg ((fI h x0 2310) - 1)))))) = 0 → bX9_library_297 G fr lo x0 x2 (Int64.toInt32 (aJ h (fR h x0 2307) (Int32.toNatClampNeg ((fI h x0 2310) - 1)))) h531 Q) ∧ ((aI h531 (fR h531 (fR h531 x0 2306) 2824) (Int32.toNatClampNeg (Int64.toInt32 (aJ h (fR h x0 2307) (Int32.toNatClampNeg ((fI h x0 2310) - 1)))))) = 0 → 1 ≤ fr ∧ 14 ≤ lo ∧ xRv G YX9_fail (fr - 1) (lo - 14) [rv x0, .int 10, .int (aI h (fR h (fR h x0 2304) 516) (Int32.toNatClampNeg x2))] h531 (fun h544 => xext h531 h544 → bX9_library_492 G fr lo h544 Q) (fun r h2 => Q (.threw r) h2)))))) ∧ (x1 = 83 → tg h531 (fR h531 x0 2306) = 12 ∧ 1 ≤ fr ∧ 13 ≤ lo ∧ xRv G YX11_empty (fr - 1) (lo - 13) [rv (fR h531 x0 2306), .int (Int64.toInt32 (aJ h (fR h x0 2307) (Int32.toNatClampNeg ((fI h x0 2310) - 1))))] h531 (fun h552 => xext h531 h552 → tg h552 (fR h552 x0 2306) = 12 ∧ tg h552 (fR h552 (fR h552 x0 2306) 2817) = 100 ∧ vp_in (Int64.toInt32 (aJ h (fR h x0 2307) (Int32.toNatClampNeg ((fI h x0 2310) - 1)))) (ln h552 (fR h552 (fR h552 x0 2306) 2817)) ∧ (∀ h559 : xH, h559 = tI h552 (fR h552 (fR h552 x0 2306) 2817) (Int32.toNatClampNeg (Int64.toInt32 (aJ h (fR h x0 2307) (Int32.toNatClampNeg ((fI h x0 2310) - 1))))) 2 → tg h559 (fR h559 x0 2304) = 3 ∧ tg h559 (fR h559 (fR h559 x0 2304) 514) = 100 ∧ vp_in x2 (ln h559 (fR h559 (fR h559 x0 2304) 514)) ∧ tg h559 (fR h559 x0 2306) = 12 ∧ 1 ≤ fr ∧ 17 ≤ lo ∧ xRv G YX11_bring (fr - 1) (lo - 17) [rv (fR h559 x0 2306), .int (Int64.toInt32 (aJ h (fR h x0 2307) (Int32.toNatClampNeg ((fI h x0 2310) - 1)))), .int (aI h559 (fR h559 (fR h559 x0 2304) 514) (Int32.toNatClampNeg x2))] h559 (fun h568 => xext h559 h568 → bX9_library_492 G fr lo h568 Q) (fun r h2 => Q (.threw r) h2))) (fun r h2 => Q (.threw r) h2)) ∧ (x1 = 84 → tg h531 (fR h531 x0 2306) = 12 ∧ tg h531 (fR h531 (fR h531 x0 2306) 2817) = 100 ∧ vp_in (Int64.toInt32 (aJ h (fR h x0 2307) (Int32.toNatClampNeg ((fI h x0 2310) - 1)))) (ln h531 (fR h531 (fR h531 x0 2306) 2817)) ∧ ((¬ (aI h531 (fR h531 (fR h531 x0 2306) 2817) (Int32.toNatClampNeg (Int64.toInt32 (aJ h (fR h x0 2307) (Int32.toNatClampNeg ((fI h x0 2310) - 1)))))) = 1 → bX9_library_387 G fr lo x0 x2 (aI h (fR h (fR h x0 2304) 516) (Int32.toNatClampNeg x2)) (Int64.toInt32 (aJ h (fR h x0 2307) (Int32.toNatClampNeg ((fI h x0 2310) - 1)))) h531 Q) ∧ ((aI h531 (fR h531 (fR h531 x0 2306) 2817) (Int32.toNatClampNeg (Int64.toInt32 (aJ h (fR h x0 2307) (Int32.toNatClampNeg ((fI h x0 2310) - 1)))))) = 1 → tg h531 (fR h531 (fR h531 x0 2306) 2820) = 100 ∧ vp_in (Int64.toInt32 (aJ h (fR h x0 2307) (Int32.toNatClampNeg ((fI h x0 2310) - 1)))) (ln h531 (fR h531 (fR h531 x0 2306) 2820)) ∧ ((¬ (aI h531 (fR h531 (fR h531 x0 2306) 2820) (Int32.toNatClampNeg (Int64.toInt32 (aJ h (fR h x0 2307) (Int32.toNatClampNeg ((fI h x0 2310) - 1)))))) = (-1) → bX9_library_395 G fr lo x0 x2 (Int64.toInt32 (aJ h (fR h x0 2307) (Int32.toNatClampNeg ((fI h x0 2310) - 1)))) h531 Q) ∧ ((aI h531 (fR h531 (fR h531 x0 2306) 2820) (Int32.toNatClampNeg (Int64.toInt32 (aJ h (fR h x0 2307) (Int32.toNatClampNeg ((fI h x0 2310) - 1)))))) = (-1) → bX9_library_387 G fr lo x0 x2 (aI h (fR h (fR h x0 2304) 516) (Int32.toNatClampNeg x2)) (Int64.toInt32 (aJ h (fR h x0 2307) (Int32.toNatClampNeg ((fI h x0 2310) - 1)))) h531 Q))))) ∧ (x1 = 85 → tg h531 (fR h531 x0 2304) = 3 ∧ tg h531 (fR h531 (fR h531 x0 2304) 514) = 100 ∧ vp_in x2 (ln h531 (fR h531 (fR h531 x0 2304) 514)) ∧ tg h531 (fR h531 (fR h531 x0 2304) 515) = 100 ∧ vp_in x2 (ln h531 (fR h531 (fR h531 x0 2304) 515)) ∧ ((¬ (aI h531 (fR h531 (fR h531 x0 2304) 515) (Int32.toNatClampNeg x2)) = 1 → bX9_library_455 G fr lo (aI h (fR h (fR h x0 2304) 516) (Int32.toNatClampNeg x2)) 0 (aI h531 (fR h531 (fR h531 x0 2304) 514) (Int32.toNatClampNeg x2)) (Int64.toInt32 (aJ h (fR h x0 2307) (Int32.toNatClampNeg ((fI h x0 2310) - 1)))) x0 h531 Q) ∧ ((aI h531 (fR h531 (fR h531 x0 2304) 515) (Int32.toNatClampNeg x2)) = 1 → bX9_library_455 G fr lo (aI h (fR h (fR h x0 2304) 516) (Int32.toNatClampNeg x2)) 1 (aI h531 (fR h531 (fR h531 x0 2304) 514) (Int32.toNatClampNeg x2)) (Int64.toInt32 (aJ h (fR h x0 2307) (Int32.toNatClampNeg ((fI h x0 2310) - 1)))) x0 h531 Q))) ∧ (x1 = 86 → tg h531 (fR h531 x0 2304) = 3 ∧ tg h531 (fR h531 (fR h531 x0 2304) 515) = 100 ∧ vp_in x2 (ln h531 (fR h531 (fR h531 x0 2304) 515)) ∧ 1 ≤ fr ∧ 25 ≤ lo ∧ xRv G YX9_readsNumber (fr - 1) (lo - 25) [rv x0, .int x1, .int (Int64.toInt32 (aJ h (fR h x0 2307) (Int32.toNatClampNeg ((fI h x0 2310) - 1)))), .int (aI h (fR h (fR h x0 2304) 516) (Int32.toNatClampNeg x2)), .int (aI h531 (fR h531 (fR h531 x0 2304) 515) (Int32.toNatClampNeg x2))] h531 (fun h595 => xext h531 h595 → bX9_library_492 G fr lo h595 Q) (fun r h2 => Q (.threw r) h2)) ∧ (x1 = 87 → tg h531 (fR h531 x0 2304) = 3 ∧ tg h531 (fR h531 (fR h531 x0 2304) 515) = 100 ∧ vp_in x2 (ln h531 (fR h531 (fR h531 x0 2304) 515)) ∧ 1 ≤ fr ∧ 25 ≤ lo ∧ xRv G YX9_readsNumber (fr - 1) (lo - 25) [rv x0, .int x1, .int (Int64.toInt32 (aJ h (fR h x0 2307) (Int32.toNatClampNeg ((fI h x0 2310) - 1)))), .int (aI h (fR h (fR h x0 2304) 516) (Int32.toNatClampNeg x2)), .int (aI h531 (fR h531 (fR h531 x0 2304) 515) (Int32.toNatClampNeg x2))] h531 (fun h605 => xext h531 h605 → bX9_library_492 G fr lo h605 Q) (fun r h2 => Q (.threw r) h2)) ∧ (x1 = 88 → tg h531 (fR h531 x0 2304) = 3 ∧ tg h531 (fR h531 (fR h531 x0 2304) 515) = 100 ∧ vp_in x2 (ln h531 (fR h531 (fR h531 x0 2304) 515)) ∧ 1 ≤ fr ∧ 25 ≤ lo ∧ xRv G YX9_readsNumber (fr - 1) (lo - 25) [rv x0, .int x1, .int (Int64.toInt32 (aJ h (fR h x0 2307) (Int32.toNatClampNeg ((fI h x0 2310) - 1)))), .int (aI h (fR h (fR h x0 2304) 516) (Int32.toNatClampNeg x2)), .int (aI h531 (fR h531 (fR h531 x0 2304) 515) (Int32.toNatClampNeg x2))] h531 (fun h615 => xext h531 h615 → bX9_library_492 G fr lo h615 Q) (fun r h2 => Q (.threw r) h2)) ∧ (x1 = 89 → tg h531 (fR h531 x0 2304) = 3 ∧ tg h531 (fR h531 (fR h531 x0 2304) 515) = 100 ∧ vp_in x2 (ln h531 (fR h531 (fR h531 x0 2304) 515)) ∧ 1 ≤ fr ∧ 25 ≤ lo ∧ xRv G YX9_readsNumber (fr - 1) (lo - 25) [rv x0, .int x1, .int (Int64.toInt32 (aJ h (fR h x0 2307) (Int32.toNatClampNeg ((fI h x0 2310) - 1)))), .int (aI h (fR h (fR h x0 2304) 516) (Int32.toNatClampNeg x2)), .int (aI h531 (fR h531 (fR h531 x0 2304) 515) (Int32.toNatClampNeg x2))] h531 (fun h625 => xext h531 h625 → bX9_library_492 G fr lo h625 Q) (fun r h2 => Q (.threw r) h2)) ∧ (x1 = 90 → tg h531 (fR h531 x0 2304) = 3 ∧ tg h531 (fR h531 (fR h531 x0 2304) 515) = 100 ∧ vp_in x2 (ln h531 (fR h531 (fR h531 x0 2304) 515)) ∧ 1 ≤ fr ∧ 25 ≤ lo ∧ xRv G YX9_readsNumber (fr - 1) (lo - 25) [rv x0, .int x1, .int (Int64.toInt32 (aJ h (fR h x0 2307) (Int32.toNatClampNeg ((fI h x0 2310) - 1)))), .int (aI h (fR h (fR h x0 2304) 516) (Int32.toNatClampNeg x2)), .int (aI h531 (fR h531 (fR h531 x0 2304) 515) (Int32.toNatClampNeg x2))] h531 (fun h635 => xext h531 h635 → bX9_library_492 G fr lo h635 Q) (fun r h2 => Q (.threw r) h2)) ∧ (x1 = 91 → 1 ≤ fr ∧ 14 ≤ lo ∧ xRv G YX9_passes (fr - 1) (lo - 14) [rv x0, .int (Int64.toInt32 (aJ h (fR h x0 2307) (Int32.toNatClampNeg ((fI h x0 2310) - 1)))), .int (aI h (fR h (fR h x0 2304) 516) (Int32.toNatClampNeg x2))] h531 (fun h642 => xext h531 h642 → bX9_library_492 G fr lo h642 Q) (fun r h2 => Q (.threw r) h2)) ∧ (¬ x1 = 82 → ¬ x1 = 83 → ¬ x1 = 84 → ¬ x1 = 85 → ¬ x1 = 86 → ¬ x1 = 87 → ¬ x1 = 88 → ¬ x1 = 89 → ¬ x1 = 90 → ¬ x1 = 91 → tg h531 (fR h531 x0 2304) = 3 ∧ tg h531 (fR h531 (fR h531 x0 2304) 515) = 100 ∧ vp_in x2 (ln h531 (fR h531 (fR h531 x0 2304) 515)) ∧ 1 ≤ fr ∧ 25 ≤ lo ∧ xRv G YX9_readsNumber (fr - 1) (lo - 25) [rv x0, .int x1, .int (Int64.toInt32 (aJ h (fR h x0 2307) (Int32.toNatClampNeg ((fI h x0 2310) - 1)))), .int (aI h (fR h (fR h x0 2304) 516) (Int32.toNatClampNeg x2)), .int (aI h531 (fR h531 (fR h531 x0 2304) 515) (Int32.toNatClampNeg x2))] h531 (fun h651 => xext h531 h651 → bX9_library_492 G fr lo h651 Q) (fun r h2 => Q (.threw r) h2))))) ∧ (x1 = 89 → (∀ h655 : xH, h655 = sI h x0 2310 ((fI h x0 2310) - 1) → ((x1 = 82 → tg h655 (fR h655 x0 2306) = 12 ∧ tg h655 (fR h655 (fR h655 x0 2306) 2817) = 100 ∧ vp_in (Int64.toInt32 (aJ h (fR h x0 2307) (Int32.toNatClampNeg ((fI h x0 2310) - 1)))) (ln h655 (fR h655 (fR h655 x0 2306) 2817)) ∧ ((¬ (aI h655 (fR h655 (fR h655 x0 2306) 2817) (Int32.toNatClampNeg (Int64.toInt32 (aJ h (fR h x0 2307) (Int32.toNatClampNeg ((fI h x0 2310) - 1)))))) = 0 → bX9_library_297 G fr lo x0 x2 (Int64.toInt32 (aJ h (fR h x0 2307) (Int32.toNatClampNeg ((fI h x0 2310) - 1)))) h655 Q) ∧ ((aI h655 (fR h655 (fR h655 x0 2306) 2817) (Int32.toNatClampNeg (Int64.toInt32 (aJ h (fR h x0 2307) (Int32.toNatClampNeg ((fI h x0 2310) - 1)))))) = 0 → tg h655 (fR h655 (fR h655 x0 2306) 2824) = 104 ∧ vp_in (Int64.toInt32 (aJ h (fR h x0 2307) (Int32.toNatClampNeg ((fI h x0 2310) - 1)))) (ln h655 (fR h655 (fR h655 x0 2306) 2824)) ∧ ((¬ (aI h655 (fR h655 (fR h655 x0 2306) 2824) (Int32.toNatClampNeg (Int64.toInt32 (aJ h (fR h x0 2307) (Int32.toNatClampNeg ((fI h x0 2310) - 1)))))) = 0 → bX9_library_297 G fr lo x0 x2 (Int64.toInt32 (aJ h (fR h x0 2307) (Int32.toNatClampNeg ((fI h x0 2310) - 1)))) h655 Q) ∧ ((aI h655 (fR h655 (fR h655 x0 2306) 2824) (Int32.toNatClampNeg (Int64.toInt32 (aJ h (fR h x0 2307) (Int32.toNatClampNeg ((fI h x0 2310) - 1)))))) = 0 → 1 ≤ fr ∧ 14 ≤ lo ∧ xRv G YX9_fail (fr - 1) (lo - 14) [rv x0, .int 10, .int (aI h (fR h (fR h x0 2304) 516) (Int32.toNatClampNeg x2))] h655 (fun h668 => xext h655 h668 → bX9_library_492 G fr lo h668 Q) (fun r h2 => Q (.threw r) h2)))))) ∧ (x1 = 83 → tg h655 (fR h655 x0 2306) = 12 ∧ 1 ≤ fr ∧ 13 ≤ lo ∧ xRv G YX11_empty (fr - 1) (lo - 13) [rv (fR h655 x0 2306), .int (Int64.toInt32 (aJ h (fR h x0 2307) (Int32.toNatClampNeg ((fI h x0 2310) - 1))))] h655 (fun h676 => xext h655 h676 → tg h676 (fR h676 x0 2306) = 12 ∧ tg h676 (fR h676 (fR h676 x0 2306) 2817) = 100 ∧ vp_in (Int64.toInt32 (aJ h (fR h x0 2307) (Int32.toNatClampNeg ((fI h x0 2310) - 1)))) (ln h676 (fR h676 (fR h676 x0 2306) 2817)) ∧ (∀ h683 : xH, h683 = tI h676 (fR h676 (fR h676 x0 2306) 2817) (Int32.toNatClampNeg (Int64.toInt32 (aJ h (fR h x0 2307) (Int32.toNatClampNeg ((fI h x0 2310) - 1))))) 2 → tg h683 (fR h683 x0 2304) = 3 ∧ tg h683 (fR h683 (fR h683 x0 2304) 514) = 100 ∧ vp_in x2 (ln h683 (fR h683 (fR h683 x0 2304) 514)) ∧ tg h683 (fR h683 x0 2306) = 12 ∧ 1 ≤ fr ∧ 17 ≤ lo ∧ xRv G YX11_bring (fr - 1) (lo - 17) [rv (fR h683 x0 2306), .int (Int64.toInt32 (aJ h (fR h x0 2307) (Int32.toNatClampNeg ((fI h x0 2310) - 1)))), .int (aI h683 (fR h683 (fR h683 x0 2304) 514) (Int32.toNatClampNeg x2))] h683 (fun h692 => xext h683 h692 → bX9_library_492 G fr lo h692 Q) (fun r h2 => Q (.threw r) h2))) (fun r h2 => Q (.threw r) h2)) ∧ (x1 = 84 → tg h655 (fR h655 x0 2306) = 12 ∧ tg h655 (fR h655 (fR h655 x0 2306) 2817) = 100 ∧ vp_in (Int64.toInt32 (aJ h (fR h x0 2307) (Int32.toNatClampNeg ((fI h x0 2310) - 1)))) (ln h655 (fR h655 (fR h655 x0 2306) 2817)) ∧ ((¬ (aI h655 (fR h655 (fR h655 x0 2306) 2817) (Int32.toNatClampNeg (Int64.toInt32 (aJ h (fR h x0 2307) (Int32.toNatClampNeg ((fI h x0 2310) - 1)))))) = 1 → bX9_library_387 G fr lo x0 x2 (aI h (fR h (fR h x0 2304) 516) (Int32.toNatClampNeg x2)) (Int64.toInt32 (aJ h (fR h x0 2307) (Int32.toNatClampNeg ((fI h x0 2310) - 1)))) h655 Q) ∧ ((aI h655 (fR h655 (fR h655 x0 2306) 2817) (Int32.toNatClampNeg (Int64.toInt32 (aJ h (fR h x0 2307) (Int32.toNatClampNeg ((fI h x0 2310) - 1)))))) = 1 → tg h655 (fR h655 (fR h655 x0 2306) 2820) = 100 ∧ vp_in (Int64.toInt32 (aJ h (fR h x0 2307) (Int32.toNatClampNeg ((fI h x0 2310) - 1)))) (ln h655 (fR h655 (fR h655 x0 2306) 2820)) ∧ ((¬ (aI h655 (fR h655 (fR h655 x0 2306) 2820) (Int32.toNatClampNeg (Int64.toInt32 (aJ h (fR h x0 2307) (Int32.toNatClampNeg ((fI h x0 2310) - 1)))))) = (-1) → bX9_library_395 G fr lo x0 x2 (Int64.toInt32 (aJ h (fR h x0 2307) (Int32.toNatClampNeg ((fI h x0 2310) - 1)))) h655 Q) ∧ ((aI h655 (fR h655 (fR h655 x0 2306) 2820) (Int32.toNatClampNeg (Int64.toInt32 (aJ h (fR h x0 2307) (Int32.toNatClampNeg ((fI h x0 2310) - 1)))))) = (-1) → bX9_library_387 G fr lo x0 x2 (aI h (fR h (fR h x0 2304) 516) (Int32.toNatClampNeg x2)) (Int64.toInt32 (aJ h (fR h x0 2307) (Int32.toNatClampNeg ((fI h x0 2310) - 1)))) h655 Q))))) ∧ (x1 = 85 → tg h655 (fR h655 x0 2304) = 3 ∧ tg h655 (fR h655 (fR h655 x0 2304) 514) = 100 ∧ vp_in x2 (ln h655 (fR h655 (fR h655 x0 2304) 514)) ∧ tg h655 (fR h655 (fR h655 x0 2304) 515) = 100 ∧ vp_in x2 (ln h655 (fR h655 (fR h655 x0 2304) 515)) ∧ ((¬ (aI h655 (fR h655 (fR h655 x0 2304) 515) (Int32.toNatClampNeg x2)) = 1 → bX9_library_455 G fr lo (aI h (fR h (fR h x0 2304) 516) (Int32.toNatClampNeg x2)) 0 (aI h655 (fR h655 (fR h655 x0 2304) 514) (Int32.toNatClampNeg x2)) (Int64.toInt32 (aJ h (fR h x0 2307) (Int32.toNatClampNeg ((fI h x0 2310) - 1)))) x0 h655 Q) ∧ ((aI h655 (fR h655 (fR h655 x0 2304) 515) (Int32.toNatClampNeg x2)) = 1 → bX9_library_455 G fr lo (aI h (fR h (fR h x0 2304) 516) (Int32.toNatClampNeg x2)) 1 (aI h655 (fR h655 (fR h655 x0 2304) 514) (Int32.toNatClampNeg x2)) (Int64.toInt32 (aJ h (fR h x0 2307) (Int32.toNatClampNeg ((fI h x0 2310) - 1)))) x0 h655 Q))) ∧ (x1 = 86 → tg h655 (fR h655 x0 2304) = 3 ∧ tg h655 (fR h655 (fR h655 x0 2304) 515) = 100 ∧ vp_in x2 (ln h655 (fR h655 (fR h655 x0 2304) 515)) ∧ 1 ≤ fr ∧ 25 ≤ lo ∧ xRv G YX9_readsNumber (fr - 1) (lo - 25) [rv x0, .int x1, .int (Int64.toInt32 (aJ h (fR h x0 2307) (Int32.toNatClampNeg ((fI h x0 2310) - 1)))), .int (aI h (fR h (fR h x0 2304) 516) (Int32.toNatClampNeg x2)), .int (aI h655 (fR h655 (fR h655 x0 2304) 515) (Int32.toNatClampNeg x2))] h655 (fun h719 => xext h655 h719 → bX9_library_492 G fr lo h719 Q) (fun r h2 => Q (.threw r) h2)) ∧ (x1 = 87 → tg h655 (fR h655 x0 2304) = 3 ∧ tg h655 (fR h655 (fR h655 x0 2304) 515) = 100 ∧ vp_in x2 (ln h655 (fR h655 (fR h655 x0 2304) 515)) ∧ 1 ≤ fr ∧ 25 ≤ lo ∧ xRv G YX9_readsNumber (fr - 1) (lo - 25) [rv x0, .int x1, .int (Int64.toInt32 (aJ h (fR h x0 2307) (Int32.toNatClampNeg ((fI h x0 2310) - 1)))), .int (aI h (fR h (fR h x0 2304) 516) (Int32.toNatClampNeg x2)), .int (aI h655 (fR h655 (fR h655 x0 2304) 515) (Int32.toNatClampNeg x2))] h655 (fun h729 => xext h655 h729 → bX9_library_492 G fr lo h729 Q) (fun r h2 => Q (.threw r) h2)) ∧ (x1 = 88 → tg h655 (fR h655 x0 2304) = 3 ∧ tg h655 (fR h655 (fR h655 x0 2304) 515) = 100 ∧ vp_in x2 (ln h655 (fR h655 (fR h655 x0 2304) 515)) ∧ 1 ≤ fr ∧ 25 ≤ lo ∧ xRv G YX9_readsNumber (fr - 1) (lo - 25) [rv x0, .int x1, .int (Int64.toInt32 (aJ h (fR h x0 2307) (Int32.toNatClampNeg ((fI h x0 2310) - 1)))), .int (aI h (fR h (fR h x0 2304) 516) (Int32.toNatClampNeg x2)), .int (aI h655 (fR h655 (fR h655 x0 2304) 515) (Int32.toNatClampNeg x2))] h655 (fun h739 => xext h655 h739 → bX9_library_492 G fr lo h739 Q) (fun r h2 => Q (.threw r) h2)) ∧ (x1 = 89 → tg h655 (fR h655 x0 2304) = 3 ∧ tg h655 (fR h655 (fR h655 x0 2304) 515) = 100 ∧ vp_in x2 (ln h655 (fR h655 (fR h655 x0 2304) 515)) ∧ 1 ≤ fr ∧ 25 ≤ lo ∧ xRv G YX9_readsNumber (fr - 1) (lo - 25) [rv x0, .int x1, .int (Int64.toInt32 (aJ h (fR h x0 2307) (Int32.toNatClampNeg ((fI h x0 2310) - 1)))), .int (aI h (fR h (fR h x0 2304) 516) (Int32.toNatClampNeg x2)), .int (aI h655 (fR h655 (fR h655 x0 2304) 515) (Int32.toNatClampNeg x2))] h655 (fun h749 => xext h655 h749 → bX9_library_492 G fr lo h749 Q) (fun r h2 => Q (.threw r) h2)) ∧ (x1 = 90 → tg h655 (fR h655 x0 2304) = 3 ∧ tg h655 (fR h655 (fR h655 x0 2304) 515) = 100 ∧ vp_in x2 (ln h655 (fR h655 (fR h655 x0 2304) 515)) ∧ 1 ≤ fr ∧ 25 ≤ lo ∧ xRv G YX9_readsNumber (fr - 1) (lo - 25) [rv x0, .int x1, .int (Int64.toInt32 (aJ h (fR h x0 2307) (Int32.toNatClampNeg ((fI h x0 2310) - 1)))), .int (aI h (fR h (fR h x0 2304) 516) (Int32.toNatClampNeg x2)), .int (aI h655 (fR h655 (fR h655 x0 2304) 515) (Int32.toNatClampNeg x2))] h655 (fun h759 => xext h655 h759 → bX9_library_492 G fr lo h759 Q) (fun r h2 => Q (.threw r) h2)) ∧ (x1 = 91 → 1 ≤ fr ∧ 14 ≤ lo ∧ xRv G YX9_passes (fr - 1) (lo - 14) [rv x0, .int (Int64.toInt32 (aJ h (fR h x0 2307) (Int32.toNatClampNeg ((fI h x0 2310) - 1)))), .int (aI h (fR h (fR h x0 2304) 516) (Int32.toNatClampNeg x2))] h655 (fun h766 => xext h655 h766 → bX9_library_492 G fr lo h766 Q) (fun r h2 => Q (.threw r) h2)) ∧ (¬ x1 = 82 → ¬ x1 = 83 → ¬ x1 = 84 → ¬ x1 = 85 → ¬ x1 = 86 → ¬ x1 = 87 → ¬ x1 = 88 → ¬ x1 = 89 → ¬ x1 = 90 → ¬ x1 = 91 → tg h655 (fR h655 x0 2304) = 3 ∧ tg h655 (fR h655 (fR h655 x0 2304) 515) = 100 ∧ vp_in x2 (ln h655 (fR h655 (fR h655 x0 2304) 515)) ∧ 1 ≤ fr ∧ 25 ≤ lo ∧ xRv G YX9_readsNumber (fr - 1) (lo - 25) [rv x0, .int x1, .int (Int64.toInt32 (aJ h (fR h x0 2307) (Int32.toNatClampNeg ((fI h x0 2310) - 1)))), .int (aI h (fR h (fR h x0 2304) 516) (Int32.toNatClampNeg x2)), .int (aI h655 (fR h655 (fR h655 x0 2304) 515) (Int32.toNatClampNeg x2))] h655 (fun h775 => xext h655 h775 → bX9_library_492 G fr lo h775 Q) (fun r h2 => Q (.threw r) h2))))) ∧ (x1 = 90 → (∀ h779 : xH, h779 = sI h x0 2310 ((fI h x0 2310) - 1) → ((x1 = 82 → tg h779 (fR h779 x0 2306) = 12 ∧ tg h779 (fR h779 (fR h779 x0 2306) 2817) = 100 ∧ vp_in (Int64.toInt32 (aJ h (fR h x0 2307) (Int32.toNatClampNeg ((fI h x0 2310) - 1)))) (ln h779 (fR h779 (fR h779 x0 2306) 2817)) ∧ ((¬ (aI h779 (fR h779 (fR h779 x0 2306) 2817) (Int32.toNatClampNeg (Int64.toInt32 (aJ h (fR h x0 2307) (Int32.toNatClampNeg ((fI h x0 2310) - 1)))))) = 0 → bX9_library_297 G fr lo x0 x2 (Int64.toInt32 (aJ h (fR h x0 2307) (Int32.toNatClampNeg ((fI h x0 2310) - 1)))) h779 Q) ∧ ((aI h779 (fR h779 (fR h779 x0 2306) 2817) (Int32.toNatClampNeg (Int64.toInt32 (aJ h (fR h x0 2307) (Int32.toNatClampNeg ((fI h x0 2310) - 1)))))) = 0 → tg h779 (fR h779 (fR h779 x0 2306) 2824) = 104 ∧ vp_in (Int64.toInt32 (aJ h (fR h x0 2307) (Int32.toNatClampNeg ((fI h x0 2310) - 1)))) (ln h779 (fR h779 (fR h779 x0 2306) 2824)) ∧ ((¬ (aI h779 (fR h779 (fR h779 x0 2306) 2824) (Int32.toNatClampNeg (Int64.toInt32 (aJ h (fR h x0 2307) (Int32.toNatClampNeg ((fI h x0 2310) - 1)))))) = 0 → bX9_library_297 G fr lo x0 x2 (Int64.toInt32 (aJ h (fR h x0 2307) (Int32.toNatClampNeg ((fI h x0 2310) - 1)))) h779 Q) ∧ ((aI h779 (fR h779 (fR h779 x0 2306) 2824) (Int32.toNatClampNeg (Int64.toInt32 (aJ h (fR h x0 2307) (Int32.toNatClampNeg ((fI h x0 2310) - 1)))))) = 0 → 1 ≤ fr ∧ 14 ≤ lo ∧ xRv G YX9_fail (fr - 1) (lo - 14) [rv x0, .int 10, .int (aI h (fR h (fR h x0 2304) 516) (Int32.toNatClampNeg x2))] h779 (fun h792 => xext h779 h792 → bX9_library_492 G fr lo h792 Q) (fun r h2 => Q (.threw r) h2)))))) ∧ (x1 = 83 → tg h779 (fR h779 x0 2306) = 12 ∧ 1 ≤ fr ∧ 13 ≤ lo ∧ xRv G YX11_empty (fr - 1) (lo - 13) [rv (fR h779 x0 2306), .int (Int64.toInt32 (aJ h (fR h x0 2307) (Int32.toNatClampNeg ((fI h x0 2310) - 1))))] h779 (fun h800 => xext h779 h800 → tg h800 (fR h800 x0 2306) = 12 ∧ tg h800 (fR h800 (fR h800 x0 2306) 2817) = 100 ∧ vp_in (Int64.toInt32 (aJ h (fR h x0 2307) (Int32.toNatClampNeg ((fI h x0 2310) - 1)))) (ln h800 (fR h800 (fR h800 x0 2306) 2817)) ∧ (∀ h807 : xH, h807 = tI h800 (fR h800 (fR h800 x0 2306) 2817) (Int32.toNatClampNeg (Int64.toInt32 (aJ h (fR h x0 2307) (Int32.toNatClampNeg ((fI h x0 2310) - 1))))) 2 → tg h807 (fR h807 x0 2304) = 3 ∧ tg h807 (fR h807 (fR h807 x0 2304) 514) = 100 ∧ vp_in x2 (ln h807 (fR h807 (fR h807 x0 2304) 514)) ∧ tg h807 (fR h807 x0 2306) = 12 ∧ 1 ≤ fr ∧ 17 ≤ lo ∧ xRv G YX11_bring (fr - 1) (lo - 17) [rv (fR h807 x0 2306), .int (Int64.toInt32 (aJ h (fR h x0 2307) (Int32.toNatClampNeg ((fI h x0 2310) - 1)))), .int (aI h807 (fR h807 (fR h807 x0 2304) 514) (Int32.toNatClampNeg x2))] h807 (fun h816 => xext h807 h816 → bX9_library_492 G fr lo h816 Q) (fun r h2 => Q (.threw r) h2))) (fun r h2 => Q (.threw r) h2)) ∧ (x1 = 84 → tg h779 (fR h779 x0 2306) = 12 ∧ tg h779 (fR h779 (fR h779 x0 2306) 2817) = 100 ∧ vp_in (Int64.toInt32 (aJ h (fR h x0 2307) (Int32.toNatClampNeg ((fI h x0 2310) - 1)))) (ln h779 (fR h779 (fR h779 x0 2306) 2817)) ∧ ((¬ (aI h779 (fR h779 (fR h779 x0 2306) 2817) (Int32.toNatClampNeg (Int64.toInt32 (aJ h (fR h x0 2307) (Int32.toNatClampNeg ((fI h x0 2310) - 1)))))) = 1 → bX9_library_387 G fr lo x0 x2 (aI h (fR h (fR h x0 2304) 516) (Int32.toNatClampNeg x2)) (Int64.toInt32 (aJ h (fR h x0 2307) (Int32.toNatClampNeg ((fI h x0 2310) - 1)))) h779 Q) ∧ ((aI h779 (fR h779 (fR h779 x0 2306) 2817) (Int32.toNatClampNeg (Int64.toInt32 (aJ h (fR h x0 2307) (Int32.toNatClampNeg ((fI h x0 2310) - 1)))))) = 1 → tg h779 (fR h779 (fR h779 x0 2306) 2820) = 100 ∧ vp_in (Int64.toInt32 (aJ h (fR h x0 2307) (Int32.toNatClampNeg ((fI h x0 2310) - 1)))) (ln h779 (fR h779 (fR h779 x0 2306) 2820)) ∧ ((¬ (aI h779 (fR h779 (fR h779 x0 2306) 2820) (Int32.toNatClampNeg (Int64.toInt32 (aJ h (fR h x0 2307) (Int32.toNatClampNeg ((fI h x0 2310) - 1)))))) = (-1) → bX9_library_395 G fr lo x0 x2 (Int64.toInt32 (aJ h (fR h x0 2307) (Int32.toNatClampNeg ((fI h x0 2310) - 1)))) h779 Q) ∧ ((aI h779 (fR h779 (fR h779 x0 2306) 2820) (Int32.toNatClampNeg (Int64.toInt32 (aJ h (fR h x0 2307) (Int32.toNatClampNeg ((fI h x0 2310) - 1)))))) = (-1) → bX9_library_387 G fr lo x0 x2 (aI h (fR h (fR h x0 2304) 516) (Int32.toNatClampNeg x2)) (Int64.toInt32 (aJ h (fR h x0 2307) (Int32.toNatClampNeg ((fI h x0 2310) - 1)))) h779 Q))))) ∧ (x1 = 85 → tg h779 (fR h779 x0 2304) = 3 ∧ tg h779 (fR h779 (fR h779 x0 2304) 514) = 100 ∧ vp_in x2 (ln h779 (fR h779 (fR h779 x0 2304) 514)) ∧ tg h779 (fR h779 (fR h779 x0 2304) 515) = 100 ∧ vp_in x2 (ln h779 (fR h779 (fR h779 x0 2304) 515)) ∧ ((¬ (aI h779 (fR h779 (fR h779 x0 2304) 515) (Int32.toNatClampNeg x2)) = 1 → bX9_library_455 G fr lo (aI h (fR h (fR h x0 2304) 516) (Int32.toNatClampNeg x2)) 0 (aI h779 (fR h779 (fR h779 x0 2304) 514) (Int32.toNatClampNeg x2)) (Int64.toInt32 (aJ h (fR h x0 2307) (Int32.toNatClampNeg ((fI h x0 2310) - 1)))) x0 h779 Q) ∧ ((aI h779 (fR h779 (fR h779 x0 2304) 515) (Int32.toNatClampNeg x2)) = 1 → bX9_library_455 G fr lo (aI h (fR h (fR h x0 2304) 516) (Int32.toNatClampNeg x2)) 1 (aI h779 (fR h779 (fR h779 x0 2304) 514) (Int32.toNatClampNeg x2)) (Int64.toInt32 (aJ h (fR h x0 2307) (Int32.toNatClampNeg ((fI h x0 2310) - 1)))) x0 h779 Q))) ∧ (x1 = 86 → tg h779 (fR h779 x0 2304) = 3 ∧ tg h779 (fR h779 (fR h779 x0 2304) 515) = 100 ∧ vp_in x2 (ln h779 (fR h779 (fR h779 x0 2304) 515)) ∧ 1 ≤ fr ∧ 25 ≤ lo ∧ xRv G YX9_readsNumber (fr - 1) (lo - 25) [rv x0, .int x1, .int (Int64.toInt32 (aJ h (fR h x0 2307) (Int32.toNatClampNeg ((fI h x0 2310) - 1)))), .int (aI h (fR h (fR h x0 2304) 516) (Int32.toNatClampNeg x2)), .int (aI h779 (fR h779 (fR h779 x0 2304) 515) (Int32.toNatClampNeg x2))] h779 (fun h843 => xext h779 h843 → bX9_library_492 G fr lo h843 Q) (fun r h2 => Q (.threw r) h2)) ∧ (x1 = 87 → tg h779 (fR h779 x0 2304) = 3 ∧ tg h779 (fR h779 (fR h779 x0 2304) 515) = 100 ∧ vp_in x2 (ln h779 (fR h779 (fR h779 x0 2304) 515)) ∧ 1 ≤ fr ∧ 25 ≤ lo ∧ xRv G YX9_readsNumber (fr - 1) (lo - 25) [rv x0, .int x1, .int (Int64.toInt32 (aJ h (fR h x0 2307) (Int32.toNatClampNeg ((fI h x0 2310) - 1)))), .int (aI h (fR h (fR h x0 2304) 516) (Int32.toNatClampNeg x2)), .int (aI h779 (fR h779 (fR h779 x0 2304) 515) (Int32.toNatClampNeg x2))] h779 (fun h853 => xext h779 h853 → bX9_library_492 G fr lo h853 Q) (fun r h2 => Q (.threw r) h2)) ∧ (x1 = 88 → tg h779 (fR h779 x0 2304) = 3 ∧ tg h779 (fR h779 (fR h779 x0 2304) 515) = 100 ∧ vp_in x2 (ln h779 (fR h779 (fR h779 x0 2304) 515)) ∧ 1 ≤ fr ∧ 25 ≤ lo ∧ xRv G YX9_readsNumber (fr - 1) (lo - 25) [rv x0, .int x1, .int (Int64.toInt32 (aJ h (fR h x0 2307) (Int32.toNatClampNeg ((fI h x0 2310) - 1)))), .int (aI h (fR h (fR h x0 2304) 516) (Int32.toNatClampNeg x2)), .int (aI h779 (fR h779 (fR h779 x0 2304) 515) (Int32.toNatClampNeg x2))] h779 (fun h863 => xext h779 h863 → bX9_library_492 G fr lo h863 Q) (fun r h2 => Q (.threw r) h2)) ∧ (x1 = 89 → tg h779 (fR h779 x0 2304) = 3 ∧ tg h779 (fR h779 (fR h779 x0 2304) 515) = 100 ∧ vp_in x2 (ln h779 (fR h779 (fR h779 x0 2304) 515)) ∧ 1 ≤ fr ∧ 25 ≤ lo ∧ xRv G YX9_readsNumber (fr - 1) (lo - 25) [rv x0, .int x1, .int (Int64.toInt32 (aJ h (fR h x0 2307) (Int32.toNatClampNeg ((fI h x0 2310) - 1)))), .int (aI h (fR h (fR h x0 2304) 516) (Int32.toNatClampNeg x2)), .int (aI h779 (fR h779 (fR h779 x0 2304) 515) (Int32.toNatClampNeg x2))] h779 (fun h873 => xext h779 h873 → bX9_library_492 G fr lo h873 Q) (fun r h2 => Q (.threw r) h2)) ∧ (x1 = 90 → tg h779 (fR h779 x0 2304) = 3 ∧ tg h779 (fR h779 (fR h779 x0 2304) 515) = 100 ∧ vp_in x2 (ln h779 (fR h779 (fR h779 x0 2304) 515)) ∧ 1 ≤ fr ∧ 25 ≤ lo ∧ xRv G YX9_readsNumber (fr - 1) (lo - 25) [rv x0, .int x1, .int (Int64.toInt32 (aJ h (fR h x0 2307) (Int32.toNatClampNeg ((fI h x0 2310) - 1)))), .int (aI h (fR h (fR h x0 2304) 516) (Int32.toNatClampNeg x2)), .int (aI h779 (fR h779 (fR h779 x0 2304) 515) (Int32.toNatClampNeg x2))] h779 (fun h883 => xext h779 h883 → bX9_library_492 G fr lo h883 Q) (fun r h2 => Q (.threw r) h2)) ∧ (x1 = 91 → 1 ≤ fr ∧ 14 ≤ lo ∧ xRv G YX9_passes (fr - 1) (lo - 14) [rv x0, .int (Int64.toInt32 (aJ h (fR h x0 2307) (Int32.toNatClampNeg ((fI h x0 2310) - 1)))), .int (aI h (fR h (fR h x0 2304) 516) (Int32.toNatClampNeg x2))] h779 (fun h890 => xext h779 h890 → bX9_library_492 G fr lo h890 Q) (fun r h2 => Q (.threw r) h2)) ∧ (¬ x1 = 82 → ¬ x1 = 83 → ¬ x1 = 84 → ¬ x1 = 85 → ¬ x1 = 86 → ¬ x1 = 87 → ¬ x1 = 88 → ¬ x1 = 89 → ¬ x1 = 90 → ¬ x1 = 91 → tg h779 (fR h779 x0 2304) = 3 ∧ tg h779 (fR h779 (fR h779 x0 2304) 515) = 100 ∧ vp_in x2 (ln h779 (fR h779 (fR h779 x0 2304) 515)) ∧ 1 ≤ fr ∧ 25 ≤ lo ∧ xRv G YX9_readsNumber (fr - 1) (lo - 25) [rv x0, .int x1, .int (Int64.toInt32 (aJ h (fR h x0 2307) (Int32.toNatClampNeg ((fI h x0 2310) - 1)))), .int (aI h (fR h (fR h x0 2304) 516) (Int32.toNatClampNeg x2)), .int (aI h779 (fR h779 (fR h779 x0 2304) 515) (Int32.toNatClampNeg x2))] h779 (fun h899 => xext h779 h899 → bX9_library_492 G fr lo h899 Q) (fun r h2 => Q (.threw r) h2))))) ∧ (x1 = 91 → (∀ h903 : xH, h903 = sI h x0 2310 ((fI h x0 2310) - 1) → ((x1 = 82 → tg h903 (fR h903 x0 2306) = 12 ∧ tg h903 (fR h903 (fR h903 x0 2306) 2817) = 100 ∧ vp_in (Int64.toInt32 (aJ h (fR h x0 2307) (Int32.toNatClampNeg ((fI h x0 2310) - 1)))) (ln h903 (fR h903 (fR h903 x0 2306) 2817)) ∧ ((¬ (aI h903 (fR h903 (fR h903 x0 2306) 2817) (Int32.toNatClampNeg (Int64.toInt32 (aJ h (fR h x0 2307) (Int32.toNatClampNeg ((fI h x0 2310) - 1)))))) = 0 → bX9_library_297 G fr lo x0 x2 (Int64.toInt32 (aJ h (fR h x0 2307) (Int32.toNatClampNeg ((fI h x0 2310) - 1)))) h903 Q) ∧ ((aI h903 (fR h903 (fR h903 x0 2306) 2817) (Int32.toNatClampNeg (Int64.toInt32 (aJ h (fR h x0 2307) (Int32.toNatClampNeg ((fI h x0 2310) - 1)))))) = 0 → tg h903 (fR h903 (fR h903 x0 2306) 2824) = 104 ∧ vp_in (Int64.toInt32 (aJ h (fR h x0 2307) (Int32.toNatClampNeg ((fI h x0 2310) - 1)))) (ln h903 (fR h903 (fR h903 x0 2306) 2824)) ∧ ((¬ (aI h903 (fR h903 (fR h903 x0 2306) 2824) (Int32.toNatClampNeg (Int64.toInt32 (aJ h (fR h x0 2307) (Int32.toNatClampNeg ((fI h x0 2310) - 1)))))) = 0 → bX9_library_297 G fr lo x0 x2 (Int64.toInt32 (aJ h (fR h x0 2307) (Int32.toNatClampNeg ((fI h x0 2310) - 1)))) h903 Q) ∧ ((aI h903 (fR h903 (fR h903 x0 2306) 2824) (Int32.toNatClampNeg (Int64.toInt32 (aJ h (fR h x0 2307) (Int32.toNatClampNeg ((fI h x0 2310) - 1)))))) = 0 → 1 ≤ fr ∧ 14 ≤ lo ∧ xRv G YX9_fail (fr - 1) (lo - 14) [rv x0, .int 10, .int (aI h (fR h (fR h x0 2304) 516) (Int32.toNatClampNeg x2))] h903 (fun h916 => xext h903 h916 → bX9_library_492 G fr lo h916 Q) (fun r h2 => Q (.threw r) h2)))))) ∧ (x1 = 83 → tg h903 (fR h903 x0 2306) = 12 ∧ 1 ≤ fr ∧ 13 ≤ lo ∧ xRv G YX11_empty (fr - 1) (lo - 13) [rv (fR h903 x0 2306), .int (Int64.toInt32 (aJ h (fR h x0 2307) (Int32.toNatClampNeg ((fI h x0 2310) - 1))))] h903 (fun h924 => xext h903 h924 → tg h924 (fR h924 x0 2306) = 12 ∧ tg h924 (fR h924 (fR h924 x0 2306) 2817) = 100 ∧ vp_in (Int64.toInt32 (aJ h (fR h x0 2307) (Int32.toNatClampNeg ((fI h x0 2310) - 1)))) (ln h924 (fR h924 (fR h924 x0 2306) 2817)) ∧ (∀ h931 : xH, h931 = tI h924 (fR h924 (fR h924 x0 2306) 2817) (Int32.toNatClampNeg (Int64.toInt32 (aJ h (fR h x0 2307) (Int32.toNatClampNeg ((fI h x0 2310) - 1))))) 2 → tg h931 (fR h931 x0 2304) = 3 ∧ tg h931 (fR h931 (fR h931 x0 2304) 514) = 100 ∧ vp_in x2 (ln h931 (fR h931 (fR h931 x0 2304) 514)) ∧ tg h931 (fR h931 x0 2306) = 12 ∧ 1 ≤ fr ∧ 17 ≤ lo ∧ xRv G YX11_bring (fr - 1) (lo - 17) [rv (fR h931 x0 2306), .int (Int64.toInt32 (aJ h (fR h x0 2307) (Int32.toNatClampNeg ((fI h x0 2310) - 1)))), .int (aI h931 (fR h931 (fR h931 x0 2304) 514) (Int32.toNatClampNeg x2))] h931 (fun h940 => xext h931 h940 → bX9_library_492 G fr lo h940 Q) (fun r h2 => Q (.threw r) h2))) (fun r h2 => Q (.threw r) h2)) ∧ (x1 = 84 → tg h903 (fR h903 x0 2306) = 12 ∧ tg h903 (fR h903 (fR h903 x0 2306) 2817) = 100 ∧ vp_in (Int64.toInt32 (aJ h (fR h x0 2307) (Int32.toNatClampNeg ((fI h x0 2310) - 1)))) (ln h903 (fR h903 (fR h903 x0 2306) 2817)) ∧ ((¬ (aI h903 (fR h903 (fR h903 x0 2306) 2817) (Int32.toNatClampNeg (Int64.toInt32 (aJ h (fR h x0 2307) (Int32.toNatClampNeg ((fI h x0 2310) - 1)))))) = 1 → bX9_library_387 G fr lo x0 x2 (aI h (fR h (fR h x0 2304) 516) (Int32.toNatClampNeg x2)) (Int64.toInt32 (aJ h (fR h x0 2307) (Int32.toNatClampNeg ((fI h x0 2310) - 1)))) h903 Q) ∧ ((aI h903 (fR h903 (fR h903 x0 2306) 2817) (Int32.toNatClampNeg (Int64.toInt32 (aJ h (fR h x0 2307) (Int32.toNatClampNeg ((fI h x0 2310) - 1)))))) = 1 → tg h903 (fR h903 (fR h903 x0 2306) 2820) = 100 ∧ vp_in (Int64.toInt32 (aJ h (fR h x0 2307) (Int32.toNatClampNeg ((fI h x0 2310) - 1)))) (ln h903 (fR h903 (fR h903 x0 2306) 2820)) ∧ ((¬ (aI h903 (fR h903 (fR h903 x0 2306) 2820) (Int32.toNatClampNeg (Int64.toInt32 (aJ h (fR h x0 2307) (Int32.toNatClampNeg ((fI h x0 2310) - 1)))))) = (-1) → bX9_library_395 G fr lo x0 x2 (Int64.toInt32 (aJ h (fR h x0 2307) (Int32.toNatClampNeg ((fI h x0 2310) - 1)))) h903 Q) ∧ ((aI h903 (fR h903 (fR h903 x0 2306) 2820) (Int32.toNatClampNeg (Int64.toInt32 (aJ h (fR h x0 2307) (Int32.toNatClampNeg ((fI h x0 2310) - 1)))))) = (-1) → bX9_library_387 G fr lo x0 x2 (aI h (fR h (fR h x0 2304) 516) (Int32.toNatClampNeg x2)) (Int64.toInt32 (aJ h (fR h x0 2307) (Int32.toNatClampNeg ((fI h x0 2310) - 1)))) h903 Q))))) ∧ (x1 = 85 → tg h903 (fR h903 x0 2304) = 3 ∧ tg h903 (fR h903 (fR h903 x0 2304) 514) = 100 ∧ vp_in x2 (ln h903 (fR h903 (fR h903 x0 2304) 514)) ∧ tg h903 (fR h903 (fR h903 x0 2304) 515) = 100 ∧ vp_in x2 (ln h903 (fR h903 (fR h903 x0 2304) 515)) ∧ ((¬ (aI h903 (fR h903 (fR h903 x0 2304) 515) (Int32.toNatClampNeg x2)) = 1 → bX9_library_455 G fr lo (aI h (fR h (fR h x0 2304) 516) (Int32.toNatClampNeg x2)) 0 (aI h903 (fR h903 (fR h903 x0 2304) 514) (Int32.toNatClampNeg x2)) (Int64.toInt32 (aJ h (fR h x0 2307) (Int32.toNatClampNeg ((fI h x0 2310) - 1)))) x0 h903 Q) ∧ ((aI h903 (fR h903 (fR h903 x0 2304) 515) (Int32.toNatClampNeg x2)) = 1 → bX9_library_455 G fr lo (aI h (fR h (fR h x0 2304) 516) (Int32.toNatClampNeg x2)) 1 (aI h903 (fR h903 (fR h903 x0 2304) 514) (Int32.toNatClampNeg x2)) (Int64.toInt32 (aJ h (fR h x0 2307) (Int32.toNatClampNeg ((fI h x0 2310) - 1)))) x0 h903 Q))) ∧ (x1 = 86 → tg h903 (fR h903 x0 2304) = 3 ∧ tg h903 (fR h903 (fR h903 x0 2304) 515) = 100 ∧ vp_in x2 (ln h903 (fR h903 (fR h903 x0 2304) 515)) ∧ 1 ≤ fr ∧ 25 ≤ lo ∧ xRv G YX9_readsNumber (fr - 1) (lo - 25) [rv x0, .int x1, .int (Int64.toInt32 (aJ h (fR h x0 2307) (Int32.toNatClampNeg ((fI h x0 2310) - 1)))), .int (aI h (fR h (fR h x0 2304) 516) (Int32.toNatClampNeg x2)), .int (aI h903 (fR h903 (fR h903 x0 2304) 515) (Int32.toNatClampNeg x2))] h903 (fun h967 => xext h903 h967 → bX9_library_492 G fr lo h967 Q) (fun r h2 => Q (.threw r) h2)) ∧ (x1 = 87 → tg h903 (fR h903 x0 2304) = 3 ∧ tg h903 (fR h903 (fR h903 x0 2304) 515) = 100 ∧ vp_in x2 (ln h903 (fR h903 (fR h903 x0 2304) 515)) ∧ 1 ≤ fr ∧ 25 ≤ lo ∧ xRv G YX9_readsNumber (fr - 1) (lo - 25) [rv x0, .int x1, .int (Int64.toInt32 (aJ h (fR h x0 2307) (Int32.toNatClampNeg ((fI h x0 2310) - 1)))), .int (aI h (fR h (fR h x0 2304) 516) (Int32.toNatClampNeg x2)), .int (aI h903 (fR h903 (fR h903 x0 2304) 515) (Int32.toNatClampNeg x2))] h903 (fun h977 => xext h903 h977 → bX9_library_492 G fr lo h977 Q) (fun r h2 => Q (.threw r) h2)) ∧ (x1 = 88 → tg h903 (fR h903 x0 2304) = 3 ∧ tg h903 (fR h903 (fR h903 x0 2304) 515) = 100 ∧ vp_in x2 (ln h903 (fR h903 (fR h903 x0 2304) 515)) ∧ 1 ≤ fr ∧ 25 ≤ lo ∧ xRv G YX9_readsNumber (fr - 1) (lo - 25) [rv x0, .int x1, .int (Int64.toInt32 (aJ h (fR h x0 2307) (Int32.toNatClampNeg ((fI h x0 2310) - 1)))), .int (aI h (fR h (fR h x0 2304) 516) (Int32.toNatClampNeg x2)), .int (aI h903 (fR h903 (fR h903 x0 2304) 515) (Int32.toNatClampNeg x2))] h903 (fun h987 => xext h903 h987 → bX9_library_492 G fr lo h987 Q) (fun r h2 => Q (.threw r) h2)) ∧ (x1 = 89 → tg h903 (fR h903 x0 2304) = 3 ∧ tg h903 (fR h903 (fR h903 x0 2304) 515) = 100 ∧ vp_in x2 (ln h903 (fR h903 (fR h903 x0 2304) 515)) ∧ 1 ≤ fr ∧ 25 ≤ lo ∧ xRv G YX9_readsNumber (fr - 1) (lo - 25) [rv x0, .int x1, .int (Int64.toInt32 (aJ h (fR h x0 2307) (Int32.toNatClampNeg ((fI h x0 2310) - 1)))), .int (aI h (fR h (fR h x0 2304) 516) (Int32.toNatClampNeg x2)), .int (aI h903 (fR h903 (fR h903 x0 2304) 515) (Int32.toNatClampNeg x2))] h903 (fun h997 => xext h903 h997 → bX9_library_492 G fr lo h997 Q) (fun r h2 => Q (.threw r) h2)) ∧ (x1 = 90 → tg h903 (fR h903 x0 2304) = 3 ∧ tg h903 (fR h903 (fR h903 x0 2304) 515) = 100 ∧ vp_in x2 (ln h903 (fR h903 (fR h903 x0 2304) 515)) ∧ 1 ≤ fr ∧ 25 ≤ lo ∧ xRv G YX9_readsNumber (fr - 1) (lo - 25) [rv x0, .int x1, .int (Int64.toInt32 (aJ h (fR h x0 2307) (Int32.toNatClampNeg ((fI h x0 2310) - 1)))), .int (aI h (fR h (fR h x0 2304) 516) (Int32.toNatClampNeg x2)), .int (aI h903 (fR h903 (fR h903 x0 2304) 515) (Int32.toNatClampNeg x2))] h903 (fun h1007 => xext h903 h1007 → bX9_library_492 G fr lo h1007 Q) (fun r h2 => Q (.threw r) h2)) ∧ (x1 = 91 → 1 ≤ fr ∧ 14 ≤ lo ∧ xRv G YX9_passes (fr - 1) (lo - 14) [rv x0, .int (Int64.toInt32 (aJ h (fR h x0 2307) (Int32.toNatClampNeg ((fI h x0 2310) - 1)))), .int (aI h (fR h (fR h x0 2304) 516) (Int32.toNatClampNeg x2))] h903 (fun h1014 => xext h903 h1014 → bX9_library_492 G fr lo h1014 Q) (fun r h2 => Q (.threw r) h2)) ∧ (¬ x1 = 82 → ¬ x1 = 83 → ¬ x1 = 84 → ¬ x1 = 85 → ¬ x1 = 86 → ¬ x1 = 87 → ¬ x1 = 88 → ¬ x1 = 89 → ¬ x1 = 90 → ¬ x1 = 91 → tg h903 (fR h903 x0 2304) = 3 ∧ tg h903 (fR h903 (fR h903 x0 2304) 515) = 100 ∧ vp_in x2 (ln h903 (fR h903 (fR h903 x0 2304) 515)) ∧ 1 ≤ fr ∧ 25 ≤ lo ∧ xRv G YX9_readsNumber (fr - 1) (lo - 25) [rv x0, .int x1, .int (Int64.toInt32 (aJ h (fR h x0 2307) (Int32.toNatClampNeg ((fI h x0 2310) - 1)))), .int (aI h (fR h (fR h x0 2304) 516) (Int32.toNatClampNeg x2)), .int (aI h903 (fR h903 (fR h903 x0 2304) 515) (Int32.toNatClampNeg x2))] h903 (fun h1023 => xext h903 h1023 → bX9_library_492 G fr lo h1023 Q) (fun r h2 => Q (.threw r) h2))))) ∧ (x1 = 92 → tg h (fR h x0 2306) = 12 ∧ tg h (fR h (fR h x0 2306) 2817) = 100 ∧ vp_in (Int64.toInt32 (aJ h (fR h x0 2307) (Int32.toNatClampNeg ((fI h x0 2310) - 1)))) (ln h (fR h (fR h x0 2306) 2817)) ∧ ((¬ (aI h (fR h (fR h x0 2306) 2817) (Int32.toNatClampNeg (Int64.toInt32 (aJ h (fR h x0 2307) (Int32.toNatClampNeg ((fI h x0 2310) - 1)))))) = 1 → bX9_library_171 G fr lo x0 (aI h (fR h (fR h x0 2304) 516) (Int32.toNatClampNeg x2)) h Q) ∧ ((aI h (fR h (fR h x0 2306) 2817) (Int32.toNatClampNeg (Int64.toInt32 (aJ h (fR h x0 2307) (Int32.toNatClampNeg ((fI h x0 2310) - 1)))))) = 1 → tg h (fR h (fR h x0 2306) 2820) = 100 ∧ vp_in (Int64.toInt32 (aJ h (fR h x0 2307) (Int32.toNatClampNeg ((fI h x0 2310) - 1)))) (ln h (fR h (fR h x0 2306) 2820)) ∧ ((¬ (aI h (fR h (fR h x0 2306) 2820) (Int32.toNatClampNeg (Int64.toInt32 (aJ h (fR h x0 2307) (Int32.toNatClampNeg ((fI h x0 2310) - 1)))))) = (-1) → bX9_library_179 G fr lo x0 h Q) ∧ ((aI h (fR h (fR h x0 2306) 2820) (Int32.toNatClampNeg (Int64.toInt32 (aJ h (fR h x0 2307) (Int32.toNatClampNeg ((fI h x0 2310) - 1)))))) = (-1) → bX9_library_171 G fr lo x0 (aI h (fR h (fR h x0 2304) 516) (Int32.toNatClampNeg x2)) h Q))))) ∧ (¬ x1 = 80 → ¬ x1 = 81 → ¬ x1 = 82 → ¬ x1 = 83 → ¬ x1 = 84 → ¬ x1 = 85 → ¬ x1 = 86 → ¬ x1 = 87 → ¬ x1 = 88 → ¬ x1 = 89 → ¬ x1 = 90 → ¬ x1 = 91 → ¬ x1 = 92 → (∀ h1034 : xH, h1034 = sI h x0 2310 ((fI h x0 2310) - 1) → ((x1 = 82 → tg h1034 (fR h1034 x0 2306) = 12 ∧ tg h1034 (fR h1034 (fR h1034 x0 2306) 2817) = 100 ∧ vp_in (Int64.toInt32 (aJ h (fR h x0 2307) (Int32.toNatClampNeg ((fI h x0 2310) - 1)))) (ln h1034 (fR h1034 (fR h1034 x0 2306) 2817)) ∧ ((¬ (aI h1034 (fR h1034 (fR h1034 x0 2306) 2817) (Int32.toNatClampNeg (Int64.toInt32 (aJ h (fR h x0 2307) (Int32.toNatClampNeg ((fI h x0 2310) - 1)))))) = 0 → bX9_library_297 G fr lo x0 x2 (Int64.toInt32 (aJ h (fR h x0 2307) (Int32.toNatClampNeg ((fI h x0 2310) - 1)))) h1034 Q) ∧ ((aI h1034 (fR h1034 (fR h1034 x0 2306) 2817) (Int32.toNatClampNeg (Int64.toInt32 (aJ h (fR h x0 2307) (Int32.toNatClampNeg ((fI h x0 2310) - 1)))))) = 0 → tg h1034 (fR h1034 (fR h1034 x0 2306) 2824) = 104 ∧ vp_in (Int64.toInt32 (aJ h (fR h x0 2307) (Int32.toNatClampNeg ((fI h x0 2310) - 1)))) (ln h1034 (fR h1034 (fR h1034 x0 2306) 2824)) ∧ ((¬ (aI h1034 (fR h1034 (fR h1034 x0 2306) 2824) (Int32.toNatClampNeg (Int64.toInt32 (aJ h (fR h x0 2307) (Int32.toNatClampNeg ((fI h x0 2310) - 1)))))) = 0 → bX9_library_297 G fr lo x0 x2 (Int64.toInt32 (aJ h (fR h x0 2307) (Int32.toNatClampNeg ((fI h x0 2310) - 1)))) h1034 Q) ∧ ((aI h1034 (fR h1034 (fR h1034 x0 2306) 2824) (Int32.toNatClampNeg (Int64.toInt32 (aJ h (fR h x0 2307) (Int32.toNatClampNeg ((fI h x0 2310) - 1)))))) = 0 → 1 ≤ fr ∧ 14 ≤ lo ∧ xRv G YX9_fail (fr - 1) (lo - 14) [rv x0, .int 10, .int (aI h (fR h (fR h x0 2304) 516) (Int32.toNatClampNeg x2))] h1034 (fun h1047 => xext h1034 h1047 → bX9_library_492 G fr lo h1047 Q) (fun r h2 => Q (.threw r) h2)))))) ∧ (x1 = 83 → tg h1034 (fR h1034 x0 2306) = 12 ∧ 1 ≤ fr ∧ 13 ≤ lo ∧ xRv G YX11_empty (fr - 1) (lo - 13) [rv (fR h1034 x0 2306), .int (Int64.toInt32 (aJ h (fR h x0 2307) (Int32.toNatClampNeg ((fI h x0 2310) - 1))))] h1034 (fun h1055 => xext h1034 h1055 → tg h1055 (fR h1055 x0 2306) = 12 ∧ tg h1055 (fR h1055 (fR h1055 x0 2306) 2817) = 100 ∧ vp_in (Int64.toInt32 (aJ h (fR h x0 2307) (Int32.toNatClampNeg ((fI h x0 2310) - 1)))) (ln h1055 (fR h1055 (fR h1055 x0 2306) 2817)) ∧ (∀ h1062 : xH, h1062 = tI h1055 (fR h1055 (fR h1055 x0 2306) 2817) (Int32.toNatClampNeg (Int64.toInt32 (aJ h (fR h x0 2307) (Int32.toNatClampNeg ((fI h x0 2310) - 1))))) 2 → tg h1062 (fR h1062 x0 2304) = 3 ∧ tg h1062 (fR h1062 (fR h1062 x0 2304) 514) = 100 ∧ vp_in x2 (ln h1062 (fR h1062 (fR h1062 x0 2304) 514)) ∧ tg h1062 (fR h1062 x0 2306) = 12 ∧ 1 ≤ fr ∧ 17 ≤ lo ∧ xRv G YX11_bring (fr - 1) (lo - 17) [rv (fR h1062 x0 2306), .int (Int64.toInt32 (aJ h (fR h x0 2307) (Int32.toNatClampNeg ((fI h x0 2310) - 1)))), .int (aI h1062 (fR h1062 (fR h1062 x0 2304) 514) (Int32.toNatClampNeg x2))] h1062 (fun h1071 => xext h1062 h1071 → bX9_library_492 G fr lo h1071 Q) (fun r h2 => Q (.threw r) h2))) (fun r h2 => Q (.threw r) h2)) ∧ (x1 = 84 → tg h1034 (fR h1034 x0 2306) = 12 ∧ tg h1034 (fR h1034 (fR h1034 x0 2306) 2817) = 100 ∧ vp_in (Int64.toInt32 (aJ h (fR h x0 2307) (Int32.toNatClampNeg ((fI h x0 2310) - 1)))) (ln h1034 (fR h1034 (fR h1034 x0 2306) 2817)) ∧ ((¬ (aI h1034 (fR h1034 (fR h1034 x0 2306) 2817) (Int32.toNatClampNeg (Int64.toInt32 (aJ h (fR h x0 2307) (Int32.toNatClampNeg ((fI h x0 2310) - 1)))))) = 1 → bX9_library_387 G fr lo x0 x2 (aI h (fR h (fR h x0 2304) 516) (Int32.toNatClampNeg x2)) (Int64.toInt32 (aJ h (fR h x0 2307) (Int32.toNatClampNeg ((fI h x0 2310) - 1)))) h1034 Q) ∧ ((aI h1034 (fR h1034 (fR h1034 x0 2306) 2817) (Int32.toNatClampNeg (Int64.toInt32 (aJ h (fR h x0 2307) (Int32.toNatClampNeg ((fI h x0 2310) - 1)))))) = 1 → tg h1034 (fR h1034 (fR h1034 x0 2306) 2820) = 100 ∧ vp_in (Int64.toInt32 (aJ h (fR h x0 2307) (Int32.toNatClampNeg ((fI h x0 2310) - 1)))) (ln h1034 (fR h1034 (fR h1034 x0 2306) 2820)) ∧ ((¬ (aI h1034 (fR h1034 (fR h1034 x0 2306) 2820) (Int32.toNatClampNeg (Int64.toInt32 (aJ h (fR h x0 2307) (Int32.toNatClampNeg ((fI h x0 2310) - 1)))))) = (-1) → bX9_library_395 G fr lo x0 x2 (Int64.toInt32 (aJ h (fR h x0 2307) (Int32.toNatClampNeg ((fI h x0 2310) - 1)))) h1034 Q) ∧ ((aI h1034 (fR h1034 (fR h1034 x0 2306) 2820) (Int32.toNatClampNeg (Int64.toInt32 (aJ h (fR h x0 2307) (Int32.toNatClampNeg ((fI h x0 2310) - 1)))))) = (-1) → bX9_library_387 G fr lo x0 x2 (aI h (fR h (fR h x0 2304) 516) (Int32.toNatClampNeg x2)) (Int64.toInt32 (aJ h (fR h x0 2307) (Int32.toNatClampNeg ((fI h x0 2310) - 1)))) h1034 Q))))) ∧ (x1 = 85 → tg h1034 (fR h1034 x0 2304) = 3 ∧ tg h1034 (fR h1034 (fR h1034 x0 2304) 514) = 100 ∧ vp_in x2 (ln h1034 (fR h1034 (fR h1034 x0 2304) 514)) ∧ tg h1034 (fR h1034 (fR h1034 x0 2304) 515) = 100 ∧ vp_in x2 (ln h1034 (fR h1034 (fR h1034 x0 2304) 515)) ∧ ((¬ (aI h1034 (fR h1034 (fR h1034 x0 2304) 515) (Int32.toNatClampNeg x2)) = 1 → bX9_library_455 G fr lo (aI h (fR h (fR h x0 2304) 516) (Int32.toNatClampNeg x2)) 0 (aI h1034 (fR h1034 (fR h1034 x0 2304) 514) (Int32.toNatClampNeg x2)) (Int64.toInt32 (aJ h (fR h x0 2307) (Int32.toNatClampNeg ((fI h x0 2310) - 1)))) x0 h1034 Q) ∧ ((aI h1034 (fR h1034 (fR h1034 x0 2304) 515) (Int32.toNatClampNeg x2)) = 1 → bX9_library_455 G fr lo (aI h (fR h (fR h x0 2304) 516) (Int32.toNatClampNeg x2)) 1 (aI h1034 (fR h1034 (fR h1034 x0 2304) 514) (Int32.toNatClampNeg x2)) (Int64.toInt32 (aJ h (fR h x0 2307) (Int32.toNatClampNeg ((fI h x0 2310) - 1)))) x0 h1034 Q))) ∧ (x1 = 86 → tg h1034 (fR h1034 x0 2304) = 3 ∧ tg h1034 (fR h1034 (fR h1034 x0 2304) 515) = 100 ∧ vp_in x2 (ln h1034 (fR h1034 (fR h1034 x0 2304) 515)) ∧ 1 ≤ fr ∧ 25 ≤ lo ∧ xRv G YX9_readsNumber (fr - 1) (lo - 25) [rv x0, .int x1, .int (Int64.toInt32 (aJ h (fR h x0 2307) (Int32.toNatClampNeg ((fI h x0 2310) - 1)))), .int (aI h (fR h (fR h x0 2304) 516) (Int32.toNatClampNeg x2)), .int (aI h1034 (fR h1034 (fR h1034 x0 2304) 515) (Int32.toNatClampNeg x2))] h1034 (fun h1098 => xext h1034 h1098 → bX9_library_492 G fr lo h1098 Q) (fun r h2 => Q (.threw r) h2)) ∧ (x1 = 87 → tg h1034 (fR h1034 x0 2304) = 3 ∧ tg h1034 (fR h1034 (fR h1034 x0 2304) 515) = 100 ∧ vp_in x2 (ln h1034 (fR h1034 (fR h1034 x0 2304) 515)) ∧ 1 ≤ fr ∧ 25 ≤ lo ∧ xRv G YX9_readsNumber (fr - 1) (lo - 25) [rv x0, .int x1, .int (Int64.toInt32 (aJ h (fR h x0 2307) (Int32.toNatClampNeg ((fI h x0 2310) - 1)))), .int (aI h (fR h (fR h x0 2304) 516) (Int32.toNatClampNeg x2)), .int (aI h1034 (fR h1034 (fR h1034 x0 2304) 515) (Int32.toNatClampNeg x2))] h1034 (fun h1108 => xext h1034 h1108 → bX9_library_492 G fr lo h1108 Q) (fun r h2 => Q (.threw r) h2)) ∧ (x1 = 88 → tg h1034 (fR h1034 x0 2304) = 3 ∧ tg h1034 (fR h1034 (fR h1034 x0 2304) 515) = 100 ∧ vp_in x2 (ln h1034 (fR h1034 (fR h1034 x0 2304) 515)) ∧ 1 ≤ fr ∧ 25 ≤ lo ∧ xRv G YX9_readsNumber (fr - 1) (lo - 25) [rv x0, .int x1, .int (Int64.toInt32 (aJ h (fR h x0 2307) (Int32.toNatClampNeg ((fI h x0 2310) - 1)))), .int (aI h (fR h (fR h x0 2304) 516) (Int32.toNatClampNeg x2)), .int (aI h1034 (fR h1034 (fR h1034 x0 2304) 515) (Int32.toNatClampNeg x2))] h1034 (fun h1118 => xext h1034 h1118 → bX9_library_492 G fr lo h1118 Q) (fun r h2 => Q (.threw r) h2)) ∧ (x1 = 89 → tg h1034 (fR h1034 x0 2304) = 3 ∧ tg h1034 (fR h1034 (fR h1034 x0 2304) 515) = 100 ∧ vp_in x2 (ln h1034 (fR h1034 (fR h1034 x0 2304) 515)) ∧ 1 ≤ fr ∧ 25 ≤ lo ∧ xRv G YX9_readsNumber (fr - 1) (lo - 25) [rv x0, .int x1, .int (Int64.toInt32 (aJ h (fR h x0 2307) (Int32.toNatClampNeg ((fI h x0 2310) - 1)))), .int (aI h (fR h (fR h x0 2304) 516) (Int32.toNatClampNeg x2)), .int (aI h1034 (fR h1034 (fR h1034 x0 2304) 515) (Int32.toNatClampNeg x2))] h1034 (fun h1128 => xext h1034 h1128 → bX9_library_492 G fr lo h1128 Q) (fun r h2 => Q (.threw r) h2)) ∧ (x1 = 90 → tg h1034 (fR h1034 x0 2304) = 3 ∧ tg h1034 (fR h1034 (fR h1034 x0 2304) 515) = 100 ∧ vp_in x2 (ln h1034 (fR h1034 (fR h1034 x0 2304) 515)) ∧ 1 ≤ fr ∧ 25 ≤ lo ∧ xRv G YX9_readsNumber (fr - 1) (lo - 25) [rv x0, .int x1, .int (Int64.toInt32 (aJ h (fR h x0 2307) (Int32.toNatClampNeg ((fI h x0 2310) - 1)))), .int (aI h (fR h (fR h x0 2304) 516) (Int32.toNatClampNeg x2)), .int (aI h1034 (fR h1034 (fR h1034 x0 2304) 515) (Int32.toNatClampNeg x2))] h1034 (fun h1138 => xext h1034 h1138 → bX9_library_492 G fr lo h1138 Q) (fun r h2 => Q (.threw r) h2)) ∧ (x1 = 91 → 1 ≤ fr ∧ 14 ≤ lo ∧ xRv G YX9_passes (fr - 1) (lo - 14) [rv x0, .int (Int64.toInt32 (aJ h (fR h x0 2307) (Int32.toNatClampNeg ((fI h x0 2310) - 1)))), .int (aI h (fR h (fR h x0 2304) 516) (Int32.toNatClampNeg x2))] h1034 (fun h1145 => xext h1034 h1145 → bX9_library_492 G fr lo h1145 Q) (fun r h2 => Q (.threw r) h2)) ∧ (¬ x1 = 82 → ¬ x1 = 83 → ¬ x1 = 84 → ¬ x1 = 85 → ¬ x1 = 86 → ¬ x1 = 87 → ¬ x1 = 88 → ¬ x1 = 89 → ¬ x1 = 90 → ¬ x1 = 91 → tg h1034 (fR h1034 x0 2304) = 3 ∧ tg h1034 (fR h1034 (fR h1034 x0 2304) 515) = 100 ∧ vp_in x2 (ln h1034 (fR h1034 (fR h1034 x0 2304) 515)) ∧ 1 ≤ fr ∧ 25 ≤ lo ∧ xRv G YX9_readsNumber (fr - 1) (lo - 25) [rv x0, .int x1, .int (Int64.toInt32 (aJ h (fR h x0 2307) (Int32.toNatClampNeg ((fI h x0 2310) - 1)))), .int (aI h (fR h (fR h x0 2304) 516) (Int32.toNatClampNeg x2)), .int (aI h1034 (fR h1034 (fR h1034 x0 2304) 515) (Int32.toNatClampNeg x2))] h1034 (fun h1154 => xext h1034 h1154 → bX9_library_492 G fr lo h1154 Q) (fun r h2 => Q (.threw r) h2))))))) ∧ (¬ x1 ≤ 92 → 1 ≤ fr ∧ 22 ≤ lo ∧ xRv G YX9_writes (fr - 1) (lo - 22) [rv x0, .int x1, .int x2] h (fun h1159 => xext h h1159 → Q (.returned none) h1159) (fun r h2 => Q (.threw r) h2)))
set_option maxRecDepth 100000 in
theorem uX9_library {G : xG} {fr lo : Nat} {x0 : Nat} {x1 : Int32} {x2 : Int32} {h : xH} {Q : Outcome → xH → Prop} (hq : bX9_library G fr lo x0 x1 x2 h Q) : xP G YX9_library fr lo 0 [(0, rv x0), (1, .int x1), (2, .int x2)] [] h Q := by
  unfold bX9_library at hq
  refine x_aload_n 0 dX9_library_0 rfl ?_
  obtain ⟨g1, hq⟩ := hq
  refine x_get (v := rv (fR h x0 2304)) fdX9_75 dX9_library_1 g1 rfl ?_
  obtain ⟨g2, hq⟩ := hq
  refine x_getN (v := rv (fR h (fR h x0 2304) 513)) gfX9_201 dX9_library_4 g2 rfl ?_
  refine x_iload_n 2 dX9_library_7 rfl ?_
  obtain ⟨g3, hq⟩ := hq
  obtain ⟨i4, hq⟩ := hq
  refine x_iald 0 (Or.inl rfl) g3 i4 dX9_library_8 ?_
  refine x_istore_n (lv' := [(3, .int (aI h (fR h (fR h x0 2304) 513) (Int32.toNatClampNeg x2))), (0, rv x0), (1, .int x1), (2, .int x2)]) dX9_library_9 (by decide) rfl ?_
  refine x_aload_n 1 dX9_library_10 rfl ?_
  refine x_get (v := rv (fR h x0 2304)) fdX9_75 dX9_library_11 g1 rfl ?_
  refine x_getN (v := rv (fR h (fR h x0 2304) 516)) gfX9_222 dX9_library_14 g2 rfl ?_
  refine x_iload_n 3 dX9_library_17 rfl ?_
  obtain ⟨g5, hq⟩ := hq
  obtain ⟨i6, hq⟩ := hq
  refine x_iald 0 (Or.inl rfl) g5 i6 dX9_library_18 ?_
  refine x_istore (lv' := [(4, .int (aI h (fR h (fR h x0 2304) 516) (Int32.toNatClampNeg x2))), (3, .int (aI h (fR h (fR h x0 2304) 513) (Int32.toNatClampNeg x2))), (0, rv x0), (1, .int x1), (2, .int x2)]) dX9_library_19 (by decide) rfl ?_
  refine x_aload_n 2 dX9_library_21 rfl ?_
  refine x_get (v := rv (fR h x0 2307)) fdX9_28 dX9_library_22 g1 rfl ?_
  refine x_aload_n 2 dX9_library_25 rfl ?_
  refine x_get (v := .int (fI h x0 2310)) fdX9_86 dX9_library_26 g1 rfl ?_
  refine x_iconst (v := 1) dX9_library_29 (by decide) ?_
  refine x_isub dX9_library_30 ?_
  obtain ⟨g7, hq⟩ := hq
  obtain ⟨i8, hq⟩ := hq
  refine x_lald g7 i8 dX9_library_31 ?_
  refine x_l2i dX9_library_32 ?_
  refine x_istore (lv' := [(5, .int (Int64.toInt32 (aJ h (fR h x0 2307) (Int32.toNatClampNeg ((fI h x0 2310) - 1))))), (4, .int (aI h (fR h (fR h x0 2304) 516) (Int32.toNatClampNeg x2))), (3, .int (aI h (fR h (fR h x0 2304) 513) (Int32.toNatClampNeg x2))), (0, rv x0), (1, .int x1), (2, .int x2)]) dX9_library_33 (by decide) rfl ?_
  refine x_iload_n 4 dX9_library_35 rfl ?_
  refine x_bipush (v := 92) dX9_library_36 (by decide) ?_
  refine x_icmp_le (tgt := 48) dX9_library_38 (by decide) (fun c9 => ?_) (fun c9 => ?_)
  · replace hq := hq.1 c9
    refine x_iload_n 4 dX9_library_48 rfl ?_
    by_cases c10 : x1 = 80
    · replace hq := hq.1 c10
      refine x_tin (tgt := 116) (off := 67) 80 c10 dX9_library_49 (by decide) (by decide) (by decide) (by decide) ?_
      refine x_aload_n 3 dX9_library_116 rfl ?_
      refine x_iload_n 4 dX9_library_117 rfl ?_
      refine x_iload 0 dX9_library_118 rfl ?_
      refine x_iload 1 dX9_library_120 rfl ?_
      obtain ⟨g11, g12, hq⟩ := hq
      refine x_callV (Yc := YX9_asks) (as := [.int x1, .int (Int64.toInt32 (aJ h (fR h x0 2307) (Int32.toNatClampNeg ((fI h x0 2310) - 1)))), .int (aI h (fR h (fR h x0 2304) 516) (Int32.toNatClampNeg x2))]) (st := []) q3127 mvX9_asks g1 rfl dX9_library_122 (xle (xal1 (rv_cat _) (xal1 rfl (xal1 rfl (xal1 rfl xal0)))) (by decide)) (xfr g11) (xlo xsw0 (by decide) g12) (xKv hq (fun h13 hq e15 => ?_) (fun _ _ q _ => q))
      replace hq := hq e15
      exact x_vret rfl dX9_library_125 hq
    replace hq := hq.2
    by_cases c16 : x1 = 81
    · replace hq := hq.1 c16
      refine x_tin (tgt := 116) (off := 67) 81 c16 dX9_library_49 (by decide) (by decide) (by decide) (by decide) ?_
      refine x_aload_n 3 dX9_library_116 rfl ?_
      refine x_iload_n 4 dX9_library_117 rfl ?_
      refine x_iload 0 dX9_library_118 rfl ?_
      refine x_iload 1 dX9_library_120 rfl ?_
      obtain ⟨g17, g18, hq⟩ := hq
      refine x_callV (Yc := YX9_asks) (as := [.int x1, .int (Int64.toInt32 (aJ h (fR h x0 2307) (Int32.toNatClampNeg ((fI h x0 2310) - 1)))), .int (aI h (fR h (fR h x0 2304) 516) (Int32.toNatClampNeg x2))]) (st := []) q3127 mvX9_asks g1 rfl dX9_library_122 (xle (xal1 (rv_cat _) (xal1 rfl (xal1 rfl (xal1 rfl xal0)))) (by decide)) (xfr g17) (xlo xsw0 (by decide) g18) (xKv hq (fun h19 hq e21 => ?_) (fun _ _ q _ => q))
      replace hq := hq e21
      exact x_vret rfl dX9_library_125 hq
    replace hq := hq.2
    by_cases c22 : x1 = 82
    · replace hq := hq.1 c22
      refine x_tin (tgt := 195) (off := 146) 82 c22 dX9_library_49 (by decide) (by decide) (by decide) (by decide) ?_
      refine x_aload_n 3 dX9_library_195 rfl ?_
      refine x_dup dX9_library_196 (rv_cat _) ?_
      refine x_get (v := .int (fI h x0 2310)) fdX9_86 dX9_library_197 g1 rfl ?_
      refine x_iconst (v := 1) dX9_library_200 (by decide) ?_
      refine x_isub dX9_library_201 ?_
      obtain ⟨h23, e24⟩ : ∃ y, y = sI h x0 2310 ((fI h x0 2310) - 1) := ⟨_, rfl⟩
      replace hq := hq h23 e24
      refine x_putI fdX9_86 xty_I1 dX9_library_202 g1 (Or.inl (by rw [g1]; rfl)) xnI rfl e24 ?_
      refine x_iload_n 4 dX9_library_205 rfl ?_
      by_cases c25 : x1 = 82
      · replace hq := hq.1 c25
        refine x_tin (tgt := 260) (off := 54) 82 c25 dX9_library_206 (by decide) (by decide) (by decide) (by decide) ?_
        refine x_aload_n 3 dX9_library_260 rfl ?_
        have t26 : tg h23 x0 = 10 := by rw [e24]; exact g1
        refine x_get (v := rv (fR h23 x0 2306)) fdX9_23 dX9_library_261 t26 rfl ?_
        obtain ⟨g27, hq⟩ := hq
        refine x_getN (v := rv (fR h23 (fR h23 x0 2306) 2817)) gfX9_429 dX9_library_264 g27 rfl ?_
        refine x_iload 0 dX9_library_267 rfl ?_
        obtain ⟨g28, hq⟩ := hq
        obtain ⟨i29, hq⟩ := hq
        refine x_iald 0 (Or.inl rfl) g28 i29 dX9_library_269 ?_
        refine x_if_ne (tgt := 297) dX9_library_270 (by decide) (fun c30 => ?_) (fun c30 => ?_)
        · replace hq := hq.1 c30
          refine xP.pick (lv' := [(0, rv x0), (2, .int x2), (5, .int (Int64.toInt32 (aJ h (fR h x0 2307) (Int32.toNatClampNeg ((fI h x0 2310) - 1)))))]) [3, 5, 0] rfl ?_
          exact uX9_library_297 hq
        · replace hq := hq.2 c30
          refine x_aload_n 3 dX9_library_273 rfl ?_
          refine x_get (v := rv (fR h23 x0 2306)) fdX9_23 dX9_library_274 t26 rfl ?_
          refine x_getN (v := rv (fR h23 (fR h23 x0 2306) 2824)) gfX9_435 dX9_library_277 g27 rfl ?_
          refine x_iload 0 dX9_library_280 rfl ?_
          obtain ⟨g31, hq⟩ := hq
          obtain ⟨i32, hq⟩ := hq
          refine x_zald g31 i32 dX9_library_282 ?_
          refine x_if_ne (tgt := 297) dX9_library_283 (by decide) (fun c33 => ?_) (fun c33 => ?_)
          · replace hq := hq.1 c33
            refine xP.pick (lv' := [(0, rv x0), (2, .int x2), (5, .int (Int64.toInt32 (aJ h (fR h x0 2307) (Int32.toNatClampNeg ((fI h x0 2310) - 1)))))]) [3, 5, 0] rfl ?_
            exact uX9_library_297 hq
          · replace hq := hq.2 c33
            refine x_aload_n 3 dX9_library_286 rfl ?_
            refine x_bipush (v := 10) dX9_library_287 (by decide) ?_
            refine x_iload 1 dX9_library_289 rfl ?_
            obtain ⟨g34, g35, hq⟩ := hq
            refine x_callV (Yc := YX9_fail) (as := [.int 10, .int (aI h (fR h (fR h x0 2304) 516) (Int32.toNatClampNeg x2))]) (st := []) q2835 mvX9_fail t26 rfl dX9_library_291 (xle (xal1 (rv_cat _) (xal1 rfl (xal1 rfl xal0))) (by decide)) (xfr g34) (xlo xsw0 (by decide) g35) (xKv hq (fun h36 hq e38 => ?_) (fun _ _ q _ => q))
            replace hq := hq e38
            refine x_goto (tgt := 492) dX9_library_294 (by decide) ?_
            refine xP.pick (lv' := []) [] rfl ?_
            exact uX9_library_492 hq
      replace hq := hq.2
      by_cases c39 : x1 = 83
      · replace hq := hq.1 c39
        refine x_tin (tgt := 318) (off := 112) 83 c39 dX9_library_206 (by decide) (by decide) (by decide) (by decide) ?_
        refine x_aload_n 3 dX9_library_318 rfl ?_
        have t40 : tg h23 x0 = 10 := by rw [e24]; exact g1
        refine x_get (v := rv (fR h23 x0 2306)) fdX9_23 dX9_library_319 t40 rfl ?_
        refine x_iload 0 dX9_library_322 rfl ?_
        obtain ⟨g41, hq⟩ := hq
        obtain ⟨g42, g43, hq⟩ := hq
        refine x_callV (Yc := YX11_empty) (as := [.int (Int64.toInt32 (aJ h (fR h x0 2307) (Int32.toNatClampNeg ((fI h x0 2310) - 1))))]) (st := []) q3017 mvX11_empty g41 rfl dX9_library_324 (xle (xal1 (rv_cat _) (xal1 rfl xal0)) (by decide)) (xfr g42) (xlo xsw0 (by decide) g43) (xKv hq (fun h44 hq e46 => ?_) (fun _ _ q _ => q))
        replace hq := hq e46
        refine x_aload_n 3 dX9_library_327 rfl ?_
        have t47 : tg h44 x0 = 10 := e46.tg t40 (by decide)
        refine x_get (v := rv (fR h44 x0 2306)) fdX9_23 dX9_library_328 t47 rfl ?_
        obtain ⟨g48, hq⟩ := hq
        refine x_getN (v := rv (fR h44 (fR h44 x0 2306) 2817)) gfX9_429 dX9_library_331 g48 rfl ?_
        refine x_iload 0 dX9_library_334 rfl ?_
        refine x_iconst (v := 2) dX9_library_336 (by decide) ?_
        obtain ⟨g49, hq⟩ := hq
        obtain ⟨i50, hq⟩ := hq
        obtain ⟨h51, e52⟩ : ∃ y, y = tI h44 (fR h44 (fR h44 x0 2306) 2817) (Int32.toNatClampNeg (Int64.toInt32 (aJ h (fR h x0 2307) (Int32.toNatClampNeg ((fI h x0 2310) - 1))))) 2 := ⟨_, rfl⟩
        replace hq := hq h51 e52
        refine x_iast' g49 i50 dX9_library_337 e52 ?_
        refine x_aload_n 3 dX9_library_338 rfl ?_
        have t53 : tg h51 x0 = 10 := by rw [e52]; exact t47
        refine x_get (v := rv (fR h51 x0 2306)) fdX9_23 dX9_library_339 t53 rfl ?_
        refine x_iload 0 dX9_library_342 rfl ?_
        refine x_aload_n 3 dX9_library_344 rfl ?_
        refine x_get (v := rv (fR h51 x0 2304)) fdX9_75 dX9_library_345 t53 rfl ?_
        obtain ⟨g54, hq⟩ := hq
        refine x_getN (v := rv (fR h51 (fR h51 x0 2304) 514)) gfX9_204 dX9_library_348 g54 rfl ?_
        refine x_iload_n 5 dX9_library_351 rfl ?_
        obtain ⟨g55, hq⟩ := hq
        obtain ⟨i56, hq⟩ := hq
        refine x_iald 0 (Or.inl rfl) g55 i56 dX9_library_352 ?_
        obtain ⟨g57, hq⟩ := hq
        obtain ⟨g58, g59, hq⟩ := hq
        refine x_callV (Yc := YX11_bring) (as := [.int (Int64.toInt32 (aJ h (fR h x0 2307) (Int32.toNatClampNeg ((fI h x0 2310) - 1)))), .int (aI h51 (fR h51 (fR h51 x0 2304) 514) (Int32.toNatClampNeg x2))]) (st := []) q3144 mvX11_bring g57 rfl dX9_library_353 (xle (xal1 (rv_cat _) (xal1 rfl (xal1 rfl xal0))) (by decide)) (xfr g58) (xlo xsw0 (by decide) g59) (xKv hq (fun h60 hq e62 => ?_) (fun _ _ q _ => q))
        replace hq := hq e62
        refine x_goto (tgt := 492) dX9_library_356 (by decide) ?_
        refine xP.pick (lv' := []) [] rfl ?_
        exact uX9_library_492 hq
      replace hq := hq.2
      by_cases c63 : x1 = 84
      · replace hq := hq.1 c63
        refine x_tin (tgt := 359) (off := 153) 84 c63 dX9_library_206 (by decide) (by decide) (by decide) (by decide) ?_
        refine x_aload_n 3 dX9_library_359 rfl ?_
        have t64 : tg h23 x0 = 10 := by rw [e24]; exact g1
        refine x_get (v := rv (fR h23 x0 2306)) fdX9_23 dX9_library_360 t64 rfl ?_
        obtain ⟨g65, hq⟩ := hq
        refine x_getN (v := rv (fR h23 (fR h23 x0 2306) 2817)) gfX9_429 dX9_library_363 g65 rfl ?_
        refine x_iload 0 dX9_library_366 rfl ?_
        obtain ⟨g66, hq⟩ := hq
        obtain ⟨i67, hq⟩ := hq
        refine x_iald 0 (Or.inl rfl) g66 i67 dX9_library_368 ?_
        refine x_iconst (v := 1) dX9_library_369 (by decide) ?_
        refine x_icmp_ne (tgt := 387) dX9_library_370 (by decide) (fun c68 => ?_) (fun c68 => ?_)
        · replace hq := hq.1 c68
          refine xP.pick (lv' := [(0, rv x0), (2, .int x2), (4, .int (aI h (fR h (fR h x0 2304) 516) (Int32.toNatClampNeg x2))), (5, .int (Int64.toInt32 (aJ h (fR h x0 2307) (Int32.toNatClampNeg ((fI h x0 2310) - 1)))))]) [3, 5, 1, 0] rfl ?_
          exact uX9_library_387 hq
        · replace hq := hq.2 c68
          refine x_aload_n 3 dX9_library_373 rfl ?_
          refine x_get (v := rv (fR h23 x0 2306)) fdX9_23 dX9_library_374 t64 rfl ?_
          refine x_getN (v := rv (fR h23 (fR h23 x0 2306) 2820)) gfX9_432 dX9_library_377 g65 rfl ?_
          refine x_iload 0 dX9_library_380 rfl ?_
          obtain ⟨g69, hq⟩ := hq
          obtain ⟨i70, hq⟩ := hq
          refine x_iald 0 (Or.inl rfl) g69 i70 dX9_library_382 ?_
          refine x_iconst (v := (-1)) dX9_library_383 (by decide) ?_
          refine x_icmp_ne (tgt := 395) dX9_library_384 (by decide) (fun c71 => ?_) (fun c71 => ?_)
          · replace hq := hq.1 c71
            refine xP.pick (lv' := [(0, rv x0), (2, .int x2), (5, .int (Int64.toInt32 (aJ h (fR h x0 2307) (Int32.toNatClampNeg ((fI h x0 2310) - 1)))))]) [3, 5, 0] rfl ?_
            exact uX9_library_395 hq
          · replace hq := hq.2 c71
            refine xP.pick (lv' := [(0, rv x0), (2, .int x2), (4, .int (aI h (fR h (fR h x0 2304) 516) (Int32.toNatClampNeg x2))), (5, .int (Int64.toInt32 (aJ h (fR h x0 2307) (Int32.toNatClampNeg ((fI h x0 2310) - 1)))))]) [3, 5, 1, 0] rfl ?_
            exact uX9_library_387 hq
      replace hq := hq.2
      by_cases c72 : x1 = 85
      · replace hq := hq.1 c72
        refine x_tin (tgt := 425) (off := 219) 85 c72 dX9_library_206 (by decide) (by decide) (by decide) (by decide) ?_
        refine x_aload_n 3 dX9_library_425 rfl ?_
        refine x_iload 0 dX9_library_426 rfl ?_
        refine x_aload_n 3 dX9_library_428 rfl ?_
        have t73 : tg h23 x0 = 10 := by rw [e24]; exact g1
        refine x_get (v := rv (fR h23 x0 2304)) fdX9_75 dX9_library_429 t73 rfl ?_
        obtain ⟨g74, hq⟩ := hq
        refine x_getN (v := rv (fR h23 (fR h23 x0 2304) 514)) gfX9_204 dX9_library_432 g74 rfl ?_
        refine x_iload_n 5 dX9_library_435 rfl ?_
        obtain ⟨g75, hq⟩ := hq
        obtain ⟨i76, hq⟩ := hq
        refine x_iald 0 (Or.inl rfl) g75 i76 dX9_library_436 ?_
        refine x_aload_n 3 dX9_library_437 rfl ?_
        refine x_get (v := rv (fR h23 x0 2304)) fdX9_75 dX9_library_438 t73 rfl ?_
        refine x_getN (v := rv (fR h23 (fR h23 x0 2304) 515)) gfX9_224 dX9_library_441 g74 rfl ?_
        refine x_iload_n 5 dX9_library_444 rfl ?_
        obtain ⟨g77, hq⟩ := hq
        obtain ⟨i78, hq⟩ := hq
        refine x_iald 0 (Or.inl rfl) g77 i78 dX9_library_445 ?_
        refine x_iconst (v := 1) dX9_library_446 (by decide) ?_
        refine x_icmp_ne (tgt := 454) dX9_library_447 (by decide) (fun c79 => ?_) (fun c79 => ?_)
        · replace hq := hq.1 c79
          refine x_iconst (v := 0) dX9_library_454 (by decide) ?_
          refine xP.pick (lv' := [(4, .int (aI h (fR h (fR h x0 2304) 516) (Int32.toNatClampNeg x2)))]) [1] rfl ?_
          exact uX9_library_455 hq
        · replace hq := hq.2 c79
          refine x_iconst (v := 1) dX9_library_450 (by decide) ?_
          refine x_goto (tgt := 455) dX9_library_451 (by decide) ?_
          refine xP.pick (lv' := [(4, .int (aI h (fR h (fR h x0 2304) 516) (Int32.toNatClampNeg x2)))]) [1] rfl ?_
          exact uX9_library_455 hq
      replace hq := hq.2
      by_cases c80 : x1 = 86
      · replace hq := hq.1 c80
        refine x_tin (tgt := 474) (off := 268) 86 c80 dX9_library_206 (by decide) (by decide) (by decide) (by decide) ?_
        refine x_aload_n 3 dX9_library_474 rfl ?_
        refine x_iload_n 4 dX9_library_475 rfl ?_
        refine x_iload 0 dX9_library_476 rfl ?_
        refine x_iload 1 dX9_library_478 rfl ?_
        refine x_aload_n 3 dX9_library_480 rfl ?_
        have t81 : tg h23 x0 = 10 := by rw [e24]; exact g1
        refine x_get (v := rv (fR h23 x0 2304)) fdX9_75 dX9_library_481 t81 rfl ?_
        obtain ⟨g82, hq⟩ := hq
        refine x_getN (v := rv (fR h23 (fR h23 x0 2304) 515)) gfX9_224 dX9_library_484 g82 rfl ?_
        refine x_iload_n 5 dX9_library_487 rfl ?_
        obtain ⟨g83, hq⟩ := hq
        obtain ⟨i84, hq⟩ := hq
        refine x_iald 0 (Or.inl rfl) g83 i84 dX9_library_488 ?_
        obtain ⟨g85, g86, hq⟩ := hq
        refine x_callV (Yc := YX9_readsNumber) (as := [.int x1, .int (Int64.toInt32 (aJ h (fR h x0 2307) (Int32.toNatClampNeg ((fI h x0 2310) - 1)))), .int (aI h (fR h (fR h x0 2304) 516) (Int32.toNatClampNeg x2)), .int (aI h23 (fR h23 (fR h23 x0 2304) 515) (Int32.toNatClampNeg x2))]) (st := []) q3161 mvX9_readsNumber t81 rfl dX9_library_489 (xle (xal1 (rv_cat _) (xal1 rfl (xal1 rfl (xal1 rfl (xal1 rfl xal0))))) (by decide)) (xfr g85) (xlo xsw0 (by decide) g86) (xKv hq (fun h87 hq e89 => ?_) (fun _ _ q _ => q))
        replace hq := hq e89
        refine xP.pick (lv' := []) [] rfl ?_
        exact uX9_library_492 hq
      replace hq := hq.2
      by_cases c90 : x1 = 87
      · replace hq := hq.1 c90
        refine x_tin (tgt := 474) (off := 268) 87 c90 dX9_library_206 (by decide) (by decide) (by decide) (by decide) ?_
        refine x_aload_n 3 dX9_library_474 rfl ?_
        refine x_iload_n 4 dX9_library_475 rfl ?_
        refine x_iload 0 dX9_library_476 rfl ?_
        refine x_iload 1 dX9_library_478 rfl ?_
        refine x_aload_n 3 dX9_library_480 rfl ?_
        have t91 : tg h23 x0 = 10 := by rw [e24]; exact g1
        refine x_get (v := rv (fR h23 x0 2304)) fdX9_75 dX9_library_481 t91 rfl ?_
        obtain ⟨g92, hq⟩ := hq
        refine x_getN (v := rv (fR h23 (fR h23 x0 2304) 515)) gfX9_224 dX9_library_484 g92 rfl ?_
        refine x_iload_n 5 dX9_library_487 rfl ?_
        obtain ⟨g93, hq⟩ := hq
        obtain ⟨i94, hq⟩ := hq
        refine x_iald 0 (Or.inl rfl) g93 i94 dX9_library_488 ?_
        obtain ⟨g95, g96, hq⟩ := hq
        refine x_callV (Yc := YX9_readsNumber) (as := [.int x1, .int (Int64.toInt32 (aJ h (fR h x0 2307) (Int32.toNatClampNeg ((fI h x0 2310) - 1)))), .int (aI h (fR h (fR h x0 2304) 516) (Int32.toNatClampNeg x2)), .int (aI h23 (fR h23 (fR h23 x0 2304) 515) (Int32.toNatClampNeg x2))]) (st := []) q3161 mvX9_readsNumber t91 rfl dX9_library_489 (xle (xal1 (rv_cat _) (xal1 rfl (xal1 rfl (xal1 rfl (xal1 rfl xal0))))) (by decide)) (xfr g95) (xlo xsw0 (by decide) g96) (xKv hq (fun h97 hq e99 => ?_) (fun _ _ q _ => q))
        replace hq := hq e99
        refine xP.pick (lv' := []) [] rfl ?_
        exact uX9_library_492 hq
      replace hq := hq.2
      by_cases c100 : x1 = 88
      · replace hq := hq.1 c100
        refine x_tin (tgt := 474) (off := 268) 88 c100 dX9_library_206 (by decide) (by decide) (by decide) (by decide) ?_
        refine x_aload_n 3 dX9_library_474 rfl ?_
        refine x_iload_n 4 dX9_library_475 rfl ?_
        refine x_iload 0 dX9_library_476 rfl ?_
        refine x_iload 1 dX9_library_478 rfl ?_
        refine x_aload_n 3 dX9_library_480 rfl ?_
        have t101 : tg h23 x0 = 10 := by rw [e24]; exact g1
        refine x_get (v := rv (fR h23 x0 2304)) fdX9_75 dX9_library_481 t101 rfl ?_
        obtain ⟨g102, hq⟩ := hq
        refine x_getN (v := rv (fR h23 (fR h23 x0 2304) 515)) gfX9_224 dX9_library_484 g102 rfl ?_
        refine x_iload_n 5 dX9_library_487 rfl ?_
        obtain ⟨g103, hq⟩ := hq
        obtain ⟨i104, hq⟩ := hq
        refine x_iald 0 (Or.inl rfl) g103 i104 dX9_library_488 ?_
        obtain ⟨g105, g106, hq⟩ := hq
        refine x_callV (Yc := YX9_readsNumber) (as := [.int x1, .int (Int64.toInt32 (aJ h (fR h x0 2307) (Int32.toNatClampNeg ((fI h x0 2310) - 1)))), .int (aI h (fR h (fR h x0 2304) 516) (Int32.toNatClampNeg x2)), .int (aI h23 (fR h23 (fR h23 x0 2304) 515) (Int32.toNatClampNeg x2))]) (st := []) q3161 mvX9_readsNumber t101 rfl dX9_library_489 (xle (xal1 (rv_cat _) (xal1 rfl (xal1 rfl (xal1 rfl (xal1 rfl xal0))))) (by decide)) (xfr g105) (xlo xsw0 (by decide) g106) (xKv hq (fun h107 hq e109 => ?_) (fun _ _ q _ => q))
        replace hq := hq e109
        refine xP.pick (lv' := []) [] rfl ?_
        exact uX9_library_492 hq
      replace hq := hq.2
      by_cases c110 : x1 = 89
      · replace hq := hq.1 c110
        refine x_tin (tgt := 474) (off := 268) 89 c110 dX9_library_206 (by decide) (by decide) (by decide) (by decide) ?_
        refine x_aload_n 3 dX9_library_474 rfl ?_
        refine x_iload_n 4 dX9_library_475 rfl ?_
        refine x_iload 0 dX9_library_476 rfl ?_
        refine x_iload 1 dX9_library_478 rfl ?_
        refine x_aload_n 3 dX9_library_480 rfl ?_
        have t111 : tg h23 x0 = 10 := by rw [e24]; exact g1
        refine x_get (v := rv (fR h23 x0 2304)) fdX9_75 dX9_library_481 t111 rfl ?_
        obtain ⟨g112, hq⟩ := hq
        refine x_getN (v := rv (fR h23 (fR h23 x0 2304) 515)) gfX9_224 dX9_library_484 g112 rfl ?_
        refine x_iload_n 5 dX9_library_487 rfl ?_
        obtain ⟨g113, hq⟩ := hq
        obtain ⟨i114, hq⟩ := hq
        refine x_iald 0 (Or.inl rfl) g113 i114 dX9_library_488 ?_
        obtain ⟨g115, g116, hq⟩ := hq
        refine x_callV (Yc := YX9_readsNumber) (as := [.int x1, .int (Int64.toInt32 (aJ h (fR h x0 2307) (Int32.toNatClampNeg ((fI h x0 2310) - 1)))), .int (aI h (fR h (fR h x0 2304) 516) (Int32.toNatClampNeg x2)), .int (aI h23 (fR h23 (fR h23 x0 2304) 515) (Int32.toNatClampNeg x2))]) (st := []) q3161 mvX9_readsNumber t111 rfl dX9_library_489 (xle (xal1 (rv_cat _) (xal1 rfl (xal1 rfl (xal1 rfl (xal1 rfl xal0))))) (by decide)) (xfr g115) (xlo xsw0 (by decide) g116) (xKv hq (fun h117 hq e119 => ?_) (fun _ _ q _ => q))
        replace hq := hq e119
        refine xP.pick (lv' := []) [] rfl ?_
        exact uX9_library_492 hq
      replace hq := hq.2
      by_cases c120 : x1 = 90
      · replace hq := hq.1 c120
        refine x_tin (tgt := 474) (off := 268) 90 c120 dX9_library_206 (by decide) (by decide) (by decide) (by decide) ?_
        refine x_aload_n 3 dX9_library_474 rfl ?_
        refine x_iload_n 4 dX9_library_475 rfl ?_
        refine x_iload 0 dX9_library_476 rfl ?_
        refine x_iload 1 dX9_library_478 rfl ?_
        refine x_aload_n 3 dX9_library_480 rfl ?_
        have t121 : tg h23 x0 = 10 := by rw [e24]; exact g1
        refine x_get (v := rv (fR h23 x0 2304)) fdX9_75 dX9_library_481 t121 rfl ?_
        obtain ⟨g122, hq⟩ := hq
        refine x_getN (v := rv (fR h23 (fR h23 x0 2304) 515)) gfX9_224 dX9_library_484 g122 rfl ?_
        refine x_iload_n 5 dX9_library_487 rfl ?_
        obtain ⟨g123, hq⟩ := hq
        obtain ⟨i124, hq⟩ := hq
        refine x_iald 0 (Or.inl rfl) g123 i124 dX9_library_488 ?_
        obtain ⟨g125, g126, hq⟩ := hq
        refine x_callV (Yc := YX9_readsNumber) (as := [.int x1, .int (Int64.toInt32 (aJ h (fR h x0 2307) (Int32.toNatClampNeg ((fI h x0 2310) - 1)))), .int (aI h (fR h (fR h x0 2304) 516) (Int32.toNatClampNeg x2)), .int (aI h23 (fR h23 (fR h23 x0 2304) 515) (Int32.toNatClampNeg x2))]) (st := []) q3161 mvX9_readsNumber t121 rfl dX9_library_489 (xle (xal1 (rv_cat _) (xal1 rfl (xal1 rfl (xal1 rfl (xal1 rfl xal0))))) (by decide)) (xfr g125) (xlo xsw0 (by decide) g126) (xKv hq (fun h127 hq e129 => ?_) (fun _ _ q _ => q))
        replace hq := hq e129
        refine xP.pick (lv' := []) [] rfl ?_
        exact uX9_library_492 hq
      replace hq := hq.2
      by_cases c130 : x1 = 91
      · replace hq := hq.1 c130
        refine x_tin (tgt := 463) (off := 257) 91 c130 dX9_library_206 (by decide) (by decide) (by decide) (by decide) ?_
        refine x_aload_n 3 dX9_library_463 rfl ?_
        refine x_iload 0 dX9_library_464 rfl ?_
        refine x_iload 1 dX9_library_466 rfl ?_
        have t131 : tg h23 x0 = 10 := by rw [e24]; exact g1
        obtain ⟨g132, g133, hq⟩ := hq
        refine x_callV (Yc := YX9_passes) (as := [.int (Int64.toInt32 (aJ h (fR h x0 2307) (Int32.toNatClampNeg ((fI h x0 2310) - 1)))), .int (aI h (fR h (fR h x0 2304) 516) (Int32.toNatClampNeg x2))]) (st := []) q3157 mvX9_passes t131 rfl dX9_library_468 (xle (xal1 (rv_cat _) (xal1 rfl (xal1 rfl xal0))) (by decide)) (xfr g132) (xlo xsw0 (by decide) g133) (xKv hq (fun h134 hq e136 => ?_) (fun _ _ q _ => q))
        replace hq := hq e136
        refine x_goto (tgt := 492) dX9_library_471 (by decide) ?_
        refine xP.pick (lv' := []) [] rfl ?_
        exact uX9_library_492 hq
      replace hq := hq.2
      replace hq := hq c25 c39 c63 c72 c80 c90 c100 c110 c120 c130
      have nc25 := lv_neT c25 (show (82 : Int32).toInt = 82 from by decide)
      have nc39 := lv_neT c39 (show (83 : Int32).toInt = 83 from by decide)
      have nc63 := lv_neT c63 (show (84 : Int32).toInt = 84 from by decide)
      have nc72 := lv_neT c72 (show (85 : Int32).toInt = 85 from by decide)
      have nc80 := lv_neT c80 (show (86 : Int32).toInt = 86 from by decide)
      have nc90 := lv_neT c90 (show (87 : Int32).toInt = 87 from by decide)
      have nc100 := lv_neT c100 (show (88 : Int32).toInt = 88 from by decide)
      have nc110 := lv_neT c110 (show (89 : Int32).toInt = 89 from by decide)
      have nc120 := lv_neT c120 (show (90 : Int32).toInt = 90 from by decide)
      have nc130 := lv_neT c130 (show (91 : Int32).toInt = 91 from by decide)
      refine x_tout (tgt := 474) dX9_library_206 (by omega) (by decide) ?_
      refine x_aload_n 3 dX9_library_474 rfl ?_
      refine x_iload_n 4 dX9_library_475 rfl ?_
      refine x_iload 0 dX9_library_476 rfl ?_
      refine x_iload 1 dX9_library_478 rfl ?_
      refine x_aload_n 3 dX9_library_480 rfl ?_
      have t137 : tg h23 x0 = 10 := by rw [e24]; exact g1
      refine x_get (v := rv (fR h23 x0 2304)) fdX9_75 dX9_library_481 t137 rfl ?_
      obtain ⟨g138, hq⟩ := hq
      refine x_getN (v := rv (fR h23 (fR h23 x0 2304) 515)) gfX9_224 dX9_library_484 g138 rfl ?_
      refine x_iload_n 5 dX9_library_487 rfl ?_
      obtain ⟨g139, hq⟩ := hq
      obtain ⟨i140, hq⟩ := hq
      refine x_iald 0 (Or.inl rfl) g139 i140 dX9_library_488 ?_
      obtain ⟨g141, g142, hq⟩ := hq
      refine x_callV (Yc := YX9_readsNumber) (as := [.int x1, .int (Int64.toInt32 (aJ h (fR h x0 2307) (Int32.toNatClampNeg ((fI h x0 2310) - 1)))), .int (aI h (fR h (fR h x0 2304) 516) (Int32.toNatClampNeg x2)), .int (aI h23 (fR h23 (fR h23 x0 2304) 515) (Int32.toNatClampNeg x2))]) (st := []) q3161 mvX9_readsNumber t137 rfl dX9_library_489 (xle (xal1 (rv_cat _) (xal1 rfl (xal1 rfl (xal1 rfl (xal1 rfl xal0))))) (by decide)) (xfr g141) (xlo xsw0 (by decide) g142) (xKv hq (fun h143 hq e145 => ?_) (fun _ _ q _ => q))
      replace hq := hq e145
      refine xP.pick (lv' := []) [] rfl ?_
      exact uX9_library_492 hq
    replace hq := hq.2
    by_cases c146 : x1 = 83
    · replace hq := hq.1 c146
      refine x_tin (tgt := 195) (off := 146) 83 c146 dX9_library_49 (by decide) (by decide) (by decide) (by decide) ?_
      refine x_aload_n 3 dX9_library_195 rfl ?_
      refine x_dup dX9_library_196 (rv_cat _) ?_
      refine x_get (v := .int (fI h x0 2310)) fdX9_86 dX9_library_197 g1 rfl ?_
      refine x_iconst (v := 1) dX9_library_200 (by decide) ?_
      refine x_isub dX9_library_201 ?_
      obtain ⟨h147, e148⟩ : ∃ y, y = sI h x0 2310 ((fI h x0 2310) - 1) := ⟨_, rfl⟩
      replace hq := hq h147 e148
      refine x_putI fdX9_86 xty_I1 dX9_library_202 g1 (Or.inl (by rw [g1]; rfl)) xnI rfl e148 ?_
      refine x_iload_n 4 dX9_library_205 rfl ?_
      by_cases c149 : x1 = 82
      · replace hq := hq.1 c149
        refine x_tin (tgt := 260) (off := 54) 82 c149 dX9_library_206 (by decide) (by decide) (by decide) (by decide) ?_
        refine x_aload_n 3 dX9_library_260 rfl ?_
        have t150 : tg h147 x0 = 10 := by rw [e148]; exact g1
        refine x_get (v := rv (fR h147 x0 2306)) fdX9_23 dX9_library_261 t150 rfl ?_
        obtain ⟨g151, hq⟩ := hq
        refine x_getN (v := rv (fR h147 (fR h147 x0 2306) 2817)) gfX9_429 dX9_library_264 g151 rfl ?_
        refine x_iload 0 dX9_library_267 rfl ?_
        obtain ⟨g152, hq⟩ := hq
        obtain ⟨i153, hq⟩ := hq
        refine x_iald 0 (Or.inl rfl) g152 i153 dX9_library_269 ?_
        refine x_if_ne (tgt := 297) dX9_library_270 (by decide) (fun c154 => ?_) (fun c154 => ?_)
        · replace hq := hq.1 c154
          refine xP.pick (lv' := [(0, rv x0), (2, .int x2), (5, .int (Int64.toInt32 (aJ h (fR h x0 2307) (Int32.toNatClampNeg ((fI h x0 2310) - 1)))))]) [3, 5, 0] rfl ?_
          exact uX9_library_297 hq
        · replace hq := hq.2 c154
          refine x_aload_n 3 dX9_library_273 rfl ?_
          refine x_get (v := rv (fR h147 x0 2306)) fdX9_23 dX9_library_274 t150 rfl ?_
          refine x_getN (v := rv (fR h147 (fR h147 x0 2306) 2824)) gfX9_435 dX9_library_277 g151 rfl ?_
          refine x_iload 0 dX9_library_280 rfl ?_
          obtain ⟨g155, hq⟩ := hq
          obtain ⟨i156, hq⟩ := hq
          refine x_zald g155 i156 dX9_library_282 ?_
          refine x_if_ne (tgt := 297) dX9_library_283 (by decide) (fun c157 => ?_) (fun c157 => ?_)
          · replace hq := hq.1 c157
            refine xP.pick (lv' := [(0, rv x0), (2, .int x2), (5, .int (Int64.toInt32 (aJ h (fR h x0 2307) (Int32.toNatClampNeg ((fI h x0 2310) - 1)))))]) [3, 5, 0] rfl ?_
            exact uX9_library_297 hq
          · replace hq := hq.2 c157
            refine x_aload_n 3 dX9_library_286 rfl ?_
            refine x_bipush (v := 10) dX9_library_287 (by decide) ?_
            refine x_iload 1 dX9_library_289 rfl ?_
            obtain ⟨g158, g159, hq⟩ := hq
            refine x_callV (Yc := YX9_fail) (as := [.int 10, .int (aI h (fR h (fR h x0 2304) 516) (Int32.toNatClampNeg x2))]) (st := []) q2835 mvX9_fail t150 rfl dX9_library_291 (xle (xal1 (rv_cat _) (xal1 rfl (xal1 rfl xal0))) (by decide)) (xfr g158) (xlo xsw0 (by decide) g159) (xKv hq (fun h160 hq e162 => ?_) (fun _ _ q _ => q))
            replace hq := hq e162
            refine x_goto (tgt := 492) dX9_library_294 (by decide) ?_
            refine xP.pick (lv' := []) [] rfl ?_
            exact uX9_library_492 hq
      replace hq := hq.2
      by_cases c163 : x1 = 83
      · replace hq := hq.1 c163
        refine x_tin (tgt := 318) (off := 112) 83 c163 dX9_library_206 (by decide) (by decide) (by decide) (by decide) ?_
        refine x_aload_n 3 dX9_library_318 rfl ?_
        have t164 : tg h147 x0 = 10 := by rw [e148]; exact g1
        refine x_get (v := rv (fR h147 x0 2306)) fdX9_23 dX9_library_319 t164 rfl ?_
        refine x_iload 0 dX9_library_322 rfl ?_
        obtain ⟨g165, hq⟩ := hq
        obtain ⟨g166, g167, hq⟩ := hq
        refine x_callV (Yc := YX11_empty) (as := [.int (Int64.toInt32 (aJ h (fR h x0 2307) (Int32.toNatClampNeg ((fI h x0 2310) - 1))))]) (st := []) q3017 mvX11_empty g165 rfl dX9_library_324 (xle (xal1 (rv_cat _) (xal1 rfl xal0)) (by decide)) (xfr g166) (xlo xsw0 (by decide) g167) (xKv hq (fun h168 hq e170 => ?_) (fun _ _ q _ => q))
        replace hq := hq e170
        refine x_aload_n 3 dX9_library_327 rfl ?_
        have t171 : tg h168 x0 = 10 := e170.tg t164 (by decide)
        refine x_get (v := rv (fR h168 x0 2306)) fdX9_23 dX9_library_328 t171 rfl ?_
        obtain ⟨g172, hq⟩ := hq
        refine x_getN (v := rv (fR h168 (fR h168 x0 2306) 2817)) gfX9_429 dX9_library_331 g172 rfl ?_
        refine x_iload 0 dX9_library_334 rfl ?_
        refine x_iconst (v := 2) dX9_library_336 (by decide) ?_
        obtain ⟨g173, hq⟩ := hq
        obtain ⟨i174, hq⟩ := hq
        obtain ⟨h175, e176⟩ : ∃ y, y = tI h168 (fR h168 (fR h168 x0 2306) 2817) (Int32.toNatClampNeg (Int64.toInt32 (aJ h (fR h x0 2307) (Int32.toNatClampNeg ((fI h x0 2310) - 1))))) 2 := ⟨_, rfl⟩
        replace hq := hq h175 e176
        refine x_iast' g173 i174 dX9_library_337 e176 ?_
        refine x_aload_n 3 dX9_library_338 rfl ?_
        have t177 : tg h175 x0 = 10 := by rw [e176]; exact t171
        refine x_get (v := rv (fR h175 x0 2306)) fdX9_23 dX9_library_339 t177 rfl ?_
        refine x_iload 0 dX9_library_342 rfl ?_
        refine x_aload_n 3 dX9_library_344 rfl ?_
        refine x_get (v := rv (fR h175 x0 2304)) fdX9_75 dX9_library_345 t177 rfl ?_
        obtain ⟨g178, hq⟩ := hq
        refine x_getN (v := rv (fR h175 (fR h175 x0 2304) 514)) gfX9_204 dX9_library_348 g178 rfl ?_
        refine x_iload_n 5 dX9_library_351 rfl ?_
        obtain ⟨g179, hq⟩ := hq
        obtain ⟨i180, hq⟩ := hq
        refine x_iald 0 (Or.inl rfl) g179 i180 dX9_library_352 ?_
        obtain ⟨g181, hq⟩ := hq
        obtain ⟨g182, g183, hq⟩ := hq
        refine x_callV (Yc := YX11_bring) (as := [.int (Int64.toInt32 (aJ h (fR h x0 2307) (Int32.toNatClampNeg ((fI h x0 2310) - 1)))), .int (aI h175 (fR h175 (fR h175 x0 2304) 514) (Int32.toNatClampNeg x2))]) (st := []) q3144 mvX11_bring g181 rfl dX9_library_353 (xle (xal1 (rv_cat _) (xal1 rfl (xal1 rfl xal0))) (by decide)) (xfr g182) (xlo xsw0 (by decide) g183) (xKv hq (fun h184 hq e186 => ?_) (fun _ _ q _ => q))
        replace hq := hq e186
        refine x_goto (tgt := 492) dX9_library_356 (by decide) ?_
        refine xP.pick (lv' := []) [] rfl ?_
        exact uX9_library_492 hq
      replace hq := hq.2
      by_cases c187 : x1 = 84
      · replace hq := hq.1 c187
        refine x_tin (tgt := 359) (off := 153) 84 c187 dX9_library_206 (by decide) (by decide) (by decide) (by decide) ?_
        refine x_aload_n 3 dX9_library_359 rfl ?_
        have t188 : tg h147 x0 = 10 := by rw [e148]; exact g1
        refine x_get (v := rv (fR h147 x0 2306)) fdX9_23 dX9_library_360 t188 rfl ?_
        obtain ⟨g189, hq⟩ := hq
        refine x_getN (v := rv (fR h147 (fR h147 x0 2306) 2817)) gfX9_429 dX9_library_363 g189 rfl ?_
        refine x_iload 0 dX9_library_366 rfl ?_
        obtain ⟨g190, hq⟩ := hq
        obtain ⟨i191, hq⟩ := hq
        refine x_iald 0 (Or.inl rfl) g190 i191 dX9_library_368 ?_
        refine x_iconst (v := 1) dX9_library_369 (by decide) ?_
        refine x_icmp_ne (tgt := 387) dX9_library_370 (by decide) (fun c192 => ?_) (fun c192 => ?_)
        · replace hq := hq.1 c192
          refine xP.pick (lv' := [(0, rv x0), (2, .int x2), (4, .int (aI h (fR h (fR h x0 2304) 516) (Int32.toNatClampNeg x2))), (5, .int (Int64.toInt32 (aJ h (fR h x0 2307) (Int32.toNatClampNeg ((fI h x0 2310) - 1)))))]) [3, 5, 1, 0] rfl ?_
          exact uX9_library_387 hq
        · replace hq := hq.2 c192
          refine x_aload_n 3 dX9_library_373 rfl ?_
          refine x_get (v := rv (fR h147 x0 2306)) fdX9_23 dX9_library_374 t188 rfl ?_
          refine x_getN (v := rv (fR h147 (fR h147 x0 2306) 2820)) gfX9_432 dX9_library_377 g189 rfl ?_
          refine x_iload 0 dX9_library_380 rfl ?_
          obtain ⟨g193, hq⟩ := hq
          obtain ⟨i194, hq⟩ := hq
          refine x_iald 0 (Or.inl rfl) g193 i194 dX9_library_382 ?_
          refine x_iconst (v := (-1)) dX9_library_383 (by decide) ?_
          refine x_icmp_ne (tgt := 395) dX9_library_384 (by decide) (fun c195 => ?_) (fun c195 => ?_)
          · replace hq := hq.1 c195
            refine xP.pick (lv' := [(0, rv x0), (2, .int x2), (5, .int (Int64.toInt32 (aJ h (fR h x0 2307) (Int32.toNatClampNeg ((fI h x0 2310) - 1)))))]) [3, 5, 0] rfl ?_
            exact uX9_library_395 hq
          · replace hq := hq.2 c195
            refine xP.pick (lv' := [(0, rv x0), (2, .int x2), (4, .int (aI h (fR h (fR h x0 2304) 516) (Int32.toNatClampNeg x2))), (5, .int (Int64.toInt32 (aJ h (fR h x0 2307) (Int32.toNatClampNeg ((fI h x0 2310) - 1)))))]) [3, 5, 1, 0] rfl ?_
            exact uX9_library_387 hq
      replace hq := hq.2
      by_cases c196 : x1 = 85
      · replace hq := hq.1 c196
        refine x_tin (tgt := 425) (off := 219) 85 c196 dX9_library_206 (by decide) (by decide) (by decide) (by decide) ?_
        refine x_aload_n 3 dX9_library_425 rfl ?_
        refine x_iload 0 dX9_library_426 rfl ?_
        refine x_aload_n 3 dX9_library_428 rfl ?_
        have t197 : tg h147 x0 = 10 := by rw [e148]; exact g1
        refine x_get (v := rv (fR h147 x0 2304)) fdX9_75 dX9_library_429 t197 rfl ?_
        obtain ⟨g198, hq⟩ := hq
        refine x_getN (v := rv (fR h147 (fR h147 x0 2304) 514)) gfX9_204 dX9_library_432 g198 rfl ?_
        refine x_iload_n 5 dX9_library_435 rfl ?_
        obtain ⟨g199, hq⟩ := hq
        obtain ⟨i200, hq⟩ := hq
        refine x_iald 0 (Or.inl rfl) g199 i200 dX9_library_436 ?_
        refine x_aload_n 3 dX9_library_437 rfl ?_
        refine x_get (v := rv (fR h147 x0 2304)) fdX9_75 dX9_library_438 t197 rfl ?_
        refine x_getN (v := rv (fR h147 (fR h147 x0 2304) 515)) gfX9_224 dX9_library_441 g198 rfl ?_
        refine x_iload_n 5 dX9_library_444 rfl ?_
        obtain ⟨g201, hq⟩ := hq
        obtain ⟨i202, hq⟩ := hq
        refine x_iald 0 (Or.inl rfl) g201 i202 dX9_library_445 ?_
        refine x_iconst (v := 1) dX9_library_446 (by decide) ?_
        refine x_icmp_ne (tgt := 454) dX9_library_447 (by decide) (fun c203 => ?_) (fun c203 => ?_)
        · replace hq := hq.1 c203
          refine x_iconst (v := 0) dX9_library_454 (by decide) ?_
          refine xP.pick (lv' := [(4, .int (aI h (fR h (fR h x0 2304) 516) (Int32.toNatClampNeg x2)))]) [1] rfl ?_
          exact uX9_library_455 hq
        · replace hq := hq.2 c203
          refine x_iconst (v := 1) dX9_library_450 (by decide) ?_
          refine x_goto (tgt := 455) dX9_library_451 (by decide) ?_
          refine xP.pick (lv' := [(4, .int (aI h (fR h (fR h x0 2304) 516) (Int32.toNatClampNeg x2)))]) [1] rfl ?_
          exact uX9_library_455 hq
      replace hq := hq.2
      by_cases c204 : x1 = 86
      · replace hq := hq.1 c204
        refine x_tin (tgt := 474) (off := 268) 86 c204 dX9_library_206 (by decide) (by decide) (by decide) (by decide) ?_
        refine x_aload_n 3 dX9_library_474 rfl ?_
        refine x_iload_n 4 dX9_library_475 rfl ?_
        refine x_iload 0 dX9_library_476 rfl ?_
        refine x_iload 1 dX9_library_478 rfl ?_
        refine x_aload_n 3 dX9_library_480 rfl ?_
        have t205 : tg h147 x0 = 10 := by rw [e148]; exact g1
        refine x_get (v := rv (fR h147 x0 2304)) fdX9_75 dX9_library_481 t205 rfl ?_
        obtain ⟨g206, hq⟩ := hq
        refine x_getN (v := rv (fR h147 (fR h147 x0 2304) 515)) gfX9_224 dX9_library_484 g206 rfl ?_
        refine x_iload_n 5 dX9_library_487 rfl ?_
        obtain ⟨g207, hq⟩ := hq
        obtain ⟨i208, hq⟩ := hq
        refine x_iald 0 (Or.inl rfl) g207 i208 dX9_library_488 ?_
        obtain ⟨g209, g210, hq⟩ := hq
        refine x_callV (Yc := YX9_readsNumber) (as := [.int x1, .int (Int64.toInt32 (aJ h (fR h x0 2307) (Int32.toNatClampNeg ((fI h x0 2310) - 1)))), .int (aI h (fR h (fR h x0 2304) 516) (Int32.toNatClampNeg x2)), .int (aI h147 (fR h147 (fR h147 x0 2304) 515) (Int32.toNatClampNeg x2))]) (st := []) q3161 mvX9_readsNumber t205 rfl dX9_library_489 (xle (xal1 (rv_cat _) (xal1 rfl (xal1 rfl (xal1 rfl (xal1 rfl xal0))))) (by decide)) (xfr g209) (xlo xsw0 (by decide) g210) (xKv hq (fun h211 hq e213 => ?_) (fun _ _ q _ => q))
        replace hq := hq e213
        refine xP.pick (lv' := []) [] rfl ?_
        exact uX9_library_492 hq
      replace hq := hq.2
      by_cases c214 : x1 = 87
      · replace hq := hq.1 c214
        refine x_tin (tgt := 474) (off := 268) 87 c214 dX9_library_206 (by decide) (by decide) (by decide) (by decide) ?_
        refine x_aload_n 3 dX9_library_474 rfl ?_
        refine x_iload_n 4 dX9_library_475 rfl ?_
        refine x_iload 0 dX9_library_476 rfl ?_
        refine x_iload 1 dX9_library_478 rfl ?_
        refine x_aload_n 3 dX9_library_480 rfl ?_
        have t215 : tg h147 x0 = 10 := by rw [e148]; exact g1
        refine x_get (v := rv (fR h147 x0 2304)) fdX9_75 dX9_library_481 t215 rfl ?_
        obtain ⟨g216, hq⟩ := hq
        refine x_getN (v := rv (fR h147 (fR h147 x0 2304) 515)) gfX9_224 dX9_library_484 g216 rfl ?_
        refine x_iload_n 5 dX9_library_487 rfl ?_
        obtain ⟨g217, hq⟩ := hq
        obtain ⟨i218, hq⟩ := hq
        refine x_iald 0 (Or.inl rfl) g217 i218 dX9_library_488 ?_
        obtain ⟨g219, g220, hq⟩ := hq
        refine x_callV (Yc := YX9_readsNumber) (as := [.int x1, .int (Int64.toInt32 (aJ h (fR h x0 2307) (Int32.toNatClampNeg ((fI h x0 2310) - 1)))), .int (aI h (fR h (fR h x0 2304) 516) (Int32.toNatClampNeg x2)), .int (aI h147 (fR h147 (fR h147 x0 2304) 515) (Int32.toNatClampNeg x2))]) (st := []) q3161 mvX9_readsNumber t215 rfl dX9_library_489 (xle (xal1 (rv_cat _) (xal1 rfl (xal1 rfl (xal1 rfl (xal1 rfl xal0))))) (by decide)) (xfr g219) (xlo xsw0 (by decide) g220) (xKv hq (fun h221 hq e223 => ?_) (fun _ _ q _ => q))
        replace hq := hq e223
        refine xP.pick (lv' := []) [] rfl ?_
        exact uX9_library_492 hq
      replace hq := hq.2
      by_cases c224 : x1 = 88
      · replace hq := hq.1 c224
        refine x_tin (tgt := 474) (off := 268) 88 c224 dX9_library_206 (by decide) (by decide) (by decide) (by decide) ?_
        refine x_aload_n 3 dX9_library_474 rfl ?_
        refine x_iload_n 4 dX9_library_475 rfl ?_
        refine x_iload 0 dX9_library_476 rfl ?_
        refine x_iload 1 dX9_library_478 rfl ?_
        refine x_aload_n 3 dX9_library_480 rfl ?_
        have t225 : tg h147 x0 = 10 := by rw [e148]; exact g1
        refine x_get (v := rv (fR h147 x0 2304)) fdX9_75 dX9_library_481 t225 rfl ?_
        obtain ⟨g226, hq⟩ := hq
        refine x_getN (v := rv (fR h147 (fR h147 x0 2304) 515)) gfX9_224 dX9_library_484 g226 rfl ?_
        refine x_iload_n 5 dX9_library_487 rfl ?_
        obtain ⟨g227, hq⟩ := hq
        obtain ⟨i228, hq⟩ := hq
        refine x_iald 0 (Or.inl rfl) g227 i228 dX9_library_488 ?_
        obtain ⟨g229, g230, hq⟩ := hq
        refine x_callV (Yc := YX9_readsNumber) (as := [.int x1, .int (Int64.toInt32 (aJ h (fR h x0 2307) (Int32.toNatClampNeg ((fI h x0 2310) - 1)))), .int (aI h (fR h (fR h x0 2304) 516) (Int32.toNatClampNeg x2)), .int (aI h147 (fR h147 (fR h147 x0 2304) 515) (Int32.toNatClampNeg x2))]) (st := []) q3161 mvX9_readsNumber t225 rfl dX9_library_489 (xle (xal1 (rv_cat _) (xal1 rfl (xal1 rfl (xal1 rfl (xal1 rfl xal0))))) (by decide)) (xfr g229) (xlo xsw0 (by decide) g230) (xKv hq (fun h231 hq e233 => ?_) (fun _ _ q _ => q))
        replace hq := hq e233
        refine xP.pick (lv' := []) [] rfl ?_
        exact uX9_library_492 hq
      replace hq := hq.2
      by_cases c234 : x1 = 89
      · replace hq := hq.1 c234
        refine x_tin (tgt := 474) (off := 268) 89 c234 dX9_library_206 (by decide) (by decide) (by decide) (by decide) ?_
        refine x_aload_n 3 dX9_library_474 rfl ?_
        refine x_iload_n 4 dX9_library_475 rfl ?_
        refine x_iload 0 dX9_library_476 rfl ?_
        refine x_iload 1 dX9_library_478 rfl ?_
        refine x_aload_n 3 dX9_library_480 rfl ?_
        have t235 : tg h147 x0 = 10 := by rw [e148]; exact g1
        refine x_get (v := rv (fR h147 x0 2304)) fdX9_75 dX9_library_481 t235 rfl ?_
        obtain ⟨g236, hq⟩ := hq
        refine x_getN (v := rv (fR h147 (fR h147 x0 2304) 515)) gfX9_224 dX9_library_484 g236 rfl ?_
        refine x_iload_n 5 dX9_library_487 rfl ?_
        obtain ⟨g237, hq⟩ := hq
        obtain ⟨i238, hq⟩ := hq
        refine x_iald 0 (Or.inl rfl) g237 i238 dX9_library_488 ?_
        obtain ⟨g239, g240, hq⟩ := hq
        refine x_callV (Yc := YX9_readsNumber) (as := [.int x1, .int (Int64.toInt32 (aJ h (fR h x0 2307) (Int32.toNatClampNeg ((fI h x0 2310) - 1)))), .int (aI h (fR h (fR h x0 2304) 516) (Int32.toNatClampNeg x2)), .int (aI h147 (fR h147 (fR h147 x0 2304) 515) (Int32.toNatClampNeg x2))]) (st := []) q3161 mvX9_readsNumber t235 rfl dX9_library_489 (xle (xal1 (rv_cat _) (xal1 rfl (xal1 rfl (xal1 rfl (xal1 rfl xal0))))) (by decide)) (xfr g239) (xlo xsw0 (by decide) g240) (xKv hq (fun h241 hq e243 => ?_) (fun _ _ q _ => q))
        replace hq := hq e243
        refine xP.pick (lv' := []) [] rfl ?_
        exact uX9_library_492 hq
      replace hq := hq.2
      by_cases c244 : x1 = 90
      · replace hq := hq.1 c244
        refine x_tin (tgt := 474) (off := 268) 90 c244 dX9_library_206 (by decide) (by decide) (by decide) (by decide) ?_
        refine x_aload_n 3 dX9_library_474 rfl ?_
        refine x_iload_n 4 dX9_library_475 rfl ?_
        refine x_iload 0 dX9_library_476 rfl ?_
        refine x_iload 1 dX9_library_478 rfl ?_
        refine x_aload_n 3 dX9_library_480 rfl ?_
        have t245 : tg h147 x0 = 10 := by rw [e148]; exact g1
        refine x_get (v := rv (fR h147 x0 2304)) fdX9_75 dX9_library_481 t245 rfl ?_
        obtain ⟨g246, hq⟩ := hq
        refine x_getN (v := rv (fR h147 (fR h147 x0 2304) 515)) gfX9_224 dX9_library_484 g246 rfl ?_
        refine x_iload_n 5 dX9_library_487 rfl ?_
        obtain ⟨g247, hq⟩ := hq
        obtain ⟨i248, hq⟩ := hq
        refine x_iald 0 (Or.inl rfl) g247 i248 dX9_library_488 ?_
        obtain ⟨g249, g250, hq⟩ := hq
        refine x_callV (Yc := YX9_readsNumber) (as := [.int x1, .int (Int64.toInt32 (aJ h (fR h x0 2307) (Int32.toNatClampNeg ((fI h x0 2310) - 1)))), .int (aI h (fR h (fR h x0 2304) 516) (Int32.toNatClampNeg x2)), .int (aI h147 (fR h147 (fR h147 x0 2304) 515) (Int32.toNatClampNeg x2))]) (st := []) q3161 mvX9_readsNumber t245 rfl dX9_library_489 (xle (xal1 (rv_cat _) (xal1 rfl (xal1 rfl (xal1 rfl (xal1 rfl xal0))))) (by decide)) (xfr g249) (xlo xsw0 (by decide) g250) (xKv hq (fun h251 hq e253 => ?_) (fun _ _ q _ => q))
        replace hq := hq e253
        refine xP.pick (lv' := []) [] rfl ?_
        exact uX9_library_492 hq
      replace hq := hq.2
      by_cases c254 : x1 = 91
      · replace hq := hq.1 c254
        refine x_tin (tgt := 463) (off := 257) 91 c254 dX9_library_206 (by decide) (by decide) (by decide) (by decide) ?_
        refine x_aload_n 3 dX9_library_463 rfl ?_
        refine x_iload 0 dX9_library_464 rfl ?_
        refine x_iload 1 dX9_library_466 rfl ?_
        have t255 : tg h147 x0 = 10 := by rw [e148]; exact g1
        obtain ⟨g256, g257, hq⟩ := hq
        refine x_callV (Yc := YX9_passes) (as := [.int (Int64.toInt32 (aJ h (fR h x0 2307) (Int32.toNatClampNeg ((fI h x0 2310) - 1)))), .int (aI h (fR h (fR h x0 2304) 516) (Int32.toNatClampNeg x2))]) (st := []) q3157 mvX9_passes t255 rfl dX9_library_468 (xle (xal1 (rv_cat _) (xal1 rfl (xal1 rfl xal0))) (by decide)) (xfr g256) (xlo xsw0 (by decide) g257) (xKv hq (fun h258 hq e260 => ?_) (fun _ _ q _ => q))
        replace hq := hq e260
        refine x_goto (tgt := 492) dX9_library_471 (by decide) ?_
        refine xP.pick (lv' := []) [] rfl ?_
        exact uX9_library_492 hq
      replace hq := hq.2
      replace hq := hq c149 c163 c187 c196 c204 c214 c224 c234 c244 c254
      have nc149 := lv_neT c149 (show (82 : Int32).toInt = 82 from by decide)
      have nc163 := lv_neT c163 (show (83 : Int32).toInt = 83 from by decide)
      have nc187 := lv_neT c187 (show (84 : Int32).toInt = 84 from by decide)
      have nc196 := lv_neT c196 (show (85 : Int32).toInt = 85 from by decide)
      have nc204 := lv_neT c204 (show (86 : Int32).toInt = 86 from by decide)
      have nc214 := lv_neT c214 (show (87 : Int32).toInt = 87 from by decide)
      have nc224 := lv_neT c224 (show (88 : Int32).toInt = 88 from by decide)
      have nc234 := lv_neT c234 (show (89 : Int32).toInt = 89 from by decide)
      have nc244 := lv_neT c244 (show (90 : Int32).toInt = 90 from by decide)
      have nc254 := lv_neT c254 (show (91 : Int32).toInt = 91 from by decide)
      refine x_tout (tgt := 474) dX9_library_206 (by omega) (by decide) ?_
      refine x_aload_n 3 dX9_library_474 rfl ?_
      refine x_iload_n 4 dX9_library_475 rfl ?_
      refine x_iload 0 dX9_library_476 rfl ?_
      refine x_iload 1 dX9_library_478 rfl ?_
      refine x_aload_n 3 dX9_library_480 rfl ?_
      have t261 : tg h147 x0 = 10 := by rw [e148]; exact g1
      refine x_get (v := rv (fR h147 x0 2304)) fdX9_75 dX9_library_481 t261 rfl ?_
      obtain ⟨g262, hq⟩ := hq
      refine x_getN (v := rv (fR h147 (fR h147 x0 2304) 515)) gfX9_224 dX9_library_484 g262 rfl ?_
      refine x_iload_n 5 dX9_library_487 rfl ?_
      obtain ⟨g263, hq⟩ := hq
      obtain ⟨i264, hq⟩ := hq
      refine x_iald 0 (Or.inl rfl) g263 i264 dX9_library_488 ?_
      obtain ⟨g265, g266, hq⟩ := hq
      refine x_callV (Yc := YX9_readsNumber) (as := [.int x1, .int (Int64.toInt32 (aJ h (fR h x0 2307) (Int32.toNatClampNeg ((fI h x0 2310) - 1)))), .int (aI h (fR h (fR h x0 2304) 516) (Int32.toNatClampNeg x2)), .int (aI h147 (fR h147 (fR h147 x0 2304) 515) (Int32.toNatClampNeg x2))]) (st := []) q3161 mvX9_readsNumber t261 rfl dX9_library_489 (xle (xal1 (rv_cat _) (xal1 rfl (xal1 rfl (xal1 rfl (xal1 rfl xal0))))) (by decide)) (xfr g265) (xlo xsw0 (by decide) g266) (xKv hq (fun h267 hq e269 => ?_) (fun _ _ q _ => q))
      replace hq := hq e269
      refine xP.pick (lv' := []) [] rfl ?_
      exact uX9_library_492 hq
    replace hq := hq.2
    by_cases c270 : x1 = 84
    · replace hq := hq.1 c270
      refine x_tin (tgt := 195) (off := 146) 84 c270 dX9_library_49 (by decide) (by decide) (by decide) (by decide) ?_
      refine x_aload_n 3 dX9_library_195 rfl ?_
      refine x_dup dX9_library_196 (rv_cat _) ?_
      refine x_get (v := .int (fI h x0 2310)) fdX9_86 dX9_library_197 g1 rfl ?_
      refine x_iconst (v := 1) dX9_library_200 (by decide) ?_
      refine x_isub dX9_library_201 ?_
      obtain ⟨h271, e272⟩ : ∃ y, y = sI h x0 2310 ((fI h x0 2310) - 1) := ⟨_, rfl⟩
      replace hq := hq h271 e272
      refine x_putI fdX9_86 xty_I1 dX9_library_202 g1 (Or.inl (by rw [g1]; rfl)) xnI rfl e272 ?_
      refine x_iload_n 4 dX9_library_205 rfl ?_
      by_cases c273 : x1 = 82
      · replace hq := hq.1 c273
        refine x_tin (tgt := 260) (off := 54) 82 c273 dX9_library_206 (by decide) (by decide) (by decide) (by decide) ?_
        refine x_aload_n 3 dX9_library_260 rfl ?_
        have t274 : tg h271 x0 = 10 := by rw [e272]; exact g1
        refine x_get (v := rv (fR h271 x0 2306)) fdX9_23 dX9_library_261 t274 rfl ?_
        obtain ⟨g275, hq⟩ := hq
        refine x_getN (v := rv (fR h271 (fR h271 x0 2306) 2817)) gfX9_429 dX9_library_264 g275 rfl ?_
        refine x_iload 0 dX9_library_267 rfl ?_
        obtain ⟨g276, hq⟩ := hq
        obtain ⟨i277, hq⟩ := hq
        refine x_iald 0 (Or.inl rfl) g276 i277 dX9_library_269 ?_
        refine x_if_ne (tgt := 297) dX9_library_270 (by decide) (fun c278 => ?_) (fun c278 => ?_)
        · replace hq := hq.1 c278
          refine xP.pick (lv' := [(0, rv x0), (2, .int x2), (5, .int (Int64.toInt32 (aJ h (fR h x0 2307) (Int32.toNatClampNeg ((fI h x0 2310) - 1)))))]) [3, 5, 0] rfl ?_
          exact uX9_library_297 hq
        · replace hq := hq.2 c278
          refine x_aload_n 3 dX9_library_273 rfl ?_
          refine x_get (v := rv (fR h271 x0 2306)) fdX9_23 dX9_library_274 t274 rfl ?_
          refine x_getN (v := rv (fR h271 (fR h271 x0 2306) 2824)) gfX9_435 dX9_library_277 g275 rfl ?_
          refine x_iload 0 dX9_library_280 rfl ?_
          obtain ⟨g279, hq⟩ := hq
          obtain ⟨i280, hq⟩ := hq
          refine x_zald g279 i280 dX9_library_282 ?_
          refine x_if_ne (tgt := 297) dX9_library_283 (by decide) (fun c281 => ?_) (fun c281 => ?_)
          · replace hq := hq.1 c281
            refine xP.pick (lv' := [(0, rv x0), (2, .int x2), (5, .int (Int64.toInt32 (aJ h (fR h x0 2307) (Int32.toNatClampNeg ((fI h x0 2310) - 1)))))]) [3, 5, 0] rfl ?_
            exact uX9_library_297 hq
          · replace hq := hq.2 c281
            refine x_aload_n 3 dX9_library_286 rfl ?_
            refine x_bipush (v := 10) dX9_library_287 (by decide) ?_
            refine x_iload 1 dX9_library_289 rfl ?_
            obtain ⟨g282, g283, hq⟩ := hq
            refine x_callV (Yc := YX9_fail) (as := [.int 10, .int (aI h (fR h (fR h x0 2304) 516) (Int32.toNatClampNeg x2))]) (st := []) q2835 mvX9_fail t274 rfl dX9_library_291 (xle (xal1 (rv_cat _) (xal1 rfl (xal1 rfl xal0))) (by decide)) (xfr g282) (xlo xsw0 (by decide) g283) (xKv hq (fun h284 hq e286 => ?_) (fun _ _ q _ => q))
            replace hq := hq e286
            refine x_goto (tgt := 492) dX9_library_294 (by decide) ?_
            refine xP.pick (lv' := []) [] rfl ?_
            exact uX9_library_492 hq
      replace hq := hq.2
      by_cases c287 : x1 = 83
      · replace hq := hq.1 c287
        refine x_tin (tgt := 318) (off := 112) 83 c287 dX9_library_206 (by decide) (by decide) (by decide) (by decide) ?_
        refine x_aload_n 3 dX9_library_318 rfl ?_
        have t288 : tg h271 x0 = 10 := by rw [e272]; exact g1
        refine x_get (v := rv (fR h271 x0 2306)) fdX9_23 dX9_library_319 t288 rfl ?_
        refine x_iload 0 dX9_library_322 rfl ?_
        obtain ⟨g289, hq⟩ := hq
        obtain ⟨g290, g291, hq⟩ := hq
        refine x_callV (Yc := YX11_empty) (as := [.int (Int64.toInt32 (aJ h (fR h x0 2307) (Int32.toNatClampNeg ((fI h x0 2310) - 1))))]) (st := []) q3017 mvX11_empty g289 rfl dX9_library_324 (xle (xal1 (rv_cat _) (xal1 rfl xal0)) (by decide)) (xfr g290) (xlo xsw0 (by decide) g291) (xKv hq (fun h292 hq e294 => ?_) (fun _ _ q _ => q))
        replace hq := hq e294
        refine x_aload_n 3 dX9_library_327 rfl ?_
        have t295 : tg h292 x0 = 10 := e294.tg t288 (by decide)
        refine x_get (v := rv (fR h292 x0 2306)) fdX9_23 dX9_library_328 t295 rfl ?_
        obtain ⟨g296, hq⟩ := hq
        refine x_getN (v := rv (fR h292 (fR h292 x0 2306) 2817)) gfX9_429 dX9_library_331 g296 rfl ?_
        refine x_iload 0 dX9_library_334 rfl ?_
        refine x_iconst (v := 2) dX9_library_336 (by decide) ?_
        obtain ⟨g297, hq⟩ := hq
        obtain ⟨i298, hq⟩ := hq
        obtain ⟨h299, e300⟩ : ∃ y, y = tI h292 (fR h292 (fR h292 x0 2306) 2817) (Int32.toNatClampNeg (Int64.toInt32 (aJ h (fR h x0 2307) (Int32.toNatClampNeg ((fI h x0 2310) - 1))))) 2 := ⟨_, rfl⟩
        replace hq := hq h299 e300
        refine x_iast' g297 i298 dX9_library_337 e300 ?_
        refine x_aload_n 3 dX9_library_338 rfl ?_
        have t301 : tg h299 x0 = 10 := by rw [e300]; exact t295
        refine x_get (v := rv (fR h299 x0 2306)) fdX9_23 dX9_library_339 t301 rfl ?_
        refine x_iload 0 dX9_library_342 rfl ?_
        refine x_aload_n 3 dX9_library_344 rfl ?_
        refine x_get (v := rv (fR h299 x0 2304)) fdX9_75 dX9_library_345 t301 rfl ?_
        obtain ⟨g302, hq⟩ := hq
        refine x_getN (v := rv (fR h299 (fR h299 x0 2304) 514)) gfX9_204 dX9_library_348 g302 rfl ?_
        refine x_iload_n 5 dX9_library_351 rfl ?_
        obtain ⟨g303, hq⟩ := hq
        obtain ⟨i304, hq⟩ := hq
        refine x_iald 0 (Or.inl rfl) g303 i304 dX9_library_352 ?_
        obtain ⟨g305, hq⟩ := hq
        obtain ⟨g306, g307, hq⟩ := hq
        refine x_callV (Yc := YX11_bring) (as := [.int (Int64.toInt32 (aJ h (fR h x0 2307) (Int32.toNatClampNeg ((fI h x0 2310) - 1)))), .int (aI h299 (fR h299 (fR h299 x0 2304) 514) (Int32.toNatClampNeg x2))]) (st := []) q3144 mvX11_bring g305 rfl dX9_library_353 (xle (xal1 (rv_cat _) (xal1 rfl (xal1 rfl xal0))) (by decide)) (xfr g306) (xlo xsw0 (by decide) g307) (xKv hq (fun h308 hq e310 => ?_) (fun _ _ q _ => q))
        replace hq := hq e310
        refine x_goto (tgt := 492) dX9_library_356 (by decide) ?_
        refine xP.pick (lv' := []) [] rfl ?_
        exact uX9_library_492 hq
      replace hq := hq.2
      by_cases c311 : x1 = 84
      · replace hq := hq.1 c311
        refine x_tin (tgt := 359) (off := 153) 84 c311 dX9_library_206 (by decide) (by decide) (by decide) (by decide) ?_
        refine x_aload_n 3 dX9_library_359 rfl ?_
        have t312 : tg h271 x0 = 10 := by rw [e272]; exact g1
        refine x_get (v := rv (fR h271 x0 2306)) fdX9_23 dX9_library_360 t312 rfl ?_
        obtain ⟨g313, hq⟩ := hq
        refine x_getN (v := rv (fR h271 (fR h271 x0 2306) 2817)) gfX9_429 dX9_library_363 g313 rfl ?_
        refine x_iload 0 dX9_library_366 rfl ?_
        obtain ⟨g314, hq⟩ := hq
        obtain ⟨i315, hq⟩ := hq
        refine x_iald 0 (Or.inl rfl) g314 i315 dX9_library_368 ?_
        refine x_iconst (v := 1) dX9_library_369 (by decide) ?_
        refine x_icmp_ne (tgt := 387) dX9_library_370 (by decide) (fun c316 => ?_) (fun c316 => ?_)
        · replace hq := hq.1 c316
          refine xP.pick (lv' := [(0, rv x0), (2, .int x2), (4, .int (aI h (fR h (fR h x0 2304) 516) (Int32.toNatClampNeg x2))), (5, .int (Int64.toInt32 (aJ h (fR h x0 2307) (Int32.toNatClampNeg ((fI h x0 2310) - 1)))))]) [3, 5, 1, 0] rfl ?_
          exact uX9_library_387 hq
        · replace hq := hq.2 c316
          refine x_aload_n 3 dX9_library_373 rfl ?_
          refine x_get (v := rv (fR h271 x0 2306)) fdX9_23 dX9_library_374 t312 rfl ?_
          refine x_getN (v := rv (fR h271 (fR h271 x0 2306) 2820)) gfX9_432 dX9_library_377 g313 rfl ?_
          refine x_iload 0 dX9_library_380 rfl ?_
          obtain ⟨g317, hq⟩ := hq
          obtain ⟨i318, hq⟩ := hq
          refine x_iald 0 (Or.inl rfl) g317 i318 dX9_library_382 ?_
          refine x_iconst (v := (-1)) dX9_library_383 (by decide) ?_
          refine x_icmp_ne (tgt := 395) dX9_library_384 (by decide) (fun c319 => ?_) (fun c319 => ?_)
          · replace hq := hq.1 c319
            refine xP.pick (lv' := [(0, rv x0), (2, .int x2), (5, .int (Int64.toInt32 (aJ h (fR h x0 2307) (Int32.toNatClampNeg ((fI h x0 2310) - 1)))))]) [3, 5, 0] rfl ?_
            exact uX9_library_395 hq
          · replace hq := hq.2 c319
            refine xP.pick (lv' := [(0, rv x0), (2, .int x2), (4, .int (aI h (fR h (fR h x0 2304) 516) (Int32.toNatClampNeg x2))), (5, .int (Int64.toInt32 (aJ h (fR h x0 2307) (Int32.toNatClampNeg ((fI h x0 2310) - 1)))))]) [3, 5, 1, 0] rfl ?_
            exact uX9_library_387 hq
      replace hq := hq.2
      by_cases c320 : x1 = 85
      · replace hq := hq.1 c320
        refine x_tin (tgt := 425) (off := 219) 85 c320 dX9_library_206 (by decide) (by decide) (by decide) (by decide) ?_
        refine x_aload_n 3 dX9_library_425 rfl ?_
        refine x_iload 0 dX9_library_426 rfl ?_
        refine x_aload_n 3 dX9_library_428 rfl ?_
        have t321 : tg h271 x0 = 10 := by rw [e272]; exact g1
        refine x_get (v := rv (fR h271 x0 2304)) fdX9_75 dX9_library_429 t321 rfl ?_
        obtain ⟨g322, hq⟩ := hq
        refine x_getN (v := rv (fR h271 (fR h271 x0 2304) 514)) gfX9_204 dX9_library_432 g322 rfl ?_
        refine x_iload_n 5 dX9_library_435 rfl ?_
        obtain ⟨g323, hq⟩ := hq
        obtain ⟨i324, hq⟩ := hq
        refine x_iald 0 (Or.inl rfl) g323 i324 dX9_library_436 ?_
        refine x_aload_n 3 dX9_library_437 rfl ?_
        refine x_get (v := rv (fR h271 x0 2304)) fdX9_75 dX9_library_438 t321 rfl ?_
        refine x_getN (v := rv (fR h271 (fR h271 x0 2304) 515)) gfX9_224 dX9_library_441 g322 rfl ?_
        refine x_iload_n 5 dX9_library_444 rfl ?_
        obtain ⟨g325, hq⟩ := hq
        obtain ⟨i326, hq⟩ := hq
        refine x_iald 0 (Or.inl rfl) g325 i326 dX9_library_445 ?_
        refine x_iconst (v := 1) dX9_library_446 (by decide) ?_
        refine x_icmp_ne (tgt := 454) dX9_library_447 (by decide) (fun c327 => ?_) (fun c327 => ?_)
        · replace hq := hq.1 c327
          refine x_iconst (v := 0) dX9_library_454 (by decide) ?_
          refine xP.pick (lv' := [(4, .int (aI h (fR h (fR h x0 2304) 516) (Int32.toNatClampNeg x2)))]) [1] rfl ?_
          exact uX9_library_455 hq
        · replace hq := hq.2 c327
          refine x_iconst (v := 1) dX9_library_450 (by decide) ?_
          refine x_goto (tgt := 455) dX9_library_451 (by decide) ?_
          refine xP.pick (lv' := [(4, .int (aI h (fR h (fR h x0 2304) 516) (Int32.toNatClampNeg x2)))]) [1] rfl ?_
          exact uX9_library_455 hq
      replace hq := hq.2
      by_cases c328 : x1 = 86
      · replace hq := hq.1 c328
        refine x_tin (tgt := 474) (off := 268) 86 c328 dX9_library_206 (by decide) (by decide) (by decide) (by decide) ?_
        refine x_aload_n 3 dX9_library_474 rfl ?_
        refine x_iload_n 4 dX9_library_475 rfl ?_
        refine x_iload 0 dX9_library_476 rfl ?_
        refine x_iload 1 dX9_library_478 rfl ?_
        refine x_aload_n 3 dX9_library_480 rfl ?_
        have t329 : tg h271 x0 = 10 := by rw [e272]; exact g1
        refine x_get (v := rv (fR h271 x0 2304)) fdX9_75 dX9_library_481 t329 rfl ?_
        obtain ⟨g330, hq⟩ := hq
        refine x_getN (v := rv (fR h271 (fR h271 x0 2304) 515)) gfX9_224 dX9_library_484 g330 rfl ?_
        refine x_iload_n 5 dX9_library_487 rfl ?_
        obtain ⟨g331, hq⟩ := hq
        obtain ⟨i332, hq⟩ := hq
        refine x_iald 0 (Or.inl rfl) g331 i332 dX9_library_488 ?_
        obtain ⟨g333, g334, hq⟩ := hq
        refine x_callV (Yc := YX9_readsNumber) (as := [.int x1, .int (Int64.toInt32 (aJ h (fR h x0 2307) (Int32.toNatClampNeg ((fI h x0 2310) - 1)))), .int (aI h (fR h (fR h x0 2304) 516) (Int32.toNatClampNeg x2)), .int (aI h271 (fR h271 (fR h271 x0 2304) 515) (Int32.toNatClampNeg x2))]) (st := []) q3161 mvX9_readsNumber t329 rfl dX9_library_489 (xle (xal1 (rv_cat _) (xal1 rfl (xal1 rfl (xal1 rfl (xal1 rfl xal0))))) (by decide)) (xfr g333) (xlo xsw0 (by decide) g334) (xKv hq (fun h335 hq e337 => ?_) (fun _ _ q _ => q))
        replace hq := hq e337
        refine xP.pick (lv' := []) [] rfl ?_
        exact uX9_library_492 hq
      replace hq := hq.2
      by_cases c338 : x1 = 87
      · replace hq := hq.1 c338
        refine x_tin (tgt := 474) (off := 268) 87 c338 dX9_library_206 (by decide) (by decide) (by decide) (by decide) ?_
        refine x_aload_n 3 dX9_library_474 rfl ?_
        refine x_iload_n 4 dX9_library_475 rfl ?_
        refine x_iload 0 dX9_library_476 rfl ?_
        refine x_iload 1 dX9_library_478 rfl ?_
        refine x_aload_n 3 dX9_library_480 rfl ?_
        have t339 : tg h271 x0 = 10 := by rw [e272]; exact g1
        refine x_get (v := rv (fR h271 x0 2304)) fdX9_75 dX9_library_481 t339 rfl ?_
        obtain ⟨g340, hq⟩ := hq
        refine x_getN (v := rv (fR h271 (fR h271 x0 2304) 515)) gfX9_224 dX9_library_484 g340 rfl ?_
        refine x_iload_n 5 dX9_library_487 rfl ?_
        obtain ⟨g341, hq⟩ := hq
        obtain ⟨i342, hq⟩ := hq
        refine x_iald 0 (Or.inl rfl) g341 i342 dX9_library_488 ?_
        obtain ⟨g343, g344, hq⟩ := hq
        refine x_callV (Yc := YX9_readsNumber) (as := [.int x1, .int (Int64.toInt32 (aJ h (fR h x0 2307) (Int32.toNatClampNeg ((fI h x0 2310) - 1)))), .int (aI h (fR h (fR h x0 2304) 516) (Int32.toNatClampNeg x2)), .int (aI h271 (fR h271 (fR h271 x0 2304) 515) (Int32.toNatClampNeg x2))]) (st := []) q3161 mvX9_readsNumber t339 rfl dX9_library_489 (xle (xal1 (rv_cat _) (xal1 rfl (xal1 rfl (xal1 rfl (xal1 rfl xal0))))) (by decide)) (xfr g343) (xlo xsw0 (by decide) g344) (xKv hq (fun h345 hq e347 => ?_) (fun _ _ q _ => q))
        replace hq := hq e347
        refine xP.pick (lv' := []) [] rfl ?_
        exact uX9_library_492 hq
      replace hq := hq.2
      by_cases c348 : x1 = 88
      · replace hq := hq.1 c348
        refine x_tin (tgt := 474) (off := 268) 88 c348 dX9_library_206 (by decide) (by decide) (by decide) (by decide) ?_
        refine x_aload_n 3 dX9_library_474 rfl ?_
        refine x_iload_n 4 dX9_library_475 rfl ?_
        refine x_iload 0 dX9_library_476 rfl ?_
        refine x_iload 1 dX9_library_478 rfl ?_
        refine x_aload_n 3 dX9_library_480 rfl ?_
        have t349 : tg h271 x0 = 10 := by rw [e272]; exact g1
        refine x_get (v := rv (fR h271 x0 2304)) fdX9_75 dX9_library_481 t349 rfl ?_
        obtain ⟨g350, hq⟩ := hq
        refine x_getN (v := rv (fR h271 (fR h271 x0 2304) 515)) gfX9_224 dX9_library_484 g350 rfl ?_
        refine x_iload_n 5 dX9_library_487 rfl ?_
        obtain ⟨g351, hq⟩ := hq
        obtain ⟨i352, hq⟩ := hq
        refine x_iald 0 (Or.inl rfl) g351 i352 dX9_library_488 ?_
        obtain ⟨g353, g354, hq⟩ := hq
        refine x_callV (Yc := YX9_readsNumber) (as := [.int x1, .int (Int64.toInt32 (aJ h (fR h x0 2307) (Int32.toNatClampNeg ((fI h x0 2310) - 1)))), .int (aI h (fR h (fR h x0 2304) 516) (Int32.toNatClampNeg x2)), .int (aI h271 (fR h271 (fR h271 x0 2304) 515) (Int32.toNatClampNeg x2))]) (st := []) q3161 mvX9_readsNumber t349 rfl dX9_library_489 (xle (xal1 (rv_cat _) (xal1 rfl (xal1 rfl (xal1 rfl (xal1 rfl xal0))))) (by decide)) (xfr g353) (xlo xsw0 (by decide) g354) (xKv hq (fun h355 hq e357 => ?_) (fun _ _ q _ => q))
        replace hq := hq e357
        refine xP.pick (lv' := []) [] rfl ?_
        exact uX9_library_492 hq
      replace hq := hq.2
      by_cases c358 : x1 = 89
      · replace hq := hq.1 c358
        refine x_tin (tgt := 474) (off := 268) 89 c358 dX9_library_206 (by decide) (by decide) (by decide) (by decide) ?_
        refine x_aload_n 3 dX9_library_474 rfl ?_
        refine x_iload_n 4 dX9_library_475 rfl ?_
        refine x_iload 0 dX9_library_476 rfl ?_
        refine x_iload 1 dX9_library_478 rfl ?_
        refine x_aload_n 3 dX9_library_480 rfl ?_
        have t359 : tg h271 x0 = 10 := by rw [e272]; exact g1
        refine x_get (v := rv (fR h271 x0 2304)) fdX9_75 dX9_library_481 t359 rfl ?_
        obtain ⟨g360, hq⟩ := hq
        refine x_getN (v := rv (fR h271 (fR h271 x0 2304) 515)) gfX9_224 dX9_library_484 g360 rfl ?_
        refine x_iload_n 5 dX9_library_487 rfl ?_
        obtain ⟨g361, hq⟩ := hq
        obtain ⟨i362, hq⟩ := hq
        refine x_iald 0 (Or.inl rfl) g361 i362 dX9_library_488 ?_
        obtain ⟨g363, g364, hq⟩ := hq
        refine x_callV (Yc := YX9_readsNumber) (as := [.int x1, .int (Int64.toInt32 (aJ h (fR h x0 2307) (Int32.toNatClampNeg ((fI h x0 2310) - 1)))), .int (aI h (fR h (fR h x0 2304) 516) (Int32.toNatClampNeg x2)), .int (aI h271 (fR h271 (fR h271 x0 2304) 515) (Int32.toNatClampNeg x2))]) (st := []) q3161 mvX9_readsNumber t359 rfl dX9_library_489 (xle (xal1 (rv_cat _) (xal1 rfl (xal1 rfl (xal1 rfl (xal1 rfl xal0))))) (by decide)) (xfr g363) (xlo xsw0 (by decide) g364) (xKv hq (fun h365 hq e367 => ?_) (fun _ _ q _ => q))
        replace hq := hq e367
        refine xP.pick (lv' := []) [] rfl ?_
        exact uX9_library_492 hq
      replace hq := hq.2
      by_cases c368 : x1 = 90
      · replace hq := hq.1 c368
        refine x_tin (tgt := 474) (off := 268) 90 c368 dX9_library_206 (by decide) (by decide) (by decide) (by decide) ?_
        refine x_aload_n 3 dX9_library_474 rfl ?_
        refine x_iload_n 4 dX9_library_475 rfl ?_
        refine x_iload 0 dX9_library_476 rfl ?_
        refine x_iload 1 dX9_library_478 rfl ?_
        refine x_aload_n 3 dX9_library_480 rfl ?_
        have t369 : tg h271 x0 = 10 := by rw [e272]; exact g1
        refine x_get (v := rv (fR h271 x0 2304)) fdX9_75 dX9_library_481 t369 rfl ?_
        obtain ⟨g370, hq⟩ := hq
        refine x_getN (v := rv (fR h271 (fR h271 x0 2304) 515)) gfX9_224 dX9_library_484 g370 rfl ?_
        refine x_iload_n 5 dX9_library_487 rfl ?_
        obtain ⟨g371, hq⟩ := hq
        obtain ⟨i372, hq⟩ := hq
        refine x_iald 0 (Or.inl rfl) g371 i372 dX9_library_488 ?_
        obtain ⟨g373, g374, hq⟩ := hq
        refine x_callV (Yc := YX9_readsNumber) (as := [.int x1, .int (Int64.toInt32 (aJ h (fR h x0 2307) (Int32.toNatClampNeg ((fI h x0 2310) - 1)))), .int (aI h (fR h (fR h x0 2304) 516) (Int32.toNatClampNeg x2)), .int (aI h271 (fR h271 (fR h271 x0 2304) 515) (Int32.toNatClampNeg x2))]) (st := []) q3161 mvX9_readsNumber t369 rfl dX9_library_489 (xle (xal1 (rv_cat _) (xal1 rfl (xal1 rfl (xal1 rfl (xal1 rfl xal0))))) (by decide)) (xfr g373) (xlo xsw0 (by decide) g374) (xKv hq (fun h375 hq e377 => ?_) (fun _ _ q _ => q))
        replace hq := hq e377
        refine xP.pick (lv' := []) [] rfl ?_
        exact uX9_library_492 hq
      replace hq := hq.2
      by_cases c378 : x1 = 91
      · replace hq := hq.1 c378
        refine x_tin (tgt := 463) (off := 257) 91 c378 dX9_library_206 (by decide) (by decide) (by decide) (by decide) ?_
        refine x_aload_n 3 dX9_library_463 rfl ?_
        refine x_iload 0 dX9_library_464 rfl ?_
        refine x_iload 1 dX9_library_466 rfl ?_
        have t379 : tg h271 x0 = 10 := by rw [e272]; exact g1
        obtain ⟨g380, g381, hq⟩ := hq
        refine x_callV (Yc := YX9_passes) (as := [.int (Int64.toInt32 (aJ h (fR h x0 2307) (Int32.toNatClampNeg ((fI h x0 2310) - 1)))), .int (aI h (fR h (fR h x0 2304) 516) (Int32.toNatClampNeg x2))]) (st := []) q3157 mvX9_passes t379 rfl dX9_library_468 (xle (xal1 (rv_cat _) (xal1 rfl (xal1 rfl xal0))) (by decide)) (xfr g380) (xlo xsw0 (by decide) g381) (xKv hq (fun h382 hq e384 => ?_) (fun _ _ q _ => q))
        replace hq := hq e384
        refine x_goto (tgt := 492) dX9_library_471 (by decide) ?_
        refine xP.pick (lv' := []) [] rfl ?_
        exact uX9_library_492 hq
      replace hq := hq.2
      replace hq := hq c273 c287 c311 c320 c328 c338 c348 c358 c368 c378
      have nc273 := lv_neT c273 (show (82 : Int32).toInt = 82 from by decide)
      have nc287 := lv_neT c287 (show (83 : Int32).toInt = 83 from by decide)
      have nc311 := lv_neT c311 (show (84 : Int32).toInt = 84 from by decide)
      have nc320 := lv_neT c320 (show (85 : Int32).toInt = 85 from by decide)
      have nc328 := lv_neT c328 (show (86 : Int32).toInt = 86 from by decide)
      have nc338 := lv_neT c338 (show (87 : Int32).toInt = 87 from by decide)
      have nc348 := lv_neT c348 (show (88 : Int32).toInt = 88 from by decide)
      have nc358 := lv_neT c358 (show (89 : Int32).toInt = 89 from by decide)
      have nc368 := lv_neT c368 (show (90 : Int32).toInt = 90 from by decide)
      have nc378 := lv_neT c378 (show (91 : Int32).toInt = 91 from by decide)
      refine x_tout (tgt := 474) dX9_library_206 (by omega) (by decide) ?_
      refine x_aload_n 3 dX9_library_474 rfl ?_
      refine x_iload_n 4 dX9_library_475 rfl ?_
      refine x_iload 0 dX9_library_476 rfl ?_
      refine x_iload 1 dX9_library_478 rfl ?_
      refine x_aload_n 3 dX9_library_480 rfl ?_
      have t385 : tg h271 x0 = 10 := by rw [e272]; exact g1
      refine x_get (v := rv (fR h271 x0 2304)) fdX9_75 dX9_library_481 t385 rfl ?_
      obtain ⟨g386, hq⟩ := hq
      refine x_getN (v := rv (fR h271 (fR h271 x0 2304) 515)) gfX9_224 dX9_library_484 g386 rfl ?_
      refine x_iload_n 5 dX9_library_487 rfl ?_
      obtain ⟨g387, hq⟩ := hq
      obtain ⟨i388, hq⟩ := hq
      refine x_iald 0 (Or.inl rfl) g387 i388 dX9_library_488 ?_
      obtain ⟨g389, g390, hq⟩ := hq
      refine x_callV (Yc := YX9_readsNumber) (as := [.int x1, .int (Int64.toInt32 (aJ h (fR h x0 2307) (Int32.toNatClampNeg ((fI h x0 2310) - 1)))), .int (aI h (fR h (fR h x0 2304) 516) (Int32.toNatClampNeg x2)), .int (aI h271 (fR h271 (fR h271 x0 2304) 515) (Int32.toNatClampNeg x2))]) (st := []) q3161 mvX9_readsNumber t385 rfl dX9_library_489 (xle (xal1 (rv_cat _) (xal1 rfl (xal1 rfl (xal1 rfl (xal1 rfl xal0))))) (by decide)) (xfr g389) (xlo xsw0 (by decide) g390) (xKv hq (fun h391 hq e393 => ?_) (fun _ _ q _ => q))
      replace hq := hq e393
      refine xP.pick (lv' := []) [] rfl ?_
      exact uX9_library_492 hq
    replace hq := hq.2
    by_cases c394 : x1 = 85
    · replace hq := hq.1 c394
      refine x_tin (tgt := 195) (off := 146) 85 c394 dX9_library_49 (by decide) (by decide) (by decide) (by decide) ?_
      refine x_aload_n 3 dX9_library_195 rfl ?_
      refine x_dup dX9_library_196 (rv_cat _) ?_
      refine x_get (v := .int (fI h x0 2310)) fdX9_86 dX9_library_197 g1 rfl ?_
      refine x_iconst (v := 1) dX9_library_200 (by decide) ?_
      refine x_isub dX9_library_201 ?_
      obtain ⟨h395, e396⟩ : ∃ y, y = sI h x0 2310 ((fI h x0 2310) - 1) := ⟨_, rfl⟩
      replace hq := hq h395 e396
      refine x_putI fdX9_86 xty_I1 dX9_library_202 g1 (Or.inl (by rw [g1]; rfl)) xnI rfl e396 ?_
      refine x_iload_n 4 dX9_library_205 rfl ?_
      by_cases c397 : x1 = 82
      · replace hq := hq.1 c397
        refine x_tin (tgt := 260) (off := 54) 82 c397 dX9_library_206 (by decide) (by decide) (by decide) (by decide) ?_
        refine x_aload_n 3 dX9_library_260 rfl ?_
        have t398 : tg h395 x0 = 10 := by rw [e396]; exact g1
        refine x_get (v := rv (fR h395 x0 2306)) fdX9_23 dX9_library_261 t398 rfl ?_
        obtain ⟨g399, hq⟩ := hq
        refine x_getN (v := rv (fR h395 (fR h395 x0 2306) 2817)) gfX9_429 dX9_library_264 g399 rfl ?_
        refine x_iload 0 dX9_library_267 rfl ?_
        obtain ⟨g400, hq⟩ := hq
        obtain ⟨i401, hq⟩ := hq
        refine x_iald 0 (Or.inl rfl) g400 i401 dX9_library_269 ?_
        refine x_if_ne (tgt := 297) dX9_library_270 (by decide) (fun c402 => ?_) (fun c402 => ?_)
        · replace hq := hq.1 c402
          refine xP.pick (lv' := [(0, rv x0), (2, .int x2), (5, .int (Int64.toInt32 (aJ h (fR h x0 2307) (Int32.toNatClampNeg ((fI h x0 2310) - 1)))))]) [3, 5, 0] rfl ?_
          exact uX9_library_297 hq
        · replace hq := hq.2 c402
          refine x_aload_n 3 dX9_library_273 rfl ?_
          refine x_get (v := rv (fR h395 x0 2306)) fdX9_23 dX9_library_274 t398 rfl ?_
          refine x_getN (v := rv (fR h395 (fR h395 x0 2306) 2824)) gfX9_435 dX9_library_277 g399 rfl ?_
          refine x_iload 0 dX9_library_280 rfl ?_
          obtain ⟨g403, hq⟩ := hq
          obtain ⟨i404, hq⟩ := hq
          refine x_zald g403 i404 dX9_library_282 ?_
          refine x_if_ne (tgt := 297) dX9_library_283 (by decide) (fun c405 => ?_) (fun c405 => ?_)
          · replace hq := hq.1 c405
            refine xP.pick (lv' := [(0, rv x0), (2, .int x2), (5, .int (Int64.toInt32 (aJ h (fR h x0 2307) (Int32.toNatClampNeg ((fI h x0 2310) - 1)))))]) [3, 5, 0] rfl ?_
            exact uX9_library_297 hq
          · replace hq := hq.2 c405
            refine x_aload_n 3 dX9_library_286 rfl ?_
            refine x_bipush (v := 10) dX9_library_287 (by decide) ?_
            refine x_iload 1 dX9_library_289 rfl ?_
            obtain ⟨g406, g407, hq⟩ := hq
            refine x_callV (Yc := YX9_fail) (as := [.int 10, .int (aI h (fR h (fR h x0 2304) 516) (Int32.toNatClampNeg x2))]) (st := []) q2835 mvX9_fail t398 rfl dX9_library_291 (xle (xal1 (rv_cat _) (xal1 rfl (xal1 rfl xal0))) (by decide)) (xfr g406) (xlo xsw0 (by decide) g407) (xKv hq (fun h408 hq e410 => ?_) (fun _ _ q _ => q))
            replace hq := hq e410
            refine x_goto (tgt := 492) dX9_library_294 (by decide) ?_
            refine xP.pick (lv' := []) [] rfl ?_
            exact uX9_library_492 hq
      replace hq := hq.2
      by_cases c411 : x1 = 83
      · replace hq := hq.1 c411
        refine x_tin (tgt := 318) (off := 112) 83 c411 dX9_library_206 (by decide) (by decide) (by decide) (by decide) ?_
        refine x_aload_n 3 dX9_library_318 rfl ?_
        have t412 : tg h395 x0 = 10 := by rw [e396]; exact g1
        refine x_get (v := rv (fR h395 x0 2306)) fdX9_23 dX9_library_319 t412 rfl ?_
        refine x_iload 0 dX9_library_322 rfl ?_
        obtain ⟨g413, hq⟩ := hq
        obtain ⟨g414, g415, hq⟩ := hq
        refine x_callV (Yc := YX11_empty) (as := [.int (Int64.toInt32 (aJ h (fR h x0 2307) (Int32.toNatClampNeg ((fI h x0 2310) - 1))))]) (st := []) q3017 mvX11_empty g413 rfl dX9_library_324 (xle (xal1 (rv_cat _) (xal1 rfl xal0)) (by decide)) (xfr g414) (xlo xsw0 (by decide) g415) (xKv hq (fun h416 hq e418 => ?_) (fun _ _ q _ => q))
        replace hq := hq e418
        refine x_aload_n 3 dX9_library_327 rfl ?_
        have t419 : tg h416 x0 = 10 := e418.tg t412 (by decide)
        refine x_get (v := rv (fR h416 x0 2306)) fdX9_23 dX9_library_328 t419 rfl ?_
        obtain ⟨g420, hq⟩ := hq
        refine x_getN (v := rv (fR h416 (fR h416 x0 2306) 2817)) gfX9_429 dX9_library_331 g420 rfl ?_
        refine x_iload 0 dX9_library_334 rfl ?_
        refine x_iconst (v := 2) dX9_library_336 (by decide) ?_
        obtain ⟨g421, hq⟩ := hq
        obtain ⟨i422, hq⟩ := hq
        obtain ⟨h423, e424⟩ : ∃ y, y = tI h416 (fR h416 (fR h416 x0 2306) 2817) (Int32.toNatClampNeg (Int64.toInt32 (aJ h (fR h x0 2307) (Int32.toNatClampNeg ((fI h x0 2310) - 1))))) 2 := ⟨_, rfl⟩
        replace hq := hq h423 e424
        refine x_iast' g421 i422 dX9_library_337 e424 ?_
        refine x_aload_n 3 dX9_library_338 rfl ?_
        have t425 : tg h423 x0 = 10 := by rw [e424]; exact t419
        refine x_get (v := rv (fR h423 x0 2306)) fdX9_23 dX9_library_339 t425 rfl ?_
        refine x_iload 0 dX9_library_342 rfl ?_
        refine x_aload_n 3 dX9_library_344 rfl ?_
        refine x_get (v := rv (fR h423 x0 2304)) fdX9_75 dX9_library_345 t425 rfl ?_
        obtain ⟨g426, hq⟩ := hq
        refine x_getN (v := rv (fR h423 (fR h423 x0 2304) 514)) gfX9_204 dX9_library_348 g426 rfl ?_
        refine x_iload_n 5 dX9_library_351 rfl ?_
        obtain ⟨g427, hq⟩ := hq
        obtain ⟨i428, hq⟩ := hq
        refine x_iald 0 (Or.inl rfl) g427 i428 dX9_library_352 ?_
        obtain ⟨g429, hq⟩ := hq
        obtain ⟨g430, g431, hq⟩ := hq
        refine x_callV (Yc := YX11_bring) (as := [.int (Int64.toInt32 (aJ h (fR h x0 2307) (Int32.toNatClampNeg ((fI h x0 2310) - 1)))), .int (aI h423 (fR h423 (fR h423 x0 2304) 514) (Int32.toNatClampNeg x2))]) (st := []) q3144 mvX11_bring g429 rfl dX9_library_353 (xle (xal1 (rv_cat _) (xal1 rfl (xal1 rfl xal0))) (by decide)) (xfr g430) (xlo xsw0 (by decide) g431) (xKv hq (fun h432 hq e434 => ?_) (fun _ _ q _ => q))
        replace hq := hq e434
        refine x_goto (tgt := 492) dX9_library_356 (by decide) ?_
        refine xP.pick (lv' := []) [] rfl ?_
        exact uX9_library_492 hq
      replace hq := hq.2
      by_cases c435 : x1 = 84
      · replace hq := hq.1 c435
        refine x_tin (tgt := 359) (off := 153) 84 c435 dX9_library_206 (by decide) (by decide) (by decide) (by decide) ?_
        refine x_aload_n 3 dX9_library_359 rfl ?_
        have t436 : tg h395 x0 = 10 := by rw [e396]; exact g1
        refine x_get (v := rv (fR h395 x0 2306)) fdX9_23 dX9_library_360 t436 rfl ?_
        obtain ⟨g437, hq⟩ := hq
        refine x_getN (v := rv (fR h395 (fR h395 x0 2306) 2817)) gfX9_429 dX9_library_363 g437 rfl ?_
        refine x_iload 0 dX9_library_366 rfl ?_
        obtain ⟨g438, hq⟩ := hq
        obtain ⟨i439, hq⟩ := hq
        refine x_iald 0 (Or.inl rfl) g438 i439 dX9_library_368 ?_
        refine x_iconst (v := 1) dX9_library_369 (by decide) ?_
        refine x_icmp_ne (tgt := 387) dX9_library_370 (by decide) (fun c440 => ?_) (fun c440 => ?_)
        · replace hq := hq.1 c440
          refine xP.pick (lv' := [(0, rv x0), (2, .int x2), (4, .int (aI h (fR h (fR h x0 2304) 516) (Int32.toNatClampNeg x2))), (5, .int (Int64.toInt32 (aJ h (fR h x0 2307) (Int32.toNatClampNeg ((fI h x0 2310) - 1)))))]) [3, 5, 1, 0] rfl ?_
          exact uX9_library_387 hq
        · replace hq := hq.2 c440
          refine x_aload_n 3 dX9_library_373 rfl ?_
          refine x_get (v := rv (fR h395 x0 2306)) fdX9_23 dX9_library_374 t436 rfl ?_
          refine x_getN (v := rv (fR h395 (fR h395 x0 2306) 2820)) gfX9_432 dX9_library_377 g437 rfl ?_
          refine x_iload 0 dX9_library_380 rfl ?_
          obtain ⟨g441, hq⟩ := hq
          obtain ⟨i442, hq⟩ := hq
          refine x_iald 0 (Or.inl rfl) g441 i442 dX9_library_382 ?_
          refine x_iconst (v := (-1)) dX9_library_383 (by decide) ?_
          refine x_icmp_ne (tgt := 395) dX9_library_384 (by decide) (fun c443 => ?_) (fun c443 => ?_)
          · replace hq := hq.1 c443
            refine xP.pick (lv' := [(0, rv x0), (2, .int x2), (5, .int (Int64.toInt32 (aJ h (fR h x0 2307) (Int32.toNatClampNeg ((fI h x0 2310) - 1)))))]) [3, 5, 0] rfl ?_
            exact uX9_library_395 hq
          · replace hq := hq.2 c443
            refine xP.pick (lv' := [(0, rv x0), (2, .int x2), (4, .int (aI h (fR h (fR h x0 2304) 516) (Int32.toNatClampNeg x2))), (5, .int (Int64.toInt32 (aJ h (fR h x0 2307) (Int32.toNatClampNeg ((fI h x0 2310) - 1)))))]) [3, 5, 1, 0] rfl ?_
            exact uX9_library_387 hq
      replace hq := hq.2
      by_cases c444 : x1 = 85
      · replace hq := hq.1 c444
        refine x_tin (tgt := 425) (off := 219) 85 c444 dX9_library_206 (by decide) (by decide) (by decide) (by decide) ?_
        refine x_aload_n 3 dX9_library_425 rfl ?_
        refine x_iload 0 dX9_library_426 rfl ?_
        refine x_aload_n 3 dX9_library_428 rfl ?_
        have t445 : tg h395 x0 = 10 := by rw [e396]; exact g1
        refine x_get (v := rv (fR h395 x0 2304)) fdX9_75 dX9_library_429 t445 rfl ?_
        obtain ⟨g446, hq⟩ := hq
        refine x_getN (v := rv (fR h395 (fR h395 x0 2304) 514)) gfX9_204 dX9_library_432 g446 rfl ?_
        refine x_iload_n 5 dX9_library_435 rfl ?_
        obtain ⟨g447, hq⟩ := hq
        obtain ⟨i448, hq⟩ := hq
        refine x_iald 0 (Or.inl rfl) g447 i448 dX9_library_436 ?_
        refine x_aload_n 3 dX9_library_437 rfl ?_
        refine x_get (v := rv (fR h395 x0 2304)) fdX9_75 dX9_library_438 t445 rfl ?_
        refine x_getN (v := rv (fR h395 (fR h395 x0 2304) 515)) gfX9_224 dX9_library_441 g446 rfl ?_
        refine x_iload_n 5 dX9_library_444 rfl ?_
        obtain ⟨g449, hq⟩ := hq
        obtain ⟨i450, hq⟩ := hq
        refine x_iald 0 (Or.inl rfl) g449 i450 dX9_library_445 ?_
        refine x_iconst (v := 1) dX9_library_446 (by decide) ?_
        refine x_icmp_ne (tgt := 454) dX9_library_447 (by decide) (fun c451 => ?_) (fun c451 => ?_)
        · replace hq := hq.1 c451
          refine x_iconst (v := 0) dX9_library_454 (by decide) ?_
          refine xP.pick (lv' := [(4, .int (aI h (fR h (fR h x0 2304) 516) (Int32.toNatClampNeg x2)))]) [1] rfl ?_
          exact uX9_library_455 hq
        · replace hq := hq.2 c451
          refine x_iconst (v := 1) dX9_library_450 (by decide) ?_
          refine x_goto (tgt := 455) dX9_library_451 (by decide) ?_
          refine xP.pick (lv' := [(4, .int (aI h (fR h (fR h x0 2304) 516) (Int32.toNatClampNeg x2)))]) [1] rfl ?_
          exact uX9_library_455 hq
      replace hq := hq.2
      by_cases c452 : x1 = 86
      · replace hq := hq.1 c452
        refine x_tin (tgt := 474) (off := 268) 86 c452 dX9_library_206 (by decide) (by decide) (by decide) (by decide) ?_
        refine x_aload_n 3 dX9_library_474 rfl ?_
        refine x_iload_n 4 dX9_library_475 rfl ?_
        refine x_iload 0 dX9_library_476 rfl ?_
        refine x_iload 1 dX9_library_478 rfl ?_
        refine x_aload_n 3 dX9_library_480 rfl ?_
        have t453 : tg h395 x0 = 10 := by rw [e396]; exact g1
        refine x_get (v := rv (fR h395 x0 2304)) fdX9_75 dX9_library_481 t453 rfl ?_
        obtain ⟨g454, hq⟩ := hq
        refine x_getN (v := rv (fR h395 (fR h395 x0 2304) 515)) gfX9_224 dX9_library_484 g454 rfl ?_
        refine x_iload_n 5 dX9_library_487 rfl ?_
        obtain ⟨g455, hq⟩ := hq
        obtain ⟨i456, hq⟩ := hq
        refine x_iald 0 (Or.inl rfl) g455 i456 dX9_library_488 ?_
        obtain ⟨g457, g458, hq⟩ := hq
        refine x_callV (Yc := YX9_readsNumber) (as := [.int x1, .int (Int64.toInt32 (aJ h (fR h x0 2307) (Int32.toNatClampNeg ((fI h x0 2310) - 1)))), .int (aI h (fR h (fR h x0 2304) 516) (Int32.toNatClampNeg x2)), .int (aI h395 (fR h395 (fR h395 x0 2304) 515) (Int32.toNatClampNeg x2))]) (st := []) q3161 mvX9_readsNumber t453 rfl dX9_library_489 (xle (xal1 (rv_cat _) (xal1 rfl (xal1 rfl (xal1 rfl (xal1 rfl xal0))))) (by decide)) (xfr g457) (xlo xsw0 (by decide) g458) (xKv hq (fun h459 hq e461 => ?_) (fun _ _ q _ => q))
        replace hq := hq e461
        refine xP.pick (lv' := []) [] rfl ?_
        exact uX9_library_492 hq
      replace hq := hq.2
      by_cases c462 : x1 = 87
      · replace hq := hq.1 c462
        refine x_tin (tgt := 474) (off := 268) 87 c462 dX9_library_206 (by decide) (by decide) (by decide) (by decide) ?_
        refine x_aload_n 3 dX9_library_474 rfl ?_
        refine x_iload_n 4 dX9_library_475 rfl ?_
        refine x_iload 0 dX9_library_476 rfl ?_
        refine x_iload 1 dX9_library_478 rfl ?_
        refine x_aload_n 3 dX9_library_480 rfl ?_
        have t463 : tg h395 x0 = 10 := by rw [e396]; exact g1
        refine x_get (v := rv (fR h395 x0 2304)) fdX9_75 dX9_library_481 t463 rfl ?_
        obtain ⟨g464, hq⟩ := hq
        refine x_getN (v := rv (fR h395 (fR h395 x0 2304) 515)) gfX9_224 dX9_library_484 g464 rfl ?_
        refine x_iload_n 5 dX9_library_487 rfl ?_
        obtain ⟨g465, hq⟩ := hq
        obtain ⟨i466, hq⟩ := hq
        refine x_iald 0 (Or.inl rfl) g465 i466 dX9_library_488 ?_
        obtain ⟨g467, g468, hq⟩ := hq
        refine x_callV (Yc := YX9_readsNumber) (as := [.int x1, .int (Int64.toInt32 (aJ h (fR h x0 2307) (Int32.toNatClampNeg ((fI h x0 2310) - 1)))), .int (aI h (fR h (fR h x0 2304) 516) (Int32.toNatClampNeg x2)), .int (aI h395 (fR h395 (fR h395 x0 2304) 515) (Int32.toNatClampNeg x2))]) (st := []) q3161 mvX9_readsNumber t463 rfl dX9_library_489 (xle (xal1 (rv_cat _) (xal1 rfl (xal1 rfl (xal1 rfl (xal1 rfl xal0))))) (by decide)) (xfr g467) (xlo xsw0 (by decide) g468) (xKv hq (fun h469 hq e471 => ?_) (fun _ _ q _ => q))
        replace hq := hq e471
        refine xP.pick (lv' := []) [] rfl ?_
        exact uX9_library_492 hq
      replace hq := hq.2
      by_cases c472 : x1 = 88
      · replace hq := hq.1 c472
        refine x_tin (tgt := 474) (off := 268) 88 c472 dX9_library_206 (by decide) (by decide) (by decide) (by decide) ?_
        refine x_aload_n 3 dX9_library_474 rfl ?_
        refine x_iload_n 4 dX9_library_475 rfl ?_
        refine x_iload 0 dX9_library_476 rfl ?_
        refine x_iload 1 dX9_library_478 rfl ?_
        refine x_aload_n 3 dX9_library_480 rfl ?_
        have t473 : tg h395 x0 = 10 := by rw [e396]; exact g1
        refine x_get (v := rv (fR h395 x0 2304)) fdX9_75 dX9_library_481 t473 rfl ?_
        obtain ⟨g474, hq⟩ := hq
        refine x_getN (v := rv (fR h395 (fR h395 x0 2304) 515)) gfX9_224 dX9_library_484 g474 rfl ?_
        refine x_iload_n 5 dX9_library_487 rfl ?_
        obtain ⟨g475, hq⟩ := hq
        obtain ⟨i476, hq⟩ := hq
        refine x_iald 0 (Or.inl rfl) g475 i476 dX9_library_488 ?_
        obtain ⟨g477, g478, hq⟩ := hq
        refine x_callV (Yc := YX9_readsNumber) (as := [.int x1, .int (Int64.toInt32 (aJ h (fR h x0 2307) (Int32.toNatClampNeg ((fI h x0 2310) - 1)))), .int (aI h (fR h (fR h x0 2304) 516) (Int32.toNatClampNeg x2)), .int (aI h395 (fR h395 (fR h395 x0 2304) 515) (Int32.toNatClampNeg x2))]) (st := []) q3161 mvX9_readsNumber t473 rfl dX9_library_489 (xle (xal1 (rv_cat _) (xal1 rfl (xal1 rfl (xal1 rfl (xal1 rfl xal0))))) (by decide)) (xfr g477) (xlo xsw0 (by decide) g478) (xKv hq (fun h479 hq e481 => ?_) (fun _ _ q _ => q))
        replace hq := hq e481
        refine xP.pick (lv' := []) [] rfl ?_
        exact uX9_library_492 hq
      replace hq := hq.2
      by_cases c482 : x1 = 89
      · replace hq := hq.1 c482
        refine x_tin (tgt := 474) (off := 268) 89 c482 dX9_library_206 (by decide) (by decide) (by decide) (by decide) ?_
        refine x_aload_n 3 dX9_library_474 rfl ?_
        refine x_iload_n 4 dX9_library_475 rfl ?_
        refine x_iload 0 dX9_library_476 rfl ?_
        refine x_iload 1 dX9_library_478 rfl ?_
        refine x_aload_n 3 dX9_library_480 rfl ?_
        have t483 : tg h395 x0 = 10 := by rw [e396]; exact g1
        refine x_get (v := rv (fR h395 x0 2304)) fdX9_75 dX9_library_481 t483 rfl ?_
        obtain ⟨g484, hq⟩ := hq
        refine x_getN (v := rv (fR h395 (fR h395 x0 2304) 515)) gfX9_224 dX9_library_484 g484 rfl ?_
        refine x_iload_n 5 dX9_library_487 rfl ?_
        obtain ⟨g485, hq⟩ := hq
        obtain ⟨i486, hq⟩ := hq
        refine x_iald 0 (Or.inl rfl) g485 i486 dX9_library_488 ?_
        obtain ⟨g487, g488, hq⟩ := hq
        refine x_callV (Yc := YX9_readsNumber) (as := [.int x1, .int (Int64.toInt32 (aJ h (fR h x0 2307) (Int32.toNatClampNeg ((fI h x0 2310) - 1)))), .int (aI h (fR h (fR h x0 2304) 516) (Int32.toNatClampNeg x2)), .int (aI h395 (fR h395 (fR h395 x0 2304) 515) (Int32.toNatClampNeg x2))]) (st := []) q3161 mvX9_readsNumber t483 rfl dX9_library_489 (xle (xal1 (rv_cat _) (xal1 rfl (xal1 rfl (xal1 rfl (xal1 rfl xal0))))) (by decide)) (xfr g487) (xlo xsw0 (by decide) g488) (xKv hq (fun h489 hq e491 => ?_) (fun _ _ q _ => q))
        replace hq := hq e491
        refine xP.pick (lv' := []) [] rfl ?_
        exact uX9_library_492 hq
      replace hq := hq.2
      by_cases c492 : x1 = 90
      · replace hq := hq.1 c492
        refine x_tin (tgt := 474) (off := 268) 90 c492 dX9_library_206 (by decide) (by decide) (by decide) (by decide) ?_
        refine x_aload_n 3 dX9_library_474 rfl ?_
        refine x_iload_n 4 dX9_library_475 rfl ?_
        refine x_iload 0 dX9_library_476 rfl ?_
        refine x_iload 1 dX9_library_478 rfl ?_
        refine x_aload_n 3 dX9_library_480 rfl ?_
        have t493 : tg h395 x0 = 10 := by rw [e396]; exact g1
        refine x_get (v := rv (fR h395 x0 2304)) fdX9_75 dX9_library_481 t493 rfl ?_
        obtain ⟨g494, hq⟩ := hq
        refine x_getN (v := rv (fR h395 (fR h395 x0 2304) 515)) gfX9_224 dX9_library_484 g494 rfl ?_
        refine x_iload_n 5 dX9_library_487 rfl ?_
        obtain ⟨g495, hq⟩ := hq
        obtain ⟨i496, hq⟩ := hq
        refine x_iald 0 (Or.inl rfl) g495 i496 dX9_library_488 ?_
        obtain ⟨g497, g498, hq⟩ := hq
        refine x_callV (Yc := YX9_readsNumber) (as := [.int x1, .int (Int64.toInt32 (aJ h (fR h x0 2307) (Int32.toNatClampNeg ((fI h x0 2310) - 1)))), .int (aI h (fR h (fR h x0 2304) 516) (Int32.toNatClampNeg x2)), .int (aI h395 (fR h395 (fR h395 x0 2304) 515) (Int32.toNatClampNeg x2))]) (st := []) q3161 mvX9_readsNumber t493 rfl dX9_library_489 (xle (xal1 (rv_cat _) (xal1 rfl (xal1 rfl (xal1 rfl (xal1 rfl xal0))))) (by decide)) (xfr g497) (xlo xsw0 (by decide) g498) (xKv hq (fun h499 hq e501 => ?_) (fun _ _ q _ => q))
        replace hq := hq e501
        refine xP.pick (lv' := []) [] rfl ?_
        exact uX9_library_492 hq
      replace hq := hq.2
      by_cases c502 : x1 = 91
      · replace hq := hq.1 c502
        refine x_tin (tgt := 463) (off := 257) 91 c502 dX9_library_206 (by decide) (by decide) (by decide) (by decide) ?_
        refine x_aload_n 3 dX9_library_463 rfl ?_
        refine x_iload 0 dX9_library_464 rfl ?_
        refine x_iload 1 dX9_library_466 rfl ?_
        have t503 : tg h395 x0 = 10 := by rw [e396]; exact g1
        obtain ⟨g504, g505, hq⟩ := hq
        refine x_callV (Yc := YX9_passes) (as := [.int (Int64.toInt32 (aJ h (fR h x0 2307) (Int32.toNatClampNeg ((fI h x0 2310) - 1)))), .int (aI h (fR h (fR h x0 2304) 516) (Int32.toNatClampNeg x2))]) (st := []) q3157 mvX9_passes t503 rfl dX9_library_468 (xle (xal1 (rv_cat _) (xal1 rfl (xal1 rfl xal0))) (by decide)) (xfr g504) (xlo xsw0 (by decide) g505) (xKv hq (fun h506 hq e508 => ?_) (fun _ _ q _ => q))
        replace hq := hq e508
        refine x_goto (tgt := 492) dX9_library_471 (by decide) ?_
        refine xP.pick (lv' := []) [] rfl ?_
        exact uX9_library_492 hq
      replace hq := hq.2
      replace hq := hq c397 c411 c435 c444 c452 c462 c472 c482 c492 c502
      have nc397 := lv_neT c397 (show (82 : Int32).toInt = 82 from by decide)
      have nc411 := lv_neT c411 (show (83 : Int32).toInt = 83 from by decide)
      have nc435 := lv_neT c435 (show (84 : Int32).toInt = 84 from by decide)
      have nc444 := lv_neT c444 (show (85 : Int32).toInt = 85 from by decide)
      have nc452 := lv_neT c452 (show (86 : Int32).toInt = 86 from by decide)
      have nc462 := lv_neT c462 (show (87 : Int32).toInt = 87 from by decide)
      have nc472 := lv_neT c472 (show (88 : Int32).toInt = 88 from by decide)
      have nc482 := lv_neT c482 (show (89 : Int32).toInt = 89 from by decide)
      have nc492 := lv_neT c492 (show (90 : Int32).toInt = 90 from by decide)
      have nc502 := lv_neT c502 (show (91 : Int32).toInt = 91 from by decide)
      refine x_tout (tgt := 474) dX9_library_206 (by omega) (by decide) ?_
      refine x_aload_n 3 dX9_library_474 rfl ?_
      refine x_iload_n 4 dX9_library_475 rfl ?_
      refine x_iload 0 dX9_library_476 rfl ?_
      refine x_iload 1 dX9_library_478 rfl ?_
      refine x_aload_n 3 dX9_library_480 rfl ?_
      have t509 : tg h395 x0 = 10 := by rw [e396]; exact g1
      refine x_get (v := rv (fR h395 x0 2304)) fdX9_75 dX9_library_481 t509 rfl ?_
      obtain ⟨g510, hq⟩ := hq
      refine x_getN (v := rv (fR h395 (fR h395 x0 2304) 515)) gfX9_224 dX9_library_484 g510 rfl ?_
      refine x_iload_n 5 dX9_library_487 rfl ?_
      obtain ⟨g511, hq⟩ := hq
      obtain ⟨i512, hq⟩ := hq
      refine x_iald 0 (Or.inl rfl) g511 i512 dX9_library_488 ?_
      obtain ⟨g513, g514, hq⟩ := hq
      refine x_callV (Yc := YX9_readsNumber) (as := [.int x1, .int (Int64.toInt32 (aJ h (fR h x0 2307) (Int32.toNatClampNeg ((fI h x0 2310) - 1)))), .int (aI h (fR h (fR h x0 2304) 516) (Int32.toNatClampNeg x2)), .int (aI h395 (fR h395 (fR h395 x0 2304) 515) (Int32.toNatClampNeg x2))]) (st := []) q3161 mvX9_readsNumber t509 rfl dX9_library_489 (xle (xal1 (rv_cat _) (xal1 rfl (xal1 rfl (xal1 rfl (xal1 rfl xal0))))) (by decide)) (xfr g513) (xlo xsw0 (by decide) g514) (xKv hq (fun h515 hq e517 => ?_) (fun _ _ q _ => q))
      replace hq := hq e517
      refine xP.pick (lv' := []) [] rfl ?_
      exact uX9_library_492 hq
    replace hq := hq.2
    by_cases c518 : x1 = 86
    · replace hq := hq.1 c518
      refine x_tin (tgt := 126) (off := 77) 86 c518 dX9_library_49 (by decide) (by decide) (by decide) (by decide) ?_
      refine x_aload_n 3 dX9_library_126 rfl ?_
      refine x_iload 0 dX9_library_127 rfl ?_
      refine x_iload_n 2 dX9_library_129 rfl ?_
      refine x_iload 1 dX9_library_130 rfl ?_
      obtain ⟨g519, g520, hq⟩ := hq
      refine x_callV (Yc := YX9_makes) (as := [.int (Int64.toInt32 (aJ h (fR h x0 2307) (Int32.toNatClampNeg ((fI h x0 2310) - 1)))), .int (aI h (fR h (fR h x0 2304) 513) (Int32.toNatClampNeg x2)), .int (aI h (fR h (fR h x0 2304) 516) (Int32.toNatClampNeg x2))]) (st := []) q3135 mvX9_makes g1 rfl dX9_library_132 (xle (xal1 (rv_cat _) (xal1 rfl (xal1 rfl (xal1 rfl xal0)))) (by decide)) (xfr g519) (xlo xsw0 (by decide) g520) (xKv hq (fun h521 hq e523 => ?_) (fun _ _ q _ => q))
      replace hq := hq e523
      exact x_vret rfl dX9_library_135 hq
    replace hq := hq.2
    by_cases c524 : x1 = 87
    · replace hq := hq.1 c524
      refine x_tin (tgt := 136) (off := 87) 87 c524 dX9_library_49 (by decide) (by decide) (by decide) (by decide) ?_
      refine x_aload_n 3 dX9_library_136 rfl ?_
      refine x_iload 1 dX9_library_137 rfl ?_
      obtain ⟨g525, g526, hq⟩ := hq
      refine x_callV (Yc := YX9_drops) (as := [.int (aI h (fR h (fR h x0 2304) 516) (Int32.toNatClampNeg x2))]) (st := []) q3139 mvX9_drops g1 rfl dX9_library_139 (xle (xal1 (rv_cat _) (xal1 rfl xal0)) (by decide)) (xfr g525) (xlo xsw0 (by decide) g526) (xKv hq (fun h527 hq e529 => ?_) (fun _ _ q _ => q))
      replace hq := hq e529
      exact x_vret rfl dX9_library_142 hq
    replace hq := hq.2
    by_cases c530 : x1 = 88
    · replace hq := hq.1 c530
      refine x_tin (tgt := 195) (off := 146) 88 c530 dX9_library_49 (by decide) (by decide) (by decide) (by decide) ?_
      refine x_aload_n 3 dX9_library_195 rfl ?_
      refine x_dup dX9_library_196 (rv_cat _) ?_
      refine x_get (v := .int (fI h x0 2310)) fdX9_86 dX9_library_197 g1 rfl ?_
      refine x_iconst (v := 1) dX9_library_200 (by decide) ?_
      refine x_isub dX9_library_201 ?_
      obtain ⟨h531, e532⟩ : ∃ y, y = sI h x0 2310 ((fI h x0 2310) - 1) := ⟨_, rfl⟩
      replace hq := hq h531 e532
      refine x_putI fdX9_86 xty_I1 dX9_library_202 g1 (Or.inl (by rw [g1]; rfl)) xnI rfl e532 ?_
      refine x_iload_n 4 dX9_library_205 rfl ?_
      by_cases c533 : x1 = 82
      · replace hq := hq.1 c533
        refine x_tin (tgt := 260) (off := 54) 82 c533 dX9_library_206 (by decide) (by decide) (by decide) (by decide) ?_
        refine x_aload_n 3 dX9_library_260 rfl ?_
        have t534 : tg h531 x0 = 10 := by rw [e532]; exact g1
        refine x_get (v := rv (fR h531 x0 2306)) fdX9_23 dX9_library_261 t534 rfl ?_
        obtain ⟨g535, hq⟩ := hq
        refine x_getN (v := rv (fR h531 (fR h531 x0 2306) 2817)) gfX9_429 dX9_library_264 g535 rfl ?_
        refine x_iload 0 dX9_library_267 rfl ?_
        obtain ⟨g536, hq⟩ := hq
        obtain ⟨i537, hq⟩ := hq
        refine x_iald 0 (Or.inl rfl) g536 i537 dX9_library_269 ?_
        refine x_if_ne (tgt := 297) dX9_library_270 (by decide) (fun c538 => ?_) (fun c538 => ?_)
        · replace hq := hq.1 c538
          refine xP.pick (lv' := [(0, rv x0), (2, .int x2), (5, .int (Int64.toInt32 (aJ h (fR h x0 2307) (Int32.toNatClampNeg ((fI h x0 2310) - 1)))))]) [3, 5, 0] rfl ?_
          exact uX9_library_297 hq
        · replace hq := hq.2 c538
          refine x_aload_n 3 dX9_library_273 rfl ?_
          refine x_get (v := rv (fR h531 x0 2306)) fdX9_23 dX9_library_274 t534 rfl ?_
          refine x_getN (v := rv (fR h531 (fR h531 x0 2306) 2824)) gfX9_435 dX9_library_277 g535 rfl ?_
          refine x_iload 0 dX9_library_280 rfl ?_
          obtain ⟨g539, hq⟩ := hq
          obtain ⟨i540, hq⟩ := hq
          refine x_zald g539 i540 dX9_library_282 ?_
          refine x_if_ne (tgt := 297) dX9_library_283 (by decide) (fun c541 => ?_) (fun c541 => ?_)
          · replace hq := hq.1 c541
            refine xP.pick (lv' := [(0, rv x0), (2, .int x2), (5, .int (Int64.toInt32 (aJ h (fR h x0 2307) (Int32.toNatClampNeg ((fI h x0 2310) - 1)))))]) [3, 5, 0] rfl ?_
            exact uX9_library_297 hq
          · replace hq := hq.2 c541
            refine x_aload_n 3 dX9_library_286 rfl ?_
            refine x_bipush (v := 10) dX9_library_287 (by decide) ?_
            refine x_iload 1 dX9_library_289 rfl ?_
            obtain ⟨g542, g543, hq⟩ := hq
            refine x_callV (Yc := YX9_fail) (as := [.int 10, .int (aI h (fR h (fR h x0 2304) 516) (Int32.toNatClampNeg x2))]) (st := []) q2835 mvX9_fail t534 rfl dX9_library_291 (xle (xal1 (rv_cat _) (xal1 rfl (xal1 rfl xal0))) (by decide)) (xfr g542) (xlo xsw0 (by decide) g543) (xKv hq (fun h544 hq e546 => ?_) (fun _ _ q _ => q))
            replace hq := hq e546
            refine x_goto (tgt := 492) dX9_library_294 (by decide) ?_
            refine xP.pick (lv' := []) [] rfl ?_
            exact uX9_library_492 hq
      replace hq := hq.2
      by_cases c547 : x1 = 83
      · replace hq := hq.1 c547
        refine x_tin (tgt := 318) (off := 112) 83 c547 dX9_library_206 (by decide) (by decide) (by decide) (by decide) ?_
        refine x_aload_n 3 dX9_library_318 rfl ?_
        have t548 : tg h531 x0 = 10 := by rw [e532]; exact g1
        refine x_get (v := rv (fR h531 x0 2306)) fdX9_23 dX9_library_319 t548 rfl ?_
        refine x_iload 0 dX9_library_322 rfl ?_
        obtain ⟨g549, hq⟩ := hq
        obtain ⟨g550, g551, hq⟩ := hq
        refine x_callV (Yc := YX11_empty) (as := [.int (Int64.toInt32 (aJ h (fR h x0 2307) (Int32.toNatClampNeg ((fI h x0 2310) - 1))))]) (st := []) q3017 mvX11_empty g549 rfl dX9_library_324 (xle (xal1 (rv_cat _) (xal1 rfl xal0)) (by decide)) (xfr g550) (xlo xsw0 (by decide) g551) (xKv hq (fun h552 hq e554 => ?_) (fun _ _ q _ => q))
        replace hq := hq e554
        refine x_aload_n 3 dX9_library_327 rfl ?_
        have t555 : tg h552 x0 = 10 := e554.tg t548 (by decide)
        refine x_get (v := rv (fR h552 x0 2306)) fdX9_23 dX9_library_328 t555 rfl ?_
        obtain ⟨g556, hq⟩ := hq
        refine x_getN (v := rv (fR h552 (fR h552 x0 2306) 2817)) gfX9_429 dX9_library_331 g556 rfl ?_
        refine x_iload 0 dX9_library_334 rfl ?_
        refine x_iconst (v := 2) dX9_library_336 (by decide) ?_
        obtain ⟨g557, hq⟩ := hq
        obtain ⟨i558, hq⟩ := hq
        obtain ⟨h559, e560⟩ : ∃ y, y = tI h552 (fR h552 (fR h552 x0 2306) 2817) (Int32.toNatClampNeg (Int64.toInt32 (aJ h (fR h x0 2307) (Int32.toNatClampNeg ((fI h x0 2310) - 1))))) 2 := ⟨_, rfl⟩
        replace hq := hq h559 e560
        refine x_iast' g557 i558 dX9_library_337 e560 ?_
        refine x_aload_n 3 dX9_library_338 rfl ?_
        have t561 : tg h559 x0 = 10 := by rw [e560]; exact t555
        refine x_get (v := rv (fR h559 x0 2306)) fdX9_23 dX9_library_339 t561 rfl ?_
        refine x_iload 0 dX9_library_342 rfl ?_
        refine x_aload_n 3 dX9_library_344 rfl ?_
        refine x_get (v := rv (fR h559 x0 2304)) fdX9_75 dX9_library_345 t561 rfl ?_
        obtain ⟨g562, hq⟩ := hq
        refine x_getN (v := rv (fR h559 (fR h559 x0 2304) 514)) gfX9_204 dX9_library_348 g562 rfl ?_
        refine x_iload_n 5 dX9_library_351 rfl ?_
        obtain ⟨g563, hq⟩ := hq
        obtain ⟨i564, hq⟩ := hq
        refine x_iald 0 (Or.inl rfl) g563 i564 dX9_library_352 ?_
        obtain ⟨g565, hq⟩ := hq
        obtain ⟨g566, g567, hq⟩ := hq
        refine x_callV (Yc := YX11_bring) (as := [.int (Int64.toInt32 (aJ h (fR h x0 2307) (Int32.toNatClampNeg ((fI h x0 2310) - 1)))), .int (aI h559 (fR h559 (fR h559 x0 2304) 514) (Int32.toNatClampNeg x2))]) (st := []) q3144 mvX11_bring g565 rfl dX9_library_353 (xle (xal1 (rv_cat _) (xal1 rfl (xal1 rfl xal0))) (by decide)) (xfr g566) (xlo xsw0 (by decide) g567) (xKv hq (fun h568 hq e570 => ?_) (fun _ _ q _ => q))
        replace hq := hq e570
        refine x_goto (tgt := 492) dX9_library_356 (by decide) ?_
        refine xP.pick (lv' := []) [] rfl ?_
        exact uX9_library_492 hq
      replace hq := hq.2
      by_cases c571 : x1 = 84
      · replace hq := hq.1 c571
        refine x_tin (tgt := 359) (off := 153) 84 c571 dX9_library_206 (by decide) (by decide) (by decide) (by decide) ?_
        refine x_aload_n 3 dX9_library_359 rfl ?_
        have t572 : tg h531 x0 = 10 := by rw [e532]; exact g1
        refine x_get (v := rv (fR h531 x0 2306)) fdX9_23 dX9_library_360 t572 rfl ?_
        obtain ⟨g573, hq⟩ := hq
        refine x_getN (v := rv (fR h531 (fR h531 x0 2306) 2817)) gfX9_429 dX9_library_363 g573 rfl ?_
        refine x_iload 0 dX9_library_366 rfl ?_
        obtain ⟨g574, hq⟩ := hq
        obtain ⟨i575, hq⟩ := hq
        refine x_iald 0 (Or.inl rfl) g574 i575 dX9_library_368 ?_
        refine x_iconst (v := 1) dX9_library_369 (by decide) ?_
        refine x_icmp_ne (tgt := 387) dX9_library_370 (by decide) (fun c576 => ?_) (fun c576 => ?_)
        · replace hq := hq.1 c576
          refine xP.pick (lv' := [(0, rv x0), (2, .int x2), (4, .int (aI h (fR h (fR h x0 2304) 516) (Int32.toNatClampNeg x2))), (5, .int (Int64.toInt32 (aJ h (fR h x0 2307) (Int32.toNatClampNeg ((fI h x0 2310) - 1)))))]) [3, 5, 1, 0] rfl ?_
          exact uX9_library_387 hq
        · replace hq := hq.2 c576
          refine x_aload_n 3 dX9_library_373 rfl ?_
          refine x_get (v := rv (fR h531 x0 2306)) fdX9_23 dX9_library_374 t572 rfl ?_
          refine x_getN (v := rv (fR h531 (fR h531 x0 2306) 2820)) gfX9_432 dX9_library_377 g573 rfl ?_
          refine x_iload 0 dX9_library_380 rfl ?_
          obtain ⟨g577, hq⟩ := hq
          obtain ⟨i578, hq⟩ := hq
          refine x_iald 0 (Or.inl rfl) g577 i578 dX9_library_382 ?_
          refine x_iconst (v := (-1)) dX9_library_383 (by decide) ?_
          refine x_icmp_ne (tgt := 395) dX9_library_384 (by decide) (fun c579 => ?_) (fun c579 => ?_)
          · replace hq := hq.1 c579
            refine xP.pick (lv' := [(0, rv x0), (2, .int x2), (5, .int (Int64.toInt32 (aJ h (fR h x0 2307) (Int32.toNatClampNeg ((fI h x0 2310) - 1)))))]) [3, 5, 0] rfl ?_
            exact uX9_library_395 hq
          · replace hq := hq.2 c579
            refine xP.pick (lv' := [(0, rv x0), (2, .int x2), (4, .int (aI h (fR h (fR h x0 2304) 516) (Int32.toNatClampNeg x2))), (5, .int (Int64.toInt32 (aJ h (fR h x0 2307) (Int32.toNatClampNeg ((fI h x0 2310) - 1)))))]) [3, 5, 1, 0] rfl ?_
            exact uX9_library_387 hq
      replace hq := hq.2
      by_cases c580 : x1 = 85
      · replace hq := hq.1 c580
        refine x_tin (tgt := 425) (off := 219) 85 c580 dX9_library_206 (by decide) (by decide) (by decide) (by decide) ?_
        refine x_aload_n 3 dX9_library_425 rfl ?_
        refine x_iload 0 dX9_library_426 rfl ?_
        refine x_aload_n 3 dX9_library_428 rfl ?_
        have t581 : tg h531 x0 = 10 := by rw [e532]; exact g1
        refine x_get (v := rv (fR h531 x0 2304)) fdX9_75 dX9_library_429 t581 rfl ?_
        obtain ⟨g582, hq⟩ := hq
        refine x_getN (v := rv (fR h531 (fR h531 x0 2304) 514)) gfX9_204 dX9_library_432 g582 rfl ?_
        refine x_iload_n 5 dX9_library_435 rfl ?_
        obtain ⟨g583, hq⟩ := hq
        obtain ⟨i584, hq⟩ := hq
        refine x_iald 0 (Or.inl rfl) g583 i584 dX9_library_436 ?_
        refine x_aload_n 3 dX9_library_437 rfl ?_
        refine x_get (v := rv (fR h531 x0 2304)) fdX9_75 dX9_library_438 t581 rfl ?_
        refine x_getN (v := rv (fR h531 (fR h531 x0 2304) 515)) gfX9_224 dX9_library_441 g582 rfl ?_
        refine x_iload_n 5 dX9_library_444 rfl ?_
        obtain ⟨g585, hq⟩ := hq
        obtain ⟨i586, hq⟩ := hq
        refine x_iald 0 (Or.inl rfl) g585 i586 dX9_library_445 ?_
        refine x_iconst (v := 1) dX9_library_446 (by decide) ?_
        refine x_icmp_ne (tgt := 454) dX9_library_447 (by decide) (fun c587 => ?_) (fun c587 => ?_)
        · replace hq := hq.1 c587
          refine x_iconst (v := 0) dX9_library_454 (by decide) ?_
          refine xP.pick (lv' := [(4, .int (aI h (fR h (fR h x0 2304) 516) (Int32.toNatClampNeg x2)))]) [1] rfl ?_
          exact uX9_library_455 hq
        · replace hq := hq.2 c587
          refine x_iconst (v := 1) dX9_library_450 (by decide) ?_
          refine x_goto (tgt := 455) dX9_library_451 (by decide) ?_
          refine xP.pick (lv' := [(4, .int (aI h (fR h (fR h x0 2304) 516) (Int32.toNatClampNeg x2)))]) [1] rfl ?_
          exact uX9_library_455 hq
      replace hq := hq.2
      by_cases c588 : x1 = 86
      · replace hq := hq.1 c588
        refine x_tin (tgt := 474) (off := 268) 86 c588 dX9_library_206 (by decide) (by decide) (by decide) (by decide) ?_
        refine x_aload_n 3 dX9_library_474 rfl ?_
        refine x_iload_n 4 dX9_library_475 rfl ?_
        refine x_iload 0 dX9_library_476 rfl ?_
        refine x_iload 1 dX9_library_478 rfl ?_
        refine x_aload_n 3 dX9_library_480 rfl ?_
        have t589 : tg h531 x0 = 10 := by rw [e532]; exact g1
        refine x_get (v := rv (fR h531 x0 2304)) fdX9_75 dX9_library_481 t589 rfl ?_
        obtain ⟨g590, hq⟩ := hq
        refine x_getN (v := rv (fR h531 (fR h531 x0 2304) 515)) gfX9_224 dX9_library_484 g590 rfl ?_
        refine x_iload_n 5 dX9_library_487 rfl ?_
        obtain ⟨g591, hq⟩ := hq
        obtain ⟨i592, hq⟩ := hq
        refine x_iald 0 (Or.inl rfl) g591 i592 dX9_library_488 ?_
        obtain ⟨g593, g594, hq⟩ := hq
        refine x_callV (Yc := YX9_readsNumber) (as := [.int x1, .int (Int64.toInt32 (aJ h (fR h x0 2307) (Int32.toNatClampNeg ((fI h x0 2310) - 1)))), .int (aI h (fR h (fR h x0 2304) 516) (Int32.toNatClampNeg x2)), .int (aI h531 (fR h531 (fR h531 x0 2304) 515) (Int32.toNatClampNeg x2))]) (st := []) q3161 mvX9_readsNumber t589 rfl dX9_library_489 (xle (xal1 (rv_cat _) (xal1 rfl (xal1 rfl (xal1 rfl (xal1 rfl xal0))))) (by decide)) (xfr g593) (xlo xsw0 (by decide) g594) (xKv hq (fun h595 hq e597 => ?_) (fun _ _ q _ => q))
        replace hq := hq e597
        refine xP.pick (lv' := []) [] rfl ?_
        exact uX9_library_492 hq
      replace hq := hq.2
      by_cases c598 : x1 = 87
      · replace hq := hq.1 c598
        refine x_tin (tgt := 474) (off := 268) 87 c598 dX9_library_206 (by decide) (by decide) (by decide) (by decide) ?_
        refine x_aload_n 3 dX9_library_474 rfl ?_
        refine x_iload_n 4 dX9_library_475 rfl ?_
        refine x_iload 0 dX9_library_476 rfl ?_
        refine x_iload 1 dX9_library_478 rfl ?_
        refine x_aload_n 3 dX9_library_480 rfl ?_
        have t599 : tg h531 x0 = 10 := by rw [e532]; exact g1
        refine x_get (v := rv (fR h531 x0 2304)) fdX9_75 dX9_library_481 t599 rfl ?_
        obtain ⟨g600, hq⟩ := hq
        refine x_getN (v := rv (fR h531 (fR h531 x0 2304) 515)) gfX9_224 dX9_library_484 g600 rfl ?_
        refine x_iload_n 5 dX9_library_487 rfl ?_
        obtain ⟨g601, hq⟩ := hq
        obtain ⟨i602, hq⟩ := hq
        refine x_iald 0 (Or.inl rfl) g601 i602 dX9_library_488 ?_
        obtain ⟨g603, g604, hq⟩ := hq
        refine x_callV (Yc := YX9_readsNumber) (as := [.int x1, .int (Int64.toInt32 (aJ h (fR h x0 2307) (Int32.toNatClampNeg ((fI h x0 2310) - 1)))), .int (aI h (fR h (fR h x0 2304) 516) (Int32.toNatClampNeg x2)), .int (aI h531 (fR h531 (fR h531 x0 2304) 515) (Int32.toNatClampNeg x2))]) (st := []) q3161 mvX9_readsNumber t599 rfl dX9_library_489 (xle (xal1 (rv_cat _) (xal1 rfl (xal1 rfl (xal1 rfl (xal1 rfl xal0))))) (by decide)) (xfr g603) (xlo xsw0 (by decide) g604) (xKv hq (fun h605 hq e607 => ?_) (fun _ _ q _ => q))
        replace hq := hq e607
        refine xP.pick (lv' := []) [] rfl ?_
        exact uX9_library_492 hq
      replace hq := hq.2
      by_cases c608 : x1 = 88
      · replace hq := hq.1 c608
        refine x_tin (tgt := 474) (off := 268) 88 c608 dX9_library_206 (by decide) (by decide) (by decide) (by decide) ?_
        refine x_aload_n 3 dX9_library_474 rfl ?_
        refine x_iload_n 4 dX9_library_475 rfl ?_
        refine x_iload 0 dX9_library_476 rfl ?_
        refine x_iload 1 dX9_library_478 rfl ?_
        refine x_aload_n 3 dX9_library_480 rfl ?_
        have t609 : tg h531 x0 = 10 := by rw [e532]; exact g1
        refine x_get (v := rv (fR h531 x0 2304)) fdX9_75 dX9_library_481 t609 rfl ?_
        obtain ⟨g610, hq⟩ := hq
        refine x_getN (v := rv (fR h531 (fR h531 x0 2304) 515)) gfX9_224 dX9_library_484 g610 rfl ?_
        refine x_iload_n 5 dX9_library_487 rfl ?_
        obtain ⟨g611, hq⟩ := hq
        obtain ⟨i612, hq⟩ := hq
        refine x_iald 0 (Or.inl rfl) g611 i612 dX9_library_488 ?_
        obtain ⟨g613, g614, hq⟩ := hq
        refine x_callV (Yc := YX9_readsNumber) (as := [.int x1, .int (Int64.toInt32 (aJ h (fR h x0 2307) (Int32.toNatClampNeg ((fI h x0 2310) - 1)))), .int (aI h (fR h (fR h x0 2304) 516) (Int32.toNatClampNeg x2)), .int (aI h531 (fR h531 (fR h531 x0 2304) 515) (Int32.toNatClampNeg x2))]) (st := []) q3161 mvX9_readsNumber t609 rfl dX9_library_489 (xle (xal1 (rv_cat _) (xal1 rfl (xal1 rfl (xal1 rfl (xal1 rfl xal0))))) (by decide)) (xfr g613) (xlo xsw0 (by decide) g614) (xKv hq (fun h615 hq e617 => ?_) (fun _ _ q _ => q))
        replace hq := hq e617
        refine xP.pick (lv' := []) [] rfl ?_
        exact uX9_library_492 hq
      replace hq := hq.2
      by_cases c618 : x1 = 89
      · replace hq := hq.1 c618
        refine x_tin (tgt := 474) (off := 268) 89 c618 dX9_library_206 (by decide) (by decide) (by decide) (by decide) ?_
        refine x_aload_n 3 dX9_library_474 rfl ?_
        refine x_iload_n 4 dX9_library_475 rfl ?_
        refine x_iload 0 dX9_library_476 rfl ?_
        refine x_iload 1 dX9_library_478 rfl ?_
        refine x_aload_n 3 dX9_library_480 rfl ?_
        have t619 : tg h531 x0 = 10 := by rw [e532]; exact g1
        refine x_get (v := rv (fR h531 x0 2304)) fdX9_75 dX9_library_481 t619 rfl ?_
        obtain ⟨g620, hq⟩ := hq
        refine x_getN (v := rv (fR h531 (fR h531 x0 2304) 515)) gfX9_224 dX9_library_484 g620 rfl ?_
        refine x_iload_n 5 dX9_library_487 rfl ?_
        obtain ⟨g621, hq⟩ := hq
        obtain ⟨i622, hq⟩ := hq
        refine x_iald 0 (Or.inl rfl) g621 i622 dX9_library_488 ?_
        obtain ⟨g623, g624, hq⟩ := hq
        refine x_callV (Yc := YX9_readsNumber) (as := [.int x1, .int (Int64.toInt32 (aJ h (fR h x0 2307) (Int32.toNatClampNeg ((fI h x0 2310) - 1)))), .int (aI h (fR h (fR h x0 2304) 516) (Int32.toNatClampNeg x2)), .int (aI h531 (fR h531 (fR h531 x0 2304) 515) (Int32.toNatClampNeg x2))]) (st := []) q3161 mvX9_readsNumber t619 rfl dX9_library_489 (xle (xal1 (rv_cat _) (xal1 rfl (xal1 rfl (xal1 rfl (xal1 rfl xal0))))) (by decide)) (xfr g623) (xlo xsw0 (by decide) g624) (xKv hq (fun h625 hq e627 => ?_) (fun _ _ q _ => q))
        replace hq := hq e627
        refine xP.pick (lv' := []) [] rfl ?_
        exact uX9_library_492 hq
      replace hq := hq.2
      by_cases c628 : x1 = 90
      · replace hq := hq.1 c628
        refine x_tin (tgt := 474) (off := 268) 90 c628 dX9_library_206 (by decide) (by decide) (by decide) (by decide) ?_
        refine x_aload_n 3 dX9_library_474 rfl ?_
        refine x_iload_n 4 dX9_library_475 rfl ?_
        refine x_iload 0 dX9_library_476 rfl ?_
        refine x_iload 1 dX9_library_478 rfl ?_
        refine x_aload_n 3 dX9_library_480 rfl ?_
        have t629 : tg h531 x0 = 10 := by rw [e532]; exact g1
        refine x_get (v := rv (fR h531 x0 2304)) fdX9_75 dX9_library_481 t629 rfl ?_
        obtain ⟨g630, hq⟩ := hq
        refine x_getN (v := rv (fR h531 (fR h531 x0 2304) 515)) gfX9_224 dX9_library_484 g630 rfl ?_
        refine x_iload_n 5 dX9_library_487 rfl ?_
        obtain ⟨g631, hq⟩ := hq
        obtain ⟨i632, hq⟩ := hq
        refine x_iald 0 (Or.inl rfl) g631 i632 dX9_library_488 ?_
        obtain ⟨g633, g634, hq⟩ := hq
        refine x_callV (Yc := YX9_readsNumber) (as := [.int x1, .int (Int64.toInt32 (aJ h (fR h x0 2307) (Int32.toNatClampNeg ((fI h x0 2310) - 1)))), .int (aI h (fR h (fR h x0 2304) 516) (Int32.toNatClampNeg x2)), .int (aI h531 (fR h531 (fR h531 x0 2304) 515) (Int32.toNatClampNeg x2))]) (st := []) q3161 mvX9_readsNumber t629 rfl dX9_library_489 (xle (xal1 (rv_cat _) (xal1 rfl (xal1 rfl (xal1 rfl (xal1 rfl xal0))))) (by decide)) (xfr g633) (xlo xsw0 (by decide) g634) (xKv hq (fun h635 hq e637 => ?_) (fun _ _ q _ => q))
        replace hq := hq e637
        refine xP.pick (lv' := []) [] rfl ?_
        exact uX9_library_492 hq
      replace hq := hq.2
      by_cases c638 : x1 = 91
      · replace hq := hq.1 c638
        refine x_tin (tgt := 463) (off := 257) 91 c638 dX9_library_206 (by decide) (by decide) (by decide) (by decide) ?_
        refine x_aload_n 3 dX9_library_463 rfl ?_
        refine x_iload 0 dX9_library_464 rfl ?_
        refine x_iload 1 dX9_library_466 rfl ?_
        have t639 : tg h531 x0 = 10 := by rw [e532]; exact g1
        obtain ⟨g640, g641, hq⟩ := hq
        refine x_callV (Yc := YX9_passes) (as := [.int (Int64.toInt32 (aJ h (fR h x0 2307) (Int32.toNatClampNeg ((fI h x0 2310) - 1)))), .int (aI h (fR h (fR h x0 2304) 516) (Int32.toNatClampNeg x2))]) (st := []) q3157 mvX9_passes t639 rfl dX9_library_468 (xle (xal1 (rv_cat _) (xal1 rfl (xal1 rfl xal0))) (by decide)) (xfr g640) (xlo xsw0 (by decide) g641) (xKv hq (fun h642 hq e644 => ?_) (fun _ _ q _ => q))
        replace hq := hq e644
        refine x_goto (tgt := 492) dX9_library_471 (by decide) ?_
        refine xP.pick (lv' := []) [] rfl ?_
        exact uX9_library_492 hq
      replace hq := hq.2
      replace hq := hq c533 c547 c571 c580 c588 c598 c608 c618 c628 c638
      have nc533 := lv_neT c533 (show (82 : Int32).toInt = 82 from by decide)
      have nc547 := lv_neT c547 (show (83 : Int32).toInt = 83 from by decide)
      have nc571 := lv_neT c571 (show (84 : Int32).toInt = 84 from by decide)
      have nc580 := lv_neT c580 (show (85 : Int32).toInt = 85 from by decide)
      have nc588 := lv_neT c588 (show (86 : Int32).toInt = 86 from by decide)
      have nc598 := lv_neT c598 (show (87 : Int32).toInt = 87 from by decide)
      have nc608 := lv_neT c608 (show (88 : Int32).toInt = 88 from by decide)
      have nc618 := lv_neT c618 (show (89 : Int32).toInt = 89 from by decide)
      have nc628 := lv_neT c628 (show (90 : Int32).toInt = 90 from by decide)
      have nc638 := lv_neT c638 (show (91 : Int32).toInt = 91 from by decide)
      refine x_tout (tgt := 474) dX9_library_206 (by omega) (by decide) ?_
      refine x_aload_n 3 dX9_library_474 rfl ?_
      refine x_iload_n 4 dX9_library_475 rfl ?_
      refine x_iload 0 dX9_library_476 rfl ?_
      refine x_iload 1 dX9_library_478 rfl ?_
      refine x_aload_n 3 dX9_library_480 rfl ?_
      have t645 : tg h531 x0 = 10 := by rw [e532]; exact g1
      refine x_get (v := rv (fR h531 x0 2304)) fdX9_75 dX9_library_481 t645 rfl ?_
      obtain ⟨g646, hq⟩ := hq
      refine x_getN (v := rv (fR h531 (fR h531 x0 2304) 515)) gfX9_224 dX9_library_484 g646 rfl ?_
      refine x_iload_n 5 dX9_library_487 rfl ?_
      obtain ⟨g647, hq⟩ := hq
      obtain ⟨i648, hq⟩ := hq
      refine x_iald 0 (Or.inl rfl) g647 i648 dX9_library_488 ?_
      obtain ⟨g649, g650, hq⟩ := hq
      refine x_callV (Yc := YX9_readsNumber) (as := [.int x1, .int (Int64.toInt32 (aJ h (fR h x0 2307) (Int32.toNatClampNeg ((fI h x0 2310) - 1)))), .int (aI h (fR h (fR h x0 2304) 516) (Int32.toNatClampNeg x2)), .int (aI h531 (fR h531 (fR h531 x0 2304) 515) (Int32.toNatClampNeg x2))]) (st := []) q3161 mvX9_readsNumber t645 rfl dX9_library_489 (xle (xal1 (rv_cat _) (xal1 rfl (xal1 rfl (xal1 rfl (xal1 rfl xal0))))) (by decide)) (xfr g649) (xlo xsw0 (by decide) g650) (xKv hq (fun h651 hq e653 => ?_) (fun _ _ q _ => q))
      replace hq := hq e653
      refine xP.pick (lv' := []) [] rfl ?_
      exact uX9_library_492 hq
    replace hq := hq.2
    by_cases c654 : x1 = 89
    · replace hq := hq.1 c654
      refine x_tin (tgt := 195) (off := 146) 89 c654 dX9_library_49 (by decide) (by decide) (by decide) (by decide) ?_
      refine x_aload_n 3 dX9_library_195 rfl ?_
      refine x_dup dX9_library_196 (rv_cat _) ?_
      refine x_get (v := .int (fI h x0 2310)) fdX9_86 dX9_library_197 g1 rfl ?_
      refine x_iconst (v := 1) dX9_library_200 (by decide) ?_
      refine x_isub dX9_library_201 ?_
      obtain ⟨h655, e656⟩ : ∃ y, y = sI h x0 2310 ((fI h x0 2310) - 1) := ⟨_, rfl⟩
      replace hq := hq h655 e656
      refine x_putI fdX9_86 xty_I1 dX9_library_202 g1 (Or.inl (by rw [g1]; rfl)) xnI rfl e656 ?_
      refine x_iload_n 4 dX9_library_205 rfl ?_
      by_cases c657 : x1 = 82
      · replace hq := hq.1 c657
        refine x_tin (tgt := 260) (off := 54) 82 c657 dX9_library_206 (by decide) (by decide) (by decide) (by decide) ?_
        refine x_aload_n 3 dX9_library_260 rfl ?_
        have t658 : tg h655 x0 = 10 := by rw [e656]; exact g1
        refine x_get (v := rv (fR h655 x0 2306)) fdX9_23 dX9_library_261 t658 rfl ?_
        obtain ⟨g659, hq⟩ := hq
        refine x_getN (v := rv (fR h655 (fR h655 x0 2306) 2817)) gfX9_429 dX9_library_264 g659 rfl ?_
        refine x_iload 0 dX9_library_267 rfl ?_
        obtain ⟨g660, hq⟩ := hq
        obtain ⟨i661, hq⟩ := hq
        refine x_iald 0 (Or.inl rfl) g660 i661 dX9_library_269 ?_
        refine x_if_ne (tgt := 297) dX9_library_270 (by decide) (fun c662 => ?_) (fun c662 => ?_)
        · replace hq := hq.1 c662
          refine xP.pick (lv' := [(0, rv x0), (2, .int x2), (5, .int (Int64.toInt32 (aJ h (fR h x0 2307) (Int32.toNatClampNeg ((fI h x0 2310) - 1)))))]) [3, 5, 0] rfl ?_
          exact uX9_library_297 hq
        · replace hq := hq.2 c662
          refine x_aload_n 3 dX9_library_273 rfl ?_
          refine x_get (v := rv (fR h655 x0 2306)) fdX9_23 dX9_library_274 t658 rfl ?_
          refine x_getN (v := rv (fR h655 (fR h655 x0 2306) 2824)) gfX9_435 dX9_library_277 g659 rfl ?_
          refine x_iload 0 dX9_library_280 rfl ?_
          obtain ⟨g663, hq⟩ := hq
          obtain ⟨i664, hq⟩ := hq
          refine x_zald g663 i664 dX9_library_282 ?_
          refine x_if_ne (tgt := 297) dX9_library_283 (by decide) (fun c665 => ?_) (fun c665 => ?_)
          · replace hq := hq.1 c665
            refine xP.pick (lv' := [(0, rv x0), (2, .int x2), (5, .int (Int64.toInt32 (aJ h (fR h x0 2307) (Int32.toNatClampNeg ((fI h x0 2310) - 1)))))]) [3, 5, 0] rfl ?_
            exact uX9_library_297 hq
          · replace hq := hq.2 c665
            refine x_aload_n 3 dX9_library_286 rfl ?_
            refine x_bipush (v := 10) dX9_library_287 (by decide) ?_
            refine x_iload 1 dX9_library_289 rfl ?_
            obtain ⟨g666, g667, hq⟩ := hq
            refine x_callV (Yc := YX9_fail) (as := [.int 10, .int (aI h (fR h (fR h x0 2304) 516) (Int32.toNatClampNeg x2))]) (st := []) q2835 mvX9_fail t658 rfl dX9_library_291 (xle (xal1 (rv_cat _) (xal1 rfl (xal1 rfl xal0))) (by decide)) (xfr g666) (xlo xsw0 (by decide) g667) (xKv hq (fun h668 hq e670 => ?_) (fun _ _ q _ => q))
            replace hq := hq e670
            refine x_goto (tgt := 492) dX9_library_294 (by decide) ?_
            refine xP.pick (lv' := []) [] rfl ?_
            exact uX9_library_492 hq
      replace hq := hq.2
      by_cases c671 : x1 = 83
      · replace hq := hq.1 c671
        refine x_tin (tgt := 318) (off := 112) 83 c671 dX9_library_206 (by decide) (by decide) (by decide) (by decide) ?_
        refine x_aload_n 3 dX9_library_318 rfl ?_
        have t672 : tg h655 x0 = 10 := by rw [e656]; exact g1
        refine x_get (v := rv (fR h655 x0 2306)) fdX9_23 dX9_library_319 t672 rfl ?_
        refine x_iload 0 dX9_library_322 rfl ?_
        obtain ⟨g673, hq⟩ := hq
        obtain ⟨g674, g675, hq⟩ := hq
        refine x_callV (Yc := YX11_empty) (as := [.int (Int64.toInt32 (aJ h (fR h x0 2307) (Int32.toNatClampNeg ((fI h x0 2310) - 1))))]) (st := []) q3017 mvX11_empty g673 rfl dX9_library_324 (xle (xal1 (rv_cat _) (xal1 rfl xal0)) (by decide)) (xfr g674) (xlo xsw0 (by decide) g675) (xKv hq (fun h676 hq e678 => ?_) (fun _ _ q _ => q))
        replace hq := hq e678
        refine x_aload_n 3 dX9_library_327 rfl ?_
        have t679 : tg h676 x0 = 10 := e678.tg t672 (by decide)
        refine x_get (v := rv (fR h676 x0 2306)) fdX9_23 dX9_library_328 t679 rfl ?_
        obtain ⟨g680, hq⟩ := hq
        refine x_getN (v := rv (fR h676 (fR h676 x0 2306) 2817)) gfX9_429 dX9_library_331 g680 rfl ?_
        refine x_iload 0 dX9_library_334 rfl ?_
        refine x_iconst (v := 2) dX9_library_336 (by decide) ?_
        obtain ⟨g681, hq⟩ := hq
        obtain ⟨i682, hq⟩ := hq
        obtain ⟨h683, e684⟩ : ∃ y, y = tI h676 (fR h676 (fR h676 x0 2306) 2817) (Int32.toNatClampNeg (Int64.toInt32 (aJ h (fR h x0 2307) (Int32.toNatClampNeg ((fI h x0 2310) - 1))))) 2 := ⟨_, rfl⟩
        replace hq := hq h683 e684
        refine x_iast' g681 i682 dX9_library_337 e684 ?_
        refine x_aload_n 3 dX9_library_338 rfl ?_
        have t685 : tg h683 x0 = 10 := by rw [e684]; exact t679
        refine x_get (v := rv (fR h683 x0 2306)) fdX9_23 dX9_library_339 t685 rfl ?_
        refine x_iload 0 dX9_library_342 rfl ?_
        refine x_aload_n 3 dX9_library_344 rfl ?_
        refine x_get (v := rv (fR h683 x0 2304)) fdX9_75 dX9_library_345 t685 rfl ?_
        obtain ⟨g686, hq⟩ := hq
        refine x_getN (v := rv (fR h683 (fR h683 x0 2304) 514)) gfX9_204 dX9_library_348 g686 rfl ?_
        refine x_iload_n 5 dX9_library_351 rfl ?_
        obtain ⟨g687, hq⟩ := hq
        obtain ⟨i688, hq⟩ := hq
        refine x_iald 0 (Or.inl rfl) g687 i688 dX9_library_352 ?_
        obtain ⟨g689, hq⟩ := hq
        obtain ⟨g690, g691, hq⟩ := hq
        refine x_callV (Yc := YX11_bring) (as := [.int (Int64.toInt32 (aJ h (fR h x0 2307) (Int32.toNatClampNeg ((fI h x0 2310) - 1)))), .int (aI h683 (fR h683 (fR h683 x0 2304) 514) (Int32.toNatClampNeg x2))]) (st := []) q3144 mvX11_bring g689 rfl dX9_library_353 (xle (xal1 (rv_cat _) (xal1 rfl (xal1 rfl xal0))) (by decide)) (xfr g690) (xlo xsw0 (by decide) g691) (xKv hq (fun h692 hq e694 => ?_) (fun _ _ q _ => q))
        replace hq := hq e694
        refine x_goto (tgt := 492) dX9_library_356 (by decide) ?_
        refine xP.pick (lv' := []) [] rfl ?_
        exact uX9_library_492 hq
      replace hq := hq.2
      by_cases c695 : x1 = 84
      · replace hq := hq.1 c695
        refine x_tin (tgt := 359) (off := 153) 84 c695 dX9_library_206 (by decide) (by decide) (by decide) (by decide) ?_
        refine x_aload_n 3 dX9_library_359 rfl ?_
        have t696 : tg h655 x0 = 10 := by rw [e656]; exact g1
        refine x_get (v := rv (fR h655 x0 2306)) fdX9_23 dX9_library_360 t696 rfl ?_
        obtain ⟨g697, hq⟩ := hq
        refine x_getN (v := rv (fR h655 (fR h655 x0 2306) 2817)) gfX9_429 dX9_library_363 g697 rfl ?_
        refine x_iload 0 dX9_library_366 rfl ?_
        obtain ⟨g698, hq⟩ := hq
        obtain ⟨i699, hq⟩ := hq
        refine x_iald 0 (Or.inl rfl) g698 i699 dX9_library_368 ?_
        refine x_iconst (v := 1) dX9_library_369 (by decide) ?_
        refine x_icmp_ne (tgt := 387) dX9_library_370 (by decide) (fun c700 => ?_) (fun c700 => ?_)
        · replace hq := hq.1 c700
          refine xP.pick (lv' := [(0, rv x0), (2, .int x2), (4, .int (aI h (fR h (fR h x0 2304) 516) (Int32.toNatClampNeg x2))), (5, .int (Int64.toInt32 (aJ h (fR h x0 2307) (Int32.toNatClampNeg ((fI h x0 2310) - 1)))))]) [3, 5, 1, 0] rfl ?_
          exact uX9_library_387 hq
        · replace hq := hq.2 c700
          refine x_aload_n 3 dX9_library_373 rfl ?_
          refine x_get (v := rv (fR h655 x0 2306)) fdX9_23 dX9_library_374 t696 rfl ?_
          refine x_getN (v := rv (fR h655 (fR h655 x0 2306) 2820)) gfX9_432 dX9_library_377 g697 rfl ?_
          refine x_iload 0 dX9_library_380 rfl ?_
          obtain ⟨g701, hq⟩ := hq
          obtain ⟨i702, hq⟩ := hq
          refine x_iald 0 (Or.inl rfl) g701 i702 dX9_library_382 ?_
          refine x_iconst (v := (-1)) dX9_library_383 (by decide) ?_
          refine x_icmp_ne (tgt := 395) dX9_library_384 (by decide) (fun c703 => ?_) (fun c703 => ?_)
          · replace hq := hq.1 c703
            refine xP.pick (lv' := [(0, rv x0), (2, .int x2), (5, .int (Int64.toInt32 (aJ h (fR h x0 2307) (Int32.toNatClampNeg ((fI h x0 2310) - 1)))))]) [3, 5, 0] rfl ?_
            exact uX9_library_395 hq
          · replace hq := hq.2 c703
            refine xP.pick (lv' := [(0, rv x0), (2, .int x2), (4, .int (aI h (fR h (fR h x0 2304) 516) (Int32.toNatClampNeg x2))), (5, .int (Int64.toInt32 (aJ h (fR h x0 2307) (Int32.toNatClampNeg ((fI h x0 2310) - 1)))))]) [3, 5, 1, 0] rfl ?_
            exact uX9_library_387 hq
      replace hq := hq.2
      by_cases c704 : x1 = 85
      · replace hq := hq.1 c704
        refine x_tin (tgt := 425) (off := 219) 85 c704 dX9_library_206 (by decide) (by decide) (by decide) (by decide) ?_
        refine x_aload_n 3 dX9_library_425 rfl ?_
        refine x_iload 0 dX9_library_426 rfl ?_
        refine x_aload_n 3 dX9_library_428 rfl ?_
        have t705 : tg h655 x0 = 10 := by rw [e656]; exact g1
        refine x_get (v := rv (fR h655 x0 2304)) fdX9_75 dX9_library_429 t705 rfl ?_
        obtain ⟨g706, hq⟩ := hq
        refine x_getN (v := rv (fR h655 (fR h655 x0 2304) 514)) gfX9_204 dX9_library_432 g706 rfl ?_
        refine x_iload_n 5 dX9_library_435 rfl ?_
        obtain ⟨g707, hq⟩ := hq
        obtain ⟨i708, hq⟩ := hq
        refine x_iald 0 (Or.inl rfl) g707 i708 dX9_library_436 ?_
        refine x_aload_n 3 dX9_library_437 rfl ?_
        refine x_get (v := rv (fR h655 x0 2304)) fdX9_75 dX9_library_438 t705 rfl ?_
        refine x_getN (v := rv (fR h655 (fR h655 x0 2304) 515)) gfX9_224 dX9_library_441 g706 rfl ?_
        refine x_iload_n 5 dX9_library_444 rfl ?_
        obtain ⟨g709, hq⟩ := hq
        obtain ⟨i710, hq⟩ := hq
        refine x_iald 0 (Or.inl rfl) g709 i710 dX9_library_445 ?_
        refine x_iconst (v := 1) dX9_library_446 (by decide) ?_
        refine x_icmp_ne (tgt := 454) dX9_library_447 (by decide) (fun c711 => ?_) (fun c711 => ?_)
        · replace hq := hq.1 c711
          refine x_iconst (v := 0) dX9_library_454 (by decide) ?_
          refine xP.pick (lv' := [(4, .int (aI h (fR h (fR h x0 2304) 516) (Int32.toNatClampNeg x2)))]) [1] rfl ?_
          exact uX9_library_455 hq
        · replace hq := hq.2 c711
          refine x_iconst (v := 1) dX9_library_450 (by decide) ?_
          refine x_goto (tgt := 455) dX9_library_451 (by decide) ?_
          refine xP.pick (lv' := [(4, .int (aI h (fR h (fR h x0 2304) 516) (Int32.toNatClampNeg x2)))]) [1] rfl ?_
          exact uX9_library_455 hq
      replace hq := hq.2
      by_cases c712 : x1 = 86
      · replace hq := hq.1 c712
        refine x_tin (tgt := 474) (off := 268) 86 c712 dX9_library_206 (by decide) (by decide) (by decide) (by decide) ?_
        refine x_aload_n 3 dX9_library_474 rfl ?_
        refine x_iload_n 4 dX9_library_475 rfl ?_
        refine x_iload 0 dX9_library_476 rfl ?_
        refine x_iload 1 dX9_library_478 rfl ?_
        refine x_aload_n 3 dX9_library_480 rfl ?_
        have t713 : tg h655 x0 = 10 := by rw [e656]; exact g1
        refine x_get (v := rv (fR h655 x0 2304)) fdX9_75 dX9_library_481 t713 rfl ?_
        obtain ⟨g714, hq⟩ := hq
        refine x_getN (v := rv (fR h655 (fR h655 x0 2304) 515)) gfX9_224 dX9_library_484 g714 rfl ?_
        refine x_iload_n 5 dX9_library_487 rfl ?_
        obtain ⟨g715, hq⟩ := hq
        obtain ⟨i716, hq⟩ := hq
        refine x_iald 0 (Or.inl rfl) g715 i716 dX9_library_488 ?_
        obtain ⟨g717, g718, hq⟩ := hq
        refine x_callV (Yc := YX9_readsNumber) (as := [.int x1, .int (Int64.toInt32 (aJ h (fR h x0 2307) (Int32.toNatClampNeg ((fI h x0 2310) - 1)))), .int (aI h (fR h (fR h x0 2304) 516) (Int32.toNatClampNeg x2)), .int (aI h655 (fR h655 (fR h655 x0 2304) 515) (Int32.toNatClampNeg x2))]) (st := []) q3161 mvX9_readsNumber t713 rfl dX9_library_489 (xle (xal1 (rv_cat _) (xal1 rfl (xal1 rfl (xal1 rfl (xal1 rfl xal0))))) (by decide)) (xfr g717) (xlo xsw0 (by decide) g718) (xKv hq (fun h719 hq e721 => ?_) (fun _ _ q _ => q))
        replace hq := hq e721
        refine xP.pick (lv' := []) [] rfl ?_
        exact uX9_library_492 hq
      replace hq := hq.2
      by_cases c722 : x1 = 87
      · replace hq := hq.1 c722
        refine x_tin (tgt := 474) (off := 268) 87 c722 dX9_library_206 (by decide) (by decide) (by decide) (by decide) ?_
        refine x_aload_n 3 dX9_library_474 rfl ?_
        refine x_iload_n 4 dX9_library_475 rfl ?_
        refine x_iload 0 dX9_library_476 rfl ?_
        refine x_iload 1 dX9_library_478 rfl ?_
        refine x_aload_n 3 dX9_library_480 rfl ?_
        have t723 : tg h655 x0 = 10 := by rw [e656]; exact g1
        refine x_get (v := rv (fR h655 x0 2304)) fdX9_75 dX9_library_481 t723 rfl ?_
        obtain ⟨g724, hq⟩ := hq
        refine x_getN (v := rv (fR h655 (fR h655 x0 2304) 515)) gfX9_224 dX9_library_484 g724 rfl ?_
        refine x_iload_n 5 dX9_library_487 rfl ?_
        obtain ⟨g725, hq⟩ := hq
        obtain ⟨i726, hq⟩ := hq
        refine x_iald 0 (Or.inl rfl) g725 i726 dX9_library_488 ?_
        obtain ⟨g727, g728, hq⟩ := hq
        refine x_callV (Yc := YX9_readsNumber) (as := [.int x1, .int (Int64.toInt32 (aJ h (fR h x0 2307) (Int32.toNatClampNeg ((fI h x0 2310) - 1)))), .int (aI h (fR h (fR h x0 2304) 516) (Int32.toNatClampNeg x2)), .int (aI h655 (fR h655 (fR h655 x0 2304) 515) (Int32.toNatClampNeg x2))]) (st := []) q3161 mvX9_readsNumber t723 rfl dX9_library_489 (xle (xal1 (rv_cat _) (xal1 rfl (xal1 rfl (xal1 rfl (xal1 rfl xal0))))) (by decide)) (xfr g727) (xlo xsw0 (by decide) g728) (xKv hq (fun h729 hq e731 => ?_) (fun _ _ q _ => q))
        replace hq := hq e731
        refine xP.pick (lv' := []) [] rfl ?_
        exact uX9_library_492 hq
      replace hq := hq.2
      by_cases c732 : x1 = 88
      · replace hq := hq.1 c732
        refine x_tin (tgt := 474) (off := 268) 88 c732 dX9_library_206 (by decide) (by decide) (by decide) (by decide) ?_
        refine x_aload_n 3 dX9_library_474 rfl ?_
        refine x_iload_n 4 dX9_library_475 rfl ?_
        refine x_iload 0 dX9_library_476 rfl ?_
        refine x_iload 1 dX9_library_478 rfl ?_
        refine x_aload_n 3 dX9_library_480 rfl ?_
        have t733 : tg h655 x0 = 10 := by rw [e656]; exact g1
        refine x_get (v := rv (fR h655 x0 2304)) fdX9_75 dX9_library_481 t733 rfl ?_
        obtain ⟨g734, hq⟩ := hq
        refine x_getN (v := rv (fR h655 (fR h655 x0 2304) 515)) gfX9_224 dX9_library_484 g734 rfl ?_
        refine x_iload_n 5 dX9_library_487 rfl ?_
        obtain ⟨g735, hq⟩ := hq
        obtain ⟨i736, hq⟩ := hq
        refine x_iald 0 (Or.inl rfl) g735 i736 dX9_library_488 ?_
        obtain ⟨g737, g738, hq⟩ := hq
        refine x_callV (Yc := YX9_readsNumber) (as := [.int x1, .int (Int64.toInt32 (aJ h (fR h x0 2307) (Int32.toNatClampNeg ((fI h x0 2310) - 1)))), .int (aI h (fR h (fR h x0 2304) 516) (Int32.toNatClampNeg x2)), .int (aI h655 (fR h655 (fR h655 x0 2304) 515) (Int32.toNatClampNeg x2))]) (st := []) q3161 mvX9_readsNumber t733 rfl dX9_library_489 (xle (xal1 (rv_cat _) (xal1 rfl (xal1 rfl (xal1 rfl (xal1 rfl xal0))))) (by decide)) (xfr g737) (xlo xsw0 (by decide) g738) (xKv hq (fun h739 hq e741 => ?_) (fun _ _ q _ => q))
        replace hq := hq e741
        refine xP.pick (lv' := []) [] rfl ?_
        exact uX9_library_492 hq
      replace hq := hq.2
      by_cases c742 : x1 = 89
      · replace hq := hq.1 c742
        refine x_tin (tgt := 474) (off := 268) 89 c742 dX9_library_206 (by decide) (by decide) (by decide) (by decide) ?_
        refine x_aload_n 3 dX9_library_474 rfl ?_
        refine x_iload_n 4 dX9_library_475 rfl ?_
        refine x_iload 0 dX9_library_476 rfl ?_
        refine x_iload 1 dX9_library_478 rfl ?_
        refine x_aload_n 3 dX9_library_480 rfl ?_
        have t743 : tg h655 x0 = 10 := by rw [e656]; exact g1
        refine x_get (v := rv (fR h655 x0 2304)) fdX9_75 dX9_library_481 t743 rfl ?_
        obtain ⟨g744, hq⟩ := hq
        refine x_getN (v := rv (fR h655 (fR h655 x0 2304) 515)) gfX9_224 dX9_library_484 g744 rfl ?_
        refine x_iload_n 5 dX9_library_487 rfl ?_
        obtain ⟨g745, hq⟩ := hq
        obtain ⟨i746, hq⟩ := hq
        refine x_iald 0 (Or.inl rfl) g745 i746 dX9_library_488 ?_
        obtain ⟨g747, g748, hq⟩ := hq
        refine x_callV (Yc := YX9_readsNumber) (as := [.int x1, .int (Int64.toInt32 (aJ h (fR h x0 2307) (Int32.toNatClampNeg ((fI h x0 2310) - 1)))), .int (aI h (fR h (fR h x0 2304) 516) (Int32.toNatClampNeg x2)), .int (aI h655 (fR h655 (fR h655 x0 2304) 515) (Int32.toNatClampNeg x2))]) (st := []) q3161 mvX9_readsNumber t743 rfl dX9_library_489 (xle (xal1 (rv_cat _) (xal1 rfl (xal1 rfl (xal1 rfl (xal1 rfl xal0))))) (by decide)) (xfr g747) (xlo xsw0 (by decide) g748) (xKv hq (fun h749 hq e751 => ?_) (fun _ _ q _ => q))
        replace hq := hq e751
        refine xP.pick (lv' := []) [] rfl ?_
        exact uX9_library_492 hq
      replace hq := hq.2
      by_cases c752 : x1 = 90
      · replace hq := hq.1 c752
        refine x_tin (tgt := 474) (off := 268) 90 c752 dX9_library_206 (by decide) (by decide) (by decide) (by decide) ?_
        refine x_aload_n 3 dX9_library_474 rfl ?_
        refine x_iload_n 4 dX9_library_475 rfl ?_
        refine x_iload 0 dX9_library_476 rfl ?_
        refine x_iload 1 dX9_library_478 rfl ?_
        refine x_aload_n 3 dX9_library_480 rfl ?_
        have t753 : tg h655 x0 = 10 := by rw [e656]; exact g1
        refine x_get (v := rv (fR h655 x0 2304)) fdX9_75 dX9_library_481 t753 rfl ?_
        obtain ⟨g754, hq⟩ := hq
        refine x_getN (v := rv (fR h655 (fR h655 x0 2304) 515)) gfX9_224 dX9_library_484 g754 rfl ?_
        refine x_iload_n 5 dX9_library_487 rfl ?_
        obtain ⟨g755, hq⟩ := hq
        obtain ⟨i756, hq⟩ := hq
        refine x_iald 0 (Or.inl rfl) g755 i756 dX9_library_488 ?_
        obtain ⟨g757, g758, hq⟩ := hq
        refine x_callV (Yc := YX9_readsNumber) (as := [.int x1, .int (Int64.toInt32 (aJ h (fR h x0 2307) (Int32.toNatClampNeg ((fI h x0 2310) - 1)))), .int (aI h (fR h (fR h x0 2304) 516) (Int32.toNatClampNeg x2)), .int (aI h655 (fR h655 (fR h655 x0 2304) 515) (Int32.toNatClampNeg x2))]) (st := []) q3161 mvX9_readsNumber t753 rfl dX9_library_489 (xle (xal1 (rv_cat _) (xal1 rfl (xal1 rfl (xal1 rfl (xal1 rfl xal0))))) (by decide)) (xfr g757) (xlo xsw0 (by decide) g758) (xKv hq (fun h759 hq e761 => ?_) (fun _ _ q _ => q))
        replace hq := hq e761
        refine xP.pick (lv' := []) [] rfl ?_
        exact uX9_library_492 hq
      replace hq := hq.2
      by_cases c762 : x1 = 91
      · replace hq := hq.1 c762
        refine x_tin (tgt := 463) (off := 257) 91 c762 dX9_library_206 (by decide) (by decide) (by decide) (by decide) ?_
        refine x_aload_n 3 dX9_library_463 rfl ?_
        refine x_iload 0 dX9_library_464 rfl ?_
        refine x_iload 1 dX9_library_466 rfl ?_
        have t763 : tg h655 x0 = 10 := by rw [e656]; exact g1
        obtain ⟨g764, g765, hq⟩ := hq
        refine x_callV (Yc := YX9_passes) (as := [.int (Int64.toInt32 (aJ h (fR h x0 2307) (Int32.toNatClampNeg ((fI h x0 2310) - 1)))), .int (aI h (fR h (fR h x0 2304) 516) (Int32.toNatClampNeg x2))]) (st := []) q3157 mvX9_passes t763 rfl dX9_library_468 (xle (xal1 (rv_cat _) (xal1 rfl (xal1 rfl xal0))) (by decide)) (xfr g764) (xlo xsw0 (by decide) g765) (xKv hq (fun h766 hq e768 => ?_) (fun _ _ q _ => q))
        replace hq := hq e768
        refine x_goto (tgt := 492) dX9_library_471 (by decide) ?_
        refine xP.pick (lv' := []) [] rfl ?_
        exact uX9_library_492 hq
      replace hq := hq.2
      replace hq := hq c657 c671 c695 c704 c712 c722 c732 c742 c752 c762
      have nc657 := lv_neT c657 (show (82 : Int32).toInt = 82 from by decide)
      have nc671 := lv_neT c671 (show (83 : Int32).toInt = 83 from by decide)
      have nc695 := lv_neT c695 (show (84 : Int32).toInt = 84 from by decide)
      have nc704 := lv_neT c704 (show (85 : Int32).toInt = 85 from by decide)
      have nc712 := lv_neT c712 (show (86 : Int32).toInt = 86 from by decide)
      have nc722 := lv_neT c722 (show (87 : Int32).toInt = 87 from by decide)
      have nc732 := lv_neT c732 (show (88 : Int32).toInt = 88 from by decide)
      have nc742 := lv_neT c742 (show (89 : Int32).toInt = 89 from by decide)
      have nc752 := lv_neT c752 (show (90 : Int32).toInt = 90 from by decide)
      have nc762 := lv_neT c762 (show (91 : Int32).toInt = 91 from by decide)
      refine x_tout (tgt := 474) dX9_library_206 (by omega) (by decide) ?_
      refine x_aload_n 3 dX9_library_474 rfl ?_
      refine x_iload_n 4 dX9_library_475 rfl ?_
      refine x_iload 0 dX9_library_476 rfl ?_
      refine x_iload 1 dX9_library_478 rfl ?_
      refine x_aload_n 3 dX9_library_480 rfl ?_
      have t769 : tg h655 x0 = 10 := by rw [e656]; exact g1
      refine x_get (v := rv (fR h655 x0 2304)) fdX9_75 dX9_library_481 t769 rfl ?_
      obtain ⟨g770, hq⟩ := hq
      refine x_getN (v := rv (fR h655 (fR h655 x0 2304) 515)) gfX9_224 dX9_library_484 g770 rfl ?_
      refine x_iload_n 5 dX9_library_487 rfl ?_
      obtain ⟨g771, hq⟩ := hq
      obtain ⟨i772, hq⟩ := hq
      refine x_iald 0 (Or.inl rfl) g771 i772 dX9_library_488 ?_
      obtain ⟨g773, g774, hq⟩ := hq
      refine x_callV (Yc := YX9_readsNumber) (as := [.int x1, .int (Int64.toInt32 (aJ h (fR h x0 2307) (Int32.toNatClampNeg ((fI h x0 2310) - 1)))), .int (aI h (fR h (fR h x0 2304) 516) (Int32.toNatClampNeg x2)), .int (aI h655 (fR h655 (fR h655 x0 2304) 515) (Int32.toNatClampNeg x2))]) (st := []) q3161 mvX9_readsNumber t769 rfl dX9_library_489 (xle (xal1 (rv_cat _) (xal1 rfl (xal1 rfl (xal1 rfl (xal1 rfl xal0))))) (by decide)) (xfr g773) (xlo xsw0 (by decide) g774) (xKv hq (fun h775 hq e777 => ?_) (fun _ _ q _ => q))
      replace hq := hq e777
      refine xP.pick (lv' := []) [] rfl ?_
      exact uX9_library_492 hq
    replace hq := hq.2
    by_cases c778 : x1 = 90
    · replace hq := hq.1 c778
      refine x_tin (tgt := 195) (off := 146) 90 c778 dX9_library_49 (by decide) (by decide) (by decide) (by decide) ?_
      refine x_aload_n 3 dX9_library_195 rfl ?_
      refine x_dup dX9_library_196 (rv_cat _) ?_
      refine x_get (v := .int (fI h x0 2310)) fdX9_86 dX9_library_197 g1 rfl ?_
      refine x_iconst (v := 1) dX9_library_200 (by decide) ?_
      refine x_isub dX9_library_201 ?_
      obtain ⟨h779, e780⟩ : ∃ y, y = sI h x0 2310 ((fI h x0 2310) - 1) := ⟨_, rfl⟩
      replace hq := hq h779 e780
      refine x_putI fdX9_86 xty_I1 dX9_library_202 g1 (Or.inl (by rw [g1]; rfl)) xnI rfl e780 ?_
      refine x_iload_n 4 dX9_library_205 rfl ?_
      by_cases c781 : x1 = 82
      · replace hq := hq.1 c781
        refine x_tin (tgt := 260) (off := 54) 82 c781 dX9_library_206 (by decide) (by decide) (by decide) (by decide) ?_
        refine x_aload_n 3 dX9_library_260 rfl ?_
        have t782 : tg h779 x0 = 10 := by rw [e780]; exact g1
        refine x_get (v := rv (fR h779 x0 2306)) fdX9_23 dX9_library_261 t782 rfl ?_
        obtain ⟨g783, hq⟩ := hq
        refine x_getN (v := rv (fR h779 (fR h779 x0 2306) 2817)) gfX9_429 dX9_library_264 g783 rfl ?_
        refine x_iload 0 dX9_library_267 rfl ?_
        obtain ⟨g784, hq⟩ := hq
        obtain ⟨i785, hq⟩ := hq
        refine x_iald 0 (Or.inl rfl) g784 i785 dX9_library_269 ?_
        refine x_if_ne (tgt := 297) dX9_library_270 (by decide) (fun c786 => ?_) (fun c786 => ?_)
        · replace hq := hq.1 c786
          refine xP.pick (lv' := [(0, rv x0), (2, .int x2), (5, .int (Int64.toInt32 (aJ h (fR h x0 2307) (Int32.toNatClampNeg ((fI h x0 2310) - 1)))))]) [3, 5, 0] rfl ?_
          exact uX9_library_297 hq
        · replace hq := hq.2 c786
          refine x_aload_n 3 dX9_library_273 rfl ?_
          refine x_get (v := rv (fR h779 x0 2306)) fdX9_23 dX9_library_274 t782 rfl ?_
          refine x_getN (v := rv (fR h779 (fR h779 x0 2306) 2824)) gfX9_435 dX9_library_277 g783 rfl ?_
          refine x_iload 0 dX9_library_280 rfl ?_
          obtain ⟨g787, hq⟩ := hq
          obtain ⟨i788, hq⟩ := hq
          refine x_zald g787 i788 dX9_library_282 ?_
          refine x_if_ne (tgt := 297) dX9_library_283 (by decide) (fun c789 => ?_) (fun c789 => ?_)
          · replace hq := hq.1 c789
            refine xP.pick (lv' := [(0, rv x0), (2, .int x2), (5, .int (Int64.toInt32 (aJ h (fR h x0 2307) (Int32.toNatClampNeg ((fI h x0 2310) - 1)))))]) [3, 5, 0] rfl ?_
            exact uX9_library_297 hq
          · replace hq := hq.2 c789
            refine x_aload_n 3 dX9_library_286 rfl ?_
            refine x_bipush (v := 10) dX9_library_287 (by decide) ?_
            refine x_iload 1 dX9_library_289 rfl ?_
            obtain ⟨g790, g791, hq⟩ := hq
            refine x_callV (Yc := YX9_fail) (as := [.int 10, .int (aI h (fR h (fR h x0 2304) 516) (Int32.toNatClampNeg x2))]) (st := []) q2835 mvX9_fail t782 rfl dX9_library_291 (xle (xal1 (rv_cat _) (xal1 rfl (xal1 rfl xal0))) (by decide)) (xfr g790) (xlo xsw0 (by decide) g791) (xKv hq (fun h792 hq e794 => ?_) (fun _ _ q _ => q))
            replace hq := hq e794
            refine x_goto (tgt := 492) dX9_library_294 (by decide) ?_
            refine xP.pick (lv' := []) [] rfl ?_
            exact uX9_library_492 hq
      replace hq := hq.2
      by_cases c795 : x1 = 83
      · replace hq := hq.1 c795
        refine x_tin (tgt := 318) (off := 112) 83 c795 dX9_library_206 (by decide) (by decide) (by decide) (by decide) ?_
        refine x_aload_n 3 dX9_library_318 rfl ?_
        have t796 : tg h779 x0 = 10 := by rw [e780]; exact g1
        refine x_get (v := rv (fR h779 x0 2306)) fdX9_23 dX9_library_319 t796 rfl ?_
        refine x_iload 0 dX9_library_322 rfl ?_
        obtain ⟨g797, hq⟩ := hq
        obtain ⟨g798, g799, hq⟩ := hq
        refine x_callV (Yc := YX11_empty) (as := [.int (Int64.toInt32 (aJ h (fR h x0 2307) (Int32.toNatClampNeg ((fI h x0 2310) - 1))))]) (st := []) q3017 mvX11_empty g797 rfl dX9_library_324 (xle (xal1 (rv_cat _) (xal1 rfl xal0)) (by decide)) (xfr g798) (xlo xsw0 (by decide) g799) (xKv hq (fun h800 hq e802 => ?_) (fun _ _ q _ => q))
        replace hq := hq e802
        refine x_aload_n 3 dX9_library_327 rfl ?_
        have t803 : tg h800 x0 = 10 := e802.tg t796 (by decide)
        refine x_get (v := rv (fR h800 x0 2306)) fdX9_23 dX9_library_328 t803 rfl ?_
        obtain ⟨g804, hq⟩ := hq
        refine x_getN (v := rv (fR h800 (fR h800 x0 2306) 2817)) gfX9_429 dX9_library_331 g804 rfl ?_
        refine x_iload 0 dX9_library_334 rfl ?_
        refine x_iconst (v := 2) dX9_library_336 (by decide) ?_
        obtain ⟨g805, hq⟩ := hq
        obtain ⟨i806, hq⟩ := hq
        obtain ⟨h807, e808⟩ : ∃ y, y = tI h800 (fR h800 (fR h800 x0 2306) 2817) (Int32.toNatClampNeg (Int64.toInt32 (aJ h (fR h x0 2307) (Int32.toNatClampNeg ((fI h x0 2310) - 1))))) 2 := ⟨_, rfl⟩
        replace hq := hq h807 e808
        refine x_iast' g805 i806 dX9_library_337 e808 ?_
        refine x_aload_n 3 dX9_library_338 rfl ?_
        have t809 : tg h807 x0 = 10 := by rw [e808]; exact t803
        refine x_get (v := rv (fR h807 x0 2306)) fdX9_23 dX9_library_339 t809 rfl ?_
        refine x_iload 0 dX9_library_342 rfl ?_
        refine x_aload_n 3 dX9_library_344 rfl ?_
        refine x_get (v := rv (fR h807 x0 2304)) fdX9_75 dX9_library_345 t809 rfl ?_
        obtain ⟨g810, hq⟩ := hq
        refine x_getN (v := rv (fR h807 (fR h807 x0 2304) 514)) gfX9_204 dX9_library_348 g810 rfl ?_
        refine x_iload_n 5 dX9_library_351 rfl ?_
        obtain ⟨g811, hq⟩ := hq
        obtain ⟨i812, hq⟩ := hq
        refine x_iald 0 (Or.inl rfl) g811 i812 dX9_library_352 ?_
        obtain ⟨g813, hq⟩ := hq
        obtain ⟨g814, g815, hq⟩ := hq
        refine x_callV (Yc := YX11_bring) (as := [.int (Int64.toInt32 (aJ h (fR h x0 2307) (Int32.toNatClampNeg ((fI h x0 2310) - 1)))), .int (aI h807 (fR h807 (fR h807 x0 2304) 514) (Int32.toNatClampNeg x2))]) (st := []) q3144 mvX11_bring g813 rfl dX9_library_353 (xle (xal1 (rv_cat _) (xal1 rfl (xal1 rfl xal0))) (by decide)) (xfr g814) (xlo xsw0 (by decide) g815) (xKv hq (fun h816 hq e818 => ?_) (fun _ _ q _ => q))
        replace hq := hq e818
        refine x_goto (tgt := 492) dX9_library_356 (by decide) ?_
        refine xP.pick (lv' := []) [] rfl ?_
        exact uX9_library_492 hq
      replace hq := hq.2
      by_cases c819 : x1 = 84
      · replace hq := hq.1 c819
        refine x_tin (tgt := 359) (off := 153) 84 c819 dX9_library_206 (by decide) (by decide) (by decide) (by decide) ?_
        refine x_aload_n 3 dX9_library_359 rfl ?_
        have t820 : tg h779 x0 = 10 := by rw [e780]; exact g1
        refine x_get (v := rv (fR h779 x0 2306)) fdX9_23 dX9_library_360 t820 rfl ?_
        obtain ⟨g821, hq⟩ := hq
        refine x_getN (v := rv (fR h779 (fR h779 x0 2306) 2817)) gfX9_429 dX9_library_363 g821 rfl ?_
        refine x_iload 0 dX9_library_366 rfl ?_
        obtain ⟨g822, hq⟩ := hq
        obtain ⟨i823, hq⟩ := hq
        refine x_iald 0 (Or.inl rfl) g822 i823 dX9_library_368 ?_
        refine x_iconst (v := 1) dX9_library_369 (by decide) ?_
        refine x_icmp_ne (tgt := 387) dX9_library_370 (by decide) (fun c824 => ?_) (fun c824 => ?_)
        · replace hq := hq.1 c824
          refine xP.pick (lv' := [(0, rv x0), (2, .int x2), (4, .int (aI h (fR h (fR h x0 2304) 516) (Int32.toNatClampNeg x2))), (5, .int (Int64.toInt32 (aJ h (fR h x0 2307) (Int32.toNatClampNeg ((fI h x0 2310) - 1)))))]) [3, 5, 1, 0] rfl ?_
          exact uX9_library_387 hq
        · replace hq := hq.2 c824
          refine x_aload_n 3 dX9_library_373 rfl ?_
          refine x_get (v := rv (fR h779 x0 2306)) fdX9_23 dX9_library_374 t820 rfl ?_
          refine x_getN (v := rv (fR h779 (fR h779 x0 2306) 2820)) gfX9_432 dX9_library_377 g821 rfl ?_
          refine x_iload 0 dX9_library_380 rfl ?_
          obtain ⟨g825, hq⟩ := hq
          obtain ⟨i826, hq⟩ := hq
          refine x_iald 0 (Or.inl rfl) g825 i826 dX9_library_382 ?_
          refine x_iconst (v := (-1)) dX9_library_383 (by decide) ?_
          refine x_icmp_ne (tgt := 395) dX9_library_384 (by decide) (fun c827 => ?_) (fun c827 => ?_)
          · replace hq := hq.1 c827
            refine xP.pick (lv' := [(0, rv x0), (2, .int x2), (5, .int (Int64.toInt32 (aJ h (fR h x0 2307) (Int32.toNatClampNeg ((fI h x0 2310) - 1)))))]) [3, 5, 0] rfl ?_
            exact uX9_library_395 hq
          · replace hq := hq.2 c827
            refine xP.pick (lv' := [(0, rv x0), (2, .int x2), (4, .int (aI h (fR h (fR h x0 2304) 516) (Int32.toNatClampNeg x2))), (5, .int (Int64.toInt32 (aJ h (fR h x0 2307) (Int32.toNatClampNeg ((fI h x0 2310) - 1)))))]) [3, 5, 1, 0] rfl ?_
            exact uX9_library_387 hq
      replace hq := hq.2
      by_cases c828 : x1 = 85
      · replace hq := hq.1 c828
        refine x_tin (tgt := 425) (off := 219) 85 c828 dX9_library_206 (by decide) (by decide) (by decide) (by decide) ?_
        refine x_aload_n 3 dX9_library_425 rfl ?_
        refine x_iload 0 dX9_library_426 rfl ?_
        refine x_aload_n 3 dX9_library_428 rfl ?_
        have t829 : tg h779 x0 = 10 := by rw [e780]; exact g1
        refine x_get (v := rv (fR h779 x0 2304)) fdX9_75 dX9_library_429 t829 rfl ?_
        obtain ⟨g830, hq⟩ := hq
        refine x_getN (v := rv (fR h779 (fR h779 x0 2304) 514)) gfX9_204 dX9_library_432 g830 rfl ?_
        refine x_iload_n 5 dX9_library_435 rfl ?_
        obtain ⟨g831, hq⟩ := hq
        obtain ⟨i832, hq⟩ := hq
        refine x_iald 0 (Or.inl rfl) g831 i832 dX9_library_436 ?_
        refine x_aload_n 3 dX9_library_437 rfl ?_
        refine x_get (v := rv (fR h779 x0 2304)) fdX9_75 dX9_library_438 t829 rfl ?_
        refine x_getN (v := rv (fR h779 (fR h779 x0 2304) 515)) gfX9_224 dX9_library_441 g830 rfl ?_
        refine x_iload_n 5 dX9_library_444 rfl ?_
        obtain ⟨g833, hq⟩ := hq
        obtain ⟨i834, hq⟩ := hq
        refine x_iald 0 (Or.inl rfl) g833 i834 dX9_library_445 ?_
        refine x_iconst (v := 1) dX9_library_446 (by decide) ?_
        refine x_icmp_ne (tgt := 454) dX9_library_447 (by decide) (fun c835 => ?_) (fun c835 => ?_)
        · replace hq := hq.1 c835
          refine x_iconst (v := 0) dX9_library_454 (by decide) ?_
          refine xP.pick (lv' := [(4, .int (aI h (fR h (fR h x0 2304) 516) (Int32.toNatClampNeg x2)))]) [1] rfl ?_
          exact uX9_library_455 hq
        · replace hq := hq.2 c835
          refine x_iconst (v := 1) dX9_library_450 (by decide) ?_
          refine x_goto (tgt := 455) dX9_library_451 (by decide) ?_
          refine xP.pick (lv' := [(4, .int (aI h (fR h (fR h x0 2304) 516) (Int32.toNatClampNeg x2)))]) [1] rfl ?_
          exact uX9_library_455 hq
      replace hq := hq.2
      by_cases c836 : x1 = 86
      · replace hq := hq.1 c836
        refine x_tin (tgt := 474) (off := 268) 86 c836 dX9_library_206 (by decide) (by decide) (by decide) (by decide) ?_
        refine x_aload_n 3 dX9_library_474 rfl ?_
        refine x_iload_n 4 dX9_library_475 rfl ?_
        refine x_iload 0 dX9_library_476 rfl ?_
        refine x_iload 1 dX9_library_478 rfl ?_
        refine x_aload_n 3 dX9_library_480 rfl ?_
        have t837 : tg h779 x0 = 10 := by rw [e780]; exact g1
        refine x_get (v := rv (fR h779 x0 2304)) fdX9_75 dX9_library_481 t837 rfl ?_
        obtain ⟨g838, hq⟩ := hq
        refine x_getN (v := rv (fR h779 (fR h779 x0 2304) 515)) gfX9_224 dX9_library_484 g838 rfl ?_
        refine x_iload_n 5 dX9_library_487 rfl ?_
        obtain ⟨g839, hq⟩ := hq
        obtain ⟨i840, hq⟩ := hq
        refine x_iald 0 (Or.inl rfl) g839 i840 dX9_library_488 ?_
        obtain ⟨g841, g842, hq⟩ := hq
        refine x_callV (Yc := YX9_readsNumber) (as := [.int x1, .int (Int64.toInt32 (aJ h (fR h x0 2307) (Int32.toNatClampNeg ((fI h x0 2310) - 1)))), .int (aI h (fR h (fR h x0 2304) 516) (Int32.toNatClampNeg x2)), .int (aI h779 (fR h779 (fR h779 x0 2304) 515) (Int32.toNatClampNeg x2))]) (st := []) q3161 mvX9_readsNumber t837 rfl dX9_library_489 (xle (xal1 (rv_cat _) (xal1 rfl (xal1 rfl (xal1 rfl (xal1 rfl xal0))))) (by decide)) (xfr g841) (xlo xsw0 (by decide) g842) (xKv hq (fun h843 hq e845 => ?_) (fun _ _ q _ => q))
        replace hq := hq e845
        refine xP.pick (lv' := []) [] rfl ?_
        exact uX9_library_492 hq
      replace hq := hq.2
      by_cases c846 : x1 = 87
      · replace hq := hq.1 c846
        refine x_tin (tgt := 474) (off := 268) 87 c846 dX9_library_206 (by decide) (by decide) (by decide) (by decide) ?_
        refine x_aload_n 3 dX9_library_474 rfl ?_
        refine x_iload_n 4 dX9_library_475 rfl ?_
        refine x_iload 0 dX9_library_476 rfl ?_
        refine x_iload 1 dX9_library_478 rfl ?_
        refine x_aload_n 3 dX9_library_480 rfl ?_
        have t847 : tg h779 x0 = 10 := by rw [e780]; exact g1
        refine x_get (v := rv (fR h779 x0 2304)) fdX9_75 dX9_library_481 t847 rfl ?_
        obtain ⟨g848, hq⟩ := hq
        refine x_getN (v := rv (fR h779 (fR h779 x0 2304) 515)) gfX9_224 dX9_library_484 g848 rfl ?_
        refine x_iload_n 5 dX9_library_487 rfl ?_
        obtain ⟨g849, hq⟩ := hq
        obtain ⟨i850, hq⟩ := hq
        refine x_iald 0 (Or.inl rfl) g849 i850 dX9_library_488 ?_
        obtain ⟨g851, g852, hq⟩ := hq
        refine x_callV (Yc := YX9_readsNumber) (as := [.int x1, .int (Int64.toInt32 (aJ h (fR h x0 2307) (Int32.toNatClampNeg ((fI h x0 2310) - 1)))), .int (aI h (fR h (fR h x0 2304) 516) (Int32.toNatClampNeg x2)), .int (aI h779 (fR h779 (fR h779 x0 2304) 515) (Int32.toNatClampNeg x2))]) (st := []) q3161 mvX9_readsNumber t847 rfl dX9_library_489 (xle (xal1 (rv_cat _) (xal1 rfl (xal1 rfl (xal1 rfl (xal1 rfl xal0))))) (by decide)) (xfr g851) (xlo xsw0 (by decide) g852) (xKv hq (fun h853 hq e855 => ?_) (fun _ _ q _ => q))
        replace hq := hq e855
        refine xP.pick (lv' := []) [] rfl ?_
        exact uX9_library_492 hq
      replace hq := hq.2
      by_cases c856 : x1 = 88
      · replace hq := hq.1 c856
        refine x_tin (tgt := 474) (off := 268) 88 c856 dX9_library_206 (by decide) (by decide) (by decide) (by decide) ?_
        refine x_aload_n 3 dX9_library_474 rfl ?_
        refine x_iload_n 4 dX9_library_475 rfl ?_
        refine x_iload 0 dX9_library_476 rfl ?_
        refine x_iload 1 dX9_library_478 rfl ?_
        refine x_aload_n 3 dX9_library_480 rfl ?_
        have t857 : tg h779 x0 = 10 := by rw [e780]; exact g1
        refine x_get (v := rv (fR h779 x0 2304)) fdX9_75 dX9_library_481 t857 rfl ?_
        obtain ⟨g858, hq⟩ := hq
        refine x_getN (v := rv (fR h779 (fR h779 x0 2304) 515)) gfX9_224 dX9_library_484 g858 rfl ?_
        refine x_iload_n 5 dX9_library_487 rfl ?_
        obtain ⟨g859, hq⟩ := hq
        obtain ⟨i860, hq⟩ := hq
        refine x_iald 0 (Or.inl rfl) g859 i860 dX9_library_488 ?_
        obtain ⟨g861, g862, hq⟩ := hq
        refine x_callV (Yc := YX9_readsNumber) (as := [.int x1, .int (Int64.toInt32 (aJ h (fR h x0 2307) (Int32.toNatClampNeg ((fI h x0 2310) - 1)))), .int (aI h (fR h (fR h x0 2304) 516) (Int32.toNatClampNeg x2)), .int (aI h779 (fR h779 (fR h779 x0 2304) 515) (Int32.toNatClampNeg x2))]) (st := []) q3161 mvX9_readsNumber t857 rfl dX9_library_489 (xle (xal1 (rv_cat _) (xal1 rfl (xal1 rfl (xal1 rfl (xal1 rfl xal0))))) (by decide)) (xfr g861) (xlo xsw0 (by decide) g862) (xKv hq (fun h863 hq e865 => ?_) (fun _ _ q _ => q))
        replace hq := hq e865
        refine xP.pick (lv' := []) [] rfl ?_
        exact uX9_library_492 hq
      replace hq := hq.2
      by_cases c866 : x1 = 89
      · replace hq := hq.1 c866
        refine x_tin (tgt := 474) (off := 268) 89 c866 dX9_library_206 (by decide) (by decide) (by decide) (by decide) ?_
        refine x_aload_n 3 dX9_library_474 rfl ?_
        refine x_iload_n 4 dX9_library_475 rfl ?_
        refine x_iload 0 dX9_library_476 rfl ?_
        refine x_iload 1 dX9_library_478 rfl ?_
        refine x_aload_n 3 dX9_library_480 rfl ?_
        have t867 : tg h779 x0 = 10 := by rw [e780]; exact g1
        refine x_get (v := rv (fR h779 x0 2304)) fdX9_75 dX9_library_481 t867 rfl ?_
        obtain ⟨g868, hq⟩ := hq
        refine x_getN (v := rv (fR h779 (fR h779 x0 2304) 515)) gfX9_224 dX9_library_484 g868 rfl ?_
        refine x_iload_n 5 dX9_library_487 rfl ?_
        obtain ⟨g869, hq⟩ := hq
        obtain ⟨i870, hq⟩ := hq
        refine x_iald 0 (Or.inl rfl) g869 i870 dX9_library_488 ?_
        obtain ⟨g871, g872, hq⟩ := hq
        refine x_callV (Yc := YX9_readsNumber) (as := [.int x1, .int (Int64.toInt32 (aJ h (fR h x0 2307) (Int32.toNatClampNeg ((fI h x0 2310) - 1)))), .int (aI h (fR h (fR h x0 2304) 516) (Int32.toNatClampNeg x2)), .int (aI h779 (fR h779 (fR h779 x0 2304) 515) (Int32.toNatClampNeg x2))]) (st := []) q3161 mvX9_readsNumber t867 rfl dX9_library_489 (xle (xal1 (rv_cat _) (xal1 rfl (xal1 rfl (xal1 rfl (xal1 rfl xal0))))) (by decide)) (xfr g871) (xlo xsw0 (by decide) g872) (xKv hq (fun h873 hq e875 => ?_) (fun _ _ q _ => q))
        replace hq := hq e875
        refine xP.pick (lv' := []) [] rfl ?_
        exact uX9_library_492 hq
      replace hq := hq.2
      by_cases c876 : x1 = 90
      · replace hq := hq.1 c876
        refine x_tin (tgt := 474) (off := 268) 90 c876 dX9_library_206 (by decide) (by decide) (by decide) (by decide) ?_
        refine x_aload_n 3 dX9_library_474 rfl ?_
        refine x_iload_n 4 dX9_library_475 rfl ?_
        refine x_iload 0 dX9_library_476 rfl ?_
        refine x_iload 1 dX9_library_478 rfl ?_
        refine x_aload_n 3 dX9_library_480 rfl ?_
        have t877 : tg h779 x0 = 10 := by rw [e780]; exact g1
        refine x_get (v := rv (fR h779 x0 2304)) fdX9_75 dX9_library_481 t877 rfl ?_
        obtain ⟨g878, hq⟩ := hq
        refine x_getN (v := rv (fR h779 (fR h779 x0 2304) 515)) gfX9_224 dX9_library_484 g878 rfl ?_
        refine x_iload_n 5 dX9_library_487 rfl ?_
        obtain ⟨g879, hq⟩ := hq
        obtain ⟨i880, hq⟩ := hq
        refine x_iald 0 (Or.inl rfl) g879 i880 dX9_library_488 ?_
        obtain ⟨g881, g882, hq⟩ := hq
        refine x_callV (Yc := YX9_readsNumber) (as := [.int x1, .int (Int64.toInt32 (aJ h (fR h x0 2307) (Int32.toNatClampNeg ((fI h x0 2310) - 1)))), .int (aI h (fR h (fR h x0 2304) 516) (Int32.toNatClampNeg x2)), .int (aI h779 (fR h779 (fR h779 x0 2304) 515) (Int32.toNatClampNeg x2))]) (st := []) q3161 mvX9_readsNumber t877 rfl dX9_library_489 (xle (xal1 (rv_cat _) (xal1 rfl (xal1 rfl (xal1 rfl (xal1 rfl xal0))))) (by decide)) (xfr g881) (xlo xsw0 (by decide) g882) (xKv hq (fun h883 hq e885 => ?_) (fun _ _ q _ => q))
        replace hq := hq e885
        refine xP.pick (lv' := []) [] rfl ?_
        exact uX9_library_492 hq
      replace hq := hq.2
      by_cases c886 : x1 = 91
      · replace hq := hq.1 c886
        refine x_tin (tgt := 463) (off := 257) 91 c886 dX9_library_206 (by decide) (by decide) (by decide) (by decide) ?_
        refine x_aload_n 3 dX9_library_463 rfl ?_
        refine x_iload 0 dX9_library_464 rfl ?_
        refine x_iload 1 dX9_library_466 rfl ?_
        have t887 : tg h779 x0 = 10 := by rw [e780]; exact g1
        obtain ⟨g888, g889, hq⟩ := hq
        refine x_callV (Yc := YX9_passes) (as := [.int (Int64.toInt32 (aJ h (fR h x0 2307) (Int32.toNatClampNeg ((fI h x0 2310) - 1)))), .int (aI h (fR h (fR h x0 2304) 516) (Int32.toNatClampNeg x2))]) (st := []) q3157 mvX9_passes t887 rfl dX9_library_468 (xle (xal1 (rv_cat _) (xal1 rfl (xal1 rfl xal0))) (by decide)) (xfr g888) (xlo xsw0 (by decide) g889) (xKv hq (fun h890 hq e892 => ?_) (fun _ _ q _ => q))
        replace hq := hq e892
        refine x_goto (tgt := 492) dX9_library_471 (by decide) ?_
        refine xP.pick (lv' := []) [] rfl ?_
        exact uX9_library_492 hq
      replace hq := hq.2
      replace hq := hq c781 c795 c819 c828 c836 c846 c856 c866 c876 c886
      have nc781 := lv_neT c781 (show (82 : Int32).toInt = 82 from by decide)
      have nc795 := lv_neT c795 (show (83 : Int32).toInt = 83 from by decide)
      have nc819 := lv_neT c819 (show (84 : Int32).toInt = 84 from by decide)
      have nc828 := lv_neT c828 (show (85 : Int32).toInt = 85 from by decide)
      have nc836 := lv_neT c836 (show (86 : Int32).toInt = 86 from by decide)
      have nc846 := lv_neT c846 (show (87 : Int32).toInt = 87 from by decide)
      have nc856 := lv_neT c856 (show (88 : Int32).toInt = 88 from by decide)
      have nc866 := lv_neT c866 (show (89 : Int32).toInt = 89 from by decide)
      have nc876 := lv_neT c876 (show (90 : Int32).toInt = 90 from by decide)
      have nc886 := lv_neT c886 (show (91 : Int32).toInt = 91 from by decide)
      refine x_tout (tgt := 474) dX9_library_206 (by omega) (by decide) ?_
      refine x_aload_n 3 dX9_library_474 rfl ?_
      refine x_iload_n 4 dX9_library_475 rfl ?_
      refine x_iload 0 dX9_library_476 rfl ?_
      refine x_iload 1 dX9_library_478 rfl ?_
      refine x_aload_n 3 dX9_library_480 rfl ?_
      have t893 : tg h779 x0 = 10 := by rw [e780]; exact g1
      refine x_get (v := rv (fR h779 x0 2304)) fdX9_75 dX9_library_481 t893 rfl ?_
      obtain ⟨g894, hq⟩ := hq
      refine x_getN (v := rv (fR h779 (fR h779 x0 2304) 515)) gfX9_224 dX9_library_484 g894 rfl ?_
      refine x_iload_n 5 dX9_library_487 rfl ?_
      obtain ⟨g895, hq⟩ := hq
      obtain ⟨i896, hq⟩ := hq
      refine x_iald 0 (Or.inl rfl) g895 i896 dX9_library_488 ?_
      obtain ⟨g897, g898, hq⟩ := hq
      refine x_callV (Yc := YX9_readsNumber) (as := [.int x1, .int (Int64.toInt32 (aJ h (fR h x0 2307) (Int32.toNatClampNeg ((fI h x0 2310) - 1)))), .int (aI h (fR h (fR h x0 2304) 516) (Int32.toNatClampNeg x2)), .int (aI h779 (fR h779 (fR h779 x0 2304) 515) (Int32.toNatClampNeg x2))]) (st := []) q3161 mvX9_readsNumber t893 rfl dX9_library_489 (xle (xal1 (rv_cat _) (xal1 rfl (xal1 rfl (xal1 rfl (xal1 rfl xal0))))) (by decide)) (xfr g897) (xlo xsw0 (by decide) g898) (xKv hq (fun h899 hq e901 => ?_) (fun _ _ q _ => q))
      replace hq := hq e901
      refine xP.pick (lv' := []) [] rfl ?_
      exact uX9_library_492 hq
    replace hq := hq.2
    by_cases c902 : x1 = 91
    · replace hq := hq.1 c902
      refine x_tin (tgt := 195) (off := 146) 91 c902 dX9_library_49 (by decide) (by decide) (by decide) (by decide) ?_
      refine x_aload_n 3 dX9_library_195 rfl ?_
      refine x_dup dX9_library_196 (rv_cat _) ?_
      refine x_get (v := .int (fI h x0 2310)) fdX9_86 dX9_library_197 g1 rfl ?_
      refine x_iconst (v := 1) dX9_library_200 (by decide) ?_
      refine x_isub dX9_library_201 ?_
      obtain ⟨h903, e904⟩ : ∃ y, y = sI h x0 2310 ((fI h x0 2310) - 1) := ⟨_, rfl⟩
      replace hq := hq h903 e904
      refine x_putI fdX9_86 xty_I1 dX9_library_202 g1 (Or.inl (by rw [g1]; rfl)) xnI rfl e904 ?_
      refine x_iload_n 4 dX9_library_205 rfl ?_
      by_cases c905 : x1 = 82
      · replace hq := hq.1 c905
        refine x_tin (tgt := 260) (off := 54) 82 c905 dX9_library_206 (by decide) (by decide) (by decide) (by decide) ?_
        refine x_aload_n 3 dX9_library_260 rfl ?_
        have t906 : tg h903 x0 = 10 := by rw [e904]; exact g1
        refine x_get (v := rv (fR h903 x0 2306)) fdX9_23 dX9_library_261 t906 rfl ?_
        obtain ⟨g907, hq⟩ := hq
        refine x_getN (v := rv (fR h903 (fR h903 x0 2306) 2817)) gfX9_429 dX9_library_264 g907 rfl ?_
        refine x_iload 0 dX9_library_267 rfl ?_
        obtain ⟨g908, hq⟩ := hq
        obtain ⟨i909, hq⟩ := hq
        refine x_iald 0 (Or.inl rfl) g908 i909 dX9_library_269 ?_
        refine x_if_ne (tgt := 297) dX9_library_270 (by decide) (fun c910 => ?_) (fun c910 => ?_)
        · replace hq := hq.1 c910
          refine xP.pick (lv' := [(0, rv x0), (2, .int x2), (5, .int (Int64.toInt32 (aJ h (fR h x0 2307) (Int32.toNatClampNeg ((fI h x0 2310) - 1)))))]) [3, 5, 0] rfl ?_
          exact uX9_library_297 hq
        · replace hq := hq.2 c910
          refine x_aload_n 3 dX9_library_273 rfl ?_
          refine x_get (v := rv (fR h903 x0 2306)) fdX9_23 dX9_library_274 t906 rfl ?_
          refine x_getN (v := rv (fR h903 (fR h903 x0 2306) 2824)) gfX9_435 dX9_library_277 g907 rfl ?_
          refine x_iload 0 dX9_library_280 rfl ?_
          obtain ⟨g911, hq⟩ := hq
          obtain ⟨i912, hq⟩ := hq
          refine x_zald g911 i912 dX9_library_282 ?_
          refine x_if_ne (tgt := 297) dX9_library_283 (by decide) (fun c913 => ?_) (fun c913 => ?_)
          · replace hq := hq.1 c913
            refine xP.pick (lv' := [(0, rv x0), (2, .int x2), (5, .int (Int64.toInt32 (aJ h (fR h x0 2307) (Int32.toNatClampNeg ((fI h x0 2310) - 1)))))]) [3, 5, 0] rfl ?_
            exact uX9_library_297 hq
          · replace hq := hq.2 c913
            refine x_aload_n 3 dX9_library_286 rfl ?_
            refine x_bipush (v := 10) dX9_library_287 (by decide) ?_
            refine x_iload 1 dX9_library_289 rfl ?_
            obtain ⟨g914, g915, hq⟩ := hq
            refine x_callV (Yc := YX9_fail) (as := [.int 10, .int (aI h (fR h (fR h x0 2304) 516) (Int32.toNatClampNeg x2))]) (st := []) q2835 mvX9_fail t906 rfl dX9_library_291 (xle (xal1 (rv_cat _) (xal1 rfl (xal1 rfl xal0))) (by decide)) (xfr g914) (xlo xsw0 (by decide) g915) (xKv hq (fun h916 hq e918 => ?_) (fun _ _ q _ => q))
            replace hq := hq e918
            refine x_goto (tgt := 492) dX9_library_294 (by decide) ?_
            refine xP.pick (lv' := []) [] rfl ?_
            exact uX9_library_492 hq
      replace hq := hq.2
      by_cases c919 : x1 = 83
      · replace hq := hq.1 c919
        refine x_tin (tgt := 318) (off := 112) 83 c919 dX9_library_206 (by decide) (by decide) (by decide) (by decide) ?_
        refine x_aload_n 3 dX9_library_318 rfl ?_
        have t920 : tg h903 x0 = 10 := by rw [e904]; exact g1
        refine x_get (v := rv (fR h903 x0 2306)) fdX9_23 dX9_library_319 t920 rfl ?_
        refine x_iload 0 dX9_library_322 rfl ?_
        obtain ⟨g921, hq⟩ := hq
        obtain ⟨g922, g923, hq⟩ := hq
        refine x_callV (Yc := YX11_empty) (as := [.int (Int64.toInt32 (aJ h (fR h x0 2307) (Int32.toNatClampNeg ((fI h x0 2310) - 1))))]) (st := []) q3017 mvX11_empty g921 rfl dX9_library_324 (xle (xal1 (rv_cat _) (xal1 rfl xal0)) (by decide)) (xfr g922) (xlo xsw0 (by decide) g923) (xKv hq (fun h924 hq e926 => ?_) (fun _ _ q _ => q))
        replace hq := hq e926
        refine x_aload_n 3 dX9_library_327 rfl ?_
        have t927 : tg h924 x0 = 10 := e926.tg t920 (by decide)
        refine x_get (v := rv (fR h924 x0 2306)) fdX9_23 dX9_library_328 t927 rfl ?_
        obtain ⟨g928, hq⟩ := hq
        refine x_getN (v := rv (fR h924 (fR h924 x0 2306) 2817)) gfX9_429 dX9_library_331 g928 rfl ?_
        refine x_iload 0 dX9_library_334 rfl ?_
        refine x_iconst (v := 2) dX9_library_336 (by decide) ?_
        obtain ⟨g929, hq⟩ := hq
        obtain ⟨i930, hq⟩ := hq
        obtain ⟨h931, e932⟩ : ∃ y, y = tI h924 (fR h924 (fR h924 x0 2306) 2817) (Int32.toNatClampNeg (Int64.toInt32 (aJ h (fR h x0 2307) (Int32.toNatClampNeg ((fI h x0 2310) - 1))))) 2 := ⟨_, rfl⟩
        replace hq := hq h931 e932
        refine x_iast' g929 i930 dX9_library_337 e932 ?_
        refine x_aload_n 3 dX9_library_338 rfl ?_
        have t933 : tg h931 x0 = 10 := by rw [e932]; exact t927
        refine x_get (v := rv (fR h931 x0 2306)) fdX9_23 dX9_library_339 t933 rfl ?_
        refine x_iload 0 dX9_library_342 rfl ?_
        refine x_aload_n 3 dX9_library_344 rfl ?_
        refine x_get (v := rv (fR h931 x0 2304)) fdX9_75 dX9_library_345 t933 rfl ?_
        obtain ⟨g934, hq⟩ := hq
        refine x_getN (v := rv (fR h931 (fR h931 x0 2304) 514)) gfX9_204 dX9_library_348 g934 rfl ?_
        refine x_iload_n 5 dX9_library_351 rfl ?_
        obtain ⟨g935, hq⟩ := hq
        obtain ⟨i936, hq⟩ := hq
        refine x_iald 0 (Or.inl rfl) g935 i936 dX9_library_352 ?_
        obtain ⟨g937, hq⟩ := hq
        obtain ⟨g938, g939, hq⟩ := hq
        refine x_callV (Yc := YX11_bring) (as := [.int (Int64.toInt32 (aJ h (fR h x0 2307) (Int32.toNatClampNeg ((fI h x0 2310) - 1)))), .int (aI h931 (fR h931 (fR h931 x0 2304) 514) (Int32.toNatClampNeg x2))]) (st := []) q3144 mvX11_bring g937 rfl dX9_library_353 (xle (xal1 (rv_cat _) (xal1 rfl (xal1 rfl xal0))) (by decide)) (xfr g938) (xlo xsw0 (by decide) g939) (xKv hq (fun h940 hq e942 => ?_) (fun _ _ q _ => q))
        replace hq := hq e942
        refine x_goto (tgt := 492) dX9_library_356 (by decide) ?_
        refine xP.pick (lv' := []) [] rfl ?_
        exact uX9_library_492 hq
      replace hq := hq.2
      by_cases c943 : x1 = 84
      · replace hq := hq.1 c943
        refine x_tin (tgt := 359) (off := 153) 84 c943 dX9_library_206 (by decide) (by decide) (by decide) (by decide) ?_
        refine x_aload_n 3 dX9_library_359 rfl ?_
        have t944 : tg h903 x0 = 10 := by rw [e904]; exact g1
        refine x_get (v := rv (fR h903 x0 2306)) fdX9_23 dX9_library_360 t944 rfl ?_
        obtain ⟨g945, hq⟩ := hq
        refine x_getN (v := rv (fR h903 (fR h903 x0 2306) 2817)) gfX9_429 dX9_library_363 g945 rfl ?_
        refine x_iload 0 dX9_library_366 rfl ?_
        obtain ⟨g946, hq⟩ := hq
        obtain ⟨i947, hq⟩ := hq
        refine x_iald 0 (Or.inl rfl) g946 i947 dX9_library_368 ?_
        refine x_iconst (v := 1) dX9_library_369 (by decide) ?_
        refine x_icmp_ne (tgt := 387) dX9_library_370 (by decide) (fun c948 => ?_) (fun c948 => ?_)
        · replace hq := hq.1 c948
          refine xP.pick (lv' := [(0, rv x0), (2, .int x2), (4, .int (aI h (fR h (fR h x0 2304) 516) (Int32.toNatClampNeg x2))), (5, .int (Int64.toInt32 (aJ h (fR h x0 2307) (Int32.toNatClampNeg ((fI h x0 2310) - 1)))))]) [3, 5, 1, 0] rfl ?_
          exact uX9_library_387 hq
        · replace hq := hq.2 c948
          refine x_aload_n 3 dX9_library_373 rfl ?_
          refine x_get (v := rv (fR h903 x0 2306)) fdX9_23 dX9_library_374 t944 rfl ?_
          refine x_getN (v := rv (fR h903 (fR h903 x0 2306) 2820)) gfX9_432 dX9_library_377 g945 rfl ?_
          refine x_iload 0 dX9_library_380 rfl ?_
          obtain ⟨g949, hq⟩ := hq
          obtain ⟨i950, hq⟩ := hq
          refine x_iald 0 (Or.inl rfl) g949 i950 dX9_library_382 ?_
          refine x_iconst (v := (-1)) dX9_library_383 (by decide) ?_
          refine x_icmp_ne (tgt := 395) dX9_library_384 (by decide) (fun c951 => ?_) (fun c951 => ?_)
          · replace hq := hq.1 c951
            refine xP.pick (lv' := [(0, rv x0), (2, .int x2), (5, .int (Int64.toInt32 (aJ h (fR h x0 2307) (Int32.toNatClampNeg ((fI h x0 2310) - 1)))))]) [3, 5, 0] rfl ?_
            exact uX9_library_395 hq
          · replace hq := hq.2 c951
            refine xP.pick (lv' := [(0, rv x0), (2, .int x2), (4, .int (aI h (fR h (fR h x0 2304) 516) (Int32.toNatClampNeg x2))), (5, .int (Int64.toInt32 (aJ h (fR h x0 2307) (Int32.toNatClampNeg ((fI h x0 2310) - 1)))))]) [3, 5, 1, 0] rfl ?_
            exact uX9_library_387 hq
      replace hq := hq.2
      by_cases c952 : x1 = 85
      · replace hq := hq.1 c952
        refine x_tin (tgt := 425) (off := 219) 85 c952 dX9_library_206 (by decide) (by decide) (by decide) (by decide) ?_
        refine x_aload_n 3 dX9_library_425 rfl ?_
        refine x_iload 0 dX9_library_426 rfl ?_
        refine x_aload_n 3 dX9_library_428 rfl ?_
        have t953 : tg h903 x0 = 10 := by rw [e904]; exact g1
        refine x_get (v := rv (fR h903 x0 2304)) fdX9_75 dX9_library_429 t953 rfl ?_
        obtain ⟨g954, hq⟩ := hq
        refine x_getN (v := rv (fR h903 (fR h903 x0 2304) 514)) gfX9_204 dX9_library_432 g954 rfl ?_
        refine x_iload_n 5 dX9_library_435 rfl ?_
        obtain ⟨g955, hq⟩ := hq
        obtain ⟨i956, hq⟩ := hq
        refine x_iald 0 (Or.inl rfl) g955 i956 dX9_library_436 ?_
        refine x_aload_n 3 dX9_library_437 rfl ?_
        refine x_get (v := rv (fR h903 x0 2304)) fdX9_75 dX9_library_438 t953 rfl ?_
        refine x_getN (v := rv (fR h903 (fR h903 x0 2304) 515)) gfX9_224 dX9_library_441 g954 rfl ?_
        refine x_iload_n 5 dX9_library_444 rfl ?_
        obtain ⟨g957, hq⟩ := hq
        obtain ⟨i958, hq⟩ := hq
        refine x_iald 0 (Or.inl rfl) g957 i958 dX9_library_445 ?_
        refine x_iconst (v := 1) dX9_library_446 (by decide) ?_
        refine x_icmp_ne (tgt := 454) dX9_library_447 (by decide) (fun c959 => ?_) (fun c959 => ?_)
        · replace hq := hq.1 c959
          refine x_iconst (v := 0) dX9_library_454 (by decide) ?_
          refine xP.pick (lv' := [(4, .int (aI h (fR h (fR h x0 2304) 516) (Int32.toNatClampNeg x2)))]) [1] rfl ?_
          exact uX9_library_455 hq
        · replace hq := hq.2 c959
          refine x_iconst (v := 1) dX9_library_450 (by decide) ?_
          refine x_goto (tgt := 455) dX9_library_451 (by decide) ?_
          refine xP.pick (lv' := [(4, .int (aI h (fR h (fR h x0 2304) 516) (Int32.toNatClampNeg x2)))]) [1] rfl ?_
          exact uX9_library_455 hq
      replace hq := hq.2
      by_cases c960 : x1 = 86
      · replace hq := hq.1 c960
        refine x_tin (tgt := 474) (off := 268) 86 c960 dX9_library_206 (by decide) (by decide) (by decide) (by decide) ?_
        refine x_aload_n 3 dX9_library_474 rfl ?_
        refine x_iload_n 4 dX9_library_475 rfl ?_
        refine x_iload 0 dX9_library_476 rfl ?_
        refine x_iload 1 dX9_library_478 rfl ?_
        refine x_aload_n 3 dX9_library_480 rfl ?_
        have t961 : tg h903 x0 = 10 := by rw [e904]; exact g1
        refine x_get (v := rv (fR h903 x0 2304)) fdX9_75 dX9_library_481 t961 rfl ?_
        obtain ⟨g962, hq⟩ := hq
        refine x_getN (v := rv (fR h903 (fR h903 x0 2304) 515)) gfX9_224 dX9_library_484 g962 rfl ?_
        refine x_iload_n 5 dX9_library_487 rfl ?_
        obtain ⟨g963, hq⟩ := hq
        obtain ⟨i964, hq⟩ := hq
        refine x_iald 0 (Or.inl rfl) g963 i964 dX9_library_488 ?_
        obtain ⟨g965, g966, hq⟩ := hq
        refine x_callV (Yc := YX9_readsNumber) (as := [.int x1, .int (Int64.toInt32 (aJ h (fR h x0 2307) (Int32.toNatClampNeg ((fI h x0 2310) - 1)))), .int (aI h (fR h (fR h x0 2304) 516) (Int32.toNatClampNeg x2)), .int (aI h903 (fR h903 (fR h903 x0 2304) 515) (Int32.toNatClampNeg x2))]) (st := []) q3161 mvX9_readsNumber t961 rfl dX9_library_489 (xle (xal1 (rv_cat _) (xal1 rfl (xal1 rfl (xal1 rfl (xal1 rfl xal0))))) (by decide)) (xfr g965) (xlo xsw0 (by decide) g966) (xKv hq (fun h967 hq e969 => ?_) (fun _ _ q _ => q))
        replace hq := hq e969
        refine xP.pick (lv' := []) [] rfl ?_
        exact uX9_library_492 hq
      replace hq := hq.2
      by_cases c970 : x1 = 87
      · replace hq := hq.1 c970
        refine x_tin (tgt := 474) (off := 268) 87 c970 dX9_library_206 (by decide) (by decide) (by decide) (by decide) ?_
        refine x_aload_n 3 dX9_library_474 rfl ?_
        refine x_iload_n 4 dX9_library_475 rfl ?_
        refine x_iload 0 dX9_library_476 rfl ?_
        refine x_iload 1 dX9_library_478 rfl ?_
        refine x_aload_n 3 dX9_library_480 rfl ?_
        have t971 : tg h903 x0 = 10 := by rw [e904]; exact g1
        refine x_get (v := rv (fR h903 x0 2304)) fdX9_75 dX9_library_481 t971 rfl ?_
        obtain ⟨g972, hq⟩ := hq
        refine x_getN (v := rv (fR h903 (fR h903 x0 2304) 515)) gfX9_224 dX9_library_484 g972 rfl ?_
        refine x_iload_n 5 dX9_library_487 rfl ?_
        obtain ⟨g973, hq⟩ := hq
        obtain ⟨i974, hq⟩ := hq
        refine x_iald 0 (Or.inl rfl) g973 i974 dX9_library_488 ?_
        obtain ⟨g975, g976, hq⟩ := hq
        refine x_callV (Yc := YX9_readsNumber) (as := [.int x1, .int (Int64.toInt32 (aJ h (fR h x0 2307) (Int32.toNatClampNeg ((fI h x0 2310) - 1)))), .int (aI h (fR h (fR h x0 2304) 516) (Int32.toNatClampNeg x2)), .int (aI h903 (fR h903 (fR h903 x0 2304) 515) (Int32.toNatClampNeg x2))]) (st := []) q3161 mvX9_readsNumber t971 rfl dX9_library_489 (xle (xal1 (rv_cat _) (xal1 rfl (xal1 rfl (xal1 rfl (xal1 rfl xal0))))) (by decide)) (xfr g975) (xlo xsw0 (by decide) g976) (xKv hq (fun h977 hq e979 => ?_) (fun _ _ q _ => q))
        replace hq := hq e979
        refine xP.pick (lv' := []) [] rfl ?_
        exact uX9_library_492 hq
      replace hq := hq.2
      by_cases c980 : x1 = 88
      · replace hq := hq.1 c980
        refine x_tin (tgt := 474) (off := 268) 88 c980 dX9_library_206 (by decide) (by decide) (by decide) (by decide) ?_
        refine x_aload_n 3 dX9_library_474 rfl ?_
        refine x_iload_n 4 dX9_library_475 rfl ?_
        refine x_iload 0 dX9_library_476 rfl ?_
        refine x_iload 1 dX9_library_478 rfl ?_
        refine x_aload_n 3 dX9_library_480 rfl ?_
        have t981 : tg h903 x0 = 10 := by rw [e904]; exact g1
        refine x_get (v := rv (fR h903 x0 2304)) fdX9_75 dX9_library_481 t981 rfl ?_
        obtain ⟨g982, hq⟩ := hq
        refine x_getN (v := rv (fR h903 (fR h903 x0 2304) 515)) gfX9_224 dX9_library_484 g982 rfl ?_
        refine x_iload_n 5 dX9_library_487 rfl ?_
        obtain ⟨g983, hq⟩ := hq
        obtain ⟨i984, hq⟩ := hq
        refine x_iald 0 (Or.inl rfl) g983 i984 dX9_library_488 ?_
        obtain ⟨g985, g986, hq⟩ := hq
        refine x_callV (Yc := YX9_readsNumber) (as := [.int x1, .int (Int64.toInt32 (aJ h (fR h x0 2307) (Int32.toNatClampNeg ((fI h x0 2310) - 1)))), .int (aI h (fR h (fR h x0 2304) 516) (Int32.toNatClampNeg x2)), .int (aI h903 (fR h903 (fR h903 x0 2304) 515) (Int32.toNatClampNeg x2))]) (st := []) q3161 mvX9_readsNumber t981 rfl dX9_library_489 (xle (xal1 (rv_cat _) (xal1 rfl (xal1 rfl (xal1 rfl (xal1 rfl xal0))))) (by decide)) (xfr g985) (xlo xsw0 (by decide) g986) (xKv hq (fun h987 hq e989 => ?_) (fun _ _ q _ => q))
        replace hq := hq e989
        refine xP.pick (lv' := []) [] rfl ?_
        exact uX9_library_492 hq
      replace hq := hq.2
      by_cases c990 : x1 = 89
      · replace hq := hq.1 c990
        refine x_tin (tgt := 474) (off := 268) 89 c990 dX9_library_206 (by decide) (by decide) (by decide) (by decide) ?_
        refine x_aload_n 3 dX9_library_474 rfl ?_
        refine x_iload_n 4 dX9_library_475 rfl ?_
        refine x_iload 0 dX9_library_476 rfl ?_
        refine x_iload 1 dX9_library_478 rfl ?_
        refine x_aload_n 3 dX9_library_480 rfl ?_
        have t991 : tg h903 x0 = 10 := by rw [e904]; exact g1
        refine x_get (v := rv (fR h903 x0 2304)) fdX9_75 dX9_library_481 t991 rfl ?_
        obtain ⟨g992, hq⟩ := hq
        refine x_getN (v := rv (fR h903 (fR h903 x0 2304) 515)) gfX9_224 dX9_library_484 g992 rfl ?_
        refine x_iload_n 5 dX9_library_487 rfl ?_
        obtain ⟨g993, hq⟩ := hq
        obtain ⟨i994, hq⟩ := hq
        refine x_iald 0 (Or.inl rfl) g993 i994 dX9_library_488 ?_
        obtain ⟨g995, g996, hq⟩ := hq
        refine x_callV (Yc := YX9_readsNumber) (as := [.int x1, .int (Int64.toInt32 (aJ h (fR h x0 2307) (Int32.toNatClampNeg ((fI h x0 2310) - 1)))), .int (aI h (fR h (fR h x0 2304) 516) (Int32.toNatClampNeg x2)), .int (aI h903 (fR h903 (fR h903 x0 2304) 515) (Int32.toNatClampNeg x2))]) (st := []) q3161 mvX9_readsNumber t991 rfl dX9_library_489 (xle (xal1 (rv_cat _) (xal1 rfl (xal1 rfl (xal1 rfl (xal1 rfl xal0))))) (by decide)) (xfr g995) (xlo xsw0 (by decide) g996) (xKv hq (fun h997 hq e999 => ?_) (fun _ _ q _ => q))
        replace hq := hq e999
        refine xP.pick (lv' := []) [] rfl ?_
        exact uX9_library_492 hq
      replace hq := hq.2
      by_cases c1000 : x1 = 90
      · replace hq := hq.1 c1000
        refine x_tin (tgt := 474) (off := 268) 90 c1000 dX9_library_206 (by decide) (by decide) (by decide) (by decide) ?_
        refine x_aload_n 3 dX9_library_474 rfl ?_
        refine x_iload_n 4 dX9_library_475 rfl ?_
        refine x_iload 0 dX9_library_476 rfl ?_
        refine x_iload 1 dX9_library_478 rfl ?_
        refine x_aload_n 3 dX9_library_480 rfl ?_
        have t1001 : tg h903 x0 = 10 := by rw [e904]; exact g1
        refine x_get (v := rv (fR h903 x0 2304)) fdX9_75 dX9_library_481 t1001 rfl ?_
        obtain ⟨g1002, hq⟩ := hq
        refine x_getN (v := rv (fR h903 (fR h903 x0 2304) 515)) gfX9_224 dX9_library_484 g1002 rfl ?_
        refine x_iload_n 5 dX9_library_487 rfl ?_
        obtain ⟨g1003, hq⟩ := hq
        obtain ⟨i1004, hq⟩ := hq
        refine x_iald 0 (Or.inl rfl) g1003 i1004 dX9_library_488 ?_
        obtain ⟨g1005, g1006, hq⟩ := hq
        refine x_callV (Yc := YX9_readsNumber) (as := [.int x1, .int (Int64.toInt32 (aJ h (fR h x0 2307) (Int32.toNatClampNeg ((fI h x0 2310) - 1)))), .int (aI h (fR h (fR h x0 2304) 516) (Int32.toNatClampNeg x2)), .int (aI h903 (fR h903 (fR h903 x0 2304) 515) (Int32.toNatClampNeg x2))]) (st := []) q3161 mvX9_readsNumber t1001 rfl dX9_library_489 (xle (xal1 (rv_cat _) (xal1 rfl (xal1 rfl (xal1 rfl (xal1 rfl xal0))))) (by decide)) (xfr g1005) (xlo xsw0 (by decide) g1006) (xKv hq (fun h1007 hq e1009 => ?_) (fun _ _ q _ => q))
        replace hq := hq e1009
        refine xP.pick (lv' := []) [] rfl ?_
        exact uX9_library_492 hq
      replace hq := hq.2
      by_cases c1010 : x1 = 91
      · replace hq := hq.1 c1010
        refine x_tin (tgt := 463) (off := 257) 91 c1010 dX9_library_206 (by decide) (by decide) (by decide) (by decide) ?_
        refine x_aload_n 3 dX9_library_463 rfl ?_
        refine x_iload 0 dX9_library_464 rfl ?_
        refine x_iload 1 dX9_library_466 rfl ?_
        have t1011 : tg h903 x0 = 10 := by rw [e904]; exact g1
        obtain ⟨g1012, g1013, hq⟩ := hq
        refine x_callV (Yc := YX9_passes) (as := [.int (Int64.toInt32 (aJ h (fR h x0 2307) (Int32.toNatClampNeg ((fI h x0 2310) - 1)))), .int (aI h (fR h (fR h x0 2304) 516) (Int32.toNatClampNeg x2))]) (st := []) q3157 mvX9_passes t1011 rfl dX9_library_468 (xle (xal1 (rv_cat _) (xal1 rfl (xal1 rfl xal0))) (by decide)) (xfr g1012) (xlo xsw0 (by decide) g1013) (xKv hq (fun h1014 hq e1016 => ?_) (fun _ _ q _ => q))
        replace hq := hq e1016
        refine x_goto (tgt := 492) dX9_library_471 (by decide) ?_
        refine xP.pick (lv' := []) [] rfl ?_
        exact uX9_library_492 hq
      replace hq := hq.2
      replace hq := hq c905 c919 c943 c952 c960 c970 c980 c990 c1000 c1010
      have nc905 := lv_neT c905 (show (82 : Int32).toInt = 82 from by decide)
      have nc919 := lv_neT c919 (show (83 : Int32).toInt = 83 from by decide)
      have nc943 := lv_neT c943 (show (84 : Int32).toInt = 84 from by decide)
      have nc952 := lv_neT c952 (show (85 : Int32).toInt = 85 from by decide)
      have nc960 := lv_neT c960 (show (86 : Int32).toInt = 86 from by decide)
      have nc970 := lv_neT c970 (show (87 : Int32).toInt = 87 from by decide)
      have nc980 := lv_neT c980 (show (88 : Int32).toInt = 88 from by decide)
      have nc990 := lv_neT c990 (show (89 : Int32).toInt = 89 from by decide)
      have nc1000 := lv_neT c1000 (show (90 : Int32).toInt = 90 from by decide)
      have nc1010 := lv_neT c1010 (show (91 : Int32).toInt = 91 from by decide)
      refine x_tout (tgt := 474) dX9_library_206 (by omega) (by decide) ?_
      refine x_aload_n 3 dX9_library_474 rfl ?_
      refine x_iload_n 4 dX9_library_475 rfl ?_
      refine x_iload 0 dX9_library_476 rfl ?_
      refine x_iload 1 dX9_library_478 rfl ?_
      refine x_aload_n 3 dX9_library_480 rfl ?_
      have t1017 : tg h903 x0 = 10 := by rw [e904]; exact g1
      refine x_get (v := rv (fR h903 x0 2304)) fdX9_75 dX9_library_481 t1017 rfl ?_
      obtain ⟨g1018, hq⟩ := hq
      refine x_getN (v := rv (fR h903 (fR h903 x0 2304) 515)) gfX9_224 dX9_library_484 g1018 rfl ?_
      refine x_iload_n 5 dX9_library_487 rfl ?_
      obtain ⟨g1019, hq⟩ := hq
      obtain ⟨i1020, hq⟩ := hq
      refine x_iald 0 (Or.inl rfl) g1019 i1020 dX9_library_488 ?_
      obtain ⟨g1021, g1022, hq⟩ := hq
      refine x_callV (Yc := YX9_readsNumber) (as := [.int x1, .int (Int64.toInt32 (aJ h (fR h x0 2307) (Int32.toNatClampNeg ((fI h x0 2310) - 1)))), .int (aI h (fR h (fR h x0 2304) 516) (Int32.toNatClampNeg x2)), .int (aI h903 (fR h903 (fR h903 x0 2304) 515) (Int32.toNatClampNeg x2))]) (st := []) q3161 mvX9_readsNumber t1017 rfl dX9_library_489 (xle (xal1 (rv_cat _) (xal1 rfl (xal1 rfl (xal1 rfl (xal1 rfl xal0))))) (by decide)) (xfr g1021) (xlo xsw0 (by decide) g1022) (xKv hq (fun h1023 hq e1025 => ?_) (fun _ _ q _ => q))
      replace hq := hq e1025
      refine xP.pick (lv' := []) [] rfl ?_
      exact uX9_library_492 hq
    replace hq := hq.2
    by_cases c1026 : x1 = 92
    · replace hq := hq.1 c1026
      refine x_tin (tgt := 143) (off := 94) 92 c1026 dX9_library_49 (by decide) (by decide) (by decide) (by decide) ?_
      refine x_aload_n 3 dX9_library_143 rfl ?_
      refine x_get (v := rv (fR h x0 2306)) fdX9_23 dX9_library_144 g1 rfl ?_
      obtain ⟨g1027, hq⟩ := hq
      refine x_getN (v := rv (fR h (fR h x0 2306) 2817)) gfX9_429 dX9_library_147 g1027 rfl ?_
      refine x_iload 0 dX9_library_150 rfl ?_
      obtain ⟨g1028, hq⟩ := hq
      obtain ⟨i1029, hq⟩ := hq
      refine x_iald 0 (Or.inl rfl) g1028 i1029 dX9_library_152 ?_
      refine x_iconst (v := 1) dX9_library_153 (by decide) ?_
      refine x_icmp_ne (tgt := 171) dX9_library_154 (by decide) (fun c1030 => ?_) (fun c1030 => ?_)
      · replace hq := hq.1 c1030
        refine xP.pick (lv' := [(0, rv x0), (4, .int (aI h (fR h (fR h x0 2304) 516) (Int32.toNatClampNeg x2)))]) [3, 1] rfl ?_
        exact uX9_library_171 hq
      · replace hq := hq.2 c1030
        refine x_aload_n 3 dX9_library_157 rfl ?_
        refine x_get (v := rv (fR h x0 2306)) fdX9_23 dX9_library_158 g1 rfl ?_
        refine x_getN (v := rv (fR h (fR h x0 2306) 2820)) gfX9_432 dX9_library_161 g1027 rfl ?_
        refine x_iload 0 dX9_library_164 rfl ?_
        obtain ⟨g1031, hq⟩ := hq
        obtain ⟨i1032, hq⟩ := hq
        refine x_iald 0 (Or.inl rfl) g1031 i1032 dX9_library_166 ?_
        refine x_iconst (v := (-1)) dX9_library_167 (by decide) ?_
        refine x_icmp_ne (tgt := 179) dX9_library_168 (by decide) (fun c1033 => ?_) (fun c1033 => ?_)
        · replace hq := hq.1 c1033
          refine xP.pick (lv' := [(0, rv x0)]) [3] rfl ?_
          exact uX9_library_179 hq
        · replace hq := hq.2 c1033
          refine xP.pick (lv' := [(0, rv x0), (4, .int (aI h (fR h (fR h x0 2304) 516) (Int32.toNatClampNeg x2)))]) [3, 1] rfl ?_
          exact uX9_library_171 hq
    replace hq := hq.2
    replace hq := hq c10 c16 c22 c146 c270 c394 c518 c524 c530 c654 c778 c902 c1026
    have nc10 := lv_neT c10 (show (80 : Int32).toInt = 80 from by decide)
    have nc16 := lv_neT c16 (show (81 : Int32).toInt = 81 from by decide)
    have nc22 := lv_neT c22 (show (82 : Int32).toInt = 82 from by decide)
    have nc146 := lv_neT c146 (show (83 : Int32).toInt = 83 from by decide)
    have nc270 := lv_neT c270 (show (84 : Int32).toInt = 84 from by decide)
    have nc394 := lv_neT c394 (show (85 : Int32).toInt = 85 from by decide)
    have nc518 := lv_neT c518 (show (86 : Int32).toInt = 86 from by decide)
    have nc524 := lv_neT c524 (show (87 : Int32).toInt = 87 from by decide)
    have nc530 := lv_neT c530 (show (88 : Int32).toInt = 88 from by decide)
    have nc654 := lv_neT c654 (show (89 : Int32).toInt = 89 from by decide)
    have nc778 := lv_neT c778 (show (90 : Int32).toInt = 90 from by decide)
    have nc902 := lv_neT c902 (show (91 : Int32).toInt = 91 from by decide)
    have nc1026 := lv_neT c1026 (show (92 : Int32).toInt = 92 from by decide)
    refine x_tout (tgt := 195) dX9_library_49 (by omega) (by decide) ?_
    refine x_aload_n 3 dX9_library_195 rfl ?_
    refine x_dup dX9_library_196 (rv_cat _) ?_
    refine x_get (v := .int (fI h x0 2310)) fdX9_86 dX9_library_197 g1 rfl ?_
    refine x_iconst (v := 1) dX9_library_200 (by decide) ?_
    refine x_isub dX9_library_201 ?_
    obtain ⟨h1034, e1035⟩ : ∃ y, y = sI h x0 2310 ((fI h x0 2310) - 1) := ⟨_, rfl⟩
    replace hq := hq h1034 e1035
    refine x_putI fdX9_86 xty_I1 dX9_library_202 g1 (Or.inl (by rw [g1]; rfl)) xnI rfl e1035 ?_
    refine x_iload_n 4 dX9_library_205 rfl ?_
    by_cases c1036 : x1 = 82
    · replace hq := hq.1 c1036
      refine x_tin (tgt := 260) (off := 54) 82 c1036 dX9_library_206 (by decide) (by decide) (by decide) (by decide) ?_
      refine x_aload_n 3 dX9_library_260 rfl ?_
      have t1037 : tg h1034 x0 = 10 := by rw [e1035]; exact g1
      refine x_get (v := rv (fR h1034 x0 2306)) fdX9_23 dX9_library_261 t1037 rfl ?_
      obtain ⟨g1038, hq⟩ := hq
      refine x_getN (v := rv (fR h1034 (fR h1034 x0 2306) 2817)) gfX9_429 dX9_library_264 g1038 rfl ?_
      refine x_iload 0 dX9_library_267 rfl ?_
      obtain ⟨g1039, hq⟩ := hq
      obtain ⟨i1040, hq⟩ := hq
      refine x_iald 0 (Or.inl rfl) g1039 i1040 dX9_library_269 ?_
      refine x_if_ne (tgt := 297) dX9_library_270 (by decide) (fun c1041 => ?_) (fun c1041 => ?_)
      · replace hq := hq.1 c1041
        refine xP.pick (lv' := [(0, rv x0), (2, .int x2), (5, .int (Int64.toInt32 (aJ h (fR h x0 2307) (Int32.toNatClampNeg ((fI h x0 2310) - 1)))))]) [3, 5, 0] rfl ?_
        exact uX9_library_297 hq
      · replace hq := hq.2 c1041
        refine x_aload_n 3 dX9_library_273 rfl ?_
        refine x_get (v := rv (fR h1034 x0 2306)) fdX9_23 dX9_library_274 t1037 rfl ?_
        refine x_getN (v := rv (fR h1034 (fR h1034 x0 2306) 2824)) gfX9_435 dX9_library_277 g1038 rfl ?_
        refine x_iload 0 dX9_library_280 rfl ?_
        obtain ⟨g1042, hq⟩ := hq
        obtain ⟨i1043, hq⟩ := hq
        refine x_zald g1042 i1043 dX9_library_282 ?_
        refine x_if_ne (tgt := 297) dX9_library_283 (by decide) (fun c1044 => ?_) (fun c1044 => ?_)
        · replace hq := hq.1 c1044
          refine xP.pick (lv' := [(0, rv x0), (2, .int x2), (5, .int (Int64.toInt32 (aJ h (fR h x0 2307) (Int32.toNatClampNeg ((fI h x0 2310) - 1)))))]) [3, 5, 0] rfl ?_
          exact uX9_library_297 hq
        · replace hq := hq.2 c1044
          refine x_aload_n 3 dX9_library_286 rfl ?_
          refine x_bipush (v := 10) dX9_library_287 (by decide) ?_
          refine x_iload 1 dX9_library_289 rfl ?_
          obtain ⟨g1045, g1046, hq⟩ := hq
          refine x_callV (Yc := YX9_fail) (as := [.int 10, .int (aI h (fR h (fR h x0 2304) 516) (Int32.toNatClampNeg x2))]) (st := []) q2835 mvX9_fail t1037 rfl dX9_library_291 (xle (xal1 (rv_cat _) (xal1 rfl (xal1 rfl xal0))) (by decide)) (xfr g1045) (xlo xsw0 (by decide) g1046) (xKv hq (fun h1047 hq e1049 => ?_) (fun _ _ q _ => q))
          replace hq := hq e1049
          refine x_goto (tgt := 492) dX9_library_294 (by decide) ?_
          refine xP.pick (lv' := []) [] rfl ?_
          exact uX9_library_492 hq
    replace hq := hq.2
    by_cases c1050 : x1 = 83
    · replace hq := hq.1 c1050
      refine x_tin (tgt := 318) (off := 112) 83 c1050 dX9_library_206 (by decide) (by decide) (by decide) (by decide) ?_
      refine x_aload_n 3 dX9_library_318 rfl ?_
      have t1051 : tg h1034 x0 = 10 := by rw [e1035]; exact g1
      refine x_get (v := rv (fR h1034 x0 2306)) fdX9_23 dX9_library_319 t1051 rfl ?_
      refine x_iload 0 dX9_library_322 rfl ?_
      obtain ⟨g1052, hq⟩ := hq
      obtain ⟨g1053, g1054, hq⟩ := hq
      refine x_callV (Yc := YX11_empty) (as := [.int (Int64.toInt32 (aJ h (fR h x0 2307) (Int32.toNatClampNeg ((fI h x0 2310) - 1))))]) (st := []) q3017 mvX11_empty g1052 rfl dX9_library_324 (xle (xal1 (rv_cat _) (xal1 rfl xal0)) (by decide)) (xfr g1053) (xlo xsw0 (by decide) g1054) (xKv hq (fun h1055 hq e1057 => ?_) (fun _ _ q _ => q))
      replace hq := hq e1057
      refine x_aload_n 3 dX9_library_327 rfl ?_
      have t1058 : tg h1055 x0 = 10 := e1057.tg t1051 (by decide)
      refine x_get (v := rv (fR h1055 x0 2306)) fdX9_23 dX9_library_328 t1058 rfl ?_
      obtain ⟨g1059, hq⟩ := hq
      refine x_getN (v := rv (fR h1055 (fR h1055 x0 2306) 2817)) gfX9_429 dX9_library_331 g1059 rfl ?_
      refine x_iload 0 dX9_library_334 rfl ?_
      refine x_iconst (v := 2) dX9_library_336 (by decide) ?_
      obtain ⟨g1060, hq⟩ := hq
      obtain ⟨i1061, hq⟩ := hq
      obtain ⟨h1062, e1063⟩ : ∃ y, y = tI h1055 (fR h1055 (fR h1055 x0 2306) 2817) (Int32.toNatClampNeg (Int64.toInt32 (aJ h (fR h x0 2307) (Int32.toNatClampNeg ((fI h x0 2310) - 1))))) 2 := ⟨_, rfl⟩
      replace hq := hq h1062 e1063
      refine x_iast' g1060 i1061 dX9_library_337 e1063 ?_
      refine x_aload_n 3 dX9_library_338 rfl ?_
      have t1064 : tg h1062 x0 = 10 := by rw [e1063]; exact t1058
      refine x_get (v := rv (fR h1062 x0 2306)) fdX9_23 dX9_library_339 t1064 rfl ?_
      refine x_iload 0 dX9_library_342 rfl ?_
      refine x_aload_n 3 dX9_library_344 rfl ?_
      refine x_get (v := rv (fR h1062 x0 2304)) fdX9_75 dX9_library_345 t1064 rfl ?_
      obtain ⟨g1065, hq⟩ := hq
      refine x_getN (v := rv (fR h1062 (fR h1062 x0 2304) 514)) gfX9_204 dX9_library_348 g1065 rfl ?_
      refine x_iload_n 5 dX9_library_351 rfl ?_
      obtain ⟨g1066, hq⟩ := hq
      obtain ⟨i1067, hq⟩ := hq
      refine x_iald 0 (Or.inl rfl) g1066 i1067 dX9_library_352 ?_
      obtain ⟨g1068, hq⟩ := hq
      obtain ⟨g1069, g1070, hq⟩ := hq
      refine x_callV (Yc := YX11_bring) (as := [.int (Int64.toInt32 (aJ h (fR h x0 2307) (Int32.toNatClampNeg ((fI h x0 2310) - 1)))), .int (aI h1062 (fR h1062 (fR h1062 x0 2304) 514) (Int32.toNatClampNeg x2))]) (st := []) q3144 mvX11_bring g1068 rfl dX9_library_353 (xle (xal1 (rv_cat _) (xal1 rfl (xal1 rfl xal0))) (by decide)) (xfr g1069) (xlo xsw0 (by decide) g1070) (xKv hq (fun h1071 hq e1073 => ?_) (fun _ _ q _ => q))
      replace hq := hq e1073
      refine x_goto (tgt := 492) dX9_library_356 (by decide) ?_
      refine xP.pick (lv' := []) [] rfl ?_
      exact uX9_library_492 hq
    replace hq := hq.2
    by_cases c1074 : x1 = 84
    · replace hq := hq.1 c1074
      refine x_tin (tgt := 359) (off := 153) 84 c1074 dX9_library_206 (by decide) (by decide) (by decide) (by decide) ?_
      refine x_aload_n 3 dX9_library_359 rfl ?_
      have t1075 : tg h1034 x0 = 10 := by rw [e1035]; exact g1
      refine x_get (v := rv (fR h1034 x0 2306)) fdX9_23 dX9_library_360 t1075 rfl ?_
      obtain ⟨g1076, hq⟩ := hq
      refine x_getN (v := rv (fR h1034 (fR h1034 x0 2306) 2817)) gfX9_429 dX9_library_363 g1076 rfl ?_
      refine x_iload 0 dX9_library_366 rfl ?_
      obtain ⟨g1077, hq⟩ := hq
      obtain ⟨i1078, hq⟩ := hq
      refine x_iald 0 (Or.inl rfl) g1077 i1078 dX9_library_368 ?_
      refine x_iconst (v := 1) dX9_library_369 (by decide) ?_
      refine x_icmp_ne (tgt := 387) dX9_library_370 (by decide) (fun c1079 => ?_) (fun c1079 => ?_)
      · replace hq := hq.1 c1079
        refine xP.pick (lv' := [(0, rv x0), (2, .int x2), (4, .int (aI h (fR h (fR h x0 2304) 516) (Int32.toNatClampNeg x2))), (5, .int (Int64.toInt32 (aJ h (fR h x0 2307) (Int32.toNatClampNeg ((fI h x0 2310) - 1)))))]) [3, 5, 1, 0] rfl ?_
        exact uX9_library_387 hq
      · replace hq := hq.2 c1079
        refine x_aload_n 3 dX9_library_373 rfl ?_
        refine x_get (v := rv (fR h1034 x0 2306)) fdX9_23 dX9_library_374 t1075 rfl ?_
        refine x_getN (v := rv (fR h1034 (fR h1034 x0 2306) 2820)) gfX9_432 dX9_library_377 g1076 rfl ?_
        refine x_iload 0 dX9_library_380 rfl ?_
        obtain ⟨g1080, hq⟩ := hq
        obtain ⟨i1081, hq⟩ := hq
        refine x_iald 0 (Or.inl rfl) g1080 i1081 dX9_library_382 ?_
        refine x_iconst (v := (-1)) dX9_library_383 (by decide) ?_
        refine x_icmp_ne (tgt := 395) dX9_library_384 (by decide) (fun c1082 => ?_) (fun c1082 => ?_)
        · replace hq := hq.1 c1082
          refine xP.pick (lv' := [(0, rv x0), (2, .int x2), (5, .int (Int64.toInt32 (aJ h (fR h x0 2307) (Int32.toNatClampNeg ((fI h x0 2310) - 1)))))]) [3, 5, 0] rfl ?_
          exact uX9_library_395 hq
        · replace hq := hq.2 c1082
          refine xP.pick (lv' := [(0, rv x0), (2, .int x2), (4, .int (aI h (fR h (fR h x0 2304) 516) (Int32.toNatClampNeg x2))), (5, .int (Int64.toInt32 (aJ h (fR h x0 2307) (Int32.toNatClampNeg ((fI h x0 2310) - 1)))))]) [3, 5, 1, 0] rfl ?_
          exact uX9_library_387 hq
    replace hq := hq.2
    by_cases c1083 : x1 = 85
    · replace hq := hq.1 c1083
      refine x_tin (tgt := 425) (off := 219) 85 c1083 dX9_library_206 (by decide) (by decide) (by decide) (by decide) ?_
      refine x_aload_n 3 dX9_library_425 rfl ?_
      refine x_iload 0 dX9_library_426 rfl ?_
      refine x_aload_n 3 dX9_library_428 rfl ?_
      have t1084 : tg h1034 x0 = 10 := by rw [e1035]; exact g1
      refine x_get (v := rv (fR h1034 x0 2304)) fdX9_75 dX9_library_429 t1084 rfl ?_
      obtain ⟨g1085, hq⟩ := hq
      refine x_getN (v := rv (fR h1034 (fR h1034 x0 2304) 514)) gfX9_204 dX9_library_432 g1085 rfl ?_
      refine x_iload_n 5 dX9_library_435 rfl ?_
      obtain ⟨g1086, hq⟩ := hq
      obtain ⟨i1087, hq⟩ := hq
      refine x_iald 0 (Or.inl rfl) g1086 i1087 dX9_library_436 ?_
      refine x_aload_n 3 dX9_library_437 rfl ?_
      refine x_get (v := rv (fR h1034 x0 2304)) fdX9_75 dX9_library_438 t1084 rfl ?_
      refine x_getN (v := rv (fR h1034 (fR h1034 x0 2304) 515)) gfX9_224 dX9_library_441 g1085 rfl ?_
      refine x_iload_n 5 dX9_library_444 rfl ?_
      obtain ⟨g1088, hq⟩ := hq
      obtain ⟨i1089, hq⟩ := hq
      refine x_iald 0 (Or.inl rfl) g1088 i1089 dX9_library_445 ?_
      refine x_iconst (v := 1) dX9_library_446 (by decide) ?_
      refine x_icmp_ne (tgt := 454) dX9_library_447 (by decide) (fun c1090 => ?_) (fun c1090 => ?_)
      · replace hq := hq.1 c1090
        refine x_iconst (v := 0) dX9_library_454 (by decide) ?_
        refine xP.pick (lv' := [(4, .int (aI h (fR h (fR h x0 2304) 516) (Int32.toNatClampNeg x2)))]) [1] rfl ?_
        exact uX9_library_455 hq
      · replace hq := hq.2 c1090
        refine x_iconst (v := 1) dX9_library_450 (by decide) ?_
        refine x_goto (tgt := 455) dX9_library_451 (by decide) ?_
        refine xP.pick (lv' := [(4, .int (aI h (fR h (fR h x0 2304) 516) (Int32.toNatClampNeg x2)))]) [1] rfl ?_
        exact uX9_library_455 hq
    replace hq := hq.2
    by_cases c1091 : x1 = 86
    · replace hq := hq.1 c1091
      refine x_tin (tgt := 474) (off := 268) 86 c1091 dX9_library_206 (by decide) (by decide) (by decide) (by decide) ?_
      refine x_aload_n 3 dX9_library_474 rfl ?_
      refine x_iload_n 4 dX9_library_475 rfl ?_
      refine x_iload 0 dX9_library_476 rfl ?_
      refine x_iload 1 dX9_library_478 rfl ?_
      refine x_aload_n 3 dX9_library_480 rfl ?_
      have t1092 : tg h1034 x0 = 10 := by rw [e1035]; exact g1
      refine x_get (v := rv (fR h1034 x0 2304)) fdX9_75 dX9_library_481 t1092 rfl ?_
      obtain ⟨g1093, hq⟩ := hq
      refine x_getN (v := rv (fR h1034 (fR h1034 x0 2304) 515)) gfX9_224 dX9_library_484 g1093 rfl ?_
      refine x_iload_n 5 dX9_library_487 rfl ?_
      obtain ⟨g1094, hq⟩ := hq
      obtain ⟨i1095, hq⟩ := hq
      refine x_iald 0 (Or.inl rfl) g1094 i1095 dX9_library_488 ?_
      obtain ⟨g1096, g1097, hq⟩ := hq
      refine x_callV (Yc := YX9_readsNumber) (as := [.int x1, .int (Int64.toInt32 (aJ h (fR h x0 2307) (Int32.toNatClampNeg ((fI h x0 2310) - 1)))), .int (aI h (fR h (fR h x0 2304) 516) (Int32.toNatClampNeg x2)), .int (aI h1034 (fR h1034 (fR h1034 x0 2304) 515) (Int32.toNatClampNeg x2))]) (st := []) q3161 mvX9_readsNumber t1092 rfl dX9_library_489 (xle (xal1 (rv_cat _) (xal1 rfl (xal1 rfl (xal1 rfl (xal1 rfl xal0))))) (by decide)) (xfr g1096) (xlo xsw0 (by decide) g1097) (xKv hq (fun h1098 hq e1100 => ?_) (fun _ _ q _ => q))
      replace hq := hq e1100
      refine xP.pick (lv' := []) [] rfl ?_
      exact uX9_library_492 hq
    replace hq := hq.2
    by_cases c1101 : x1 = 87
    · replace hq := hq.1 c1101
      refine x_tin (tgt := 474) (off := 268) 87 c1101 dX9_library_206 (by decide) (by decide) (by decide) (by decide) ?_
      refine x_aload_n 3 dX9_library_474 rfl ?_
      refine x_iload_n 4 dX9_library_475 rfl ?_
      refine x_iload 0 dX9_library_476 rfl ?_
      refine x_iload 1 dX9_library_478 rfl ?_
      refine x_aload_n 3 dX9_library_480 rfl ?_
      have t1102 : tg h1034 x0 = 10 := by rw [e1035]; exact g1
      refine x_get (v := rv (fR h1034 x0 2304)) fdX9_75 dX9_library_481 t1102 rfl ?_
      obtain ⟨g1103, hq⟩ := hq
      refine x_getN (v := rv (fR h1034 (fR h1034 x0 2304) 515)) gfX9_224 dX9_library_484 g1103 rfl ?_
      refine x_iload_n 5 dX9_library_487 rfl ?_
      obtain ⟨g1104, hq⟩ := hq
      obtain ⟨i1105, hq⟩ := hq
      refine x_iald 0 (Or.inl rfl) g1104 i1105 dX9_library_488 ?_
      obtain ⟨g1106, g1107, hq⟩ := hq
      refine x_callV (Yc := YX9_readsNumber) (as := [.int x1, .int (Int64.toInt32 (aJ h (fR h x0 2307) (Int32.toNatClampNeg ((fI h x0 2310) - 1)))), .int (aI h (fR h (fR h x0 2304) 516) (Int32.toNatClampNeg x2)), .int (aI h1034 (fR h1034 (fR h1034 x0 2304) 515) (Int32.toNatClampNeg x2))]) (st := []) q3161 mvX9_readsNumber t1102 rfl dX9_library_489 (xle (xal1 (rv_cat _) (xal1 rfl (xal1 rfl (xal1 rfl (xal1 rfl xal0))))) (by decide)) (xfr g1106) (xlo xsw0 (by decide) g1107) (xKv hq (fun h1108 hq e1110 => ?_) (fun _ _ q _ => q))
      replace hq := hq e1110
      refine xP.pick (lv' := []) [] rfl ?_
      exact uX9_library_492 hq
    replace hq := hq.2
    by_cases c1111 : x1 = 88
    · replace hq := hq.1 c1111
      refine x_tin (tgt := 474) (off := 268) 88 c1111 dX9_library_206 (by decide) (by decide) (by decide) (by decide) ?_
      refine x_aload_n 3 dX9_library_474 rfl ?_
      refine x_iload_n 4 dX9_library_475 rfl ?_
      refine x_iload 0 dX9_library_476 rfl ?_
      refine x_iload 1 dX9_library_478 rfl ?_
      refine x_aload_n 3 dX9_library_480 rfl ?_
      have t1112 : tg h1034 x0 = 10 := by rw [e1035]; exact g1
      refine x_get (v := rv (fR h1034 x0 2304)) fdX9_75 dX9_library_481 t1112 rfl ?_
      obtain ⟨g1113, hq⟩ := hq
      refine x_getN (v := rv (fR h1034 (fR h1034 x0 2304) 515)) gfX9_224 dX9_library_484 g1113 rfl ?_
      refine x_iload_n 5 dX9_library_487 rfl ?_
      obtain ⟨g1114, hq⟩ := hq
      obtain ⟨i1115, hq⟩ := hq
      refine x_iald 0 (Or.inl rfl) g1114 i1115 dX9_library_488 ?_
      obtain ⟨g1116, g1117, hq⟩ := hq
      refine x_callV (Yc := YX9_readsNumber) (as := [.int x1, .int (Int64.toInt32 (aJ h (fR h x0 2307) (Int32.toNatClampNeg ((fI h x0 2310) - 1)))), .int (aI h (fR h (fR h x0 2304) 516) (Int32.toNatClampNeg x2)), .int (aI h1034 (fR h1034 (fR h1034 x0 2304) 515) (Int32.toNatClampNeg x2))]) (st := []) q3161 mvX9_readsNumber t1112 rfl dX9_library_489 (xle (xal1 (rv_cat _) (xal1 rfl (xal1 rfl (xal1 rfl (xal1 rfl xal0))))) (by decide)) (xfr g1116) (xlo xsw0 (by decide) g1117) (xKv hq (fun h1118 hq e1120 => ?_) (fun _ _ q _ => q))
      replace hq := hq e1120
      refine xP.pick (lv' := []) [] rfl ?_
      exact uX9_library_492 hq
    replace hq := hq.2
    by_cases c1121 : x1 = 89
    · replace hq := hq.1 c1121
      refine x_tin (tgt := 474) (off := 268) 89 c1121 dX9_library_206 (by decide) (by decide) (by decide) (by decide) ?_
      refine x_aload_n 3 dX9_library_474 rfl ?_
      refine x_iload_n 4 dX9_library_475 rfl ?_
      refine x_iload 0 dX9_library_476 rfl ?_
      refine x_iload 1 dX9_library_478 rfl ?_
      refine x_aload_n 3 dX9_library_480 rfl ?_
      have t1122 : tg h1034 x0 = 10 := by rw [e1035]; exact g1
      refine x_get (v := rv (fR h1034 x0 2304)) fdX9_75 dX9_library_481 t1122 rfl ?_
      obtain ⟨g1123, hq⟩ := hq
      refine x_getN (v := rv (fR h1034 (fR h1034 x0 2304) 515)) gfX9_224 dX9_library_484 g1123 rfl ?_
      refine x_iload_n 5 dX9_library_487 rfl ?_
      obtain ⟨g1124, hq⟩ := hq
      obtain ⟨i1125, hq⟩ := hq
      refine x_iald 0 (Or.inl rfl) g1124 i1125 dX9_library_488 ?_
      obtain ⟨g1126, g1127, hq⟩ := hq
      refine x_callV (Yc := YX9_readsNumber) (as := [.int x1, .int (Int64.toInt32 (aJ h (fR h x0 2307) (Int32.toNatClampNeg ((fI h x0 2310) - 1)))), .int (aI h (fR h (fR h x0 2304) 516) (Int32.toNatClampNeg x2)), .int (aI h1034 (fR h1034 (fR h1034 x0 2304) 515) (Int32.toNatClampNeg x2))]) (st := []) q3161 mvX9_readsNumber t1122 rfl dX9_library_489 (xle (xal1 (rv_cat _) (xal1 rfl (xal1 rfl (xal1 rfl (xal1 rfl xal0))))) (by decide)) (xfr g1126) (xlo xsw0 (by decide) g1127) (xKv hq (fun h1128 hq e1130 => ?_) (fun _ _ q _ => q))
      replace hq := hq e1130
      refine xP.pick (lv' := []) [] rfl ?_
      exact uX9_library_492 hq
    replace hq := hq.2
    by_cases c1131 : x1 = 90
    · replace hq := hq.1 c1131
      refine x_tin (tgt := 474) (off := 268) 90 c1131 dX9_library_206 (by decide) (by decide) (by decide) (by decide) ?_
      refine x_aload_n 3 dX9_library_474 rfl ?_
      refine x_iload_n 4 dX9_library_475 rfl ?_
      refine x_iload 0 dX9_library_476 rfl ?_
      refine x_iload 1 dX9_library_478 rfl ?_
      refine x_aload_n 3 dX9_library_480 rfl ?_
      have t1132 : tg h1034 x0 = 10 := by rw [e1035]; exact g1
      refine x_get (v := rv (fR h1034 x0 2304)) fdX9_75 dX9_library_481 t1132 rfl ?_
      obtain ⟨g1133, hq⟩ := hq
      refine x_getN (v := rv (fR h1034 (fR h1034 x0 2304) 515)) gfX9_224 dX9_library_484 g1133 rfl ?_
      refine x_iload_n 5 dX9_library_487 rfl ?_
      obtain ⟨g1134, hq⟩ := hq
      obtain ⟨i1135, hq⟩ := hq
      refine x_iald 0 (Or.inl rfl) g1134 i1135 dX9_library_488 ?_
      obtain ⟨g1136, g1137, hq⟩ := hq
      refine x_callV (Yc := YX9_readsNumber) (as := [.int x1, .int (Int64.toInt32 (aJ h (fR h x0 2307) (Int32.toNatClampNeg ((fI h x0 2310) - 1)))), .int (aI h (fR h (fR h x0 2304) 516) (Int32.toNatClampNeg x2)), .int (aI h1034 (fR h1034 (fR h1034 x0 2304) 515) (Int32.toNatClampNeg x2))]) (st := []) q3161 mvX9_readsNumber t1132 rfl dX9_library_489 (xle (xal1 (rv_cat _) (xal1 rfl (xal1 rfl (xal1 rfl (xal1 rfl xal0))))) (by decide)) (xfr g1136) (xlo xsw0 (by decide) g1137) (xKv hq (fun h1138 hq e1140 => ?_) (fun _ _ q _ => q))
      replace hq := hq e1140
      refine xP.pick (lv' := []) [] rfl ?_
      exact uX9_library_492 hq
    replace hq := hq.2
    by_cases c1141 : x1 = 91
    · replace hq := hq.1 c1141
      refine x_tin (tgt := 463) (off := 257) 91 c1141 dX9_library_206 (by decide) (by decide) (by decide) (by decide) ?_
      refine x_aload_n 3 dX9_library_463 rfl ?_
      refine x_iload 0 dX9_library_464 rfl ?_
      refine x_iload 1 dX9_library_466 rfl ?_
      have t1142 : tg h1034 x0 = 10 := by rw [e1035]; exact g1
      obtain ⟨g1143, g1144, hq⟩ := hq
      refine x_callV (Yc := YX9_passes) (as := [.int (Int64.toInt32 (aJ h (fR h x0 2307) (Int32.toNatClampNeg ((fI h x0 2310) - 1)))), .int (aI h (fR h (fR h x0 2304) 516) (Int32.toNatClampNeg x2))]) (st := []) q3157 mvX9_passes t1142 rfl dX9_library_468 (xle (xal1 (rv_cat _) (xal1 rfl (xal1 rfl xal0))) (by decide)) (xfr g1143) (xlo xsw0 (by decide) g1144) (xKv hq (fun h1145 hq e1147 => ?_) (fun _ _ q _ => q))
      replace hq := hq e1147
      refine x_goto (tgt := 492) dX9_library_471 (by decide) ?_
      refine xP.pick (lv' := []) [] rfl ?_
      exact uX9_library_492 hq
    replace hq := hq.2
    replace hq := hq c1036 c1050 c1074 c1083 c1091 c1101 c1111 c1121 c1131 c1141
    have nc1036 := lv_neT c1036 (show (82 : Int32).toInt = 82 from by decide)
    have nc1050 := lv_neT c1050 (show (83 : Int32).toInt = 83 from by decide)
    have nc1074 := lv_neT c1074 (show (84 : Int32).toInt = 84 from by decide)
    have nc1083 := lv_neT c1083 (show (85 : Int32).toInt = 85 from by decide)
    have nc1091 := lv_neT c1091 (show (86 : Int32).toInt = 86 from by decide)
    have nc1101 := lv_neT c1101 (show (87 : Int32).toInt = 87 from by decide)
    have nc1111 := lv_neT c1111 (show (88 : Int32).toInt = 88 from by decide)
    have nc1121 := lv_neT c1121 (show (89 : Int32).toInt = 89 from by decide)
    have nc1131 := lv_neT c1131 (show (90 : Int32).toInt = 90 from by decide)
    have nc1141 := lv_neT c1141 (show (91 : Int32).toInt = 91 from by decide)
    refine x_tout (tgt := 474) dX9_library_206 (by omega) (by decide) ?_
    refine x_aload_n 3 dX9_library_474 rfl ?_
    refine x_iload_n 4 dX9_library_475 rfl ?_
    refine x_iload 0 dX9_library_476 rfl ?_
    refine x_iload 1 dX9_library_478 rfl ?_
    refine x_aload_n 3 dX9_library_480 rfl ?_
    have t1148 : tg h1034 x0 = 10 := by rw [e1035]; exact g1
    refine x_get (v := rv (fR h1034 x0 2304)) fdX9_75 dX9_library_481 t1148 rfl ?_
    obtain ⟨g1149, hq⟩ := hq
    refine x_getN (v := rv (fR h1034 (fR h1034 x0 2304) 515)) gfX9_224 dX9_library_484 g1149 rfl ?_
    refine x_iload_n 5 dX9_library_487 rfl ?_
    obtain ⟨g1150, hq⟩ := hq
    obtain ⟨i1151, hq⟩ := hq
    refine x_iald 0 (Or.inl rfl) g1150 i1151 dX9_library_488 ?_
    obtain ⟨g1152, g1153, hq⟩ := hq
    refine x_callV (Yc := YX9_readsNumber) (as := [.int x1, .int (Int64.toInt32 (aJ h (fR h x0 2307) (Int32.toNatClampNeg ((fI h x0 2310) - 1)))), .int (aI h (fR h (fR h x0 2304) 516) (Int32.toNatClampNeg x2)), .int (aI h1034 (fR h1034 (fR h1034 x0 2304) 515) (Int32.toNatClampNeg x2))]) (st := []) q3161 mvX9_readsNumber t1148 rfl dX9_library_489 (xle (xal1 (rv_cat _) (xal1 rfl (xal1 rfl (xal1 rfl (xal1 rfl xal0))))) (by decide)) (xfr g1152) (xlo xsw0 (by decide) g1153) (xKv hq (fun h1154 hq e1156 => ?_) (fun _ _ q _ => q))
    replace hq := hq e1156
    refine xP.pick (lv' := []) [] rfl ?_
    exact uX9_library_492 hq
  · replace hq := hq.2 c9
    refine x_aload_n 3 dX9_library_41 rfl ?_
    refine x_iload_n 4 dX9_library_42 rfl ?_
    refine x_iload_n 5 dX9_library_43 rfl ?_
    obtain ⟨g1157, g1158, hq⟩ := hq
    refine x_callV (Yc := YX9_writes) (as := [.int x1, .int x2]) (st := []) q3080 mvX9_writes g1 rfl dX9_library_44 (xle (xal1 (rv_cat _) (xal1 rfl (xal1 rfl xal0))) (by decide)) (xfr g1157) (xlo xsw0 (by decide) g1158) (xKv hq (fun h1159 hq e1161 => ?_) (fun _ _ q _ => q))
    replace hq := hq e1161
    exact x_vret rfl dX9_library_47 hq
theorem rX9_library {G : xG} {fr lo : Nat} {x0 : Nat} {x1 : Int32} {x2 : Int32} {h : xH} {Q : Outcome → xH → Prop} (hq : bX9_library G fr lo x0 x1 x2 h Q) : xR G YX9_library fr lo [rv x0, .int x1, .int x2] h Q := by
  show xP _ _ _ _ _ (lv_args 0 _) _ _ _
  rw [show lv_args 0 [rv x0, .int x1, .int x2] = [(0, rv x0), (1, .int x1), (2, .int x2)] from (xla1 (rv_cat _) (xla1 rfl (xla1 rfl xla0)))]
  exact uX9_library hq
set_option maxRecDepth 100000 in
theorem dX9_writes_0 : decode cX9_writes 0 = .ok (.aload_n 0, 1) := by decide +kernel
set_option maxRecDepth 100000 in
theorem dX9_writes_1 : decode cX9_writes 1 = .ok (.dup, 1) := by decide +kernel
set_option maxRecDepth 100000 in
theorem dX9_writes_2 : decode cX9_writes 2 = .ok (.getfield 86, 3) := by decide +kernel
set_option maxRecDepth 100000 in
theorem dX9_writes_5 : decode cX9_writes 5 = .ok (.iconst 1, 1) := by decide +kernel
set_option maxRecDepth 100000 in
theorem dX9_writes_6 : decode cX9_writes 6 = .ok (.isub, 1) := by decide +kernel
set_option maxRecDepth 100000 in
theorem dX9_writes_7 : decode cX9_writes 7 = .ok (.putfield 86, 3) := by decide +kernel
set_option maxRecDepth 100000 in
theorem dX9_writes_10 : decode cX9_writes 10 = .ok (.aload_n 0, 1) := by decide +kernel
set_option maxRecDepth 100000 in
theorem dX9_writes_11 : decode cX9_writes 11 = .ok (.getfield 28, 3) := by decide +kernel
set_option maxRecDepth 100000 in
theorem dX9_writes_14 : decode cX9_writes 14 = .ok (.aload_n 0, 1) := by decide +kernel
set_option maxRecDepth 100000 in
theorem dX9_writes_15 : decode cX9_writes 15 = .ok (.getfield 86, 3) := by decide +kernel
set_option maxRecDepth 100000 in
theorem dX9_writes_18 : decode cX9_writes 18 = .ok (.laload, 1) := by decide +kernel
set_option maxRecDepth 100000 in
theorem dX9_writes_19 : decode cX9_writes 19 = .ok (.l2i, 1) := by decide +kernel
set_option maxRecDepth 100000 in
theorem dX9_writes_20 : decode cX9_writes 20 = .ok (.istore_n 3, 1) := by decide +kernel
set_option maxRecDepth 100000 in
theorem dX9_writes_21 : decode cX9_writes 21 = .ok (.aload_n 0, 1) := by decide +kernel
set_option maxRecDepth 100000 in
theorem dX9_writes_22 : decode cX9_writes 22 = .ok (.getfield 75, 3) := by decide +kernel
set_option maxRecDepth 100000 in
theorem dX9_writes_25 : decode cX9_writes 25 = .ok (.getfield 222, 3) := by decide +kernel
set_option maxRecDepth 100000 in
theorem dX9_writes_28 : decode cX9_writes 28 = .ok (.iload_n 2, 1) := by decide +kernel
set_option maxRecDepth 100000 in
theorem dX9_writes_29 : decode cX9_writes 29 = .ok (.iaload, 1) := by decide +kernel
set_option maxRecDepth 100000 in
theorem dX9_writes_30 : decode cX9_writes 30 = .ok (.istore 4, 2) := by decide +kernel
set_option maxRecDepth 100000 in
theorem dX9_writes_32 : decode cX9_writes 32 = .ok (.aload_n 0, 1) := by decide +kernel
set_option maxRecDepth 100000 in
theorem dX9_writes_33 : decode cX9_writes 33 = .ok (.iconst 0, 1) := by decide +kernel
set_option maxRecDepth 100000 in
theorem dX9_writes_34 : decode cX9_writes 34 = .ok (.putfield 491, 3) := by decide +kernel
set_option maxRecDepth 100000 in
theorem dX9_writes_37 : decode cX9_writes 37 = .ok (.iload_n 1, 1) := by decide +kernel
set_option maxRecDepth 100000 in
theorem dX9_writes_38 : decode cX9_writes 38 = .ok (.bipush 98, 2) := by decide +kernel
set_option maxRecDepth 100000 in
theorem dX9_writes_40 : decode cX9_writes 40 = .ok (.if_icmp .ne 19, 3) := by decide +kernel
set_option maxRecDepth 100000 in
theorem dX9_writes_43 : decode cX9_writes 43 = .ok (.aload_n 0, 1) := by decide +kernel
set_option maxRecDepth 100000 in
theorem dX9_writes_44 : decode cX9_writes 44 = .ok (.bipush 10, 2) := by decide +kernel
set_option maxRecDepth 100000 in
theorem dX9_writes_46 : decode cX9_writes 46 = .ok (.invokevirtual 503, 3) := by decide +kernel
set_option maxRecDepth 100000 in
theorem dX9_writes_49 : decode cX9_writes 49 = .ok (.aload_n 0, 1) := by decide +kernel
set_option maxRecDepth 100000 in
theorem dX9_writes_50 : decode cX9_writes 50 = .ok (.iload_n 3, 1) := by decide +kernel
set_option maxRecDepth 100000 in
theorem dX9_writes_51 : decode cX9_writes 51 = .ok (.iconst 0, 1) := by decide +kernel
set_option maxRecDepth 100000 in
theorem dX9_writes_52 : decode cX9_writes 52 = .ok (.iconst 0, 1) := by decide +kernel
set_option maxRecDepth 100000 in
theorem dX9_writes_53 : decode cX9_writes 53 = .ok (.iload 4, 2) := by decide +kernel
set_option maxRecDepth 100000 in
theorem dX9_writes_55 : decode cX9_writes 55 = .ok (.invokevirtual 508, 3) := by decide +kernel
set_option maxRecDepth 100000 in
theorem dX9_writes_58 : decode cX9_writes 58 = .ok (.return_, 1) := by decide +kernel
set_option maxRecDepth 100000 in
theorem dX9_writes_59 : decode cX9_writes 59 = .ok (.aload_n 0, 1) := by decide +kernel
set_option maxRecDepth 100000 in
theorem dX9_writes_60 : decode cX9_writes 60 = .ok (.getfield 129, 3) := by decide +kernel
set_option maxRecDepth 100000 in
theorem dX9_writes_63 : decode cX9_writes 63 = .ok (.istore 5, 2) := by decide +kernel
set_option maxRecDepth 100000 in
theorem dX9_writes_65 : decode cX9_writes 65 = .ok (.aload_n 0, 1) := by decide +kernel
set_option maxRecDepth 100000 in
theorem dX9_writes_66 : decode cX9_writes 66 = .ok (.dup, 1) := by decide +kernel
set_option maxRecDepth 100000 in
theorem dX9_writes_67 : decode cX9_writes 67 = .ok (.getfield 129, 3) := by decide +kernel
set_option maxRecDepth 100000 in
theorem dX9_writes_70 : decode cX9_writes 70 = .ok (.iconst 1, 1) := by decide +kernel
set_option maxRecDepth 100000 in
theorem dX9_writes_71 : decode cX9_writes 71 = .ok (.iadd, 1) := by decide +kernel
set_option maxRecDepth 100000 in
theorem dX9_writes_72 : decode cX9_writes 72 = .ok (.putfield 129, 3) := by decide +kernel
set_option maxRecDepth 100000 in
theorem dX9_writes_75 : decode cX9_writes 75 = .ok (.aload_n 0, 1) := by decide +kernel
set_option maxRecDepth 100000 in
theorem dX9_writes_76 : decode cX9_writes 76 = .ok (.getfield 75, 3) := by decide +kernel
set_option maxRecDepth 100000 in
theorem dX9_writes_79 : decode cX9_writes 79 = .ok (.getfield 201, 3) := by decide +kernel
set_option maxRecDepth 100000 in
theorem dX9_writes_82 : decode cX9_writes 82 = .ok (.iload_n 2, 1) := by decide +kernel
set_option maxRecDepth 100000 in
theorem dX9_writes_83 : decode cX9_writes 83 = .ok (.iaload, 1) := by decide +kernel
set_option maxRecDepth 100000 in
theorem dX9_writes_84 : decode cX9_writes 84 = .ok (.istore 6, 2) := by decide +kernel
set_option maxRecDepth 100000 in
theorem dX9_writes_86 : decode cX9_writes 86 = .ok (.aload_n 0, 1) := by decide +kernel
set_option maxRecDepth 100000 in
theorem dX9_writes_87 : decode cX9_writes 87 = .ok (.dup, 1) := by decide +kernel
set_option maxRecDepth 100000 in
theorem dX9_writes_88 : decode cX9_writes 88 = .ok (.getfield 86, 3) := by decide +kernel
set_option maxRecDepth 100000 in
theorem dX9_writes_91 : decode cX9_writes 91 = .ok (.iload 6, 2) := by decide +kernel
set_option maxRecDepth 100000 in
theorem dX9_writes_93 : decode cX9_writes 93 = .ok (.isub, 1) := by decide +kernel
set_option maxRecDepth 100000 in
theorem dX9_writes_94 : decode cX9_writes 94 = .ok (.putfield 86, 3) := by decide +kernel
set_option maxRecDepth 100000 in
theorem dX9_writes_97 : decode cX9_writes 97 = .ok (.iload 6, 2) := by decide +kernel
set_option maxRecDepth 100000 in
theorem dX9_writes_99 : decode cX9_writes 99 = .ok (.ifCond .le 15, 3) := by decide +kernel
set_option maxRecDepth 100000 in
theorem dX9_writes_102 : decode cX9_writes 102 = .ok (.aload_n 0, 1) := by decide +kernel
set_option maxRecDepth 100000 in
theorem dX9_writes_103 : decode cX9_writes 103 = .ok (.getfield 28, 3) := by decide +kernel
set_option maxRecDepth 100000 in
theorem dX9_writes_106 : decode cX9_writes 106 = .ok (.aload_n 0, 1) := by decide +kernel
set_option maxRecDepth 100000 in
theorem dX9_writes_107 : decode cX9_writes 107 = .ok (.getfield 86, 3) := by decide +kernel
set_option maxRecDepth 100000 in
theorem dX9_writes_110 : decode cX9_writes 110 = .ok (.laload, 1) := by decide +kernel
set_option maxRecDepth 100000 in
theorem dX9_writes_111 : decode cX9_writes 111 = .ok (.goto 40, 3) := by decide +kernel
set_option maxRecDepth 100000 in
theorem dX9_writes_114 : decode cX9_writes 114 = .ok (.iload_n 1, 1) := by decide +kernel
set_option maxRecDepth 100000 in
theorem dX9_writes_115 : decode cX9_writes 115 = .ok (.bipush 93, 2) := by decide +kernel
set_option maxRecDepth 100000 in
theorem dX9_writes_117 : decode cX9_writes 117 = .ok (.if_icmp .ne 9, 3) := by decide +kernel
set_option maxRecDepth 100000 in
theorem dX9_writes_120 : decode cX9_writes 120 = .ok (.ldc2_w 511, 3) := by decide +kernel
set_option maxRecDepth 100000 in
theorem dX9_writes_123 : decode cX9_writes 123 = .ok (.goto 28, 3) := by decide +kernel
set_option maxRecDepth 100000 in
theorem dX9_writes_126 : decode cX9_writes 126 = .ok (.iload_n 1, 1) := by decide +kernel
set_option maxRecDepth 100000 in
theorem dX9_writes_127 : decode cX9_writes 127 = .ok (.bipush 94, 2) := by decide +kernel
set_option maxRecDepth 100000 in
theorem dX9_writes_129 : decode cX9_writes 129 = .ok (.if_icmp .ne 9, 3) := by decide +kernel
set_option maxRecDepth 100000 in
theorem dX9_writes_132 : decode cX9_writes 132 = .ok (.ldc2_w 513, 3) := by decide +kernel
set_option maxRecDepth 100000 in
theorem dX9_writes_135 : decode cX9_writes 135 = .ok (.goto 16, 3) := by decide +kernel
set_option maxRecDepth 100000 in
theorem dX9_writes_138 : decode cX9_writes 138 = .ok (.iload_n 1, 1) := by decide +kernel
set_option maxRecDepth 100000 in
theorem dX9_writes_139 : decode cX9_writes 139 = .ok (.bipush 96, 2) := by decide +kernel
set_option maxRecDepth 100000 in
theorem dX9_writes_141 : decode cX9_writes 141 = .ok (.if_icmp .ne 9, 3) := by decide +kernel
set_option maxRecDepth 100000 in
theorem dX9_writes_144 : decode cX9_writes 144 = .ok (.ldc2_w 515, 3) := by decide +kernel
set_option maxRecDepth 100000 in
theorem dX9_writes_147 : decode cX9_writes 147 = .ok (.goto 4, 3) := by decide +kernel
set_option maxRecDepth 100000 in
theorem dX9_writes_150 : decode cX9_writes 150 = .ok (.lconst 0, 1) := by decide +kernel
set_option maxRecDepth 100000 in
theorem dX9_writes_151 : decode cX9_writes 151 = .ok (.lstore 7, 2) := by decide +kernel
set_option maxRecDepth 100000 in
theorem dX9_writes_153 : decode cX9_writes 153 = .ok (.iload 6, 2) := by decide +kernel
set_option maxRecDepth 100000 in
theorem dX9_writes_155 : decode cX9_writes 155 = .ok (.iconst 1, 1) := by decide +kernel
set_option maxRecDepth 100000 in
theorem dX9_writes_156 : decode cX9_writes 156 = .ok (.if_icmp .le 17, 3) := by decide +kernel
set_option maxRecDepth 100000 in
theorem dX9_writes_159 : decode cX9_writes 159 = .ok (.aload_n 0, 1) := by decide +kernel
set_option maxRecDepth 100000 in
theorem dX9_writes_160 : decode cX9_writes 160 = .ok (.getfield 28, 3) := by decide +kernel
set_option maxRecDepth 100000 in
theorem dX9_writes_163 : decode cX9_writes 163 = .ok (.aload_n 0, 1) := by decide +kernel
set_option maxRecDepth 100000 in
theorem dX9_writes_164 : decode cX9_writes 164 = .ok (.getfield 86, 3) := by decide +kernel
set_option maxRecDepth 100000 in
theorem dX9_writes_167 : decode cX9_writes 167 = .ok (.iconst 1, 1) := by decide +kernel
set_option maxRecDepth 100000 in
theorem dX9_writes_168 : decode cX9_writes 168 = .ok (.iadd, 1) := by decide +kernel
set_option maxRecDepth 100000 in
theorem dX9_writes_169 : decode cX9_writes 169 = .ok (.laload, 1) := by decide +kernel
set_option maxRecDepth 100000 in
theorem dX9_writes_170 : decode cX9_writes 170 = .ok (.goto 4, 3) := by decide +kernel
set_option maxRecDepth 100000 in
theorem dX9_writes_173 : decode cX9_writes 173 = .ok (.lconst 0, 1) := by decide +kernel
set_option maxRecDepth 100000 in
theorem dX9_writes_174 : decode cX9_writes 174 = .ok (.lstore 9, 2) := by decide +kernel
set_option maxRecDepth 100000 in
theorem dX9_writes_176 : decode cX9_writes 176 = .ok (.aload_n 0, 1) := by decide +kernel
set_option maxRecDepth 100000 in
theorem dX9_writes_177 : decode cX9_writes 177 = .ok (.dup, 1) := by decide +kernel
set_option maxRecDepth 100000 in
theorem dX9_writes_178 : decode cX9_writes 178 = .ok (.getfield 86, 3) := by decide +kernel
set_option maxRecDepth 100000 in
theorem dX9_writes_181 : decode cX9_writes 181 = .ok (.iconst 1, 1) := by decide +kernel
set_option maxRecDepth 100000 in
theorem dX9_writes_182 : decode cX9_writes 182 = .ok (.isub, 1) := by decide +kernel
set_option maxRecDepth 100000 in
theorem dX9_writes_183 : decode cX9_writes 183 = .ok (.putfield 86, 3) := by decide +kernel
set_option maxRecDepth 100000 in
theorem dX9_writes_186 : decode cX9_writes 186 = .ok (.aload_n 0, 1) := by decide +kernel
set_option maxRecDepth 100000 in
theorem dX9_writes_187 : decode cX9_writes 187 = .ok (.getfield 23, 3) := by decide +kernel
set_option maxRecDepth 100000 in
theorem dX9_writes_190 : decode cX9_writes 190 = .ok (.getfield 429, 3) := by decide +kernel
set_option maxRecDepth 100000 in
theorem dX9_writes_193 : decode cX9_writes 193 = .ok (.iload_n 3, 1) := by decide +kernel
set_option maxRecDepth 100000 in
theorem dX9_writes_194 : decode cX9_writes 194 = .ok (.iaload, 1) := by decide +kernel
set_option maxRecDepth 100000 in
theorem dX9_writes_195 : decode cX9_writes 195 = .ok (.iconst 2, 1) := by decide +kernel
set_option maxRecDepth 100000 in
theorem dX9_writes_196 : decode cX9_writes 196 = .ok (.if_icmp .eq 14, 3) := by decide +kernel
set_option maxRecDepth 100000 in
theorem dX9_writes_199 : decode cX9_writes 199 = .ok (.aload_n 0, 1) := by decide +kernel
set_option maxRecDepth 100000 in
theorem dX9_writes_200 : decode cX9_writes 200 = .ok (.bipush 10, 2) := by decide +kernel
set_option maxRecDepth 100000 in
theorem dX9_writes_202 : decode cX9_writes 202 = .ok (.iload 4, 2) := by decide +kernel
set_option maxRecDepth 100000 in
theorem dX9_writes_204 : decode cX9_writes 204 = .ok (.invokevirtual 147, 3) := by decide +kernel
set_option maxRecDepth 100000 in
theorem dX9_writes_207 : decode cX9_writes 207 = .ok (.goto 81, 3) := by decide +kernel
set_option maxRecDepth 100000 in
theorem dX9_writes_210 : decode cX9_writes 210 = .ok (.iload 6, 2) := by decide +kernel
set_option maxRecDepth 100000 in
theorem dX9_writes_212 : decode cX9_writes 212 = .ok (.ifCond .le 38, 3) := by decide +kernel
set_option maxRecDepth 100000 in
theorem dX9_writes_215 : decode cX9_writes 215 = .ok (.lload 7, 2) := by decide +kernel
set_option maxRecDepth 100000 in
theorem dX9_writes_217 : decode cX9_writes 217 = .ok (.lconst 1, 1) := by decide +kernel
set_option maxRecDepth 100000 in
theorem dX9_writes_218 : decode cX9_writes 218 = .ok (.lcmp, 1) := by decide +kernel
set_option maxRecDepth 100000 in
theorem dX9_writes_219 : decode cX9_writes 219 = .ok (.ifCond .lt 12, 3) := by decide +kernel
set_option maxRecDepth 100000 in
theorem dX9_writes_222 : decode cX9_writes 222 = .ok (.lload 7, 2) := by decide +kernel
set_option maxRecDepth 100000 in
theorem dX9_writes_224 : decode cX9_writes 224 = .ok (.ldc2_w 517, 3) := by decide +kernel
set_option maxRecDepth 100000 in
theorem dX9_writes_227 : decode cX9_writes 227 = .ok (.lcmp, 1) := by decide +kernel
set_option maxRecDepth 100000 in
theorem dX9_writes_228 : decode cX9_writes 228 = .ok (.ifCond .le 22, 3) := by decide +kernel
set_option maxRecDepth 100000 in
theorem dX9_writes_231 : decode cX9_writes 231 = .ok (.aload_n 0, 1) := by decide +kernel
set_option maxRecDepth 100000 in
theorem dX9_writes_232 : decode cX9_writes 232 = .ok (.bipush 12, 2) := by decide +kernel
set_option maxRecDepth 100000 in
theorem dX9_writes_234 : decode cX9_writes 234 = .ok (.aload_n 0, 1) := by decide +kernel
set_option maxRecDepth 100000 in
theorem dX9_writes_235 : decode cX9_writes 235 = .ok (.getfield 75, 3) := by decide +kernel
set_option maxRecDepth 100000 in
theorem dX9_writes_238 : decode cX9_writes 238 = .ok (.getfield 201, 3) := by decide +kernel
set_option maxRecDepth 100000 in
theorem dX9_writes_241 : decode cX9_writes 241 = .ok (.iload 5, 2) := by decide +kernel
set_option maxRecDepth 100000 in
theorem dX9_writes_243 : decode cX9_writes 243 = .ok (.iaload, 1) := by decide +kernel
set_option maxRecDepth 100000 in
theorem dX9_writes_244 : decode cX9_writes 244 = .ok (.invokevirtual 147, 3) := by decide +kernel
set_option maxRecDepth 100000 in
theorem dX9_writes_247 : decode cX9_writes 247 = .ok (.goto 41, 3) := by decide +kernel
set_option maxRecDepth 100000 in
theorem dX9_writes_250 : decode cX9_writes 250 = .ok (.iload 6, 2) := by decide +kernel
set_option maxRecDepth 100000 in
theorem dX9_writes_252 : decode cX9_writes 252 = .ok (.iconst 1, 1) := by decide +kernel
set_option maxRecDepth 100000 in
theorem dX9_writes_253 : decode cX9_writes 253 = .ok (.if_icmp .le 35, 3) := by decide +kernel
set_option maxRecDepth 100000 in
theorem dX9_writes_256 : decode cX9_writes 256 = .ok (.lload 9, 2) := by decide +kernel
set_option maxRecDepth 100000 in
theorem dX9_writes_258 : decode cX9_writes 258 = .ok (.lconst 1, 1) := by decide +kernel
set_option maxRecDepth 100000 in
theorem dX9_writes_259 : decode cX9_writes 259 = .ok (.lcmp, 1) := by decide +kernel
set_option maxRecDepth 100000 in
theorem dX9_writes_260 : decode cX9_writes 260 = .ok (.ifCond .lt 12, 3) := by decide +kernel
set_option maxRecDepth 100000 in
theorem dX9_writes_263 : decode cX9_writes 263 = .ok (.lload 9, 2) := by decide +kernel
set_option maxRecDepth 100000 in
theorem dX9_writes_265 : decode cX9_writes 265 = .ok (.ldc2_w 506, 3) := by decide +kernel
set_option maxRecDepth 100000 in
theorem dX9_writes_268 : decode cX9_writes 268 = .ok (.lcmp, 1) := by decide +kernel
set_option maxRecDepth 100000 in
theorem dX9_writes_269 : decode cX9_writes 269 = .ok (.ifCond .le 19, 3) := by decide +kernel
set_option maxRecDepth 100000 in
theorem dX9_writes_272 : decode cX9_writes 272 = .ok (.aload_n 0, 1) := by decide +kernel
set_option maxRecDepth 100000 in
theorem dX9_writes_273 : decode cX9_writes 273 = .ok (.bipush 12, 2) := by decide +kernel
set_option maxRecDepth 100000 in
theorem dX9_writes_275 : decode cX9_writes 275 = .ok (.aload_n 0, 1) := by decide +kernel
set_option maxRecDepth 100000 in
theorem dX9_writes_276 : decode cX9_writes 276 = .ok (.getfield 75, 3) := by decide +kernel
set_option maxRecDepth 100000 in
theorem dX9_writes_279 : decode cX9_writes 279 = .ok (.getfield 204, 3) := by decide +kernel
set_option maxRecDepth 100000 in
theorem dX9_writes_282 : decode cX9_writes 282 = .ok (.iload 5, 2) := by decide +kernel
set_option maxRecDepth 100000 in
theorem dX9_writes_284 : decode cX9_writes 284 = .ok (.iaload, 1) := by decide +kernel
set_option maxRecDepth 100000 in
theorem dX9_writes_285 : decode cX9_writes 285 = .ok (.invokevirtual 147, 3) := by decide +kernel
set_option maxRecDepth 100000 in
theorem dX9_writes_288 : decode cX9_writes 288 = .ok (.aload_n 0, 1) := by decide +kernel
set_option maxRecDepth 100000 in
theorem dX9_writes_289 : decode cX9_writes 289 = .ok (.getfield 79, 3) := by decide +kernel
set_option maxRecDepth 100000 in
theorem dX9_writes_292 : decode cX9_writes 292 = .ok (.ifCond .le 4, 3) := by decide +kernel
set_option maxRecDepth 100000 in
theorem dX9_writes_295 : decode cX9_writes 295 = .ok (.return_, 1) := by decide +kernel
set_option maxRecDepth 100000 in
theorem dX9_writes_296 : decode cX9_writes 296 = .ok (.iload_n 1, 1) := by decide +kernel
set_option maxRecDepth 100000 in
theorem dX9_writes_297 : decode cX9_writes 297 = .ok (.bipush 93, 2) := by decide +kernel
set_option maxRecDepth 100000 in
theorem dX9_writes_299 : decode cX9_writes 299 = .ok (.if_icmp .ne 67, 3) := by decide +kernel
set_option maxRecDepth 100000 in
theorem dX9_writes_302 : decode cX9_writes 302 = .ok (.aload_n 0, 1) := by decide +kernel
set_option maxRecDepth 100000 in
theorem dX9_writes_303 : decode cX9_writes 303 = .ok (.getfield 28, 3) := by decide +kernel
set_option maxRecDepth 100000 in
theorem dX9_writes_306 : decode cX9_writes 306 = .ok (.aload_n 0, 1) := by decide +kernel
set_option maxRecDepth 100000 in
theorem dX9_writes_307 : decode cX9_writes 307 = .ok (.getfield 86, 3) := by decide +kernel
set_option maxRecDepth 100000 in
theorem dX9_writes_310 : decode cX9_writes 310 = .ok (.laload, 1) := by decide +kernel
set_option maxRecDepth 100000 in
theorem dX9_writes_311 : decode cX9_writes 311 = .ok (.lconst 0, 1) := by decide +kernel
set_option maxRecDepth 100000 in
theorem dX9_writes_312 : decode cX9_writes 312 = .ok (.lcmp, 1) := by decide +kernel
set_option maxRecDepth 100000 in
theorem dX9_writes_313 : decode cX9_writes 313 = .ok (.ifCond .ge 9, 3) := by decide +kernel
set_option maxRecDepth 100000 in
theorem dX9_writes_316 : decode cX9_writes 316 = .ok (.aload_n 0, 1) := by decide +kernel
set_option maxRecDepth 100000 in
theorem dX9_writes_317 : decode cX9_writes 317 = .ok (.bipush 45, 2) := by decide +kernel
set_option maxRecDepth 100000 in
theorem dX9_writes_319 : decode cX9_writes 319 = .ok (.invokevirtual 503, 3) := by decide +kernel
set_option maxRecDepth 100000 in
theorem dX9_writes_322 : decode cX9_writes 322 = .ok (.aload_n 0, 1) := by decide +kernel
set_option maxRecDepth 100000 in
theorem dX9_writes_323 : decode cX9_writes 323 = .ok (.aload_n 0, 1) := by decide +kernel
set_option maxRecDepth 100000 in
theorem dX9_writes_324 : decode cX9_writes 324 = .ok (.getfield 28, 3) := by decide +kernel
set_option maxRecDepth 100000 in
theorem dX9_writes_327 : decode cX9_writes 327 = .ok (.aload_n 0, 1) := by decide +kernel
set_option maxRecDepth 100000 in
theorem dX9_writes_328 : decode cX9_writes 328 = .ok (.getfield 86, 3) := by decide +kernel
set_option maxRecDepth 100000 in
theorem dX9_writes_331 : decode cX9_writes 331 = .ok (.laload, 1) := by decide +kernel
set_option maxRecDepth 100000 in
theorem dX9_writes_332 : decode cX9_writes 332 = .ok (.lconst 0, 1) := by decide +kernel
set_option maxRecDepth 100000 in
theorem dX9_writes_333 : decode cX9_writes 333 = .ok (.lcmp, 1) := by decide +kernel
set_option maxRecDepth 100000 in
theorem dX9_writes_334 : decode cX9_writes 334 = .ok (.ifCond .ge 16, 3) := by decide +kernel
set_option maxRecDepth 100000 in
theorem dX9_writes_337 : decode cX9_writes 337 = .ok (.aload_n 0, 1) := by decide +kernel
set_option maxRecDepth 100000 in
theorem dX9_writes_338 : decode cX9_writes 338 = .ok (.getfield 28, 3) := by decide +kernel
set_option maxRecDepth 100000 in
theorem dX9_writes_341 : decode cX9_writes 341 = .ok (.aload_n 0, 1) := by decide +kernel
set_option maxRecDepth 100000 in
theorem dX9_writes_342 : decode cX9_writes 342 = .ok (.getfield 86, 3) := by decide +kernel
set_option maxRecDepth 100000 in
theorem dX9_writes_345 : decode cX9_writes 345 = .ok (.laload, 1) := by decide +kernel
set_option maxRecDepth 100000 in
theorem dX9_writes_346 : decode cX9_writes 346 = .ok (.lneg, 1) := by decide +kernel
set_option maxRecDepth 100000 in
theorem dX9_writes_347 : decode cX9_writes 347 = .ok (.goto 12, 3) := by decide +kernel
set_option maxRecDepth 100000 in
theorem dX9_writes_350 : decode cX9_writes 350 = .ok (.aload_n 0, 1) := by decide +kernel
set_option maxRecDepth 100000 in
theorem dX9_writes_351 : decode cX9_writes 351 = .ok (.getfield 28, 3) := by decide +kernel
set_option maxRecDepth 100000 in
theorem dX9_writes_354 : decode cX9_writes 354 = .ok (.aload_n 0, 1) := by decide +kernel
set_option maxRecDepth 100000 in
theorem dX9_writes_355 : decode cX9_writes 355 = .ok (.getfield 86, 3) := by decide +kernel
set_option maxRecDepth 100000 in
theorem dX9_writes_358 : decode cX9_writes 358 = .ok (.laload, 1) := by decide +kernel
set_option maxRecDepth 100000 in
theorem dX9_writes_359 : decode cX9_writes 359 = .ok (.iconst 1, 1) := by decide +kernel
set_option maxRecDepth 100000 in
theorem dX9_writes_360 : decode cX9_writes 360 = .ok (.invokevirtual 519, 3) := by decide +kernel
set_option maxRecDepth 100000 in
theorem dX9_writes_363 : decode cX9_writes 363 = .ok (.goto 164, 3) := by decide +kernel
set_option maxRecDepth 100000 in
theorem dX9_writes_366 : decode cX9_writes 366 = .ok (.iload_n 1, 1) := by decide +kernel
set_option maxRecDepth 100000 in
theorem dX9_writes_367 : decode cX9_writes 367 = .ok (.bipush 94, 2) := by decide +kernel
set_option maxRecDepth 100000 in
theorem dX9_writes_369 : decode cX9_writes 369 = .ok (.if_icmp .ne 35, 3) := by decide +kernel
set_option maxRecDepth 100000 in
theorem dX9_writes_372 : decode cX9_writes 372 = .ok (.aload_n 0, 1) := by decide +kernel
set_option maxRecDepth 100000 in
theorem dX9_writes_373 : decode cX9_writes 373 = .ok (.aload_n 0, 1) := by decide +kernel
set_option maxRecDepth 100000 in
theorem dX9_writes_374 : decode cX9_writes 374 = .ok (.getfield 35, 3) := by decide +kernel
set_option maxRecDepth 100000 in
theorem dX9_writes_377 : decode cX9_writes 377 = .ok (.aload_n 0, 1) := by decide +kernel
set_option maxRecDepth 100000 in
theorem dX9_writes_378 : decode cX9_writes 378 = .ok (.getfield 86, 3) := by decide +kernel
set_option maxRecDepth 100000 in
theorem dX9_writes_381 : decode cX9_writes 381 = .ok (.daload, 1) := by decide +kernel
set_option maxRecDepth 100000 in
theorem dX9_writes_382 : decode cX9_writes 382 = .ok (.lload 7, 2) := by decide +kernel
set_option maxRecDepth 100000 in
theorem dX9_writes_384 : decode cX9_writes 384 = .ok (.l2i, 1) := by decide +kernel
set_option maxRecDepth 100000 in
theorem dX9_writes_385 : decode cX9_writes 385 = .ok (.iload 6, 2) := by decide +kernel
set_option maxRecDepth 100000 in
theorem dX9_writes_387 : decode cX9_writes 387 = .ok (.iconst 1, 1) := by decide +kernel
set_option maxRecDepth 100000 in
theorem dX9_writes_388 : decode cX9_writes 388 = .ok (.if_icmp .le 9, 3) := by decide +kernel
set_option maxRecDepth 100000 in
theorem dX9_writes_391 : decode cX9_writes 391 = .ok (.lload 9, 2) := by decide +kernel
set_option maxRecDepth 100000 in
theorem dX9_writes_393 : decode cX9_writes 393 = .ok (.l2i, 1) := by decide +kernel
set_option maxRecDepth 100000 in
theorem dX9_writes_394 : decode cX9_writes 394 = .ok (.goto 4, 3) := by decide +kernel
set_option maxRecDepth 100000 in
theorem dX9_writes_397 : decode cX9_writes 397 = .ok (.iconst 0, 1) := by decide +kernel
set_option maxRecDepth 100000 in
theorem dX9_writes_398 : decode cX9_writes 398 = .ok (.invokevirtual 522, 3) := by decide +kernel
set_option maxRecDepth 100000 in
theorem dX9_writes_401 : decode cX9_writes 401 = .ok (.goto 126, 3) := by decide +kernel
set_option maxRecDepth 100000 in
theorem dX9_writes_404 : decode cX9_writes 404 = .ok (.iload_n 1, 1) := by decide +kernel
set_option maxRecDepth 100000 in
theorem dX9_writes_405 : decode cX9_writes 405 = .ok (.bipush 95, 2) := by decide +kernel
set_option maxRecDepth 100000 in
theorem dX9_writes_407 : decode cX9_writes 407 = .ok (.if_icmp .ne 20, 3) := by decide +kernel
set_option maxRecDepth 100000 in
theorem dX9_writes_410 : decode cX9_writes 410 = .ok (.aload_n 0, 1) := by decide +kernel
set_option maxRecDepth 100000 in
theorem dX9_writes_411 : decode cX9_writes 411 = .ok (.aload_n 0, 1) := by decide +kernel
set_option maxRecDepth 100000 in
theorem dX9_writes_412 : decode cX9_writes 412 = .ok (.getfield 28, 3) := by decide +kernel
set_option maxRecDepth 100000 in
theorem dX9_writes_415 : decode cX9_writes 415 = .ok (.aload_n 0, 1) := by decide +kernel
set_option maxRecDepth 100000 in
theorem dX9_writes_416 : decode cX9_writes 416 = .ok (.getfield 86, 3) := by decide +kernel
set_option maxRecDepth 100000 in
theorem dX9_writes_419 : decode cX9_writes 419 = .ok (.laload, 1) := by decide +kernel
set_option maxRecDepth 100000 in
theorem dX9_writes_420 : decode cX9_writes 420 = .ok (.l2i, 1) := by decide +kernel
set_option maxRecDepth 100000 in
theorem dX9_writes_421 : decode cX9_writes 421 = .ok (.invokevirtual 503, 3) := by decide +kernel
set_option maxRecDepth 100000 in
theorem dX9_writes_424 : decode cX9_writes 424 = .ok (.goto 103, 3) := by decide +kernel
set_option maxRecDepth 100000 in
theorem dX9_writes_427 : decode cX9_writes 427 = .ok (.iload_n 1, 1) := by decide +kernel
set_option maxRecDepth 100000 in
theorem dX9_writes_428 : decode cX9_writes 428 = .ok (.bipush 96, 2) := by decide +kernel
set_option maxRecDepth 100000 in
theorem dX9_writes_430 : decode cX9_writes 430 = .ok (.if_icmp .ne 33, 3) := by decide +kernel
set_option maxRecDepth 100000 in
theorem dX9_writes_433 : decode cX9_writes 433 = .ok (.aload_n 0, 1) := by decide +kernel
set_option maxRecDepth 100000 in
theorem dX9_writes_434 : decode cX9_writes 434 = .ok (.aload_n 0, 1) := by decide +kernel
set_option maxRecDepth 100000 in
theorem dX9_writes_435 : decode cX9_writes 435 = .ok (.getfield 28, 3) := by decide +kernel
set_option maxRecDepth 100000 in
theorem dX9_writes_438 : decode cX9_writes 438 = .ok (.aload_n 0, 1) := by decide +kernel
set_option maxRecDepth 100000 in
theorem dX9_writes_439 : decode cX9_writes 439 = .ok (.getfield 86, 3) := by decide +kernel
set_option maxRecDepth 100000 in
theorem dX9_writes_442 : decode cX9_writes 442 = .ok (.laload, 1) := by decide +kernel
set_option maxRecDepth 100000 in
theorem dX9_writes_443 : decode cX9_writes 443 = .ok (.lconst 1, 1) := by decide +kernel
set_option maxRecDepth 100000 in
theorem dX9_writes_444 : decode cX9_writes 444 = .ok (.lcmp, 1) := by decide +kernel
set_option maxRecDepth 100000 in
theorem dX9_writes_445 : decode cX9_writes 445 = .ok (.ifCond .ne 9, 3) := by decide +kernel
set_option maxRecDepth 100000 in
theorem dX9_writes_448 : decode cX9_writes 448 = .ok (.ldc_w 526, 3) := by decide +kernel
set_option maxRecDepth 100000 in
theorem dX9_writes_451 : decode cX9_writes 451 = .ok (.goto 6, 3) := by decide +kernel
set_option maxRecDepth 100000 in
theorem dX9_writes_454 : decode cX9_writes 454 = .ok (.ldc_w 528, 3) := by decide +kernel
set_option maxRecDepth 100000 in
theorem dX9_writes_457 : decode cX9_writes 457 = .ok (.invokevirtual 530, 3) := by decide +kernel
set_option maxRecDepth 100000 in
theorem dX9_writes_460 : decode cX9_writes 460 = .ok (.goto 67, 3) := by decide +kernel
set_option maxRecDepth 100000 in
theorem dX9_writes_463 : decode cX9_writes 463 = .ok (.aload_n 0, 1) := by decide +kernel
set_option maxRecDepth 100000 in
theorem dX9_writes_464 : decode cX9_writes 464 = .ok (.aload_n 0, 1) := by decide +kernel
set_option maxRecDepth 100000 in
theorem dX9_writes_465 : decode cX9_writes 465 = .ok (.getfield 28, 3) := by decide +kernel
set_option maxRecDepth 100000 in
theorem dX9_writes_468 : decode cX9_writes 468 = .ok (.aload_n 0, 1) := by decide +kernel
set_option maxRecDepth 100000 in
theorem dX9_writes_469 : decode cX9_writes 469 = .ok (.getfield 86, 3) := by decide +kernel
set_option maxRecDepth 100000 in
theorem dX9_writes_472 : decode cX9_writes 472 = .ok (.laload, 1) := by decide +kernel
set_option maxRecDepth 100000 in
theorem dX9_writes_473 : decode cX9_writes 473 = .ok (.l2i, 1) := by decide +kernel
set_option maxRecDepth 100000 in
theorem dX9_writes_474 : decode cX9_writes 474 = .ok (.iload 6, 2) := by decide +kernel
set_option maxRecDepth 100000 in
theorem dX9_writes_476 : decode cX9_writes 476 = .ok (.ifCond .le 21, 3) := by decide +kernel
set_option maxRecDepth 100000 in
theorem dX9_writes_479 : decode cX9_writes 479 = .ok (.aload_n 0, 1) := by decide +kernel
set_option maxRecDepth 100000 in
theorem dX9_writes_480 : decode cX9_writes 480 = .ok (.getfield 75, 3) := by decide +kernel
set_option maxRecDepth 100000 in
theorem dX9_writes_483 : decode cX9_writes 483 = .ok (.getfield 204, 3) := by decide +kernel
set_option maxRecDepth 100000 in
theorem dX9_writes_486 : decode cX9_writes 486 = .ok (.iload_n 2, 1) := by decide +kernel
set_option maxRecDepth 100000 in
theorem dX9_writes_487 : decode cX9_writes 487 = .ok (.iaload, 1) := by decide +kernel
set_option maxRecDepth 100000 in
theorem dX9_writes_488 : decode cX9_writes 488 = .ok (.lload 7, 2) := by decide +kernel
set_option maxRecDepth 100000 in
theorem dX9_writes_490 : decode cX9_writes 490 = .ok (.l2i, 1) := by decide +kernel
set_option maxRecDepth 100000 in
theorem dX9_writes_491 : decode cX9_writes 491 = .ok (.invokestatic 534, 3) := by decide +kernel
set_option maxRecDepth 100000 in
theorem dX9_writes_494 : decode cX9_writes 494 = .ok (.goto 12, 3) := by decide +kernel
set_option maxRecDepth 100000 in
theorem dX9_writes_497 : decode cX9_writes 497 = .ok (.aload_n 0, 1) := by decide +kernel
set_option maxRecDepth 100000 in
theorem dX9_writes_498 : decode cX9_writes 498 = .ok (.getfield 75, 3) := by decide +kernel
set_option maxRecDepth 100000 in
theorem dX9_writes_501 : decode cX9_writes 501 = .ok (.getfield 204, 3) := by decide +kernel
set_option maxRecDepth 100000 in
theorem dX9_writes_504 : decode cX9_writes 504 = .ok (.iload_n 2, 1) := by decide +kernel
set_option maxRecDepth 100000 in
theorem dX9_writes_505 : decode cX9_writes 505 = .ok (.iaload, 1) := by decide +kernel
set_option maxRecDepth 100000 in
theorem dX9_writes_506 : decode cX9_writes 506 = .ok (.invokevirtual 537, 3) := by decide +kernel
set_option maxRecDepth 100000 in
theorem dX9_writes_509 : decode cX9_writes 509 = .ok (.ifCond .ne 18, 3) := by decide +kernel
set_option maxRecDepth 100000 in
theorem dX9_writes_512 : decode cX9_writes 512 = .ok (.aload_n 0, 1) := by decide +kernel
set_option maxRecDepth 100000 in
theorem dX9_writes_513 : decode cX9_writes 513 = .ok (.iconst 5, 1) := by decide +kernel
set_option maxRecDepth 100000 in
theorem dX9_writes_514 : decode cX9_writes 514 = .ok (.aload_n 0, 1) := by decide +kernel
set_option maxRecDepth 100000 in
theorem dX9_writes_515 : decode cX9_writes 515 = .ok (.getfield 75, 3) := by decide +kernel
set_option maxRecDepth 100000 in
theorem dX9_writes_518 : decode cX9_writes 518 = .ok (.getfield 224, 3) := by decide +kernel
set_option maxRecDepth 100000 in
theorem dX9_writes_521 : decode cX9_writes 521 = .ok (.iload 5, 2) := by decide +kernel
set_option maxRecDepth 100000 in
theorem dX9_writes_523 : decode cX9_writes 523 = .ok (.iaload, 1) := by decide +kernel
set_option maxRecDepth 100000 in
theorem dX9_writes_524 : decode cX9_writes 524 = .ok (.invokevirtual 147, 3) := by decide +kernel
set_option maxRecDepth 100000 in
theorem dX9_writes_527 : decode cX9_writes 527 = .ok (.aload_n 0, 1) := by decide +kernel
set_option maxRecDepth 100000 in
theorem dX9_writes_528 : decode cX9_writes 528 = .ok (.getfield 79, 3) := by decide +kernel
set_option maxRecDepth 100000 in
theorem dX9_writes_531 : decode cX9_writes 531 = .ok (.ifCond .ne 35, 3) := by decide +kernel
set_option maxRecDepth 100000 in
theorem dX9_writes_534 : decode cX9_writes 534 = .ok (.aload_n 0, 1) := by decide +kernel
set_option maxRecDepth 100000 in
theorem dX9_writes_535 : decode cX9_writes 535 = .ok (.iload_n 3, 1) := by decide +kernel
set_option maxRecDepth 100000 in
theorem dX9_writes_536 : decode cX9_writes 536 = .ok (.lload 7, 2) := by decide +kernel
set_option maxRecDepth 100000 in
theorem dX9_writes_538 : decode cX9_writes 538 = .ok (.l2i, 1) := by decide +kernel
set_option maxRecDepth 100000 in
theorem dX9_writes_539 : decode cX9_writes 539 = .ok (.iload 6, 2) := by decide +kernel
set_option maxRecDepth 100000 in
theorem dX9_writes_541 : decode cX9_writes 541 = .ok (.ifCond .le 19, 3) := by decide +kernel
set_option maxRecDepth 100000 in
theorem dX9_writes_544 : decode cX9_writes 544 = .ok (.iload_n 1, 1) := by decide +kernel
set_option maxRecDepth 100000 in
theorem dX9_writes_545 : decode cX9_writes 545 = .ok (.bipush 96, 2) := by decide +kernel
set_option maxRecDepth 100000 in
theorem dX9_writes_547 : decode cX9_writes 547 = .ok (.if_icmp .eq 9, 3) := by decide +kernel
set_option maxRecDepth 100000 in
theorem dX9_writes_550 : decode cX9_writes 550 = .ok (.iload_n 1, 1) := by decide +kernel
set_option maxRecDepth 100000 in
theorem dX9_writes_551 : decode cX9_writes 551 = .ok (.bipush 97, 2) := by decide +kernel
set_option maxRecDepth 100000 in
theorem dX9_writes_553 : decode cX9_writes 553 = .ok (.if_icmp .ne 7, 3) := by decide +kernel
set_option maxRecDepth 100000 in
theorem dX9_writes_556 : decode cX9_writes 556 = .ok (.iconst 1, 1) := by decide +kernel
set_option maxRecDepth 100000 in
theorem dX9_writes_557 : decode cX9_writes 557 = .ok (.goto 4, 3) := by decide +kernel
set_option maxRecDepth 100000 in
theorem dX9_writes_560 : decode cX9_writes 560 = .ok (.iconst 0, 1) := by decide +kernel
set_option maxRecDepth 100000 in
theorem dX9_writes_561 : decode cX9_writes 561 = .ok (.iload 4, 2) := by decide +kernel
set_option maxRecDepth 100000 in
theorem dX9_writes_563 : decode cX9_writes 563 = .ok (.invokevirtual 508, 3) := by decide +kernel
set_option maxRecDepth 100000 in
theorem dX9_writes_566 : decode cX9_writes 566 = .ok (.return_, 1) := by decide +kernel
set_option maxRecDepth 100000 in
def bX9_writes_566 (G : xG) (fr lo : Nat) (h : xH) (Q : Outcome → xH → Prop) : Prop := Q (.returned none) h
set_option maxRecDepth 100000 in
theorem uX9_writes_566 {G : xG} {fr lo : Nat} {h : xH} {Q : Outcome → xH → Prop} (hq : bX9_writes_566 G fr lo h Q) : xP G YX9_writes fr lo 566 [] [] h Q := by
  unfold bX9_writes_566 at hq
  exact x_vret rfl dX9_writes_566 hq
set_option maxRecDepth 100000 in
def bX9_writes_561 (G : xG) (fr lo : Nat) (x4 : Int32) (s0 : Int32) (s1 : Int32) (s2 : Int32) (s3 : Nat) (h : xH) (Q : Outcome → xH → Prop) : Prop := tg h s3 = 10 ∧ 1 ≤ fr ∧ 19 ≤ lo ∧ xRv G YX9_out (fr - 1) (lo - 19) [rv s3, .int s2, .int s1, .int s0, .int x4] h (fun h4 => xext h h4 → bX9_writes_566 G fr lo h4 Q) (fun r h2 => Q (.threw r) h2)
set_option maxRecDepth 100000 in
theorem uX9_writes_561 {G : xG} {fr lo : Nat} {x4 : Int32} {s0 : Int32} {s1 : Int32} {s2 : Int32} {s3 : Nat} {h : xH} {Q : Outcome → xH → Prop} (hq : bX9_writes_561 G fr lo x4 s0 s1 s2 s3 h Q) : xP G YX9_writes fr lo 561 [(4, .int x4)] [.int s0, .int s1, .int s2, rv s3] h Q := by
  unfold bX9_writes_561 at hq
  refine x_iload 0 dX9_writes_561 rfl ?_
  obtain ⟨g1, hq⟩ := hq
  obtain ⟨g2, g3, hq⟩ := hq
  refine x_callV (Yc := YX9_out) (as := [.int s2, .int s1, .int s0, .int x4]) (st := []) q3088 mvX9_out g1 rfl dX9_writes_563 (xle (xal1 (rv_cat _) (xal1 rfl (xal1 rfl (xal1 rfl (xal1 rfl xal0))))) (by decide)) (xfr g2) (xlo xsw0 (by decide) g3) (xKv hq (fun h4 hq e6 => ?_) (fun _ _ q _ => q))
  replace hq := hq e6
  refine xP.pick (lv' := []) [] rfl ?_
  exact uX9_writes_566 hq
set_option maxRecDepth 100000 in
def bX9_writes_560 (G : xG) (fr lo : Nat) (x4 : Int32) (s0 : Int32) (s1 : Int32) (s2 : Nat) (h : xH) (Q : Outcome → xH → Prop) : Prop := bX9_writes_561 G fr lo x4 0 s0 s1 s2 h Q
set_option maxRecDepth 100000 in
theorem uX9_writes_560 {G : xG} {fr lo : Nat} {x4 : Int32} {s0 : Int32} {s1 : Int32} {s2 : Nat} {h : xH} {Q : Outcome → xH → Prop} (hq : bX9_writes_560 G fr lo x4 s0 s1 s2 h Q) : xP G YX9_writes fr lo 560 [(4, .int x4)] [.int s0, .int s1, rv s2] h Q := by
  unfold bX9_writes_560 at hq
  refine x_iconst (v := 0) dX9_writes_560 (by decide) ?_
  exact uX9_writes_561 hq
set_option maxRecDepth 100000 in
def bX9_writes_556 (G : xG) (fr lo : Nat) (x4 : Int32) (s0 : Int32) (s1 : Int32) (s2 : Nat) (h : xH) (Q : Outcome → xH → Prop) : Prop := bX9_writes_561 G fr lo x4 1 s0 s1 s2 h Q
set_option maxRecDepth 100000 in
theorem uX9_writes_556 {G : xG} {fr lo : Nat} {x4 : Int32} {s0 : Int32} {s1 : Int32} {s2 : Nat} {h : xH} {Q : Outcome → xH → Prop} (hq : bX9_writes_556 G fr lo x4 s0 s1 s2 h Q) : xP G YX9_writes fr lo 556 [(4, .int x4)] [.int s0, .int s1, rv s2] h Q := by
  unfold bX9_writes_556 at hq
  refine x_iconst (v := 1) dX9_writes_556 (by decide) ?_
  refine x_goto (tgt := 561) dX9_writes_557 (by decide) ?_
  exact uX9_writes_561 hq
set_option maxRecDepth 100000 in
def bX9_writes_527 (G : xG) (fr lo : Nat) (x0 : Nat) (x1 : Int32) (x3 : Int32) (x4 : Int32) (x6 : Int32) (x7 : Int64) (h : xH) (Q : Outcome → xH → Prop) : Prop := tg h x0 = 10 ∧ ((¬ (fI h x0 2326) = 0 → bX9_writes_566 G fr lo h Q) ∧ ((fI h x0 2326) = 0 → ((x6 ≤ 0 → bX9_writes_560 G fr lo x4 (Int64.toInt32 x7) x3 x0 h Q) ∧ (¬ x6 ≤ 0 → ((x1 = 96 → bX9_writes_556 G fr lo x4 (Int64.toInt32 x7) x3 x0 h Q) ∧ (¬ x1 = 96 → ((¬ x1 = 97 → bX9_writes_560 G fr lo x4 (Int64.toInt32 x7) x3 x0 h Q) ∧ (x1 = 97 → bX9_writes_556 G fr lo x4 (Int64.toInt32 x7) x3 x0 h Q))))))))
set_option maxRecDepth 100000 in
theorem uX9_writes_527 {G : xG} {fr lo : Nat} {x0 : Nat} {x1 : Int32} {x3 : Int32} {x4 : Int32} {x6 : Int32} {x7 : Int64} {h : xH} {Q : Outcome → xH → Prop} (hq : bX9_writes_527 G fr lo x0 x1 x3 x4 x6 x7 h Q) : xP G YX9_writes fr lo 527 [(0, rv x0), (1, .int x1), (3, .int x3), (4, .int x4), (6, .int x6), (7, .long x7)] [] h Q := by
  unfold bX9_writes_527 at hq
  refine x_aload_n 0 dX9_writes_527 rfl ?_
  obtain ⟨g1, hq⟩ := hq
  refine x_get (v := .int (fI h x0 2326)) fdX9_79 dX9_writes_528 g1 rfl ?_
  refine x_if_ne (tgt := 566) dX9_writes_531 (by decide) (fun c2 => ?_) (fun c2 => ?_)
  · replace hq := hq.1 c2
    refine xP.pick (lv' := []) [] rfl ?_
    exact uX9_writes_566 hq
  · replace hq := hq.2 c2
    refine x_aload_n 0 dX9_writes_534 rfl ?_
    refine x_iload_n 2 dX9_writes_535 rfl ?_
    refine x_lload 5 dX9_writes_536 rfl ?_
    refine x_l2i dX9_writes_538 ?_
    refine x_iload 4 dX9_writes_539 rfl ?_
    refine x_if_le (tgt := 560) dX9_writes_541 (by decide) (fun c3 => ?_) (fun c3 => ?_)
    · replace hq := hq.1 c3
      refine xP.pick (lv' := [(4, .int x4)]) [3] rfl ?_
      exact uX9_writes_560 hq
    · replace hq := hq.2 c3
      refine x_iload_n 1 dX9_writes_544 rfl ?_
      refine x_bipush (v := 96) dX9_writes_545 (by decide) ?_
      refine x_icmp_eq (tgt := 556) dX9_writes_547 (by decide) (fun c4 => ?_) (fun c4 => ?_)
      · replace hq := hq.1 c4
        refine xP.pick (lv' := [(4, .int x4)]) [3] rfl ?_
        exact uX9_writes_556 hq
      · replace hq := hq.2 c4
        refine x_iload_n 1 dX9_writes_550 rfl ?_
        refine x_bipush (v := 97) dX9_writes_551 (by decide) ?_
        refine x_icmp_ne (tgt := 560) dX9_writes_553 (by decide) (fun c5 => ?_) (fun c5 => ?_)
        · replace hq := hq.1 c5
          refine xP.pick (lv' := [(4, .int x4)]) [3] rfl ?_
          exact uX9_writes_560 hq
        · replace hq := hq.2 c5
          refine xP.pick (lv' := [(4, .int x4)]) [3] rfl ?_
          exact uX9_writes_556 hq
set_option maxRecDepth 100000 in
def bX9_writes_506 (G : xG) (fr lo : Nat) (x0 : Nat) (x1 : Int32) (x3 : Int32) (x4 : Int32) (x5 : Int32) (x6 : Int32) (x7 : Int64) (s0 : Int32) (s1 : Int32) (s2 : Nat) (h : xH) (Q : Outcome → xH → Prop) : Prop := tg h s2 = 10 ∧ 1 ≤ fr ∧ 15 ≤ lo ∧ xRi G YX9_string (fr - 1) (lo - 15) [rv s2, .int s1, .int s0] h (fun x5 h4 => xext h h4 → ((¬ x5 = 0 → bX9_writes_527 G fr lo x0 x1 x3 x4 x6 x7 h4 Q) ∧ (x5 = 0 → tg h4 x0 = 10 ∧ tg h4 (fR h4 x0 2304) = 3 ∧ tg h4 (fR h4 (fR h4 x0 2304) 515) = 100 ∧ vp_in x5 (ln h4 (fR h4 (fR h4 x0 2304) 515)) ∧ 1 ≤ fr ∧ 14 ≤ lo ∧ xRv G YX9_fail (fr - 1) (lo - 14) [rv x0, .int 5, .int (aI h4 (fR h4 (fR h4 x0 2304) 515) (Int32.toNatClampNeg x5))] h4 (fun h14 => xext h4 h14 → bX9_writes_527 G fr lo x0 x1 x3 x4 x6 x7 h14 Q) (fun r h2 => Q (.threw r) h2)))) (fun r h2 => Q (.threw r) h2)
set_option maxRecDepth 100000 in
theorem uX9_writes_506 {G : xG} {fr lo : Nat} {x0 : Nat} {x1 : Int32} {x3 : Int32} {x4 : Int32} {x5 : Int32} {x6 : Int32} {x7 : Int64} {s0 : Int32} {s1 : Int32} {s2 : Nat} {h : xH} {Q : Outcome → xH → Prop} (hq : bX9_writes_506 G fr lo x0 x1 x3 x4 x5 x6 x7 s0 s1 s2 h Q) : xP G YX9_writes fr lo 506 [(0, rv x0), (1, .int x1), (3, .int x3), (4, .int x4), (5, .int x5), (6, .int x6), (7, .long x7)] [.int s0, .int s1, rv s2] h Q := by
  unfold bX9_writes_506 at hq
  obtain ⟨g1, hq⟩ := hq
  obtain ⟨g2, g3, hq⟩ := hq
  refine x_callV (Yc := YX9_string) (as := [.int s1, .int s0]) (st := []) q3123 mvX9_string g1 rfl dX9_writes_506 (xle (xal1 (rv_cat _) (xal1 rfl (xal1 rfl xal0))) (by decide)) (xfr g2) (xlo xsw0 (by decide) g3) (xKi hq (fun x5 h4 hq e6 => ?_) (fun _ _ q _ => q))
  replace hq := hq e6
  refine x_if_ne (tgt := 527) dX9_writes_509 (by decide) (fun c7 => ?_) (fun c7 => ?_)
  · replace hq := hq.1 c7
    refine xP.pick (lv' := [(0, rv x0), (1, .int x1), (3, .int x3), (4, .int x4), (6, .int x6), (7, .long x7)]) [0, 1, 2, 3, 5, 6] rfl ?_
    exact uX9_writes_527 hq
  · replace hq := hq.2 c7
    refine x_aload_n 0 dX9_writes_512 rfl ?_
    refine x_iconst (v := 5) dX9_writes_513 (by decide) ?_
    refine x_aload_n 0 dX9_writes_514 rfl ?_
    obtain ⟨g8, hq⟩ := hq
    refine x_get (v := rv (fR h4 x0 2304)) fdX9_75 dX9_writes_515 g8 rfl ?_
    obtain ⟨g9, hq⟩ := hq
    refine x_getN (v := rv (fR h4 (fR h4 x0 2304) 515)) gfX9_224 dX9_writes_518 g9 rfl ?_
    refine x_iload 4 dX9_writes_521 rfl ?_
    obtain ⟨g10, hq⟩ := hq
    obtain ⟨i11, hq⟩ := hq
    refine x_iald 0 (Or.inl rfl) g10 i11 dX9_writes_523 ?_
    obtain ⟨g12, g13, hq⟩ := hq
    refine x_callV (Yc := YX9_fail) (as := [.int 5, .int (aI h4 (fR h4 (fR h4 x0 2304) 515) (Int32.toNatClampNeg x5))]) (st := []) q2835 mvX9_fail g8 rfl dX9_writes_524 (xle (xal1 (rv_cat _) (xal1 rfl (xal1 rfl xal0))) (by decide)) (xfr g12) (xlo xsw0 (by decide) g13) (xKv hq (fun h14 hq e16 => ?_) (fun _ _ q _ => q))
    replace hq := hq e16
    refine xP.pick (lv' := [(0, rv x0), (1, .int x1), (3, .int x3), (4, .int x4), (6, .int x6), (7, .long x7)]) [0, 1, 2, 3, 5, 6] rfl ?_
    exact uX9_writes_527 hq
set_option maxRecDepth 100000 in
def bX9_writes_457 (G : xG) (fr lo : Nat) (x0 : Nat) (x1 : Int32) (x3 : Int32) (x4 : Int32) (x6 : Int32) (x7 : Int64) (s0 : Nat) (s1 : Nat) (h : xH) (Q : Outcome → xH → Prop) : Prop := tg h s1 = 10 ∧ 1 ≤ fr ∧ 14 ≤ lo ∧ xRv G YX9_word (fr - 1) (lo - 14) [rv s1, rv s0] h (fun h4 => xext h h4 → bX9_writes_527 G fr lo x0 x1 x3 x4 x6 x7 h4 Q) (fun r h2 => Q (.threw r) h2)
set_option maxRecDepth 100000 in
theorem uX9_writes_457 {G : xG} {fr lo : Nat} {x0 : Nat} {x1 : Int32} {x3 : Int32} {x4 : Int32} {x6 : Int32} {x7 : Int64} {s0 : Nat} {s1 : Nat} {h : xH} {Q : Outcome → xH → Prop} (hq : bX9_writes_457 G fr lo x0 x1 x3 x4 x6 x7 s0 s1 h Q) : xP G YX9_writes fr lo 457 [(0, rv x0), (1, .int x1), (3, .int x3), (4, .int x4), (6, .int x6), (7, .long x7)] [rv s0, rv s1] h Q := by
  unfold bX9_writes_457 at hq
  obtain ⟨g1, hq⟩ := hq
  obtain ⟨g2, g3, hq⟩ := hq
  refine x_callV (Yc := YX9_word) (as := [rv s0]) (st := []) q3116 mvX9_word g1 rfl dX9_writes_457 (xle (xal1 (rv_cat _) (xal1 (rv_cat _) xal0)) (by decide)) (xfr g2) (xlo xsw0 (by decide) g3) (xKv hq (fun h4 hq e6 => ?_) (fun _ _ q _ => q))
  replace hq := hq e6
  refine x_goto (tgt := 527) dX9_writes_460 (by decide) ?_
  exact uX9_writes_527 hq
set_option maxRecDepth 100000 in
def bX9_writes_398 (G : xG) (fr lo : Nat) (x0 : Nat) (x1 : Int32) (x3 : Int32) (x4 : Int32) (x6 : Int32) (x7 : Int64) (s0 : Int32) (s1 : Int32) (s2 : UInt64) (s3 : Nat) (h : xH) (Q : Outcome → xH → Prop) : Prop := tg h s3 = 10 ∧ 1 ≤ fr ∧ 26 ≤ lo ∧ xRv G YX9_fractions (fr - 1) (lo - 26) [rv s3, .double s2, .int s1, .int s0] h (fun h4 => xext h h4 → bX9_writes_527 G fr lo x0 x1 x3 x4 x6 x7 h4 Q) (fun r h2 => Q (.threw r) h2)
set_option maxRecDepth 100000 in
theorem uX9_writes_398 {G : xG} {fr lo : Nat} {x0 : Nat} {x1 : Int32} {x3 : Int32} {x4 : Int32} {x6 : Int32} {x7 : Int64} {s0 : Int32} {s1 : Int32} {s2 : UInt64} {s3 : Nat} {h : xH} {Q : Outcome → xH → Prop} (hq : bX9_writes_398 G fr lo x0 x1 x3 x4 x6 x7 s0 s1 s2 s3 h Q) : xP G YX9_writes fr lo 398 [(0, rv x0), (1, .int x1), (3, .int x3), (4, .int x4), (6, .int x6), (7, .long x7)] [.int s0, .int s1, .double s2, rv s3] h Q := by
  unfold bX9_writes_398 at hq
  obtain ⟨g1, hq⟩ := hq
  obtain ⟨g2, g3, hq⟩ := hq
  refine x_callV (Yc := YX9_fractions) (as := [.double s2, .int s1, .int s0]) (st := []) q3107 mvX9_fractions g1 rfl dX9_writes_398 (xle (xal1 (rv_cat _) (xal2 rfl (xal1 rfl (xal1 rfl xal0)))) (by decide)) (xfr g2) (xlo xsw0 (by decide) g3) (xKv hq (fun h4 hq e6 => ?_) (fun _ _ q _ => q))
  replace hq := hq e6
  refine x_goto (tgt := 527) dX9_writes_401 (by decide) ?_
  exact uX9_writes_527 hq
set_option maxRecDepth 100000 in
def bX9_writes_359 (G : xG) (fr lo : Nat) (x0 : Nat) (x1 : Int32) (x3 : Int32) (x4 : Int32) (x6 : Int32) (x7 : Int64) (s0 : Int64) (s1 : Nat) (h : xH) (Q : Outcome → xH → Prop) : Prop := tg h s1 = 10 ∧ 1 ≤ fr ∧ 18 ≤ lo ∧ xRv G YX9_digits (fr - 1) (lo - 18) [rv s1, .long s0, .int 1] h (fun h4 => xext h h4 → bX9_writes_527 G fr lo x0 x1 x3 x4 x6 x7 h4 Q) (fun r h2 => Q (.threw r) h2)
set_option maxRecDepth 100000 in
theorem uX9_writes_359 {G : xG} {fr lo : Nat} {x0 : Nat} {x1 : Int32} {x3 : Int32} {x4 : Int32} {x6 : Int32} {x7 : Int64} {s0 : Int64} {s1 : Nat} {h : xH} {Q : Outcome → xH → Prop} (hq : bX9_writes_359 G fr lo x0 x1 x3 x4 x6 x7 s0 s1 h Q) : xP G YX9_writes fr lo 359 [(0, rv x0), (1, .int x1), (3, .int x3), (4, .int x4), (6, .int x6), (7, .long x7)] [.long s0, rv s1] h Q := by
  unfold bX9_writes_359 at hq
  refine x_iconst (v := 1) dX9_writes_359 (by decide) ?_
  obtain ⟨g1, hq⟩ := hq
  obtain ⟨g2, g3, hq⟩ := hq
  refine x_callV (Yc := YX9_digits) (as := [.long s0, .int 1]) (st := []) q3102 mvX9_digits g1 rfl dX9_writes_360 (xle (xal1 (rv_cat _) (xal2 rfl (xal1 rfl xal0))) (by decide)) (xfr g2) (xlo xsw0 (by decide) g3) (xKv hq (fun h4 hq e6 => ?_) (fun _ _ q _ => q))
  replace hq := hq e6
  refine x_goto (tgt := 527) dX9_writes_363 (by decide) ?_
  exact uX9_writes_527 hq
set_option maxRecDepth 100000 in
def bX9_writes_322 (G : xG) (fr lo : Nat) (x0 : Nat) (x1 : Int32) (x3 : Int32) (x4 : Int32) (x6 : Int32) (x7 : Int64) (h : xH) (Q : Outcome → xH → Prop) : Prop := tg h x0 = 10 ∧ tg h (fR h x0 2307) = 101 ∧ vp_in (fI h x0 2310) (ln h (fR h x0 2307)) ∧ ((0 ≤ (lg_cmp (aJ h (fR h x0 2307) (Int32.toNatClampNeg (fI h x0 2310))) 0) → vp_in (fI h x0 2310) (ln h (fR h x0 2307)) ∧ bX9_writes_359 G fr lo x0 x1 x3 x4 x6 x7 (aJ h (fR h x0 2307) (Int32.toNatClampNeg (fI h x0 2310))) x0 h Q) ∧ (¬ 0 ≤ (lg_cmp (aJ h (fR h x0 2307) (Int32.toNatClampNeg (fI h x0 2310))) 0) → vp_in (fI h x0 2310) (ln h (fR h x0 2307)) ∧ bX9_writes_359 G fr lo x0 x1 x3 x4 x6 x7 (-(aJ h (fR h x0 2307) (Int32.toNatClampNeg (fI h x0 2310)))) x0 h Q))
set_option maxRecDepth 100000 in
theorem uX9_writes_322 {G : xG} {fr lo : Nat} {x0 : Nat} {x1 : Int32} {x3 : Int32} {x4 : Int32} {x6 : Int32} {x7 : Int64} {h : xH} {Q : Outcome → xH → Prop} (hq : bX9_writes_322 G fr lo x0 x1 x3 x4 x6 x7 h Q) : xP G YX9_writes fr lo 322 [(0, rv x0), (1, .int x1), (3, .int x3), (4, .int x4), (6, .int x6), (7, .long x7)] [] h Q := by
  unfold bX9_writes_322 at hq
  refine x_aload_n 0 dX9_writes_322 rfl ?_
  refine x_aload_n 0 dX9_writes_323 rfl ?_
  obtain ⟨g1, hq⟩ := hq
  refine x_get (v := rv (fR h x0 2307)) fdX9_28 dX9_writes_324 g1 rfl ?_
  refine x_aload_n 0 dX9_writes_327 rfl ?_
  refine x_get (v := .int (fI h x0 2310)) fdX9_86 dX9_writes_328 g1 rfl ?_
  obtain ⟨g2, hq⟩ := hq
  obtain ⟨i3, hq⟩ := hq
  refine x_lald g2 i3 dX9_writes_331 ?_
  refine x_lconst (v := 0) dX9_writes_332 (by decide) ?_
  refine x_lcmp dX9_writes_333 ?_
  refine x_if_ge (tgt := 350) dX9_writes_334 (by decide) (fun c4 => ?_) (fun c4 => ?_)
  · replace hq := hq.1 c4
    refine x_aload_n 0 dX9_writes_350 rfl ?_
    refine x_get (v := rv (fR h x0 2307)) fdX9_28 dX9_writes_351 g1 rfl ?_
    refine x_aload_n 0 dX9_writes_354 rfl ?_
    refine x_get (v := .int (fI h x0 2310)) fdX9_86 dX9_writes_355 g1 rfl ?_
    obtain ⟨i5, hq⟩ := hq
    refine x_lald g2 i5 dX9_writes_358 ?_
    exact uX9_writes_359 hq
  · replace hq := hq.2 c4
    refine x_aload_n 0 dX9_writes_337 rfl ?_
    refine x_get (v := rv (fR h x0 2307)) fdX9_28 dX9_writes_338 g1 rfl ?_
    refine x_aload_n 0 dX9_writes_341 rfl ?_
    refine x_get (v := .int (fI h x0 2310)) fdX9_86 dX9_writes_342 g1 rfl ?_
    obtain ⟨i6, hq⟩ := hq
    refine x_lald g2 i6 dX9_writes_345 ?_
    refine x_lneg dX9_writes_346 ?_
    refine x_goto (tgt := 359) dX9_writes_347 (by decide) ?_
    exact uX9_writes_359 hq
set_option maxRecDepth 100000 in
def bX9_writes_288 (G : xG) (fr lo : Nat) (x0 : Nat) (x1 : Int32) (x2 : Int32) (x3 : Int32) (x4 : Int32) (x5 : Int32) (x6 : Int32) (x7 : Int64) (x9 : Int64) (h : xH) (Q : Outcome → xH → Prop) : Prop := tg h x0 = 10 ∧ (((fI h x0 2326) ≤ 0 → ((¬ x1 = 93 → ((¬ x1 = 94 → ((¬ x1 = 95 → ((¬ x1 = 96 → tg h (fR h x0 2307) = 101 ∧ vp_in (fI h x0 2310) (ln h (fR h x0 2307)) ∧ ((x6 ≤ 0 → tg h (fR h x0 2304) = 3 ∧ tg h (fR h (fR h x0 2304) 514) = 100 ∧ vp_in x2 (ln h (fR h (fR h x0 2304) 514)) ∧ bX9_writes_506 G fr lo x0 x1 x3 x4 x5 x6 x7 (aI h (fR h (fR h x0 2304) 514) (Int32.toNatClampNeg x2)) (Int64.toInt32 (aJ h (fR h x0 2307) (Int32.toNatClampNeg (fI h x0 2310)))) x0 h Q) ∧ (¬ x6 ≤ 0 → tg h (fR h x0 2304) = 3 ∧ tg h (fR h (fR h x0 2304) 514) = 100 ∧ vp_in x2 (ln h (fR h (fR h x0 2304) 514)) ∧ 1 ≤ fr ∧ 15 ≤ lo ∧ xRi G YJ10_min (fr - 1) (lo - 15) [.int (aI h (fR h (fR h x0 2304) 514) (Int32.toNatClampNeg x2)), .int (Int64.toInt32 x7)] h (fun x19 h18 => xext h h18 → bX9_writes_506 G fr lo x0 x1 x3 x4 x5 x6 x7 x19 (Int64.toInt32 (aJ h (fR h x0 2307) (Int32.toNatClampNeg (fI h x0 2310)))) x0 h18 Q) (fun r h2 => Q (.threw r) h2)))) ∧ (x1 = 96 → tg h (fR h x0 2307) = 101 ∧ vp_in (fI h x0 2310) (ln h (fR h x0 2307)) ∧ ((¬ (lg_cmp (aJ h (fR h x0 2307) (Int32.toNatClampNeg (fI h x0 2310))) 1) = 0 → bX9_writes_457 G fr lo x0 x1 x3 x4 x6 x7 (tx G 40) x0 h Q) ∧ ((lg_cmp (aJ h (fR h x0 2307) (Int32.toNatClampNeg (fI h x0 2310))) 1) = 0 → bX9_writes_457 G fr lo x0 x1 x3 x4 x6 x7 (tx G 41) x0 h Q))))) ∧ (x1 = 95 → tg h (fR h x0 2307) = 101 ∧ vp_in (fI h x0 2310) (ln h (fR h x0 2307)) ∧ 1 ≤ fr ∧ 13 ≤ lo ∧ xRv G YX9_letter (fr - 1) (lo - 13) [rv x0, .int (Int64.toInt32 (aJ h (fR h x0 2307) (Int32.toNatClampNeg (fI h x0 2310))))] h (fun h28 => xext h h28 → bX9_writes_527 G fr lo x0 x1 x3 x4 x6 x7 h28 Q) (fun r h2 => Q (.threw r) h2)))) ∧ (x1 = 94 → tg h (fR h x0 2309) = 102 ∧ vp_in (fI h x0 2310) (ln h (fR h x0 2309)) ∧ ((x6 ≤ 1 → bX9_writes_398 G fr lo x0 x1 x3 x4 x6 x7 0 (Int64.toInt32 x7) (aD h (fR h x0 2309) (Int32.toNatClampNeg (fI h x0 2310))) x0 h Q) ∧ (¬ x6 ≤ 1 → bX9_writes_398 G fr lo x0 x1 x3 x4 x6 x7 (Int64.toInt32 x9) (Int64.toInt32 x7) (aD h (fR h x0 2309) (Int32.toNatClampNeg (fI h x0 2310))) x0 h Q))))) ∧ (x1 = 93 → tg h (fR h x0 2307) = 101 ∧ vp_in (fI h x0 2310) (ln h (fR h x0 2307)) ∧ ((0 ≤ (lg_cmp (aJ h (fR h x0 2307) (Int32.toNatClampNeg (fI h x0 2310))) 0) → bX9_writes_322 G fr lo x0 x1 x3 x4 x6 x7 h Q) ∧ (¬ 0 ≤ (lg_cmp (aJ h (fR h x0 2307) (Int32.toNatClampNeg (fI h x0 2310))) 0) → 1 ≤ fr ∧ 13 ≤ lo ∧ xRv G YX9_letter (fr - 1) (lo - 13) [rv x0, .int 45] h (fun h39 => xext h h39 → bX9_writes_322 G fr lo x0 x1 x3 x4 x6 x7 h39 Q) (fun r h2 => Q (.threw r) h2)))))) ∧ (¬ (fI h x0 2326) ≤ 0 → Q (.returned none) h))
set_option maxRecDepth 100000 in
theorem uX9_writes_288 {G : xG} {fr lo : Nat} {x0 : Nat} {x1 : Int32} {x2 : Int32} {x3 : Int32} {x4 : Int32} {x5 : Int32} {x6 : Int32} {x7 : Int64} {x9 : Int64} {h : xH} {Q : Outcome → xH → Prop} (hq : bX9_writes_288 G fr lo x0 x1 x2 x3 x4 x5 x6 x7 x9 h Q) : xP G YX9_writes fr lo 288 [(0, rv x0), (1, .int x1), (2, .int x2), (3, .int x3), (4, .int x4), (5, .int x5), (6, .int x6), (7, .long x7), (9, .long x9)] [] h Q := by
  unfold bX9_writes_288 at hq
  refine x_aload_n 0 dX9_writes_288 rfl ?_
  obtain ⟨g1, hq⟩ := hq
  refine x_get (v := .int (fI h x0 2326)) fdX9_79 dX9_writes_289 g1 rfl ?_
  refine x_if_le (tgt := 296) dX9_writes_292 (by decide) (fun c2 => ?_) (fun c2 => ?_)
  · replace hq := hq.1 c2
    refine x_iload_n 1 dX9_writes_296 rfl ?_
    refine x_bipush (v := 93) dX9_writes_297 (by decide) ?_
    refine x_icmp_ne (tgt := 366) dX9_writes_299 (by decide) (fun c3 => ?_) (fun c3 => ?_)
    · replace hq := hq.1 c3
      refine x_iload_n 1 dX9_writes_366 rfl ?_
      refine x_bipush (v := 94) dX9_writes_367 (by decide) ?_
      refine x_icmp_ne (tgt := 404) dX9_writes_369 (by decide) (fun c4 => ?_) (fun c4 => ?_)
      · replace hq := hq.1 c4
        refine x_iload_n 1 dX9_writes_404 rfl ?_
        refine x_bipush (v := 95) dX9_writes_405 (by decide) ?_
        refine x_icmp_ne (tgt := 427) dX9_writes_407 (by decide) (fun c5 => ?_) (fun c5 => ?_)
        · replace hq := hq.1 c5
          refine x_iload_n 1 dX9_writes_427 rfl ?_
          refine x_bipush (v := 96) dX9_writes_428 (by decide) ?_
          refine x_icmp_ne (tgt := 463) dX9_writes_430 (by decide) (fun c6 => ?_) (fun c6 => ?_)
          · replace hq := hq.1 c6
            refine x_aload_n 0 dX9_writes_463 rfl ?_
            refine x_aload_n 0 dX9_writes_464 rfl ?_
            refine x_get (v := rv (fR h x0 2307)) fdX9_28 dX9_writes_465 g1 rfl ?_
            refine x_aload_n 0 dX9_writes_468 rfl ?_
            refine x_get (v := .int (fI h x0 2310)) fdX9_86 dX9_writes_469 g1 rfl ?_
            obtain ⟨g7, hq⟩ := hq
            obtain ⟨i8, hq⟩ := hq
            refine x_lald g7 i8 dX9_writes_472 ?_
            refine x_l2i dX9_writes_473 ?_
            refine x_iload 6 dX9_writes_474 rfl ?_
            refine x_if_le (tgt := 497) dX9_writes_476 (by decide) (fun c9 => ?_) (fun c9 => ?_)
            · replace hq := hq.1 c9
              refine x_aload_n 0 dX9_writes_497 rfl ?_
              refine x_get (v := rv (fR h x0 2304)) fdX9_75 dX9_writes_498 g1 rfl ?_
              obtain ⟨g10, hq⟩ := hq
              refine x_getN (v := rv (fR h (fR h x0 2304) 514)) gfX9_204 dX9_writes_501 g10 rfl ?_
              refine x_iload_n 2 dX9_writes_504 rfl ?_
              obtain ⟨g11, hq⟩ := hq
              obtain ⟨i12, hq⟩ := hq
              refine x_iald 0 (Or.inl rfl) g11 i12 dX9_writes_505 ?_
              refine xP.pick (lv' := [(0, rv x0), (1, .int x1), (3, .int x3), (4, .int x4), (5, .int x5), (6, .int x6), (7, .long x7)]) [0, 1, 3, 4, 5, 6, 7] rfl ?_
              exact uX9_writes_506 hq
            · replace hq := hq.2 c9
              refine x_aload_n 0 dX9_writes_479 rfl ?_
              refine x_get (v := rv (fR h x0 2304)) fdX9_75 dX9_writes_480 g1 rfl ?_
              obtain ⟨g13, hq⟩ := hq
              refine x_getN (v := rv (fR h (fR h x0 2304) 514)) gfX9_204 dX9_writes_483 g13 rfl ?_
              refine x_iload_n 2 dX9_writes_486 rfl ?_
              obtain ⟨g14, hq⟩ := hq
              obtain ⟨i15, hq⟩ := hq
              refine x_iald 0 (Or.inl rfl) g14 i15 dX9_writes_487 ?_
              refine x_lload 7 dX9_writes_488 rfl ?_
              refine x_l2i dX9_writes_490 ?_
              obtain ⟨g16, g17, hq⟩ := hq
              refine x_callS (Yc := YJ10_min) (as := [.int (aI h (fR h (fR h x0 2304) 514) (Int32.toNatClampNeg x2)), .int (Int64.toInt32 x7)]) (st := [.int (Int64.toInt32 (aJ h (fR h x0 2307) (Int32.toNatClampNeg (fI h x0 2310)))), rv x0]) q3122 msJ10_min rfl dX9_writes_491 (xle (xal1 rfl (xal1 rfl xal0)) (by decide)) (xfr g16) (xlo (xsw1 rfl (xsw1 (rv_cat _) xsw0)) (by decide) g17) (xKi hq (fun x19 h18 hq e20 => ?_) (fun _ _ q _ => q))
              replace hq := hq e20
              refine x_goto (tgt := 506) dX9_writes_494 (by decide) ?_
              refine xP.pick (lv' := [(0, rv x0), (1, .int x1), (3, .int x3), (4, .int x4), (5, .int x5), (6, .int x6), (7, .long x7)]) [0, 1, 3, 4, 5, 6, 7] rfl ?_
              exact uX9_writes_506 hq
          · replace hq := hq.2 c6
            refine x_aload_n 0 dX9_writes_433 rfl ?_
            refine x_aload_n 0 dX9_writes_434 rfl ?_
            refine x_get (v := rv (fR h x0 2307)) fdX9_28 dX9_writes_435 g1 rfl ?_
            refine x_aload_n 0 dX9_writes_438 rfl ?_
            refine x_get (v := .int (fI h x0 2310)) fdX9_86 dX9_writes_439 g1 rfl ?_
            obtain ⟨g21, hq⟩ := hq
            obtain ⟨i22, hq⟩ := hq
            refine x_lald g21 i22 dX9_writes_442 ?_
            refine x_lconst (v := 1) dX9_writes_443 (by decide) ?_
            refine x_lcmp dX9_writes_444 ?_
            refine x_if_ne (tgt := 454) dX9_writes_445 (by decide) (fun c23 => ?_) (fun c23 => ?_)
            · replace hq := hq.1 c23
              refine x_ldcwS (n := 40) 140 srX9_528 dX9_writes_454 ?_
              refine xP.pick (lv' := [(0, rv x0), (1, .int x1), (3, .int x3), (4, .int x4), (6, .int x6), (7, .long x7)]) [0, 1, 3, 4, 6, 7] rfl ?_
              exact uX9_writes_457 hq
            · replace hq := hq.2 c23
              refine x_ldcwS (n := 41) 139 srX9_526 dX9_writes_448 ?_
              refine x_goto (tgt := 457) dX9_writes_451 (by decide) ?_
              refine xP.pick (lv' := [(0, rv x0), (1, .int x1), (3, .int x3), (4, .int x4), (6, .int x6), (7, .long x7)]) [0, 1, 3, 4, 6, 7] rfl ?_
              exact uX9_writes_457 hq
        · replace hq := hq.2 c5
          refine x_aload_n 0 dX9_writes_410 rfl ?_
          refine x_aload_n 0 dX9_writes_411 rfl ?_
          refine x_get (v := rv (fR h x0 2307)) fdX9_28 dX9_writes_412 g1 rfl ?_
          refine x_aload_n 0 dX9_writes_415 rfl ?_
          refine x_get (v := .int (fI h x0 2310)) fdX9_86 dX9_writes_416 g1 rfl ?_
          obtain ⟨g24, hq⟩ := hq
          obtain ⟨i25, hq⟩ := hq
          refine x_lald g24 i25 dX9_writes_419 ?_
          refine x_l2i dX9_writes_420 ?_
          obtain ⟨g26, g27, hq⟩ := hq
          refine x_callV (Yc := YX9_letter) (as := [.int (Int64.toInt32 (aJ h (fR h x0 2307) (Int32.toNatClampNeg (fI h x0 2310))))]) (st := []) q3084 mvX9_letter g1 rfl dX9_writes_421 (xle (xal1 (rv_cat _) (xal1 rfl xal0)) (by decide)) (xfr g26) (xlo xsw0 (by decide) g27) (xKv hq (fun h28 hq e30 => ?_) (fun _ _ q _ => q))
          replace hq := hq e30
          refine x_goto (tgt := 527) dX9_writes_424 (by decide) ?_
          refine xP.pick (lv' := [(0, rv x0), (1, .int x1), (3, .int x3), (4, .int x4), (6, .int x6), (7, .long x7)]) [0, 1, 3, 4, 6, 7] rfl ?_
          exact uX9_writes_527 hq
      · replace hq := hq.2 c4
        refine x_aload_n 0 dX9_writes_372 rfl ?_
        refine x_aload_n 0 dX9_writes_373 rfl ?_
        refine x_get (v := rv (fR h x0 2309)) fdX9_35 dX9_writes_374 g1 rfl ?_
        refine x_aload_n 0 dX9_writes_377 rfl ?_
        refine x_get (v := .int (fI h x0 2310)) fdX9_86 dX9_writes_378 g1 rfl ?_
        obtain ⟨g31, hq⟩ := hq
        obtain ⟨i32, hq⟩ := hq
        refine x_dald g31 i32 dX9_writes_381 ?_
        refine x_lload 7 dX9_writes_382 rfl ?_
        refine x_l2i dX9_writes_384 ?_
        refine x_iload 6 dX9_writes_385 rfl ?_
        refine x_iconst (v := 1) dX9_writes_387 (by decide) ?_
        refine x_icmp_le (tgt := 397) dX9_writes_388 (by decide) (fun c33 => ?_) (fun c33 => ?_)
        · replace hq := hq.1 c33
          refine x_iconst (v := 0) dX9_writes_397 (by decide) ?_
          refine xP.pick (lv' := [(0, rv x0), (1, .int x1), (3, .int x3), (4, .int x4), (6, .int x6), (7, .long x7)]) [0, 1, 3, 4, 6, 7] rfl ?_
          exact uX9_writes_398 hq
        · replace hq := hq.2 c33
          refine x_lload 8 dX9_writes_391 rfl ?_
          refine x_l2i dX9_writes_393 ?_
          refine x_goto (tgt := 398) dX9_writes_394 (by decide) ?_
          refine xP.pick (lv' := [(0, rv x0), (1, .int x1), (3, .int x3), (4, .int x4), (6, .int x6), (7, .long x7)]) [0, 1, 3, 4, 6, 7] rfl ?_
          exact uX9_writes_398 hq
    · replace hq := hq.2 c3
      refine x_aload_n 0 dX9_writes_302 rfl ?_
      refine x_get (v := rv (fR h x0 2307)) fdX9_28 dX9_writes_303 g1 rfl ?_
      refine x_aload_n 0 dX9_writes_306 rfl ?_
      refine x_get (v := .int (fI h x0 2310)) fdX9_86 dX9_writes_307 g1 rfl ?_
      obtain ⟨g34, hq⟩ := hq
      obtain ⟨i35, hq⟩ := hq
      refine x_lald g34 i35 dX9_writes_310 ?_
      refine x_lconst (v := 0) dX9_writes_311 (by decide) ?_
      refine x_lcmp dX9_writes_312 ?_
      refine x_if_ge (tgt := 322) dX9_writes_313 (by decide) (fun c36 => ?_) (fun c36 => ?_)
      · replace hq := hq.1 c36
        refine xP.pick (lv' := [(0, rv x0), (1, .int x1), (3, .int x3), (4, .int x4), (6, .int x6), (7, .long x7)]) [0, 1, 3, 4, 6, 7] rfl ?_
        exact uX9_writes_322 hq
      · replace hq := hq.2 c36
        refine x_aload_n 0 dX9_writes_316 rfl ?_
        refine x_bipush (v := 45) dX9_writes_317 (by decide) ?_
        obtain ⟨g37, g38, hq⟩ := hq
        refine x_callV (Yc := YX9_letter) (as := [.int 45]) (st := []) q3084 mvX9_letter g1 rfl dX9_writes_319 (xle (xal1 (rv_cat _) (xal1 rfl xal0)) (by decide)) (xfr g37) (xlo xsw0 (by decide) g38) (xKv hq (fun h39 hq e41 => ?_) (fun _ _ q _ => q))
        replace hq := hq e41
        refine xP.pick (lv' := [(0, rv x0), (1, .int x1), (3, .int x3), (4, .int x4), (6, .int x6), (7, .long x7)]) [0, 1, 3, 4, 6, 7] rfl ?_
        exact uX9_writes_322 hq
  · replace hq := hq.2 c2
    exact x_vret rfl dX9_writes_295 hq
set_option maxRecDepth 100000 in
def bX9_writes_272 (G : xG) (fr lo : Nat) (x0 : Nat) (x1 : Int32) (x2 : Int32) (x3 : Int32) (x4 : Int32) (x5 : Int32) (x6 : Int32) (x7 : Int64) (x9 : Int64) (h : xH) (Q : Outcome → xH → Prop) : Prop := tg h x0 = 10 ∧ tg h (fR h x0 2304) = 3 ∧ tg h (fR h (fR h x0 2304) 514) = 100 ∧ vp_in x5 (ln h (fR h (fR h x0 2304) 514)) ∧ 1 ≤ fr ∧ 14 ≤ lo ∧ xRv G YX9_fail (fr - 1) (lo - 14) [rv x0, .int 12, .int (aI h (fR h (fR h x0 2304) 514) (Int32.toNatClampNeg x5))] h (fun h7 => xext h h7 → bX9_writes_288 G fr lo x0 x1 x2 x3 x4 x5 x6 x7 x9 h7 Q) (fun r h2 => Q (.threw r) h2)
set_option maxRecDepth 100000 in
theorem uX9_writes_272 {G : xG} {fr lo : Nat} {x0 : Nat} {x1 : Int32} {x2 : Int32} {x3 : Int32} {x4 : Int32} {x5 : Int32} {x6 : Int32} {x7 : Int64} {x9 : Int64} {h : xH} {Q : Outcome → xH → Prop} (hq : bX9_writes_272 G fr lo x0 x1 x2 x3 x4 x5 x6 x7 x9 h Q) : xP G YX9_writes fr lo 272 [(0, rv x0), (1, .int x1), (2, .int x2), (3, .int x3), (4, .int x4), (5, .int x5), (6, .int x6), (7, .long x7), (9, .long x9)] [] h Q := by
  unfold bX9_writes_272 at hq
  refine x_aload_n 0 dX9_writes_272 rfl ?_
  refine x_bipush (v := 12) dX9_writes_273 (by decide) ?_
  refine x_aload_n 0 dX9_writes_275 rfl ?_
  obtain ⟨g1, hq⟩ := hq
  refine x_get (v := rv (fR h x0 2304)) fdX9_75 dX9_writes_276 g1 rfl ?_
  obtain ⟨g2, hq⟩ := hq
  refine x_getN (v := rv (fR h (fR h x0 2304) 514)) gfX9_204 dX9_writes_279 g2 rfl ?_
  refine x_iload 5 dX9_writes_282 rfl ?_
  obtain ⟨g3, hq⟩ := hq
  obtain ⟨i4, hq⟩ := hq
  refine x_iald 0 (Or.inl rfl) g3 i4 dX9_writes_284 ?_
  obtain ⟨g5, g6, hq⟩ := hq
  refine x_callV (Yc := YX9_fail) (as := [.int 12, .int (aI h (fR h (fR h x0 2304) 514) (Int32.toNatClampNeg x5))]) (st := []) q2835 mvX9_fail g1 rfl dX9_writes_285 (xle (xal1 (rv_cat _) (xal1 rfl (xal1 rfl xal0))) (by decide)) (xfr g5) (xlo xsw0 (by decide) g6) (xKv hq (fun h7 hq e9 => ?_) (fun _ _ q _ => q))
  replace hq := hq e9
  exact uX9_writes_288 hq
set_option maxRecDepth 100000 in
def bX9_writes_250 (G : xG) (fr lo : Nat) (x0 : Nat) (x1 : Int32) (x2 : Int32) (x3 : Int32) (x4 : Int32) (x5 : Int32) (x6 : Int32) (x7 : Int64) (x9 : Int64) (h : xH) (Q : Outcome → xH → Prop) : Prop := ((x6 ≤ 1 → bX9_writes_288 G fr lo x0 x1 x2 x3 x4 x5 x6 x7 x9 h Q) ∧ (¬ x6 ≤ 1 → (((lg_cmp x9 1) < 0 → bX9_writes_272 G fr lo x0 x1 x2 x3 x4 x5 x6 x7 x9 h Q) ∧ (¬ (lg_cmp x9 1) < 0 → (((lg_cmp x9 9) ≤ 0 → bX9_writes_288 G fr lo x0 x1 x2 x3 x4 x5 x6 x7 x9 h Q) ∧ (¬ (lg_cmp x9 9) ≤ 0 → bX9_writes_272 G fr lo x0 x1 x2 x3 x4 x5 x6 x7 x9 h Q))))))
set_option maxRecDepth 100000 in
theorem uX9_writes_250 {G : xG} {fr lo : Nat} {x0 : Nat} {x1 : Int32} {x2 : Int32} {x3 : Int32} {x4 : Int32} {x5 : Int32} {x6 : Int32} {x7 : Int64} {x9 : Int64} {h : xH} {Q : Outcome → xH → Prop} (hq : bX9_writes_250 G fr lo x0 x1 x2 x3 x4 x5 x6 x7 x9 h Q) : xP G YX9_writes fr lo 250 [(0, rv x0), (1, .int x1), (2, .int x2), (3, .int x3), (4, .int x4), (5, .int x5), (6, .int x6), (7, .long x7), (9, .long x9)] [] h Q := by
  unfold bX9_writes_250 at hq
  refine x_iload 6 dX9_writes_250 rfl ?_
  refine x_iconst (v := 1) dX9_writes_252 (by decide) ?_
  refine x_icmp_le (tgt := 288) dX9_writes_253 (by decide) (fun c1 => ?_) (fun c1 => ?_)
  · replace hq := hq.1 c1
    exact uX9_writes_288 hq
  · replace hq := hq.2 c1
    refine x_lload 8 dX9_writes_256 rfl ?_
    refine x_lconst (v := 1) dX9_writes_258 (by decide) ?_
    refine x_lcmp dX9_writes_259 ?_
    refine x_if_lt (tgt := 272) dX9_writes_260 (by decide) (fun c2 => ?_) (fun c2 => ?_)
    · replace hq := hq.1 c2
      exact uX9_writes_272 hq
    · replace hq := hq.2 c2
      refine x_lload 8 dX9_writes_263 rfl ?_
      refine x_ldc2 (v := 9) q3101 dX9_writes_265 ?_
      refine x_lcmp dX9_writes_268 ?_
      refine x_if_le (tgt := 288) dX9_writes_269 (by decide) (fun c3 => ?_) (fun c3 => ?_)
      · replace hq := hq.1 c3
        exact uX9_writes_288 hq
      · replace hq := hq.2 c3
        exact uX9_writes_272 hq
set_option maxRecDepth 100000 in
def bX9_writes_231 (G : xG) (fr lo : Nat) (x0 : Nat) (x1 : Int32) (x2 : Int32) (x3 : Int32) (x4 : Int32) (x5 : Int32) (x6 : Int32) (x7 : Int64) (x9 : Int64) (h : xH) (Q : Outcome → xH → Prop) : Prop := tg h x0 = 10 ∧ tg h (fR h x0 2304) = 3 ∧ tg h (fR h (fR h x0 2304) 513) = 100 ∧ vp_in x5 (ln h (fR h (fR h x0 2304) 513)) ∧ 1 ≤ fr ∧ 14 ≤ lo ∧ xRv G YX9_fail (fr - 1) (lo - 14) [rv x0, .int 12, .int (aI h (fR h (fR h x0 2304) 513) (Int32.toNatClampNeg x5))] h (fun h7 => xext h h7 → bX9_writes_288 G fr lo x0 x1 x2 x3 x4 x5 x6 x7 x9 h7 Q) (fun r h2 => Q (.threw r) h2)
set_option maxRecDepth 100000 in
theorem uX9_writes_231 {G : xG} {fr lo : Nat} {x0 : Nat} {x1 : Int32} {x2 : Int32} {x3 : Int32} {x4 : Int32} {x5 : Int32} {x6 : Int32} {x7 : Int64} {x9 : Int64} {h : xH} {Q : Outcome → xH → Prop} (hq : bX9_writes_231 G fr lo x0 x1 x2 x3 x4 x5 x6 x7 x9 h Q) : xP G YX9_writes fr lo 231 [(0, rv x0), (1, .int x1), (2, .int x2), (3, .int x3), (4, .int x4), (5, .int x5), (6, .int x6), (7, .long x7), (9, .long x9)] [] h Q := by
  unfold bX9_writes_231 at hq
  refine x_aload_n 0 dX9_writes_231 rfl ?_
  refine x_bipush (v := 12) dX9_writes_232 (by decide) ?_
  refine x_aload_n 0 dX9_writes_234 rfl ?_
  obtain ⟨g1, hq⟩ := hq
  refine x_get (v := rv (fR h x0 2304)) fdX9_75 dX9_writes_235 g1 rfl ?_
  obtain ⟨g2, hq⟩ := hq
  refine x_getN (v := rv (fR h (fR h x0 2304) 513)) gfX9_201 dX9_writes_238 g2 rfl ?_
  refine x_iload 5 dX9_writes_241 rfl ?_
  obtain ⟨g3, hq⟩ := hq
  obtain ⟨i4, hq⟩ := hq
  refine x_iald 0 (Or.inl rfl) g3 i4 dX9_writes_243 ?_
  obtain ⟨g5, g6, hq⟩ := hq
  refine x_callV (Yc := YX9_fail) (as := [.int 12, .int (aI h (fR h (fR h x0 2304) 513) (Int32.toNatClampNeg x5))]) (st := []) q2835 mvX9_fail g1 rfl dX9_writes_244 (xle (xal1 (rv_cat _) (xal1 rfl (xal1 rfl xal0))) (by decide)) (xfr g5) (xlo xsw0 (by decide) g6) (xKv hq (fun h7 hq e9 => ?_) (fun _ _ q _ => q))
  replace hq := hq e9
  refine x_goto (tgt := 288) dX9_writes_247 (by decide) ?_
  exact uX9_writes_288 hq
set_option maxRecDepth 100000 in
def bX9_writes_174 (G : xG) (fr lo : Nat) (x0 : Nat) (x1 : Int32) (x2 : Int32) (x3 : Int32) (x4 : Int32) (x5 : Int32) (x6 : Int32) (x7 : Int64) (s0 : Int64) (h : xH) (Q : Outcome → xH → Prop) : Prop := tg h x0 = 10 ∧ (∀ h2 : xH, h2 = sI h x0 2310 ((fI h x0 2310) - 1) → tg h2 (fR h2 x0 2306) = 12 ∧ tg h2 (fR h2 (fR h2 x0 2306) 2817) = 100 ∧ vp_in x3 (ln h2 (fR h2 (fR h2 x0 2306) 2817)) ∧ (((aI h2 (fR h2 (fR h2 x0 2306) 2817) (Int32.toNatClampNeg x3)) = 2 → ((x6 ≤ 0 → bX9_writes_250 G fr lo x0 x1 x2 x3 x4 x5 x6 x7 s0 h2 Q) ∧ (¬ x6 ≤ 0 → (((lg_cmp x7 1) < 0 → bX9_writes_231 G fr lo x0 x1 x2 x3 x4 x5 x6 x7 s0 h2 Q) ∧ (¬ (lg_cmp x7 1) < 0 → (((lg_cmp x7 100) ≤ 0 → bX9_writes_250 G fr lo x0 x1 x2 x3 x4 x5 x6 x7 s0 h2 Q) ∧ (¬ (lg_cmp x7 100) ≤ 0 → bX9_writes_231 G fr lo x0 x1 x2 x3 x4 x5 x6 x7 s0 h2 Q))))))) ∧ (¬ (aI h2 (fR h2 (fR h2 x0 2306) 2817) (Int32.toNatClampNeg x3)) = 2 → 1 ≤ fr ∧ 14 ≤ lo ∧ xRv G YX9_fail (fr - 1) (lo - 14) [rv x0, .int 10, .int x4] h2 (fun h14 => xext h2 h14 → bX9_writes_288 G fr lo x0 x1 x2 x3 x4 x5 x6 x7 s0 h14 Q) (fun r h2 => Q (.threw r) h2))))
set_option maxRecDepth 100000 in
theorem uX9_writes_174 {G : xG} {fr lo : Nat} {x0 : Nat} {x1 : Int32} {x2 : Int32} {x3 : Int32} {x4 : Int32} {x5 : Int32} {x6 : Int32} {x7 : Int64} {s0 : Int64} {h : xH} {Q : Outcome → xH → Prop} (hq : bX9_writes_174 G fr lo x0 x1 x2 x3 x4 x5 x6 x7 s0 h Q) : xP G YX9_writes fr lo 174 [(0, rv x0), (1, .int x1), (2, .int x2), (3, .int x3), (4, .int x4), (5, .int x5), (6, .int x6), (7, .long x7)] [.long s0] h Q := by
  unfold bX9_writes_174 at hq
  refine x_lstore (lv' := [(9, .long s0), (0, rv x0), (1, .int x1), (2, .int x2), (3, .int x3), (4, .int x4), (5, .int x5), (6, .int x6), (7, .long x7)]) dX9_writes_174 (by decide) rfl ?_
  refine x_aload_n 1 dX9_writes_176 rfl ?_
  refine x_dup dX9_writes_177 (rv_cat _) ?_
  obtain ⟨g1, hq⟩ := hq
  refine x_get (v := .int (fI h x0 2310)) fdX9_86 dX9_writes_178 g1 rfl ?_
  refine x_iconst (v := 1) dX9_writes_181 (by decide) ?_
  refine x_isub dX9_writes_182 ?_
  obtain ⟨h2, e3⟩ : ∃ y, y = sI h x0 2310 ((fI h x0 2310) - 1) := ⟨_, rfl⟩
  replace hq := hq h2 e3
  refine x_putI fdX9_86 xty_I1 dX9_writes_183 g1 (Or.inl (by rw [g1]; rfl)) xnI rfl e3 ?_
  refine x_aload_n 1 dX9_writes_186 rfl ?_
  have t4 : tg h2 x0 = 10 := by rw [e3]; exact g1
  refine x_get (v := rv (fR h2 x0 2306)) fdX9_23 dX9_writes_187 t4 rfl ?_
  obtain ⟨g5, hq⟩ := hq
  refine x_getN (v := rv (fR h2 (fR h2 x0 2306) 2817)) gfX9_429 dX9_writes_190 g5 rfl ?_
  refine x_iload_n 4 dX9_writes_193 rfl ?_
  obtain ⟨g6, hq⟩ := hq
  obtain ⟨i7, hq⟩ := hq
  refine x_iald 0 (Or.inl rfl) g6 i7 dX9_writes_194 ?_
  refine x_iconst (v := 2) dX9_writes_195 (by decide) ?_
  refine x_icmp_eq (tgt := 210) dX9_writes_196 (by decide) (fun c8 => ?_) (fun c8 => ?_)
  · replace hq := hq.1 c8
    refine x_iload 7 dX9_writes_210 rfl ?_
    refine x_if_le (tgt := 250) dX9_writes_212 (by decide) (fun c9 => ?_) (fun c9 => ?_)
    · replace hq := hq.1 c9
      refine xP.pick (lv' := [(0, rv x0), (1, .int x1), (2, .int x2), (3, .int x3), (4, .int x4), (5, .int x5), (6, .int x6), (7, .long x7), (9, .long s0)]) [1, 2, 3, 4, 5, 6, 7, 8, 0] rfl ?_
      exact uX9_writes_250 hq
    · replace hq := hq.2 c9
      refine x_lload 8 dX9_writes_215 rfl ?_
      refine x_lconst (v := 1) dX9_writes_217 (by decide) ?_
      refine x_lcmp dX9_writes_218 ?_
      refine x_if_lt (tgt := 231) dX9_writes_219 (by decide) (fun c10 => ?_) (fun c10 => ?_)
      · replace hq := hq.1 c10
        refine xP.pick (lv' := [(0, rv x0), (1, .int x1), (2, .int x2), (3, .int x3), (4, .int x4), (5, .int x5), (6, .int x6), (7, .long x7), (9, .long s0)]) [1, 2, 3, 4, 5, 6, 7, 8, 0] rfl ?_
        exact uX9_writes_231 hq
      · replace hq := hq.2 c10
        refine x_lload 8 dX9_writes_222 rfl ?_
        refine x_ldc2 (v := 100) q3100 dX9_writes_224 ?_
        refine x_lcmp dX9_writes_227 ?_
        refine x_if_le (tgt := 250) dX9_writes_228 (by decide) (fun c11 => ?_) (fun c11 => ?_)
        · replace hq := hq.1 c11
          refine xP.pick (lv' := [(0, rv x0), (1, .int x1), (2, .int x2), (3, .int x3), (4, .int x4), (5, .int x5), (6, .int x6), (7, .long x7), (9, .long s0)]) [1, 2, 3, 4, 5, 6, 7, 8, 0] rfl ?_
          exact uX9_writes_250 hq
        · replace hq := hq.2 c11
          refine xP.pick (lv' := [(0, rv x0), (1, .int x1), (2, .int x2), (3, .int x3), (4, .int x4), (5, .int x5), (6, .int x6), (7, .long x7), (9, .long s0)]) [1, 2, 3, 4, 5, 6, 7, 8, 0] rfl ?_
          exact uX9_writes_231 hq
  · replace hq := hq.2 c8
    refine x_aload_n 1 dX9_writes_199 rfl ?_
    refine x_bipush (v := 10) dX9_writes_200 (by decide) ?_
    refine x_iload 5 dX9_writes_202 rfl ?_
    obtain ⟨g12, g13, hq⟩ := hq
    refine x_callV (Yc := YX9_fail) (as := [.int 10, .int x4]) (st := []) q2835 mvX9_fail t4 rfl dX9_writes_204 (xle (xal1 (rv_cat _) (xal1 rfl (xal1 rfl xal0))) (by decide)) (xfr g12) (xlo xsw0 (by decide) g13) (xKv hq (fun h14 hq e16 => ?_) (fun _ _ q _ => q))
    replace hq := hq e16
    refine x_goto (tgt := 288) dX9_writes_207 (by decide) ?_
    refine xP.pick (lv' := [(0, rv x0), (1, .int x1), (2, .int x2), (3, .int x3), (4, .int x4), (5, .int x5), (6, .int x6), (7, .long x7), (9, .long s0)]) [1, 2, 3, 4, 5, 6, 7, 8, 0] rfl ?_
    exact uX9_writes_288 hq
set_option maxRecDepth 100000 in
def bX9_writes_151 (G : xG) (fr lo : Nat) (x0 : Nat) (x1 : Int32) (x2 : Int32) (x3 : Int32) (x4 : Int32) (x5 : Int32) (x6 : Int32) (s0 : Int64) (h : xH) (Q : Outcome → xH → Prop) : Prop := ((x6 ≤ 1 → bX9_writes_174 G fr lo x0 x1 x2 x3 x4 x5 x6 s0 0 h Q) ∧ (¬ x6 ≤ 1 → tg h x0 = 10 ∧ tg h (fR h x0 2307) = 101 ∧ vp_in ((fI h x0 2310) + 1) (ln h (fR h x0 2307)) ∧ bX9_writes_174 G fr lo x0 x1 x2 x3 x4 x5 x6 s0 (aJ h (fR h x0 2307) (Int32.toNatClampNeg ((fI h x0 2310) + 1))) h Q))
set_option maxRecDepth 100000 in
theorem uX9_writes_151 {G : xG} {fr lo : Nat} {x0 : Nat} {x1 : Int32} {x2 : Int32} {x3 : Int32} {x4 : Int32} {x5 : Int32} {x6 : Int32} {s0 : Int64} {h : xH} {Q : Outcome → xH → Prop} (hq : bX9_writes_151 G fr lo x0 x1 x2 x3 x4 x5 x6 s0 h Q) : xP G YX9_writes fr lo 151 [(0, rv x0), (1, .int x1), (2, .int x2), (3, .int x3), (4, .int x4), (5, .int x5), (6, .int x6)] [.long s0] h Q := by
  unfold bX9_writes_151 at hq
  refine x_lstore (lv' := [(7, .long s0), (0, rv x0), (1, .int x1), (2, .int x2), (3, .int x3), (4, .int x4), (5, .int x5), (6, .int x6)]) dX9_writes_151 (by decide) rfl ?_
  refine x_iload 7 dX9_writes_153 rfl ?_
  refine x_iconst (v := 1) dX9_writes_155 (by decide) ?_
  refine x_icmp_le (tgt := 173) dX9_writes_156 (by decide) (fun c1 => ?_) (fun c1 => ?_)
  · replace hq := hq.1 c1
    refine x_lconst (v := 0) dX9_writes_173 (by decide) ?_
    refine xP.pick (lv' := [(0, rv x0), (1, .int x1), (2, .int x2), (3, .int x3), (4, .int x4), (5, .int x5), (6, .int x6), (7, .long s0)]) [1, 2, 3, 4, 5, 6, 7, 0] rfl ?_
    exact uX9_writes_174 hq
  · replace hq := hq.2 c1
    refine x_aload_n 1 dX9_writes_159 rfl ?_
    obtain ⟨g2, hq⟩ := hq
    refine x_get (v := rv (fR h x0 2307)) fdX9_28 dX9_writes_160 g2 rfl ?_
    refine x_aload_n 1 dX9_writes_163 rfl ?_
    refine x_get (v := .int (fI h x0 2310)) fdX9_86 dX9_writes_164 g2 rfl ?_
    refine x_iconst (v := 1) dX9_writes_167 (by decide) ?_
    refine x_iadd dX9_writes_168 ?_
    obtain ⟨g3, hq⟩ := hq
    obtain ⟨i4, hq⟩ := hq
    refine x_lald g3 i4 dX9_writes_169 ?_
    refine x_goto (tgt := 174) dX9_writes_170 (by decide) ?_
    refine xP.pick (lv' := [(0, rv x0), (1, .int x1), (2, .int x2), (3, .int x3), (4, .int x4), (5, .int x5), (6, .int x6), (7, .long s0)]) [1, 2, 3, 4, 5, 6, 7, 0] rfl ?_
    exact uX9_writes_174 hq
set_option maxRecDepth 100000 in
def bX9_writes (G : xG) (fr lo : Nat) (x0 : Nat) (x1 : Int32) (x2 : Int32) (h : xH) (Q : Outcome → xH → Prop) : Prop := tg h x0 = 10 ∧ (∀ h2 : xH, h2 = sI h x0 2310 ((fI h x0 2310) - 1) → tg h2 (fR h2 x0 2307) = 101 ∧ vp_in (fI h2 x0 2310) (ln h2 (fR h2 x0 2307)) ∧ tg h2 (fR h2 x0 2304) = 3 ∧ tg h2 (fR h2 (fR h2 x0 2304) 516) = 100 ∧ vp_in x2 (ln h2 (fR h2 (fR h2 x0 2304) 516)) ∧ (∀ h10 : xH, h10 = sI h2 x0 2334 0 → ((¬ x1 = 98 → (∀ h14 : xH, h14 = sI h10 x0 2311 ((fI h10 x0 2311) + 1) → tg h14 (fR h14 x0 2304) = 3 ∧ tg h14 (fR h14 (fR h14 x0 2304) 513) = 100 ∧ vp_in x2 (ln h14 (fR h14 (fR h14 x0 2304) 513)) ∧ (∀ h20 : xH, h20 = sI h14 x0 2310 ((fI h14 x0 2310) - (aI h14 (fR h14 (fR h14 x0 2304) 513) (Int32.toNatClampNeg x2))) → (((aI h14 (fR h14 (fR h14 x0 2304) 513) (Int32.toNatClampNeg x2)) ≤ 0 → ((¬ x1 = 93 → ((¬ x1 = 94 → ((¬ x1 = 96 → bX9_writes_151 G fr lo x0 x1 x2 (Int64.toInt32 (aJ h2 (fR h2 x0 2307) (Int32.toNatClampNeg (fI h2 x0 2310)))) (aI h2 (fR h2 (fR h2 x0 2304) 516) (Int32.toNatClampNeg x2)) (fI h10 x0 2311) (aI h14 (fR h14 (fR h14 x0 2304) 513) (Int32.toNatClampNeg x2)) 0 h20 Q) ∧ (x1 = 96 → bX9_writes_151 G fr lo x0 x1 x2 (Int64.toInt32 (aJ h2 (fR h2 x0 2307) (Int32.toNatClampNeg (fI h2 x0 2310)))) (aI h2 (fR h2 (fR h2 x0 2304) 516) (Int32.toNatClampNeg x2)) (fI h10 x0 2311) (aI h14 (fR h14 (fR h14 x0 2304) 513) (Int32.toNatClampNeg x2)) 6 h20 Q))) ∧ (x1 = 94 → bX9_writes_151 G fr lo x0 x1 x2 (Int64.toInt32 (aJ h2 (fR h2 x0 2307) (Int32.toNatClampNeg (fI h2 x0 2310)))) (aI h2 (fR h2 (fR h2 x0 2304) 516) (Int32.toNatClampNeg x2)) (fI h10 x0 2311) (aI h14 (fR h14 (fR h14 x0 2304) 513) (Int32.toNatClampNeg x2)) 14 h20 Q))) ∧ (x1 = 93 → bX9_writes_151 G fr lo x0 x1 x2 (Int64.toInt32 (aJ h2 (fR h2 x0 2307) (Int32.toNatClampNeg (fI h2 x0 2310)))) (aI h2 (fR h2 (fR h2 x0 2304) 516) (Int32.toNatClampNeg x2)) (fI h10 x0 2311) (aI h14 (fR h14 (fR h14 x0 2304) 513) (Int32.toNatClampNeg x2)) 8 h20 Q))) ∧ (¬ (aI h14 (fR h14 (fR h14 x0 2304) 513) (Int32.toNatClampNeg x2)) ≤ 0 → tg h20 (fR h20 x0 2307) = 101 ∧ vp_in (fI h20 x0 2310) (ln h20 (fR h20 x0 2307)) ∧ bX9_writes_151 G fr lo x0 x1 x2 (Int64.toInt32 (aJ h2 (fR h2 x0 2307) (Int32.toNatClampNeg (fI h2 x0 2310)))) (aI h2 (fR h2 (fR h2 x0 2304) 516) (Int32.toNatClampNeg x2)) (fI h10 x0 2311) (aI h14 (fR h14 (fR h14 x0 2304) 513) (Int32.toNatClampNeg x2)) (aJ h20 (fR h20 x0 2307) (Int32.toNatClampNeg (fI h20 x0 2310))) h20 Q))))) ∧ (x1 = 98 → 1 ≤ fr ∧ 13 ≤ lo ∧ xRv G YX9_letter (fr - 1) (lo - 13) [rv x0, .int 10] h10 (fun h32 => xext h10 h32 → 1 ≤ fr ∧ 19 ≤ lo ∧ xRv G YX9_out (fr - 1) (lo - 19) [rv x0, .int (Int64.toInt32 (aJ h2 (fR h2 x0 2307) (Int32.toNatClampNeg (fI h2 x0 2310)))), .int 0, .int 0, .int (aI h2 (fR h2 (fR h2 x0 2304) 516) (Int32.toNatClampNeg x2))] h32 (fun h38 => xext h32 h38 → Q (.returned none) h38) (fun r h2 => Q (.threw r) h2)) (fun r h2 => Q (.threw r) h2)))))
set_option maxRecDepth 100000 in
theorem uX9_writes {G : xG} {fr lo : Nat} {x0 : Nat} {x1 : Int32} {x2 : Int32} {h : xH} {Q : Outcome → xH → Prop} (hq : bX9_writes G fr lo x0 x1 x2 h Q) : xP G YX9_writes fr lo 0 [(0, rv x0), (1, .int x1), (2, .int x2)] [] h Q := by
  unfold bX9_writes at hq
  refine x_aload_n 0 dX9_writes_0 rfl ?_
  refine x_dup dX9_writes_1 (rv_cat _) ?_
  obtain ⟨g1, hq⟩ := hq
  refine x_get (v := .int (fI h x0 2310)) fdX9_86 dX9_writes_2 g1 rfl ?_
  refine x_iconst (v := 1) dX9_writes_5 (by decide) ?_
  refine x_isub dX9_writes_6 ?_
  obtain ⟨h2, e3⟩ : ∃ y, y = sI h x0 2310 ((fI h x0 2310) - 1) := ⟨_, rfl⟩
  replace hq := hq h2 e3
  refine x_putI fdX9_86 xty_I1 dX9_writes_7 g1 (Or.inl (by rw [g1]; rfl)) xnI rfl e3 ?_
  refine x_aload_n 0 dX9_writes_10 rfl ?_
  have t4 : tg h2 x0 = 10 := by rw [e3]; exact g1
  refine x_get (v := rv (fR h2 x0 2307)) fdX9_28 dX9_writes_11 t4 rfl ?_
  refine x_aload_n 0 dX9_writes_14 rfl ?_
  refine x_get (v := .int (fI h2 x0 2310)) fdX9_86 dX9_writes_15 t4 rfl ?_
  obtain ⟨g5, hq⟩ := hq
  obtain ⟨i6, hq⟩ := hq
  refine x_lald g5 i6 dX9_writes_18 ?_
  refine x_l2i dX9_writes_19 ?_
  refine x_istore_n (lv' := [(3, .int (Int64.toInt32 (aJ h2 (fR h2 x0 2307) (Int32.toNatClampNeg (fI h2 x0 2310))))), (0, rv x0), (1, .int x1), (2, .int x2)]) dX9_writes_20 (by decide) rfl ?_
  refine x_aload_n 1 dX9_writes_21 rfl ?_
  refine x_get (v := rv (fR h2 x0 2304)) fdX9_75 dX9_writes_22 t4 rfl ?_
  obtain ⟨g7, hq⟩ := hq
  refine x_getN (v := rv (fR h2 (fR h2 x0 2304) 516)) gfX9_222 dX9_writes_25 g7 rfl ?_
  refine x_iload_n 3 dX9_writes_28 rfl ?_
  obtain ⟨g8, hq⟩ := hq
  obtain ⟨i9, hq⟩ := hq
  refine x_iald 0 (Or.inl rfl) g8 i9 dX9_writes_29 ?_
  refine x_istore (lv' := [(4, .int (aI h2 (fR h2 (fR h2 x0 2304) 516) (Int32.toNatClampNeg x2))), (3, .int (Int64.toInt32 (aJ h2 (fR h2 x0 2307) (Int32.toNatClampNeg (fI h2 x0 2310))))), (0, rv x0), (1, .int x1), (2, .int x2)]) dX9_writes_30 (by decide) rfl ?_
  refine x_aload_n 2 dX9_writes_32 rfl ?_
  refine x_iconst (v := 0) dX9_writes_33 (by decide) ?_
  obtain ⟨h10, e11⟩ : ∃ y, y = sI h2 x0 2334 0 := ⟨_, rfl⟩
  replace hq := hq h10 e11
  refine x_putI fdX9_491 xty_I1 dX9_writes_34 t4 (Or.inl (by rw [t4]; rfl)) xnI rfl e11 ?_
  refine x_iload_n 3 dX9_writes_37 rfl ?_
  refine x_bipush (v := 98) dX9_writes_38 (by decide) ?_
  refine x_icmp_ne (tgt := 59) dX9_writes_40 (by decide) (fun c12 => ?_) (fun c12 => ?_)
  · replace hq := hq.1 c12
    refine x_aload_n 2 dX9_writes_59 rfl ?_
    have t13 : tg h10 x0 = 10 := by rw [e11]; exact t4
    refine x_get (v := .int (fI h10 x0 2311)) fdX9_129 dX9_writes_60 t13 rfl ?_
    refine x_istore (lv' := [(5, .int (fI h10 x0 2311)), (4, .int (aI h2 (fR h2 (fR h2 x0 2304) 516) (Int32.toNatClampNeg x2))), (3, .int (Int64.toInt32 (aJ h2 (fR h2 x0 2307) (Int32.toNatClampNeg (fI h2 x0 2310))))), (0, rv x0), (1, .int x1), (2, .int x2)]) dX9_writes_63 (by decide) rfl ?_
    refine x_aload_n 3 dX9_writes_65 rfl ?_
    refine x_dup dX9_writes_66 (rv_cat _) ?_
    refine x_get (v := .int (fI h10 x0 2311)) fdX9_129 dX9_writes_67 t13 rfl ?_
    refine x_iconst (v := 1) dX9_writes_70 (by decide) ?_
    refine x_iadd dX9_writes_71 ?_
    obtain ⟨h14, e15⟩ : ∃ y, y = sI h10 x0 2311 ((fI h10 x0 2311) + 1) := ⟨_, rfl⟩
    replace hq := hq h14 e15
    refine x_putI fdX9_129 xty_I1 dX9_writes_72 t13 (Or.inl (by rw [t13]; rfl)) xnI rfl e15 ?_
    refine x_aload_n 3 dX9_writes_75 rfl ?_
    have t16 : tg h14 x0 = 10 := by rw [e15]; exact t13
    refine x_get (v := rv (fR h14 x0 2304)) fdX9_75 dX9_writes_76 t16 rfl ?_
    obtain ⟨g17, hq⟩ := hq
    refine x_getN (v := rv (fR h14 (fR h14 x0 2304) 513)) gfX9_201 dX9_writes_79 g17 rfl ?_
    refine x_iload_n 5 dX9_writes_82 rfl ?_
    obtain ⟨g18, hq⟩ := hq
    obtain ⟨i19, hq⟩ := hq
    refine x_iald 0 (Or.inl rfl) g18 i19 dX9_writes_83 ?_
    refine x_istore (lv' := [(6, .int (aI h14 (fR h14 (fR h14 x0 2304) 513) (Int32.toNatClampNeg x2))), (5, .int (fI h10 x0 2311)), (4, .int (aI h2 (fR h2 (fR h2 x0 2304) 516) (Int32.toNatClampNeg x2))), (3, .int (Int64.toInt32 (aJ h2 (fR h2 x0 2307) (Int32.toNatClampNeg (fI h2 x0 2310))))), (0, rv x0), (1, .int x1), (2, .int x2)]) dX9_writes_84 (by decide) rfl ?_
    refine x_aload_n 4 dX9_writes_86 rfl ?_
    refine x_dup dX9_writes_87 (rv_cat _) ?_
    refine x_get (v := .int (fI h14 x0 2310)) fdX9_86 dX9_writes_88 t16 rfl ?_
    refine x_iload 0 dX9_writes_91 rfl ?_
    refine x_isub dX9_writes_93 ?_
    obtain ⟨h20, e21⟩ : ∃ y, y = sI h14 x0 2310 ((fI h14 x0 2310) - (aI h14 (fR h14 (fR h14 x0 2304) 513) (Int32.toNatClampNeg x2))) := ⟨_, rfl⟩
    replace hq := hq h20 e21
    refine x_putI fdX9_86 xty_I1 dX9_writes_94 t16 (Or.inl (by rw [t16]; rfl)) xnI rfl e21 ?_
    refine x_iload 0 dX9_writes_97 rfl ?_
    refine x_if_le (tgt := 114) dX9_writes_99 (by decide) (fun c22 => ?_) (fun c22 => ?_)
    · replace hq := hq.1 c22
      refine x_iload_n 5 dX9_writes_114 rfl ?_
      refine x_bipush (v := 93) dX9_writes_115 (by decide) ?_
      refine x_icmp_ne (tgt := 126) dX9_writes_117 (by decide) (fun c23 => ?_) (fun c23 => ?_)
      · replace hq := hq.1 c23
        refine x_iload_n 5 dX9_writes_126 rfl ?_
        refine x_bipush (v := 94) dX9_writes_127 (by decide) ?_
        refine x_icmp_ne (tgt := 138) dX9_writes_129 (by decide) (fun c24 => ?_) (fun c24 => ?_)
        · replace hq := hq.1 c24
          refine x_iload_n 5 dX9_writes_138 rfl ?_
          refine x_bipush (v := 96) dX9_writes_139 (by decide) ?_
          refine x_icmp_ne (tgt := 150) dX9_writes_141 (by decide) (fun c25 => ?_) (fun c25 => ?_)
          · replace hq := hq.1 c25
            refine x_lconst (v := 0) dX9_writes_150 (by decide) ?_
            refine xP.pick (lv' := [(0, rv x0), (1, .int x1), (2, .int x2), (3, .int (Int64.toInt32 (aJ h2 (fR h2 x0 2307) (Int32.toNatClampNeg (fI h2 x0 2310))))), (4, .int (aI h2 (fR h2 (fR h2 x0 2304) 516) (Int32.toNatClampNeg x2))), (5, .int (fI h10 x0 2311)), (6, .int (aI h14 (fR h14 (fR h14 x0 2304) 513) (Int32.toNatClampNeg x2)))]) [4, 5, 6, 3, 2, 1, 0] rfl ?_
            exact uX9_writes_151 hq
          · replace hq := hq.2 c25
            refine x_ldc2 (v := 6) q3099 dX9_writes_144 ?_
            refine x_goto (tgt := 151) dX9_writes_147 (by decide) ?_
            refine xP.pick (lv' := [(0, rv x0), (1, .int x1), (2, .int x2), (3, .int (Int64.toInt32 (aJ h2 (fR h2 x0 2307) (Int32.toNatClampNeg (fI h2 x0 2310))))), (4, .int (aI h2 (fR h2 (fR h2 x0 2304) 516) (Int32.toNatClampNeg x2))), (5, .int (fI h10 x0 2311)), (6, .int (aI h14 (fR h14 (fR h14 x0 2304) 513) (Int32.toNatClampNeg x2)))]) [4, 5, 6, 3, 2, 1, 0] rfl ?_
            exact uX9_writes_151 hq
        · replace hq := hq.2 c24
          refine x_ldc2 (v := 14) q3098 dX9_writes_132 ?_
          refine x_goto (tgt := 151) dX9_writes_135 (by decide) ?_
          refine xP.pick (lv' := [(0, rv x0), (1, .int x1), (2, .int x2), (3, .int (Int64.toInt32 (aJ h2 (fR h2 x0 2307) (Int32.toNatClampNeg (fI h2 x0 2310))))), (4, .int (aI h2 (fR h2 (fR h2 x0 2304) 516) (Int32.toNatClampNeg x2))), (5, .int (fI h10 x0 2311)), (6, .int (aI h14 (fR h14 (fR h14 x0 2304) 513) (Int32.toNatClampNeg x2)))]) [4, 5, 6, 3, 2, 1, 0] rfl ?_
          exact uX9_writes_151 hq
      · replace hq := hq.2 c23
        refine x_ldc2 (v := 8) q3097 dX9_writes_120 ?_
        refine x_goto (tgt := 151) dX9_writes_123 (by decide) ?_
        refine xP.pick (lv' := [(0, rv x0), (1, .int x1), (2, .int x2), (3, .int (Int64.toInt32 (aJ h2 (fR h2 x0 2307) (Int32.toNatClampNeg (fI h2 x0 2310))))), (4, .int (aI h2 (fR h2 (fR h2 x0 2304) 516) (Int32.toNatClampNeg x2))), (5, .int (fI h10 x0 2311)), (6, .int (aI h14 (fR h14 (fR h14 x0 2304) 513) (Int32.toNatClampNeg x2)))]) [4, 5, 6, 3, 2, 1, 0] rfl ?_
        exact uX9_writes_151 hq
    · replace hq := hq.2 c22
      refine x_aload_n 4 dX9_writes_102 rfl ?_
      have t26 : tg h20 x0 = 10 := by rw [e21]; exact t16
      refine x_get (v := rv (fR h20 x0 2307)) fdX9_28 dX9_writes_103 t26 rfl ?_
      refine x_aload_n 4 dX9_writes_106 rfl ?_
      refine x_get (v := .int (fI h20 x0 2310)) fdX9_86 dX9_writes_107 t26 rfl ?_
      obtain ⟨g27, hq⟩ := hq
      obtain ⟨i28, hq⟩ := hq
      refine x_lald g27 i28 dX9_writes_110 ?_
      refine x_goto (tgt := 151) dX9_writes_111 (by decide) ?_
      refine xP.pick (lv' := [(0, rv x0), (1, .int x1), (2, .int x2), (3, .int (Int64.toInt32 (aJ h2 (fR h2 x0 2307) (Int32.toNatClampNeg (fI h2 x0 2310))))), (4, .int (aI h2 (fR h2 (fR h2 x0 2304) 516) (Int32.toNatClampNeg x2))), (5, .int (fI h10 x0 2311)), (6, .int (aI h14 (fR h14 (fR h14 x0 2304) 513) (Int32.toNatClampNeg x2)))]) [4, 5, 6, 3, 2, 1, 0] rfl ?_
      exact uX9_writes_151 hq
  · replace hq := hq.2 c12
    refine x_aload_n 2 dX9_writes_43 rfl ?_
    refine x_bipush (v := 10) dX9_writes_44 (by decide) ?_
    have t29 : tg h10 x0 = 10 := by rw [e11]; exact t4
    obtain ⟨g30, g31, hq⟩ := hq
    refine x_callV (Yc := YX9_letter) (as := [.int 10]) (st := []) q3084 mvX9_letter t29 rfl dX9_writes_46 (xle (xal1 (rv_cat _) (xal1 rfl xal0)) (by decide)) (xfr g30) (xlo xsw0 (by decide) g31) (xKv hq (fun h32 hq e34 => ?_) (fun _ _ q _ => q))
    replace hq := hq e34
    refine x_aload_n 2 dX9_writes_49 rfl ?_
    refine x_iload_n 1 dX9_writes_50 rfl ?_
    refine x_iconst (v := 0) dX9_writes_51 (by decide) ?_
    refine x_iconst (v := 0) dX9_writes_52 (by decide) ?_
    refine x_iload 0 dX9_writes_53 rfl ?_
    have t35 : tg h32 x0 = 10 := e34.tg t29 (by decide)
    obtain ⟨g36, g37, hq⟩ := hq
    refine x_callV (Yc := YX9_out) (as := [.int (Int64.toInt32 (aJ h2 (fR h2 x0 2307) (Int32.toNatClampNeg (fI h2 x0 2310)))), .int 0, .int 0, .int (aI h2 (fR h2 (fR h2 x0 2304) 516) (Int32.toNatClampNeg x2))]) (st := []) q3088 mvX9_out t35 rfl dX9_writes_55 (xle (xal1 (rv_cat _) (xal1 rfl (xal1 rfl (xal1 rfl (xal1 rfl xal0))))) (by decide)) (xfr g36) (xlo xsw0 (by decide) g37) (xKv hq (fun h38 hq e40 => ?_) (fun _ _ q _ => q))
    replace hq := hq e40
    exact x_vret rfl dX9_writes_58 hq
theorem rX9_writes {G : xG} {fr lo : Nat} {x0 : Nat} {x1 : Int32} {x2 : Int32} {h : xH} {Q : Outcome → xH → Prop} (hq : bX9_writes G fr lo x0 x1 x2 h Q) : xR G YX9_writes fr lo [rv x0, .int x1, .int x2] h Q := by
  show xP _ _ _ _ _ (lv_args 0 _) _ _ _
  rw [show lv_args 0 [rv x0, .int x1, .int x2] = [(0, rv x0), (1, .int x1), (2, .int x2)] from (xla1 (rv_cat _) (xla1 rfl (xla1 rfl xla0)))]
  exact uX9_writes hq
set_option maxRecDepth 100000 in
theorem dX9_letter_0 : decode cX9_letter 0 = .ok (.aload_n 0, 1) := by decide +kernel
set_option maxRecDepth 100000 in
theorem dX9_letter_1 : decode cX9_letter 1 = .ok (.getfield 71, 3) := by decide +kernel
set_option maxRecDepth 100000 in
theorem dX9_letter_4 : decode cX9_letter 4 = .ok (.aload_n 0, 1) := by decide +kernel
set_option maxRecDepth 100000 in
theorem dX9_letter_5 : decode cX9_letter 5 = .ok (.getfield 491, 3) := by decide +kernel
set_option maxRecDepth 100000 in
theorem dX9_letter_8 : decode cX9_letter 8 = .ok (.iload_n 1, 1) := by decide +kernel
set_option maxRecDepth 100000 in
theorem dX9_letter_9 : decode cX9_letter 9 = .ok (.i2b, 1) := by decide +kernel
set_option maxRecDepth 100000 in
theorem dX9_letter_10 : decode cX9_letter 10 = .ok (.bastore, 1) := by decide +kernel
set_option maxRecDepth 100000 in
theorem dX9_letter_11 : decode cX9_letter 11 = .ok (.aload_n 0, 1) := by decide +kernel
set_option maxRecDepth 100000 in
theorem dX9_letter_12 : decode cX9_letter 12 = .ok (.dup, 1) := by decide +kernel
set_option maxRecDepth 100000 in
theorem dX9_letter_13 : decode cX9_letter 13 = .ok (.getfield 491, 3) := by decide +kernel
set_option maxRecDepth 100000 in
theorem dX9_letter_16 : decode cX9_letter 16 = .ok (.iconst 1, 1) := by decide +kernel
set_option maxRecDepth 100000 in
theorem dX9_letter_17 : decode cX9_letter 17 = .ok (.iadd, 1) := by decide +kernel
set_option maxRecDepth 100000 in
theorem dX9_letter_18 : decode cX9_letter 18 = .ok (.putfield 491, 3) := by decide +kernel
set_option maxRecDepth 100000 in
theorem dX9_letter_21 : decode cX9_letter 21 = .ok (.return_, 1) := by decide +kernel
set_option maxRecDepth 100000 in
def bX9_letter (G : xG) (fr lo : Nat) (x0 : Nat) (x1 : Int32) (h : xH) (Q : Outcome → xH → Prop) : Prop := tg h x0 = 10 ∧ tg h (fR h x0 2333) = 103 ∧ xGB G < (fR h x0 2333) ∧ vp_in (fI h x0 2334) (ln h (fR h x0 2333)) ∧ (∀ h5 : xH, h5 = tI h (fR h x0 2333) (Int32.toNatClampNeg (fI h x0 2334)) (vp_nar .byte ((Int32.toInt8 x1).toInt32)) → (∀ h8 : xH, h8 = sI h5 x0 2334 ((fI h5 x0 2334) + 1) → Q (.returned none) h8))
set_option maxRecDepth 100000 in
theorem uX9_letter {G : xG} {fr lo : Nat} {x0 : Nat} {x1 : Int32} {h : xH} {Q : Outcome → xH → Prop} (hq : bX9_letter G fr lo x0 x1 h Q) : xP G YX9_letter fr lo 0 [(0, rv x0), (1, .int x1)] [] h Q := by
  unfold bX9_letter at hq
  refine x_aload_n 0 dX9_letter_0 rfl ?_
  obtain ⟨g1, hq⟩ := hq
  refine x_get (v := rv (fR h x0 2333)) fdX9_71 dX9_letter_1 g1 rfl ?_
  refine x_aload_n 0 dX9_letter_4 rfl ?_
  refine x_get (v := .int (fI h x0 2334)) fdX9_491 dX9_letter_5 g1 rfl ?_
  refine x_iload_n 1 dX9_letter_8 rfl ?_
  refine x_i2b dX9_letter_9 ?_
  obtain ⟨g2, hq⟩ := hq
  obtain ⟨w3, hq⟩ := hq
  obtain ⟨i4, hq⟩ := hq
  obtain ⟨h5, e6⟩ : ∃ y, y = tI h (fR h x0 2333) (Int32.toNatClampNeg (fI h x0 2334)) (vp_nar .byte ((Int32.toInt8 x1).toInt32)) := ⟨_, rfl⟩
  replace hq := hq h5 e6
  refine x_bast' g2 (Or.inr w3) i4 dX9_letter_10 e6 ?_
  refine x_aload_n 0 dX9_letter_11 rfl ?_
  refine x_dup dX9_letter_12 (rv_cat _) ?_
  have t7 : tg h5 x0 = 10 := by rw [e6]; exact g1
  refine x_get (v := .int (fI h5 x0 2334)) fdX9_491 dX9_letter_13 t7 rfl ?_
  refine x_iconst (v := 1) dX9_letter_16 (by decide) ?_
  refine x_iadd dX9_letter_17 ?_
  obtain ⟨h8, e9⟩ : ∃ y, y = sI h5 x0 2334 ((fI h5 x0 2334) + 1) := ⟨_, rfl⟩
  replace hq := hq h8 e9
  refine x_putI fdX9_491 xty_I1 dX9_letter_18 t7 (Or.inl (by rw [t7]; rfl)) xnI rfl e9 ?_
  exact x_vret rfl dX9_letter_21 hq
theorem rX9_letter {G : xG} {fr lo : Nat} {x0 : Nat} {x1 : Int32} {h : xH} {Q : Outcome → xH → Prop} (hq : bX9_letter G fr lo x0 x1 h Q) : xR G YX9_letter fr lo [rv x0, .int x1] h Q := by
  show xP _ _ _ _ _ (lv_args 0 _) _ _ _
  rw [show lv_args 0 [rv x0, .int x1] = [(0, rv x0), (1, .int x1)] from (xla1 (rv_cat _) (xla1 rfl xla0))]
  exact uX9_letter hq
set_option maxRecDepth 100000 in
theorem dX9_out_0 : decode cX9_out 0 = .ok (.aload_n 0, 1) := by decide +kernel
set_option maxRecDepth 100000 in
theorem dX9_out_1 : decode cX9_out 1 = .ok (.getfield 23, 3) := by decide +kernel
set_option maxRecDepth 100000 in
theorem dX9_out_4 : decode cX9_out 4 = .ok (.getfield 429, 3) := by decide +kernel
set_option maxRecDepth 100000 in
theorem dX9_out_7 : decode cX9_out 7 = .ok (.iload_n 1, 1) := by decide +kernel
set_option maxRecDepth 100000 in
theorem dX9_out_8 : decode cX9_out 8 = .ok (.iaload, 1) := by decide +kernel
set_option maxRecDepth 100000 in
theorem dX9_out_9 : decode cX9_out 9 = .ok (.iconst 2, 1) := by decide +kernel
set_option maxRecDepth 100000 in
theorem dX9_out_10 : decode cX9_out 10 = .ok (.if_icmp .eq 12, 3) := by decide +kernel
set_option maxRecDepth 100000 in
theorem dX9_out_13 : decode cX9_out 13 = .ok (.aload_n 0, 1) := by decide +kernel
set_option maxRecDepth 100000 in
theorem dX9_out_14 : decode cX9_out 14 = .ok (.bipush 10, 2) := by decide +kernel
set_option maxRecDepth 100000 in
theorem dX9_out_16 : decode cX9_out 16 = .ok (.iload 4, 2) := by decide +kernel
set_option maxRecDepth 100000 in
theorem dX9_out_18 : decode cX9_out 18 = .ok (.invokevirtual 147, 3) := by decide +kernel
set_option maxRecDepth 100000 in
theorem dX9_out_21 : decode cX9_out 21 = .ok (.return_, 1) := by decide +kernel
set_option maxRecDepth 100000 in
theorem dX9_out_22 : decode cX9_out 22 = .ok (.iload_n 3, 1) := by decide +kernel
set_option maxRecDepth 100000 in
theorem dX9_out_23 : decode cX9_out 23 = .ok (.ifCond .eq 15, 3) := by decide +kernel
set_option maxRecDepth 100000 in
theorem dX9_out_26 : decode cX9_out 26 = .ok (.aload_n 0, 1) := by decide +kernel
set_option maxRecDepth 100000 in
theorem dX9_out_27 : decode cX9_out 27 = .ok (.getfield 491, 3) := by decide +kernel
set_option maxRecDepth 100000 in
theorem dX9_out_30 : decode cX9_out 30 = .ok (.iload_n 2, 1) := by decide +kernel
set_option maxRecDepth 100000 in
theorem dX9_out_31 : decode cX9_out 31 = .ok (.if_icmp .le 7, 3) := by decide +kernel
set_option maxRecDepth 100000 in
theorem dX9_out_34 : decode cX9_out 34 = .ok (.iload_n 2, 1) := by decide +kernel
set_option maxRecDepth 100000 in
theorem dX9_out_35 : decode cX9_out 35 = .ok (.goto 7, 3) := by decide +kernel
set_option maxRecDepth 100000 in
theorem dX9_out_38 : decode cX9_out 38 = .ok (.aload_n 0, 1) := by decide +kernel
set_option maxRecDepth 100000 in
theorem dX9_out_39 : decode cX9_out 39 = .ok (.getfield 491, 3) := by decide +kernel
set_option maxRecDepth 100000 in
theorem dX9_out_42 : decode cX9_out 42 = .ok (.istore 5, 2) := by decide +kernel
set_option maxRecDepth 100000 in
theorem dX9_out_44 : decode cX9_out 44 = .ok (.iload 5, 2) := by decide +kernel
set_option maxRecDepth 100000 in
theorem dX9_out_46 : decode cX9_out 46 = .ok (.iload_n 2, 1) := by decide +kernel
set_option maxRecDepth 100000 in
theorem dX9_out_47 : decode cX9_out 47 = .ok (.if_icmp .ge 7, 3) := by decide +kernel
set_option maxRecDepth 100000 in
theorem dX9_out_50 : decode cX9_out 50 = .ok (.iload_n 2, 1) := by decide +kernel
set_option maxRecDepth 100000 in
theorem dX9_out_51 : decode cX9_out 51 = .ok (.goto 5, 3) := by decide +kernel
set_option maxRecDepth 100000 in
theorem dX9_out_54 : decode cX9_out 54 = .ok (.iload 5, 2) := by decide +kernel
set_option maxRecDepth 100000 in
theorem dX9_out_56 : decode cX9_out 56 = .ok (.istore 6, 2) := by decide +kernel
set_option maxRecDepth 100000 in
theorem dX9_out_58 : decode cX9_out 58 = .ok (.aload_n 0, 1) := by decide +kernel
set_option maxRecDepth 100000 in
theorem dX9_out_59 : decode cX9_out 59 = .ok (.getfield 23, 3) := by decide +kernel
set_option maxRecDepth 100000 in
theorem dX9_out_62 : decode cX9_out 62 = .ok (.iload_n 1, 1) := by decide +kernel
set_option maxRecDepth 100000 in
theorem dX9_out_63 : decode cX9_out 63 = .ok (.iload 6, 2) := by decide +kernel
set_option maxRecDepth 100000 in
theorem dX9_out_65 : decode cX9_out 65 = .ok (.invokevirtual 463, 3) := by decide +kernel
set_option maxRecDepth 100000 in
theorem dX9_out_68 : decode cX9_out 68 = .ok (.ifCond .ne 12, 3) := by decide +kernel
set_option maxRecDepth 100000 in
theorem dX9_out_71 : decode cX9_out 71 = .ok (.aload_n 0, 1) := by decide +kernel
set_option maxRecDepth 100000 in
theorem dX9_out_72 : decode cX9_out 72 = .ok (.bipush 14, 2) := by decide +kernel
set_option maxRecDepth 100000 in
theorem dX9_out_74 : decode cX9_out 74 = .ok (.iload 4, 2) := by decide +kernel
set_option maxRecDepth 100000 in
theorem dX9_out_76 : decode cX9_out 76 = .ok (.invokevirtual 147, 3) := by decide +kernel
set_option maxRecDepth 100000 in
theorem dX9_out_79 : decode cX9_out 79 = .ok (.return_, 1) := by decide +kernel
set_option maxRecDepth 100000 in
theorem dX9_out_80 : decode cX9_out 80 = .ok (.iload 5, 2) := by decide +kernel
set_option maxRecDepth 100000 in
theorem dX9_out_82 : decode cX9_out 82 = .ok (.istore 7, 2) := by decide +kernel
set_option maxRecDepth 100000 in
theorem dX9_out_84 : decode cX9_out 84 = .ok (.iload 7, 2) := by decide +kernel
set_option maxRecDepth 100000 in
theorem dX9_out_86 : decode cX9_out 86 = .ok (.iload 6, 2) := by decide +kernel
set_option maxRecDepth 100000 in
theorem dX9_out_88 : decode cX9_out 88 = .ok (.if_icmp .ge 19, 3) := by decide +kernel
set_option maxRecDepth 100000 in
theorem dX9_out_91 : decode cX9_out 91 = .ok (.aload_n 0, 1) := by decide +kernel
set_option maxRecDepth 100000 in
theorem dX9_out_92 : decode cX9_out 92 = .ok (.getfield 23, 3) := by decide +kernel
set_option maxRecDepth 100000 in
theorem dX9_out_95 : decode cX9_out 95 = .ok (.iload_n 1, 1) := by decide +kernel
set_option maxRecDepth 100000 in
theorem dX9_out_96 : decode cX9_out 96 = .ok (.bipush 32, 2) := by decide +kernel
set_option maxRecDepth 100000 in
theorem dX9_out_98 : decode cX9_out 98 = .ok (.invokevirtual 540, 3) := by decide +kernel
set_option maxRecDepth 100000 in
theorem dX9_out_101 : decode cX9_out 101 = .ok (.iinc 7 1, 3) := by decide +kernel
set_option maxRecDepth 100000 in
theorem dX9_out_104 : decode cX9_out 104 = .ok (.goto (-20), 3) := by decide +kernel
set_option maxRecDepth 100000 in
theorem dX9_out_107 : decode cX9_out 107 = .ok (.iconst 0, 1) := by decide +kernel
set_option maxRecDepth 100000 in
theorem dX9_out_108 : decode cX9_out 108 = .ok (.istore 7, 2) := by decide +kernel
set_option maxRecDepth 100000 in
theorem dX9_out_110 : decode cX9_out 110 = .ok (.iload 7, 2) := by decide +kernel
set_option maxRecDepth 100000 in
theorem dX9_out_112 : decode cX9_out 112 = .ok (.iload 5, 2) := by decide +kernel
set_option maxRecDepth 100000 in
theorem dX9_out_114 : decode cX9_out 114 = .ok (.if_icmp .ge 24, 3) := by decide +kernel
set_option maxRecDepth 100000 in
theorem dX9_out_117 : decode cX9_out 117 = .ok (.aload_n 0, 1) := by decide +kernel
set_option maxRecDepth 100000 in
theorem dX9_out_118 : decode cX9_out 118 = .ok (.getfield 23, 3) := by decide +kernel
set_option maxRecDepth 100000 in
theorem dX9_out_121 : decode cX9_out 121 = .ok (.iload_n 1, 1) := by decide +kernel
set_option maxRecDepth 100000 in
theorem dX9_out_122 : decode cX9_out 122 = .ok (.aload_n 0, 1) := by decide +kernel
set_option maxRecDepth 100000 in
theorem dX9_out_123 : decode cX9_out 123 = .ok (.getfield 71, 3) := by decide +kernel
set_option maxRecDepth 100000 in
theorem dX9_out_126 : decode cX9_out 126 = .ok (.iload 7, 2) := by decide +kernel
set_option maxRecDepth 100000 in
theorem dX9_out_128 : decode cX9_out 128 = .ok (.baload, 1) := by decide +kernel
set_option maxRecDepth 100000 in
theorem dX9_out_129 : decode cX9_out 129 = .ok (.invokevirtual 540, 3) := by decide +kernel
set_option maxRecDepth 100000 in
theorem dX9_out_132 : decode cX9_out 132 = .ok (.iinc 7 1, 3) := by decide +kernel
set_option maxRecDepth 100000 in
theorem dX9_out_135 : decode cX9_out 135 = .ok (.goto (-25), 3) := by decide +kernel
set_option maxRecDepth 100000 in
theorem dX9_out_138 : decode cX9_out 138 = .ok (.return_, 1) := by decide +kernel
def lX9_out_84 (G : xG) (fr lo : Nat) (x0 : Nat) (x1 : Int32) (x5 : Int32) (x6 : Int32) (x7 : Int32) (h : xH) (Q : Outcome → xH → Prop) : Prop := xP G YX9_out fr lo 84 [(0, rv x0), (1, .int x1), (5, .int x5), (6, .int x6), (7, .int x7)] [] h Q
def lX9_out_110 (G : xG) (fr lo : Nat) (x0 : Nat) (x1 : Int32) (x5 : Int32) (x7 : Int32) (h : xH) (Q : Outcome → xH → Prop) : Prop := xP G YX9_out fr lo 110 [(0, rv x0), (1, .int x1), (5, .int x5), (7, .int x7)] [] h Q
set_option maxRecDepth 100000 in
def bX9_out_110 (G : xG) (fr lo : Nat) (x0 : Nat) (x1 : Int32) (x5 : Int32) (x7 : Int32) (h : xH) (Q : Outcome → xH → Prop) : Prop := ((x5 ≤ x7 → Q (.returned none) h) ∧ (¬ x5 ≤ x7 → tg h x0 = 10 ∧ tg h (fR h x0 2333) = 103 ∧ vp_in x7 (ln h (fR h x0 2333)) ∧ tg h (fR h x0 2306) = 12 ∧ 1 ≤ fr ∧ 15 ≤ lo ∧ xRv G YX11_add (fr - 1) (lo - 15) [rv (fR h x0 2306), .int x1, .int (aI h (fR h x0 2333) (Int32.toNatClampNeg x7))] h (fun h8 => xext h h8 → lX9_out_110 G fr lo x0 x1 x5 (x7 + 1) h8 Q) (fun r h2 => Q (.threw r) h2)))
set_option maxRecDepth 100000 in
theorem uX9_out_110 {G : xG} {fr lo : Nat} {x0 : Nat} {x1 : Int32} {x5 : Int32} {x7 : Int32} {h : xH} {Q : Outcome → xH → Prop} (hq : bX9_out_110 G fr lo x0 x1 x5 x7 h Q) : xP G YX9_out fr lo 110 [(0, rv x0), (1, .int x1), (5, .int x5), (7, .int x7)] [] h Q := by
  unfold bX9_out_110 at hq
  refine x_iload 3 dX9_out_110 rfl ?_
  refine x_iload 2 dX9_out_112 rfl ?_
  refine x_icmp_ge (tgt := 138) dX9_out_114 (by decide) (fun c1 => ?_) (fun c1 => ?_)
  · replace hq := hq.1 c1
    exact x_vret rfl dX9_out_138 hq
  · replace hq := hq.2 c1
    refine x_aload_n 0 dX9_out_117 rfl ?_
    obtain ⟨g2, hq⟩ := hq
    refine x_get (v := rv (fR h x0 2306)) fdX9_23 dX9_out_118 g2 rfl ?_
    refine x_iload_n 1 dX9_out_121 rfl ?_
    refine x_aload_n 0 dX9_out_122 rfl ?_
    refine x_get (v := rv (fR h x0 2333)) fdX9_71 dX9_out_123 g2 rfl ?_
    refine x_iload 3 dX9_out_126 rfl ?_
    obtain ⟨g3, hq⟩ := hq
    obtain ⟨i4, hq⟩ := hq
    refine x_bald g3 i4 dX9_out_128 ?_
    obtain ⟨g5, hq⟩ := hq
    obtain ⟨g6, g7, hq⟩ := hq
    refine x_callV (Yc := YX11_add) (as := [.int x1, .int (aI h (fR h x0 2333) (Int32.toNatClampNeg x7))]) (st := []) q3096 mvX11_add g5 rfl dX9_out_129 (xle (xal1 (rv_cat _) (xal1 rfl (xal1 rfl xal0))) (by decide)) (xfr g6) (xlo xsw0 (by decide) g7) (xKv hq (fun h8 hq e10 => ?_) (fun _ _ q _ => q))
    replace hq := hq e10
    refine x_iinc (lv' := [(7, .int (x7 + 1)), (0, rv x0), (1, .int x1), (5, .int x5)]) 3 dX9_out_132 rfl (by decide) rfl ?_
    refine x_goto (tgt := 110) dX9_out_135 (by decide) ?_
    refine xP.pick (lv' := [(0, rv x0), (1, .int x1), (5, .int x5), (7, .int (x7 + 1))]) [1, 2, 3, 0] rfl ?_
    exact hq
set_option maxRecDepth 100000 in
def bX9_out_84 (G : xG) (fr lo : Nat) (x0 : Nat) (x1 : Int32) (x5 : Int32) (x6 : Int32) (x7 : Int32) (h : xH) (Q : Outcome → xH → Prop) : Prop := ((x6 ≤ x7 → lX9_out_110 G fr lo x0 x1 x5 0 h Q) ∧ (¬ x6 ≤ x7 → tg h x0 = 10 ∧ tg h (fR h x0 2306) = 12 ∧ 1 ≤ fr ∧ 15 ≤ lo ∧ xRv G YX11_add (fr - 1) (lo - 15) [rv (fR h x0 2306), .int x1, .int 32] h (fun h6 => xext h h6 → lX9_out_84 G fr lo x0 x1 x5 x6 (x7 + 1) h6 Q) (fun r h2 => Q (.threw r) h2)))
set_option maxRecDepth 100000 in
theorem uX9_out_84 {G : xG} {fr lo : Nat} {x0 : Nat} {x1 : Int32} {x5 : Int32} {x6 : Int32} {x7 : Int32} {h : xH} {Q : Outcome → xH → Prop} (hq : bX9_out_84 G fr lo x0 x1 x5 x6 x7 h Q) : xP G YX9_out fr lo 84 [(0, rv x0), (1, .int x1), (5, .int x5), (6, .int x6), (7, .int x7)] [] h Q := by
  unfold bX9_out_84 at hq
  refine x_iload 4 dX9_out_84 rfl ?_
  refine x_iload 3 dX9_out_86 rfl ?_
  refine x_icmp_ge (tgt := 107) dX9_out_88 (by decide) (fun c1 => ?_) (fun c1 => ?_)
  · replace hq := hq.1 c1
    refine x_iconst (v := 0) dX9_out_107 (by decide) ?_
    refine x_istore (lv' := [(7, .int 0), (0, rv x0), (1, .int x1), (5, .int x5), (6, .int x6)]) dX9_out_108 (by decide) rfl ?_
    refine xP.pick (lv' := [(0, rv x0), (1, .int x1), (5, .int x5), (7, .int 0)]) [1, 2, 3, 0] rfl ?_
    exact hq
  · replace hq := hq.2 c1
    refine x_aload_n 0 dX9_out_91 rfl ?_
    obtain ⟨g2, hq⟩ := hq
    refine x_get (v := rv (fR h x0 2306)) fdX9_23 dX9_out_92 g2 rfl ?_
    refine x_iload_n 1 dX9_out_95 rfl ?_
    refine x_bipush (v := 32) dX9_out_96 (by decide) ?_
    obtain ⟨g3, hq⟩ := hq
    obtain ⟨g4, g5, hq⟩ := hq
    refine x_callV (Yc := YX11_add) (as := [.int x1, .int 32]) (st := []) q3096 mvX11_add g3 rfl dX9_out_98 (xle (xal1 (rv_cat _) (xal1 rfl (xal1 rfl xal0))) (by decide)) (xfr g4) (xlo xsw0 (by decide) g5) (xKv hq (fun h6 hq e8 => ?_) (fun _ _ q _ => q))
    replace hq := hq e8
    refine x_iinc (lv' := [(7, .int (x7 + 1)), (0, rv x0), (1, .int x1), (5, .int x5), (6, .int x6)]) 4 dX9_out_101 rfl (by decide) rfl ?_
    refine x_goto (tgt := 84) dX9_out_104 (by decide) ?_
    refine xP.pick (lv' := [(0, rv x0), (1, .int x1), (5, .int x5), (6, .int x6), (7, .int (x7 + 1))]) [1, 2, 3, 4, 0] rfl ?_
    exact hq
set_option maxRecDepth 100000 in
def bX9_out_56 (G : xG) (fr lo : Nat) (x0 : Nat) (x1 : Int32) (x4 : Int32) (x5 : Int32) (s0 : Int32) (h : xH) (Q : Outcome → xH → Prop) : Prop := tg h x0 = 10 ∧ tg h (fR h x0 2306) = 12 ∧ 1 ≤ fr ∧ 14 ≤ lo ∧ xRi G YX11_hasRoom (fr - 1) (lo - 14) [rv (fR h x0 2306), .int x1, .int s0] h (fun x6 h5 => xext h h5 → ((¬ x6 = 0 → lX9_out_84 G fr lo x0 x1 x5 s0 x5 h5 Q) ∧ (x6 = 0 → 1 ≤ fr ∧ 14 ≤ lo ∧ xRv G YX9_fail (fr - 1) (lo - 14) [rv x0, .int 14, .int x4] h5 (fun h12 => xext h5 h12 → Q (.returned none) h12) (fun r h2 => Q (.threw r) h2)))) (fun r h2 => Q (.threw r) h2)
set_option maxRecDepth 100000 in
theorem uX9_out_56 {G : xG} {fr lo : Nat} {x0 : Nat} {x1 : Int32} {x4 : Int32} {x5 : Int32} {s0 : Int32} {h : xH} {Q : Outcome → xH → Prop} (hq : bX9_out_56 G fr lo x0 x1 x4 x5 s0 h Q) : xP G YX9_out fr lo 56 [(0, rv x0), (1, .int x1), (4, .int x4), (5, .int x5)] [.int s0] h Q := by
  unfold bX9_out_56 at hq
  refine x_istore (lv' := [(6, .int s0), (0, rv x0), (1, .int x1), (4, .int x4), (5, .int x5)]) dX9_out_56 (by decide) rfl ?_
  refine x_aload_n 1 dX9_out_58 rfl ?_
  obtain ⟨g1, hq⟩ := hq
  refine x_get (v := rv (fR h x0 2306)) fdX9_23 dX9_out_59 g1 rfl ?_
  refine x_iload_n 2 dX9_out_62 rfl ?_
  refine x_iload 0 dX9_out_63 rfl ?_
  obtain ⟨g2, hq⟩ := hq
  obtain ⟨g3, g4, hq⟩ := hq
  refine x_callV (Yc := YX11_hasRoom) (as := [.int x1, .int s0]) (st := []) q3092 mvX11_hasRoom g2 rfl dX9_out_65 (xle (xal1 (rv_cat _) (xal1 rfl (xal1 rfl xal0))) (by decide)) (xfr g3) (xlo xsw0 (by decide) g4) (xKi hq (fun x6 h5 hq e7 => ?_) (fun _ _ q _ => q))
  replace hq := hq e7
  refine x_if_ne (tgt := 80) dX9_out_68 (by decide) (fun c8 => ?_) (fun c8 => ?_)
  · replace hq := hq.1 c8
    refine x_iload 4 dX9_out_80 rfl ?_
    refine x_istore (lv' := [(7, .int x5), (6, .int s0), (0, rv x0), (1, .int x1), (4, .int x4), (5, .int x5)]) dX9_out_82 (by decide) rfl ?_
    refine xP.pick (lv' := [(0, rv x0), (1, .int x1), (5, .int x5), (6, .int s0), (7, .int x5)]) [2, 3, 5, 1, 0] rfl ?_
    exact hq
  · replace hq := hq.2 c8
    refine x_aload_n 1 dX9_out_71 rfl ?_
    refine x_bipush (v := 14) dX9_out_72 (by decide) ?_
    refine x_iload 3 dX9_out_74 rfl ?_
    have t9 : tg h5 x0 = 10 := e7.tg g1 (by decide)
    obtain ⟨g10, g11, hq⟩ := hq
    refine x_callV (Yc := YX9_fail) (as := [.int 14, .int x4]) (st := []) q2835 mvX9_fail t9 rfl dX9_out_76 (xle (xal1 (rv_cat _) (xal1 rfl (xal1 rfl xal0))) (by decide)) (xfr g10) (xlo xsw0 (by decide) g11) (xKv hq (fun h12 hq e14 => ?_) (fun _ _ q _ => q))
    replace hq := hq e14
    exact x_vret rfl dX9_out_79 hq
set_option maxRecDepth 100000 in
def bX9_out_42 (G : xG) (fr lo : Nat) (x0 : Nat) (x1 : Int32) (x2 : Int32) (x4 : Int32) (s0 : Int32) (h : xH) (Q : Outcome → xH → Prop) : Prop := ((x2 ≤ s0 → bX9_out_56 G fr lo x0 x1 x4 s0 s0 h Q) ∧ (¬ x2 ≤ s0 → bX9_out_56 G fr lo x0 x1 x4 s0 x2 h Q))
set_option maxRecDepth 100000 in
theorem uX9_out_42 {G : xG} {fr lo : Nat} {x0 : Nat} {x1 : Int32} {x2 : Int32} {x4 : Int32} {s0 : Int32} {h : xH} {Q : Outcome → xH → Prop} (hq : bX9_out_42 G fr lo x0 x1 x2 x4 s0 h Q) : xP G YX9_out fr lo 42 [(0, rv x0), (1, .int x1), (2, .int x2), (4, .int x4)] [.int s0] h Q := by
  unfold bX9_out_42 at hq
  refine x_istore (lv' := [(5, .int s0), (0, rv x0), (1, .int x1), (2, .int x2), (4, .int x4)]) dX9_out_42 (by decide) rfl ?_
  refine x_iload 0 dX9_out_44 rfl ?_
  refine x_iload_n 3 dX9_out_46 rfl ?_
  refine x_icmp_ge (tgt := 54) dX9_out_47 (by decide) (fun c1 => ?_) (fun c1 => ?_)
  · replace hq := hq.1 c1
    refine x_iload 0 dX9_out_54 rfl ?_
    refine xP.pick (lv' := [(0, rv x0), (1, .int x1), (4, .int x4), (5, .int s0)]) [1, 2, 4, 0] rfl ?_
    exact uX9_out_56 hq
  · replace hq := hq.2 c1
    refine x_iload_n 3 dX9_out_50 rfl ?_
    refine x_goto (tgt := 56) dX9_out_51 (by decide) ?_
    refine xP.pick (lv' := [(0, rv x0), (1, .int x1), (4, .int x4), (5, .int s0)]) [1, 2, 4, 0] rfl ?_
    exact uX9_out_56 hq
set_option maxRecDepth 100000 in
def bX9_out_38 (G : xG) (fr lo : Nat) (x0 : Nat) (x1 : Int32) (x2 : Int32) (x4 : Int32) (h : xH) (Q : Outcome → xH → Prop) : Prop := tg h x0 = 10 ∧ bX9_out_42 G fr lo x0 x1 x2 x4 (fI h x0 2334) h Q
set_option maxRecDepth 100000 in
theorem uX9_out_38 {G : xG} {fr lo : Nat} {x0 : Nat} {x1 : Int32} {x2 : Int32} {x4 : Int32} {h : xH} {Q : Outcome → xH → Prop} (hq : bX9_out_38 G fr lo x0 x1 x2 x4 h Q) : xP G YX9_out fr lo 38 [(0, rv x0), (1, .int x1), (2, .int x2), (4, .int x4)] [] h Q := by
  unfold bX9_out_38 at hq
  refine x_aload_n 0 dX9_out_38 rfl ?_
  obtain ⟨g1, hq⟩ := hq
  refine x_get (v := .int (fI h x0 2334)) fdX9_491 dX9_out_39 g1 rfl ?_
  exact uX9_out_42 hq
set_option maxRecDepth 100000 in
def bX9_out (G : xG) (fr lo : Nat) (x0 : Nat) (x1 : Int32) (x2 : Int32) (x3 : Int32) (x4 : Int32) (h : xH) (Q : Outcome → xH → Prop) : Prop := tg h x0 = 10 ∧ tg h (fR h x0 2306) = 12 ∧ tg h (fR h (fR h x0 2306) 2817) = 100 ∧ vp_in x1 (ln h (fR h (fR h x0 2306) 2817)) ∧ (((aI h (fR h (fR h x0 2306) 2817) (Int32.toNatClampNeg x1)) = 2 → ((x3 = 0 → bX9_out_38 G fr lo x0 x1 x2 x4 h Q) ∧ (¬ x3 = 0 → (((fI h x0 2334) ≤ x2 → bX9_out_38 G fr lo x0 x1 x2 x4 h Q) ∧ (¬ (fI h x0 2334) ≤ x2 → bX9_out_42 G fr lo x0 x1 x2 x4 x2 h Q))))) ∧ (¬ (aI h (fR h (fR h x0 2306) 2817) (Int32.toNatClampNeg x1)) = 2 → 1 ≤ fr ∧ 14 ≤ lo ∧ xRv G YX9_fail (fr - 1) (lo - 14) [rv x0, .int 10, .int x4] h (fun h10 => xext h h10 → Q (.returned none) h10) (fun r h2 => Q (.threw r) h2)))
set_option maxRecDepth 100000 in
theorem uX9_out {G : xG} {fr lo : Nat} {x0 : Nat} {x1 : Int32} {x2 : Int32} {x3 : Int32} {x4 : Int32} {h : xH} {Q : Outcome → xH → Prop} (hq : bX9_out G fr lo x0 x1 x2 x3 x4 h Q) : xP G YX9_out fr lo 0 [(0, rv x0), (1, .int x1), (2, .int x2), (3, .int x3), (4, .int x4)] [] h Q := by
  unfold bX9_out at hq
  refine x_aload_n 0 dX9_out_0 rfl ?_
  obtain ⟨g1, hq⟩ := hq
  refine x_get (v := rv (fR h x0 2306)) fdX9_23 dX9_out_1 g1 rfl ?_
  obtain ⟨g2, hq⟩ := hq
  refine x_getN (v := rv (fR h (fR h x0 2306) 2817)) gfX9_429 dX9_out_4 g2 rfl ?_
  refine x_iload_n 1 dX9_out_7 rfl ?_
  obtain ⟨g3, hq⟩ := hq
  obtain ⟨i4, hq⟩ := hq
  refine x_iald 0 (Or.inl rfl) g3 i4 dX9_out_8 ?_
  refine x_iconst (v := 2) dX9_out_9 (by decide) ?_
  refine x_icmp_eq (tgt := 22) dX9_out_10 (by decide) (fun c5 => ?_) (fun c5 => ?_)
  · replace hq := hq.1 c5
    refine x_iload_n 3 dX9_out_22 rfl ?_
    refine x_if_eq (tgt := 38) dX9_out_23 (by decide) (fun c6 => ?_) (fun c6 => ?_)
    · replace hq := hq.1 c6
      refine xP.pick (lv' := [(0, rv x0), (1, .int x1), (2, .int x2), (4, .int x4)]) [0, 1, 2, 4] rfl ?_
      exact uX9_out_38 hq
    · replace hq := hq.2 c6
      refine x_aload_n 0 dX9_out_26 rfl ?_
      refine x_get (v := .int (fI h x0 2334)) fdX9_491 dX9_out_27 g1 rfl ?_
      refine x_iload_n 2 dX9_out_30 rfl ?_
      refine x_icmp_le (tgt := 38) dX9_out_31 (by decide) (fun c7 => ?_) (fun c7 => ?_)
      · replace hq := hq.1 c7
        refine xP.pick (lv' := [(0, rv x0), (1, .int x1), (2, .int x2), (4, .int x4)]) [0, 1, 2, 4] rfl ?_
        exact uX9_out_38 hq
      · replace hq := hq.2 c7
        refine x_iload_n 2 dX9_out_34 rfl ?_
        refine x_goto (tgt := 42) dX9_out_35 (by decide) ?_
        refine xP.pick (lv' := [(0, rv x0), (1, .int x1), (2, .int x2), (4, .int x4)]) [0, 1, 2, 4] rfl ?_
        exact uX9_out_42 hq
  · replace hq := hq.2 c5
    refine x_aload_n 0 dX9_out_13 rfl ?_
    refine x_bipush (v := 10) dX9_out_14 (by decide) ?_
    refine x_iload 4 dX9_out_16 rfl ?_
    obtain ⟨g8, g9, hq⟩ := hq
    refine x_callV (Yc := YX9_fail) (as := [.int 10, .int x4]) (st := []) q2835 mvX9_fail g1 rfl dX9_out_18 (xle (xal1 (rv_cat _) (xal1 rfl (xal1 rfl xal0))) (by decide)) (xfr g8) (xlo xsw0 (by decide) g9) (xKv hq (fun h10 hq e12 => ?_) (fun _ _ q _ => q))
    replace hq := hq e12
    exact x_vret rfl dX9_out_21 hq
theorem rX9_out {G : xG} {fr lo : Nat} {x0 : Nat} {x1 : Int32} {x2 : Int32} {x3 : Int32} {x4 : Int32} {h : xH} {Q : Outcome → xH → Prop} (hq : bX9_out G fr lo x0 x1 x2 x3 x4 h Q) : xR G YX9_out fr lo [rv x0, .int x1, .int x2, .int x3, .int x4] h Q := by
  show xP _ _ _ _ _ (lv_args 0 _) _ _ _
  rw [show lv_args 0 [rv x0, .int x1, .int x2, .int x3, .int x4] = [(0, rv x0), (1, .int x1), (2, .int x2), (3, .int x3), (4, .int x4)] from (xla1 (rv_cat _) (xla1 rfl (xla1 rfl (xla1 rfl (xla1 rfl xla0)))))]
  exact uX9_out hq
set_option maxRecDepth 100000 in
theorem dX9_digits_0 : decode cX9_digits 0 = .ok (.iconst 1, 1) := by decide +kernel
set_option maxRecDepth 100000 in
theorem dX9_digits_1 : decode cX9_digits 1 = .ok (.istore 4, 2) := by decide +kernel
set_option maxRecDepth 100000 in
theorem dX9_digits_3 : decode cX9_digits 3 = .ok (.lconst 1, 1) := by decide +kernel
set_option maxRecDepth 100000 in
theorem dX9_digits_4 : decode cX9_digits 4 = .ok (.lstore 5, 2) := by decide +kernel
set_option maxRecDepth 100000 in
theorem dX9_digits_6 : decode cX9_digits 6 = .ok (.iload 4, 2) := by decide +kernel
set_option maxRecDepth 100000 in
theorem dX9_digits_8 : decode cX9_digits 8 = .ok (.iload_n 3, 1) := by decide +kernel
set_option maxRecDepth 100000 in
theorem dX9_digits_9 : decode cX9_digits 9 = .ok (.if_icmp .lt 14, 3) := by decide +kernel
set_option maxRecDepth 100000 in
theorem dX9_digits_12 : decode cX9_digits 12 = .ok (.lload_n 1, 1) := by decide +kernel
set_option maxRecDepth 100000 in
theorem dX9_digits_13 : decode cX9_digits 13 = .ok (.lload 5, 2) := by decide +kernel
set_option maxRecDepth 100000 in
theorem dX9_digits_15 : decode cX9_digits 15 = .ok (.ldiv, 1) := by decide +kernel
set_option maxRecDepth 100000 in
theorem dX9_digits_16 : decode cX9_digits 16 = .ok (.ldc2_w 506, 3) := by decide +kernel
set_option maxRecDepth 100000 in
theorem dX9_digits_19 : decode cX9_digits 19 = .ok (.lcmp, 1) := by decide +kernel
set_option maxRecDepth 100000 in
theorem dX9_digits_20 : decode cX9_digits 20 = .ok (.ifCond .le 17, 3) := by decide +kernel
set_option maxRecDepth 100000 in
theorem dX9_digits_23 : decode cX9_digits 23 = .ok (.lload 5, 2) := by decide +kernel
set_option maxRecDepth 100000 in
theorem dX9_digits_25 : decode cX9_digits 25 = .ok (.ldc2_w 479, 3) := by decide +kernel
set_option maxRecDepth 100000 in
theorem dX9_digits_28 : decode cX9_digits 28 = .ok (.lmul, 1) := by decide +kernel
set_option maxRecDepth 100000 in
theorem dX9_digits_29 : decode cX9_digits 29 = .ok (.lstore 5, 2) := by decide +kernel
set_option maxRecDepth 100000 in
theorem dX9_digits_31 : decode cX9_digits 31 = .ok (.iinc 4 1, 3) := by decide +kernel
set_option maxRecDepth 100000 in
theorem dX9_digits_34 : decode cX9_digits 34 = .ok (.goto (-28), 3) := by decide +kernel
set_option maxRecDepth 100000 in
theorem dX9_digits_37 : decode cX9_digits 37 = .ok (.lload 5, 2) := by decide +kernel
set_option maxRecDepth 100000 in
theorem dX9_digits_39 : decode cX9_digits 39 = .ok (.lconst 0, 1) := by decide +kernel
set_option maxRecDepth 100000 in
theorem dX9_digits_40 : decode cX9_digits 40 = .ok (.lcmp, 1) := by decide +kernel
set_option maxRecDepth 100000 in
theorem dX9_digits_41 : decode cX9_digits 41 = .ok (.ifCond .le 30, 3) := by decide +kernel
set_option maxRecDepth 100000 in
theorem dX9_digits_44 : decode cX9_digits 44 = .ok (.aload_n 0, 1) := by decide +kernel
set_option maxRecDepth 100000 in
theorem dX9_digits_45 : decode cX9_digits 45 = .ok (.bipush 48, 2) := by decide +kernel
set_option maxRecDepth 100000 in
theorem dX9_digits_47 : decode cX9_digits 47 = .ok (.lload_n 1, 1) := by decide +kernel
set_option maxRecDepth 100000 in
theorem dX9_digits_48 : decode cX9_digits 48 = .ok (.lload 5, 2) := by decide +kernel
set_option maxRecDepth 100000 in
theorem dX9_digits_50 : decode cX9_digits 50 = .ok (.ldiv, 1) := by decide +kernel
set_option maxRecDepth 100000 in
theorem dX9_digits_51 : decode cX9_digits 51 = .ok (.ldc2_w 479, 3) := by decide +kernel
set_option maxRecDepth 100000 in
theorem dX9_digits_54 : decode cX9_digits 54 = .ok (.lrem, 1) := by decide +kernel
set_option maxRecDepth 100000 in
theorem dX9_digits_55 : decode cX9_digits 55 = .ok (.l2i, 1) := by decide +kernel
set_option maxRecDepth 100000 in
theorem dX9_digits_56 : decode cX9_digits 56 = .ok (.iadd, 1) := by decide +kernel
set_option maxRecDepth 100000 in
theorem dX9_digits_57 : decode cX9_digits 57 = .ok (.invokevirtual 503, 3) := by decide +kernel
set_option maxRecDepth 100000 in
theorem dX9_digits_60 : decode cX9_digits 60 = .ok (.lload 5, 2) := by decide +kernel
set_option maxRecDepth 100000 in
theorem dX9_digits_62 : decode cX9_digits 62 = .ok (.ldc2_w 479, 3) := by decide +kernel
set_option maxRecDepth 100000 in
theorem dX9_digits_65 : decode cX9_digits 65 = .ok (.ldiv, 1) := by decide +kernel
set_option maxRecDepth 100000 in
theorem dX9_digits_66 : decode cX9_digits 66 = .ok (.lstore 5, 2) := by decide +kernel
set_option maxRecDepth 100000 in
theorem dX9_digits_68 : decode cX9_digits 68 = .ok (.goto (-31), 3) := by decide +kernel
set_option maxRecDepth 100000 in
theorem dX9_digits_71 : decode cX9_digits 71 = .ok (.return_, 1) := by decide +kernel
def lX9_digits_6 (G : xG) (fr lo : Nat) (x0 : Nat) (x1 : Int64) (x3 : Int32) (x4 : Int32) (x5 : Int64) (h : xH) (Q : Outcome → xH → Prop) : Prop := xP G YX9_digits fr lo 6 [(0, rv x0), (1, .long x1), (3, .int x3), (4, .int x4), (5, .long x5)] [] h Q
def lX9_digits_37 (G : xG) (fr lo : Nat) (x0 : Nat) (x1 : Int64) (x5 : Int64) (h : xH) (Q : Outcome → xH → Prop) : Prop := xP G YX9_digits fr lo 37 [(0, rv x0), (1, .long x1), (5, .long x5)] [] h Q
set_option maxRecDepth 100000 in
def bX9_digits_37 (G : xG) (fr lo : Nat) (x0 : Nat) (x1 : Int64) (x5 : Int64) (h : xH) (Q : Outcome → xH → Prop) : Prop := (((lg_cmp x5 0) ≤ 0 → Q (.returned none) h) ∧ (¬ (lg_cmp x5 0) ≤ 0 → ¬ x5 = 0 ∧ tg h x0 = 10 ∧ 1 ≤ fr ∧ 13 ≤ lo ∧ xRv G YX9_letter (fr - 1) (lo - 13) [rv x0, .int (48 + (Int64.toInt32 ((x1 / x5) - (x1 / x5) / 10 * 10)))] h (fun h6 => xext h h6 → lX9_digits_37 G fr lo x0 x1 (x5 / 10) h6 Q) (fun r h2 => Q (.threw r) h2)))
set_option maxRecDepth 100000 in
theorem uX9_digits_37 {G : xG} {fr lo : Nat} {x0 : Nat} {x1 : Int64} {x5 : Int64} {h : xH} {Q : Outcome → xH → Prop} (hq : bX9_digits_37 G fr lo x0 x1 x5 h Q) : xP G YX9_digits fr lo 37 [(0, rv x0), (1, .long x1), (5, .long x5)] [] h Q := by
  unfold bX9_digits_37 at hq
  refine x_lload 2 dX9_digits_37 rfl ?_
  refine x_lconst (v := 0) dX9_digits_39 (by decide) ?_
  refine x_lcmp dX9_digits_40 ?_
  refine x_if_le (tgt := 71) dX9_digits_41 (by decide) (fun c1 => ?_) (fun c1 => ?_)
  · replace hq := hq.1 c1
    exact x_vret rfl dX9_digits_71 hq
  · replace hq := hq.2 c1
    refine x_aload_n 0 dX9_digits_44 rfl ?_
    refine x_bipush (v := 48) dX9_digits_45 (by decide) ?_
    refine x_lload_n 1 dX9_digits_47 rfl ?_
    refine x_lload 2 dX9_digits_48 rfl ?_
    obtain ⟨g2, hq⟩ := hq
    refine x_ldiv dX9_digits_50 g2 ?_
    refine x_ldc2 (v := 10) q3106 dX9_digits_51 ?_
    refine x_lrem dX9_digits_54 (by decide) ?_
    refine x_l2i dX9_digits_55 ?_
    refine x_iadd dX9_digits_56 ?_
    obtain ⟨g3, hq⟩ := hq
    obtain ⟨g4, g5, hq⟩ := hq
    refine x_callV (Yc := YX9_letter) (as := [.int (48 + (Int64.toInt32 ((x1 / x5) - (x1 / x5) / 10 * 10)))]) (st := []) q3084 mvX9_letter g3 rfl dX9_digits_57 (xle (xal1 (rv_cat _) (xal1 rfl xal0)) (by decide)) (xfr g4) (xlo xsw0 (by decide) g5) (xKv hq (fun h6 hq e8 => ?_) (fun _ _ q _ => q))
    replace hq := hq e8
    refine x_lload 2 dX9_digits_60 rfl ?_
    refine x_ldc2 (v := 10) q3106 dX9_digits_62 ?_
    refine x_ldiv dX9_digits_65 (by decide) ?_
    refine x_lstore (lv' := [(5, .long (x5 / 10)), (0, rv x0), (1, .long x1)]) dX9_digits_66 (by decide) rfl ?_
    refine x_goto (tgt := 37) dX9_digits_68 (by decide) ?_
    refine xP.pick (lv' := [(0, rv x0), (1, .long x1), (5, .long (x5 / 10))]) [1, 2, 0] rfl ?_
    exact hq
set_option maxRecDepth 100000 in
def bX9_digits_23 (G : xG) (fr lo : Nat) (x0 : Nat) (x1 : Int64) (x3 : Int32) (x4 : Int32) (x5 : Int64) (h : xH) (Q : Outcome → xH → Prop) : Prop := lX9_digits_6 G fr lo x0 x1 x3 (x4 + 1) (x5 * 10) h Q
set_option maxRecDepth 100000 in
theorem uX9_digits_23 {G : xG} {fr lo : Nat} {x0 : Nat} {x1 : Int64} {x3 : Int32} {x4 : Int32} {x5 : Int64} {h : xH} {Q : Outcome → xH → Prop} (hq : bX9_digits_23 G fr lo x0 x1 x3 x4 x5 h Q) : xP G YX9_digits fr lo 23 [(0, rv x0), (1, .long x1), (3, .int x3), (4, .int x4), (5, .long x5)] [] h Q := by
  unfold bX9_digits_23 at hq
  refine x_lload 4 dX9_digits_23 rfl ?_
  refine x_ldc2 (v := 10) q3106 dX9_digits_25 ?_
  refine x_lmul dX9_digits_28 ?_
  refine x_lstore (lv' := [(5, .long (x5 * 10)), (0, rv x0), (1, .long x1), (3, .int x3), (4, .int x4)]) dX9_digits_29 (by decide) rfl ?_
  refine x_iinc (lv' := [(4, .int (x4 + 1)), (5, .long (x5 * 10)), (0, rv x0), (1, .long x1), (3, .int x3)]) 4 dX9_digits_31 rfl (by decide) rfl ?_
  refine x_goto (tgt := 6) dX9_digits_34 (by decide) ?_
  refine xP.pick (lv' := [(0, rv x0), (1, .long x1), (3, .int x3), (4, .int (x4 + 1)), (5, .long (x5 * 10))]) [2, 3, 4, 0, 1] rfl ?_
  exact hq
set_option maxRecDepth 100000 in
def bX9_digits_6 (G : xG) (fr lo : Nat) (x0 : Nat) (x1 : Int64) (x3 : Int32) (x4 : Int32) (x5 : Int64) (h : xH) (Q : Outcome → xH → Prop) : Prop := ((x4 < x3 → bX9_digits_23 G fr lo x0 x1 x3 x4 x5 h Q) ∧ (¬ x4 < x3 → ¬ x5 = 0 ∧ (((lg_cmp (x1 / x5) 9) ≤ 0 → lX9_digits_37 G fr lo x0 x1 x5 h Q) ∧ (¬ (lg_cmp (x1 / x5) 9) ≤ 0 → bX9_digits_23 G fr lo x0 x1 x3 x4 x5 h Q))))
set_option maxRecDepth 100000 in
theorem uX9_digits_6 {G : xG} {fr lo : Nat} {x0 : Nat} {x1 : Int64} {x3 : Int32} {x4 : Int32} {x5 : Int64} {h : xH} {Q : Outcome → xH → Prop} (hq : bX9_digits_6 G fr lo x0 x1 x3 x4 x5 h Q) : xP G YX9_digits fr lo 6 [(0, rv x0), (1, .long x1), (3, .int x3), (4, .int x4), (5, .long x5)] [] h Q := by
  unfold bX9_digits_6 at hq
  refine x_iload 3 dX9_digits_6 rfl ?_
  refine x_iload_n 2 dX9_digits_8 rfl ?_
  refine x_icmp_lt (tgt := 23) dX9_digits_9 (by decide) (fun c1 => ?_) (fun c1 => ?_)
  · replace hq := hq.1 c1
    exact uX9_digits_23 hq
  · replace hq := hq.2 c1
    refine x_lload_n 1 dX9_digits_12 rfl ?_
    refine x_lload 4 dX9_digits_13 rfl ?_
    obtain ⟨g2, hq⟩ := hq
    refine x_ldiv dX9_digits_15 g2 ?_
    refine x_ldc2 (v := 9) q3101 dX9_digits_16 ?_
    refine x_lcmp dX9_digits_19 ?_
    refine x_if_le (tgt := 37) dX9_digits_20 (by decide) (fun c3 => ?_) (fun c3 => ?_)
    · replace hq := hq.1 c3
      refine xP.pick (lv' := [(0, rv x0), (1, .long x1), (5, .long x5)]) [0, 1, 4] rfl ?_
      exact hq
    · replace hq := hq.2 c3
      exact uX9_digits_23 hq
set_option maxRecDepth 100000 in
def bX9_digits (G : xG) (fr lo : Nat) (x0 : Nat) (x1 : Int64) (x3 : Int32) (h : xH) (Q : Outcome → xH → Prop) : Prop := lX9_digits_6 G fr lo x0 x1 x3 1 1 h Q
set_option maxRecDepth 100000 in
theorem uX9_digits {G : xG} {fr lo : Nat} {x0 : Nat} {x1 : Int64} {x3 : Int32} {h : xH} {Q : Outcome → xH → Prop} (hq : bX9_digits G fr lo x0 x1 x3 h Q) : xP G YX9_digits fr lo 0 [(0, rv x0), (1, .long x1), (3, .int x3)] [] h Q := by
  unfold bX9_digits at hq
  refine x_iconst (v := 1) dX9_digits_0 (by decide) ?_
  refine x_istore (lv' := [(4, .int 1), (0, rv x0), (1, .long x1), (3, .int x3)]) dX9_digits_1 (by decide) rfl ?_
  refine x_lconst (v := 1) dX9_digits_3 (by decide) ?_
  refine x_lstore (lv' := [(5, .long 1), (4, .int 1), (0, rv x0), (1, .long x1), (3, .int x3)]) dX9_digits_4 (by decide) rfl ?_
  refine xP.pick (lv' := [(0, rv x0), (1, .long x1), (3, .int x3), (4, .int 1), (5, .long 1)]) [2, 3, 4, 1, 0] rfl ?_
  exact hq
theorem rX9_digits {G : xG} {fr lo : Nat} {x0 : Nat} {x1 : Int64} {x3 : Int32} {h : xH} {Q : Outcome → xH → Prop} (hq : bX9_digits G fr lo x0 x1 x3 h Q) : xR G YX9_digits fr lo [rv x0, .long x1, .int x3] h Q := by
  show xP _ _ _ _ _ (lv_args 0 _) _ _ _
  rw [show lv_args 0 [rv x0, .long x1, .int x3] = [(0, rv x0), (1, .long x1), (3, .int x3)] from (xla1 (rv_cat _) (xla2 rfl (xla1 rfl xla0)))]
  exact uX9_digits hq
set_option maxRecDepth 100000 in
theorem dX9_fractions_0 : decode cX9_fractions 0 = .ok (.dload_n 1, 1) := by decide +kernel
set_option maxRecDepth 100000 in
theorem dX9_fractions_1 : decode cX9_fractions 1 = .ok (.dconst 0, 1) := by decide +kernel
set_option maxRecDepth 100000 in
theorem dX9_fractions_2 : decode cX9_fractions 2 = .ok (.dcmp .g, 1) := by decide +kernel
set_option maxRecDepth 100000 in
theorem dX9_fractions_3 : decode cX9_fractions 3 = .ok (.ifCond .ge 8, 3) := by decide +kernel
set_option maxRecDepth 100000 in
theorem dX9_fractions_6 : decode cX9_fractions 6 = .ok (.dload_n 1, 1) := by decide +kernel
set_option maxRecDepth 100000 in
theorem dX9_fractions_7 : decode cX9_fractions 7 = .ok (.dneg, 1) := by decide +kernel
set_option maxRecDepth 100000 in
theorem dX9_fractions_8 : decode cX9_fractions 8 = .ok (.goto 4, 3) := by decide +kernel
set_option maxRecDepth 100000 in
theorem dX9_fractions_11 : decode cX9_fractions 11 = .ok (.dload_n 1, 1) := by decide +kernel
set_option maxRecDepth 100000 in
theorem dX9_fractions_12 : decode cX9_fractions 12 = .ok (.dstore 5, 2) := by decide +kernel
set_option maxRecDepth 100000 in
theorem dX9_fractions_14 : decode cX9_fractions 14 = .ok (.iload 4, 2) := by decide +kernel
set_option maxRecDepth 100000 in
theorem dX9_fractions_16 : decode cX9_fractions 16 = .ok (.ifCond .le 83, 3) := by decide +kernel
set_option maxRecDepth 100000 in
theorem dX9_fractions_19 : decode cX9_fractions 19 = .ok (.dload 5, 2) := by decide +kernel
set_option maxRecDepth 100000 in
theorem dX9_fractions_21 : decode cX9_fractions 21 = .ok (.ldc2_w 543, 3) := by decide +kernel
set_option maxRecDepth 100000 in
theorem dX9_fractions_24 : decode cX9_fractions 24 = .ok (.dcmp .g, 1) := by decide +kernel
set_option maxRecDepth 100000 in
theorem dX9_fractions_25 : decode cX9_fractions 25 = .ok (.ifCond .ge 74, 3) := by decide +kernel
set_option maxRecDepth 100000 in
theorem dX9_fractions_28 : decode cX9_fractions 28 = .ok (.iload 4, 2) := by decide +kernel
set_option maxRecDepth 100000 in
theorem dX9_fractions_30 : decode cX9_fractions 30 = .ok (.invokestatic 545, 3) := by decide +kernel
set_option maxRecDepth 100000 in
theorem dX9_fractions_33 : decode cX9_fractions 33 = .ok (.dstore 7, 2) := by decide +kernel
set_option maxRecDepth 100000 in
theorem dX9_fractions_35 : decode cX9_fractions 35 = .ok (.dload 5, 2) := by decide +kernel
set_option maxRecDepth 100000 in
theorem dX9_fractions_37 : decode cX9_fractions 37 = .ok (.dload 7, 2) := by decide +kernel
set_option maxRecDepth 100000 in
theorem dX9_fractions_39 : decode cX9_fractions 39 = .ok (.dmul, 1) := by decide +kernel
set_option maxRecDepth 100000 in
theorem dX9_fractions_40 : decode cX9_fractions 40 = .ok (.ldc2_w 410, 3) := by decide +kernel
set_option maxRecDepth 100000 in
theorem dX9_fractions_43 : decode cX9_fractions 43 = .ok (.dadd, 1) := by decide +kernel
set_option maxRecDepth 100000 in
theorem dX9_fractions_44 : decode cX9_fractions 44 = .ok (.d2l, 1) := by decide +kernel
set_option maxRecDepth 100000 in
theorem dX9_fractions_45 : decode cX9_fractions 45 = .ok (.lstore 9, 2) := by decide +kernel
set_option maxRecDepth 100000 in
theorem dX9_fractions_47 : decode cX9_fractions 47 = .ok (.dload 7, 2) := by decide +kernel
set_option maxRecDepth 100000 in
theorem dX9_fractions_49 : decode cX9_fractions 49 = .ok (.d2l, 1) := by decide +kernel
set_option maxRecDepth 100000 in
theorem dX9_fractions_50 : decode cX9_fractions 50 = .ok (.lstore 11, 2) := by decide +kernel
set_option maxRecDepth 100000 in
theorem dX9_fractions_52 : decode cX9_fractions 52 = .ok (.dload_n 1, 1) := by decide +kernel
set_option maxRecDepth 100000 in
theorem dX9_fractions_53 : decode cX9_fractions 53 = .ok (.dconst 0, 1) := by decide +kernel
set_option maxRecDepth 100000 in
theorem dX9_fractions_54 : decode cX9_fractions 54 = .ok (.dcmp .g, 1) := by decide +kernel
set_option maxRecDepth 100000 in
theorem dX9_fractions_55 : decode cX9_fractions 55 = .ok (.ifCond .ge 16, 3) := by decide +kernel
set_option maxRecDepth 100000 in
theorem dX9_fractions_58 : decode cX9_fractions 58 = .ok (.lload 9, 2) := by decide +kernel
set_option maxRecDepth 100000 in
theorem dX9_fractions_60 : decode cX9_fractions 60 = .ok (.lconst 0, 1) := by decide +kernel
set_option maxRecDepth 100000 in
theorem dX9_fractions_61 : decode cX9_fractions 61 = .ok (.lcmp, 1) := by decide +kernel
set_option maxRecDepth 100000 in
theorem dX9_fractions_62 : decode cX9_fractions 62 = .ok (.ifCond .le 9, 3) := by decide +kernel
set_option maxRecDepth 100000 in
theorem dX9_fractions_65 : decode cX9_fractions 65 = .ok (.aload_n 0, 1) := by decide +kernel
set_option maxRecDepth 100000 in
theorem dX9_fractions_66 : decode cX9_fractions 66 = .ok (.bipush 45, 2) := by decide +kernel
set_option maxRecDepth 100000 in
theorem dX9_fractions_68 : decode cX9_fractions 68 = .ok (.invokevirtual 503, 3) := by decide +kernel
set_option maxRecDepth 100000 in
theorem dX9_fractions_71 : decode cX9_fractions 71 = .ok (.aload_n 0, 1) := by decide +kernel
set_option maxRecDepth 100000 in
theorem dX9_fractions_72 : decode cX9_fractions 72 = .ok (.lload 9, 2) := by decide +kernel
set_option maxRecDepth 100000 in
theorem dX9_fractions_74 : decode cX9_fractions 74 = .ok (.lload 11, 2) := by decide +kernel
set_option maxRecDepth 100000 in
theorem dX9_fractions_76 : decode cX9_fractions 76 = .ok (.ldiv, 1) := by decide +kernel
set_option maxRecDepth 100000 in
theorem dX9_fractions_77 : decode cX9_fractions 77 = .ok (.iconst 1, 1) := by decide +kernel
set_option maxRecDepth 100000 in
theorem dX9_fractions_78 : decode cX9_fractions 78 = .ok (.invokevirtual 519, 3) := by decide +kernel
set_option maxRecDepth 100000 in
theorem dX9_fractions_81 : decode cX9_fractions 81 = .ok (.aload_n 0, 1) := by decide +kernel
set_option maxRecDepth 100000 in
theorem dX9_fractions_82 : decode cX9_fractions 82 = .ok (.bipush 46, 2) := by decide +kernel
set_option maxRecDepth 100000 in
theorem dX9_fractions_84 : decode cX9_fractions 84 = .ok (.invokevirtual 503, 3) := by decide +kernel
set_option maxRecDepth 100000 in
theorem dX9_fractions_87 : decode cX9_fractions 87 = .ok (.aload_n 0, 1) := by decide +kernel
set_option maxRecDepth 100000 in
theorem dX9_fractions_88 : decode cX9_fractions 88 = .ok (.lload 9, 2) := by decide +kernel
set_option maxRecDepth 100000 in
theorem dX9_fractions_90 : decode cX9_fractions 90 = .ok (.lload 11, 2) := by decide +kernel
set_option maxRecDepth 100000 in
theorem dX9_fractions_92 : decode cX9_fractions 92 = .ok (.lrem, 1) := by decide +kernel
set_option maxRecDepth 100000 in
theorem dX9_fractions_93 : decode cX9_fractions 93 = .ok (.iload 4, 2) := by decide +kernel
set_option maxRecDepth 100000 in
theorem dX9_fractions_95 : decode cX9_fractions 95 = .ok (.invokevirtual 519, 3) := by decide +kernel
set_option maxRecDepth 100000 in
theorem dX9_fractions_98 : decode cX9_fractions 98 = .ok (.return_, 1) := by decide +kernel
set_option maxRecDepth 100000 in
theorem dX9_fractions_99 : decode cX9_fractions 99 = .ok (.iload_n 3, 1) := by decide +kernel
set_option maxRecDepth 100000 in
theorem dX9_fractions_100 : decode cX9_fractions 100 = .ok (.bipush 8, 2) := by decide +kernel
set_option maxRecDepth 100000 in
theorem dX9_fractions_102 : decode cX9_fractions 102 = .ok (.if_icmp .ge 7, 3) := by decide +kernel
set_option maxRecDepth 100000 in
theorem dX9_fractions_105 : decode cX9_fractions 105 = .ok (.iconst 1, 1) := by decide +kernel
set_option maxRecDepth 100000 in
theorem dX9_fractions_106 : decode cX9_fractions 106 = .ok (.goto 21, 3) := by decide +kernel
set_option maxRecDepth 100000 in
theorem dX9_fractions_109 : decode cX9_fractions 109 = .ok (.iload_n 3, 1) := by decide +kernel
set_option maxRecDepth 100000 in
theorem dX9_fractions_110 : decode cX9_fractions 110 = .ok (.bipush 7, 2) := by decide +kernel
set_option maxRecDepth 100000 in
theorem dX9_fractions_112 : decode cX9_fractions 112 = .ok (.isub, 1) := by decide +kernel
set_option maxRecDepth 100000 in
theorem dX9_fractions_113 : decode cX9_fractions 113 = .ok (.bipush 12, 2) := by decide +kernel
set_option maxRecDepth 100000 in
theorem dX9_fractions_115 : decode cX9_fractions 115 = .ok (.if_icmp .le 8, 3) := by decide +kernel
set_option maxRecDepth 100000 in
theorem dX9_fractions_118 : decode cX9_fractions 118 = .ok (.bipush 12, 2) := by decide +kernel
set_option maxRecDepth 100000 in
theorem dX9_fractions_120 : decode cX9_fractions 120 = .ok (.goto 7, 3) := by decide +kernel
set_option maxRecDepth 100000 in
theorem dX9_fractions_123 : decode cX9_fractions 123 = .ok (.iload_n 3, 1) := by decide +kernel
set_option maxRecDepth 100000 in
theorem dX9_fractions_124 : decode cX9_fractions 124 = .ok (.bipush 7, 2) := by decide +kernel
set_option maxRecDepth 100000 in
theorem dX9_fractions_126 : decode cX9_fractions 126 = .ok (.isub, 1) := by decide +kernel
set_option maxRecDepth 100000 in
theorem dX9_fractions_127 : decode cX9_fractions 127 = .ok (.istore 7, 2) := by decide +kernel
set_option maxRecDepth 100000 in
theorem dX9_fractions_129 : decode cX9_fractions 129 = .ok (.iconst 0, 1) := by decide +kernel
set_option maxRecDepth 100000 in
theorem dX9_fractions_130 : decode cX9_fractions 130 = .ok (.istore 8, 2) := by decide +kernel
set_option maxRecDepth 100000 in
theorem dX9_fractions_132 : decode cX9_fractions 132 = .ok (.dload 5, 2) := by decide +kernel
set_option maxRecDepth 100000 in
theorem dX9_fractions_134 : decode cX9_fractions 134 = .ok (.ldc2_w 549, 3) := by decide +kernel
set_option maxRecDepth 100000 in
theorem dX9_fractions_137 : decode cX9_fractions 137 = .ok (.dcmp .l, 1) := by decide +kernel
set_option maxRecDepth 100000 in
theorem dX9_fractions_138 : decode cX9_fractions 138 = .ok (.ifCond .lt 17, 3) := by decide +kernel
set_option maxRecDepth 100000 in
theorem dX9_fractions_141 : decode cX9_fractions 141 = .ok (.dload 5, 2) := by decide +kernel
set_option maxRecDepth 100000 in
theorem dX9_fractions_143 : decode cX9_fractions 143 = .ok (.ldc2_w 549, 3) := by decide +kernel
set_option maxRecDepth 100000 in
theorem dX9_fractions_146 : decode cX9_fractions 146 = .ok (.ddiv, 1) := by decide +kernel
set_option maxRecDepth 100000 in
theorem dX9_fractions_147 : decode cX9_fractions 147 = .ok (.dstore 5, 2) := by decide +kernel
set_option maxRecDepth 100000 in
theorem dX9_fractions_149 : decode cX9_fractions 149 = .ok (.iinc 8 1, 3) := by decide +kernel
set_option maxRecDepth 100000 in
theorem dX9_fractions_152 : decode cX9_fractions 152 = .ok (.goto (-20), 3) := by decide +kernel
set_option maxRecDepth 100000 in
theorem dX9_fractions_155 : decode cX9_fractions 155 = .ok (.dload 5, 2) := by decide +kernel
set_option maxRecDepth 100000 in
theorem dX9_fractions_157 : decode cX9_fractions 157 = .ok (.dconst 1, 1) := by decide +kernel
set_option maxRecDepth 100000 in
theorem dX9_fractions_158 : decode cX9_fractions 158 = .ok (.dcmp .g, 1) := by decide +kernel
set_option maxRecDepth 100000 in
theorem dX9_fractions_159 : decode cX9_fractions 159 = .ok (.ifCond .ge 24, 3) := by decide +kernel
set_option maxRecDepth 100000 in
theorem dX9_fractions_162 : decode cX9_fractions 162 = .ok (.dload 5, 2) := by decide +kernel
set_option maxRecDepth 100000 in
theorem dX9_fractions_164 : decode cX9_fractions 164 = .ok (.dconst 0, 1) := by decide +kernel
set_option maxRecDepth 100000 in
theorem dX9_fractions_165 : decode cX9_fractions 165 = .ok (.dcmp .l, 1) := by decide +kernel
set_option maxRecDepth 100000 in
theorem dX9_fractions_166 : decode cX9_fractions 166 = .ok (.ifCond .le 17, 3) := by decide +kernel
set_option maxRecDepth 100000 in
theorem dX9_fractions_169 : decode cX9_fractions 169 = .ok (.dload 5, 2) := by decide +kernel
set_option maxRecDepth 100000 in
theorem dX9_fractions_171 : decode cX9_fractions 171 = .ok (.ldc2_w 549, 3) := by decide +kernel
set_option maxRecDepth 100000 in
theorem dX9_fractions_174 : decode cX9_fractions 174 = .ok (.dmul, 1) := by decide +kernel
set_option maxRecDepth 100000 in
theorem dX9_fractions_175 : decode cX9_fractions 175 = .ok (.dstore 5, 2) := by decide +kernel
set_option maxRecDepth 100000 in
theorem dX9_fractions_177 : decode cX9_fractions 177 = .ok (.iinc 8 (-1), 3) := by decide +kernel
set_option maxRecDepth 100000 in
theorem dX9_fractions_180 : decode cX9_fractions 180 = .ok (.goto (-25), 3) := by decide +kernel
set_option maxRecDepth 100000 in
theorem dX9_fractions_183 : decode cX9_fractions 183 = .ok (.iload 7, 2) := by decide +kernel
set_option maxRecDepth 100000 in
theorem dX9_fractions_185 : decode cX9_fractions 185 = .ok (.invokestatic 545, 3) := by decide +kernel
set_option maxRecDepth 100000 in
theorem dX9_fractions_188 : decode cX9_fractions 188 = .ok (.dstore 9, 2) := by decide +kernel
set_option maxRecDepth 100000 in
theorem dX9_fractions_190 : decode cX9_fractions 190 = .ok (.dload 9, 2) := by decide +kernel
set_option maxRecDepth 100000 in
theorem dX9_fractions_192 : decode cX9_fractions 192 = .ok (.d2l, 1) := by decide +kernel
set_option maxRecDepth 100000 in
theorem dX9_fractions_193 : decode cX9_fractions 193 = .ok (.lstore 11, 2) := by decide +kernel
set_option maxRecDepth 100000 in
theorem dX9_fractions_195 : decode cX9_fractions 195 = .ok (.dload 5, 2) := by decide +kernel
set_option maxRecDepth 100000 in
theorem dX9_fractions_197 : decode cX9_fractions 197 = .ok (.dload 9, 2) := by decide +kernel
set_option maxRecDepth 100000 in
theorem dX9_fractions_199 : decode cX9_fractions 199 = .ok (.dmul, 1) := by decide +kernel
set_option maxRecDepth 100000 in
theorem dX9_fractions_200 : decode cX9_fractions 200 = .ok (.ldc2_w 410, 3) := by decide +kernel
set_option maxRecDepth 100000 in
theorem dX9_fractions_203 : decode cX9_fractions 203 = .ok (.dadd, 1) := by decide +kernel
set_option maxRecDepth 100000 in
theorem dX9_fractions_204 : decode cX9_fractions 204 = .ok (.d2l, 1) := by decide +kernel
set_option maxRecDepth 100000 in
theorem dX9_fractions_205 : decode cX9_fractions 205 = .ok (.lstore 13, 2) := by decide +kernel
set_option maxRecDepth 100000 in
theorem dX9_fractions_207 : decode cX9_fractions 207 = .ok (.lload 13, 2) := by decide +kernel
set_option maxRecDepth 100000 in
theorem dX9_fractions_209 : decode cX9_fractions 209 = .ok (.ldc2_w 479, 3) := by decide +kernel
set_option maxRecDepth 100000 in
theorem dX9_fractions_212 : decode cX9_fractions 212 = .ok (.lload 11, 2) := by decide +kernel
set_option maxRecDepth 100000 in
theorem dX9_fractions_214 : decode cX9_fractions 214 = .ok (.lmul, 1) := by decide +kernel
set_option maxRecDepth 100000 in
theorem dX9_fractions_215 : decode cX9_fractions 215 = .ok (.lcmp, 1) := by decide +kernel
set_option maxRecDepth 100000 in
theorem dX9_fractions_216 : decode cX9_fractions 216 = .ok (.ifCond .lt 14, 3) := by decide +kernel
set_option maxRecDepth 100000 in
theorem dX9_fractions_219 : decode cX9_fractions 219 = .ok (.lload 13, 2) := by decide +kernel
set_option maxRecDepth 100000 in
theorem dX9_fractions_221 : decode cX9_fractions 221 = .ok (.ldc2_w 479, 3) := by decide +kernel
set_option maxRecDepth 100000 in
theorem dX9_fractions_224 : decode cX9_fractions 224 = .ok (.ldiv, 1) := by decide +kernel
set_option maxRecDepth 100000 in
theorem dX9_fractions_225 : decode cX9_fractions 225 = .ok (.lstore 13, 2) := by decide +kernel
set_option maxRecDepth 100000 in
theorem dX9_fractions_227 : decode cX9_fractions 227 = .ok (.iinc 8 1, 3) := by decide +kernel
set_option maxRecDepth 100000 in
theorem dX9_fractions_230 : decode cX9_fractions 230 = .ok (.aload_n 0, 1) := by decide +kernel
set_option maxRecDepth 100000 in
theorem dX9_fractions_231 : decode cX9_fractions 231 = .ok (.dload_n 1, 1) := by decide +kernel
set_option maxRecDepth 100000 in
theorem dX9_fractions_232 : decode cX9_fractions 232 = .ok (.dconst 0, 1) := by decide +kernel
set_option maxRecDepth 100000 in
theorem dX9_fractions_233 : decode cX9_fractions 233 = .ok (.dcmp .g, 1) := by decide +kernel
set_option maxRecDepth 100000 in
theorem dX9_fractions_234 : decode cX9_fractions 234 = .ok (.ifCond .ge 8, 3) := by decide +kernel
set_option maxRecDepth 100000 in
theorem dX9_fractions_237 : decode cX9_fractions 237 = .ok (.bipush 45, 2) := by decide +kernel
set_option maxRecDepth 100000 in
theorem dX9_fractions_239 : decode cX9_fractions 239 = .ok (.goto 5, 3) := by decide +kernel
set_option maxRecDepth 100000 in
theorem dX9_fractions_242 : decode cX9_fractions 242 = .ok (.bipush 32, 2) := by decide +kernel
set_option maxRecDepth 100000 in
theorem dX9_fractions_244 : decode cX9_fractions 244 = .ok (.invokevirtual 503, 3) := by decide +kernel
set_option maxRecDepth 100000 in
theorem dX9_fractions_247 : decode cX9_fractions 247 = .ok (.aload_n 0, 1) := by decide +kernel
set_option maxRecDepth 100000 in
theorem dX9_fractions_248 : decode cX9_fractions 248 = .ok (.lload 13, 2) := by decide +kernel
set_option maxRecDepth 100000 in
theorem dX9_fractions_250 : decode cX9_fractions 250 = .ok (.lload 11, 2) := by decide +kernel
set_option maxRecDepth 100000 in
theorem dX9_fractions_252 : decode cX9_fractions 252 = .ok (.ldiv, 1) := by decide +kernel
set_option maxRecDepth 100000 in
theorem dX9_fractions_253 : decode cX9_fractions 253 = .ok (.iconst 1, 1) := by decide +kernel
set_option maxRecDepth 100000 in
theorem dX9_fractions_254 : decode cX9_fractions 254 = .ok (.invokevirtual 519, 3) := by decide +kernel
set_option maxRecDepth 100000 in
theorem dX9_fractions_257 : decode cX9_fractions 257 = .ok (.aload_n 0, 1) := by decide +kernel
set_option maxRecDepth 100000 in
theorem dX9_fractions_258 : decode cX9_fractions 258 = .ok (.bipush 46, 2) := by decide +kernel
set_option maxRecDepth 100000 in
theorem dX9_fractions_260 : decode cX9_fractions 260 = .ok (.invokevirtual 503, 3) := by decide +kernel
set_option maxRecDepth 100000 in
theorem dX9_fractions_263 : decode cX9_fractions 263 = .ok (.aload_n 0, 1) := by decide +kernel
set_option maxRecDepth 100000 in
theorem dX9_fractions_264 : decode cX9_fractions 264 = .ok (.lload 13, 2) := by decide +kernel
set_option maxRecDepth 100000 in
theorem dX9_fractions_266 : decode cX9_fractions 266 = .ok (.lload 11, 2) := by decide +kernel
set_option maxRecDepth 100000 in
theorem dX9_fractions_268 : decode cX9_fractions 268 = .ok (.lrem, 1) := by decide +kernel
set_option maxRecDepth 100000 in
theorem dX9_fractions_269 : decode cX9_fractions 269 = .ok (.iload 7, 2) := by decide +kernel
set_option maxRecDepth 100000 in
theorem dX9_fractions_271 : decode cX9_fractions 271 = .ok (.invokevirtual 519, 3) := by decide +kernel
set_option maxRecDepth 100000 in
theorem dX9_fractions_274 : decode cX9_fractions 274 = .ok (.aload_n 0, 1) := by decide +kernel
set_option maxRecDepth 100000 in
theorem dX9_fractions_275 : decode cX9_fractions 275 = .ok (.bipush 101, 2) := by decide +kernel
set_option maxRecDepth 100000 in
theorem dX9_fractions_277 : decode cX9_fractions 277 = .ok (.invokevirtual 503, 3) := by decide +kernel
set_option maxRecDepth 100000 in
theorem dX9_fractions_280 : decode cX9_fractions 280 = .ok (.aload_n 0, 1) := by decide +kernel
set_option maxRecDepth 100000 in
theorem dX9_fractions_281 : decode cX9_fractions 281 = .ok (.iload 8, 2) := by decide +kernel
set_option maxRecDepth 100000 in
theorem dX9_fractions_283 : decode cX9_fractions 283 = .ok (.ifCond .ge 8, 3) := by decide +kernel
set_option maxRecDepth 100000 in
theorem dX9_fractions_286 : decode cX9_fractions 286 = .ok (.bipush 45, 2) := by decide +kernel
set_option maxRecDepth 100000 in
theorem dX9_fractions_288 : decode cX9_fractions 288 = .ok (.goto 5, 3) := by decide +kernel
set_option maxRecDepth 100000 in
theorem dX9_fractions_291 : decode cX9_fractions 291 = .ok (.bipush 43, 2) := by decide +kernel
set_option maxRecDepth 100000 in
theorem dX9_fractions_293 : decode cX9_fractions 293 = .ok (.invokevirtual 503, 3) := by decide +kernel
set_option maxRecDepth 100000 in
theorem dX9_fractions_296 : decode cX9_fractions 296 = .ok (.aload_n 0, 1) := by decide +kernel
set_option maxRecDepth 100000 in
theorem dX9_fractions_297 : decode cX9_fractions 297 = .ok (.iload 8, 2) := by decide +kernel
set_option maxRecDepth 100000 in
theorem dX9_fractions_299 : decode cX9_fractions 299 = .ok (.ifCond .ge 10, 3) := by decide +kernel
set_option maxRecDepth 100000 in
theorem dX9_fractions_302 : decode cX9_fractions 302 = .ok (.iload 8, 2) := by decide +kernel
set_option maxRecDepth 100000 in
theorem dX9_fractions_304 : decode cX9_fractions 304 = .ok (.ineg, 1) := by decide +kernel
set_option maxRecDepth 100000 in
theorem dX9_fractions_305 : decode cX9_fractions 305 = .ok (.i2l, 1) := by decide +kernel
set_option maxRecDepth 100000 in
theorem dX9_fractions_306 : decode cX9_fractions 306 = .ok (.goto 6, 3) := by decide +kernel
set_option maxRecDepth 100000 in
theorem dX9_fractions_309 : decode cX9_fractions 309 = .ok (.iload 8, 2) := by decide +kernel
set_option maxRecDepth 100000 in
theorem dX9_fractions_311 : decode cX9_fractions 311 = .ok (.i2l, 1) := by decide +kernel
set_option maxRecDepth 100000 in
theorem dX9_fractions_312 : decode cX9_fractions 312 = .ok (.iconst 2, 1) := by decide +kernel
set_option maxRecDepth 100000 in
theorem dX9_fractions_313 : decode cX9_fractions 313 = .ok (.invokevirtual 519, 3) := by decide +kernel
set_option maxRecDepth 100000 in
theorem dX9_fractions_316 : decode cX9_fractions 316 = .ok (.return_, 1) := by decide +kernel
def lX9_fractions_132 (G : xG) (fr lo : Nat) (x0 : Nat) (x1 : UInt64) (x5 : UInt64) (x7 : Int32) (x8 : Int32) (h : xH) (Q : Outcome → xH → Prop) : Prop := xP G YX9_fractions fr lo 132 [(0, rv x0), (1, .double x1), (5, .double x5), (7, .int x7), (8, .int x8)] [] h Q
def lX9_fractions_155 (G : xG) (fr lo : Nat) (x0 : Nat) (x1 : UInt64) (x5 : UInt64) (x7 : Int32) (x8 : Int32) (h : xH) (Q : Outcome → xH → Prop) : Prop := xP G YX9_fractions fr lo 155 [(0, rv x0), (1, .double x1), (5, .double x5), (7, .int x7), (8, .int x8)] [] h Q
set_option maxRecDepth 100000 in
def bX9_fractions_312 (G : xG) (fr lo : Nat) (s0 : Int64) (s1 : Nat) (h : xH) (Q : Outcome → xH → Prop) : Prop := tg h s1 = 10 ∧ 1 ≤ fr ∧ 18 ≤ lo ∧ xRv G YX9_digits (fr - 1) (lo - 18) [rv s1, .long s0, .int 2] h (fun h4 => xext h h4 → Q (.returned none) h4) (fun r h2 => Q (.threw r) h2)
set_option maxRecDepth 100000 in
theorem uX9_fractions_312 {G : xG} {fr lo : Nat} {s0 : Int64} {s1 : Nat} {h : xH} {Q : Outcome → xH → Prop} (hq : bX9_fractions_312 G fr lo s0 s1 h Q) : xP G YX9_fractions fr lo 312 [] [.long s0, rv s1] h Q := by
  unfold bX9_fractions_312 at hq
  refine x_iconst (v := 2) dX9_fractions_312 (by decide) ?_
  obtain ⟨g1, hq⟩ := hq
  obtain ⟨g2, g3, hq⟩ := hq
  refine x_callV (Yc := YX9_digits) (as := [.long s0, .int 2]) (st := []) q3102 mvX9_digits g1 rfl dX9_fractions_313 (xle (xal1 (rv_cat _) (xal2 rfl (xal1 rfl xal0))) (by decide)) (xfr g2) (xlo xsw0 (by decide) g3) (xKv hq (fun h4 hq e6 => ?_) (fun _ _ q _ => q))
  replace hq := hq e6
  exact x_vret rfl dX9_fractions_316 hq
set_option maxRecDepth 100000 in
def bX9_fractions_293 (G : xG) (fr lo : Nat) (x0 : Nat) (x8 : Int32) (s0 : Int32) (s1 : Nat) (h : xH) (Q : Outcome → xH → Prop) : Prop := tg h s1 = 10 ∧ 1 ≤ fr ∧ 13 ≤ lo ∧ xRv G YX9_letter (fr - 1) (lo - 13) [rv s1, .int s0] h (fun h4 => xext h h4 → ((0 ≤ x8 → bX9_fractions_312 G fr lo (Int32.toInt64 x8) x0 h4 Q) ∧ (¬ 0 ≤ x8 → bX9_fractions_312 G fr lo (Int32.toInt64 (-x8)) x0 h4 Q))) (fun r h2 => Q (.threw r) h2)
set_option maxRecDepth 100000 in
theorem uX9_fractions_293 {G : xG} {fr lo : Nat} {x0 : Nat} {x8 : Int32} {s0 : Int32} {s1 : Nat} {h : xH} {Q : Outcome → xH → Prop} (hq : bX9_fractions_293 G fr lo x0 x8 s0 s1 h Q) : xP G YX9_fractions fr lo 293 [(0, rv x0), (8, .int x8)] [.int s0, rv s1] h Q := by
  unfold bX9_fractions_293 at hq
  obtain ⟨g1, hq⟩ := hq
  obtain ⟨g2, g3, hq⟩ := hq
  refine x_callV (Yc := YX9_letter) (as := [.int s0]) (st := []) q3084 mvX9_letter g1 rfl dX9_fractions_293 (xle (xal1 (rv_cat _) (xal1 rfl xal0)) (by decide)) (xfr g2) (xlo xsw0 (by decide) g3) (xKv hq (fun h4 hq e6 => ?_) (fun _ _ q _ => q))
  replace hq := hq e6
  refine x_aload_n 0 dX9_fractions_296 rfl ?_
  refine x_iload 1 dX9_fractions_297 rfl ?_
  refine x_if_ge (tgt := 309) dX9_fractions_299 (by decide) (fun c7 => ?_) (fun c7 => ?_)
  · replace hq := hq.1 c7
    refine x_iload 1 dX9_fractions_309 rfl ?_
    refine x_i2l dX9_fractions_311 ?_
    refine xP.pick (lv' := []) [] rfl ?_
    exact uX9_fractions_312 hq
  · replace hq := hq.2 c7
    refine x_iload 1 dX9_fractions_302 rfl ?_
    refine x_ineg dX9_fractions_304 ?_
    refine x_i2l dX9_fractions_305 ?_
    refine x_goto (tgt := 312) dX9_fractions_306 (by decide) ?_
    refine xP.pick (lv' := []) [] rfl ?_
    exact uX9_fractions_312 hq
set_option maxRecDepth 100000 in
def bX9_fractions_244 (G : xG) (fr lo : Nat) (x0 : Nat) (x7 : Int32) (x8 : Int32) (x11 : Int64) (x13 : Int64) (s0 : Int32) (s1 : Nat) (h : xH) (Q : Outcome → xH → Prop) : Prop := tg h s1 = 10 ∧ 1 ≤ fr ∧ 13 ≤ lo ∧ xRv G YX9_letter (fr - 1) (lo - 13) [rv s1, .int s0] h (fun h4 => xext h h4 → ¬ x11 = 0 ∧ tg h4 x0 = 10 ∧ 1 ≤ fr ∧ 18 ≤ lo ∧ xRv G YX9_digits (fr - 1) (lo - 18) [rv x0, .long (x13 / x11), .int 1] h4 (fun h11 => xext h4 h11 → 1 ≤ fr ∧ 13 ≤ lo ∧ xRv G YX9_letter (fr - 1) (lo - 13) [rv x0, .int 46] h11 (fun h17 => xext h11 h17 → ¬ x11 = 0 ∧ 1 ≤ fr ∧ 18 ≤ lo ∧ xRv G YX9_digits (fr - 1) (lo - 18) [rv x0, .long (x13 - x13 / x11 * x11), .int x7] h17 (fun h24 => xext h17 h24 → 1 ≤ fr ∧ 13 ≤ lo ∧ xRv G YX9_letter (fr - 1) (lo - 13) [rv x0, .int 101] h24 (fun h30 => xext h24 h30 → ((0 ≤ x8 → bX9_fractions_293 G fr lo x0 x8 43 x0 h30 Q) ∧ (¬ 0 ≤ x8 → bX9_fractions_293 G fr lo x0 x8 45 x0 h30 Q))) (fun r h2 => Q (.threw r) h2)) (fun r h2 => Q (.threw r) h2)) (fun r h2 => Q (.threw r) h2)) (fun r h2 => Q (.threw r) h2)) (fun r h2 => Q (.threw r) h2)
set_option maxRecDepth 100000 in
theorem uX9_fractions_244 {G : xG} {fr lo : Nat} {x0 : Nat} {x7 : Int32} {x8 : Int32} {x11 : Int64} {x13 : Int64} {s0 : Int32} {s1 : Nat} {h : xH} {Q : Outcome → xH → Prop} (hq : bX9_fractions_244 G fr lo x0 x7 x8 x11 x13 s0 s1 h Q) : xP G YX9_fractions fr lo 244 [(0, rv x0), (7, .int x7), (8, .int x8), (11, .long x11), (13, .long x13)] [.int s0, rv s1] h Q := by
  unfold bX9_fractions_244 at hq
  obtain ⟨g1, hq⟩ := hq
  obtain ⟨g2, g3, hq⟩ := hq
  refine x_callV (Yc := YX9_letter) (as := [.int s0]) (st := []) q3084 mvX9_letter g1 rfl dX9_fractions_244 (xle (xal1 (rv_cat _) (xal1 rfl xal0)) (by decide)) (xfr g2) (xlo xsw0 (by decide) g3) (xKv hq (fun h4 hq e6 => ?_) (fun _ _ q _ => q))
  replace hq := hq e6
  refine x_aload_n 0 dX9_fractions_247 rfl ?_
  refine x_lload 4 dX9_fractions_248 rfl ?_
  refine x_lload 3 dX9_fractions_250 rfl ?_
  obtain ⟨g7, hq⟩ := hq
  refine x_ldiv dX9_fractions_252 g7 ?_
  refine x_iconst (v := 1) dX9_fractions_253 (by decide) ?_
  obtain ⟨g8, hq⟩ := hq
  obtain ⟨g9, g10, hq⟩ := hq
  refine x_callV (Yc := YX9_digits) (as := [.long (x13 / x11), .int 1]) (st := []) q3102 mvX9_digits g8 rfl dX9_fractions_254 (xle (xal1 (rv_cat _) (xal2 rfl (xal1 rfl xal0))) (by decide)) (xfr g9) (xlo xsw0 (by decide) g10) (xKv hq (fun h11 hq e13 => ?_) (fun _ _ q _ => q))
  replace hq := hq e13
  refine x_aload_n 0 dX9_fractions_257 rfl ?_
  refine x_bipush (v := 46) dX9_fractions_258 (by decide) ?_
  have t14 : tg h11 x0 = 10 := e13.tg g8 (by decide)
  obtain ⟨g15, g16, hq⟩ := hq
  refine x_callV (Yc := YX9_letter) (as := [.int 46]) (st := []) q3084 mvX9_letter t14 rfl dX9_fractions_260 (xle (xal1 (rv_cat _) (xal1 rfl xal0)) (by decide)) (xfr g15) (xlo xsw0 (by decide) g16) (xKv hq (fun h17 hq e19 => ?_) (fun _ _ q _ => q))
  replace hq := hq e19
  refine x_aload_n 0 dX9_fractions_263 rfl ?_
  refine x_lload 4 dX9_fractions_264 rfl ?_
  refine x_lload 3 dX9_fractions_266 rfl ?_
  obtain ⟨g20, hq⟩ := hq
  refine x_lrem dX9_fractions_268 g20 ?_
  refine x_iload 1 dX9_fractions_269 rfl ?_
  have t21 : tg h17 x0 = 10 := e19.tg t14 (by decide)
  obtain ⟨g22, g23, hq⟩ := hq
  refine x_callV (Yc := YX9_digits) (as := [.long (x13 - x13 / x11 * x11), .int x7]) (st := []) q3102 mvX9_digits t21 rfl dX9_fractions_271 (xle (xal1 (rv_cat _) (xal2 rfl (xal1 rfl xal0))) (by decide)) (xfr g22) (xlo xsw0 (by decide) g23) (xKv hq (fun h24 hq e26 => ?_) (fun _ _ q _ => q))
  replace hq := hq e26
  refine x_aload_n 0 dX9_fractions_274 rfl ?_
  refine x_bipush (v := 101) dX9_fractions_275 (by decide) ?_
  have t27 : tg h24 x0 = 10 := e26.tg t21 (by decide)
  obtain ⟨g28, g29, hq⟩ := hq
  refine x_callV (Yc := YX9_letter) (as := [.int 101]) (st := []) q3084 mvX9_letter t27 rfl dX9_fractions_277 (xle (xal1 (rv_cat _) (xal1 rfl xal0)) (by decide)) (xfr g28) (xlo xsw0 (by decide) g29) (xKv hq (fun h30 hq e32 => ?_) (fun _ _ q _ => q))
  replace hq := hq e32
  refine x_aload_n 0 dX9_fractions_280 rfl ?_
  refine x_iload 2 dX9_fractions_281 rfl ?_
  refine x_if_ge (tgt := 291) dX9_fractions_283 (by decide) (fun c33 => ?_) (fun c33 => ?_)
  · replace hq := hq.1 c33
    refine x_bipush (v := 43) dX9_fractions_291 (by decide) ?_
    refine xP.pick (lv' := [(0, rv x0), (8, .int x8)]) [0, 2] rfl ?_
    exact uX9_fractions_293 hq
  · replace hq := hq.2 c33
    refine x_bipush (v := 45) dX9_fractions_286 (by decide) ?_
    refine x_goto (tgt := 293) dX9_fractions_288 (by decide) ?_
    refine xP.pick (lv' := [(0, rv x0), (8, .int x8)]) [0, 2] rfl ?_
    exact uX9_fractions_293 hq
set_option maxRecDepth 100000 in
def bX9_fractions_230 (G : xG) (fr lo : Nat) (x0 : Nat) (x1 : UInt64) (x7 : Int32) (x8 : Int32) (x11 : Int64) (x13 : Int64) (h : xH) (Q : Outcome → xH → Prop) : Prop := ((0 ≤ (Op.cmpValue (FP.dcmp x1 FP.dconst0) .g) → bX9_fractions_244 G fr lo x0 x7 x8 x11 x13 32 x0 h Q) ∧ (¬ 0 ≤ (Op.cmpValue (FP.dcmp x1 FP.dconst0) .g) → bX9_fractions_244 G fr lo x0 x7 x8 x11 x13 45 x0 h Q))
set_option maxRecDepth 100000 in
theorem uX9_fractions_230 {G : xG} {fr lo : Nat} {x0 : Nat} {x1 : UInt64} {x7 : Int32} {x8 : Int32} {x11 : Int64} {x13 : Int64} {h : xH} {Q : Outcome → xH → Prop} (hq : bX9_fractions_230 G fr lo x0 x1 x7 x8 x11 x13 h Q) : xP G YX9_fractions fr lo 230 [(0, rv x0), (1, .double x1), (7, .int x7), (8, .int x8), (11, .long x11), (13, .long x13)] [] h Q := by
  unfold bX9_fractions_230 at hq
  refine x_aload_n 0 dX9_fractions_230 rfl ?_
  refine x_dload_n 1 dX9_fractions_231 rfl ?_
  refine x_dconst0 dX9_fractions_232 ?_
  refine x_dcmp dX9_fractions_233 ?_
  refine x_if_ge (tgt := 242) dX9_fractions_234 (by decide) (fun c1 => ?_) (fun c1 => ?_)
  · replace hq := hq.1 c1
    refine x_bipush (v := 32) dX9_fractions_242 (by decide) ?_
    refine xP.pick (lv' := [(0, rv x0), (7, .int x7), (8, .int x8), (11, .long x11), (13, .long x13)]) [0, 2, 3, 4, 5] rfl ?_
    exact uX9_fractions_244 hq
  · replace hq := hq.2 c1
    refine x_bipush (v := 45) dX9_fractions_237 (by decide) ?_
    refine x_goto (tgt := 244) dX9_fractions_239 (by decide) ?_
    refine xP.pick (lv' := [(0, rv x0), (7, .int x7), (8, .int x8), (11, .long x11), (13, .long x13)]) [0, 2, 3, 4, 5] rfl ?_
    exact uX9_fractions_244 hq
set_option maxRecDepth 100000 in
def bX9_fractions_183 (G : xG) (fr lo : Nat) (x0 : Nat) (x1 : UInt64) (x5 : UInt64) (x7 : Int32) (x8 : Int32) (h : xH) (Q : Outcome → xH → Prop) : Prop := 1 ≤ fr ∧ 15 ≤ lo ∧ xRd G YX0_power (fr - 1) (lo - 15) [.int x7] h (fun x4 h3 => xext h h3 → vf_n64 (FP.dmul x5 x4) ∧ vf_n64 (FP.dadd (FP.dmul x5 x4) 4602678819172646912) ∧ (((lg_cmp (FP.d2l (FP.dadd (FP.dmul x5 x4) 4602678819172646912)) (10 * (FP.d2l x4))) < 0 → bX9_fractions_230 G fr lo x0 x1 x7 x8 (FP.d2l x4) (FP.d2l (FP.dadd (FP.dmul x5 x4) 4602678819172646912)) h3 Q) ∧ (¬ (lg_cmp (FP.d2l (FP.dadd (FP.dmul x5 x4) 4602678819172646912)) (10 * (FP.d2l x4))) < 0 → bX9_fractions_230 G fr lo x0 x1 x7 (x8 + 1) (FP.d2l x4) ((FP.d2l (FP.dadd (FP.dmul x5 x4) 4602678819172646912)) / 10) h3 Q))) (fun r h2 => Q (.threw r) h2)
set_option maxRecDepth 100000 in
theorem uX9_fractions_183 {G : xG} {fr lo : Nat} {x0 : Nat} {x1 : UInt64} {x5 : UInt64} {x7 : Int32} {x8 : Int32} {h : xH} {Q : Outcome → xH → Prop} (hq : bX9_fractions_183 G fr lo x0 x1 x5 x7 x8 h Q) : xP G YX9_fractions fr lo 183 [(0, rv x0), (1, .double x1), (5, .double x5), (7, .int x7), (8, .int x8)] [] h Q := by
  unfold bX9_fractions_183 at hq
  refine x_iload 3 dX9_fractions_183 rfl ?_
  obtain ⟨g1, g2, hq⟩ := hq
  refine x_callSN (Yc := YX0_power) (as := [.int x7]) (st := []) (List.mem_filter.mpr ⟨q3112, rfl⟩) msX0_power rfl dX9_fractions_185 (xle (xal1 rfl xal0) (by decide)) (xfr g1) (xlo xsw0 (by decide) g2) (xKd hq (fun x4 h3 hq e5 => ?_) (fun _ _ q _ => q))
  replace hq := hq e5
  refine x_dstore (lv' := [(9, .double x4), (0, rv x0), (1, .double x1), (5, .double x5), (7, .int x7), (8, .int x8)]) dX9_fractions_188 (by decide) rfl ?_
  refine x_dload 0 dX9_fractions_190 rfl ?_
  refine x_d2l dX9_fractions_192 ?_
  refine x_lstore (lv' := [(11, .long (FP.d2l x4)), (9, .double x4), (0, rv x0), (1, .double x1), (5, .double x5), (7, .int x7), (8, .int x8)]) dX9_fractions_193 (by decide) rfl ?_
  refine x_dload 4 dX9_fractions_195 rfl ?_
  refine x_dload 1 dX9_fractions_197 rfl ?_
  obtain ⟨g6, hq⟩ := hq
  refine x_dmul dX9_fractions_199 g6 ?_
  refine x_ldc2d (v := 4602678819172646912) q3074 dX9_fractions_200 ?_
  obtain ⟨g7, hq⟩ := hq
  refine x_dadd dX9_fractions_203 g7 ?_
  refine x_d2l dX9_fractions_204 ?_
  refine x_lstore (lv' := [(13, .long (FP.d2l (FP.dadd (FP.dmul x5 x4) 4602678819172646912))), (11, .long (FP.d2l x4)), (9, .double x4), (0, rv x0), (1, .double x1), (5, .double x5), (7, .int x7), (8, .int x8)]) dX9_fractions_205 (by decide) rfl ?_
  refine x_lload 0 dX9_fractions_207 rfl ?_
  refine x_ldc2 (v := 10) q3106 dX9_fractions_209 ?_
  refine x_lload 1 dX9_fractions_212 rfl ?_
  refine x_lmul dX9_fractions_214 ?_
  refine x_lcmp dX9_fractions_215 ?_
  refine x_if_lt (tgt := 230) dX9_fractions_216 (by decide) (fun c8 => ?_) (fun c8 => ?_)
  · replace hq := hq.1 c8
    refine xP.pick (lv' := [(0, rv x0), (1, .double x1), (7, .int x7), (8, .int x8), (11, .long (FP.d2l x4)), (13, .long (FP.d2l (FP.dadd (FP.dmul x5 x4) 4602678819172646912)))]) [3, 4, 6, 7, 1, 0] rfl ?_
    exact uX9_fractions_230 hq
  · replace hq := hq.2 c8
    refine x_lload 0 dX9_fractions_219 rfl ?_
    refine x_ldc2 (v := 10) q3106 dX9_fractions_221 ?_
    refine x_ldiv dX9_fractions_224 (by decide) ?_
    refine x_lstore (lv' := [(13, .long ((FP.d2l (FP.dadd (FP.dmul x5 x4) 4602678819172646912)) / 10)), (11, .long (FP.d2l x4)), (9, .double x4), (0, rv x0), (1, .double x1), (5, .double x5), (7, .int x7), (8, .int x8)]) dX9_fractions_225 (by decide) rfl ?_
    refine x_iinc (lv' := [(8, .int (x8 + 1)), (13, .long ((FP.d2l (FP.dadd (FP.dmul x5 x4) 4602678819172646912)) / 10)), (11, .long (FP.d2l x4)), (9, .double x4), (0, rv x0), (1, .double x1), (5, .double x5), (7, .int x7)]) 7 dX9_fractions_227 rfl (by decide) rfl ?_
    refine xP.pick (lv' := [(0, rv x0), (1, .double x1), (7, .int x7), (8, .int (x8 + 1)), (11, .long (FP.d2l x4)), (13, .long ((FP.d2l (FP.dadd (FP.dmul x5 x4) 4602678819172646912)) / 10))]) [4, 5, 7, 0, 2, 1] rfl ?_
    exact uX9_fractions_230 hq
set_option maxRecDepth 100000 in
def bX9_fractions_155 (G : xG) (fr lo : Nat) (x0 : Nat) (x1 : UInt64) (x5 : UInt64) (x7 : Int32) (x8 : Int32) (h : xH) (Q : Outcome → xH → Prop) : Prop := ((0 ≤ (Op.cmpValue (FP.dcmp x5 FP.dconst1) .g) → bX9_fractions_183 G fr lo x0 x1 x5 x7 x8 h Q) ∧ (¬ 0 ≤ (Op.cmpValue (FP.dcmp x5 FP.dconst1) .g) → (((Op.cmpValue (FP.dcmp x5 FP.dconst0) .l) ≤ 0 → bX9_fractions_183 G fr lo x0 x1 x5 x7 x8 h Q) ∧ (¬ (Op.cmpValue (FP.dcmp x5 FP.dconst0) .l) ≤ 0 → vf_n64 (FP.dmul x5 4621819117588971520) ∧ lX9_fractions_155 G fr lo x0 x1 (FP.dmul x5 4621819117588971520) x7 (x8 + (-1)) h Q))))
set_option maxRecDepth 100000 in
theorem uX9_fractions_155 {G : xG} {fr lo : Nat} {x0 : Nat} {x1 : UInt64} {x5 : UInt64} {x7 : Int32} {x8 : Int32} {h : xH} {Q : Outcome → xH → Prop} (hq : bX9_fractions_155 G fr lo x0 x1 x5 x7 x8 h Q) : xP G YX9_fractions fr lo 155 [(0, rv x0), (1, .double x1), (5, .double x5), (7, .int x7), (8, .int x8)] [] h Q := by
  unfold bX9_fractions_155 at hq
  refine x_dload 2 dX9_fractions_155 rfl ?_
  refine x_dconst1 dX9_fractions_157 ?_
  refine x_dcmp dX9_fractions_158 ?_
  refine x_if_ge (tgt := 183) dX9_fractions_159 (by decide) (fun c1 => ?_) (fun c1 => ?_)
  · replace hq := hq.1 c1
    exact uX9_fractions_183 hq
  · replace hq := hq.2 c1
    refine x_dload 2 dX9_fractions_162 rfl ?_
    refine x_dconst0 dX9_fractions_164 ?_
    refine x_dcmp dX9_fractions_165 ?_
    refine x_if_le (tgt := 183) dX9_fractions_166 (by decide) (fun c2 => ?_) (fun c2 => ?_)
    · replace hq := hq.1 c2
      exact uX9_fractions_183 hq
    · replace hq := hq.2 c2
      refine x_dload 2 dX9_fractions_169 rfl ?_
      refine x_ldc2d (v := 4621819117588971520) q3113 dX9_fractions_171 ?_
      obtain ⟨g3, hq⟩ := hq
      refine x_dmul dX9_fractions_174 g3 ?_
      refine x_dstore (lv' := [(5, .double (FP.dmul x5 4621819117588971520)), (0, rv x0), (1, .double x1), (7, .int x7), (8, .int x8)]) dX9_fractions_175 (by decide) rfl ?_
      refine x_iinc (lv' := [(8, .int (x8 + (-1))), (5, .double (FP.dmul x5 4621819117588971520)), (0, rv x0), (1, .double x1), (7, .int x7)]) 4 dX9_fractions_177 rfl (by decide) rfl ?_
      refine x_goto (tgt := 155) dX9_fractions_180 (by decide) ?_
      refine xP.pick (lv' := [(0, rv x0), (1, .double x1), (5, .double (FP.dmul x5 4621819117588971520)), (7, .int x7), (8, .int (x8 + (-1)))]) [2, 3, 1, 4, 0] rfl ?_
      exact hq
set_option maxRecDepth 100000 in
def bX9_fractions_132 (G : xG) (fr lo : Nat) (x0 : Nat) (x1 : UInt64) (x5 : UInt64) (x7 : Int32) (x8 : Int32) (h : xH) (Q : Outcome → xH → Prop) : Prop := (((Op.cmpValue (FP.dcmp x5 4621819117588971520) .l) < 0 → lX9_fractions_155 G fr lo x0 x1 x5 x7 x8 h Q) ∧ (¬ (Op.cmpValue (FP.dcmp x5 4621819117588971520) .l) < 0 → vf_n64 (FP.ddiv x5 4621819117588971520) ∧ lX9_fractions_132 G fr lo x0 x1 (FP.ddiv x5 4621819117588971520) x7 (x8 + 1) h Q))
set_option maxRecDepth 100000 in
theorem uX9_fractions_132 {G : xG} {fr lo : Nat} {x0 : Nat} {x1 : UInt64} {x5 : UInt64} {x7 : Int32} {x8 : Int32} {h : xH} {Q : Outcome → xH → Prop} (hq : bX9_fractions_132 G fr lo x0 x1 x5 x7 x8 h Q) : xP G YX9_fractions fr lo 132 [(0, rv x0), (1, .double x1), (5, .double x5), (7, .int x7), (8, .int x8)] [] h Q := by
  unfold bX9_fractions_132 at hq
  refine x_dload 2 dX9_fractions_132 rfl ?_
  refine x_ldc2d (v := 4621819117588971520) q3113 dX9_fractions_134 ?_
  refine x_dcmp dX9_fractions_137 ?_
  refine x_if_lt (tgt := 155) dX9_fractions_138 (by decide) (fun c1 => ?_) (fun c1 => ?_)
  · replace hq := hq.1 c1
    exact hq
  · replace hq := hq.2 c1
    refine x_dload 2 dX9_fractions_141 rfl ?_
    refine x_ldc2d (v := 4621819117588971520) q3113 dX9_fractions_143 ?_
    obtain ⟨g2, hq⟩ := hq
    refine x_ddiv dX9_fractions_146 g2 ?_
    refine x_dstore (lv' := [(5, .double (FP.ddiv x5 4621819117588971520)), (0, rv x0), (1, .double x1), (7, .int x7), (8, .int x8)]) dX9_fractions_147 (by decide) rfl ?_
    refine x_iinc (lv' := [(8, .int (x8 + 1)), (5, .double (FP.ddiv x5 4621819117588971520)), (0, rv x0), (1, .double x1), (7, .int x7)]) 4 dX9_fractions_149 rfl (by decide) rfl ?_
    refine x_goto (tgt := 132) dX9_fractions_152 (by decide) ?_
    refine xP.pick (lv' := [(0, rv x0), (1, .double x1), (5, .double (FP.ddiv x5 4621819117588971520)), (7, .int x7), (8, .int (x8 + 1))]) [2, 3, 1, 4, 0] rfl ?_
    exact hq
set_option maxRecDepth 100000 in
def bX9_fractions_127 (G : xG) (fr lo : Nat) (x0 : Nat) (x1 : UInt64) (x5 : UInt64) (s0 : Int32) (h : xH) (Q : Outcome → xH → Prop) : Prop := lX9_fractions_132 G fr lo x0 x1 x5 s0 0 h Q
set_option maxRecDepth 100000 in
theorem uX9_fractions_127 {G : xG} {fr lo : Nat} {x0 : Nat} {x1 : UInt64} {x5 : UInt64} {s0 : Int32} {h : xH} {Q : Outcome → xH → Prop} (hq : bX9_fractions_127 G fr lo x0 x1 x5 s0 h Q) : xP G YX9_fractions fr lo 127 [(0, rv x0), (1, .double x1), (5, .double x5)] [.int s0] h Q := by
  unfold bX9_fractions_127 at hq
  refine x_istore (lv' := [(7, .int s0), (0, rv x0), (1, .double x1), (5, .double x5)]) dX9_fractions_127 (by decide) rfl ?_
  refine x_iconst (v := 0) dX9_fractions_129 (by decide) ?_
  refine x_istore (lv' := [(8, .int 0), (7, .int s0), (0, rv x0), (1, .double x1), (5, .double x5)]) dX9_fractions_130 (by decide) rfl ?_
  refine xP.pick (lv' := [(0, rv x0), (1, .double x1), (5, .double x5), (7, .int s0), (8, .int 0)]) [2, 3, 4, 1, 0] rfl ?_
  exact hq
set_option maxRecDepth 100000 in
def bX9_fractions_99 (G : xG) (fr lo : Nat) (x0 : Nat) (x1 : UInt64) (x3 : Int32) (x5 : UInt64) (h : xH) (Q : Outcome → xH → Prop) : Prop := ((8 ≤ x3 → (((x3 - 7) ≤ 12 → bX9_fractions_127 G fr lo x0 x1 x5 (x3 - 7) h Q) ∧ (¬ (x3 - 7) ≤ 12 → bX9_fractions_127 G fr lo x0 x1 x5 12 h Q))) ∧ (¬ 8 ≤ x3 → bX9_fractions_127 G fr lo x0 x1 x5 1 h Q))
set_option maxRecDepth 100000 in
theorem uX9_fractions_99 {G : xG} {fr lo : Nat} {x0 : Nat} {x1 : UInt64} {x3 : Int32} {x5 : UInt64} {h : xH} {Q : Outcome → xH → Prop} (hq : bX9_fractions_99 G fr lo x0 x1 x3 x5 h Q) : xP G YX9_fractions fr lo 99 [(0, rv x0), (1, .double x1), (3, .int x3), (5, .double x5)] [] h Q := by
  unfold bX9_fractions_99 at hq
  refine x_iload_n 2 dX9_fractions_99 rfl ?_
  refine x_bipush (v := 8) dX9_fractions_100 (by decide) ?_
  refine x_icmp_ge (tgt := 109) dX9_fractions_102 (by decide) (fun c1 => ?_) (fun c1 => ?_)
  · replace hq := hq.1 c1
    refine x_iload_n 2 dX9_fractions_109 rfl ?_
    refine x_bipush (v := 7) dX9_fractions_110 (by decide) ?_
    refine x_isub dX9_fractions_112 ?_
    refine x_bipush (v := 12) dX9_fractions_113 (by decide) ?_
    refine x_icmp_le (tgt := 123) dX9_fractions_115 (by decide) (fun c2 => ?_) (fun c2 => ?_)
    · replace hq := hq.1 c2
      refine x_iload_n 2 dX9_fractions_123 rfl ?_
      refine x_bipush (v := 7) dX9_fractions_124 (by decide) ?_
      refine x_isub dX9_fractions_126 ?_
      refine xP.pick (lv' := [(0, rv x0), (1, .double x1), (5, .double x5)]) [0, 1, 3] rfl ?_
      exact uX9_fractions_127 hq
    · replace hq := hq.2 c2
      refine x_bipush (v := 12) dX9_fractions_118 (by decide) ?_
      refine x_goto (tgt := 127) dX9_fractions_120 (by decide) ?_
      refine xP.pick (lv' := [(0, rv x0), (1, .double x1), (5, .double x5)]) [0, 1, 3] rfl ?_
      exact uX9_fractions_127 hq
  · replace hq := hq.2 c1
    refine x_iconst (v := 1) dX9_fractions_105 (by decide) ?_
    refine x_goto (tgt := 127) dX9_fractions_106 (by decide) ?_
    refine xP.pick (lv' := [(0, rv x0), (1, .double x1), (5, .double x5)]) [0, 1, 3] rfl ?_
    exact uX9_fractions_127 hq
set_option maxRecDepth 100000 in
def bX9_fractions_71 (G : xG) (fr lo : Nat) (x0 : Nat) (x4 : Int32) (x9 : Int64) (x11 : Int64) (h : xH) (Q : Outcome → xH → Prop) : Prop := ¬ x11 = 0 ∧ tg h x0 = 10 ∧ 1 ≤ fr ∧ 18 ≤ lo ∧ xRv G YX9_digits (fr - 1) (lo - 18) [rv x0, .long (x9 / x11), .int 1] h (fun h5 => xext h h5 → 1 ≤ fr ∧ 13 ≤ lo ∧ xRv G YX9_letter (fr - 1) (lo - 13) [rv x0, .int 46] h5 (fun h11 => xext h5 h11 → ¬ x11 = 0 ∧ 1 ≤ fr ∧ 18 ≤ lo ∧ xRv G YX9_digits (fr - 1) (lo - 18) [rv x0, .long (x9 - x9 / x11 * x11), .int x4] h11 (fun h18 => xext h11 h18 → Q (.returned none) h18) (fun r h2 => Q (.threw r) h2)) (fun r h2 => Q (.threw r) h2)) (fun r h2 => Q (.threw r) h2)
set_option maxRecDepth 100000 in
theorem uX9_fractions_71 {G : xG} {fr lo : Nat} {x0 : Nat} {x4 : Int32} {x9 : Int64} {x11 : Int64} {h : xH} {Q : Outcome → xH → Prop} (hq : bX9_fractions_71 G fr lo x0 x4 x9 x11 h Q) : xP G YX9_fractions fr lo 71 [(0, rv x0), (4, .int x4), (9, .long x9), (11, .long x11)] [] h Q := by
  unfold bX9_fractions_71 at hq
  refine x_aload_n 0 dX9_fractions_71 rfl ?_
  refine x_lload 2 dX9_fractions_72 rfl ?_
  refine x_lload 3 dX9_fractions_74 rfl ?_
  obtain ⟨g1, hq⟩ := hq
  refine x_ldiv dX9_fractions_76 g1 ?_
  refine x_iconst (v := 1) dX9_fractions_77 (by decide) ?_
  obtain ⟨g2, hq⟩ := hq
  obtain ⟨g3, g4, hq⟩ := hq
  refine x_callV (Yc := YX9_digits) (as := [.long (x9 / x11), .int 1]) (st := []) q3102 mvX9_digits g2 rfl dX9_fractions_78 (xle (xal1 (rv_cat _) (xal2 rfl (xal1 rfl xal0))) (by decide)) (xfr g3) (xlo xsw0 (by decide) g4) (xKv hq (fun h5 hq e7 => ?_) (fun _ _ q _ => q))
  replace hq := hq e7
  refine x_aload_n 0 dX9_fractions_81 rfl ?_
  refine x_bipush (v := 46) dX9_fractions_82 (by decide) ?_
  have t8 : tg h5 x0 = 10 := e7.tg g2 (by decide)
  obtain ⟨g9, g10, hq⟩ := hq
  refine x_callV (Yc := YX9_letter) (as := [.int 46]) (st := []) q3084 mvX9_letter t8 rfl dX9_fractions_84 (xle (xal1 (rv_cat _) (xal1 rfl xal0)) (by decide)) (xfr g9) (xlo xsw0 (by decide) g10) (xKv hq (fun h11 hq e13 => ?_) (fun _ _ q _ => q))
  replace hq := hq e13
  refine x_aload_n 0 dX9_fractions_87 rfl ?_
  refine x_lload 2 dX9_fractions_88 rfl ?_
  refine x_lload 3 dX9_fractions_90 rfl ?_
  obtain ⟨g14, hq⟩ := hq
  refine x_lrem dX9_fractions_92 g14 ?_
  refine x_iload 1 dX9_fractions_93 rfl ?_
  have t15 : tg h11 x0 = 10 := e13.tg t8 (by decide)
  obtain ⟨g16, g17, hq⟩ := hq
  refine x_callV (Yc := YX9_digits) (as := [.long (x9 - x9 / x11 * x11), .int x4]) (st := []) q3102 mvX9_digits t15 rfl dX9_fractions_95 (xle (xal1 (rv_cat _) (xal2 rfl (xal1 rfl xal0))) (by decide)) (xfr g16) (xlo xsw0 (by decide) g17) (xKv hq (fun h18 hq e20 => ?_) (fun _ _ q _ => q))
  replace hq := hq e20
  exact x_vret rfl dX9_fractions_98 hq
set_option maxRecDepth 100000 in
def bX9_fractions_12 (G : xG) (fr lo : Nat) (x0 : Nat) (x1 : UInt64) (x3 : Int32) (x4 : Int32) (s0 : UInt64) (h : xH) (Q : Outcome → xH → Prop) : Prop := ((x4 ≤ 0 → bX9_fractions_99 G fr lo x0 x1 x3 s0 h Q) ∧ (¬ x4 ≤ 0 → ((0 ≤ (Op.cmpValue (FP.dcmp s0 4741671816366391296) .g) → bX9_fractions_99 G fr lo x0 x1 x3 s0 h Q) ∧ (¬ 0 ≤ (Op.cmpValue (FP.dcmp s0 4741671816366391296) .g) → 1 ≤ fr ∧ 15 ≤ lo ∧ xRd G YX0_power (fr - 1) (lo - 15) [.int x4] h (fun x6 h5 => xext h h5 → vf_n64 (FP.dmul s0 x6) ∧ vf_n64 (FP.dadd (FP.dmul s0 x6) 4602678819172646912) ∧ ((0 ≤ (Op.cmpValue (FP.dcmp x1 FP.dconst0) .g) → bX9_fractions_71 G fr lo x0 x4 (FP.d2l (FP.dadd (FP.dmul s0 x6) 4602678819172646912)) (FP.d2l x6) h5 Q) ∧ (¬ 0 ≤ (Op.cmpValue (FP.dcmp x1 FP.dconst0) .g) → (((lg_cmp (FP.d2l (FP.dadd (FP.dmul s0 x6) 4602678819172646912)) 0) ≤ 0 → bX9_fractions_71 G fr lo x0 x4 (FP.d2l (FP.dadd (FP.dmul s0 x6) 4602678819172646912)) (FP.d2l x6) h5 Q) ∧ (¬ (lg_cmp (FP.d2l (FP.dadd (FP.dmul s0 x6) 4602678819172646912)) 0) ≤ 0 → tg h5 x0 = 10 ∧ 1 ≤ fr ∧ 13 ≤ lo ∧ xRv G YX9_letter (fr - 1) (lo - 13) [rv x0, .int 45] h5 (fun h15 => xext h5 h15 → bX9_fractions_71 G fr lo x0 x4 (FP.d2l (FP.dadd (FP.dmul s0 x6) 4602678819172646912)) (FP.d2l x6) h15 Q) (fun r h2 => Q (.threw r) h2)))))) (fun r h2 => Q (.threw r) h2)))))
set_option maxRecDepth 100000 in
theorem uX9_fractions_12 {G : xG} {fr lo : Nat} {x0 : Nat} {x1 : UInt64} {x3 : Int32} {x4 : Int32} {s0 : UInt64} {h : xH} {Q : Outcome → xH → Prop} (hq : bX9_fractions_12 G fr lo x0 x1 x3 x4 s0 h Q) : xP G YX9_fractions fr lo 12 [(0, rv x0), (1, .double x1), (3, .int x3), (4, .int x4)] [.double s0] h Q := by
  unfold bX9_fractions_12 at hq
  refine x_dstore (lv' := [(5, .double s0), (0, rv x0), (1, .double x1), (3, .int x3), (4, .int x4)]) dX9_fractions_12 (by decide) rfl ?_
  refine x_iload 4 dX9_fractions_14 rfl ?_
  refine x_if_le (tgt := 99) dX9_fractions_16 (by decide) (fun c1 => ?_) (fun c1 => ?_)
  · replace hq := hq.1 c1
    refine xP.pick (lv' := [(0, rv x0), (1, .double x1), (3, .int x3), (5, .double s0)]) [1, 2, 3, 0] rfl ?_
    exact uX9_fractions_99 hq
  · replace hq := hq.2 c1
    refine x_dload 0 dX9_fractions_19 rfl ?_
    refine x_ldc2d (v := 4741671816366391296) q3111 dX9_fractions_21 ?_
    refine x_dcmp dX9_fractions_24 ?_
    refine x_if_ge (tgt := 99) dX9_fractions_25 (by decide) (fun c2 => ?_) (fun c2 => ?_)
    · replace hq := hq.1 c2
      refine xP.pick (lv' := [(0, rv x0), (1, .double x1), (3, .int x3), (5, .double s0)]) [1, 2, 3, 0] rfl ?_
      exact uX9_fractions_99 hq
    · replace hq := hq.2 c2
      refine x_iload 4 dX9_fractions_28 rfl ?_
      obtain ⟨g3, g4, hq⟩ := hq
      refine x_callSN (Yc := YX0_power) (as := [.int x4]) (st := []) (List.mem_filter.mpr ⟨q3112, rfl⟩) msX0_power rfl dX9_fractions_30 (xle (xal1 rfl xal0) (by decide)) (xfr g3) (xlo xsw0 (by decide) g4) (xKd hq (fun x6 h5 hq e7 => ?_) (fun _ _ q _ => q))
      replace hq := hq e7
      refine x_dstore (lv' := [(7, .double x6), (5, .double s0), (0, rv x0), (1, .double x1), (3, .int x3), (4, .int x4)]) dX9_fractions_33 (by decide) rfl ?_
      refine x_dload 1 dX9_fractions_35 rfl ?_
      refine x_dload 0 dX9_fractions_37 rfl ?_
      obtain ⟨g8, hq⟩ := hq
      refine x_dmul dX9_fractions_39 g8 ?_
      refine x_ldc2d (v := 4602678819172646912) q3074 dX9_fractions_40 ?_
      obtain ⟨g9, hq⟩ := hq
      refine x_dadd dX9_fractions_43 g9 ?_
      refine x_d2l dX9_fractions_44 ?_
      refine x_lstore (lv' := [(9, .long (FP.d2l (FP.dadd (FP.dmul s0 x6) 4602678819172646912))), (7, .double x6), (5, .double s0), (0, rv x0), (1, .double x1), (3, .int x3), (4, .int x4)]) dX9_fractions_45 (by decide) rfl ?_
      refine x_dload 1 dX9_fractions_47 rfl ?_
      refine x_d2l dX9_fractions_49 ?_
      refine x_lstore (lv' := [(11, .long (FP.d2l x6)), (9, .long (FP.d2l (FP.dadd (FP.dmul s0 x6) 4602678819172646912))), (7, .double x6), (5, .double s0), (0, rv x0), (1, .double x1), (3, .int x3), (4, .int x4)]) dX9_fractions_50 (by decide) rfl ?_
      refine x_dload_n 5 dX9_fractions_52 rfl ?_
      refine x_dconst0 dX9_fractions_53 ?_
      refine x_dcmp dX9_fractions_54 ?_
      refine x_if_ge (tgt := 71) dX9_fractions_55 (by decide) (fun c10 => ?_) (fun c10 => ?_)
      · replace hq := hq.1 c10
        refine xP.pick (lv' := [(0, rv x0), (4, .int x4), (9, .long (FP.d2l (FP.dadd (FP.dmul s0 x6) 4602678819172646912))), (11, .long (FP.d2l x6))]) [4, 7, 1, 0] rfl ?_
        exact uX9_fractions_71 hq
      · replace hq := hq.2 c10
        refine x_lload 1 dX9_fractions_58 rfl ?_
        refine x_lconst (v := 0) dX9_fractions_60 (by decide) ?_
        refine x_lcmp dX9_fractions_61 ?_
        refine x_if_le (tgt := 71) dX9_fractions_62 (by decide) (fun c11 => ?_) (fun c11 => ?_)
        · replace hq := hq.1 c11
          refine xP.pick (lv' := [(0, rv x0), (4, .int x4), (9, .long (FP.d2l (FP.dadd (FP.dmul s0 x6) 4602678819172646912))), (11, .long (FP.d2l x6))]) [4, 7, 1, 0] rfl ?_
          exact uX9_fractions_71 hq
        · replace hq := hq.2 c11
          refine x_aload_n 4 dX9_fractions_65 rfl ?_
          refine x_bipush (v := 45) dX9_fractions_66 (by decide) ?_
          obtain ⟨g12, hq⟩ := hq
          obtain ⟨g13, g14, hq⟩ := hq
          refine x_callV (Yc := YX9_letter) (as := [.int 45]) (st := []) q3084 mvX9_letter g12 rfl dX9_fractions_68 (xle (xal1 (rv_cat _) (xal1 rfl xal0)) (by decide)) (xfr g13) (xlo xsw0 (by decide) g14) (xKv hq (fun h15 hq e17 => ?_) (fun _ _ q _ => q))
          replace hq := hq e17
          refine xP.pick (lv' := [(0, rv x0), (4, .int x4), (9, .long (FP.d2l (FP.dadd (FP.dmul s0 x6) 4602678819172646912))), (11, .long (FP.d2l x6))]) [4, 7, 1, 0] rfl ?_
          exact uX9_fractions_71 hq
set_option maxRecDepth 100000 in
def bX9_fractions (G : xG) (fr lo : Nat) (x0 : Nat) (x1 : UInt64) (x3 : Int32) (x4 : Int32) (h : xH) (Q : Outcome → xH → Prop) : Prop := ((0 ≤ (Op.cmpValue (FP.dcmp x1 FP.dconst0) .g) → bX9_fractions_12 G fr lo x0 x1 x3 x4 x1 h Q) ∧ (¬ 0 ≤ (Op.cmpValue (FP.dcmp x1 FP.dconst0) .g) → bX9_fractions_12 G fr lo x0 x1 x3 x4 (FP.dneg x1) h Q))
set_option maxRecDepth 100000 in
theorem uX9_fractions {G : xG} {fr lo : Nat} {x0 : Nat} {x1 : UInt64} {x3 : Int32} {x4 : Int32} {h : xH} {Q : Outcome → xH → Prop} (hq : bX9_fractions G fr lo x0 x1 x3 x4 h Q) : xP G YX9_fractions fr lo 0 [(0, rv x0), (1, .double x1), (3, .int x3), (4, .int x4)] [] h Q := by
  unfold bX9_fractions at hq
  refine x_dload_n 1 dX9_fractions_0 rfl ?_
  refine x_dconst0 dX9_fractions_1 ?_
  refine x_dcmp dX9_fractions_2 ?_
  refine x_if_ge (tgt := 11) dX9_fractions_3 (by decide) (fun c1 => ?_) (fun c1 => ?_)
  · replace hq := hq.1 c1
    refine x_dload_n 1 dX9_fractions_11 rfl ?_
    exact uX9_fractions_12 hq
  · replace hq := hq.2 c1
    refine x_dload_n 1 dX9_fractions_6 rfl ?_
    refine x_dneg dX9_fractions_7 ?_
    refine x_goto (tgt := 12) dX9_fractions_8 (by decide) ?_
    exact uX9_fractions_12 hq
theorem rX9_fractions {G : xG} {fr lo : Nat} {x0 : Nat} {x1 : UInt64} {x3 : Int32} {x4 : Int32} {h : xH} {Q : Outcome → xH → Prop} (hq : bX9_fractions G fr lo x0 x1 x3 x4 h Q) : xR G YX9_fractions fr lo [rv x0, .double x1, .int x3, .int x4] h Q := by
  show xP _ _ _ _ _ (lv_args 0 _) _ _ _
  rw [show lv_args 0 [rv x0, .double x1, .int x3, .int x4] = [(0, rv x0), (1, .double x1), (3, .int x3), (4, .int x4)] from (xla1 (rv_cat _) (xla2 rfl (xla1 rfl (xla1 rfl xla0))))]
  exact uX9_fractions hq
set_option maxRecDepth 100000 in
theorem dX9_word_0 : decode cX9_word 0 = .ok (.iconst 0, 1) := by decide +kernel
set_option maxRecDepth 100000 in
theorem dX9_word_1 : decode cX9_word 1 = .ok (.istore_n 2, 1) := by decide +kernel
set_option maxRecDepth 100000 in
theorem dX9_word_2 : decode cX9_word 2 = .ok (.iload_n 2, 1) := by decide +kernel
set_option maxRecDepth 100000 in
theorem dX9_word_3 : decode cX9_word 3 = .ok (.aload_n 1, 1) := by decide +kernel
set_option maxRecDepth 100000 in
theorem dX9_word_4 : decode cX9_word 4 = .ok (.invokevirtual 494, 3) := by decide +kernel
set_option maxRecDepth 100000 in
theorem dX9_word_7 : decode cX9_word 7 = .ok (.if_icmp .ge 18, 3) := by decide +kernel
set_option maxRecDepth 100000 in
theorem dX9_word_10 : decode cX9_word 10 = .ok (.aload_n 0, 1) := by decide +kernel
set_option maxRecDepth 100000 in
theorem dX9_word_11 : decode cX9_word 11 = .ok (.aload_n 1, 1) := by decide +kernel
set_option maxRecDepth 100000 in
theorem dX9_word_12 : decode cX9_word 12 = .ok (.iload_n 2, 1) := by decide +kernel
set_option maxRecDepth 100000 in
theorem dX9_word_13 : decode cX9_word 13 = .ok (.invokevirtual 499, 3) := by decide +kernel
set_option maxRecDepth 100000 in
theorem dX9_word_16 : decode cX9_word 16 = .ok (.invokevirtual 503, 3) := by decide +kernel
set_option maxRecDepth 100000 in
theorem dX9_word_19 : decode cX9_word 19 = .ok (.iinc 2 1, 3) := by decide +kernel
set_option maxRecDepth 100000 in
theorem dX9_word_22 : decode cX9_word 22 = .ok (.goto (-20), 3) := by decide +kernel
set_option maxRecDepth 100000 in
theorem dX9_word_25 : decode cX9_word 25 = .ok (.return_, 1) := by decide +kernel
def lX9_word_2 (G : xG) (fr lo : Nat) (x0 : Nat) (x1 : Nat) (x2 : Int32) (h : xH) (Q : Outcome → xH → Prop) : Prop := xP G YX9_word fr lo 2 [(0, rv x0), (1, rv x1), (2, .int x2)] [] h Q
set_option maxRecDepth 100000 in
def bX9_word_2 (G : xG) (fr lo : Nat) (x0 : Nat) (x1 : Nat) (x2 : Int32) (h : xH) (Q : Outcome → xH → Prop) : Prop := tg h x1 = 31 ∧ 1 ≤ fr ∧ 13 ≤ lo ∧ xRi G YJ5_length (fr - 1) (lo - 13) [rv x1] h (fun x5 h4 => xext h h4 → ((x5 ≤ x2 → Q (.returned none) h4) ∧ (¬ x5 ≤ x2 → 1 ≤ fr ∧ 14 ≤ lo ∧ xRi G YJ5_charAt (fr - 1) (lo - 14) [rv x1, .int x2] h4 (fun x12 h11 => xext h4 h11 → tg h11 x0 = 10 ∧ 1 ≤ fr ∧ 13 ≤ lo ∧ xRv G YX9_letter (fr - 1) (lo - 13) [rv x0, .int x12] h11 (fun h17 => xext h11 h17 → lX9_word_2 G fr lo x0 x1 (x2 + 1) h17 Q) (fun r h2 => Q (.threw r) h2)) (fun r h2 => Q (.threw r) h2)))) (fun r h2 => Q (.threw r) h2)
set_option maxRecDepth 100000 in
theorem uX9_word_2 {G : xG} {fr lo : Nat} {x0 : Nat} {x1 : Nat} {x2 : Int32} {h : xH} {Q : Outcome → xH → Prop} (hq : bX9_word_2 G fr lo x0 x1 x2 h Q) : xP G YX9_word fr lo 2 [(0, rv x0), (1, rv x1), (2, .int x2)] [] h Q := by
  unfold bX9_word_2 at hq
  refine x_iload_n 2 dX9_word_2 rfl ?_
  refine x_aload_n 1 dX9_word_3 rfl ?_
  obtain ⟨g1, hq⟩ := hq
  obtain ⟨g2, g3, hq⟩ := hq
  refine x_callV (Yc := YJ5_length) (as := []) (st := [.int x2]) q3120 mvJ5_length g1 rfl dX9_word_4 (xle (xal1 (rv_cat _) xal0) (by decide)) (xfr g2) (xlo (xsw1 rfl xsw0) (by decide) g3) (xKi hq (fun x5 h4 hq e6 => ?_) (fun _ _ q _ => q))
  replace hq := hq e6
  refine x_icmp_ge (tgt := 25) dX9_word_7 (by decide) (fun c7 => ?_) (fun c7 => ?_)
  · replace hq := hq.1 c7
    exact x_vret rfl dX9_word_25 hq
  · replace hq := hq.2 c7
    refine x_aload_n 0 dX9_word_10 rfl ?_
    refine x_aload_n 1 dX9_word_11 rfl ?_
    refine x_iload_n 2 dX9_word_12 rfl ?_
    have t8 : tg h4 x1 = 31 := e6.tg g1 (by decide)
    obtain ⟨g9, g10, hq⟩ := hq
    refine x_callV (Yc := YJ5_charAt) (as := [.int x2]) (st := [rv x0]) q3121 mvJ5_charAt t8 rfl dX9_word_13 (xle (xal1 (rv_cat _) (xal1 rfl xal0)) (by decide)) (xfr g9) (xlo (xsw1 (rv_cat _) xsw0) (by decide) g10) (xKi hq (fun x12 h11 hq e13 => ?_) (fun _ _ q _ => q))
    replace hq := hq e13
    obtain ⟨g14, hq⟩ := hq
    obtain ⟨g15, g16, hq⟩ := hq
    refine x_callV (Yc := YX9_letter) (as := [.int x12]) (st := []) q3084 mvX9_letter g14 rfl dX9_word_16 (xle (xal1 (rv_cat _) (xal1 rfl xal0)) (by decide)) (xfr g15) (xlo xsw0 (by decide) g16) (xKv hq (fun h17 hq e19 => ?_) (fun _ _ q _ => q))
    replace hq := hq e19
    refine x_iinc (lv' := [(2, .int (x2 + 1)), (0, rv x0), (1, rv x1)]) 2 dX9_word_19 rfl (by decide) (by first | rfl | (simp [rv_cat, Value.category]; done) | (simp [rv_cat, Value.category]; decide)) ?_
    refine x_goto (tgt := 2) dX9_word_22 (by decide) ?_
    refine xP.pick (lv' := [(0, rv x0), (1, rv x1), (2, .int (x2 + 1))]) [1, 2, 0] rfl ?_
    exact hq
set_option maxRecDepth 100000 in
def bX9_word (G : xG) (fr lo : Nat) (x0 : Nat) (x1 : Nat) (h : xH) (Q : Outcome → xH → Prop) : Prop := lX9_word_2 G fr lo x0 x1 0 h Q
set_option maxRecDepth 100000 in
theorem uX9_word {G : xG} {fr lo : Nat} {x0 : Nat} {x1 : Nat} {h : xH} {Q : Outcome → xH → Prop} (hq : bX9_word G fr lo x0 x1 h Q) : xP G YX9_word fr lo 0 [(0, rv x0), (1, rv x1)] [] h Q := by
  unfold bX9_word at hq
  refine x_iconst (v := 0) dX9_word_0 (by decide) ?_
  refine x_istore_n (lv' := [(2, .int 0), (0, rv x0), (1, rv x1)]) dX9_word_1 (by decide) (by first | rfl | (simp [rv_cat, Value.category]; done) | (simp [rv_cat, Value.category]; decide)) ?_
  refine xP.pick (lv' := [(0, rv x0), (1, rv x1), (2, .int 0)]) [1, 2, 0] rfl ?_
  exact hq
theorem rX9_word {G : xG} {fr lo : Nat} {x0 : Nat} {x1 : Nat} {h : xH} {Q : Outcome → xH → Prop} (hq : bX9_word G fr lo x0 x1 h Q) : xR G YX9_word fr lo [rv x0, rv x1] h Q := by
  show xP _ _ _ _ _ (lv_args 0 _) _ _ _
  rw [show lv_args 0 [rv x0, rv x1] = [(0, rv x0), (1, rv x1)] from (xla1 (rv_cat _) (xla1 (rv_cat _) xla0))]
  exact uX9_word hq
set_option maxRecDepth 100000 in
theorem dX9_string_0 : decode cX9_string 0 = .ok (.iconst 0, 1) := by decide +kernel
set_option maxRecDepth 100000 in
theorem dX9_string_1 : decode cX9_string 1 = .ok (.istore_n 3, 1) := by decide +kernel
set_option maxRecDepth 100000 in
theorem dX9_string_2 : decode cX9_string 2 = .ok (.iload_n 3, 1) := by decide +kernel
set_option maxRecDepth 100000 in
theorem dX9_string_3 : decode cX9_string 3 = .ok (.iload_n 2, 1) := by decide +kernel
set_option maxRecDepth 100000 in
theorem dX9_string_4 : decode cX9_string 4 = .ok (.if_icmp .ge 25, 3) := by decide +kernel
set_option maxRecDepth 100000 in
theorem dX9_string_7 : decode cX9_string 7 = .ok (.aload_n 0, 1) := by decide +kernel
set_option maxRecDepth 100000 in
theorem dX9_string_8 : decode cX9_string 8 = .ok (.aload_n 0, 1) := by decide +kernel
set_option maxRecDepth 100000 in
theorem dX9_string_9 : decode cX9_string 9 = .ok (.getfield 12, 3) := by decide +kernel
set_option maxRecDepth 100000 in
theorem dX9_string_12 : decode cX9_string 12 = .ok (.getfield 218, 3) := by decide +kernel
set_option maxRecDepth 100000 in
theorem dX9_string_15 : decode cX9_string 15 = .ok (.iload_n 1, 1) := by decide +kernel
set_option maxRecDepth 100000 in
theorem dX9_string_16 : decode cX9_string 16 = .ok (.iload_n 3, 1) := by decide +kernel
set_option maxRecDepth 100000 in
theorem dX9_string_17 : decode cX9_string 17 = .ok (.iadd, 1) := by decide +kernel
set_option maxRecDepth 100000 in
theorem dX9_string_18 : decode cX9_string 18 = .ok (.laload, 1) := by decide +kernel
set_option maxRecDepth 100000 in
theorem dX9_string_19 : decode cX9_string 19 = .ok (.l2i, 1) := by decide +kernel
set_option maxRecDepth 100000 in
theorem dX9_string_20 : decode cX9_string 20 = .ok (.invokevirtual 503, 3) := by decide +kernel
set_option maxRecDepth 100000 in
theorem dX9_string_23 : decode cX9_string 23 = .ok (.iinc 3 1, 3) := by decide +kernel
set_option maxRecDepth 100000 in
theorem dX9_string_26 : decode cX9_string 26 = .ok (.goto (-24), 3) := by decide +kernel
set_option maxRecDepth 100000 in
theorem dX9_string_29 : decode cX9_string 29 = .ok (.aload_n 0, 1) := by decide +kernel
set_option maxRecDepth 100000 in
theorem dX9_string_30 : decode cX9_string 30 = .ok (.iload_n 1, 1) := by decide +kernel
set_option maxRecDepth 100000 in
theorem dX9_string_31 : decode cX9_string 31 = .ok (.iload_n 2, 1) := by decide +kernel
set_option maxRecDepth 100000 in
theorem dX9_string_32 : decode cX9_string 32 = .ok (.invokevirtual 333, 3) := by decide +kernel
set_option maxRecDepth 100000 in
theorem dX9_string_35 : decode cX9_string 35 = .ok (.ireturn, 1) := by decide +kernel
def lX9_string_2 (G : xG) (fr lo : Nat) (x0 : Nat) (x1 : Int32) (x2 : Int32) (x3 : Int32) (h : xH) (Q : Outcome → xH → Prop) : Prop := xP G YX9_string fr lo 2 [(0, rv x0), (1, .int x1), (2, .int x2), (3, .int x3)] [] h Q
set_option maxRecDepth 100000 in
def bX9_string_2 (G : xG) (fr lo : Nat) (x0 : Nat) (x1 : Int32) (x2 : Int32) (x3 : Int32) (h : xH) (Q : Outcome → xH → Prop) : Prop := ((x2 ≤ x3 → tg h x0 = 10 ∧ 1 ≤ fr ∧ 16 ≤ lo ∧ xRi G YX9_isWhole (fr - 1) (lo - 16) [rv x0, .int x1, .int x2] h (fun x6 h5 => xext h h5 → xbz x6 ∧ Q (.returned (some (.int x6))) h5) (fun r h2 => Q (.threw r) h2)) ∧ (¬ x2 ≤ x3 → tg h x0 = 10 ∧ tg h (fR h x0 2305) = 11 ∧ tg h (fR h (fR h x0 2305) 2560) = 101 ∧ vp_in (x1 + x3) (ln h (fR h (fR h x0 2305) 2560)) ∧ 1 ≤ fr ∧ 13 ≤ lo ∧ xRv G YX9_letter (fr - 1) (lo - 13) [rv x0, .int (Int64.toInt32 (aJ h (fR h (fR h x0 2305) 2560) (Int32.toNatClampNeg (x1 + x3))))] h (fun h15 => xext h h15 → lX9_string_2 G fr lo x0 x1 x2 (x3 + 1) h15 Q) (fun r h2 => Q (.threw r) h2)))
set_option maxRecDepth 100000 in
theorem uX9_string_2 {G : xG} {fr lo : Nat} {x0 : Nat} {x1 : Int32} {x2 : Int32} {x3 : Int32} {h : xH} {Q : Outcome → xH → Prop} (hq : bX9_string_2 G fr lo x0 x1 x2 x3 h Q) : xP G YX9_string fr lo 2 [(0, rv x0), (1, .int x1), (2, .int x2), (3, .int x3)] [] h Q := by
  unfold bX9_string_2 at hq
  refine x_iload_n 3 dX9_string_2 rfl ?_
  refine x_iload_n 2 dX9_string_3 rfl ?_
  refine x_icmp_ge (tgt := 29) dX9_string_4 (by decide) (fun c1 => ?_) (fun c1 => ?_)
  · replace hq := hq.1 c1
    refine x_aload_n 0 dX9_string_29 rfl ?_
    refine x_iload_n 1 dX9_string_30 rfl ?_
    refine x_iload_n 2 dX9_string_31 rfl ?_
    obtain ⟨g2, hq⟩ := hq
    obtain ⟨g3, g4, hq⟩ := hq
    refine x_callV (Yc := YX9_isWhole) (as := [.int x1, .int x2]) (st := []) q2979 mvX9_isWhole g2 rfl dX9_string_32 (xle (xal1 (rv_cat _) (xal1 rfl (xal1 rfl xal0))) (by decide)) (xfr g3) (xlo xsw0 (by decide) g4) (xKi hq (fun x6 h5 hq e7 => ?_) (fun _ _ q _ => q))
    replace hq := hq e7
    obtain ⟨g8, hq⟩ := hq
    exact x_iret rfl (xnZ g8) dX9_string_35 hq
  · replace hq := hq.2 c1
    refine x_aload_n 0 dX9_string_7 rfl ?_
    refine x_aload_n 0 dX9_string_8 rfl ?_
    obtain ⟨g9, hq⟩ := hq
    refine x_get (v := rv (fR h x0 2305)) fdX9_12 dX9_string_9 g9 rfl ?_
    obtain ⟨g10, hq⟩ := hq
    refine x_getN (v := rv (fR h (fR h x0 2305) 2560)) gfX9_218 dX9_string_12 g10 rfl ?_
    refine x_iload_n 1 dX9_string_15 rfl ?_
    refine x_iload_n 3 dX9_string_16 rfl ?_
    refine x_iadd dX9_string_17 ?_
    obtain ⟨g11, hq⟩ := hq
    obtain ⟨i12, hq⟩ := hq
    refine x_lald g11 i12 dX9_string_18 ?_
    refine x_l2i dX9_string_19 ?_
    obtain ⟨g13, g14, hq⟩ := hq
    refine x_callV (Yc := YX9_letter) (as := [.int (Int64.toInt32 (aJ h (fR h (fR h x0 2305) 2560) (Int32.toNatClampNeg (x1 + x3))))]) (st := []) q3084 mvX9_letter g9 rfl dX9_string_20 (xle (xal1 (rv_cat _) (xal1 rfl xal0)) (by decide)) (xfr g13) (xlo xsw0 (by decide) g14) (xKv hq (fun h15 hq e17 => ?_) (fun _ _ q _ => q))
    replace hq := hq e17
    refine x_iinc (lv' := [(3, .int (x3 + 1)), (0, rv x0), (1, .int x1), (2, .int x2)]) 3 dX9_string_23 rfl (by decide) rfl ?_
    refine x_goto (tgt := 2) dX9_string_26 (by decide) ?_
    refine xP.pick (lv' := [(0, rv x0), (1, .int x1), (2, .int x2), (3, .int (x3 + 1))]) [1, 2, 3, 0] rfl ?_
    exact hq
set_option maxRecDepth 100000 in
def bX9_string (G : xG) (fr lo : Nat) (x0 : Nat) (x1 : Int32) (x2 : Int32) (h : xH) (Q : Outcome → xH → Prop) : Prop := lX9_string_2 G fr lo x0 x1 x2 0 h Q
set_option maxRecDepth 100000 in
theorem uX9_string {G : xG} {fr lo : Nat} {x0 : Nat} {x1 : Int32} {x2 : Int32} {h : xH} {Q : Outcome → xH → Prop} (hq : bX9_string G fr lo x0 x1 x2 h Q) : xP G YX9_string fr lo 0 [(0, rv x0), (1, .int x1), (2, .int x2)] [] h Q := by
  unfold bX9_string at hq
  refine x_iconst (v := 0) dX9_string_0 (by decide) ?_
  refine x_istore_n (lv' := [(3, .int 0), (0, rv x0), (1, .int x1), (2, .int x2)]) dX9_string_1 (by decide) rfl ?_
  refine xP.pick (lv' := [(0, rv x0), (1, .int x1), (2, .int x2), (3, .int 0)]) [1, 2, 3, 0] rfl ?_
  exact hq
theorem rX9_string {G : xG} {fr lo : Nat} {x0 : Nat} {x1 : Int32} {x2 : Int32} {h : xH} {Q : Outcome → xH → Prop} (hq : bX9_string G fr lo x0 x1 x2 h Q) : xR G YX9_string fr lo [rv x0, .int x1, .int x2] h Q := by
  show xP _ _ _ _ _ (lv_args 0 _) _ _ _
  rw [show lv_args 0 [rv x0, .int x1, .int x2] = [(0, rv x0), (1, .int x1), (2, .int x2)] from (xla1 (rv_cat _) (xla1 rfl (xla1 rfl xla0)))]
  exact uX9_string hq
set_option maxRecDepth 100000 in
theorem dX9_asks_0 : decode cX9_asks 0 = .ok (.aload_n 0, 1) := by decide +kernel
set_option maxRecDepth 100000 in
theorem dX9_asks_1 : decode cX9_asks 1 = .ok (.getfield 23, 3) := by decide +kernel
set_option maxRecDepth 100000 in
theorem dX9_asks_4 : decode cX9_asks 4 = .ok (.getfield 429, 3) := by decide +kernel
set_option maxRecDepth 100000 in
theorem dX9_asks_7 : decode cX9_asks 7 = .ok (.iload_n 2, 1) := by decide +kernel
set_option maxRecDepth 100000 in
theorem dX9_asks_8 : decode cX9_asks 8 = .ok (.iaload, 1) := by decide +kernel
set_option maxRecDepth 100000 in
theorem dX9_asks_9 : decode cX9_asks 9 = .ok (.iconst 2, 1) := by decide +kernel
set_option maxRecDepth 100000 in
theorem dX9_asks_10 : decode cX9_asks 10 = .ok (.if_icmp .eq 16, 3) := by decide +kernel
set_option maxRecDepth 100000 in
theorem dX9_asks_13 : decode cX9_asks 13 = .ok (.aload_n 0, 1) := by decide +kernel
set_option maxRecDepth 100000 in
theorem dX9_asks_14 : decode cX9_asks 14 = .ok (.getfield 23, 3) := by decide +kernel
set_option maxRecDepth 100000 in
theorem dX9_asks_17 : decode cX9_asks 17 = .ok (.getfield 432, 3) := by decide +kernel
set_option maxRecDepth 100000 in
theorem dX9_asks_20 : decode cX9_asks 20 = .ok (.iload_n 2, 1) := by decide +kernel
set_option maxRecDepth 100000 in
theorem dX9_asks_21 : decode cX9_asks 21 = .ok (.iaload, 1) := by decide +kernel
set_option maxRecDepth 100000 in
theorem dX9_asks_22 : decode cX9_asks 22 = .ok (.iconst (-1), 1) := by decide +kernel
set_option maxRecDepth 100000 in
theorem dX9_asks_23 : decode cX9_asks 23 = .ok (.if_icmp .ne 7, 3) := by decide +kernel
set_option maxRecDepth 100000 in
theorem dX9_asks_26 : decode cX9_asks 26 = .ok (.iconst 1, 1) := by decide +kernel
set_option maxRecDepth 100000 in
theorem dX9_asks_27 : decode cX9_asks 27 = .ok (.goto 4, 3) := by decide +kernel
set_option maxRecDepth 100000 in
theorem dX9_asks_30 : decode cX9_asks 30 = .ok (.iconst 0, 1) := by decide +kernel
set_option maxRecDepth 100000 in
theorem dX9_asks_31 : decode cX9_asks 31 = .ok (.istore 4, 2) := by decide +kernel
set_option maxRecDepth 100000 in
theorem dX9_asks_33 : decode cX9_asks 33 = .ok (.aload_n 0, 1) := by decide +kernel
set_option maxRecDepth 100000 in
theorem dX9_asks_34 : decode cX9_asks 34 = .ok (.getfield 23, 3) := by decide +kernel
set_option maxRecDepth 100000 in
theorem dX9_asks_37 : decode cX9_asks 37 = .ok (.getfield 429, 3) := by decide +kernel
set_option maxRecDepth 100000 in
theorem dX9_asks_40 : decode cX9_asks 40 = .ok (.iload_n 2, 1) := by decide +kernel
set_option maxRecDepth 100000 in
theorem dX9_asks_41 : decode cX9_asks 41 = .ok (.iaload, 1) := by decide +kernel
set_option maxRecDepth 100000 in
theorem dX9_asks_42 : decode cX9_asks 42 = .ok (.ifCond .eq 14, 3) := by decide +kernel
set_option maxRecDepth 100000 in
theorem dX9_asks_45 : decode cX9_asks 45 = .ok (.iload_n 1, 1) := by decide +kernel
set_option maxRecDepth 100000 in
theorem dX9_asks_46 : decode cX9_asks 46 = .ok (.bipush 81, 2) := by decide +kernel
set_option maxRecDepth 100000 in
theorem dX9_asks_48 : decode cX9_asks 48 = .ok (.if_icmp .ne 15, 3) := by decide +kernel
set_option maxRecDepth 100000 in
theorem dX9_asks_51 : decode cX9_asks 51 = .ok (.iload 4, 2) := by decide +kernel
set_option maxRecDepth 100000 in
theorem dX9_asks_53 : decode cX9_asks 53 = .ok (.ifCond .eq 10, 3) := by decide +kernel
set_option maxRecDepth 100000 in
theorem dX9_asks_56 : decode cX9_asks 56 = .ok (.aload_n 0, 1) := by decide +kernel
set_option maxRecDepth 100000 in
theorem dX9_asks_57 : decode cX9_asks 57 = .ok (.bipush 10, 2) := by decide +kernel
set_option maxRecDepth 100000 in
theorem dX9_asks_59 : decode cX9_asks 59 = .ok (.iload_n 3, 1) := by decide +kernel
set_option maxRecDepth 100000 in
theorem dX9_asks_60 : decode cX9_asks 60 = .ok (.invokevirtual 147, 3) := by decide +kernel
set_option maxRecDepth 100000 in
theorem dX9_asks_63 : decode cX9_asks 63 = .ok (.aload_n 0, 1) := by decide +kernel
set_option maxRecDepth 100000 in
theorem dX9_asks_64 : decode cX9_asks 64 = .ok (.getfield 28, 3) := by decide +kernel
set_option maxRecDepth 100000 in
theorem dX9_asks_67 : decode cX9_asks 67 = .ok (.aload_n 0, 1) := by decide +kernel
set_option maxRecDepth 100000 in
theorem dX9_asks_68 : decode cX9_asks 68 = .ok (.getfield 86, 3) := by decide +kernel
set_option maxRecDepth 100000 in
theorem dX9_asks_71 : decode cX9_asks 71 = .ok (.iconst 1, 1) := by decide +kernel
set_option maxRecDepth 100000 in
theorem dX9_asks_72 : decode cX9_asks 72 = .ok (.isub, 1) := by decide +kernel
set_option maxRecDepth 100000 in
theorem dX9_asks_73 : decode cX9_asks 73 = .ok (.iload_n 1, 1) := by decide +kernel
set_option maxRecDepth 100000 in
theorem dX9_asks_74 : decode cX9_asks 74 = .ok (.bipush 80, 2) := by decide +kernel
set_option maxRecDepth 100000 in
theorem dX9_asks_76 : decode cX9_asks 76 = .ok (.if_icmp .ne 11, 3) := by decide +kernel
set_option maxRecDepth 100000 in
theorem dX9_asks_79 : decode cX9_asks 79 = .ok (.iload 4, 2) := by decide +kernel
set_option maxRecDepth 100000 in
theorem dX9_asks_81 : decode cX9_asks 81 = .ok (.ifCond .eq 23, 3) := by decide +kernel
set_option maxRecDepth 100000 in
theorem dX9_asks_84 : decode cX9_asks 84 = .ok (.goto 16, 3) := by decide +kernel
set_option maxRecDepth 100000 in
theorem dX9_asks_87 : decode cX9_asks 87 = .ok (.aload_n 0, 1) := by decide +kernel
set_option maxRecDepth 100000 in
theorem dX9_asks_88 : decode cX9_asks 88 = .ok (.getfield 23, 3) := by decide +kernel
set_option maxRecDepth 100000 in
theorem dX9_asks_91 : decode cX9_asks 91 = .ok (.iload_n 2, 1) := by decide +kernel
set_option maxRecDepth 100000 in
theorem dX9_asks_92 : decode cX9_asks 92 = .ok (.invokevirtual 457, 3) := by decide +kernel
set_option maxRecDepth 100000 in
theorem dX9_asks_95 : decode cX9_asks 95 = .ok (.bipush 10, 2) := by decide +kernel
set_option maxRecDepth 100000 in
theorem dX9_asks_97 : decode cX9_asks 97 = .ok (.if_icmp .ne 7, 3) := by decide +kernel
set_option maxRecDepth 100000 in
theorem dX9_asks_100 : decode cX9_asks 100 = .ok (.lconst 1, 1) := by decide +kernel
set_option maxRecDepth 100000 in
theorem dX9_asks_101 : decode cX9_asks 101 = .ok (.goto 4, 3) := by decide +kernel
set_option maxRecDepth 100000 in
theorem dX9_asks_104 : decode cX9_asks 104 = .ok (.lconst 0, 1) := by decide +kernel
set_option maxRecDepth 100000 in
theorem dX9_asks_105 : decode cX9_asks 105 = .ok (.lastore, 1) := by decide +kernel
set_option maxRecDepth 100000 in
theorem dX9_asks_106 : decode cX9_asks 106 = .ok (.return_, 1) := by decide +kernel
set_option maxRecDepth 100000 in
def bX9_asks_105 (G : xG) (fr lo : Nat) (s0 : Int64) (s1 : Int32) (s2 : Nat) (h : xH) (Q : Outcome → xH → Prop) : Prop := tg h s2 = 101 ∧ vp_in s1 (ln h s2) ∧ (∀ h3 : xH, h3 = tJ h s2 (Int32.toNatClampNeg s1) s0 → Q (.returned none) h3)
set_option maxRecDepth 100000 in
theorem uX9_asks_105 {G : xG} {fr lo : Nat} {s0 : Int64} {s1 : Int32} {s2 : Nat} {h : xH} {Q : Outcome → xH → Prop} (hq : bX9_asks_105 G fr lo s0 s1 s2 h Q) : xP G YX9_asks fr lo 105 [] [.long s0, .int s1, rv s2] h Q := by
  unfold bX9_asks_105 at hq
  obtain ⟨g1, hq⟩ := hq
  obtain ⟨i2, hq⟩ := hq
  obtain ⟨h3, e4⟩ : ∃ y, y = tJ h s2 (Int32.toNatClampNeg s1) s0 := ⟨_, rfl⟩
  replace hq := hq h3 e4
  refine x_last' g1 i2 dX9_asks_105 e4 ?_
  exact x_vret rfl dX9_asks_106 hq
set_option maxRecDepth 100000 in
def bX9_asks_104 (G : xG) (fr lo : Nat) (s0 : Int32) (s1 : Nat) (h : xH) (Q : Outcome → xH → Prop) : Prop := bX9_asks_105 G fr lo 0 s0 s1 h Q
set_option maxRecDepth 100000 in
theorem uX9_asks_104 {G : xG} {fr lo : Nat} {s0 : Int32} {s1 : Nat} {h : xH} {Q : Outcome → xH → Prop} (hq : bX9_asks_104 G fr lo s0 s1 h Q) : xP G YX9_asks fr lo 104 [] [.int s0, rv s1] h Q := by
  unfold bX9_asks_104 at hq
  refine x_lconst (v := 0) dX9_asks_104 (by decide) ?_
  exact uX9_asks_105 hq
set_option maxRecDepth 100000 in
def bX9_asks_100 (G : xG) (fr lo : Nat) (s0 : Int32) (s1 : Nat) (h : xH) (Q : Outcome → xH → Prop) : Prop := bX9_asks_105 G fr lo 1 s0 s1 h Q
set_option maxRecDepth 100000 in
theorem uX9_asks_100 {G : xG} {fr lo : Nat} {s0 : Int32} {s1 : Nat} {h : xH} {Q : Outcome → xH → Prop} (hq : bX9_asks_100 G fr lo s0 s1 h Q) : xP G YX9_asks fr lo 100 [] [.int s0, rv s1] h Q := by
  unfold bX9_asks_100 at hq
  refine x_lconst (v := 1) dX9_asks_100 (by decide) ?_
  refine x_goto (tgt := 105) dX9_asks_101 (by decide) ?_
  exact uX9_asks_105 hq
set_option maxRecDepth 100000 in
def bX9_asks_63 (G : xG) (fr lo : Nat) (x0 : Nat) (x1 : Int32) (x2 : Int32) (x4 : Int32) (h : xH) (Q : Outcome → xH → Prop) : Prop := tg h x0 = 10 ∧ ((¬ x1 = 80 → tg h (fR h x0 2306) = 12 ∧ 1 ≤ fr ∧ 15 ≤ lo ∧ xRi G YX11_here (fr - 1) (lo - 15) [rv (fR h x0 2306), .int x2] h (fun x7 h6 => xext h h6 → ((¬ x7 = 10 → bX9_asks_104 G fr lo ((fI h x0 2310) - 1) (fR h x0 2307) h6 Q) ∧ (x7 = 10 → bX9_asks_100 G fr lo ((fI h x0 2310) - 1) (fR h x0 2307) h6 Q))) (fun r h2 => Q (.threw r) h2)) ∧ (x1 = 80 → ((x4 = 0 → bX9_asks_104 G fr lo ((fI h x0 2310) - 1) (fR h x0 2307) h Q) ∧ (¬ x4 = 0 → bX9_asks_100 G fr lo ((fI h x0 2310) - 1) (fR h x0 2307) h Q))))
set_option maxRecDepth 100000 in
theorem uX9_asks_63 {G : xG} {fr lo : Nat} {x0 : Nat} {x1 : Int32} {x2 : Int32} {x4 : Int32} {h : xH} {Q : Outcome → xH → Prop} (hq : bX9_asks_63 G fr lo x0 x1 x2 x4 h Q) : xP G YX9_asks fr lo 63 [(0, rv x0), (1, .int x1), (2, .int x2), (4, .int x4)] [] h Q := by
  unfold bX9_asks_63 at hq
  refine x_aload_n 0 dX9_asks_63 rfl ?_
  obtain ⟨g1, hq⟩ := hq
  refine x_get (v := rv (fR h x0 2307)) fdX9_28 dX9_asks_64 g1 rfl ?_
  refine x_aload_n 0 dX9_asks_67 rfl ?_
  refine x_get (v := .int (fI h x0 2310)) fdX9_86 dX9_asks_68 g1 rfl ?_
  refine x_iconst (v := 1) dX9_asks_71 (by decide) ?_
  refine x_isub dX9_asks_72 ?_
  refine x_iload_n 1 dX9_asks_73 rfl ?_
  refine x_bipush (v := 80) dX9_asks_74 (by decide) ?_
  refine x_icmp_ne (tgt := 87) dX9_asks_76 (by decide) (fun c2 => ?_) (fun c2 => ?_)
  · replace hq := hq.1 c2
    refine x_aload_n 0 dX9_asks_87 rfl ?_
    refine x_get (v := rv (fR h x0 2306)) fdX9_23 dX9_asks_88 g1 rfl ?_
    refine x_iload_n 2 dX9_asks_91 rfl ?_
    obtain ⟨g3, hq⟩ := hq
    obtain ⟨g4, g5, hq⟩ := hq
    refine x_callV (Yc := YX11_here) (as := [.int x2]) (st := [.int ((fI h x0 2310) - 1), rv (fR h x0 2307)]) q3131 mvX11_here g3 rfl dX9_asks_92 (xle (xal1 (rv_cat _) (xal1 rfl xal0)) (by decide)) (xfr g4) (xlo (xsw1 rfl (xsw1 (rv_cat _) xsw0)) (by decide) g5) (xKi hq (fun x7 h6 hq e8 => ?_) (fun _ _ q _ => q))
    replace hq := hq e8
    refine x_bipush (v := 10) dX9_asks_95 (by decide) ?_
    refine x_icmp_ne (tgt := 104) dX9_asks_97 (by decide) (fun c9 => ?_) (fun c9 => ?_)
    · replace hq := hq.1 c9
      refine xP.pick (lv' := []) [] rfl ?_
      exact uX9_asks_104 hq
    · replace hq := hq.2 c9
      refine xP.pick (lv' := []) [] rfl ?_
      exact uX9_asks_100 hq
  · replace hq := hq.2 c2
    refine x_iload 3 dX9_asks_79 rfl ?_
    refine x_if_eq (tgt := 104) dX9_asks_81 (by decide) (fun c10 => ?_) (fun c10 => ?_)
    · replace hq := hq.1 c10
      refine xP.pick (lv' := []) [] rfl ?_
      exact uX9_asks_104 hq
    · replace hq := hq.2 c10
      refine x_goto (tgt := 100) dX9_asks_84 (by decide) ?_
      refine xP.pick (lv' := []) [] rfl ?_
      exact uX9_asks_100 hq
set_option maxRecDepth 100000 in
def bX9_asks_56 (G : xG) (fr lo : Nat) (x0 : Nat) (x1 : Int32) (x2 : Int32) (x3 : Int32) (x4 : Int32) (h : xH) (Q : Outcome → xH → Prop) : Prop := tg h x0 = 10 ∧ 1 ≤ fr ∧ 14 ≤ lo ∧ xRv G YX9_fail (fr - 1) (lo - 14) [rv x0, .int 10, .int x3] h (fun h4 => xext h h4 → bX9_asks_63 G fr lo x0 x1 x2 x4 h4 Q) (fun r h2 => Q (.threw r) h2)
set_option maxRecDepth 100000 in
theorem uX9_asks_56 {G : xG} {fr lo : Nat} {x0 : Nat} {x1 : Int32} {x2 : Int32} {x3 : Int32} {x4 : Int32} {h : xH} {Q : Outcome → xH → Prop} (hq : bX9_asks_56 G fr lo x0 x1 x2 x3 x4 h Q) : xP G YX9_asks fr lo 56 [(0, rv x0), (1, .int x1), (2, .int x2), (3, .int x3), (4, .int x4)] [] h Q := by
  unfold bX9_asks_56 at hq
  refine x_aload_n 0 dX9_asks_56 rfl ?_
  refine x_bipush (v := 10) dX9_asks_57 (by decide) ?_
  refine x_iload_n 3 dX9_asks_59 rfl ?_
  obtain ⟨g1, hq⟩ := hq
  obtain ⟨g2, g3, hq⟩ := hq
  refine x_callV (Yc := YX9_fail) (as := [.int 10, .int x3]) (st := []) q2835 mvX9_fail g1 rfl dX9_asks_60 (xle (xal1 (rv_cat _) (xal1 rfl (xal1 rfl xal0))) (by decide)) (xfr g2) (xlo xsw0 (by decide) g3) (xKv hq (fun h4 hq e6 => ?_) (fun _ _ q _ => q))
  replace hq := hq e6
  refine xP.pick (lv' := [(0, rv x0), (1, .int x1), (2, .int x2), (4, .int x4)]) [0, 1, 2, 4] rfl ?_
  exact uX9_asks_63 hq
set_option maxRecDepth 100000 in
def bX9_asks_31 (G : xG) (fr lo : Nat) (x0 : Nat) (x1 : Int32) (x2 : Int32) (x3 : Int32) (s0 : Int32) (h : xH) (Q : Outcome → xH → Prop) : Prop := tg h x0 = 10 ∧ tg h (fR h x0 2306) = 12 ∧ tg h (fR h (fR h x0 2306) 2817) = 100 ∧ vp_in x2 (ln h (fR h (fR h x0 2306) 2817)) ∧ (((aI h (fR h (fR h x0 2306) 2817) (Int32.toNatClampNeg x2)) = 0 → bX9_asks_56 G fr lo x0 x1 x2 x3 s0 h Q) ∧ (¬ (aI h (fR h (fR h x0 2306) 2817) (Int32.toNatClampNeg x2)) = 0 → ((¬ x1 = 81 → bX9_asks_63 G fr lo x0 x1 x2 s0 h Q) ∧ (x1 = 81 → ((s0 = 0 → bX9_asks_63 G fr lo x0 x1 x2 s0 h Q) ∧ (¬ s0 = 0 → bX9_asks_56 G fr lo x0 x1 x2 x3 s0 h Q))))))
set_option maxRecDepth 100000 in
theorem uX9_asks_31 {G : xG} {fr lo : Nat} {x0 : Nat} {x1 : Int32} {x2 : Int32} {x3 : Int32} {s0 : Int32} {h : xH} {Q : Outcome → xH → Prop} (hq : bX9_asks_31 G fr lo x0 x1 x2 x3 s0 h Q) : xP G YX9_asks fr lo 31 [(0, rv x0), (1, .int x1), (2, .int x2), (3, .int x3)] [.int s0] h Q := by
  unfold bX9_asks_31 at hq
  refine x_istore (lv' := [(4, .int s0), (0, rv x0), (1, .int x1), (2, .int x2), (3, .int x3)]) dX9_asks_31 (by decide) rfl ?_
  refine x_aload_n 1 dX9_asks_33 rfl ?_
  obtain ⟨g1, hq⟩ := hq
  refine x_get (v := rv (fR h x0 2306)) fdX9_23 dX9_asks_34 g1 rfl ?_
  obtain ⟨g2, hq⟩ := hq
  refine x_getN (v := rv (fR h (fR h x0 2306) 2817)) gfX9_429 dX9_asks_37 g2 rfl ?_
  refine x_iload_n 3 dX9_asks_40 rfl ?_
  obtain ⟨g3, hq⟩ := hq
  obtain ⟨i4, hq⟩ := hq
  refine x_iald 0 (Or.inl rfl) g3 i4 dX9_asks_41 ?_
  refine x_if_eq (tgt := 56) dX9_asks_42 (by decide) (fun c5 => ?_) (fun c5 => ?_)
  · replace hq := hq.1 c5
    refine xP.pick (lv' := [(0, rv x0), (1, .int x1), (2, .int x2), (3, .int x3), (4, .int s0)]) [1, 2, 3, 4, 0] rfl ?_
    exact uX9_asks_56 hq
  · replace hq := hq.2 c5
    refine x_iload_n 2 dX9_asks_45 rfl ?_
    refine x_bipush (v := 81) dX9_asks_46 (by decide) ?_
    refine x_icmp_ne (tgt := 63) dX9_asks_48 (by decide) (fun c6 => ?_) (fun c6 => ?_)
    · replace hq := hq.1 c6
      refine xP.pick (lv' := [(0, rv x0), (1, .int x1), (2, .int x2), (4, .int s0)]) [1, 2, 3, 0] rfl ?_
      exact uX9_asks_63 hq
    · replace hq := hq.2 c6
      refine x_iload 0 dX9_asks_51 rfl ?_
      refine x_if_eq (tgt := 63) dX9_asks_53 (by decide) (fun c7 => ?_) (fun c7 => ?_)
      · replace hq := hq.1 c7
        refine xP.pick (lv' := [(0, rv x0), (1, .int x1), (2, .int x2), (4, .int s0)]) [1, 2, 3, 0] rfl ?_
        exact uX9_asks_63 hq
      · replace hq := hq.2 c7
        refine xP.pick (lv' := [(0, rv x0), (1, .int x1), (2, .int x2), (3, .int x3), (4, .int s0)]) [1, 2, 3, 4, 0] rfl ?_
        exact uX9_asks_56 hq
set_option maxRecDepth 100000 in
def bX9_asks_26 (G : xG) (fr lo : Nat) (x0 : Nat) (x1 : Int32) (x2 : Int32) (x3 : Int32) (h : xH) (Q : Outcome → xH → Prop) : Prop := bX9_asks_31 G fr lo x0 x1 x2 x3 1 h Q
set_option maxRecDepth 100000 in
theorem uX9_asks_26 {G : xG} {fr lo : Nat} {x0 : Nat} {x1 : Int32} {x2 : Int32} {x3 : Int32} {h : xH} {Q : Outcome → xH → Prop} (hq : bX9_asks_26 G fr lo x0 x1 x2 x3 h Q) : xP G YX9_asks fr lo 26 [(0, rv x0), (1, .int x1), (2, .int x2), (3, .int x3)] [] h Q := by
  unfold bX9_asks_26 at hq
  refine x_iconst (v := 1) dX9_asks_26 (by decide) ?_
  refine x_goto (tgt := 31) dX9_asks_27 (by decide) ?_
  exact uX9_asks_31 hq
set_option maxRecDepth 100000 in
def bX9_asks (G : xG) (fr lo : Nat) (x0 : Nat) (x1 : Int32) (x2 : Int32) (x3 : Int32) (h : xH) (Q : Outcome → xH → Prop) : Prop := tg h x0 = 10 ∧ tg h (fR h x0 2306) = 12 ∧ tg h (fR h (fR h x0 2306) 2817) = 100 ∧ vp_in x2 (ln h (fR h (fR h x0 2306) 2817)) ∧ (((aI h (fR h (fR h x0 2306) 2817) (Int32.toNatClampNeg x2)) = 2 → bX9_asks_26 G fr lo x0 x1 x2 x3 h Q) ∧ (¬ (aI h (fR h (fR h x0 2306) 2817) (Int32.toNatClampNeg x2)) = 2 → tg h (fR h (fR h x0 2306) 2820) = 100 ∧ vp_in x2 (ln h (fR h (fR h x0 2306) 2820)) ∧ ((¬ (aI h (fR h (fR h x0 2306) 2820) (Int32.toNatClampNeg x2)) = (-1) → bX9_asks_31 G fr lo x0 x1 x2 x3 0 h Q) ∧ ((aI h (fR h (fR h x0 2306) 2820) (Int32.toNatClampNeg x2)) = (-1) → bX9_asks_26 G fr lo x0 x1 x2 x3 h Q))))
set_option maxRecDepth 100000 in
theorem uX9_asks {G : xG} {fr lo : Nat} {x0 : Nat} {x1 : Int32} {x2 : Int32} {x3 : Int32} {h : xH} {Q : Outcome → xH → Prop} (hq : bX9_asks G fr lo x0 x1 x2 x3 h Q) : xP G YX9_asks fr lo 0 [(0, rv x0), (1, .int x1), (2, .int x2), (3, .int x3)] [] h Q := by
  unfold bX9_asks at hq
  refine x_aload_n 0 dX9_asks_0 rfl ?_
  obtain ⟨g1, hq⟩ := hq
  refine x_get (v := rv (fR h x0 2306)) fdX9_23 dX9_asks_1 g1 rfl ?_
  obtain ⟨g2, hq⟩ := hq
  refine x_getN (v := rv (fR h (fR h x0 2306) 2817)) gfX9_429 dX9_asks_4 g2 rfl ?_
  refine x_iload_n 2 dX9_asks_7 rfl ?_
  obtain ⟨g3, hq⟩ := hq
  obtain ⟨i4, hq⟩ := hq
  refine x_iald 0 (Or.inl rfl) g3 i4 dX9_asks_8 ?_
  refine x_iconst (v := 2) dX9_asks_9 (by decide) ?_
  refine x_icmp_eq (tgt := 26) dX9_asks_10 (by decide) (fun c5 => ?_) (fun c5 => ?_)
  · replace hq := hq.1 c5
    exact uX9_asks_26 hq
  · replace hq := hq.2 c5
    refine x_aload_n 0 dX9_asks_13 rfl ?_
    refine x_get (v := rv (fR h x0 2306)) fdX9_23 dX9_asks_14 g1 rfl ?_
    refine x_getN (v := rv (fR h (fR h x0 2306) 2820)) gfX9_432 dX9_asks_17 g2 rfl ?_
    refine x_iload_n 2 dX9_asks_20 rfl ?_
    obtain ⟨g6, hq⟩ := hq
    obtain ⟨i7, hq⟩ := hq
    refine x_iald 0 (Or.inl rfl) g6 i7 dX9_asks_21 ?_
    refine x_iconst (v := (-1)) dX9_asks_22 (by decide) ?_
    refine x_icmp_ne (tgt := 30) dX9_asks_23 (by decide) (fun c8 => ?_) (fun c8 => ?_)
    · replace hq := hq.1 c8
      refine x_iconst (v := 0) dX9_asks_30 (by decide) ?_
      exact uX9_asks_31 hq
    · replace hq := hq.2 c8
      exact uX9_asks_26 hq
theorem rX9_asks {G : xG} {fr lo : Nat} {x0 : Nat} {x1 : Int32} {x2 : Int32} {x3 : Int32} {h : xH} {Q : Outcome → xH → Prop} (hq : bX9_asks G fr lo x0 x1 x2 x3 h Q) : xR G YX9_asks fr lo [rv x0, .int x1, .int x2, .int x3] h Q := by
  show xP _ _ _ _ _ (lv_args 0 _) _ _ _
  rw [show lv_args 0 [rv x0, .int x1, .int x2, .int x3] = [(0, rv x0), (1, .int x1), (2, .int x2), (3, .int x3)] from (xla1 (rv_cat _) (xla1 rfl (xla1 rfl (xla1 rfl xla0))))]
  exact uX9_asks hq
set_option maxRecDepth 100000 in
theorem dX9_makes_0 : decode cX9_makes 0 = .ok (.aload_n 0, 1) := by decide +kernel
set_option maxRecDepth 100000 in
theorem dX9_makes_1 : decode cX9_makes 1 = .ok (.dup, 1) := by decide +kernel
set_option maxRecDepth 100000 in
theorem dX9_makes_2 : decode cX9_makes 2 = .ok (.getfield 86, 3) := by decide +kernel
set_option maxRecDepth 100000 in
theorem dX9_makes_5 : decode cX9_makes 5 = .ok (.iconst 1, 1) := by decide +kernel
set_option maxRecDepth 100000 in
theorem dX9_makes_6 : decode cX9_makes 6 = .ok (.isub, 1) := by decide +kernel
set_option maxRecDepth 100000 in
theorem dX9_makes_7 : decode cX9_makes 7 = .ok (.putfield 86, 3) := by decide +kernel
set_option maxRecDepth 100000 in
theorem dX9_makes_10 : decode cX9_makes 10 = .ok (.iload_n 2, 1) := by decide +kernel
set_option maxRecDepth 100000 in
theorem dX9_makes_11 : decode cX9_makes 11 = .ok (.iconst 1, 1) := by decide +kernel
set_option maxRecDepth 100000 in
theorem dX9_makes_12 : decode cX9_makes 12 = .ok (.if_icmp .ge 7, 3) := by decide +kernel
set_option maxRecDepth 100000 in
theorem dX9_makes_15 : decode cX9_makes 15 = .ok (.iconst 1, 1) := by decide +kernel
set_option maxRecDepth 100000 in
theorem dX9_makes_16 : decode cX9_makes 16 = .ok (.goto 4, 3) := by decide +kernel
set_option maxRecDepth 100000 in
theorem dX9_makes_19 : decode cX9_makes 19 = .ok (.iload_n 2, 1) := by decide +kernel
set_option maxRecDepth 100000 in
theorem dX9_makes_20 : decode cX9_makes 20 = .ok (.istore 4, 2) := by decide +kernel
set_option maxRecDepth 100000 in
theorem dX9_makes_22 : decode cX9_makes 22 = .ok (.aload_n 0, 1) := by decide +kernel
set_option maxRecDepth 100000 in
theorem dX9_makes_23 : decode cX9_makes 23 = .ok (.getfield 114, 3) := by decide +kernel
set_option maxRecDepth 100000 in
theorem dX9_makes_26 : decode cX9_makes 26 = .ok (.iload 4, 2) := by decide +kernel
set_option maxRecDepth 100000 in
theorem dX9_makes_28 : decode cX9_makes 28 = .ok (.iadd, 1) := by decide +kernel
set_option maxRecDepth 100000 in
theorem dX9_makes_29 : decode cX9_makes 29 = .ok (.sipush 10000, 3) := by decide +kernel
set_option maxRecDepth 100000 in
theorem dX9_makes_32 : decode cX9_makes 32 = .ok (.if_icmp .le 11, 3) := by decide +kernel
set_option maxRecDepth 100000 in
theorem dX9_makes_35 : decode cX9_makes 35 = .ok (.aload_n 0, 1) := by decide +kernel
set_option maxRecDepth 100000 in
theorem dX9_makes_36 : decode cX9_makes 36 = .ok (.bipush 14, 2) := by decide +kernel
set_option maxRecDepth 100000 in
theorem dX9_makes_38 : decode cX9_makes 38 = .ok (.iload_n 3, 1) := by decide +kernel
set_option maxRecDepth 100000 in
theorem dX9_makes_39 : decode cX9_makes 39 = .ok (.invokevirtual 147, 3) := by decide +kernel
set_option maxRecDepth 100000 in
theorem dX9_makes_42 : decode cX9_makes 42 = .ok (.return_, 1) := by decide +kernel
set_option maxRecDepth 100000 in
theorem dX9_makes_43 : decode cX9_makes 43 = .ok (.aload_n 0, 1) := by decide +kernel
set_option maxRecDepth 100000 in
theorem dX9_makes_44 : decode cX9_makes 44 = .ok (.dup, 1) := by decide +kernel
set_option maxRecDepth 100000 in
theorem dX9_makes_45 : decode cX9_makes 45 = .ok (.getfield 117, 3) := by decide +kernel
set_option maxRecDepth 100000 in
theorem dX9_makes_48 : decode cX9_makes 48 = .ok (.iconst 1, 1) := by decide +kernel
set_option maxRecDepth 100000 in
theorem dX9_makes_49 : decode cX9_makes 49 = .ok (.iadd, 1) := by decide +kernel
set_option maxRecDepth 100000 in
theorem dX9_makes_50 : decode cX9_makes 50 = .ok (.putfield 117, 3) := by decide +kernel
set_option maxRecDepth 100000 in
theorem dX9_makes_53 : decode cX9_makes 53 = .ok (.aload_n 0, 1) := by decide +kernel
set_option maxRecDepth 100000 in
theorem dX9_makes_54 : decode cX9_makes 54 = .ok (.dup, 1) := by decide +kernel
set_option maxRecDepth 100000 in
theorem dX9_makes_55 : decode cX9_makes 55 = .ok (.getfield 120, 3) := by decide +kernel
set_option maxRecDepth 100000 in
theorem dX9_makes_58 : decode cX9_makes 58 = .ok (.iconst 1, 1) := by decide +kernel
set_option maxRecDepth 100000 in
theorem dX9_makes_59 : decode cX9_makes 59 = .ok (.iadd, 1) := by decide +kernel
set_option maxRecDepth 100000 in
theorem dX9_makes_60 : decode cX9_makes 60 = .ok (.putfield 120, 3) := by decide +kernel
set_option maxRecDepth 100000 in
theorem dX9_makes_63 : decode cX9_makes 63 = .ok (.aload_n 0, 1) := by decide +kernel
set_option maxRecDepth 100000 in
theorem dX9_makes_64 : decode cX9_makes 64 = .ok (.getfield 64, 3) := by decide +kernel
set_option maxRecDepth 100000 in
theorem dX9_makes_67 : decode cX9_makes 67 = .ok (.aload_n 0, 1) := by decide +kernel
set_option maxRecDepth 100000 in
theorem dX9_makes_68 : decode cX9_makes 68 = .ok (.getfield 117, 3) := by decide +kernel
set_option maxRecDepth 100000 in
theorem dX9_makes_71 : decode cX9_makes 71 = .ok (.sipush 20000, 3) := by decide +kernel
set_option maxRecDepth 100000 in
theorem dX9_makes_74 : decode cX9_makes 74 = .ok (.aload_n 0, 1) := by decide +kernel
set_option maxRecDepth 100000 in
theorem dX9_makes_75 : decode cX9_makes 75 = .ok (.getfield 114, 3) := by decide +kernel
set_option maxRecDepth 100000 in
theorem dX9_makes_78 : decode cX9_makes 78 = .ok (.iadd, 1) := by decide +kernel
set_option maxRecDepth 100000 in
theorem dX9_makes_79 : decode cX9_makes 79 = .ok (.iastore, 1) := by decide +kernel
set_option maxRecDepth 100000 in
theorem dX9_makes_80 : decode cX9_makes 80 = .ok (.aload_n 0, 1) := by decide +kernel
set_option maxRecDepth 100000 in
theorem dX9_makes_81 : decode cX9_makes 81 = .ok (.getfield 67, 3) := by decide +kernel
set_option maxRecDepth 100000 in
theorem dX9_makes_84 : decode cX9_makes 84 = .ok (.aload_n 0, 1) := by decide +kernel
set_option maxRecDepth 100000 in
theorem dX9_makes_85 : decode cX9_makes 85 = .ok (.getfield 117, 3) := by decide +kernel
set_option maxRecDepth 100000 in
theorem dX9_makes_88 : decode cX9_makes 88 = .ok (.iconst 0, 1) := by decide +kernel
set_option maxRecDepth 100000 in
theorem dX9_makes_89 : decode cX9_makes 89 = .ok (.bastore, 1) := by decide +kernel
set_option maxRecDepth 100000 in
theorem dX9_makes_90 : decode cX9_makes 90 = .ok (.aload_n 0, 1) := by decide +kernel
set_option maxRecDepth 100000 in
theorem dX9_makes_91 : decode cX9_makes 91 = .ok (.getfield 12, 3) := by decide +kernel
set_option maxRecDepth 100000 in
theorem dX9_makes_94 : decode cX9_makes 94 = .ok (.sipush 20000, 3) := by decide +kernel
set_option maxRecDepth 100000 in
theorem dX9_makes_97 : decode cX9_makes 97 = .ok (.aload_n 0, 1) := by decide +kernel
set_option maxRecDepth 100000 in
theorem dX9_makes_98 : decode cX9_makes 98 = .ok (.getfield 114, 3) := by decide +kernel
set_option maxRecDepth 100000 in
theorem dX9_makes_101 : decode cX9_makes 101 = .ok (.iadd, 1) := by decide +kernel
set_option maxRecDepth 100000 in
theorem dX9_makes_102 : decode cX9_makes 102 = .ok (.sipush 20000, 3) := by decide +kernel
set_option maxRecDepth 100000 in
theorem dX9_makes_105 : decode cX9_makes 105 = .ok (.aload_n 0, 1) := by decide +kernel
set_option maxRecDepth 100000 in
theorem dX9_makes_106 : decode cX9_makes 106 = .ok (.getfield 114, 3) := by decide +kernel
set_option maxRecDepth 100000 in
theorem dX9_makes_109 : decode cX9_makes 109 = .ok (.iadd, 1) := by decide +kernel
set_option maxRecDepth 100000 in
theorem dX9_makes_110 : decode cX9_makes 110 = .ok (.iload 4, 2) := by decide +kernel
set_option maxRecDepth 100000 in
theorem dX9_makes_112 : decode cX9_makes 112 = .ok (.iadd, 1) := by decide +kernel
set_option maxRecDepth 100000 in
theorem dX9_makes_113 : decode cX9_makes 113 = .ok (.invokevirtual 155, 3) := by decide +kernel
set_option maxRecDepth 100000 in
theorem dX9_makes_116 : decode cX9_makes 116 = .ok (.aload_n 0, 1) := by decide +kernel
set_option maxRecDepth 100000 in
theorem dX9_makes_117 : decode cX9_makes 117 = .ok (.dup, 1) := by decide +kernel
set_option maxRecDepth 100000 in
theorem dX9_makes_118 : decode cX9_makes 118 = .ok (.getfield 114, 3) := by decide +kernel
set_option maxRecDepth 100000 in
theorem dX9_makes_121 : decode cX9_makes 121 = .ok (.iload 4, 2) := by decide +kernel
set_option maxRecDepth 100000 in
theorem dX9_makes_123 : decode cX9_makes 123 = .ok (.iadd, 1) := by decide +kernel
set_option maxRecDepth 100000 in
theorem dX9_makes_124 : decode cX9_makes 124 = .ok (.putfield 114, 3) := by decide +kernel
set_option maxRecDepth 100000 in
theorem dX9_makes_127 : decode cX9_makes 127 = .ok (.aload_n 0, 1) := by decide +kernel
set_option maxRecDepth 100000 in
theorem dX9_makes_128 : decode cX9_makes 128 = .ok (.getfield 12, 3) := by decide +kernel
set_option maxRecDepth 100000 in
theorem dX9_makes_131 : decode cX9_makes 131 = .ok (.iload_n 1, 1) := by decide +kernel
set_option maxRecDepth 100000 in
theorem dX9_makes_132 : decode cX9_makes 132 = .ok (.aload_n 0, 1) := by decide +kernel
set_option maxRecDepth 100000 in
theorem dX9_makes_133 : decode cX9_makes 133 = .ok (.getfield 117, 3) := by decide +kernel
set_option maxRecDepth 100000 in
theorem dX9_makes_136 : decode cX9_makes 136 = .ok (.i2l, 1) := by decide +kernel
set_option maxRecDepth 100000 in
theorem dX9_makes_137 : decode cX9_makes 137 = .ok (.invokevirtual 140, 3) := by decide +kernel
set_option maxRecDepth 100000 in
theorem dX9_makes_140 : decode cX9_makes 140 = .ok (.return_, 1) := by decide +kernel
set_option maxRecDepth 100000 in
def bX9_makes_20 (G : xG) (fr lo : Nat) (x0 : Nat) (x1 : Int32) (x3 : Int32) (s0 : Int32) (h : xH) (Q : Outcome → xH → Prop) : Prop := tg h x0 = 10 ∧ ((((fI h x0 2323) + s0) ≤ 10000 → (∀ h3 : xH, h3 = sI h x0 2324 ((fI h x0 2324) + 1) → (∀ h6 : xH, h6 = sI h3 x0 2325 ((fI h3 x0 2325) + 1) → tg h6 (fR h6 x0 2321) = 100 ∧ vp_in (fI h6 x0 2324) (ln h6 (fR h6 x0 2321)) ∧ (∀ h11 : xH, h11 = tI h6 (fR h6 x0 2321) (Int32.toNatClampNeg (fI h6 x0 2324)) (20000 + (fI h6 x0 2323)) → tg h11 (fR h11 x0 2322) = 104 ∧ vp_in (fI h11 x0 2324) (ln h11 (fR h11 x0 2322)) ∧ (∀ h16 : xH, h16 = tI h11 (fR h11 x0 2322) (Int32.toNatClampNeg (fI h11 x0 2324)) (vp_nar .boolean 0) → tg h16 (fR h16 x0 2305) = 11 ∧ 1 ≤ fr ∧ 15 ≤ lo ∧ xRv G YX10_forget (fr - 1) (lo - 15) [rv (fR h16 x0 2305), .int (20000 + (fI h16 x0 2323)), .int ((20000 + (fI h16 x0 2323)) + s0)] h16 (fun h22 => xext h16 h22 → (∀ h26 : xH, h26 = sI h22 x0 2323 ((fI h22 x0 2323) + s0) → tg h26 (fR h26 x0 2305) = 11 ∧ 1 ≤ fr ∧ 15 ≤ lo ∧ xRv G YX10_set (fr - 1) (lo - 15) [rv (fR h26 x0 2305), .int x1, .long (Int32.toInt64 (fI h26 x0 2324))] h26 (fun h32 => xext h26 h32 → Q (.returned none) h32) (fun r h2 => Q (.threw r) h2))) (fun r h2 => Q (.threw r) h2)))))) ∧ (¬ ((fI h x0 2323) + s0) ≤ 10000 → 1 ≤ fr ∧ 14 ≤ lo ∧ xRv G YX9_fail (fr - 1) (lo - 14) [rv x0, .int 14, .int x3] h (fun h37 => xext h h37 → Q (.returned none) h37) (fun r h2 => Q (.threw r) h2)))
set_option maxRecDepth 100000 in
theorem uX9_makes_20 {G : xG} {fr lo : Nat} {x0 : Nat} {x1 : Int32} {x3 : Int32} {s0 : Int32} {h : xH} {Q : Outcome → xH → Prop} (hq : bX9_makes_20 G fr lo x0 x1 x3 s0 h Q) : xP G YX9_makes fr lo 20 [(0, rv x0), (1, .int x1), (3, .int x3)] [.int s0] h Q := by
  unfold bX9_makes_20 at hq
  refine x_istore (lv' := [(4, .int s0), (0, rv x0), (1, .int x1), (3, .int x3)]) dX9_makes_20 (by decide) rfl ?_
  refine x_aload_n 1 dX9_makes_22 rfl ?_
  obtain ⟨g1, hq⟩ := hq
  refine x_get (v := .int (fI h x0 2323)) fdX9_114 dX9_makes_23 g1 rfl ?_
  refine x_iload 0 dX9_makes_26 rfl ?_
  refine x_iadd dX9_makes_28 ?_
  refine x_sipush (v := 10000) dX9_makes_29 (by decide) ?_
  refine x_icmp_le (tgt := 43) dX9_makes_32 (by decide) (fun c2 => ?_) (fun c2 => ?_)
  · replace hq := hq.1 c2
    refine x_aload_n 1 dX9_makes_43 rfl ?_
    refine x_dup dX9_makes_44 (rv_cat _) ?_
    refine x_get (v := .int (fI h x0 2324)) fdX9_117 dX9_makes_45 g1 rfl ?_
    refine x_iconst (v := 1) dX9_makes_48 (by decide) ?_
    refine x_iadd dX9_makes_49 ?_
    obtain ⟨h3, e4⟩ : ∃ y, y = sI h x0 2324 ((fI h x0 2324) + 1) := ⟨_, rfl⟩
    replace hq := hq h3 e4
    refine x_putI fdX9_117 xty_I1 dX9_makes_50 g1 (Or.inl (by rw [g1]; rfl)) xnI rfl e4 ?_
    refine x_aload_n 1 dX9_makes_53 rfl ?_
    refine x_dup dX9_makes_54 (rv_cat _) ?_
    have t5 : tg h3 x0 = 10 := by rw [e4]; exact g1
    refine x_get (v := .int (fI h3 x0 2325)) fdX9_120 dX9_makes_55 t5 rfl ?_
    refine x_iconst (v := 1) dX9_makes_58 (by decide) ?_
    refine x_iadd dX9_makes_59 ?_
    obtain ⟨h6, e7⟩ : ∃ y, y = sI h3 x0 2325 ((fI h3 x0 2325) + 1) := ⟨_, rfl⟩
    replace hq := hq h6 e7
    refine x_putI fdX9_120 xty_I1 dX9_makes_60 t5 (Or.inl (by rw [t5]; rfl)) xnI rfl e7 ?_
    refine x_aload_n 1 dX9_makes_63 rfl ?_
    have t8 : tg h6 x0 = 10 := by rw [e7]; exact t5
    refine x_get (v := rv (fR h6 x0 2321)) fdX9_64 dX9_makes_64 t8 rfl ?_
    refine x_aload_n 1 dX9_makes_67 rfl ?_
    refine x_get (v := .int (fI h6 x0 2324)) fdX9_117 dX9_makes_68 t8 rfl ?_
    refine x_sipush (v := 20000) dX9_makes_71 (by decide) ?_
    refine x_aload_n 1 dX9_makes_74 rfl ?_
    refine x_get (v := .int (fI h6 x0 2323)) fdX9_114 dX9_makes_75 t8 rfl ?_
    refine x_iadd dX9_makes_78 ?_
    obtain ⟨g9, hq⟩ := hq
    obtain ⟨i10, hq⟩ := hq
    obtain ⟨h11, e12⟩ : ∃ y, y = tI h6 (fR h6 x0 2321) (Int32.toNatClampNeg (fI h6 x0 2324)) (20000 + (fI h6 x0 2323)) := ⟨_, rfl⟩
    replace hq := hq h11 e12
    refine x_iast' g9 i10 dX9_makes_79 e12 ?_
    refine x_aload_n 1 dX9_makes_80 rfl ?_
    have t13 : tg h11 x0 = 10 := by rw [e12]; exact t8
    refine x_get (v := rv (fR h11 x0 2322)) fdX9_67 dX9_makes_81 t13 rfl ?_
    refine x_aload_n 1 dX9_makes_84 rfl ?_
    refine x_get (v := .int (fI h11 x0 2324)) fdX9_117 dX9_makes_85 t13 rfl ?_
    refine x_iconst (v := 0) dX9_makes_88 (by decide) ?_
    obtain ⟨g14, hq⟩ := hq
    obtain ⟨i15, hq⟩ := hq
    obtain ⟨h16, e17⟩ : ∃ y, y = tI h11 (fR h11 x0 2322) (Int32.toNatClampNeg (fI h11 x0 2324)) (vp_nar .boolean 0) := ⟨_, rfl⟩
    replace hq := hq h16 e17
    refine x_zast' g14 i15 dX9_makes_89 e17 ?_
    refine x_aload_n 1 dX9_makes_90 rfl ?_
    have t18 : tg h16 x0 = 10 := by rw [e17]; exact t13
    refine x_get (v := rv (fR h16 x0 2305)) fdX9_12 dX9_makes_91 t18 rfl ?_
    refine x_sipush (v := 20000) dX9_makes_94 (by decide) ?_
    refine x_aload_n 1 dX9_makes_97 rfl ?_
    refine x_get (v := .int (fI h16 x0 2323)) fdX9_114 dX9_makes_98 t18 rfl ?_
    refine x_iadd dX9_makes_101 ?_
    refine x_sipush (v := 20000) dX9_makes_102 (by decide) ?_
    refine x_aload_n 1 dX9_makes_105 rfl ?_
    refine x_get (v := .int (fI h16 x0 2323)) fdX9_114 dX9_makes_106 t18 rfl ?_
    refine x_iadd dX9_makes_109 ?_
    refine x_iload 0 dX9_makes_110 rfl ?_
    refine x_iadd dX9_makes_112 ?_
    obtain ⟨g19, hq⟩ := hq
    obtain ⟨g20, g21, hq⟩ := hq
    refine x_callV (Yc := YX10_forget) (as := [.int (20000 + (fI h16 x0 2323)), .int ((20000 + (fI h16 x0 2323)) + s0)]) (st := []) q2843 mvX10_forget g19 rfl dX9_makes_113 (xle (xal1 (rv_cat _) (xal1 rfl (xal1 rfl xal0))) (by decide)) (xfr g20) (xlo xsw0 (by decide) g21) (xKv hq (fun h22 hq e24 => ?_) (fun _ _ q _ => q))
    replace hq := hq e24
    refine x_aload_n 1 dX9_makes_116 rfl ?_
    refine x_dup dX9_makes_117 (rv_cat _) ?_
    have t25 : tg h22 x0 = 10 := e24.tg t18 (by decide)
    refine x_get (v := .int (fI h22 x0 2323)) fdX9_114 dX9_makes_118 t25 rfl ?_
    refine x_iload 0 dX9_makes_121 rfl ?_
    refine x_iadd dX9_makes_123 ?_
    obtain ⟨h26, e27⟩ : ∃ y, y = sI h22 x0 2323 ((fI h22 x0 2323) + s0) := ⟨_, rfl⟩
    replace hq := hq h26 e27
    refine x_putI fdX9_114 xty_I1 dX9_makes_124 t25 (Or.inl (by rw [t25]; rfl)) xnI rfl e27 ?_
    refine x_aload_n 1 dX9_makes_127 rfl ?_
    have t28 : tg h26 x0 = 10 := by rw [e27]; exact t25
    refine x_get (v := rv (fR h26 x0 2305)) fdX9_12 dX9_makes_128 t28 rfl ?_
    refine x_iload_n 2 dX9_makes_131 rfl ?_
    refine x_aload_n 1 dX9_makes_132 rfl ?_
    refine x_get (v := .int (fI h26 x0 2324)) fdX9_117 dX9_makes_133 t28 rfl ?_
    refine x_i2l dX9_makes_136 ?_
    obtain ⟨g29, hq⟩ := hq
    obtain ⟨g30, g31, hq⟩ := hq
    refine x_callV (Yc := YX10_set) (as := [.int x1, .long (Int32.toInt64 (fI h26 x0 2324))]) (st := []) q2831 mvX10_set g29 rfl dX9_makes_137 (xle (xal1 (rv_cat _) (xal1 rfl (xal2 rfl xal0))) (by decide)) (xfr g30) (xlo xsw0 (by decide) g31) (xKv hq (fun h32 hq e34 => ?_) (fun _ _ q _ => q))
    replace hq := hq e34
    exact x_vret rfl dX9_makes_140 hq
  · replace hq := hq.2 c2
    refine x_aload_n 1 dX9_makes_35 rfl ?_
    refine x_bipush (v := 14) dX9_makes_36 (by decide) ?_
    refine x_iload_n 3 dX9_makes_38 rfl ?_
    obtain ⟨g35, g36, hq⟩ := hq
    refine x_callV (Yc := YX9_fail) (as := [.int 14, .int x3]) (st := []) q2835 mvX9_fail g1 rfl dX9_makes_39 (xle (xal1 (rv_cat _) (xal1 rfl (xal1 rfl xal0))) (by decide)) (xfr g35) (xlo xsw0 (by decide) g36) (xKv hq (fun h37 hq e39 => ?_) (fun _ _ q _ => q))
    replace hq := hq e39
    exact x_vret rfl dX9_makes_42 hq
set_option maxRecDepth 100000 in
def bX9_makes (G : xG) (fr lo : Nat) (x0 : Nat) (x1 : Int32) (x2 : Int32) (x3 : Int32) (h : xH) (Q : Outcome → xH → Prop) : Prop := tg h x0 = 10 ∧ (∀ h2 : xH, h2 = sI h x0 2310 ((fI h x0 2310) - 1) → ((1 ≤ x2 → bX9_makes_20 G fr lo x0 x1 x3 x2 h2 Q) ∧ (¬ 1 ≤ x2 → bX9_makes_20 G fr lo x0 x1 x3 1 h2 Q)))
set_option maxRecDepth 100000 in
theorem uX9_makes {G : xG} {fr lo : Nat} {x0 : Nat} {x1 : Int32} {x2 : Int32} {x3 : Int32} {h : xH} {Q : Outcome → xH → Prop} (hq : bX9_makes G fr lo x0 x1 x2 x3 h Q) : xP G YX9_makes fr lo 0 [(0, rv x0), (1, .int x1), (2, .int x2), (3, .int x3)] [] h Q := by
  unfold bX9_makes at hq
  refine x_aload_n 0 dX9_makes_0 rfl ?_
  refine x_dup dX9_makes_1 (rv_cat _) ?_
  obtain ⟨g1, hq⟩ := hq
  refine x_get (v := .int (fI h x0 2310)) fdX9_86 dX9_makes_2 g1 rfl ?_
  refine x_iconst (v := 1) dX9_makes_5 (by decide) ?_
  refine x_isub dX9_makes_6 ?_
  obtain ⟨h2, e3⟩ : ∃ y, y = sI h x0 2310 ((fI h x0 2310) - 1) := ⟨_, rfl⟩
  replace hq := hq h2 e3
  refine x_putI fdX9_86 xty_I1 dX9_makes_7 g1 (Or.inl (by rw [g1]; rfl)) xnI rfl e3 ?_
  refine x_iload_n 2 dX9_makes_10 rfl ?_
  refine x_iconst (v := 1) dX9_makes_11 (by decide) ?_
  refine x_icmp_ge (tgt := 19) dX9_makes_12 (by decide) (fun c4 => ?_) (fun c4 => ?_)
  · replace hq := hq.1 c4
    refine x_iload_n 2 dX9_makes_19 rfl ?_
    refine xP.pick (lv' := [(0, rv x0), (1, .int x1), (3, .int x3)]) [0, 1, 3] rfl ?_
    exact uX9_makes_20 hq
  · replace hq := hq.2 c4
    refine x_iconst (v := 1) dX9_makes_15 (by decide) ?_
    refine x_goto (tgt := 20) dX9_makes_16 (by decide) ?_
    refine xP.pick (lv' := [(0, rv x0), (1, .int x1), (3, .int x3)]) [0, 1, 3] rfl ?_
    exact uX9_makes_20 hq
theorem rX9_makes {G : xG} {fr lo : Nat} {x0 : Nat} {x1 : Int32} {x2 : Int32} {x3 : Int32} {h : xH} {Q : Outcome → xH → Prop} (hq : bX9_makes G fr lo x0 x1 x2 x3 h Q) : xR G YX9_makes fr lo [rv x0, .int x1, .int x2, .int x3] h Q := by
  show xP _ _ _ _ _ (lv_args 0 _) _ _ _
  rw [show lv_args 0 [rv x0, .int x1, .int x2, .int x3] = [(0, rv x0), (1, .int x1), (2, .int x2), (3, .int x3)] from (xla1 (rv_cat _) (xla1 rfl (xla1 rfl (xla1 rfl xla0))))]
  exact uX9_makes hq
set_option maxRecDepth 100000 in
theorem dX9_drops_0 : decode cX9_drops 0 = .ok (.aload_n 0, 1) := by decide +kernel
set_option maxRecDepth 100000 in
theorem dX9_drops_1 : decode cX9_drops 1 = .ok (.dup, 1) := by decide +kernel
set_option maxRecDepth 100000 in
theorem dX9_drops_2 : decode cX9_drops 2 = .ok (.getfield 86, 3) := by decide +kernel
set_option maxRecDepth 100000 in
theorem dX9_drops_5 : decode cX9_drops 5 = .ok (.iconst 1, 1) := by decide +kernel
set_option maxRecDepth 100000 in
theorem dX9_drops_6 : decode cX9_drops 6 = .ok (.isub, 1) := by decide +kernel
set_option maxRecDepth 100000 in
theorem dX9_drops_7 : decode cX9_drops 7 = .ok (.putfield 86, 3) := by decide +kernel
set_option maxRecDepth 100000 in
theorem dX9_drops_10 : decode cX9_drops 10 = .ok (.aload_n 0, 1) := by decide +kernel
set_option maxRecDepth 100000 in
theorem dX9_drops_11 : decode cX9_drops 11 = .ok (.getfield 28, 3) := by decide +kernel
set_option maxRecDepth 100000 in
theorem dX9_drops_14 : decode cX9_drops 14 = .ok (.aload_n 0, 1) := by decide +kernel
set_option maxRecDepth 100000 in
theorem dX9_drops_15 : decode cX9_drops 15 = .ok (.getfield 86, 3) := by decide +kernel
set_option maxRecDepth 100000 in
theorem dX9_drops_18 : decode cX9_drops 18 = .ok (.laload, 1) := by decide +kernel
set_option maxRecDepth 100000 in
theorem dX9_drops_19 : decode cX9_drops 19 = .ok (.l2i, 1) := by decide +kernel
set_option maxRecDepth 100000 in
theorem dX9_drops_20 : decode cX9_drops 20 = .ok (.istore_n 2, 1) := by decide +kernel
set_option maxRecDepth 100000 in
theorem dX9_drops_21 : decode cX9_drops 21 = .ok (.iload_n 2, 1) := by decide +kernel
set_option maxRecDepth 100000 in
theorem dX9_drops_22 : decode cX9_drops 22 = .ok (.ifCond .ne 12, 3) := by decide +kernel
set_option maxRecDepth 100000 in
theorem dX9_drops_25 : decode cX9_drops 25 = .ok (.aload_n 0, 1) := by decide +kernel
set_option maxRecDepth 100000 in
theorem dX9_drops_26 : decode cX9_drops 26 = .ok (.iconst 3, 1) := by decide +kernel
set_option maxRecDepth 100000 in
theorem dX9_drops_27 : decode cX9_drops 27 = .ok (.iload_n 1, 1) := by decide +kernel
set_option maxRecDepth 100000 in
theorem dX9_drops_28 : decode cX9_drops 28 = .ok (.invokevirtual 147, 3) := by decide +kernel
set_option maxRecDepth 100000 in
theorem dX9_drops_31 : decode cX9_drops 31 = .ok (.goto 38, 3) := by decide +kernel
set_option maxRecDepth 100000 in
theorem dX9_drops_34 : decode cX9_drops 34 = .ok (.aload_n 0, 1) := by decide +kernel
set_option maxRecDepth 100000 in
theorem dX9_drops_35 : decode cX9_drops 35 = .ok (.getfield 67, 3) := by decide +kernel
set_option maxRecDepth 100000 in
theorem dX9_drops_38 : decode cX9_drops 38 = .ok (.iload_n 2, 1) := by decide +kernel
set_option maxRecDepth 100000 in
theorem dX9_drops_39 : decode cX9_drops 39 = .ok (.baload, 1) := by decide +kernel
set_option maxRecDepth 100000 in
theorem dX9_drops_40 : decode cX9_drops 40 = .ok (.ifCond .eq 12, 3) := by decide +kernel
set_option maxRecDepth 100000 in
theorem dX9_drops_43 : decode cX9_drops 43 = .ok (.aload_n 0, 1) := by decide +kernel
set_option maxRecDepth 100000 in
theorem dX9_drops_44 : decode cX9_drops 44 = .ok (.iconst 4, 1) := by decide +kernel
set_option maxRecDepth 100000 in
theorem dX9_drops_45 : decode cX9_drops 45 = .ok (.iload_n 1, 1) := by decide +kernel
set_option maxRecDepth 100000 in
theorem dX9_drops_46 : decode cX9_drops 46 = .ok (.invokevirtual 147, 3) := by decide +kernel
set_option maxRecDepth 100000 in
theorem dX9_drops_49 : decode cX9_drops 49 = .ok (.goto 20, 3) := by decide +kernel
set_option maxRecDepth 100000 in
theorem dX9_drops_52 : decode cX9_drops 52 = .ok (.aload_n 0, 1) := by decide +kernel
set_option maxRecDepth 100000 in
theorem dX9_drops_53 : decode cX9_drops 53 = .ok (.getfield 67, 3) := by decide +kernel
set_option maxRecDepth 100000 in
theorem dX9_drops_56 : decode cX9_drops 56 = .ok (.iload_n 2, 1) := by decide +kernel
set_option maxRecDepth 100000 in
theorem dX9_drops_57 : decode cX9_drops 57 = .ok (.iconst 1, 1) := by decide +kernel
set_option maxRecDepth 100000 in
theorem dX9_drops_58 : decode cX9_drops 58 = .ok (.bastore, 1) := by decide +kernel
set_option maxRecDepth 100000 in
theorem dX9_drops_59 : decode cX9_drops 59 = .ok (.aload_n 0, 1) := by decide +kernel
set_option maxRecDepth 100000 in
theorem dX9_drops_60 : decode cX9_drops 60 = .ok (.dup, 1) := by decide +kernel
set_option maxRecDepth 100000 in
theorem dX9_drops_61 : decode cX9_drops 61 = .ok (.getfield 120, 3) := by decide +kernel
set_option maxRecDepth 100000 in
theorem dX9_drops_64 : decode cX9_drops 64 = .ok (.iconst 1, 1) := by decide +kernel
set_option maxRecDepth 100000 in
theorem dX9_drops_65 : decode cX9_drops 65 = .ok (.isub, 1) := by decide +kernel
set_option maxRecDepth 100000 in
theorem dX9_drops_66 : decode cX9_drops 66 = .ok (.putfield 120, 3) := by decide +kernel
set_option maxRecDepth 100000 in
theorem dX9_drops_69 : decode cX9_drops 69 = .ok (.return_, 1) := by decide +kernel
set_option maxRecDepth 100000 in
def bX9_drops_69 (G : xG) (fr lo : Nat) (h : xH) (Q : Outcome → xH → Prop) : Prop := Q (.returned none) h
set_option maxRecDepth 100000 in
theorem uX9_drops_69 {G : xG} {fr lo : Nat} {h : xH} {Q : Outcome → xH → Prop} (hq : bX9_drops_69 G fr lo h Q) : xP G YX9_drops fr lo 69 [] [] h Q := by
  unfold bX9_drops_69 at hq
  exact x_vret rfl dX9_drops_69 hq
set_option maxRecDepth 100000 in
def bX9_drops (G : xG) (fr lo : Nat) (x0 : Nat) (x1 : Int32) (h : xH) (Q : Outcome → xH → Prop) : Prop := tg h x0 = 10 ∧ (∀ h2 : xH, h2 = sI h x0 2310 ((fI h x0 2310) - 1) → tg h2 (fR h2 x0 2307) = 101 ∧ vp_in (fI h2 x0 2310) (ln h2 (fR h2 x0 2307)) ∧ ((¬ (Int64.toInt32 (aJ h2 (fR h2 x0 2307) (Int32.toNatClampNeg (fI h2 x0 2310)))) = 0 → tg h2 (fR h2 x0 2322) = 104 ∧ vp_in (Int64.toInt32 (aJ h2 (fR h2 x0 2307) (Int32.toNatClampNeg (fI h2 x0 2310)))) (ln h2 (fR h2 x0 2322)) ∧ (((aI h2 (fR h2 x0 2322) (Int32.toNatClampNeg (Int64.toInt32 (aJ h2 (fR h2 x0 2307) (Int32.toNatClampNeg (fI h2 x0 2310)))))) = 0 → vp_in (Int64.toInt32 (aJ h2 (fR h2 x0 2307) (Int32.toNatClampNeg (fI h2 x0 2310)))) (ln h2 (fR h2 x0 2322)) ∧ (∀ h12 : xH, h12 = tI h2 (fR h2 x0 2322) (Int32.toNatClampNeg (Int64.toInt32 (aJ h2 (fR h2 x0 2307) (Int32.toNatClampNeg (fI h2 x0 2310))))) (vp_nar .boolean 1) → (∀ h15 : xH, h15 = sI h12 x0 2325 ((fI h12 x0 2325) - 1) → bX9_drops_69 G fr lo h15 Q))) ∧ (¬ (aI h2 (fR h2 x0 2322) (Int32.toNatClampNeg (Int64.toInt32 (aJ h2 (fR h2 x0 2307) (Int32.toNatClampNeg (fI h2 x0 2310)))))) = 0 → 1 ≤ fr ∧ 14 ≤ lo ∧ xRv G YX9_fail (fr - 1) (lo - 14) [rv x0, .int 4, .int x1] h2 (fun h19 => xext h2 h19 → bX9_drops_69 G fr lo h19 Q) (fun r h2 => Q (.threw r) h2)))) ∧ ((Int64.toInt32 (aJ h2 (fR h2 x0 2307) (Int32.toNatClampNeg (fI h2 x0 2310)))) = 0 → 1 ≤ fr ∧ 14 ≤ lo ∧ xRv G YX9_fail (fr - 1) (lo - 14) [rv x0, .int 3, .int x1] h2 (fun h24 => xext h2 h24 → bX9_drops_69 G fr lo h24 Q) (fun r h2 => Q (.threw r) h2))))
set_option maxRecDepth 100000 in
theorem uX9_drops {G : xG} {fr lo : Nat} {x0 : Nat} {x1 : Int32} {h : xH} {Q : Outcome → xH → Prop} (hq : bX9_drops G fr lo x0 x1 h Q) : xP G YX9_drops fr lo 0 [(0, rv x0), (1, .int x1)] [] h Q := by
  unfold bX9_drops at hq
  refine x_aload_n 0 dX9_drops_0 rfl ?_
  refine x_dup dX9_drops_1 (rv_cat _) ?_
  obtain ⟨g1, hq⟩ := hq
  refine x_get (v := .int (fI h x0 2310)) fdX9_86 dX9_drops_2 g1 rfl ?_
  refine x_iconst (v := 1) dX9_drops_5 (by decide) ?_
  refine x_isub dX9_drops_6 ?_
  obtain ⟨h2, e3⟩ : ∃ y, y = sI h x0 2310 ((fI h x0 2310) - 1) := ⟨_, rfl⟩
  replace hq := hq h2 e3
  refine x_putI fdX9_86 xty_I1 dX9_drops_7 g1 (Or.inl (by rw [g1]; rfl)) xnI rfl e3 ?_
  refine x_aload_n 0 dX9_drops_10 rfl ?_
  have t4 : tg h2 x0 = 10 := by rw [e3]; exact g1
  refine x_get (v := rv (fR h2 x0 2307)) fdX9_28 dX9_drops_11 t4 rfl ?_
  refine x_aload_n 0 dX9_drops_14 rfl ?_
  refine x_get (v := .int (fI h2 x0 2310)) fdX9_86 dX9_drops_15 t4 rfl ?_
  obtain ⟨g5, hq⟩ := hq
  obtain ⟨i6, hq⟩ := hq
  refine x_lald g5 i6 dX9_drops_18 ?_
  refine x_l2i dX9_drops_19 ?_
  refine x_istore_n (lv' := [(2, .int (Int64.toInt32 (aJ h2 (fR h2 x0 2307) (Int32.toNatClampNeg (fI h2 x0 2310))))), (0, rv x0), (1, .int x1)]) dX9_drops_20 (by decide) rfl ?_
  refine x_iload_n 0 dX9_drops_21 rfl ?_
  refine x_if_ne (tgt := 34) dX9_drops_22 (by decide) (fun c7 => ?_) (fun c7 => ?_)
  · replace hq := hq.1 c7
    refine x_aload_n 1 dX9_drops_34 rfl ?_
    refine x_get (v := rv (fR h2 x0 2322)) fdX9_67 dX9_drops_35 t4 rfl ?_
    refine x_iload_n 0 dX9_drops_38 rfl ?_
    obtain ⟨g8, hq⟩ := hq
    obtain ⟨i9, hq⟩ := hq
    refine x_zald g8 i9 dX9_drops_39 ?_
    refine x_if_eq (tgt := 52) dX9_drops_40 (by decide) (fun c10 => ?_) (fun c10 => ?_)
    · replace hq := hq.1 c10
      refine x_aload_n 1 dX9_drops_52 rfl ?_
      refine x_get (v := rv (fR h2 x0 2322)) fdX9_67 dX9_drops_53 t4 rfl ?_
      refine x_iload_n 0 dX9_drops_56 rfl ?_
      refine x_iconst (v := 1) dX9_drops_57 (by decide) ?_
      obtain ⟨i11, hq⟩ := hq
      obtain ⟨h12, e13⟩ : ∃ y, y = tI h2 (fR h2 x0 2322) (Int32.toNatClampNeg (Int64.toInt32 (aJ h2 (fR h2 x0 2307) (Int32.toNatClampNeg (fI h2 x0 2310))))) (vp_nar .boolean 1) := ⟨_, rfl⟩
      replace hq := hq h12 e13
      refine x_zast' g8 i11 dX9_drops_58 e13 ?_
      refine x_aload_n 1 dX9_drops_59 rfl ?_
      refine x_dup dX9_drops_60 (rv_cat _) ?_
      have t14 : tg h12 x0 = 10 := by rw [e13]; exact t4
      refine x_get (v := .int (fI h12 x0 2325)) fdX9_120 dX9_drops_61 t14 rfl ?_
      refine x_iconst (v := 1) dX9_drops_64 (by decide) ?_
      refine x_isub dX9_drops_65 ?_
      obtain ⟨h15, e16⟩ : ∃ y, y = sI h12 x0 2325 ((fI h12 x0 2325) - 1) := ⟨_, rfl⟩
      replace hq := hq h15 e16
      refine x_putI fdX9_120 xty_I1 dX9_drops_66 t14 (Or.inl (by rw [t14]; rfl)) xnI rfl e16 ?_
      refine xP.pick (lv' := []) [] rfl ?_
      exact uX9_drops_69 hq
    · replace hq := hq.2 c10
      refine x_aload_n 1 dX9_drops_43 rfl ?_
      refine x_iconst (v := 4) dX9_drops_44 (by decide) ?_
      refine x_iload_n 2 dX9_drops_45 rfl ?_
      obtain ⟨g17, g18, hq⟩ := hq
      refine x_callV (Yc := YX9_fail) (as := [.int 4, .int x1]) (st := []) q2835 mvX9_fail t4 rfl dX9_drops_46 (xle (xal1 (rv_cat _) (xal1 rfl (xal1 rfl xal0))) (by decide)) (xfr g17) (xlo xsw0 (by decide) g18) (xKv hq (fun h19 hq e21 => ?_) (fun _ _ q _ => q))
      replace hq := hq e21
      refine x_goto (tgt := 69) dX9_drops_49 (by decide) ?_
      refine xP.pick (lv' := []) [] rfl ?_
      exact uX9_drops_69 hq
  · replace hq := hq.2 c7
    refine x_aload_n 1 dX9_drops_25 rfl ?_
    refine x_iconst (v := 3) dX9_drops_26 (by decide) ?_
    refine x_iload_n 2 dX9_drops_27 rfl ?_
    obtain ⟨g22, g23, hq⟩ := hq
    refine x_callV (Yc := YX9_fail) (as := [.int 3, .int x1]) (st := []) q2835 mvX9_fail t4 rfl dX9_drops_28 (xle (xal1 (rv_cat _) (xal1 rfl (xal1 rfl xal0))) (by decide)) (xfr g22) (xlo xsw0 (by decide) g23) (xKv hq (fun h24 hq e26 => ?_) (fun _ _ q _ => q))
    replace hq := hq e26
    refine x_goto (tgt := 69) dX9_drops_31 (by decide) ?_
    refine xP.pick (lv' := []) [] rfl ?_
    exact uX9_drops_69 hq
theorem rX9_drops {G : xG} {fr lo : Nat} {x0 : Nat} {x1 : Int32} {h : xH} {Q : Outcome → xH → Prop} (hq : bX9_drops G fr lo x0 x1 h Q) : xR G YX9_drops fr lo [rv x0, .int x1] h Q := by
  show xP _ _ _ _ _ (lv_args 0 _) _ _ _
  rw [show lv_args 0 [rv x0, .int x1] = [(0, rv x0), (1, .int x1)] from (xla1 (rv_cat _) (xla1 rfl xla0))]
  exact uX9_drops hq
set_option maxRecDepth 100000 in
theorem dX9_adds_0 : decode cX9_adds 0 = .ok (.aload_n 0, 1) := by decide +kernel
set_option maxRecDepth 100000 in
theorem dX9_adds_1 : decode cX9_adds 1 = .ok (.getfield 23, 3) := by decide +kernel
set_option maxRecDepth 100000 in
theorem dX9_adds_4 : decode cX9_adds 4 = .ok (.getfield 429, 3) := by decide +kernel
set_option maxRecDepth 100000 in
theorem dX9_adds_7 : decode cX9_adds 7 = .ok (.iload_n 1, 1) := by decide +kernel
set_option maxRecDepth 100000 in
theorem dX9_adds_8 : decode cX9_adds 8 = .ok (.iaload, 1) := by decide +kernel
set_option maxRecDepth 100000 in
theorem dX9_adds_9 : decode cX9_adds 9 = .ok (.iconst 2, 1) := by decide +kernel
set_option maxRecDepth 100000 in
theorem dX9_adds_10 : decode cX9_adds 10 = .ok (.if_icmp .eq 14, 3) := by decide +kernel
set_option maxRecDepth 100000 in
theorem dX9_adds_13 : decode cX9_adds 13 = .ok (.aload_n 0, 1) := by decide +kernel
set_option maxRecDepth 100000 in
theorem dX9_adds_14 : decode cX9_adds 14 = .ok (.bipush 10, 2) := by decide +kernel
set_option maxRecDepth 100000 in
theorem dX9_adds_16 : decode cX9_adds 16 = .ok (.iload 4, 2) := by decide +kernel
set_option maxRecDepth 100000 in
theorem dX9_adds_18 : decode cX9_adds 18 = .ok (.invokevirtual 147, 3) := by decide +kernel
set_option maxRecDepth 100000 in
theorem dX9_adds_21 : decode cX9_adds 21 = .ok (.goto 79, 3) := by decide +kernel
set_option maxRecDepth 100000 in
theorem dX9_adds_24 : decode cX9_adds 24 = .ok (.iload_n 3, 1) := by decide +kernel
set_option maxRecDepth 100000 in
theorem dX9_adds_25 : decode cX9_adds 25 = .ok (.ifCond .ne 27, 3) := by decide +kernel
set_option maxRecDepth 100000 in
theorem dX9_adds_28 : decode cX9_adds 28 = .ok (.aload_n 0, 1) := by decide +kernel
set_option maxRecDepth 100000 in
theorem dX9_adds_29 : decode cX9_adds 29 = .ok (.getfield 12, 3) := by decide +kernel
set_option maxRecDepth 100000 in
theorem dX9_adds_32 : decode cX9_adds 32 = .ok (.getfield 247, 3) := by decide +kernel
set_option maxRecDepth 100000 in
theorem dX9_adds_35 : decode cX9_adds 35 = .ok (.iload_n 1, 1) := by decide +kernel
set_option maxRecDepth 100000 in
theorem dX9_adds_36 : decode cX9_adds 36 = .ok (.iconst 1, 1) := by decide +kernel
set_option maxRecDepth 100000 in
theorem dX9_adds_37 : decode cX9_adds 37 = .ok (.iadd, 1) := by decide +kernel
set_option maxRecDepth 100000 in
theorem dX9_adds_38 : decode cX9_adds 38 = .ok (.baload, 1) := by decide +kernel
set_option maxRecDepth 100000 in
theorem dX9_adds_39 : decode cX9_adds 39 = .ok (.ifCond .ne 13, 3) := by decide +kernel
set_option maxRecDepth 100000 in
theorem dX9_adds_42 : decode cX9_adds 42 = .ok (.aload_n 0, 1) := by decide +kernel
set_option maxRecDepth 100000 in
theorem dX9_adds_43 : decode cX9_adds 43 = .ok (.iconst 5, 1) := by decide +kernel
set_option maxRecDepth 100000 in
theorem dX9_adds_44 : decode cX9_adds 44 = .ok (.iload 4, 2) := by decide +kernel
set_option maxRecDepth 100000 in
theorem dX9_adds_46 : decode cX9_adds 46 = .ok (.invokevirtual 147, 3) := by decide +kernel
set_option maxRecDepth 100000 in
theorem dX9_adds_49 : decode cX9_adds 49 = .ok (.goto 51, 3) := by decide +kernel
set_option maxRecDepth 100000 in
theorem dX9_adds_52 : decode cX9_adds 52 = .ok (.aload_n 0, 1) := by decide +kernel
set_option maxRecDepth 100000 in
theorem dX9_adds_53 : decode cX9_adds 53 = .ok (.getfield 23, 3) := by decide +kernel
set_option maxRecDepth 100000 in
theorem dX9_adds_56 : decode cX9_adds 56 = .ok (.iload_n 1, 1) := by decide +kernel
set_option maxRecDepth 100000 in
theorem dX9_adds_57 : decode cX9_adds 57 = .ok (.aload_n 0, 1) := by decide +kernel
set_option maxRecDepth 100000 in
theorem dX9_adds_58 : decode cX9_adds 58 = .ok (.getfield 23, 3) := by decide +kernel
set_option maxRecDepth 100000 in
theorem dX9_adds_61 : decode cX9_adds 61 = .ok (.getfield 460, 3) := by decide +kernel
set_option maxRecDepth 100000 in
theorem dX9_adds_64 : decode cX9_adds 64 = .ok (.iload_n 1, 1) := by decide +kernel
set_option maxRecDepth 100000 in
theorem dX9_adds_65 : decode cX9_adds 65 = .ok (.iaload, 1) := by decide +kernel
set_option maxRecDepth 100000 in
theorem dX9_adds_66 : decode cX9_adds 66 = .ok (.invokevirtual 463, 3) := by decide +kernel
set_option maxRecDepth 100000 in
theorem dX9_adds_69 : decode cX9_adds 69 = .ok (.ifCond .ne 14, 3) := by decide +kernel
set_option maxRecDepth 100000 in
theorem dX9_adds_72 : decode cX9_adds 72 = .ok (.aload_n 0, 1) := by decide +kernel
set_option maxRecDepth 100000 in
theorem dX9_adds_73 : decode cX9_adds 73 = .ok (.bipush 14, 2) := by decide +kernel
set_option maxRecDepth 100000 in
theorem dX9_adds_75 : decode cX9_adds 75 = .ok (.iload 4, 2) := by decide +kernel
set_option maxRecDepth 100000 in
theorem dX9_adds_77 : decode cX9_adds 77 = .ok (.invokevirtual 147, 3) := by decide +kernel
set_option maxRecDepth 100000 in
theorem dX9_adds_80 : decode cX9_adds 80 = .ok (.goto 20, 3) := by decide +kernel
set_option maxRecDepth 100000 in
theorem dX9_adds_83 : decode cX9_adds 83 = .ok (.aload_n 0, 1) := by decide +kernel
set_option maxRecDepth 100000 in
theorem dX9_adds_84 : decode cX9_adds 84 = .ok (.getfield 23, 3) := by decide +kernel
set_option maxRecDepth 100000 in
theorem dX9_adds_87 : decode cX9_adds 87 = .ok (.iload_n 1, 1) := by decide +kernel
set_option maxRecDepth 100000 in
theorem dX9_adds_88 : decode cX9_adds 88 = .ok (.invokevirtual 466, 3) := by decide +kernel
set_option maxRecDepth 100000 in
theorem dX9_adds_91 : decode cX9_adds 91 = .ok (.aload_n 0, 1) := by decide +kernel
set_option maxRecDepth 100000 in
theorem dX9_adds_92 : decode cX9_adds 92 = .ok (.getfield 23, 3) := by decide +kernel
set_option maxRecDepth 100000 in
theorem dX9_adds_95 : decode cX9_adds 95 = .ok (.iload_n 1, 1) := by decide +kernel
set_option maxRecDepth 100000 in
theorem dX9_adds_96 : decode cX9_adds 96 = .ok (.iload_n 2, 1) := by decide +kernel
set_option maxRecDepth 100000 in
theorem dX9_adds_97 : decode cX9_adds 97 = .ok (.invokevirtual 441, 3) := by decide +kernel
set_option maxRecDepth 100000 in
theorem dX9_adds_100 : decode cX9_adds 100 = .ok (.return_, 1) := by decide +kernel
set_option maxRecDepth 100000 in
def bX9_adds_100 (G : xG) (fr lo : Nat) (h : xH) (Q : Outcome → xH → Prop) : Prop := Q (.returned none) h
set_option maxRecDepth 100000 in
theorem uX9_adds_100 {G : xG} {fr lo : Nat} {h : xH} {Q : Outcome → xH → Prop} (hq : bX9_adds_100 G fr lo h Q) : xP G YX9_adds fr lo 100 [] [] h Q := by
  unfold bX9_adds_100 at hq
  exact x_vret rfl dX9_adds_100 hq
set_option maxRecDepth 100000 in
def bX9_adds_52 (G : xG) (fr lo : Nat) (x0 : Nat) (x1 : Int32) (x2 : Int32) (x4 : Int32) (h : xH) (Q : Outcome → xH → Prop) : Prop := tg h x0 = 10 ∧ tg h (fR h x0 2306) = 12 ∧ tg h (fR h (fR h x0 2306) 2822) = 100 ∧ vp_in x1 (ln h (fR h (fR h x0 2306) 2822)) ∧ 1 ≤ fr ∧ 14 ≤ lo ∧ xRi G YX11_hasRoom (fr - 1) (lo - 14) [rv (fR h x0 2306), .int x1, .int (aI h (fR h (fR h x0 2306) 2822) (Int32.toNatClampNeg x1))] h (fun x8 h7 => xext h h7 → ((¬ x8 = 0 → tg h7 (fR h7 x0 2306) = 12 ∧ 1 ≤ fr ∧ 15 ≤ lo ∧ xRv G YX11_addBuffer (fr - 1) (lo - 15) [rv (fR h7 x0 2306), .int x1] h7 (fun h15 => xext h7 h15 → tg h15 (fR h15 x0 2306) = 12 ∧ 1 ≤ fr ∧ 17 ≤ lo ∧ xRv G YX11_bring (fr - 1) (lo - 17) [rv (fR h15 x0 2306), .int x1, .int x2] h15 (fun h22 => xext h15 h22 → bX9_adds_100 G fr lo h22 Q) (fun r h2 => Q (.threw r) h2)) (fun r h2 => Q (.threw r) h2)) ∧ (x8 = 0 → 1 ≤ fr ∧ 14 ≤ lo ∧ xRv G YX9_fail (fr - 1) (lo - 14) [rv x0, .int 14, .int x4] h7 (fun h28 => xext h7 h28 → bX9_adds_100 G fr lo h28 Q) (fun r h2 => Q (.threw r) h2)))) (fun r h2 => Q (.threw r) h2)
set_option maxRecDepth 100000 in
theorem uX9_adds_52 {G : xG} {fr lo : Nat} {x0 : Nat} {x1 : Int32} {x2 : Int32} {x4 : Int32} {h : xH} {Q : Outcome → xH → Prop} (hq : bX9_adds_52 G fr lo x0 x1 x2 x4 h Q) : xP G YX9_adds fr lo 52 [(0, rv x0), (1, .int x1), (2, .int x2), (4, .int x4)] [] h Q := by
  unfold bX9_adds_52 at hq
  refine x_aload_n 0 dX9_adds_52 rfl ?_
  obtain ⟨g1, hq⟩ := hq
  refine x_get (v := rv (fR h x0 2306)) fdX9_23 dX9_adds_53 g1 rfl ?_
  refine x_iload_n 1 dX9_adds_56 rfl ?_
  refine x_aload_n 0 dX9_adds_57 rfl ?_
  refine x_get (v := rv (fR h x0 2306)) fdX9_23 dX9_adds_58 g1 rfl ?_
  obtain ⟨g2, hq⟩ := hq
  refine x_getN (v := rv (fR h (fR h x0 2306) 2822)) gfX9_460 dX9_adds_61 g2 rfl ?_
  refine x_iload_n 1 dX9_adds_64 rfl ?_
  obtain ⟨g3, hq⟩ := hq
  obtain ⟨i4, hq⟩ := hq
  refine x_iald 0 (Or.inl rfl) g3 i4 dX9_adds_65 ?_
  obtain ⟨g5, g6, hq⟩ := hq
  refine x_callV (Yc := YX11_hasRoom) (as := [.int x1, .int (aI h (fR h (fR h x0 2306) 2822) (Int32.toNatClampNeg x1))]) (st := []) q3092 mvX11_hasRoom g2 rfl dX9_adds_66 (xle (xal1 (rv_cat _) (xal1 rfl (xal1 rfl xal0))) (by decide)) (xfr g5) (xlo xsw0 (by decide) g6) (xKi hq (fun x8 h7 hq e9 => ?_) (fun _ _ q _ => q))
  replace hq := hq e9
  refine x_if_ne (tgt := 83) dX9_adds_69 (by decide) (fun c10 => ?_) (fun c10 => ?_)
  · replace hq := hq.1 c10
    refine x_aload_n 0 dX9_adds_83 rfl ?_
    have t11 : tg h7 x0 = 10 := e9.tg g1 (by decide)
    refine x_get (v := rv (fR h7 x0 2306)) fdX9_23 dX9_adds_84 t11 rfl ?_
    refine x_iload_n 1 dX9_adds_87 rfl ?_
    obtain ⟨g12, hq⟩ := hq
    obtain ⟨g13, g14, hq⟩ := hq
    refine x_callV (Yc := YX11_addBuffer) (as := [.int x1]) (st := []) q3153 mvX11_addBuffer g12 rfl dX9_adds_88 (xle (xal1 (rv_cat _) (xal1 rfl xal0)) (by decide)) (xfr g13) (xlo xsw0 (by decide) g14) (xKv hq (fun h15 hq e17 => ?_) (fun _ _ q _ => q))
    replace hq := hq e17
    refine x_aload_n 0 dX9_adds_91 rfl ?_
    have t18 : tg h15 x0 = 10 := e17.tg t11 (by decide)
    refine x_get (v := rv (fR h15 x0 2306)) fdX9_23 dX9_adds_92 t18 rfl ?_
    refine x_iload_n 1 dX9_adds_95 rfl ?_
    refine x_iload_n 2 dX9_adds_96 rfl ?_
    obtain ⟨g19, hq⟩ := hq
    obtain ⟨g20, g21, hq⟩ := hq
    refine x_callV (Yc := YX11_bring) (as := [.int x1, .int x2]) (st := []) q3144 mvX11_bring g19 rfl dX9_adds_97 (xle (xal1 (rv_cat _) (xal1 rfl (xal1 rfl xal0))) (by decide)) (xfr g20) (xlo xsw0 (by decide) g21) (xKv hq (fun h22 hq e24 => ?_) (fun _ _ q _ => q))
    replace hq := hq e24
    refine xP.pick (lv' := []) [] rfl ?_
    exact uX9_adds_100 hq
  · replace hq := hq.2 c10
    refine x_aload_n 0 dX9_adds_72 rfl ?_
    refine x_bipush (v := 14) dX9_adds_73 (by decide) ?_
    refine x_iload 3 dX9_adds_75 rfl ?_
    have t25 : tg h7 x0 = 10 := e9.tg g1 (by decide)
    obtain ⟨g26, g27, hq⟩ := hq
    refine x_callV (Yc := YX9_fail) (as := [.int 14, .int x4]) (st := []) q2835 mvX9_fail t25 rfl dX9_adds_77 (xle (xal1 (rv_cat _) (xal1 rfl (xal1 rfl xal0))) (by decide)) (xfr g26) (xlo xsw0 (by decide) g27) (xKv hq (fun h28 hq e30 => ?_) (fun _ _ q _ => q))
    replace hq := hq e30
    refine x_goto (tgt := 100) dX9_adds_80 (by decide) ?_
    refine xP.pick (lv' := []) [] rfl ?_
    exact uX9_adds_100 hq
set_option maxRecDepth 100000 in
def bX9_adds (G : xG) (fr lo : Nat) (x0 : Nat) (x1 : Int32) (x2 : Int32) (x3 : Int32) (x4 : Int32) (h : xH) (Q : Outcome → xH → Prop) : Prop := tg h x0 = 10 ∧ tg h (fR h x0 2306) = 12 ∧ tg h (fR h (fR h x0 2306) 2817) = 100 ∧ vp_in x1 (ln h (fR h (fR h x0 2306) 2817)) ∧ (((aI h (fR h (fR h x0 2306) 2817) (Int32.toNatClampNeg x1)) = 2 → ((¬ x3 = 0 → bX9_adds_52 G fr lo x0 x1 x2 x4 h Q) ∧ (x3 = 0 → tg h (fR h x0 2305) = 11 ∧ tg h (fR h (fR h x0 2305) 2563) = 104 ∧ vp_in (x1 + 1) (ln h (fR h (fR h x0 2305) 2563)) ∧ ((¬ (aI h (fR h (fR h x0 2305) 2563) (Int32.toNatClampNeg (x1 + 1))) = 0 → bX9_adds_52 G fr lo x0 x1 x2 x4 h Q) ∧ ((aI h (fR h (fR h x0 2305) 2563) (Int32.toNatClampNeg (x1 + 1))) = 0 → 1 ≤ fr ∧ 14 ≤ lo ∧ xRv G YX9_fail (fr - 1) (lo - 14) [rv x0, .int 5, .int x4] h (fun h13 => xext h h13 → bX9_adds_100 G fr lo h13 Q) (fun r h2 => Q (.threw r) h2)))))) ∧ (¬ (aI h (fR h (fR h x0 2306) 2817) (Int32.toNatClampNeg x1)) = 2 → 1 ≤ fr ∧ 14 ≤ lo ∧ xRv G YX9_fail (fr - 1) (lo - 14) [rv x0, .int 10, .int x4] h (fun h18 => xext h h18 → bX9_adds_100 G fr lo h18 Q) (fun r h2 => Q (.threw r) h2)))
set_option maxRecDepth 100000 in
theorem uX9_adds {G : xG} {fr lo : Nat} {x0 : Nat} {x1 : Int32} {x2 : Int32} {x3 : Int32} {x4 : Int32} {h : xH} {Q : Outcome → xH → Prop} (hq : bX9_adds G fr lo x0 x1 x2 x3 x4 h Q) : xP G YX9_adds fr lo 0 [(0, rv x0), (1, .int x1), (2, .int x2), (3, .int x3), (4, .int x4)] [] h Q := by
  unfold bX9_adds at hq
  refine x_aload_n 0 dX9_adds_0 rfl ?_
  obtain ⟨g1, hq⟩ := hq
  refine x_get (v := rv (fR h x0 2306)) fdX9_23 dX9_adds_1 g1 rfl ?_
  obtain ⟨g2, hq⟩ := hq
  refine x_getN (v := rv (fR h (fR h x0 2306) 2817)) gfX9_429 dX9_adds_4 g2 rfl ?_
  refine x_iload_n 1 dX9_adds_7 rfl ?_
  obtain ⟨g3, hq⟩ := hq
  obtain ⟨i4, hq⟩ := hq
  refine x_iald 0 (Or.inl rfl) g3 i4 dX9_adds_8 ?_
  refine x_iconst (v := 2) dX9_adds_9 (by decide) ?_
  refine x_icmp_eq (tgt := 24) dX9_adds_10 (by decide) (fun c5 => ?_) (fun c5 => ?_)
  · replace hq := hq.1 c5
    refine x_iload_n 3 dX9_adds_24 rfl ?_
    refine x_if_ne (tgt := 52) dX9_adds_25 (by decide) (fun c6 => ?_) (fun c6 => ?_)
    · replace hq := hq.1 c6
      refine xP.pick (lv' := [(0, rv x0), (1, .int x1), (2, .int x2), (4, .int x4)]) [0, 1, 2, 4] rfl ?_
      exact uX9_adds_52 hq
    · replace hq := hq.2 c6
      refine x_aload_n 0 dX9_adds_28 rfl ?_
      refine x_get (v := rv (fR h x0 2305)) fdX9_12 dX9_adds_29 g1 rfl ?_
      obtain ⟨g7, hq⟩ := hq
      refine x_getN (v := rv (fR h (fR h x0 2305) 2563)) gfX9_247 dX9_adds_32 g7 rfl ?_
      refine x_iload_n 1 dX9_adds_35 rfl ?_
      refine x_iconst (v := 1) dX9_adds_36 (by decide) ?_
      refine x_iadd dX9_adds_37 ?_
      obtain ⟨g8, hq⟩ := hq
      obtain ⟨i9, hq⟩ := hq
      refine x_zald g8 i9 dX9_adds_38 ?_
      refine x_if_ne (tgt := 52) dX9_adds_39 (by decide) (fun c10 => ?_) (fun c10 => ?_)
      · replace hq := hq.1 c10
        refine xP.pick (lv' := [(0, rv x0), (1, .int x1), (2, .int x2), (4, .int x4)]) [0, 1, 2, 4] rfl ?_
        exact uX9_adds_52 hq
      · replace hq := hq.2 c10
        refine x_aload_n 0 dX9_adds_42 rfl ?_
        refine x_iconst (v := 5) dX9_adds_43 (by decide) ?_
        refine x_iload 4 dX9_adds_44 rfl ?_
        obtain ⟨g11, g12, hq⟩ := hq
        refine x_callV (Yc := YX9_fail) (as := [.int 5, .int x4]) (st := []) q2835 mvX9_fail g1 rfl dX9_adds_46 (xle (xal1 (rv_cat _) (xal1 rfl (xal1 rfl xal0))) (by decide)) (xfr g11) (xlo xsw0 (by decide) g12) (xKv hq (fun h13 hq e15 => ?_) (fun _ _ q _ => q))
        replace hq := hq e15
        refine x_goto (tgt := 100) dX9_adds_49 (by decide) ?_
        refine xP.pick (lv' := []) [] rfl ?_
        exact uX9_adds_100 hq
  · replace hq := hq.2 c5
    refine x_aload_n 0 dX9_adds_13 rfl ?_
    refine x_bipush (v := 10) dX9_adds_14 (by decide) ?_
    refine x_iload 4 dX9_adds_16 rfl ?_
    obtain ⟨g16, g17, hq⟩ := hq
    refine x_callV (Yc := YX9_fail) (as := [.int 10, .int x4]) (st := []) q2835 mvX9_fail g1 rfl dX9_adds_18 (xle (xal1 (rv_cat _) (xal1 rfl (xal1 rfl xal0))) (by decide)) (xfr g16) (xlo xsw0 (by decide) g17) (xKv hq (fun h18 hq e20 => ?_) (fun _ _ q _ => q))
    replace hq := hq e20
    refine x_goto (tgt := 100) dX9_adds_21 (by decide) ?_
    refine xP.pick (lv' := []) [] rfl ?_
    exact uX9_adds_100 hq
theorem rX9_adds {G : xG} {fr lo : Nat} {x0 : Nat} {x1 : Int32} {x2 : Int32} {x3 : Int32} {x4 : Int32} {h : xH} {Q : Outcome → xH → Prop} (hq : bX9_adds G fr lo x0 x1 x2 x3 x4 h Q) : xR G YX9_adds fr lo [rv x0, .int x1, .int x2, .int x3, .int x4] h Q := by
  show xP _ _ _ _ _ (lv_args 0 _) _ _ _
  rw [show lv_args 0 [rv x0, .int x1, .int x2, .int x3, .int x4] = [(0, rv x0), (1, .int x1), (2, .int x2), (3, .int x3), (4, .int x4)] from (xla1 (rv_cat _) (xla1 rfl (xla1 rfl (xla1 rfl (xla1 rfl xla0)))))]
  exact uX9_adds hq
set_option maxRecDepth 100000 in
theorem dX9_passes_0 : decode cX9_passes 0 = .ok (.aload_n 0, 1) := by decide +kernel
set_option maxRecDepth 100000 in
theorem dX9_passes_1 : decode cX9_passes 1 = .ok (.getfield 23, 3) := by decide +kernel
set_option maxRecDepth 100000 in
theorem dX9_passes_4 : decode cX9_passes 4 = .ok (.getfield 429, 3) := by decide +kernel
set_option maxRecDepth 100000 in
theorem dX9_passes_7 : decode cX9_passes 7 = .ok (.iload_n 1, 1) := by decide +kernel
set_option maxRecDepth 100000 in
theorem dX9_passes_8 : decode cX9_passes 8 = .ok (.iaload, 1) := by decide +kernel
set_option maxRecDepth 100000 in
theorem dX9_passes_9 : decode cX9_passes 9 = .ok (.iconst 1, 1) := by decide +kernel
set_option maxRecDepth 100000 in
theorem dX9_passes_10 : decode cX9_passes 10 = .ok (.if_icmp .ne 16, 3) := by decide +kernel
set_option maxRecDepth 100000 in
theorem dX9_passes_13 : decode cX9_passes 13 = .ok (.aload_n 0, 1) := by decide +kernel
set_option maxRecDepth 100000 in
theorem dX9_passes_14 : decode cX9_passes 14 = .ok (.getfield 23, 3) := by decide +kernel
set_option maxRecDepth 100000 in
theorem dX9_passes_17 : decode cX9_passes 17 = .ok (.getfield 432, 3) := by decide +kernel
set_option maxRecDepth 100000 in
theorem dX9_passes_20 : decode cX9_passes 20 = .ok (.iload_n 1, 1) := by decide +kernel
set_option maxRecDepth 100000 in
theorem dX9_passes_21 : decode cX9_passes 21 = .ok (.iaload, 1) := by decide +kernel
set_option maxRecDepth 100000 in
theorem dX9_passes_22 : decode cX9_passes 22 = .ok (.iconst (-1), 1) := by decide +kernel
set_option maxRecDepth 100000 in
theorem dX9_passes_23 : decode cX9_passes 23 = .ok (.if_icmp .ne 11, 3) := by decide +kernel
set_option maxRecDepth 100000 in
theorem dX9_passes_26 : decode cX9_passes 26 = .ok (.aload_n 0, 1) := by decide +kernel
set_option maxRecDepth 100000 in
theorem dX9_passes_27 : decode cX9_passes 27 = .ok (.bipush 10, 2) := by decide +kernel
set_option maxRecDepth 100000 in
theorem dX9_passes_29 : decode cX9_passes 29 = .ok (.iload_n 2, 1) := by decide +kernel
set_option maxRecDepth 100000 in
theorem dX9_passes_30 : decode cX9_passes 30 = .ok (.invokevirtual 147, 3) := by decide +kernel
set_option maxRecDepth 100000 in
theorem dX9_passes_33 : decode cX9_passes 33 = .ok (.return_, 1) := by decide +kernel
set_option maxRecDepth 100000 in
theorem dX9_passes_34 : decode cX9_passes 34 = .ok (.aload_n 0, 1) := by decide +kernel
set_option maxRecDepth 100000 in
theorem dX9_passes_35 : decode cX9_passes 35 = .ok (.getfield 23, 3) := by decide +kernel
set_option maxRecDepth 100000 in
theorem dX9_passes_38 : decode cX9_passes 38 = .ok (.iload_n 1, 1) := by decide +kernel
set_option maxRecDepth 100000 in
theorem dX9_passes_39 : decode cX9_passes 39 = .ok (.invokevirtual 457, 3) := by decide +kernel
set_option maxRecDepth 100000 in
theorem dX9_passes_42 : decode cX9_passes 42 = .ok (.bipush 10, 2) := by decide +kernel
set_option maxRecDepth 100000 in
theorem dX9_passes_44 : decode cX9_passes 44 = .ok (.if_icmp .eq 14, 3) := by decide +kernel
set_option maxRecDepth 100000 in
theorem dX9_passes_47 : decode cX9_passes 47 = .ok (.aload_n 0, 1) := by decide +kernel
set_option maxRecDepth 100000 in
theorem dX9_passes_48 : decode cX9_passes 48 = .ok (.getfield 23, 3) := by decide +kernel
set_option maxRecDepth 100000 in
theorem dX9_passes_51 : decode cX9_passes 51 = .ok (.iload_n 1, 1) := by decide +kernel
set_option maxRecDepth 100000 in
theorem dX9_passes_52 : decode cX9_passes 52 = .ok (.invokevirtual 444, 3) := by decide +kernel
set_option maxRecDepth 100000 in
theorem dX9_passes_55 : decode cX9_passes 55 = .ok (.goto (-21), 3) := by decide +kernel
set_option maxRecDepth 100000 in
theorem dX9_passes_58 : decode cX9_passes 58 = .ok (.aload_n 0, 1) := by decide +kernel
set_option maxRecDepth 100000 in
theorem dX9_passes_59 : decode cX9_passes 59 = .ok (.getfield 23, 3) := by decide +kernel
set_option maxRecDepth 100000 in
theorem dX9_passes_62 : decode cX9_passes 62 = .ok (.iload_n 1, 1) := by decide +kernel
set_option maxRecDepth 100000 in
theorem dX9_passes_63 : decode cX9_passes 63 = .ok (.invokevirtual 444, 3) := by decide +kernel
set_option maxRecDepth 100000 in
theorem dX9_passes_66 : decode cX9_passes 66 = .ok (.aload_n 0, 1) := by decide +kernel
set_option maxRecDepth 100000 in
theorem dX9_passes_67 : decode cX9_passes 67 = .ok (.getfield 23, 3) := by decide +kernel
set_option maxRecDepth 100000 in
theorem dX9_passes_70 : decode cX9_passes 70 = .ok (.iload_n 1, 1) := by decide +kernel
set_option maxRecDepth 100000 in
theorem dX9_passes_71 : decode cX9_passes 71 = .ok (.iconst 1, 1) := by decide +kernel
set_option maxRecDepth 100000 in
theorem dX9_passes_72 : decode cX9_passes 72 = .ok (.invokevirtual 441, 3) := by decide +kernel
set_option maxRecDepth 100000 in
theorem dX9_passes_75 : decode cX9_passes 75 = .ok (.return_, 1) := by decide +kernel
def lX9_passes_34 (G : xG) (fr lo : Nat) (x0 : Nat) (x1 : Int32) (h : xH) (Q : Outcome → xH → Prop) : Prop := xP G YX9_passes fr lo 34 [(0, rv x0), (1, .int x1)] [] h Q
set_option maxRecDepth 100000 in
def bX9_passes_34 (G : xG) (fr lo : Nat) (x0 : Nat) (x1 : Int32) (h : xH) (Q : Outcome → xH → Prop) : Prop := tg h x0 = 10 ∧ tg h (fR h x0 2306) = 12 ∧ 1 ≤ fr ∧ 13 ≤ lo ∧ xRi G YX11_here (fr - 1) (lo - 13) [rv (fR h x0 2306), .int x1] h (fun x6 h5 => xext h h5 → ((x6 = 10 → tg h5 (fR h5 x0 2306) = 12 ∧ 1 ≤ fr ∧ 14 ≤ lo ∧ xRv G YX11_goOn (fr - 1) (lo - 14) [rv (fR h5 x0 2306), .int x1] h5 (fun h13 => xext h5 h13 → tg h13 (fR h13 x0 2306) = 12 ∧ 1 ≤ fr ∧ 17 ≤ lo ∧ xRv G YX11_bring (fr - 1) (lo - 17) [rv (fR h13 x0 2306), .int x1, .int 1] h13 (fun h20 => xext h13 h20 → Q (.returned none) h20) (fun r h2 => Q (.threw r) h2)) (fun r h2 => Q (.threw r) h2)) ∧ (¬ x6 = 10 → tg h5 (fR h5 x0 2306) = 12 ∧ 1 ≤ fr ∧ 14 ≤ lo ∧ xRv G YX11_goOn (fr - 1) (lo - 14) [rv (fR h5 x0 2306), .int x1] h5 (fun h27 => xext h5 h27 → lX9_passes_34 G fr lo x0 x1 h27 Q) (fun r h2 => Q (.threw r) h2)))) (fun r h2 => Q (.threw r) h2)
set_option maxRecDepth 100000 in
theorem uX9_passes_34 {G : xG} {fr lo : Nat} {x0 : Nat} {x1 : Int32} {h : xH} {Q : Outcome → xH → Prop} (hq : bX9_passes_34 G fr lo x0 x1 h Q) : xP G YX9_passes fr lo 34 [(0, rv x0), (1, .int x1)] [] h Q := by
  unfold bX9_passes_34 at hq
  refine x_aload_n 0 dX9_passes_34 rfl ?_
  obtain ⟨g1, hq⟩ := hq
  refine x_get (v := rv (fR h x0 2306)) fdX9_23 dX9_passes_35 g1 rfl ?_
  refine x_iload_n 1 dX9_passes_38 rfl ?_
  obtain ⟨g2, hq⟩ := hq
  obtain ⟨g3, g4, hq⟩ := hq
  refine x_callV (Yc := YX11_here) (as := [.int x1]) (st := []) q3131 mvX11_here g2 rfl dX9_passes_39 (xle (xal1 (rv_cat _) (xal1 rfl xal0)) (by decide)) (xfr g3) (xlo xsw0 (by decide) g4) (xKi hq (fun x6 h5 hq e7 => ?_) (fun _ _ q _ => q))
  replace hq := hq e7
  refine x_bipush (v := 10) dX9_passes_42 (by decide) ?_
  refine x_icmp_eq (tgt := 58) dX9_passes_44 (by decide) (fun c8 => ?_) (fun c8 => ?_)
  · replace hq := hq.1 c8
    refine x_aload_n 0 dX9_passes_58 rfl ?_
    have t9 : tg h5 x0 = 10 := e7.tg g1 (by decide)
    refine x_get (v := rv (fR h5 x0 2306)) fdX9_23 dX9_passes_59 t9 rfl ?_
    refine x_iload_n 1 dX9_passes_62 rfl ?_
    obtain ⟨g10, hq⟩ := hq
    obtain ⟨g11, g12, hq⟩ := hq
    refine x_callV (Yc := YX11_goOn) (as := [.int x1]) (st := []) q3145 mvX11_goOn g10 rfl dX9_passes_63 (xle (xal1 (rv_cat _) (xal1 rfl xal0)) (by decide)) (xfr g11) (xlo xsw0 (by decide) g12) (xKv hq (fun h13 hq e15 => ?_) (fun _ _ q _ => q))
    replace hq := hq e15
    refine x_aload_n 0 dX9_passes_66 rfl ?_
    have t16 : tg h13 x0 = 10 := e15.tg t9 (by decide)
    refine x_get (v := rv (fR h13 x0 2306)) fdX9_23 dX9_passes_67 t16 rfl ?_
    refine x_iload_n 1 dX9_passes_70 rfl ?_
    refine x_iconst (v := 1) dX9_passes_71 (by decide) ?_
    obtain ⟨g17, hq⟩ := hq
    obtain ⟨g18, g19, hq⟩ := hq
    refine x_callV (Yc := YX11_bring) (as := [.int x1, .int 1]) (st := []) q3144 mvX11_bring g17 rfl dX9_passes_72 (xle (xal1 (rv_cat _) (xal1 rfl (xal1 rfl xal0))) (by decide)) (xfr g18) (xlo xsw0 (by decide) g19) (xKv hq (fun h20 hq e22 => ?_) (fun _ _ q _ => q))
    replace hq := hq e22
    exact x_vret rfl dX9_passes_75 hq
  · replace hq := hq.2 c8
    refine x_aload_n 0 dX9_passes_47 rfl ?_
    have t23 : tg h5 x0 = 10 := e7.tg g1 (by decide)
    refine x_get (v := rv (fR h5 x0 2306)) fdX9_23 dX9_passes_48 t23 rfl ?_
    refine x_iload_n 1 dX9_passes_51 rfl ?_
    obtain ⟨g24, hq⟩ := hq
    obtain ⟨g25, g26, hq⟩ := hq
    refine x_callV (Yc := YX11_goOn) (as := [.int x1]) (st := []) q3145 mvX11_goOn g24 rfl dX9_passes_52 (xle (xal1 (rv_cat _) (xal1 rfl xal0)) (by decide)) (xfr g25) (xlo xsw0 (by decide) g26) (xKv hq (fun h27 hq e29 => ?_) (fun _ _ q _ => q))
    replace hq := hq e29
    refine x_goto (tgt := 34) dX9_passes_55 (by decide) ?_
    exact hq
set_option maxRecDepth 100000 in
def bX9_passes_26 (G : xG) (fr lo : Nat) (x0 : Nat) (x2 : Int32) (h : xH) (Q : Outcome → xH → Prop) : Prop := tg h x0 = 10 ∧ 1 ≤ fr ∧ 14 ≤ lo ∧ xRv G YX9_fail (fr - 1) (lo - 14) [rv x0, .int 10, .int x2] h (fun h4 => xext h h4 → Q (.returned none) h4) (fun r h2 => Q (.threw r) h2)
set_option maxRecDepth 100000 in
theorem uX9_passes_26 {G : xG} {fr lo : Nat} {x0 : Nat} {x2 : Int32} {h : xH} {Q : Outcome → xH → Prop} (hq : bX9_passes_26 G fr lo x0 x2 h Q) : xP G YX9_passes fr lo 26 [(0, rv x0), (2, .int x2)] [] h Q := by
  unfold bX9_passes_26 at hq
  refine x_aload_n 0 dX9_passes_26 rfl ?_
  refine x_bipush (v := 10) dX9_passes_27 (by decide) ?_
  refine x_iload_n 1 dX9_passes_29 rfl ?_
  obtain ⟨g1, hq⟩ := hq
  obtain ⟨g2, g3, hq⟩ := hq
  refine x_callV (Yc := YX9_fail) (as := [.int 10, .int x2]) (st := []) q2835 mvX9_fail g1 rfl dX9_passes_30 (xle (xal1 (rv_cat _) (xal1 rfl (xal1 rfl xal0))) (by decide)) (xfr g2) (xlo xsw0 (by decide) g3) (xKv hq (fun h4 hq e6 => ?_) (fun _ _ q _ => q))
  replace hq := hq e6
  exact x_vret rfl dX9_passes_33 hq
set_option maxRecDepth 100000 in
def bX9_passes (G : xG) (fr lo : Nat) (x0 : Nat) (x1 : Int32) (x2 : Int32) (h : xH) (Q : Outcome → xH → Prop) : Prop := tg h x0 = 10 ∧ tg h (fR h x0 2306) = 12 ∧ tg h (fR h (fR h x0 2306) 2817) = 100 ∧ vp_in x1 (ln h (fR h (fR h x0 2306) 2817)) ∧ ((¬ (aI h (fR h (fR h x0 2306) 2817) (Int32.toNatClampNeg x1)) = 1 → bX9_passes_26 G fr lo x0 x2 h Q) ∧ ((aI h (fR h (fR h x0 2306) 2817) (Int32.toNatClampNeg x1)) = 1 → tg h (fR h (fR h x0 2306) 2820) = 100 ∧ vp_in x1 (ln h (fR h (fR h x0 2306) 2820)) ∧ ((¬ (aI h (fR h (fR h x0 2306) 2820) (Int32.toNatClampNeg x1)) = (-1) → lX9_passes_34 G fr lo x0 x1 h Q) ∧ ((aI h (fR h (fR h x0 2306) 2820) (Int32.toNatClampNeg x1)) = (-1) → bX9_passes_26 G fr lo x0 x2 h Q))))
set_option maxRecDepth 100000 in
theorem uX9_passes {G : xG} {fr lo : Nat} {x0 : Nat} {x1 : Int32} {x2 : Int32} {h : xH} {Q : Outcome → xH → Prop} (hq : bX9_passes G fr lo x0 x1 x2 h Q) : xP G YX9_passes fr lo 0 [(0, rv x0), (1, .int x1), (2, .int x2)] [] h Q := by
  unfold bX9_passes at hq
  refine x_aload_n 0 dX9_passes_0 rfl ?_
  obtain ⟨g1, hq⟩ := hq
  refine x_get (v := rv (fR h x0 2306)) fdX9_23 dX9_passes_1 g1 rfl ?_
  obtain ⟨g2, hq⟩ := hq
  refine x_getN (v := rv (fR h (fR h x0 2306) 2817)) gfX9_429 dX9_passes_4 g2 rfl ?_
  refine x_iload_n 1 dX9_passes_7 rfl ?_
  obtain ⟨g3, hq⟩ := hq
  obtain ⟨i4, hq⟩ := hq
  refine x_iald 0 (Or.inl rfl) g3 i4 dX9_passes_8 ?_
  refine x_iconst (v := 1) dX9_passes_9 (by decide) ?_
  refine x_icmp_ne (tgt := 26) dX9_passes_10 (by decide) (fun c5 => ?_) (fun c5 => ?_)
  · replace hq := hq.1 c5
    refine xP.pick (lv' := [(0, rv x0), (2, .int x2)]) [0, 2] rfl ?_
    exact uX9_passes_26 hq
  · replace hq := hq.2 c5
    refine x_aload_n 0 dX9_passes_13 rfl ?_
    refine x_get (v := rv (fR h x0 2306)) fdX9_23 dX9_passes_14 g1 rfl ?_
    refine x_getN (v := rv (fR h (fR h x0 2306) 2820)) gfX9_432 dX9_passes_17 g2 rfl ?_
    refine x_iload_n 1 dX9_passes_20 rfl ?_
    obtain ⟨g6, hq⟩ := hq
    obtain ⟨i7, hq⟩ := hq
    refine x_iald 0 (Or.inl rfl) g6 i7 dX9_passes_21 ?_
    refine x_iconst (v := (-1)) dX9_passes_22 (by decide) ?_
    refine x_icmp_ne (tgt := 34) dX9_passes_23 (by decide) (fun c8 => ?_) (fun c8 => ?_)
    · replace hq := hq.1 c8
      refine xP.pick (lv' := [(0, rv x0), (1, .int x1)]) [0, 1] rfl ?_
      exact hq
    · replace hq := hq.2 c8
      refine xP.pick (lv' := [(0, rv x0), (2, .int x2)]) [0, 2] rfl ?_
      exact uX9_passes_26 hq
theorem rX9_passes {G : xG} {fr lo : Nat} {x0 : Nat} {x1 : Int32} {x2 : Int32} {h : xH} {Q : Outcome → xH → Prop} (hq : bX9_passes G fr lo x0 x1 x2 h Q) : xR G YX9_passes fr lo [rv x0, .int x1, .int x2] h Q := by
  show xP _ _ _ _ _ (lv_args 0 _) _ _ _
  rw [show lv_args 0 [rv x0, .int x1, .int x2] = [(0, rv x0), (1, .int x1), (2, .int x2)] from (xla1 (rv_cat _) (xla1 rfl (xla1 rfl xla0)))]
  exact uX9_passes hq
set_option maxRecDepth 100000 in
theorem dX9_readsNumber_0 : decode cX9_readsNumber 0 = .ok (.aload_n 0, 1) := by decide +kernel
set_option maxRecDepth 100000 in
theorem dX9_readsNumber_1 : decode cX9_readsNumber 1 = .ok (.getfield 23, 3) := by decide +kernel
set_option maxRecDepth 100000 in
theorem dX9_readsNumber_4 : decode cX9_readsNumber 4 = .ok (.getfield 429, 3) := by decide +kernel
set_option maxRecDepth 100000 in
theorem dX9_readsNumber_7 : decode cX9_readsNumber 7 = .ok (.iload_n 2, 1) := by decide +kernel
set_option maxRecDepth 100000 in
theorem dX9_readsNumber_8 : decode cX9_readsNumber 8 = .ok (.iaload, 1) := by decide +kernel
set_option maxRecDepth 100000 in
theorem dX9_readsNumber_9 : decode cX9_readsNumber 9 = .ok (.iconst 1, 1) := by decide +kernel
set_option maxRecDepth 100000 in
theorem dX9_readsNumber_10 : decode cX9_readsNumber 10 = .ok (.if_icmp .eq 12, 3) := by decide +kernel
set_option maxRecDepth 100000 in
theorem dX9_readsNumber_13 : decode cX9_readsNumber 13 = .ok (.aload_n 0, 1) := by decide +kernel
set_option maxRecDepth 100000 in
theorem dX9_readsNumber_14 : decode cX9_readsNumber 14 = .ok (.bipush 10, 2) := by decide +kernel
set_option maxRecDepth 100000 in
theorem dX9_readsNumber_16 : decode cX9_readsNumber 16 = .ok (.iload 4, 2) := by decide +kernel
set_option maxRecDepth 100000 in
theorem dX9_readsNumber_18 : decode cX9_readsNumber 18 = .ok (.invokevirtual 147, 3) := by decide +kernel
set_option maxRecDepth 100000 in
theorem dX9_readsNumber_21 : decode cX9_readsNumber 21 = .ok (.return_, 1) := by decide +kernel
set_option maxRecDepth 100000 in
theorem dX9_readsNumber_22 : decode cX9_readsNumber 22 = .ok (.aload_n 0, 1) := by decide +kernel
set_option maxRecDepth 100000 in
theorem dX9_readsNumber_23 : decode cX9_readsNumber 23 = .ok (.getfield 23, 3) := by decide +kernel
set_option maxRecDepth 100000 in
theorem dX9_readsNumber_26 : decode cX9_readsNumber 26 = .ok (.iload_n 2, 1) := by decide +kernel
set_option maxRecDepth 100000 in
theorem dX9_readsNumber_27 : decode cX9_readsNumber 27 = .ok (.invokevirtual 457, 3) := by decide +kernel
set_option maxRecDepth 100000 in
theorem dX9_readsNumber_30 : decode cX9_readsNumber 30 = .ok (.bipush 32, 2) := by decide +kernel
set_option maxRecDepth 100000 in
theorem dX9_readsNumber_32 : decode cX9_readsNumber 32 = .ok (.if_icmp .eq 16, 3) := by decide +kernel
set_option maxRecDepth 100000 in
theorem dX9_readsNumber_35 : decode cX9_readsNumber 35 = .ok (.aload_n 0, 1) := by decide +kernel
set_option maxRecDepth 100000 in
theorem dX9_readsNumber_36 : decode cX9_readsNumber 36 = .ok (.getfield 23, 3) := by decide +kernel
set_option maxRecDepth 100000 in
theorem dX9_readsNumber_39 : decode cX9_readsNumber 39 = .ok (.iload_n 2, 1) := by decide +kernel
set_option maxRecDepth 100000 in
theorem dX9_readsNumber_40 : decode cX9_readsNumber 40 = .ok (.invokevirtual 457, 3) := by decide +kernel
set_option maxRecDepth 100000 in
theorem dX9_readsNumber_43 : decode cX9_readsNumber 43 = .ok (.bipush 10, 2) := by decide +kernel
set_option maxRecDepth 100000 in
theorem dX9_readsNumber_45 : decode cX9_readsNumber 45 = .ok (.if_icmp .ne 14, 3) := by decide +kernel
set_option maxRecDepth 100000 in
theorem dX9_readsNumber_48 : decode cX9_readsNumber 48 = .ok (.aload_n 0, 1) := by decide +kernel
set_option maxRecDepth 100000 in
theorem dX9_readsNumber_49 : decode cX9_readsNumber 49 = .ok (.getfield 23, 3) := by decide +kernel
set_option maxRecDepth 100000 in
theorem dX9_readsNumber_52 : decode cX9_readsNumber 52 = .ok (.iload_n 2, 1) := by decide +kernel
set_option maxRecDepth 100000 in
theorem dX9_readsNumber_53 : decode cX9_readsNumber 53 = .ok (.invokevirtual 444, 3) := by decide +kernel
set_option maxRecDepth 100000 in
theorem dX9_readsNumber_56 : decode cX9_readsNumber 56 = .ok (.goto (-34), 3) := by decide +kernel
set_option maxRecDepth 100000 in
theorem dX9_readsNumber_59 : decode cX9_readsNumber 59 = .ok (.aload_n 0, 1) := by decide +kernel
set_option maxRecDepth 100000 in
theorem dX9_readsNumber_60 : decode cX9_readsNumber 60 = .ok (.getfield 23, 3) := by decide +kernel
set_option maxRecDepth 100000 in
theorem dX9_readsNumber_63 : decode cX9_readsNumber 63 = .ok (.iload_n 2, 1) := by decide +kernel
set_option maxRecDepth 100000 in
theorem dX9_readsNumber_64 : decode cX9_readsNumber 64 = .ok (.invokevirtual 457, 3) := by decide +kernel
set_option maxRecDepth 100000 in
theorem dX9_readsNumber_67 : decode cX9_readsNumber 67 = .ok (.istore 5, 2) := by decide +kernel
set_option maxRecDepth 100000 in
theorem dX9_readsNumber_69 : decode cX9_readsNumber 69 = .ok (.iload 5, 2) := by decide +kernel
set_option maxRecDepth 100000 in
theorem dX9_readsNumber_71 : decode cX9_readsNumber 71 = .ok (.bipush 43, 2) := by decide +kernel
set_option maxRecDepth 100000 in
theorem dX9_readsNumber_73 : decode cX9_readsNumber 73 = .ok (.if_icmp .eq 10, 3) := by decide +kernel
set_option maxRecDepth 100000 in
theorem dX9_readsNumber_76 : decode cX9_readsNumber 76 = .ok (.iload 5, 2) := by decide +kernel
set_option maxRecDepth 100000 in
theorem dX9_readsNumber_78 : decode cX9_readsNumber 78 = .ok (.bipush 45, 2) := by decide +kernel
set_option maxRecDepth 100000 in
theorem dX9_readsNumber_80 : decode cX9_readsNumber 80 = .ok (.if_icmp .ne 11, 3) := by decide +kernel
set_option maxRecDepth 100000 in
theorem dX9_readsNumber_83 : decode cX9_readsNumber 83 = .ok (.aload_n 0, 1) := by decide +kernel
set_option maxRecDepth 100000 in
theorem dX9_readsNumber_84 : decode cX9_readsNumber 84 = .ok (.getfield 23, 3) := by decide +kernel
set_option maxRecDepth 100000 in
theorem dX9_readsNumber_87 : decode cX9_readsNumber 87 = .ok (.iload_n 2, 1) := by decide +kernel
set_option maxRecDepth 100000 in
theorem dX9_readsNumber_88 : decode cX9_readsNumber 88 = .ok (.invokevirtual 444, 3) := by decide +kernel
set_option maxRecDepth 100000 in
theorem dX9_readsNumber_91 : decode cX9_readsNumber 91 = .ok (.aload_n 0, 1) := by decide +kernel
set_option maxRecDepth 100000 in
theorem dX9_readsNumber_92 : decode cX9_readsNumber 92 = .ok (.getfield 23, 3) := by decide +kernel
set_option maxRecDepth 100000 in
theorem dX9_readsNumber_95 : decode cX9_readsNumber 95 = .ok (.getfield 432, 3) := by decide +kernel
set_option maxRecDepth 100000 in
theorem dX9_readsNumber_98 : decode cX9_readsNumber 98 = .ok (.iload_n 2, 1) := by decide +kernel
set_option maxRecDepth 100000 in
theorem dX9_readsNumber_99 : decode cX9_readsNumber 99 = .ok (.iaload, 1) := by decide +kernel
set_option maxRecDepth 100000 in
theorem dX9_readsNumber_100 : decode cX9_readsNumber 100 = .ok (.iconst (-1), 1) := by decide +kernel
set_option maxRecDepth 100000 in
theorem dX9_readsNumber_101 : decode cX9_readsNumber 101 = .ok (.if_icmp .ne 12, 3) := by decide +kernel
set_option maxRecDepth 100000 in
theorem dX9_readsNumber_104 : decode cX9_readsNumber 104 = .ok (.aload_n 0, 1) := by decide +kernel
set_option maxRecDepth 100000 in
theorem dX9_readsNumber_105 : decode cX9_readsNumber 105 = .ok (.bipush 10, 2) := by decide +kernel
set_option maxRecDepth 100000 in
theorem dX9_readsNumber_107 : decode cX9_readsNumber 107 = .ok (.iload 4, 2) := by decide +kernel
set_option maxRecDepth 100000 in
theorem dX9_readsNumber_109 : decode cX9_readsNumber 109 = .ok (.invokevirtual 147, 3) := by decide +kernel
set_option maxRecDepth 100000 in
theorem dX9_readsNumber_112 : decode cX9_readsNumber 112 = .ok (.return_, 1) := by decide +kernel
set_option maxRecDepth 100000 in
theorem dX9_readsNumber_113 : decode cX9_readsNumber 113 = .ok (.iload_n 1, 1) := by decide +kernel
set_option maxRecDepth 100000 in
theorem dX9_readsNumber_114 : decode cX9_readsNumber 114 = .ok (.bipush 89, 2) := by decide +kernel
set_option maxRecDepth 100000 in
theorem dX9_readsNumber_116 : decode cX9_readsNumber 116 = .ok (.if_icmp .ne 7, 3) := by decide +kernel
set_option maxRecDepth 100000 in
theorem dX9_readsNumber_119 : decode cX9_readsNumber 119 = .ok (.iconst 1, 1) := by decide +kernel
set_option maxRecDepth 100000 in
theorem dX9_readsNumber_120 : decode cX9_readsNumber 120 = .ok (.goto 4, 3) := by decide +kernel
set_option maxRecDepth 100000 in
theorem dX9_readsNumber_123 : decode cX9_readsNumber 123 = .ok (.iconst 0, 1) := by decide +kernel
set_option maxRecDepth 100000 in
theorem dX9_readsNumber_124 : decode cX9_readsNumber 124 = .ok (.istore 6, 2) := by decide +kernel
set_option maxRecDepth 100000 in
theorem dX9_readsNumber_126 : decode cX9_readsNumber 126 = .ok (.lconst 0, 1) := by decide +kernel
set_option maxRecDepth 100000 in
theorem dX9_readsNumber_127 : decode cX9_readsNumber 127 = .ok (.lstore 7, 2) := by decide +kernel
set_option maxRecDepth 100000 in
theorem dX9_readsNumber_129 : decode cX9_readsNumber 129 = .ok (.iconst 0, 1) := by decide +kernel
set_option maxRecDepth 100000 in
theorem dX9_readsNumber_130 : decode cX9_readsNumber 130 = .ok (.istore 9, 2) := by decide +kernel
set_option maxRecDepth 100000 in
theorem dX9_readsNumber_132 : decode cX9_readsNumber 132 = .ok (.iconst (-1), 1) := by decide +kernel
set_option maxRecDepth 100000 in
theorem dX9_readsNumber_133 : decode cX9_readsNumber 133 = .ok (.istore 10, 2) := by decide +kernel
set_option maxRecDepth 100000 in
theorem dX9_readsNumber_135 : decode cX9_readsNumber 135 = .ok (.iconst 1, 1) := by decide +kernel
set_option maxRecDepth 100000 in
theorem dX9_readsNumber_136 : decode cX9_readsNumber 136 = .ok (.istore 11, 2) := by decide +kernel
set_option maxRecDepth 100000 in
theorem dX9_readsNumber_138 : decode cX9_readsNumber 138 = .ok (.iload 11, 2) := by decide +kernel
set_option maxRecDepth 100000 in
theorem dX9_readsNumber_140 : decode cX9_readsNumber 140 = .ok (.ifCond .eq 143, 3) := by decide +kernel
set_option maxRecDepth 100000 in
theorem dX9_readsNumber_143 : decode cX9_readsNumber 143 = .ok (.aload_n 0, 1) := by decide +kernel
set_option maxRecDepth 100000 in
theorem dX9_readsNumber_144 : decode cX9_readsNumber 144 = .ok (.getfield 23, 3) := by decide +kernel
set_option maxRecDepth 100000 in
theorem dX9_readsNumber_147 : decode cX9_readsNumber 147 = .ok (.iload_n 2, 1) := by decide +kernel
set_option maxRecDepth 100000 in
theorem dX9_readsNumber_148 : decode cX9_readsNumber 148 = .ok (.invokevirtual 457, 3) := by decide +kernel
set_option maxRecDepth 100000 in
theorem dX9_readsNumber_151 : decode cX9_readsNumber 151 = .ok (.istore 12, 2) := by decide +kernel
set_option maxRecDepth 100000 in
theorem dX9_readsNumber_153 : decode cX9_readsNumber 153 = .ok (.iload 6, 2) := by decide +kernel
set_option maxRecDepth 100000 in
theorem dX9_readsNumber_155 : decode cX9_readsNumber 155 = .ok (.ifCond .eq 39, 3) := by decide +kernel
set_option maxRecDepth 100000 in
theorem dX9_readsNumber_158 : decode cX9_readsNumber 158 = .ok (.iload 10, 2) := by decide +kernel
set_option maxRecDepth 100000 in
theorem dX9_readsNumber_160 : decode cX9_readsNumber 160 = .ok (.ifCond .ge 34, 3) := by decide +kernel
set_option maxRecDepth 100000 in
theorem dX9_readsNumber_163 : decode cX9_readsNumber 163 = .ok (.iload 9, 2) := by decide +kernel
set_option maxRecDepth 100000 in
theorem dX9_readsNumber_165 : decode cX9_readsNumber 165 = .ok (.ifCond .le 29, 3) := by decide +kernel
set_option maxRecDepth 100000 in
theorem dX9_readsNumber_168 : decode cX9_readsNumber 168 = .ok (.iload 12, 2) := by decide +kernel
set_option maxRecDepth 100000 in
theorem dX9_readsNumber_170 : decode cX9_readsNumber 170 = .ok (.bipush 46, 2) := by decide +kernel
set_option maxRecDepth 100000 in
theorem dX9_readsNumber_172 : decode cX9_readsNumber 172 = .ok (.if_icmp .ne 22, 3) := by decide +kernel
set_option maxRecDepth 100000 in
theorem dX9_readsNumber_175 : decode cX9_readsNumber 175 = .ok (.aload_n 0, 1) := by decide +kernel
set_option maxRecDepth 100000 in
theorem dX9_readsNumber_176 : decode cX9_readsNumber 176 = .ok (.getfield 23, 3) := by decide +kernel
set_option maxRecDepth 100000 in
theorem dX9_readsNumber_179 : decode cX9_readsNumber 179 = .ok (.iload_n 2, 1) := by decide +kernel
set_option maxRecDepth 100000 in
theorem dX9_readsNumber_180 : decode cX9_readsNumber 180 = .ok (.iconst 1, 1) := by decide +kernel
set_option maxRecDepth 100000 in
theorem dX9_readsNumber_181 : decode cX9_readsNumber 181 = .ok (.invokevirtual 469, 3) := by decide +kernel
set_option maxRecDepth 100000 in
theorem dX9_readsNumber_184 : decode cX9_readsNumber 184 = .ok (.invokestatic 473, 3) := by decide +kernel
set_option maxRecDepth 100000 in
theorem dX9_readsNumber_187 : decode cX9_readsNumber 187 = .ok (.ifCond .eq 7, 3) := by decide +kernel
set_option maxRecDepth 100000 in
theorem dX9_readsNumber_190 : decode cX9_readsNumber 190 = .ok (.iconst 1, 1) := by decide +kernel
set_option maxRecDepth 100000 in
theorem dX9_readsNumber_191 : decode cX9_readsNumber 191 = .ok (.goto 4, 3) := by decide +kernel
set_option maxRecDepth 100000 in
theorem dX9_readsNumber_194 : decode cX9_readsNumber 194 = .ok (.iconst 0, 1) := by decide +kernel
set_option maxRecDepth 100000 in
theorem dX9_readsNumber_195 : decode cX9_readsNumber 195 = .ok (.istore 13, 2) := by decide +kernel
set_option maxRecDepth 100000 in
theorem dX9_readsNumber_197 : decode cX9_readsNumber 197 = .ok (.iload 13, 2) := by decide +kernel
set_option maxRecDepth 100000 in
theorem dX9_readsNumber_199 : decode cX9_readsNumber 199 = .ok (.ifCond .ne 11, 3) := by decide +kernel
set_option maxRecDepth 100000 in
theorem dX9_readsNumber_202 : decode cX9_readsNumber 202 = .ok (.iload 12, 2) := by decide +kernel
set_option maxRecDepth 100000 in
theorem dX9_readsNumber_204 : decode cX9_readsNumber 204 = .ok (.invokestatic 473, 3) := by decide +kernel
set_option maxRecDepth 100000 in
theorem dX9_readsNumber_207 : decode cX9_readsNumber 207 = .ok (.ifCond .eq 7, 3) := by decide +kernel
set_option maxRecDepth 100000 in
theorem dX9_readsNumber_210 : decode cX9_readsNumber 210 = .ok (.iconst 1, 1) := by decide +kernel
set_option maxRecDepth 100000 in
theorem dX9_readsNumber_211 : decode cX9_readsNumber 211 = .ok (.goto 4, 3) := by decide +kernel
set_option maxRecDepth 100000 in
theorem dX9_readsNumber_214 : decode cX9_readsNumber 214 = .ok (.iconst 0, 1) := by decide +kernel
set_option maxRecDepth 100000 in
theorem dX9_readsNumber_215 : decode cX9_readsNumber 215 = .ok (.istore 11, 2) := by decide +kernel
set_option maxRecDepth 100000 in
theorem dX9_readsNumber_217 : decode cX9_readsNumber 217 = .ok (.iload 11, 2) := by decide +kernel
set_option maxRecDepth 100000 in
theorem dX9_readsNumber_219 : decode cX9_readsNumber 219 = .ok (.ifCond .ne 6, 3) := by decide +kernel
set_option maxRecDepth 100000 in
theorem dX9_readsNumber_222 : decode cX9_readsNumber 222 = .ok (.goto (-84), 3) := by decide +kernel
set_option maxRecDepth 100000 in
theorem dX9_readsNumber_225 : decode cX9_readsNumber 225 = .ok (.iload 13, 2) := by decide +kernel
set_option maxRecDepth 100000 in
theorem dX9_readsNumber_227 : decode cX9_readsNumber 227 = .ok (.ifCond .eq 9, 3) := by decide +kernel
set_option maxRecDepth 100000 in
theorem dX9_readsNumber_230 : decode cX9_readsNumber 230 = .ok (.iconst 0, 1) := by decide +kernel
set_option maxRecDepth 100000 in
theorem dX9_readsNumber_231 : decode cX9_readsNumber 231 = .ok (.istore 10, 2) := by decide +kernel
set_option maxRecDepth 100000 in
theorem dX9_readsNumber_233 : decode cX9_readsNumber 233 = .ok (.goto 39, 3) := by decide +kernel
set_option maxRecDepth 100000 in
theorem dX9_readsNumber_236 : decode cX9_readsNumber 236 = .ok (.lload 7, 2) := by decide +kernel
set_option maxRecDepth 100000 in
theorem dX9_readsNumber_238 : decode cX9_readsNumber 238 = .ok (.ldc2_w 477, 3) := by decide +kernel
set_option maxRecDepth 100000 in
theorem dX9_readsNumber_241 : decode cX9_readsNumber 241 = .ok (.lcmp, 1) := by decide +kernel
set_option maxRecDepth 100000 in
theorem dX9_readsNumber_242 : decode cX9_readsNumber 242 = .ok (.ifCond .ge 19, 3) := by decide +kernel
set_option maxRecDepth 100000 in
theorem dX9_readsNumber_245 : decode cX9_readsNumber 245 = .ok (.ldc2_w 479, 3) := by decide +kernel
set_option maxRecDepth 100000 in
theorem dX9_readsNumber_248 : decode cX9_readsNumber 248 = .ok (.lload 7, 2) := by decide +kernel
set_option maxRecDepth 100000 in
theorem dX9_readsNumber_250 : decode cX9_readsNumber 250 = .ok (.lmul, 1) := by decide +kernel
set_option maxRecDepth 100000 in
theorem dX9_readsNumber_251 : decode cX9_readsNumber 251 = .ok (.iload 12, 2) := by decide +kernel
set_option maxRecDepth 100000 in
theorem dX9_readsNumber_253 : decode cX9_readsNumber 253 = .ok (.i2l, 1) := by decide +kernel
set_option maxRecDepth 100000 in
theorem dX9_readsNumber_254 : decode cX9_readsNumber 254 = .ok (.ladd, 1) := by decide +kernel
set_option maxRecDepth 100000 in
theorem dX9_readsNumber_255 : decode cX9_readsNumber 255 = .ok (.ldc2_w 481, 3) := by decide +kernel
set_option maxRecDepth 100000 in
theorem dX9_readsNumber_258 : decode cX9_readsNumber 258 = .ok (.lsub, 1) := by decide +kernel
set_option maxRecDepth 100000 in
theorem dX9_readsNumber_259 : decode cX9_readsNumber 259 = .ok (.lstore 7, 2) := by decide +kernel
set_option maxRecDepth 100000 in
theorem dX9_readsNumber_261 : decode cX9_readsNumber 261 = .ok (.iinc 9 1, 3) := by decide +kernel
set_option maxRecDepth 100000 in
theorem dX9_readsNumber_264 : decode cX9_readsNumber 264 = .ok (.iload 10, 2) := by decide +kernel
set_option maxRecDepth 100000 in
theorem dX9_readsNumber_266 : decode cX9_readsNumber 266 = .ok (.ifCond .lt 6, 3) := by decide +kernel
set_option maxRecDepth 100000 in
theorem dX9_readsNumber_269 : decode cX9_readsNumber 269 = .ok (.iinc 10 1, 3) := by decide +kernel
set_option maxRecDepth 100000 in
theorem dX9_readsNumber_272 : decode cX9_readsNumber 272 = .ok (.aload_n 0, 1) := by decide +kernel
set_option maxRecDepth 100000 in
theorem dX9_readsNumber_273 : decode cX9_readsNumber 273 = .ok (.getfield 23, 3) := by decide +kernel
set_option maxRecDepth 100000 in
theorem dX9_readsNumber_276 : decode cX9_readsNumber 276 = .ok (.iload_n 2, 1) := by decide +kernel
set_option maxRecDepth 100000 in
theorem dX9_readsNumber_277 : decode cX9_readsNumber 277 = .ok (.invokevirtual 444, 3) := by decide +kernel
set_option maxRecDepth 100000 in
theorem dX9_readsNumber_280 : decode cX9_readsNumber 280 = .ok (.goto (-142), 3) := by decide +kernel
set_option maxRecDepth 100000 in
theorem dX9_readsNumber_283 : decode cX9_readsNumber 283 = .ok (.iload 9, 2) := by decide +kernel
set_option maxRecDepth 100000 in
theorem dX9_readsNumber_285 : decode cX9_readsNumber 285 = .ok (.ifCond .ne 10, 3) := by decide +kernel
set_option maxRecDepth 100000 in
theorem dX9_readsNumber_288 : decode cX9_readsNumber 288 = .ok (.aload_n 0, 1) := by decide +kernel
set_option maxRecDepth 100000 in
theorem dX9_readsNumber_289 : decode cX9_readsNumber 289 = .ok (.bipush 11, 2) := by decide +kernel
set_option maxRecDepth 100000 in
theorem dX9_readsNumber_291 : decode cX9_readsNumber 291 = .ok (.iload_n 3, 1) := by decide +kernel
set_option maxRecDepth 100000 in
theorem dX9_readsNumber_292 : decode cX9_readsNumber 292 = .ok (.invokevirtual 147, 3) := by decide +kernel
set_option maxRecDepth 100000 in
theorem dX9_readsNumber_295 : decode cX9_readsNumber 295 = .ok (.iload 6, 2) := by decide +kernel
set_option maxRecDepth 100000 in
theorem dX9_readsNumber_297 : decode cX9_readsNumber 297 = .ok (.ifCond .eq 39, 3) := by decide +kernel
set_option maxRecDepth 100000 in
theorem dX9_readsNumber_300 : decode cX9_readsNumber 300 = .ok (.aload_n 0, 1) := by decide +kernel
set_option maxRecDepth 100000 in
theorem dX9_readsNumber_301 : decode cX9_readsNumber 301 = .ok (.iload_n 2, 1) := by decide +kernel
set_option maxRecDepth 100000 in
theorem dX9_readsNumber_302 : decode cX9_readsNumber 302 = .ok (.lload 7, 2) := by decide +kernel
set_option maxRecDepth 100000 in
theorem dX9_readsNumber_304 : decode cX9_readsNumber 304 = .ok (.iload 9, 2) := by decide +kernel
set_option maxRecDepth 100000 in
theorem dX9_readsNumber_306 : decode cX9_readsNumber 306 = .ok (.iload 10, 2) := by decide +kernel
set_option maxRecDepth 100000 in
theorem dX9_readsNumber_308 : decode cX9_readsNumber 308 = .ok (.ifCond .ge 7, 3) := by decide +kernel
set_option maxRecDepth 100000 in
theorem dX9_readsNumber_311 : decode cX9_readsNumber 311 = .ok (.iconst 0, 1) := by decide +kernel
set_option maxRecDepth 100000 in
theorem dX9_readsNumber_312 : decode cX9_readsNumber 312 = .ok (.goto 5, 3) := by decide +kernel
set_option maxRecDepth 100000 in
theorem dX9_readsNumber_315 : decode cX9_readsNumber 315 = .ok (.iload 10, 2) := by decide +kernel
set_option maxRecDepth 100000 in
theorem dX9_readsNumber_317 : decode cX9_readsNumber 317 = .ok (.iload 5, 2) := by decide +kernel
set_option maxRecDepth 100000 in
theorem dX9_readsNumber_319 : decode cX9_readsNumber 319 = .ok (.bipush 45, 2) := by decide +kernel
set_option maxRecDepth 100000 in
theorem dX9_readsNumber_321 : decode cX9_readsNumber 321 = .ok (.if_icmp .ne 7, 3) := by decide +kernel
set_option maxRecDepth 100000 in
theorem dX9_readsNumber_324 : decode cX9_readsNumber 324 = .ok (.iconst 1, 1) := by decide +kernel
set_option maxRecDepth 100000 in
theorem dX9_readsNumber_325 : decode cX9_readsNumber 325 = .ok (.goto 4, 3) := by decide +kernel
set_option maxRecDepth 100000 in
theorem dX9_readsNumber_328 : decode cX9_readsNumber 328 = .ok (.iconst 0, 1) := by decide +kernel
set_option maxRecDepth 100000 in
theorem dX9_readsNumber_329 : decode cX9_readsNumber 329 = .ok (.iload_n 3, 1) := by decide +kernel
set_option maxRecDepth 100000 in
theorem dX9_readsNumber_330 : decode cX9_readsNumber 330 = .ok (.invokevirtual 483, 3) := by decide +kernel
set_option maxRecDepth 100000 in
theorem dX9_readsNumber_333 : decode cX9_readsNumber 333 = .ok (.goto 38, 3) := by decide +kernel
set_option maxRecDepth 100000 in
theorem dX9_readsNumber_336 : decode cX9_readsNumber 336 = .ok (.lload 7, 2) := by decide +kernel
set_option maxRecDepth 100000 in
theorem dX9_readsNumber_338 : decode cX9_readsNumber 338 = .ok (.ldc2_w 282, 3) := by decide +kernel
set_option maxRecDepth 100000 in
theorem dX9_readsNumber_341 : decode cX9_readsNumber 341 = .ok (.lcmp, 1) := by decide +kernel
set_option maxRecDepth 100000 in
theorem dX9_readsNumber_342 : decode cX9_readsNumber 342 = .ok (.ifCond .le 10, 3) := by decide +kernel
set_option maxRecDepth 100000 in
theorem dX9_readsNumber_345 : decode cX9_readsNumber 345 = .ok (.aload_n 0, 1) := by decide +kernel
set_option maxRecDepth 100000 in
theorem dX9_readsNumber_346 : decode cX9_readsNumber 346 = .ok (.bipush 11, 2) := by decide +kernel
set_option maxRecDepth 100000 in
theorem dX9_readsNumber_348 : decode cX9_readsNumber 348 = .ok (.iload_n 3, 1) := by decide +kernel
set_option maxRecDepth 100000 in
theorem dX9_readsNumber_349 : decode cX9_readsNumber 349 = .ok (.invokevirtual 147, 3) := by decide +kernel
set_option maxRecDepth 100000 in
theorem dX9_readsNumber_352 : decode cX9_readsNumber 352 = .ok (.aload_n 0, 1) := by decide +kernel
set_option maxRecDepth 100000 in
theorem dX9_readsNumber_353 : decode cX9_readsNumber 353 = .ok (.iload 5, 2) := by decide +kernel
set_option maxRecDepth 100000 in
theorem dX9_readsNumber_355 : decode cX9_readsNumber 355 = .ok (.bipush 45, 2) := by decide +kernel
set_option maxRecDepth 100000 in
theorem dX9_readsNumber_357 : decode cX9_readsNumber 357 = .ok (.if_icmp .ne 9, 3) := by decide +kernel
set_option maxRecDepth 100000 in
theorem dX9_readsNumber_360 : decode cX9_readsNumber 360 = .ok (.lload 7, 2) := by decide +kernel
set_option maxRecDepth 100000 in
theorem dX9_readsNumber_362 : decode cX9_readsNumber 362 = .ok (.lneg, 1) := by decide +kernel
set_option maxRecDepth 100000 in
theorem dX9_readsNumber_363 : decode cX9_readsNumber 363 = .ok (.goto 5, 3) := by decide +kernel
set_option maxRecDepth 100000 in
theorem dX9_readsNumber_366 : decode cX9_readsNumber 366 = .ok (.lload 7, 2) := by decide +kernel
set_option maxRecDepth 100000 in
theorem dX9_readsNumber_368 : decode cX9_readsNumber 368 = .ok (.invokevirtual 207, 3) := by decide +kernel
set_option maxRecDepth 100000 in
theorem dX9_readsNumber_371 : decode cX9_readsNumber 371 = .ok (.aload_n 0, 1) := by decide +kernel
set_option maxRecDepth 100000 in
theorem dX9_readsNumber_372 : decode cX9_readsNumber 372 = .ok (.getfield 23, 3) := by decide +kernel
set_option maxRecDepth 100000 in
theorem dX9_readsNumber_375 : decode cX9_readsNumber 375 = .ok (.iload_n 2, 1) := by decide +kernel
set_option maxRecDepth 100000 in
theorem dX9_readsNumber_376 : decode cX9_readsNumber 376 = .ok (.iconst 1, 1) := by decide +kernel
set_option maxRecDepth 100000 in
theorem dX9_readsNumber_377 : decode cX9_readsNumber 377 = .ok (.invokevirtual 441, 3) := by decide +kernel
set_option maxRecDepth 100000 in
theorem dX9_readsNumber_380 : decode cX9_readsNumber 380 = .ok (.return_, 1) := by decide +kernel
def lX9_readsNumber_22 (G : xG) (fr lo : Nat) (x0 : Nat) (x1 : Int32) (x2 : Int32) (x3 : Int32) (x4 : Int32) (h : xH) (Q : Outcome → xH → Prop) : Prop := xP G YX9_readsNumber fr lo 22 [(0, rv x0), (1, .int x1), (2, .int x2), (3, .int x3), (4, .int x4)] [] h Q
def lX9_readsNumber_138 (G : xG) (fr lo : Nat) (x0 : Nat) (x2 : Int32) (x3 : Int32) (x5 : Int32) (x6 : Int32) (x7 : Int64) (x9 : Int32) (x10 : Int32) (x11 : Int32) (h : xH) (Q : Outcome → xH → Prop) : Prop := xP G YX9_readsNumber fr lo 138 [(0, rv x0), (2, .int x2), (3, .int x3), (5, .int x5), (6, .int x6), (7, .long x7), (9, .int x9), (10, .int x10), (11, .int x11)] [] h Q
set_option maxRecDepth 100000 in
def bX9_readsNumber_371 (G : xG) (fr lo : Nat) (x0 : Nat) (x2 : Int32) (h : xH) (Q : Outcome → xH → Prop) : Prop := tg h x0 = 10 ∧ tg h (fR h x0 2306) = 12 ∧ 1 ≤ fr ∧ 17 ≤ lo ∧ xRv G YX11_bring (fr - 1) (lo - 17) [rv (fR h x0 2306), .int x2, .int 1] h (fun h5 => xext h h5 → Q (.returned none) h5) (fun r h2 => Q (.threw r) h2)
set_option maxRecDepth 100000 in
theorem uX9_readsNumber_371 {G : xG} {fr lo : Nat} {x0 : Nat} {x2 : Int32} {h : xH} {Q : Outcome → xH → Prop} (hq : bX9_readsNumber_371 G fr lo x0 x2 h Q) : xP G YX9_readsNumber fr lo 371 [(0, rv x0), (2, .int x2)] [] h Q := by
  unfold bX9_readsNumber_371 at hq
  refine x_aload_n 0 dX9_readsNumber_371 rfl ?_
  obtain ⟨g1, hq⟩ := hq
  refine x_get (v := rv (fR h x0 2306)) fdX9_23 dX9_readsNumber_372 g1 rfl ?_
  refine x_iload_n 1 dX9_readsNumber_375 rfl ?_
  refine x_iconst (v := 1) dX9_readsNumber_376 (by decide) ?_
  obtain ⟨g2, hq⟩ := hq
  obtain ⟨g3, g4, hq⟩ := hq
  refine x_callV (Yc := YX11_bring) (as := [.int x2, .int 1]) (st := []) q3144 mvX11_bring g2 rfl dX9_readsNumber_377 (xle (xal1 (rv_cat _) (xal1 rfl (xal1 rfl xal0))) (by decide)) (xfr g3) (xlo xsw0 (by decide) g4) (xKv hq (fun h5 hq e7 => ?_) (fun _ _ q _ => q))
  replace hq := hq e7
  exact x_vret rfl dX9_readsNumber_380 hq
set_option maxRecDepth 100000 in
def bX9_readsNumber_368 (G : xG) (fr lo : Nat) (x0 : Nat) (x2 : Int32) (s0 : Int64) (s1 : Nat) (h : xH) (Q : Outcome → xH → Prop) : Prop := tg h s1 = 10 ∧ 1 ≤ fr ∧ 14 ≤ lo ∧ xRv G YX9_push (fr - 1) (lo - 14) [rv s1, .long s0] h (fun h4 => xext h h4 → bX9_readsNumber_371 G fr lo x0 x2 h4 Q) (fun r h2 => Q (.threw r) h2)
set_option maxRecDepth 100000 in
theorem uX9_readsNumber_368 {G : xG} {fr lo : Nat} {x0 : Nat} {x2 : Int32} {s0 : Int64} {s1 : Nat} {h : xH} {Q : Outcome → xH → Prop} (hq : bX9_readsNumber_368 G fr lo x0 x2 s0 s1 h Q) : xP G YX9_readsNumber fr lo 368 [(0, rv x0), (2, .int x2)] [.long s0, rv s1] h Q := by
  unfold bX9_readsNumber_368 at hq
  obtain ⟨g1, hq⟩ := hq
  obtain ⟨g2, g3, hq⟩ := hq
  refine x_callV (Yc := YX9_push) (as := [.long s0]) (st := []) q2891 mvX9_push g1 rfl dX9_readsNumber_368 (xle (xal1 (rv_cat _) (xal2 rfl xal0)) (by decide)) (xfr g2) (xlo xsw0 (by decide) g3) (xKv hq (fun h4 hq e6 => ?_) (fun _ _ q _ => q))
  replace hq := hq e6
  exact uX9_readsNumber_371 hq
set_option maxRecDepth 100000 in
def bX9_readsNumber_352 (G : xG) (fr lo : Nat) (x0 : Nat) (x2 : Int32) (x5 : Int32) (x7 : Int64) (h : xH) (Q : Outcome → xH → Prop) : Prop := ((¬ x5 = 45 → bX9_readsNumber_368 G fr lo x0 x2 x7 x0 h Q) ∧ (x5 = 45 → bX9_readsNumber_368 G fr lo x0 x2 (-x7) x0 h Q))
set_option maxRecDepth 100000 in
theorem uX9_readsNumber_352 {G : xG} {fr lo : Nat} {x0 : Nat} {x2 : Int32} {x5 : Int32} {x7 : Int64} {h : xH} {Q : Outcome → xH → Prop} (hq : bX9_readsNumber_352 G fr lo x0 x2 x5 x7 h Q) : xP G YX9_readsNumber fr lo 352 [(0, rv x0), (2, .int x2), (5, .int x5), (7, .long x7)] [] h Q := by
  unfold bX9_readsNumber_352 at hq
  refine x_aload_n 0 dX9_readsNumber_352 rfl ?_
  refine x_iload 2 dX9_readsNumber_353 rfl ?_
  refine x_bipush (v := 45) dX9_readsNumber_355 (by decide) ?_
  refine x_icmp_ne (tgt := 366) dX9_readsNumber_357 (by decide) (fun c1 => ?_) (fun c1 => ?_)
  · replace hq := hq.1 c1
    refine x_lload 3 dX9_readsNumber_366 rfl ?_
    refine xP.pick (lv' := [(0, rv x0), (2, .int x2)]) [0, 1] rfl ?_
    exact uX9_readsNumber_368 hq
  · replace hq := hq.2 c1
    refine x_lload 3 dX9_readsNumber_360 rfl ?_
    refine x_lneg dX9_readsNumber_362 ?_
    refine x_goto (tgt := 368) dX9_readsNumber_363 (by decide) ?_
    refine xP.pick (lv' := [(0, rv x0), (2, .int x2)]) [0, 1] rfl ?_
    exact uX9_readsNumber_368 hq
set_option maxRecDepth 100000 in
def bX9_readsNumber_329 (G : xG) (fr lo : Nat) (x0 : Nat) (x2 : Int32) (x3 : Int32) (s0 : Int32) (s1 : Int32) (s2 : Int32) (s3 : Int64) (s4 : Int32) (s5 : Nat) (h : xH) (Q : Outcome → xH → Prop) : Prop := tg h s5 = 10 ∧ 1 ≤ fr ∧ 27 ≤ lo ∧ xRv G YX9_pushReal (fr - 1) (lo - 27) [rv s5, .int s4, .long s3, .int s2, .int s1, .int s0, .int x3] h (fun h4 => xext h h4 → bX9_readsNumber_371 G fr lo x0 x2 h4 Q) (fun r h2 => Q (.threw r) h2)
set_option maxRecDepth 100000 in
theorem uX9_readsNumber_329 {G : xG} {fr lo : Nat} {x0 : Nat} {x2 : Int32} {x3 : Int32} {s0 : Int32} {s1 : Int32} {s2 : Int32} {s3 : Int64} {s4 : Int32} {s5 : Nat} {h : xH} {Q : Outcome → xH → Prop} (hq : bX9_readsNumber_329 G fr lo x0 x2 x3 s0 s1 s2 s3 s4 s5 h Q) : xP G YX9_readsNumber fr lo 329 [(0, rv x0), (2, .int x2), (3, .int x3)] [.int s0, .int s1, .int s2, .long s3, .int s4, rv s5] h Q := by
  unfold bX9_readsNumber_329 at hq
  refine x_iload_n 2 dX9_readsNumber_329 rfl ?_
  obtain ⟨g1, hq⟩ := hq
  obtain ⟨g2, g3, hq⟩ := hq
  refine x_callV (Yc := YX9_pushReal) (as := [.int s4, .long s3, .int s2, .int s1, .int s0, .int x3]) (st := []) q3172 mvX9_pushReal g1 rfl dX9_readsNumber_330 (xle (xal1 (rv_cat _) (xal1 rfl (xal2 rfl (xal1 rfl (xal1 rfl (xal1 rfl (xal1 rfl xal0))))))) (by decide)) (xfr g2) (xlo xsw0 (by decide) g3) (xKv hq (fun h4 hq e6 => ?_) (fun _ _ q _ => q))
  replace hq := hq e6
  refine x_goto (tgt := 371) dX9_readsNumber_333 (by decide) ?_
  refine xP.pick (lv' := [(0, rv x0), (2, .int x2)]) [0, 1] rfl ?_
  exact uX9_readsNumber_371 hq
set_option maxRecDepth 100000 in
def bX9_readsNumber_317 (G : xG) (fr lo : Nat) (x0 : Nat) (x2 : Int32) (x3 : Int32) (x5 : Int32) (s0 : Int32) (s1 : Int32) (s2 : Int64) (s3 : Int32) (s4 : Nat) (h : xH) (Q : Outcome → xH → Prop) : Prop := ((¬ x5 = 45 → bX9_readsNumber_329 G fr lo x0 x2 x3 0 s0 s1 s2 s3 s4 h Q) ∧ (x5 = 45 → bX9_readsNumber_329 G fr lo x0 x2 x3 1 s0 s1 s2 s3 s4 h Q))
set_option maxRecDepth 100000 in
theorem uX9_readsNumber_317 {G : xG} {fr lo : Nat} {x0 : Nat} {x2 : Int32} {x3 : Int32} {x5 : Int32} {s0 : Int32} {s1 : Int32} {s2 : Int64} {s3 : Int32} {s4 : Nat} {h : xH} {Q : Outcome → xH → Prop} (hq : bX9_readsNumber_317 G fr lo x0 x2 x3 x5 s0 s1 s2 s3 s4 h Q) : xP G YX9_readsNumber fr lo 317 [(0, rv x0), (2, .int x2), (3, .int x3), (5, .int x5)] [.int s0, .int s1, .long s2, .int s3, rv s4] h Q := by
  unfold bX9_readsNumber_317 at hq
  refine x_iload 3 dX9_readsNumber_317 rfl ?_
  refine x_bipush (v := 45) dX9_readsNumber_319 (by decide) ?_
  refine x_icmp_ne (tgt := 328) dX9_readsNumber_321 (by decide) (fun c1 => ?_) (fun c1 => ?_)
  · replace hq := hq.1 c1
    refine x_iconst (v := 0) dX9_readsNumber_328 (by decide) ?_
    refine xP.pick (lv' := [(0, rv x0), (2, .int x2), (3, .int x3)]) [0, 1, 2] rfl ?_
    exact uX9_readsNumber_329 hq
  · replace hq := hq.2 c1
    refine x_iconst (v := 1) dX9_readsNumber_324 (by decide) ?_
    refine x_goto (tgt := 329) dX9_readsNumber_325 (by decide) ?_
    refine xP.pick (lv' := [(0, rv x0), (2, .int x2), (3, .int x3)]) [0, 1, 2] rfl ?_
    exact uX9_readsNumber_329 hq
set_option maxRecDepth 100000 in
def bX9_readsNumber_295 (G : xG) (fr lo : Nat) (x0 : Nat) (x2 : Int32) (x3 : Int32) (x5 : Int32) (x6 : Int32) (x7 : Int64) (x9 : Int32) (x10 : Int32) (h : xH) (Q : Outcome → xH → Prop) : Prop := ((x6 = 0 → (((lg_cmp x7 2147483647) ≤ 0 → bX9_readsNumber_352 G fr lo x0 x2 x5 x7 h Q) ∧ (¬ (lg_cmp x7 2147483647) ≤ 0 → tg h x0 = 10 ∧ 1 ≤ fr ∧ 14 ≤ lo ∧ xRv G YX9_fail (fr - 1) (lo - 14) [rv x0, .int 11, .int x3] h (fun h6 => xext h h6 → bX9_readsNumber_352 G fr lo x0 x2 x5 x7 h6 Q) (fun r h2 => Q (.threw r) h2)))) ∧ (¬ x6 = 0 → ((0 ≤ x10 → bX9_readsNumber_317 G fr lo x0 x2 x3 x5 x10 x9 x7 x2 x0 h Q) ∧ (¬ 0 ≤ x10 → bX9_readsNumber_317 G fr lo x0 x2 x3 x5 0 x9 x7 x2 x0 h Q))))
set_option maxRecDepth 100000 in
theorem uX9_readsNumber_295 {G : xG} {fr lo : Nat} {x0 : Nat} {x2 : Int32} {x3 : Int32} {x5 : Int32} {x6 : Int32} {x7 : Int64} {x9 : Int32} {x10 : Int32} {h : xH} {Q : Outcome → xH → Prop} (hq : bX9_readsNumber_295 G fr lo x0 x2 x3 x5 x6 x7 x9 x10 h Q) : xP G YX9_readsNumber fr lo 295 [(0, rv x0), (2, .int x2), (3, .int x3), (5, .int x5), (6, .int x6), (7, .long x7), (9, .int x9), (10, .int x10)] [] h Q := by
  unfold bX9_readsNumber_295 at hq
  refine x_iload 4 dX9_readsNumber_295 rfl ?_
  refine x_if_eq (tgt := 336) dX9_readsNumber_297 (by decide) (fun c1 => ?_) (fun c1 => ?_)
  · replace hq := hq.1 c1
    refine x_lload 5 dX9_readsNumber_336 rfl ?_
    refine x_ldc2 (v := 2147483647) q2950 dX9_readsNumber_338 ?_
    refine x_lcmp dX9_readsNumber_341 ?_
    refine x_if_le (tgt := 352) dX9_readsNumber_342 (by decide) (fun c2 => ?_) (fun c2 => ?_)
    · replace hq := hq.1 c2
      refine xP.pick (lv' := [(0, rv x0), (2, .int x2), (5, .int x5), (7, .long x7)]) [0, 1, 3, 5] rfl ?_
      exact uX9_readsNumber_352 hq
    · replace hq := hq.2 c2
      refine x_aload_n 0 dX9_readsNumber_345 rfl ?_
      refine x_bipush (v := 11) dX9_readsNumber_346 (by decide) ?_
      refine x_iload_n 2 dX9_readsNumber_348 rfl ?_
      obtain ⟨g3, hq⟩ := hq
      obtain ⟨g4, g5, hq⟩ := hq
      refine x_callV (Yc := YX9_fail) (as := [.int 11, .int x3]) (st := []) q2835 mvX9_fail g3 rfl dX9_readsNumber_349 (xle (xal1 (rv_cat _) (xal1 rfl (xal1 rfl xal0))) (by decide)) (xfr g4) (xlo xsw0 (by decide) g5) (xKv hq (fun h6 hq e8 => ?_) (fun _ _ q _ => q))
      replace hq := hq e8
      refine xP.pick (lv' := [(0, rv x0), (2, .int x2), (5, .int x5), (7, .long x7)]) [0, 1, 3, 5] rfl ?_
      exact uX9_readsNumber_352 hq
  · replace hq := hq.2 c1
    refine x_aload_n 0 dX9_readsNumber_300 rfl ?_
    refine x_iload_n 1 dX9_readsNumber_301 rfl ?_
    refine x_lload 5 dX9_readsNumber_302 rfl ?_
    refine x_iload 6 dX9_readsNumber_304 rfl ?_
    refine x_iload 7 dX9_readsNumber_306 rfl ?_
    refine x_if_ge (tgt := 315) dX9_readsNumber_308 (by decide) (fun c9 => ?_) (fun c9 => ?_)
    · replace hq := hq.1 c9
      refine x_iload 7 dX9_readsNumber_315 rfl ?_
      refine xP.pick (lv' := [(0, rv x0), (2, .int x2), (3, .int x3), (5, .int x5)]) [0, 1, 2, 3] rfl ?_
      exact uX9_readsNumber_317 hq
    · replace hq := hq.2 c9
      refine x_iconst (v := 0) dX9_readsNumber_311 (by decide) ?_
      refine x_goto (tgt := 317) dX9_readsNumber_312 (by decide) ?_
      refine xP.pick (lv' := [(0, rv x0), (2, .int x2), (3, .int x3), (5, .int x5)]) [0, 1, 2, 3] rfl ?_
      exact uX9_readsNumber_317 hq
set_option maxRecDepth 100000 in
def bX9_readsNumber_272 (G : xG) (fr lo : Nat) (x0 : Nat) (x2 : Int32) (x3 : Int32) (x5 : Int32) (x6 : Int32) (x7 : Int64) (x9 : Int32) (x10 : Int32) (x11 : Int32) (h : xH) (Q : Outcome → xH → Prop) : Prop := tg h x0 = 10 ∧ tg h (fR h x0 2306) = 12 ∧ 1 ≤ fr ∧ 14 ≤ lo ∧ xRv G YX11_goOn (fr - 1) (lo - 14) [rv (fR h x0 2306), .int x2] h (fun h5 => xext h h5 → lX9_readsNumber_138 G fr lo x0 x2 x3 x5 x6 x7 x9 x10 x11 h5 Q) (fun r h2 => Q (.threw r) h2)
set_option maxRecDepth 100000 in
theorem uX9_readsNumber_272 {G : xG} {fr lo : Nat} {x0 : Nat} {x2 : Int32} {x3 : Int32} {x5 : Int32} {x6 : Int32} {x7 : Int64} {x9 : Int32} {x10 : Int32} {x11 : Int32} {h : xH} {Q : Outcome → xH → Prop} (hq : bX9_readsNumber_272 G fr lo x0 x2 x3 x5 x6 x7 x9 x10 x11 h Q) : xP G YX9_readsNumber fr lo 272 [(0, rv x0), (2, .int x2), (3, .int x3), (5, .int x5), (6, .int x6), (7, .long x7), (9, .int x9), (10, .int x10), (11, .int x11)] [] h Q := by
  unfold bX9_readsNumber_272 at hq
  refine x_aload_n 0 dX9_readsNumber_272 rfl ?_
  obtain ⟨g1, hq⟩ := hq
  refine x_get (v := rv (fR h x0 2306)) fdX9_23 dX9_readsNumber_273 g1 rfl ?_
  refine x_iload_n 1 dX9_readsNumber_276 rfl ?_
  obtain ⟨g2, hq⟩ := hq
  obtain ⟨g3, g4, hq⟩ := hq
  refine x_callV (Yc := YX11_goOn) (as := [.int x2]) (st := []) q3145 mvX11_goOn g2 rfl dX9_readsNumber_277 (xle (xal1 (rv_cat _) (xal1 rfl xal0)) (by decide)) (xfr g3) (xlo xsw0 (by decide) g4) (xKv hq (fun h5 hq e7 => ?_) (fun _ _ q _ => q))
  replace hq := hq e7
  refine x_goto (tgt := 138) dX9_readsNumber_280 (by decide) ?_
  exact hq
set_option maxRecDepth 100000 in
def bX9_readsNumber_261 (G : xG) (fr lo : Nat) (x0 : Nat) (x2 : Int32) (x3 : Int32) (x5 : Int32) (x6 : Int32) (x7 : Int64) (x9 : Int32) (x10 : Int32) (x11 : Int32) (h : xH) (Q : Outcome → xH → Prop) : Prop := ((x10 < 0 → bX9_readsNumber_272 G fr lo x0 x2 x3 x5 x6 x7 (x9 + 1) x10 x11 h Q) ∧ (¬ x10 < 0 → bX9_readsNumber_272 G fr lo x0 x2 x3 x5 x6 x7 (x9 + 1) (x10 + 1) x11 h Q))
set_option maxRecDepth 100000 in
theorem uX9_readsNumber_261 {G : xG} {fr lo : Nat} {x0 : Nat} {x2 : Int32} {x3 : Int32} {x5 : Int32} {x6 : Int32} {x7 : Int64} {x9 : Int32} {x10 : Int32} {x11 : Int32} {h : xH} {Q : Outcome → xH → Prop} (hq : bX9_readsNumber_261 G fr lo x0 x2 x3 x5 x6 x7 x9 x10 x11 h Q) : xP G YX9_readsNumber fr lo 261 [(0, rv x0), (2, .int x2), (3, .int x3), (5, .int x5), (6, .int x6), (7, .long x7), (9, .int x9), (10, .int x10), (11, .int x11)] [] h Q := by
  unfold bX9_readsNumber_261 at hq
  refine x_iinc (lv' := [(9, .int (x9 + 1)), (0, rv x0), (2, .int x2), (3, .int x3), (5, .int x5), (6, .int x6), (7, .long x7), (10, .int x10), (11, .int x11)]) 6 dX9_readsNumber_261 rfl (by decide) rfl ?_
  refine x_iload 7 dX9_readsNumber_264 rfl ?_
  refine x_if_lt (tgt := 272) dX9_readsNumber_266 (by decide) (fun c1 => ?_) (fun c1 => ?_)
  · replace hq := hq.1 c1
    refine xP.pick (lv' := [(0, rv x0), (2, .int x2), (3, .int x3), (5, .int x5), (6, .int x6), (7, .long x7), (9, .int (x9 + 1)), (10, .int x10), (11, .int x11)]) [1, 2, 3, 4, 5, 6, 0, 7, 8] rfl ?_
    exact uX9_readsNumber_272 hq
  · replace hq := hq.2 c1
    refine x_iinc (lv' := [(10, .int (x10 + 1)), (9, .int (x9 + 1)), (0, rv x0), (2, .int x2), (3, .int x3), (5, .int x5), (6, .int x6), (7, .long x7), (11, .int x11)]) 7 dX9_readsNumber_269 rfl (by decide) rfl ?_
    refine xP.pick (lv' := [(0, rv x0), (2, .int x2), (3, .int x3), (5, .int x5), (6, .int x6), (7, .long x7), (9, .int (x9 + 1)), (10, .int (x10 + 1)), (11, .int x11)]) [2, 3, 4, 5, 6, 7, 1, 0, 8] rfl ?_
    exact uX9_readsNumber_272 hq
set_option maxRecDepth 100000 in
def bX9_readsNumber_215 (G : xG) (fr lo : Nat) (x0 : Nat) (x2 : Int32) (x3 : Int32) (x5 : Int32) (x6 : Int32) (x7 : Int64) (x9 : Int32) (x10 : Int32) (x12 : Int32) (x13 : Int32) (s0 : Int32) (h : xH) (Q : Outcome → xH → Prop) : Prop := ((¬ s0 = 0 → ((x13 = 0 → ((0 ≤ (lg_cmp x7 1000000000000000) → bX9_readsNumber_261 G fr lo x0 x2 x3 x5 x6 x7 x9 x10 s0 h Q) ∧ (¬ 0 ≤ (lg_cmp x7 1000000000000000) → bX9_readsNumber_261 G fr lo x0 x2 x3 x5 x6 (((10 * x7) + (Int32.toInt64 x12)) - 48) x9 x10 s0 h Q))) ∧ (¬ x13 = 0 → bX9_readsNumber_272 G fr lo x0 x2 x3 x5 x6 x7 x9 0 s0 h Q))) ∧ (s0 = 0 → lX9_readsNumber_138 G fr lo x0 x2 x3 x5 x6 x7 x9 x10 s0 h Q))
set_option maxRecDepth 100000 in
theorem uX9_readsNumber_215 {G : xG} {fr lo : Nat} {x0 : Nat} {x2 : Int32} {x3 : Int32} {x5 : Int32} {x6 : Int32} {x7 : Int64} {x9 : Int32} {x10 : Int32} {x12 : Int32} {x13 : Int32} {s0 : Int32} {h : xH} {Q : Outcome → xH → Prop} (hq : bX9_readsNumber_215 G fr lo x0 x2 x3 x5 x6 x7 x9 x10 x12 x13 s0 h Q) : xP G YX9_readsNumber fr lo 215 [(0, rv x0), (2, .int x2), (3, .int x3), (5, .int x5), (6, .int x6), (7, .long x7), (9, .int x9), (10, .int x10), (12, .int x12), (13, .int x13)] [.int s0] h Q := by
  unfold bX9_readsNumber_215 at hq
  refine x_istore (lv' := [(11, .int s0), (0, rv x0), (2, .int x2), (3, .int x3), (5, .int x5), (6, .int x6), (7, .long x7), (9, .int x9), (10, .int x10), (12, .int x12), (13, .int x13)]) dX9_readsNumber_215 (by decide) rfl ?_
  refine x_iload 0 dX9_readsNumber_217 rfl ?_
  refine x_if_ne (tgt := 225) dX9_readsNumber_219 (by decide) (fun c1 => ?_) (fun c1 => ?_)
  · replace hq := hq.1 c1
    refine x_iload 10 dX9_readsNumber_225 rfl ?_
    refine x_if_eq (tgt := 236) dX9_readsNumber_227 (by decide) (fun c2 => ?_) (fun c2 => ?_)
    · replace hq := hq.1 c2
      refine x_lload 6 dX9_readsNumber_236 rfl ?_
      refine x_ldc2 (v := 1000000000000000) q3170 dX9_readsNumber_238 ?_
      refine x_lcmp dX9_readsNumber_241 ?_
      refine x_if_ge (tgt := 261) dX9_readsNumber_242 (by decide) (fun c3 => ?_) (fun c3 => ?_)
      · replace hq := hq.1 c3
        refine xP.pick (lv' := [(0, rv x0), (2, .int x2), (3, .int x3), (5, .int x5), (6, .int x6), (7, .long x7), (9, .int x9), (10, .int x10), (11, .int s0)]) [1, 2, 3, 4, 5, 6, 7, 8, 0] rfl ?_
        exact uX9_readsNumber_261 hq
      · replace hq := hq.2 c3
        refine x_ldc2 (v := 10) q3106 dX9_readsNumber_245 ?_
        refine x_lload 6 dX9_readsNumber_248 rfl ?_
        refine x_lmul dX9_readsNumber_250 ?_
        refine x_iload 9 dX9_readsNumber_251 rfl ?_
        refine x_i2l dX9_readsNumber_253 ?_
        refine x_ladd dX9_readsNumber_254 ?_
        refine x_ldc2 (v := 48) q3171 dX9_readsNumber_255 ?_
        refine x_lsub dX9_readsNumber_258 ?_
        refine x_lstore (lv' := [(7, .long (((10 * x7) + (Int32.toInt64 x12)) - 48)), (11, .int s0), (0, rv x0), (2, .int x2), (3, .int x3), (5, .int x5), (6, .int x6), (9, .int x9), (10, .int x10), (12, .int x12), (13, .int x13)]) dX9_readsNumber_259 (by decide) rfl ?_
        refine xP.pick (lv' := [(0, rv x0), (2, .int x2), (3, .int x3), (5, .int x5), (6, .int x6), (7, .long (((10 * x7) + (Int32.toInt64 x12)) - 48)), (9, .int x9), (10, .int x10), (11, .int s0)]) [2, 3, 4, 5, 6, 0, 7, 8, 1] rfl ?_
        exact uX9_readsNumber_261 hq
    · replace hq := hq.2 c2
      refine x_iconst (v := 0) dX9_readsNumber_230 (by decide) ?_
      refine x_istore (lv' := [(10, .int 0), (11, .int s0), (0, rv x0), (2, .int x2), (3, .int x3), (5, .int x5), (6, .int x6), (7, .long x7), (9, .int x9), (12, .int x12), (13, .int x13)]) dX9_readsNumber_231 (by decide) rfl ?_
      refine x_goto (tgt := 272) dX9_readsNumber_233 (by decide) ?_
      refine xP.pick (lv' := [(0, rv x0), (2, .int x2), (3, .int x3), (5, .int x5), (6, .int x6), (7, .long x7), (9, .int x9), (10, .int 0), (11, .int s0)]) [2, 3, 4, 5, 6, 7, 8, 0, 1] rfl ?_
      exact uX9_readsNumber_272 hq
  · replace hq := hq.2 c1
    refine x_goto (tgt := 138) dX9_readsNumber_222 (by decide) ?_
    refine xP.pick (lv' := [(0, rv x0), (2, .int x2), (3, .int x3), (5, .int x5), (6, .int x6), (7, .long x7), (9, .int x9), (10, .int x10), (11, .int s0)]) [1, 2, 3, 4, 5, 6, 7, 8, 0] rfl ?_
    exact hq
set_option maxRecDepth 100000 in
def bX9_readsNumber_210 (G : xG) (fr lo : Nat) (x0 : Nat) (x2 : Int32) (x3 : Int32) (x5 : Int32) (x6 : Int32) (x7 : Int64) (x9 : Int32) (x10 : Int32) (x12 : Int32) (x13 : Int32) (h : xH) (Q : Outcome → xH → Prop) : Prop := bX9_readsNumber_215 G fr lo x0 x2 x3 x5 x6 x7 x9 x10 x12 x13 1 h Q
set_option maxRecDepth 100000 in
theorem uX9_readsNumber_210 {G : xG} {fr lo : Nat} {x0 : Nat} {x2 : Int32} {x3 : Int32} {x5 : Int32} {x6 : Int32} {x7 : Int64} {x9 : Int32} {x10 : Int32} {x12 : Int32} {x13 : Int32} {h : xH} {Q : Outcome → xH → Prop} (hq : bX9_readsNumber_210 G fr lo x0 x2 x3 x5 x6 x7 x9 x10 x12 x13 h Q) : xP G YX9_readsNumber fr lo 210 [(0, rv x0), (2, .int x2), (3, .int x3), (5, .int x5), (6, .int x6), (7, .long x7), (9, .int x9), (10, .int x10), (12, .int x12), (13, .int x13)] [] h Q := by
  unfold bX9_readsNumber_210 at hq
  refine x_iconst (v := 1) dX9_readsNumber_210 (by decide) ?_
  refine x_goto (tgt := 215) dX9_readsNumber_211 (by decide) ?_
  exact uX9_readsNumber_215 hq
set_option maxRecDepth 100000 in
def bX9_readsNumber_195 (G : xG) (fr lo : Nat) (x0 : Nat) (x2 : Int32) (x3 : Int32) (x5 : Int32) (x6 : Int32) (x7 : Int64) (x9 : Int32) (x10 : Int32) (x12 : Int32) (s0 : Int32) (h : xH) (Q : Outcome → xH → Prop) : Prop := ((¬ s0 = 0 → bX9_readsNumber_210 G fr lo x0 x2 x3 x5 x6 x7 x9 x10 x12 s0 h Q) ∧ (s0 = 0 → 1 ≤ fr ∧ 12 ≤ lo ∧ xRi G YX0_isDigit (fr - 1) (lo - 12) [.int x12] h (fun x5 h4 => xext h h4 → ((x5 = 0 → bX9_readsNumber_215 G fr lo x0 x2 x3 x5 x6 x7 x9 x10 x12 s0 0 h4 Q) ∧ (¬ x5 = 0 → bX9_readsNumber_210 G fr lo x0 x2 x3 x5 x6 x7 x9 x10 x12 s0 h4 Q))) (fun r h2 => Q (.threw r) h2)))
set_option maxRecDepth 100000 in
theorem uX9_readsNumber_195 {G : xG} {fr lo : Nat} {x0 : Nat} {x2 : Int32} {x3 : Int32} {x5 : Int32} {x6 : Int32} {x7 : Int64} {x9 : Int32} {x10 : Int32} {x12 : Int32} {s0 : Int32} {h : xH} {Q : Outcome → xH → Prop} (hq : bX9_readsNumber_195 G fr lo x0 x2 x3 x5 x6 x7 x9 x10 x12 s0 h Q) : xP G YX9_readsNumber fr lo 195 [(0, rv x0), (2, .int x2), (3, .int x3), (5, .int x5), (6, .int x6), (7, .long x7), (9, .int x9), (10, .int x10), (12, .int x12)] [.int s0] h Q := by
  unfold bX9_readsNumber_195 at hq
  refine x_istore (lv' := [(13, .int s0), (0, rv x0), (2, .int x2), (3, .int x3), (5, .int x5), (6, .int x6), (7, .long x7), (9, .int x9), (10, .int x10), (12, .int x12)]) dX9_readsNumber_195 (by decide) rfl ?_
  refine x_iload 0 dX9_readsNumber_197 rfl ?_
  refine x_if_ne (tgt := 210) dX9_readsNumber_199 (by decide) (fun c1 => ?_) (fun c1 => ?_)
  · replace hq := hq.1 c1
    refine xP.pick (lv' := [(0, rv x0), (2, .int x2), (3, .int x3), (5, .int x5), (6, .int x6), (7, .long x7), (9, .int x9), (10, .int x10), (12, .int x12), (13, .int s0)]) [1, 2, 3, 4, 5, 6, 7, 8, 9, 0] rfl ?_
    exact uX9_readsNumber_210 hq
  · replace hq := hq.2 c1
    refine x_iload 9 dX9_readsNumber_202 rfl ?_
    obtain ⟨g2, g3, hq⟩ := hq
    refine x_callSN (Yc := YX0_isDigit) (as := [.int x12]) (st := []) (List.mem_filter.mpr ⟨q3169, rfl⟩) msX0_isDigit rfl dX9_readsNumber_204 (xle (xal1 rfl xal0) (by decide)) (xfr g2) (xlo xsw0 (by decide) g3) (xKi hq (fun x5 h4 hq e6 => ?_) (fun _ _ q _ => q))
    replace hq := hq e6
    refine x_if_eq (tgt := 214) dX9_readsNumber_207 (by decide) (fun c7 => ?_) (fun c7 => ?_)
    · replace hq := hq.1 c7
      refine x_iconst (v := 0) dX9_readsNumber_214 (by decide) ?_
      refine xP.pick (lv' := [(0, rv x0), (2, .int x2), (3, .int x3), (5, .int x5), (6, .int x6), (7, .long x7), (9, .int x9), (10, .int x10), (12, .int x12), (13, .int s0)]) [1, 2, 3, 4, 5, 6, 7, 8, 9, 0] rfl ?_
      exact uX9_readsNumber_215 hq
    · replace hq := hq.2 c7
      refine xP.pick (lv' := [(0, rv x0), (2, .int x2), (3, .int x3), (5, .int x5), (6, .int x6), (7, .long x7), (9, .int x9), (10, .int x10), (12, .int x12), (13, .int s0)]) [1, 2, 3, 4, 5, 6, 7, 8, 9, 0] rfl ?_
      exact uX9_readsNumber_210 hq
set_option maxRecDepth 100000 in
def bX9_readsNumber_194 (G : xG) (fr lo : Nat) (x0 : Nat) (x2 : Int32) (x3 : Int32) (x5 : Int32) (x6 : Int32) (x7 : Int64) (x9 : Int32) (x10 : Int32) (x12 : Int32) (h : xH) (Q : Outcome → xH → Prop) : Prop := bX9_readsNumber_195 G fr lo x0 x2 x3 x5 x6 x7 x9 x10 x12 0 h Q
set_option maxRecDepth 100000 in
theorem uX9_readsNumber_194 {G : xG} {fr lo : Nat} {x0 : Nat} {x2 : Int32} {x3 : Int32} {x5 : Int32} {x6 : Int32} {x7 : Int64} {x9 : Int32} {x10 : Int32} {x12 : Int32} {h : xH} {Q : Outcome → xH → Prop} (hq : bX9_readsNumber_194 G fr lo x0 x2 x3 x5 x6 x7 x9 x10 x12 h Q) : xP G YX9_readsNumber fr lo 194 [(0, rv x0), (2, .int x2), (3, .int x3), (5, .int x5), (6, .int x6), (7, .long x7), (9, .int x9), (10, .int x10), (12, .int x12)] [] h Q := by
  unfold bX9_readsNumber_194 at hq
  refine x_iconst (v := 0) dX9_readsNumber_194 (by decide) ?_
  exact uX9_readsNumber_195 hq
set_option maxRecDepth 100000 in
def bX9_readsNumber_138 (G : xG) (fr lo : Nat) (x0 : Nat) (x2 : Int32) (x3 : Int32) (x5 : Int32) (x6 : Int32) (x7 : Int64) (x9 : Int32) (x10 : Int32) (x11 : Int32) (h : xH) (Q : Outcome → xH → Prop) : Prop := ((x11 = 0 → ((¬ x9 = 0 → bX9_readsNumber_295 G fr lo x0 x2 x3 x5 x6 x7 x9 x10 h Q) ∧ (x9 = 0 → tg h x0 = 10 ∧ 1 ≤ fr ∧ 14 ≤ lo ∧ xRv G YX9_fail (fr - 1) (lo - 14) [rv x0, .int 11, .int x3] h (fun h6 => xext h h6 → bX9_readsNumber_295 G fr lo x0 x2 x3 x5 x6 x7 x9 x10 h6 Q) (fun r h2 => Q (.threw r) h2)))) ∧ (¬ x11 = 0 → tg h x0 = 10 ∧ tg h (fR h x0 2306) = 12 ∧ 1 ≤ fr ∧ 13 ≤ lo ∧ xRi G YX11_here (fr - 1) (lo - 13) [rv (fR h x0 2306), .int x2] h (fun x14 h13 => xext h h13 → ((x6 = 0 → bX9_readsNumber_194 G fr lo x0 x2 x3 x5 x6 x7 x9 x10 x14 h13 Q) ∧ (¬ x6 = 0 → ((0 ≤ x10 → bX9_readsNumber_194 G fr lo x0 x2 x3 x5 x6 x7 x9 x10 x14 h13 Q) ∧ (¬ 0 ≤ x10 → ((x9 ≤ 0 → bX9_readsNumber_194 G fr lo x0 x2 x3 x5 x6 x7 x9 x10 x14 h13 Q) ∧ (¬ x9 ≤ 0 → ((¬ x14 = 46 → bX9_readsNumber_194 G fr lo x0 x2 x3 x5 x6 x7 x9 x10 x14 h13 Q) ∧ (x14 = 46 → tg h13 (fR h13 x0 2306) = 12 ∧ 1 ≤ fr ∧ 16 ≤ lo ∧ xRi G YX11_ahead (fr - 1) (lo - 16) [rv (fR h13 x0 2306), .int x2, .int 1] h13 (fun x25 h24 => xext h13 h24 → 1 ≤ fr ∧ 12 ≤ lo ∧ xRi G YX0_isDigit (fr - 1) (lo - 12) [.int x25] h24 (fun x30 h29 => xext h24 h29 → ((x30 = 0 → bX9_readsNumber_194 G fr lo x0 x2 x3 x5 x6 x7 x9 x10 x14 h29 Q) ∧ (¬ x30 = 0 → bX9_readsNumber_195 G fr lo x0 x2 x3 x5 x6 x7 x9 x10 x14 1 h29 Q))) (fun r h2 => Q (.threw r) h2)) (fun r h2 => Q (.threw r) h2)))))))))) (fun r h2 => Q (.threw r) h2)))
set_option maxRecDepth 100000 in
theorem uX9_readsNumber_138 {G : xG} {fr lo : Nat} {x0 : Nat} {x2 : Int32} {x3 : Int32} {x5 : Int32} {x6 : Int32} {x7 : Int64} {x9 : Int32} {x10 : Int32} {x11 : Int32} {h : xH} {Q : Outcome → xH → Prop} (hq : bX9_readsNumber_138 G fr lo x0 x2 x3 x5 x6 x7 x9 x10 x11 h Q) : xP G YX9_readsNumber fr lo 138 [(0, rv x0), (2, .int x2), (3, .int x3), (5, .int x5), (6, .int x6), (7, .long x7), (9, .int x9), (10, .int x10), (11, .int x11)] [] h Q := by
  unfold bX9_readsNumber_138 at hq
  refine x_iload 8 dX9_readsNumber_138 rfl ?_
  refine x_if_eq (tgt := 283) dX9_readsNumber_140 (by decide) (fun c1 => ?_) (fun c1 => ?_)
  · replace hq := hq.1 c1
    refine x_iload 6 dX9_readsNumber_283 rfl ?_
    refine x_if_ne (tgt := 295) dX9_readsNumber_285 (by decide) (fun c2 => ?_) (fun c2 => ?_)
    · replace hq := hq.1 c2
      refine xP.pick (lv' := [(0, rv x0), (2, .int x2), (3, .int x3), (5, .int x5), (6, .int x6), (7, .long x7), (9, .int x9), (10, .int x10)]) [0, 1, 2, 3, 4, 5, 6, 7] rfl ?_
      exact uX9_readsNumber_295 hq
    · replace hq := hq.2 c2
      refine x_aload_n 0 dX9_readsNumber_288 rfl ?_
      refine x_bipush (v := 11) dX9_readsNumber_289 (by decide) ?_
      refine x_iload_n 2 dX9_readsNumber_291 rfl ?_
      obtain ⟨g3, hq⟩ := hq
      obtain ⟨g4, g5, hq⟩ := hq
      refine x_callV (Yc := YX9_fail) (as := [.int 11, .int x3]) (st := []) q2835 mvX9_fail g3 rfl dX9_readsNumber_292 (xle (xal1 (rv_cat _) (xal1 rfl (xal1 rfl xal0))) (by decide)) (xfr g4) (xlo xsw0 (by decide) g5) (xKv hq (fun h6 hq e8 => ?_) (fun _ _ q _ => q))
      replace hq := hq e8
      refine xP.pick (lv' := [(0, rv x0), (2, .int x2), (3, .int x3), (5, .int x5), (6, .int x6), (7, .long x7), (9, .int x9), (10, .int x10)]) [0, 1, 2, 3, 4, 5, 6, 7] rfl ?_
      exact uX9_readsNumber_295 hq
  · replace hq := hq.2 c1
    refine x_aload_n 0 dX9_readsNumber_143 rfl ?_
    obtain ⟨g9, hq⟩ := hq
    refine x_get (v := rv (fR h x0 2306)) fdX9_23 dX9_readsNumber_144 g9 rfl ?_
    refine x_iload_n 1 dX9_readsNumber_147 rfl ?_
    obtain ⟨g10, hq⟩ := hq
    obtain ⟨g11, g12, hq⟩ := hq
    refine x_callV (Yc := YX11_here) (as := [.int x2]) (st := []) q3131 mvX11_here g10 rfl dX9_readsNumber_148 (xle (xal1 (rv_cat _) (xal1 rfl xal0)) (by decide)) (xfr g11) (xlo xsw0 (by decide) g12) (xKi hq (fun x14 h13 hq e15 => ?_) (fun _ _ q _ => q))
    replace hq := hq e15
    refine x_istore (lv' := [(12, .int x14), (0, rv x0), (2, .int x2), (3, .int x3), (5, .int x5), (6, .int x6), (7, .long x7), (9, .int x9), (10, .int x10), (11, .int x11)]) dX9_readsNumber_151 (by decide) rfl ?_
    refine x_iload 5 dX9_readsNumber_153 rfl ?_
    refine x_if_eq (tgt := 194) dX9_readsNumber_155 (by decide) (fun c16 => ?_) (fun c16 => ?_)
    · replace hq := hq.1 c16
      refine xP.pick (lv' := [(0, rv x0), (2, .int x2), (3, .int x3), (5, .int x5), (6, .int x6), (7, .long x7), (9, .int x9), (10, .int x10), (12, .int x14)]) [1, 2, 3, 4, 5, 6, 7, 8, 0] rfl ?_
      exact uX9_readsNumber_194 hq
    · replace hq := hq.2 c16
      refine x_iload 8 dX9_readsNumber_158 rfl ?_
      refine x_if_ge (tgt := 194) dX9_readsNumber_160 (by decide) (fun c17 => ?_) (fun c17 => ?_)
      · replace hq := hq.1 c17
        refine xP.pick (lv' := [(0, rv x0), (2, .int x2), (3, .int x3), (5, .int x5), (6, .int x6), (7, .long x7), (9, .int x9), (10, .int x10), (12, .int x14)]) [1, 2, 3, 4, 5, 6, 7, 8, 0] rfl ?_
        exact uX9_readsNumber_194 hq
      · replace hq := hq.2 c17
        refine x_iload 7 dX9_readsNumber_163 rfl ?_
        refine x_if_le (tgt := 194) dX9_readsNumber_165 (by decide) (fun c18 => ?_) (fun c18 => ?_)
        · replace hq := hq.1 c18
          refine xP.pick (lv' := [(0, rv x0), (2, .int x2), (3, .int x3), (5, .int x5), (6, .int x6), (7, .long x7), (9, .int x9), (10, .int x10), (12, .int x14)]) [1, 2, 3, 4, 5, 6, 7, 8, 0] rfl ?_
          exact uX9_readsNumber_194 hq
        · replace hq := hq.2 c18
          refine x_iload 0 dX9_readsNumber_168 rfl ?_
          refine x_bipush (v := 46) dX9_readsNumber_170 (by decide) ?_
          refine x_icmp_ne (tgt := 194) dX9_readsNumber_172 (by decide) (fun c19 => ?_) (fun c19 => ?_)
          · replace hq := hq.1 c19
            refine xP.pick (lv' := [(0, rv x0), (2, .int x2), (3, .int x3), (5, .int x5), (6, .int x6), (7, .long x7), (9, .int x9), (10, .int x10), (12, .int x14)]) [1, 2, 3, 4, 5, 6, 7, 8, 0] rfl ?_
            exact uX9_readsNumber_194 hq
          · replace hq := hq.2 c19
            refine x_aload_n 1 dX9_readsNumber_175 rfl ?_
            have t20 : tg h13 x0 = 10 := e15.tg g9 (by decide)
            refine x_get (v := rv (fR h13 x0 2306)) fdX9_23 dX9_readsNumber_176 t20 rfl ?_
            refine x_iload_n 2 dX9_readsNumber_179 rfl ?_
            refine x_iconst (v := 1) dX9_readsNumber_180 (by decide) ?_
            obtain ⟨g21, hq⟩ := hq
            obtain ⟨g22, g23, hq⟩ := hq
            refine x_callV (Yc := YX11_ahead) (as := [.int x2, .int 1]) (st := []) q3165 mvX11_ahead g21 rfl dX9_readsNumber_181 (xle (xal1 (rv_cat _) (xal1 rfl (xal1 rfl xal0))) (by decide)) (xfr g22) (xlo xsw0 (by decide) g23) (xKi hq (fun x25 h24 hq e26 => ?_) (fun _ _ q _ => q))
            replace hq := hq e26
            obtain ⟨g27, g28, hq⟩ := hq
            refine x_callSN (Yc := YX0_isDigit) (as := [.int x25]) (st := []) (List.mem_filter.mpr ⟨q3169, rfl⟩) msX0_isDigit rfl dX9_readsNumber_184 (xle (xal1 rfl xal0) (by decide)) (xfr g27) (xlo xsw0 (by decide) g28) (xKi hq (fun x30 h29 hq e31 => ?_) (fun _ _ q _ => q))
            replace hq := hq e31
            refine x_if_eq (tgt := 194) dX9_readsNumber_187 (by decide) (fun c32 => ?_) (fun c32 => ?_)
            · replace hq := hq.1 c32
              refine xP.pick (lv' := [(0, rv x0), (2, .int x2), (3, .int x3), (5, .int x5), (6, .int x6), (7, .long x7), (9, .int x9), (10, .int x10), (12, .int x14)]) [1, 2, 3, 4, 5, 6, 7, 8, 0] rfl ?_
              exact uX9_readsNumber_194 hq
            · replace hq := hq.2 c32
              refine x_iconst (v := 1) dX9_readsNumber_190 (by decide) ?_
              refine x_goto (tgt := 195) dX9_readsNumber_191 (by decide) ?_
              refine xP.pick (lv' := [(0, rv x0), (2, .int x2), (3, .int x3), (5, .int x5), (6, .int x6), (7, .long x7), (9, .int x9), (10, .int x10), (12, .int x14)]) [1, 2, 3, 4, 5, 6, 7, 8, 0] rfl ?_
              exact uX9_readsNumber_195 hq
set_option maxRecDepth 100000 in
def bX9_readsNumber_124 (G : xG) (fr lo : Nat) (x0 : Nat) (x2 : Int32) (x3 : Int32) (x5 : Int32) (s0 : Int32) (h : xH) (Q : Outcome → xH → Prop) : Prop := lX9_readsNumber_138 G fr lo x0 x2 x3 x5 s0 0 0 (-1) 1 h Q
set_option maxRecDepth 100000 in
theorem uX9_readsNumber_124 {G : xG} {fr lo : Nat} {x0 : Nat} {x2 : Int32} {x3 : Int32} {x5 : Int32} {s0 : Int32} {h : xH} {Q : Outcome → xH → Prop} (hq : bX9_readsNumber_124 G fr lo x0 x2 x3 x5 s0 h Q) : xP G YX9_readsNumber fr lo 124 [(0, rv x0), (2, .int x2), (3, .int x3), (5, .int x5)] [.int s0] h Q := by
  unfold bX9_readsNumber_124 at hq
  refine x_istore (lv' := [(6, .int s0), (0, rv x0), (2, .int x2), (3, .int x3), (5, .int x5)]) dX9_readsNumber_124 (by decide) rfl ?_
  refine x_lconst (v := 0) dX9_readsNumber_126 (by decide) ?_
  refine x_lstore (lv' := [(7, .long 0), (6, .int s0), (0, rv x0), (2, .int x2), (3, .int x3), (5, .int x5)]) dX9_readsNumber_127 (by decide) rfl ?_
  refine x_iconst (v := 0) dX9_readsNumber_129 (by decide) ?_
  refine x_istore (lv' := [(9, .int 0), (7, .long 0), (6, .int s0), (0, rv x0), (2, .int x2), (3, .int x3), (5, .int x5)]) dX9_readsNumber_130 (by decide) rfl ?_
  refine x_iconst (v := (-1)) dX9_readsNumber_132 (by decide) ?_
  refine x_istore (lv' := [(10, .int (-1)), (9, .int 0), (7, .long 0), (6, .int s0), (0, rv x0), (2, .int x2), (3, .int x3), (5, .int x5)]) dX9_readsNumber_133 (by decide) rfl ?_
  refine x_iconst (v := 1) dX9_readsNumber_135 (by decide) ?_
  refine x_istore (lv' := [(11, .int 1), (10, .int (-1)), (9, .int 0), (7, .long 0), (6, .int s0), (0, rv x0), (2, .int x2), (3, .int x3), (5, .int x5)]) dX9_readsNumber_136 (by decide) rfl ?_
  refine xP.pick (lv' := [(0, rv x0), (2, .int x2), (3, .int x3), (5, .int x5), (6, .int s0), (7, .long 0), (9, .int 0), (10, .int (-1)), (11, .int 1)]) [5, 6, 7, 8, 4, 3, 2, 1, 0] rfl ?_
  exact hq
set_option maxRecDepth 100000 in
def bX9_readsNumber_91 (G : xG) (fr lo : Nat) (x0 : Nat) (x1 : Int32) (x2 : Int32) (x3 : Int32) (x4 : Int32) (x5 : Int32) (h : xH) (Q : Outcome → xH → Prop) : Prop := tg h x0 = 10 ∧ tg h (fR h x0 2306) = 12 ∧ tg h (fR h (fR h x0 2306) 2820) = 100 ∧ vp_in x2 (ln h (fR h (fR h x0 2306) 2820)) ∧ ((¬ (aI h (fR h (fR h x0 2306) 2820) (Int32.toNatClampNeg x2)) = (-1) → ((¬ x1 = 89 → bX9_readsNumber_124 G fr lo x0 x2 x3 x5 0 h Q) ∧ (x1 = 89 → bX9_readsNumber_124 G fr lo x0 x2 x3 x5 1 h Q))) ∧ ((aI h (fR h (fR h x0 2306) 2820) (Int32.toNatClampNeg x2)) = (-1) → 1 ≤ fr ∧ 14 ≤ lo ∧ xRv G YX9_fail (fr - 1) (lo - 14) [rv x0, .int 10, .int x4] h (fun h9 => xext h h9 → Q (.returned none) h9) (fun r h2 => Q (.threw r) h2)))
set_option maxRecDepth 100000 in
theorem uX9_readsNumber_91 {G : xG} {fr lo : Nat} {x0 : Nat} {x1 : Int32} {x2 : Int32} {x3 : Int32} {x4 : Int32} {x5 : Int32} {h : xH} {Q : Outcome → xH → Prop} (hq : bX9_readsNumber_91 G fr lo x0 x1 x2 x3 x4 x5 h Q) : xP G YX9_readsNumber fr lo 91 [(0, rv x0), (1, .int x1), (2, .int x2), (3, .int x3), (4, .int x4), (5, .int x5)] [] h Q := by
  unfold bX9_readsNumber_91 at hq
  refine x_aload_n 0 dX9_readsNumber_91 rfl ?_
  obtain ⟨g1, hq⟩ := hq
  refine x_get (v := rv (fR h x0 2306)) fdX9_23 dX9_readsNumber_92 g1 rfl ?_
  obtain ⟨g2, hq⟩ := hq
  refine x_getN (v := rv (fR h (fR h x0 2306) 2820)) gfX9_432 dX9_readsNumber_95 g2 rfl ?_
  refine x_iload_n 2 dX9_readsNumber_98 rfl ?_
  obtain ⟨g3, hq⟩ := hq
  obtain ⟨i4, hq⟩ := hq
  refine x_iald 0 (Or.inl rfl) g3 i4 dX9_readsNumber_99 ?_
  refine x_iconst (v := (-1)) dX9_readsNumber_100 (by decide) ?_
  refine x_icmp_ne (tgt := 113) dX9_readsNumber_101 (by decide) (fun c5 => ?_) (fun c5 => ?_)
  · replace hq := hq.1 c5
    refine x_iload_n 1 dX9_readsNumber_113 rfl ?_
    refine x_bipush (v := 89) dX9_readsNumber_114 (by decide) ?_
    refine x_icmp_ne (tgt := 123) dX9_readsNumber_116 (by decide) (fun c6 => ?_) (fun c6 => ?_)
    · replace hq := hq.1 c6
      refine x_iconst (v := 0) dX9_readsNumber_123 (by decide) ?_
      refine xP.pick (lv' := [(0, rv x0), (2, .int x2), (3, .int x3), (5, .int x5)]) [0, 2, 3, 5] rfl ?_
      exact uX9_readsNumber_124 hq
    · replace hq := hq.2 c6
      refine x_iconst (v := 1) dX9_readsNumber_119 (by decide) ?_
      refine x_goto (tgt := 124) dX9_readsNumber_120 (by decide) ?_
      refine xP.pick (lv' := [(0, rv x0), (2, .int x2), (3, .int x3), (5, .int x5)]) [0, 2, 3, 5] rfl ?_
      exact uX9_readsNumber_124 hq
  · replace hq := hq.2 c5
    refine x_aload_n 0 dX9_readsNumber_104 rfl ?_
    refine x_bipush (v := 10) dX9_readsNumber_105 (by decide) ?_
    refine x_iload 4 dX9_readsNumber_107 rfl ?_
    obtain ⟨g7, g8, hq⟩ := hq
    refine x_callV (Yc := YX9_fail) (as := [.int 10, .int x4]) (st := []) q2835 mvX9_fail g1 rfl dX9_readsNumber_109 (xle (xal1 (rv_cat _) (xal1 rfl (xal1 rfl xal0))) (by decide)) (xfr g7) (xlo xsw0 (by decide) g8) (xKv hq (fun h9 hq e11 => ?_) (fun _ _ q _ => q))
    replace hq := hq e11
    exact x_vret rfl dX9_readsNumber_112 hq
set_option maxRecDepth 100000 in
def bX9_readsNumber_83 (G : xG) (fr lo : Nat) (x0 : Nat) (x1 : Int32) (x2 : Int32) (x3 : Int32) (x4 : Int32) (x5 : Int32) (h : xH) (Q : Outcome → xH → Prop) : Prop := tg h x0 = 10 ∧ tg h (fR h x0 2306) = 12 ∧ 1 ≤ fr ∧ 14 ≤ lo ∧ xRv G YX11_goOn (fr - 1) (lo - 14) [rv (fR h x0 2306), .int x2] h (fun h5 => xext h h5 → bX9_readsNumber_91 G fr lo x0 x1 x2 x3 x4 x5 h5 Q) (fun r h2 => Q (.threw r) h2)
set_option maxRecDepth 100000 in
theorem uX9_readsNumber_83 {G : xG} {fr lo : Nat} {x0 : Nat} {x1 : Int32} {x2 : Int32} {x3 : Int32} {x4 : Int32} {x5 : Int32} {h : xH} {Q : Outcome → xH → Prop} (hq : bX9_readsNumber_83 G fr lo x0 x1 x2 x3 x4 x5 h Q) : xP G YX9_readsNumber fr lo 83 [(0, rv x0), (1, .int x1), (2, .int x2), (3, .int x3), (4, .int x4), (5, .int x5)] [] h Q := by
  unfold bX9_readsNumber_83 at hq
  refine x_aload_n 0 dX9_readsNumber_83 rfl ?_
  obtain ⟨g1, hq⟩ := hq
  refine x_get (v := rv (fR h x0 2306)) fdX9_23 dX9_readsNumber_84 g1 rfl ?_
  refine x_iload_n 2 dX9_readsNumber_87 rfl ?_
  obtain ⟨g2, hq⟩ := hq
  obtain ⟨g3, g4, hq⟩ := hq
  refine x_callV (Yc := YX11_goOn) (as := [.int x2]) (st := []) q3145 mvX11_goOn g2 rfl dX9_readsNumber_88 (xle (xal1 (rv_cat _) (xal1 rfl xal0)) (by decide)) (xfr g3) (xlo xsw0 (by decide) g4) (xKv hq (fun h5 hq e7 => ?_) (fun _ _ q _ => q))
  replace hq := hq e7
  exact uX9_readsNumber_91 hq
set_option maxRecDepth 100000 in
def bX9_readsNumber_48 (G : xG) (fr lo : Nat) (x0 : Nat) (x1 : Int32) (x2 : Int32) (x3 : Int32) (x4 : Int32) (h : xH) (Q : Outcome → xH → Prop) : Prop := tg h x0 = 10 ∧ tg h (fR h x0 2306) = 12 ∧ 1 ≤ fr ∧ 14 ≤ lo ∧ xRv G YX11_goOn (fr - 1) (lo - 14) [rv (fR h x0 2306), .int x2] h (fun h5 => xext h h5 → lX9_readsNumber_22 G fr lo x0 x1 x2 x3 x4 h5 Q) (fun r h2 => Q (.threw r) h2)
set_option maxRecDepth 100000 in
theorem uX9_readsNumber_48 {G : xG} {fr lo : Nat} {x0 : Nat} {x1 : Int32} {x2 : Int32} {x3 : Int32} {x4 : Int32} {h : xH} {Q : Outcome → xH → Prop} (hq : bX9_readsNumber_48 G fr lo x0 x1 x2 x3 x4 h Q) : xP G YX9_readsNumber fr lo 48 [(0, rv x0), (1, .int x1), (2, .int x2), (3, .int x3), (4, .int x4)] [] h Q := by
  unfold bX9_readsNumber_48 at hq
  refine x_aload_n 0 dX9_readsNumber_48 rfl ?_
  obtain ⟨g1, hq⟩ := hq
  refine x_get (v := rv (fR h x0 2306)) fdX9_23 dX9_readsNumber_49 g1 rfl ?_
  refine x_iload_n 2 dX9_readsNumber_52 rfl ?_
  obtain ⟨g2, hq⟩ := hq
  obtain ⟨g3, g4, hq⟩ := hq
  refine x_callV (Yc := YX11_goOn) (as := [.int x2]) (st := []) q3145 mvX11_goOn g2 rfl dX9_readsNumber_53 (xle (xal1 (rv_cat _) (xal1 rfl xal0)) (by decide)) (xfr g3) (xlo xsw0 (by decide) g4) (xKv hq (fun h5 hq e7 => ?_) (fun _ _ q _ => q))
  replace hq := hq e7
  refine x_goto (tgt := 22) dX9_readsNumber_56 (by decide) ?_
  exact hq
set_option maxRecDepth 100000 in
def bX9_readsNumber_22 (G : xG) (fr lo : Nat) (x0 : Nat) (x1 : Int32) (x2 : Int32) (x3 : Int32) (x4 : Int32) (h : xH) (Q : Outcome → xH → Prop) : Prop := tg h x0 = 10 ∧ tg h (fR h x0 2306) = 12 ∧ 1 ≤ fr ∧ 13 ≤ lo ∧ xRi G YX11_here (fr - 1) (lo - 13) [rv (fR h x0 2306), .int x2] h (fun x6 h5 => xext h h5 → ((x6 = 32 → bX9_readsNumber_48 G fr lo x0 x1 x2 x3 x4 h5 Q) ∧ (¬ x6 = 32 → tg h5 (fR h5 x0 2306) = 12 ∧ 1 ≤ fr ∧ 13 ≤ lo ∧ xRi G YX11_here (fr - 1) (lo - 13) [rv (fR h5 x0 2306), .int x2] h5 (fun x14 h13 => xext h5 h13 → ((¬ x14 = 10 → tg h13 (fR h13 x0 2306) = 12 ∧ 1 ≤ fr ∧ 13 ≤ lo ∧ xRi G YX11_here (fr - 1) (lo - 13) [rv (fR h13 x0 2306), .int x2] h13 (fun x22 h21 => xext h13 h21 → ((x22 = 43 → bX9_readsNumber_83 G fr lo x0 x1 x2 x3 x4 x22 h21 Q) ∧ (¬ x22 = 43 → ((¬ x22 = 45 → bX9_readsNumber_91 G fr lo x0 x1 x2 x3 x4 x22 h21 Q) ∧ (x22 = 45 → bX9_readsNumber_83 G fr lo x0 x1 x2 x3 x4 x22 h21 Q))))) (fun r h2 => Q (.threw r) h2)) ∧ (x14 = 10 → bX9_readsNumber_48 G fr lo x0 x1 x2 x3 x4 h13 Q))) (fun r h2 => Q (.threw r) h2)))) (fun r h2 => Q (.threw r) h2)
set_option maxRecDepth 100000 in
theorem uX9_readsNumber_22 {G : xG} {fr lo : Nat} {x0 : Nat} {x1 : Int32} {x2 : Int32} {x3 : Int32} {x4 : Int32} {h : xH} {Q : Outcome → xH → Prop} (hq : bX9_readsNumber_22 G fr lo x0 x1 x2 x3 x4 h Q) : xP G YX9_readsNumber fr lo 22 [(0, rv x0), (1, .int x1), (2, .int x2), (3, .int x3), (4, .int x4)] [] h Q := by
  unfold bX9_readsNumber_22 at hq
  refine x_aload_n 0 dX9_readsNumber_22 rfl ?_
  obtain ⟨g1, hq⟩ := hq
  refine x_get (v := rv (fR h x0 2306)) fdX9_23 dX9_readsNumber_23 g1 rfl ?_
  refine x_iload_n 2 dX9_readsNumber_26 rfl ?_
  obtain ⟨g2, hq⟩ := hq
  obtain ⟨g3, g4, hq⟩ := hq
  refine x_callV (Yc := YX11_here) (as := [.int x2]) (st := []) q3131 mvX11_here g2 rfl dX9_readsNumber_27 (xle (xal1 (rv_cat _) (xal1 rfl xal0)) (by decide)) (xfr g3) (xlo xsw0 (by decide) g4) (xKi hq (fun x6 h5 hq e7 => ?_) (fun _ _ q _ => q))
  replace hq := hq e7
  refine x_bipush (v := 32) dX9_readsNumber_30 (by decide) ?_
  refine x_icmp_eq (tgt := 48) dX9_readsNumber_32 (by decide) (fun c8 => ?_) (fun c8 => ?_)
  · replace hq := hq.1 c8
    exact uX9_readsNumber_48 hq
  · replace hq := hq.2 c8
    refine x_aload_n 0 dX9_readsNumber_35 rfl ?_
    have t9 : tg h5 x0 = 10 := e7.tg g1 (by decide)
    refine x_get (v := rv (fR h5 x0 2306)) fdX9_23 dX9_readsNumber_36 t9 rfl ?_
    refine x_iload_n 2 dX9_readsNumber_39 rfl ?_
    obtain ⟨g10, hq⟩ := hq
    obtain ⟨g11, g12, hq⟩ := hq
    refine x_callV (Yc := YX11_here) (as := [.int x2]) (st := []) q3131 mvX11_here g10 rfl dX9_readsNumber_40 (xle (xal1 (rv_cat _) (xal1 rfl xal0)) (by decide)) (xfr g11) (xlo xsw0 (by decide) g12) (xKi hq (fun x14 h13 hq e15 => ?_) (fun _ _ q _ => q))
    replace hq := hq e15
    refine x_bipush (v := 10) dX9_readsNumber_43 (by decide) ?_
    refine x_icmp_ne (tgt := 59) dX9_readsNumber_45 (by decide) (fun c16 => ?_) (fun c16 => ?_)
    · replace hq := hq.1 c16
      refine x_aload_n 0 dX9_readsNumber_59 rfl ?_
      have t17 : tg h13 x0 = 10 := e15.tg t9 (by decide)
      refine x_get (v := rv (fR h13 x0 2306)) fdX9_23 dX9_readsNumber_60 t17 rfl ?_
      refine x_iload_n 2 dX9_readsNumber_63 rfl ?_
      obtain ⟨g18, hq⟩ := hq
      obtain ⟨g19, g20, hq⟩ := hq
      refine x_callV (Yc := YX11_here) (as := [.int x2]) (st := []) q3131 mvX11_here g18 rfl dX9_readsNumber_64 (xle (xal1 (rv_cat _) (xal1 rfl xal0)) (by decide)) (xfr g19) (xlo xsw0 (by decide) g20) (xKi hq (fun x22 h21 hq e23 => ?_) (fun _ _ q _ => q))
      replace hq := hq e23
      refine x_istore (lv' := [(5, .int x22), (0, rv x0), (1, .int x1), (2, .int x2), (3, .int x3), (4, .int x4)]) dX9_readsNumber_67 (by decide) rfl ?_
      refine x_iload 0 dX9_readsNumber_69 rfl ?_
      refine x_bipush (v := 43) dX9_readsNumber_71 (by decide) ?_
      refine x_icmp_eq (tgt := 83) dX9_readsNumber_73 (by decide) (fun c24 => ?_) (fun c24 => ?_)
      · replace hq := hq.1 c24
        refine xP.pick (lv' := [(0, rv x0), (1, .int x1), (2, .int x2), (3, .int x3), (4, .int x4), (5, .int x22)]) [1, 2, 3, 4, 5, 0] rfl ?_
        exact uX9_readsNumber_83 hq
      · replace hq := hq.2 c24
        refine x_iload 0 dX9_readsNumber_76 rfl ?_
        refine x_bipush (v := 45) dX9_readsNumber_78 (by decide) ?_
        refine x_icmp_ne (tgt := 91) dX9_readsNumber_80 (by decide) (fun c25 => ?_) (fun c25 => ?_)
        · replace hq := hq.1 c25
          refine xP.pick (lv' := [(0, rv x0), (1, .int x1), (2, .int x2), (3, .int x3), (4, .int x4), (5, .int x22)]) [1, 2, 3, 4, 5, 0] rfl ?_
          exact uX9_readsNumber_91 hq
        · replace hq := hq.2 c25
          refine xP.pick (lv' := [(0, rv x0), (1, .int x1), (2, .int x2), (3, .int x3), (4, .int x4), (5, .int x22)]) [1, 2, 3, 4, 5, 0] rfl ?_
          exact uX9_readsNumber_83 hq
    · replace hq := hq.2 c16
      exact uX9_readsNumber_48 hq
set_option maxRecDepth 100000 in
def bX9_readsNumber (G : xG) (fr lo : Nat) (x0 : Nat) (x1 : Int32) (x2 : Int32) (x3 : Int32) (x4 : Int32) (h : xH) (Q : Outcome → xH → Prop) : Prop := tg h x0 = 10 ∧ tg h (fR h x0 2306) = 12 ∧ tg h (fR h (fR h x0 2306) 2817) = 100 ∧ vp_in x2 (ln h (fR h (fR h x0 2306) 2817)) ∧ (((aI h (fR h (fR h x0 2306) 2817) (Int32.toNatClampNeg x2)) = 1 → lX9_readsNumber_22 G fr lo x0 x1 x2 x3 x4 h Q) ∧ (¬ (aI h (fR h (fR h x0 2306) 2817) (Int32.toNatClampNeg x2)) = 1 → 1 ≤ fr ∧ 14 ≤ lo ∧ xRv G YX9_fail (fr - 1) (lo - 14) [rv x0, .int 10, .int x4] h (fun h8 => xext h h8 → Q (.returned none) h8) (fun r h2 => Q (.threw r) h2)))
set_option maxRecDepth 100000 in
theorem uX9_readsNumber {G : xG} {fr lo : Nat} {x0 : Nat} {x1 : Int32} {x2 : Int32} {x3 : Int32} {x4 : Int32} {h : xH} {Q : Outcome → xH → Prop} (hq : bX9_readsNumber G fr lo x0 x1 x2 x3 x4 h Q) : xP G YX9_readsNumber fr lo 0 [(0, rv x0), (1, .int x1), (2, .int x2), (3, .int x3), (4, .int x4)] [] h Q := by
  unfold bX9_readsNumber at hq
  refine x_aload_n 0 dX9_readsNumber_0 rfl ?_
  obtain ⟨g1, hq⟩ := hq
  refine x_get (v := rv (fR h x0 2306)) fdX9_23 dX9_readsNumber_1 g1 rfl ?_
  obtain ⟨g2, hq⟩ := hq
  refine x_getN (v := rv (fR h (fR h x0 2306) 2817)) gfX9_429 dX9_readsNumber_4 g2 rfl ?_
  refine x_iload_n 2 dX9_readsNumber_7 rfl ?_
  obtain ⟨g3, hq⟩ := hq
  obtain ⟨i4, hq⟩ := hq
  refine x_iald 0 (Or.inl rfl) g3 i4 dX9_readsNumber_8 ?_
  refine x_iconst (v := 1) dX9_readsNumber_9 (by decide) ?_
  refine x_icmp_eq (tgt := 22) dX9_readsNumber_10 (by decide) (fun c5 => ?_) (fun c5 => ?_)
  · replace hq := hq.1 c5
    exact hq
  · replace hq := hq.2 c5
    refine x_aload_n 0 dX9_readsNumber_13 rfl ?_
    refine x_bipush (v := 10) dX9_readsNumber_14 (by decide) ?_
    refine x_iload 4 dX9_readsNumber_16 rfl ?_
    obtain ⟨g6, g7, hq⟩ := hq
    refine x_callV (Yc := YX9_fail) (as := [.int 10, .int x4]) (st := []) q2835 mvX9_fail g1 rfl dX9_readsNumber_18 (xle (xal1 (rv_cat _) (xal1 rfl (xal1 rfl xal0))) (by decide)) (xfr g6) (xlo xsw0 (by decide) g7) (xKv hq (fun h8 hq e10 => ?_) (fun _ _ q _ => q))
    replace hq := hq e10
    exact x_vret rfl dX9_readsNumber_21 hq
theorem rX9_readsNumber {G : xG} {fr lo : Nat} {x0 : Nat} {x1 : Int32} {x2 : Int32} {x3 : Int32} {x4 : Int32} {h : xH} {Q : Outcome → xH → Prop} (hq : bX9_readsNumber G fr lo x0 x1 x2 x3 x4 h Q) : xR G YX9_readsNumber fr lo [rv x0, .int x1, .int x2, .int x3, .int x4] h Q := by
  show xP _ _ _ _ _ (lv_args 0 _) _ _ _
  rw [show lv_args 0 [rv x0, .int x1, .int x2, .int x3, .int x4] = [(0, rv x0), (1, .int x1), (2, .int x2), (3, .int x3), (4, .int x4)] from (xla1 (rv_cat _) (xla1 rfl (xla1 rfl (xla1 rfl (xla1 rfl xla0)))))]
  exact uX9_readsNumber hq
