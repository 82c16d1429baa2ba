/-! PascalHouse$Machine, walked (2) -/
set_option maxRecDepth 100000 in
theorem dX9_compares_0 : decode cX9_compares 0 = .ok (.aload_n 0, 1) := by decide +kernel
set_option maxRecDepth 100000 in
theorem dX9_compares_1 : decode cX9_compares 1 = .ok (.getfield 86, 3) := by decide +kernel
set_option maxRecDepth 100000 in
theorem dX9_compares_4 : decode cX9_compares 4 = .ok (.iconst 1, 1) := by decide +kernel
set_option maxRecDepth 100000 in
theorem dX9_compares_5 : decode cX9_compares 5 = .ok (.isub, 1) := by decide +kernel
set_option maxRecDepth 100000 in
theorem dX9_compares_6 : decode cX9_compares 6 = .ok (.istore_n 3, 1) := by decide +kernel
set_option maxRecDepth 100000 in
theorem dX9_compares_7 : decode cX9_compares 7 = .ok (.aload_n 0, 1) := by decide +kernel
set_option maxRecDepth 100000 in
theorem dX9_compares_8 : decode cX9_compares 8 = .ok (.getfield 75, 3) := by decide +kernel
set_option maxRecDepth 100000 in
theorem dX9_compares_11 : decode cX9_compares 11 = .ok (.getfield 201, 3) := by decide +kernel
set_option maxRecDepth 100000 in
theorem dX9_compares_14 : decode cX9_compares 14 = .ok (.iload_n 2, 1) := by decide +kernel
set_option maxRecDepth 100000 in
theorem dX9_compares_15 : decode cX9_compares 15 = .ok (.iaload, 1) := by decide +kernel
set_option maxRecDepth 100000 in
theorem dX9_compares_16 : decode cX9_compares 16 = .ok (.istore 4, 2) := by decide +kernel
set_option maxRecDepth 100000 in
theorem dX9_compares_18 : decode cX9_compares 18 = .ok (.iload_n 1, 1) := by decide +kernel
set_option maxRecDepth 100000 in
theorem dX9_compares_19 : decode cX9_compares 19 = .ok (.tableswitch 401 33 39 #[41, 41, 401, 47, 104, 195, 161], 41) := by decide +kernel
set_option maxRecDepth 100000 in
theorem dX9_compares_60 : decode cX9_compares 60 = .ok (.aload_n 0, 1) := by decide +kernel
set_option maxRecDepth 100000 in
theorem dX9_compares_61 : decode cX9_compares 61 = .ok (.iload_n 1, 1) := by decide +kernel
set_option maxRecDepth 100000 in
theorem dX9_compares_62 : decode cX9_compares 62 = .ok (.invokevirtual 309, 3) := by decide +kernel
set_option maxRecDepth 100000 in
theorem dX9_compares_65 : decode cX9_compares 65 = .ok (.return_, 1) := by decide +kernel
set_option maxRecDepth 100000 in
theorem dX9_compares_66 : decode cX9_compares 66 = .ok (.iload 4, 2) := by decide +kernel
set_option maxRecDepth 100000 in
theorem dX9_compares_68 : decode cX9_compares 68 = .ok (.aload_n 0, 1) := by decide +kernel
set_option maxRecDepth 100000 in
theorem dX9_compares_69 : decode cX9_compares 69 = .ok (.getfield 28, 3) := by decide +kernel
set_option maxRecDepth 100000 in
theorem dX9_compares_72 : decode cX9_compares 72 = .ok (.iload_n 3, 1) := by decide +kernel
set_option maxRecDepth 100000 in
theorem dX9_compares_73 : decode cX9_compares 73 = .ok (.laload, 1) := by decide +kernel
set_option maxRecDepth 100000 in
theorem dX9_compares_74 : decode cX9_compares 74 = .ok (.aload_n 0, 1) := by decide +kernel
set_option maxRecDepth 100000 in
theorem dX9_compares_75 : decode cX9_compares 75 = .ok (.getfield 28, 3) := by decide +kernel
set_option maxRecDepth 100000 in
theorem dX9_compares_78 : decode cX9_compares 78 = .ok (.aload_n 0, 1) := by decide +kernel
set_option maxRecDepth 100000 in
theorem dX9_compares_79 : decode cX9_compares 79 = .ok (.getfield 86, 3) := by decide +kernel
set_option maxRecDepth 100000 in
theorem dX9_compares_82 : decode cX9_compares 82 = .ok (.laload, 1) := by decide +kernel
set_option maxRecDepth 100000 in
theorem dX9_compares_83 : decode cX9_compares 83 = .ok (.lcmp, 1) := by decide +kernel
set_option maxRecDepth 100000 in
theorem dX9_compares_84 : decode cX9_compares 84 = .ok (.ifCond .ge 7, 3) := by decide +kernel
set_option maxRecDepth 100000 in
theorem dX9_compares_87 : decode cX9_compares 87 = .ok (.iconst (-1), 1) := by decide +kernel
set_option maxRecDepth 100000 in
theorem dX9_compares_88 : decode cX9_compares 88 = .ok (.goto 27, 3) := by decide +kernel
set_option maxRecDepth 100000 in
theorem dX9_compares_91 : decode cX9_compares 91 = .ok (.aload_n 0, 1) := by decide +kernel
set_option maxRecDepth 100000 in
theorem dX9_compares_92 : decode cX9_compares 92 = .ok (.getfield 28, 3) := by decide +kernel
set_option maxRecDepth 100000 in
theorem dX9_compares_95 : decode cX9_compares 95 = .ok (.iload_n 3, 1) := by decide +kernel
set_option maxRecDepth 100000 in
theorem dX9_compares_96 : decode cX9_compares 96 = .ok (.laload, 1) := by decide +kernel
set_option maxRecDepth 100000 in
theorem dX9_compares_97 : decode cX9_compares 97 = .ok (.aload_n 0, 1) := by decide +kernel
set_option maxRecDepth 100000 in
theorem dX9_compares_98 : decode cX9_compares 98 = .ok (.getfield 28, 3) := by decide +kernel
set_option maxRecDepth 100000 in
theorem dX9_compares_101 : decode cX9_compares 101 = .ok (.aload_n 0, 1) := by decide +kernel
set_option maxRecDepth 100000 in
theorem dX9_compares_102 : decode cX9_compares 102 = .ok (.getfield 86, 3) := by decide +kernel
set_option maxRecDepth 100000 in
theorem dX9_compares_105 : decode cX9_compares 105 = .ok (.laload, 1) := by decide +kernel
set_option maxRecDepth 100000 in
theorem dX9_compares_106 : decode cX9_compares 106 = .ok (.lcmp, 1) := by decide +kernel
set_option maxRecDepth 100000 in
theorem dX9_compares_107 : decode cX9_compares 107 = .ok (.ifCond .le 7, 3) := by decide +kernel
set_option maxRecDepth 100000 in
theorem dX9_compares_110 : decode cX9_compares 110 = .ok (.iconst 1, 1) := by decide +kernel
set_option maxRecDepth 100000 in
theorem dX9_compares_111 : decode cX9_compares 111 = .ok (.goto 4, 3) := by decide +kernel
set_option maxRecDepth 100000 in
theorem dX9_compares_114 : decode cX9_compares 114 = .ok (.iconst 0, 1) := by decide +kernel
set_option maxRecDepth 100000 in
theorem dX9_compares_115 : decode cX9_compares 115 = .ok (.invokestatic 326, 3) := by decide +kernel
set_option maxRecDepth 100000 in
theorem dX9_compares_118 : decode cX9_compares 118 = .ok (.istore 5, 2) := by decide +kernel
set_option maxRecDepth 100000 in
theorem dX9_compares_120 : decode cX9_compares 120 = .ok (.goto 346, 3) := by decide +kernel
set_option maxRecDepth 100000 in
theorem dX9_compares_123 : decode cX9_compares 123 = .ok (.iload 4, 2) := by decide +kernel
set_option maxRecDepth 100000 in
theorem dX9_compares_125 : decode cX9_compares 125 = .ok (.aload_n 0, 1) := by decide +kernel
set_option maxRecDepth 100000 in
theorem dX9_compares_126 : decode cX9_compares 126 = .ok (.getfield 35, 3) := by decide +kernel
set_option maxRecDepth 100000 in
theorem dX9_compares_129 : decode cX9_compares 129 = .ok (.iload_n 3, 1) := by decide +kernel
set_option maxRecDepth 100000 in
theorem dX9_compares_130 : decode cX9_compares 130 = .ok (.daload, 1) := by decide +kernel
set_option maxRecDepth 100000 in
theorem dX9_compares_131 : decode cX9_compares 131 = .ok (.aload_n 0, 1) := by decide +kernel
set_option maxRecDepth 100000 in
theorem dX9_compares_132 : decode cX9_compares 132 = .ok (.getfield 35, 3) := by decide +kernel
set_option maxRecDepth 100000 in
theorem dX9_compares_135 : decode cX9_compares 135 = .ok (.aload_n 0, 1) := by decide +kernel
set_option maxRecDepth 100000 in
theorem dX9_compares_136 : decode cX9_compares 136 = .ok (.getfield 86, 3) := by decide +kernel
set_option maxRecDepth 100000 in
theorem dX9_compares_139 : decode cX9_compares 139 = .ok (.daload, 1) := by decide +kernel
set_option maxRecDepth 100000 in
theorem dX9_compares_140 : decode cX9_compares 140 = .ok (.dcmp .g, 1) := by decide +kernel
set_option maxRecDepth 100000 in
theorem dX9_compares_141 : decode cX9_compares 141 = .ok (.ifCond .ge 7, 3) := by decide +kernel
set_option maxRecDepth 100000 in
theorem dX9_compares_144 : decode cX9_compares 144 = .ok (.iconst (-1), 1) := by decide +kernel
set_option maxRecDepth 100000 in
theorem dX9_compares_145 : decode cX9_compares 145 = .ok (.goto 27, 3) := by decide +kernel
set_option maxRecDepth 100000 in
theorem dX9_compares_148 : decode cX9_compares 148 = .ok (.aload_n 0, 1) := by decide +kernel
set_option maxRecDepth 100000 in
theorem dX9_compares_149 : decode cX9_compares 149 = .ok (.getfield 35, 3) := by decide +kernel
set_option maxRecDepth 100000 in
theorem dX9_compares_152 : decode cX9_compares 152 = .ok (.iload_n 3, 1) := by decide +kernel
set_option maxRecDepth 100000 in
theorem dX9_compares_153 : decode cX9_compares 153 = .ok (.daload, 1) := by decide +kernel
set_option maxRecDepth 100000 in
theorem dX9_compares_154 : decode cX9_compares 154 = .ok (.aload_n 0, 1) := by decide +kernel
set_option maxRecDepth 100000 in
theorem dX9_compares_155 : decode cX9_compares 155 = .ok (.getfield 35, 3) := by decide +kernel
set_option maxRecDepth 100000 in
theorem dX9_compares_158 : decode cX9_compares 158 = .ok (.aload_n 0, 1) := by decide +kernel
set_option maxRecDepth 100000 in
theorem dX9_compares_159 : decode cX9_compares 159 = .ok (.getfield 86, 3) := by decide +kernel
set_option maxRecDepth 100000 in
theorem dX9_compares_162 : decode cX9_compares 162 = .ok (.daload, 1) := by decide +kernel
set_option maxRecDepth 100000 in
theorem dX9_compares_163 : decode cX9_compares 163 = .ok (.dcmp .l, 1) := by decide +kernel
set_option maxRecDepth 100000 in
theorem dX9_compares_164 : decode cX9_compares 164 = .ok (.ifCond .le 7, 3) := by decide +kernel
set_option maxRecDepth 100000 in
theorem dX9_compares_167 : decode cX9_compares 167 = .ok (.iconst 1, 1) := by decide +kernel
set_option maxRecDepth 100000 in
theorem dX9_compares_168 : decode cX9_compares 168 = .ok (.goto 4, 3) := by decide +kernel
set_option maxRecDepth 100000 in
theorem dX9_compares_171 : decode cX9_compares 171 = .ok (.iconst 0, 1) := by decide +kernel
set_option maxRecDepth 100000 in
theorem dX9_compares_172 : decode cX9_compares 172 = .ok (.invokestatic 326, 3) := by decide +kernel
set_option maxRecDepth 100000 in
theorem dX9_compares_175 : decode cX9_compares 175 = .ok (.istore 5, 2) := by decide +kernel
set_option maxRecDepth 100000 in
theorem dX9_compares_177 : decode cX9_compares 177 = .ok (.goto 289, 3) := by decide +kernel
set_option maxRecDepth 100000 in
theorem dX9_compares_180 : decode cX9_compares 180 = .ok (.iload 4, 2) := by decide +kernel
set_option maxRecDepth 100000 in
theorem dX9_compares_182 : decode cX9_compares 182 = .ok (.aload_n 0, 1) := by decide +kernel
set_option maxRecDepth 100000 in
theorem dX9_compares_183 : decode cX9_compares 183 = .ok (.getfield 28, 3) := by decide +kernel
set_option maxRecDepth 100000 in
theorem dX9_compares_186 : decode cX9_compares 186 = .ok (.iload_n 3, 1) := by decide +kernel
set_option maxRecDepth 100000 in
theorem dX9_compares_187 : decode cX9_compares 187 = .ok (.laload, 1) := by decide +kernel
set_option maxRecDepth 100000 in
theorem dX9_compares_188 : decode cX9_compares 188 = .ok (.aload_n 0, 1) := by decide +kernel
set_option maxRecDepth 100000 in
theorem dX9_compares_189 : decode cX9_compares 189 = .ok (.getfield 28, 3) := by decide +kernel
set_option maxRecDepth 100000 in
theorem dX9_compares_192 : decode cX9_compares 192 = .ok (.aload_n 0, 1) := by decide +kernel
set_option maxRecDepth 100000 in
theorem dX9_compares_193 : decode cX9_compares 193 = .ok (.getfield 86, 3) := by decide +kernel
set_option maxRecDepth 100000 in
theorem dX9_compares_196 : decode cX9_compares 196 = .ok (.laload, 1) := by decide +kernel
set_option maxRecDepth 100000 in
theorem dX9_compares_197 : decode cX9_compares 197 = .ok (.lcmp, 1) := by decide +kernel
set_option maxRecDepth 100000 in
theorem dX9_compares_198 : decode cX9_compares 198 = .ok (.ifCond .ne 7, 3) := by decide +kernel
set_option maxRecDepth 100000 in
theorem dX9_compares_201 : decode cX9_compares 201 = .ok (.iconst 0, 1) := by decide +kernel
set_option maxRecDepth 100000 in
theorem dX9_compares_202 : decode cX9_compares 202 = .ok (.goto 4, 3) := by decide +kernel
set_option maxRecDepth 100000 in
theorem dX9_compares_205 : decode cX9_compares 205 = .ok (.iconst 1, 1) := by decide +kernel
set_option maxRecDepth 100000 in
theorem dX9_compares_206 : decode cX9_compares 206 = .ok (.invokestatic 326, 3) := by decide +kernel
set_option maxRecDepth 100000 in
theorem dX9_compares_209 : decode cX9_compares 209 = .ok (.istore 5, 2) := by decide +kernel
set_option maxRecDepth 100000 in
theorem dX9_compares_211 : decode cX9_compares 211 = .ok (.goto 255, 3) := by decide +kernel
set_option maxRecDepth 100000 in
theorem dX9_compares_214 : decode cX9_compares 214 = .ok (.aload_n 0, 1) := by decide +kernel
set_option maxRecDepth 100000 in
theorem dX9_compares_215 : decode cX9_compares 215 = .ok (.getfield 28, 3) := by decide +kernel
set_option maxRecDepth 100000 in
theorem dX9_compares_218 : decode cX9_compares 218 = .ok (.iload_n 3, 1) := by decide +kernel
set_option maxRecDepth 100000 in
theorem dX9_compares_219 : decode cX9_compares 219 = .ok (.laload, 1) := by decide +kernel
set_option maxRecDepth 100000 in
theorem dX9_compares_220 : decode cX9_compares 220 = .ok (.aload_n 0, 1) := by decide +kernel
set_option maxRecDepth 100000 in
theorem dX9_compares_221 : decode cX9_compares 221 = .ok (.getfield 28, 3) := by decide +kernel
set_option maxRecDepth 100000 in
theorem dX9_compares_224 : decode cX9_compares 224 = .ok (.aload_n 0, 1) := by decide +kernel
set_option maxRecDepth 100000 in
theorem dX9_compares_225 : decode cX9_compares 225 = .ok (.getfield 86, 3) := by decide +kernel
set_option maxRecDepth 100000 in
theorem dX9_compares_228 : decode cX9_compares 228 = .ok (.laload, 1) := by decide +kernel
set_option maxRecDepth 100000 in
theorem dX9_compares_229 : decode cX9_compares 229 = .ok (.lcmp, 1) := by decide +kernel
set_option maxRecDepth 100000 in
theorem dX9_compares_230 : decode cX9_compares 230 = .ok (.ifCond .ne 26, 3) := by decide +kernel
set_option maxRecDepth 100000 in
theorem dX9_compares_233 : decode cX9_compares 233 = .ok (.aload_n 0, 1) := by decide +kernel
set_option maxRecDepth 100000 in
theorem dX9_compares_234 : decode cX9_compares 234 = .ok (.getfield 32, 3) := by decide +kernel
set_option maxRecDepth 100000 in
theorem dX9_compares_237 : decode cX9_compares 237 = .ok (.iload_n 3, 1) := by decide +kernel
set_option maxRecDepth 100000 in
theorem dX9_compares_238 : decode cX9_compares 238 = .ok (.laload, 1) := by decide +kernel
set_option maxRecDepth 100000 in
theorem dX9_compares_239 : decode cX9_compares 239 = .ok (.aload_n 0, 1) := by decide +kernel
set_option maxRecDepth 100000 in
theorem dX9_compares_240 : decode cX9_compares 240 = .ok (.getfield 32, 3) := by decide +kernel
set_option maxRecDepth 100000 in
theorem dX9_compares_243 : decode cX9_compares 243 = .ok (.aload_n 0, 1) := by decide +kernel
set_option maxRecDepth 100000 in
theorem dX9_compares_244 : decode cX9_compares 244 = .ok (.getfield 86, 3) := by decide +kernel
set_option maxRecDepth 100000 in
theorem dX9_compares_247 : decode cX9_compares 247 = .ok (.laload, 1) := by decide +kernel
set_option maxRecDepth 100000 in
theorem dX9_compares_248 : decode cX9_compares 248 = .ok (.lcmp, 1) := by decide +kernel
set_option maxRecDepth 100000 in
theorem dX9_compares_249 : decode cX9_compares 249 = .ok (.ifCond .ne 7, 3) := by decide +kernel
set_option maxRecDepth 100000 in
theorem dX9_compares_252 : decode cX9_compares 252 = .ok (.iconst 1, 1) := by decide +kernel
set_option maxRecDepth 100000 in
theorem dX9_compares_253 : decode cX9_compares 253 = .ok (.goto 4, 3) := by decide +kernel
set_option maxRecDepth 100000 in
theorem dX9_compares_256 : decode cX9_compares 256 = .ok (.iconst 0, 1) := by decide +kernel
set_option maxRecDepth 100000 in
theorem dX9_compares_257 : decode cX9_compares 257 = .ok (.istore 6, 2) := by decide +kernel
set_option maxRecDepth 100000 in
theorem dX9_compares_259 : decode cX9_compares 259 = .ok (.aload_n 0, 1) := by decide +kernel
set_option maxRecDepth 100000 in
theorem dX9_compares_260 : decode cX9_compares 260 = .ok (.getfield 28, 3) := by decide +kernel
set_option maxRecDepth 100000 in
theorem dX9_compares_263 : decode cX9_compares 263 = .ok (.iload_n 3, 1) := by decide +kernel
set_option maxRecDepth 100000 in
theorem dX9_compares_264 : decode cX9_compares 264 = .ok (.laload, 1) := by decide +kernel
set_option maxRecDepth 100000 in
theorem dX9_compares_265 : decode cX9_compares 265 = .ok (.aload_n 0, 1) := by decide +kernel
set_option maxRecDepth 100000 in
theorem dX9_compares_266 : decode cX9_compares 266 = .ok (.getfield 28, 3) := by decide +kernel
set_option maxRecDepth 100000 in
theorem dX9_compares_269 : decode cX9_compares 269 = .ok (.aload_n 0, 1) := by decide +kernel
set_option maxRecDepth 100000 in
theorem dX9_compares_270 : decode cX9_compares 270 = .ok (.getfield 86, 3) := by decide +kernel
set_option maxRecDepth 100000 in
theorem dX9_compares_273 : decode cX9_compares 273 = .ok (.laload, 1) := by decide +kernel
set_option maxRecDepth 100000 in
theorem dX9_compares_274 : decode cX9_compares 274 = .ok (.ldc2_w 324, 3) := by decide +kernel
set_option maxRecDepth 100000 in
theorem dX9_compares_277 : decode cX9_compares 277 = .ok (.lxor, 1) := by decide +kernel
set_option maxRecDepth 100000 in
theorem dX9_compares_278 : decode cX9_compares 278 = .ok (.land, 1) := by decide +kernel
set_option maxRecDepth 100000 in
theorem dX9_compares_279 : decode cX9_compares 279 = .ok (.lconst 0, 1) := by decide +kernel
set_option maxRecDepth 100000 in
theorem dX9_compares_280 : decode cX9_compares 280 = .ok (.lcmp, 1) := by decide +kernel
set_option maxRecDepth 100000 in
theorem dX9_compares_281 : decode cX9_compares 281 = .ok (.ifCond .ne 32, 3) := by decide +kernel
set_option maxRecDepth 100000 in
theorem dX9_compares_284 : decode cX9_compares 284 = .ok (.aload_n 0, 1) := by decide +kernel
set_option maxRecDepth 100000 in
theorem dX9_compares_285 : decode cX9_compares 285 = .ok (.getfield 32, 3) := by decide +kernel
set_option maxRecDepth 100000 in
theorem dX9_compares_288 : decode cX9_compares 288 = .ok (.iload_n 3, 1) := by decide +kernel
set_option maxRecDepth 100000 in
theorem dX9_compares_289 : decode cX9_compares 289 = .ok (.laload, 1) := by decide +kernel
set_option maxRecDepth 100000 in
theorem dX9_compares_290 : decode cX9_compares 290 = .ok (.aload_n 0, 1) := by decide +kernel
set_option maxRecDepth 100000 in
theorem dX9_compares_291 : decode cX9_compares 291 = .ok (.getfield 32, 3) := by decide +kernel
set_option maxRecDepth 100000 in
theorem dX9_compares_294 : decode cX9_compares 294 = .ok (.aload_n 0, 1) := by decide +kernel
set_option maxRecDepth 100000 in
theorem dX9_compares_295 : decode cX9_compares 295 = .ok (.getfield 86, 3) := by decide +kernel
set_option maxRecDepth 100000 in
theorem dX9_compares_298 : decode cX9_compares 298 = .ok (.laload, 1) := by decide +kernel
set_option maxRecDepth 100000 in
theorem dX9_compares_299 : decode cX9_compares 299 = .ok (.ldc2_w 324, 3) := by decide +kernel
set_option maxRecDepth 100000 in
theorem dX9_compares_302 : decode cX9_compares 302 = .ok (.lxor, 1) := by decide +kernel
set_option maxRecDepth 100000 in
theorem dX9_compares_303 : decode cX9_compares 303 = .ok (.land, 1) := by decide +kernel
set_option maxRecDepth 100000 in
theorem dX9_compares_304 : decode cX9_compares 304 = .ok (.lconst 0, 1) := by decide +kernel
set_option maxRecDepth 100000 in
theorem dX9_compares_305 : decode cX9_compares 305 = .ok (.lcmp, 1) := by decide +kernel
set_option maxRecDepth 100000 in
theorem dX9_compares_306 : decode cX9_compares 306 = .ok (.ifCond .ne 7, 3) := by decide +kernel
set_option maxRecDepth 100000 in
theorem dX9_compares_309 : decode cX9_compares 309 = .ok (.iconst 1, 1) := by decide +kernel
set_option maxRecDepth 100000 in
theorem dX9_compares_310 : decode cX9_compares 310 = .ok (.goto 4, 3) := by decide +kernel
set_option maxRecDepth 100000 in
theorem dX9_compares_313 : decode cX9_compares 313 = .ok (.iconst 0, 1) := by decide +kernel
set_option maxRecDepth 100000 in
theorem dX9_compares_314 : decode cX9_compares 314 = .ok (.istore 7, 2) := by decide +kernel
set_option maxRecDepth 100000 in
theorem dX9_compares_316 : decode cX9_compares 316 = .ok (.aload_n 0, 1) := by decide +kernel
set_option maxRecDepth 100000 in
theorem dX9_compares_317 : decode cX9_compares 317 = .ok (.getfield 28, 3) := by decide +kernel
set_option maxRecDepth 100000 in
theorem dX9_compares_320 : decode cX9_compares 320 = .ok (.aload_n 0, 1) := by decide +kernel
set_option maxRecDepth 100000 in
theorem dX9_compares_321 : decode cX9_compares 321 = .ok (.getfield 86, 3) := by decide +kernel
set_option maxRecDepth 100000 in
theorem dX9_compares_324 : decode cX9_compares 324 = .ok (.laload, 1) := by decide +kernel
set_option maxRecDepth 100000 in
theorem dX9_compares_325 : decode cX9_compares 325 = .ok (.aload_n 0, 1) := by decide +kernel
set_option maxRecDepth 100000 in
theorem dX9_compares_326 : decode cX9_compares 326 = .ok (.getfield 28, 3) := by decide +kernel
set_option maxRecDepth 100000 in
theorem dX9_compares_329 : decode cX9_compares 329 = .ok (.iload_n 3, 1) := by decide +kernel
set_option maxRecDepth 100000 in
theorem dX9_compares_330 : decode cX9_compares 330 = .ok (.laload, 1) := by decide +kernel
set_option maxRecDepth 100000 in
theorem dX9_compares_331 : decode cX9_compares 331 = .ok (.ldc2_w 324, 3) := by decide +kernel
set_option maxRecDepth 100000 in
theorem dX9_compares_334 : decode cX9_compares 334 = .ok (.lxor, 1) := by decide +kernel
set_option maxRecDepth 100000 in
theorem dX9_compares_335 : decode cX9_compares 335 = .ok (.land, 1) := by decide +kernel
set_option maxRecDepth 100000 in
theorem dX9_compares_336 : decode cX9_compares 336 = .ok (.lconst 0, 1) := by decide +kernel
set_option maxRecDepth 100000 in
theorem dX9_compares_337 : decode cX9_compares 337 = .ok (.lcmp, 1) := by decide +kernel
set_option maxRecDepth 100000 in
theorem dX9_compares_338 : decode cX9_compares 338 = .ok (.ifCond .ne 32, 3) := by decide +kernel
set_option maxRecDepth 100000 in
theorem dX9_compares_341 : decode cX9_compares 341 = .ok (.aload_n 0, 1) := by decide +kernel
set_option maxRecDepth 100000 in
theorem dX9_compares_342 : decode cX9_compares 342 = .ok (.getfield 32, 3) := by decide +kernel
set_option maxRecDepth 100000 in
theorem dX9_compares_345 : decode cX9_compares 345 = .ok (.aload_n 0, 1) := by decide +kernel
set_option maxRecDepth 100000 in
theorem dX9_compares_346 : decode cX9_compares 346 = .ok (.getfield 86, 3) := by decide +kernel
set_option maxRecDepth 100000 in
theorem dX9_compares_349 : decode cX9_compares 349 = .ok (.laload, 1) := by decide +kernel
set_option maxRecDepth 100000 in
theorem dX9_compares_350 : decode cX9_compares 350 = .ok (.aload_n 0, 1) := by decide +kernel
set_option maxRecDepth 100000 in
theorem dX9_compares_351 : decode cX9_compares 351 = .ok (.getfield 32, 3) := by decide +kernel
set_option maxRecDepth 100000 in
theorem dX9_compares_354 : decode cX9_compares 354 = .ok (.iload_n 3, 1) := by decide +kernel
set_option maxRecDepth 100000 in
theorem dX9_compares_355 : decode cX9_compares 355 = .ok (.laload, 1) := by decide +kernel
set_option maxRecDepth 100000 in
theorem dX9_compares_356 : decode cX9_compares 356 = .ok (.ldc2_w 324, 3) := by decide +kernel
set_option maxRecDepth 100000 in
theorem dX9_compares_359 : decode cX9_compares 359 = .ok (.lxor, 1) := by decide +kernel
set_option maxRecDepth 100000 in
theorem dX9_compares_360 : decode cX9_compares 360 = .ok (.land, 1) := by decide +kernel
set_option maxRecDepth 100000 in
theorem dX9_compares_361 : decode cX9_compares 361 = .ok (.lconst 0, 1) := by decide +kernel
set_option maxRecDepth 100000 in
theorem dX9_compares_362 : decode cX9_compares 362 = .ok (.lcmp, 1) := by decide +kernel
set_option maxRecDepth 100000 in
theorem dX9_compares_363 : decode cX9_compares 363 = .ok (.ifCond .ne 7, 3) := by decide +kernel
set_option maxRecDepth 100000 in
theorem dX9_compares_366 : decode cX9_compares 366 = .ok (.iconst 1, 1) := by decide +kernel
set_option maxRecDepth 100000 in
theorem dX9_compares_367 : decode cX9_compares 367 = .ok (.goto 4, 3) := by decide +kernel
set_option maxRecDepth 100000 in
theorem dX9_compares_370 : decode cX9_compares 370 = .ok (.iconst 0, 1) := by decide +kernel
set_option maxRecDepth 100000 in
theorem dX9_compares_371 : decode cX9_compares 371 = .ok (.istore 8, 2) := by decide +kernel
set_option maxRecDepth 100000 in
theorem dX9_compares_373 : decode cX9_compares 373 = .ok (.iload 4, 2) := by decide +kernel
set_option maxRecDepth 100000 in
theorem dX9_compares_375 : decode cX9_compares 375 = .ok (.ifCond .ne 8, 3) := by decide +kernel
set_option maxRecDepth 100000 in
theorem dX9_compares_378 : decode cX9_compares 378 = .ok (.iload 6, 2) := by decide +kernel
set_option maxRecDepth 100000 in
theorem dX9_compares_380 : decode cX9_compares 380 = .ok (.goto 35, 3) := by decide +kernel
set_option maxRecDepth 100000 in
theorem dX9_compares_383 : decode cX9_compares 383 = .ok (.iload 4, 2) := by decide +kernel
set_option maxRecDepth 100000 in
theorem dX9_compares_385 : decode cX9_compares 385 = .ok (.iconst 1, 1) := by decide +kernel
set_option maxRecDepth 100000 in
theorem dX9_compares_386 : decode cX9_compares 386 = .ok (.if_icmp .ne 16, 3) := by decide +kernel
set_option maxRecDepth 100000 in
theorem dX9_compares_389 : decode cX9_compares 389 = .ok (.iload 6, 2) := by decide +kernel
set_option maxRecDepth 100000 in
theorem dX9_compares_391 : decode cX9_compares 391 = .ok (.ifCond .ne 7, 3) := by decide +kernel
set_option maxRecDepth 100000 in
theorem dX9_compares_394 : decode cX9_compares 394 = .ok (.iconst 1, 1) := by decide +kernel
set_option maxRecDepth 100000 in
theorem dX9_compares_395 : decode cX9_compares 395 = .ok (.goto 20, 3) := by decide +kernel
set_option maxRecDepth 100000 in
theorem dX9_compares_398 : decode cX9_compares 398 = .ok (.iconst 0, 1) := by decide +kernel
set_option maxRecDepth 100000 in
theorem dX9_compares_399 : decode cX9_compares 399 = .ok (.goto 16, 3) := by decide +kernel
set_option maxRecDepth 100000 in
theorem dX9_compares_402 : decode cX9_compares 402 = .ok (.iload 4, 2) := by decide +kernel
set_option maxRecDepth 100000 in
theorem dX9_compares_404 : decode cX9_compares 404 = .ok (.iconst 4, 1) := by decide +kernel
set_option maxRecDepth 100000 in
theorem dX9_compares_405 : decode cX9_compares 405 = .ok (.if_icmp .ne 8, 3) := by decide +kernel
set_option maxRecDepth 100000 in
theorem dX9_compares_408 : decode cX9_compares 408 = .ok (.iload 7, 2) := by decide +kernel
set_option maxRecDepth 100000 in
theorem dX9_compares_410 : decode cX9_compares 410 = .ok (.goto 5, 3) := by decide +kernel
set_option maxRecDepth 100000 in
theorem dX9_compares_413 : decode cX9_compares 413 = .ok (.iload 8, 2) := by decide +kernel
set_option maxRecDepth 100000 in
theorem dX9_compares_415 : decode cX9_compares 415 = .ok (.istore 5, 2) := by decide +kernel
set_option maxRecDepth 100000 in
theorem dX9_compares_417 : decode cX9_compares 417 = .ok (.goto 49, 3) := by decide +kernel
set_option maxRecDepth 100000 in
theorem dX9_compares_420 : decode cX9_compares 420 = .ok (.iload 4, 2) := by decide +kernel
set_option maxRecDepth 100000 in
theorem dX9_compares_422 : decode cX9_compares 422 = .ok (.aload_n 0, 1) := by decide +kernel
set_option maxRecDepth 100000 in
theorem dX9_compares_423 : decode cX9_compares 423 = .ok (.aload_n 0, 1) := by decide +kernel
set_option maxRecDepth 100000 in
theorem dX9_compares_424 : decode cX9_compares 424 = .ok (.getfield 28, 3) := by decide +kernel
set_option maxRecDepth 100000 in
theorem dX9_compares_427 : decode cX9_compares 427 = .ok (.iload_n 3, 1) := by decide +kernel
set_option maxRecDepth 100000 in
theorem dX9_compares_428 : decode cX9_compares 428 = .ok (.laload, 1) := by decide +kernel
set_option maxRecDepth 100000 in
theorem dX9_compares_429 : decode cX9_compares 429 = .ok (.l2i, 1) := by decide +kernel
set_option maxRecDepth 100000 in
theorem dX9_compares_430 : decode cX9_compares 430 = .ok (.aload_n 0, 1) := by decide +kernel
set_option maxRecDepth 100000 in
theorem dX9_compares_431 : decode cX9_compares 431 = .ok (.getfield 28, 3) := by decide +kernel
set_option maxRecDepth 100000 in
theorem dX9_compares_434 : decode cX9_compares 434 = .ok (.aload_n 0, 1) := by decide +kernel
set_option maxRecDepth 100000 in
theorem dX9_compares_435 : decode cX9_compares 435 = .ok (.getfield 86, 3) := by decide +kernel
set_option maxRecDepth 100000 in
theorem dX9_compares_438 : decode cX9_compares 438 = .ok (.laload, 1) := by decide +kernel
set_option maxRecDepth 100000 in
theorem dX9_compares_439 : decode cX9_compares 439 = .ok (.l2i, 1) := by decide +kernel
set_option maxRecDepth 100000 in
theorem dX9_compares_440 : decode cX9_compares 440 = .ok (.aload_n 0, 1) := by decide +kernel
set_option maxRecDepth 100000 in
theorem dX9_compares_441 : decode cX9_compares 441 = .ok (.getfield 75, 3) := by decide +kernel
set_option maxRecDepth 100000 in
theorem dX9_compares_444 : decode cX9_compares 444 = .ok (.getfield 204, 3) := by decide +kernel
set_option maxRecDepth 100000 in
theorem dX9_compares_447 : decode cX9_compares 447 = .ok (.iload_n 2, 1) := by decide +kernel
set_option maxRecDepth 100000 in
theorem dX9_compares_448 : decode cX9_compares 448 = .ok (.iaload, 1) := by decide +kernel
set_option maxRecDepth 100000 in
theorem dX9_compares_449 : decode cX9_compares 449 = .ok (.aload_n 0, 1) := by decide +kernel
set_option maxRecDepth 100000 in
theorem dX9_compares_450 : decode cX9_compares 450 = .ok (.getfield 75, 3) := by decide +kernel
set_option maxRecDepth 100000 in
theorem dX9_compares_453 : decode cX9_compares 453 = .ok (.getfield 222, 3) := by decide +kernel
set_option maxRecDepth 100000 in
theorem dX9_compares_456 : decode cX9_compares 456 = .ok (.iload_n 2, 1) := by decide +kernel
set_option maxRecDepth 100000 in
theorem dX9_compares_457 : decode cX9_compares 457 = .ok (.iaload, 1) := by decide +kernel
set_option maxRecDepth 100000 in
theorem dX9_compares_458 : decode cX9_compares 458 = .ok (.invokevirtual 329, 3) := by decide +kernel
set_option maxRecDepth 100000 in
theorem dX9_compares_461 : decode cX9_compares 461 = .ok (.invokestatic 326, 3) := by decide +kernel
set_option maxRecDepth 100000 in
theorem dX9_compares_464 : decode cX9_compares 464 = .ok (.istore 5, 2) := by decide +kernel
set_option maxRecDepth 100000 in
theorem dX9_compares_466 : decode cX9_compares 466 = .ok (.aload_n 0, 1) := by decide +kernel
set_option maxRecDepth 100000 in
theorem dX9_compares_467 : decode cX9_compares 467 = .ok (.getfield 28, 3) := by decide +kernel
set_option maxRecDepth 100000 in
theorem dX9_compares_470 : decode cX9_compares 470 = .ok (.iload_n 3, 1) := by decide +kernel
set_option maxRecDepth 100000 in
theorem dX9_compares_471 : decode cX9_compares 471 = .ok (.iload 5, 2) := by decide +kernel
set_option maxRecDepth 100000 in
theorem dX9_compares_473 : decode cX9_compares 473 = .ok (.ifCond .eq 7, 3) := by decide +kernel
set_option maxRecDepth 100000 in
theorem dX9_compares_476 : decode cX9_compares 476 = .ok (.lconst 1, 1) := by decide +kernel
set_option maxRecDepth 100000 in
theorem dX9_compares_477 : decode cX9_compares 477 = .ok (.goto 4, 3) := by decide +kernel
set_option maxRecDepth 100000 in
theorem dX9_compares_480 : decode cX9_compares 480 = .ok (.lconst 0, 1) := by decide +kernel
set_option maxRecDepth 100000 in
theorem dX9_compares_481 : decode cX9_compares 481 = .ok (.lastore, 1) := by decide +kernel
set_option maxRecDepth 100000 in
theorem dX9_compares_482 : decode cX9_compares 482 = .ok (.return_, 1) := by decide +kernel
set_option maxRecDepth 100000 in
def bX9_compares_481 (G : xG) (fr lo : Nat) (s0 : Int64) (s1 : Int32) (s2 : Nat) (h : xH) (Q : Outcome → xH → Prop) : Prop := tg h s2 = 101 ∧ vp_in s1 (ln h s2) ∧ (∀ h3 : xH, h3 = tJ h s2 (Int32.toNatClampNeg s1) s0 → Q (.returned none) h3)
set_option maxRecDepth 100000 in
theorem uX9_compares_481 {G : xG} {fr lo : Nat} {s0 : Int64} {s1 : Int32} {s2 : Nat} {h : xH} {Q : Outcome → xH → Prop} (hq : bX9_compares_481 G fr lo s0 s1 s2 h Q) : xP G YX9_compares fr lo 481 [] [.long s0, .int s1, rv s2] h Q := by
  unfold bX9_compares_481 at hq
  obtain ⟨g1, hq⟩ := hq
  obtain ⟨i2, hq⟩ := hq
  obtain ⟨h3, e4⟩ : ∃ y, y = tJ h s2 (Int32.toNatClampNeg s1) s0 := ⟨_, rfl⟩
  replace hq := hq h3 e4
  refine x_last' g1 i2 dX9_compares_481 e4 ?_
  exact x_vret rfl dX9_compares_482 hq
set_option maxRecDepth 100000 in
def bX9_compares_466 (G : xG) (fr lo : Nat) (x0 : Nat) (x3 : Int32) (x5 : Int32) (h : xH) (Q : Outcome → xH → Prop) : Prop := tg h x0 = 10 ∧ ((x5 = 0 → bX9_compares_481 G fr lo 0 x3 (fR h x0 2307) h Q) ∧ (¬ x5 = 0 → bX9_compares_481 G fr lo 1 x3 (fR h x0 2307) h Q))
set_option maxRecDepth 100000 in
theorem uX9_compares_466 {G : xG} {fr lo : Nat} {x0 : Nat} {x3 : Int32} {x5 : Int32} {h : xH} {Q : Outcome → xH → Prop} (hq : bX9_compares_466 G fr lo x0 x3 x5 h Q) : xP G YX9_compares fr lo 466 [(0, rv x0), (3, .int x3), (5, .int x5)] [] h Q := by
  unfold bX9_compares_466 at hq
  refine x_aload_n 0 dX9_compares_466 rfl ?_
  obtain ⟨g1, hq⟩ := hq
  refine x_get (v := rv (fR h x0 2307)) fdX9_28 dX9_compares_467 g1 rfl ?_
  refine x_iload_n 1 dX9_compares_470 rfl ?_
  refine x_iload 2 dX9_compares_471 rfl ?_
  refine x_if_eq (tgt := 480) dX9_compares_473 (by decide) (fun c2 => ?_) (fun c2 => ?_)
  · replace hq := hq.1 c2
    refine x_lconst (v := 0) dX9_compares_480 (by decide) ?_
    refine xP.pick (lv' := []) [] rfl ?_
    exact uX9_compares_481 hq
  · replace hq := hq.2 c2
    refine x_lconst (v := 1) dX9_compares_476 (by decide) ?_
    refine x_goto (tgt := 481) dX9_compares_477 (by decide) ?_
    refine xP.pick (lv' := []) [] rfl ?_
    exact uX9_compares_481 hq
set_option maxRecDepth 100000 in
def bX9_compares_415 (G : xG) (fr lo : Nat) (x0 : Nat) (x3 : Int32) (s0 : Int32) (h : xH) (Q : Outcome → xH → Prop) : Prop := bX9_compares_466 G fr lo x0 x3 s0 h Q
set_option maxRecDepth 100000 in
theorem uX9_compares_415 {G : xG} {fr lo : Nat} {x0 : Nat} {x3 : Int32} {s0 : Int32} {h : xH} {Q : Outcome → xH → Prop} (hq : bX9_compares_415 G fr lo x0 x3 s0 h Q) : xP G YX9_compares fr lo 415 [(0, rv x0), (3, .int x3)] [.int s0] h Q := by
  unfold bX9_compares_415 at hq
  refine x_istore (lv' := [(5, .int s0), (0, rv x0), (3, .int x3)]) dX9_compares_415 (by decide) rfl ?_
  refine x_goto (tgt := 466) dX9_compares_417 (by decide) ?_
  refine xP.pick (lv' := [(0, rv x0), (3, .int x3), (5, .int s0)]) [1, 2, 0] rfl ?_
  exact uX9_compares_466 hq
set_option maxRecDepth 100000 in
def bX9_compares_371 (G : xG) (fr lo : Nat) (x0 : Nat) (x3 : Int32) (x4 : Int32) (x6 : Int32) (x7 : Int32) (s0 : Int32) (h : xH) (Q : Outcome → xH → Prop) : Prop := ((¬ x4 = 0 → ((¬ x4 = 1 → ((¬ x4 = 4 → bX9_compares_415 G fr lo x0 x3 s0 h Q) ∧ (x4 = 4 → bX9_compares_415 G fr lo x0 x3 x7 h Q))) ∧ (x4 = 1 → ((¬ x6 = 0 → bX9_compares_415 G fr lo x0 x3 0 h Q) ∧ (x6 = 0 → bX9_compares_415 G fr lo x0 x3 1 h Q))))) ∧ (x4 = 0 → bX9_compares_415 G fr lo x0 x3 x6 h Q))
set_option maxRecDepth 100000 in
theorem uX9_compares_371 {G : xG} {fr lo : Nat} {x0 : Nat} {x3 : Int32} {x4 : Int32} {x6 : Int32} {x7 : Int32} {s0 : Int32} {h : xH} {Q : Outcome → xH → Prop} (hq : bX9_compares_371 G fr lo x0 x3 x4 x6 x7 s0 h Q) : xP G YX9_compares fr lo 371 [(0, rv x0), (3, .int x3), (4, .int x4), (6, .int x6), (7, .int x7)] [.int s0] h Q := by
  unfold bX9_compares_371 at hq
  refine x_istore (lv' := [(8, .int s0), (0, rv x0), (3, .int x3), (4, .int x4), (6, .int x6), (7, .int x7)]) dX9_compares_371 (by decide) rfl ?_
  refine x_iload 3 dX9_compares_373 rfl ?_
  refine x_if_ne (tgt := 383) dX9_compares_375 (by decide) (fun c1 => ?_) (fun c1 => ?_)
  · replace hq := hq.1 c1
    refine x_iload 3 dX9_compares_383 rfl ?_
    refine x_iconst (v := 1) dX9_compares_385 (by decide) ?_
    refine x_icmp_ne (tgt := 402) dX9_compares_386 (by decide) (fun c2 => ?_) (fun c2 => ?_)
    · replace hq := hq.1 c2
      refine x_iload 3 dX9_compares_402 rfl ?_
      refine x_iconst (v := 4) dX9_compares_404 (by decide) ?_
      refine x_icmp_ne (tgt := 413) dX9_compares_405 (by decide) (fun c3 => ?_) (fun c3 => ?_)
      · replace hq := hq.1 c3
        refine x_iload 0 dX9_compares_413 rfl ?_
        refine xP.pick (lv' := [(0, rv x0), (3, .int x3)]) [1, 2] rfl ?_
        exact uX9_compares_415 hq
      · replace hq := hq.2 c3
        refine x_iload 5 dX9_compares_408 rfl ?_
        refine x_goto (tgt := 415) dX9_compares_410 (by decide) ?_
        refine xP.pick (lv' := [(0, rv x0), (3, .int x3)]) [1, 2] rfl ?_
        exact uX9_compares_415 hq
    · replace hq := hq.2 c2
      refine x_iload 4 dX9_compares_389 rfl ?_
      refine x_if_ne (tgt := 398) dX9_compares_391 (by decide) (fun c4 => ?_) (fun c4 => ?_)
      · replace hq := hq.1 c4
        refine x_iconst (v := 0) dX9_compares_398 (by decide) ?_
        refine x_goto (tgt := 415) dX9_compares_399 (by decide) ?_
        refine xP.pick (lv' := [(0, rv x0), (3, .int x3)]) [1, 2] rfl ?_
        exact uX9_compares_415 hq
      · replace hq := hq.2 c4
        refine x_iconst (v := 1) dX9_compares_394 (by decide) ?_
        refine x_goto (tgt := 415) dX9_compares_395 (by decide) ?_
        refine xP.pick (lv' := [(0, rv x0), (3, .int x3)]) [1, 2] rfl ?_
        exact uX9_compares_415 hq
  · replace hq := hq.2 c1
    refine x_iload 4 dX9_compares_378 rfl ?_
    refine x_goto (tgt := 415) dX9_compares_380 (by decide) ?_
    refine xP.pick (lv' := [(0, rv x0), (3, .int x3)]) [1, 2] rfl ?_
    exact uX9_compares_415 hq
set_option maxRecDepth 100000 in
def bX9_compares_370 (G : xG) (fr lo : Nat) (x0 : Nat) (x3 : Int32) (x4 : Int32) (x6 : Int32) (x7 : Int32) (h : xH) (Q : Outcome → xH → Prop) : Prop := bX9_compares_371 G fr lo x0 x3 x4 x6 x7 0 h Q
set_option maxRecDepth 100000 in
theorem uX9_compares_370 {G : xG} {fr lo : Nat} {x0 : Nat} {x3 : Int32} {x4 : Int32} {x6 : Int32} {x7 : Int32} {h : xH} {Q : Outcome → xH → Prop} (hq : bX9_compares_370 G fr lo x0 x3 x4 x6 x7 h Q) : xP G YX9_compares fr lo 370 [(0, rv x0), (3, .int x3), (4, .int x4), (6, .int x6), (7, .int x7)] [] h Q := by
  unfold bX9_compares_370 at hq
  refine x_iconst (v := 0) dX9_compares_370 (by decide) ?_
  exact uX9_compares_371 hq
set_option maxRecDepth 100000 in
def bX9_compares_314 (G : xG) (fr lo : Nat) (x0 : Nat) (x3 : Int32) (x4 : Int32) (x6 : Int32) (s0 : Int32) (h : xH) (Q : Outcome → xH → Prop) : Prop := tg h x0 = 10 ∧ tg h (fR h x0 2307) = 101 ∧ vp_in (fI h x0 2310) (ln h (fR h x0 2307)) ∧ vp_in x3 (ln h (fR h x0 2307)) ∧ ((¬ (lg_cmp ((aJ h (fR h x0 2307) (Int32.toNatClampNeg (fI h x0 2310))) &&& ((aJ h (fR h x0 2307) (Int32.toNatClampNeg x3)) ^^^ (-1))) 0) = 0 → bX9_compares_370 G fr lo x0 x3 x4 x6 s0 h Q) ∧ ((lg_cmp ((aJ h (fR h x0 2307) (Int32.toNatClampNeg (fI h x0 2310))) &&& ((aJ h (fR h x0 2307) (Int32.toNatClampNeg x3)) ^^^ (-1))) 0) = 0 → tg h (fR h x0 2308) = 101 ∧ vp_in (fI h x0 2310) (ln h (fR h x0 2308)) ∧ vp_in x3 (ln h (fR h x0 2308)) ∧ ((¬ (lg_cmp ((aJ h (fR h x0 2308) (Int32.toNatClampNeg (fI h x0 2310))) &&& ((aJ h (fR h x0 2308) (Int32.toNatClampNeg x3)) ^^^ (-1))) 0) = 0 → bX9_compares_370 G fr lo x0 x3 x4 x6 s0 h Q) ∧ ((lg_cmp ((aJ h (fR h x0 2308) (Int32.toNatClampNeg (fI h x0 2310))) &&& ((aJ h (fR h x0 2308) (Int32.toNatClampNeg x3)) ^^^ (-1))) 0) = 0 → bX9_compares_371 G fr lo x0 x3 x4 x6 s0 1 h Q))))
set_option maxRecDepth 100000 in
theorem uX9_compares_314 {G : xG} {fr lo : Nat} {x0 : Nat} {x3 : Int32} {x4 : Int32} {x6 : Int32} {s0 : Int32} {h : xH} {Q : Outcome → xH → Prop} (hq : bX9_compares_314 G fr lo x0 x3 x4 x6 s0 h Q) : xP G YX9_compares fr lo 314 [(0, rv x0), (3, .int x3), (4, .int x4), (6, .int x6)] [.int s0] h Q := by
  unfold bX9_compares_314 at hq
  refine x_istore (lv' := [(7, .int s0), (0, rv x0), (3, .int x3), (4, .int x4), (6, .int x6)]) dX9_compares_314 (by decide) rfl ?_
  refine x_aload_n 1 dX9_compares_316 rfl ?_
  obtain ⟨g1, hq⟩ := hq
  refine x_get (v := rv (fR h x0 2307)) fdX9_28 dX9_compares_317 g1 rfl ?_
  refine x_aload_n 1 dX9_compares_320 rfl ?_
  refine x_get (v := .int (fI h x0 2310)) fdX9_86 dX9_compares_321 g1 rfl ?_
  obtain ⟨g2, hq⟩ := hq
  obtain ⟨i3, hq⟩ := hq
  refine x_lald g2 i3 dX9_compares_324 ?_
  refine x_aload_n 1 dX9_compares_325 rfl ?_
  refine x_get (v := rv (fR h x0 2307)) fdX9_28 dX9_compares_326 g1 rfl ?_
  refine x_iload_n 2 dX9_compares_329 rfl ?_
  obtain ⟨i4, hq⟩ := hq
  refine x_lald g2 i4 dX9_compares_330 ?_
  refine x_ldc2 (v := (-1)) q2971 dX9_compares_331 ?_
  refine x_lxor dX9_compares_334 ?_
  refine x_land dX9_compares_335 ?_
  refine x_lconst (v := 0) dX9_compares_336 (by decide) ?_
  refine x_lcmp dX9_compares_337 ?_
  refine x_if_ne (tgt := 370) dX9_compares_338 (by decide) (fun c5 => ?_) (fun c5 => ?_)
  · replace hq := hq.1 c5
    refine xP.pick (lv' := [(0, rv x0), (3, .int x3), (4, .int x4), (6, .int x6), (7, .int s0)]) [1, 2, 3, 4, 0] rfl ?_
    exact uX9_compares_370 hq
  · replace hq := hq.2 c5
    refine x_aload_n 1 dX9_compares_341 rfl ?_
    refine x_get (v := rv (fR h x0 2308)) fdX9_32 dX9_compares_342 g1 rfl ?_
    refine x_aload_n 1 dX9_compares_345 rfl ?_
    refine x_get (v := .int (fI h x0 2310)) fdX9_86 dX9_compares_346 g1 rfl ?_
    obtain ⟨g6, hq⟩ := hq
    obtain ⟨i7, hq⟩ := hq
    refine x_lald g6 i7 dX9_compares_349 ?_
    refine x_aload_n 1 dX9_compares_350 rfl ?_
    refine x_get (v := rv (fR h x0 2308)) fdX9_32 dX9_compares_351 g1 rfl ?_
    refine x_iload_n 2 dX9_compares_354 rfl ?_
    obtain ⟨i8, hq⟩ := hq
    refine x_lald g6 i8 dX9_compares_355 ?_
    refine x_ldc2 (v := (-1)) q2971 dX9_compares_356 ?_
    refine x_lxor dX9_compares_359 ?_
    refine x_land dX9_compares_360 ?_
    refine x_lconst (v := 0) dX9_compares_361 (by decide) ?_
    refine x_lcmp dX9_compares_362 ?_
    refine x_if_ne (tgt := 370) dX9_compares_363 (by decide) (fun c9 => ?_) (fun c9 => ?_)
    · replace hq := hq.1 c9
      refine xP.pick (lv' := [(0, rv x0), (3, .int x3), (4, .int x4), (6, .int x6), (7, .int s0)]) [1, 2, 3, 4, 0] rfl ?_
      exact uX9_compares_370 hq
    · replace hq := hq.2 c9
      refine x_iconst (v := 1) dX9_compares_366 (by decide) ?_
      refine x_goto (tgt := 371) dX9_compares_367 (by decide) ?_
      refine xP.pick (lv' := [(0, rv x0), (3, .int x3), (4, .int x4), (6, .int x6), (7, .int s0)]) [1, 2, 3, 4, 0] rfl ?_
      exact uX9_compares_371 hq
set_option maxRecDepth 100000 in
def bX9_compares_313 (G : xG) (fr lo : Nat) (x0 : Nat) (x3 : Int32) (x4 : Int32) (x6 : Int32) (h : xH) (Q : Outcome → xH → Prop) : Prop := bX9_compares_314 G fr lo x0 x3 x4 x6 0 h Q
set_option maxRecDepth 100000 in
theorem uX9_compares_313 {G : xG} {fr lo : Nat} {x0 : Nat} {x3 : Int32} {x4 : Int32} {x6 : Int32} {h : xH} {Q : Outcome → xH → Prop} (hq : bX9_compares_313 G fr lo x0 x3 x4 x6 h Q) : xP G YX9_compares fr lo 313 [(0, rv x0), (3, .int x3), (4, .int x4), (6, .int x6)] [] h Q := by
  unfold bX9_compares_313 at hq
  refine x_iconst (v := 0) dX9_compares_313 (by decide) ?_
  exact uX9_compares_314 hq
set_option maxRecDepth 100000 in
def bX9_compares_257 (G : xG) (fr lo : Nat) (x0 : Nat) (x3 : Int32) (x4 : Int32) (s0 : Int32) (h : xH) (Q : Outcome → xH → Prop) : Prop := tg h x0 = 10 ∧ tg h (fR h x0 2307) = 101 ∧ vp_in x3 (ln h (fR h x0 2307)) ∧ vp_in (fI h x0 2310) (ln h (fR h x0 2307)) ∧ ((¬ (lg_cmp ((aJ h (fR h x0 2307) (Int32.toNatClampNeg x3)) &&& ((aJ h (fR h x0 2307) (Int32.toNatClampNeg (fI h x0 2310))) ^^^ (-1))) 0) = 0 → bX9_compares_313 G fr lo x0 x3 x4 s0 h Q) ∧ ((lg_cmp ((aJ h (fR h x0 2307) (Int32.toNatClampNeg x3)) &&& ((aJ h (fR h x0 2307) (Int32.toNatClampNeg (fI h x0 2310))) ^^^ (-1))) 0) = 0 → tg h (fR h x0 2308) = 101 ∧ vp_in x3 (ln h (fR h x0 2308)) ∧ vp_in (fI h x0 2310) (ln h (fR h x0 2308)) ∧ ((¬ (lg_cmp ((aJ h (fR h x0 2308) (Int32.toNatClampNeg x3)) &&& ((aJ h (fR h x0 2308) (Int32.toNatClampNeg (fI h x0 2310))) ^^^ (-1))) 0) = 0 → bX9_compares_313 G fr lo x0 x3 x4 s0 h Q) ∧ ((lg_cmp ((aJ h (fR h x0 2308) (Int32.toNatClampNeg x3)) &&& ((aJ h (fR h x0 2308) (Int32.toNatClampNeg (fI h x0 2310))) ^^^ (-1))) 0) = 0 → bX9_compares_314 G fr lo x0 x3 x4 s0 1 h Q))))
set_option maxRecDepth 100000 in
theorem uX9_compares_257 {G : xG} {fr lo : Nat} {x0 : Nat} {x3 : Int32} {x4 : Int32} {s0 : Int32} {h : xH} {Q : Outcome → xH → Prop} (hq : bX9_compares_257 G fr lo x0 x3 x4 s0 h Q) : xP G YX9_compares fr lo 257 [(0, rv x0), (3, .int x3), (4, .int x4)] [.int s0] h Q := by
  unfold bX9_compares_257 at hq
  refine x_istore (lv' := [(6, .int s0), (0, rv x0), (3, .int x3), (4, .int x4)]) dX9_compares_257 (by decide) rfl ?_
  refine x_aload_n 1 dX9_compares_259 rfl ?_
  obtain ⟨g1, hq⟩ := hq
  refine x_get (v := rv (fR h x0 2307)) fdX9_28 dX9_compares_260 g1 rfl ?_
  refine x_iload_n 2 dX9_compares_263 rfl ?_
  obtain ⟨g2, hq⟩ := hq
  obtain ⟨i3, hq⟩ := hq
  refine x_lald g2 i3 dX9_compares_264 ?_
  refine x_aload_n 1 dX9_compares_265 rfl ?_
  refine x_get (v := rv (fR h x0 2307)) fdX9_28 dX9_compares_266 g1 rfl ?_
  refine x_aload_n 1 dX9_compares_269 rfl ?_
  refine x_get (v := .int (fI h x0 2310)) fdX9_86 dX9_compares_270 g1 rfl ?_
  obtain ⟨i4, hq⟩ := hq
  refine x_lald g2 i4 dX9_compares_273 ?_
  refine x_ldc2 (v := (-1)) q2971 dX9_compares_274 ?_
  refine x_lxor dX9_compares_277 ?_
  refine x_land dX9_compares_278 ?_
  refine x_lconst (v := 0) dX9_compares_279 (by decide) ?_
  refine x_lcmp dX9_compares_280 ?_
  refine x_if_ne (tgt := 313) dX9_compares_281 (by decide) (fun c5 => ?_) (fun c5 => ?_)
  · replace hq := hq.1 c5
    refine xP.pick (lv' := [(0, rv x0), (3, .int x3), (4, .int x4), (6, .int s0)]) [1, 2, 3, 0] rfl ?_
    exact uX9_compares_313 hq
  · replace hq := hq.2 c5
    refine x_aload_n 1 dX9_compares_284 rfl ?_
    refine x_get (v := rv (fR h x0 2308)) fdX9_32 dX9_compares_285 g1 rfl ?_
    refine x_iload_n 2 dX9_compares_288 rfl ?_
    obtain ⟨g6, hq⟩ := hq
    obtain ⟨i7, hq⟩ := hq
    refine x_lald g6 i7 dX9_compares_289 ?_
    refine x_aload_n 1 dX9_compares_290 rfl ?_
    refine x_get (v := rv (fR h x0 2308)) fdX9_32 dX9_compares_291 g1 rfl ?_
    refine x_aload_n 1 dX9_compares_294 rfl ?_
    refine x_get (v := .int (fI h x0 2310)) fdX9_86 dX9_compares_295 g1 rfl ?_
    obtain ⟨i8, hq⟩ := hq
    refine x_lald g6 i8 dX9_compares_298 ?_
    refine x_ldc2 (v := (-1)) q2971 dX9_compares_299 ?_
    refine x_lxor dX9_compares_302 ?_
    refine x_land dX9_compares_303 ?_
    refine x_lconst (v := 0) dX9_compares_304 (by decide) ?_
    refine x_lcmp dX9_compares_305 ?_
    refine x_if_ne (tgt := 313) dX9_compares_306 (by decide) (fun c9 => ?_) (fun c9 => ?_)
    · replace hq := hq.1 c9
      refine xP.pick (lv' := [(0, rv x0), (3, .int x3), (4, .int x4), (6, .int s0)]) [1, 2, 3, 0] rfl ?_
      exact uX9_compares_313 hq
    · replace hq := hq.2 c9
      refine x_iconst (v := 1) dX9_compares_309 (by decide) ?_
      refine x_goto (tgt := 314) dX9_compares_310 (by decide) ?_
      refine xP.pick (lv' := [(0, rv x0), (3, .int x3), (4, .int x4), (6, .int s0)]) [1, 2, 3, 0] rfl ?_
      exact uX9_compares_314 hq
set_option maxRecDepth 100000 in
def bX9_compares_256 (G : xG) (fr lo : Nat) (x0 : Nat) (x3 : Int32) (x4 : Int32) (h : xH) (Q : Outcome → xH → Prop) : Prop := bX9_compares_257 G fr lo x0 x3 x4 0 h Q
set_option maxRecDepth 100000 in
theorem uX9_compares_256 {G : xG} {fr lo : Nat} {x0 : Nat} {x3 : Int32} {x4 : Int32} {h : xH} {Q : Outcome → xH → Prop} (hq : bX9_compares_256 G fr lo x0 x3 x4 h Q) : xP G YX9_compares fr lo 256 [(0, rv x0), (3, .int x3), (4, .int x4)] [] h Q := by
  unfold bX9_compares_256 at hq
  refine x_iconst (v := 0) dX9_compares_256 (by decide) ?_
  exact uX9_compares_257 hq
set_option maxRecDepth 100000 in
def bX9_compares_206 (G : xG) (fr lo : Nat) (x0 : Nat) (x3 : Int32) (s0 : Int32) (s1 : Int32) (h : xH) (Q : Outcome → xH → Prop) : Prop := 1 ≤ fr ∧ 13 ≤ lo ∧ xRi G YX9_is (fr - 1) (lo - 13) [.int s1, .int s0] h (fun x4 h3 => xext h h3 → bX9_compares_466 G fr lo x0 x3 x4 h3 Q) (fun r h2 => Q (.threw r) h2)
set_option maxRecDepth 100000 in
theorem uX9_compares_206 {G : xG} {fr lo : Nat} {x0 : Nat} {x3 : Int32} {s0 : Int32} {s1 : Int32} {h : xH} {Q : Outcome → xH → Prop} (hq : bX9_compares_206 G fr lo x0 x3 s0 s1 h Q) : xP G YX9_compares fr lo 206 [(0, rv x0), (3, .int x3)] [.int s0, .int s1] h Q := by
  unfold bX9_compares_206 at hq
  obtain ⟨g1, g2, hq⟩ := hq
  refine x_callS (Yc := YX9_is) (as := [.int s1, .int s0]) (st := []) q2972 msX9_is rfl dX9_compares_206 (xle (xal1 rfl (xal1 rfl xal0)) (by decide)) (xfr g1) (xlo xsw0 (by decide) g2) (xKi hq (fun x4 h3 hq e5 => ?_) (fun _ _ q _ => q))
  replace hq := hq e5
  refine x_istore (lv' := [(5, .int x4), (0, rv x0), (3, .int x3)]) dX9_compares_209 (by decide) rfl ?_
  refine x_goto (tgt := 466) dX9_compares_211 (by decide) ?_
  refine xP.pick (lv' := [(0, rv x0), (3, .int x3), (5, .int x4)]) [1, 2, 0] rfl ?_
  exact uX9_compares_466 hq
set_option maxRecDepth 100000 in
def bX9_compares_172 (G : xG) (fr lo : Nat) (x0 : Nat) (x3 : Int32) (s0 : Int32) (s1 : Int32) (h : xH) (Q : Outcome → xH → Prop) : Prop := 1 ≤ fr ∧ 13 ≤ lo ∧ xRi G YX9_is (fr - 1) (lo - 13) [.int s1, .int s0] h (fun x4 h3 => xext h h3 → bX9_compares_466 G fr lo x0 x3 x4 h3 Q) (fun r h2 => Q (.threw r) h2)
set_option maxRecDepth 100000 in
theorem uX9_compares_172 {G : xG} {fr lo : Nat} {x0 : Nat} {x3 : Int32} {s0 : Int32} {s1 : Int32} {h : xH} {Q : Outcome → xH → Prop} (hq : bX9_compares_172 G fr lo x0 x3 s0 s1 h Q) : xP G YX9_compares fr lo 172 [(0, rv x0), (3, .int x3)] [.int s0, .int s1] h Q := by
  unfold bX9_compares_172 at hq
  obtain ⟨g1, g2, hq⟩ := hq
  refine x_callS (Yc := YX9_is) (as := [.int s1, .int s0]) (st := []) q2972 msX9_is rfl dX9_compares_172 (xle (xal1 rfl (xal1 rfl xal0)) (by decide)) (xfr g1) (xlo xsw0 (by decide) g2) (xKi hq (fun x4 h3 hq e5 => ?_) (fun _ _ q _ => q))
  replace hq := hq e5
  refine x_istore (lv' := [(5, .int x4), (0, rv x0), (3, .int x3)]) dX9_compares_175 (by decide) rfl ?_
  refine x_goto (tgt := 466) dX9_compares_177 (by decide) ?_
  refine xP.pick (lv' := [(0, rv x0), (3, .int x3), (5, .int x4)]) [1, 2, 0] rfl ?_
  exact uX9_compares_466 hq
set_option maxRecDepth 100000 in
def bX9_compares_115 (G : xG) (fr lo : Nat) (x0 : Nat) (x3 : Int32) (s0 : Int32) (s1 : Int32) (h : xH) (Q : Outcome → xH → Prop) : Prop := 1 ≤ fr ∧ 13 ≤ lo ∧ xRi G YX9_is (fr - 1) (lo - 13) [.int s1, .int s0] h (fun x4 h3 => xext h h3 → bX9_compares_466 G fr lo x0 x3 x4 h3 Q) (fun r h2 => Q (.threw r) h2)
set_option maxRecDepth 100000 in
theorem uX9_compares_115 {G : xG} {fr lo : Nat} {x0 : Nat} {x3 : Int32} {s0 : Int32} {s1 : Int32} {h : xH} {Q : Outcome → xH → Prop} (hq : bX9_compares_115 G fr lo x0 x3 s0 s1 h Q) : xP G YX9_compares fr lo 115 [(0, rv x0), (3, .int x3)] [.int s0, .int s1] h Q := by
  unfold bX9_compares_115 at hq
  obtain ⟨g1, g2, hq⟩ := hq
  refine x_callS (Yc := YX9_is) (as := [.int s1, .int s0]) (st := []) q2972 msX9_is rfl dX9_compares_115 (xle (xal1 rfl (xal1 rfl xal0)) (by decide)) (xfr g1) (xlo xsw0 (by decide) g2) (xKi hq (fun x4 h3 hq e5 => ?_) (fun _ _ q _ => q))
  replace hq := hq e5
  refine x_istore (lv' := [(5, .int x4), (0, rv x0), (3, .int x3)]) dX9_compares_118 (by decide) rfl ?_
  refine x_goto (tgt := 466) dX9_compares_120 (by decide) ?_
  refine xP.pick (lv' := [(0, rv x0), (3, .int x3), (5, .int x4)]) [1, 2, 0] rfl ?_
  exact uX9_compares_466 hq
set_option maxRecDepth 100000 in
def bX9_compares (G : xG) (fr lo : Nat) (x0 : Nat) (x1 : Int32) (x2 : Int32) (h : xH) (Q : Outcome → xH → Prop) : Prop := tg h x0 = 10 ∧ tg h (fR h x0 2304) = 3 ∧ tg h (fR h (fR h x0 2304) 513) = 100 ∧ vp_in x2 (ln h (fR h (fR h x0 2304) 513)) ∧ ((x1 = 33 → 1 ≤ fr ∧ 17 ≤ lo ∧ xRv G YX9_ofSets (fr - 1) (lo - 17) [rv x0, .int x1] h (fun h8 => xext h h8 → Q (.returned none) h8) (fun r h2 => Q (.threw r) h2)) ∧ (x1 = 34 → 1 ≤ fr ∧ 17 ≤ lo ∧ xRv G YX9_ofSets (fr - 1) (lo - 17) [rv x0, .int x1] h (fun h14 => xext h h14 → Q (.returned none) h14) (fun r h2 => Q (.threw r) h2)) ∧ (x1 = 35 → tg h (fR h x0 2307) = 101 ∧ vp_in ((fI h x0 2310) - 1) (ln h (fR h x0 2307)) ∧ vp_in (fI h x0 2310) (ln h (fR h x0 2307)) ∧ tg h (fR h (fR h x0 2304) 514) = 100 ∧ vp_in x2 (ln h (fR h (fR h x0 2304) 514)) ∧ tg h (fR h (fR h x0 2304) 516) = 100 ∧ vp_in x2 (ln h (fR h (fR h x0 2304) 516)) ∧ 1 ≤ fr ∧ 18 ≤ lo ∧ xRi G YX9_strings (fr - 1) (lo - 18) [rv x0, .int (Int64.toInt32 (aJ h (fR h x0 2307) (Int32.toNatClampNeg ((fI h x0 2310) - 1)))), .int (Int64.toInt32 (aJ h (fR h x0 2307) (Int32.toNatClampNeg (fI h x0 2310)))), .int (aI h (fR h (fR h x0 2304) 514) (Int32.toNatClampNeg x2)), .int (aI h (fR h (fR h x0 2304) 516) (Int32.toNatClampNeg x2))] h (fun x28 h27 => xext h h27 → 1 ≤ fr ∧ 13 ≤ lo ∧ xRi G YX9_is (fr - 1) (lo - 13) [.int (aI h (fR h (fR h x0 2304) 513) (Int32.toNatClampNeg x2)), .int x28] h27 (fun x33 h32 => xext h27 h32 → bX9_compares_466 G fr lo x0 ((fI h x0 2310) - 1) x33 h32 Q) (fun r h2 => Q (.threw r) h2)) (fun r h2 => Q (.threw r) h2)) ∧ (x1 = 36 → tg h (fR h x0 2307) = 101 ∧ vp_in ((fI h x0 2310) - 1) (ln h (fR h x0 2307)) ∧ vp_in (fI h x0 2310) (ln h (fR h x0 2307)) ∧ ((0 ≤ (lg_cmp (aJ h (fR h x0 2307) (Int32.toNatClampNeg ((fI h x0 2310) - 1))) (aJ h (fR h x0 2307) (Int32.toNatClampNeg (fI h x0 2310)))) → vp_in ((fI h x0 2310) - 1) (ln h (fR h x0 2307)) ∧ vp_in (fI h x0 2310) (ln h (fR h x0 2307)) ∧ (((lg_cmp (aJ h (fR h x0 2307) (Int32.toNatClampNeg ((fI h x0 2310) - 1))) (aJ h (fR h x0 2307) (Int32.toNatClampNeg (fI h x0 2310)))) ≤ 0 → bX9_compares_115 G fr lo x0 ((fI h x0 2310) - 1) 0 (aI h (fR h (fR h x0 2304) 513) (Int32.toNatClampNeg x2)) h Q) ∧ (¬ (lg_cmp (aJ h (fR h x0 2307) (Int32.toNatClampNeg ((fI h x0 2310) - 1))) (aJ h (fR h x0 2307) (Int32.toNatClampNeg (fI h x0 2310)))) ≤ 0 → bX9_compares_115 G fr lo x0 ((fI h x0 2310) - 1) 1 (aI h (fR h (fR h x0 2304) 513) (Int32.toNatClampNeg x2)) h Q))) ∧ (¬ 0 ≤ (lg_cmp (aJ h (fR h x0 2307) (Int32.toNatClampNeg ((fI h x0 2310) - 1))) (aJ h (fR h x0 2307) (Int32.toNatClampNeg (fI h x0 2310)))) → bX9_compares_115 G fr lo x0 ((fI h x0 2310) - 1) (-1) (aI h (fR h (fR h x0 2304) 513) (Int32.toNatClampNeg x2)) h Q))) ∧ (x1 = 37 → tg h (fR h x0 2309) = 102 ∧ vp_in ((fI h x0 2310) - 1) (ln h (fR h x0 2309)) ∧ vp_in (fI h x0 2310) (ln h (fR h x0 2309)) ∧ ((0 ≤ (Op.cmpValue (FP.dcmp (aD h (fR h x0 2309) (Int32.toNatClampNeg ((fI h x0 2310) - 1))) (aD h (fR h x0 2309) (Int32.toNatClampNeg (fI h x0 2310)))) .g) → vp_in ((fI h x0 2310) - 1) (ln h (fR h x0 2309)) ∧ vp_in (fI h x0 2310) (ln h (fR h x0 2309)) ∧ (((Op.cmpValue (FP.dcmp (aD h (fR h x0 2309) (Int32.toNatClampNeg ((fI h x0 2310) - 1))) (aD h (fR h x0 2309) (Int32.toNatClampNeg (fI h x0 2310)))) .l) ≤ 0 → bX9_compares_172 G fr lo x0 ((fI h x0 2310) - 1) 0 (aI h (fR h (fR h x0 2304) 513) (Int32.toNatClampNeg x2)) h Q) ∧ (¬ (Op.cmpValue (FP.dcmp (aD h (fR h x0 2309) (Int32.toNatClampNeg ((fI h x0 2310) - 1))) (aD h (fR h x0 2309) (Int32.toNatClampNeg (fI h x0 2310)))) .l) ≤ 0 → bX9_compares_172 G fr lo x0 ((fI h x0 2310) - 1) 1 (aI h (fR h (fR h x0 2304) 513) (Int32.toNatClampNeg x2)) h Q))) ∧ (¬ 0 ≤ (Op.cmpValue (FP.dcmp (aD h (fR h x0 2309) (Int32.toNatClampNeg ((fI h x0 2310) - 1))) (aD h (fR h x0 2309) (Int32.toNatClampNeg (fI h x0 2310)))) .g) → bX9_compares_172 G fr lo x0 ((fI h x0 2310) - 1) (-1) (aI h (fR h (fR h x0 2304) 513) (Int32.toNatClampNeg x2)) h Q))) ∧ (x1 = 38 → tg h (fR h x0 2307) = 101 ∧ vp_in ((fI h x0 2310) - 1) (ln h (fR h x0 2307)) ∧ vp_in (fI h x0 2310) (ln h (fR h x0 2307)) ∧ ((¬ (lg_cmp (aJ h (fR h x0 2307) (Int32.toNatClampNeg ((fI h x0 2310) - 1))) (aJ h (fR h x0 2307) (Int32.toNatClampNeg (fI h x0 2310)))) = 0 → bX9_compares_256 G fr lo x0 ((fI h x0 2310) - 1) (aI h (fR h (fR h x0 2304) 513) (Int32.toNatClampNeg x2)) h Q) ∧ ((lg_cmp (aJ h (fR h x0 2307) (Int32.toNatClampNeg ((fI h x0 2310) - 1))) (aJ h (fR h x0 2307) (Int32.toNatClampNeg (fI h x0 2310)))) = 0 → tg h (fR h x0 2308) = 101 ∧ vp_in ((fI h x0 2310) - 1) (ln h (fR h x0 2308)) ∧ vp_in (fI h x0 2310) (ln h (fR h x0 2308)) ∧ ((¬ (lg_cmp (aJ h (fR h x0 2308) (Int32.toNatClampNeg ((fI h x0 2310) - 1))) (aJ h (fR h x0 2308) (Int32.toNatClampNeg (fI h x0 2310)))) = 0 → bX9_compares_256 G fr lo x0 ((fI h x0 2310) - 1) (aI h (fR h (fR h x0 2304) 513) (Int32.toNatClampNeg x2)) h Q) ∧ ((lg_cmp (aJ h (fR h x0 2308) (Int32.toNatClampNeg ((fI h x0 2310) - 1))) (aJ h (fR h x0 2308) (Int32.toNatClampNeg (fI h x0 2310)))) = 0 → bX9_compares_257 G fr lo x0 ((fI h x0 2310) - 1) (aI h (fR h (fR h x0 2304) 513) (Int32.toNatClampNeg x2)) 1 h Q))))) ∧ (x1 = 39 → tg h (fR h x0 2307) = 101 ∧ vp_in ((fI h x0 2310) - 1) (ln h (fR h x0 2307)) ∧ vp_in (fI h x0 2310) (ln h (fR h x0 2307)) ∧ ((¬ (lg_cmp (aJ h (fR h x0 2307) (Int32.toNatClampNeg ((fI h x0 2310) - 1))) (aJ h (fR h x0 2307) (Int32.toNatClampNeg (fI h x0 2310)))) = 0 → bX9_compares_206 G fr lo x0 ((fI h x0 2310) - 1) 1 (aI h (fR h (fR h x0 2304) 513) (Int32.toNatClampNeg x2)) h Q) ∧ ((lg_cmp (aJ h (fR h x0 2307) (Int32.toNatClampNeg ((fI h x0 2310) - 1))) (aJ h (fR h x0 2307) (Int32.toNatClampNeg (fI h x0 2310)))) = 0 → bX9_compares_206 G fr lo x0 ((fI h x0 2310) - 1) 0 (aI h (fR h (fR h x0 2304) 513) (Int32.toNatClampNeg x2)) h Q))) ∧ (¬ x1 = 33 → ¬ x1 = 34 → ¬ x1 = 35 → ¬ x1 = 36 → ¬ x1 = 37 → ¬ x1 = 38 → ¬ x1 = 39 → tg h (fR h x0 2307) = 101 ∧ vp_in ((fI h x0 2310) - 1) (ln h (fR h x0 2307)) ∧ vp_in (fI h x0 2310) (ln h (fR h x0 2307)) ∧ tg h (fR h (fR h x0 2304) 514) = 100 ∧ vp_in x2 (ln h (fR h (fR h x0 2304) 514)) ∧ tg h (fR h (fR h x0 2304) 516) = 100 ∧ vp_in x2 (ln h (fR h (fR h x0 2304) 516)) ∧ 1 ≤ fr ∧ 18 ≤ lo ∧ xRi G YX9_strings (fr - 1) (lo - 18) [rv x0, .int (Int64.toInt32 (aJ h (fR h x0 2307) (Int32.toNatClampNeg ((fI h x0 2310) - 1)))), .int (Int64.toInt32 (aJ h (fR h x0 2307) (Int32.toNatClampNeg (fI h x0 2310)))), .int (aI h (fR h (fR h x0 2304) 514) (Int32.toNatClampNeg x2)), .int (aI h (fR h (fR h x0 2304) 516) (Int32.toNatClampNeg x2))] h (fun x75 h74 => xext h h74 → 1 ≤ fr ∧ 13 ≤ lo ∧ xRi G YX9_is (fr - 1) (lo - 13) [.int (aI h (fR h (fR h x0 2304) 513) (Int32.toNatClampNeg x2)), .int x75] h74 (fun x80 h79 => xext h74 h79 → bX9_compares_466 G fr lo x0 ((fI h x0 2310) - 1) x80 h79 Q) (fun r h2 => Q (.threw r) h2)) (fun r h2 => Q (.threw r) h2)))
set_option maxRecDepth 100000 in
theorem uX9_compares {G : xG} {fr lo : Nat} {x0 : Nat} {x1 : Int32} {x2 : Int32} {h : xH} {Q : Outcome → xH → Prop} (hq : bX9_compares G fr lo x0 x1 x2 h Q) : xP G YX9_compares fr lo 0 [(0, rv x0), (1, .int x1), (2, .int x2)] [] h Q := by
  unfold bX9_compares at hq
  refine x_aload_n 0 dX9_compares_0 rfl ?_
  obtain ⟨g1, hq⟩ := hq
  refine x_get (v := .int (fI h x0 2310)) fdX9_86 dX9_compares_1 g1 rfl ?_
  refine x_iconst (v := 1) dX9_compares_4 (by decide) ?_
  refine x_isub dX9_compares_5 ?_
  refine x_istore_n (lv' := [(3, .int ((fI h x0 2310) - 1)), (0, rv x0), (1, .int x1), (2, .int x2)]) dX9_compares_6 (by decide) rfl ?_
  refine x_aload_n 1 dX9_compares_7 rfl ?_
  refine x_get (v := rv (fR h x0 2304)) fdX9_75 dX9_compares_8 g1 rfl ?_
  obtain ⟨g2, hq⟩ := hq
  refine x_getN (v := rv (fR h (fR h x0 2304) 513)) gfX9_201 dX9_compares_11 g2 rfl ?_
  refine x_iload_n 3 dX9_compares_14 rfl ?_
  obtain ⟨g3, hq⟩ := hq
  obtain ⟨i4, hq⟩ := hq
  refine x_iald 0 (Or.inl rfl) g3 i4 dX9_compares_15 ?_
  refine x_istore (lv' := [(4, .int (aI h (fR h (fR h x0 2304) 513) (Int32.toNatClampNeg x2))), (3, .int ((fI h x0 2310) - 1)), (0, rv x0), (1, .int x1), (2, .int x2)]) dX9_compares_16 (by decide) rfl ?_
  refine x_iload_n 3 dX9_compares_18 rfl ?_
  by_cases c5 : x1 = 33
  · replace hq := hq.1 c5
    refine x_tin (tgt := 60) (off := 41) 33 c5 dX9_compares_19 (by decide) (by decide) (by decide) (by decide) ?_
    refine x_aload_n 2 dX9_compares_60 rfl ?_
    refine x_iload_n 3 dX9_compares_61 rfl ?_
    obtain ⟨g6, g7, hq⟩ := hq
    refine x_callV (Yc := YX9_ofSets) (as := [.int x1]) (st := []) q2965 mvX9_ofSets g1 rfl dX9_compares_62 (xle (xal1 (rv_cat _) (xal1 rfl xal0)) (by decide)) (xfr g6) (xlo xsw0 (by decide) g7) (xKv hq (fun h8 hq e10 => ?_) (fun _ _ q _ => q))
    replace hq := hq e10
    exact x_vret rfl dX9_compares_65 hq
  replace hq := hq.2
  by_cases c11 : x1 = 34
  · replace hq := hq.1 c11
    refine x_tin (tgt := 60) (off := 41) 34 c11 dX9_compares_19 (by decide) (by decide) (by decide) (by decide) ?_
    refine x_aload_n 2 dX9_compares_60 rfl ?_
    refine x_iload_n 3 dX9_compares_61 rfl ?_
    obtain ⟨g12, g13, hq⟩ := hq
    refine x_callV (Yc := YX9_ofSets) (as := [.int x1]) (st := []) q2965 mvX9_ofSets g1 rfl dX9_compares_62 (xle (xal1 (rv_cat _) (xal1 rfl xal0)) (by decide)) (xfr g12) (xlo xsw0 (by decide) g13) (xKv hq (fun h14 hq e16 => ?_) (fun _ _ q _ => q))
    replace hq := hq e16
    exact x_vret rfl dX9_compares_65 hq
  replace hq := hq.2
  by_cases c17 : x1 = 35
  · replace hq := hq.1 c17
    refine x_tin (tgt := 420) (off := 401) 35 c17 dX9_compares_19 (by decide) (by decide) (by decide) (by decide) ?_
    refine x_iload 0 dX9_compares_420 rfl ?_
    refine x_aload_n 2 dX9_compares_422 rfl ?_
    refine x_aload_n 2 dX9_compares_423 rfl ?_
    refine x_get (v := rv (fR h x0 2307)) fdX9_28 dX9_compares_424 g1 rfl ?_
    refine x_iload_n 1 dX9_compares_427 rfl ?_
    obtain ⟨g18, hq⟩ := hq
    obtain ⟨i19, hq⟩ := hq
    refine x_lald g18 i19 dX9_compares_428 ?_
    refine x_l2i dX9_compares_429 ?_
    refine x_aload_n 2 dX9_compares_430 rfl ?_
    refine x_get (v := rv (fR h x0 2307)) fdX9_28 dX9_compares_431 g1 rfl ?_
    refine x_aload_n 2 dX9_compares_434 rfl ?_
    refine x_get (v := .int (fI h x0 2310)) fdX9_86 dX9_compares_435 g1 rfl ?_
    obtain ⟨i20, hq⟩ := hq
    refine x_lald g18 i20 dX9_compares_438 ?_
    refine x_l2i dX9_compares_439 ?_
    refine x_aload_n 2 dX9_compares_440 rfl ?_
    refine x_get (v := rv (fR h x0 2304)) fdX9_75 dX9_compares_441 g1 rfl ?_
    refine x_getN (v := rv (fR h (fR h x0 2304) 514)) gfX9_204 dX9_compares_444 g2 rfl ?_
    refine x_iload_n 4 dX9_compares_447 rfl ?_
    obtain ⟨g21, hq⟩ := hq
    obtain ⟨i22, hq⟩ := hq
    refine x_iald 0 (Or.inl rfl) g21 i22 dX9_compares_448 ?_
    refine x_aload_n 2 dX9_compares_449 rfl ?_
    refine x_get (v := rv (fR h x0 2304)) fdX9_75 dX9_compares_450 g1 rfl ?_
    refine x_getN (v := rv (fR h (fR h x0 2304) 516)) gfX9_222 dX9_compares_453 g2 rfl ?_
    refine x_iload_n 4 dX9_compares_456 rfl ?_
    obtain ⟨g23, hq⟩ := hq
    obtain ⟨i24, hq⟩ := hq
    refine x_iald 0 (Or.inl rfl) g23 i24 dX9_compares_457 ?_
    obtain ⟨g25, g26, hq⟩ := hq
    refine x_callV (Yc := YX9_strings) (as := [.int (Int64.toInt32 (aJ h (fR h x0 2307) (Int32.toNatClampNeg ((fI h x0 2310) - 1)))), .int (Int64.toInt32 (aJ h (fR h x0 2307) (Int32.toNatClampNeg (fI h x0 2310)))), .int (aI h (fR h (fR h x0 2304) 514) (Int32.toNatClampNeg x2)), .int (aI h (fR h (fR h x0 2304) 516) (Int32.toNatClampNeg x2))]) (st := [.int (aI h (fR h (fR h x0 2304) 513) (Int32.toNatClampNeg x2))]) q2975 mvX9_strings g1 rfl dX9_compares_458 (xle (xal1 (rv_cat _) (xal1 rfl (xal1 rfl (xal1 rfl (xal1 rfl xal0))))) (by decide)) (xfr g25) (xlo (xsw1 rfl xsw0) (by decide) g26) (xKi hq (fun x28 h27 hq e29 => ?_) (fun _ _ q _ => q))
    replace hq := hq e29
    obtain ⟨g30, g31, hq⟩ := hq
    refine x_callS (Yc := YX9_is) (as := [.int (aI h (fR h (fR h x0 2304) 513) (Int32.toNatClampNeg x2)), .int x28]) (st := []) q2972 msX9_is rfl dX9_compares_461 (xle (xal1 rfl (xal1 rfl xal0)) (by decide)) (xfr g30) (xlo xsw0 (by decide) g31) (xKi hq (fun x33 h32 hq e34 => ?_) (fun _ _ q _ => q))
    replace hq := hq e34
    refine x_istore (lv' := [(5, .int x33), (4, .int (aI h (fR h (fR h x0 2304) 513) (Int32.toNatClampNeg x2))), (3, .int ((fI h x0 2310) - 1)), (0, rv x0), (1, .int x1), (2, .int x2)]) dX9_compares_464 (by decide) rfl ?_
    refine xP.pick (lv' := [(0, rv x0), (3, .int ((fI h x0 2310) - 1)), (5, .int x33)]) [3, 2, 0] rfl ?_
    exact uX9_compares_466 hq
  replace hq := hq.2
  by_cases c35 : x1 = 36
  · replace hq := hq.1 c35
    refine x_tin (tgt := 66) (off := 47) 36 c35 dX9_compares_19 (by decide) (by decide) (by decide) (by decide) ?_
    refine x_iload 0 dX9_compares_66 rfl ?_
    refine x_aload_n 2 dX9_compares_68 rfl ?_
    refine x_get (v := rv (fR h x0 2307)) fdX9_28 dX9_compares_69 g1 rfl ?_
    refine x_iload_n 1 dX9_compares_72 rfl ?_
    obtain ⟨g36, hq⟩ := hq
    obtain ⟨i37, hq⟩ := hq
    refine x_lald g36 i37 dX9_compares_73 ?_
    refine x_aload_n 2 dX9_compares_74 rfl ?_
    refine x_get (v := rv (fR h x0 2307)) fdX9_28 dX9_compares_75 g1 rfl ?_
    refine x_aload_n 2 dX9_compares_78 rfl ?_
    refine x_get (v := .int (fI h x0 2310)) fdX9_86 dX9_compares_79 g1 rfl ?_
    obtain ⟨i38, hq⟩ := hq
    refine x_lald g36 i38 dX9_compares_82 ?_
    refine x_lcmp dX9_compares_83 ?_
    refine x_if_ge (tgt := 91) dX9_compares_84 (by decide) (fun c39 => ?_) (fun c39 => ?_)
    · replace hq := hq.1 c39
      refine x_aload_n 2 dX9_compares_91 rfl ?_
      refine x_get (v := rv (fR h x0 2307)) fdX9_28 dX9_compares_92 g1 rfl ?_
      refine x_iload_n 1 dX9_compares_95 rfl ?_
      obtain ⟨i40, hq⟩ := hq
      refine x_lald g36 i40 dX9_compares_96 ?_
      refine x_aload_n 2 dX9_compares_97 rfl ?_
      refine x_get (v := rv (fR h x0 2307)) fdX9_28 dX9_compares_98 g1 rfl ?_
      refine x_aload_n 2 dX9_compares_101 rfl ?_
      refine x_get (v := .int (fI h x0 2310)) fdX9_86 dX9_compares_102 g1 rfl ?_
      obtain ⟨i41, hq⟩ := hq
      refine x_lald g36 i41 dX9_compares_105 ?_
      refine x_lcmp dX9_compares_106 ?_
      refine x_if_le (tgt := 114) dX9_compares_107 (by decide) (fun c42 => ?_) (fun c42 => ?_)
      · replace hq := hq.1 c42
        refine x_iconst (v := 0) dX9_compares_114 (by decide) ?_
        refine xP.pick (lv' := [(0, rv x0), (3, .int ((fI h x0 2310) - 1))]) [2, 1] rfl ?_
        exact uX9_compares_115 hq
      · replace hq := hq.2 c42
        refine x_iconst (v := 1) dX9_compares_110 (by decide) ?_
        refine x_goto (tgt := 115) dX9_compares_111 (by decide) ?_
        refine xP.pick (lv' := [(0, rv x0), (3, .int ((fI h x0 2310) - 1))]) [2, 1] rfl ?_
        exact uX9_compares_115 hq
    · replace hq := hq.2 c39
      refine x_iconst (v := (-1)) dX9_compares_87 (by decide) ?_
      refine x_goto (tgt := 115) dX9_compares_88 (by decide) ?_
      refine xP.pick (lv' := [(0, rv x0), (3, .int ((fI h x0 2310) - 1))]) [2, 1] rfl ?_
      exact uX9_compares_115 hq
  replace hq := hq.2
  by_cases c43 : x1 = 37
  · replace hq := hq.1 c43
    refine x_tin (tgt := 123) (off := 104) 37 c43 dX9_compares_19 (by decide) (by decide) (by decide) (by decide) ?_
    refine x_iload 0 dX9_compares_123 rfl ?_
    refine x_aload_n 2 dX9_compares_125 rfl ?_
    refine x_get (v := rv (fR h x0 2309)) fdX9_35 dX9_compares_126 g1 rfl ?_
    refine x_iload_n 1 dX9_compares_129 rfl ?_
    obtain ⟨g44, hq⟩ := hq
    obtain ⟨i45, hq⟩ := hq
    refine x_dald g44 i45 dX9_compares_130 ?_
    refine x_aload_n 2 dX9_compares_131 rfl ?_
    refine x_get (v := rv (fR h x0 2309)) fdX9_35 dX9_compares_132 g1 rfl ?_
    refine x_aload_n 2 dX9_compares_135 rfl ?_
    refine x_get (v := .int (fI h x0 2310)) fdX9_86 dX9_compares_136 g1 rfl ?_
    obtain ⟨i46, hq⟩ := hq
    refine x_dald g44 i46 dX9_compares_139 ?_
    refine x_dcmp dX9_compares_140 ?_
    refine x_if_ge (tgt := 148) dX9_compares_141 (by decide) (fun c47 => ?_) (fun c47 => ?_)
    · replace hq := hq.1 c47
      refine x_aload_n 2 dX9_compares_148 rfl ?_
      refine x_get (v := rv (fR h x0 2309)) fdX9_35 dX9_compares_149 g1 rfl ?_
      refine x_iload_n 1 dX9_compares_152 rfl ?_
      obtain ⟨i48, hq⟩ := hq
      refine x_dald g44 i48 dX9_compares_153 ?_
      refine x_aload_n 2 dX9_compares_154 rfl ?_
      refine x_get (v := rv (fR h x0 2309)) fdX9_35 dX9_compares_155 g1 rfl ?_
      refine x_aload_n 2 dX9_compares_158 rfl ?_
      refine x_get (v := .int (fI h x0 2310)) fdX9_86 dX9_compares_159 g1 rfl ?_
      obtain ⟨i49, hq⟩ := hq
      refine x_dald g44 i49 dX9_compares_162 ?_
      refine x_dcmp dX9_compares_163 ?_
      refine x_if_le (tgt := 171) dX9_compares_164 (by decide) (fun c50 => ?_) (fun c50 => ?_)
      · replace hq := hq.1 c50
        refine x_iconst (v := 0) dX9_compares_171 (by decide) ?_
        refine xP.pick (lv' := [(0, rv x0), (3, .int ((fI h x0 2310) - 1))]) [2, 1] rfl ?_
        exact uX9_compares_172 hq
      · replace hq := hq.2 c50
        refine x_iconst (v := 1) dX9_compares_167 (by decide) ?_
        refine x_goto (tgt := 172) dX9_compares_168 (by decide) ?_
        refine xP.pick (lv' := [(0, rv x0), (3, .int ((fI h x0 2310) - 1))]) [2, 1] rfl ?_
        exact uX9_compares_172 hq
    · replace hq := hq.2 c47
      refine x_iconst (v := (-1)) dX9_compares_144 (by decide) ?_
      refine x_goto (tgt := 172) dX9_compares_145 (by decide) ?_
      refine xP.pick (lv' := [(0, rv x0), (3, .int ((fI h x0 2310) - 1))]) [2, 1] rfl ?_
      exact uX9_compares_172 hq
  replace hq := hq.2
  by_cases c51 : x1 = 38
  · replace hq := hq.1 c51
    refine x_tin (tgt := 214) (off := 195) 38 c51 dX9_compares_19 (by decide) (by decide) (by decide) (by decide) ?_
    refine x_aload_n 2 dX9_compares_214 rfl ?_
    refine x_get (v := rv (fR h x0 2307)) fdX9_28 dX9_compares_215 g1 rfl ?_
    refine x_iload_n 1 dX9_compares_218 rfl ?_
    obtain ⟨g52, hq⟩ := hq
    obtain ⟨i53, hq⟩ := hq
    refine x_lald g52 i53 dX9_compares_219 ?_
    refine x_aload_n 2 dX9_compares_220 rfl ?_
    refine x_get (v := rv (fR h x0 2307)) fdX9_28 dX9_compares_221 g1 rfl ?_
    refine x_aload_n 2 dX9_compares_224 rfl ?_
    refine x_get (v := .int (fI h x0 2310)) fdX9_86 dX9_compares_225 g1 rfl ?_
    obtain ⟨i54, hq⟩ := hq
    refine x_lald g52 i54 dX9_compares_228 ?_
    refine x_lcmp dX9_compares_229 ?_
    refine x_if_ne (tgt := 256) dX9_compares_230 (by decide) (fun c55 => ?_) (fun c55 => ?_)
    · replace hq := hq.1 c55
      refine xP.pick (lv' := [(0, rv x0), (3, .int ((fI h x0 2310) - 1)), (4, .int (aI h (fR h (fR h x0 2304) 513) (Int32.toNatClampNeg x2)))]) [2, 1, 0] rfl ?_
      exact uX9_compares_256 hq
    · replace hq := hq.2 c55
      refine x_aload_n 2 dX9_compares_233 rfl ?_
      refine x_get (v := rv (fR h x0 2308)) fdX9_32 dX9_compares_234 g1 rfl ?_
      refine x_iload_n 1 dX9_compares_237 rfl ?_
      obtain ⟨g56, hq⟩ := hq
      obtain ⟨i57, hq⟩ := hq
      refine x_lald g56 i57 dX9_compares_238 ?_
      refine x_aload_n 2 dX9_compares_239 rfl ?_
      refine x_get (v := rv (fR h x0 2308)) fdX9_32 dX9_compares_240 g1 rfl ?_
      refine x_aload_n 2 dX9_compares_243 rfl ?_
      refine x_get (v := .int (fI h x0 2310)) fdX9_86 dX9_compares_244 g1 rfl ?_
      obtain ⟨i58, hq⟩ := hq
      refine x_lald g56 i58 dX9_compares_247 ?_
      refine x_lcmp dX9_compares_248 ?_
      refine x_if_ne (tgt := 256) dX9_compares_249 (by decide) (fun c59 => ?_) (fun c59 => ?_)
      · replace hq := hq.1 c59
        refine xP.pick (lv' := [(0, rv x0), (3, .int ((fI h x0 2310) - 1)), (4, .int (aI h (fR h (fR h x0 2304) 513) (Int32.toNatClampNeg x2)))]) [2, 1, 0] rfl ?_
        exact uX9_compares_256 hq
      · replace hq := hq.2 c59
        refine x_iconst (v := 1) dX9_compares_252 (by decide) ?_
        refine x_goto (tgt := 257) dX9_compares_253 (by decide) ?_
        refine xP.pick (lv' := [(0, rv x0), (3, .int ((fI h x0 2310) - 1)), (4, .int (aI h (fR h (fR h x0 2304) 513) (Int32.toNatClampNeg x2)))]) [2, 1, 0] rfl ?_
        exact uX9_compares_257 hq
  replace hq := hq.2
  by_cases c60 : x1 = 39
  · replace hq := hq.1 c60
    refine x_tin (tgt := 180) (off := 161) 39 c60 dX9_compares_19 (by decide) (by decide) (by decide) (by decide) ?_
    refine x_iload 0 dX9_compares_180 rfl ?_
    refine x_aload_n 2 dX9_compares_182 rfl ?_
    refine x_get (v := rv (fR h x0 2307)) fdX9_28 dX9_compares_183 g1 rfl ?_
    refine x_iload_n 1 dX9_compares_186 rfl ?_
    obtain ⟨g61, hq⟩ := hq
    obtain ⟨i62, hq⟩ := hq
    refine x_lald g61 i62 dX9_compares_187 ?_
    refine x_aload_n 2 dX9_compares_188 rfl ?_
    refine x_get (v := rv (fR h x0 2307)) fdX9_28 dX9_compares_189 g1 rfl ?_
    refine x_aload_n 2 dX9_compares_192 rfl ?_
    refine x_get (v := .int (fI h x0 2310)) fdX9_86 dX9_compares_193 g1 rfl ?_
    obtain ⟨i63, hq⟩ := hq
    refine x_lald g61 i63 dX9_compares_196 ?_
    refine x_lcmp dX9_compares_197 ?_
    refine x_if_ne (tgt := 205) dX9_compares_198 (by decide) (fun c64 => ?_) (fun c64 => ?_)
    · replace hq := hq.1 c64
      refine x_iconst (v := 1) dX9_compares_205 (by decide) ?_
      refine xP.pick (lv' := [(0, rv x0), (3, .int ((fI h x0 2310) - 1))]) [2, 1] rfl ?_
      exact uX9_compares_206 hq
    · replace hq := hq.2 c64
      refine x_iconst (v := 0) dX9_compares_201 (by decide) ?_
      refine x_goto (tgt := 206) dX9_compares_202 (by decide) ?_
      refine xP.pick (lv' := [(0, rv x0), (3, .int ((fI h x0 2310) - 1))]) [2, 1] rfl ?_
      exact uX9_compares_206 hq
  replace hq := hq.2
  replace hq := hq c5 c11 c17 c35 c43 c51 c60
  have nc5 := lv_neT c5 (show (33 : Int32).toInt = 33 from by decide)
  have nc11 := lv_neT c11 (show (34 : Int32).toInt = 34 from by decide)
  have nc17 := lv_neT c17 (show (35 : Int32).toInt = 35 from by decide)
  have nc35 := lv_neT c35 (show (36 : Int32).toInt = 36 from by decide)
  have nc43 := lv_neT c43 (show (37 : Int32).toInt = 37 from by decide)
  have nc51 := lv_neT c51 (show (38 : Int32).toInt = 38 from by decide)
  have nc60 := lv_neT c60 (show (39 : Int32).toInt = 39 from by decide)
  refine x_tout (tgt := 420) dX9_compares_19 (by omega) (by decide) ?_
  refine x_iload 0 dX9_compares_420 rfl ?_
  refine x_aload_n 2 dX9_compares_422 rfl ?_
  refine x_aload_n 2 dX9_compares_423 rfl ?_
  refine x_get (v := rv (fR h x0 2307)) fdX9_28 dX9_compares_424 g1 rfl ?_
  refine x_iload_n 1 dX9_compares_427 rfl ?_
  obtain ⟨g65, hq⟩ := hq
  obtain ⟨i66, hq⟩ := hq
  refine x_lald g65 i66 dX9_compares_428 ?_
  refine x_l2i dX9_compares_429 ?_
  refine x_aload_n 2 dX9_compares_430 rfl ?_
  refine x_get (v := rv (fR h x0 2307)) fdX9_28 dX9_compares_431 g1 rfl ?_
  refine x_aload_n 2 dX9_compares_434 rfl ?_
  refine x_get (v := .int (fI h x0 2310)) fdX9_86 dX9_compares_435 g1 rfl ?_
  obtain ⟨i67, hq⟩ := hq
  refine x_lald g65 i67 dX9_compares_438 ?_
  refine x_l2i dX9_compares_439 ?_
  refine x_aload_n 2 dX9_compares_440 rfl ?_
  refine x_get (v := rv (fR h x0 2304)) fdX9_75 dX9_compares_441 g1 rfl ?_
  refine x_getN (v := rv (fR h (fR h x0 2304) 514)) gfX9_204 dX9_compares_444 g2 rfl ?_
  refine x_iload_n 4 dX9_compares_447 rfl ?_
  obtain ⟨g68, hq⟩ := hq
  obtain ⟨i69, hq⟩ := hq
  refine x_iald 0 (Or.inl rfl) g68 i69 dX9_compares_448 ?_
  refine x_aload_n 2 dX9_compares_449 rfl ?_
  refine x_get (v := rv (fR h x0 2304)) fdX9_75 dX9_compares_450 g1 rfl ?_
  refine x_getN (v := rv (fR h (fR h x0 2304) 516)) gfX9_222 dX9_compares_453 g2 rfl ?_
  refine x_iload_n 4 dX9_compares_456 rfl ?_
  obtain ⟨g70, hq⟩ := hq
  obtain ⟨i71, hq⟩ := hq
  refine x_iald 0 (Or.inl rfl) g70 i71 dX9_compares_457 ?_
  obtain ⟨g72, g73, hq⟩ := hq
  refine x_callV (Yc := YX9_strings) (as := [.int (Int64.toInt32 (aJ h (fR h x0 2307) (Int32.toNatClampNeg ((fI h x0 2310) - 1)))), .int (Int64.toInt32 (aJ h (fR h x0 2307) (Int32.toNatClampNeg (fI h x0 2310)))), .int (aI h (fR h (fR h x0 2304) 514) (Int32.toNatClampNeg x2)), .int (aI h (fR h (fR h x0 2304) 516) (Int32.toNatClampNeg x2))]) (st := [.int (aI h (fR h (fR h x0 2304) 513) (Int32.toNatClampNeg x2))]) q2975 mvX9_strings g1 rfl dX9_compares_458 (xle (xal1 (rv_cat _) (xal1 rfl (xal1 rfl (xal1 rfl (xal1 rfl xal0))))) (by decide)) (xfr g72) (xlo (xsw1 rfl xsw0) (by decide) g73) (xKi hq (fun x75 h74 hq e76 => ?_) (fun _ _ q _ => q))
  replace hq := hq e76
  obtain ⟨g77, g78, hq⟩ := hq
  refine x_callS (Yc := YX9_is) (as := [.int (aI h (fR h (fR h x0 2304) 513) (Int32.toNatClampNeg x2)), .int x75]) (st := []) q2972 msX9_is rfl dX9_compares_461 (xle (xal1 rfl (xal1 rfl xal0)) (by decide)) (xfr g77) (xlo xsw0 (by decide) g78) (xKi hq (fun x80 h79 hq e81 => ?_) (fun _ _ q _ => q))
  replace hq := hq e81
  refine x_istore (lv' := [(5, .int x80), (4, .int (aI h (fR h (fR h x0 2304) 513) (Int32.toNatClampNeg x2))), (3, .int ((fI h x0 2310) - 1)), (0, rv x0), (1, .int x1), (2, .int x2)]) dX9_compares_464 (by decide) rfl ?_
  refine xP.pick (lv' := [(0, rv x0), (3, .int ((fI h x0 2310) - 1)), (5, .int x80)]) [3, 2, 0] rfl ?_
  exact uX9_compares_466 hq
theorem rX9_compares {G : xG} {fr lo : Nat} {x0 : Nat} {x1 : Int32} {x2 : Int32} {h : xH} {Q : Outcome → xH → Prop} (hq : bX9_compares G fr lo x0 x1 x2 h Q) : xR G YX9_compares fr lo [rv x0, .int x1, .int x2] h Q := by
  show xP _ _ _ _ _ (lv_args 0 _) _ _ _
  rw [show lv_args 0 [rv x0, .int x1, .int x2] = [(0, rv x0), (1, .int x1), (2, .int x2)] from (xla1 (rv_cat _) (xla1 rfl (xla1 rfl xla0)))]
  exact uX9_compares hq
set_option maxRecDepth 100000 in
theorem dX9_ofSets_0 : decode cX9_ofSets 0 = .ok (.aload_n 0, 1) := by decide +kernel
set_option maxRecDepth 100000 in
theorem dX9_ofSets_1 : decode cX9_ofSets 1 = .ok (.getfield 86, 3) := by decide +kernel
set_option maxRecDepth 100000 in
theorem dX9_ofSets_4 : decode cX9_ofSets 4 = .ok (.iconst 1, 1) := by decide +kernel
set_option maxRecDepth 100000 in
theorem dX9_ofSets_5 : decode cX9_ofSets 5 = .ok (.isub, 1) := by decide +kernel
set_option maxRecDepth 100000 in
theorem dX9_ofSets_6 : decode cX9_ofSets 6 = .ok (.istore_n 2, 1) := by decide +kernel
set_option maxRecDepth 100000 in
theorem dX9_ofSets_7 : decode cX9_ofSets 7 = .ok (.iload_n 1, 1) := by decide +kernel
set_option maxRecDepth 100000 in
theorem dX9_ofSets_8 : decode cX9_ofSets 8 = .ok (.tableswitch 305 33 46 #[263, 284, 305, 305, 305, 305, 305, 305, 72, 305, 305, 305, 185, 224], 72) := by decide +kernel
set_option maxRecDepth 100000 in
theorem dX9_ofSets_80 : decode cX9_ofSets 80 = .ok (.aload_n 0, 1) := by decide +kernel
set_option maxRecDepth 100000 in
theorem dX9_ofSets_81 : decode cX9_ofSets 81 = .ok (.getfield 28, 3) := by decide +kernel
set_option maxRecDepth 100000 in
theorem dX9_ofSets_84 : decode cX9_ofSets 84 = .ok (.iload_n 2, 1) := by decide +kernel
set_option maxRecDepth 100000 in
theorem dX9_ofSets_85 : decode cX9_ofSets 85 = .ok (.laload, 1) := by decide +kernel
set_option maxRecDepth 100000 in
theorem dX9_ofSets_86 : decode cX9_ofSets 86 = .ok (.lstore_n 3, 1) := by decide +kernel
set_option maxRecDepth 100000 in
theorem dX9_ofSets_87 : decode cX9_ofSets 87 = .ok (.lload_n 3, 1) := by decide +kernel
set_option maxRecDepth 100000 in
theorem dX9_ofSets_88 : decode cX9_ofSets 88 = .ok (.lconst 0, 1) := by decide +kernel
set_option maxRecDepth 100000 in
theorem dX9_ofSets_89 : decode cX9_ofSets 89 = .ok (.lcmp, 1) := by decide +kernel
set_option maxRecDepth 100000 in
theorem dX9_ofSets_90 : decode cX9_ofSets 90 = .ok (.ifCond .lt 38, 3) := by decide +kernel
set_option maxRecDepth 100000 in
theorem dX9_ofSets_93 : decode cX9_ofSets 93 = .ok (.lload_n 3, 1) := by decide +kernel
set_option maxRecDepth 100000 in
theorem dX9_ofSets_94 : decode cX9_ofSets 94 = .ok (.ldc2_w 320, 3) := by decide +kernel
set_option maxRecDepth 100000 in
theorem dX9_ofSets_97 : decode cX9_ofSets 97 = .ok (.lcmp, 1) := by decide +kernel
set_option maxRecDepth 100000 in
theorem dX9_ofSets_98 : decode cX9_ofSets 98 = .ok (.ifCond .ge 30, 3) := by decide +kernel
set_option maxRecDepth 100000 in
theorem dX9_ofSets_101 : decode cX9_ofSets 101 = .ok (.aload_n 0, 1) := by decide +kernel
set_option maxRecDepth 100000 in
theorem dX9_ofSets_102 : decode cX9_ofSets 102 = .ok (.getfield 28, 3) := by decide +kernel
set_option maxRecDepth 100000 in
theorem dX9_ofSets_105 : decode cX9_ofSets 105 = .ok (.aload_n 0, 1) := by decide +kernel
set_option maxRecDepth 100000 in
theorem dX9_ofSets_106 : decode cX9_ofSets 106 = .ok (.getfield 86, 3) := by decide +kernel
set_option maxRecDepth 100000 in
theorem dX9_ofSets_109 : decode cX9_ofSets 109 = .ok (.laload, 1) := by decide +kernel
set_option maxRecDepth 100000 in
theorem dX9_ofSets_110 : decode cX9_ofSets 110 = .ok (.lload_n 3, 1) := by decide +kernel
set_option maxRecDepth 100000 in
theorem dX9_ofSets_111 : decode cX9_ofSets 111 = .ok (.l2i, 1) := by decide +kernel
set_option maxRecDepth 100000 in
theorem dX9_ofSets_112 : decode cX9_ofSets 112 = .ok (.lshr, 1) := by decide +kernel
set_option maxRecDepth 100000 in
theorem dX9_ofSets_113 : decode cX9_ofSets 113 = .ok (.lconst 1, 1) := by decide +kernel
set_option maxRecDepth 100000 in
theorem dX9_ofSets_114 : decode cX9_ofSets 114 = .ok (.land, 1) := by decide +kernel
set_option maxRecDepth 100000 in
theorem dX9_ofSets_115 : decode cX9_ofSets 115 = .ok (.lconst 1, 1) := by decide +kernel
set_option maxRecDepth 100000 in
theorem dX9_ofSets_116 : decode cX9_ofSets 116 = .ok (.lcmp, 1) := by decide +kernel
set_option maxRecDepth 100000 in
theorem dX9_ofSets_117 : decode cX9_ofSets 117 = .ok (.ifCond .ne 7, 3) := by decide +kernel
set_option maxRecDepth 100000 in
theorem dX9_ofSets_120 : decode cX9_ofSets 120 = .ok (.iconst 1, 1) := by decide +kernel
set_option maxRecDepth 100000 in
theorem dX9_ofSets_121 : decode cX9_ofSets 121 = .ok (.goto 51, 3) := by decide +kernel
set_option maxRecDepth 100000 in
theorem dX9_ofSets_124 : decode cX9_ofSets 124 = .ok (.iconst 0, 1) := by decide +kernel
set_option maxRecDepth 100000 in
theorem dX9_ofSets_125 : decode cX9_ofSets 125 = .ok (.goto 47, 3) := by decide +kernel
set_option maxRecDepth 100000 in
theorem dX9_ofSets_128 : decode cX9_ofSets 128 = .ok (.lload_n 3, 1) := by decide +kernel
set_option maxRecDepth 100000 in
theorem dX9_ofSets_129 : decode cX9_ofSets 129 = .ok (.ldc2_w 320, 3) := by decide +kernel
set_option maxRecDepth 100000 in
theorem dX9_ofSets_132 : decode cX9_ofSets 132 = .ok (.lcmp, 1) := by decide +kernel
set_option maxRecDepth 100000 in
theorem dX9_ofSets_133 : decode cX9_ofSets 133 = .ok (.ifCond .lt 38, 3) := by decide +kernel
set_option maxRecDepth 100000 in
theorem dX9_ofSets_136 : decode cX9_ofSets 136 = .ok (.lload_n 3, 1) := by decide +kernel
set_option maxRecDepth 100000 in
theorem dX9_ofSets_137 : decode cX9_ofSets 137 = .ok (.ldc2_w 322, 3) := by decide +kernel
set_option maxRecDepth 100000 in
theorem dX9_ofSets_140 : decode cX9_ofSets 140 = .ok (.lcmp, 1) := by decide +kernel
set_option maxRecDepth 100000 in
theorem dX9_ofSets_141 : decode cX9_ofSets 141 = .ok (.ifCond .ge 30, 3) := by decide +kernel
set_option maxRecDepth 100000 in
theorem dX9_ofSets_144 : decode cX9_ofSets 144 = .ok (.aload_n 0, 1) := by decide +kernel
set_option maxRecDepth 100000 in
theorem dX9_ofSets_145 : decode cX9_ofSets 145 = .ok (.getfield 32, 3) := by decide +kernel
set_option maxRecDepth 100000 in
theorem dX9_ofSets_148 : decode cX9_ofSets 148 = .ok (.aload_n 0, 1) := by decide +kernel
set_option maxRecDepth 100000 in
theorem dX9_ofSets_149 : decode cX9_ofSets 149 = .ok (.getfield 86, 3) := by decide +kernel
set_option maxRecDepth 100000 in
theorem dX9_ofSets_152 : decode cX9_ofSets 152 = .ok (.laload, 1) := by decide +kernel
set_option maxRecDepth 100000 in
theorem dX9_ofSets_153 : decode cX9_ofSets 153 = .ok (.lload_n 3, 1) := by decide +kernel
set_option maxRecDepth 100000 in
theorem dX9_ofSets_154 : decode cX9_ofSets 154 = .ok (.ldc2_w 320, 3) := by decide +kernel
set_option maxRecDepth 100000 in
theorem dX9_ofSets_157 : decode cX9_ofSets 157 = .ok (.lsub, 1) := by decide +kernel
set_option maxRecDepth 100000 in
theorem dX9_ofSets_158 : decode cX9_ofSets 158 = .ok (.l2i, 1) := by decide +kernel
set_option maxRecDepth 100000 in
theorem dX9_ofSets_159 : decode cX9_ofSets 159 = .ok (.lshr, 1) := by decide +kernel
set_option maxRecDepth 100000 in
theorem dX9_ofSets_160 : decode cX9_ofSets 160 = .ok (.lconst 1, 1) := by decide +kernel
set_option maxRecDepth 100000 in
theorem dX9_ofSets_161 : decode cX9_ofSets 161 = .ok (.land, 1) := by decide +kernel
set_option maxRecDepth 100000 in
theorem dX9_ofSets_162 : decode cX9_ofSets 162 = .ok (.lconst 1, 1) := by decide +kernel
set_option maxRecDepth 100000 in
theorem dX9_ofSets_163 : decode cX9_ofSets 163 = .ok (.lcmp, 1) := by decide +kernel
set_option maxRecDepth 100000 in
theorem dX9_ofSets_164 : decode cX9_ofSets 164 = .ok (.ifCond .ne 7, 3) := by decide +kernel
set_option maxRecDepth 100000 in
theorem dX9_ofSets_167 : decode cX9_ofSets 167 = .ok (.iconst 1, 1) := by decide +kernel
set_option maxRecDepth 100000 in
theorem dX9_ofSets_168 : decode cX9_ofSets 168 = .ok (.goto 4, 3) := by decide +kernel
set_option maxRecDepth 100000 in
theorem dX9_ofSets_171 : decode cX9_ofSets 171 = .ok (.iconst 0, 1) := by decide +kernel
set_option maxRecDepth 100000 in
theorem dX9_ofSets_172 : decode cX9_ofSets 172 = .ok (.istore 5, 2) := by decide +kernel
set_option maxRecDepth 100000 in
theorem dX9_ofSets_174 : decode cX9_ofSets 174 = .ok (.aload_n 0, 1) := by decide +kernel
set_option maxRecDepth 100000 in
theorem dX9_ofSets_175 : decode cX9_ofSets 175 = .ok (.getfield 28, 3) := by decide +kernel
set_option maxRecDepth 100000 in
theorem dX9_ofSets_178 : decode cX9_ofSets 178 = .ok (.iload_n 2, 1) := by decide +kernel
set_option maxRecDepth 100000 in
theorem dX9_ofSets_179 : decode cX9_ofSets 179 = .ok (.iload 5, 2) := by decide +kernel
set_option maxRecDepth 100000 in
theorem dX9_ofSets_181 : decode cX9_ofSets 181 = .ok (.ifCond .eq 7, 3) := by decide +kernel
set_option maxRecDepth 100000 in
theorem dX9_ofSets_184 : decode cX9_ofSets 184 = .ok (.lconst 1, 1) := by decide +kernel
set_option maxRecDepth 100000 in
theorem dX9_ofSets_185 : decode cX9_ofSets 185 = .ok (.goto 4, 3) := by decide +kernel
set_option maxRecDepth 100000 in
theorem dX9_ofSets_188 : decode cX9_ofSets 188 = .ok (.lconst 0, 1) := by decide +kernel
set_option maxRecDepth 100000 in
theorem dX9_ofSets_189 : decode cX9_ofSets 189 = .ok (.lastore, 1) := by decide +kernel
set_option maxRecDepth 100000 in
theorem dX9_ofSets_190 : decode cX9_ofSets 190 = .ok (.goto 167, 3) := by decide +kernel
set_option maxRecDepth 100000 in
theorem dX9_ofSets_193 : decode cX9_ofSets 193 = .ok (.aload_n 0, 1) := by decide +kernel
set_option maxRecDepth 100000 in
theorem dX9_ofSets_194 : decode cX9_ofSets 194 = .ok (.getfield 28, 3) := by decide +kernel
set_option maxRecDepth 100000 in
theorem dX9_ofSets_197 : decode cX9_ofSets 197 = .ok (.iload_n 2, 1) := by decide +kernel
set_option maxRecDepth 100000 in
theorem dX9_ofSets_198 : decode cX9_ofSets 198 = .ok (.dup2, 1) := by decide +kernel
set_option maxRecDepth 100000 in
theorem dX9_ofSets_199 : decode cX9_ofSets 199 = .ok (.laload, 1) := by decide +kernel
set_option maxRecDepth 100000 in
theorem dX9_ofSets_200 : decode cX9_ofSets 200 = .ok (.aload_n 0, 1) := by decide +kernel
set_option maxRecDepth 100000 in
theorem dX9_ofSets_201 : decode cX9_ofSets 201 = .ok (.getfield 28, 3) := by decide +kernel
set_option maxRecDepth 100000 in
theorem dX9_ofSets_204 : decode cX9_ofSets 204 = .ok (.aload_n 0, 1) := by decide +kernel
set_option maxRecDepth 100000 in
theorem dX9_ofSets_205 : decode cX9_ofSets 205 = .ok (.getfield 86, 3) := by decide +kernel
set_option maxRecDepth 100000 in
theorem dX9_ofSets_208 : decode cX9_ofSets 208 = .ok (.laload, 1) := by decide +kernel
set_option maxRecDepth 100000 in
theorem dX9_ofSets_209 : decode cX9_ofSets 209 = .ok (.lor, 1) := by decide +kernel
set_option maxRecDepth 100000 in
theorem dX9_ofSets_210 : decode cX9_ofSets 210 = .ok (.lastore, 1) := by decide +kernel
set_option maxRecDepth 100000 in
theorem dX9_ofSets_211 : decode cX9_ofSets 211 = .ok (.aload_n 0, 1) := by decide +kernel
set_option maxRecDepth 100000 in
theorem dX9_ofSets_212 : decode cX9_ofSets 212 = .ok (.getfield 32, 3) := by decide +kernel
set_option maxRecDepth 100000 in
theorem dX9_ofSets_215 : decode cX9_ofSets 215 = .ok (.iload_n 2, 1) := by decide +kernel
set_option maxRecDepth 100000 in
theorem dX9_ofSets_216 : decode cX9_ofSets 216 = .ok (.dup2, 1) := by decide +kernel
set_option maxRecDepth 100000 in
theorem dX9_ofSets_217 : decode cX9_ofSets 217 = .ok (.laload, 1) := by decide +kernel
set_option maxRecDepth 100000 in
theorem dX9_ofSets_218 : decode cX9_ofSets 218 = .ok (.aload_n 0, 1) := by decide +kernel
set_option maxRecDepth 100000 in
theorem dX9_ofSets_219 : decode cX9_ofSets 219 = .ok (.getfield 32, 3) := by decide +kernel
set_option maxRecDepth 100000 in
theorem dX9_ofSets_222 : decode cX9_ofSets 222 = .ok (.aload_n 0, 1) := by decide +kernel
set_option maxRecDepth 100000 in
theorem dX9_ofSets_223 : decode cX9_ofSets 223 = .ok (.getfield 86, 3) := by decide +kernel
set_option maxRecDepth 100000 in
theorem dX9_ofSets_226 : decode cX9_ofSets 226 = .ok (.laload, 1) := by decide +kernel
set_option maxRecDepth 100000 in
theorem dX9_ofSets_227 : decode cX9_ofSets 227 = .ok (.lor, 1) := by decide +kernel
set_option maxRecDepth 100000 in
theorem dX9_ofSets_228 : decode cX9_ofSets 228 = .ok (.lastore, 1) := by decide +kernel
set_option maxRecDepth 100000 in
theorem dX9_ofSets_229 : decode cX9_ofSets 229 = .ok (.goto 128, 3) := by decide +kernel
set_option maxRecDepth 100000 in
theorem dX9_ofSets_232 : decode cX9_ofSets 232 = .ok (.aload_n 0, 1) := by decide +kernel
set_option maxRecDepth 100000 in
theorem dX9_ofSets_233 : decode cX9_ofSets 233 = .ok (.getfield 28, 3) := by decide +kernel
set_option maxRecDepth 100000 in
theorem dX9_ofSets_236 : decode cX9_ofSets 236 = .ok (.iload_n 2, 1) := by decide +kernel
set_option maxRecDepth 100000 in
theorem dX9_ofSets_237 : decode cX9_ofSets 237 = .ok (.dup2, 1) := by decide +kernel
set_option maxRecDepth 100000 in
theorem dX9_ofSets_238 : decode cX9_ofSets 238 = .ok (.laload, 1) := by decide +kernel
set_option maxRecDepth 100000 in
theorem dX9_ofSets_239 : decode cX9_ofSets 239 = .ok (.aload_n 0, 1) := by decide +kernel
set_option maxRecDepth 100000 in
theorem dX9_ofSets_240 : decode cX9_ofSets 240 = .ok (.getfield 28, 3) := by decide +kernel
set_option maxRecDepth 100000 in
theorem dX9_ofSets_243 : decode cX9_ofSets 243 = .ok (.aload_n 0, 1) := by decide +kernel
set_option maxRecDepth 100000 in
theorem dX9_ofSets_244 : decode cX9_ofSets 244 = .ok (.getfield 86, 3) := by decide +kernel
set_option maxRecDepth 100000 in
theorem dX9_ofSets_247 : decode cX9_ofSets 247 = .ok (.laload, 1) := by decide +kernel
set_option maxRecDepth 100000 in
theorem dX9_ofSets_248 : decode cX9_ofSets 248 = .ok (.land, 1) := by decide +kernel
set_option maxRecDepth 100000 in
theorem dX9_ofSets_249 : decode cX9_ofSets 249 = .ok (.lastore, 1) := by decide +kernel
set_option maxRecDepth 100000 in
theorem dX9_ofSets_250 : decode cX9_ofSets 250 = .ok (.aload_n 0, 1) := by decide +kernel
set_option maxRecDepth 100000 in
theorem dX9_ofSets_251 : decode cX9_ofSets 251 = .ok (.getfield 32, 3) := by decide +kernel
set_option maxRecDepth 100000 in
theorem dX9_ofSets_254 : decode cX9_ofSets 254 = .ok (.iload_n 2, 1) := by decide +kernel
set_option maxRecDepth 100000 in
theorem dX9_ofSets_255 : decode cX9_ofSets 255 = .ok (.dup2, 1) := by decide +kernel
set_option maxRecDepth 100000 in
theorem dX9_ofSets_256 : decode cX9_ofSets 256 = .ok (.laload, 1) := by decide +kernel
set_option maxRecDepth 100000 in
theorem dX9_ofSets_257 : decode cX9_ofSets 257 = .ok (.aload_n 0, 1) := by decide +kernel
set_option maxRecDepth 100000 in
theorem dX9_ofSets_258 : decode cX9_ofSets 258 = .ok (.getfield 32, 3) := by decide +kernel
set_option maxRecDepth 100000 in
theorem dX9_ofSets_261 : decode cX9_ofSets 261 = .ok (.aload_n 0, 1) := by decide +kernel
set_option maxRecDepth 100000 in
theorem dX9_ofSets_262 : decode cX9_ofSets 262 = .ok (.getfield 86, 3) := by decide +kernel
set_option maxRecDepth 100000 in
theorem dX9_ofSets_265 : decode cX9_ofSets 265 = .ok (.laload, 1) := by decide +kernel
set_option maxRecDepth 100000 in
theorem dX9_ofSets_266 : decode cX9_ofSets 266 = .ok (.land, 1) := by decide +kernel
set_option maxRecDepth 100000 in
theorem dX9_ofSets_267 : decode cX9_ofSets 267 = .ok (.lastore, 1) := by decide +kernel
set_option maxRecDepth 100000 in
theorem dX9_ofSets_268 : decode cX9_ofSets 268 = .ok (.goto 89, 3) := by decide +kernel
set_option maxRecDepth 100000 in
theorem dX9_ofSets_271 : decode cX9_ofSets 271 = .ok (.aload_n 0, 1) := by decide +kernel
set_option maxRecDepth 100000 in
theorem dX9_ofSets_272 : decode cX9_ofSets 272 = .ok (.getfield 28, 3) := by decide +kernel
set_option maxRecDepth 100000 in
theorem dX9_ofSets_275 : decode cX9_ofSets 275 = .ok (.iload_n 2, 1) := by decide +kernel
set_option maxRecDepth 100000 in
theorem dX9_ofSets_276 : decode cX9_ofSets 276 = .ok (.dup2, 1) := by decide +kernel
set_option maxRecDepth 100000 in
theorem dX9_ofSets_277 : decode cX9_ofSets 277 = .ok (.laload, 1) := by decide +kernel
set_option maxRecDepth 100000 in
theorem dX9_ofSets_278 : decode cX9_ofSets 278 = .ok (.aload_n 0, 1) := by decide +kernel
set_option maxRecDepth 100000 in
theorem dX9_ofSets_279 : decode cX9_ofSets 279 = .ok (.getfield 28, 3) := by decide +kernel
set_option maxRecDepth 100000 in
theorem dX9_ofSets_282 : decode cX9_ofSets 282 = .ok (.aload_n 0, 1) := by decide +kernel
set_option maxRecDepth 100000 in
theorem dX9_ofSets_283 : decode cX9_ofSets 283 = .ok (.getfield 86, 3) := by decide +kernel
set_option maxRecDepth 100000 in
theorem dX9_ofSets_286 : decode cX9_ofSets 286 = .ok (.laload, 1) := by decide +kernel
set_option maxRecDepth 100000 in
theorem dX9_ofSets_287 : decode cX9_ofSets 287 = .ok (.land, 1) := by decide +kernel
set_option maxRecDepth 100000 in
theorem dX9_ofSets_288 : decode cX9_ofSets 288 = .ok (.lastore, 1) := by decide +kernel
set_option maxRecDepth 100000 in
theorem dX9_ofSets_289 : decode cX9_ofSets 289 = .ok (.goto 68, 3) := by decide +kernel
set_option maxRecDepth 100000 in
theorem dX9_ofSets_292 : decode cX9_ofSets 292 = .ok (.aload_n 0, 1) := by decide +kernel
set_option maxRecDepth 100000 in
theorem dX9_ofSets_293 : decode cX9_ofSets 293 = .ok (.getfield 28, 3) := by decide +kernel
set_option maxRecDepth 100000 in
theorem dX9_ofSets_296 : decode cX9_ofSets 296 = .ok (.iload_n 2, 1) := by decide +kernel
set_option maxRecDepth 100000 in
theorem dX9_ofSets_297 : decode cX9_ofSets 297 = .ok (.dup2, 1) := by decide +kernel
set_option maxRecDepth 100000 in
theorem dX9_ofSets_298 : decode cX9_ofSets 298 = .ok (.laload, 1) := by decide +kernel
set_option maxRecDepth 100000 in
theorem dX9_ofSets_299 : decode cX9_ofSets 299 = .ok (.aload_n 0, 1) := by decide +kernel
set_option maxRecDepth 100000 in
theorem dX9_ofSets_300 : decode cX9_ofSets 300 = .ok (.getfield 28, 3) := by decide +kernel
set_option maxRecDepth 100000 in
theorem dX9_ofSets_303 : decode cX9_ofSets 303 = .ok (.aload_n 0, 1) := by decide +kernel
set_option maxRecDepth 100000 in
theorem dX9_ofSets_304 : decode cX9_ofSets 304 = .ok (.getfield 86, 3) := by decide +kernel
set_option maxRecDepth 100000 in
theorem dX9_ofSets_307 : decode cX9_ofSets 307 = .ok (.laload, 1) := by decide +kernel
set_option maxRecDepth 100000 in
theorem dX9_ofSets_308 : decode cX9_ofSets 308 = .ok (.lor, 1) := by decide +kernel
set_option maxRecDepth 100000 in
theorem dX9_ofSets_309 : decode cX9_ofSets 309 = .ok (.lastore, 1) := by decide +kernel
set_option maxRecDepth 100000 in
theorem dX9_ofSets_310 : decode cX9_ofSets 310 = .ok (.goto 47, 3) := by decide +kernel
set_option maxRecDepth 100000 in
theorem dX9_ofSets_313 : decode cX9_ofSets 313 = .ok (.aload_n 0, 1) := by decide +kernel
set_option maxRecDepth 100000 in
theorem dX9_ofSets_314 : decode cX9_ofSets 314 = .ok (.getfield 28, 3) := by decide +kernel
set_option maxRecDepth 100000 in
theorem dX9_ofSets_317 : decode cX9_ofSets 317 = .ok (.iload_n 2, 1) := by decide +kernel
set_option maxRecDepth 100000 in
theorem dX9_ofSets_318 : decode cX9_ofSets 318 = .ok (.dup2, 1) := by decide +kernel
set_option maxRecDepth 100000 in
theorem dX9_ofSets_319 : decode cX9_ofSets 319 = .ok (.laload, 1) := by decide +kernel
set_option maxRecDepth 100000 in
theorem dX9_ofSets_320 : decode cX9_ofSets 320 = .ok (.aload_n 0, 1) := by decide +kernel
set_option maxRecDepth 100000 in
theorem dX9_ofSets_321 : decode cX9_ofSets 321 = .ok (.getfield 28, 3) := by decide +kernel
set_option maxRecDepth 100000 in
theorem dX9_ofSets_324 : decode cX9_ofSets 324 = .ok (.aload_n 0, 1) := by decide +kernel
set_option maxRecDepth 100000 in
theorem dX9_ofSets_325 : decode cX9_ofSets 325 = .ok (.getfield 86, 3) := by decide +kernel
set_option maxRecDepth 100000 in
theorem dX9_ofSets_328 : decode cX9_ofSets 328 = .ok (.laload, 1) := by decide +kernel
set_option maxRecDepth 100000 in
theorem dX9_ofSets_329 : decode cX9_ofSets 329 = .ok (.ldc2_w 324, 3) := by decide +kernel
set_option maxRecDepth 100000 in
theorem dX9_ofSets_332 : decode cX9_ofSets 332 = .ok (.lxor, 1) := by decide +kernel
set_option maxRecDepth 100000 in
theorem dX9_ofSets_333 : decode cX9_ofSets 333 = .ok (.land, 1) := by decide +kernel
set_option maxRecDepth 100000 in
theorem dX9_ofSets_334 : decode cX9_ofSets 334 = .ok (.lastore, 1) := by decide +kernel
set_option maxRecDepth 100000 in
theorem dX9_ofSets_335 : decode cX9_ofSets 335 = .ok (.aload_n 0, 1) := by decide +kernel
set_option maxRecDepth 100000 in
theorem dX9_ofSets_336 : decode cX9_ofSets 336 = .ok (.getfield 32, 3) := by decide +kernel
set_option maxRecDepth 100000 in
theorem dX9_ofSets_339 : decode cX9_ofSets 339 = .ok (.iload_n 2, 1) := by decide +kernel
set_option maxRecDepth 100000 in
theorem dX9_ofSets_340 : decode cX9_ofSets 340 = .ok (.dup2, 1) := by decide +kernel
set_option maxRecDepth 100000 in
theorem dX9_ofSets_341 : decode cX9_ofSets 341 = .ok (.laload, 1) := by decide +kernel
set_option maxRecDepth 100000 in
theorem dX9_ofSets_342 : decode cX9_ofSets 342 = .ok (.aload_n 0, 1) := by decide +kernel
set_option maxRecDepth 100000 in
theorem dX9_ofSets_343 : decode cX9_ofSets 343 = .ok (.getfield 32, 3) := by decide +kernel
set_option maxRecDepth 100000 in
theorem dX9_ofSets_346 : decode cX9_ofSets 346 = .ok (.aload_n 0, 1) := by decide +kernel
set_option maxRecDepth 100000 in
theorem dX9_ofSets_347 : decode cX9_ofSets 347 = .ok (.getfield 86, 3) := by decide +kernel
set_option maxRecDepth 100000 in
theorem dX9_ofSets_350 : decode cX9_ofSets 350 = .ok (.laload, 1) := by decide +kernel
set_option maxRecDepth 100000 in
theorem dX9_ofSets_351 : decode cX9_ofSets 351 = .ok (.ldc2_w 324, 3) := by decide +kernel
set_option maxRecDepth 100000 in
theorem dX9_ofSets_354 : decode cX9_ofSets 354 = .ok (.lxor, 1) := by decide +kernel
set_option maxRecDepth 100000 in
theorem dX9_ofSets_355 : decode cX9_ofSets 355 = .ok (.land, 1) := by decide +kernel
set_option maxRecDepth 100000 in
theorem dX9_ofSets_356 : decode cX9_ofSets 356 = .ok (.lastore, 1) := by decide +kernel
set_option maxRecDepth 100000 in
theorem dX9_ofSets_357 : decode cX9_ofSets 357 = .ok (.return_, 1) := by decide +kernel
set_option maxRecDepth 100000 in
def bX9_ofSets_357 (G : xG) (fr lo : Nat) (h : xH) (Q : Outcome → xH → Prop) : Prop := Q (.returned none) h
set_option maxRecDepth 100000 in
theorem uX9_ofSets_357 {G : xG} {fr lo : Nat} {h : xH} {Q : Outcome → xH → Prop} (hq : bX9_ofSets_357 G fr lo h Q) : xP G YX9_ofSets fr lo 357 [] [] h Q := by
  unfold bX9_ofSets_357 at hq
  exact x_vret rfl dX9_ofSets_357 hq
set_option maxRecDepth 100000 in
def bX9_ofSets_189 (G : xG) (fr lo : Nat) (s0 : Int64) (s1 : Int32) (s2 : Nat) (h : xH) (Q : Outcome → xH → Prop) : Prop := tg h s2 = 101 ∧ vp_in s1 (ln h s2) ∧ (∀ h3 : xH, h3 = tJ h s2 (Int32.toNatClampNeg s1) s0 → bX9_ofSets_357 G fr lo h3 Q)
set_option maxRecDepth 100000 in
theorem uX9_ofSets_189 {G : xG} {fr lo : Nat} {s0 : Int64} {s1 : Int32} {s2 : Nat} {h : xH} {Q : Outcome → xH → Prop} (hq : bX9_ofSets_189 G fr lo s0 s1 s2 h Q) : xP G YX9_ofSets fr lo 189 [] [.long s0, .int s1, rv s2] h Q := by
  unfold bX9_ofSets_189 at hq
  obtain ⟨g1, hq⟩ := hq
  obtain ⟨i2, hq⟩ := hq
  obtain ⟨h3, e4⟩ : ∃ y, y = tJ h s2 (Int32.toNatClampNeg s1) s0 := ⟨_, rfl⟩
  replace hq := hq h3 e4
  refine x_last' g1 i2 dX9_ofSets_189 e4 ?_
  refine x_goto (tgt := 357) dX9_ofSets_190 (by decide) ?_
  exact uX9_ofSets_357 hq
set_option maxRecDepth 100000 in
def bX9_ofSets_172 (G : xG) (fr lo : Nat) (x0 : Nat) (x2 : Int32) (s0 : Int32) (h : xH) (Q : Outcome → xH → Prop) : Prop := tg h x0 = 10 ∧ ((s0 = 0 → bX9_ofSets_189 G fr lo 0 x2 (fR h x0 2307) h Q) ∧ (¬ s0 = 0 → bX9_ofSets_189 G fr lo 1 x2 (fR h x0 2307) h Q))
set_option maxRecDepth 100000 in
theorem uX9_ofSets_172 {G : xG} {fr lo : Nat} {x0 : Nat} {x2 : Int32} {s0 : Int32} {h : xH} {Q : Outcome → xH → Prop} (hq : bX9_ofSets_172 G fr lo x0 x2 s0 h Q) : xP G YX9_ofSets fr lo 172 [(0, rv x0), (2, .int x2)] [.int s0] h Q := by
  unfold bX9_ofSets_172 at hq
  refine x_istore (lv' := [(5, .int s0), (0, rv x0), (2, .int x2)]) dX9_ofSets_172 (by decide) rfl ?_
  refine x_aload_n 1 dX9_ofSets_174 rfl ?_
  obtain ⟨g1, hq⟩ := hq
  refine x_get (v := rv (fR h x0 2307)) fdX9_28 dX9_ofSets_175 g1 rfl ?_
  refine x_iload_n 2 dX9_ofSets_178 rfl ?_
  refine x_iload 0 dX9_ofSets_179 rfl ?_
  refine x_if_eq (tgt := 188) dX9_ofSets_181 (by decide) (fun c2 => ?_) (fun c2 => ?_)
  · replace hq := hq.1 c2
    refine x_lconst (v := 0) dX9_ofSets_188 (by decide) ?_
    refine xP.pick (lv' := []) [] rfl ?_
    exact uX9_ofSets_189 hq
  · replace hq := hq.2 c2
    refine x_lconst (v := 1) dX9_ofSets_184 (by decide) ?_
    refine x_goto (tgt := 189) dX9_ofSets_185 (by decide) ?_
    refine xP.pick (lv' := []) [] rfl ?_
    exact uX9_ofSets_189 hq
set_option maxRecDepth 100000 in
def bX9_ofSets_171 (G : xG) (fr lo : Nat) (x0 : Nat) (x2 : Int32) (h : xH) (Q : Outcome → xH → Prop) : Prop := bX9_ofSets_172 G fr lo x0 x2 0 h Q
set_option maxRecDepth 100000 in
theorem uX9_ofSets_171 {G : xG} {fr lo : Nat} {x0 : Nat} {x2 : Int32} {h : xH} {Q : Outcome → xH → Prop} (hq : bX9_ofSets_171 G fr lo x0 x2 h Q) : xP G YX9_ofSets fr lo 171 [(0, rv x0), (2, .int x2)] [] h Q := by
  unfold bX9_ofSets_171 at hq
  refine x_iconst (v := 0) dX9_ofSets_171 (by decide) ?_
  exact uX9_ofSets_172 hq
set_option maxRecDepth 100000 in
def bX9_ofSets_128 (G : xG) (fr lo : Nat) (x0 : Nat) (x2 : Int32) (x3 : Int64) (h : xH) (Q : Outcome → xH → Prop) : Prop := (((lg_cmp x3 64) < 0 → bX9_ofSets_171 G fr lo x0 x2 h Q) ∧ (¬ (lg_cmp x3 64) < 0 → ((0 ≤ (lg_cmp x3 128) → bX9_ofSets_171 G fr lo x0 x2 h Q) ∧ (¬ 0 ≤ (lg_cmp x3 128) → tg h x0 = 10 ∧ tg h (fR h x0 2308) = 101 ∧ vp_in (fI h x0 2310) (ln h (fR h x0 2308)) ∧ ((¬ (lg_cmp (((aJ h (fR h x0 2308) (Int32.toNatClampNeg (fI h x0 2310))) >>> (Int32.toInt64 (Int64.toInt32 (x3 - 64)) &&& 63)) &&& 1) 1) = 0 → bX9_ofSets_171 G fr lo x0 x2 h Q) ∧ ((lg_cmp (((aJ h (fR h x0 2308) (Int32.toNatClampNeg (fI h x0 2310))) >>> (Int32.toInt64 (Int64.toInt32 (x3 - 64)) &&& 63)) &&& 1) 1) = 0 → bX9_ofSets_172 G fr lo x0 x2 1 h Q))))))
set_option maxRecDepth 100000 in
theorem uX9_ofSets_128 {G : xG} {fr lo : Nat} {x0 : Nat} {x2 : Int32} {x3 : Int64} {h : xH} {Q : Outcome → xH → Prop} (hq : bX9_ofSets_128 G fr lo x0 x2 x3 h Q) : xP G YX9_ofSets fr lo 128 [(0, rv x0), (2, .int x2), (3, .long x3)] [] h Q := by
  unfold bX9_ofSets_128 at hq
  refine x_lload_n 2 dX9_ofSets_128 rfl ?_
  refine x_ldc2 (v := 64) q2969 dX9_ofSets_129 ?_
  refine x_lcmp dX9_ofSets_132 ?_
  refine x_if_lt (tgt := 171) dX9_ofSets_133 (by decide) (fun c1 => ?_) (fun c1 => ?_)
  · replace hq := hq.1 c1
    refine xP.pick (lv' := [(0, rv x0), (2, .int x2)]) [0, 1] rfl ?_
    exact uX9_ofSets_171 hq
  · replace hq := hq.2 c1
    refine x_lload_n 2 dX9_ofSets_136 rfl ?_
    refine x_ldc2 (v := 128) q2970 dX9_ofSets_137 ?_
    refine x_lcmp dX9_ofSets_140 ?_
    refine x_if_ge (tgt := 171) dX9_ofSets_141 (by decide) (fun c2 => ?_) (fun c2 => ?_)
    · replace hq := hq.1 c2
      refine xP.pick (lv' := [(0, rv x0), (2, .int x2)]) [0, 1] rfl ?_
      exact uX9_ofSets_171 hq
    · replace hq := hq.2 c2
      refine x_aload_n 0 dX9_ofSets_144 rfl ?_
      obtain ⟨g3, hq⟩ := hq
      refine x_get (v := rv (fR h x0 2308)) fdX9_32 dX9_ofSets_145 g3 rfl ?_
      refine x_aload_n 0 dX9_ofSets_148 rfl ?_
      refine x_get (v := .int (fI h x0 2310)) fdX9_86 dX9_ofSets_149 g3 rfl ?_
      obtain ⟨g4, hq⟩ := hq
      obtain ⟨i5, hq⟩ := hq
      refine x_lald g4 i5 dX9_ofSets_152 ?_
      refine x_lload_n 2 dX9_ofSets_153 rfl ?_
      refine x_ldc2 (v := 64) q2969 dX9_ofSets_154 ?_
      refine x_lsub dX9_ofSets_157 ?_
      refine x_l2i dX9_ofSets_158 ?_
      refine x_lshr dX9_ofSets_159 ?_
      refine x_lconst (v := 1) dX9_ofSets_160 (by decide) ?_
      refine x_land dX9_ofSets_161 ?_
      refine x_lconst (v := 1) dX9_ofSets_162 (by decide) ?_
      refine x_lcmp dX9_ofSets_163 ?_
      refine x_if_ne (tgt := 171) dX9_ofSets_164 (by decide) (fun c6 => ?_) (fun c6 => ?_)
      · replace hq := hq.1 c6
        refine xP.pick (lv' := [(0, rv x0), (2, .int x2)]) [0, 1] rfl ?_
        exact uX9_ofSets_171 hq
      · replace hq := hq.2 c6
        refine x_iconst (v := 1) dX9_ofSets_167 (by decide) ?_
        refine x_goto (tgt := 172) dX9_ofSets_168 (by decide) ?_
        refine xP.pick (lv' := [(0, rv x0), (2, .int x2)]) [0, 1] rfl ?_
        exact uX9_ofSets_172 hq
set_option maxRecDepth 100000 in
def bX9_ofSets (G : xG) (fr lo : Nat) (x0 : Nat) (x1 : Int32) (h : xH) (Q : Outcome → xH → Prop) : Prop := tg h x0 = 10 ∧ ((x1 = 33 → tg h (fR h x0 2307) = 101 ∧ vp_in ((fI h x0 2310) - 1) (ln h (fR h x0 2307)) ∧ vp_in (fI h x0 2310) (ln h (fR h x0 2307)) ∧ vp_in ((fI h x0 2310) - 1) (ln h (fR h x0 2307)) ∧ (∀ h7 : xH, h7 = tJ h (fR h x0 2307) (Int32.toNatClampNeg ((fI h x0 2310) - 1)) ((aJ h (fR h x0 2307) (Int32.toNatClampNeg ((fI h x0 2310) - 1))) &&& (aJ h (fR h x0 2307) (Int32.toNatClampNeg (fI h x0 2310)))) → bX9_ofSets_357 G fr lo h7 Q)) ∧ (x1 = 34 → tg h (fR h x0 2307) = 101 ∧ vp_in ((fI h x0 2310) - 1) (ln h (fR h x0 2307)) ∧ vp_in (fI h x0 2310) (ln h (fR h x0 2307)) ∧ vp_in ((fI h x0 2310) - 1) (ln h (fR h x0 2307)) ∧ (∀ h14 : xH, h14 = tJ h (fR h x0 2307) (Int32.toNatClampNeg ((fI h x0 2310) - 1)) ((aJ h (fR h x0 2307) (Int32.toNatClampNeg ((fI h x0 2310) - 1))) ||| (aJ h (fR h x0 2307) (Int32.toNatClampNeg (fI h x0 2310)))) → bX9_ofSets_357 G fr lo h14 Q)) ∧ (x1 = 35 → tg h (fR h x0 2307) = 101 ∧ vp_in ((fI h x0 2310) - 1) (ln h (fR h x0 2307)) ∧ vp_in (fI h x0 2310) (ln h (fR h x0 2307)) ∧ vp_in ((fI h x0 2310) - 1) (ln h (fR h x0 2307)) ∧ (∀ h21 : xH, h21 = tJ h (fR h x0 2307) (Int32.toNatClampNeg ((fI h x0 2310) - 1)) ((aJ h (fR h x0 2307) (Int32.toNatClampNeg ((fI h x0 2310) - 1))) &&& ((aJ h (fR h x0 2307) (Int32.toNatClampNeg (fI h x0 2310))) ^^^ (-1))) → tg h21 (fR h21 x0 2308) = 101 ∧ vp_in ((fI h x0 2310) - 1) (ln h21 (fR h21 x0 2308)) ∧ vp_in (fI h21 x0 2310) (ln h21 (fR h21 x0 2308)) ∧ vp_in ((fI h x0 2310) - 1) (ln h21 (fR h21 x0 2308)) ∧ (∀ h28 : xH, h28 = tJ h21 (fR h21 x0 2308) (Int32.toNatClampNeg ((fI h x0 2310) - 1)) ((aJ h21 (fR h21 x0 2308) (Int32.toNatClampNeg ((fI h x0 2310) - 1))) &&& ((aJ h21 (fR h21 x0 2308) (Int32.toNatClampNeg (fI h21 x0 2310))) ^^^ (-1))) → bX9_ofSets_357 G fr lo h28 Q))) ∧ (x1 = 36 → tg h (fR h x0 2307) = 101 ∧ vp_in ((fI h x0 2310) - 1) (ln h (fR h x0 2307)) ∧ vp_in (fI h x0 2310) (ln h (fR h x0 2307)) ∧ vp_in ((fI h x0 2310) - 1) (ln h (fR h x0 2307)) ∧ (∀ h35 : xH, h35 = tJ h (fR h x0 2307) (Int32.toNatClampNeg ((fI h x0 2310) - 1)) ((aJ h (fR h x0 2307) (Int32.toNatClampNeg ((fI h x0 2310) - 1))) &&& ((aJ h (fR h x0 2307) (Int32.toNatClampNeg (fI h x0 2310))) ^^^ (-1))) → tg h35 (fR h35 x0 2308) = 101 ∧ vp_in ((fI h x0 2310) - 1) (ln h35 (fR h35 x0 2308)) ∧ vp_in (fI h35 x0 2310) (ln h35 (fR h35 x0 2308)) ∧ vp_in ((fI h x0 2310) - 1) (ln h35 (fR h35 x0 2308)) ∧ (∀ h42 : xH, h42 = tJ h35 (fR h35 x0 2308) (Int32.toNatClampNeg ((fI h x0 2310) - 1)) ((aJ h35 (fR h35 x0 2308) (Int32.toNatClampNeg ((fI h x0 2310) - 1))) &&& ((aJ h35 (fR h35 x0 2308) (Int32.toNatClampNeg (fI h35 x0 2310))) ^^^ (-1))) → bX9_ofSets_357 G fr lo h42 Q))) ∧ (x1 = 37 → tg h (fR h x0 2307) = 101 ∧ vp_in ((fI h x0 2310) - 1) (ln h (fR h x0 2307)) ∧ vp_in (fI h x0 2310) (ln h (fR h x0 2307)) ∧ vp_in ((fI h x0 2310) - 1) (ln h (fR h x0 2307)) ∧ (∀ h49 : xH, h49 = tJ h (fR h x0 2307) (Int32.toNatClampNeg ((fI h x0 2310) - 1)) ((aJ h (fR h x0 2307) (Int32.toNatClampNeg ((fI h x0 2310) - 1))) &&& ((aJ h (fR h x0 2307) (Int32.toNatClampNeg (fI h x0 2310))) ^^^ (-1))) → tg h49 (fR h49 x0 2308) = 101 ∧ vp_in ((fI h x0 2310) - 1) (ln h49 (fR h49 x0 2308)) ∧ vp_in (fI h49 x0 2310) (ln h49 (fR h49 x0 2308)) ∧ vp_in ((fI h x0 2310) - 1) (ln h49 (fR h49 x0 2308)) ∧ (∀ h56 : xH, h56 = tJ h49 (fR h49 x0 2308) (Int32.toNatClampNeg ((fI h x0 2310) - 1)) ((aJ h49 (fR h49 x0 2308) (Int32.toNatClampNeg ((fI h x0 2310) - 1))) &&& ((aJ h49 (fR h49 x0 2308) (Int32.toNatClampNeg (fI h49 x0 2310))) ^^^ (-1))) → bX9_ofSets_357 G fr lo h56 Q))) ∧ (x1 = 38 → tg h (fR h x0 2307) = 101 ∧ vp_in ((fI h x0 2310) - 1) (ln h (fR h x0 2307)) ∧ vp_in (fI h x0 2310) (ln h (fR h x0 2307)) ∧ vp_in ((fI h x0 2310) - 1) (ln h (fR h x0 2307)) ∧ (∀ h63 : xH, h63 = tJ h (fR h x0 2307) (Int32.toNatClampNeg ((fI h x0 2310) - 1)) ((aJ h (fR h x0 2307) (Int32.toNatClampNeg ((fI h x0 2310) - 1))) &&& ((aJ h (fR h x0 2307) (Int32.toNatClampNeg (fI h x0 2310))) ^^^ (-1))) → tg h63 (fR h63 x0 2308) = 101 ∧ vp_in ((fI h x0 2310) - 1) (ln h63 (fR h63 x0 2308)) ∧ vp_in (fI h63 x0 2310) (ln h63 (fR h63 x0 2308)) ∧ vp_in ((fI h x0 2310) - 1) (ln h63 (fR h63 x0 2308)) ∧ (∀ h70 : xH, h70 = tJ h63 (fR h63 x0 2308) (Int32.toNatClampNeg ((fI h x0 2310) - 1)) ((aJ h63 (fR h63 x0 2308) (Int32.toNatClampNeg ((fI h x0 2310) - 1))) &&& ((aJ h63 (fR h63 x0 2308) (Int32.toNatClampNeg (fI h63 x0 2310))) ^^^ (-1))) → bX9_ofSets_357 G fr lo h70 Q))) ∧ (x1 = 39 → tg h (fR h x0 2307) = 101 ∧ vp_in ((fI h x0 2310) - 1) (ln h (fR h x0 2307)) ∧ vp_in (fI h x0 2310) (ln h (fR h x0 2307)) ∧ vp_in ((fI h x0 2310) - 1) (ln h (fR h x0 2307)) ∧ (∀ h77 : xH, h77 = tJ h (fR h x0 2307) (Int32.toNatClampNeg ((fI h x0 2310) - 1)) ((aJ h (fR h x0 2307) (Int32.toNatClampNeg ((fI h x0 2310) - 1))) &&& ((aJ h (fR h x0 2307) (Int32.toNatClampNeg (fI h x0 2310))) ^^^ (-1))) → tg h77 (fR h77 x0 2308) = 101 ∧ vp_in ((fI h x0 2310) - 1) (ln h77 (fR h77 x0 2308)) ∧ vp_in (fI h77 x0 2310) (ln h77 (fR h77 x0 2308)) ∧ vp_in ((fI h x0 2310) - 1) (ln h77 (fR h77 x0 2308)) ∧ (∀ h84 : xH, h84 = tJ h77 (fR h77 x0 2308) (Int32.toNatClampNeg ((fI h x0 2310) - 1)) ((aJ h77 (fR h77 x0 2308) (Int32.toNatClampNeg ((fI h x0 2310) - 1))) &&& ((aJ h77 (fR h77 x0 2308) (Int32.toNatClampNeg (fI h77 x0 2310))) ^^^ (-1))) → bX9_ofSets_357 G fr lo h84 Q))) ∧ (x1 = 40 → tg h (fR h x0 2307) = 101 ∧ vp_in ((fI h x0 2310) - 1) (ln h (fR h x0 2307)) ∧ vp_in (fI h x0 2310) (ln h (fR h x0 2307)) ∧ vp_in ((fI h x0 2310) - 1) (ln h (fR h x0 2307)) ∧ (∀ h91 : xH, h91 = tJ h (fR h x0 2307) (Int32.toNatClampNeg ((fI h x0 2310) - 1)) ((aJ h (fR h x0 2307) (Int32.toNatClampNeg ((fI h x0 2310) - 1))) &&& ((aJ h (fR h x0 2307) (Int32.toNatClampNeg (fI h x0 2310))) ^^^ (-1))) → tg h91 (fR h91 x0 2308) = 101 ∧ vp_in ((fI h x0 2310) - 1) (ln h91 (fR h91 x0 2308)) ∧ vp_in (fI h91 x0 2310) (ln h91 (fR h91 x0 2308)) ∧ vp_in ((fI h x0 2310) - 1) (ln h91 (fR h91 x0 2308)) ∧ (∀ h98 : xH, h98 = tJ h91 (fR h91 x0 2308) (Int32.toNatClampNeg ((fI h x0 2310) - 1)) ((aJ h91 (fR h91 x0 2308) (Int32.toNatClampNeg ((fI h x0 2310) - 1))) &&& ((aJ h91 (fR h91 x0 2308) (Int32.toNatClampNeg (fI h91 x0 2310))) ^^^ (-1))) → bX9_ofSets_357 G fr lo h98 Q))) ∧ (x1 = 41 → tg h (fR h x0 2307) = 101 ∧ vp_in ((fI h x0 2310) - 1) (ln h (fR h x0 2307)) ∧ (((lg_cmp (aJ h (fR h x0 2307) (Int32.toNatClampNeg ((fI h x0 2310) - 1))) 0) < 0 → bX9_ofSets_128 G fr lo x0 ((fI h x0 2310) - 1) (aJ h (fR h x0 2307) (Int32.toNatClampNeg ((fI h x0 2310) - 1))) h Q) ∧ (¬ (lg_cmp (aJ h (fR h x0 2307) (Int32.toNatClampNeg ((fI h x0 2310) - 1))) 0) < 0 → ((0 ≤ (lg_cmp (aJ h (fR h x0 2307) (Int32.toNatClampNeg ((fI h x0 2310) - 1))) 64) → bX9_ofSets_128 G fr lo x0 ((fI h x0 2310) - 1) (aJ h (fR h x0 2307) (Int32.toNatClampNeg ((fI h x0 2310) - 1))) h Q) ∧ (¬ 0 ≤ (lg_cmp (aJ h (fR h x0 2307) (Int32.toNatClampNeg ((fI h x0 2310) - 1))) 64) → vp_in (fI h x0 2310) (ln h (fR h x0 2307)) ∧ ((¬ (lg_cmp (((aJ h (fR h x0 2307) (Int32.toNatClampNeg (fI h x0 2310))) >>> (Int32.toInt64 (Int64.toInt32 (aJ h (fR h x0 2307) (Int32.toNatClampNeg ((fI h x0 2310) - 1)))) &&& 63)) &&& 1) 1) = 0 → bX9_ofSets_172 G fr lo x0 ((fI h x0 2310) - 1) 0 h Q) ∧ ((lg_cmp (((aJ h (fR h x0 2307) (Int32.toNatClampNeg (fI h x0 2310))) >>> (Int32.toInt64 (Int64.toInt32 (aJ h (fR h x0 2307) (Int32.toNatClampNeg ((fI h x0 2310) - 1)))) &&& 63)) &&& 1) 1) = 0 → bX9_ofSets_172 G fr lo x0 ((fI h x0 2310) - 1) 1 h Q))))))) ∧ (x1 = 42 → tg h (fR h x0 2307) = 101 ∧ vp_in ((fI h x0 2310) - 1) (ln h (fR h x0 2307)) ∧ vp_in (fI h x0 2310) (ln h (fR h x0 2307)) ∧ vp_in ((fI h x0 2310) - 1) (ln h (fR h x0 2307)) ∧ (∀ h112 : xH, h112 = tJ h (fR h x0 2307) (Int32.toNatClampNeg ((fI h x0 2310) - 1)) ((aJ h (fR h x0 2307) (Int32.toNatClampNeg ((fI h x0 2310) - 1))) &&& ((aJ h (fR h x0 2307) (Int32.toNatClampNeg (fI h x0 2310))) ^^^ (-1))) → tg h112 (fR h112 x0 2308) = 101 ∧ vp_in ((fI h x0 2310) - 1) (ln h112 (fR h112 x0 2308)) ∧ vp_in (fI h112 x0 2310) (ln h112 (fR h112 x0 2308)) ∧ vp_in ((fI h x0 2310) - 1) (ln h112 (fR h112 x0 2308)) ∧ (∀ h119 : xH, h119 = tJ h112 (fR h112 x0 2308) (Int32.toNatClampNeg ((fI h x0 2310) - 1)) ((aJ h112 (fR h112 x0 2308) (Int32.toNatClampNeg ((fI h x0 2310) - 1))) &&& ((aJ h112 (fR h112 x0 2308) (Int32.toNatClampNeg (fI h112 x0 2310))) ^^^ (-1))) → bX9_ofSets_357 G fr lo h119 Q))) ∧ (x1 = 43 → tg h (fR h x0 2307) = 101 ∧ vp_in ((fI h x0 2310) - 1) (ln h (fR h x0 2307)) ∧ vp_in (fI h x0 2310) (ln h (fR h x0 2307)) ∧ vp_in ((fI h x0 2310) - 1) (ln h (fR h x0 2307)) ∧ (∀ h126 : xH, h126 = tJ h (fR h x0 2307) (Int32.toNatClampNeg ((fI h x0 2310) - 1)) ((aJ h (fR h x0 2307) (Int32.toNatClampNeg ((fI h x0 2310) - 1))) &&& ((aJ h (fR h x0 2307) (Int32.toNatClampNeg (fI h x0 2310))) ^^^ (-1))) → tg h126 (fR h126 x0 2308) = 101 ∧ vp_in ((fI h x0 2310) - 1) (ln h126 (fR h126 x0 2308)) ∧ vp_in (fI h126 x0 2310) (ln h126 (fR h126 x0 2308)) ∧ vp_in ((fI h x0 2310) - 1) (ln h126 (fR h126 x0 2308)) ∧ (∀ h133 : xH, h133 = tJ h126 (fR h126 x0 2308) (Int32.toNatClampNeg ((fI h x0 2310) - 1)) ((aJ h126 (fR h126 x0 2308) (Int32.toNatClampNeg ((fI h x0 2310) - 1))) &&& ((aJ h126 (fR h126 x0 2308) (Int32.toNatClampNeg (fI h126 x0 2310))) ^^^ (-1))) → bX9_ofSets_357 G fr lo h133 Q))) ∧ (x1 = 44 → tg h (fR h x0 2307) = 101 ∧ vp_in ((fI h x0 2310) - 1) (ln h (fR h x0 2307)) ∧ vp_in (fI h x0 2310) (ln h (fR h x0 2307)) ∧ vp_in ((fI h x0 2310) - 1) (ln h (fR h x0 2307)) ∧ (∀ h140 : xH, h140 = tJ h (fR h x0 2307) (Int32.toNatClampNeg ((fI h x0 2310) - 1)) ((aJ h (fR h x0 2307) (Int32.toNatClampNeg ((fI h x0 2310) - 1))) &&& ((aJ h (fR h x0 2307) (Int32.toNatClampNeg (fI h x0 2310))) ^^^ (-1))) → tg h140 (fR h140 x0 2308) = 101 ∧ vp_in ((fI h x0 2310) - 1) (ln h140 (fR h140 x0 2308)) ∧ vp_in (fI h140 x0 2310) (ln h140 (fR h140 x0 2308)) ∧ vp_in ((fI h x0 2310) - 1) (ln h140 (fR h140 x0 2308)) ∧ (∀ h147 : xH, h147 = tJ h140 (fR h140 x0 2308) (Int32.toNatClampNeg ((fI h x0 2310) - 1)) ((aJ h140 (fR h140 x0 2308) (Int32.toNatClampNeg ((fI h x0 2310) - 1))) &&& ((aJ h140 (fR h140 x0 2308) (Int32.toNatClampNeg (fI h140 x0 2310))) ^^^ (-1))) → bX9_ofSets_357 G fr lo h147 Q))) ∧ (x1 = 45 → tg h (fR h x0 2307) = 101 ∧ vp_in ((fI h x0 2310) - 1) (ln h (fR h x0 2307)) ∧ vp_in (fI h x0 2310) (ln h (fR h x0 2307)) ∧ vp_in ((fI h x0 2310) - 1) (ln h (fR h x0 2307)) ∧ (∀ h154 : xH, h154 = tJ h (fR h x0 2307) (Int32.toNatClampNeg ((fI h x0 2310) - 1)) ((aJ h (fR h x0 2307) (Int32.toNatClampNeg ((fI h x0 2310) - 1))) ||| (aJ h (fR h x0 2307) (Int32.toNatClampNeg (fI h x0 2310)))) → tg h154 (fR h154 x0 2308) = 101 ∧ vp_in ((fI h x0 2310) - 1) (ln h154 (fR h154 x0 2308)) ∧ vp_in (fI h154 x0 2310) (ln h154 (fR h154 x0 2308)) ∧ vp_in ((fI h x0 2310) - 1) (ln h154 (fR h154 x0 2308)) ∧ (∀ h161 : xH, h161 = tJ h154 (fR h154 x0 2308) (Int32.toNatClampNeg ((fI h x0 2310) - 1)) ((aJ h154 (fR h154 x0 2308) (Int32.toNatClampNeg ((fI h x0 2310) - 1))) ||| (aJ h154 (fR h154 x0 2308) (Int32.toNatClampNeg (fI h154 x0 2310)))) → bX9_ofSets_357 G fr lo h161 Q))) ∧ (x1 = 46 → tg h (fR h x0 2307) = 101 ∧ vp_in ((fI h x0 2310) - 1) (ln h (fR h x0 2307)) ∧ vp_in (fI h x0 2310) (ln h (fR h x0 2307)) ∧ vp_in ((fI h x0 2310) - 1) (ln h (fR h x0 2307)) ∧ (∀ h168 : xH, h168 = tJ h (fR h x0 2307) (Int32.toNatClampNeg ((fI h x0 2310) - 1)) ((aJ h (fR h x0 2307) (Int32.toNatClampNeg ((fI h x0 2310) - 1))) &&& (aJ h (fR h x0 2307) (Int32.toNatClampNeg (fI h x0 2310)))) → tg h168 (fR h168 x0 2308) = 101 ∧ vp_in ((fI h x0 2310) - 1) (ln h168 (fR h168 x0 2308)) ∧ vp_in (fI h168 x0 2310) (ln h168 (fR h168 x0 2308)) ∧ vp_in ((fI h x0 2310) - 1) (ln h168 (fR h168 x0 2308)) ∧ (∀ h175 : xH, h175 = tJ h168 (fR h168 x0 2308) (Int32.toNatClampNeg ((fI h x0 2310) - 1)) ((aJ h168 (fR h168 x0 2308) (Int32.toNatClampNeg ((fI h x0 2310) - 1))) &&& (aJ h168 (fR h168 x0 2308) (Int32.toNatClampNeg (fI h168 x0 2310)))) → bX9_ofSets_357 G fr lo h175 Q))) ∧ (¬ x1 = 33 → ¬ x1 = 34 → ¬ x1 = 35 → ¬ x1 = 36 → ¬ x1 = 37 → ¬ x1 = 38 → ¬ x1 = 39 → ¬ x1 = 40 → ¬ x1 = 41 → ¬ x1 = 42 → ¬ x1 = 43 → ¬ x1 = 44 → ¬ x1 = 45 → ¬ x1 = 46 → tg h (fR h x0 2307) = 101 ∧ vp_in ((fI h x0 2310) - 1) (ln h (fR h x0 2307)) ∧ vp_in (fI h x0 2310) (ln h (fR h x0 2307)) ∧ vp_in ((fI h x0 2310) - 1) (ln h (fR h x0 2307)) ∧ (∀ h181 : xH, h181 = tJ h (fR h x0 2307) (Int32.toNatClampNeg ((fI h x0 2310) - 1)) ((aJ h (fR h x0 2307) (Int32.toNatClampNeg ((fI h x0 2310) - 1))) &&& ((aJ h (fR h x0 2307) (Int32.toNatClampNeg (fI h x0 2310))) ^^^ (-1))) → tg h181 (fR h181 x0 2308) = 101 ∧ vp_in ((fI h x0 2310) - 1) (ln h181 (fR h181 x0 2308)) ∧ vp_in (fI h181 x0 2310) (ln h181 (fR h181 x0 2308)) ∧ vp_in ((fI h x0 2310) - 1) (ln h181 (fR h181 x0 2308)) ∧ (∀ h188 : xH, h188 = tJ h181 (fR h181 x0 2308) (Int32.toNatClampNeg ((fI h x0 2310) - 1)) ((aJ h181 (fR h181 x0 2308) (Int32.toNatClampNeg ((fI h x0 2310) - 1))) &&& ((aJ h181 (fR h181 x0 2308) (Int32.toNatClampNeg (fI h181 x0 2310))) ^^^ (-1))) → bX9_ofSets_357 G fr lo h188 Q))))
set_option maxRecDepth 100000 in
theorem uX9_ofSets {G : xG} {fr lo : Nat} {x0 : Nat} {x1 : Int32} {h : xH} {Q : Outcome → xH → Prop} (hq : bX9_ofSets G fr lo x0 x1 h Q) : xP G YX9_ofSets fr lo 0 [(0, rv x0), (1, .int x1)] [] h Q := by
  unfold bX9_ofSets at hq
  refine x_aload_n 0 dX9_ofSets_0 rfl ?_
  obtain ⟨g1, hq⟩ := hq
  refine x_get (v := .int (fI h x0 2310)) fdX9_86 dX9_ofSets_1 g1 rfl ?_
  refine x_iconst (v := 1) dX9_ofSets_4 (by decide) ?_
  refine x_isub dX9_ofSets_5 ?_
  refine x_istore_n (lv' := [(2, .int ((fI h x0 2310) - 1)), (0, rv x0), (1, .int x1)]) dX9_ofSets_6 (by decide) rfl ?_
  refine x_iload_n 2 dX9_ofSets_7 rfl ?_
  by_cases c2 : x1 = 33
  · replace hq := hq.1 c2
    refine x_tin (tgt := 271) (off := 263) 33 c2 dX9_ofSets_8 (by decide) (by decide) (by decide) (by decide) ?_
    refine x_aload_n 1 dX9_ofSets_271 rfl ?_
    refine x_get (v := rv (fR h x0 2307)) fdX9_28 dX9_ofSets_272 g1 rfl ?_
    refine x_iload_n 0 dX9_ofSets_275 rfl ?_
    refine x_dup2 dX9_ofSets_276 rfl (rv_cat _) ?_
    obtain ⟨g3, hq⟩ := hq
    obtain ⟨i4, hq⟩ := hq
    refine x_lald g3 i4 dX9_ofSets_277 ?_
    refine x_aload_n 1 dX9_ofSets_278 rfl ?_
    refine x_get (v := rv (fR h x0 2307)) fdX9_28 dX9_ofSets_279 g1 rfl ?_
    refine x_aload_n 1 dX9_ofSets_282 rfl ?_
    refine x_get (v := .int (fI h x0 2310)) fdX9_86 dX9_ofSets_283 g1 rfl ?_
    obtain ⟨i5, hq⟩ := hq
    refine x_lald g3 i5 dX9_ofSets_286 ?_
    refine x_land dX9_ofSets_287 ?_
    obtain ⟨i6, hq⟩ := hq
    obtain ⟨h7, e8⟩ : ∃ y, y = tJ h (fR h x0 2307) (Int32.toNatClampNeg ((fI h x0 2310) - 1)) ((aJ h (fR h x0 2307) (Int32.toNatClampNeg ((fI h x0 2310) - 1))) &&& (aJ h (fR h x0 2307) (Int32.toNatClampNeg (fI h x0 2310)))) := ⟨_, rfl⟩
    replace hq := hq h7 e8
    refine x_last' g3 i6 dX9_ofSets_288 e8 ?_
    refine x_goto (tgt := 357) dX9_ofSets_289 (by decide) ?_
    refine xP.pick (lv' := []) [] rfl ?_
    exact uX9_ofSets_357 hq
  replace hq := hq.2
  by_cases c9 : x1 = 34
  · replace hq := hq.1 c9
    refine x_tin (tgt := 292) (off := 284) 34 c9 dX9_ofSets_8 (by decide) (by decide) (by decide) (by decide) ?_
    refine x_aload_n 1 dX9_ofSets_292 rfl ?_
    refine x_get (v := rv (fR h x0 2307)) fdX9_28 dX9_ofSets_293 g1 rfl ?_
    refine x_iload_n 0 dX9_ofSets_296 rfl ?_
    refine x_dup2 dX9_ofSets_297 rfl (rv_cat _) ?_
    obtain ⟨g10, hq⟩ := hq
    obtain ⟨i11, hq⟩ := hq
    refine x_lald g10 i11 dX9_ofSets_298 ?_
    refine x_aload_n 1 dX9_ofSets_299 rfl ?_
    refine x_get (v := rv (fR h x0 2307)) fdX9_28 dX9_ofSets_300 g1 rfl ?_
    refine x_aload_n 1 dX9_ofSets_303 rfl ?_
    refine x_get (v := .int (fI h x0 2310)) fdX9_86 dX9_ofSets_304 g1 rfl ?_
    obtain ⟨i12, hq⟩ := hq
    refine x_lald g10 i12 dX9_ofSets_307 ?_
    refine x_lor dX9_ofSets_308 ?_
    obtain ⟨i13, hq⟩ := hq
    obtain ⟨h14, e15⟩ : ∃ y, y = tJ h (fR h x0 2307) (Int32.toNatClampNeg ((fI h x0 2310) - 1)) ((aJ h (fR h x0 2307) (Int32.toNatClampNeg ((fI h x0 2310) - 1))) ||| (aJ h (fR h x0 2307) (Int32.toNatClampNeg (fI h x0 2310)))) := ⟨_, rfl⟩
    replace hq := hq h14 e15
    refine x_last' g10 i13 dX9_ofSets_309 e15 ?_
    refine x_goto (tgt := 357) dX9_ofSets_310 (by decide) ?_
    refine xP.pick (lv' := []) [] rfl ?_
    exact uX9_ofSets_357 hq
  replace hq := hq.2
  by_cases c16 : x1 = 35
  · replace hq := hq.1 c16
    refine x_tin (tgt := 313) (off := 305) 35 c16 dX9_ofSets_8 (by decide) (by decide) (by decide) (by decide) ?_
    refine x_aload_n 1 dX9_ofSets_313 rfl ?_
    refine x_get (v := rv (fR h x0 2307)) fdX9_28 dX9_ofSets_314 g1 rfl ?_
    refine x_iload_n 0 dX9_ofSets_317 rfl ?_
    refine x_dup2 dX9_ofSets_318 rfl (rv_cat _) ?_
    obtain ⟨g17, hq⟩ := hq
    obtain ⟨i18, hq⟩ := hq
    refine x_lald g17 i18 dX9_ofSets_319 ?_
    refine x_aload_n 1 dX9_ofSets_320 rfl ?_
    refine x_get (v := rv (fR h x0 2307)) fdX9_28 dX9_ofSets_321 g1 rfl ?_
    refine x_aload_n 1 dX9_ofSets_324 rfl ?_
    refine x_get (v := .int (fI h x0 2310)) fdX9_86 dX9_ofSets_325 g1 rfl ?_
    obtain ⟨i19, hq⟩ := hq
    refine x_lald g17 i19 dX9_ofSets_328 ?_
    refine x_ldc2 (v := (-1)) q2971 dX9_ofSets_329 ?_
    refine x_lxor dX9_ofSets_332 ?_
    refine x_land dX9_ofSets_333 ?_
    obtain ⟨i20, hq⟩ := hq
    obtain ⟨h21, e22⟩ : ∃ y, y = tJ h (fR h x0 2307) (Int32.toNatClampNeg ((fI h x0 2310) - 1)) ((aJ h (fR h x0 2307) (Int32.toNatClampNeg ((fI h x0 2310) - 1))) &&& ((aJ h (fR h x0 2307) (Int32.toNatClampNeg (fI h x0 2310))) ^^^ (-1))) := ⟨_, rfl⟩
    replace hq := hq h21 e22
    refine x_last' g17 i20 dX9_ofSets_334 e22 ?_
    refine x_aload_n 1 dX9_ofSets_335 rfl ?_
    have t23 : tg h21 x0 = 10 := by rw [e22]; exact g1
    refine x_get (v := rv (fR h21 x0 2308)) fdX9_32 dX9_ofSets_336 t23 rfl ?_
    refine x_iload_n 0 dX9_ofSets_339 rfl ?_
    refine x_dup2 dX9_ofSets_340 rfl (rv_cat _) ?_
    obtain ⟨g24, hq⟩ := hq
    obtain ⟨i25, hq⟩ := hq
    refine x_lald g24 i25 dX9_ofSets_341 ?_
    refine x_aload_n 1 dX9_ofSets_342 rfl ?_
    refine x_get (v := rv (fR h21 x0 2308)) fdX9_32 dX9_ofSets_343 t23 rfl ?_
    refine x_aload_n 1 dX9_ofSets_346 rfl ?_
    refine x_get (v := .int (fI h21 x0 2310)) fdX9_86 dX9_ofSets_347 t23 rfl ?_
    obtain ⟨i26, hq⟩ := hq
    refine x_lald g24 i26 dX9_ofSets_350 ?_
    refine x_ldc2 (v := (-1)) q2971 dX9_ofSets_351 ?_
    refine x_lxor dX9_ofSets_354 ?_
    refine x_land dX9_ofSets_355 ?_
    obtain ⟨i27, hq⟩ := hq
    obtain ⟨h28, e29⟩ : ∃ y, y = tJ h21 (fR h21 x0 2308) (Int32.toNatClampNeg ((fI h x0 2310) - 1)) ((aJ h21 (fR h21 x0 2308) (Int32.toNatClampNeg ((fI h x0 2310) - 1))) &&& ((aJ h21 (fR h21 x0 2308) (Int32.toNatClampNeg (fI h21 x0 2310))) ^^^ (-1))) := ⟨_, rfl⟩
    replace hq := hq h28 e29
    refine x_last' g24 i27 dX9_ofSets_356 e29 ?_
    refine xP.pick (lv' := []) [] rfl ?_
    exact uX9_ofSets_357 hq
  replace hq := hq.2
  by_cases c30 : x1 = 36
  · replace hq := hq.1 c30
    refine x_tin (tgt := 313) (off := 305) 36 c30 dX9_ofSets_8 (by decide) (by decide) (by decide) (by decide) ?_
    refine x_aload_n 1 dX9_ofSets_313 rfl ?_
    refine x_get (v := rv (fR h x0 2307)) fdX9_28 dX9_ofSets_314 g1 rfl ?_
    refine x_iload_n 0 dX9_ofSets_317 rfl ?_
    refine x_dup2 dX9_ofSets_318 rfl (rv_cat _) ?_
    obtain ⟨g31, hq⟩ := hq
    obtain ⟨i32, hq⟩ := hq
    refine x_lald g31 i32 dX9_ofSets_319 ?_
    refine x_aload_n 1 dX9_ofSets_320 rfl ?_
    refine x_get (v := rv (fR h x0 2307)) fdX9_28 dX9_ofSets_321 g1 rfl ?_
    refine x_aload_n 1 dX9_ofSets_324 rfl ?_
    refine x_get (v := .int (fI h x0 2310)) fdX9_86 dX9_ofSets_325 g1 rfl ?_
    obtain ⟨i33, hq⟩ := hq
    refine x_lald g31 i33 dX9_ofSets_328 ?_
    refine x_ldc2 (v := (-1)) q2971 dX9_ofSets_329 ?_
    refine x_lxor dX9_ofSets_332 ?_
    refine x_land dX9_ofSets_333 ?_
    obtain ⟨i34, hq⟩ := hq
    obtain ⟨h35, e36⟩ : ∃ y, y = tJ h (fR h x0 2307) (Int32.toNatClampNeg ((fI h x0 2310) - 1)) ((aJ h (fR h x0 2307) (Int32.toNatClampNeg ((fI h x0 2310) - 1))) &&& ((aJ h (fR h x0 2307) (Int32.toNatClampNeg (fI h x0 2310))) ^^^ (-1))) := ⟨_, rfl⟩
    replace hq := hq h35 e36
    refine x_last' g31 i34 dX9_ofSets_334 e36 ?_
    refine x_aload_n 1 dX9_ofSets_335 rfl ?_
    have t37 : tg h35 x0 = 10 := by rw [e36]; exact g1
    refine x_get (v := rv (fR h35 x0 2308)) fdX9_32 dX9_ofSets_336 t37 rfl ?_
    refine x_iload_n 0 dX9_ofSets_339 rfl ?_
    refine x_dup2 dX9_ofSets_340 rfl (rv_cat _) ?_
    obtain ⟨g38, hq⟩ := hq
    obtain ⟨i39, hq⟩ := hq
    refine x_lald g38 i39 dX9_ofSets_341 ?_
    refine x_aload_n 1 dX9_ofSets_342 rfl ?_
    refine x_get (v := rv (fR h35 x0 2308)) fdX9_32 dX9_ofSets_343 t37 rfl ?_
    refine x_aload_n 1 dX9_ofSets_346 rfl ?_
    refine x_get (v := .int (fI h35 x0 2310)) fdX9_86 dX9_ofSets_347 t37 rfl ?_
    obtain ⟨i40, hq⟩ := hq
    refine x_lald g38 i40 dX9_ofSets_350 ?_
    refine x_ldc2 (v := (-1)) q2971 dX9_ofSets_351 ?_
    refine x_lxor dX9_ofSets_354 ?_
    refine x_land dX9_ofSets_355 ?_
    obtain ⟨i41, hq⟩ := hq
    obtain ⟨h42, e43⟩ : ∃ y, y = tJ h35 (fR h35 x0 2308) (Int32.toNatClampNeg ((fI h x0 2310) - 1)) ((aJ h35 (fR h35 x0 2308) (Int32.toNatClampNeg ((fI h x0 2310) - 1))) &&& ((aJ h35 (fR h35 x0 2308) (Int32.toNatClampNeg (fI h35 x0 2310))) ^^^ (-1))) := ⟨_, rfl⟩
    replace hq := hq h42 e43
    refine x_last' g38 i41 dX9_ofSets_356 e43 ?_
    refine xP.pick (lv' := []) [] rfl ?_
    exact uX9_ofSets_357 hq
  replace hq := hq.2
  by_cases c44 : x1 = 37
  · replace hq := hq.1 c44
    refine x_tin (tgt := 313) (off := 305) 37 c44 dX9_ofSets_8 (by decide) (by decide) (by decide) (by decide) ?_
    refine x_aload_n 1 dX9_ofSets_313 rfl ?_
    refine x_get (v := rv (fR h x0 2307)) fdX9_28 dX9_ofSets_314 g1 rfl ?_
    refine x_iload_n 0 dX9_ofSets_317 rfl ?_
    refine x_dup2 dX9_ofSets_318 rfl (rv_cat _) ?_
    obtain ⟨g45, hq⟩ := hq
    obtain ⟨i46, hq⟩ := hq
    refine x_lald g45 i46 dX9_ofSets_319 ?_
    refine x_aload_n 1 dX9_ofSets_320 rfl ?_
    refine x_get (v := rv (fR h x0 2307)) fdX9_28 dX9_ofSets_321 g1 rfl ?_
    refine x_aload_n 1 dX9_ofSets_324 rfl ?_
    refine x_get (v := .int (fI h x0 2310)) fdX9_86 dX9_ofSets_325 g1 rfl ?_
    obtain ⟨i47, hq⟩ := hq
    refine x_lald g45 i47 dX9_ofSets_328 ?_
    refine x_ldc2 (v := (-1)) q2971 dX9_ofSets_329 ?_
    refine x_lxor dX9_ofSets_332 ?_
    refine x_land dX9_ofSets_333 ?_
    obtain ⟨i48, hq⟩ := hq
    obtain ⟨h49, e50⟩ : ∃ y, y = tJ h (fR h x0 2307) (Int32.toNatClampNeg ((fI h x0 2310) - 1)) ((aJ h (fR h x0 2307) (Int32.toNatClampNeg ((fI h x0 2310) - 1))) &&& ((aJ h (fR h x0 2307) (Int32.toNatClampNeg (fI h x0 2310))) ^^^ (-1))) := ⟨_, rfl⟩
    replace hq := hq h49 e50
    refine x_last' g45 i48 dX9_ofSets_334 e50 ?_
    refine x_aload_n 1 dX9_ofSets_335 rfl ?_
    have t51 : tg h49 x0 = 10 := by rw [e50]; exact g1
    refine x_get (v := rv (fR h49 x0 2308)) fdX9_32 dX9_ofSets_336 t51 rfl ?_
    refine x_iload_n 0 dX9_ofSets_339 rfl ?_
    refine x_dup2 dX9_ofSets_340 rfl (rv_cat _) ?_
    obtain ⟨g52, hq⟩ := hq
    obtain ⟨i53, hq⟩ := hq
    refine x_lald g52 i53 dX9_ofSets_341 ?_
    refine x_aload_n 1 dX9_ofSets_342 rfl ?_
    refine x_get (v := rv (fR h49 x0 2308)) fdX9_32 dX9_ofSets_343 t51 rfl ?_
    refine x_aload_n 1 dX9_ofSets_346 rfl ?_
    refine x_get (v := .int (fI h49 x0 2310)) fdX9_86 dX9_ofSets_347 t51 rfl ?_
    obtain ⟨i54, hq⟩ := hq
    refine x_lald g52 i54 dX9_ofSets_350 ?_
    refine x_ldc2 (v := (-1)) q2971 dX9_ofSets_351 ?_
    refine x_lxor dX9_ofSets_354 ?_
    refine x_land dX9_ofSets_355 ?_
    obtain ⟨i55, hq⟩ := hq
    obtain ⟨h56, e57⟩ : ∃ y, y = tJ h49 (fR h49 x0 2308) (Int32.toNatClampNeg ((fI h x0 2310) - 1)) ((aJ h49 (fR h49 x0 2308) (Int32.toNatClampNeg ((fI h x0 2310) - 1))) &&& ((aJ h49 (fR h49 x0 2308) (Int32.toNatClampNeg (fI h49 x0 2310))) ^^^ (-1))) := ⟨_, rfl⟩
    replace hq := hq h56 e57
    refine x_last' g52 i55 dX9_ofSets_356 e57 ?_
    refine xP.pick (lv' := []) [] rfl ?_
    exact uX9_ofSets_357 hq
  replace hq := hq.2
  by_cases c58 : x1 = 38
  · replace hq := hq.1 c58
    refine x_tin (tgt := 313) (off := 305) 38 c58 dX9_ofSets_8 (by decide) (by decide) (by decide) (by decide) ?_
    refine x_aload_n 1 dX9_ofSets_313 rfl ?_
    refine x_get (v := rv (fR h x0 2307)) fdX9_28 dX9_ofSets_314 g1 rfl ?_
    refine x_iload_n 0 dX9_ofSets_317 rfl ?_
    refine x_dup2 dX9_ofSets_318 rfl (rv_cat _) ?_
    obtain ⟨g59, hq⟩ := hq
    obtain ⟨i60, hq⟩ := hq
    refine x_lald g59 i60 dX9_ofSets_319 ?_
    refine x_aload_n 1 dX9_ofSets_320 rfl ?_
    refine x_get (v := rv (fR h x0 2307)) fdX9_28 dX9_ofSets_321 g1 rfl ?_
    refine x_aload_n 1 dX9_ofSets_324 rfl ?_
    refine x_get (v := .int (fI h x0 2310)) fdX9_86 dX9_ofSets_325 g1 rfl ?_
    obtain ⟨i61, hq⟩ := hq
    refine x_lald g59 i61 dX9_ofSets_328 ?_
    refine x_ldc2 (v := (-1)) q2971 dX9_ofSets_329 ?_
    refine x_lxor dX9_ofSets_332 ?_
    refine x_land dX9_ofSets_333 ?_
    obtain ⟨i62, hq⟩ := hq
    obtain ⟨h63, e64⟩ : ∃ y, y = tJ h (fR h x0 2307) (Int32.toNatClampNeg ((fI h x0 2310) - 1)) ((aJ h (fR h x0 2307) (Int32.toNatClampNeg ((fI h x0 2310) - 1))) &&& ((aJ h (fR h x0 2307) (Int32.toNatClampNeg (fI h x0 2310))) ^^^ (-1))) := ⟨_, rfl⟩
    replace hq := hq h63 e64
    refine x_last' g59 i62 dX9_ofSets_334 e64 ?_
    refine x_aload_n 1 dX9_ofSets_335 rfl ?_
    have t65 : tg h63 x0 = 10 := by rw [e64]; exact g1
    refine x_get (v := rv (fR h63 x0 2308)) fdX9_32 dX9_ofSets_336 t65 rfl ?_
    refine x_iload_n 0 dX9_ofSets_339 rfl ?_
    refine x_dup2 dX9_ofSets_340 rfl (rv_cat _) ?_
    obtain ⟨g66, hq⟩ := hq
    obtain ⟨i67, hq⟩ := hq
    refine x_lald g66 i67 dX9_ofSets_341 ?_
    refine x_aload_n 1 dX9_ofSets_342 rfl ?_
    refine x_get (v := rv (fR h63 x0 2308)) fdX9_32 dX9_ofSets_343 t65 rfl ?_
    refine x_aload_n 1 dX9_ofSets_346 rfl ?_
    refine x_get (v := .int (fI h63 x0 2310)) fdX9_86 dX9_ofSets_347 t65 rfl ?_
    obtain ⟨i68, hq⟩ := hq
    refine x_lald g66 i68 dX9_ofSets_350 ?_
    refine x_ldc2 (v := (-1)) q2971 dX9_ofSets_351 ?_
    refine x_lxor dX9_ofSets_354 ?_
    refine x_land dX9_ofSets_355 ?_
    obtain ⟨i69, hq⟩ := hq
    obtain ⟨h70, e71⟩ : ∃ y, y = tJ h63 (fR h63 x0 2308) (Int32.toNatClampNeg ((fI h x0 2310) - 1)) ((aJ h63 (fR h63 x0 2308) (Int32.toNatClampNeg ((fI h x0 2310) - 1))) &&& ((aJ h63 (fR h63 x0 2308) (Int32.toNatClampNeg (fI h63 x0 2310))) ^^^ (-1))) := ⟨_, rfl⟩
    replace hq := hq h70 e71
    refine x_last' g66 i69 dX9_ofSets_356 e71 ?_
    refine xP.pick (lv' := []) [] rfl ?_
    exact uX9_ofSets_357 hq
  replace hq := hq.2
  by_cases c72 : x1 = 39
  · replace hq := hq.1 c72
    refine x_tin (tgt := 313) (off := 305) 39 c72 dX9_ofSets_8 (by decide) (by decide) (by decide) (by decide) ?_
    refine x_aload_n 1 dX9_ofSets_313 rfl ?_
    refine x_get (v := rv (fR h x0 2307)) fdX9_28 dX9_ofSets_314 g1 rfl ?_
    refine x_iload_n 0 dX9_ofSets_317 rfl ?_
    refine x_dup2 dX9_ofSets_318 rfl (rv_cat _) ?_
    obtain ⟨g73, hq⟩ := hq
    obtain ⟨i74, hq⟩ := hq
    refine x_lald g73 i74 dX9_ofSets_319 ?_
    refine x_aload_n 1 dX9_ofSets_320 rfl ?_
    refine x_get (v := rv (fR h x0 2307)) fdX9_28 dX9_ofSets_321 g1 rfl ?_
    refine x_aload_n 1 dX9_ofSets_324 rfl ?_
    refine x_get (v := .int (fI h x0 2310)) fdX9_86 dX9_ofSets_325 g1 rfl ?_
    obtain ⟨i75, hq⟩ := hq
    refine x_lald g73 i75 dX9_ofSets_328 ?_
    refine x_ldc2 (v := (-1)) q2971 dX9_ofSets_329 ?_
    refine x_lxor dX9_ofSets_332 ?_
    refine x_land dX9_ofSets_333 ?_
    obtain ⟨i76, hq⟩ := hq
    obtain ⟨h77, e78⟩ : ∃ y, y = tJ h (fR h x0 2307) (Int32.toNatClampNeg ((fI h x0 2310) - 1)) ((aJ h (fR h x0 2307) (Int32.toNatClampNeg ((fI h x0 2310) - 1))) &&& ((aJ h (fR h x0 2307) (Int32.toNatClampNeg (fI h x0 2310))) ^^^ (-1))) := ⟨_, rfl⟩
    replace hq := hq h77 e78
    refine x_last' g73 i76 dX9_ofSets_334 e78 ?_
    refine x_aload_n 1 dX9_ofSets_335 rfl ?_
    have t79 : tg h77 x0 = 10 := by rw [e78]; exact g1
    refine x_get (v := rv (fR h77 x0 2308)) fdX9_32 dX9_ofSets_336 t79 rfl ?_
    refine x_iload_n 0 dX9_ofSets_339 rfl ?_
    refine x_dup2 dX9_ofSets_340 rfl (rv_cat _) ?_
    obtain ⟨g80, hq⟩ := hq
    obtain ⟨i81, hq⟩ := hq
    refine x_lald g80 i81 dX9_ofSets_341 ?_
    refine x_aload_n 1 dX9_ofSets_342 rfl ?_
    refine x_get (v := rv (fR h77 x0 2308)) fdX9_32 dX9_ofSets_343 t79 rfl ?_
    refine x_aload_n 1 dX9_ofSets_346 rfl ?_
    refine x_get (v := .int (fI h77 x0 2310)) fdX9_86 dX9_ofSets_347 t79 rfl ?_
    obtain ⟨i82, hq⟩ := hq
    refine x_lald g80 i82 dX9_ofSets_350 ?_
    refine x_ldc2 (v := (-1)) q2971 dX9_ofSets_351 ?_
    refine x_lxor dX9_ofSets_354 ?_
    refine x_land dX9_ofSets_355 ?_
    obtain ⟨i83, hq⟩ := hq
    obtain ⟨h84, e85⟩ : ∃ y, y = tJ h77 (fR h77 x0 2308) (Int32.toNatClampNeg ((fI h x0 2310) - 1)) ((aJ h77 (fR h77 x0 2308) (Int32.toNatClampNeg ((fI h x0 2310) - 1))) &&& ((aJ h77 (fR h77 x0 2308) (Int32.toNatClampNeg (fI h77 x0 2310))) ^^^ (-1))) := ⟨_, rfl⟩
    replace hq := hq h84 e85
    refine x_last' g80 i83 dX9_ofSets_356 e85 ?_
    refine xP.pick (lv' := []) [] rfl ?_
    exact uX9_ofSets_357 hq
  replace hq := hq.2
  by_cases c86 : x1 = 40
  · replace hq := hq.1 c86
    refine x_tin (tgt := 313) (off := 305) 40 c86 dX9_ofSets_8 (by decide) (by decide) (by decide) (by decide) ?_
    refine x_aload_n 1 dX9_ofSets_313 rfl ?_
    refine x_get (v := rv (fR h x0 2307)) fdX9_28 dX9_ofSets_314 g1 rfl ?_
    refine x_iload_n 0 dX9_ofSets_317 rfl ?_
    refine x_dup2 dX9_ofSets_318 rfl (rv_cat _) ?_
    obtain ⟨g87, hq⟩ := hq
    obtain ⟨i88, hq⟩ := hq
    refine x_lald g87 i88 dX9_ofSets_319 ?_
    refine x_aload_n 1 dX9_ofSets_320 rfl ?_
    refine x_get (v := rv (fR h x0 2307)) fdX9_28 dX9_ofSets_321 g1 rfl ?_
    refine x_aload_n 1 dX9_ofSets_324 rfl ?_
    refine x_get (v := .int (fI h x0 2310)) fdX9_86 dX9_ofSets_325 g1 rfl ?_
    obtain ⟨i89, hq⟩ := hq
    refine x_lald g87 i89 dX9_ofSets_328 ?_
    refine x_ldc2 (v := (-1)) q2971 dX9_ofSets_329 ?_
    refine x_lxor dX9_ofSets_332 ?_
    refine x_land dX9_ofSets_333 ?_
    obtain ⟨i90, hq⟩ := hq
    obtain ⟨h91, e92⟩ : ∃ y, y = tJ h (fR h x0 2307) (Int32.toNatClampNeg ((fI h x0 2310) - 1)) ((aJ h (fR h x0 2307) (Int32.toNatClampNeg ((fI h x0 2310) - 1))) &&& ((aJ h (fR h x0 2307) (Int32.toNatClampNeg (fI h x0 2310))) ^^^ (-1))) := ⟨_, rfl⟩
    replace hq := hq h91 e92
    refine x_last' g87 i90 dX9_ofSets_334 e92 ?_
    refine x_aload_n 1 dX9_ofSets_335 rfl ?_
    have t93 : tg h91 x0 = 10 := by rw [e92]; exact g1
    refine x_get (v := rv (fR h91 x0 2308)) fdX9_32 dX9_ofSets_336 t93 rfl ?_
    refine x_iload_n 0 dX9_ofSets_339 rfl ?_
    refine x_dup2 dX9_ofSets_340 rfl (rv_cat _) ?_
    obtain ⟨g94, hq⟩ := hq
    obtain ⟨i95, hq⟩ := hq
    refine x_lald g94 i95 dX9_ofSets_341 ?_
    refine x_aload_n 1 dX9_ofSets_342 rfl ?_
    refine x_get (v := rv (fR h91 x0 2308)) fdX9_32 dX9_ofSets_343 t93 rfl ?_
    refine x_aload_n 1 dX9_ofSets_346 rfl ?_
    refine x_get (v := .int (fI h91 x0 2310)) fdX9_86 dX9_ofSets_347 t93 rfl ?_
    obtain ⟨i96, hq⟩ := hq
    refine x_lald g94 i96 dX9_ofSets_350 ?_
    refine x_ldc2 (v := (-1)) q2971 dX9_ofSets_351 ?_
    refine x_lxor dX9_ofSets_354 ?_
    refine x_land dX9_ofSets_355 ?_
    obtain ⟨i97, hq⟩ := hq
    obtain ⟨h98, e99⟩ : ∃ y, y = tJ h91 (fR h91 x0 2308) (Int32.toNatClampNeg ((fI h x0 2310) - 1)) ((aJ h91 (fR h91 x0 2308) (Int32.toNatClampNeg ((fI h x0 2310) - 1))) &&& ((aJ h91 (fR h91 x0 2308) (Int32.toNatClampNeg (fI h91 x0 2310))) ^^^ (-1))) := ⟨_, rfl⟩
    replace hq := hq h98 e99
    refine x_last' g94 i97 dX9_ofSets_356 e99 ?_
    refine xP.pick (lv' := []) [] rfl ?_
    exact uX9_ofSets_357 hq
  replace hq := hq.2
  by_cases c100 : x1 = 41
  · replace hq := hq.1 c100
    refine x_tin (tgt := 80) (off := 72) 41 c100 dX9_ofSets_8 (by decide) (by decide) (by decide) (by decide) ?_
    refine x_aload_n 1 dX9_ofSets_80 rfl ?_
    refine x_get (v := rv (fR h x0 2307)) fdX9_28 dX9_ofSets_81 g1 rfl ?_
    refine x_iload_n 0 dX9_ofSets_84 rfl ?_
    obtain ⟨g101, hq⟩ := hq
    obtain ⟨i102, hq⟩ := hq
    refine x_lald g101 i102 dX9_ofSets_85 ?_
    refine x_lstore_n (lv' := [(3, .long (aJ h (fR h x0 2307) (Int32.toNatClampNeg ((fI h x0 2310) - 1)))), (2, .int ((fI h x0 2310) - 1)), (0, rv x0), (1, .int x1)]) dX9_ofSets_86 (by decide) rfl ?_
    refine x_lload_n 0 dX9_ofSets_87 rfl ?_
    refine x_lconst (v := 0) dX9_ofSets_88 (by decide) ?_
    refine x_lcmp dX9_ofSets_89 ?_
    refine x_if_lt (tgt := 128) dX9_ofSets_90 (by decide) (fun c103 => ?_) (fun c103 => ?_)
    · replace hq := hq.1 c103
      refine xP.pick (lv' := [(0, rv x0), (2, .int ((fI h x0 2310) - 1)), (3, .long (aJ h (fR h x0 2307) (Int32.toNatClampNeg ((fI h x0 2310) - 1))))]) [2, 1, 0] rfl ?_
      exact uX9_ofSets_128 hq
    · replace hq := hq.2 c103
      refine x_lload_n 0 dX9_ofSets_93 rfl ?_
      refine x_ldc2 (v := 64) q2969 dX9_ofSets_94 ?_
      refine x_lcmp dX9_ofSets_97 ?_
      refine x_if_ge (tgt := 128) dX9_ofSets_98 (by decide) (fun c104 => ?_) (fun c104 => ?_)
      · replace hq := hq.1 c104
        refine xP.pick (lv' := [(0, rv x0), (2, .int ((fI h x0 2310) - 1)), (3, .long (aJ h (fR h x0 2307) (Int32.toNatClampNeg ((fI h x0 2310) - 1))))]) [2, 1, 0] rfl ?_
        exact uX9_ofSets_128 hq
      · replace hq := hq.2 c104
        refine x_aload_n 2 dX9_ofSets_101 rfl ?_
        refine x_get (v := rv (fR h x0 2307)) fdX9_28 dX9_ofSets_102 g1 rfl ?_
        refine x_aload_n 2 dX9_ofSets_105 rfl ?_
        refine x_get (v := .int (fI h x0 2310)) fdX9_86 dX9_ofSets_106 g1 rfl ?_
        obtain ⟨i105, hq⟩ := hq
        refine x_lald g101 i105 dX9_ofSets_109 ?_
        refine x_lload_n 0 dX9_ofSets_110 rfl ?_
        refine x_l2i dX9_ofSets_111 ?_
        refine x_lshr dX9_ofSets_112 ?_
        refine x_lconst (v := 1) dX9_ofSets_113 (by decide) ?_
        refine x_land dX9_ofSets_114 ?_
        refine x_lconst (v := 1) dX9_ofSets_115 (by decide) ?_
        refine x_lcmp dX9_ofSets_116 ?_
        refine x_if_ne (tgt := 124) dX9_ofSets_117 (by decide) (fun c106 => ?_) (fun c106 => ?_)
        · replace hq := hq.1 c106
          refine x_iconst (v := 0) dX9_ofSets_124 (by decide) ?_
          refine x_goto (tgt := 172) dX9_ofSets_125 (by decide) ?_
          refine xP.pick (lv' := [(0, rv x0), (2, .int ((fI h x0 2310) - 1))]) [2, 1] rfl ?_
          exact uX9_ofSets_172 hq
        · replace hq := hq.2 c106
          refine x_iconst (v := 1) dX9_ofSets_120 (by decide) ?_
          refine x_goto (tgt := 172) dX9_ofSets_121 (by decide) ?_
          refine xP.pick (lv' := [(0, rv x0), (2, .int ((fI h x0 2310) - 1))]) [2, 1] rfl ?_
          exact uX9_ofSets_172 hq
  replace hq := hq.2
  by_cases c107 : x1 = 42
  · replace hq := hq.1 c107
    refine x_tin (tgt := 313) (off := 305) 42 c107 dX9_ofSets_8 (by decide) (by decide) (by decide) (by decide) ?_
    refine x_aload_n 1 dX9_ofSets_313 rfl ?_
    refine x_get (v := rv (fR h x0 2307)) fdX9_28 dX9_ofSets_314 g1 rfl ?_
    refine x_iload_n 0 dX9_ofSets_317 rfl ?_
    refine x_dup2 dX9_ofSets_318 rfl (rv_cat _) ?_
    obtain ⟨g108, hq⟩ := hq
    obtain ⟨i109, hq⟩ := hq
    refine x_lald g108 i109 dX9_ofSets_319 ?_
    refine x_aload_n 1 dX9_ofSets_320 rfl ?_
    refine x_get (v := rv (fR h x0 2307)) fdX9_28 dX9_ofSets_321 g1 rfl ?_
    refine x_aload_n 1 dX9_ofSets_324 rfl ?_
    refine x_get (v := .int (fI h x0 2310)) fdX9_86 dX9_ofSets_325 g1 rfl ?_
    obtain ⟨i110, hq⟩ := hq
    refine x_lald g108 i110 dX9_ofSets_328 ?_
    refine x_ldc2 (v := (-1)) q2971 dX9_ofSets_329 ?_
    refine x_lxor dX9_ofSets_332 ?_
    refine x_land dX9_ofSets_333 ?_
    obtain ⟨i111, hq⟩ := hq
    obtain ⟨h112, e113⟩ : ∃ y, y = tJ h (fR h x0 2307) (Int32.toNatClampNeg ((fI h x0 2310) - 1)) ((aJ h (fR h x0 2307) (Int32.toNatClampNeg ((fI h x0 2310) - 1))) &&& ((aJ h (fR h x0 2307) (Int32.toNatClampNeg (fI h x0 2310))) ^^^ (-1))) := ⟨_, rfl⟩
    replace hq := hq h112 e113
    refine x_last' g108 i111 dX9_ofSets_334 e113 ?_
    refine x_aload_n 1 dX9_ofSets_335 rfl ?_
    have t114 : tg h112 x0 = 10 := by rw [e113]; exact g1
    refine x_get (v := rv (fR h112 x0 2308)) fdX9_32 dX9_ofSets_336 t114 rfl ?_
    refine x_iload_n 0 dX9_ofSets_339 rfl ?_
    refine x_dup2 dX9_ofSets_340 rfl (rv_cat _) ?_
    obtain ⟨g115, hq⟩ := hq
    obtain ⟨i116, hq⟩ := hq
    refine x_lald g115 i116 dX9_ofSets_341 ?_
    refine x_aload_n 1 dX9_ofSets_342 rfl ?_
    refine x_get (v := rv (fR h112 x0 2308)) fdX9_32 dX9_ofSets_343 t114 rfl ?_
    refine x_aload_n 1 dX9_ofSets_346 rfl ?_
    refine x_get (v := .int (fI h112 x0 2310)) fdX9_86 dX9_ofSets_347 t114 rfl ?_
    obtain ⟨i117, hq⟩ := hq
    refine x_lald g115 i117 dX9_ofSets_350 ?_
    refine x_ldc2 (v := (-1)) q2971 dX9_ofSets_351 ?_
    refine x_lxor dX9_ofSets_354 ?_
    refine x_land dX9_ofSets_355 ?_
    obtain ⟨i118, hq⟩ := hq
    obtain ⟨h119, e120⟩ : ∃ y, y = tJ h112 (fR h112 x0 2308) (Int32.toNatClampNeg ((fI h x0 2310) - 1)) ((aJ h112 (fR h112 x0 2308) (Int32.toNatClampNeg ((fI h x0 2310) - 1))) &&& ((aJ h112 (fR h112 x0 2308) (Int32.toNatClampNeg (fI h112 x0 2310))) ^^^ (-1))) := ⟨_, rfl⟩
    replace hq := hq h119 e120
    refine x_last' g115 i118 dX9_ofSets_356 e120 ?_
    refine xP.pick (lv' := []) [] rfl ?_
    exact uX9_ofSets_357 hq
  replace hq := hq.2
  by_cases c121 : x1 = 43
  · replace hq := hq.1 c121
    refine x_tin (tgt := 313) (off := 305) 43 c121 dX9_ofSets_8 (by decide) (by decide) (by decide) (by decide) ?_
    refine x_aload_n 1 dX9_ofSets_313 rfl ?_
    refine x_get (v := rv (fR h x0 2307)) fdX9_28 dX9_ofSets_314 g1 rfl ?_
    refine x_iload_n 0 dX9_ofSets_317 rfl ?_
    refine x_dup2 dX9_ofSets_318 rfl (rv_cat _) ?_
    obtain ⟨g122, hq⟩ := hq
    obtain ⟨i123, hq⟩ := hq
    refine x_lald g122 i123 dX9_ofSets_319 ?_
    refine x_aload_n 1 dX9_ofSets_320 rfl ?_
    refine x_get (v := rv (fR h x0 2307)) fdX9_28 dX9_ofSets_321 g1 rfl ?_
    refine x_aload_n 1 dX9_ofSets_324 rfl ?_
    refine x_get (v := .int (fI h x0 2310)) fdX9_86 dX9_ofSets_325 g1 rfl ?_
    obtain ⟨i124, hq⟩ := hq
    refine x_lald g122 i124 dX9_ofSets_328 ?_
    refine x_ldc2 (v := (-1)) q2971 dX9_ofSets_329 ?_
    refine x_lxor dX9_ofSets_332 ?_
    refine x_land dX9_ofSets_333 ?_
    obtain ⟨i125, hq⟩ := hq
    obtain ⟨h126, e127⟩ : ∃ y, y = tJ h (fR h x0 2307) (Int32.toNatClampNeg ((fI h x0 2310) - 1)) ((aJ h (fR h x0 2307) (Int32.toNatClampNeg ((fI h x0 2310) - 1))) &&& ((aJ h (fR h x0 2307) (Int32.toNatClampNeg (fI h x0 2310))) ^^^ (-1))) := ⟨_, rfl⟩
    replace hq := hq h126 e127
    refine x_last' g122 i125 dX9_ofSets_334 e127 ?_
    refine x_aload_n 1 dX9_ofSets_335 rfl ?_
    have t128 : tg h126 x0 = 10 := by rw [e127]; exact g1
    refine x_get (v := rv (fR h126 x0 2308)) fdX9_32 dX9_ofSets_336 t128 rfl ?_
    refine x_iload_n 0 dX9_ofSets_339 rfl ?_
    refine x_dup2 dX9_ofSets_340 rfl (rv_cat _) ?_
    obtain ⟨g129, hq⟩ := hq
    obtain ⟨i130, hq⟩ := hq
    refine x_lald g129 i130 dX9_ofSets_341 ?_
    refine x_aload_n 1 dX9_ofSets_342 rfl ?_
    refine x_get (v := rv (fR h126 x0 2308)) fdX9_32 dX9_ofSets_343 t128 rfl ?_
    refine x_aload_n 1 dX9_ofSets_346 rfl ?_
    refine x_get (v := .int (fI h126 x0 2310)) fdX9_86 dX9_ofSets_347 t128 rfl ?_
    obtain ⟨i131, hq⟩ := hq
    refine x_lald g129 i131 dX9_ofSets_350 ?_
    refine x_ldc2 (v := (-1)) q2971 dX9_ofSets_351 ?_
    refine x_lxor dX9_ofSets_354 ?_
    refine x_land dX9_ofSets_355 ?_
    obtain ⟨i132, hq⟩ := hq
    obtain ⟨h133, e134⟩ : ∃ y, y = tJ h126 (fR h126 x0 2308) (Int32.toNatClampNeg ((fI h x0 2310) - 1)) ((aJ h126 (fR h126 x0 2308) (Int32.toNatClampNeg ((fI h x0 2310) - 1))) &&& ((aJ h126 (fR h126 x0 2308) (Int32.toNatClampNeg (fI h126 x0 2310))) ^^^ (-1))) := ⟨_, rfl⟩
    replace hq := hq h133 e134
    refine x_last' g129 i132 dX9_ofSets_356 e134 ?_
    refine xP.pick (lv' := []) [] rfl ?_
    exact uX9_ofSets_357 hq
  replace hq := hq.2
  by_cases c135 : x1 = 44
  · replace hq := hq.1 c135
    refine x_tin (tgt := 313) (off := 305) 44 c135 dX9_ofSets_8 (by decide) (by decide) (by decide) (by decide) ?_
    refine x_aload_n 1 dX9_ofSets_313 rfl ?_
    refine x_get (v := rv (fR h x0 2307)) fdX9_28 dX9_ofSets_314 g1 rfl ?_
    refine x_iload_n 0 dX9_ofSets_317 rfl ?_
    refine x_dup2 dX9_ofSets_318 rfl (rv_cat _) ?_
    obtain ⟨g136, hq⟩ := hq
    obtain ⟨i137, hq⟩ := hq
    refine x_lald g136 i137 dX9_ofSets_319 ?_
    refine x_aload_n 1 dX9_ofSets_320 rfl ?_
    refine x_get (v := rv (fR h x0 2307)) fdX9_28 dX9_ofSets_321 g1 rfl ?_
    refine x_aload_n 1 dX9_ofSets_324 rfl ?_
    refine x_get (v := .int (fI h x0 2310)) fdX9_86 dX9_ofSets_325 g1 rfl ?_
    obtain ⟨i138, hq⟩ := hq
    refine x_lald g136 i138 dX9_ofSets_328 ?_
    refine x_ldc2 (v := (-1)) q2971 dX9_ofSets_329 ?_
    refine x_lxor dX9_ofSets_332 ?_
    refine x_land dX9_ofSets_333 ?_
    obtain ⟨i139, hq⟩ := hq
    obtain ⟨h140, e141⟩ : ∃ y, y = tJ h (fR h x0 2307) (Int32.toNatClampNeg ((fI h x0 2310) - 1)) ((aJ h (fR h x0 2307) (Int32.toNatClampNeg ((fI h x0 2310) - 1))) &&& ((aJ h (fR h x0 2307) (Int32.toNatClampNeg (fI h x0 2310))) ^^^ (-1))) := ⟨_, rfl⟩
    replace hq := hq h140 e141
    refine x_last' g136 i139 dX9_ofSets_334 e141 ?_
    refine x_aload_n 1 dX9_ofSets_335 rfl ?_
    have t142 : tg h140 x0 = 10 := by rw [e141]; exact g1
    refine x_get (v := rv (fR h140 x0 2308)) fdX9_32 dX9_ofSets_336 t142 rfl ?_
    refine x_iload_n 0 dX9_ofSets_339 rfl ?_
    refine x_dup2 dX9_ofSets_340 rfl (rv_cat _) ?_
    obtain ⟨g143, hq⟩ := hq
    obtain ⟨i144, hq⟩ := hq
    refine x_lald g143 i144 dX9_ofSets_341 ?_
    refine x_aload_n 1 dX9_ofSets_342 rfl ?_
    refine x_get (v := rv (fR h140 x0 2308)) fdX9_32 dX9_ofSets_343 t142 rfl ?_
    refine x_aload_n 1 dX9_ofSets_346 rfl ?_
    refine x_get (v := .int (fI h140 x0 2310)) fdX9_86 dX9_ofSets_347 t142 rfl ?_
    obtain ⟨i145, hq⟩ := hq
    refine x_lald g143 i145 dX9_ofSets_350 ?_
    refine x_ldc2 (v := (-1)) q2971 dX9_ofSets_351 ?_
    refine x_lxor dX9_ofSets_354 ?_
    refine x_land dX9_ofSets_355 ?_
    obtain ⟨i146, hq⟩ := hq
    obtain ⟨h147, e148⟩ : ∃ y, y = tJ h140 (fR h140 x0 2308) (Int32.toNatClampNeg ((fI h x0 2310) - 1)) ((aJ h140 (fR h140 x0 2308) (Int32.toNatClampNeg ((fI h x0 2310) - 1))) &&& ((aJ h140 (fR h140 x0 2308) (Int32.toNatClampNeg (fI h140 x0 2310))) ^^^ (-1))) := ⟨_, rfl⟩
    replace hq := hq h147 e148
    refine x_last' g143 i146 dX9_ofSets_356 e148 ?_
    refine xP.pick (lv' := []) [] rfl ?_
    exact uX9_ofSets_357 hq
  replace hq := hq.2
  by_cases c149 : x1 = 45
  · replace hq := hq.1 c149
    refine x_tin (tgt := 193) (off := 185) 45 c149 dX9_ofSets_8 (by decide) (by decide) (by decide) (by decide) ?_
    refine x_aload_n 1 dX9_ofSets_193 rfl ?_
    refine x_get (v := rv (fR h x0 2307)) fdX9_28 dX9_ofSets_194 g1 rfl ?_
    refine x_iload_n 0 dX9_ofSets_197 rfl ?_
    refine x_dup2 dX9_ofSets_198 rfl (rv_cat _) ?_
    obtain ⟨g150, hq⟩ := hq
    obtain ⟨i151, hq⟩ := hq
    refine x_lald g150 i151 dX9_ofSets_199 ?_
    refine x_aload_n 1 dX9_ofSets_200 rfl ?_
    refine x_get (v := rv (fR h x0 2307)) fdX9_28 dX9_ofSets_201 g1 rfl ?_
    refine x_aload_n 1 dX9_ofSets_204 rfl ?_
    refine x_get (v := .int (fI h x0 2310)) fdX9_86 dX9_ofSets_205 g1 rfl ?_
    obtain ⟨i152, hq⟩ := hq
    refine x_lald g150 i152 dX9_ofSets_208 ?_
    refine x_lor dX9_ofSets_209 ?_
    obtain ⟨i153, hq⟩ := hq
    obtain ⟨h154, e155⟩ : ∃ y, y = tJ h (fR h x0 2307) (Int32.toNatClampNeg ((fI h x0 2310) - 1)) ((aJ h (fR h x0 2307) (Int32.toNatClampNeg ((fI h x0 2310) - 1))) ||| (aJ h (fR h x0 2307) (Int32.toNatClampNeg (fI h x0 2310)))) := ⟨_, rfl⟩
    replace hq := hq h154 e155
    refine x_last' g150 i153 dX9_ofSets_210 e155 ?_
    refine x_aload_n 1 dX9_ofSets_211 rfl ?_
    have t156 : tg h154 x0 = 10 := by rw [e155]; exact g1
    refine x_get (v := rv (fR h154 x0 2308)) fdX9_32 dX9_ofSets_212 t156 rfl ?_
    refine x_iload_n 0 dX9_ofSets_215 rfl ?_
    refine x_dup2 dX9_ofSets_216 rfl (rv_cat _) ?_
    obtain ⟨g157, hq⟩ := hq
    obtain ⟨i158, hq⟩ := hq
    refine x_lald g157 i158 dX9_ofSets_217 ?_
    refine x_aload_n 1 dX9_ofSets_218 rfl ?_
    refine x_get (v := rv (fR h154 x0 2308)) fdX9_32 dX9_ofSets_219 t156 rfl ?_
    refine x_aload_n 1 dX9_ofSets_222 rfl ?_
    refine x_get (v := .int (fI h154 x0 2310)) fdX9_86 dX9_ofSets_223 t156 rfl ?_
    obtain ⟨i159, hq⟩ := hq
    refine x_lald g157 i159 dX9_ofSets_226 ?_
    refine x_lor dX9_ofSets_227 ?_
    obtain ⟨i160, hq⟩ := hq
    obtain ⟨h161, e162⟩ : ∃ y, y = tJ h154 (fR h154 x0 2308) (Int32.toNatClampNeg ((fI h x0 2310) - 1)) ((aJ h154 (fR h154 x0 2308) (Int32.toNatClampNeg ((fI h x0 2310) - 1))) ||| (aJ h154 (fR h154 x0 2308) (Int32.toNatClampNeg (fI h154 x0 2310)))) := ⟨_, rfl⟩
    replace hq := hq h161 e162
    refine x_last' g157 i160 dX9_ofSets_228 e162 ?_
    refine x_goto (tgt := 357) dX9_ofSets_229 (by decide) ?_
    refine xP.pick (lv' := []) [] rfl ?_
    exact uX9_ofSets_357 hq
  replace hq := hq.2
  by_cases c163 : x1 = 46
  · replace hq := hq.1 c163
    refine x_tin (tgt := 232) (off := 224) 46 c163 dX9_ofSets_8 (by decide) (by decide) (by decide) (by decide) ?_
    refine x_aload_n 1 dX9_ofSets_232 rfl ?_
    refine x_get (v := rv (fR h x0 2307)) fdX9_28 dX9_ofSets_233 g1 rfl ?_
    refine x_iload_n 0 dX9_ofSets_236 rfl ?_
    refine x_dup2 dX9_ofSets_237 rfl (rv_cat _) ?_
    obtain ⟨g164, hq⟩ := hq
    obtain ⟨i165, hq⟩ := hq
    refine x_lald g164 i165 dX9_ofSets_238 ?_
    refine x_aload_n 1 dX9_ofSets_239 rfl ?_
    refine x_get (v := rv (fR h x0 2307)) fdX9_28 dX9_ofSets_240 g1 rfl ?_
    refine x_aload_n 1 dX9_ofSets_243 rfl ?_
    refine x_get (v := .int (fI h x0 2310)) fdX9_86 dX9_ofSets_244 g1 rfl ?_
    obtain ⟨i166, hq⟩ := hq
    refine x_lald g164 i166 dX9_ofSets_247 ?_
    refine x_land dX9_ofSets_248 ?_
    obtain ⟨i167, hq⟩ := hq
    obtain ⟨h168, e169⟩ : ∃ y, y = tJ h (fR h x0 2307) (Int32.toNatClampNeg ((fI h x0 2310) - 1)) ((aJ h (fR h x0 2307) (Int32.toNatClampNeg ((fI h x0 2310) - 1))) &&& (aJ h (fR h x0 2307) (Int32.toNatClampNeg (fI h x0 2310)))) := ⟨_, rfl⟩
    replace hq := hq h168 e169
    refine x_last' g164 i167 dX9_ofSets_249 e169 ?_
    refine x_aload_n 1 dX9_ofSets_250 rfl ?_
    have t170 : tg h168 x0 = 10 := by rw [e169]; exact g1
    refine x_get (v := rv (fR h168 x0 2308)) fdX9_32 dX9_ofSets_251 t170 rfl ?_
    refine x_iload_n 0 dX9_ofSets_254 rfl ?_
    refine x_dup2 dX9_ofSets_255 rfl (rv_cat _) ?_
    obtain ⟨g171, hq⟩ := hq
    obtain ⟨i172, hq⟩ := hq
    refine x_lald g171 i172 dX9_ofSets_256 ?_
    refine x_aload_n 1 dX9_ofSets_257 rfl ?_
    refine x_get (v := rv (fR h168 x0 2308)) fdX9_32 dX9_ofSets_258 t170 rfl ?_
    refine x_aload_n 1 dX9_ofSets_261 rfl ?_
    refine x_get (v := .int (fI h168 x0 2310)) fdX9_86 dX9_ofSets_262 t170 rfl ?_
    obtain ⟨i173, hq⟩ := hq
    refine x_lald g171 i173 dX9_ofSets_265 ?_
    refine x_land dX9_ofSets_266 ?_
    obtain ⟨i174, hq⟩ := hq
    obtain ⟨h175, e176⟩ : ∃ y, y = tJ h168 (fR h168 x0 2308) (Int32.toNatClampNeg ((fI h x0 2310) - 1)) ((aJ h168 (fR h168 x0 2308) (Int32.toNatClampNeg ((fI h x0 2310) - 1))) &&& (aJ h168 (fR h168 x0 2308) (Int32.toNatClampNeg (fI h168 x0 2310)))) := ⟨_, rfl⟩
    replace hq := hq h175 e176
    refine x_last' g171 i174 dX9_ofSets_267 e176 ?_
    refine x_goto (tgt := 357) dX9_ofSets_268 (by decide) ?_
    refine xP.pick (lv' := []) [] rfl ?_
    exact uX9_ofSets_357 hq
  replace hq := hq.2
  replace hq := hq c2 c9 c16 c30 c44 c58 c72 c86 c100 c107 c121 c135 c149 c163
  have nc2 := lv_neT c2 (show (33 : Int32).toInt = 33 from by decide)
  have nc9 := lv_neT c9 (show (34 : Int32).toInt = 34 from by decide)
  have nc16 := lv_neT c16 (show (35 : Int32).toInt = 35 from by decide)
  have nc30 := lv_neT c30 (show (36 : Int32).toInt = 36 from by decide)
  have nc44 := lv_neT c44 (show (37 : Int32).toInt = 37 from by decide)
  have nc58 := lv_neT c58 (show (38 : Int32).toInt = 38 from by decide)
  have nc72 := lv_neT c72 (show (39 : Int32).toInt = 39 from by decide)
  have nc86 := lv_neT c86 (show (40 : Int32).toInt = 40 from by decide)
  have nc100 := lv_neT c100 (show (41 : Int32).toInt = 41 from by decide)
  have nc107 := lv_neT c107 (show (42 : Int32).toInt = 42 from by decide)
  have nc121 := lv_neT c121 (show (43 : Int32).toInt = 43 from by decide)
  have nc135 := lv_neT c135 (show (44 : Int32).toInt = 44 from by decide)
  have nc149 := lv_neT c149 (show (45 : Int32).toInt = 45 from by decide)
  have nc163 := lv_neT c163 (show (46 : Int32).toInt = 46 from by decide)
  refine x_tout (tgt := 313) dX9_ofSets_8 (by omega) (by decide) ?_
  refine x_aload_n 1 dX9_ofSets_313 rfl ?_
  refine x_get (v := rv (fR h x0 2307)) fdX9_28 dX9_ofSets_314 g1 rfl ?_
  refine x_iload_n 0 dX9_ofSets_317 rfl ?_
  refine x_dup2 dX9_ofSets_318 rfl (rv_cat _) ?_
  obtain ⟨g177, hq⟩ := hq
  obtain ⟨i178, hq⟩ := hq
  refine x_lald g177 i178 dX9_ofSets_319 ?_
  refine x_aload_n 1 dX9_ofSets_320 rfl ?_
  refine x_get (v := rv (fR h x0 2307)) fdX9_28 dX9_ofSets_321 g1 rfl ?_
  refine x_aload_n 1 dX9_ofSets_324 rfl ?_
  refine x_get (v := .int (fI h x0 2310)) fdX9_86 dX9_ofSets_325 g1 rfl ?_
  obtain ⟨i179, hq⟩ := hq
  refine x_lald g177 i179 dX9_ofSets_328 ?_
  refine x_ldc2 (v := (-1)) q2971 dX9_ofSets_329 ?_
  refine x_lxor dX9_ofSets_332 ?_
  refine x_land dX9_ofSets_333 ?_
  obtain ⟨i180, hq⟩ := hq
  obtain ⟨h181, e182⟩ : ∃ y, y = tJ h (fR h x0 2307) (Int32.toNatClampNeg ((fI h x0 2310) - 1)) ((aJ h (fR h x0 2307) (Int32.toNatClampNeg ((fI h x0 2310) - 1))) &&& ((aJ h (fR h x0 2307) (Int32.toNatClampNeg (fI h x0 2310))) ^^^ (-1))) := ⟨_, rfl⟩
  replace hq := hq h181 e182
  refine x_last' g177 i180 dX9_ofSets_334 e182 ?_
  refine x_aload_n 1 dX9_ofSets_335 rfl ?_
  have t183 : tg h181 x0 = 10 := by rw [e182]; exact g1
  refine x_get (v := rv (fR h181 x0 2308)) fdX9_32 dX9_ofSets_336 t183 rfl ?_
  refine x_iload_n 0 dX9_ofSets_339 rfl ?_
  refine x_dup2 dX9_ofSets_340 rfl (rv_cat _) ?_
  obtain ⟨g184, hq⟩ := hq
  obtain ⟨i185, hq⟩ := hq
  refine x_lald g184 i185 dX9_ofSets_341 ?_
  refine x_aload_n 1 dX9_ofSets_342 rfl ?_
  refine x_get (v := rv (fR h181 x0 2308)) fdX9_32 dX9_ofSets_343 t183 rfl ?_
  refine x_aload_n 1 dX9_ofSets_346 rfl ?_
  refine x_get (v := .int (fI h181 x0 2310)) fdX9_86 dX9_ofSets_347 t183 rfl ?_
  obtain ⟨i186, hq⟩ := hq
  refine x_lald g184 i186 dX9_ofSets_350 ?_
  refine x_ldc2 (v := (-1)) q2971 dX9_ofSets_351 ?_
  refine x_lxor dX9_ofSets_354 ?_
  refine x_land dX9_ofSets_355 ?_
  obtain ⟨i187, hq⟩ := hq
  obtain ⟨h188, e189⟩ : ∃ y, y = tJ h181 (fR h181 x0 2308) (Int32.toNatClampNeg ((fI h x0 2310) - 1)) ((aJ h181 (fR h181 x0 2308) (Int32.toNatClampNeg ((fI h x0 2310) - 1))) &&& ((aJ h181 (fR h181 x0 2308) (Int32.toNatClampNeg (fI h181 x0 2310))) ^^^ (-1))) := ⟨_, rfl⟩
  replace hq := hq h188 e189
  refine x_last' g184 i187 dX9_ofSets_356 e189 ?_
  refine xP.pick (lv' := []) [] rfl ?_
  exact uX9_ofSets_357 hq
theorem rX9_ofSets {G : xG} {fr lo : Nat} {x0 : Nat} {x1 : Int32} {h : xH} {Q : Outcome → xH → Prop} (hq : bX9_ofSets G fr lo x0 x1 h Q) : xR G YX9_ofSets fr lo [rv x0, .int x1] h Q := by
  show xP _ _ _ _ _ (lv_args 0 _) _ _ _
  rw [show lv_args 0 [rv x0, .int x1] = [(0, rv x0), (1, .int x1)] from (xla1 (rv_cat _) (xla1 rfl xla0))]
  exact uX9_ofSets hq
set_option maxRecDepth 100000 in
theorem dX9_is_0 : decode cX9_is 0 = .ok (.iload_n 0, 1) := by decide +kernel
set_option maxRecDepth 100000 in
theorem dX9_is_1 : decode cX9_is 1 = .ok (.tableswitch 85 0 4 #[35, 45, 55, 65, 75], 35) := by decide +kernel
set_option maxRecDepth 100000 in
theorem dX9_is_36 : decode cX9_is 36 = .ok (.iload_n 1, 1) := by decide +kernel
set_option maxRecDepth 100000 in
theorem dX9_is_37 : decode cX9_is 37 = .ok (.ifCond .ne 7, 3) := by decide +kernel
set_option maxRecDepth 100000 in
theorem dX9_is_40 : decode cX9_is 40 = .ok (.iconst 1, 1) := by decide +kernel
set_option maxRecDepth 100000 in
theorem dX9_is_41 : decode cX9_is 41 = .ok (.goto 4, 3) := by decide +kernel
set_option maxRecDepth 100000 in
theorem dX9_is_44 : decode cX9_is 44 = .ok (.iconst 0, 1) := by decide +kernel
set_option maxRecDepth 100000 in
theorem dX9_is_45 : decode cX9_is 45 = .ok (.ireturn, 1) := by decide +kernel
set_option maxRecDepth 100000 in
theorem dX9_is_46 : decode cX9_is 46 = .ok (.iload_n 1, 1) := by decide +kernel
set_option maxRecDepth 100000 in
theorem dX9_is_47 : decode cX9_is 47 = .ok (.ifCond .eq 7, 3) := by decide +kernel
set_option maxRecDepth 100000 in
theorem dX9_is_50 : decode cX9_is 50 = .ok (.iconst 1, 1) := by decide +kernel
set_option maxRecDepth 100000 in
theorem dX9_is_51 : decode cX9_is 51 = .ok (.goto 4, 3) := by decide +kernel
set_option maxRecDepth 100000 in
theorem dX9_is_54 : decode cX9_is 54 = .ok (.iconst 0, 1) := by decide +kernel
set_option maxRecDepth 100000 in
theorem dX9_is_55 : decode cX9_is 55 = .ok (.ireturn, 1) := by decide +kernel
set_option maxRecDepth 100000 in
theorem dX9_is_56 : decode cX9_is 56 = .ok (.iload_n 1, 1) := by decide +kernel
set_option maxRecDepth 100000 in
theorem dX9_is_57 : decode cX9_is 57 = .ok (.ifCond .ge 7, 3) := by decide +kernel
set_option maxRecDepth 100000 in
theorem dX9_is_60 : decode cX9_is 60 = .ok (.iconst 1, 1) := by decide +kernel
set_option maxRecDepth 100000 in
theorem dX9_is_61 : decode cX9_is 61 = .ok (.goto 4, 3) := by decide +kernel
set_option maxRecDepth 100000 in
theorem dX9_is_64 : decode cX9_is 64 = .ok (.iconst 0, 1) := by decide +kernel
set_option maxRecDepth 100000 in
theorem dX9_is_65 : decode cX9_is 65 = .ok (.ireturn, 1) := by decide +kernel
set_option maxRecDepth 100000 in
theorem dX9_is_66 : decode cX9_is 66 = .ok (.iload_n 1, 1) := by decide +kernel
set_option maxRecDepth 100000 in
theorem dX9_is_67 : decode cX9_is 67 = .ok (.ifCond .le 7, 3) := by decide +kernel
set_option maxRecDepth 100000 in
theorem dX9_is_70 : decode cX9_is 70 = .ok (.iconst 1, 1) := by decide +kernel
set_option maxRecDepth 100000 in
theorem dX9_is_71 : decode cX9_is 71 = .ok (.goto 4, 3) := by decide +kernel
set_option maxRecDepth 100000 in
theorem dX9_is_74 : decode cX9_is 74 = .ok (.iconst 0, 1) := by decide +kernel
set_option maxRecDepth 100000 in
theorem dX9_is_75 : decode cX9_is 75 = .ok (.ireturn, 1) := by decide +kernel
set_option maxRecDepth 100000 in
theorem dX9_is_76 : decode cX9_is 76 = .ok (.iload_n 1, 1) := by decide +kernel
set_option maxRecDepth 100000 in
theorem dX9_is_77 : decode cX9_is 77 = .ok (.ifCond .gt 7, 3) := by decide +kernel
set_option maxRecDepth 100000 in
theorem dX9_is_80 : decode cX9_is 80 = .ok (.iconst 1, 1) := by decide +kernel
set_option maxRecDepth 100000 in
theorem dX9_is_81 : decode cX9_is 81 = .ok (.goto 4, 3) := by decide +kernel
set_option maxRecDepth 100000 in
theorem dX9_is_84 : decode cX9_is 84 = .ok (.iconst 0, 1) := by decide +kernel
set_option maxRecDepth 100000 in
theorem dX9_is_85 : decode cX9_is 85 = .ok (.ireturn, 1) := by decide +kernel
set_option maxRecDepth 100000 in
theorem dX9_is_86 : decode cX9_is 86 = .ok (.iload_n 1, 1) := by decide +kernel
set_option maxRecDepth 100000 in
theorem dX9_is_87 : decode cX9_is 87 = .ok (.ifCond .lt 7, 3) := by decide +kernel
set_option maxRecDepth 100000 in
theorem dX9_is_90 : decode cX9_is 90 = .ok (.iconst 1, 1) := by decide +kernel
set_option maxRecDepth 100000 in
theorem dX9_is_91 : decode cX9_is 91 = .ok (.goto 4, 3) := by decide +kernel
set_option maxRecDepth 100000 in
theorem dX9_is_94 : decode cX9_is 94 = .ok (.iconst 0, 1) := by decide +kernel
set_option maxRecDepth 100000 in
theorem dX9_is_95 : decode cX9_is 95 = .ok (.ireturn, 1) := by decide +kernel
set_option maxRecDepth 100000 in
def bX9_is_95 (G : xG) (fr lo : Nat) (s0 : Int32) (h : xH) (Q : Outcome → xH → Prop) : Prop := xbz s0 ∧ Q (.returned (some (.int s0))) h
set_option maxRecDepth 100000 in
theorem uX9_is_95 {G : xG} {fr lo : Nat} {s0 : Int32} {h : xH} {Q : Outcome → xH → Prop} (hq : bX9_is_95 G fr lo s0 h Q) : xP G YX9_is fr lo 95 [] [.int s0] h Q := by
  unfold bX9_is_95 at hq
  obtain ⟨g1, hq⟩ := hq
  exact x_iret rfl (xnZ g1) dX9_is_95 hq
set_option maxRecDepth 100000 in
def bX9_is_85 (G : xG) (fr lo : Nat) (s0 : Int32) (h : xH) (Q : Outcome → xH → Prop) : Prop := xbz s0 ∧ Q (.returned (some (.int s0))) h
set_option maxRecDepth 100000 in
theorem uX9_is_85 {G : xG} {fr lo : Nat} {s0 : Int32} {h : xH} {Q : Outcome → xH → Prop} (hq : bX9_is_85 G fr lo s0 h Q) : xP G YX9_is fr lo 85 [] [.int s0] h Q := by
  unfold bX9_is_85 at hq
  obtain ⟨g1, hq⟩ := hq
  exact x_iret rfl (xnZ g1) dX9_is_85 hq
set_option maxRecDepth 100000 in
def bX9_is_75 (G : xG) (fr lo : Nat) (s0 : Int32) (h : xH) (Q : Outcome → xH → Prop) : Prop := xbz s0 ∧ Q (.returned (some (.int s0))) h
set_option maxRecDepth 100000 in
theorem uX9_is_75 {G : xG} {fr lo : Nat} {s0 : Int32} {h : xH} {Q : Outcome → xH → Prop} (hq : bX9_is_75 G fr lo s0 h Q) : xP G YX9_is fr lo 75 [] [.int s0] h Q := by
  unfold bX9_is_75 at hq
  obtain ⟨g1, hq⟩ := hq
  exact x_iret rfl (xnZ g1) dX9_is_75 hq
set_option maxRecDepth 100000 in
def bX9_is_65 (G : xG) (fr lo : Nat) (s0 : Int32) (h : xH) (Q : Outcome → xH → Prop) : Prop := xbz s0 ∧ Q (.returned (some (.int s0))) h
set_option maxRecDepth 100000 in
theorem uX9_is_65 {G : xG} {fr lo : Nat} {s0 : Int32} {h : xH} {Q : Outcome → xH → Prop} (hq : bX9_is_65 G fr lo s0 h Q) : xP G YX9_is fr lo 65 [] [.int s0] h Q := by
  unfold bX9_is_65 at hq
  obtain ⟨g1, hq⟩ := hq
  exact x_iret rfl (xnZ g1) dX9_is_65 hq
set_option maxRecDepth 100000 in
def bX9_is_55 (G : xG) (fr lo : Nat) (s0 : Int32) (h : xH) (Q : Outcome → xH → Prop) : Prop := xbz s0 ∧ Q (.returned (some (.int s0))) h
set_option maxRecDepth 100000 in
theorem uX9_is_55 {G : xG} {fr lo : Nat} {s0 : Int32} {h : xH} {Q : Outcome → xH → Prop} (hq : bX9_is_55 G fr lo s0 h Q) : xP G YX9_is fr lo 55 [] [.int s0] h Q := by
  unfold bX9_is_55 at hq
  obtain ⟨g1, hq⟩ := hq
  exact x_iret rfl (xnZ g1) dX9_is_55 hq
set_option maxRecDepth 100000 in
def bX9_is_45 (G : xG) (fr lo : Nat) (s0 : Int32) (h : xH) (Q : Outcome → xH → Prop) : Prop := xbz s0 ∧ Q (.returned (some (.int s0))) h
set_option maxRecDepth 100000 in
theorem uX9_is_45 {G : xG} {fr lo : Nat} {s0 : Int32} {h : xH} {Q : Outcome → xH → Prop} (hq : bX9_is_45 G fr lo s0 h Q) : xP G YX9_is fr lo 45 [] [.int s0] h Q := by
  unfold bX9_is_45 at hq
  obtain ⟨g1, hq⟩ := hq
  exact x_iret rfl (xnZ g1) dX9_is_45 hq
set_option maxRecDepth 100000 in
def bX9_is (G : xG) (fr lo : Nat) (x0 : Int32) (x1 : Int32) (h : xH) (Q : Outcome → xH → Prop) : Prop := ((x0 = 0 → ((¬ x1 = 0 → bX9_is_45 G fr lo 0 h Q) ∧ (x1 = 0 → bX9_is_45 G fr lo 1 h Q))) ∧ (x0 = 1 → ((x1 = 0 → bX9_is_55 G fr lo 0 h Q) ∧ (¬ x1 = 0 → bX9_is_55 G fr lo 1 h Q))) ∧ (x0 = 2 → ((0 ≤ x1 → bX9_is_65 G fr lo 0 h Q) ∧ (¬ 0 ≤ x1 → bX9_is_65 G fr lo 1 h Q))) ∧ (x0 = 3 → ((x1 ≤ 0 → bX9_is_75 G fr lo 0 h Q) ∧ (¬ x1 ≤ 0 → bX9_is_75 G fr lo 1 h Q))) ∧ (x0 = 4 → ((0 < x1 → bX9_is_85 G fr lo 0 h Q) ∧ (¬ 0 < x1 → bX9_is_85 G fr lo 1 h Q))) ∧ (¬ x0 = 0 → ¬ x0 = 1 → ¬ x0 = 2 → ¬ x0 = 3 → ¬ x0 = 4 → ((x1 < 0 → bX9_is_95 G fr lo 0 h Q) ∧ (¬ x1 < 0 → bX9_is_95 G fr lo 1 h Q))))
set_option maxRecDepth 100000 in
theorem uX9_is {G : xG} {fr lo : Nat} {x0 : Int32} {x1 : Int32} {h : xH} {Q : Outcome → xH → Prop} (hq : bX9_is G fr lo x0 x1 h Q) : xP G YX9_is fr lo 0 [(0, .int x0), (1, .int x1)] [] h Q := by
  unfold bX9_is at hq
  refine x_iload_n 0 dX9_is_0 rfl ?_
  by_cases c1 : x0 = 0
  · replace hq := hq.1 c1
    refine x_tin (tgt := 36) (off := 35) 0 c1 dX9_is_1 (by decide) (by decide) (by decide) (by decide) ?_
    refine x_iload_n 1 dX9_is_36 rfl ?_
    refine x_if_ne (tgt := 44) dX9_is_37 (by decide) (fun c2 => ?_) (fun c2 => ?_)
    · replace hq := hq.1 c2
      refine x_iconst (v := 0) dX9_is_44 (by decide) ?_
      refine xP.pick (lv' := []) [] rfl ?_
      exact uX9_is_45 hq
    · replace hq := hq.2 c2
      refine x_iconst (v := 1) dX9_is_40 (by decide) ?_
      refine x_goto (tgt := 45) dX9_is_41 (by decide) ?_
      refine xP.pick (lv' := []) [] rfl ?_
      exact uX9_is_45 hq
  replace hq := hq.2
  by_cases c3 : x0 = 1
  · replace hq := hq.1 c3
    refine x_tin (tgt := 46) (off := 45) 1 c3 dX9_is_1 (by decide) (by decide) (by decide) (by decide) ?_
    refine x_iload_n 1 dX9_is_46 rfl ?_
    refine x_if_eq (tgt := 54) dX9_is_47 (by decide) (fun c4 => ?_) (fun c4 => ?_)
    · replace hq := hq.1 c4
      refine x_iconst (v := 0) dX9_is_54 (by decide) ?_
      refine xP.pick (lv' := []) [] rfl ?_
      exact uX9_is_55 hq
    · replace hq := hq.2 c4
      refine x_iconst (v := 1) dX9_is_50 (by decide) ?_
      refine x_goto (tgt := 55) dX9_is_51 (by decide) ?_
      refine xP.pick (lv' := []) [] rfl ?_
      exact uX9_is_55 hq
  replace hq := hq.2
  by_cases c5 : x0 = 2
  · replace hq := hq.1 c5
    refine x_tin (tgt := 56) (off := 55) 2 c5 dX9_is_1 (by decide) (by decide) (by decide) (by decide) ?_
    refine x_iload_n 1 dX9_is_56 rfl ?_
    refine x_if_ge (tgt := 64) dX9_is_57 (by decide) (fun c6 => ?_) (fun c6 => ?_)
    · replace hq := hq.1 c6
      refine x_iconst (v := 0) dX9_is_64 (by decide) ?_
      refine xP.pick (lv' := []) [] rfl ?_
      exact uX9_is_65 hq
    · replace hq := hq.2 c6
      refine x_iconst (v := 1) dX9_is_60 (by decide) ?_
      refine x_goto (tgt := 65) dX9_is_61 (by decide) ?_
      refine xP.pick (lv' := []) [] rfl ?_
      exact uX9_is_65 hq
  replace hq := hq.2
  by_cases c7 : x0 = 3
  · replace hq := hq.1 c7
    refine x_tin (tgt := 66) (off := 65) 3 c7 dX9_is_1 (by decide) (by decide) (by decide) (by decide) ?_
    refine x_iload_n 1 dX9_is_66 rfl ?_
    refine x_if_le (tgt := 74) dX9_is_67 (by decide) (fun c8 => ?_) (fun c8 => ?_)
    · replace hq := hq.1 c8
      refine x_iconst (v := 0) dX9_is_74 (by decide) ?_
      refine xP.pick (lv' := []) [] rfl ?_
      exact uX9_is_75 hq
    · replace hq := hq.2 c8
      refine x_iconst (v := 1) dX9_is_70 (by decide) ?_
      refine x_goto (tgt := 75) dX9_is_71 (by decide) ?_
      refine xP.pick (lv' := []) [] rfl ?_
      exact uX9_is_75 hq
  replace hq := hq.2
  by_cases c9 : x0 = 4
  · replace hq := hq.1 c9
    refine x_tin (tgt := 76) (off := 75) 4 c9 dX9_is_1 (by decide) (by decide) (by decide) (by decide) ?_
    refine x_iload_n 1 dX9_is_76 rfl ?_
    refine x_if_gt (tgt := 84) dX9_is_77 (by decide) (fun c10 => ?_) (fun c10 => ?_)
    · replace hq := hq.1 c10
      refine x_iconst (v := 0) dX9_is_84 (by decide) ?_
      refine xP.pick (lv' := []) [] rfl ?_
      exact uX9_is_85 hq
    · replace hq := hq.2 c10
      refine x_iconst (v := 1) dX9_is_80 (by decide) ?_
      refine x_goto (tgt := 85) dX9_is_81 (by decide) ?_
      refine xP.pick (lv' := []) [] rfl ?_
      exact uX9_is_85 hq
  replace hq := hq.2
  replace hq := hq c1 c3 c5 c7 c9
  have nc1 := lv_neT c1 (show (0 : Int32).toInt = 0 from by decide)
  have nc3 := lv_neT c3 (show (1 : Int32).toInt = 1 from by decide)
  have nc5 := lv_neT c5 (show (2 : Int32).toInt = 2 from by decide)
  have nc7 := lv_neT c7 (show (3 : Int32).toInt = 3 from by decide)
  have nc9 := lv_neT c9 (show (4 : Int32).toInt = 4 from by decide)
  refine x_tout (tgt := 86) dX9_is_1 (by omega) (by decide) ?_
  refine x_iload_n 1 dX9_is_86 rfl ?_
  refine x_if_lt (tgt := 94) dX9_is_87 (by decide) (fun c11 => ?_) (fun c11 => ?_)
  · replace hq := hq.1 c11
    refine x_iconst (v := 0) dX9_is_94 (by decide) ?_
    refine xP.pick (lv' := []) [] rfl ?_
    exact uX9_is_95 hq
  · replace hq := hq.2 c11
    refine x_iconst (v := 1) dX9_is_90 (by decide) ?_
    refine x_goto (tgt := 95) dX9_is_91 (by decide) ?_
    refine xP.pick (lv' := []) [] rfl ?_
    exact uX9_is_95 hq
theorem rX9_is {G : xG} {fr lo : Nat} {x0 : Int32} {x1 : Int32} {h : xH} {Q : Outcome → xH → Prop} (hq : bX9_is G fr lo x0 x1 h Q) : xR G YX9_is fr lo [.int x0, .int x1] h Q := by
  show xP _ _ _ _ _ (lv_args 0 _) _ _ _
  rw [show lv_args 0 [.int x0, .int x1] = [(0, .int x0), (1, .int x1)] from (xla1 rfl (xla1 rfl xla0))]
  exact uX9_is hq
set_option maxRecDepth 100000 in
theorem dX9_strings_0 : decode cX9_strings 0 = .ok (.aload_n 0, 1) := by decide +kernel
set_option maxRecDepth 100000 in
theorem dX9_strings_1 : decode cX9_strings 1 = .ok (.iload_n 3, 1) := by decide +kernel
set_option maxRecDepth 100000 in
theorem dX9_strings_2 : decode cX9_strings 2 = .ok (.iload 4, 2) := by decide +kernel
set_option maxRecDepth 100000 in
theorem dX9_strings_4 : decode cX9_strings 4 = .ok (.invokevirtual 273, 3) := by decide +kernel
set_option maxRecDepth 100000 in
theorem dX9_strings_7 : decode cX9_strings 7 = .ok (.ifCond .ne 5, 3) := by decide +kernel
set_option maxRecDepth 100000 in
theorem dX9_strings_10 : decode cX9_strings 10 = .ok (.iconst 0, 1) := by decide +kernel
set_option maxRecDepth 100000 in
theorem dX9_strings_11 : decode cX9_strings 11 = .ok (.ireturn, 1) := by decide +kernel
set_option maxRecDepth 100000 in
theorem dX9_strings_12 : decode cX9_strings 12 = .ok (.aload_n 0, 1) := by decide +kernel
set_option maxRecDepth 100000 in
theorem dX9_strings_13 : decode cX9_strings 13 = .ok (.iload_n 1, 1) := by decide +kernel
set_option maxRecDepth 100000 in
theorem dX9_strings_14 : decode cX9_strings 14 = .ok (.iload_n 3, 1) := by decide +kernel
set_option maxRecDepth 100000 in
theorem dX9_strings_15 : decode cX9_strings 15 = .ok (.invokevirtual 333, 3) := by decide +kernel
set_option maxRecDepth 100000 in
theorem dX9_strings_18 : decode cX9_strings 18 = .ok (.ifCond .eq 12, 3) := by decide +kernel
set_option maxRecDepth 100000 in
theorem dX9_strings_21 : decode cX9_strings 21 = .ok (.aload_n 0, 1) := by decide +kernel
set_option maxRecDepth 100000 in
theorem dX9_strings_22 : decode cX9_strings 22 = .ok (.iload_n 2, 1) := by decide +kernel
set_option maxRecDepth 100000 in
theorem dX9_strings_23 : decode cX9_strings 23 = .ok (.iload_n 3, 1) := by decide +kernel
set_option maxRecDepth 100000 in
theorem dX9_strings_24 : decode cX9_strings 24 = .ok (.invokevirtual 333, 3) := by decide +kernel
set_option maxRecDepth 100000 in
theorem dX9_strings_27 : decode cX9_strings 27 = .ok (.ifCond .ne 10, 3) := by decide +kernel
set_option maxRecDepth 100000 in
theorem dX9_strings_30 : decode cX9_strings 30 = .ok (.aload_n 0, 1) := by decide +kernel
set_option maxRecDepth 100000 in
theorem dX9_strings_31 : decode cX9_strings 31 = .ok (.iconst 5, 1) := by decide +kernel
set_option maxRecDepth 100000 in
theorem dX9_strings_32 : decode cX9_strings 32 = .ok (.iload 4, 2) := by decide +kernel
set_option maxRecDepth 100000 in
theorem dX9_strings_34 : decode cX9_strings 34 = .ok (.invokevirtual 147, 3) := by decide +kernel
set_option maxRecDepth 100000 in
theorem dX9_strings_37 : decode cX9_strings 37 = .ok (.iconst 0, 1) := by decide +kernel
set_option maxRecDepth 100000 in
theorem dX9_strings_38 : decode cX9_strings 38 = .ok (.istore 5, 2) := by decide +kernel
set_option maxRecDepth 100000 in
theorem dX9_strings_40 : decode cX9_strings 40 = .ok (.iload 5, 2) := by decide +kernel
set_option maxRecDepth 100000 in
theorem dX9_strings_42 : decode cX9_strings 42 = .ok (.iload_n 3, 1) := by decide +kernel
set_option maxRecDepth 100000 in
theorem dX9_strings_43 : decode cX9_strings 43 = .ok (.if_icmp .ge 71, 3) := by decide +kernel
set_option maxRecDepth 100000 in
theorem dX9_strings_46 : decode cX9_strings 46 = .ok (.aload_n 0, 1) := by decide +kernel
set_option maxRecDepth 100000 in
theorem dX9_strings_47 : decode cX9_strings 47 = .ok (.getfield 12, 3) := by decide +kernel
set_option maxRecDepth 100000 in
theorem dX9_strings_50 : decode cX9_strings 50 = .ok (.getfield 218, 3) := by decide +kernel
set_option maxRecDepth 100000 in
theorem dX9_strings_53 : decode cX9_strings 53 = .ok (.iload_n 1, 1) := by decide +kernel
set_option maxRecDepth 100000 in
theorem dX9_strings_54 : decode cX9_strings 54 = .ok (.iload 5, 2) := by decide +kernel
set_option maxRecDepth 100000 in
theorem dX9_strings_56 : decode cX9_strings 56 = .ok (.iadd, 1) := by decide +kernel
set_option maxRecDepth 100000 in
theorem dX9_strings_57 : decode cX9_strings 57 = .ok (.laload, 1) := by decide +kernel
set_option maxRecDepth 100000 in
theorem dX9_strings_58 : decode cX9_strings 58 = .ok (.aload_n 0, 1) := by decide +kernel
set_option maxRecDepth 100000 in
theorem dX9_strings_59 : decode cX9_strings 59 = .ok (.getfield 12, 3) := by decide +kernel
set_option maxRecDepth 100000 in
theorem dX9_strings_62 : decode cX9_strings 62 = .ok (.getfield 218, 3) := by decide +kernel
set_option maxRecDepth 100000 in
theorem dX9_strings_65 : decode cX9_strings 65 = .ok (.iload_n 2, 1) := by decide +kernel
set_option maxRecDepth 100000 in
theorem dX9_strings_66 : decode cX9_strings 66 = .ok (.iload 5, 2) := by decide +kernel
set_option maxRecDepth 100000 in
theorem dX9_strings_68 : decode cX9_strings 68 = .ok (.iadd, 1) := by decide +kernel
set_option maxRecDepth 100000 in
theorem dX9_strings_69 : decode cX9_strings 69 = .ok (.laload, 1) := by decide +kernel
set_option maxRecDepth 100000 in
theorem dX9_strings_70 : decode cX9_strings 70 = .ok (.lcmp, 1) := by decide +kernel
set_option maxRecDepth 100000 in
theorem dX9_strings_71 : decode cX9_strings 71 = .ok (.ifCond .eq 37, 3) := by decide +kernel
set_option maxRecDepth 100000 in
theorem dX9_strings_74 : decode cX9_strings 74 = .ok (.aload_n 0, 1) := by decide +kernel
set_option maxRecDepth 100000 in
theorem dX9_strings_75 : decode cX9_strings 75 = .ok (.getfield 12, 3) := by decide +kernel
set_option maxRecDepth 100000 in
theorem dX9_strings_78 : decode cX9_strings 78 = .ok (.getfield 218, 3) := by decide +kernel
set_option maxRecDepth 100000 in
theorem dX9_strings_81 : decode cX9_strings 81 = .ok (.iload_n 1, 1) := by decide +kernel
set_option maxRecDepth 100000 in
theorem dX9_strings_82 : decode cX9_strings 82 = .ok (.iload 5, 2) := by decide +kernel
set_option maxRecDepth 100000 in
theorem dX9_strings_84 : decode cX9_strings 84 = .ok (.iadd, 1) := by decide +kernel
set_option maxRecDepth 100000 in
theorem dX9_strings_85 : decode cX9_strings 85 = .ok (.laload, 1) := by decide +kernel
set_option maxRecDepth 100000 in
theorem dX9_strings_86 : decode cX9_strings 86 = .ok (.aload_n 0, 1) := by decide +kernel
set_option maxRecDepth 100000 in
theorem dX9_strings_87 : decode cX9_strings 87 = .ok (.getfield 12, 3) := by decide +kernel
set_option maxRecDepth 100000 in
theorem dX9_strings_90 : decode cX9_strings 90 = .ok (.getfield 218, 3) := by decide +kernel
set_option maxRecDepth 100000 in
theorem dX9_strings_93 : decode cX9_strings 93 = .ok (.iload_n 2, 1) := by decide +kernel
set_option maxRecDepth 100000 in
theorem dX9_strings_94 : decode cX9_strings 94 = .ok (.iload 5, 2) := by decide +kernel
set_option maxRecDepth 100000 in
theorem dX9_strings_96 : decode cX9_strings 96 = .ok (.iadd, 1) := by decide +kernel
set_option maxRecDepth 100000 in
theorem dX9_strings_97 : decode cX9_strings 97 = .ok (.laload, 1) := by decide +kernel
set_option maxRecDepth 100000 in
theorem dX9_strings_98 : decode cX9_strings 98 = .ok (.lcmp, 1) := by decide +kernel
set_option maxRecDepth 100000 in
theorem dX9_strings_99 : decode cX9_strings 99 = .ok (.ifCond .ge 7, 3) := by decide +kernel
set_option maxRecDepth 100000 in
theorem dX9_strings_102 : decode cX9_strings 102 = .ok (.iconst (-1), 1) := by decide +kernel
set_option maxRecDepth 100000 in
theorem dX9_strings_103 : decode cX9_strings 103 = .ok (.goto 4, 3) := by decide +kernel
set_option maxRecDepth 100000 in
theorem dX9_strings_106 : decode cX9_strings 106 = .ok (.iconst 1, 1) := by decide +kernel
set_option maxRecDepth 100000 in
theorem dX9_strings_107 : decode cX9_strings 107 = .ok (.ireturn, 1) := by decide +kernel
set_option maxRecDepth 100000 in
theorem dX9_strings_108 : decode cX9_strings 108 = .ok (.iinc 5 1, 3) := by decide +kernel
set_option maxRecDepth 100000 in
theorem dX9_strings_111 : decode cX9_strings 111 = .ok (.goto (-71), 3) := by decide +kernel
set_option maxRecDepth 100000 in
theorem dX9_strings_114 : decode cX9_strings 114 = .ok (.iconst 0, 1) := by decide +kernel
set_option maxRecDepth 100000 in
theorem dX9_strings_115 : decode cX9_strings 115 = .ok (.ireturn, 1) := by decide +kernel
def lX9_strings_40 (G : xG) (fr lo : Nat) (x0 : Nat) (x1 : Int32) (x2 : Int32) (x3 : Int32) (x5 : Int32) (h : xH) (Q : Outcome → xH → Prop) : Prop := xP G YX9_strings fr lo 40 [(0, rv x0), (1, .int x1), (2, .int x2), (3, .int x3), (5, .int x5)] [] h Q
set_option maxRecDepth 100000 in
def bX9_strings_107 (G : xG) (fr lo : Nat) (s0 : Int32) (h : xH) (Q : Outcome → xH → Prop) : Prop := Q (.returned (some (.int s0))) h
set_option maxRecDepth 100000 in
theorem uX9_strings_107 {G : xG} {fr lo : Nat} {s0 : Int32} {h : xH} {Q : Outcome → xH → Prop} (hq : bX9_strings_107 G fr lo s0 h Q) : xP G YX9_strings fr lo 107 [] [.int s0] h Q := by
  unfold bX9_strings_107 at hq
  exact x_iret rfl rfl dX9_strings_107 hq
set_option maxRecDepth 100000 in
def bX9_strings_40 (G : xG) (fr lo : Nat) (x0 : Nat) (x1 : Int32) (x2 : Int32) (x3 : Int32) (x5 : Int32) (h : xH) (Q : Outcome → xH → Prop) : Prop := ((x3 ≤ x5 → Q (.returned (some (.int 0))) h) ∧ (¬ x3 ≤ x5 → tg h x0 = 10 ∧ tg h (fR h x0 2305) = 11 ∧ tg h (fR h (fR h x0 2305) 2560) = 101 ∧ vp_in (x1 + x5) (ln h (fR h (fR h x0 2305) 2560)) ∧ vp_in (x2 + x5) (ln h (fR h (fR h x0 2305) 2560)) ∧ (((lg_cmp (aJ h (fR h (fR h x0 2305) 2560) (Int32.toNatClampNeg (x1 + x5))) (aJ h (fR h (fR h x0 2305) 2560) (Int32.toNatClampNeg (x2 + x5)))) = 0 → lX9_strings_40 G fr lo x0 x1 x2 x3 (x5 + 1) h Q) ∧ (¬ (lg_cmp (aJ h (fR h (fR h x0 2305) 2560) (Int32.toNatClampNeg (x1 + x5))) (aJ h (fR h (fR h x0 2305) 2560) (Int32.toNatClampNeg (x2 + x5)))) = 0 → vp_in (x1 + x5) (ln h (fR h (fR h x0 2305) 2560)) ∧ vp_in (x2 + x5) (ln h (fR h (fR h x0 2305) 2560)) ∧ ((0 ≤ (lg_cmp (aJ h (fR h (fR h x0 2305) 2560) (Int32.toNatClampNeg (x1 + x5))) (aJ h (fR h (fR h x0 2305) 2560) (Int32.toNatClampNeg (x2 + x5)))) → bX9_strings_107 G fr lo 1 h Q) ∧ (¬ 0 ≤ (lg_cmp (aJ h (fR h (fR h x0 2305) 2560) (Int32.toNatClampNeg (x1 + x5))) (aJ h (fR h (fR h x0 2305) 2560) (Int32.toNatClampNeg (x2 + x5)))) → bX9_strings_107 G fr lo (-1) h Q))))))
set_option maxRecDepth 100000 in
theorem uX9_strings_40 {G : xG} {fr lo : Nat} {x0 : Nat} {x1 : Int32} {x2 : Int32} {x3 : Int32} {x5 : Int32} {h : xH} {Q : Outcome → xH → Prop} (hq : bX9_strings_40 G fr lo x0 x1 x2 x3 x5 h Q) : xP G YX9_strings fr lo 40 [(0, rv x0), (1, .int x1), (2, .int x2), (3, .int x3), (5, .int x5)] [] h Q := by
  unfold bX9_strings_40 at hq
  refine x_iload 4 dX9_strings_40 rfl ?_
  refine x_iload_n 3 dX9_strings_42 rfl ?_
  refine x_icmp_ge (tgt := 114) dX9_strings_43 (by decide) (fun c1 => ?_) (fun c1 => ?_)
  · replace hq := hq.1 c1
    refine x_iconst (v := 0) dX9_strings_114 (by decide) ?_
    exact x_iret rfl rfl dX9_strings_115 hq
  · replace hq := hq.2 c1
    refine x_aload_n 0 dX9_strings_46 rfl ?_
    obtain ⟨g2, hq⟩ := hq
    refine x_get (v := rv (fR h x0 2305)) fdX9_12 dX9_strings_47 g2 rfl ?_
    obtain ⟨g3, hq⟩ := hq
    refine x_getN (v := rv (fR h (fR h x0 2305) 2560)) gfX9_218 dX9_strings_50 g3 rfl ?_
    refine x_iload_n 1 dX9_strings_53 rfl ?_
    refine x_iload 4 dX9_strings_54 rfl ?_
    refine x_iadd dX9_strings_56 ?_
    obtain ⟨g4, hq⟩ := hq
    obtain ⟨i5, hq⟩ := hq
    refine x_lald g4 i5 dX9_strings_57 ?_
    refine x_aload_n 0 dX9_strings_58 rfl ?_
    refine x_get (v := rv (fR h x0 2305)) fdX9_12 dX9_strings_59 g2 rfl ?_
    refine x_getN (v := rv (fR h (fR h x0 2305) 2560)) gfX9_218 dX9_strings_62 g3 rfl ?_
    refine x_iload_n 2 dX9_strings_65 rfl ?_
    refine x_iload 4 dX9_strings_66 rfl ?_
    refine x_iadd dX9_strings_68 ?_
    obtain ⟨i6, hq⟩ := hq
    refine x_lald g4 i6 dX9_strings_69 ?_
    refine x_lcmp dX9_strings_70 ?_
    refine x_if_eq (tgt := 108) dX9_strings_71 (by decide) (fun c7 => ?_) (fun c7 => ?_)
    · replace hq := hq.1 c7
      refine x_iinc (lv' := [(5, .int (x5 + 1)), (0, rv x0), (1, .int x1), (2, .int x2), (3, .int x3)]) 4 dX9_strings_108 rfl (by decide) rfl ?_
      refine x_goto (tgt := 40) dX9_strings_111 (by decide) ?_
      refine xP.pick (lv' := [(0, rv x0), (1, .int x1), (2, .int x2), (3, .int x3), (5, .int (x5 + 1))]) [1, 2, 3, 4, 0] rfl ?_
      exact hq
    · replace hq := hq.2 c7
      refine x_aload_n 0 dX9_strings_74 rfl ?_
      refine x_get (v := rv (fR h x0 2305)) fdX9_12 dX9_strings_75 g2 rfl ?_
      refine x_getN (v := rv (fR h (fR h x0 2305) 2560)) gfX9_218 dX9_strings_78 g3 rfl ?_
      refine x_iload_n 1 dX9_strings_81 rfl ?_
      refine x_iload 4 dX9_strings_82 rfl ?_
      refine x_iadd dX9_strings_84 ?_
      obtain ⟨i8, hq⟩ := hq
      refine x_lald g4 i8 dX9_strings_85 ?_
      refine x_aload_n 0 dX9_strings_86 rfl ?_
      refine x_get (v := rv (fR h x0 2305)) fdX9_12 dX9_strings_87 g2 rfl ?_
      refine x_getN (v := rv (fR h (fR h x0 2305) 2560)) gfX9_218 dX9_strings_90 g3 rfl ?_
      refine x_iload_n 2 dX9_strings_93 rfl ?_
      refine x_iload 4 dX9_strings_94 rfl ?_
      refine x_iadd dX9_strings_96 ?_
      obtain ⟨i9, hq⟩ := hq
      refine x_lald g4 i9 dX9_strings_97 ?_
      refine x_lcmp dX9_strings_98 ?_
      refine x_if_ge (tgt := 106) dX9_strings_99 (by decide) (fun c10 => ?_) (fun c10 => ?_)
      · replace hq := hq.1 c10
        refine x_iconst (v := 1) dX9_strings_106 (by decide) ?_
        refine xP.pick (lv' := []) [] rfl ?_
        exact uX9_strings_107 hq
      · replace hq := hq.2 c10
        refine x_iconst (v := (-1)) dX9_strings_102 (by decide) ?_
        refine x_goto (tgt := 107) dX9_strings_103 (by decide) ?_
        refine xP.pick (lv' := []) [] rfl ?_
        exact uX9_strings_107 hq
set_option maxRecDepth 100000 in
def bX9_strings_37 (G : xG) (fr lo : Nat) (x0 : Nat) (x1 : Int32) (x2 : Int32) (x3 : Int32) (h : xH) (Q : Outcome → xH → Prop) : Prop := lX9_strings_40 G fr lo x0 x1 x2 x3 0 h Q
set_option maxRecDepth 100000 in
theorem uX9_strings_37 {G : xG} {fr lo : Nat} {x0 : Nat} {x1 : Int32} {x2 : Int32} {x3 : Int32} {h : xH} {Q : Outcome → xH → Prop} (hq : bX9_strings_37 G fr lo x0 x1 x2 x3 h Q) : xP G YX9_strings fr lo 37 [(0, rv x0), (1, .int x1), (2, .int x2), (3, .int x3)] [] h Q := by
  unfold bX9_strings_37 at hq
  refine x_iconst (v := 0) dX9_strings_37 (by decide) ?_
  refine x_istore (lv' := [(5, .int 0), (0, rv x0), (1, .int x1), (2, .int x2), (3, .int x3)]) dX9_strings_38 (by decide) rfl ?_
  refine xP.pick (lv' := [(0, rv x0), (1, .int x1), (2, .int x2), (3, .int x3), (5, .int 0)]) [1, 2, 3, 4, 0] rfl ?_
  exact hq
set_option maxRecDepth 100000 in
def bX9_strings_30 (G : xG) (fr lo : Nat) (x0 : Nat) (x1 : Int32) (x2 : Int32) (x3 : Int32) (x4 : Int32) (h : xH) (Q : Outcome → xH → Prop) : Prop := tg h x0 = 10 ∧ 1 ≤ fr ∧ 14 ≤ lo ∧ xRv G YX9_fail (fr - 1) (lo - 14) [rv x0, .int 5, .int x4] h (fun h4 => xext h h4 → bX9_strings_37 G fr lo x0 x1 x2 x3 h4 Q) (fun r h2 => Q (.threw r) h2)
set_option maxRecDepth 100000 in
theorem uX9_strings_30 {G : xG} {fr lo : Nat} {x0 : Nat} {x1 : Int32} {x2 : Int32} {x3 : Int32} {x4 : Int32} {h : xH} {Q : Outcome → xH → Prop} (hq : bX9_strings_30 G fr lo x0 x1 x2 x3 x4 h Q) : xP G YX9_strings fr lo 30 [(0, rv x0), (1, .int x1), (2, .int x2), (3, .int x3), (4, .int x4)] [] h Q := by
  unfold bX9_strings_30 at hq
  refine x_aload_n 0 dX9_strings_30 rfl ?_
  refine x_iconst (v := 5) dX9_strings_31 (by decide) ?_
  refine x_iload 4 dX9_strings_32 rfl ?_
  obtain ⟨g1, hq⟩ := hq
  obtain ⟨g2, g3, hq⟩ := hq
  refine x_callV (Yc := YX9_fail) (as := [.int 5, .int x4]) (st := []) q2835 mvX9_fail g1 rfl dX9_strings_34 (xle (xal1 (rv_cat _) (xal1 rfl (xal1 rfl xal0))) (by decide)) (xfr g2) (xlo xsw0 (by decide) g3) (xKv hq (fun h4 hq e6 => ?_) (fun _ _ q _ => q))
  replace hq := hq e6
  refine xP.pick (lv' := [(0, rv x0), (1, .int x1), (2, .int x2), (3, .int x3)]) [0, 1, 2, 3] rfl ?_
  exact uX9_strings_37 hq
set_option maxRecDepth 100000 in
def bX9_strings (G : xG) (fr lo : Nat) (x0 : Nat) (x1 : Int32) (x2 : Int32) (x3 : Int32) (x4 : Int32) (h : xH) (Q : Outcome → xH → Prop) : Prop := tg h x0 = 10 ∧ 1 ≤ fr ∧ 14 ≤ lo ∧ xRi G YX9_takes (fr - 1) (lo - 14) [rv x0, .int x3, .int x4] h (fun x5 h4 => xext h h4 → ((¬ x5 = 0 → 1 ≤ fr ∧ 16 ≤ lo ∧ xRi G YX9_isWhole (fr - 1) (lo - 16) [rv x0, .int x1, .int x3] h4 (fun x12 h11 => xext h4 h11 → ((x12 = 0 → bX9_strings_30 G fr lo x0 x1 x2 x3 x4 h11 Q) ∧ (¬ x12 = 0 → 1 ≤ fr ∧ 16 ≤ lo ∧ xRi G YX9_isWhole (fr - 1) (lo - 16) [rv x0, .int x2, .int x3] h11 (fun x19 h18 => xext h11 h18 → ((¬ x19 = 0 → bX9_strings_37 G fr lo x0 x1 x2 x3 h18 Q) ∧ (x19 = 0 → bX9_strings_30 G fr lo x0 x1 x2 x3 x4 h18 Q))) (fun r h2 => Q (.threw r) h2)))) (fun r h2 => Q (.threw r) h2)) ∧ (x5 = 0 → Q (.returned (some (.int 0))) h4))) (fun r h2 => Q (.threw r) h2)
set_option maxRecDepth 100000 in
theorem uX9_strings {G : xG} {fr lo : Nat} {x0 : Nat} {x1 : Int32} {x2 : Int32} {x3 : Int32} {x4 : Int32} {h : xH} {Q : Outcome → xH → Prop} (hq : bX9_strings G fr lo x0 x1 x2 x3 x4 h Q) : xP G YX9_strings fr lo 0 [(0, rv x0), (1, .int x1), (2, .int x2), (3, .int x3), (4, .int x4)] [] h Q := by
  unfold bX9_strings at hq
  refine x_aload_n 0 dX9_strings_0 rfl ?_
  refine x_iload_n 3 dX9_strings_1 rfl ?_
  refine x_iload 4 dX9_strings_2 rfl ?_
  obtain ⟨g1, hq⟩ := hq
  obtain ⟨g2, g3, hq⟩ := hq
  refine x_callV (Yc := YX9_takes) (as := [.int x3, .int x4]) (st := []) q2913 mvX9_takes g1 rfl dX9_strings_4 (xle (xal1 (rv_cat _) (xal1 rfl (xal1 rfl xal0))) (by decide)) (xfr g2) (xlo xsw0 (by decide) g3) (xKi hq (fun x5 h4 hq e6 => ?_) (fun _ _ q _ => q))
  replace hq := hq e6
  refine x_if_ne (tgt := 12) dX9_strings_7 (by decide) (fun c7 => ?_) (fun c7 => ?_)
  · replace hq := hq.1 c7
    refine x_aload_n 0 dX9_strings_12 rfl ?_
    refine x_iload_n 1 dX9_strings_13 rfl ?_
    refine x_iload_n 3 dX9_strings_14 rfl ?_
    have t8 : tg h4 x0 = 10 := e6.tg g1 (by decide)
    obtain ⟨g9, g10, hq⟩ := hq
    refine x_callV (Yc := YX9_isWhole) (as := [.int x1, .int x3]) (st := []) q2979 mvX9_isWhole t8 rfl dX9_strings_15 (xle (xal1 (rv_cat _) (xal1 rfl (xal1 rfl xal0))) (by decide)) (xfr g9) (xlo xsw0 (by decide) g10) (xKi hq (fun x12 h11 hq e13 => ?_) (fun _ _ q _ => q))
    replace hq := hq e13
    refine x_if_eq (tgt := 30) dX9_strings_18 (by decide) (fun c14 => ?_) (fun c14 => ?_)
    · replace hq := hq.1 c14
      exact uX9_strings_30 hq
    · replace hq := hq.2 c14
      refine x_aload_n 0 dX9_strings_21 rfl ?_
      refine x_iload_n 2 dX9_strings_22 rfl ?_
      refine x_iload_n 3 dX9_strings_23 rfl ?_
      have t15 : tg h11 x0 = 10 := e13.tg t8 (by decide)
      obtain ⟨g16, g17, hq⟩ := hq
      refine x_callV (Yc := YX9_isWhole) (as := [.int x2, .int x3]) (st := []) q2979 mvX9_isWhole t15 rfl dX9_strings_24 (xle (xal1 (rv_cat _) (xal1 rfl (xal1 rfl xal0))) (by decide)) (xfr g16) (xlo xsw0 (by decide) g17) (xKi hq (fun x19 h18 hq e20 => ?_) (fun _ _ q _ => q))
      replace hq := hq e20
      refine x_if_ne (tgt := 37) dX9_strings_27 (by decide) (fun c21 => ?_) (fun c21 => ?_)
      · replace hq := hq.1 c21
        refine xP.pick (lv' := [(0, rv x0), (1, .int x1), (2, .int x2), (3, .int x3)]) [0, 1, 2, 3] rfl ?_
        exact uX9_strings_37 hq
      · replace hq := hq.2 c21
        exact uX9_strings_30 hq
  · replace hq := hq.2 c7
    refine x_iconst (v := 0) dX9_strings_10 (by decide) ?_
    exact x_iret rfl rfl dX9_strings_11 hq
theorem rX9_strings {G : xG} {fr lo : Nat} {x0 : Nat} {x1 : Int32} {x2 : Int32} {x3 : Int32} {x4 : Int32} {h : xH} {Q : Outcome → xH → Prop} (hq : bX9_strings G fr lo x0 x1 x2 x3 x4 h Q) : xR G YX9_strings fr lo [rv x0, .int x1, .int x2, .int x3, .int x4] h Q := by
  show xP _ _ _ _ _ (lv_args 0 _) _ _ _
  rw [show lv_args 0 [rv x0, .int x1, .int x2, .int x3, .int x4] = [(0, rv x0), (1, .int x1), (2, .int x2), (3, .int x3), (4, .int x4)] from (xla1 (rv_cat _) (xla1 rfl (xla1 rfl (xla1 rfl (xla1 rfl xla0)))))]
  exact uX9_strings hq
set_option maxRecDepth 100000 in
theorem dX9_isWhole_0 : decode cX9_isWhole 0 = .ok (.iconst 1, 1) := by decide +kernel
set_option maxRecDepth 100000 in
theorem dX9_isWhole_1 : decode cX9_isWhole 1 = .ok (.istore_n 3, 1) := by decide +kernel
set_option maxRecDepth 100000 in
theorem dX9_isWhole_2 : decode cX9_isWhole 2 = .ok (.iconst 0, 1) := by decide +kernel
set_option maxRecDepth 100000 in
theorem dX9_isWhole_3 : decode cX9_isWhole 3 = .ok (.istore 4, 2) := by decide +kernel
set_option maxRecDepth 100000 in
theorem dX9_isWhole_5 : decode cX9_isWhole 5 = .ok (.iload 4, 2) := by decide +kernel
set_option maxRecDepth 100000 in
theorem dX9_isWhole_7 : decode cX9_isWhole 7 = .ok (.iload_n 2, 1) := by decide +kernel
set_option maxRecDepth 100000 in
theorem dX9_isWhole_8 : decode cX9_isWhole 8 = .ok (.if_icmp .ge 24, 3) := by decide +kernel
set_option maxRecDepth 100000 in
theorem dX9_isWhole_11 : decode cX9_isWhole 11 = .ok (.iload_n 3, 1) := by decide +kernel
set_option maxRecDepth 100000 in
theorem dX9_isWhole_12 : decode cX9_isWhole 12 = .ok (.aload_n 0, 1) := by decide +kernel
set_option maxRecDepth 100000 in
theorem dX9_isWhole_13 : decode cX9_isWhole 13 = .ok (.getfield 12, 3) := by decide +kernel
set_option maxRecDepth 100000 in
theorem dX9_isWhole_16 : decode cX9_isWhole 16 = .ok (.getfield 247, 3) := by decide +kernel
set_option maxRecDepth 100000 in
theorem dX9_isWhole_19 : decode cX9_isWhole 19 = .ok (.iload_n 1, 1) := by decide +kernel
set_option maxRecDepth 100000 in
theorem dX9_isWhole_20 : decode cX9_isWhole 20 = .ok (.iload 4, 2) := by decide +kernel
set_option maxRecDepth 100000 in
theorem dX9_isWhole_22 : decode cX9_isWhole 22 = .ok (.iadd, 1) := by decide +kernel
set_option maxRecDepth 100000 in
theorem dX9_isWhole_23 : decode cX9_isWhole 23 = .ok (.baload, 1) := by decide +kernel
set_option maxRecDepth 100000 in
theorem dX9_isWhole_24 : decode cX9_isWhole 24 = .ok (.iand, 1) := by decide +kernel
set_option maxRecDepth 100000 in
theorem dX9_isWhole_25 : decode cX9_isWhole 25 = .ok (.istore_n 3, 1) := by decide +kernel
set_option maxRecDepth 100000 in
theorem dX9_isWhole_26 : decode cX9_isWhole 26 = .ok (.iinc 4 1, 3) := by decide +kernel
set_option maxRecDepth 100000 in
theorem dX9_isWhole_29 : decode cX9_isWhole 29 = .ok (.goto (-24), 3) := by decide +kernel
set_option maxRecDepth 100000 in
theorem dX9_isWhole_32 : decode cX9_isWhole 32 = .ok (.iload_n 3, 1) := by decide +kernel
set_option maxRecDepth 100000 in
theorem dX9_isWhole_33 : decode cX9_isWhole 33 = .ok (.ireturn, 1) := by decide +kernel
def lX9_isWhole_5 (G : xG) (fr lo : Nat) (x0 : Nat) (x1 : Int32) (x2 : Int32) (x3 : Int32) (x4 : Int32) (h : xH) (Q : Outcome → xH → Prop) : Prop := xP G YX9_isWhole fr lo 5 [(0, rv x0), (1, .int x1), (2, .int x2), (3, .int x3), (4, .int x4)] [] h Q
set_option maxRecDepth 100000 in
def bX9_isWhole_5 (G : xG) (fr lo : Nat) (x0 : Nat) (x1 : Int32) (x2 : Int32) (x3 : Int32) (x4 : Int32) (h : xH) (Q : Outcome → xH → Prop) : Prop := ((x2 ≤ x4 → xbz x3 ∧ Q (.returned (some (.int x3))) h) ∧ (¬ x2 ≤ x4 → tg h x0 = 10 ∧ tg h (fR h x0 2305) = 11 ∧ tg h (fR h (fR h x0 2305) 2563) = 104 ∧ vp_in (x1 + x4) (ln h (fR h (fR h x0 2305) 2563)) ∧ lX9_isWhole_5 G fr lo x0 x1 x2 (x3 &&& (aI h (fR h (fR h x0 2305) 2563) (Int32.toNatClampNeg (x1 + x4)))) (x4 + 1) h Q))
set_option maxRecDepth 100000 in
theorem uX9_isWhole_5 {G : xG} {fr lo : Nat} {x0 : Nat} {x1 : Int32} {x2 : Int32} {x3 : Int32} {x4 : Int32} {h : xH} {Q : Outcome → xH → Prop} (hq : bX9_isWhole_5 G fr lo x0 x1 x2 x3 x4 h Q) : xP G YX9_isWhole fr lo 5 [(0, rv x0), (1, .int x1), (2, .int x2), (3, .int x3), (4, .int x4)] [] h Q := by
  unfold bX9_isWhole_5 at hq
  refine x_iload 4 dX9_isWhole_5 rfl ?_
  refine x_iload_n 2 dX9_isWhole_7 rfl ?_
  refine x_icmp_ge (tgt := 32) dX9_isWhole_8 (by decide) (fun c1 => ?_) (fun c1 => ?_)
  · replace hq := hq.1 c1
    refine x_iload_n 3 dX9_isWhole_32 rfl ?_
    obtain ⟨g2, hq⟩ := hq
    exact x_iret rfl (xnZ g2) dX9_isWhole_33 hq
  · replace hq := hq.2 c1
    refine x_iload_n 3 dX9_isWhole_11 rfl ?_
    refine x_aload_n 0 dX9_isWhole_12 rfl ?_
    obtain ⟨g3, hq⟩ := hq
    refine x_get (v := rv (fR h x0 2305)) fdX9_12 dX9_isWhole_13 g3 rfl ?_
    obtain ⟨g4, hq⟩ := hq
    refine x_getN (v := rv (fR h (fR h x0 2305) 2563)) gfX9_247 dX9_isWhole_16 g4 rfl ?_
    refine x_iload_n 1 dX9_isWhole_19 rfl ?_
    refine x_iload 4 dX9_isWhole_20 rfl ?_
    refine x_iadd dX9_isWhole_22 ?_
    obtain ⟨g5, hq⟩ := hq
    obtain ⟨i6, hq⟩ := hq
    refine x_zald g5 i6 dX9_isWhole_23 ?_
    refine x_iand dX9_isWhole_24 ?_
    refine x_istore_n (lv' := [(3, .int (x3 &&& (aI h (fR h (fR h x0 2305) 2563) (Int32.toNatClampNeg (x1 + x4))))), (0, rv x0), (1, .int x1), (2, .int x2), (4, .int x4)]) dX9_isWhole_25 (by decide) rfl ?_
    refine x_iinc (lv' := [(4, .int (x4 + 1)), (3, .int (x3 &&& (aI h (fR h (fR h x0 2305) 2563) (Int32.toNatClampNeg (x1 + x4))))), (0, rv x0), (1, .int x1), (2, .int x2)]) 4 dX9_isWhole_26 rfl (by decide) rfl ?_
    refine x_goto (tgt := 5) dX9_isWhole_29 (by decide) ?_
    refine xP.pick (lv' := [(0, rv x0), (1, .int x1), (2, .int x2), (3, .int (x3 &&& (aI h (fR h (fR h x0 2305) 2563) (Int32.toNatClampNeg (x1 + x4))))), (4, .int (x4 + 1))]) [2, 3, 4, 1, 0] rfl ?_
    exact hq
set_option maxRecDepth 100000 in
def bX9_isWhole (G : xG) (fr lo : Nat) (x0 : Nat) (x1 : Int32) (x2 : Int32) (h : xH) (Q : Outcome → xH → Prop) : Prop := lX9_isWhole_5 G fr lo x0 x1 x2 1 0 h Q
set_option maxRecDepth 100000 in
theorem uX9_isWhole {G : xG} {fr lo : Nat} {x0 : Nat} {x1 : Int32} {x2 : Int32} {h : xH} {Q : Outcome → xH → Prop} (hq : bX9_isWhole G fr lo x0 x1 x2 h Q) : xP G YX9_isWhole fr lo 0 [(0, rv x0), (1, .int x1), (2, .int x2)] [] h Q := by
  unfold bX9_isWhole at hq
  refine x_iconst (v := 1) dX9_isWhole_0 (by decide) ?_
  refine x_istore_n (lv' := [(3, .int 1), (0, rv x0), (1, .int x1), (2, .int x2)]) dX9_isWhole_1 (by decide) rfl ?_
  refine x_iconst (v := 0) dX9_isWhole_2 (by decide) ?_
  refine x_istore (lv' := [(4, .int 0), (3, .int 1), (0, rv x0), (1, .int x1), (2, .int x2)]) dX9_isWhole_3 (by decide) rfl ?_
  refine xP.pick (lv' := [(0, rv x0), (1, .int x1), (2, .int x2), (3, .int 1), (4, .int 0)]) [2, 3, 4, 1, 0] rfl ?_
  exact hq
theorem rX9_isWhole {G : xG} {fr lo : Nat} {x0 : Nat} {x1 : Int32} {x2 : Int32} {h : xH} {Q : Outcome → xH → Prop} (hq : bX9_isWhole G fr lo x0 x1 x2 h Q) : xR G YX9_isWhole fr lo [rv x0, .int x1, .int x2] h Q := by
  show xP _ _ _ _ _ (lv_args 0 _) _ _ _
  rw [show lv_args 0 [rv x0, .int x1, .int x2] = [(0, rv x0), (1, .int x1), (2, .int x2)] from (xla1 (rv_cat _) (xla1 rfl (xla1 rfl xla0)))]
  exact uX9_isWhole hq
set_option maxRecDepth 100000 in
theorem dX9_controls_0 : decode cX9_controls 0 = .ok (.aload_n 0, 1) := by decide +kernel
set_option maxRecDepth 100000 in
theorem dX9_controls_1 : decode cX9_controls 1 = .ok (.getfield 75, 3) := by decide +kernel
set_option maxRecDepth 100000 in
theorem dX9_controls_4 : decode cX9_controls 4 = .ok (.getfield 201, 3) := by decide +kernel
set_option maxRecDepth 100000 in
theorem dX9_controls_7 : decode cX9_controls 7 = .ok (.iload_n 2, 1) := by decide +kernel
set_option maxRecDepth 100000 in
theorem dX9_controls_8 : decode cX9_controls 8 = .ok (.iaload, 1) := by decide +kernel
set_option maxRecDepth 100000 in
theorem dX9_controls_9 : decode cX9_controls 9 = .ok (.istore_n 3, 1) := by decide +kernel
set_option maxRecDepth 100000 in
theorem dX9_controls_10 : decode cX9_controls 10 = .ok (.aload_n 0, 1) := by decide +kernel
set_option maxRecDepth 100000 in
theorem dX9_controls_11 : decode cX9_controls 11 = .ok (.getfield 75, 3) := by decide +kernel
set_option maxRecDepth 100000 in
theorem dX9_controls_14 : decode cX9_controls 14 = .ok (.getfield 204, 3) := by decide +kernel
set_option maxRecDepth 100000 in
theorem dX9_controls_17 : decode cX9_controls 17 = .ok (.iload_n 2, 1) := by decide +kernel
set_option maxRecDepth 100000 in
theorem dX9_controls_18 : decode cX9_controls 18 = .ok (.iaload, 1) := by decide +kernel
set_option maxRecDepth 100000 in
theorem dX9_controls_19 : decode cX9_controls 19 = .ok (.istore 4, 2) := by decide +kernel
set_option maxRecDepth 100000 in
theorem dX9_controls_21 : decode cX9_controls 21 = .ok (.aload_n 0, 1) := by decide +kernel
set_option maxRecDepth 100000 in
theorem dX9_controls_22 : decode cX9_controls 22 = .ok (.getfield 75, 3) := by decide +kernel
set_option maxRecDepth 100000 in
theorem dX9_controls_25 : decode cX9_controls 25 = .ok (.getfield 222, 3) := by decide +kernel
set_option maxRecDepth 100000 in
theorem dX9_controls_28 : decode cX9_controls 28 = .ok (.iload_n 2, 1) := by decide +kernel
set_option maxRecDepth 100000 in
theorem dX9_controls_29 : decode cX9_controls 29 = .ok (.iaload, 1) := by decide +kernel
set_option maxRecDepth 100000 in
theorem dX9_controls_30 : decode cX9_controls 30 = .ok (.istore 5, 2) := by decide +kernel
set_option maxRecDepth 100000 in
theorem dX9_controls_32 : decode cX9_controls 32 = .ok (.iload_n 1, 1) := by decide +kernel
set_option maxRecDepth 100000 in
theorem dX9_controls_33 : decode cX9_controls 33 = .ok (.tableswitch 480 50 65 #[79, 87, 102, 137, 149, 170, 189, 212, 234, 263, 322, 329, 356, 409, 423, 468], 79) := by decide +kernel
set_option maxRecDepth 100000 in
theorem dX9_controls_112 : decode cX9_controls 112 = .ok (.aload_n 0, 1) := by decide +kernel
set_option maxRecDepth 100000 in
theorem dX9_controls_113 : decode cX9_controls 113 = .ok (.iload_n 3, 1) := by decide +kernel
set_option maxRecDepth 100000 in
theorem dX9_controls_114 : decode cX9_controls 114 = .ok (.putfield 129, 3) := by decide +kernel
set_option maxRecDepth 100000 in
theorem dX9_controls_117 : decode cX9_controls 117 = .ok (.goto 401, 3) := by decide +kernel
set_option maxRecDepth 100000 in
theorem dX9_controls_120 : decode cX9_controls 120 = .ok (.aload_n 0, 1) := by decide +kernel
set_option maxRecDepth 100000 in
theorem dX9_controls_121 : decode cX9_controls 121 = .ok (.invokevirtual 219, 3) := by decide +kernel
set_option maxRecDepth 100000 in
theorem dX9_controls_124 : decode cX9_controls 124 = .ok (.ifCond .ne 394, 3) := by decide +kernel
set_option maxRecDepth 100000 in
theorem dX9_controls_127 : decode cX9_controls 127 = .ok (.aload_n 0, 1) := by decide +kernel
set_option maxRecDepth 100000 in
theorem dX9_controls_128 : decode cX9_controls 128 = .ok (.iload_n 3, 1) := by decide +kernel
set_option maxRecDepth 100000 in
theorem dX9_controls_129 : decode cX9_controls 129 = .ok (.putfield 129, 3) := by decide +kernel
set_option maxRecDepth 100000 in
theorem dX9_controls_132 : decode cX9_controls 132 = .ok (.goto 386, 3) := by decide +kernel
set_option maxRecDepth 100000 in
theorem dX9_controls_135 : decode cX9_controls 135 = .ok (.aload_n 0, 1) := by decide +kernel
set_option maxRecDepth 100000 in
theorem dX9_controls_136 : decode cX9_controls 136 = .ok (.getfield 98, 3) := by decide +kernel
set_option maxRecDepth 100000 in
theorem dX9_controls_139 : decode cX9_controls 139 = .ok (.aload_n 0, 1) := by decide +kernel
set_option maxRecDepth 100000 in
theorem dX9_controls_140 : decode cX9_controls 140 = .ok (.getfield 101, 3) := by decide +kernel
set_option maxRecDepth 100000 in
theorem dX9_controls_143 : decode cX9_controls 143 = .ok (.if_icmp .ne 14, 3) := by decide +kernel
set_option maxRecDepth 100000 in
theorem dX9_controls_146 : decode cX9_controls 146 = .ok (.aload_n 0, 1) := by decide +kernel
set_option maxRecDepth 100000 in
theorem dX9_controls_147 : decode cX9_controls 147 = .ok (.bipush 15, 2) := by decide +kernel
set_option maxRecDepth 100000 in
theorem dX9_controls_149 : decode cX9_controls 149 = .ok (.iload 5, 2) := by decide +kernel
set_option maxRecDepth 100000 in
theorem dX9_controls_151 : decode cX9_controls 151 = .ok (.invokevirtual 147, 3) := by decide +kernel
set_option maxRecDepth 100000 in
theorem dX9_controls_154 : decode cX9_controls 154 = .ok (.goto 364, 3) := by decide +kernel
set_option maxRecDepth 100000 in
theorem dX9_controls_157 : decode cX9_controls 157 = .ok (.aload_n 0, 1) := by decide +kernel
set_option maxRecDepth 100000 in
theorem dX9_controls_158 : decode cX9_controls 158 = .ok (.dup, 1) := by decide +kernel
set_option maxRecDepth 100000 in
theorem dX9_controls_159 : decode cX9_controls 159 = .ok (.getfield 98, 3) := by decide +kernel
set_option maxRecDepth 100000 in
theorem dX9_controls_162 : decode cX9_controls 162 = .ok (.iconst 1, 1) := by decide +kernel
set_option maxRecDepth 100000 in
theorem dX9_controls_163 : decode cX9_controls 163 = .ok (.iadd, 1) := by decide +kernel
set_option maxRecDepth 100000 in
theorem dX9_controls_164 : decode cX9_controls 164 = .ok (.putfield 98, 3) := by decide +kernel
set_option maxRecDepth 100000 in
theorem dX9_controls_167 : decode cX9_controls 167 = .ok (.goto 351, 3) := by decide +kernel
set_option maxRecDepth 100000 in
theorem dX9_controls_170 : decode cX9_controls 170 = .ok (.aload_n 0, 1) := by decide +kernel
set_option maxRecDepth 100000 in
theorem dX9_controls_171 : decode cX9_controls 171 = .ok (.iload_n 3, 1) := by decide +kernel
set_option maxRecDepth 100000 in
theorem dX9_controls_172 : decode cX9_controls 172 = .ok (.iload 4, 2) := by decide +kernel
set_option maxRecDepth 100000 in
theorem dX9_controls_174 : decode cX9_controls 174 = .ok (.iload 5, 2) := by decide +kernel
set_option maxRecDepth 100000 in
theorem dX9_controls_176 : decode cX9_controls 176 = .ok (.invokevirtual 336, 3) := by decide +kernel
set_option maxRecDepth 100000 in
theorem dX9_controls_179 : decode cX9_controls 179 = .ok (.goto 339, 3) := by decide +kernel
set_option maxRecDepth 100000 in
theorem dX9_controls_182 : decode cX9_controls 182 = .ok (.aload_n 0, 1) := by decide +kernel
set_option maxRecDepth 100000 in
theorem dX9_controls_183 : decode cX9_controls 183 = .ok (.iload_n 3, 1) := by decide +kernel
set_option maxRecDepth 100000 in
theorem dX9_controls_184 : decode cX9_controls 184 = .ok (.iload 4, 2) := by decide +kernel
set_option maxRecDepth 100000 in
theorem dX9_controls_186 : decode cX9_controls 186 = .ok (.aload_n 0, 1) := by decide +kernel
set_option maxRecDepth 100000 in
theorem dX9_controls_187 : decode cX9_controls 187 = .ok (.getfield 75, 3) := by decide +kernel
set_option maxRecDepth 100000 in
theorem dX9_controls_190 : decode cX9_controls 190 = .ok (.getfield 224, 3) := by decide +kernel
set_option maxRecDepth 100000 in
theorem dX9_controls_193 : decode cX9_controls 193 = .ok (.iload_n 2, 1) := by decide +kernel
set_option maxRecDepth 100000 in
theorem dX9_controls_194 : decode cX9_controls 194 = .ok (.iaload, 1) := by decide +kernel
set_option maxRecDepth 100000 in
theorem dX9_controls_195 : decode cX9_controls 195 = .ok (.iload 5, 2) := by decide +kernel
set_option maxRecDepth 100000 in
theorem dX9_controls_197 : decode cX9_controls 197 = .ok (.invokevirtual 339, 3) := by decide +kernel
set_option maxRecDepth 100000 in
theorem dX9_controls_200 : decode cX9_controls 200 = .ok (.goto 318, 3) := by decide +kernel
set_option maxRecDepth 100000 in
theorem dX9_controls_203 : decode cX9_controls 203 = .ok (.aload_n 0, 1) := by decide +kernel
set_option maxRecDepth 100000 in
theorem dX9_controls_204 : decode cX9_controls 204 = .ok (.iload_n 3, 1) := by decide +kernel
set_option maxRecDepth 100000 in
theorem dX9_controls_205 : decode cX9_controls 205 = .ok (.iload 4, 2) := by decide +kernel
set_option maxRecDepth 100000 in
theorem dX9_controls_207 : decode cX9_controls 207 = .ok (.aload_n 0, 1) := by decide +kernel
set_option maxRecDepth 100000 in
theorem dX9_controls_208 : decode cX9_controls 208 = .ok (.getfield 75, 3) := by decide +kernel
set_option maxRecDepth 100000 in
theorem dX9_controls_211 : decode cX9_controls 211 = .ok (.getfield 224, 3) := by decide +kernel
set_option maxRecDepth 100000 in
theorem dX9_controls_214 : decode cX9_controls 214 = .ok (.iload_n 2, 1) := by decide +kernel
set_option maxRecDepth 100000 in
theorem dX9_controls_215 : decode cX9_controls 215 = .ok (.iaload, 1) := by decide +kernel
set_option maxRecDepth 100000 in
theorem dX9_controls_216 : decode cX9_controls 216 = .ok (.invokevirtual 343, 3) := by decide +kernel
set_option maxRecDepth 100000 in
theorem dX9_controls_219 : decode cX9_controls 219 = .ok (.goto 299, 3) := by decide +kernel
set_option maxRecDepth 100000 in
theorem dX9_controls_222 : decode cX9_controls 222 = .ok (.aload_n 0, 1) := by decide +kernel
set_option maxRecDepth 100000 in
theorem dX9_controls_223 : decode cX9_controls 223 = .ok (.getfield 61, 3) := by decide +kernel
set_option maxRecDepth 100000 in
theorem dX9_controls_226 : decode cX9_controls 226 = .ok (.sipush 128, 3) := by decide +kernel
set_option maxRecDepth 100000 in
theorem dX9_controls_229 : decode cX9_controls 229 = .ok (.aload_n 0, 1) := by decide +kernel
set_option maxRecDepth 100000 in
theorem dX9_controls_230 : decode cX9_controls 230 = .ok (.getfield 89, 3) := by decide +kernel
set_option maxRecDepth 100000 in
theorem dX9_controls_233 : decode cX9_controls 233 = .ok (.imul, 1) := by decide +kernel
set_option maxRecDepth 100000 in
theorem dX9_controls_234 : decode cX9_controls 234 = .ok (.iload_n 3, 1) := by decide +kernel
set_option maxRecDepth 100000 in
theorem dX9_controls_235 : decode cX9_controls 235 = .ok (.iadd, 1) := by decide +kernel
set_option maxRecDepth 100000 in
theorem dX9_controls_236 : decode cX9_controls 236 = .ok (.aload_n 0, 1) := by decide +kernel
set_option maxRecDepth 100000 in
theorem dX9_controls_237 : decode cX9_controls 237 = .ok (.invokevirtual 219, 3) := by decide +kernel
set_option maxRecDepth 100000 in
theorem dX9_controls_240 : decode cX9_controls 240 = .ok (.i2l, 1) := by decide +kernel
set_option maxRecDepth 100000 in
theorem dX9_controls_241 : decode cX9_controls 241 = .ok (.lastore, 1) := by decide +kernel
set_option maxRecDepth 100000 in
theorem dX9_controls_242 : decode cX9_controls 242 = .ok (.goto 276, 3) := by decide +kernel
set_option maxRecDepth 100000 in
theorem dX9_controls_245 : decode cX9_controls 245 = .ok (.aload_n 0, 1) := by decide +kernel
set_option maxRecDepth 100000 in
theorem dX9_controls_246 : decode cX9_controls 246 = .ok (.aload_n 0, 1) := by decide +kernel
set_option maxRecDepth 100000 in
theorem dX9_controls_247 : decode cX9_controls 247 = .ok (.getfield 61, 3) := by decide +kernel
set_option maxRecDepth 100000 in
theorem dX9_controls_250 : decode cX9_controls 250 = .ok (.sipush 128, 3) := by decide +kernel
set_option maxRecDepth 100000 in
theorem dX9_controls_253 : decode cX9_controls 253 = .ok (.aload_n 0, 1) := by decide +kernel
set_option maxRecDepth 100000 in
theorem dX9_controls_254 : decode cX9_controls 254 = .ok (.getfield 89, 3) := by decide +kernel
set_option maxRecDepth 100000 in
theorem dX9_controls_257 : decode cX9_controls 257 = .ok (.imul, 1) := by decide +kernel
set_option maxRecDepth 100000 in
theorem dX9_controls_258 : decode cX9_controls 258 = .ok (.iload_n 3, 1) := by decide +kernel
set_option maxRecDepth 100000 in
theorem dX9_controls_259 : decode cX9_controls 259 = .ok (.iadd, 1) := by decide +kernel
set_option maxRecDepth 100000 in
theorem dX9_controls_260 : decode cX9_controls 260 = .ok (.laload, 1) := by decide +kernel
set_option maxRecDepth 100000 in
theorem dX9_controls_261 : decode cX9_controls 261 = .ok (.invokevirtual 207, 3) := by decide +kernel
set_option maxRecDepth 100000 in
theorem dX9_controls_264 : decode cX9_controls 264 = .ok (.goto 254, 3) := by decide +kernel
set_option maxRecDepth 100000 in
theorem dX9_controls_267 : decode cX9_controls 267 = .ok (.aload_n 0, 1) := by decide +kernel
set_option maxRecDepth 100000 in
theorem dX9_controls_268 : decode cX9_controls 268 = .ok (.aload_n 0, 1) := by decide +kernel
set_option maxRecDepth 100000 in
theorem dX9_controls_269 : decode cX9_controls 269 = .ok (.getfield 75, 3) := by decide +kernel
set_option maxRecDepth 100000 in
theorem dX9_controls_272 : decode cX9_controls 272 = .ok (.getfield 346, 3) := by decide +kernel
set_option maxRecDepth 100000 in
theorem dX9_controls_275 : decode cX9_controls 275 = .ok (.iload_n 3, 1) := by decide +kernel
set_option maxRecDepth 100000 in
theorem dX9_controls_276 : decode cX9_controls 276 = .ok (.invokevirtual 166, 3) := by decide +kernel
set_option maxRecDepth 100000 in
theorem dX9_controls_279 : decode cX9_controls 279 = .ok (.checkcast 55, 3) := by decide +kernel
set_option maxRecDepth 100000 in
theorem dX9_controls_282 : decode cX9_controls 282 = .ok (.aload_n 0, 1) := by decide +kernel
set_option maxRecDepth 100000 in
theorem dX9_controls_283 : decode cX9_controls 283 = .ok (.iload 4, 2) := by decide +kernel
set_option maxRecDepth 100000 in
theorem dX9_controls_285 : decode cX9_controls 285 = .ok (.invokevirtual 214, 3) := by decide +kernel
set_option maxRecDepth 100000 in
theorem dX9_controls_288 : decode cX9_controls 288 = .ok (.iload 5, 2) := by decide +kernel
set_option maxRecDepth 100000 in
theorem dX9_controls_290 : decode cX9_controls 290 = .ok (.invokevirtual 349, 3) := by decide +kernel
set_option maxRecDepth 100000 in
theorem dX9_controls_293 : decode cX9_controls 293 = .ok (.goto 225, 3) := by decide +kernel
set_option maxRecDepth 100000 in
theorem dX9_controls_296 : decode cX9_controls 296 = .ok (.aload_n 0, 1) := by decide +kernel
set_option maxRecDepth 100000 in
theorem dX9_controls_297 : decode cX9_controls 297 = .ok (.getfield 39, 3) := by decide +kernel
set_option maxRecDepth 100000 in
theorem dX9_controls_300 : decode cX9_controls 300 = .ok (.aload_n 0, 1) := by decide +kernel
set_option maxRecDepth 100000 in
theorem dX9_controls_301 : decode cX9_controls 301 = .ok (.iload_n 3, 1) := by decide +kernel
set_option maxRecDepth 100000 in
theorem dX9_controls_302 : decode cX9_controls 302 = .ok (.invokevirtual 214, 3) := by decide +kernel
set_option maxRecDepth 100000 in
theorem dX9_controls_305 : decode cX9_controls 305 = .ok (.iaload, 1) := by decide +kernel
set_option maxRecDepth 100000 in
theorem dX9_controls_306 : decode cX9_controls 306 = .ok (.iload 4, 2) := by decide +kernel
set_option maxRecDepth 100000 in
theorem dX9_controls_308 : decode cX9_controls 308 = .ok (.iadd, 1) := by decide +kernel
set_option maxRecDepth 100000 in
theorem dX9_controls_309 : decode cX9_controls 309 = .ok (.istore 6, 2) := by decide +kernel
set_option maxRecDepth 100000 in
theorem dX9_controls_311 : decode cX9_controls 311 = .ok (.aload_n 0, 1) := by decide +kernel
set_option maxRecDepth 100000 in
theorem dX9_controls_312 : decode cX9_controls 312 = .ok (.aload_n 0, 1) := by decide +kernel
set_option maxRecDepth 100000 in
theorem dX9_controls_313 : decode cX9_controls 313 = .ok (.getfield 75, 3) := by decide +kernel
set_option maxRecDepth 100000 in
theorem dX9_controls_316 : decode cX9_controls 316 = .ok (.getfield 346, 3) := by decide +kernel
set_option maxRecDepth 100000 in
theorem dX9_controls_319 : decode cX9_controls 319 = .ok (.aload_n 0, 1) := by decide +kernel
set_option maxRecDepth 100000 in
theorem dX9_controls_320 : decode cX9_controls 320 = .ok (.getfield 12, 3) := by decide +kernel
set_option maxRecDepth 100000 in
theorem dX9_controls_323 : decode cX9_controls 323 = .ok (.getfield 218, 3) := by decide +kernel
set_option maxRecDepth 100000 in
theorem dX9_controls_326 : decode cX9_controls 326 = .ok (.iload 6, 2) := by decide +kernel
set_option maxRecDepth 100000 in
theorem dX9_controls_328 : decode cX9_controls 328 = .ok (.laload, 1) := by decide +kernel
set_option maxRecDepth 100000 in
theorem dX9_controls_329 : decode cX9_controls 329 = .ok (.l2i, 1) := by decide +kernel
set_option maxRecDepth 100000 in
theorem dX9_controls_330 : decode cX9_controls 330 = .ok (.invokevirtual 166, 3) := by decide +kernel
set_option maxRecDepth 100000 in
theorem dX9_controls_333 : decode cX9_controls 333 = .ok (.checkcast 55, 3) := by decide +kernel
set_option maxRecDepth 100000 in
theorem dX9_controls_336 : decode cX9_controls 336 = .ok (.aload_n 0, 1) := by decide +kernel
set_option maxRecDepth 100000 in
theorem dX9_controls_337 : decode cX9_controls 337 = .ok (.getfield 12, 3) := by decide +kernel
set_option maxRecDepth 100000 in
theorem dX9_controls_340 : decode cX9_controls 340 = .ok (.getfield 277, 3) := by decide +kernel
set_option maxRecDepth 100000 in
theorem dX9_controls_343 : decode cX9_controls 343 = .ok (.iload 6, 2) := by decide +kernel
set_option maxRecDepth 100000 in
theorem dX9_controls_345 : decode cX9_controls 345 = .ok (.laload, 1) := by decide +kernel
set_option maxRecDepth 100000 in
theorem dX9_controls_346 : decode cX9_controls 346 = .ok (.l2i, 1) := by decide +kernel
set_option maxRecDepth 100000 in
theorem dX9_controls_347 : decode cX9_controls 347 = .ok (.iload 5, 2) := by decide +kernel
set_option maxRecDepth 100000 in
theorem dX9_controls_349 : decode cX9_controls 349 = .ok (.invokevirtual 349, 3) := by decide +kernel
set_option maxRecDepth 100000 in
theorem dX9_controls_352 : decode cX9_controls 352 = .ok (.goto 166, 3) := by decide +kernel
set_option maxRecDepth 100000 in
theorem dX9_controls_355 : decode cX9_controls 355 = .ok (.aload_n 0, 1) := by decide +kernel
set_option maxRecDepth 100000 in
theorem dX9_controls_356 : decode cX9_controls 356 = .ok (.invokevirtual 353, 3) := by decide +kernel
set_option maxRecDepth 100000 in
theorem dX9_controls_359 : decode cX9_controls 359 = .ok (.goto 159, 3) := by decide +kernel
set_option maxRecDepth 100000 in
theorem dX9_controls_362 : decode cX9_controls 362 = .ok (.aload_n 0, 1) := by decide +kernel
set_option maxRecDepth 100000 in
theorem dX9_controls_363 : decode cX9_controls 363 = .ok (.iload_n 3, 1) := by decide +kernel
set_option maxRecDepth 100000 in
theorem dX9_controls_364 : decode cX9_controls 364 = .ok (.i2l, 1) := by decide +kernel
set_option maxRecDepth 100000 in
theorem dX9_controls_365 : decode cX9_controls 365 = .ok (.invokevirtual 207, 3) := by decide +kernel
set_option maxRecDepth 100000 in
theorem dX9_controls_368 : decode cX9_controls 368 = .ok (.aload_n 0, 1) := by decide +kernel
set_option maxRecDepth 100000 in
theorem dX9_controls_369 : decode cX9_controls 369 = .ok (.getfield 32, 3) := by decide +kernel
set_option maxRecDepth 100000 in
theorem dX9_controls_372 : decode cX9_controls 372 = .ok (.aload_n 0, 1) := by decide +kernel
set_option maxRecDepth 100000 in
theorem dX9_controls_373 : decode cX9_controls 373 = .ok (.getfield 86, 3) := by decide +kernel
set_option maxRecDepth 100000 in
theorem dX9_controls_376 : decode cX9_controls 376 = .ok (.iconst 1, 1) := by decide +kernel
set_option maxRecDepth 100000 in
theorem dX9_controls_377 : decode cX9_controls 377 = .ok (.isub, 1) := by decide +kernel
set_option maxRecDepth 100000 in
theorem dX9_controls_378 : decode cX9_controls 378 = .ok (.aload_n 0, 1) := by decide +kernel
set_option maxRecDepth 100000 in
theorem dX9_controls_379 : decode cX9_controls 379 = .ok (.iload 4, 2) := by decide +kernel
set_option maxRecDepth 100000 in
theorem dX9_controls_381 : decode cX9_controls 381 = .ok (.invokevirtual 214, 3) := by decide +kernel
set_option maxRecDepth 100000 in
theorem dX9_controls_384 : decode cX9_controls 384 = .ok (.i2l, 1) := by decide +kernel
set_option maxRecDepth 100000 in
theorem dX9_controls_385 : decode cX9_controls 385 = .ok (.lastore, 1) := by decide +kernel
set_option maxRecDepth 100000 in
theorem dX9_controls_386 : decode cX9_controls 386 = .ok (.goto 132, 3) := by decide +kernel
set_option maxRecDepth 100000 in
theorem dX9_controls_389 : decode cX9_controls 389 = .ok (.aload_n 0, 1) := by decide +kernel
set_option maxRecDepth 100000 in
theorem dX9_controls_390 : decode cX9_controls 390 = .ok (.getfield 39, 3) := by decide +kernel
set_option maxRecDepth 100000 in
theorem dX9_controls_393 : decode cX9_controls 393 = .ok (.aload_n 0, 1) := by decide +kernel
set_option maxRecDepth 100000 in
theorem dX9_controls_394 : decode cX9_controls 394 = .ok (.iload_n 3, 1) := by decide +kernel
set_option maxRecDepth 100000 in
theorem dX9_controls_395 : decode cX9_controls 395 = .ok (.invokevirtual 214, 3) := by decide +kernel
set_option maxRecDepth 100000 in
theorem dX9_controls_398 : decode cX9_controls 398 = .ok (.iaload, 1) := by decide +kernel
set_option maxRecDepth 100000 in
theorem dX9_controls_399 : decode cX9_controls 399 = .ok (.iload 4, 2) := by decide +kernel
set_option maxRecDepth 100000 in
theorem dX9_controls_401 : decode cX9_controls 401 = .ok (.iadd, 1) := by decide +kernel
set_option maxRecDepth 100000 in
theorem dX9_controls_402 : decode cX9_controls 402 = .ok (.istore 7, 2) := by decide +kernel
set_option maxRecDepth 100000 in
theorem dX9_controls_404 : decode cX9_controls 404 = .ok (.aload_n 0, 1) := by decide +kernel
set_option maxRecDepth 100000 in
theorem dX9_controls_405 : decode cX9_controls 405 = .ok (.aload_n 0, 1) := by decide +kernel
set_option maxRecDepth 100000 in
theorem dX9_controls_406 : decode cX9_controls 406 = .ok (.getfield 12, 3) := by decide +kernel
set_option maxRecDepth 100000 in
theorem dX9_controls_409 : decode cX9_controls 409 = .ok (.getfield 218, 3) := by decide +kernel
set_option maxRecDepth 100000 in
theorem dX9_controls_412 : decode cX9_controls 412 = .ok (.iload 7, 2) := by decide +kernel
set_option maxRecDepth 100000 in
theorem dX9_controls_414 : decode cX9_controls 414 = .ok (.laload, 1) := by decide +kernel
set_option maxRecDepth 100000 in
theorem dX9_controls_415 : decode cX9_controls 415 = .ok (.invokevirtual 207, 3) := by decide +kernel
set_option maxRecDepth 100000 in
theorem dX9_controls_418 : decode cX9_controls 418 = .ok (.aload_n 0, 1) := by decide +kernel
set_option maxRecDepth 100000 in
theorem dX9_controls_419 : decode cX9_controls 419 = .ok (.getfield 32, 3) := by decide +kernel
set_option maxRecDepth 100000 in
theorem dX9_controls_422 : decode cX9_controls 422 = .ok (.aload_n 0, 1) := by decide +kernel
set_option maxRecDepth 100000 in
theorem dX9_controls_423 : decode cX9_controls 423 = .ok (.getfield 86, 3) := by decide +kernel
set_option maxRecDepth 100000 in
theorem dX9_controls_426 : decode cX9_controls 426 = .ok (.iconst 1, 1) := by decide +kernel
set_option maxRecDepth 100000 in
theorem dX9_controls_427 : decode cX9_controls 427 = .ok (.isub, 1) := by decide +kernel
set_option maxRecDepth 100000 in
theorem dX9_controls_428 : decode cX9_controls 428 = .ok (.aload_n 0, 1) := by decide +kernel
set_option maxRecDepth 100000 in
theorem dX9_controls_429 : decode cX9_controls 429 = .ok (.getfield 12, 3) := by decide +kernel
set_option maxRecDepth 100000 in
theorem dX9_controls_432 : decode cX9_controls 432 = .ok (.getfield 277, 3) := by decide +kernel
set_option maxRecDepth 100000 in
theorem dX9_controls_435 : decode cX9_controls 435 = .ok (.iload 7, 2) := by decide +kernel
set_option maxRecDepth 100000 in
theorem dX9_controls_437 : decode cX9_controls 437 = .ok (.laload, 1) := by decide +kernel
set_option maxRecDepth 100000 in
theorem dX9_controls_438 : decode cX9_controls 438 = .ok (.lastore, 1) := by decide +kernel
set_option maxRecDepth 100000 in
theorem dX9_controls_439 : decode cX9_controls 439 = .ok (.goto 79, 3) := by decide +kernel
set_option maxRecDepth 100000 in
theorem dX9_controls_442 : decode cX9_controls 442 = .ok (.aload_n 0, 1) := by decide +kernel
set_option maxRecDepth 100000 in
theorem dX9_controls_443 : decode cX9_controls 443 = .ok (.iload_n 3, 1) := by decide +kernel
set_option maxRecDepth 100000 in
theorem dX9_controls_444 : decode cX9_controls 444 = .ok (.aload_n 0, 1) := by decide +kernel
set_option maxRecDepth 100000 in
theorem dX9_controls_445 : decode cX9_controls 445 = .ok (.iload 4, 2) := by decide +kernel
set_option maxRecDepth 100000 in
theorem dX9_controls_447 : decode cX9_controls 447 = .ok (.invokevirtual 214, 3) := by decide +kernel
set_option maxRecDepth 100000 in
theorem dX9_controls_450 : decode cX9_controls 450 = .ok (.invokevirtual 356, 3) := by decide +kernel
set_option maxRecDepth 100000 in
theorem dX9_controls_453 : decode cX9_controls 453 = .ok (.goto 65, 3) := by decide +kernel
set_option maxRecDepth 100000 in
theorem dX9_controls_456 : decode cX9_controls 456 = .ok (.aload_n 0, 1) := by decide +kernel
set_option maxRecDepth 100000 in
theorem dX9_controls_457 : decode cX9_controls 457 = .ok (.getfield 28, 3) := by decide +kernel
set_option maxRecDepth 100000 in
theorem dX9_controls_460 : decode cX9_controls 460 = .ok (.aload_n 0, 1) := by decide +kernel
set_option maxRecDepth 100000 in
theorem dX9_controls_461 : decode cX9_controls 461 = .ok (.getfield 86, 3) := by decide +kernel
set_option maxRecDepth 100000 in
theorem dX9_controls_464 : decode cX9_controls 464 = .ok (.iconst 1, 1) := by decide +kernel
set_option maxRecDepth 100000 in
theorem dX9_controls_465 : decode cX9_controls 465 = .ok (.isub, 1) := by decide +kernel
set_option maxRecDepth 100000 in
theorem dX9_controls_466 : decode cX9_controls 466 = .ok (.laload, 1) := by decide +kernel
set_option maxRecDepth 100000 in
theorem dX9_controls_467 : decode cX9_controls 467 = .ok (.iload_n 3, 1) := by decide +kernel
set_option maxRecDepth 100000 in
theorem dX9_controls_468 : decode cX9_controls 468 = .ok (.i2l, 1) := by decide +kernel
set_option maxRecDepth 100000 in
theorem dX9_controls_469 : decode cX9_controls 469 = .ok (.lcmp, 1) := by decide +kernel
set_option maxRecDepth 100000 in
theorem dX9_controls_470 : decode cX9_controls 470 = .ok (.ifCond .lt 21, 3) := by decide +kernel
set_option maxRecDepth 100000 in
theorem dX9_controls_473 : decode cX9_controls 473 = .ok (.aload_n 0, 1) := by decide +kernel
set_option maxRecDepth 100000 in
theorem dX9_controls_474 : decode cX9_controls 474 = .ok (.getfield 28, 3) := by decide +kernel
set_option maxRecDepth 100000 in
theorem dX9_controls_477 : decode cX9_controls 477 = .ok (.aload_n 0, 1) := by decide +kernel
set_option maxRecDepth 100000 in
theorem dX9_controls_478 : decode cX9_controls 478 = .ok (.getfield 86, 3) := by decide +kernel
set_option maxRecDepth 100000 in
theorem dX9_controls_481 : decode cX9_controls 481 = .ok (.iconst 1, 1) := by decide +kernel
set_option maxRecDepth 100000 in
theorem dX9_controls_482 : decode cX9_controls 482 = .ok (.isub, 1) := by decide +kernel
set_option maxRecDepth 100000 in
theorem dX9_controls_483 : decode cX9_controls 483 = .ok (.laload, 1) := by decide +kernel
set_option maxRecDepth 100000 in
theorem dX9_controls_484 : decode cX9_controls 484 = .ok (.iload 4, 2) := by decide +kernel
set_option maxRecDepth 100000 in
theorem dX9_controls_486 : decode cX9_controls 486 = .ok (.i2l, 1) := by decide +kernel
set_option maxRecDepth 100000 in
theorem dX9_controls_487 : decode cX9_controls 487 = .ok (.lcmp, 1) := by decide +kernel
set_option maxRecDepth 100000 in
theorem dX9_controls_488 : decode cX9_controls 488 = .ok (.ifCond .le 30, 3) := by decide +kernel
set_option maxRecDepth 100000 in
theorem dX9_controls_491 : decode cX9_controls 491 = .ok (.aload_n 0, 1) := by decide +kernel
set_option maxRecDepth 100000 in
theorem dX9_controls_492 : decode cX9_controls 492 = .ok (.iconst 1, 1) := by decide +kernel
set_option maxRecDepth 100000 in
theorem dX9_controls_493 : decode cX9_controls 493 = .ok (.iload 5, 2) := by decide +kernel
set_option maxRecDepth 100000 in
theorem dX9_controls_495 : decode cX9_controls 495 = .ok (.invokevirtual 147, 3) := by decide +kernel
set_option maxRecDepth 100000 in
theorem dX9_controls_498 : decode cX9_controls 498 = .ok (.goto 20, 3) := by decide +kernel
set_option maxRecDepth 100000 in
theorem dX9_controls_501 : decode cX9_controls 501 = .ok (.aload_n 0, 1) := by decide +kernel
set_option maxRecDepth 100000 in
theorem dX9_controls_502 : decode cX9_controls 502 = .ok (.iload_n 3, 1) := by decide +kernel
set_option maxRecDepth 100000 in
theorem dX9_controls_503 : decode cX9_controls 503 = .ok (.iload 4, 2) := by decide +kernel
set_option maxRecDepth 100000 in
theorem dX9_controls_505 : decode cX9_controls 505 = .ok (.iload 5, 2) := by decide +kernel
set_option maxRecDepth 100000 in
theorem dX9_controls_507 : decode cX9_controls 507 = .ok (.invokevirtual 359, 3) := by decide +kernel
set_option maxRecDepth 100000 in
theorem dX9_controls_510 : decode cX9_controls 510 = .ok (.goto 8, 3) := by decide +kernel
set_option maxRecDepth 100000 in
theorem dX9_controls_513 : decode cX9_controls 513 = .ok (.aload_n 0, 1) := by decide +kernel
set_option maxRecDepth 100000 in
theorem dX9_controls_514 : decode cX9_controls 514 = .ok (.iconst 1, 1) := by decide +kernel
set_option maxRecDepth 100000 in
theorem dX9_controls_515 : decode cX9_controls 515 = .ok (.putfield 110, 3) := by decide +kernel
set_option maxRecDepth 100000 in
theorem dX9_controls_518 : decode cX9_controls 518 = .ok (.return_, 1) := by decide +kernel
set_option maxRecDepth 100000 in
def bX9_controls_518 (G : xG) (fr lo : Nat) (h : xH) (Q : Outcome → xH → Prop) : Prop := Q (.returned none) h
set_option maxRecDepth 100000 in
theorem uX9_controls_518 {G : xG} {fr lo : Nat} {h : xH} {Q : Outcome → xH → Prop} (hq : bX9_controls_518 G fr lo h Q) : xP G YX9_controls fr lo 518 [] [] h Q := by
  unfold bX9_controls_518 at hq
  exact x_vret rfl dX9_controls_518 hq
set_option maxRecDepth 100000 in
def bX9_controls_491 (G : xG) (fr lo : Nat) (x0 : Nat) (x5 : Int32) (h : xH) (Q : Outcome → xH → Prop) : Prop := tg h x0 = 10 ∧ 1 ≤ fr ∧ 14 ≤ lo ∧ xRv G YX9_fail (fr - 1) (lo - 14) [rv x0, .int 1, .int x5] h (fun h4 => xext h h4 → bX9_controls_518 G fr lo h4 Q) (fun r h2 => Q (.threw r) h2)
set_option maxRecDepth 100000 in
theorem uX9_controls_491 {G : xG} {fr lo : Nat} {x0 : Nat} {x5 : Int32} {h : xH} {Q : Outcome → xH → Prop} (hq : bX9_controls_491 G fr lo x0 x5 h Q) : xP G YX9_controls fr lo 491 [(0, rv x0), (5, .int x5)] [] h Q := by
  unfold bX9_controls_491 at hq
  refine x_aload_n 0 dX9_controls_491 rfl ?_
  refine x_iconst (v := 1) dX9_controls_492 (by decide) ?_
  refine x_iload 1 dX9_controls_493 rfl ?_
  obtain ⟨g1, hq⟩ := hq
  obtain ⟨g2, g3, hq⟩ := hq
  refine x_callV (Yc := YX9_fail) (as := [.int 1, .int x5]) (st := []) q2835 mvX9_fail g1 rfl dX9_controls_495 (xle (xal1 (rv_cat _) (xal1 rfl (xal1 rfl xal0))) (by decide)) (xfr g2) (xlo xsw0 (by decide) g3) (xKv hq (fun h4 hq e6 => ?_) (fun _ _ q _ => q))
  replace hq := hq e6
  refine x_goto (tgt := 518) dX9_controls_498 (by decide) ?_
  refine xP.pick (lv' := []) [] rfl ?_
  exact uX9_controls_518 hq
set_option maxRecDepth 100000 in
def bX9_controls (G : xG) (fr lo : Nat) (x0 : Nat) (x1 : Int32) (x2 : Int32) (h : xH) (Q : Outcome → xH → Prop) : Prop := tg h x0 = 10 ∧ tg h (fR h x0 2304) = 3 ∧ tg h (fR h (fR h x0 2304) 513) = 100 ∧ vp_in x2 (ln h (fR h (fR h x0 2304) 513)) ∧ tg h (fR h (fR h x0 2304) 514) = 100 ∧ vp_in x2 (ln h (fR h (fR h x0 2304) 514)) ∧ tg h (fR h (fR h x0 2304) 516) = 100 ∧ vp_in x2 (ln h (fR h (fR h x0 2304) 516)) ∧ ((x1 = 50 → (∀ h10 : xH, h10 = sI h x0 2311 (aI h (fR h (fR h x0 2304) 513) (Int32.toNatClampNeg x2)) → bX9_controls_518 G fr lo h10 Q)) ∧ (x1 = 51 → 1 ≤ fr ∧ 12 ≤ lo ∧ xRi G YX9_pop (fr - 1) (lo - 12) [rv x0] h (fun x16 h15 => xext h h15 → ((¬ x16 = 0 → bX9_controls_518 G fr lo h15 Q) ∧ (x16 = 0 → (∀ h20 : xH, h20 = sI h15 x0 2311 (aI h (fR h (fR h x0 2304) 513) (Int32.toNatClampNeg x2)) → bX9_controls_518 G fr lo h20 Q)))) (fun r h2 => Q (.threw r) h2)) ∧ (x1 = 52 → ((¬ (fI h x0 2328) = (fI h x0 2329) → (∀ h24 : xH, h24 = sI h x0 2328 ((fI h x0 2328) + 1) → bX9_controls_518 G fr lo h24 Q)) ∧ ((fI h x0 2328) = (fI h x0 2329) → 1 ≤ fr ∧ 14 ≤ lo ∧ xRv G YX9_fail (fr - 1) (lo - 14) [rv x0, .int 15, .int (aI h (fR h (fR h x0 2304) 516) (Int32.toNatClampNeg x2))] h (fun h28 => xext h h28 → bX9_controls_518 G fr lo h28 Q) (fun r h2 => Q (.threw r) h2)))) ∧ (x1 = 53 → 1 ≤ fr ∧ 17 ≤ lo ∧ xRv G YX9_chooses (fr - 1) (lo - 17) [rv x0, .int (aI h (fR h (fR h x0 2304) 513) (Int32.toNatClampNeg x2)), .int (aI h (fR h (fR h x0 2304) 514) (Int32.toNatClampNeg x2)), .int (aI h (fR h (fR h x0 2304) 516) (Int32.toNatClampNeg x2))] h (fun h34 => xext h h34 → bX9_controls_518 G fr lo h34 Q) (fun r h2 => Q (.threw r) h2)) ∧ (x1 = 54 → tg h (fR h (fR h x0 2304) 515) = 100 ∧ vp_in x2 (ln h (fR h (fR h x0 2304) 515)) ∧ 1 ≤ fr ∧ 24 ≤ lo ∧ xRv G YX9_begins (fr - 1) (lo - 24) [rv x0, .int (aI h (fR h (fR h x0 2304) 513) (Int32.toNatClampNeg x2)), .int (aI h (fR h (fR h x0 2304) 514) (Int32.toNatClampNeg x2)), .int (aI h (fR h (fR h x0 2304) 515) (Int32.toNatClampNeg x2)), .int (aI h (fR h (fR h x0 2304) 516) (Int32.toNatClampNeg x2))] h (fun h42 => xext h h42 → bX9_controls_518 G fr lo h42 Q) (fun r h2 => Q (.threw r) h2)) ∧ (x1 = 55 → tg h (fR h (fR h x0 2304) 515) = 100 ∧ vp_in x2 (ln h (fR h (fR h x0 2304) 515)) ∧ 1 ≤ fr ∧ 17 ≤ lo ∧ xRv G YX9_repeats (fr - 1) (lo - 17) [rv x0, .int (aI h (fR h (fR h x0 2304) 513) (Int32.toNatClampNeg x2)), .int (aI h (fR h (fR h x0 2304) 514) (Int32.toNatClampNeg x2)), .int (aI h (fR h (fR h x0 2304) 515) (Int32.toNatClampNeg x2))] h (fun h50 => xext h h50 → bX9_controls_518 G fr lo h50 Q) (fun r h2 => Q (.threw r) h2)) ∧ (x1 = 56 → 1 ≤ fr ∧ 14 ≤ lo ∧ xRi G YX9_pop (fr - 1) (lo - 14) [rv x0] h (fun x57 h56 => xext h h56 → tg h56 (fR h x0 2318) = 101 ∧ vp_in ((128 * (fI h x0 2319)) + (aI h (fR h (fR h x0 2304) 513) (Int32.toNatClampNeg x2))) (ln h56 (fR h x0 2318)) ∧ (∀ h61 : xH, h61 = tJ h56 (fR h x0 2318) (Int32.toNatClampNeg ((128 * (fI h x0 2319)) + (aI h (fR h (fR h x0 2304) 513) (Int32.toNatClampNeg x2)))) (Int32.toInt64 x57) → bX9_controls_518 G fr lo h61 Q)) (fun r h2 => Q (.threw r) h2)) ∧ (x1 = 57 → tg h (fR h x0 2318) = 101 ∧ vp_in ((128 * (fI h x0 2319)) + (aI h (fR h (fR h x0 2304) 513) (Int32.toNatClampNeg x2))) (ln h (fR h x0 2318)) ∧ 1 ≤ fr ∧ 14 ≤ lo ∧ xRv G YX9_push (fr - 1) (lo - 14) [rv x0, .long (aJ h (fR h x0 2318) (Int32.toNatClampNeg ((128 * (fI h x0 2319)) + (aI h (fR h (fR h x0 2304) 513) (Int32.toNatClampNeg x2)))))] h (fun h68 => xext h h68 → bX9_controls_518 G fr lo h68 Q) (fun r h2 => Q (.threw r) h2)) ∧ (x1 = 58 → tg h (fR h (fR h x0 2304) 522) = 29 ∧ 1 ≤ fr ∧ 14 ≤ lo ∧ xRr G YJ2_get (fr - 1) (lo - 14) [rv (fR h (fR h x0 2304) 522), .int (aI h (fR h (fR h x0 2304) 513) (Int32.toNatClampNeg x2))] h (fun x76 h75 => xext h h75 → tg h75 x76 = 17 ∧ 1 ≤ fr ∧ 17 ≤ lo ∧ xRi G YX9_frameAbove (fr - 1) (lo - 17) [rv x0, .int (aI h (fR h (fR h x0 2304) 514) (Int32.toNatClampNeg x2))] h75 (fun x83 h82 => xext h75 h82 → 1 ≤ fr ∧ 17 ≤ lo ∧ xRv G YX9_calls (fr - 1) (lo - 17) [rv x0, rv x76, .int x83, .int (aI h (fR h (fR h x0 2304) 516) (Int32.toNatClampNeg x2))] h82 (fun h88 => xext h82 h88 → bX9_controls_518 G fr lo h88 Q) (fun r h2 => Q (.threw r) h2)) (fun r h2 => Q (.threw r) h2)) (fun r h2 => Q (.threw r) h2)) ∧ (x1 = 59 → 1 ≤ fr ∧ 16 ≤ lo ∧ xRi G YX9_frameAbove (fr - 1) (lo - 16) [rv x0, .int (aI h (fR h (fR h x0 2304) 513) (Int32.toNatClampNeg x2))] h (fun x95 h94 => xext h h94 → tg h94 (fR h x0 2312) = 100 ∧ vp_in x95 (ln h94 (fR h x0 2312)) ∧ tg h94 (fR h94 x0 2304) = 3 ∧ tg h94 (fR h94 x0 2305) = 11 ∧ tg h94 (fR h94 (fR h94 x0 2305) 2560) = 101 ∧ vp_in ((aI h94 (fR h x0 2312) (Int32.toNatClampNeg x95)) + (aI h (fR h (fR h x0 2304) 514) (Int32.toNatClampNeg x2))) (ln h94 (fR h94 (fR h94 x0 2305) 2560)) ∧ tg h94 (fR h94 (fR h94 x0 2304) 522) = 29 ∧ 1 ≤ fr ∧ 14 ≤ lo ∧ xRr G YJ2_get (fr - 1) (lo - 14) [rv (fR h94 (fR h94 x0 2304) 522), .int (Int64.toInt32 (aJ h94 (fR h94 (fR h94 x0 2305) 2560) (Int32.toNatClampNeg ((aI h94 (fR h x0 2312) (Int32.toNatClampNeg x95)) + (aI h (fR h (fR h x0 2304) 514) (Int32.toNatClampNeg x2))))))] h94 (fun x108 h107 => xext h94 h107 → tg h107 x108 = 17 ∧ tg h107 (fR h107 x0 2305) = 11 ∧ tg h107 (fR h107 (fR h107 x0 2305) 2561) = 101 ∧ vp_in ((aI h94 (fR h x0 2312) (Int32.toNatClampNeg x95)) + (aI h (fR h (fR h x0 2304) 514) (Int32.toNatClampNeg x2))) (ln h107 (fR h107 (fR h107 x0 2305) 2561)) ∧ 1 ≤ fr ∧ 17 ≤ lo ∧ xRv G YX9_calls (fr - 1) (lo - 17) [rv x0, rv x108, .int (Int64.toInt32 (aJ h107 (fR h107 (fR h107 x0 2305) 2561) (Int32.toNatClampNeg ((aI h94 (fR h x0 2312) (Int32.toNatClampNeg x95)) + (aI h (fR h (fR h x0 2304) 514) (Int32.toNatClampNeg x2)))))), .int (aI h (fR h (fR h x0 2304) 516) (Int32.toNatClampNeg x2))] h107 (fun h117 => xext h107 h117 → bX9_controls_518 G fr lo h117 Q) (fun r h2 => Q (.threw r) h2)) (fun r h2 => Q (.threw r) h2)) (fun r h2 => Q (.threw r) h2)) ∧ (x1 = 60 → 1 ≤ fr ∧ 16 ≤ lo ∧ xRv G YX9_returns (fr - 1) (lo - 16) [rv x0] h (fun h123 => xext h h123 → bX9_controls_518 G fr lo h123 Q) (fun r h2 => Q (.threw r) h2)) ∧ (x1 = 61 → 1 ≤ fr ∧ 14 ≤ lo ∧ xRv G YX9_push (fr - 1) (lo - 14) [rv x0, .long (Int32.toInt64 (aI h (fR h (fR h x0 2304) 513) (Int32.toNatClampNeg x2)))] h (fun h129 => xext h h129 → 1 ≤ fr ∧ 17 ≤ lo ∧ xRi G YX9_frameAbove (fr - 1) (lo - 17) [rv x0, .int (aI h (fR h (fR h x0 2304) 514) (Int32.toNatClampNeg x2))] h129 (fun x136 h135 => xext h129 h135 → tg h135 (fR h129 x0 2308) = 101 ∧ vp_in ((fI h129 x0 2310) - 1) (ln h135 (fR h129 x0 2308)) ∧ (∀ h140 : xH, h140 = tJ h135 (fR h129 x0 2308) (Int32.toNatClampNeg ((fI h129 x0 2310) - 1)) (Int32.toInt64 x136) → bX9_controls_518 G fr lo h140 Q)) (fun r h2 => Q (.threw r) h2)) (fun r h2 => Q (.threw r) h2)) ∧ (x1 = 62 → 1 ≤ fr ∧ 16 ≤ lo ∧ xRi G YX9_frameAbove (fr - 1) (lo - 16) [rv x0, .int (aI h (fR h (fR h x0 2304) 513) (Int32.toNatClampNeg x2))] h (fun x146 h145 => xext h h145 → tg h145 (fR h x0 2312) = 100 ∧ vp_in x146 (ln h145 (fR h x0 2312)) ∧ tg h145 (fR h145 x0 2305) = 11 ∧ tg h145 (fR h145 (fR h145 x0 2305) 2560) = 101 ∧ vp_in ((aI h145 (fR h x0 2312) (Int32.toNatClampNeg x146)) + (aI h (fR h (fR h x0 2304) 514) (Int32.toNatClampNeg x2))) (ln h145 (fR h145 (fR h145 x0 2305) 2560)) ∧ 1 ≤ fr ∧ 14 ≤ lo ∧ xRv G YX9_push (fr - 1) (lo - 14) [rv x0, .long (aJ h145 (fR h145 (fR h145 x0 2305) 2560) (Int32.toNatClampNeg ((aI h145 (fR h x0 2312) (Int32.toNatClampNeg x146)) + (aI h (fR h (fR h x0 2304) 514) (Int32.toNatClampNeg x2)))))] h145 (fun h156 => xext h145 h156 → tg h156 (fR h156 x0 2305) = 11 ∧ tg h156 (fR h156 (fR h156 x0 2305) 2561) = 101 ∧ vp_in ((aI h145 (fR h x0 2312) (Int32.toNatClampNeg x146)) + (aI h (fR h (fR h x0 2304) 514) (Int32.toNatClampNeg x2))) (ln h156 (fR h156 (fR h156 x0 2305) 2561)) ∧ tg h156 (fR h156 x0 2308) = 101 ∧ vp_in ((fI h156 x0 2310) - 1) (ln h156 (fR h156 x0 2308)) ∧ (∀ h165 : xH, h165 = tJ h156 (fR h156 x0 2308) (Int32.toNatClampNeg ((fI h156 x0 2310) - 1)) (aJ h156 (fR h156 (fR h156 x0 2305) 2561) (Int32.toNatClampNeg ((aI h145 (fR h x0 2312) (Int32.toNatClampNeg x146)) + (aI h (fR h (fR h x0 2304) 514) (Int32.toNatClampNeg x2))))) → bX9_controls_518 G fr lo h165 Q)) (fun r h2 => Q (.threw r) h2)) (fun r h2 => Q (.threw r) h2)) ∧ (x1 = 63 → 1 ≤ fr ∧ 17 ≤ lo ∧ xRi G YX9_frameAbove (fr - 1) (lo - 17) [rv x0, .int (aI h (fR h (fR h x0 2304) 514) (Int32.toNatClampNeg x2))] h (fun x171 h170 => xext h h170 → 1 ≤ fr ∧ 14 ≤ lo ∧ xRv G YX9_leaps (fr - 1) (lo - 14) [rv x0, .int (aI h (fR h (fR h x0 2304) 513) (Int32.toNatClampNeg x2)), .int x171] h170 (fun h176 => xext h170 h176 → bX9_controls_518 G fr lo h176 Q) (fun r h2 => Q (.threw r) h2)) (fun r h2 => Q (.threw r) h2)) ∧ (x1 = 64 → tg h (fR h x0 2307) = 101 ∧ vp_in ((fI h x0 2310) - 1) (ln h (fR h x0 2307)) ∧ (((lg_cmp (aJ h (fR h x0 2307) (Int32.toNatClampNeg ((fI h x0 2310) - 1))) (Int32.toInt64 (aI h (fR h (fR h x0 2304) 513) (Int32.toNatClampNeg x2)))) < 0 → bX9_controls_491 G fr lo x0 (aI h (fR h (fR h x0 2304) 516) (Int32.toNatClampNeg x2)) h Q) ∧ (¬ (lg_cmp (aJ h (fR h x0 2307) (Int32.toNatClampNeg ((fI h x0 2310) - 1))) (Int32.toInt64 (aI h (fR h (fR h x0 2304) 513) (Int32.toNatClampNeg x2)))) < 0 → vp_in ((fI h x0 2310) - 1) (ln h (fR h x0 2307)) ∧ (((lg_cmp (aJ h (fR h x0 2307) (Int32.toNatClampNeg ((fI h x0 2310) - 1))) (Int32.toInt64 (aI h (fR h (fR h x0 2304) 514) (Int32.toNatClampNeg x2)))) ≤ 0 → bX9_controls_518 G fr lo h Q) ∧ (¬ (lg_cmp (aJ h (fR h x0 2307) (Int32.toNatClampNeg ((fI h x0 2310) - 1))) (Int32.toInt64 (aI h (fR h (fR h x0 2304) 514) (Int32.toNatClampNeg x2)))) ≤ 0 → bX9_controls_491 G fr lo x0 (aI h (fR h (fR h x0 2304) 516) (Int32.toNatClampNeg x2)) h Q))))) ∧ (x1 = 65 → 1 ≤ fr ∧ 19 ≤ lo ∧ xRv G YX9_bounds (fr - 1) (lo - 19) [rv x0, .int (aI h (fR h (fR h x0 2304) 513) (Int32.toNatClampNeg x2)), .int (aI h (fR h (fR h x0 2304) 514) (Int32.toNatClampNeg x2)), .int (aI h (fR h (fR h x0 2304) 516) (Int32.toNatClampNeg x2))] h (fun h188 => xext h h188 → bX9_controls_518 G fr lo h188 Q) (fun r h2 => Q (.threw r) h2)) ∧ (¬ x1 = 50 → ¬ x1 = 51 → ¬ x1 = 52 → ¬ x1 = 53 → ¬ x1 = 54 → ¬ x1 = 55 → ¬ x1 = 56 → ¬ x1 = 57 → ¬ x1 = 58 → ¬ x1 = 59 → ¬ x1 = 60 → ¬ x1 = 61 → ¬ x1 = 62 → ¬ x1 = 63 → ¬ x1 = 64 → ¬ x1 = 65 → (∀ h191 : xH, h191 = sI h x0 2332 1 → bX9_controls_518 G fr lo h191 Q)))
set_option maxRecDepth 100000 in
theorem uX9_controls {G : xG} {fr lo : Nat} {x0 : Nat} {x1 : Int32} {x2 : Int32} {h : xH} {Q : Outcome → xH → Prop} (hq : bX9_controls G fr lo x0 x1 x2 h Q) : xP G YX9_controls fr lo 0 [(0, rv x0), (1, .int x1), (2, .int x2)] [] h Q := by
  unfold bX9_controls at hq
  refine x_aload_n 0 dX9_controls_0 rfl ?_
  obtain ⟨g1, hq⟩ := hq
  refine x_get (v := rv (fR h x0 2304)) fdX9_75 dX9_controls_1 g1 rfl ?_
  obtain ⟨g2, hq⟩ := hq
  refine x_getN (v := rv (fR h (fR h x0 2304) 513)) gfX9_201 dX9_controls_4 g2 rfl ?_
  refine x_iload_n 2 dX9_controls_7 rfl ?_
  obtain ⟨g3, hq⟩ := hq
  obtain ⟨i4, hq⟩ := hq
  refine x_iald 0 (Or.inl rfl) g3 i4 dX9_controls_8 ?_
  refine x_istore_n (lv' := [(3, .int (aI h (fR h (fR h x0 2304) 513) (Int32.toNatClampNeg x2))), (0, rv x0), (1, .int x1), (2, .int x2)]) dX9_controls_9 (by decide) rfl ?_
  refine x_aload_n 1 dX9_controls_10 rfl ?_
  refine x_get (v := rv (fR h x0 2304)) fdX9_75 dX9_controls_11 g1 rfl ?_
  refine x_getN (v := rv (fR h (fR h x0 2304) 514)) gfX9_204 dX9_controls_14 g2 rfl ?_
  refine x_iload_n 3 dX9_controls_17 rfl ?_
  obtain ⟨g5, hq⟩ := hq
  obtain ⟨i6, hq⟩ := hq
  refine x_iald 0 (Or.inl rfl) g5 i6 dX9_controls_18 ?_
  refine x_istore (lv' := [(4, .int (aI h (fR h (fR h x0 2304) 514) (Int32.toNatClampNeg x2))), (3, .int (aI h (fR h (fR h x0 2304) 513) (Int32.toNatClampNeg x2))), (0, rv x0), (1, .int x1), (2, .int x2)]) dX9_controls_19 (by decide) rfl ?_
  refine x_aload_n 2 dX9_controls_21 rfl ?_
  refine x_get (v := rv (fR h x0 2304)) fdX9_75 dX9_controls_22 g1 rfl ?_
  refine x_getN (v := rv (fR h (fR h x0 2304) 516)) gfX9_222 dX9_controls_25 g2 rfl ?_
  refine x_iload_n 4 dX9_controls_28 rfl ?_
  obtain ⟨g7, hq⟩ := hq
  obtain ⟨i8, hq⟩ := hq
  refine x_iald 0 (Or.inl rfl) g7 i8 dX9_controls_29 ?_
  refine x_istore (lv' := [(5, .int (aI h (fR h (fR h x0 2304) 516) (Int32.toNatClampNeg x2))), (4, .int (aI h (fR h (fR h x0 2304) 514) (Int32.toNatClampNeg x2))), (3, .int (aI h (fR h (fR h x0 2304) 513) (Int32.toNatClampNeg x2))), (0, rv x0), (1, .int x1), (2, .int x2)]) dX9_controls_30 (by decide) rfl ?_
  refine x_iload_n 4 dX9_controls_32 rfl ?_
  by_cases c9 : x1 = 50
  · replace hq := hq.1 c9
    refine x_tin (tgt := 112) (off := 79) 50 c9 dX9_controls_33 (by decide) (by decide) (by decide) (by decide) ?_
    refine x_aload_n 3 dX9_controls_112 rfl ?_
    refine x_iload_n 2 dX9_controls_113 rfl ?_
    obtain ⟨h10, e11⟩ : ∃ y, y = sI h x0 2311 (aI h (fR h (fR h x0 2304) 513) (Int32.toNatClampNeg x2)) := ⟨_, rfl⟩
    replace hq := hq h10 e11
    refine x_putI fdX9_129 xty_I1 dX9_controls_114 g1 (Or.inl (by rw [g1]; rfl)) xnI rfl e11 ?_
    refine x_goto (tgt := 518) dX9_controls_117 (by decide) ?_
    refine xP.pick (lv' := []) [] rfl ?_
    exact uX9_controls_518 hq
  replace hq := hq.2
  by_cases c12 : x1 = 51
  · replace hq := hq.1 c12
    refine x_tin (tgt := 120) (off := 87) 51 c12 dX9_controls_33 (by decide) (by decide) (by decide) (by decide) ?_
    refine x_aload_n 3 dX9_controls_120 rfl ?_
    obtain ⟨g13, g14, hq⟩ := hq
    refine x_callV (Yc := YX9_pop) (as := []) (st := []) q2899 mvX9_pop g1 rfl dX9_controls_121 (xle (xal1 (rv_cat _) xal0) (by decide)) (xfr g13) (xlo xsw0 (by decide) g14) (xKi hq (fun x16 h15 hq e17 => ?_) (fun _ _ q _ => q))
    replace hq := hq e17
    refine x_if_ne (tgt := 518) dX9_controls_124 (by decide) (fun c18 => ?_) (fun c18 => ?_)
    · replace hq := hq.1 c18
      refine xP.pick (lv' := []) [] rfl ?_
      exact uX9_controls_518 hq
    · replace hq := hq.2 c18
      refine x_aload_n 3 dX9_controls_127 rfl ?_
      refine x_iload_n 2 dX9_controls_128 rfl ?_
      have t19 : tg h15 x0 = 10 := e17.tg g1 (by decide)
      obtain ⟨h20, e21⟩ : ∃ y, y = sI h15 x0 2311 (aI h (fR h (fR h x0 2304) 513) (Int32.toNatClampNeg x2)) := ⟨_, rfl⟩
      replace hq := hq h20 e21
      refine x_putI fdX9_129 xty_I1 dX9_controls_129 t19 (Or.inl (by rw [t19]; rfl)) xnI rfl e21 ?_
      refine x_goto (tgt := 518) dX9_controls_132 (by decide) ?_
      refine xP.pick (lv' := []) [] rfl ?_
      exact uX9_controls_518 hq
  replace hq := hq.2
  by_cases c22 : x1 = 52
  · replace hq := hq.1 c22
    refine x_tin (tgt := 135) (off := 102) 52 c22 dX9_controls_33 (by decide) (by decide) (by decide) (by decide) ?_
    refine x_aload_n 3 dX9_controls_135 rfl ?_
    refine x_get (v := .int (fI h x0 2328)) fdX9_98 dX9_controls_136 g1 rfl ?_
    refine x_aload_n 3 dX9_controls_139 rfl ?_
    refine x_get (v := .int (fI h x0 2329)) fdX9_101 dX9_controls_140 g1 rfl ?_
    refine x_icmp_ne (tgt := 157) dX9_controls_143 (by decide) (fun c23 => ?_) (fun c23 => ?_)
    · replace hq := hq.1 c23
      refine x_aload_n 3 dX9_controls_157 rfl ?_
      refine x_dup dX9_controls_158 (rv_cat _) ?_
      refine x_get (v := .int (fI h x0 2328)) fdX9_98 dX9_controls_159 g1 rfl ?_
      refine x_iconst (v := 1) dX9_controls_162 (by decide) ?_
      refine x_iadd dX9_controls_163 ?_
      obtain ⟨h24, e25⟩ : ∃ y, y = sI h x0 2328 ((fI h x0 2328) + 1) := ⟨_, rfl⟩
      replace hq := hq h24 e25
      refine x_putI fdX9_98 xty_I1 dX9_controls_164 g1 (Or.inl (by rw [g1]; rfl)) xnI rfl e25 ?_
      refine x_goto (tgt := 518) dX9_controls_167 (by decide) ?_
      refine xP.pick (lv' := []) [] rfl ?_
      exact uX9_controls_518 hq
    · replace hq := hq.2 c23
      refine x_aload_n 3 dX9_controls_146 rfl ?_
      refine x_bipush (v := 15) dX9_controls_147 (by decide) ?_
      refine x_iload 0 dX9_controls_149 rfl ?_
      obtain ⟨g26, g27, hq⟩ := hq
      refine x_callV (Yc := YX9_fail) (as := [.int 15, .int (aI h (fR h (fR h x0 2304) 516) (Int32.toNatClampNeg x2))]) (st := []) q2835 mvX9_fail g1 rfl dX9_controls_151 (xle (xal1 (rv_cat _) (xal1 rfl (xal1 rfl xal0))) (by decide)) (xfr g26) (xlo xsw0 (by decide) g27) (xKv hq (fun h28 hq e30 => ?_) (fun _ _ q _ => q))
      replace hq := hq e30
      refine x_goto (tgt := 518) dX9_controls_154 (by decide) ?_
      refine xP.pick (lv' := []) [] rfl ?_
      exact uX9_controls_518 hq
  replace hq := hq.2
  by_cases c31 : x1 = 53
  · replace hq := hq.1 c31
    refine x_tin (tgt := 170) (off := 137) 53 c31 dX9_controls_33 (by decide) (by decide) (by decide) (by decide) ?_
    refine x_aload_n 3 dX9_controls_170 rfl ?_
    refine x_iload_n 2 dX9_controls_171 rfl ?_
    refine x_iload 1 dX9_controls_172 rfl ?_
    refine x_iload 0 dX9_controls_174 rfl ?_
    obtain ⟨g32, g33, hq⟩ := hq
    refine x_callV (Yc := YX9_chooses) (as := [.int (aI h (fR h (fR h x0 2304) 513) (Int32.toNatClampNeg x2)), .int (aI h (fR h (fR h x0 2304) 514) (Int32.toNatClampNeg x2)), .int (aI h (fR h (fR h x0 2304) 516) (Int32.toNatClampNeg x2))]) (st := []) q2987 mvX9_chooses g1 rfl dX9_controls_176 (xle (xal1 (rv_cat _) (xal1 rfl (xal1 rfl (xal1 rfl xal0)))) (by decide)) (xfr g32) (xlo xsw0 (by decide) g33) (xKv hq (fun h34 hq e36 => ?_) (fun _ _ q _ => q))
    replace hq := hq e36
    refine x_goto (tgt := 518) dX9_controls_179 (by decide) ?_
    refine xP.pick (lv' := []) [] rfl ?_
    exact uX9_controls_518 hq
  replace hq := hq.2
  by_cases c37 : x1 = 54
  · replace hq := hq.1 c37
    refine x_tin (tgt := 182) (off := 149) 54 c37 dX9_controls_33 (by decide) (by decide) (by decide) (by decide) ?_
    refine x_aload_n 3 dX9_controls_182 rfl ?_
    refine x_iload_n 2 dX9_controls_183 rfl ?_
    refine x_iload 1 dX9_controls_184 rfl ?_
    refine x_aload_n 3 dX9_controls_186 rfl ?_
    refine x_get (v := rv (fR h x0 2304)) fdX9_75 dX9_controls_187 g1 rfl ?_
    refine x_getN (v := rv (fR h (fR h x0 2304) 515)) gfX9_224 dX9_controls_190 g2 rfl ?_
    refine x_iload_n 5 dX9_controls_193 rfl ?_
    obtain ⟨g38, hq⟩ := hq
    obtain ⟨i39, hq⟩ := hq
    refine x_iald 0 (Or.inl rfl) g38 i39 dX9_controls_194 ?_
    refine x_iload 0 dX9_controls_195 rfl ?_
    obtain ⟨g40, g41, hq⟩ := hq
    refine x_callV (Yc := YX9_begins) (as := [.int (aI h (fR h (fR h x0 2304) 513) (Int32.toNatClampNeg x2)), .int (aI h (fR h (fR h x0 2304) 514) (Int32.toNatClampNeg x2)), .int (aI h (fR h (fR h x0 2304) 515) (Int32.toNatClampNeg x2)), .int (aI h (fR h (fR h x0 2304) 516) (Int32.toNatClampNeg x2))]) (st := []) q2991 mvX9_begins g1 rfl dX9_controls_197 (xle (xal1 (rv_cat _) (xal1 rfl (xal1 rfl (xal1 rfl (xal1 rfl xal0))))) (by decide)) (xfr g40) (xlo xsw0 (by decide) g41) (xKv hq (fun h42 hq e44 => ?_) (fun _ _ q _ => q))
    replace hq := hq e44
    refine x_goto (tgt := 518) dX9_controls_200 (by decide) ?_
    refine xP.pick (lv' := []) [] rfl ?_
    exact uX9_controls_518 hq
  replace hq := hq.2
  by_cases c45 : x1 = 55
  · replace hq := hq.1 c45
    refine x_tin (tgt := 203) (off := 170) 55 c45 dX9_controls_33 (by decide) (by decide) (by decide) (by decide) ?_
    refine x_aload_n 3 dX9_controls_203 rfl ?_
    refine x_iload_n 2 dX9_controls_204 rfl ?_
    refine x_iload 1 dX9_controls_205 rfl ?_
    refine x_aload_n 3 dX9_controls_207 rfl ?_
    refine x_get (v := rv (fR h x0 2304)) fdX9_75 dX9_controls_208 g1 rfl ?_
    refine x_getN (v := rv (fR h (fR h x0 2304) 515)) gfX9_224 dX9_controls_211 g2 rfl ?_
    refine x_iload_n 5 dX9_controls_214 rfl ?_
    obtain ⟨g46, hq⟩ := hq
    obtain ⟨i47, hq⟩ := hq
    refine x_iald 0 (Or.inl rfl) g46 i47 dX9_controls_215 ?_
    obtain ⟨g48, g49, hq⟩ := hq
    refine x_callV (Yc := YX9_repeats) (as := [.int (aI h (fR h (fR h x0 2304) 513) (Int32.toNatClampNeg x2)), .int (aI h (fR h (fR h x0 2304) 514) (Int32.toNatClampNeg x2)), .int (aI h (fR h (fR h x0 2304) 515) (Int32.toNatClampNeg x2))]) (st := []) q2995 mvX9_repeats g1 rfl dX9_controls_216 (xle (xal1 (rv_cat _) (xal1 rfl (xal1 rfl (xal1 rfl xal0)))) (by decide)) (xfr g48) (xlo xsw0 (by decide) g49) (xKv hq (fun h50 hq e52 => ?_) (fun _ _ q _ => q))
    replace hq := hq e52
    refine x_goto (tgt := 518) dX9_controls_219 (by decide) ?_
    refine xP.pick (lv' := []) [] rfl ?_
    exact uX9_controls_518 hq
  replace hq := hq.2
  by_cases c53 : x1 = 56
  · replace hq := hq.1 c53
    refine x_tin (tgt := 222) (off := 189) 56 c53 dX9_controls_33 (by decide) (by decide) (by decide) (by decide) ?_
    refine x_aload_n 3 dX9_controls_222 rfl ?_
    refine x_get (v := rv (fR h x0 2318)) fdX9_61 dX9_controls_223 g1 rfl ?_
    refine x_sipush (v := 128) dX9_controls_226 (by decide) ?_
    refine x_aload_n 3 dX9_controls_229 rfl ?_
    refine x_get (v := .int (fI h x0 2319)) fdX9_89 dX9_controls_230 g1 rfl ?_
    refine x_imul dX9_controls_233 ?_
    refine x_iload_n 2 dX9_controls_234 rfl ?_
    refine x_iadd dX9_controls_235 ?_
    refine x_aload_n 3 dX9_controls_236 rfl ?_
    obtain ⟨g54, g55, hq⟩ := hq
    refine x_callV (Yc := YX9_pop) (as := []) (st := [.int ((128 * (fI h x0 2319)) + (aI h (fR h (fR h x0 2304) 513) (Int32.toNatClampNeg x2))), rv (fR h x0 2318)]) q2899 mvX9_pop g1 rfl dX9_controls_237 (xle (xal1 (rv_cat _) xal0) (by decide)) (xfr g54) (xlo (xsw1 rfl (xsw1 (rv_cat _) xsw0)) (by decide) g55) (xKi hq (fun x57 h56 hq e58 => ?_) (fun _ _ q _ => q))
    replace hq := hq e58
    refine x_i2l dX9_controls_240 ?_
    obtain ⟨g59, hq⟩ := hq
    obtain ⟨i60, hq⟩ := hq
    obtain ⟨h61, e62⟩ : ∃ y, y = tJ h56 (fR h x0 2318) (Int32.toNatClampNeg ((128 * (fI h x0 2319)) + (aI h (fR h (fR h x0 2304) 513) (Int32.toNatClampNeg x2)))) (Int32.toInt64 x57) := ⟨_, rfl⟩
    replace hq := hq h61 e62
    refine x_last' g59 i60 dX9_controls_241 e62 ?_
    refine x_goto (tgt := 518) dX9_controls_242 (by decide) ?_
    refine xP.pick (lv' := []) [] rfl ?_
    exact uX9_controls_518 hq
  replace hq := hq.2
  by_cases c63 : x1 = 57
  · replace hq := hq.1 c63
    refine x_tin (tgt := 245) (off := 212) 57 c63 dX9_controls_33 (by decide) (by decide) (by decide) (by decide) ?_
    refine x_aload_n 3 dX9_controls_245 rfl ?_
    refine x_aload_n 3 dX9_controls_246 rfl ?_
    refine x_get (v := rv (fR h x0 2318)) fdX9_61 dX9_controls_247 g1 rfl ?_
    refine x_sipush (v := 128) dX9_controls_250 (by decide) ?_
    refine x_aload_n 3 dX9_controls_253 rfl ?_
    refine x_get (v := .int (fI h x0 2319)) fdX9_89 dX9_controls_254 g1 rfl ?_
    refine x_imul dX9_controls_257 ?_
    refine x_iload_n 2 dX9_controls_258 rfl ?_
    refine x_iadd dX9_controls_259 ?_
    obtain ⟨g64, hq⟩ := hq
    obtain ⟨i65, hq⟩ := hq
    refine x_lald g64 i65 dX9_controls_260 ?_
    obtain ⟨g66, g67, hq⟩ := hq
    refine x_callV (Yc := YX9_push) (as := [.long (aJ h (fR h x0 2318) (Int32.toNatClampNeg ((128 * (fI h x0 2319)) + (aI h (fR h (fR h x0 2304) 513) (Int32.toNatClampNeg x2)))))]) (st := []) q2891 mvX9_push g1 rfl dX9_controls_261 (xle (xal1 (rv_cat _) (xal2 rfl xal0)) (by decide)) (xfr g66) (xlo xsw0 (by decide) g67) (xKv hq (fun h68 hq e70 => ?_) (fun _ _ q _ => q))
    replace hq := hq e70
    refine x_goto (tgt := 518) dX9_controls_264 (by decide) ?_
    refine xP.pick (lv' := []) [] rfl ?_
    exact uX9_controls_518 hq
  replace hq := hq.2
  by_cases c71 : x1 = 58
  · replace hq := hq.1 c71
    refine x_tin (tgt := 267) (off := 234) 58 c71 dX9_controls_33 (by decide) (by decide) (by decide) (by decide) ?_
    refine x_aload_n 3 dX9_controls_267 rfl ?_
    refine x_aload_n 3 dX9_controls_268 rfl ?_
    refine x_get (v := rv (fR h x0 2304)) fdX9_75 dX9_controls_269 g1 rfl ?_
    refine x_getN (v := rv (fR h (fR h x0 2304) 522)) gfX9_346 dX9_controls_272 g2 rfl ?_
    refine x_iload_n 2 dX9_controls_275 rfl ?_
    obtain ⟨g72, hq⟩ := hq
    obtain ⟨g73, g74, hq⟩ := hq
    refine x_callV (Yc := YJ2_get) (as := [.int (aI h (fR h (fR h x0 2304) 513) (Int32.toNatClampNeg x2))]) (st := [rv x0]) q2848 mvJ2_get g72 rfl dX9_controls_276 (xle (xal1 (rv_cat _) (xal1 rfl xal0)) (by decide)) (xfr g73) (xlo (xsw1 (rv_cat _) xsw0) (by decide) g74) (xKr hq (fun x76 h75 hq e77 => ?_) (fun _ _ q _ => q))
    replace hq := hq e77
    obtain ⟨g78, hq⟩ := hq
    refine x_cast (ci := 16) (by decide) rfl q1298 g78 dX9_controls_279 ?_
    refine x_aload_n 3 dX9_controls_282 rfl ?_
    refine x_iload 1 dX9_controls_283 rfl ?_
    have t79 : tg h75 x0 = 10 := e77.tg g1 (by decide)
    obtain ⟨g80, g81, hq⟩ := hq
    refine x_callV (Yc := YX9_frameAbove) (as := [.int (aI h (fR h (fR h x0 2304) 514) (Int32.toNatClampNeg x2))]) (st := [rv x76, rv x0]) q2895 mvX9_frameAbove t79 rfl dX9_controls_285 (xle (xal1 (rv_cat _) (xal1 rfl xal0)) (by decide)) (xfr g80) (xlo (xsw1 (rv_cat _) (xsw1 (rv_cat _) xsw0)) (by decide) g81) (xKi hq (fun x83 h82 hq e84 => ?_) (fun _ _ q _ => q))
    replace hq := hq e84
    refine x_iload 0 dX9_controls_288 rfl ?_
    have t85 : tg h82 x0 = 10 := e84.tg t79 (by decide)
    obtain ⟨g86, g87, hq⟩ := hq
    refine x_callV (Yc := YX9_calls) (as := [rv x76, .int x83, .int (aI h (fR h (fR h x0 2304) 516) (Int32.toNatClampNeg x2))]) (st := []) q2999 mvX9_calls t85 rfl dX9_controls_290 (xle (xal1 (rv_cat _) (xal1 (rv_cat _) (xal1 rfl (xal1 rfl xal0)))) (by decide)) (xfr g86) (xlo xsw0 (by decide) g87) (xKv hq (fun h88 hq e90 => ?_) (fun _ _ q _ => q))
    replace hq := hq e90
    refine x_goto (tgt := 518) dX9_controls_293 (by decide) ?_
    refine xP.pick (lv' := []) [] rfl ?_
    exact uX9_controls_518 hq
  replace hq := hq.2
  by_cases c91 : x1 = 59
  · replace hq := hq.1 c91
    refine x_tin (tgt := 296) (off := 263) 59 c91 dX9_controls_33 (by decide) (by decide) (by decide) (by decide) ?_
    refine x_aload_n 3 dX9_controls_296 rfl ?_
    refine x_get (v := rv (fR h x0 2312)) fdX9_39 dX9_controls_297 g1 rfl ?_
    refine x_aload_n 3 dX9_controls_300 rfl ?_
    refine x_iload_n 2 dX9_controls_301 rfl ?_
    obtain ⟨g92, g93, hq⟩ := hq
    refine x_callV (Yc := YX9_frameAbove) (as := [.int (aI h (fR h (fR h x0 2304) 513) (Int32.toNatClampNeg x2))]) (st := [rv (fR h x0 2312)]) q2895 mvX9_frameAbove g1 rfl dX9_controls_302 (xle (xal1 (rv_cat _) (xal1 rfl xal0)) (by decide)) (xfr g92) (xlo (xsw1 (rv_cat _) xsw0) (by decide) g93) (xKi hq (fun x95 h94 hq e96 => ?_) (fun _ _ q _ => q))
    replace hq := hq e96
    obtain ⟨g97, hq⟩ := hq
    obtain ⟨i98, hq⟩ := hq
    refine x_iald 0 (Or.inl rfl) g97 i98 dX9_controls_305 ?_
    refine x_iload 1 dX9_controls_306 rfl ?_
    refine x_iadd dX9_controls_308 ?_
    refine x_istore (lv' := [(6, .int ((aI h94 (fR h x0 2312) (Int32.toNatClampNeg x95)) + (aI h (fR h (fR h x0 2304) 514) (Int32.toNatClampNeg x2)))), (5, .int (aI h (fR h (fR h x0 2304) 516) (Int32.toNatClampNeg x2))), (4, .int (aI h (fR h (fR h x0 2304) 514) (Int32.toNatClampNeg x2))), (3, .int (aI h (fR h (fR h x0 2304) 513) (Int32.toNatClampNeg x2))), (0, rv x0), (1, .int x1), (2, .int x2)]) dX9_controls_309 (by decide) rfl ?_
    refine x_aload_n 4 dX9_controls_311 rfl ?_
    refine x_aload_n 4 dX9_controls_312 rfl ?_
    have t99 : tg h94 x0 = 10 := e96.tg g1 (by decide)
    refine x_get (v := rv (fR h94 x0 2304)) fdX9_75 dX9_controls_313 t99 rfl ?_
    obtain ⟨g100, hq⟩ := hq
    refine x_getN (v := rv (fR h94 (fR h94 x0 2304) 522)) gfX9_346 dX9_controls_316 g100 rfl ?_
    refine x_aload_n 4 dX9_controls_319 rfl ?_
    refine x_get (v := rv (fR h94 x0 2305)) fdX9_12 dX9_controls_320 t99 rfl ?_
    obtain ⟨g101, hq⟩ := hq
    refine x_getN (v := rv (fR h94 (fR h94 x0 2305) 2560)) gfX9_218 dX9_controls_323 g101 rfl ?_
    refine x_iload 0 dX9_controls_326 rfl ?_
    obtain ⟨g102, hq⟩ := hq
    obtain ⟨i103, hq⟩ := hq
    refine x_lald g102 i103 dX9_controls_328 ?_
    refine x_l2i dX9_controls_329 ?_
    obtain ⟨g104, hq⟩ := hq
    obtain ⟨g105, g106, hq⟩ := hq
    refine x_callV (Yc := YJ2_get) (as := [.int (Int64.toInt32 (aJ h94 (fR h94 (fR h94 x0 2305) 2560) (Int32.toNatClampNeg ((aI h94 (fR h x0 2312) (Int32.toNatClampNeg x95)) + (aI h (fR h (fR h x0 2304) 514) (Int32.toNatClampNeg x2))))))]) (st := [rv x0]) q2848 mvJ2_get g104 rfl dX9_controls_330 (xle (xal1 (rv_cat _) (xal1 rfl xal0)) (by decide)) (xfr g105) (xlo (xsw1 (rv_cat _) xsw0) (by decide) g106) (xKr hq (fun x108 h107 hq e109 => ?_) (fun _ _ q _ => q))
    replace hq := hq e109
    obtain ⟨g110, hq⟩ := hq
    refine x_cast (ci := 16) (by decide) rfl q1298 g110 dX9_controls_333 ?_
    refine x_aload_n 4 dX9_controls_336 rfl ?_
    have t111 : tg h107 x0 = 10 := e109.tg t99 (by decide)
    refine x_get (v := rv (fR h107 x0 2305)) fdX9_12 dX9_controls_337 t111 rfl ?_
    obtain ⟨g112, hq⟩ := hq
    refine x_getN (v := rv (fR h107 (fR h107 x0 2305) 2561)) gfX9_277 dX9_controls_340 g112 rfl ?_
    refine x_iload 0 dX9_controls_343 rfl ?_
    obtain ⟨g113, hq⟩ := hq
    obtain ⟨i114, hq⟩ := hq
    refine x_lald g113 i114 dX9_controls_345 ?_
    refine x_l2i dX9_controls_346 ?_
    refine x_iload 1 dX9_controls_347 rfl ?_
    obtain ⟨g115, g116, hq⟩ := hq
    refine x_callV (Yc := YX9_calls) (as := [rv x108, .int (Int64.toInt32 (aJ h107 (fR h107 (fR h107 x0 2305) 2561) (Int32.toNatClampNeg ((aI h94 (fR h x0 2312) (Int32.toNatClampNeg x95)) + (aI h (fR h (fR h x0 2304) 514) (Int32.toNatClampNeg x2)))))), .int (aI h (fR h (fR h x0 2304) 516) (Int32.toNatClampNeg x2))]) (st := []) q2999 mvX9_calls t111 rfl dX9_controls_349 (xle (xal1 (rv_cat _) (xal1 (rv_cat _) (xal1 rfl (xal1 rfl xal0)))) (by decide)) (xfr g115) (xlo xsw0 (by decide) g116) (xKv hq (fun h117 hq e119 => ?_) (fun _ _ q _ => q))
    replace hq := hq e119
    refine x_goto (tgt := 518) dX9_controls_352 (by decide) ?_
    refine xP.pick (lv' := []) [] rfl ?_
    exact uX9_controls_518 hq
  replace hq := hq.2
  by_cases c120 : x1 = 60
  · replace hq := hq.1 c120
    refine x_tin (tgt := 355) (off := 322) 60 c120 dX9_controls_33 (by decide) (by decide) (by decide) (by decide) ?_
    refine x_aload_n 3 dX9_controls_355 rfl ?_
    obtain ⟨g121, g122, hq⟩ := hq
    refine x_callV (Yc := YX9_returns) (as := []) (st := []) q3009 mvX9_returns g1 rfl dX9_controls_356 (xle (xal1 (rv_cat _) xal0) (by decide)) (xfr g121) (xlo xsw0 (by decide) g122) (xKv hq (fun h123 hq e125 => ?_) (fun _ _ q _ => q))
    replace hq := hq e125
    refine x_goto (tgt := 518) dX9_controls_359 (by decide) ?_
    refine xP.pick (lv' := []) [] rfl ?_
    exact uX9_controls_518 hq
  replace hq := hq.2
  by_cases c126 : x1 = 61
  · replace hq := hq.1 c126
    refine x_tin (tgt := 362) (off := 329) 61 c126 dX9_controls_33 (by decide) (by decide) (by decide) (by decide) ?_
    refine x_aload_n 3 dX9_controls_362 rfl ?_
    refine x_iload_n 2 dX9_controls_363 rfl ?_
    refine x_i2l dX9_controls_364 ?_
    obtain ⟨g127, g128, hq⟩ := hq
    refine x_callV (Yc := YX9_push) (as := [.long (Int32.toInt64 (aI h (fR h (fR h x0 2304) 513) (Int32.toNatClampNeg x2)))]) (st := []) q2891 mvX9_push g1 rfl dX9_controls_365 (xle (xal1 (rv_cat _) (xal2 rfl xal0)) (by decide)) (xfr g127) (xlo xsw0 (by decide) g128) (xKv hq (fun h129 hq e131 => ?_) (fun _ _ q _ => q))
    replace hq := hq e131
    refine x_aload_n 3 dX9_controls_368 rfl ?_
    have t132 : tg h129 x0 = 10 := e131.tg g1 (by decide)
    refine x_get (v := rv (fR h129 x0 2308)) fdX9_32 dX9_controls_369 t132 rfl ?_
    refine x_aload_n 3 dX9_controls_372 rfl ?_
    refine x_get (v := .int (fI h129 x0 2310)) fdX9_86 dX9_controls_373 t132 rfl ?_
    refine x_iconst (v := 1) dX9_controls_376 (by decide) ?_
    refine x_isub dX9_controls_377 ?_
    refine x_aload_n 3 dX9_controls_378 rfl ?_
    refine x_iload 1 dX9_controls_379 rfl ?_
    obtain ⟨g133, g134, hq⟩ := hq
    refine x_callV (Yc := YX9_frameAbove) (as := [.int (aI h (fR h (fR h x0 2304) 514) (Int32.toNatClampNeg x2))]) (st := [.int ((fI h129 x0 2310) - 1), rv (fR h129 x0 2308)]) q2895 mvX9_frameAbove t132 rfl dX9_controls_381 (xle (xal1 (rv_cat _) (xal1 rfl xal0)) (by decide)) (xfr g133) (xlo (xsw1 rfl (xsw1 (rv_cat _) xsw0)) (by decide) g134) (xKi hq (fun x136 h135 hq e137 => ?_) (fun _ _ q _ => q))
    replace hq := hq e137
    refine x_i2l dX9_controls_384 ?_
    obtain ⟨g138, hq⟩ := hq
    obtain ⟨i139, hq⟩ := hq
    obtain ⟨h140, e141⟩ : ∃ y, y = tJ h135 (fR h129 x0 2308) (Int32.toNatClampNeg ((fI h129 x0 2310) - 1)) (Int32.toInt64 x136) := ⟨_, rfl⟩
    replace hq := hq h140 e141
    refine x_last' g138 i139 dX9_controls_385 e141 ?_
    refine x_goto (tgt := 518) dX9_controls_386 (by decide) ?_
    refine xP.pick (lv' := []) [] rfl ?_
    exact uX9_controls_518 hq
  replace hq := hq.2
  by_cases c142 : x1 = 62
  · replace hq := hq.1 c142
    refine x_tin (tgt := 389) (off := 356) 62 c142 dX9_controls_33 (by decide) (by decide) (by decide) (by decide) ?_
    refine x_aload_n 3 dX9_controls_389 rfl ?_
    refine x_get (v := rv (fR h x0 2312)) fdX9_39 dX9_controls_390 g1 rfl ?_
    refine x_aload_n 3 dX9_controls_393 rfl ?_
    refine x_iload_n 2 dX9_controls_394 rfl ?_
    obtain ⟨g143, g144, hq⟩ := hq
    refine x_callV (Yc := YX9_frameAbove) (as := [.int (aI h (fR h (fR h x0 2304) 513) (Int32.toNatClampNeg x2))]) (st := [rv (fR h x0 2312)]) q2895 mvX9_frameAbove g1 rfl dX9_controls_395 (xle (xal1 (rv_cat _) (xal1 rfl xal0)) (by decide)) (xfr g143) (xlo (xsw1 (rv_cat _) xsw0) (by decide) g144) (xKi hq (fun x146 h145 hq e147 => ?_) (fun _ _ q _ => q))
    replace hq := hq e147
    obtain ⟨g148, hq⟩ := hq
    obtain ⟨i149, hq⟩ := hq
    refine x_iald 0 (Or.inl rfl) g148 i149 dX9_controls_398 ?_
    refine x_iload 1 dX9_controls_399 rfl ?_
    refine x_iadd dX9_controls_401 ?_
    refine x_istore (lv' := [(7, .int ((aI h145 (fR h x0 2312) (Int32.toNatClampNeg x146)) + (aI h (fR h (fR h x0 2304) 514) (Int32.toNatClampNeg x2)))), (5, .int (aI h (fR h (fR h x0 2304) 516) (Int32.toNatClampNeg x2))), (4, .int (aI h (fR h (fR h x0 2304) 514) (Int32.toNatClampNeg x2))), (3, .int (aI h (fR h (fR h x0 2304) 513) (Int32.toNatClampNeg x2))), (0, rv x0), (1, .int x1), (2, .int x2)]) dX9_controls_402 (by decide) rfl ?_
    refine x_aload_n 4 dX9_controls_404 rfl ?_
    refine x_aload_n 4 dX9_controls_405 rfl ?_
    have t150 : tg h145 x0 = 10 := e147.tg g1 (by decide)
    refine x_get (v := rv (fR h145 x0 2305)) fdX9_12 dX9_controls_406 t150 rfl ?_
    obtain ⟨g151, hq⟩ := hq
    refine x_getN (v := rv (fR h145 (fR h145 x0 2305) 2560)) gfX9_218 dX9_controls_409 g151 rfl ?_
    refine x_iload 0 dX9_controls_412 rfl ?_
    obtain ⟨g152, hq⟩ := hq
    obtain ⟨i153, hq⟩ := hq
    refine x_lald g152 i153 dX9_controls_414 ?_
    obtain ⟨g154, g155, hq⟩ := hq
    refine x_callV (Yc := YX9_push) (as := [.long (aJ h145 (fR h145 (fR h145 x0 2305) 2560) (Int32.toNatClampNeg ((aI h145 (fR h x0 2312) (Int32.toNatClampNeg x146)) + (aI h (fR h (fR h x0 2304) 514) (Int32.toNatClampNeg x2)))))]) (st := []) q2891 mvX9_push t150 rfl dX9_controls_415 (xle (xal1 (rv_cat _) (xal2 rfl xal0)) (by decide)) (xfr g154) (xlo xsw0 (by decide) g155) (xKv hq (fun h156 hq e158 => ?_) (fun _ _ q _ => q))
    replace hq := hq e158
    refine x_aload_n 4 dX9_controls_418 rfl ?_
    have t159 : tg h156 x0 = 10 := e158.tg t150 (by decide)
    refine x_get (v := rv (fR h156 x0 2308)) fdX9_32 dX9_controls_419 t159 rfl ?_
    refine x_aload_n 4 dX9_controls_422 rfl ?_
    refine x_get (v := .int (fI h156 x0 2310)) fdX9_86 dX9_controls_423 t159 rfl ?_
    refine x_iconst (v := 1) dX9_controls_426 (by decide) ?_
    refine x_isub dX9_controls_427 ?_
    refine x_aload_n 4 dX9_controls_428 rfl ?_
    refine x_get (v := rv (fR h156 x0 2305)) fdX9_12 dX9_controls_429 t159 rfl ?_
    obtain ⟨g160, hq⟩ := hq
    refine x_getN (v := rv (fR h156 (fR h156 x0 2305) 2561)) gfX9_277 dX9_controls_432 g160 rfl ?_
    refine x_iload 0 dX9_controls_435 rfl ?_
    obtain ⟨g161, hq⟩ := hq
    obtain ⟨i162, hq⟩ := hq
    refine x_lald g161 i162 dX9_controls_437 ?_
    obtain ⟨g163, hq⟩ := hq
    obtain ⟨i164, hq⟩ := hq
    obtain ⟨h165, e166⟩ : ∃ y, y = tJ h156 (fR h156 x0 2308) (Int32.toNatClampNeg ((fI h156 x0 2310) - 1)) (aJ h156 (fR h156 (fR h156 x0 2305) 2561) (Int32.toNatClampNeg ((aI h145 (fR h x0 2312) (Int32.toNatClampNeg x146)) + (aI h (fR h (fR h x0 2304) 514) (Int32.toNatClampNeg x2))))) := ⟨_, rfl⟩
    replace hq := hq h165 e166
    refine x_last' g163 i164 dX9_controls_438 e166 ?_
    refine x_goto (tgt := 518) dX9_controls_439 (by decide) ?_
    refine xP.pick (lv' := []) [] rfl ?_
    exact uX9_controls_518 hq
  replace hq := hq.2
  by_cases c167 : x1 = 63
  · replace hq := hq.1 c167
    refine x_tin (tgt := 442) (off := 409) 63 c167 dX9_controls_33 (by decide) (by decide) (by decide) (by decide) ?_
    refine x_aload_n 3 dX9_controls_442 rfl ?_
    refine x_iload_n 2 dX9_controls_443 rfl ?_
    refine x_aload_n 3 dX9_controls_444 rfl ?_
    refine x_iload 1 dX9_controls_445 rfl ?_
    obtain ⟨g168, g169, hq⟩ := hq
    refine x_callV (Yc := YX9_frameAbove) (as := [.int (aI h (fR h (fR h x0 2304) 514) (Int32.toNatClampNeg x2))]) (st := [.int (aI h (fR h (fR h x0 2304) 513) (Int32.toNatClampNeg x2)), rv x0]) q2895 mvX9_frameAbove g1 rfl dX9_controls_447 (xle (xal1 (rv_cat _) (xal1 rfl xal0)) (by decide)) (xfr g168) (xlo (xsw1 rfl (xsw1 (rv_cat _) xsw0)) (by decide) g169) (xKi hq (fun x171 h170 hq e172 => ?_) (fun _ _ q _ => q))
    replace hq := hq e172
    have t173 : tg h170 x0 = 10 := e172.tg g1 (by decide)
    obtain ⟨g174, g175, hq⟩ := hq
    refine x_callV (Yc := YX9_leaps) (as := [.int (aI h (fR h (fR h x0 2304) 513) (Int32.toNatClampNeg x2)), .int x171]) (st := []) q3018 mvX9_leaps t173 rfl dX9_controls_450 (xle (xal1 (rv_cat _) (xal1 rfl (xal1 rfl xal0))) (by decide)) (xfr g174) (xlo xsw0 (by decide) g175) (xKv hq (fun h176 hq e178 => ?_) (fun _ _ q _ => q))
    replace hq := hq e178
    refine x_goto (tgt := 518) dX9_controls_453 (by decide) ?_
    refine xP.pick (lv' := []) [] rfl ?_
    exact uX9_controls_518 hq
  replace hq := hq.2
  by_cases c179 : x1 = 64
  · replace hq := hq.1 c179
    refine x_tin (tgt := 456) (off := 423) 64 c179 dX9_controls_33 (by decide) (by decide) (by decide) (by decide) ?_
    refine x_aload_n 3 dX9_controls_456 rfl ?_
    refine x_get (v := rv (fR h x0 2307)) fdX9_28 dX9_controls_457 g1 rfl ?_
    refine x_aload_n 3 dX9_controls_460 rfl ?_
    refine x_get (v := .int (fI h x0 2310)) fdX9_86 dX9_controls_461 g1 rfl ?_
    refine x_iconst (v := 1) dX9_controls_464 (by decide) ?_
    refine x_isub dX9_controls_465 ?_
    obtain ⟨g180, hq⟩ := hq
    obtain ⟨i181, hq⟩ := hq
    refine x_lald g180 i181 dX9_controls_466 ?_
    refine x_iload_n 2 dX9_controls_467 rfl ?_
    refine x_i2l dX9_controls_468 ?_
    refine x_lcmp dX9_controls_469 ?_
    refine x_if_lt (tgt := 491) dX9_controls_470 (by decide) (fun c182 => ?_) (fun c182 => ?_)
    · replace hq := hq.1 c182
      refine xP.pick (lv' := [(0, rv x0), (5, .int (aI h (fR h (fR h x0 2304) 516) (Int32.toNatClampNeg x2)))]) [3, 0] rfl ?_
      exact uX9_controls_491 hq
    · replace hq := hq.2 c182
      refine x_aload_n 3 dX9_controls_473 rfl ?_
      refine x_get (v := rv (fR h x0 2307)) fdX9_28 dX9_controls_474 g1 rfl ?_
      refine x_aload_n 3 dX9_controls_477 rfl ?_
      refine x_get (v := .int (fI h x0 2310)) fdX9_86 dX9_controls_478 g1 rfl ?_
      refine x_iconst (v := 1) dX9_controls_481 (by decide) ?_
      refine x_isub dX9_controls_482 ?_
      obtain ⟨i183, hq⟩ := hq
      refine x_lald g180 i183 dX9_controls_483 ?_
      refine x_iload 1 dX9_controls_484 rfl ?_
      refine x_i2l dX9_controls_486 ?_
      refine x_lcmp dX9_controls_487 ?_
      refine x_if_le (tgt := 518) dX9_controls_488 (by decide) (fun c184 => ?_) (fun c184 => ?_)
      · replace hq := hq.1 c184
        refine xP.pick (lv' := []) [] rfl ?_
        exact uX9_controls_518 hq
      · replace hq := hq.2 c184
        refine xP.pick (lv' := [(0, rv x0), (5, .int (aI h (fR h (fR h x0 2304) 516) (Int32.toNatClampNeg x2)))]) [3, 0] rfl ?_
        exact uX9_controls_491 hq
  replace hq := hq.2
  by_cases c185 : x1 = 65
  · replace hq := hq.1 c185
    refine x_tin (tgt := 501) (off := 468) 65 c185 dX9_controls_33 (by decide) (by decide) (by decide) (by decide) ?_
    refine x_aload_n 3 dX9_controls_501 rfl ?_
    refine x_iload_n 2 dX9_controls_502 rfl ?_
    refine x_iload 1 dX9_controls_503 rfl ?_
    refine x_iload 0 dX9_controls_505 rfl ?_
    obtain ⟨g186, g187, hq⟩ := hq
    refine x_callV (Yc := YX9_bounds) (as := [.int (aI h (fR h (fR h x0 2304) 513) (Int32.toNatClampNeg x2)), .int (aI h (fR h (fR h x0 2304) 514) (Int32.toNatClampNeg x2)), .int (aI h (fR h (fR h x0 2304) 516) (Int32.toNatClampNeg x2))]) (st := []) q3022 mvX9_bounds g1 rfl dX9_controls_507 (xle (xal1 (rv_cat _) (xal1 rfl (xal1 rfl (xal1 rfl xal0)))) (by decide)) (xfr g186) (xlo xsw0 (by decide) g187) (xKv hq (fun h188 hq e190 => ?_) (fun _ _ q _ => q))
    replace hq := hq e190
    refine x_goto (tgt := 518) dX9_controls_510 (by decide) ?_
    refine xP.pick (lv' := []) [] rfl ?_
    exact uX9_controls_518 hq
  replace hq := hq.2
  replace hq := hq c9 c12 c22 c31 c37 c45 c53 c63 c71 c91 c120 c126 c142 c167 c179 c185
  have nc9 := lv_neT c9 (show (50 : Int32).toInt = 50 from by decide)
  have nc12 := lv_neT c12 (show (51 : Int32).toInt = 51 from by decide)
  have nc22 := lv_neT c22 (show (52 : Int32).toInt = 52 from by decide)
  have nc31 := lv_neT c31 (show (53 : Int32).toInt = 53 from by decide)
  have nc37 := lv_neT c37 (show (54 : Int32).toInt = 54 from by decide)
  have nc45 := lv_neT c45 (show (55 : Int32).toInt = 55 from by decide)
  have nc53 := lv_neT c53 (show (56 : Int32).toInt = 56 from by decide)
  have nc63 := lv_neT c63 (show (57 : Int32).toInt = 57 from by decide)
  have nc71 := lv_neT c71 (show (58 : Int32).toInt = 58 from by decide)
  have nc91 := lv_neT c91 (show (59 : Int32).toInt = 59 from by decide)
  have nc120 := lv_neT c120 (show (60 : Int32).toInt = 60 from by decide)
  have nc126 := lv_neT c126 (show (61 : Int32).toInt = 61 from by decide)
  have nc142 := lv_neT c142 (show (62 : Int32).toInt = 62 from by decide)
  have nc167 := lv_neT c167 (show (63 : Int32).toInt = 63 from by decide)
  have nc179 := lv_neT c179 (show (64 : Int32).toInt = 64 from by decide)
  have nc185 := lv_neT c185 (show (65 : Int32).toInt = 65 from by decide)
  refine x_tout (tgt := 513) dX9_controls_33 (by omega) (by decide) ?_
  refine x_aload_n 3 dX9_controls_513 rfl ?_
  refine x_iconst (v := 1) dX9_controls_514 (by decide) ?_
  obtain ⟨h191, e192⟩ : ∃ y, y = sI h x0 2332 1 := ⟨_, rfl⟩
  replace hq := hq h191 e192
  refine x_putI fdX9_110 xty_Z1 dX9_controls_515 g1 (Or.inl (by rw [g1]; rfl)) (xnB (Or.inr rfl)) rfl e192 ?_
  refine xP.pick (lv' := []) [] rfl ?_
  exact uX9_controls_518 hq
theorem rX9_controls {G : xG} {fr lo : Nat} {x0 : Nat} {x1 : Int32} {x2 : Int32} {h : xH} {Q : Outcome → xH → Prop} (hq : bX9_controls G fr lo x0 x1 x2 h Q) : xR G YX9_controls fr lo [rv x0, .int x1, .int x2] h Q := by
  show xP _ _ _ _ _ (lv_args 0 _) _ _ _
  rw [show lv_args 0 [rv x0, .int x1, .int x2] = [(0, rv x0), (1, .int x1), (2, .int x2)] from (xla1 (rv_cat _) (xla1 rfl (xla1 rfl xla0)))]
  exact uX9_controls hq
set_option maxRecDepth 100000 in
theorem dX9_chooses_0 : decode cX9_chooses 0 = .ok (.aload_n 0, 1) := by decide +kernel
set_option maxRecDepth 100000 in
theorem dX9_chooses_1 : decode cX9_chooses 1 = .ok (.invokevirtual 219, 3) := by decide +kernel
set_option maxRecDepth 100000 in
theorem dX9_chooses_4 : decode cX9_chooses 4 = .ok (.istore 4, 2) := by decide +kernel
set_option maxRecDepth 100000 in
theorem dX9_chooses_6 : decode cX9_chooses 6 = .ok (.iload_n 1, 1) := by decide +kernel
set_option maxRecDepth 100000 in
theorem dX9_chooses_7 : decode cX9_chooses 7 = .ok (.istore 5, 2) := by decide +kernel
set_option maxRecDepth 100000 in
theorem dX9_chooses_9 : decode cX9_chooses 9 = .ok (.iload 5, 2) := by decide +kernel
set_option maxRecDepth 100000 in
theorem dX9_chooses_11 : decode cX9_chooses 11 = .ok (.iload_n 1, 1) := by decide +kernel
set_option maxRecDepth 100000 in
theorem dX9_chooses_12 : decode cX9_chooses 12 = .ok (.iload_n 2, 1) := by decide +kernel
set_option maxRecDepth 100000 in
theorem dX9_chooses_13 : decode cX9_chooses 13 = .ok (.iadd, 1) := by decide +kernel
set_option maxRecDepth 100000 in
theorem dX9_chooses_14 : decode cX9_chooses 14 = .ok (.if_icmp .ge 42, 3) := by decide +kernel
set_option maxRecDepth 100000 in
theorem dX9_chooses_17 : decode cX9_chooses 17 = .ok (.aload_n 0, 1) := by decide +kernel
set_option maxRecDepth 100000 in
theorem dX9_chooses_18 : decode cX9_chooses 18 = .ok (.getfield 75, 3) := by decide +kernel
set_option maxRecDepth 100000 in
theorem dX9_chooses_21 : decode cX9_chooses 21 = .ok (.getfield 362, 3) := by decide +kernel
set_option maxRecDepth 100000 in
theorem dX9_chooses_24 : decode cX9_chooses 24 = .ok (.iload 5, 2) := by decide +kernel
set_option maxRecDepth 100000 in
theorem dX9_chooses_26 : decode cX9_chooses 26 = .ok (.iaload, 1) := by decide +kernel
set_option maxRecDepth 100000 in
theorem dX9_chooses_27 : decode cX9_chooses 27 = .ok (.iload 4, 2) := by decide +kernel
set_option maxRecDepth 100000 in
theorem dX9_chooses_29 : decode cX9_chooses 29 = .ok (.if_icmp .eq 6, 3) := by decide +kernel
set_option maxRecDepth 100000 in
theorem dX9_chooses_32 : decode cX9_chooses 32 = .ok (.goto 18, 3) := by decide +kernel
set_option maxRecDepth 100000 in
theorem dX9_chooses_35 : decode cX9_chooses 35 = .ok (.aload_n 0, 1) := by decide +kernel
set_option maxRecDepth 100000 in
theorem dX9_chooses_36 : decode cX9_chooses 36 = .ok (.aload_n 0, 1) := by decide +kernel
set_option maxRecDepth 100000 in
theorem dX9_chooses_37 : decode cX9_chooses 37 = .ok (.getfield 75, 3) := by decide +kernel
set_option maxRecDepth 100000 in
theorem dX9_chooses_40 : decode cX9_chooses 40 = .ok (.getfield 365, 3) := by decide +kernel
set_option maxRecDepth 100000 in
theorem dX9_chooses_43 : decode cX9_chooses 43 = .ok (.iload 5, 2) := by decide +kernel
set_option maxRecDepth 100000 in
theorem dX9_chooses_45 : decode cX9_chooses 45 = .ok (.iaload, 1) := by decide +kernel
set_option maxRecDepth 100000 in
theorem dX9_chooses_46 : decode cX9_chooses 46 = .ok (.putfield 129, 3) := by decide +kernel
set_option maxRecDepth 100000 in
theorem dX9_chooses_49 : decode cX9_chooses 49 = .ok (.return_, 1) := by decide +kernel
set_option maxRecDepth 100000 in
theorem dX9_chooses_50 : decode cX9_chooses 50 = .ok (.iinc 5 1, 3) := by decide +kernel
set_option maxRecDepth 100000 in
theorem dX9_chooses_53 : decode cX9_chooses 53 = .ok (.goto (-44), 3) := by decide +kernel
set_option maxRecDepth 100000 in
theorem dX9_chooses_56 : decode cX9_chooses 56 = .ok (.aload_n 0, 1) := by decide +kernel
set_option maxRecDepth 100000 in
theorem dX9_chooses_57 : decode cX9_chooses 57 = .ok (.bipush 7, 2) := by decide +kernel
set_option maxRecDepth 100000 in
theorem dX9_chooses_59 : decode cX9_chooses 59 = .ok (.iload_n 3, 1) := by decide +kernel
set_option maxRecDepth 100000 in
theorem dX9_chooses_60 : decode cX9_chooses 60 = .ok (.invokevirtual 147, 3) := by decide +kernel
set_option maxRecDepth 100000 in
theorem dX9_chooses_63 : decode cX9_chooses 63 = .ok (.return_, 1) := by decide +kernel
def lX9_chooses_9 (G : xG) (fr lo : Nat) (x0 : Nat) (x1 : Int32) (x2 : Int32) (x3 : Int32) (x4 : Int32) (x5 : Int32) (h : xH) (Q : Outcome → xH → Prop) : Prop := xP G YX9_chooses fr lo 9 [(0, rv x0), (1, .int x1), (2, .int x2), (3, .int x3), (4, .int x4), (5, .int x5)] [] h Q
set_option maxRecDepth 100000 in
def bX9_chooses_9 (G : xG) (fr lo : Nat) (x0 : Nat) (x1 : Int32) (x2 : Int32) (x3 : Int32) (x4 : Int32) (x5 : Int32) (h : xH) (Q : Outcome → xH → Prop) : Prop := (((x1 + x2) ≤ x5 → tg h x0 = 10 ∧ 1 ≤ fr ∧ 14 ≤ lo ∧ xRv G YX9_fail (fr - 1) (lo - 14) [rv x0, .int 7, .int x3] h (fun h5 => xext h h5 → Q (.returned none) h5) (fun r h2 => Q (.threw r) h2)) ∧ (¬ (x1 + x2) ≤ x5 → tg h x0 = 10 ∧ tg h (fR h x0 2304) = 3 ∧ tg h (fR h (fR h x0 2304) 524) = 100 ∧ vp_in x5 (ln h (fR h (fR h x0 2304) 524)) ∧ (((aI h (fR h (fR h x0 2304) 524) (Int32.toNatClampNeg x5)) = x4 → tg h (fR h (fR h x0 2304) 525) = 100 ∧ vp_in x5 (ln h (fR h (fR h x0 2304) 525)) ∧ (∀ h15 : xH, h15 = sI h x0 2311 (aI h (fR h (fR h x0 2304) 525) (Int32.toNatClampNeg x5)) → Q (.returned none) h15)) ∧ (¬ (aI h (fR h (fR h x0 2304) 524) (Int32.toNatClampNeg x5)) = x4 → lX9_chooses_9 G fr lo x0 x1 x2 x3 x4 (x5 + 1) h Q))))
set_option maxRecDepth 100000 in
theorem uX9_chooses_9 {G : xG} {fr lo : Nat} {x0 : Nat} {x1 : Int32} {x2 : Int32} {x3 : Int32} {x4 : Int32} {x5 : Int32} {h : xH} {Q : Outcome → xH → Prop} (hq : bX9_chooses_9 G fr lo x0 x1 x2 x3 x4 x5 h Q) : xP G YX9_chooses fr lo 9 [(0, rv x0), (1, .int x1), (2, .int x2), (3, .int x3), (4, .int x4), (5, .int x5)] [] h Q := by
  unfold bX9_chooses_9 at hq
  refine x_iload 5 dX9_chooses_9 rfl ?_
  refine x_iload_n 1 dX9_chooses_11 rfl ?_
  refine x_iload_n 2 dX9_chooses_12 rfl ?_
  refine x_iadd dX9_chooses_13 ?_
  refine x_icmp_ge (tgt := 56) dX9_chooses_14 (by decide) (fun c1 => ?_) (fun c1 => ?_)
  · replace hq := hq.1 c1
    refine x_aload_n 0 dX9_chooses_56 rfl ?_
    refine x_bipush (v := 7) dX9_chooses_57 (by decide) ?_
    refine x_iload_n 3 dX9_chooses_59 rfl ?_
    obtain ⟨g2, hq⟩ := hq
    obtain ⟨g3, g4, hq⟩ := hq
    refine x_callV (Yc := YX9_fail) (as := [.int 7, .int x3]) (st := []) q2835 mvX9_fail g2 rfl dX9_chooses_60 (xle (xal1 (rv_cat _) (xal1 rfl (xal1 rfl xal0))) (by decide)) (xfr g3) (xlo xsw0 (by decide) g4) (xKv hq (fun h5 hq e7 => ?_) (fun _ _ q _ => q))
    replace hq := hq e7
    exact x_vret rfl dX9_chooses_63 hq
  · replace hq := hq.2 c1
    refine x_aload_n 0 dX9_chooses_17 rfl ?_
    obtain ⟨g8, hq⟩ := hq
    refine x_get (v := rv (fR h x0 2304)) fdX9_75 dX9_chooses_18 g8 rfl ?_
    obtain ⟨g9, hq⟩ := hq
    refine x_getN (v := rv (fR h (fR h x0 2304) 524)) gfX9_362 dX9_chooses_21 g9 rfl ?_
    refine x_iload 5 dX9_chooses_24 rfl ?_
    obtain ⟨g10, hq⟩ := hq
    obtain ⟨i11, hq⟩ := hq
    refine x_iald 0 (Or.inl rfl) g10 i11 dX9_chooses_26 ?_
    refine x_iload 4 dX9_chooses_27 rfl ?_
    refine x_icmp_eq (tgt := 35) dX9_chooses_29 (by decide) (fun c12 => ?_) (fun c12 => ?_)
    · replace hq := hq.1 c12
      refine x_aload_n 0 dX9_chooses_35 rfl ?_
      refine x_aload_n 0 dX9_chooses_36 rfl ?_
      refine x_get (v := rv (fR h x0 2304)) fdX9_75 dX9_chooses_37 g8 rfl ?_
      refine x_getN (v := rv (fR h (fR h x0 2304) 525)) gfX9_365 dX9_chooses_40 g9 rfl ?_
      refine x_iload 5 dX9_chooses_43 rfl ?_
      obtain ⟨g13, hq⟩ := hq
      obtain ⟨i14, hq⟩ := hq
      refine x_iald 0 (Or.inl rfl) g13 i14 dX9_chooses_45 ?_
      obtain ⟨h15, e16⟩ : ∃ y, y = sI h x0 2311 (aI h (fR h (fR h x0 2304) 525) (Int32.toNatClampNeg x5)) := ⟨_, rfl⟩
      replace hq := hq h15 e16
      refine x_putI fdX9_129 xty_I1 dX9_chooses_46 g8 (Or.inl (by rw [g8]; rfl)) xnI rfl e16 ?_
      exact x_vret rfl dX9_chooses_49 hq
    · replace hq := hq.2 c12
      refine x_goto (tgt := 50) dX9_chooses_32 (by decide) ?_
      refine x_iinc (lv' := [(5, .int (x5 + 1)), (0, rv x0), (1, .int x1), (2, .int x2), (3, .int x3), (4, .int x4)]) 5 dX9_chooses_50 rfl (by decide) rfl ?_
      refine x_goto (tgt := 9) dX9_chooses_53 (by decide) ?_
      refine xP.pick (lv' := [(0, rv x0), (1, .int x1), (2, .int x2), (3, .int x3), (4, .int x4), (5, .int (x5 + 1))]) [1, 2, 3, 4, 5, 0] rfl ?_
      exact hq
set_option maxRecDepth 100000 in
def bX9_chooses (G : xG) (fr lo : Nat) (x0 : Nat) (x1 : Int32) (x2 : Int32) (x3 : Int32) (h : xH) (Q : Outcome → xH → Prop) : Prop := tg h x0 = 10 ∧ 1 ≤ fr ∧ 12 ≤ lo ∧ xRi G YX9_pop (fr - 1) (lo - 12) [rv x0] h (fun x5 h4 => xext h h4 → lX9_chooses_9 G fr lo x0 x1 x2 x3 x5 x1 h4 Q) (fun r h2 => Q (.threw r) h2)
set_option maxRecDepth 100000 in
theorem uX9_chooses {G : xG} {fr lo : Nat} {x0 : Nat} {x1 : Int32} {x2 : Int32} {x3 : Int32} {h : xH} {Q : Outcome → xH → Prop} (hq : bX9_chooses G fr lo x0 x1 x2 x3 h Q) : xP G YX9_chooses fr lo 0 [(0, rv x0), (1, .int x1), (2, .int x2), (3, .int x3)] [] h Q := by
  unfold bX9_chooses at hq
  refine x_aload_n 0 dX9_chooses_0 rfl ?_
  obtain ⟨g1, hq⟩ := hq
  obtain ⟨g2, g3, hq⟩ := hq
  refine x_callV (Yc := YX9_pop) (as := []) (st := []) q2899 mvX9_pop g1 rfl dX9_chooses_1 (xle (xal1 (rv_cat _) xal0) (by decide)) (xfr g2) (xlo xsw0 (by decide) g3) (xKi hq (fun x5 h4 hq e6 => ?_) (fun _ _ q _ => q))
  replace hq := hq e6
  refine x_istore (lv' := [(4, .int x5), (0, rv x0), (1, .int x1), (2, .int x2), (3, .int x3)]) dX9_chooses_4 (by decide) rfl ?_
  refine x_iload_n 2 dX9_chooses_6 rfl ?_
  refine x_istore (lv' := [(5, .int x1), (4, .int x5), (0, rv x0), (1, .int x1), (2, .int x2), (3, .int x3)]) dX9_chooses_7 (by decide) rfl ?_
  refine xP.pick (lv' := [(0, rv x0), (1, .int x1), (2, .int x2), (3, .int x3), (4, .int x5), (5, .int x1)]) [2, 3, 4, 5, 1, 0] rfl ?_
  exact hq
theorem rX9_chooses {G : xG} {fr lo : Nat} {x0 : Nat} {x1 : Int32} {x2 : Int32} {x3 : Int32} {h : xH} {Q : Outcome → xH → Prop} (hq : bX9_chooses G fr lo x0 x1 x2 x3 h Q) : xR G YX9_chooses fr lo [rv x0, .int x1, .int x2, .int x3] h Q := by
  show xP _ _ _ _ _ (lv_args 0 _) _ _ _
  rw [show lv_args 0 [rv x0, .int x1, .int x2, .int x3] = [(0, rv x0), (1, .int x1), (2, .int x2), (3, .int x3)] from (xla1 (rv_cat _) (xla1 rfl (xla1 rfl (xla1 rfl xla0))))]
  exact uX9_chooses hq
set_option maxRecDepth 100000 in
theorem dX9_begins_0 : decode cX9_begins 0 = .ok (.aload_n 0, 1) := by decide +kernel
set_option maxRecDepth 100000 in
theorem dX9_begins_1 : decode cX9_begins 1 = .ok (.dup, 1) := by decide +kernel
set_option maxRecDepth 100000 in
theorem dX9_begins_2 : decode cX9_begins 2 = .ok (.getfield 86, 3) := by decide +kernel
set_option maxRecDepth 100000 in
theorem dX9_begins_5 : decode cX9_begins 5 = .ok (.iconst 3, 1) := by decide +kernel
set_option maxRecDepth 100000 in
theorem dX9_begins_6 : decode cX9_begins 6 = .ok (.isub, 1) := by decide +kernel
set_option maxRecDepth 100000 in
theorem dX9_begins_7 : decode cX9_begins 7 = .ok (.putfield 86, 3) := by decide +kernel
set_option maxRecDepth 100000 in
theorem dX9_begins_10 : decode cX9_begins 10 = .ok (.aload_n 0, 1) := by decide +kernel
set_option maxRecDepth 100000 in
theorem dX9_begins_11 : decode cX9_begins 11 = .ok (.getfield 28, 3) := by decide +kernel
set_option maxRecDepth 100000 in
theorem dX9_begins_14 : decode cX9_begins 14 = .ok (.aload_n 0, 1) := by decide +kernel
set_option maxRecDepth 100000 in
theorem dX9_begins_15 : decode cX9_begins 15 = .ok (.getfield 86, 3) := by decide +kernel
set_option maxRecDepth 100000 in
theorem dX9_begins_18 : decode cX9_begins 18 = .ok (.laload, 1) := by decide +kernel
set_option maxRecDepth 100000 in
theorem dX9_begins_19 : decode cX9_begins 19 = .ok (.l2i, 1) := by decide +kernel
set_option maxRecDepth 100000 in
theorem dX9_begins_20 : decode cX9_begins 20 = .ok (.istore 5, 2) := by decide +kernel
set_option maxRecDepth 100000 in
theorem dX9_begins_22 : decode cX9_begins 22 = .ok (.aload_n 0, 1) := by decide +kernel
set_option maxRecDepth 100000 in
theorem dX9_begins_23 : decode cX9_begins 23 = .ok (.getfield 28, 3) := by decide +kernel
set_option maxRecDepth 100000 in
theorem dX9_begins_26 : decode cX9_begins 26 = .ok (.aload_n 0, 1) := by decide +kernel
set_option maxRecDepth 100000 in
theorem dX9_begins_27 : decode cX9_begins 27 = .ok (.getfield 86, 3) := by decide +kernel
set_option maxRecDepth 100000 in
theorem dX9_begins_30 : decode cX9_begins 30 = .ok (.iconst 1, 1) := by decide +kernel
set_option maxRecDepth 100000 in
theorem dX9_begins_31 : decode cX9_begins 31 = .ok (.iadd, 1) := by decide +kernel
set_option maxRecDepth 100000 in
theorem dX9_begins_32 : decode cX9_begins 32 = .ok (.laload, 1) := by decide +kernel
set_option maxRecDepth 100000 in
theorem dX9_begins_33 : decode cX9_begins 33 = .ok (.lstore 6, 2) := by decide +kernel
set_option maxRecDepth 100000 in
theorem dX9_begins_35 : decode cX9_begins 35 = .ok (.aload_n 0, 1) := by decide +kernel
set_option maxRecDepth 100000 in
theorem dX9_begins_36 : decode cX9_begins 36 = .ok (.getfield 28, 3) := by decide +kernel
set_option maxRecDepth 100000 in
theorem dX9_begins_39 : decode cX9_begins 39 = .ok (.aload_n 0, 1) := by decide +kernel
set_option maxRecDepth 100000 in
theorem dX9_begins_40 : decode cX9_begins 40 = .ok (.getfield 86, 3) := by decide +kernel
set_option maxRecDepth 100000 in
theorem dX9_begins_43 : decode cX9_begins 43 = .ok (.iconst 2, 1) := by decide +kernel
set_option maxRecDepth 100000 in
theorem dX9_begins_44 : decode cX9_begins 44 = .ok (.iadd, 1) := by decide +kernel
set_option maxRecDepth 100000 in
theorem dX9_begins_45 : decode cX9_begins 45 = .ok (.laload, 1) := by decide +kernel
set_option maxRecDepth 100000 in
theorem dX9_begins_46 : decode cX9_begins 46 = .ok (.lstore 8, 2) := by decide +kernel
set_option maxRecDepth 100000 in
theorem dX9_begins_48 : decode cX9_begins 48 = .ok (.aload_n 0, 1) := by decide +kernel
set_option maxRecDepth 100000 in
theorem dX9_begins_49 : decode cX9_begins 49 = .ok (.getfield 75, 3) := by decide +kernel
set_option maxRecDepth 100000 in
theorem dX9_begins_52 : decode cX9_begins 52 = .ok (.getfield 201, 3) := by decide +kernel
set_option maxRecDepth 100000 in
theorem dX9_begins_55 : decode cX9_begins 55 = .ok (.aload_n 0, 1) := by decide +kernel
set_option maxRecDepth 100000 in
theorem dX9_begins_56 : decode cX9_begins 56 = .ok (.getfield 129, 3) := by decide +kernel
set_option maxRecDepth 100000 in
theorem dX9_begins_59 : decode cX9_begins 59 = .ok (.iaload, 1) := by decide +kernel
set_option maxRecDepth 100000 in
theorem dX9_begins_60 : decode cX9_begins 60 = .ok (.istore 10, 2) := by decide +kernel
set_option maxRecDepth 100000 in
theorem dX9_begins_62 : decode cX9_begins 62 = .ok (.aload_n 0, 1) := by decide +kernel
set_option maxRecDepth 100000 in
theorem dX9_begins_63 : decode cX9_begins 63 = .ok (.getfield 75, 3) := by decide +kernel
set_option maxRecDepth 100000 in
theorem dX9_begins_66 : decode cX9_begins 66 = .ok (.getfield 204, 3) := by decide +kernel
set_option maxRecDepth 100000 in
theorem dX9_begins_69 : decode cX9_begins 69 = .ok (.aload_n 0, 1) := by decide +kernel
set_option maxRecDepth 100000 in
theorem dX9_begins_70 : decode cX9_begins 70 = .ok (.getfield 129, 3) := by decide +kernel
set_option maxRecDepth 100000 in
theorem dX9_begins_73 : decode cX9_begins 73 = .ok (.iaload, 1) := by decide +kernel
set_option maxRecDepth 100000 in
theorem dX9_begins_74 : decode cX9_begins 74 = .ok (.istore 11, 2) := by decide +kernel
set_option maxRecDepth 100000 in
theorem dX9_begins_76 : decode cX9_begins 76 = .ok (.aload_n 0, 1) := by decide +kernel
set_option maxRecDepth 100000 in
theorem dX9_begins_77 : decode cX9_begins 77 = .ok (.dup, 1) := by decide +kernel
set_option maxRecDepth 100000 in
theorem dX9_begins_78 : decode cX9_begins 78 = .ok (.getfield 129, 3) := by decide +kernel
set_option maxRecDepth 100000 in
theorem dX9_begins_81 : decode cX9_begins 81 = .ok (.iconst 1, 1) := by decide +kernel
set_option maxRecDepth 100000 in
theorem dX9_begins_82 : decode cX9_begins 82 = .ok (.iadd, 1) := by decide +kernel
set_option maxRecDepth 100000 in
theorem dX9_begins_83 : decode cX9_begins 83 = .ok (.putfield 129, 3) := by decide +kernel
set_option maxRecDepth 100000 in
theorem dX9_begins_86 : decode cX9_begins 86 = .ok (.aload_n 0, 1) := by decide +kernel
set_option maxRecDepth 100000 in
theorem dX9_begins_87 : decode cX9_begins 87 = .ok (.getfield 12, 3) := by decide +kernel
set_option maxRecDepth 100000 in
theorem dX9_begins_90 : decode cX9_begins 90 = .ok (.getfield 247, 3) := by decide +kernel
set_option maxRecDepth 100000 in
theorem dX9_begins_93 : decode cX9_begins 93 = .ok (.iload 5, 2) := by decide +kernel
set_option maxRecDepth 100000 in
theorem dX9_begins_95 : decode cX9_begins 95 = .ok (.iconst 0, 1) := by decide +kernel
set_option maxRecDepth 100000 in
theorem dX9_begins_96 : decode cX9_begins 96 = .ok (.bastore, 1) := by decide +kernel
set_option maxRecDepth 100000 in
theorem dX9_begins_97 : decode cX9_begins 97 = .ok (.iload_n 3, 1) := by decide +kernel
set_option maxRecDepth 100000 in
theorem dX9_begins_98 : decode cX9_begins 98 = .ok (.ifCond .le 14, 3) := by decide +kernel
set_option maxRecDepth 100000 in
theorem dX9_begins_101 : decode cX9_begins 101 = .ok (.lload 6, 2) := by decide +kernel
set_option maxRecDepth 100000 in
theorem dX9_begins_103 : decode cX9_begins 103 = .ok (.lload 8, 2) := by decide +kernel
set_option maxRecDepth 100000 in
theorem dX9_begins_105 : decode cX9_begins 105 = .ok (.lcmp, 1) := by decide +kernel
set_option maxRecDepth 100000 in
theorem dX9_begins_106 : decode cX9_begins 106 = .ok (.ifCond .le 20, 3) := by decide +kernel
set_option maxRecDepth 100000 in
theorem dX9_begins_109 : decode cX9_begins 109 = .ok (.goto 11, 3) := by decide +kernel
set_option maxRecDepth 100000 in
theorem dX9_begins_112 : decode cX9_begins 112 = .ok (.lload 6, 2) := by decide +kernel
set_option maxRecDepth 100000 in
theorem dX9_begins_114 : decode cX9_begins 114 = .ok (.lload 8, 2) := by decide +kernel
set_option maxRecDepth 100000 in
theorem dX9_begins_116 : decode cX9_begins 116 = .ok (.lcmp, 1) := by decide +kernel
set_option maxRecDepth 100000 in
theorem dX9_begins_117 : decode cX9_begins 117 = .ok (.ifCond .ge 9, 3) := by decide +kernel
set_option maxRecDepth 100000 in
theorem dX9_begins_120 : decode cX9_begins 120 = .ok (.aload_n 0, 1) := by decide +kernel
set_option maxRecDepth 100000 in
theorem dX9_begins_121 : decode cX9_begins 121 = .ok (.iload_n 2, 1) := by decide +kernel
set_option maxRecDepth 100000 in
theorem dX9_begins_122 : decode cX9_begins 122 = .ok (.putfield 129, 3) := by decide +kernel
set_option maxRecDepth 100000 in
theorem dX9_begins_125 : decode cX9_begins 125 = .ok (.return_, 1) := by decide +kernel
set_option maxRecDepth 100000 in
theorem dX9_begins_126 : decode cX9_begins 126 = .ok (.lload 6, 2) := by decide +kernel
set_option maxRecDepth 100000 in
theorem dX9_begins_128 : decode cX9_begins 128 = .ok (.iload 10, 2) := by decide +kernel
set_option maxRecDepth 100000 in
theorem dX9_begins_130 : decode cX9_begins 130 = .ok (.i2l, 1) := by decide +kernel
set_option maxRecDepth 100000 in
theorem dX9_begins_131 : decode cX9_begins 131 = .ok (.lcmp, 1) := by decide +kernel
set_option maxRecDepth 100000 in
theorem dX9_begins_132 : decode cX9_begins 132 = .ok (.ifCond .lt 30, 3) := by decide +kernel
set_option maxRecDepth 100000 in
theorem dX9_begins_135 : decode cX9_begins 135 = .ok (.lload 6, 2) := by decide +kernel
set_option maxRecDepth 100000 in
theorem dX9_begins_137 : decode cX9_begins 137 = .ok (.iload 11, 2) := by decide +kernel
set_option maxRecDepth 100000 in
theorem dX9_begins_139 : decode cX9_begins 139 = .ok (.i2l, 1) := by decide +kernel
set_option maxRecDepth 100000 in
theorem dX9_begins_140 : decode cX9_begins 140 = .ok (.lcmp, 1) := by decide +kernel
set_option maxRecDepth 100000 in
theorem dX9_begins_141 : decode cX9_begins 141 = .ok (.ifCond .gt 21, 3) := by decide +kernel
set_option maxRecDepth 100000 in
theorem dX9_begins_144 : decode cX9_begins 144 = .ok (.lload 8, 2) := by decide +kernel
set_option maxRecDepth 100000 in
theorem dX9_begins_146 : decode cX9_begins 146 = .ok (.iload 10, 2) := by decide +kernel
set_option maxRecDepth 100000 in
theorem dX9_begins_148 : decode cX9_begins 148 = .ok (.i2l, 1) := by decide +kernel
set_option maxRecDepth 100000 in
theorem dX9_begins_149 : decode cX9_begins 149 = .ok (.lcmp, 1) := by decide +kernel
set_option maxRecDepth 100000 in
theorem dX9_begins_150 : decode cX9_begins 150 = .ok (.ifCond .lt 12, 3) := by decide +kernel
set_option maxRecDepth 100000 in
theorem dX9_begins_153 : decode cX9_begins 153 = .ok (.lload 8, 2) := by decide +kernel
set_option maxRecDepth 100000 in
theorem dX9_begins_155 : decode cX9_begins 155 = .ok (.iload 11, 2) := by decide +kernel
set_option maxRecDepth 100000 in
theorem dX9_begins_157 : decode cX9_begins 157 = .ok (.i2l, 1) := by decide +kernel
set_option maxRecDepth 100000 in
theorem dX9_begins_158 : decode cX9_begins 158 = .ok (.lcmp, 1) := by decide +kernel
set_option maxRecDepth 100000 in
theorem dX9_begins_159 : decode cX9_begins 159 = .ok (.ifCond .le 11, 3) := by decide +kernel
set_option maxRecDepth 100000 in
theorem dX9_begins_162 : decode cX9_begins 162 = .ok (.aload_n 0, 1) := by decide +kernel
set_option maxRecDepth 100000 in
theorem dX9_begins_163 : decode cX9_begins 163 = .ok (.iconst 1, 1) := by decide +kernel
set_option maxRecDepth 100000 in
theorem dX9_begins_164 : decode cX9_begins 164 = .ok (.iload 4, 2) := by decide +kernel
set_option maxRecDepth 100000 in
theorem dX9_begins_166 : decode cX9_begins 166 = .ok (.invokevirtual 147, 3) := by decide +kernel
set_option maxRecDepth 100000 in
theorem dX9_begins_169 : decode cX9_begins 169 = .ok (.return_, 1) := by decide +kernel
set_option maxRecDepth 100000 in
theorem dX9_begins_170 : decode cX9_begins 170 = .ok (.sipush 128, 3) := by decide +kernel
set_option maxRecDepth 100000 in
theorem dX9_begins_173 : decode cX9_begins 173 = .ok (.aload_n 0, 1) := by decide +kernel
set_option maxRecDepth 100000 in
theorem dX9_begins_174 : decode cX9_begins 174 = .ok (.getfield 89, 3) := by decide +kernel
set_option maxRecDepth 100000 in
theorem dX9_begins_177 : decode cX9_begins 177 = .ok (.imul, 1) := by decide +kernel
set_option maxRecDepth 100000 in
theorem dX9_begins_178 : decode cX9_begins 178 = .ok (.iload_n 1, 1) := by decide +kernel
set_option maxRecDepth 100000 in
theorem dX9_begins_179 : decode cX9_begins 179 = .ok (.iadd, 1) := by decide +kernel
set_option maxRecDepth 100000 in
theorem dX9_begins_180 : decode cX9_begins 180 = .ok (.istore 12, 2) := by decide +kernel
set_option maxRecDepth 100000 in
theorem dX9_begins_182 : decode cX9_begins 182 = .ok (.aload_n 0, 1) := by decide +kernel
set_option maxRecDepth 100000 in
theorem dX9_begins_183 : decode cX9_begins 183 = .ok (.getfield 61, 3) := by decide +kernel
set_option maxRecDepth 100000 in
theorem dX9_begins_186 : decode cX9_begins 186 = .ok (.iload 12, 2) := by decide +kernel
set_option maxRecDepth 100000 in
theorem dX9_begins_188 : decode cX9_begins 188 = .ok (.lload 6, 2) := by decide +kernel
set_option maxRecDepth 100000 in
theorem dX9_begins_190 : decode cX9_begins 190 = .ok (.lastore, 1) := by decide +kernel
set_option maxRecDepth 100000 in
theorem dX9_begins_191 : decode cX9_begins 191 = .ok (.aload_n 0, 1) := by decide +kernel
set_option maxRecDepth 100000 in
theorem dX9_begins_192 : decode cX9_begins 192 = .ok (.getfield 61, 3) := by decide +kernel
set_option maxRecDepth 100000 in
theorem dX9_begins_195 : decode cX9_begins 195 = .ok (.iload 12, 2) := by decide +kernel
set_option maxRecDepth 100000 in
theorem dX9_begins_197 : decode cX9_begins 197 = .ok (.iconst 1, 1) := by decide +kernel
set_option maxRecDepth 100000 in
theorem dX9_begins_198 : decode cX9_begins 198 = .ok (.iadd, 1) := by decide +kernel
set_option maxRecDepth 100000 in
theorem dX9_begins_199 : decode cX9_begins 199 = .ok (.lload 8, 2) := by decide +kernel
set_option maxRecDepth 100000 in
theorem dX9_begins_201 : decode cX9_begins 201 = .ok (.lastore, 1) := by decide +kernel
set_option maxRecDepth 100000 in
theorem dX9_begins_202 : decode cX9_begins 202 = .ok (.aload_n 0, 1) := by decide +kernel
set_option maxRecDepth 100000 in
theorem dX9_begins_203 : decode cX9_begins 203 = .ok (.getfield 61, 3) := by decide +kernel
set_option maxRecDepth 100000 in
theorem dX9_begins_206 : decode cX9_begins 206 = .ok (.iload 12, 2) := by decide +kernel
set_option maxRecDepth 100000 in
theorem dX9_begins_208 : decode cX9_begins 208 = .ok (.iconst 2, 1) := by decide +kernel
set_option maxRecDepth 100000 in
theorem dX9_begins_209 : decode cX9_begins 209 = .ok (.iadd, 1) := by decide +kernel
set_option maxRecDepth 100000 in
theorem dX9_begins_210 : decode cX9_begins 210 = .ok (.iload 5, 2) := by decide +kernel
set_option maxRecDepth 100000 in
theorem dX9_begins_212 : decode cX9_begins 212 = .ok (.i2l, 1) := by decide +kernel
set_option maxRecDepth 100000 in
theorem dX9_begins_213 : decode cX9_begins 213 = .ok (.lastore, 1) := by decide +kernel
set_option maxRecDepth 100000 in
theorem dX9_begins_214 : decode cX9_begins 214 = .ok (.aload_n 0, 1) := by decide +kernel
set_option maxRecDepth 100000 in
theorem dX9_begins_215 : decode cX9_begins 215 = .ok (.getfield 12, 3) := by decide +kernel
set_option maxRecDepth 100000 in
theorem dX9_begins_218 : decode cX9_begins 218 = .ok (.iload 5, 2) := by decide +kernel
set_option maxRecDepth 100000 in
theorem dX9_begins_220 : decode cX9_begins 220 = .ok (.lload 6, 2) := by decide +kernel
set_option maxRecDepth 100000 in
theorem dX9_begins_222 : decode cX9_begins 222 = .ok (.invokevirtual 140, 3) := by decide +kernel
set_option maxRecDepth 100000 in
theorem dX9_begins_225 : decode cX9_begins 225 = .ok (.return_, 1) := by decide +kernel
set_option maxRecDepth 100000 in
def bX9_begins_162 (G : xG) (fr lo : Nat) (x0 : Nat) (x4 : Int32) (h : xH) (Q : Outcome → xH → Prop) : Prop := tg h x0 = 10 ∧ 1 ≤ fr ∧ 14 ≤ lo ∧ xRv G YX9_fail (fr - 1) (lo - 14) [rv x0, .int 1, .int x4] h (fun h4 => xext h h4 → Q (.returned none) h4) (fun r h2 => Q (.threw r) h2)
set_option maxRecDepth 100000 in
theorem uX9_begins_162 {G : xG} {fr lo : Nat} {x0 : Nat} {x4 : Int32} {h : xH} {Q : Outcome → xH → Prop} (hq : bX9_begins_162 G fr lo x0 x4 h Q) : xP G YX9_begins fr lo 162 [(0, rv x0), (4, .int x4)] [] h Q := by
  unfold bX9_begins_162 at hq
  refine x_aload_n 0 dX9_begins_162 rfl ?_
  refine x_iconst (v := 1) dX9_begins_163 (by decide) ?_
  refine x_iload 1 dX9_begins_164 rfl ?_
  obtain ⟨g1, hq⟩ := hq
  obtain ⟨g2, g3, hq⟩ := hq
  refine x_callV (Yc := YX9_fail) (as := [.int 1, .int x4]) (st := []) q2835 mvX9_fail g1 rfl dX9_begins_166 (xle (xal1 (rv_cat _) (xal1 rfl (xal1 rfl xal0))) (by decide)) (xfr g2) (xlo xsw0 (by decide) g3) (xKv hq (fun h4 hq e6 => ?_) (fun _ _ q _ => q))
  replace hq := hq e6
  exact x_vret rfl dX9_begins_169 hq
set_option maxRecDepth 100000 in
def bX9_begins_126 (G : xG) (fr lo : Nat) (x0 : Nat) (x1 : Int32) (x4 : Int32) (x5 : Int32) (x6 : Int64) (x8 : Int64) (x10 : Int32) (x11 : Int32) (h : xH) (Q : Outcome → xH → Prop) : Prop := (((lg_cmp x6 (Int32.toInt64 x10)) < 0 → bX9_begins_162 G fr lo x0 x4 h Q) ∧ (¬ (lg_cmp x6 (Int32.toInt64 x10)) < 0 → ((0 < (lg_cmp x6 (Int32.toInt64 x11)) → bX9_begins_162 G fr lo x0 x4 h Q) ∧ (¬ 0 < (lg_cmp x6 (Int32.toInt64 x11)) → (((lg_cmp x8 (Int32.toInt64 x10)) < 0 → bX9_begins_162 G fr lo x0 x4 h Q) ∧ (¬ (lg_cmp x8 (Int32.toInt64 x10)) < 0 → (((lg_cmp x8 (Int32.toInt64 x11)) ≤ 0 → tg h x0 = 10 ∧ tg h (fR h x0 2318) = 101 ∧ vp_in ((128 * (fI h x0 2319)) + x1) (ln h (fR h x0 2318)) ∧ (∀ h8 : xH, h8 = tJ h (fR h x0 2318) (Int32.toNatClampNeg ((128 * (fI h x0 2319)) + x1)) x6 → tg h8 (fR h8 x0 2318) = 101 ∧ vp_in (((128 * (fI h x0 2319)) + x1) + 1) (ln h8 (fR h8 x0 2318)) ∧ (∀ h13 : xH, h13 = tJ h8 (fR h8 x0 2318) (Int32.toNatClampNeg (((128 * (fI h x0 2319)) + x1) + 1)) x8 → tg h13 (fR h13 x0 2318) = 101 ∧ vp_in (((128 * (fI h x0 2319)) + x1) + 2) (ln h13 (fR h13 x0 2318)) ∧ (∀ h18 : xH, h18 = tJ h13 (fR h13 x0 2318) (Int32.toNatClampNeg (((128 * (fI h x0 2319)) + x1) + 2)) (Int32.toInt64 x5) → tg h18 (fR h18 x0 2305) = 11 ∧ 1 ≤ fr ∧ 15 ≤ lo ∧ xRv G YX10_set (fr - 1) (lo - 15) [rv (fR h18 x0 2305), .int x5, .long x6] h18 (fun h24 => xext h18 h24 → Q (.returned none) h24) (fun r h2 => Q (.threw r) h2))))) ∧ (¬ (lg_cmp x8 (Int32.toInt64 x11)) ≤ 0 → bX9_begins_162 G fr lo x0 x4 h Q))))))))
set_option maxRecDepth 100000 in
theorem uX9_begins_126 {G : xG} {fr lo : Nat} {x0 : Nat} {x1 : Int32} {x4 : Int32} {x5 : Int32} {x6 : Int64} {x8 : Int64} {x10 : Int32} {x11 : Int32} {h : xH} {Q : Outcome → xH → Prop} (hq : bX9_begins_126 G fr lo x0 x1 x4 x5 x6 x8 x10 x11 h Q) : xP G YX9_begins fr lo 126 [(0, rv x0), (1, .int x1), (4, .int x4), (5, .int x5), (6, .long x6), (8, .long x8), (10, .int x10), (11, .int x11)] [] h Q := by
  unfold bX9_begins_126 at hq
  refine x_lload 4 dX9_begins_126 rfl ?_
  refine x_iload 6 dX9_begins_128 rfl ?_
  refine x_i2l dX9_begins_130 ?_
  refine x_lcmp dX9_begins_131 ?_
  refine x_if_lt (tgt := 162) dX9_begins_132 (by decide) (fun c1 => ?_) (fun c1 => ?_)
  · replace hq := hq.1 c1
    refine xP.pick (lv' := [(0, rv x0), (4, .int x4)]) [0, 2] rfl ?_
    exact uX9_begins_162 hq
  · replace hq := hq.2 c1
    refine x_lload 4 dX9_begins_135 rfl ?_
    refine x_iload 7 dX9_begins_137 rfl ?_
    refine x_i2l dX9_begins_139 ?_
    refine x_lcmp dX9_begins_140 ?_
    refine x_if_gt (tgt := 162) dX9_begins_141 (by decide) (fun c2 => ?_) (fun c2 => ?_)
    · replace hq := hq.1 c2
      refine xP.pick (lv' := [(0, rv x0), (4, .int x4)]) [0, 2] rfl ?_
      exact uX9_begins_162 hq
    · replace hq := hq.2 c2
      refine x_lload 5 dX9_begins_144 rfl ?_
      refine x_iload 6 dX9_begins_146 rfl ?_
      refine x_i2l dX9_begins_148 ?_
      refine x_lcmp dX9_begins_149 ?_
      refine x_if_lt (tgt := 162) dX9_begins_150 (by decide) (fun c3 => ?_) (fun c3 => ?_)
      · replace hq := hq.1 c3
        refine xP.pick (lv' := [(0, rv x0), (4, .int x4)]) [0, 2] rfl ?_
        exact uX9_begins_162 hq
      · replace hq := hq.2 c3
        refine x_lload 5 dX9_begins_153 rfl ?_
        refine x_iload 7 dX9_begins_155 rfl ?_
        refine x_i2l dX9_begins_157 ?_
        refine x_lcmp dX9_begins_158 ?_
        refine x_if_le (tgt := 170) dX9_begins_159 (by decide) (fun c4 => ?_) (fun c4 => ?_)
        · replace hq := hq.1 c4
          refine x_sipush (v := 128) dX9_begins_170 (by decide) ?_
          refine x_aload_n 0 dX9_begins_173 rfl ?_
          obtain ⟨g5, hq⟩ := hq
          refine x_get (v := .int (fI h x0 2319)) fdX9_89 dX9_begins_174 g5 rfl ?_
          refine x_imul dX9_begins_177 ?_
          refine x_iload_n 1 dX9_begins_178 rfl ?_
          refine x_iadd dX9_begins_179 ?_
          refine x_istore (lv' := [(12, .int ((128 * (fI h x0 2319)) + x1)), (0, rv x0), (1, .int x1), (4, .int x4), (5, .int x5), (6, .long x6), (8, .long x8), (10, .int x10), (11, .int x11)]) dX9_begins_180 (by decide) rfl ?_
          refine x_aload_n 1 dX9_begins_182 rfl ?_
          refine x_get (v := rv (fR h x0 2318)) fdX9_61 dX9_begins_183 g5 rfl ?_
          refine x_iload 0 dX9_begins_186 rfl ?_
          refine x_lload 5 dX9_begins_188 rfl ?_
          obtain ⟨g6, hq⟩ := hq
          obtain ⟨i7, hq⟩ := hq
          obtain ⟨h8, e9⟩ : ∃ y, y = tJ h (fR h x0 2318) (Int32.toNatClampNeg ((128 * (fI h x0 2319)) + x1)) x6 := ⟨_, rfl⟩
          replace hq := hq h8 e9
          refine x_last' g6 i7 dX9_begins_190 e9 ?_
          refine x_aload_n 1 dX9_begins_191 rfl ?_
          have t10 : tg h8 x0 = 10 := by rw [e9]; exact g5
          refine x_get (v := rv (fR h8 x0 2318)) fdX9_61 dX9_begins_192 t10 rfl ?_
          refine x_iload 0 dX9_begins_195 rfl ?_
          refine x_iconst (v := 1) dX9_begins_197 (by decide) ?_
          refine x_iadd dX9_begins_198 ?_
          refine x_lload 6 dX9_begins_199 rfl ?_
          obtain ⟨g11, hq⟩ := hq
          obtain ⟨i12, hq⟩ := hq
          obtain ⟨h13, e14⟩ : ∃ y, y = tJ h8 (fR h8 x0 2318) (Int32.toNatClampNeg (((128 * (fI h x0 2319)) + x1) + 1)) x8 := ⟨_, rfl⟩
          replace hq := hq h13 e14
          refine x_last' g11 i12 dX9_begins_201 e14 ?_
          refine x_aload_n 1 dX9_begins_202 rfl ?_
          have t15 : tg h13 x0 = 10 := by rw [e14]; exact t10
          refine x_get (v := rv (fR h13 x0 2318)) fdX9_61 dX9_begins_203 t15 rfl ?_
          refine x_iload 0 dX9_begins_206 rfl ?_
          refine x_iconst (v := 2) dX9_begins_208 (by decide) ?_
          refine x_iadd dX9_begins_209 ?_
          refine x_iload 4 dX9_begins_210 rfl ?_
          refine x_i2l dX9_begins_212 ?_
          obtain ⟨g16, hq⟩ := hq
          obtain ⟨i17, hq⟩ := hq
          obtain ⟨h18, e19⟩ : ∃ y, y = tJ h13 (fR h13 x0 2318) (Int32.toNatClampNeg (((128 * (fI h x0 2319)) + x1) + 2)) (Int32.toInt64 x5) := ⟨_, rfl⟩
          replace hq := hq h18 e19
          refine x_last' g16 i17 dX9_begins_213 e19 ?_
          refine x_aload_n 1 dX9_begins_214 rfl ?_
          have t20 : tg h18 x0 = 10 := by rw [e19]; exact t15
          refine x_get (v := rv (fR h18 x0 2305)) fdX9_12 dX9_begins_215 t20 rfl ?_
          refine x_iload 4 dX9_begins_218 rfl ?_
          refine x_lload 5 dX9_begins_220 rfl ?_
          obtain ⟨g21, hq⟩ := hq
          obtain ⟨g22, g23, hq⟩ := hq
          refine x_callV (Yc := YX10_set) (as := [.int x5, .long x6]) (st := []) q2831 mvX10_set g21 rfl dX9_begins_222 (xle (xal1 (rv_cat _) (xal1 rfl (xal2 rfl xal0))) (by decide)) (xfr g22) (xlo xsw0 (by decide) g23) (xKv hq (fun h24 hq e26 => ?_) (fun _ _ q _ => q))
          replace hq := hq e26
          exact x_vret rfl dX9_begins_225 hq
        · replace hq := hq.2 c4
          refine xP.pick (lv' := [(0, rv x0), (4, .int x4)]) [0, 2] rfl ?_
          exact uX9_begins_162 hq
set_option maxRecDepth 100000 in
def bX9_begins_120 (G : xG) (fr lo : Nat) (x0 : Nat) (x2 : Int32) (h : xH) (Q : Outcome → xH → Prop) : Prop := tg h x0 = 10 ∧ (∀ h2 : xH, h2 = sI h x0 2311 x2 → Q (.returned none) h2)
set_option maxRecDepth 100000 in
theorem uX9_begins_120 {G : xG} {fr lo : Nat} {x0 : Nat} {x2 : Int32} {h : xH} {Q : Outcome → xH → Prop} (hq : bX9_begins_120 G fr lo x0 x2 h Q) : xP G YX9_begins fr lo 120 [(0, rv x0), (2, .int x2)] [] h Q := by
  unfold bX9_begins_120 at hq
  refine x_aload_n 0 dX9_begins_120 rfl ?_
  refine x_iload_n 1 dX9_begins_121 rfl ?_
  obtain ⟨g1, hq⟩ := hq
  obtain ⟨h2, e3⟩ : ∃ y, y = sI h x0 2311 x2 := ⟨_, rfl⟩
  replace hq := hq h2 e3
  refine x_putI fdX9_129 xty_I1 dX9_begins_122 g1 (Or.inl (by rw [g1]; rfl)) xnI rfl e3 ?_
  exact x_vret rfl dX9_begins_125 hq
set_option maxRecDepth 100000 in
def bX9_begins (G : xG) (fr lo : Nat) (x0 : Nat) (x1 : Int32) (x2 : Int32) (x3 : Int32) (x4 : Int32) (h : xH) (Q : Outcome → xH → Prop) : Prop := tg h x0 = 10 ∧ (∀ h2 : xH, h2 = sI h x0 2310 ((fI h x0 2310) - 3) → tg h2 (fR h2 x0 2307) = 101 ∧ vp_in (fI h2 x0 2310) (ln h2 (fR h2 x0 2307)) ∧ vp_in ((fI h2 x0 2310) + 1) (ln h2 (fR h2 x0 2307)) ∧ vp_in ((fI h2 x0 2310) + 2) (ln h2 (fR h2 x0 2307)) ∧ tg h2 (fR h2 x0 2304) = 3 ∧ tg h2 (fR h2 (fR h2 x0 2304) 513) = 100 ∧ vp_in (fI h2 x0 2311) (ln h2 (fR h2 (fR h2 x0 2304) 513)) ∧ tg h2 (fR h2 (fR h2 x0 2304) 514) = 100 ∧ vp_in (fI h2 x0 2311) (ln h2 (fR h2 (fR h2 x0 2304) 514)) ∧ (∀ h14 : xH, h14 = sI h2 x0 2311 ((fI h2 x0 2311) + 1) → tg h14 (fR h14 x0 2305) = 11 ∧ tg h14 (fR h14 (fR h14 x0 2305) 2563) = 104 ∧ vp_in (Int64.toInt32 (aJ h2 (fR h2 x0 2307) (Int32.toNatClampNeg (fI h2 x0 2310)))) (ln h14 (fR h14 (fR h14 x0 2305) 2563)) ∧ (∀ h20 : xH, h20 = tI h14 (fR h14 (fR h14 x0 2305) 2563) (Int32.toNatClampNeg (Int64.toInt32 (aJ h2 (fR h2 x0 2307) (Int32.toNatClampNeg (fI h2 x0 2310))))) (vp_nar .boolean 0) → ((x3 ≤ 0 → ((0 ≤ (lg_cmp (aJ h2 (fR h2 x0 2307) (Int32.toNatClampNeg ((fI h2 x0 2310) + 1))) (aJ h2 (fR h2 x0 2307) (Int32.toNatClampNeg ((fI h2 x0 2310) + 2)))) → bX9_begins_126 G fr lo x0 x1 x4 (Int64.toInt32 (aJ h2 (fR h2 x0 2307) (Int32.toNatClampNeg (fI h2 x0 2310)))) (aJ h2 (fR h2 x0 2307) (Int32.toNatClampNeg ((fI h2 x0 2310) + 1))) (aJ h2 (fR h2 x0 2307) (Int32.toNatClampNeg ((fI h2 x0 2310) + 2))) (aI h2 (fR h2 (fR h2 x0 2304) 513) (Int32.toNatClampNeg (fI h2 x0 2311))) (aI h2 (fR h2 (fR h2 x0 2304) 514) (Int32.toNatClampNeg (fI h2 x0 2311))) h20 Q) ∧ (¬ 0 ≤ (lg_cmp (aJ h2 (fR h2 x0 2307) (Int32.toNatClampNeg ((fI h2 x0 2310) + 1))) (aJ h2 (fR h2 x0 2307) (Int32.toNatClampNeg ((fI h2 x0 2310) + 2)))) → bX9_begins_120 G fr lo x0 x2 h20 Q))) ∧ (¬ x3 ≤ 0 → (((lg_cmp (aJ h2 (fR h2 x0 2307) (Int32.toNatClampNeg ((fI h2 x0 2310) + 1))) (aJ h2 (fR h2 x0 2307) (Int32.toNatClampNeg ((fI h2 x0 2310) + 2)))) ≤ 0 → bX9_begins_126 G fr lo x0 x1 x4 (Int64.toInt32 (aJ h2 (fR h2 x0 2307) (Int32.toNatClampNeg (fI h2 x0 2310)))) (aJ h2 (fR h2 x0 2307) (Int32.toNatClampNeg ((fI h2 x0 2310) + 1))) (aJ h2 (fR h2 x0 2307) (Int32.toNatClampNeg ((fI h2 x0 2310) + 2))) (aI h2 (fR h2 (fR h2 x0 2304) 513) (Int32.toNatClampNeg (fI h2 x0 2311))) (aI h2 (fR h2 (fR h2 x0 2304) 514) (Int32.toNatClampNeg (fI h2 x0 2311))) h20 Q) ∧ (¬ (lg_cmp (aJ h2 (fR h2 x0 2307) (Int32.toNatClampNeg ((fI h2 x0 2310) + 1))) (aJ h2 (fR h2 x0 2307) (Int32.toNatClampNeg ((fI h2 x0 2310) + 2)))) ≤ 0 → bX9_begins_120 G fr lo x0 x2 h20 Q)))))))
set_option maxRecDepth 100000 in
theorem uX9_begins {G : xG} {fr lo : Nat} {x0 : Nat} {x1 : Int32} {x2 : Int32} {x3 : Int32} {x4 : Int32} {h : xH} {Q : Outcome → xH → Prop} (hq : bX9_begins G fr lo x0 x1 x2 x3 x4 h Q) : xP G YX9_begins fr lo 0 [(0, rv x0), (1, .int x1), (2, .int x2), (3, .int x3), (4, .int x4)] [] h Q := by
  unfold bX9_begins at hq
  refine x_aload_n 0 dX9_begins_0 rfl ?_
  refine x_dup dX9_begins_1 (rv_cat _) ?_
  obtain ⟨g1, hq⟩ := hq
  refine x_get (v := .int (fI h x0 2310)) fdX9_86 dX9_begins_2 g1 rfl ?_
  refine x_iconst (v := 3) dX9_begins_5 (by decide) ?_
  refine x_isub dX9_begins_6 ?_
  obtain ⟨h2, e3⟩ : ∃ y, y = sI h x0 2310 ((fI h x0 2310) - 3) := ⟨_, rfl⟩
  replace hq := hq h2 e3
  refine x_putI fdX9_86 xty_I1 dX9_begins_7 g1 (Or.inl (by rw [g1]; rfl)) xnI rfl e3 ?_
  refine x_aload_n 0 dX9_begins_10 rfl ?_
  have t4 : tg h2 x0 = 10 := by rw [e3]; exact g1
  refine x_get (v := rv (fR h2 x0 2307)) fdX9_28 dX9_begins_11 t4 rfl ?_
  refine x_aload_n 0 dX9_begins_14 rfl ?_
  refine x_get (v := .int (fI h2 x0 2310)) fdX9_86 dX9_begins_15 t4 rfl ?_
  obtain ⟨g5, hq⟩ := hq
  obtain ⟨i6, hq⟩ := hq
  refine x_lald g5 i6 dX9_begins_18 ?_
  refine x_l2i dX9_begins_19 ?_
  refine x_istore (lv' := [(5, .int (Int64.toInt32 (aJ h2 (fR h2 x0 2307) (Int32.toNatClampNeg (fI h2 x0 2310))))), (0, rv x0), (1, .int x1), (2, .int x2), (3, .int x3), (4, .int x4)]) dX9_begins_20 (by decide) rfl ?_
  refine x_aload_n 1 dX9_begins_22 rfl ?_
  refine x_get (v := rv (fR h2 x0 2307)) fdX9_28 dX9_begins_23 t4 rfl ?_
  refine x_aload_n 1 dX9_begins_26 rfl ?_
  refine x_get (v := .int (fI h2 x0 2310)) fdX9_86 dX9_begins_27 t4 rfl ?_
  refine x_iconst (v := 1) dX9_begins_30 (by decide) ?_
  refine x_iadd dX9_begins_31 ?_
  obtain ⟨i7, hq⟩ := hq
  refine x_lald g5 i7 dX9_begins_32 ?_
  refine x_lstore (lv' := [(6, .long (aJ h2 (fR h2 x0 2307) (Int32.toNatClampNeg ((fI h2 x0 2310) + 1)))), (5, .int (Int64.toInt32 (aJ h2 (fR h2 x0 2307) (Int32.toNatClampNeg (fI h2 x0 2310))))), (0, rv x0), (1, .int x1), (2, .int x2), (3, .int x3), (4, .int x4)]) dX9_begins_33 (by decide) rfl ?_
  refine x_aload_n 2 dX9_begins_35 rfl ?_
  refine x_get (v := rv (fR h2 x0 2307)) fdX9_28 dX9_begins_36 t4 rfl ?_
  refine x_aload_n 2 dX9_begins_39 rfl ?_
  refine x_get (v := .int (fI h2 x0 2310)) fdX9_86 dX9_begins_40 t4 rfl ?_
  refine x_iconst (v := 2) dX9_begins_43 (by decide) ?_
  refine x_iadd dX9_begins_44 ?_
  obtain ⟨i8, hq⟩ := hq
  refine x_lald g5 i8 dX9_begins_45 ?_
  refine x_lstore (lv' := [(8, .long (aJ h2 (fR h2 x0 2307) (Int32.toNatClampNeg ((fI h2 x0 2310) + 2)))), (6, .long (aJ h2 (fR h2 x0 2307) (Int32.toNatClampNeg ((fI h2 x0 2310) + 1)))), (5, .int (Int64.toInt32 (aJ h2 (fR h2 x0 2307) (Int32.toNatClampNeg (fI h2 x0 2310))))), (0, rv x0), (1, .int x1), (2, .int x2), (3, .int x3), (4, .int x4)]) dX9_begins_46 (by decide) rfl ?_
  refine x_aload_n 3 dX9_begins_48 rfl ?_
  refine x_get (v := rv (fR h2 x0 2304)) fdX9_75 dX9_begins_49 t4 rfl ?_
  obtain ⟨g9, hq⟩ := hq
  refine x_getN (v := rv (fR h2 (fR h2 x0 2304) 513)) gfX9_201 dX9_begins_52 g9 rfl ?_
  refine x_aload_n 3 dX9_begins_55 rfl ?_
  refine x_get (v := .int (fI h2 x0 2311)) fdX9_129 dX9_begins_56 t4 rfl ?_
  obtain ⟨g10, hq⟩ := hq
  obtain ⟨i11, hq⟩ := hq
  refine x_iald 0 (Or.inl rfl) g10 i11 dX9_begins_59 ?_
  refine x_istore (lv' := [(10, .int (aI h2 (fR h2 (fR h2 x0 2304) 513) (Int32.toNatClampNeg (fI h2 x0 2311)))), (8, .long (aJ h2 (fR h2 x0 2307) (Int32.toNatClampNeg ((fI h2 x0 2310) + 2)))), (6, .long (aJ h2 (fR h2 x0 2307) (Int32.toNatClampNeg ((fI h2 x0 2310) + 1)))), (5, .int (Int64.toInt32 (aJ h2 (fR h2 x0 2307) (Int32.toNatClampNeg (fI h2 x0 2310))))), (0, rv x0), (1, .int x1), (2, .int x2), (3, .int x3), (4, .int x4)]) dX9_begins_60 (by decide) rfl ?_
  refine x_aload_n 4 dX9_begins_62 rfl ?_
  refine x_get (v := rv (fR h2 x0 2304)) fdX9_75 dX9_begins_63 t4 rfl ?_
  refine x_getN (v := rv (fR h2 (fR h2 x0 2304) 514)) gfX9_204 dX9_begins_66 g9 rfl ?_
  refine x_aload_n 4 dX9_begins_69 rfl ?_
  refine x_get (v := .int (fI h2 x0 2311)) fdX9_129 dX9_begins_70 t4 rfl ?_
  obtain ⟨g12, hq⟩ := hq
  obtain ⟨i13, hq⟩ := hq
  refine x_iald 0 (Or.inl rfl) g12 i13 dX9_begins_73 ?_
  refine x_istore (lv' := [(11, .int (aI h2 (fR h2 (fR h2 x0 2304) 514) (Int32.toNatClampNeg (fI h2 x0 2311)))), (10, .int (aI h2 (fR h2 (fR h2 x0 2304) 513) (Int32.toNatClampNeg (fI h2 x0 2311)))), (8, .long (aJ h2 (fR h2 x0 2307) (Int32.toNatClampNeg ((fI h2 x0 2310) + 2)))), (6, .long (aJ h2 (fR h2 x0 2307) (Int32.toNatClampNeg ((fI h2 x0 2310) + 1)))), (5, .int (Int64.toInt32 (aJ h2 (fR h2 x0 2307) (Int32.toNatClampNeg (fI h2 x0 2310))))), (0, rv x0), (1, .int x1), (2, .int x2), (3, .int x3), (4, .int x4)]) dX9_begins_74 (by decide) rfl ?_
  refine x_aload_n 5 dX9_begins_76 rfl ?_
  refine x_dup dX9_begins_77 (rv_cat _) ?_
  refine x_get (v := .int (fI h2 x0 2311)) fdX9_129 dX9_begins_78 t4 rfl ?_
  refine x_iconst (v := 1) dX9_begins_81 (by decide) ?_
  refine x_iadd dX9_begins_82 ?_
  obtain ⟨h14, e15⟩ : ∃ y, y = sI h2 x0 2311 ((fI h2 x0 2311) + 1) := ⟨_, rfl⟩
  replace hq := hq h14 e15
  refine x_putI fdX9_129 xty_I1 dX9_begins_83 t4 (Or.inl (by rw [t4]; rfl)) xnI rfl e15 ?_
  refine x_aload_n 5 dX9_begins_86 rfl ?_
  have t16 : tg h14 x0 = 10 := by rw [e15]; exact t4
  refine x_get (v := rv (fR h14 x0 2305)) fdX9_12 dX9_begins_87 t16 rfl ?_
  obtain ⟨g17, hq⟩ := hq
  refine x_getN (v := rv (fR h14 (fR h14 x0 2305) 2563)) gfX9_247 dX9_begins_90 g17 rfl ?_
  refine x_iload 4 dX9_begins_93 rfl ?_
  refine x_iconst (v := 0) dX9_begins_95 (by decide) ?_
  obtain ⟨g18, hq⟩ := hq
  obtain ⟨i19, hq⟩ := hq
  obtain ⟨h20, e21⟩ : ∃ y, y = tI h14 (fR h14 (fR h14 x0 2305) 2563) (Int32.toNatClampNeg (Int64.toInt32 (aJ h2 (fR h2 x0 2307) (Int32.toNatClampNeg (fI h2 x0 2310))))) (vp_nar .boolean 0) := ⟨_, rfl⟩
  replace hq := hq h20 e21
  refine x_zast' g18 i19 dX9_begins_96 e21 ?_
  refine x_iload_n 8 dX9_begins_97 rfl ?_
  refine x_if_le (tgt := 112) dX9_begins_98 (by decide) (fun c22 => ?_) (fun c22 => ?_)
  · replace hq := hq.1 c22
    refine x_lload 3 dX9_begins_112 rfl ?_
    refine x_lload 2 dX9_begins_114 rfl ?_
    refine x_lcmp dX9_begins_116 ?_
    refine x_if_ge (tgt := 126) dX9_begins_117 (by decide) (fun c23 => ?_) (fun c23 => ?_)
    · replace hq := hq.1 c23
      refine xP.pick (lv' := [(0, rv x0), (1, .int x1), (4, .int x4), (5, .int (Int64.toInt32 (aJ h2 (fR h2 x0 2307) (Int32.toNatClampNeg (fI h2 x0 2310))))), (6, .long (aJ h2 (fR h2 x0 2307) (Int32.toNatClampNeg ((fI h2 x0 2310) + 1)))), (8, .long (aJ h2 (fR h2 x0 2307) (Int32.toNatClampNeg ((fI h2 x0 2310) + 2)))), (10, .int (aI h2 (fR h2 (fR h2 x0 2304) 513) (Int32.toNatClampNeg (fI h2 x0 2311)))), (11, .int (aI h2 (fR h2 (fR h2 x0 2304) 514) (Int32.toNatClampNeg (fI h2 x0 2311))))]) [5, 6, 9, 4, 3, 2, 1, 0] rfl ?_
      exact uX9_begins_126 hq
    · replace hq := hq.2 c23
      refine xP.pick (lv' := [(0, rv x0), (2, .int x2)]) [5, 7] rfl ?_
      exact uX9_begins_120 hq
  · replace hq := hq.2 c22
    refine x_lload 3 dX9_begins_101 rfl ?_
    refine x_lload 2 dX9_begins_103 rfl ?_
    refine x_lcmp dX9_begins_105 ?_
    refine x_if_le (tgt := 126) dX9_begins_106 (by decide) (fun c24 => ?_) (fun c24 => ?_)
    · replace hq := hq.1 c24
      refine xP.pick (lv' := [(0, rv x0), (1, .int x1), (4, .int x4), (5, .int (Int64.toInt32 (aJ h2 (fR h2 x0 2307) (Int32.toNatClampNeg (fI h2 x0 2310))))), (6, .long (aJ h2 (fR h2 x0 2307) (Int32.toNatClampNeg ((fI h2 x0 2310) + 1)))), (8, .long (aJ h2 (fR h2 x0 2307) (Int32.toNatClampNeg ((fI h2 x0 2310) + 2)))), (10, .int (aI h2 (fR h2 (fR h2 x0 2304) 513) (Int32.toNatClampNeg (fI h2 x0 2311)))), (11, .int (aI h2 (fR h2 (fR h2 x0 2304) 514) (Int32.toNatClampNeg (fI h2 x0 2311))))]) [5, 6, 9, 4, 3, 2, 1, 0] rfl ?_
      exact uX9_begins_126 hq
    · replace hq := hq.2 c24
      refine x_goto (tgt := 120) dX9_begins_109 (by decide) ?_
      refine xP.pick (lv' := [(0, rv x0), (2, .int x2)]) [5, 7] rfl ?_
      exact uX9_begins_120 hq
theorem rX9_begins {G : xG} {fr lo : Nat} {x0 : Nat} {x1 : Int32} {x2 : Int32} {x3 : Int32} {x4 : Int32} {h : xH} {Q : Outcome → xH → Prop} (hq : bX9_begins G fr lo x0 x1 x2 x3 x4 h Q) : xR G YX9_begins fr lo [rv x0, .int x1, .int x2, .int x3, .int x4] h Q := by
  show xP _ _ _ _ _ (lv_args 0 _) _ _ _
  rw [show lv_args 0 [rv x0, .int x1, .int x2, .int x3, .int x4] = [(0, rv x0), (1, .int x1), (2, .int x2), (3, .int x3), (4, .int x4)] from (xla1 (rv_cat _) (xla1 rfl (xla1 rfl (xla1 rfl (xla1 rfl xla0)))))]
  exact uX9_begins hq
set_option maxRecDepth 100000 in
theorem dX9_repeats_0 : decode cX9_repeats 0 = .ok (.sipush 128, 3) := by decide +kernel
set_option maxRecDepth 100000 in
theorem dX9_repeats_3 : decode cX9_repeats 3 = .ok (.aload_n 0, 1) := by decide +kernel
set_option maxRecDepth 100000 in
theorem dX9_repeats_4 : decode cX9_repeats 4 = .ok (.getfield 89, 3) := by decide +kernel
set_option maxRecDepth 100000 in
theorem dX9_repeats_7 : decode cX9_repeats 7 = .ok (.imul, 1) := by decide +kernel
set_option maxRecDepth 100000 in
theorem dX9_repeats_8 : decode cX9_repeats 8 = .ok (.iload_n 1, 1) := by decide +kernel
set_option maxRecDepth 100000 in
theorem dX9_repeats_9 : decode cX9_repeats 9 = .ok (.iadd, 1) := by decide +kernel
set_option maxRecDepth 100000 in
theorem dX9_repeats_10 : decode cX9_repeats 10 = .ok (.istore 4, 2) := by decide +kernel
set_option maxRecDepth 100000 in
theorem dX9_repeats_12 : decode cX9_repeats 12 = .ok (.aload_n 0, 1) := by decide +kernel
set_option maxRecDepth 100000 in
theorem dX9_repeats_13 : decode cX9_repeats 13 = .ok (.getfield 61, 3) := by decide +kernel
set_option maxRecDepth 100000 in
theorem dX9_repeats_16 : decode cX9_repeats 16 = .ok (.iload 4, 2) := by decide +kernel
set_option maxRecDepth 100000 in
theorem dX9_repeats_18 : decode cX9_repeats 18 = .ok (.iconst 2, 1) := by decide +kernel
set_option maxRecDepth 100000 in
theorem dX9_repeats_19 : decode cX9_repeats 19 = .ok (.iadd, 1) := by decide +kernel
set_option maxRecDepth 100000 in
theorem dX9_repeats_20 : decode cX9_repeats 20 = .ok (.laload, 1) := by decide +kernel
set_option maxRecDepth 100000 in
theorem dX9_repeats_21 : decode cX9_repeats 21 = .ok (.l2i, 1) := by decide +kernel
set_option maxRecDepth 100000 in
theorem dX9_repeats_22 : decode cX9_repeats 22 = .ok (.istore 5, 2) := by decide +kernel
set_option maxRecDepth 100000 in
theorem dX9_repeats_24 : decode cX9_repeats 24 = .ok (.aload_n 0, 1) := by decide +kernel
set_option maxRecDepth 100000 in
theorem dX9_repeats_25 : decode cX9_repeats 25 = .ok (.getfield 61, 3) := by decide +kernel
set_option maxRecDepth 100000 in
theorem dX9_repeats_28 : decode cX9_repeats 28 = .ok (.iload 4, 2) := by decide +kernel
set_option maxRecDepth 100000 in
theorem dX9_repeats_30 : decode cX9_repeats 30 = .ok (.laload, 1) := by decide +kernel
set_option maxRecDepth 100000 in
theorem dX9_repeats_31 : decode cX9_repeats 31 = .ok (.aload_n 0, 1) := by decide +kernel
set_option maxRecDepth 100000 in
theorem dX9_repeats_32 : decode cX9_repeats 32 = .ok (.getfield 61, 3) := by decide +kernel
set_option maxRecDepth 100000 in
theorem dX9_repeats_35 : decode cX9_repeats 35 = .ok (.iload 4, 2) := by decide +kernel
set_option maxRecDepth 100000 in
theorem dX9_repeats_37 : decode cX9_repeats 37 = .ok (.iconst 1, 1) := by decide +kernel
set_option maxRecDepth 100000 in
theorem dX9_repeats_38 : decode cX9_repeats 38 = .ok (.iadd, 1) := by decide +kernel
set_option maxRecDepth 100000 in
theorem dX9_repeats_39 : decode cX9_repeats 39 = .ok (.laload, 1) := by decide +kernel
set_option maxRecDepth 100000 in
theorem dX9_repeats_40 : decode cX9_repeats 40 = .ok (.lcmp, 1) := by decide +kernel
set_option maxRecDepth 100000 in
theorem dX9_repeats_41 : decode cX9_repeats 41 = .ok (.ifCond .ne 15, 3) := by decide +kernel
set_option maxRecDepth 100000 in
theorem dX9_repeats_44 : decode cX9_repeats 44 = .ok (.aload_n 0, 1) := by decide +kernel
set_option maxRecDepth 100000 in
theorem dX9_repeats_45 : decode cX9_repeats 45 = .ok (.getfield 12, 3) := by decide +kernel
set_option maxRecDepth 100000 in
theorem dX9_repeats_48 : decode cX9_repeats 48 = .ok (.getfield 247, 3) := by decide +kernel
set_option maxRecDepth 100000 in
theorem dX9_repeats_51 : decode cX9_repeats 51 = .ok (.iload 5, 2) := by decide +kernel
set_option maxRecDepth 100000 in
theorem dX9_repeats_53 : decode cX9_repeats 53 = .ok (.iconst 0, 1) := by decide +kernel
set_option maxRecDepth 100000 in
theorem dX9_repeats_54 : decode cX9_repeats 54 = .ok (.bastore, 1) := by decide +kernel
set_option maxRecDepth 100000 in
theorem dX9_repeats_55 : decode cX9_repeats 55 = .ok (.return_, 1) := by decide +kernel
set_option maxRecDepth 100000 in
theorem dX9_repeats_56 : decode cX9_repeats 56 = .ok (.aload_n 0, 1) := by decide +kernel
set_option maxRecDepth 100000 in
theorem dX9_repeats_57 : decode cX9_repeats 57 = .ok (.getfield 61, 3) := by decide +kernel
set_option maxRecDepth 100000 in
theorem dX9_repeats_60 : decode cX9_repeats 60 = .ok (.iload 4, 2) := by decide +kernel
set_option maxRecDepth 100000 in
theorem dX9_repeats_62 : decode cX9_repeats 62 = .ok (.dup2, 1) := by decide +kernel
set_option maxRecDepth 100000 in
theorem dX9_repeats_63 : decode cX9_repeats 63 = .ok (.laload, 1) := by decide +kernel
set_option maxRecDepth 100000 in
theorem dX9_repeats_64 : decode cX9_repeats 64 = .ok (.iload_n 3, 1) := by decide +kernel
set_option maxRecDepth 100000 in
theorem dX9_repeats_65 : decode cX9_repeats 65 = .ok (.i2l, 1) := by decide +kernel
set_option maxRecDepth 100000 in
theorem dX9_repeats_66 : decode cX9_repeats 66 = .ok (.ladd, 1) := by decide +kernel
set_option maxRecDepth 100000 in
theorem dX9_repeats_67 : decode cX9_repeats 67 = .ok (.lastore, 1) := by decide +kernel
set_option maxRecDepth 100000 in
theorem dX9_repeats_68 : decode cX9_repeats 68 = .ok (.aload_n 0, 1) := by decide +kernel
set_option maxRecDepth 100000 in
theorem dX9_repeats_69 : decode cX9_repeats 69 = .ok (.getfield 12, 3) := by decide +kernel
set_option maxRecDepth 100000 in
theorem dX9_repeats_72 : decode cX9_repeats 72 = .ok (.iload 5, 2) := by decide +kernel
set_option maxRecDepth 100000 in
theorem dX9_repeats_74 : decode cX9_repeats 74 = .ok (.aload_n 0, 1) := by decide +kernel
set_option maxRecDepth 100000 in
theorem dX9_repeats_75 : decode cX9_repeats 75 = .ok (.getfield 61, 3) := by decide +kernel
set_option maxRecDepth 100000 in
theorem dX9_repeats_78 : decode cX9_repeats 78 = .ok (.iload 4, 2) := by decide +kernel
set_option maxRecDepth 100000 in
theorem dX9_repeats_80 : decode cX9_repeats 80 = .ok (.laload, 1) := by decide +kernel
set_option maxRecDepth 100000 in
theorem dX9_repeats_81 : decode cX9_repeats 81 = .ok (.invokevirtual 140, 3) := by decide +kernel
set_option maxRecDepth 100000 in
theorem dX9_repeats_84 : decode cX9_repeats 84 = .ok (.aload_n 0, 1) := by decide +kernel
set_option maxRecDepth 100000 in
theorem dX9_repeats_85 : decode cX9_repeats 85 = .ok (.iload_n 2, 1) := by decide +kernel
set_option maxRecDepth 100000 in
theorem dX9_repeats_86 : decode cX9_repeats 86 = .ok (.putfield 129, 3) := by decide +kernel
set_option maxRecDepth 100000 in
theorem dX9_repeats_89 : decode cX9_repeats 89 = .ok (.return_, 1) := by decide +kernel
set_option maxRecDepth 100000 in
def bX9_repeats (G : xG) (fr lo : Nat) (x0 : Nat) (x1 : Int32) (x2 : Int32) (x3 : Int32) (h : xH) (Q : Outcome → xH → Prop) : Prop := tg h x0 = 10 ∧ tg h (fR h x0 2318) = 101 ∧ vp_in (((128 * (fI h x0 2319)) + x1) + 2) (ln h (fR h x0 2318)) ∧ vp_in ((128 * (fI h x0 2319)) + x1) (ln h (fR h x0 2318)) ∧ vp_in (((128 * (fI h x0 2319)) + x1) + 1) (ln h (fR h x0 2318)) ∧ ((¬ (lg_cmp (aJ h (fR h x0 2318) (Int32.toNatClampNeg ((128 * (fI h x0 2319)) + x1))) (aJ h (fR h x0 2318) (Int32.toNatClampNeg (((128 * (fI h x0 2319)) + x1) + 1)))) = 0 → vp_in ((128 * (fI h x0 2319)) + x1) (ln h (fR h x0 2318)) ∧ vp_in ((128 * (fI h x0 2319)) + x1) (ln h (fR h x0 2318)) ∧ (∀ h9 : xH, h9 = tJ h (fR h x0 2318) (Int32.toNatClampNeg ((128 * (fI h x0 2319)) + x1)) ((aJ h (fR h x0 2318) (Int32.toNatClampNeg ((128 * (fI h x0 2319)) + x1))) + (Int32.toInt64 x3)) → tg h9 (fR h9 x0 2318) = 101 ∧ vp_in ((128 * (fI h x0 2319)) + x1) (ln h9 (fR h9 x0 2318)) ∧ tg h9 (fR h9 x0 2305) = 11 ∧ 1 ≤ fr ∧ 15 ≤ lo ∧ xRv G YX10_set (fr - 1) (lo - 15) [rv (fR h9 x0 2305), .int (Int64.toInt32 (aJ h (fR h x0 2318) (Int32.toNatClampNeg (((128 * (fI h x0 2319)) + x1) + 2)))), .long (aJ h9 (fR h9 x0 2318) (Int32.toNatClampNeg ((128 * (fI h x0 2319)) + x1)))] h9 (fun h17 => xext h9 h17 → (∀ h21 : xH, h21 = sI h17 x0 2311 x2 → Q (.returned none) h21)) (fun r h2 => Q (.threw r) h2))) ∧ ((lg_cmp (aJ h (fR h x0 2318) (Int32.toNatClampNeg ((128 * (fI h x0 2319)) + x1))) (aJ h (fR h x0 2318) (Int32.toNatClampNeg (((128 * (fI h x0 2319)) + x1) + 1)))) = 0 → tg h (fR h x0 2305) = 11 ∧ tg h (fR h (fR h x0 2305) 2563) = 104 ∧ vp_in (Int64.toInt32 (aJ h (fR h x0 2318) (Int32.toNatClampNeg (((128 * (fI h x0 2319)) + x1) + 2)))) (ln h (fR h (fR h x0 2305) 2563)) ∧ (∀ h26 : xH, h26 = tI h (fR h (fR h x0 2305) 2563) (Int32.toNatClampNeg (Int64.toInt32 (aJ h (fR h x0 2318) (Int32.toNatClampNeg (((128 * (fI h x0 2319)) + x1) + 2))))) (vp_nar .boolean 0) → Q (.returned none) h26)))
set_option maxRecDepth 100000 in
theorem uX9_repeats {G : xG} {fr lo : Nat} {x0 : Nat} {x1 : Int32} {x2 : Int32} {x3 : Int32} {h : xH} {Q : Outcome → xH → Prop} (hq : bX9_repeats G fr lo x0 x1 x2 x3 h Q) : xP G YX9_repeats fr lo 0 [(0, rv x0), (1, .int x1), (2, .int x2), (3, .int x3)] [] h Q := by
  unfold bX9_repeats at hq
  refine x_sipush (v := 128) dX9_repeats_0 (by decide) ?_
  refine x_aload_n 0 dX9_repeats_3 rfl ?_
  obtain ⟨g1, hq⟩ := hq
  refine x_get (v := .int (fI h x0 2319)) fdX9_89 dX9_repeats_4 g1 rfl ?_
  refine x_imul dX9_repeats_7 ?_
  refine x_iload_n 1 dX9_repeats_8 rfl ?_
  refine x_iadd dX9_repeats_9 ?_
  refine x_istore (lv' := [(4, .int ((128 * (fI h x0 2319)) + x1)), (0, rv x0), (1, .int x1), (2, .int x2), (3, .int x3)]) dX9_repeats_10 (by decide) rfl ?_
  refine x_aload_n 1 dX9_repeats_12 rfl ?_
  refine x_get (v := rv (fR h x0 2318)) fdX9_61 dX9_repeats_13 g1 rfl ?_
  refine x_iload 0 dX9_repeats_16 rfl ?_
  refine x_iconst (v := 2) dX9_repeats_18 (by decide) ?_
  refine x_iadd dX9_repeats_19 ?_
  obtain ⟨g2, hq⟩ := hq
  obtain ⟨i3, hq⟩ := hq
  refine x_lald g2 i3 dX9_repeats_20 ?_
  refine x_l2i dX9_repeats_21 ?_
  refine x_istore (lv' := [(5, .int (Int64.toInt32 (aJ h (fR h x0 2318) (Int32.toNatClampNeg (((128 * (fI h x0 2319)) + x1) + 2))))), (4, .int ((128 * (fI h x0 2319)) + x1)), (0, rv x0), (1, .int x1), (2, .int x2), (3, .int x3)]) dX9_repeats_22 (by decide) rfl ?_
  refine x_aload_n 2 dX9_repeats_24 rfl ?_
  refine x_get (v := rv (fR h x0 2318)) fdX9_61 dX9_repeats_25 g1 rfl ?_
  refine x_iload 1 dX9_repeats_28 rfl ?_
  obtain ⟨i4, hq⟩ := hq
  refine x_lald g2 i4 dX9_repeats_30 ?_
  refine x_aload_n 2 dX9_repeats_31 rfl ?_
  refine x_get (v := rv (fR h x0 2318)) fdX9_61 dX9_repeats_32 g1 rfl ?_
  refine x_iload 1 dX9_repeats_35 rfl ?_
  refine x_iconst (v := 1) dX9_repeats_37 (by decide) ?_
  refine x_iadd dX9_repeats_38 ?_
  obtain ⟨i5, hq⟩ := hq
  refine x_lald g2 i5 dX9_repeats_39 ?_
  refine x_lcmp dX9_repeats_40 ?_
  refine x_if_ne (tgt := 56) dX9_repeats_41 (by decide) (fun c6 => ?_) (fun c6 => ?_)
  · replace hq := hq.1 c6
    refine x_aload_n 2 dX9_repeats_56 rfl ?_
    refine x_get (v := rv (fR h x0 2318)) fdX9_61 dX9_repeats_57 g1 rfl ?_
    refine x_iload 1 dX9_repeats_60 rfl ?_
    refine x_dup2 dX9_repeats_62 rfl (rv_cat _) ?_
    obtain ⟨i7, hq⟩ := hq
    refine x_lald g2 i7 dX9_repeats_63 ?_
    refine x_iload_n 5 dX9_repeats_64 rfl ?_
    refine x_i2l dX9_repeats_65 ?_
    refine x_ladd dX9_repeats_66 ?_
    obtain ⟨i8, hq⟩ := hq
    obtain ⟨h9, e10⟩ : ∃ y, y = tJ h (fR h x0 2318) (Int32.toNatClampNeg ((128 * (fI h x0 2319)) + x1)) ((aJ h (fR h x0 2318) (Int32.toNatClampNeg ((128 * (fI h x0 2319)) + x1))) + (Int32.toInt64 x3)) := ⟨_, rfl⟩
    replace hq := hq h9 e10
    refine x_last' g2 i8 dX9_repeats_67 e10 ?_
    refine x_aload_n 2 dX9_repeats_68 rfl ?_
    have t11 : tg h9 x0 = 10 := by rw [e10]; exact g1
    refine x_get (v := rv (fR h9 x0 2305)) fdX9_12 dX9_repeats_69 t11 rfl ?_
    refine x_iload 0 dX9_repeats_72 rfl ?_
    refine x_aload_n 2 dX9_repeats_74 rfl ?_
    refine x_get (v := rv (fR h9 x0 2318)) fdX9_61 dX9_repeats_75 t11 rfl ?_
    refine x_iload 1 dX9_repeats_78 rfl ?_
    obtain ⟨g12, hq⟩ := hq
    obtain ⟨i13, hq⟩ := hq
    refine x_lald g12 i13 dX9_repeats_80 ?_
    obtain ⟨g14, hq⟩ := hq
    obtain ⟨g15, g16, hq⟩ := hq
    refine x_callV (Yc := YX10_set) (as := [.int (Int64.toInt32 (aJ h (fR h x0 2318) (Int32.toNatClampNeg (((128 * (fI h x0 2319)) + x1) + 2)))), .long (aJ h9 (fR h9 x0 2318) (Int32.toNatClampNeg ((128 * (fI h x0 2319)) + x1)))]) (st := []) q2831 mvX10_set g14 rfl dX9_repeats_81 (xle (xal1 (rv_cat _) (xal1 rfl (xal2 rfl xal0))) (by decide)) (xfr g15) (xlo xsw0 (by decide) g16) (xKv hq (fun h17 hq e19 => ?_) (fun _ _ q _ => q))
    replace hq := hq e19
    refine x_aload_n 2 dX9_repeats_84 rfl ?_
    refine x_iload_n 4 dX9_repeats_85 rfl ?_
    have t20 : tg h17 x0 = 10 := e19.tg t11 (by decide)
    obtain ⟨h21, e22⟩ : ∃ y, y = sI h17 x0 2311 x2 := ⟨_, rfl⟩
    replace hq := hq h21 e22
    refine x_putI fdX9_129 xty_I1 dX9_repeats_86 t20 (Or.inl (by rw [t20]; rfl)) xnI rfl e22 ?_
    exact x_vret rfl dX9_repeats_89 hq
  · replace hq := hq.2 c6
    refine x_aload_n 2 dX9_repeats_44 rfl ?_
    refine x_get (v := rv (fR h x0 2305)) fdX9_12 dX9_repeats_45 g1 rfl ?_
    obtain ⟨g23, hq⟩ := hq
    refine x_getN (v := rv (fR h (fR h x0 2305) 2563)) gfX9_247 dX9_repeats_48 g23 rfl ?_
    refine x_iload 0 dX9_repeats_51 rfl ?_
    refine x_iconst (v := 0) dX9_repeats_53 (by decide) ?_
    obtain ⟨g24, hq⟩ := hq
    obtain ⟨i25, hq⟩ := hq
    obtain ⟨h26, e27⟩ : ∃ y, y = tI h (fR h (fR h x0 2305) 2563) (Int32.toNatClampNeg (Int64.toInt32 (aJ h (fR h x0 2318) (Int32.toNatClampNeg (((128 * (fI h x0 2319)) + x1) + 2))))) (vp_nar .boolean 0) := ⟨_, rfl⟩
    replace hq := hq h26 e27
    refine x_zast' g24 i25 dX9_repeats_54 e27 ?_
    exact x_vret rfl dX9_repeats_55 hq
theorem rX9_repeats {G : xG} {fr lo : Nat} {x0 : Nat} {x1 : Int32} {x2 : Int32} {x3 : Int32} {h : xH} {Q : Outcome → xH → Prop} (hq : bX9_repeats G fr lo x0 x1 x2 x3 h Q) : xR G YX9_repeats fr lo [rv x0, .int x1, .int x2, .int x3] h Q := by
  show xP _ _ _ _ _ (lv_args 0 _) _ _ _
  rw [show lv_args 0 [rv x0, .int x1, .int x2, .int x3] = [(0, rv x0), (1, .int x1), (2, .int x2), (3, .int x3)] from (xla1 (rv_cat _) (xla1 rfl (xla1 rfl (xla1 rfl xla0))))]
  exact uX9_repeats hq
set_option maxRecDepth 100000 in
theorem dX9_calls_0 : decode cX9_calls 0 = .ok (.aload_n 0, 1) := by decide +kernel
set_option maxRecDepth 100000 in
theorem dX9_calls_1 : decode cX9_calls 1 = .ok (.getfield 89, 3) := by decide +kernel
set_option maxRecDepth 100000 in
theorem dX9_calls_4 : decode cX9_calls 4 = .ok (.bipush 30, 2) := by decide +kernel
set_option maxRecDepth 100000 in
theorem dX9_calls_6 : decode cX9_calls 6 = .ok (.if_icmp .ne 11, 3) := by decide +kernel
set_option maxRecDepth 100000 in
theorem dX9_calls_9 : decode cX9_calls 9 = .ok (.aload_n 0, 1) := by decide +kernel
set_option maxRecDepth 100000 in
theorem dX9_calls_10 : decode cX9_calls 10 = .ok (.bipush 13, 2) := by decide +kernel
set_option maxRecDepth 100000 in
theorem dX9_calls_12 : decode cX9_calls 12 = .ok (.iload_n 3, 1) := by decide +kernel
set_option maxRecDepth 100000 in
theorem dX9_calls_13 : decode cX9_calls 13 = .ok (.invokevirtual 147, 3) := by decide +kernel
set_option maxRecDepth 100000 in
theorem dX9_calls_16 : decode cX9_calls 16 = .ok (.return_, 1) := by decide +kernel
set_option maxRecDepth 100000 in
theorem dX9_calls_17 : decode cX9_calls 17 = .ok (.aload_n 0, 1) := by decide +kernel
set_option maxRecDepth 100000 in
theorem dX9_calls_18 : decode cX9_calls 18 = .ok (.getfield 95, 3) := by decide +kernel
set_option maxRecDepth 100000 in
theorem dX9_calls_21 : decode cX9_calls 21 = .ok (.aload_n 1, 1) := by decide +kernel
set_option maxRecDepth 100000 in
theorem dX9_calls_22 : decode cX9_calls 22 = .ok (.getfield 92, 3) := by decide +kernel
set_option maxRecDepth 100000 in
theorem dX9_calls_25 : decode cX9_calls 25 = .ok (.iadd, 1) := by decide +kernel
set_option maxRecDepth 100000 in
theorem dX9_calls_26 : decode cX9_calls 26 = .ok (.sipush 20000, 3) := by decide +kernel
set_option maxRecDepth 100000 in
theorem dX9_calls_29 : decode cX9_calls 29 = .ok (.if_icmp .le 11, 3) := by decide +kernel
set_option maxRecDepth 100000 in
theorem dX9_calls_32 : decode cX9_calls 32 = .ok (.aload_n 0, 1) := by decide +kernel
set_option maxRecDepth 100000 in
theorem dX9_calls_33 : decode cX9_calls 33 = .ok (.bipush 14, 2) := by decide +kernel
set_option maxRecDepth 100000 in
theorem dX9_calls_35 : decode cX9_calls 35 = .ok (.iload_n 3, 1) := by decide +kernel
set_option maxRecDepth 100000 in
theorem dX9_calls_36 : decode cX9_calls 36 = .ok (.invokevirtual 147, 3) := by decide +kernel
set_option maxRecDepth 100000 in
theorem dX9_calls_39 : decode cX9_calls 39 = .ok (.return_, 1) := by decide +kernel
set_option maxRecDepth 100000 in
theorem dX9_calls_40 : decode cX9_calls 40 = .ok (.aload_n 1, 1) := by decide +kernel
set_option maxRecDepth 100000 in
theorem dX9_calls_41 : decode cX9_calls 41 = .ok (.getfield 368, 3) := by decide +kernel
set_option maxRecDepth 100000 in
theorem dX9_calls_44 : decode cX9_calls 44 = .ok (.invokevirtual 161, 3) := by decide +kernel
set_option maxRecDepth 100000 in
theorem dX9_calls_47 : decode cX9_calls 47 = .ok (.istore 4, 2) := by decide +kernel
set_option maxRecDepth 100000 in
theorem dX9_calls_49 : decode cX9_calls 49 = .ok (.aload_n 0, 1) := by decide +kernel
set_option maxRecDepth 100000 in
theorem dX9_calls_50 : decode cX9_calls 50 = .ok (.aload_n 1, 1) := by decide +kernel
set_option maxRecDepth 100000 in
theorem dX9_calls_51 : decode cX9_calls 51 = .ok (.aload_n 0, 1) := by decide +kernel
set_option maxRecDepth 100000 in
theorem dX9_calls_52 : decode cX9_calls 52 = .ok (.getfield 95, 3) := by decide +kernel
set_option maxRecDepth 100000 in
theorem dX9_calls_55 : decode cX9_calls 55 = .ok (.invokevirtual 151, 3) := by decide +kernel
set_option maxRecDepth 100000 in
theorem dX9_calls_58 : decode cX9_calls 58 = .ok (.iconst 0, 1) := by decide +kernel
set_option maxRecDepth 100000 in
theorem dX9_calls_59 : decode cX9_calls 59 = .ok (.istore 5, 2) := by decide +kernel
set_option maxRecDepth 100000 in
theorem dX9_calls_61 : decode cX9_calls 61 = .ok (.iload 5, 2) := by decide +kernel
set_option maxRecDepth 100000 in
theorem dX9_calls_63 : decode cX9_calls 63 = .ok (.iload 4, 2) := by decide +kernel
set_option maxRecDepth 100000 in
theorem dX9_calls_65 : decode cX9_calls 65 = .ok (.if_icmp .ge 39, 3) := by decide +kernel
set_option maxRecDepth 100000 in
theorem dX9_calls_68 : decode cX9_calls 68 = .ok (.aload_n 0, 1) := by decide +kernel
set_option maxRecDepth 100000 in
theorem dX9_calls_69 : decode cX9_calls 69 = .ok (.aload_n 1, 1) := by decide +kernel
set_option maxRecDepth 100000 in
theorem dX9_calls_70 : decode cX9_calls 70 = .ok (.getfield 368, 3) := by decide +kernel
set_option maxRecDepth 100000 in
theorem dX9_calls_73 : decode cX9_calls 73 = .ok (.iload 5, 2) := by decide +kernel
set_option maxRecDepth 100000 in
theorem dX9_calls_75 : decode cX9_calls 75 = .ok (.invokevirtual 166, 3) := by decide +kernel
set_option maxRecDepth 100000 in
theorem dX9_calls_78 : decode cX9_calls 78 = .ok (.checkcast 371, 3) := by decide +kernel
set_option maxRecDepth 100000 in
theorem dX9_calls_81 : decode cX9_calls 81 = .ok (.aload_n 0, 1) := by decide +kernel
set_option maxRecDepth 100000 in
theorem dX9_calls_82 : decode cX9_calls 82 = .ok (.getfield 95, 3) := by decide +kernel
set_option maxRecDepth 100000 in
theorem dX9_calls_85 : decode cX9_calls 85 = .ok (.aload_n 0, 1) := by decide +kernel
set_option maxRecDepth 100000 in
theorem dX9_calls_86 : decode cX9_calls 86 = .ok (.getfield 86, 3) := by decide +kernel
set_option maxRecDepth 100000 in
theorem dX9_calls_89 : decode cX9_calls 89 = .ok (.iload 4, 2) := by decide +kernel
set_option maxRecDepth 100000 in
theorem dX9_calls_91 : decode cX9_calls 91 = .ok (.isub, 1) := by decide +kernel
set_option maxRecDepth 100000 in
theorem dX9_calls_92 : decode cX9_calls 92 = .ok (.iload 5, 2) := by decide +kernel
set_option maxRecDepth 100000 in
theorem dX9_calls_94 : decode cX9_calls 94 = .ok (.iadd, 1) := by decide +kernel
set_option maxRecDepth 100000 in
theorem dX9_calls_95 : decode cX9_calls 95 = .ok (.invokevirtual 373, 3) := by decide +kernel
set_option maxRecDepth 100000 in
theorem dX9_calls_98 : decode cX9_calls 98 = .ok (.iinc 5 1, 3) := by decide +kernel
set_option maxRecDepth 100000 in
theorem dX9_calls_101 : decode cX9_calls 101 = .ok (.goto (-40), 3) := by decide +kernel
set_option maxRecDepth 100000 in
theorem dX9_calls_104 : decode cX9_calls 104 = .ok (.aload_n 0, 1) := by decide +kernel
set_option maxRecDepth 100000 in
theorem dX9_calls_105 : decode cX9_calls 105 = .ok (.dup, 1) := by decide +kernel
set_option maxRecDepth 100000 in
theorem dX9_calls_106 : decode cX9_calls 106 = .ok (.getfield 86, 3) := by decide +kernel
set_option maxRecDepth 100000 in
theorem dX9_calls_109 : decode cX9_calls 109 = .ok (.iload 4, 2) := by decide +kernel
set_option maxRecDepth 100000 in
theorem dX9_calls_111 : decode cX9_calls 111 = .ok (.isub, 1) := by decide +kernel
set_option maxRecDepth 100000 in
theorem dX9_calls_112 : decode cX9_calls 112 = .ok (.putfield 86, 3) := by decide +kernel
set_option maxRecDepth 100000 in
theorem dX9_calls_115 : decode cX9_calls 115 = .ok (.aload_n 0, 1) := by decide +kernel
set_option maxRecDepth 100000 in
theorem dX9_calls_116 : decode cX9_calls 116 = .ok (.dup, 1) := by decide +kernel
set_option maxRecDepth 100000 in
theorem dX9_calls_117 : decode cX9_calls 117 = .ok (.getfield 89, 3) := by decide +kernel
set_option maxRecDepth 100000 in
theorem dX9_calls_120 : decode cX9_calls 120 = .ok (.iconst 1, 1) := by decide +kernel
set_option maxRecDepth 100000 in
theorem dX9_calls_121 : decode cX9_calls 121 = .ok (.iadd, 1) := by decide +kernel
set_option maxRecDepth 100000 in
theorem dX9_calls_122 : decode cX9_calls 122 = .ok (.putfield 89, 3) := by decide +kernel
set_option maxRecDepth 100000 in
theorem dX9_calls_125 : decode cX9_calls 125 = .ok (.aload_n 0, 1) := by decide +kernel
set_option maxRecDepth 100000 in
theorem dX9_calls_126 : decode cX9_calls 126 = .ok (.getfield 39, 3) := by decide +kernel
set_option maxRecDepth 100000 in
theorem dX9_calls_129 : decode cX9_calls 129 = .ok (.aload_n 0, 1) := by decide +kernel
set_option maxRecDepth 100000 in
theorem dX9_calls_130 : decode cX9_calls 130 = .ok (.getfield 89, 3) := by decide +kernel
set_option maxRecDepth 100000 in
theorem dX9_calls_133 : decode cX9_calls 133 = .ok (.aload_n 0, 1) := by decide +kernel
set_option maxRecDepth 100000 in
theorem dX9_calls_134 : decode cX9_calls 134 = .ok (.getfield 95, 3) := by decide +kernel
set_option maxRecDepth 100000 in
theorem dX9_calls_137 : decode cX9_calls 137 = .ok (.iastore, 1) := by decide +kernel
set_option maxRecDepth 100000 in
theorem dX9_calls_138 : decode cX9_calls 138 = .ok (.aload_n 0, 1) := by decide +kernel
set_option maxRecDepth 100000 in
theorem dX9_calls_139 : decode cX9_calls 139 = .ok (.getfield 43, 3) := by decide +kernel
set_option maxRecDepth 100000 in
theorem dX9_calls_142 : decode cX9_calls 142 = .ok (.aload_n 0, 1) := by decide +kernel
set_option maxRecDepth 100000 in
theorem dX9_calls_143 : decode cX9_calls 143 = .ok (.getfield 89, 3) := by decide +kernel
set_option maxRecDepth 100000 in
theorem dX9_calls_146 : decode cX9_calls 146 = .ok (.iload_n 2, 1) := by decide +kernel
set_option maxRecDepth 100000 in
theorem dX9_calls_147 : decode cX9_calls 147 = .ok (.iastore, 1) := by decide +kernel
set_option maxRecDepth 100000 in
theorem dX9_calls_148 : decode cX9_calls 148 = .ok (.aload_n 0, 1) := by decide +kernel
set_option maxRecDepth 100000 in
theorem dX9_calls_149 : decode cX9_calls 149 = .ok (.getfield 46, 3) := by decide +kernel
set_option maxRecDepth 100000 in
theorem dX9_calls_152 : decode cX9_calls 152 = .ok (.aload_n 0, 1) := by decide +kernel
set_option maxRecDepth 100000 in
theorem dX9_calls_153 : decode cX9_calls 153 = .ok (.getfield 89, 3) := by decide +kernel
set_option maxRecDepth 100000 in
theorem dX9_calls_156 : decode cX9_calls 156 = .ok (.aload_n 0, 1) := by decide +kernel
set_option maxRecDepth 100000 in
theorem dX9_calls_157 : decode cX9_calls 157 = .ok (.getfield 129, 3) := by decide +kernel
set_option maxRecDepth 100000 in
theorem dX9_calls_160 : decode cX9_calls 160 = .ok (.iastore, 1) := by decide +kernel
set_option maxRecDepth 100000 in
theorem dX9_calls_161 : decode cX9_calls 161 = .ok (.aload_n 0, 1) := by decide +kernel
set_option maxRecDepth 100000 in
theorem dX9_calls_162 : decode cX9_calls 162 = .ok (.getfield 49, 3) := by decide +kernel
set_option maxRecDepth 100000 in
theorem dX9_calls_165 : decode cX9_calls 165 = .ok (.aload_n 0, 1) := by decide +kernel
set_option maxRecDepth 100000 in
theorem dX9_calls_166 : decode cX9_calls 166 = .ok (.getfield 89, 3) := by decide +kernel
set_option maxRecDepth 100000 in
theorem dX9_calls_169 : decode cX9_calls 169 = .ok (.aload_n 0, 1) := by decide +kernel
set_option maxRecDepth 100000 in
theorem dX9_calls_170 : decode cX9_calls 170 = .ok (.getfield 86, 3) := by decide +kernel
set_option maxRecDepth 100000 in
theorem dX9_calls_173 : decode cX9_calls 173 = .ok (.iastore, 1) := by decide +kernel
set_option maxRecDepth 100000 in
theorem dX9_calls_174 : decode cX9_calls 174 = .ok (.aload_n 0, 1) := by decide +kernel
set_option maxRecDepth 100000 in
theorem dX9_calls_175 : decode cX9_calls 175 = .ok (.getfield 52, 3) := by decide +kernel
set_option maxRecDepth 100000 in
theorem dX9_calls_178 : decode cX9_calls 178 = .ok (.aload_n 0, 1) := by decide +kernel
set_option maxRecDepth 100000 in
theorem dX9_calls_179 : decode cX9_calls 179 = .ok (.getfield 89, 3) := by decide +kernel
set_option maxRecDepth 100000 in
theorem dX9_calls_182 : decode cX9_calls 182 = .ok (.iload_n 3, 1) := by decide +kernel
set_option maxRecDepth 100000 in
theorem dX9_calls_183 : decode cX9_calls 183 = .ok (.iastore, 1) := by decide +kernel
set_option maxRecDepth 100000 in
theorem dX9_calls_184 : decode cX9_calls 184 = .ok (.aload_n 0, 1) := by decide +kernel
set_option maxRecDepth 100000 in
theorem dX9_calls_185 : decode cX9_calls 185 = .ok (.getfield 57, 3) := by decide +kernel
set_option maxRecDepth 100000 in
theorem dX9_calls_188 : decode cX9_calls 188 = .ok (.aload_n 0, 1) := by decide +kernel
set_option maxRecDepth 100000 in
theorem dX9_calls_189 : decode cX9_calls 189 = .ok (.getfield 89, 3) := by decide +kernel
set_option maxRecDepth 100000 in
theorem dX9_calls_192 : decode cX9_calls 192 = .ok (.aload_n 1, 1) := by decide +kernel
set_option maxRecDepth 100000 in
theorem dX9_calls_193 : decode cX9_calls 193 = .ok (.aastore, 1) := by decide +kernel
set_option maxRecDepth 100000 in
theorem dX9_calls_194 : decode cX9_calls 194 = .ok (.aload_n 0, 1) := by decide +kernel
set_option maxRecDepth 100000 in
theorem dX9_calls_195 : decode cX9_calls 195 = .ok (.dup, 1) := by decide +kernel
set_option maxRecDepth 100000 in
theorem dX9_calls_196 : decode cX9_calls 196 = .ok (.getfield 95, 3) := by decide +kernel
set_option maxRecDepth 100000 in
theorem dX9_calls_199 : decode cX9_calls 199 = .ok (.aload_n 1, 1) := by decide +kernel
set_option maxRecDepth 100000 in
theorem dX9_calls_200 : decode cX9_calls 200 = .ok (.getfield 92, 3) := by decide +kernel
set_option maxRecDepth 100000 in
theorem dX9_calls_203 : decode cX9_calls 203 = .ok (.iadd, 1) := by decide +kernel
set_option maxRecDepth 100000 in
theorem dX9_calls_204 : decode cX9_calls 204 = .ok (.putfield 95, 3) := by decide +kernel
set_option maxRecDepth 100000 in
theorem dX9_calls_207 : decode cX9_calls 207 = .ok (.aload_n 0, 1) := by decide +kernel
set_option maxRecDepth 100000 in
theorem dX9_calls_208 : decode cX9_calls 208 = .ok (.aload_n 1, 1) := by decide +kernel
set_option maxRecDepth 100000 in
theorem dX9_calls_209 : decode cX9_calls 209 = .ok (.getfield 126, 3) := by decide +kernel
set_option maxRecDepth 100000 in
theorem dX9_calls_212 : decode cX9_calls 212 = .ok (.putfield 129, 3) := by decide +kernel
set_option maxRecDepth 100000 in
theorem dX9_calls_215 : decode cX9_calls 215 = .ok (.aload_n 0, 1) := by decide +kernel
set_option maxRecDepth 100000 in
theorem dX9_calls_216 : decode cX9_calls 216 = .ok (.getfield 89, 3) := by decide +kernel
set_option maxRecDepth 100000 in
theorem dX9_calls_219 : decode cX9_calls 219 = .ok (.aload_n 0, 1) := by decide +kernel
set_option maxRecDepth 100000 in
theorem dX9_calls_220 : decode cX9_calls 220 = .ok (.getfield 104, 3) := by decide +kernel
set_option maxRecDepth 100000 in
theorem dX9_calls_223 : decode cX9_calls 223 = .ok (.if_icmp .le 11, 3) := by decide +kernel
set_option maxRecDepth 100000 in
theorem dX9_calls_226 : decode cX9_calls 226 = .ok (.aload_n 0, 1) := by decide +kernel
set_option maxRecDepth 100000 in
theorem dX9_calls_227 : decode cX9_calls 227 = .ok (.aload_n 0, 1) := by decide +kernel
set_option maxRecDepth 100000 in
theorem dX9_calls_228 : decode cX9_calls 228 = .ok (.getfield 89, 3) := by decide +kernel
set_option maxRecDepth 100000 in
theorem dX9_calls_231 : decode cX9_calls 231 = .ok (.putfield 104, 3) := by decide +kernel
set_option maxRecDepth 100000 in
theorem dX9_calls_234 : decode cX9_calls 234 = .ok (.aload_n 0, 1) := by decide +kernel
set_option maxRecDepth 100000 in
theorem dX9_calls_235 : decode cX9_calls 235 = .ok (.getfield 95, 3) := by decide +kernel
set_option maxRecDepth 100000 in
theorem dX9_calls_238 : decode cX9_calls 238 = .ok (.aload_n 0, 1) := by decide +kernel
set_option maxRecDepth 100000 in
theorem dX9_calls_239 : decode cX9_calls 239 = .ok (.getfield 107, 3) := by decide +kernel
set_option maxRecDepth 100000 in
theorem dX9_calls_242 : decode cX9_calls 242 = .ok (.if_icmp .le 11, 3) := by decide +kernel
set_option maxRecDepth 100000 in
theorem dX9_calls_245 : decode cX9_calls 245 = .ok (.aload_n 0, 1) := by decide +kernel
set_option maxRecDepth 100000 in
theorem dX9_calls_246 : decode cX9_calls 246 = .ok (.aload_n 0, 1) := by decide +kernel
set_option maxRecDepth 100000 in
theorem dX9_calls_247 : decode cX9_calls 247 = .ok (.getfield 95, 3) := by decide +kernel
set_option maxRecDepth 100000 in
theorem dX9_calls_250 : decode cX9_calls 250 = .ok (.putfield 107, 3) := by decide +kernel
set_option maxRecDepth 100000 in
theorem dX9_calls_253 : decode cX9_calls 253 = .ok (.return_, 1) := by decide +kernel
def lX9_calls_61 (G : xG) (fr lo : Nat) (x0 : Nat) (x1 : Nat) (x2 : Int32) (x3 : Int32) (x4 : Int32) (x5 : Int32) (h : xH) (Q : Outcome → xH → Prop) : Prop := xP G YX9_calls fr lo 61 [(0, rv x0), (1, rv x1), (2, .int x2), (3, .int x3), (4, .int x4), (5, .int x5)] [] h Q
set_option maxRecDepth 100000 in
def bX9_calls_253 (G : xG) (fr lo : Nat) (h : xH) (Q : Outcome → xH → Prop) : Prop := Q (.returned none) h
set_option maxRecDepth 100000 in
theorem uX9_calls_253 {G : xG} {fr lo : Nat} {h : xH} {Q : Outcome → xH → Prop} (hq : bX9_calls_253 G fr lo h Q) : xP G YX9_calls fr lo 253 [] [] h Q := by
  unfold bX9_calls_253 at hq
  exact x_vret rfl dX9_calls_253 hq
set_option maxRecDepth 100000 in
def bX9_calls_234 (G : xG) (fr lo : Nat) (x0 : Nat) (h : xH) (Q : Outcome → xH → Prop) : Prop := tg h x0 = 10 ∧ (((fI h x0 2320) ≤ (fI h x0 2331) → bX9_calls_253 G fr lo h Q) ∧ (¬ (fI h x0 2320) ≤ (fI h x0 2331) → (∀ h3 : xH, h3 = sI h x0 2331 (fI h x0 2320) → bX9_calls_253 G fr lo h3 Q)))
set_option maxRecDepth 100000 in
theorem uX9_calls_234 {G : xG} {fr lo : Nat} {x0 : Nat} {h : xH} {Q : Outcome → xH → Prop} (hq : bX9_calls_234 G fr lo x0 h Q) : xP G YX9_calls fr lo 234 [(0, rv x0)] [] h Q := by
  unfold bX9_calls_234 at hq
  refine x_aload_n 0 dX9_calls_234 rfl ?_
  obtain ⟨g1, hq⟩ := hq
  refine x_get (v := .int (fI h x0 2320)) fdX9_95 dX9_calls_235 g1 rfl ?_
  refine x_aload_n 0 dX9_calls_238 rfl ?_
  refine x_get (v := .int (fI h x0 2331)) fdX9_107 dX9_calls_239 g1 rfl ?_
  refine x_icmp_le (tgt := 253) dX9_calls_242 (by decide) (fun c2 => ?_) (fun c2 => ?_)
  · replace hq := hq.1 c2
    refine xP.pick (lv' := []) [] rfl ?_
    exact uX9_calls_253 hq
  · replace hq := hq.2 c2
    refine x_aload_n 0 dX9_calls_245 rfl ?_
    refine x_aload_n 0 dX9_calls_246 rfl ?_
    refine x_get (v := .int (fI h x0 2320)) fdX9_95 dX9_calls_247 g1 rfl ?_
    obtain ⟨h3, e4⟩ : ∃ y, y = sI h x0 2331 (fI h x0 2320) := ⟨_, rfl⟩
    replace hq := hq h3 e4
    refine x_putI fdX9_107 xty_I1 dX9_calls_250 g1 (Or.inl (by rw [g1]; rfl)) xnI rfl e4 ?_
    refine xP.pick (lv' := []) [] rfl ?_
    exact uX9_calls_253 hq
set_option maxRecDepth 100000 in
def bX9_calls_61 (G : xG) (fr lo : Nat) (x0 : Nat) (x1 : Nat) (x2 : Int32) (x3 : Int32) (x4 : Int32) (x5 : Int32) (h : xH) (Q : Outcome → xH → Prop) : Prop := ((x4 ≤ x5 → tg h x0 = 10 ∧ (∀ h3 : xH, h3 = sI h x0 2310 ((fI h x0 2310) - x4) → (∀ h6 : xH, h6 = sI h3 x0 2319 ((fI h3 x0 2319) + 1) → tg h6 (fR h6 x0 2312) = 100 ∧ vp_in (fI h6 x0 2319) (ln h6 (fR h6 x0 2312)) ∧ (∀ h11 : xH, h11 = tI h6 (fR h6 x0 2312) (Int32.toNatClampNeg (fI h6 x0 2319)) (fI h6 x0 2320) → tg h11 (fR h11 x0 2313) = 100 ∧ vp_in (fI h11 x0 2319) (ln h11 (fR h11 x0 2313)) ∧ (∀ h16 : xH, h16 = tI h11 (fR h11 x0 2313) (Int32.toNatClampNeg (fI h11 x0 2319)) x2 → tg h16 (fR h16 x0 2314) = 100 ∧ vp_in (fI h16 x0 2319) (ln h16 (fR h16 x0 2314)) ∧ (∀ h21 : xH, h21 = tI h16 (fR h16 x0 2314) (Int32.toNatClampNeg (fI h16 x0 2319)) (fI h16 x0 2311) → tg h21 (fR h21 x0 2315) = 100 ∧ vp_in (fI h21 x0 2319) (ln h21 (fR h21 x0 2315)) ∧ (∀ h26 : xH, h26 = tI h21 (fR h21 x0 2315) (Int32.toNatClampNeg (fI h21 x0 2319)) (fI h21 x0 2310) → tg h26 (fR h26 x0 2316) = 100 ∧ vp_in (fI h26 x0 2319) (ln h26 (fR h26 x0 2316)) ∧ (∀ h31 : xH, h31 = tI h26 (fR h26 x0 2316) (Int32.toNatClampNeg (fI h26 x0 2319)) x3 → tg h31 (fR h31 x0 2317) = 107 ∧ tg h31 x1 = 17 ∧ vp_in (fI h31 x0 2319) (ln h31 (fR h31 x0 2317)) ∧ (∀ h37 : xH, h37 = tR h31 (fR h31 x0 2317) (Int32.toNatClampNeg (fI h31 x0 2319)) x1 → (∀ h41 : xH, h41 = sI h37 x0 2320 ((fI h37 x0 2320) + (fI h37 x1 4104)) → (∀ h45 : xH, h45 = sI h41 x0 2311 (fI h41 x1 4103) → (((fI h45 x0 2319) ≤ (fI h45 x0 2330) → bX9_calls_234 G fr lo x0 h45 Q) ∧ (¬ (fI h45 x0 2319) ≤ (fI h45 x0 2330) → (∀ h49 : xH, h49 = sI h45 x0 2330 (fI h45 x0 2319) → bX9_calls_234 G fr lo x0 h49 Q)))))))))))))) ∧ (¬ x4 ≤ x5 → tg h x1 = 17 ∧ tg h (fR h x1 4099) = 29 ∧ 1 ≤ fr ∧ 14 ≤ lo ∧ xRr G YJ2_get (fr - 1) (lo - 14) [rv (fR h x1 4099), .int x5] h (fun x56 h55 => xext h h55 → tg h55 x56 = 22 ∧ tg h55 x0 = 10 ∧ 1 ≤ fr ∧ 16 ≤ lo ∧ xRv G YX9_gives (fr - 1) (lo - 16) [rv x0, rv x56, .int (fI h55 x0 2320), .int (((fI h55 x0 2310) - x4) + x5)] h55 (fun h62 => xext h55 h62 → lX9_calls_61 G fr lo x0 x1 x2 x3 x4 (x5 + 1) h62 Q) (fun r h2 => Q (.threw r) h2)) (fun r h2 => Q (.threw r) h2)))
set_option maxRecDepth 100000 in
theorem uX9_calls_61 {G : xG} {fr lo : Nat} {x0 : Nat} {x1 : Nat} {x2 : Int32} {x3 : Int32} {x4 : Int32} {x5 : Int32} {h : xH} {Q : Outcome → xH → Prop} (hq : bX9_calls_61 G fr lo x0 x1 x2 x3 x4 x5 h Q) : xP G YX9_calls fr lo 61 [(0, rv x0), (1, rv x1), (2, .int x2), (3, .int x3), (4, .int x4), (5, .int x5)] [] h Q := by
  unfold bX9_calls_61 at hq
  refine x_iload 5 dX9_calls_61 rfl ?_
  refine x_iload 4 dX9_calls_63 rfl ?_
  refine x_icmp_ge (tgt := 104) dX9_calls_65 (by decide) (fun c1 => ?_) (fun c1 => ?_)
  · replace hq := hq.1 c1
    refine x_aload_n 0 dX9_calls_104 rfl ?_
    refine x_dup dX9_calls_105 (rv_cat _) ?_
    obtain ⟨g2, hq⟩ := hq
    refine x_get (v := .int (fI h x0 2310)) fdX9_86 dX9_calls_106 g2 rfl ?_
    refine x_iload 4 dX9_calls_109 rfl ?_
    refine x_isub dX9_calls_111 ?_
    obtain ⟨h3, e4⟩ : ∃ y, y = sI h x0 2310 ((fI h x0 2310) - x4) := ⟨_, rfl⟩
    replace hq := hq h3 e4
    refine x_putI fdX9_86 xty_I1 dX9_calls_112 g2 (Or.inl (by rw [g2]; rfl)) xnI rfl e4 ?_
    refine x_aload_n 0 dX9_calls_115 rfl ?_
    refine x_dup dX9_calls_116 (rv_cat _) ?_
    have t5 : tg h3 x0 = 10 := by rw [e4]; exact g2
    refine x_get (v := .int (fI h3 x0 2319)) fdX9_89 dX9_calls_117 t5 rfl ?_
    refine x_iconst (v := 1) dX9_calls_120 (by decide) ?_
    refine x_iadd dX9_calls_121 ?_
    obtain ⟨h6, e7⟩ : ∃ y, y = sI h3 x0 2319 ((fI h3 x0 2319) + 1) := ⟨_, rfl⟩
    replace hq := hq h6 e7
    refine x_putI fdX9_89 xty_I1 dX9_calls_122 t5 (Or.inl (by rw [t5]; rfl)) xnI rfl e7 ?_
    refine x_aload_n 0 dX9_calls_125 rfl ?_
    have t8 : tg h6 x0 = 10 := by rw [e7]; exact t5
    refine x_get (v := rv (fR h6 x0 2312)) fdX9_39 dX9_calls_126 t8 rfl ?_
    refine x_aload_n 0 dX9_calls_129 rfl ?_
    refine x_get (v := .int (fI h6 x0 2319)) fdX9_89 dX9_calls_130 t8 rfl ?_
    refine x_aload_n 0 dX9_calls_133 rfl ?_
    refine x_get (v := .int (fI h6 x0 2320)) fdX9_95 dX9_calls_134 t8 rfl ?_
    obtain ⟨g9, hq⟩ := hq
    obtain ⟨i10, hq⟩ := hq
    obtain ⟨h11, e12⟩ : ∃ y, y = tI h6 (fR h6 x0 2312) (Int32.toNatClampNeg (fI h6 x0 2319)) (fI h6 x0 2320) := ⟨_, rfl⟩
    replace hq := hq h11 e12
    refine x_iast' g9 i10 dX9_calls_137 e12 ?_
    refine x_aload_n 0 dX9_calls_138 rfl ?_
    have t13 : tg h11 x0 = 10 := by rw [e12]; exact t8
    refine x_get (v := rv (fR h11 x0 2313)) fdX9_43 dX9_calls_139 t13 rfl ?_
    refine x_aload_n 0 dX9_calls_142 rfl ?_
    refine x_get (v := .int (fI h11 x0 2319)) fdX9_89 dX9_calls_143 t13 rfl ?_
    refine x_iload_n 2 dX9_calls_146 rfl ?_
    obtain ⟨g14, hq⟩ := hq
    obtain ⟨i15, hq⟩ := hq
    obtain ⟨h16, e17⟩ : ∃ y, y = tI h11 (fR h11 x0 2313) (Int32.toNatClampNeg (fI h11 x0 2319)) x2 := ⟨_, rfl⟩
    replace hq := hq h16 e17
    refine x_iast' g14 i15 dX9_calls_147 e17 ?_
    refine x_aload_n 0 dX9_calls_148 rfl ?_
    have t18 : tg h16 x0 = 10 := by rw [e17]; exact t13
    refine x_get (v := rv (fR h16 x0 2314)) fdX9_46 dX9_calls_149 t18 rfl ?_
    refine x_aload_n 0 dX9_calls_152 rfl ?_
    refine x_get (v := .int (fI h16 x0 2319)) fdX9_89 dX9_calls_153 t18 rfl ?_
    refine x_aload_n 0 dX9_calls_156 rfl ?_
    refine x_get (v := .int (fI h16 x0 2311)) fdX9_129 dX9_calls_157 t18 rfl ?_
    obtain ⟨g19, hq⟩ := hq
    obtain ⟨i20, hq⟩ := hq
    obtain ⟨h21, e22⟩ : ∃ y, y = tI h16 (fR h16 x0 2314) (Int32.toNatClampNeg (fI h16 x0 2319)) (fI h16 x0 2311) := ⟨_, rfl⟩
    replace hq := hq h21 e22
    refine x_iast' g19 i20 dX9_calls_160 e22 ?_
    refine x_aload_n 0 dX9_calls_161 rfl ?_
    have t23 : tg h21 x0 = 10 := by rw [e22]; exact t18
    refine x_get (v := rv (fR h21 x0 2315)) fdX9_49 dX9_calls_162 t23 rfl ?_
    refine x_aload_n 0 dX9_calls_165 rfl ?_
    refine x_get (v := .int (fI h21 x0 2319)) fdX9_89 dX9_calls_166 t23 rfl ?_
    refine x_aload_n 0 dX9_calls_169 rfl ?_
    refine x_get (v := .int (fI h21 x0 2310)) fdX9_86 dX9_calls_170 t23 rfl ?_
    obtain ⟨g24, hq⟩ := hq
    obtain ⟨i25, hq⟩ := hq
    obtain ⟨h26, e27⟩ : ∃ y, y = tI h21 (fR h21 x0 2315) (Int32.toNatClampNeg (fI h21 x0 2319)) (fI h21 x0 2310) := ⟨_, rfl⟩
    replace hq := hq h26 e27
    refine x_iast' g24 i25 dX9_calls_173 e27 ?_
    refine x_aload_n 0 dX9_calls_174 rfl ?_
    have t28 : tg h26 x0 = 10 := by rw [e27]; exact t23
    refine x_get (v := rv (fR h26 x0 2316)) fdX9_52 dX9_calls_175 t28 rfl ?_
    refine x_aload_n 0 dX9_calls_178 rfl ?_
    refine x_get (v := .int (fI h26 x0 2319)) fdX9_89 dX9_calls_179 t28 rfl ?_
    refine x_iload_n 3 dX9_calls_182 rfl ?_
    obtain ⟨g29, hq⟩ := hq
    obtain ⟨i30, hq⟩ := hq
    obtain ⟨h31, e32⟩ : ∃ y, y = tI h26 (fR h26 x0 2316) (Int32.toNatClampNeg (fI h26 x0 2319)) x3 := ⟨_, rfl⟩
    replace hq := hq h31 e32
    refine x_iast' g29 i30 dX9_calls_183 e32 ?_
    refine x_aload_n 0 dX9_calls_184 rfl ?_
    have t33 : tg h31 x0 = 10 := by rw [e32]; exact t28
    refine x_get (v := rv (fR h31 x0 2317)) fdX9_57 dX9_calls_185 t33 rfl ?_
    refine x_aload_n 0 dX9_calls_188 rfl ?_
    refine x_get (v := .int (fI h31 x0 2319)) fdX9_89 dX9_calls_189 t33 rfl ?_
    refine x_aload_n 1 dX9_calls_192 rfl ?_
    obtain ⟨g34, hq⟩ := hq
    obtain ⟨g35, hq⟩ := hq
    obtain ⟨i36, hq⟩ := hq
    obtain ⟨h37, e38⟩ : ∃ y, y = tR h31 (fR h31 x0 2317) (Int32.toNatClampNeg (fI h31 x0 2319)) x1 := ⟨_, rfl⟩
    replace hq := hq h37 e38
    refine x_aast 7 16 as_7_16 g34 (Or.inl (by rw [g34]; rfl)) g35 i36 dX9_calls_193 e38 ?_
    refine x_aload_n 0 dX9_calls_194 rfl ?_
    refine x_dup dX9_calls_195 (rv_cat _) ?_
    have t39 : tg h37 x0 = 10 := by rw [e38]; exact t33
    refine x_get (v := .int (fI h37 x0 2320)) fdX9_95 dX9_calls_196 t39 rfl ?_
    refine x_aload_n 1 dX9_calls_199 rfl ?_
    have t40 : tg h37 x1 = 17 := by rw [e38]; exact g35
    refine x_getN (v := .int (fI h37 x1 4104)) gfX9_92 dX9_calls_200 t40 rfl ?_
    refine x_iadd dX9_calls_203 ?_
    obtain ⟨h41, e42⟩ : ∃ y, y = sI h37 x0 2320 ((fI h37 x0 2320) + (fI h37 x1 4104)) := ⟨_, rfl⟩
    replace hq := hq h41 e42
    refine x_putI fdX9_95 xty_I1 dX9_calls_204 t39 (Or.inl (by rw [t39]; rfl)) xnI rfl e42 ?_
    refine x_aload_n 0 dX9_calls_207 rfl ?_
    refine x_aload_n 1 dX9_calls_208 rfl ?_
    have t43 : tg h41 x1 = 17 := by rw [e42]; exact t40
    refine x_getN (v := .int (fI h41 x1 4103)) gfX9_126 dX9_calls_209 t43 rfl ?_
    have t44 : tg h41 x0 = 10 := by rw [e42]; exact t39
    obtain ⟨h45, e46⟩ : ∃ y, y = sI h41 x0 2311 (fI h41 x1 4103) := ⟨_, rfl⟩
    replace hq := hq h45 e46
    refine x_putI fdX9_129 xty_I1 dX9_calls_212 t44 (Or.inl (by rw [t44]; rfl)) xnI rfl e46 ?_
    refine x_aload_n 0 dX9_calls_215 rfl ?_
    have t47 : tg h45 x0 = 10 := by rw [e46]; exact t44
    refine x_get (v := .int (fI h45 x0 2319)) fdX9_89 dX9_calls_216 t47 rfl ?_
    refine x_aload_n 0 dX9_calls_219 rfl ?_
    refine x_get (v := .int (fI h45 x0 2330)) fdX9_104 dX9_calls_220 t47 rfl ?_
    refine x_icmp_le (tgt := 234) dX9_calls_223 (by decide) (fun c48 => ?_) (fun c48 => ?_)
    · replace hq := hq.1 c48
      refine xP.pick (lv' := [(0, rv x0)]) [0] rfl ?_
      exact uX9_calls_234 hq
    · replace hq := hq.2 c48
      refine x_aload_n 0 dX9_calls_226 rfl ?_
      refine x_aload_n 0 dX9_calls_227 rfl ?_
      refine x_get (v := .int (fI h45 x0 2319)) fdX9_89 dX9_calls_228 t47 rfl ?_
      obtain ⟨h49, e50⟩ : ∃ y, y = sI h45 x0 2330 (fI h45 x0 2319) := ⟨_, rfl⟩
      replace hq := hq h49 e50
      refine x_putI fdX9_104 xty_I1 dX9_calls_231 t47 (Or.inl (by rw [t47]; rfl)) xnI rfl e50 ?_
      refine xP.pick (lv' := [(0, rv x0)]) [0] rfl ?_
      exact uX9_calls_234 hq
  · replace hq := hq.2 c1
    refine x_aload_n 0 dX9_calls_68 rfl ?_
    refine x_aload_n 1 dX9_calls_69 rfl ?_
    obtain ⟨g51, hq⟩ := hq
    refine x_getN (v := rv (fR h x1 4099)) gfX9_368 dX9_calls_70 g51 rfl ?_
    refine x_iload 5 dX9_calls_73 rfl ?_
    obtain ⟨g52, hq⟩ := hq
    obtain ⟨g53, g54, hq⟩ := hq
    refine x_callV (Yc := YJ2_get) (as := [.int x5]) (st := [rv x0]) q2848 mvJ2_get g52 rfl dX9_calls_75 (xle (xal1 (rv_cat _) (xal1 rfl xal0)) (by decide)) (xfr g53) (xlo (xsw1 (rv_cat _) xsw0) (by decide) g54) (xKr hq (fun x56 h55 hq e57 => ?_) (fun _ _ q _ => q))
    replace hq := hq e57
    obtain ⟨g58, hq⟩ := hq
    refine x_cast (ci := 21) (by decide) rfl q3003 g58 dX9_calls_78 ?_
    refine x_aload_n 0 dX9_calls_81 rfl ?_
    obtain ⟨g59, hq⟩ := hq
    refine x_get (v := .int (fI h55 x0 2320)) fdX9_95 dX9_calls_82 g59 rfl ?_
    refine x_aload_n 0 dX9_calls_85 rfl ?_
    refine x_get (v := .int (fI h55 x0 2310)) fdX9_86 dX9_calls_86 g59 rfl ?_
    refine x_iload 4 dX9_calls_89 rfl ?_
    refine x_isub dX9_calls_91 ?_
    refine x_iload 5 dX9_calls_92 rfl ?_
    refine x_iadd dX9_calls_94 ?_
    obtain ⟨g60, g61, hq⟩ := hq
    refine x_callV (Yc := YX9_gives) (as := [rv x56, .int (fI h55 x0 2320), .int (((fI h55 x0 2310) - x4) + x5)]) (st := []) q3004 mvX9_gives g59 rfl dX9_calls_95 (xle (xal1 (rv_cat _) (xal1 (rv_cat _) (xal1 rfl (xal1 rfl xal0)))) (by decide)) (xfr g60) (xlo xsw0 (by decide) g61) (xKv hq (fun h62 hq e64 => ?_) (fun _ _ q _ => q))
    replace hq := hq e64
    refine x_iinc (lv' := [(5, .int (x5 + 1)), (0, rv x0), (1, rv x1), (2, .int x2), (3, .int x3), (4, .int x4)]) 5 dX9_calls_98 rfl (by decide) rfl ?_
    refine x_goto (tgt := 61) dX9_calls_101 (by decide) ?_
    refine xP.pick (lv' := [(0, rv x0), (1, rv x1), (2, .int x2), (3, .int x3), (4, .int x4), (5, .int (x5 + 1))]) [1, 2, 3, 4, 5, 0] rfl ?_
    exact hq
set_option maxRecDepth 100000 in
def bX9_calls (G : xG) (fr lo : Nat) (x0 : Nat) (x1 : Nat) (x2 : Int32) (x3 : Int32) (h : xH) (Q : Outcome → xH → Prop) : Prop := tg h x0 = 10 ∧ ((¬ (fI h x0 2319) = 30 → tg h x1 = 17 ∧ ((((fI h x0 2320) + (fI h x1 4104)) ≤ 20000 → tg h (fR h x1 4099) = 29 ∧ 1 ≤ fr ∧ 12 ≤ lo ∧ xRi G YJ2_size (fr - 1) (lo - 12) [rv (fR h x1 4099)] h (fun x9 h8 => xext h h8 → 1 ≤ fr ∧ 15 ≤ lo ∧ xRv G YX9_opens (fr - 1) (lo - 15) [rv x0, rv x1, .int (fI h8 x0 2320)] h8 (fun h14 => xext h8 h14 → lX9_calls_61 G fr lo x0 x1 x2 x3 x9 0 h14 Q) (fun r h2 => Q (.threw r) h2)) (fun r h2 => Q (.threw r) h2)) ∧ (¬ ((fI h x0 2320) + (fI h x1 4104)) ≤ 20000 → 1 ≤ fr ∧ 14 ≤ lo ∧ xRv G YX9_fail (fr - 1) (lo - 14) [rv x0, .int 14, .int x3] h (fun h19 => xext h h19 → Q (.returned none) h19) (fun r h2 => Q (.threw r) h2)))) ∧ ((fI h x0 2319) = 30 → 1 ≤ fr ∧ 14 ≤ lo ∧ xRv G YX9_fail (fr - 1) (lo - 14) [rv x0, .int 13, .int x3] h (fun h24 => xext h h24 → Q (.returned none) h24) (fun r h2 => Q (.threw r) h2)))
set_option maxRecDepth 100000 in
theorem uX9_calls {G : xG} {fr lo : Nat} {x0 : Nat} {x1 : Nat} {x2 : Int32} {x3 : Int32} {h : xH} {Q : Outcome → xH → Prop} (hq : bX9_calls G fr lo x0 x1 x2 x3 h Q) : xP G YX9_calls fr lo 0 [(0, rv x0), (1, rv x1), (2, .int x2), (3, .int x3)] [] h Q := by
  unfold bX9_calls at hq
  refine x_aload_n 0 dX9_calls_0 rfl ?_
  obtain ⟨g1, hq⟩ := hq
  refine x_get (v := .int (fI h x0 2319)) fdX9_89 dX9_calls_1 g1 rfl ?_
  refine x_bipush (v := 30) dX9_calls_4 (by decide) ?_
  refine x_icmp_ne (tgt := 17) dX9_calls_6 (by decide) (fun c2 => ?_) (fun c2 => ?_)
  · replace hq := hq.1 c2
    refine x_aload_n 0 dX9_calls_17 rfl ?_
    refine x_get (v := .int (fI h x0 2320)) fdX9_95 dX9_calls_18 g1 rfl ?_
    refine x_aload_n 1 dX9_calls_21 rfl ?_
    obtain ⟨g3, hq⟩ := hq
    refine x_getN (v := .int (fI h x1 4104)) gfX9_92 dX9_calls_22 g3 rfl ?_
    refine x_iadd dX9_calls_25 ?_
    refine x_sipush (v := 20000) dX9_calls_26 (by decide) ?_
    refine x_icmp_le (tgt := 40) dX9_calls_29 (by decide) (fun c4 => ?_) (fun c4 => ?_)
    · replace hq := hq.1 c4
      refine x_aload_n 1 dX9_calls_40 rfl ?_
      refine x_getN (v := rv (fR h x1 4099)) gfX9_368 dX9_calls_41 g3 rfl ?_
      obtain ⟨g5, hq⟩ := hq
      obtain ⟨g6, g7, hq⟩ := hq
      refine x_callV (Yc := YJ2_size) (as := []) (st := []) q2847 mvJ2_size g5 rfl dX9_calls_44 (xle (xal1 (rv_cat _) xal0) (by decide)) (xfr g6) (xlo xsw0 (by decide) g7) (xKi hq (fun x9 h8 hq e10 => ?_) (fun _ _ q _ => q))
      replace hq := hq e10
      refine x_istore (lv' := [(4, .int x9), (0, rv x0), (1, rv x1), (2, .int x2), (3, .int x3)]) dX9_calls_47 (by decide) rfl ?_
      refine x_aload_n 1 dX9_calls_49 rfl ?_
      refine x_aload_n 2 dX9_calls_50 rfl ?_
      refine x_aload_n 1 dX9_calls_51 rfl ?_
      have t11 : tg h8 x0 = 10 := e10.tg g1 (by decide)
      refine x_get (v := .int (fI h8 x0 2320)) fdX9_95 dX9_calls_52 t11 rfl ?_
      obtain ⟨g12, g13, hq⟩ := hq
      refine x_callV (Yc := YX9_opens) (as := [rv x1, .int (fI h8 x0 2320)]) (st := []) q2839 mvX9_opens t11 rfl dX9_calls_55 (xle (xal1 (rv_cat _) (xal1 (rv_cat _) (xal1 rfl xal0))) (by decide)) (xfr g12) (xlo xsw0 (by decide) g13) (xKv hq (fun h14 hq e16 => ?_) (fun _ _ q _ => q))
      replace hq := hq e16
      refine x_iconst (v := 0) dX9_calls_58 (by decide) ?_
      refine x_istore (lv' := [(5, .int 0), (4, .int x9), (0, rv x0), (1, rv x1), (2, .int x2), (3, .int x3)]) dX9_calls_59 (by decide) rfl ?_
      refine xP.pick (lv' := [(0, rv x0), (1, rv x1), (2, .int x2), (3, .int x3), (4, .int x9), (5, .int 0)]) [2, 3, 4, 5, 1, 0] rfl ?_
      exact hq
    · replace hq := hq.2 c4
      refine x_aload_n 0 dX9_calls_32 rfl ?_
      refine x_bipush (v := 14) dX9_calls_33 (by decide) ?_
      refine x_iload_n 3 dX9_calls_35 rfl ?_
      obtain ⟨g17, g18, hq⟩ := hq
      refine x_callV (Yc := YX9_fail) (as := [.int 14, .int x3]) (st := []) q2835 mvX9_fail g1 rfl dX9_calls_36 (xle (xal1 (rv_cat _) (xal1 rfl (xal1 rfl xal0))) (by decide)) (xfr g17) (xlo xsw0 (by decide) g18) (xKv hq (fun h19 hq e21 => ?_) (fun _ _ q _ => q))
      replace hq := hq e21
      exact x_vret rfl dX9_calls_39 hq
  · replace hq := hq.2 c2
    refine x_aload_n 0 dX9_calls_9 rfl ?_
    refine x_bipush (v := 13) dX9_calls_10 (by decide) ?_
    refine x_iload_n 3 dX9_calls_12 rfl ?_
    obtain ⟨g22, g23, hq⟩ := hq
    refine x_callV (Yc := YX9_fail) (as := [.int 13, .int x3]) (st := []) q2835 mvX9_fail g1 rfl dX9_calls_13 (xle (xal1 (rv_cat _) (xal1 rfl (xal1 rfl xal0))) (by decide)) (xfr g22) (xlo xsw0 (by decide) g23) (xKv hq (fun h24 hq e26 => ?_) (fun _ _ q _ => q))
    replace hq := hq e26
    exact x_vret rfl dX9_calls_16 hq
theorem rX9_calls {G : xG} {fr lo : Nat} {x0 : Nat} {x1 : Nat} {x2 : Int32} {x3 : Int32} {h : xH} {Q : Outcome → xH → Prop} (hq : bX9_calls G fr lo x0 x1 x2 x3 h Q) : xR G YX9_calls fr lo [rv x0, rv x1, .int x2, .int x3] h Q := by
  show xP _ _ _ _ _ (lv_args 0 _) _ _ _
  rw [show lv_args 0 [rv x0, rv x1, .int x2, .int x3] = [(0, rv x0), (1, rv x1), (2, .int x2), (3, .int x3)] from (xla1 (rv_cat _) (xla1 (rv_cat _) (xla1 rfl (xla1 rfl xla0))))]
  exact uX9_calls hq
set_option maxRecDepth 100000 in
theorem dX9_gives_0 : decode cX9_gives 0 = .ok (.iload_n 2, 1) := by decide +kernel
set_option maxRecDepth 100000 in
theorem dX9_gives_1 : decode cX9_gives 1 = .ok (.aload_n 1, 1) := by decide +kernel
set_option maxRecDepth 100000 in
theorem dX9_gives_2 : decode cX9_gives 2 = .ok (.getfield 377, 3) := by decide +kernel
set_option maxRecDepth 100000 in
theorem dX9_gives_5 : decode cX9_gives 5 = .ok (.iadd, 1) := by decide +kernel
set_option maxRecDepth 100000 in
theorem dX9_gives_6 : decode cX9_gives 6 = .ok (.istore 4, 2) := by decide +kernel
set_option maxRecDepth 100000 in
theorem dX9_gives_8 : decode cX9_gives 8 = .ok (.aload_n 1, 1) := by decide +kernel
set_option maxRecDepth 100000 in
theorem dX9_gives_9 : decode cX9_gives 9 = .ok (.getfield 378, 3) := by decide +kernel
set_option maxRecDepth 100000 in
theorem dX9_gives_12 : decode cX9_gives 12 = .ok (.ifCond .ne 37, 3) := by decide +kernel
set_option maxRecDepth 100000 in
theorem dX9_gives_15 : decode cX9_gives 15 = .ok (.aload_n 1, 1) := by decide +kernel
set_option maxRecDepth 100000 in
theorem dX9_gives_16 : decode cX9_gives 16 = .ok (.getfield 381, 3) := by decide +kernel
set_option maxRecDepth 100000 in
theorem dX9_gives_19 : decode cX9_gives 19 = .ok (.invokevirtual 382, 3) := by decide +kernel
set_option maxRecDepth 100000 in
theorem dX9_gives_22 : decode cX9_gives 22 = .ok (.ifCond .eq 27, 3) := by decide +kernel
set_option maxRecDepth 100000 in
theorem dX9_gives_25 : decode cX9_gives 25 = .ok (.aload_n 0, 1) := by decide +kernel
set_option maxRecDepth 100000 in
theorem dX9_gives_26 : decode cX9_gives 26 = .ok (.getfield 12, 3) := by decide +kernel
set_option maxRecDepth 100000 in
theorem dX9_gives_29 : decode cX9_gives 29 = .ok (.aload_n 0, 1) := by decide +kernel
set_option maxRecDepth 100000 in
theorem dX9_gives_30 : decode cX9_gives 30 = .ok (.getfield 28, 3) := by decide +kernel
set_option maxRecDepth 100000 in
theorem dX9_gives_33 : decode cX9_gives 33 = .ok (.iload_n 3, 1) := by decide +kernel
set_option maxRecDepth 100000 in
theorem dX9_gives_34 : decode cX9_gives 34 = .ok (.laload, 1) := by decide +kernel
set_option maxRecDepth 100000 in
theorem dX9_gives_35 : decode cX9_gives 35 = .ok (.l2i, 1) := by decide +kernel
set_option maxRecDepth 100000 in
theorem dX9_gives_36 : decode cX9_gives 36 = .ok (.iload 4, 2) := by decide +kernel
set_option maxRecDepth 100000 in
theorem dX9_gives_38 : decode cX9_gives 38 = .ok (.aload_n 1, 1) := by decide +kernel
set_option maxRecDepth 100000 in
theorem dX9_gives_39 : decode cX9_gives 39 = .ok (.getfield 381, 3) := by decide +kernel
set_option maxRecDepth 100000 in
theorem dX9_gives_42 : decode cX9_gives 42 = .ok (.getfield 388, 3) := by decide +kernel
set_option maxRecDepth 100000 in
theorem dX9_gives_45 : decode cX9_gives 45 = .ok (.invokevirtual 279, 3) := by decide +kernel
set_option maxRecDepth 100000 in
theorem dX9_gives_48 : decode cX9_gives 48 = .ok (.return_, 1) := by decide +kernel
set_option maxRecDepth 100000 in
theorem dX9_gives_49 : decode cX9_gives 49 = .ok (.aload_n 0, 1) := by decide +kernel
set_option maxRecDepth 100000 in
theorem dX9_gives_50 : decode cX9_gives 50 = .ok (.getfield 12, 3) := by decide +kernel
set_option maxRecDepth 100000 in
theorem dX9_gives_53 : decode cX9_gives 53 = .ok (.getfield 218, 3) := by decide +kernel
set_option maxRecDepth 100000 in
theorem dX9_gives_56 : decode cX9_gives 56 = .ok (.iload 4, 2) := by decide +kernel
set_option maxRecDepth 100000 in
theorem dX9_gives_58 : decode cX9_gives 58 = .ok (.aload_n 0, 1) := by decide +kernel
set_option maxRecDepth 100000 in
theorem dX9_gives_59 : decode cX9_gives 59 = .ok (.getfield 28, 3) := by decide +kernel
set_option maxRecDepth 100000 in
theorem dX9_gives_62 : decode cX9_gives 62 = .ok (.iload_n 3, 1) := by decide +kernel
set_option maxRecDepth 100000 in
theorem dX9_gives_63 : decode cX9_gives 63 = .ok (.laload, 1) := by decide +kernel
set_option maxRecDepth 100000 in
theorem dX9_gives_64 : decode cX9_gives 64 = .ok (.lastore, 1) := by decide +kernel
set_option maxRecDepth 100000 in
theorem dX9_gives_65 : decode cX9_gives 65 = .ok (.aload_n 0, 1) := by decide +kernel
set_option maxRecDepth 100000 in
theorem dX9_gives_66 : decode cX9_gives 66 = .ok (.getfield 12, 3) := by decide +kernel
set_option maxRecDepth 100000 in
theorem dX9_gives_69 : decode cX9_gives 69 = .ok (.getfield 277, 3) := by decide +kernel
set_option maxRecDepth 100000 in
theorem dX9_gives_72 : decode cX9_gives 72 = .ok (.iload 4, 2) := by decide +kernel
set_option maxRecDepth 100000 in
theorem dX9_gives_74 : decode cX9_gives 74 = .ok (.aload_n 0, 1) := by decide +kernel
set_option maxRecDepth 100000 in
theorem dX9_gives_75 : decode cX9_gives 75 = .ok (.getfield 32, 3) := by decide +kernel
set_option maxRecDepth 100000 in
theorem dX9_gives_78 : decode cX9_gives 78 = .ok (.iload_n 3, 1) := by decide +kernel
set_option maxRecDepth 100000 in
theorem dX9_gives_79 : decode cX9_gives 79 = .ok (.laload, 1) := by decide +kernel
set_option maxRecDepth 100000 in
theorem dX9_gives_80 : decode cX9_gives 80 = .ok (.lastore, 1) := by decide +kernel
set_option maxRecDepth 100000 in
theorem dX9_gives_81 : decode cX9_gives 81 = .ok (.aload_n 0, 1) := by decide +kernel
set_option maxRecDepth 100000 in
theorem dX9_gives_82 : decode cX9_gives 82 = .ok (.getfield 12, 3) := by decide +kernel
set_option maxRecDepth 100000 in
theorem dX9_gives_85 : decode cX9_gives 85 = .ok (.getfield 278, 3) := by decide +kernel
set_option maxRecDepth 100000 in
theorem dX9_gives_88 : decode cX9_gives 88 = .ok (.iload 4, 2) := by decide +kernel
set_option maxRecDepth 100000 in
theorem dX9_gives_90 : decode cX9_gives 90 = .ok (.aload_n 0, 1) := by decide +kernel
set_option maxRecDepth 100000 in
theorem dX9_gives_91 : decode cX9_gives 91 = .ok (.getfield 35, 3) := by decide +kernel
set_option maxRecDepth 100000 in
theorem dX9_gives_94 : decode cX9_gives 94 = .ok (.iload_n 3, 1) := by decide +kernel
set_option maxRecDepth 100000 in
theorem dX9_gives_95 : decode cX9_gives 95 = .ok (.daload, 1) := by decide +kernel
set_option maxRecDepth 100000 in
theorem dX9_gives_96 : decode cX9_gives 96 = .ok (.dastore, 1) := by decide +kernel
set_option maxRecDepth 100000 in
theorem dX9_gives_97 : decode cX9_gives 97 = .ok (.aload_n 0, 1) := by decide +kernel
set_option maxRecDepth 100000 in
theorem dX9_gives_98 : decode cX9_gives 98 = .ok (.getfield 12, 3) := by decide +kernel
set_option maxRecDepth 100000 in
theorem dX9_gives_101 : decode cX9_gives 101 = .ok (.getfield 247, 3) := by decide +kernel
set_option maxRecDepth 100000 in
theorem dX9_gives_104 : decode cX9_gives 104 = .ok (.iload 4, 2) := by decide +kernel
set_option maxRecDepth 100000 in
theorem dX9_gives_106 : decode cX9_gives 106 = .ok (.iconst 1, 1) := by decide +kernel
set_option maxRecDepth 100000 in
theorem dX9_gives_107 : decode cX9_gives 107 = .ok (.bastore, 1) := by decide +kernel
set_option maxRecDepth 100000 in
theorem dX9_gives_108 : decode cX9_gives 108 = .ok (.return_, 1) := by decide +kernel
set_option maxRecDepth 100000 in
def bX9_gives_49 (G : xG) (fr lo : Nat) (x0 : Nat) (x3 : Int32) (x4 : Int32) (h : xH) (Q : Outcome → xH → Prop) : Prop := tg h x0 = 10 ∧ tg h (fR h x0 2305) = 11 ∧ tg h (fR h x0 2307) = 101 ∧ vp_in x3 (ln h (fR h x0 2307)) ∧ tg h (fR h (fR h x0 2305) 2560) = 101 ∧ vp_in x4 (ln h (fR h (fR h x0 2305) 2560)) ∧ (∀ h7 : xH, h7 = tJ h (fR h (fR h x0 2305) 2560) (Int32.toNatClampNeg x4) (aJ h (fR h x0 2307) (Int32.toNatClampNeg x3)) → tg h7 (fR h7 x0 2305) = 11 ∧ tg h7 (fR h7 x0 2308) = 101 ∧ vp_in x3 (ln h7 (fR h7 x0 2308)) ∧ tg h7 (fR h7 (fR h7 x0 2305) 2561) = 101 ∧ vp_in x4 (ln h7 (fR h7 (fR h7 x0 2305) 2561)) ∧ (∀ h15 : xH, h15 = tJ h7 (fR h7 (fR h7 x0 2305) 2561) (Int32.toNatClampNeg x4) (aJ h7 (fR h7 x0 2308) (Int32.toNatClampNeg x3)) → tg h15 (fR h15 x0 2305) = 11 ∧ tg h15 (fR h15 x0 2309) = 102 ∧ vp_in x3 (ln h15 (fR h15 x0 2309)) ∧ tg h15 (fR h15 (fR h15 x0 2305) 2562) = 102 ∧ vp_in x4 (ln h15 (fR h15 (fR h15 x0 2305) 2562)) ∧ (∀ h23 : xH, h23 = tD h15 (fR h15 (fR h15 x0 2305) 2562) (Int32.toNatClampNeg x4) (aD h15 (fR h15 x0 2309) (Int32.toNatClampNeg x3)) → tg h23 (fR h23 x0 2305) = 11 ∧ tg h23 (fR h23 (fR h23 x0 2305) 2563) = 104 ∧ vp_in x4 (ln h23 (fR h23 (fR h23 x0 2305) 2563)) ∧ (∀ h29 : xH, h29 = tI h23 (fR h23 (fR h23 x0 2305) 2563) (Int32.toNatClampNeg x4) (vp_nar .boolean 1) → Q (.returned none) h29))))
set_option maxRecDepth 100000 in
theorem uX9_gives_49 {G : xG} {fr lo : Nat} {x0 : Nat} {x3 : Int32} {x4 : Int32} {h : xH} {Q : Outcome → xH → Prop} (hq : bX9_gives_49 G fr lo x0 x3 x4 h Q) : xP G YX9_gives fr lo 49 [(0, rv x0), (3, .int x3), (4, .int x4)] [] h Q := by
  unfold bX9_gives_49 at hq
  refine x_aload_n 0 dX9_gives_49 rfl ?_
  obtain ⟨g1, hq⟩ := hq
  refine x_get (v := rv (fR h x0 2305)) fdX9_12 dX9_gives_50 g1 rfl ?_
  obtain ⟨g2, hq⟩ := hq
  refine x_getN (v := rv (fR h (fR h x0 2305) 2560)) gfX9_218 dX9_gives_53 g2 rfl ?_
  refine x_iload 2 dX9_gives_56 rfl ?_
  refine x_aload_n 0 dX9_gives_58 rfl ?_
  refine x_get (v := rv (fR h x0 2307)) fdX9_28 dX9_gives_59 g1 rfl ?_
  refine x_iload_n 1 dX9_gives_62 rfl ?_
  obtain ⟨g3, hq⟩ := hq
  obtain ⟨i4, hq⟩ := hq
  refine x_lald g3 i4 dX9_gives_63 ?_
  obtain ⟨g5, hq⟩ := hq
  obtain ⟨i6, hq⟩ := hq
  obtain ⟨h7, e8⟩ : ∃ y, y = tJ h (fR h (fR h x0 2305) 2560) (Int32.toNatClampNeg x4) (aJ h (fR h x0 2307) (Int32.toNatClampNeg x3)) := ⟨_, rfl⟩
  replace hq := hq h7 e8
  refine x_last' g5 i6 dX9_gives_64 e8 ?_
  refine x_aload_n 0 dX9_gives_65 rfl ?_
  have t9 : tg h7 x0 = 10 := by rw [e8]; exact g1
  refine x_get (v := rv (fR h7 x0 2305)) fdX9_12 dX9_gives_66 t9 rfl ?_
  obtain ⟨g10, hq⟩ := hq
  refine x_getN (v := rv (fR h7 (fR h7 x0 2305) 2561)) gfX9_277 dX9_gives_69 g10 rfl ?_
  refine x_iload 2 dX9_gives_72 rfl ?_
  refine x_aload_n 0 dX9_gives_74 rfl ?_
  refine x_get (v := rv (fR h7 x0 2308)) fdX9_32 dX9_gives_75 t9 rfl ?_
  refine x_iload_n 1 dX9_gives_78 rfl ?_
  obtain ⟨g11, hq⟩ := hq
  obtain ⟨i12, hq⟩ := hq
  refine x_lald g11 i12 dX9_gives_79 ?_
  obtain ⟨g13, hq⟩ := hq
  obtain ⟨i14, hq⟩ := hq
  obtain ⟨h15, e16⟩ : ∃ y, y = tJ h7 (fR h7 (fR h7 x0 2305) 2561) (Int32.toNatClampNeg x4) (aJ h7 (fR h7 x0 2308) (Int32.toNatClampNeg x3)) := ⟨_, rfl⟩
  replace hq := hq h15 e16
  refine x_last' g13 i14 dX9_gives_80 e16 ?_
  refine x_aload_n 0 dX9_gives_81 rfl ?_
  have t17 : tg h15 x0 = 10 := by rw [e16]; exact t9
  refine x_get (v := rv (fR h15 x0 2305)) fdX9_12 dX9_gives_82 t17 rfl ?_
  obtain ⟨g18, hq⟩ := hq
  refine x_getN (v := rv (fR h15 (fR h15 x0 2305) 2562)) gfX9_278 dX9_gives_85 g18 rfl ?_
  refine x_iload 2 dX9_gives_88 rfl ?_
  refine x_aload_n 0 dX9_gives_90 rfl ?_
  refine x_get (v := rv (fR h15 x0 2309)) fdX9_35 dX9_gives_91 t17 rfl ?_
  refine x_iload_n 1 dX9_gives_94 rfl ?_
  obtain ⟨g19, hq⟩ := hq
  obtain ⟨i20, hq⟩ := hq
  refine x_dald g19 i20 dX9_gives_95 ?_
  obtain ⟨g21, hq⟩ := hq
  obtain ⟨i22, hq⟩ := hq
  obtain ⟨h23, e24⟩ : ∃ y, y = tD h15 (fR h15 (fR h15 x0 2305) 2562) (Int32.toNatClampNeg x4) (aD h15 (fR h15 x0 2309) (Int32.toNatClampNeg x3)) := ⟨_, rfl⟩
  replace hq := hq h23 e24
  refine x_dast' g21 i22 dX9_gives_96 e24 ?_
  refine x_aload_n 0 dX9_gives_97 rfl ?_
  have t25 : tg h23 x0 = 10 := by rw [e24]; exact t17
  refine x_get (v := rv (fR h23 x0 2305)) fdX9_12 dX9_gives_98 t25 rfl ?_
  obtain ⟨g26, hq⟩ := hq
  refine x_getN (v := rv (fR h23 (fR h23 x0 2305) 2563)) gfX9_247 dX9_gives_101 g26 rfl ?_
  refine x_iload 2 dX9_gives_104 rfl ?_
  refine x_iconst (v := 1) dX9_gives_106 (by decide) ?_
  obtain ⟨g27, hq⟩ := hq
  obtain ⟨i28, hq⟩ := hq
  obtain ⟨h29, e30⟩ : ∃ y, y = tI h23 (fR h23 (fR h23 x0 2305) 2563) (Int32.toNatClampNeg x4) (vp_nar .boolean 1) := ⟨_, rfl⟩
  replace hq := hq h29 e30
  refine x_zast' g27 i28 dX9_gives_107 e30 ?_
  exact x_vret rfl dX9_gives_108 hq
set_option maxRecDepth 100000 in
def bX9_gives (G : xG) (fr lo : Nat) (x0 : Nat) (x1 : Nat) (x2 : Int32) (x3 : Int32) (h : xH) (Q : Outcome → xH → Prop) : Prop := tg h x1 = 22 ∧ ((¬ (fI h x1 5376) = 0 → bX9_gives_49 G fr lo x0 x3 (x2 + (fI h x1 5380)) h Q) ∧ ((fI h x1 5376) = 0 → tg h (fR h x1 5377) = 7 ∧ 1 ≤ fr ∧ 12 ≤ lo ∧ xRi G YX6_isStructure (fr - 1) (lo - 12) [rv (fR h x1 5377)] h (fun x7 h6 => xext h h6 → ((x7 = 0 → bX9_gives_49 G fr lo x0 x3 (x2 + (fI h x1 5380)) h6 Q) ∧ (¬ x7 = 0 → tg h6 x0 = 10 ∧ tg h6 (fR h6 x0 2307) = 101 ∧ vp_in x3 (ln h6 (fR h6 x0 2307)) ∧ tg h6 (fR h6 x1 5377) = 7 ∧ tg h6 (fR h6 x0 2305) = 11 ∧ 1 ≤ fr ∧ 16 ≤ lo ∧ xRv G YX10_copy (fr - 1) (lo - 16) [rv (fR h6 x0 2305), .int (Int64.toInt32 (aJ h6 (fR h6 x0 2307) (Int32.toNatClampNeg x3))), .int (x2 + (fI h x1 5380)), .int (fI h6 (fR h6 x1 5377) 1543)] h6 (fun h18 => xext h6 h18 → Q (.returned none) h18) (fun r h2 => Q (.threw r) h2)))) (fun r h2 => Q (.threw r) h2)))
set_option maxRecDepth 100000 in
theorem uX9_gives {G : xG} {fr lo : Nat} {x0 : Nat} {x1 : Nat} {x2 : Int32} {x3 : Int32} {h : xH} {Q : Outcome → xH → Prop} (hq : bX9_gives G fr lo x0 x1 x2 x3 h Q) : xP G YX9_gives fr lo 0 [(0, rv x0), (1, rv x1), (2, .int x2), (3, .int x3)] [] h Q := by
  unfold bX9_gives at hq
  refine x_iload_n 2 dX9_gives_0 rfl ?_
  refine x_aload_n 1 dX9_gives_1 rfl ?_
  obtain ⟨g1, hq⟩ := hq
  refine x_getN (v := .int (fI h x1 5380)) gfX9_377 dX9_gives_2 g1 rfl ?_
  refine x_iadd dX9_gives_5 ?_
  refine x_istore (lv' := [(4, .int (x2 + (fI h x1 5380))), (0, rv x0), (1, rv x1), (2, .int x2), (3, .int x3)]) dX9_gives_6 (by decide) rfl ?_
  refine x_aload_n 2 dX9_gives_8 rfl ?_
  refine x_getN (v := .int (fI h x1 5376)) gfX9_378 dX9_gives_9 g1 rfl ?_
  refine x_if_ne (tgt := 49) dX9_gives_12 (by decide) (fun c2 => ?_) (fun c2 => ?_)
  · replace hq := hq.1 c2
    refine xP.pick (lv' := [(0, rv x0), (3, .int x3), (4, .int (x2 + (fI h x1 5380)))]) [1, 4, 0] rfl ?_
    exact uX9_gives_49 hq
  · replace hq := hq.2 c2
    refine x_aload_n 2 dX9_gives_15 rfl ?_
    refine x_getN (v := rv (fR h x1 5377)) gfX9_381 dX9_gives_16 g1 rfl ?_
    obtain ⟨g3, hq⟩ := hq
    obtain ⟨g4, g5, hq⟩ := hq
    refine x_callV (Yc := YX6_isStructure) (as := []) (st := []) q3008 mvX6_isStructure g3 rfl dX9_gives_19 (xle (xal1 (rv_cat _) xal0) (by decide)) (xfr g4) (xlo xsw0 (by decide) g5) (xKi hq (fun x7 h6 hq e8 => ?_) (fun _ _ q _ => q))
    replace hq := hq e8
    refine x_if_eq (tgt := 49) dX9_gives_22 (by decide) (fun c9 => ?_) (fun c9 => ?_)
    · replace hq := hq.1 c9
      refine xP.pick (lv' := [(0, rv x0), (3, .int x3), (4, .int (x2 + (fI h x1 5380)))]) [1, 4, 0] rfl ?_
      exact uX9_gives_49 hq
    · replace hq := hq.2 c9
      refine x_aload_n 1 dX9_gives_25 rfl ?_
      obtain ⟨g10, hq⟩ := hq
      refine x_get (v := rv (fR h6 x0 2305)) fdX9_12 dX9_gives_26 g10 rfl ?_
      refine x_aload_n 1 dX9_gives_29 rfl ?_
      refine x_get (v := rv (fR h6 x0 2307)) fdX9_28 dX9_gives_30 g10 rfl ?_
      refine x_iload_n 4 dX9_gives_33 rfl ?_
      obtain ⟨g11, hq⟩ := hq
      obtain ⟨i12, hq⟩ := hq
      refine x_lald g11 i12 dX9_gives_34 ?_
      refine x_l2i dX9_gives_35 ?_
      refine x_iload 0 dX9_gives_36 rfl ?_
      refine x_aload_n 2 dX9_gives_38 rfl ?_
      have t13 : tg h6 x1 = 22 := e8.tg g1 (by decide)
      refine x_getN (v := rv (fR h6 x1 5377)) gfX9_381 dX9_gives_39 t13 rfl ?_
      obtain ⟨g14, hq⟩ := hq
      refine x_getN (v := .int (fI h6 (fR h6 x1 5377) 1543)) gfX9_388 dX9_gives_42 g14 rfl ?_
      obtain ⟨g15, hq⟩ := hq
      obtain ⟨g16, g17, hq⟩ := hq
      refine x_callV (Yc := YX10_copy) (as := [.int (Int64.toInt32 (aJ h6 (fR h6 x0 2307) (Int32.toNatClampNeg x3))), .int (x2 + (fI h x1 5380)), .int (fI h6 (fR h6 x1 5377) 1543)]) (st := []) q2925 mvX10_copy g15 rfl dX9_gives_45 (xle (xal1 (rv_cat _) (xal1 rfl (xal1 rfl (xal1 rfl xal0)))) (by decide)) (xfr g16) (xlo xsw0 (by decide) g17) (xKv hq (fun h18 hq e20 => ?_) (fun _ _ q _ => q))
      replace hq := hq e20
      exact x_vret rfl dX9_gives_48 hq
theorem rX9_gives {G : xG} {fr lo : Nat} {x0 : Nat} {x1 : Nat} {x2 : Int32} {x3 : Int32} {h : xH} {Q : Outcome → xH → Prop} (hq : bX9_gives G fr lo x0 x1 x2 x3 h Q) : xR G YX9_gives fr lo [rv x0, rv x1, .int x2, .int x3] h Q := by
  show xP _ _ _ _ _ (lv_args 0 _) _ _ _
  rw [show lv_args 0 [rv x0, rv x1, .int x2, .int x3] = [(0, rv x0), (1, rv x1), (2, .int x2), (3, .int x3)] from (xla1 (rv_cat _) (xla1 (rv_cat _) (xla1 rfl (xla1 rfl xla0))))]
  exact uX9_gives hq
set_option maxRecDepth 100000 in
theorem dX9_returns_0 : decode cX9_returns 0 = .ok (.aload_n 0, 1) := by decide +kernel
set_option maxRecDepth 100000 in
theorem dX9_returns_1 : decode cX9_returns 1 = .ok (.getfield 57, 3) := by decide +kernel
set_option maxRecDepth 100000 in
theorem dX9_returns_4 : decode cX9_returns 4 = .ok (.aload_n 0, 1) := by decide +kernel
set_option maxRecDepth 100000 in
theorem dX9_returns_5 : decode cX9_returns 5 = .ok (.getfield 89, 3) := by decide +kernel
set_option maxRecDepth 100000 in
theorem dX9_returns_8 : decode cX9_returns 8 = .ok (.aaload, 1) := by decide +kernel
set_option maxRecDepth 100000 in
theorem dX9_returns_9 : decode cX9_returns 9 = .ok (.astore_n 1, 1) := by decide +kernel
set_option maxRecDepth 100000 in
theorem dX9_returns_10 : decode cX9_returns 10 = .ok (.aload_n 0, 1) := by decide +kernel
set_option maxRecDepth 100000 in
theorem dX9_returns_11 : decode cX9_returns 11 = .ok (.getfield 39, 3) := by decide +kernel
set_option maxRecDepth 100000 in
theorem dX9_returns_14 : decode cX9_returns 14 = .ok (.aload_n 0, 1) := by decide +kernel
set_option maxRecDepth 100000 in
theorem dX9_returns_15 : decode cX9_returns 15 = .ok (.getfield 89, 3) := by decide +kernel
set_option maxRecDepth 100000 in
theorem dX9_returns_18 : decode cX9_returns 18 = .ok (.iaload, 1) := by decide +kernel
set_option maxRecDepth 100000 in
theorem dX9_returns_19 : decode cX9_returns 19 = .ok (.istore_n 2, 1) := by decide +kernel
set_option maxRecDepth 100000 in
theorem dX9_returns_20 : decode cX9_returns 20 = .ok (.aload_n 0, 1) := by decide +kernel
set_option maxRecDepth 100000 in
theorem dX9_returns_21 : decode cX9_returns 21 = .ok (.getfield 52, 3) := by decide +kernel
set_option maxRecDepth 100000 in
theorem dX9_returns_24 : decode cX9_returns 24 = .ok (.aload_n 0, 1) := by decide +kernel
set_option maxRecDepth 100000 in
theorem dX9_returns_25 : decode cX9_returns 25 = .ok (.getfield 89, 3) := by decide +kernel
set_option maxRecDepth 100000 in
theorem dX9_returns_28 : decode cX9_returns 28 = .ok (.iaload, 1) := by decide +kernel
set_option maxRecDepth 100000 in
theorem dX9_returns_29 : decode cX9_returns 29 = .ok (.istore_n 3, 1) := by decide +kernel
set_option maxRecDepth 100000 in
theorem dX9_returns_30 : decode cX9_returns 30 = .ok (.aload_n 0, 1) := by decide +kernel
set_option maxRecDepth 100000 in
theorem dX9_returns_31 : decode cX9_returns 31 = .ok (.aload_n 0, 1) := by decide +kernel
set_option maxRecDepth 100000 in
theorem dX9_returns_32 : decode cX9_returns 32 = .ok (.getfield 46, 3) := by decide +kernel
set_option maxRecDepth 100000 in
theorem dX9_returns_35 : decode cX9_returns 35 = .ok (.aload_n 0, 1) := by decide +kernel
set_option maxRecDepth 100000 in
theorem dX9_returns_36 : decode cX9_returns 36 = .ok (.getfield 89, 3) := by decide +kernel
set_option maxRecDepth 100000 in
theorem dX9_returns_39 : decode cX9_returns 39 = .ok (.iaload, 1) := by decide +kernel
set_option maxRecDepth 100000 in
theorem dX9_returns_40 : decode cX9_returns 40 = .ok (.putfield 129, 3) := by decide +kernel
set_option maxRecDepth 100000 in
theorem dX9_returns_43 : decode cX9_returns 43 = .ok (.aload_n 1, 1) := by decide +kernel
set_option maxRecDepth 100000 in
theorem dX9_returns_44 : decode cX9_returns 44 = .ok (.getfield 392, 3) := by decide +kernel
set_option maxRecDepth 100000 in
theorem dX9_returns_47 : decode cX9_returns 47 = .ok (.ifCond .eq 15, 3) := by decide +kernel
set_option maxRecDepth 100000 in
theorem dX9_returns_50 : decode cX9_returns 50 = .ok (.aload_n 0, 1) := by decide +kernel
set_option maxRecDepth 100000 in
theorem dX9_returns_51 : decode cX9_returns 51 = .ok (.getfield 12, 3) := by decide +kernel
set_option maxRecDepth 100000 in
theorem dX9_returns_54 : decode cX9_returns 54 = .ok (.getfield 247, 3) := by decide +kernel
set_option maxRecDepth 100000 in
theorem dX9_returns_57 : decode cX9_returns 57 = .ok (.iload_n 2, 1) := by decide +kernel
set_option maxRecDepth 100000 in
theorem dX9_returns_58 : decode cX9_returns 58 = .ok (.baload, 1) := by decide +kernel
set_option maxRecDepth 100000 in
theorem dX9_returns_59 : decode cX9_returns 59 = .ok (.ifCond .eq 7, 3) := by decide +kernel
set_option maxRecDepth 100000 in
theorem dX9_returns_62 : decode cX9_returns 62 = .ok (.iconst 1, 1) := by decide +kernel
set_option maxRecDepth 100000 in
theorem dX9_returns_63 : decode cX9_returns 63 = .ok (.goto 4, 3) := by decide +kernel
set_option maxRecDepth 100000 in
theorem dX9_returns_66 : decode cX9_returns 66 = .ok (.iconst 0, 1) := by decide +kernel
set_option maxRecDepth 100000 in
theorem dX9_returns_67 : decode cX9_returns 67 = .ok (.istore 4, 2) := by decide +kernel
set_option maxRecDepth 100000 in
theorem dX9_returns_69 : decode cX9_returns 69 = .ok (.aload_n 0, 1) := by decide +kernel
set_option maxRecDepth 100000 in
theorem dX9_returns_70 : decode cX9_returns 70 = .ok (.invokevirtual 395, 3) := by decide +kernel
set_option maxRecDepth 100000 in
theorem dX9_returns_73 : decode cX9_returns 73 = .ok (.iload 4, 2) := by decide +kernel
set_option maxRecDepth 100000 in
theorem dX9_returns_75 : decode cX9_returns 75 = .ok (.ifCond .ne 9, 3) := by decide +kernel
set_option maxRecDepth 100000 in
theorem dX9_returns_78 : decode cX9_returns 78 = .ok (.aload_n 0, 1) := by decide +kernel
set_option maxRecDepth 100000 in
theorem dX9_returns_79 : decode cX9_returns 79 = .ok (.iconst 5, 1) := by decide +kernel
set_option maxRecDepth 100000 in
theorem dX9_returns_80 : decode cX9_returns 80 = .ok (.iload_n 3, 1) := by decide +kernel
set_option maxRecDepth 100000 in
theorem dX9_returns_81 : decode cX9_returns 81 = .ok (.invokevirtual 147, 3) := by decide +kernel
set_option maxRecDepth 100000 in
theorem dX9_returns_84 : decode cX9_returns 84 = .ok (.aload_n 1, 1) := by decide +kernel
set_option maxRecDepth 100000 in
theorem dX9_returns_85 : decode cX9_returns 85 = .ok (.getfield 392, 3) := by decide +kernel
set_option maxRecDepth 100000 in
theorem dX9_returns_88 : decode cX9_returns 88 = .ok (.ifCond .ne 4, 3) := by decide +kernel
set_option maxRecDepth 100000 in
theorem dX9_returns_91 : decode cX9_returns 91 = .ok (.return_, 1) := by decide +kernel
set_option maxRecDepth 100000 in
theorem dX9_returns_92 : decode cX9_returns 92 = .ok (.aload_n 0, 1) := by decide +kernel
set_option maxRecDepth 100000 in
theorem dX9_returns_93 : decode cX9_returns 93 = .ok (.aload_n 0, 1) := by decide +kernel
set_option maxRecDepth 100000 in
theorem dX9_returns_94 : decode cX9_returns 94 = .ok (.getfield 12, 3) := by decide +kernel
set_option maxRecDepth 100000 in
theorem dX9_returns_97 : decode cX9_returns 97 = .ok (.getfield 218, 3) := by decide +kernel
set_option maxRecDepth 100000 in
theorem dX9_returns_100 : decode cX9_returns 100 = .ok (.iload_n 2, 1) := by decide +kernel
set_option maxRecDepth 100000 in
theorem dX9_returns_101 : decode cX9_returns 101 = .ok (.laload, 1) := by decide +kernel
set_option maxRecDepth 100000 in
theorem dX9_returns_102 : decode cX9_returns 102 = .ok (.invokevirtual 207, 3) := by decide +kernel
set_option maxRecDepth 100000 in
theorem dX9_returns_105 : decode cX9_returns 105 = .ok (.aload_n 0, 1) := by decide +kernel
set_option maxRecDepth 100000 in
theorem dX9_returns_106 : decode cX9_returns 106 = .ok (.getfield 32, 3) := by decide +kernel
set_option maxRecDepth 100000 in
theorem dX9_returns_109 : decode cX9_returns 109 = .ok (.aload_n 0, 1) := by decide +kernel
set_option maxRecDepth 100000 in
theorem dX9_returns_110 : decode cX9_returns 110 = .ok (.getfield 86, 3) := by decide +kernel
set_option maxRecDepth 100000 in
theorem dX9_returns_113 : decode cX9_returns 113 = .ok (.iconst 1, 1) := by decide +kernel
set_option maxRecDepth 100000 in
theorem dX9_returns_114 : decode cX9_returns 114 = .ok (.isub, 1) := by decide +kernel
set_option maxRecDepth 100000 in
theorem dX9_returns_115 : decode cX9_returns 115 = .ok (.aload_n 0, 1) := by decide +kernel
set_option maxRecDepth 100000 in
theorem dX9_returns_116 : decode cX9_returns 116 = .ok (.getfield 12, 3) := by decide +kernel
set_option maxRecDepth 100000 in
theorem dX9_returns_119 : decode cX9_returns 119 = .ok (.getfield 277, 3) := by decide +kernel
set_option maxRecDepth 100000 in
theorem dX9_returns_122 : decode cX9_returns 122 = .ok (.iload_n 2, 1) := by decide +kernel
set_option maxRecDepth 100000 in
theorem dX9_returns_123 : decode cX9_returns 123 = .ok (.laload, 1) := by decide +kernel
set_option maxRecDepth 100000 in
theorem dX9_returns_124 : decode cX9_returns 124 = .ok (.lastore, 1) := by decide +kernel
set_option maxRecDepth 100000 in
theorem dX9_returns_125 : decode cX9_returns 125 = .ok (.aload_n 0, 1) := by decide +kernel
set_option maxRecDepth 100000 in
theorem dX9_returns_126 : decode cX9_returns 126 = .ok (.getfield 35, 3) := by decide +kernel
set_option maxRecDepth 100000 in
theorem dX9_returns_129 : decode cX9_returns 129 = .ok (.aload_n 0, 1) := by decide +kernel
set_option maxRecDepth 100000 in
theorem dX9_returns_130 : decode cX9_returns 130 = .ok (.getfield 86, 3) := by decide +kernel
set_option maxRecDepth 100000 in
theorem dX9_returns_133 : decode cX9_returns 133 = .ok (.iconst 1, 1) := by decide +kernel
set_option maxRecDepth 100000 in
theorem dX9_returns_134 : decode cX9_returns 134 = .ok (.isub, 1) := by decide +kernel
set_option maxRecDepth 100000 in
theorem dX9_returns_135 : decode cX9_returns 135 = .ok (.aload_n 0, 1) := by decide +kernel
set_option maxRecDepth 100000 in
theorem dX9_returns_136 : decode cX9_returns 136 = .ok (.getfield 12, 3) := by decide +kernel
set_option maxRecDepth 100000 in
theorem dX9_returns_139 : decode cX9_returns 139 = .ok (.getfield 278, 3) := by decide +kernel
set_option maxRecDepth 100000 in
theorem dX9_returns_142 : decode cX9_returns 142 = .ok (.iload_n 2, 1) := by decide +kernel
set_option maxRecDepth 100000 in
theorem dX9_returns_143 : decode cX9_returns 143 = .ok (.daload, 1) := by decide +kernel
set_option maxRecDepth 100000 in
theorem dX9_returns_144 : decode cX9_returns 144 = .ok (.dastore, 1) := by decide +kernel
set_option maxRecDepth 100000 in
theorem dX9_returns_145 : decode cX9_returns 145 = .ok (.return_, 1) := by decide +kernel
set_option maxRecDepth 100000 in
def bX9_returns_84 (G : xG) (fr lo : Nat) (x0 : Nat) (x1 : Nat) (x2 : Int32) (h : xH) (Q : Outcome → xH → Prop) : Prop := tg h x1 = 17 ∧ ((¬ (fI h x1 4097) = 0 → tg h x0 = 10 ∧ tg h (fR h x0 2305) = 11 ∧ tg h (fR h (fR h x0 2305) 2560) = 101 ∧ vp_in x2 (ln h (fR h (fR h x0 2305) 2560)) ∧ 1 ≤ fr ∧ 14 ≤ lo ∧ xRv G YX9_push (fr - 1) (lo - 14) [rv x0, .long (aJ h (fR h (fR h x0 2305) 2560) (Int32.toNatClampNeg x2))] h (fun h9 => xext h h9 → tg h9 (fR h9 x0 2305) = 11 ∧ tg h9 (fR h9 (fR h9 x0 2305) 2561) = 101 ∧ vp_in x2 (ln h9 (fR h9 (fR h9 x0 2305) 2561)) ∧ tg h9 (fR h9 x0 2308) = 101 ∧ vp_in ((fI h9 x0 2310) - 1) (ln h9 (fR h9 x0 2308)) ∧ (∀ h18 : xH, h18 = tJ h9 (fR h9 x0 2308) (Int32.toNatClampNeg ((fI h9 x0 2310) - 1)) (aJ h9 (fR h9 (fR h9 x0 2305) 2561) (Int32.toNatClampNeg x2)) → tg h18 (fR h18 x0 2305) = 11 ∧ tg h18 (fR h18 (fR h18 x0 2305) 2562) = 102 ∧ vp_in x2 (ln h18 (fR h18 (fR h18 x0 2305) 2562)) ∧ tg h18 (fR h18 x0 2309) = 102 ∧ vp_in ((fI h18 x0 2310) - 1) (ln h18 (fR h18 x0 2309)) ∧ (∀ h26 : xH, h26 = tD h18 (fR h18 x0 2309) (Int32.toNatClampNeg ((fI h18 x0 2310) - 1)) (aD h18 (fR h18 (fR h18 x0 2305) 2562) (Int32.toNatClampNeg x2)) → Q (.returned none) h26))) (fun r h2 => Q (.threw r) h2)) ∧ ((fI h x1 4097) = 0 → Q (.returned none) h))
set_option maxRecDepth 100000 in
theorem uX9_returns_84 {G : xG} {fr lo : Nat} {x0 : Nat} {x1 : Nat} {x2 : Int32} {h : xH} {Q : Outcome → xH → Prop} (hq : bX9_returns_84 G fr lo x0 x1 x2 h Q) : xP G YX9_returns fr lo 84 [(0, rv x0), (1, rv x1), (2, .int x2)] [] h Q := by
  unfold bX9_returns_84 at hq
  refine x_aload_n 1 dX9_returns_84 rfl ?_
  obtain ⟨g1, hq⟩ := hq
  refine x_getN (v := .int (fI h x1 4097)) gfX9_392 dX9_returns_85 g1 rfl ?_
  refine x_if_ne (tgt := 92) dX9_returns_88 (by decide) (fun c2 => ?_) (fun c2 => ?_)
  · replace hq := hq.1 c2
    refine x_aload_n 0 dX9_returns_92 rfl ?_
    refine x_aload_n 0 dX9_returns_93 rfl ?_
    obtain ⟨g3, hq⟩ := hq
    refine x_get (v := rv (fR h x0 2305)) fdX9_12 dX9_returns_94 g3 rfl ?_
    obtain ⟨g4, hq⟩ := hq
    refine x_getN (v := rv (fR h (fR h x0 2305) 2560)) gfX9_218 dX9_returns_97 g4 rfl ?_
    refine x_iload_n 2 dX9_returns_100 rfl ?_
    obtain ⟨g5, hq⟩ := hq
    obtain ⟨i6, hq⟩ := hq
    refine x_lald g5 i6 dX9_returns_101 ?_
    obtain ⟨g7, g8, hq⟩ := hq
    refine x_callV (Yc := YX9_push) (as := [.long (aJ h (fR h (fR h x0 2305) 2560) (Int32.toNatClampNeg x2))]) (st := []) q2891 mvX9_push g3 rfl dX9_returns_102 (xle (xal1 (rv_cat _) (xal2 rfl xal0)) (by decide)) (xfr g7) (xlo xsw0 (by decide) g8) (xKv hq (fun h9 hq e11 => ?_) (fun _ _ q _ => q))
    replace hq := hq e11
    refine x_aload_n 0 dX9_returns_105 rfl ?_
    have t12 : tg h9 x0 = 10 := e11.tg g3 (by decide)
    refine x_get (v := rv (fR h9 x0 2308)) fdX9_32 dX9_returns_106 t12 rfl ?_
    refine x_aload_n 0 dX9_returns_109 rfl ?_
    refine x_get (v := .int (fI h9 x0 2310)) fdX9_86 dX9_returns_110 t12 rfl ?_
    refine x_iconst (v := 1) dX9_returns_113 (by decide) ?_
    refine x_isub dX9_returns_114 ?_
    refine x_aload_n 0 dX9_returns_115 rfl ?_
    refine x_get (v := rv (fR h9 x0 2305)) fdX9_12 dX9_returns_116 t12 rfl ?_
    obtain ⟨g13, hq⟩ := hq
    refine x_getN (v := rv (fR h9 (fR h9 x0 2305) 2561)) gfX9_277 dX9_returns_119 g13 rfl ?_
    refine x_iload_n 2 dX9_returns_122 rfl ?_
    obtain ⟨g14, hq⟩ := hq
    obtain ⟨i15, hq⟩ := hq
    refine x_lald g14 i15 dX9_returns_123 ?_
    obtain ⟨g16, hq⟩ := hq
    obtain ⟨i17, hq⟩ := hq
    obtain ⟨h18, e19⟩ : ∃ y, y = tJ h9 (fR h9 x0 2308) (Int32.toNatClampNeg ((fI h9 x0 2310) - 1)) (aJ h9 (fR h9 (fR h9 x0 2305) 2561) (Int32.toNatClampNeg x2)) := ⟨_, rfl⟩
    replace hq := hq h18 e19
    refine x_last' g16 i17 dX9_returns_124 e19 ?_
    refine x_aload_n 0 dX9_returns_125 rfl ?_
    have t20 : tg h18 x0 = 10 := by rw [e19]; exact t12
    refine x_get (v := rv (fR h18 x0 2309)) fdX9_35 dX9_returns_126 t20 rfl ?_
    refine x_aload_n 0 dX9_returns_129 rfl ?_
    refine x_get (v := .int (fI h18 x0 2310)) fdX9_86 dX9_returns_130 t20 rfl ?_
    refine x_iconst (v := 1) dX9_returns_133 (by decide) ?_
    refine x_isub dX9_returns_134 ?_
    refine x_aload_n 0 dX9_returns_135 rfl ?_
    refine x_get (v := rv (fR h18 x0 2305)) fdX9_12 dX9_returns_136 t20 rfl ?_
    obtain ⟨g21, hq⟩ := hq
    refine x_getN (v := rv (fR h18 (fR h18 x0 2305) 2562)) gfX9_278 dX9_returns_139 g21 rfl ?_
    refine x_iload_n 2 dX9_returns_142 rfl ?_
    obtain ⟨g22, hq⟩ := hq
    obtain ⟨i23, hq⟩ := hq
    refine x_dald g22 i23 dX9_returns_143 ?_
    obtain ⟨g24, hq⟩ := hq
    obtain ⟨i25, hq⟩ := hq
    obtain ⟨h26, e27⟩ : ∃ y, y = tD h18 (fR h18 x0 2309) (Int32.toNatClampNeg ((fI h18 x0 2310) - 1)) (aD h18 (fR h18 (fR h18 x0 2305) 2562) (Int32.toNatClampNeg x2)) := ⟨_, rfl⟩
    replace hq := hq h26 e27
    refine x_dast' g24 i25 dX9_returns_144 e27 ?_
    exact x_vret rfl dX9_returns_145 hq
  · replace hq := hq.2 c2
    exact x_vret rfl dX9_returns_91 hq
set_option maxRecDepth 100000 in
def bX9_returns_67 (G : xG) (fr lo : Nat) (x0 : Nat) (x1 : Nat) (x2 : Int32) (x3 : Int32) (s0 : Int32) (h : xH) (Q : Outcome → xH → Prop) : Prop := tg h x0 = 10 ∧ 1 ≤ fr ∧ 14 ≤ lo ∧ xRv G YX9_ends (fr - 1) (lo - 14) [rv x0] h (fun h4 => xext h h4 → ((¬ s0 = 0 → bX9_returns_84 G fr lo x0 x1 x2 h4 Q) ∧ (s0 = 0 → 1 ≤ fr ∧ 14 ≤ lo ∧ xRv G YX9_fail (fr - 1) (lo - 14) [rv x0, .int 5, .int x3] h4 (fun h11 => xext h4 h11 → bX9_returns_84 G fr lo x0 x1 x2 h11 Q) (fun r h2 => Q (.threw r) h2)))) (fun r h2 => Q (.threw r) h2)
set_option maxRecDepth 100000 in
theorem uX9_returns_67 {G : xG} {fr lo : Nat} {x0 : Nat} {x1 : Nat} {x2 : Int32} {x3 : Int32} {s0 : Int32} {h : xH} {Q : Outcome → xH → Prop} (hq : bX9_returns_67 G fr lo x0 x1 x2 x3 s0 h Q) : xP G YX9_returns fr lo 67 [(0, rv x0), (1, rv x1), (2, .int x2), (3, .int x3)] [.int s0] h Q := by
  unfold bX9_returns_67 at hq
  refine x_istore (lv' := [(4, .int s0), (0, rv x0), (1, rv x1), (2, .int x2), (3, .int x3)]) dX9_returns_67 (by decide) rfl ?_
  refine x_aload_n 1 dX9_returns_69 rfl ?_
  obtain ⟨g1, hq⟩ := hq
  obtain ⟨g2, g3, hq⟩ := hq
  refine x_callV (Yc := YX9_ends) (as := []) (st := []) q3013 mvX9_ends g1 rfl dX9_returns_70 (xle (xal1 (rv_cat _) xal0) (by decide)) (xfr g2) (xlo xsw0 (by decide) g3) (xKv hq (fun h4 hq e6 => ?_) (fun _ _ q _ => q))
  replace hq := hq e6
  refine x_iload 0 dX9_returns_73 rfl ?_
  refine x_if_ne (tgt := 84) dX9_returns_75 (by decide) (fun c7 => ?_) (fun c7 => ?_)
  · replace hq := hq.1 c7
    refine xP.pick (lv' := [(0, rv x0), (1, rv x1), (2, .int x2)]) [1, 2, 3] rfl ?_
    exact uX9_returns_84 hq
  · replace hq := hq.2 c7
    refine x_aload_n 1 dX9_returns_78 rfl ?_
    refine x_iconst (v := 5) dX9_returns_79 (by decide) ?_
    refine x_iload_n 4 dX9_returns_80 rfl ?_
    have t8 : tg h4 x0 = 10 := e6.tg g1 (by decide)
    obtain ⟨g9, g10, hq⟩ := hq
    refine x_callV (Yc := YX9_fail) (as := [.int 5, .int x3]) (st := []) q2835 mvX9_fail t8 rfl dX9_returns_81 (xle (xal1 (rv_cat _) (xal1 rfl (xal1 rfl xal0))) (by decide)) (xfr g9) (xlo xsw0 (by decide) g10) (xKv hq (fun h11 hq e13 => ?_) (fun _ _ q _ => q))
    replace hq := hq e13
    refine xP.pick (lv' := [(0, rv x0), (1, rv x1), (2, .int x2)]) [1, 2, 3] rfl ?_
    exact uX9_returns_84 hq
set_option maxRecDepth 100000 in
def bX9_returns_62 (G : xG) (fr lo : Nat) (x0 : Nat) (x1 : Nat) (x2 : Int32) (x3 : Int32) (h : xH) (Q : Outcome → xH → Prop) : Prop := bX9_returns_67 G fr lo x0 x1 x2 x3 1 h Q
set_option maxRecDepth 100000 in
theorem uX9_returns_62 {G : xG} {fr lo : Nat} {x0 : Nat} {x1 : Nat} {x2 : Int32} {x3 : Int32} {h : xH} {Q : Outcome → xH → Prop} (hq : bX9_returns_62 G fr lo x0 x1 x2 x3 h Q) : xP G YX9_returns fr lo 62 [(0, rv x0), (1, rv x1), (2, .int x2), (3, .int x3)] [] h Q := by
  unfold bX9_returns_62 at hq
  refine x_iconst (v := 1) dX9_returns_62 (by decide) ?_
  refine x_goto (tgt := 67) dX9_returns_63 (by decide) ?_
  exact uX9_returns_67 hq
set_option maxRecDepth 100000 in
def bX9_returns (G : xG) (fr lo : Nat) (x0 : Nat) (h : xH) (Q : Outcome → xH → Prop) : Prop := tg h x0 = 10 ∧ tg h (fR h x0 2317) = 107 ∧ vp_in (fI h x0 2319) (ln h (fR h x0 2317)) ∧ tg h (fR h x0 2312) = 100 ∧ vp_in (fI h x0 2319) (ln h (fR h x0 2312)) ∧ tg h (fR h x0 2316) = 100 ∧ vp_in (fI h x0 2319) (ln h (fR h x0 2316)) ∧ tg h (fR h x0 2314) = 100 ∧ vp_in (fI h x0 2319) (ln h (fR h x0 2314)) ∧ (∀ h10 : xH, h10 = sI h x0 2311 (aI h (fR h x0 2314) (Int32.toNatClampNeg (fI h x0 2319))) → tg h10 (aR h (fR h x0 2317) (Int32.toNatClampNeg (fI h x0 2319))) = 17 ∧ (((fI h10 (aR h (fR h x0 2317) (Int32.toNatClampNeg (fI h x0 2319))) 4097) = 0 → bX9_returns_62 G fr lo x0 (aR h (fR h x0 2317) (Int32.toNatClampNeg (fI h x0 2319))) (aI h (fR h x0 2312) (Int32.toNatClampNeg (fI h x0 2319))) (aI h (fR h x0 2316) (Int32.toNatClampNeg (fI h x0 2319))) h10 Q) ∧ (¬ (fI h10 (aR h (fR h x0 2317) (Int32.toNatClampNeg (fI h x0 2319))) 4097) = 0 → tg h10 (fR h10 x0 2305) = 11 ∧ tg h10 (fR h10 (fR h10 x0 2305) 2563) = 104 ∧ vp_in (aI h (fR h x0 2312) (Int32.toNatClampNeg (fI h x0 2319))) (ln h10 (fR h10 (fR h10 x0 2305) 2563)) ∧ (((aI h10 (fR h10 (fR h10 x0 2305) 2563) (Int32.toNatClampNeg (aI h (fR h x0 2312) (Int32.toNatClampNeg (fI h x0 2319))))) = 0 → bX9_returns_67 G fr lo x0 (aR h (fR h x0 2317) (Int32.toNatClampNeg (fI h x0 2319))) (aI h (fR h x0 2312) (Int32.toNatClampNeg (fI h x0 2319))) (aI h (fR h x0 2316) (Int32.toNatClampNeg (fI h x0 2319))) 0 h10 Q) ∧ (¬ (aI h10 (fR h10 (fR h10 x0 2305) 2563) (Int32.toNatClampNeg (aI h (fR h x0 2312) (Int32.toNatClampNeg (fI h x0 2319))))) = 0 → bX9_returns_62 G fr lo x0 (aR h (fR h x0 2317) (Int32.toNatClampNeg (fI h x0 2319))) (aI h (fR h x0 2312) (Int32.toNatClampNeg (fI h x0 2319))) (aI h (fR h x0 2316) (Int32.toNatClampNeg (fI h x0 2319))) h10 Q)))))
set_option maxRecDepth 100000 in
theorem uX9_returns {G : xG} {fr lo : Nat} {x0 : Nat} {h : xH} {Q : Outcome → xH → Prop} (hq : bX9_returns G fr lo x0 h Q) : xP G YX9_returns fr lo 0 [(0, rv x0)] [] h Q := by
  unfold bX9_returns at hq
  refine x_aload_n 0 dX9_returns_0 rfl ?_
  obtain ⟨g1, hq⟩ := hq
  refine x_get (v := rv (fR h x0 2317)) fdX9_57 dX9_returns_1 g1 rfl ?_
  refine x_aload_n 0 dX9_returns_4 rfl ?_
  refine x_get (v := .int (fI h x0 2319)) fdX9_89 dX9_returns_5 g1 rfl ?_
  obtain ⟨g2, hq⟩ := hq
  obtain ⟨i3, hq⟩ := hq
  refine x_aald 7 rfl g2 (by decide) i3 dX9_returns_8 ?_
  refine x_astore_n (lv' := [(1, rv (aR h (fR h x0 2317) (Int32.toNatClampNeg (fI h x0 2319)))), (0, rv x0)]) dX9_returns_9 (by decide) (by first | rfl | (simp [rv_cat, Value.category]; done) | (simp [rv_cat, Value.category]; decide)) ?_
  refine x_aload_n 1 dX9_returns_10 rfl ?_
  refine x_get (v := rv (fR h x0 2312)) fdX9_39 dX9_returns_11 g1 rfl ?_
  refine x_aload_n 1 dX9_returns_14 rfl ?_
  refine x_get (v := .int (fI h x0 2319)) fdX9_89 dX9_returns_15 g1 rfl ?_
  obtain ⟨g4, hq⟩ := hq
  obtain ⟨i5, hq⟩ := hq
  refine x_iald 0 (Or.inl rfl) g4 i5 dX9_returns_18 ?_
  refine x_istore_n (lv' := [(2, .int (aI h (fR h x0 2312) (Int32.toNatClampNeg (fI h x0 2319)))), (1, rv (aR h (fR h x0 2317) (Int32.toNatClampNeg (fI h x0 2319)))), (0, rv x0)]) dX9_returns_19 (by decide) (by first | rfl | (simp [rv_cat, Value.category]; done) | (simp [rv_cat, Value.category]; decide)) ?_
  refine x_aload_n 2 dX9_returns_20 rfl ?_
  refine x_get (v := rv (fR h x0 2316)) fdX9_52 dX9_returns_21 g1 rfl ?_
  refine x_aload_n 2 dX9_returns_24 rfl ?_
  refine x_get (v := .int (fI h x0 2319)) fdX9_89 dX9_returns_25 g1 rfl ?_
  obtain ⟨g6, hq⟩ := hq
  obtain ⟨i7, hq⟩ := hq
  refine x_iald 0 (Or.inl rfl) g6 i7 dX9_returns_28 ?_
  refine x_istore_n (lv' := [(3, .int (aI h (fR h x0 2316) (Int32.toNatClampNeg (fI h x0 2319)))), (2, .int (aI h (fR h x0 2312) (Int32.toNatClampNeg (fI h x0 2319)))), (1, rv (aR h (fR h x0 2317) (Int32.toNatClampNeg (fI h x0 2319)))), (0, rv x0)]) dX9_returns_29 (by decide) rfl ?_
  refine x_aload_n 3 dX9_returns_30 rfl ?_
  refine x_aload_n 3 dX9_returns_31 rfl ?_
  refine x_get (v := rv (fR h x0 2314)) fdX9_46 dX9_returns_32 g1 rfl ?_
  refine x_aload_n 3 dX9_returns_35 rfl ?_
  refine x_get (v := .int (fI h x0 2319)) fdX9_89 dX9_returns_36 g1 rfl ?_
  obtain ⟨g8, hq⟩ := hq
  obtain ⟨i9, hq⟩ := hq
  refine x_iald 0 (Or.inl rfl) g8 i9 dX9_returns_39 ?_
  obtain ⟨h10, e11⟩ : ∃ y, y = sI h x0 2311 (aI h (fR h x0 2314) (Int32.toNatClampNeg (fI h x0 2319))) := ⟨_, rfl⟩
  replace hq := hq h10 e11
  refine x_putI fdX9_129 xty_I1 dX9_returns_40 g1 (Or.inl (by rw [g1]; rfl)) xnI rfl e11 ?_
  refine x_aload_n 2 dX9_returns_43 rfl ?_
  obtain ⟨g12, hq⟩ := hq
  refine x_getN (v := .int (fI h10 (aR h (fR h x0 2317) (Int32.toNatClampNeg (fI h x0 2319))) 4097)) gfX9_392 dX9_returns_44 g12 rfl ?_
  refine x_if_eq (tgt := 62) dX9_returns_47 (by decide) (fun c13 => ?_) (fun c13 => ?_)
  · replace hq := hq.1 c13
    refine xP.pick (lv' := [(0, rv x0), (1, rv (aR h (fR h x0 2317) (Int32.toNatClampNeg (fI h x0 2319)))), (2, .int (aI h (fR h x0 2312) (Int32.toNatClampNeg (fI h x0 2319)))), (3, .int (aI h (fR h x0 2316) (Int32.toNatClampNeg (fI h x0 2319))))]) [3, 2, 1, 0] rfl ?_
    exact uX9_returns_62 hq
  · replace hq := hq.2 c13
    refine x_aload_n 3 dX9_returns_50 rfl ?_
    have t14 : tg h10 x0 = 10 := by rw [e11]; exact g1
    refine x_get (v := rv (fR h10 x0 2305)) fdX9_12 dX9_returns_51 t14 rfl ?_
    obtain ⟨g15, hq⟩ := hq
    refine x_getN (v := rv (fR h10 (fR h10 x0 2305) 2563)) gfX9_247 dX9_returns_54 g15 rfl ?_
    refine x_iload_n 1 dX9_returns_57 rfl ?_
    obtain ⟨g16, hq⟩ := hq
    obtain ⟨i17, hq⟩ := hq
    refine x_zald g16 i17 dX9_returns_58 ?_
    refine x_if_eq (tgt := 66) dX9_returns_59 (by decide) (fun c18 => ?_) (fun c18 => ?_)
    · replace hq := hq.1 c18
      refine x_iconst (v := 0) dX9_returns_66 (by decide) ?_
      refine xP.pick (lv' := [(0, rv x0), (1, rv (aR h (fR h x0 2317) (Int32.toNatClampNeg (fI h x0 2319)))), (2, .int (aI h (fR h x0 2312) (Int32.toNatClampNeg (fI h x0 2319)))), (3, .int (aI h (fR h x0 2316) (Int32.toNatClampNeg (fI h x0 2319))))]) [3, 2, 1, 0] rfl ?_
      exact uX9_returns_67 hq
    · replace hq := hq.2 c18
      refine xP.pick (lv' := [(0, rv x0), (1, rv (aR h (fR h x0 2317) (Int32.toNatClampNeg (fI h x0 2319)))), (2, .int (aI h (fR h x0 2312) (Int32.toNatClampNeg (fI h x0 2319)))), (3, .int (aI h (fR h x0 2316) (Int32.toNatClampNeg (fI h x0 2319))))]) [3, 2, 1, 0] rfl ?_
      exact uX9_returns_62 hq
theorem rX9_returns {G : xG} {fr lo : Nat} {x0 : Nat} {h : xH} {Q : Outcome → xH → Prop} (hq : bX9_returns G fr lo x0 h Q) : xR G YX9_returns fr lo [rv x0] h Q := by
  show xP _ _ _ _ _ (lv_args 0 _) _ _ _
  rw [show lv_args 0 [rv x0] = [(0, rv x0)] from (xla1 (rv_cat _) xla0)]
  exact uX9_returns hq
set_option maxRecDepth 100000 in
theorem dX9_ends_0 : decode cX9_ends 0 = .ok (.aload_n 0, 1) := by decide +kernel
set_option maxRecDepth 100000 in
theorem dX9_ends_1 : decode cX9_ends 1 = .ok (.getfield 57, 3) := by decide +kernel
set_option maxRecDepth 100000 in
theorem dX9_ends_4 : decode cX9_ends 4 = .ok (.aload_n 0, 1) := by decide +kernel
set_option maxRecDepth 100000 in
theorem dX9_ends_5 : decode cX9_ends 5 = .ok (.getfield 89, 3) := by decide +kernel
set_option maxRecDepth 100000 in
theorem dX9_ends_8 : decode cX9_ends 8 = .ok (.aaload, 1) := by decide +kernel
set_option maxRecDepth 100000 in
theorem dX9_ends_9 : decode cX9_ends 9 = .ok (.astore_n 1, 1) := by decide +kernel
set_option maxRecDepth 100000 in
theorem dX9_ends_10 : decode cX9_ends 10 = .ok (.iconst 0, 1) := by decide +kernel
set_option maxRecDepth 100000 in
theorem dX9_ends_11 : decode cX9_ends 11 = .ok (.istore_n 2, 1) := by decide +kernel
set_option maxRecDepth 100000 in
theorem dX9_ends_12 : decode cX9_ends 12 = .ok (.iload_n 2, 1) := by decide +kernel
set_option maxRecDepth 100000 in
theorem dX9_ends_13 : decode cX9_ends 13 = .ok (.aload_n 1, 1) := by decide +kernel
set_option maxRecDepth 100000 in
theorem dX9_ends_14 : decode cX9_ends 14 = .ok (.getfield 158, 3) := by decide +kernel
set_option maxRecDepth 100000 in
theorem dX9_ends_17 : decode cX9_ends 17 = .ok (.invokevirtual 161, 3) := by decide +kernel
set_option maxRecDepth 100000 in
theorem dX9_ends_20 : decode cX9_ends 20 = .ok (.if_icmp .ge 40, 3) := by decide +kernel
set_option maxRecDepth 100000 in
theorem dX9_ends_23 : decode cX9_ends 23 = .ok (.aload_n 0, 1) := by decide +kernel
set_option maxRecDepth 100000 in
theorem dX9_ends_24 : decode cX9_ends 24 = .ok (.getfield 23, 3) := by decide +kernel
set_option maxRecDepth 100000 in
theorem dX9_ends_27 : decode cX9_ends 27 = .ok (.aload_n 0, 1) := by decide +kernel
set_option maxRecDepth 100000 in
theorem dX9_ends_28 : decode cX9_ends 28 = .ok (.getfield 39, 3) := by decide +kernel
set_option maxRecDepth 100000 in
theorem dX9_ends_31 : decode cX9_ends 31 = .ok (.aload_n 0, 1) := by decide +kernel
set_option maxRecDepth 100000 in
theorem dX9_ends_32 : decode cX9_ends 32 = .ok (.getfield 89, 3) := by decide +kernel
set_option maxRecDepth 100000 in
theorem dX9_ends_35 : decode cX9_ends 35 = .ok (.iaload, 1) := by decide +kernel
set_option maxRecDepth 100000 in
theorem dX9_ends_36 : decode cX9_ends 36 = .ok (.aload_n 1, 1) := by decide +kernel
set_option maxRecDepth 100000 in
theorem dX9_ends_37 : decode cX9_ends 37 = .ok (.getfield 158, 3) := by decide +kernel
set_option maxRecDepth 100000 in
theorem dX9_ends_40 : decode cX9_ends 40 = .ok (.iload_n 2, 1) := by decide +kernel
set_option maxRecDepth 100000 in
theorem dX9_ends_41 : decode cX9_ends 41 = .ok (.invokevirtual 166, 3) := by decide +kernel
set_option maxRecDepth 100000 in
theorem dX9_ends_44 : decode cX9_ends 44 = .ok (.checkcast 170, 3) := by decide +kernel
set_option maxRecDepth 100000 in
theorem dX9_ends_47 : decode cX9_ends 47 = .ok (.getfield 172, 3) := by decide +kernel
set_option maxRecDepth 100000 in
theorem dX9_ends_50 : decode cX9_ends 50 = .ok (.iadd, 1) := by decide +kernel
set_option maxRecDepth 100000 in
theorem dX9_ends_51 : decode cX9_ends 51 = .ok (.invokevirtual 389, 3) := by decide +kernel
set_option maxRecDepth 100000 in
theorem dX9_ends_54 : decode cX9_ends 54 = .ok (.iinc 2 1, 3) := by decide +kernel
set_option maxRecDepth 100000 in
theorem dX9_ends_57 : decode cX9_ends 57 = .ok (.goto (-45), 3) := by decide +kernel
set_option maxRecDepth 100000 in
theorem dX9_ends_60 : decode cX9_ends 60 = .ok (.aload_n 0, 1) := by decide +kernel
set_option maxRecDepth 100000 in
theorem dX9_ends_61 : decode cX9_ends 61 = .ok (.aload_n 0, 1) := by decide +kernel
set_option maxRecDepth 100000 in
theorem dX9_ends_62 : decode cX9_ends 62 = .ok (.getfield 39, 3) := by decide +kernel
set_option maxRecDepth 100000 in
theorem dX9_ends_65 : decode cX9_ends 65 = .ok (.aload_n 0, 1) := by decide +kernel
set_option maxRecDepth 100000 in
theorem dX9_ends_66 : decode cX9_ends 66 = .ok (.getfield 89, 3) := by decide +kernel
set_option maxRecDepth 100000 in
theorem dX9_ends_69 : decode cX9_ends 69 = .ok (.iaload, 1) := by decide +kernel
set_option maxRecDepth 100000 in
theorem dX9_ends_70 : decode cX9_ends 70 = .ok (.putfield 95, 3) := by decide +kernel
set_option maxRecDepth 100000 in
theorem dX9_ends_73 : decode cX9_ends 73 = .ok (.aload_n 0, 1) := by decide +kernel
set_option maxRecDepth 100000 in
theorem dX9_ends_74 : decode cX9_ends 74 = .ok (.aload_n 0, 1) := by decide +kernel
set_option maxRecDepth 100000 in
theorem dX9_ends_75 : decode cX9_ends 75 = .ok (.getfield 49, 3) := by decide +kernel
set_option maxRecDepth 100000 in
theorem dX9_ends_78 : decode cX9_ends 78 = .ok (.aload_n 0, 1) := by decide +kernel
set_option maxRecDepth 100000 in
theorem dX9_ends_79 : decode cX9_ends 79 = .ok (.getfield 89, 3) := by decide +kernel
set_option maxRecDepth 100000 in
theorem dX9_ends_82 : decode cX9_ends 82 = .ok (.iaload, 1) := by decide +kernel
set_option maxRecDepth 100000 in
theorem dX9_ends_83 : decode cX9_ends 83 = .ok (.putfield 86, 3) := by decide +kernel
set_option maxRecDepth 100000 in
theorem dX9_ends_86 : decode cX9_ends 86 = .ok (.aload_n 0, 1) := by decide +kernel
set_option maxRecDepth 100000 in
theorem dX9_ends_87 : decode cX9_ends 87 = .ok (.dup, 1) := by decide +kernel
set_option maxRecDepth 100000 in
theorem dX9_ends_88 : decode cX9_ends 88 = .ok (.getfield 89, 3) := by decide +kernel
set_option maxRecDepth 100000 in
theorem dX9_ends_91 : decode cX9_ends 91 = .ok (.iconst 1, 1) := by decide +kernel
set_option maxRecDepth 100000 in
theorem dX9_ends_92 : decode cX9_ends 92 = .ok (.isub, 1) := by decide +kernel
set_option maxRecDepth 100000 in
theorem dX9_ends_93 : decode cX9_ends 93 = .ok (.putfield 89, 3) := by decide +kernel
set_option maxRecDepth 100000 in
theorem dX9_ends_96 : decode cX9_ends 96 = .ok (.return_, 1) := by decide +kernel
def lX9_ends_12 (G : xG) (fr lo : Nat) (x0 : Nat) (x1 : Nat) (x2 : Int32) (h : xH) (Q : Outcome → xH → Prop) : Prop := xP G YX9_ends fr lo 12 [(0, rv x0), (1, rv x1), (2, .int x2)] [] h Q
set_option maxRecDepth 100000 in
def bX9_ends_12 (G : xG) (fr lo : Nat) (x0 : Nat) (x1 : Nat) (x2 : Int32) (h : xH) (Q : Outcome → xH → Prop) : Prop := tg h x1 = 17 ∧ tg h (fR h x1 4111) = 29 ∧ 1 ≤ fr ∧ 13 ≤ lo ∧ xRi G YJ2_size (fr - 1) (lo - 13) [rv (fR h x1 4111)] h (fun x6 h5 => xext h h5 → ((x6 ≤ x2 → tg h5 x0 = 10 ∧ tg h5 (fR h5 x0 2312) = 100 ∧ vp_in (fI h5 x0 2319) (ln h5 (fR h5 x0 2312)) ∧ (∀ h12 : xH, h12 = sI h5 x0 2320 (aI h5 (fR h5 x0 2312) (Int32.toNatClampNeg (fI h5 x0 2319))) → tg h12 (fR h12 x0 2315) = 100 ∧ vp_in (fI h12 x0 2319) (ln h12 (fR h12 x0 2315)) ∧ (∀ h17 : xH, h17 = sI h12 x0 2310 (aI h12 (fR h12 x0 2315) (Int32.toNatClampNeg (fI h12 x0 2319))) → (∀ h20 : xH, h20 = sI h17 x0 2319 ((fI h17 x0 2319) - 1) → Q (.returned none) h20)))) ∧ (¬ x6 ≤ x2 → tg h5 x0 = 10 ∧ tg h5 (fR h5 x0 2312) = 100 ∧ vp_in (fI h5 x0 2319) (ln h5 (fR h5 x0 2312)) ∧ tg h5 (fR h5 x1 4111) = 29 ∧ 1 ≤ fr ∧ 15 ≤ lo ∧ xRr G YJ2_get (fr - 1) (lo - 15) [rv (fR h5 x1 4111), .int x2] h5 (fun x30 h29 => xext h5 h29 → tg h29 x30 = 9 ∧ tg h29 (fR h5 x0 2306) = 12 ∧ 1 ≤ fr ∧ 13 ≤ lo ∧ xRv G YX11_empty (fr - 1) (lo - 13) [rv (fR h5 x0 2306), .int ((aI h5 (fR h5 x0 2312) (Int32.toNatClampNeg (fI h5 x0 2319))) + (fI h29 x30 2053))] h29 (fun h36 => xext h29 h36 → lX9_ends_12 G fr lo x0 x1 (x2 + 1) h36 Q) (fun r h2 => Q (.threw r) h2)) (fun r h2 => Q (.threw r) h2)))) (fun r h2 => Q (.threw r) h2)
set_option maxRecDepth 100000 in
theorem uX9_ends_12 {G : xG} {fr lo : Nat} {x0 : Nat} {x1 : Nat} {x2 : Int32} {h : xH} {Q : Outcome → xH → Prop} (hq : bX9_ends_12 G fr lo x0 x1 x2 h Q) : xP G YX9_ends fr lo 12 [(0, rv x0), (1, rv x1), (2, .int x2)] [] h Q := by
  unfold bX9_ends_12 at hq
  refine x_iload_n 2 dX9_ends_12 rfl ?_
  refine x_aload_n 1 dX9_ends_13 rfl ?_
  obtain ⟨g1, hq⟩ := hq
  refine x_getN (v := rv (fR h x1 4111)) gfX9_158 dX9_ends_14 g1 rfl ?_
  obtain ⟨g2, hq⟩ := hq
  obtain ⟨g3, g4, hq⟩ := hq
  refine x_callV (Yc := YJ2_size) (as := []) (st := [.int x2]) q2847 mvJ2_size g2 rfl dX9_ends_17 (xle (xal1 (rv_cat _) xal0) (by decide)) (xfr g3) (xlo (xsw1 rfl xsw0) (by decide) g4) (xKi hq (fun x6 h5 hq e7 => ?_) (fun _ _ q _ => q))
  replace hq := hq e7
  refine x_icmp_ge (tgt := 60) dX9_ends_20 (by decide) (fun c8 => ?_) (fun c8 => ?_)
  · replace hq := hq.1 c8
    refine x_aload_n 0 dX9_ends_60 rfl ?_
    refine x_aload_n 0 dX9_ends_61 rfl ?_
    obtain ⟨g9, hq⟩ := hq
    refine x_get (v := rv (fR h5 x0 2312)) fdX9_39 dX9_ends_62 g9 rfl ?_
    refine x_aload_n 0 dX9_ends_65 rfl ?_
    refine x_get (v := .int (fI h5 x0 2319)) fdX9_89 dX9_ends_66 g9 rfl ?_
    obtain ⟨g10, hq⟩ := hq
    obtain ⟨i11, hq⟩ := hq
    refine x_iald 0 (Or.inl rfl) g10 i11 dX9_ends_69 ?_
    obtain ⟨h12, e13⟩ : ∃ y, y = sI h5 x0 2320 (aI h5 (fR h5 x0 2312) (Int32.toNatClampNeg (fI h5 x0 2319))) := ⟨_, rfl⟩
    replace hq := hq h12 e13
    refine x_putI fdX9_95 xty_I1 dX9_ends_70 g9 (Or.inl (by rw [g9]; rfl)) xnI rfl e13 ?_
    refine x_aload_n 0 dX9_ends_73 rfl ?_
    refine x_aload_n 0 dX9_ends_74 rfl ?_
    have t14 : tg h12 x0 = 10 := by rw [e13]; exact g9
    refine x_get (v := rv (fR h12 x0 2315)) fdX9_49 dX9_ends_75 t14 rfl ?_
    refine x_aload_n 0 dX9_ends_78 rfl ?_
    refine x_get (v := .int (fI h12 x0 2319)) fdX9_89 dX9_ends_79 t14 rfl ?_
    obtain ⟨g15, hq⟩ := hq
    obtain ⟨i16, hq⟩ := hq
    refine x_iald 0 (Or.inl rfl) g15 i16 dX9_ends_82 ?_
    obtain ⟨h17, e18⟩ : ∃ y, y = sI h12 x0 2310 (aI h12 (fR h12 x0 2315) (Int32.toNatClampNeg (fI h12 x0 2319))) := ⟨_, rfl⟩
    replace hq := hq h17 e18
    refine x_putI fdX9_86 xty_I1 dX9_ends_83 t14 (Or.inl (by rw [t14]; rfl)) xnI rfl e18 ?_
    refine x_aload_n 0 dX9_ends_86 rfl ?_
    refine x_dup dX9_ends_87 (rv_cat _) ?_
    have t19 : tg h17 x0 = 10 := by rw [e18]; exact t14
    refine x_get (v := .int (fI h17 x0 2319)) fdX9_89 dX9_ends_88 t19 rfl ?_
    refine x_iconst (v := 1) dX9_ends_91 (by decide) ?_
    refine x_isub dX9_ends_92 ?_
    obtain ⟨h20, e21⟩ : ∃ y, y = sI h17 x0 2319 ((fI h17 x0 2319) - 1) := ⟨_, rfl⟩
    replace hq := hq h20 e21
    refine x_putI fdX9_89 xty_I1 dX9_ends_93 t19 (Or.inl (by rw [t19]; rfl)) xnI rfl e21 ?_
    exact x_vret rfl dX9_ends_96 hq
  · replace hq := hq.2 c8
    refine x_aload_n 0 dX9_ends_23 rfl ?_
    obtain ⟨g22, hq⟩ := hq
    refine x_get (v := rv (fR h5 x0 2306)) fdX9_23 dX9_ends_24 g22 rfl ?_
    refine x_aload_n 0 dX9_ends_27 rfl ?_
    refine x_get (v := rv (fR h5 x0 2312)) fdX9_39 dX9_ends_28 g22 rfl ?_
    refine x_aload_n 0 dX9_ends_31 rfl ?_
    refine x_get (v := .int (fI h5 x0 2319)) fdX9_89 dX9_ends_32 g22 rfl ?_
    obtain ⟨g23, hq⟩ := hq
    obtain ⟨i24, hq⟩ := hq
    refine x_iald 0 (Or.inl rfl) g23 i24 dX9_ends_35 ?_
    refine x_aload_n 1 dX9_ends_36 rfl ?_
    have t25 : tg h5 x1 = 17 := e7.tg g1 (by decide)
    refine x_getN (v := rv (fR h5 x1 4111)) gfX9_158 dX9_ends_37 t25 rfl ?_
    refine x_iload_n 2 dX9_ends_40 rfl ?_
    obtain ⟨g26, hq⟩ := hq
    obtain ⟨g27, g28, hq⟩ := hq
    refine x_callV (Yc := YJ2_get) (as := [.int x2]) (st := [.int (aI h5 (fR h5 x0 2312) (Int32.toNatClampNeg (fI h5 x0 2319))), rv (fR h5 x0 2306)]) q2848 mvJ2_get g26 rfl dX9_ends_41 (xle (xal1 (rv_cat _) (xal1 rfl xal0)) (by decide)) (xfr g27) (xlo (xsw1 rfl (xsw1 (rv_cat _) xsw0)) (by decide) g28) (xKr hq (fun x30 h29 hq e31 => ?_) (fun _ _ q _ => q))
    replace hq := hq e31
    obtain ⟨g32, hq⟩ := hq
    refine x_cast (ci := 8) (by decide) rfl q2849 g32 dX9_ends_44 ?_
    refine x_getN (v := .int (fI h29 x30 2053)) gfX9_172 dX9_ends_47 g32 rfl ?_
    refine x_iadd dX9_ends_50 ?_
    obtain ⟨g33, hq⟩ := hq
    obtain ⟨g34, g35, hq⟩ := hq
    refine x_callV (Yc := YX11_empty) (as := [.int ((aI h5 (fR h5 x0 2312) (Int32.toNatClampNeg (fI h5 x0 2319))) + (fI h29 x30 2053))]) (st := []) q3017 mvX11_empty g33 rfl dX9_ends_51 (xle (xal1 (rv_cat _) (xal1 rfl xal0)) (by decide)) (xfr g34) (xlo xsw0 (by decide) g35) (xKv hq (fun h36 hq e38 => ?_) (fun _ _ q _ => q))
    replace hq := hq e38
    refine x_iinc (lv' := [(2, .int (x2 + 1)), (0, rv x0), (1, rv x1)]) 2 dX9_ends_54 rfl (by decide) (by first | rfl | (simp [rv_cat, Value.category]; done) | (simp [rv_cat, Value.category]; decide)) ?_
    refine x_goto (tgt := 12) dX9_ends_57 (by decide) ?_
    refine xP.pick (lv' := [(0, rv x0), (1, rv x1), (2, .int (x2 + 1))]) [1, 2, 0] rfl ?_
    exact hq
set_option maxRecDepth 100000 in
def bX9_ends (G : xG) (fr lo : Nat) (x0 : Nat) (h : xH) (Q : Outcome → xH → Prop) : Prop := tg h x0 = 10 ∧ tg h (fR h x0 2317) = 107 ∧ vp_in (fI h x0 2319) (ln h (fR h x0 2317)) ∧ lX9_ends_12 G fr lo x0 (aR h (fR h x0 2317) (Int32.toNatClampNeg (fI h x0 2319))) 0 h Q
set_option maxRecDepth 100000 in
theorem uX9_ends {G : xG} {fr lo : Nat} {x0 : Nat} {h : xH} {Q : Outcome → xH → Prop} (hq : bX9_ends G fr lo x0 h Q) : xP G YX9_ends fr lo 0 [(0, rv x0)] [] h Q := by
  unfold bX9_ends at hq
  refine x_aload_n 0 dX9_ends_0 rfl ?_
  obtain ⟨g1, hq⟩ := hq
  refine x_get (v := rv (fR h x0 2317)) fdX9_57 dX9_ends_1 g1 rfl ?_
  refine x_aload_n 0 dX9_ends_4 rfl ?_
  refine x_get (v := .int (fI h x0 2319)) fdX9_89 dX9_ends_5 g1 rfl ?_
  obtain ⟨g2, hq⟩ := hq
  obtain ⟨i3, hq⟩ := hq
  refine x_aald 7 rfl g2 (by decide) i3 dX9_ends_8 ?_
  refine x_astore_n (lv' := [(1, rv (aR h (fR h x0 2317) (Int32.toNatClampNeg (fI h x0 2319)))), (0, rv x0)]) dX9_ends_9 (by decide) (by first | rfl | (simp [rv_cat, Value.category]; done) | (simp [rv_cat, Value.category]; decide)) ?_
  refine x_iconst (v := 0) dX9_ends_10 (by decide) ?_
  refine x_istore_n (lv' := [(2, .int 0), (1, rv (aR h (fR h x0 2317) (Int32.toNatClampNeg (fI h x0 2319)))), (0, rv x0)]) dX9_ends_11 (by decide) (by first | rfl | (simp [rv_cat, Value.category]; done) | (simp [rv_cat, Value.category]; decide)) ?_
  refine xP.pick (lv' := [(0, rv x0), (1, rv (aR h (fR h x0 2317) (Int32.toNatClampNeg (fI h x0 2319)))), (2, .int 0)]) [2, 1, 0] rfl ?_
  exact hq
theorem rX9_ends {G : xG} {fr lo : Nat} {x0 : Nat} {h : xH} {Q : Outcome → xH → Prop} (hq : bX9_ends G fr lo x0 h Q) : xR G YX9_ends fr lo [rv x0] h Q := by
  show xP _ _ _ _ _ (lv_args 0 _) _ _ _
  rw [show lv_args 0 [rv x0] = [(0, rv x0)] from (xla1 (rv_cat _) xla0)]
  exact uX9_ends hq
set_option maxRecDepth 100000 in
theorem dX9_leaps_0 : decode cX9_leaps 0 = .ok (.aload_n 0, 1) := by decide +kernel
set_option maxRecDepth 100000 in
theorem dX9_leaps_1 : decode cX9_leaps 1 = .ok (.getfield 89, 3) := by decide +kernel
set_option maxRecDepth 100000 in
theorem dX9_leaps_4 : decode cX9_leaps 4 = .ok (.iload_n 2, 1) := by decide +kernel
set_option maxRecDepth 100000 in
theorem dX9_leaps_5 : decode cX9_leaps 5 = .ok (.if_icmp .le 10, 3) := by decide +kernel
set_option maxRecDepth 100000 in
theorem dX9_leaps_8 : decode cX9_leaps 8 = .ok (.aload_n 0, 1) := by decide +kernel
set_option maxRecDepth 100000 in
theorem dX9_leaps_9 : decode cX9_leaps 9 = .ok (.invokevirtual 395, 3) := by decide +kernel
set_option maxRecDepth 100000 in
theorem dX9_leaps_12 : decode cX9_leaps 12 = .ok (.goto (-12), 3) := by decide +kernel
set_option maxRecDepth 100000 in
theorem dX9_leaps_15 : decode cX9_leaps 15 = .ok (.aload_n 0, 1) := by decide +kernel
set_option maxRecDepth 100000 in
theorem dX9_leaps_16 : decode cX9_leaps 16 = .ok (.aload_n 0, 1) := by decide +kernel
set_option maxRecDepth 100000 in
theorem dX9_leaps_17 : decode cX9_leaps 17 = .ok (.getfield 49, 3) := by decide +kernel
set_option maxRecDepth 100000 in
theorem dX9_leaps_20 : decode cX9_leaps 20 = .ok (.aload_n 0, 1) := by decide +kernel
set_option maxRecDepth 100000 in
theorem dX9_leaps_21 : decode cX9_leaps 21 = .ok (.getfield 89, 3) := by decide +kernel
set_option maxRecDepth 100000 in
theorem dX9_leaps_24 : decode cX9_leaps 24 = .ok (.iaload, 1) := by decide +kernel
set_option maxRecDepth 100000 in
theorem dX9_leaps_25 : decode cX9_leaps 25 = .ok (.putfield 86, 3) := by decide +kernel
set_option maxRecDepth 100000 in
theorem dX9_leaps_28 : decode cX9_leaps 28 = .ok (.aload_n 0, 1) := by decide +kernel
set_option maxRecDepth 100000 in
theorem dX9_leaps_29 : decode cX9_leaps 29 = .ok (.aload_n 0, 1) := by decide +kernel
set_option maxRecDepth 100000 in
theorem dX9_leaps_30 : decode cX9_leaps 30 = .ok (.getfield 75, 3) := by decide +kernel
set_option maxRecDepth 100000 in
theorem dX9_leaps_33 : decode cX9_leaps 33 = .ok (.getfield 398, 3) := by decide +kernel
set_option maxRecDepth 100000 in
theorem dX9_leaps_36 : decode cX9_leaps 36 = .ok (.iload_n 1, 1) := by decide +kernel
set_option maxRecDepth 100000 in
theorem dX9_leaps_37 : decode cX9_leaps 37 = .ok (.iaload, 1) := by decide +kernel
set_option maxRecDepth 100000 in
theorem dX9_leaps_38 : decode cX9_leaps 38 = .ok (.putfield 129, 3) := by decide +kernel
set_option maxRecDepth 100000 in
theorem dX9_leaps_41 : decode cX9_leaps 41 = .ok (.return_, 1) := by decide +kernel
def lX9_leaps_0 (G : xG) (fr lo : Nat) (x0 : Nat) (x1 : Int32) (x2 : Int32) (h : xH) (Q : Outcome → xH → Prop) : Prop := xP G YX9_leaps fr lo 0 [(0, rv x0), (1, .int x1), (2, .int x2)] [] h Q
set_option maxRecDepth 100000 in
def bX9_leaps_0 (G : xG) (fr lo : Nat) (x0 : Nat) (x1 : Int32) (x2 : Int32) (h : xH) (Q : Outcome → xH → Prop) : Prop := tg h x0 = 10 ∧ (((fI h x0 2319) ≤ x2 → tg h (fR h x0 2315) = 100 ∧ vp_in (fI h x0 2319) (ln h (fR h x0 2315)) ∧ (∀ h5 : xH, h5 = sI h x0 2310 (aI h (fR h x0 2315) (Int32.toNatClampNeg (fI h x0 2319))) → tg h5 (fR h5 x0 2304) = 3 ∧ tg h5 (fR h5 (fR h5 x0 2304) 527) = 100 ∧ vp_in x1 (ln h5 (fR h5 (fR h5 x0 2304) 527)) ∧ (∀ h11 : xH, h11 = sI h5 x0 2311 (aI h5 (fR h5 (fR h5 x0 2304) 527) (Int32.toNatClampNeg x1)) → Q (.returned none) h11))) ∧ (¬ (fI h x0 2319) ≤ x2 → 1 ≤ fr ∧ 14 ≤ lo ∧ xRv G YX9_ends (fr - 1) (lo - 14) [rv x0] h (fun h15 => xext h h15 → lX9_leaps_0 G fr lo x0 x1 x2 h15 Q) (fun r h2 => Q (.threw r) h2)))
set_option maxRecDepth 100000 in
theorem uX9_leaps_0 {G : xG} {fr lo : Nat} {x0 : Nat} {x1 : Int32} {x2 : Int32} {h : xH} {Q : Outcome → xH → Prop} (hq : bX9_leaps_0 G fr lo x0 x1 x2 h Q) : xP G YX9_leaps fr lo 0 [(0, rv x0), (1, .int x1), (2, .int x2)] [] h Q := by
  unfold bX9_leaps_0 at hq
  refine x_aload_n 0 dX9_leaps_0 rfl ?_
  obtain ⟨g1, hq⟩ := hq
  refine x_get (v := .int (fI h x0 2319)) fdX9_89 dX9_leaps_1 g1 rfl ?_
  refine x_iload_n 2 dX9_leaps_4 rfl ?_
  refine x_icmp_le (tgt := 15) dX9_leaps_5 (by decide) (fun c2 => ?_) (fun c2 => ?_)
  · replace hq := hq.1 c2
    refine x_aload_n 0 dX9_leaps_15 rfl ?_
    refine x_aload_n 0 dX9_leaps_16 rfl ?_
    refine x_get (v := rv (fR h x0 2315)) fdX9_49 dX9_leaps_17 g1 rfl ?_
    refine x_aload_n 0 dX9_leaps_20 rfl ?_
    refine x_get (v := .int (fI h x0 2319)) fdX9_89 dX9_leaps_21 g1 rfl ?_
    obtain ⟨g3, hq⟩ := hq
    obtain ⟨i4, hq⟩ := hq
    refine x_iald 0 (Or.inl rfl) g3 i4 dX9_leaps_24 ?_
    obtain ⟨h5, e6⟩ : ∃ y, y = sI h x0 2310 (aI h (fR h x0 2315) (Int32.toNatClampNeg (fI h x0 2319))) := ⟨_, rfl⟩
    replace hq := hq h5 e6
    refine x_putI fdX9_86 xty_I1 dX9_leaps_25 g1 (Or.inl (by rw [g1]; rfl)) xnI rfl e6 ?_
    refine x_aload_n 0 dX9_leaps_28 rfl ?_
    refine x_aload_n 0 dX9_leaps_29 rfl ?_
    have t7 : tg h5 x0 = 10 := by rw [e6]; exact g1
    refine x_get (v := rv (fR h5 x0 2304)) fdX9_75 dX9_leaps_30 t7 rfl ?_
    obtain ⟨g8, hq⟩ := hq
    refine x_getN (v := rv (fR h5 (fR h5 x0 2304) 527)) gfX9_398 dX9_leaps_33 g8 rfl ?_
    refine x_iload_n 1 dX9_leaps_36 rfl ?_
    obtain ⟨g9, hq⟩ := hq
    obtain ⟨i10, hq⟩ := hq
    refine x_iald 0 (Or.inl rfl) g9 i10 dX9_leaps_37 ?_
    obtain ⟨h11, e12⟩ : ∃ y, y = sI h5 x0 2311 (aI h5 (fR h5 (fR h5 x0 2304) 527) (Int32.toNatClampNeg x1)) := ⟨_, rfl⟩
    replace hq := hq h11 e12
    refine x_putI fdX9_129 xty_I1 dX9_leaps_38 t7 (Or.inl (by rw [t7]; rfl)) xnI rfl e12 ?_
    exact x_vret rfl dX9_leaps_41 hq
  · replace hq := hq.2 c2
    refine x_aload_n 0 dX9_leaps_8 rfl ?_
    obtain ⟨g13, g14, hq⟩ := hq
    refine x_callV (Yc := YX9_ends) (as := []) (st := []) q3013 mvX9_ends g1 rfl dX9_leaps_9 (xle (xal1 (rv_cat _) xal0) (by decide)) (xfr g13) (xlo xsw0 (by decide) g14) (xKv hq (fun h15 hq e17 => ?_) (fun _ _ q _ => q))
    replace hq := hq e17
    refine x_goto (tgt := 0) dX9_leaps_12 (by decide) ?_
    exact hq
def bX9_leaps (G : xG) (fr lo : Nat) (x0 : Nat) (x1 : Int32) (x2 : Int32) (h : xH) (Q : Outcome → xH → Prop) : Prop := bX9_leaps_0 G fr lo x0 x1 x2 h Q
theorem uX9_leaps {G : xG} {fr lo : Nat} {x0 : Nat} {x1 : Int32} {x2 : Int32} {h : xH} {Q : Outcome → xH → Prop} (hq : bX9_leaps G fr lo x0 x1 x2 h Q) : xP G YX9_leaps fr lo 0 [(0, rv x0), (1, .int x1), (2, .int x2)] [] h Q :=
  xP.pick (lv' := [(0, rv x0), (1, .int x1), (2, .int x2)]) [0, 1, 2] rfl (uX9_leaps_0 hq)
theorem rX9_leaps {G : xG} {fr lo : Nat} {x0 : Nat} {x1 : Int32} {x2 : Int32} {h : xH} {Q : Outcome → xH → Prop} (hq : bX9_leaps G fr lo x0 x1 x2 h Q) : xR G YX9_leaps fr lo [rv x0, .int x1, .int x2] h Q := by
  show xP _ _ _ _ _ (lv_args 0 _) _ _ _
  rw [show lv_args 0 [rv x0, .int x1, .int x2] = [(0, rv x0), (1, .int x1), (2, .int x2)] from (xla1 (rv_cat _) (xla1 rfl (xla1 rfl xla0)))]
  exact uX9_leaps hq
set_option maxRecDepth 100000 in
theorem dX9_bounds_0 : decode cX9_bounds 0 = .ok (.iconst 1, 1) := by decide +kernel
set_option maxRecDepth 100000 in
theorem dX9_bounds_1 : decode cX9_bounds 1 = .ok (.istore 4, 2) := by decide +kernel
set_option maxRecDepth 100000 in
theorem dX9_bounds_3 : decode cX9_bounds 3 = .ok (.iconst 0, 1) := by decide +kernel
set_option maxRecDepth 100000 in
theorem dX9_bounds_4 : decode cX9_bounds 4 = .ok (.istore 5, 2) := by decide +kernel
set_option maxRecDepth 100000 in
theorem dX9_bounds_6 : decode cX9_bounds 6 = .ok (.iload 5, 2) := by decide +kernel
set_option maxRecDepth 100000 in
theorem dX9_bounds_8 : decode cX9_bounds 8 = .ok (.sipush 128, 3) := by decide +kernel
set_option maxRecDepth 100000 in
theorem dX9_bounds_11 : decode cX9_bounds 11 = .ok (.if_icmp .ge 80, 3) := by decide +kernel
set_option maxRecDepth 100000 in
theorem dX9_bounds_14 : decode cX9_bounds 14 = .ok (.iload 5, 2) := by decide +kernel
set_option maxRecDepth 100000 in
theorem dX9_bounds_16 : decode cX9_bounds 16 = .ok (.bipush 64, 2) := by decide +kernel
set_option maxRecDepth 100000 in
theorem dX9_bounds_18 : decode cX9_bounds 18 = .ok (.if_icmp .ge 17, 3) := by decide +kernel
set_option maxRecDepth 100000 in
theorem dX9_bounds_21 : decode cX9_bounds 21 = .ok (.aload_n 0, 1) := by decide +kernel
set_option maxRecDepth 100000 in
theorem dX9_bounds_22 : decode cX9_bounds 22 = .ok (.getfield 28, 3) := by decide +kernel
set_option maxRecDepth 100000 in
theorem dX9_bounds_25 : decode cX9_bounds 25 = .ok (.aload_n 0, 1) := by decide +kernel
set_option maxRecDepth 100000 in
theorem dX9_bounds_26 : decode cX9_bounds 26 = .ok (.getfield 86, 3) := by decide +kernel
set_option maxRecDepth 100000 in
theorem dX9_bounds_29 : decode cX9_bounds 29 = .ok (.iconst 1, 1) := by decide +kernel
set_option maxRecDepth 100000 in
theorem dX9_bounds_30 : decode cX9_bounds 30 = .ok (.isub, 1) := by decide +kernel
set_option maxRecDepth 100000 in
theorem dX9_bounds_31 : decode cX9_bounds 31 = .ok (.laload, 1) := by decide +kernel
set_option maxRecDepth 100000 in
theorem dX9_bounds_32 : decode cX9_bounds 32 = .ok (.goto 14, 3) := by decide +kernel
set_option maxRecDepth 100000 in
theorem dX9_bounds_35 : decode cX9_bounds 35 = .ok (.aload_n 0, 1) := by decide +kernel
set_option maxRecDepth 100000 in
theorem dX9_bounds_36 : decode cX9_bounds 36 = .ok (.getfield 32, 3) := by decide +kernel
set_option maxRecDepth 100000 in
theorem dX9_bounds_39 : decode cX9_bounds 39 = .ok (.aload_n 0, 1) := by decide +kernel
set_option maxRecDepth 100000 in
theorem dX9_bounds_40 : decode cX9_bounds 40 = .ok (.getfield 86, 3) := by decide +kernel
set_option maxRecDepth 100000 in
theorem dX9_bounds_43 : decode cX9_bounds 43 = .ok (.iconst 1, 1) := by decide +kernel
set_option maxRecDepth 100000 in
theorem dX9_bounds_44 : decode cX9_bounds 44 = .ok (.isub, 1) := by decide +kernel
set_option maxRecDepth 100000 in
theorem dX9_bounds_45 : decode cX9_bounds 45 = .ok (.laload, 1) := by decide +kernel
set_option maxRecDepth 100000 in
theorem dX9_bounds_46 : decode cX9_bounds 46 = .ok (.lstore 6, 2) := by decide +kernel
set_option maxRecDepth 100000 in
theorem dX9_bounds_48 : decode cX9_bounds 48 = .ok (.iload 4, 2) := by decide +kernel
set_option maxRecDepth 100000 in
theorem dX9_bounds_50 : decode cX9_bounds 50 = .ok (.lload 6, 2) := by decide +kernel
set_option maxRecDepth 100000 in
theorem dX9_bounds_52 : decode cX9_bounds 52 = .ok (.iload 5, 2) := by decide +kernel
set_option maxRecDepth 100000 in
theorem dX9_bounds_54 : decode cX9_bounds 54 = .ok (.bipush 63, 2) := by decide +kernel
set_option maxRecDepth 100000 in
theorem dX9_bounds_56 : decode cX9_bounds 56 = .ok (.iand, 1) := by decide +kernel
set_option maxRecDepth 100000 in
theorem dX9_bounds_57 : decode cX9_bounds 57 = .ok (.lshr, 1) := by decide +kernel
set_option maxRecDepth 100000 in
theorem dX9_bounds_58 : decode cX9_bounds 58 = .ok (.lconst 1, 1) := by decide +kernel
set_option maxRecDepth 100000 in
theorem dX9_bounds_59 : decode cX9_bounds 59 = .ok (.land, 1) := by decide +kernel
set_option maxRecDepth 100000 in
theorem dX9_bounds_60 : decode cX9_bounds 60 = .ok (.lconst 0, 1) := by decide +kernel
set_option maxRecDepth 100000 in
theorem dX9_bounds_61 : decode cX9_bounds 61 = .ok (.lcmp, 1) := by decide +kernel
set_option maxRecDepth 100000 in
theorem dX9_bounds_62 : decode cX9_bounds 62 = .ok (.ifCond .eq 15, 3) := by decide +kernel
set_option maxRecDepth 100000 in
theorem dX9_bounds_65 : decode cX9_bounds 65 = .ok (.iload 5, 2) := by decide +kernel
set_option maxRecDepth 100000 in
theorem dX9_bounds_67 : decode cX9_bounds 67 = .ok (.iload_n 1, 1) := by decide +kernel
set_option maxRecDepth 100000 in
theorem dX9_bounds_68 : decode cX9_bounds 68 = .ok (.if_icmp .lt 13, 3) := by decide +kernel
set_option maxRecDepth 100000 in
theorem dX9_bounds_71 : decode cX9_bounds 71 = .ok (.iload 5, 2) := by decide +kernel
set_option maxRecDepth 100000 in
theorem dX9_bounds_73 : decode cX9_bounds 73 = .ok (.iload_n 2, 1) := by decide +kernel
set_option maxRecDepth 100000 in
theorem dX9_bounds_74 : decode cX9_bounds 74 = .ok (.if_icmp .gt 7, 3) := by decide +kernel
set_option maxRecDepth 100000 in
theorem dX9_bounds_77 : decode cX9_bounds 77 = .ok (.iconst 1, 1) := by decide +kernel
set_option maxRecDepth 100000 in
theorem dX9_bounds_78 : decode cX9_bounds 78 = .ok (.goto 4, 3) := by decide +kernel
set_option maxRecDepth 100000 in
theorem dX9_bounds_81 : decode cX9_bounds 81 = .ok (.iconst 0, 1) := by decide +kernel
set_option maxRecDepth 100000 in
theorem dX9_bounds_82 : decode cX9_bounds 82 = .ok (.iand, 1) := by decide +kernel
set_option maxRecDepth 100000 in
theorem dX9_bounds_83 : decode cX9_bounds 83 = .ok (.istore 4, 2) := by decide +kernel
set_option maxRecDepth 100000 in
theorem dX9_bounds_85 : decode cX9_bounds 85 = .ok (.iinc 5 1, 3) := by decide +kernel
set_option maxRecDepth 100000 in
theorem dX9_bounds_88 : decode cX9_bounds 88 = .ok (.goto (-82), 3) := by decide +kernel
set_option maxRecDepth 100000 in
theorem dX9_bounds_91 : decode cX9_bounds 91 = .ok (.iload 4, 2) := by decide +kernel
set_option maxRecDepth 100000 in
theorem dX9_bounds_93 : decode cX9_bounds 93 = .ok (.ifCond .ne 9, 3) := by decide +kernel
set_option maxRecDepth 100000 in
theorem dX9_bounds_96 : decode cX9_bounds 96 = .ok (.aload_n 0, 1) := by decide +kernel
set_option maxRecDepth 100000 in
theorem dX9_bounds_97 : decode cX9_bounds 97 = .ok (.iconst 1, 1) := by decide +kernel
set_option maxRecDepth 100000 in
theorem dX9_bounds_98 : decode cX9_bounds 98 = .ok (.iload_n 3, 1) := by decide +kernel
set_option maxRecDepth 100000 in
theorem dX9_bounds_99 : decode cX9_bounds 99 = .ok (.invokevirtual 147, 3) := by decide +kernel
set_option maxRecDepth 100000 in
theorem dX9_bounds_102 : decode cX9_bounds 102 = .ok (.return_, 1) := by decide +kernel
def lX9_bounds_6 (G : xG) (fr lo : Nat) (x0 : Nat) (x1 : Int32) (x2 : Int32) (x3 : Int32) (x4 : Int32) (x5 : Int32) (h : xH) (Q : Outcome → xH → Prop) : Prop := xP G YX9_bounds fr lo 6 [(0, rv x0), (1, .int x1), (2, .int x2), (3, .int x3), (4, .int x4), (5, .int x5)] [] h Q
set_option maxRecDepth 100000 in
def bX9_bounds_102 (G : xG) (fr lo : Nat) (h : xH) (Q : Outcome → xH → Prop) : Prop := Q (.returned none) h
set_option maxRecDepth 100000 in
theorem uX9_bounds_102 {G : xG} {fr lo : Nat} {h : xH} {Q : Outcome → xH → Prop} (hq : bX9_bounds_102 G fr lo h Q) : xP G YX9_bounds fr lo 102 [] [] h Q := by
  unfold bX9_bounds_102 at hq
  exact x_vret rfl dX9_bounds_102 hq
set_option maxRecDepth 100000 in
def bX9_bounds_82 (G : xG) (fr lo : Nat) (x0 : Nat) (x1 : Int32) (x2 : Int32) (x3 : Int32) (x5 : Int32) (s0 : Int32) (s1 : Int32) (h : xH) (Q : Outcome → xH → Prop) : Prop := lX9_bounds_6 G fr lo x0 x1 x2 x3 (s1 &&& s0) (x5 + 1) h Q
set_option maxRecDepth 100000 in
theorem uX9_bounds_82 {G : xG} {fr lo : Nat} {x0 : Nat} {x1 : Int32} {x2 : Int32} {x3 : Int32} {x5 : Int32} {s0 : Int32} {s1 : Int32} {h : xH} {Q : Outcome → xH → Prop} (hq : bX9_bounds_82 G fr lo x0 x1 x2 x3 x5 s0 s1 h Q) : xP G YX9_bounds fr lo 82 [(0, rv x0), (1, .int x1), (2, .int x2), (3, .int x3), (5, .int x5)] [.int s0, .int s1] h Q := by
  unfold bX9_bounds_82 at hq
  refine x_iand dX9_bounds_82 ?_
  refine x_istore (lv' := [(4, .int (s1 &&& s0)), (0, rv x0), (1, .int x1), (2, .int x2), (3, .int x3), (5, .int x5)]) dX9_bounds_83 (by decide) rfl ?_
  refine x_iinc (lv' := [(5, .int (x5 + 1)), (4, .int (s1 &&& s0)), (0, rv x0), (1, .int x1), (2, .int x2), (3, .int x3)]) 5 dX9_bounds_85 rfl (by decide) rfl ?_
  refine x_goto (tgt := 6) dX9_bounds_88 (by decide) ?_
  refine xP.pick (lv' := [(0, rv x0), (1, .int x1), (2, .int x2), (3, .int x3), (4, .int (s1 &&& s0)), (5, .int (x5 + 1))]) [2, 3, 4, 5, 1, 0] rfl ?_
  exact hq
set_option maxRecDepth 100000 in
def bX9_bounds_81 (G : xG) (fr lo : Nat) (x0 : Nat) (x1 : Int32) (x2 : Int32) (x3 : Int32) (x5 : Int32) (s0 : Int32) (h : xH) (Q : Outcome → xH → Prop) : Prop := bX9_bounds_82 G fr lo x0 x1 x2 x3 x5 0 s0 h Q
set_option maxRecDepth 100000 in
theorem uX9_bounds_81 {G : xG} {fr lo : Nat} {x0 : Nat} {x1 : Int32} {x2 : Int32} {x3 : Int32} {x5 : Int32} {s0 : Int32} {h : xH} {Q : Outcome → xH → Prop} (hq : bX9_bounds_81 G fr lo x0 x1 x2 x3 x5 s0 h Q) : xP G YX9_bounds fr lo 81 [(0, rv x0), (1, .int x1), (2, .int x2), (3, .int x3), (5, .int x5)] [.int s0] h Q := by
  unfold bX9_bounds_81 at hq
  refine x_iconst (v := 0) dX9_bounds_81 (by decide) ?_
  exact uX9_bounds_82 hq
set_option maxRecDepth 100000 in
def bX9_bounds_77 (G : xG) (fr lo : Nat) (x0 : Nat) (x1 : Int32) (x2 : Int32) (x3 : Int32) (x5 : Int32) (s0 : Int32) (h : xH) (Q : Outcome → xH → Prop) : Prop := bX9_bounds_82 G fr lo x0 x1 x2 x3 x5 1 s0 h Q
set_option maxRecDepth 100000 in
theorem uX9_bounds_77 {G : xG} {fr lo : Nat} {x0 : Nat} {x1 : Int32} {x2 : Int32} {x3 : Int32} {x5 : Int32} {s0 : Int32} {h : xH} {Q : Outcome → xH → Prop} (hq : bX9_bounds_77 G fr lo x0 x1 x2 x3 x5 s0 h Q) : xP G YX9_bounds fr lo 77 [(0, rv x0), (1, .int x1), (2, .int x2), (3, .int x3), (5, .int x5)] [.int s0] h Q := by
  unfold bX9_bounds_77 at hq
  refine x_iconst (v := 1) dX9_bounds_77 (by decide) ?_
  refine x_goto (tgt := 82) dX9_bounds_78 (by decide) ?_
  exact uX9_bounds_82 hq
set_option maxRecDepth 100000 in
def bX9_bounds_46 (G : xG) (fr lo : Nat) (x0 : Nat) (x1 : Int32) (x2 : Int32) (x3 : Int32) (x4 : Int32) (x5 : Int32) (s0 : Int64) (h : xH) (Q : Outcome → xH → Prop) : Prop := (((lg_cmp ((s0 >>> (Int32.toInt64 (x5 &&& 63) &&& 63)) &&& 1) 0) = 0 → bX9_bounds_77 G fr lo x0 x1 x2 x3 x5 x4 h Q) ∧ (¬ (lg_cmp ((s0 >>> (Int32.toInt64 (x5 &&& 63) &&& 63)) &&& 1) 0) = 0 → ((x5 < x1 → bX9_bounds_81 G fr lo x0 x1 x2 x3 x5 x4 h Q) ∧ (¬ x5 < x1 → ((x2 < x5 → bX9_bounds_81 G fr lo x0 x1 x2 x3 x5 x4 h Q) ∧ (¬ x2 < x5 → bX9_bounds_77 G fr lo x0 x1 x2 x3 x5 x4 h Q))))))
set_option maxRecDepth 100000 in
theorem uX9_bounds_46 {G : xG} {fr lo : Nat} {x0 : Nat} {x1 : Int32} {x2 : Int32} {x3 : Int32} {x4 : Int32} {x5 : Int32} {s0 : Int64} {h : xH} {Q : Outcome → xH → Prop} (hq : bX9_bounds_46 G fr lo x0 x1 x2 x3 x4 x5 s0 h Q) : xP G YX9_bounds fr lo 46 [(0, rv x0), (1, .int x1), (2, .int x2), (3, .int x3), (4, .int x4), (5, .int x5)] [.long s0] h Q := by
  unfold bX9_bounds_46 at hq
  refine x_lstore (lv' := [(6, .long s0), (0, rv x0), (1, .int x1), (2, .int x2), (3, .int x3), (4, .int x4), (5, .int x5)]) dX9_bounds_46 (by decide) rfl ?_
  refine x_iload 5 dX9_bounds_48 rfl ?_
  refine x_lload 0 dX9_bounds_50 rfl ?_
  refine x_iload 6 dX9_bounds_52 rfl ?_
  refine x_bipush (v := 63) dX9_bounds_54 (by decide) ?_
  refine x_iand dX9_bounds_56 ?_
  refine x_lshr dX9_bounds_57 ?_
  refine x_lconst (v := 1) dX9_bounds_58 (by decide) ?_
  refine x_land dX9_bounds_59 ?_
  refine x_lconst (v := 0) dX9_bounds_60 (by decide) ?_
  refine x_lcmp dX9_bounds_61 ?_
  refine x_if_eq (tgt := 77) dX9_bounds_62 (by decide) (fun c1 => ?_) (fun c1 => ?_)
  · replace hq := hq.1 c1
    refine xP.pick (lv' := [(0, rv x0), (1, .int x1), (2, .int x2), (3, .int x3), (5, .int x5)]) [1, 2, 3, 4, 6] rfl ?_
    exact uX9_bounds_77 hq
  · replace hq := hq.2 c1
    refine x_iload 6 dX9_bounds_65 rfl ?_
    refine x_iload_n 2 dX9_bounds_67 rfl ?_
    refine x_icmp_lt (tgt := 81) dX9_bounds_68 (by decide) (fun c2 => ?_) (fun c2 => ?_)
    · replace hq := hq.1 c2
      refine xP.pick (lv' := [(0, rv x0), (1, .int x1), (2, .int x2), (3, .int x3), (5, .int x5)]) [1, 2, 3, 4, 6] rfl ?_
      exact uX9_bounds_81 hq
    · replace hq := hq.2 c2
      refine x_iload 6 dX9_bounds_71 rfl ?_
      refine x_iload_n 3 dX9_bounds_73 rfl ?_
      refine x_icmp_gt (tgt := 81) dX9_bounds_74 (by decide) (fun c3 => ?_) (fun c3 => ?_)
      · replace hq := hq.1 c3
        refine xP.pick (lv' := [(0, rv x0), (1, .int x1), (2, .int x2), (3, .int x3), (5, .int x5)]) [1, 2, 3, 4, 6] rfl ?_
        exact uX9_bounds_81 hq
      · replace hq := hq.2 c3
        refine xP.pick (lv' := [(0, rv x0), (1, .int x1), (2, .int x2), (3, .int x3), (5, .int x5)]) [1, 2, 3, 4, 6] rfl ?_
        exact uX9_bounds_77 hq
set_option maxRecDepth 100000 in
def bX9_bounds_6 (G : xG) (fr lo : Nat) (x0 : Nat) (x1 : Int32) (x2 : Int32) (x3 : Int32) (x4 : Int32) (x5 : Int32) (h : xH) (Q : Outcome → xH → Prop) : Prop := ((128 ≤ x5 → ((¬ x4 = 0 → bX9_bounds_102 G fr lo h Q) ∧ (x4 = 0 → tg h x0 = 10 ∧ 1 ≤ fr ∧ 14 ≤ lo ∧ xRv G YX9_fail (fr - 1) (lo - 14) [rv x0, .int 1, .int x3] h (fun h6 => xext h h6 → bX9_bounds_102 G fr lo h6 Q) (fun r h2 => Q (.threw r) h2)))) ∧ (¬ 128 ≤ x5 → ((64 ≤ x5 → tg h x0 = 10 ∧ tg h (fR h x0 2308) = 101 ∧ vp_in ((fI h x0 2310) - 1) (ln h (fR h x0 2308)) ∧ bX9_bounds_46 G fr lo x0 x1 x2 x3 x4 x5 (aJ h (fR h x0 2308) (Int32.toNatClampNeg ((fI h x0 2310) - 1))) h Q) ∧ (¬ 64 ≤ x5 → tg h x0 = 10 ∧ tg h (fR h x0 2307) = 101 ∧ vp_in ((fI h x0 2310) - 1) (ln h (fR h x0 2307)) ∧ bX9_bounds_46 G fr lo x0 x1 x2 x3 x4 x5 (aJ h (fR h x0 2307) (Int32.toNatClampNeg ((fI h x0 2310) - 1))) h Q))))
set_option maxRecDepth 100000 in
theorem uX9_bounds_6 {G : xG} {fr lo : Nat} {x0 : Nat} {x1 : Int32} {x2 : Int32} {x3 : Int32} {x4 : Int32} {x5 : Int32} {h : xH} {Q : Outcome → xH → Prop} (hq : bX9_bounds_6 G fr lo x0 x1 x2 x3 x4 x5 h Q) : xP G YX9_bounds fr lo 6 [(0, rv x0), (1, .int x1), (2, .int x2), (3, .int x3), (4, .int x4), (5, .int x5)] [] h Q := by
  unfold bX9_bounds_6 at hq
  refine x_iload 5 dX9_bounds_6 rfl ?_
  refine x_sipush (v := 128) dX9_bounds_8 (by decide) ?_
  refine x_icmp_ge (tgt := 91) dX9_bounds_11 (by decide) (fun c1 => ?_) (fun c1 => ?_)
  · replace hq := hq.1 c1
    refine x_iload 4 dX9_bounds_91 rfl ?_
    refine x_if_ne (tgt := 102) dX9_bounds_93 (by decide) (fun c2 => ?_) (fun c2 => ?_)
    · replace hq := hq.1 c2
      refine xP.pick (lv' := []) [] rfl ?_
      exact uX9_bounds_102 hq
    · replace hq := hq.2 c2
      refine x_aload_n 0 dX9_bounds_96 rfl ?_
      refine x_iconst (v := 1) dX9_bounds_97 (by decide) ?_
      refine x_iload_n 3 dX9_bounds_98 rfl ?_
      obtain ⟨g3, hq⟩ := hq
      obtain ⟨g4, g5, hq⟩ := hq
      refine x_callV (Yc := YX9_fail) (as := [.int 1, .int x3]) (st := []) q2835 mvX9_fail g3 rfl dX9_bounds_99 (xle (xal1 (rv_cat _) (xal1 rfl (xal1 rfl xal0))) (by decide)) (xfr g4) (xlo xsw0 (by decide) g5) (xKv hq (fun h6 hq e8 => ?_) (fun _ _ q _ => q))
      replace hq := hq e8
      refine xP.pick (lv' := []) [] rfl ?_
      exact uX9_bounds_102 hq
  · replace hq := hq.2 c1
    refine x_iload 5 dX9_bounds_14 rfl ?_
    refine x_bipush (v := 64) dX9_bounds_16 (by decide) ?_
    refine x_icmp_ge (tgt := 35) dX9_bounds_18 (by decide) (fun c9 => ?_) (fun c9 => ?_)
    · replace hq := hq.1 c9
      refine x_aload_n 0 dX9_bounds_35 rfl ?_
      obtain ⟨g10, hq⟩ := hq
      refine x_get (v := rv (fR h x0 2308)) fdX9_32 dX9_bounds_36 g10 rfl ?_
      refine x_aload_n 0 dX9_bounds_39 rfl ?_
      refine x_get (v := .int (fI h x0 2310)) fdX9_86 dX9_bounds_40 g10 rfl ?_
      refine x_iconst (v := 1) dX9_bounds_43 (by decide) ?_
      refine x_isub dX9_bounds_44 ?_
      obtain ⟨g11, hq⟩ := hq
      obtain ⟨i12, hq⟩ := hq
      refine x_lald g11 i12 dX9_bounds_45 ?_
      exact uX9_bounds_46 hq
    · replace hq := hq.2 c9
      refine x_aload_n 0 dX9_bounds_21 rfl ?_
      obtain ⟨g13, hq⟩ := hq
      refine x_get (v := rv (fR h x0 2307)) fdX9_28 dX9_bounds_22 g13 rfl ?_
      refine x_aload_n 0 dX9_bounds_25 rfl ?_
      refine x_get (v := .int (fI h x0 2310)) fdX9_86 dX9_bounds_26 g13 rfl ?_
      refine x_iconst (v := 1) dX9_bounds_29 (by decide) ?_
      refine x_isub dX9_bounds_30 ?_
      obtain ⟨g14, hq⟩ := hq
      obtain ⟨i15, hq⟩ := hq
      refine x_lald g14 i15 dX9_bounds_31 ?_
      refine x_goto (tgt := 46) dX9_bounds_32 (by decide) ?_
      exact uX9_bounds_46 hq
set_option maxRecDepth 100000 in
def bX9_bounds (G : xG) (fr lo : Nat) (x0 : Nat) (x1 : Int32) (x2 : Int32) (x3 : Int32) (h : xH) (Q : Outcome → xH → Prop) : Prop := lX9_bounds_6 G fr lo x0 x1 x2 x3 1 0 h Q
set_option maxRecDepth 100000 in
theorem uX9_bounds {G : xG} {fr lo : Nat} {x0 : Nat} {x1 : Int32} {x2 : Int32} {x3 : Int32} {h : xH} {Q : Outcome → xH → Prop} (hq : bX9_bounds G fr lo x0 x1 x2 x3 h Q) : xP G YX9_bounds fr lo 0 [(0, rv x0), (1, .int x1), (2, .int x2), (3, .int x3)] [] h Q := by
  unfold bX9_bounds at hq
  refine x_iconst (v := 1) dX9_bounds_0 (by decide) ?_
  refine x_istore (lv' := [(4, .int 1), (0, rv x0), (1, .int x1), (2, .int x2), (3, .int x3)]) dX9_bounds_1 (by decide) rfl ?_
  refine x_iconst (v := 0) dX9_bounds_3 (by decide) ?_
  refine x_istore (lv' := [(5, .int 0), (4, .int 1), (0, rv x0), (1, .int x1), (2, .int x2), (3, .int x3)]) dX9_bounds_4 (by decide) rfl ?_
  refine xP.pick (lv' := [(0, rv x0), (1, .int x1), (2, .int x2), (3, .int x3), (4, .int 1), (5, .int 0)]) [2, 3, 4, 5, 1, 0] rfl ?_
  exact hq
theorem rX9_bounds {G : xG} {fr lo : Nat} {x0 : Nat} {x1 : Int32} {x2 : Int32} {x3 : Int32} {h : xH} {Q : Outcome → xH → Prop} (hq : bX9_bounds G fr lo x0 x1 x2 x3 h Q) : xR G YX9_bounds fr lo [rv x0, .int x1, .int x2, .int x3] h Q := by
  show xP _ _ _ _ _ (lv_args 0 _) _ _ _
  rw [show lv_args 0 [rv x0, .int x1, .int x2, .int x3] = [(0, rv x0), (1, .int x1), (2, .int x2), (3, .int x3)] from (xla1 (rv_cat _) (xla1 rfl (xla1 rfl (xla1 rfl xla0))))]
  exact uX9_bounds hq
