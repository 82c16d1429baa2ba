/-! PascalHouse$Compiler, walked (5) -/
set_option maxRecDepth 100000 in
theorem dX5_writes_0 : decode cX5_writes 0 = .ok (.aload_n 2, 1) := by decide +kernel
set_option maxRecDepth 100000 in
theorem dX5_writes_1 : decode cX5_writes 1 = .ok (.getfield 251, 3) := by decide +kernel
set_option maxRecDepth 100000 in
theorem dX5_writes_4 : decode cX5_writes 4 = .ok (.astore 4, 2) := by decide +kernel
set_option maxRecDepth 100000 in
theorem dX5_writes_6 : decode cX5_writes 6 = .ok (.aload_n 1, 1) := by decide +kernel
set_option maxRecDepth 100000 in
theorem dX5_writes_7 : decode cX5_writes 7 = .ok (.getfield 249, 3) := by decide +kernel
set_option maxRecDepth 100000 in
theorem dX5_writes_10 : decode cX5_writes 10 = .ok (.invokevirtual 768, 3) := by decide +kernel
set_option maxRecDepth 100000 in
theorem dX5_writes_13 : decode cX5_writes 13 = .ok (.ifCond .ne 145, 3) := by decide +kernel
set_option maxRecDepth 100000 in
theorem dX5_writes_16 : decode cX5_writes 16 = .ok (.aload_n 0, 1) := by decide +kernel
set_option maxRecDepth 100000 in
theorem dX5_writes_17 : decode cX5_writes 17 = .ok (.aload_n 1, 1) := by decide +kernel
set_option maxRecDepth 100000 in
theorem dX5_writes_18 : decode cX5_writes 18 = .ok (.invokevirtual 674, 3) := by decide +kernel
set_option maxRecDepth 100000 in
theorem dX5_writes_21 : decode cX5_writes 21 = .ok (.aload_n 0, 1) := by decide +kernel
set_option maxRecDepth 100000 in
theorem dX5_writes_22 : decode cX5_writes 22 = .ok (.getfield 62, 3) := by decide +kernel
set_option maxRecDepth 100000 in
theorem dX5_writes_25 : decode cX5_writes 25 = .ok (.iconst 4, 1) := by decide +kernel
set_option maxRecDepth 100000 in
theorem dX5_writes_26 : decode cX5_writes 26 = .ok (.iconst 1, 1) := by decide +kernel
set_option maxRecDepth 100000 in
theorem dX5_writes_27 : decode cX5_writes 27 = .ok (.iconst 0, 1) := by decide +kernel
set_option maxRecDepth 100000 in
theorem dX5_writes_28 : decode cX5_writes 28 = .ok (.iconst 0, 1) := by decide +kernel
set_option maxRecDepth 100000 in
theorem dX5_writes_29 : decode cX5_writes 29 = .ok (.iconst 0, 1) := by decide +kernel
set_option maxRecDepth 100000 in
theorem dX5_writes_30 : decode cX5_writes 30 = .ok (.invokevirtual 506, 3) := by decide +kernel
set_option maxRecDepth 100000 in
theorem dX5_writes_33 : decode cX5_writes 33 = .ok (.pop, 1) := by decide +kernel
set_option maxRecDepth 100000 in
theorem dX5_writes_34 : decode cX5_writes 34 = .ok (.aload_n 0, 1) := by decide +kernel
set_option maxRecDepth 100000 in
theorem dX5_writes_35 : decode cX5_writes 35 = .ok (.aload 4, 2) := by decide +kernel
set_option maxRecDepth 100000 in
theorem dX5_writes_37 : decode cX5_writes 37 = .ok (.invokevirtual 654, 3) := by decide +kernel
set_option maxRecDepth 100000 in
theorem dX5_writes_40 : decode cX5_writes 40 = .ok (.astore 5, 2) := by decide +kernel
set_option maxRecDepth 100000 in
theorem dX5_writes_42 : decode cX5_writes 42 = .ok (.aload_n 1, 1) := by decide +kernel
set_option maxRecDepth 100000 in
theorem dX5_writes_43 : decode cX5_writes 43 = .ok (.getfield 249, 3) := by decide +kernel
set_option maxRecDepth 100000 in
theorem dX5_writes_46 : decode cX5_writes 46 = .ok (.getfield 286, 3) := by decide +kernel
set_option maxRecDepth 100000 in
theorem dX5_writes_49 : decode cX5_writes 49 = .ok (.aload 5, 2) := by decide +kernel
set_option maxRecDepth 100000 in
theorem dX5_writes_51 : decode cX5_writes 51 = .ok (.invokevirtual 678, 3) := by decide +kernel
set_option maxRecDepth 100000 in
theorem dX5_writes_54 : decode cX5_writes 54 = .ok (.ifCond .ne 16, 3) := by decide +kernel
set_option maxRecDepth 100000 in
theorem dX5_writes_57 : decode cX5_writes 57 = .ok (.aload_n 0, 1) := by decide +kernel
set_option maxRecDepth 100000 in
theorem dX5_writes_58 : decode cX5_writes 58 = .ok (.bipush 7, 2) := by decide +kernel
set_option maxRecDepth 100000 in
theorem dX5_writes_60 : decode cX5_writes 60 = .ok (.aload_n 0, 1) := by decide +kernel
set_option maxRecDepth 100000 in
theorem dX5_writes_61 : decode cX5_writes 61 = .ok (.aload 4, 2) := by decide +kernel
set_option maxRecDepth 100000 in
theorem dX5_writes_63 : decode cX5_writes 63 = .ok (.invokevirtual 624, 3) := by decide +kernel
set_option maxRecDepth 100000 in
theorem dX5_writes_66 : decode cX5_writes 66 = .ok (.invokevirtual 163, 3) := by decide +kernel
set_option maxRecDepth 100000 in
theorem dX5_writes_69 : decode cX5_writes 69 = .ok (.athrow, 1) := by decide +kernel
set_option maxRecDepth 100000 in
theorem dX5_writes_70 : decode cX5_writes 70 = .ok (.aload 4, 2) := by decide +kernel
set_option maxRecDepth 100000 in
theorem dX5_writes_72 : decode cX5_writes 72 = .ok (.getfield 307, 3) := by decide +kernel
set_option maxRecDepth 100000 in
theorem dX5_writes_75 : decode cX5_writes 75 = .ok (.ifnull 18, 3) := by decide +kernel
set_option maxRecDepth 100000 in
theorem dX5_writes_78 : decode cX5_writes 78 = .ok (.aload_n 0, 1) := by decide +kernel
set_option maxRecDepth 100000 in
theorem dX5_writes_79 : decode cX5_writes 79 = .ok (.bipush 7, 2) := by decide +kernel
set_option maxRecDepth 100000 in
theorem dX5_writes_81 : decode cX5_writes 81 = .ok (.aload 4, 2) := by decide +kernel
set_option maxRecDepth 100000 in
theorem dX5_writes_83 : decode cX5_writes 83 = .ok (.getfield 307, 3) := by decide +kernel
set_option maxRecDepth 100000 in
theorem dX5_writes_86 : decode cX5_writes 86 = .ok (.invokevirtual 192, 3) := by decide +kernel
set_option maxRecDepth 100000 in
theorem dX5_writes_89 : decode cX5_writes 89 = .ok (.invokevirtual 163, 3) := by decide +kernel
set_option maxRecDepth 100000 in
theorem dX5_writes_92 : decode cX5_writes 92 = .ok (.athrow, 1) := by decide +kernel
set_option maxRecDepth 100000 in
theorem dX5_writes_93 : decode cX5_writes 93 = .ok (.aload_n 0, 1) := by decide +kernel
set_option maxRecDepth 100000 in
theorem dX5_writes_94 : decode cX5_writes 94 = .ok (.aload_n 1, 1) := by decide +kernel
set_option maxRecDepth 100000 in
theorem dX5_writes_95 : decode cX5_writes 95 = .ok (.getfield 249, 3) := by decide +kernel
set_option maxRecDepth 100000 in
theorem dX5_writes_98 : decode cX5_writes 98 = .ok (.getfield 286, 3) := by decide +kernel
set_option maxRecDepth 100000 in
theorem dX5_writes_101 : decode cX5_writes 101 = .ok (.aload 5, 2) := by decide +kernel
set_option maxRecDepth 100000 in
theorem dX5_writes_103 : decode cX5_writes 103 = .ok (.aload_n 0, 1) := by decide +kernel
set_option maxRecDepth 100000 in
theorem dX5_writes_104 : decode cX5_writes 104 = .ok (.aload 4, 2) := by decide +kernel
set_option maxRecDepth 100000 in
theorem dX5_writes_106 : decode cX5_writes 106 = .ok (.invokevirtual 624, 3) := by decide +kernel
set_option maxRecDepth 100000 in
theorem dX5_writes_109 : decode cX5_writes 109 = .ok (.invokevirtual 712, 3) := by decide +kernel
set_option maxRecDepth 100000 in
theorem dX5_writes_112 : decode cX5_writes 112 = .ok (.aload_n 0, 1) := by decide +kernel
set_option maxRecDepth 100000 in
theorem dX5_writes_113 : decode cX5_writes 113 = .ok (.aload_n 1, 1) := by decide +kernel
set_option maxRecDepth 100000 in
theorem dX5_writes_114 : decode cX5_writes 114 = .ok (.invokevirtual 674, 3) := by decide +kernel
set_option maxRecDepth 100000 in
theorem dX5_writes_117 : decode cX5_writes 117 = .ok (.aload_n 0, 1) := by decide +kernel
set_option maxRecDepth 100000 in
theorem dX5_writes_118 : decode cX5_writes 118 = .ok (.getfield 62, 3) := by decide +kernel
set_option maxRecDepth 100000 in
theorem dX5_writes_121 : decode cX5_writes 121 = .ok (.bipush 85, 2) := by decide +kernel
set_option maxRecDepth 100000 in
theorem dX5_writes_123 : decode cX5_writes 123 = .ok (.iconst 0, 1) := by decide +kernel
set_option maxRecDepth 100000 in
theorem dX5_writes_124 : decode cX5_writes 124 = .ok (.aload_n 1, 1) := by decide +kernel
set_option maxRecDepth 100000 in
theorem dX5_writes_125 : decode cX5_writes 125 = .ok (.getfield 249, 3) := by decide +kernel
set_option maxRecDepth 100000 in
theorem dX5_writes_128 : decode cX5_writes 128 = .ok (.getfield 286, 3) := by decide +kernel
set_option maxRecDepth 100000 in
theorem dX5_writes_131 : decode cX5_writes 131 = .ok (.getfield 66, 3) := by decide +kernel
set_option maxRecDepth 100000 in
theorem dX5_writes_134 : decode cX5_writes 134 = .ok (.aload_n 1, 1) := by decide +kernel
set_option maxRecDepth 100000 in
theorem dX5_writes_135 : decode cX5_writes 135 = .ok (.getfield 249, 3) := by decide +kernel
set_option maxRecDepth 100000 in
theorem dX5_writes_138 : decode cX5_writes 138 = .ok (.getfield 286, 3) := by decide +kernel
set_option maxRecDepth 100000 in
theorem dX5_writes_141 : decode cX5_writes 141 = .ok (.invokevirtual 771, 3) := by decide +kernel
set_option maxRecDepth 100000 in
theorem dX5_writes_144 : decode cX5_writes 144 = .ok (.ifCond .eq 7, 3) := by decide +kernel
set_option maxRecDepth 100000 in
theorem dX5_writes_147 : decode cX5_writes 147 = .ok (.iconst 1, 1) := by decide +kernel
set_option maxRecDepth 100000 in
theorem dX5_writes_148 : decode cX5_writes 148 = .ok (.goto 4, 3) := by decide +kernel
set_option maxRecDepth 100000 in
theorem dX5_writes_151 : decode cX5_writes 151 = .ok (.iconst 0, 1) := by decide +kernel
set_option maxRecDepth 100000 in
theorem dX5_writes_152 : decode cX5_writes 152 = .ok (.iload_n 3, 1) := by decide +kernel
set_option maxRecDepth 100000 in
theorem dX5_writes_153 : decode cX5_writes 153 = .ok (.invokevirtual 506, 3) := by decide +kernel
set_option maxRecDepth 100000 in
theorem dX5_writes_156 : decode cX5_writes 156 = .ok (.pop, 1) := by decide +kernel
set_option maxRecDepth 100000 in
theorem dX5_writes_157 : decode cX5_writes 157 = .ok (.return_, 1) := by decide +kernel
set_option maxRecDepth 100000 in
theorem dX5_writes_158 : decode cX5_writes 158 = .ok (.aload_n 0, 1) := by decide +kernel
set_option maxRecDepth 100000 in
theorem dX5_writes_159 : decode cX5_writes 159 = .ok (.aload 4, 2) := by decide +kernel
set_option maxRecDepth 100000 in
theorem dX5_writes_161 : decode cX5_writes 161 = .ok (.invokevirtual 654, 3) := by decide +kernel
set_option maxRecDepth 100000 in
theorem dX5_writes_164 : decode cX5_writes 164 = .ok (.astore 5, 2) := by decide +kernel
set_option maxRecDepth 100000 in
theorem dX5_writes_166 : decode cX5_writes 166 = .ok (.aload 5, 2) := by decide +kernel
set_option maxRecDepth 100000 in
theorem dX5_writes_168 : decode cX5_writes 168 = .ok (.getfield 289, 3) := by decide +kernel
set_option maxRecDepth 100000 in
theorem dX5_writes_171 : decode cX5_writes 171 = .ok (.iconst 3, 1) := by decide +kernel
set_option maxRecDepth 100000 in
theorem dX5_writes_172 : decode cX5_writes 172 = .ok (.if_icmp .le 11, 3) := by decide +kernel
set_option maxRecDepth 100000 in
theorem dX5_writes_175 : decode cX5_writes 175 = .ok (.aload 5, 2) := by decide +kernel
set_option maxRecDepth 100000 in
theorem dX5_writes_177 : decode cX5_writes 177 = .ok (.invokevirtual 793, 3) := by decide +kernel
set_option maxRecDepth 100000 in
theorem dX5_writes_180 : decode cX5_writes 180 = .ok (.ifCond .le 7, 3) := by decide +kernel
set_option maxRecDepth 100000 in
theorem dX5_writes_183 : decode cX5_writes 183 = .ok (.iconst 1, 1) := by decide +kernel
set_option maxRecDepth 100000 in
theorem dX5_writes_184 : decode cX5_writes 184 = .ok (.goto 4, 3) := by decide +kernel
set_option maxRecDepth 100000 in
theorem dX5_writes_187 : decode cX5_writes 187 = .ok (.iconst 0, 1) := by decide +kernel
set_option maxRecDepth 100000 in
theorem dX5_writes_188 : decode cX5_writes 188 = .ok (.istore 6, 2) := by decide +kernel
set_option maxRecDepth 100000 in
theorem dX5_writes_190 : decode cX5_writes 190 = .ok (.iload 6, 2) := by decide +kernel
set_option maxRecDepth 100000 in
theorem dX5_writes_192 : decode cX5_writes 192 = .ok (.ifCond .ne 16, 3) := by decide +kernel
set_option maxRecDepth 100000 in
theorem dX5_writes_195 : decode cX5_writes 195 = .ok (.aload_n 0, 1) := by decide +kernel
set_option maxRecDepth 100000 in
theorem dX5_writes_196 : decode cX5_writes 196 = .ok (.bipush 7, 2) := by decide +kernel
set_option maxRecDepth 100000 in
theorem dX5_writes_198 : decode cX5_writes 198 = .ok (.aload_n 0, 1) := by decide +kernel
set_option maxRecDepth 100000 in
theorem dX5_writes_199 : decode cX5_writes 199 = .ok (.aload 4, 2) := by decide +kernel
set_option maxRecDepth 100000 in
theorem dX5_writes_201 : decode cX5_writes 201 = .ok (.invokevirtual 624, 3) := by decide +kernel
set_option maxRecDepth 100000 in
theorem dX5_writes_204 : decode cX5_writes 204 = .ok (.invokevirtual 163, 3) := by decide +kernel
set_option maxRecDepth 100000 in
theorem dX5_writes_207 : decode cX5_writes 207 = .ok (.athrow, 1) := by decide +kernel
set_option maxRecDepth 100000 in
theorem dX5_writes_208 : decode cX5_writes 208 = .ok (.iconst 0, 1) := by decide +kernel
set_option maxRecDepth 100000 in
theorem dX5_writes_209 : decode cX5_writes 209 = .ok (.istore 7, 2) := by decide +kernel
set_option maxRecDepth 100000 in
theorem dX5_writes_211 : decode cX5_writes 211 = .ok (.iconst 0, 1) := by decide +kernel
set_option maxRecDepth 100000 in
theorem dX5_writes_212 : decode cX5_writes 212 = .ok (.istore 8, 2) := by decide +kernel
set_option maxRecDepth 100000 in
theorem dX5_writes_214 : decode cX5_writes 214 = .ok (.iconst 0, 1) := by decide +kernel
set_option maxRecDepth 100000 in
theorem dX5_writes_215 : decode cX5_writes 215 = .ok (.istore 9, 2) := by decide +kernel
set_option maxRecDepth 100000 in
theorem dX5_writes_217 : decode cX5_writes 217 = .ok (.aload 4, 2) := by decide +kernel
set_option maxRecDepth 100000 in
theorem dX5_writes_219 : decode cX5_writes 219 = .ok (.getfield 307, 3) := by decide +kernel
set_option maxRecDepth 100000 in
theorem dX5_writes_222 : decode cX5_writes 222 = .ok (.astore 10, 2) := by decide +kernel
set_option maxRecDepth 100000 in
theorem dX5_writes_224 : decode cX5_writes 224 = .ok (.aload 10, 2) := by decide +kernel
set_option maxRecDepth 100000 in
theorem dX5_writes_226 : decode cX5_writes 226 = .ok (.ifnull 93, 3) := by decide +kernel
set_option maxRecDepth 100000 in
theorem dX5_writes_229 : decode cX5_writes 229 = .ok (.iload 7, 2) := by decide +kernel
set_option maxRecDepth 100000 in
theorem dX5_writes_231 : decode cX5_writes 231 = .ok (.iconst 1, 1) := by decide +kernel
set_option maxRecDepth 100000 in
theorem dX5_writes_232 : decode cX5_writes 232 = .ok (.if_icmp .ne 24, 3) := by decide +kernel
set_option maxRecDepth 100000 in
theorem dX5_writes_235 : decode cX5_writes 235 = .ok (.aload 5, 2) := by decide +kernel
set_option maxRecDepth 100000 in
theorem dX5_writes_237 : decode cX5_writes 237 = .ok (.getfield 289, 3) := by decide +kernel
set_option maxRecDepth 100000 in
theorem dX5_writes_240 : decode cX5_writes 240 = .ok (.iconst 1, 1) := by decide +kernel
set_option maxRecDepth 100000 in
theorem dX5_writes_241 : decode cX5_writes 241 = .ok (.if_icmp .eq 15, 3) := by decide +kernel
set_option maxRecDepth 100000 in
theorem dX5_writes_244 : decode cX5_writes 244 = .ok (.aload_n 0, 1) := by decide +kernel
set_option maxRecDepth 100000 in
theorem dX5_writes_245 : decode cX5_writes 245 = .ok (.bipush 7, 2) := by decide +kernel
set_option maxRecDepth 100000 in
theorem dX5_writes_247 : decode cX5_writes 247 = .ok (.aload 10, 2) := by decide +kernel
set_option maxRecDepth 100000 in
theorem dX5_writes_249 : decode cX5_writes 249 = .ok (.invokevirtual 192, 3) := by decide +kernel
set_option maxRecDepth 100000 in
theorem dX5_writes_252 : decode cX5_writes 252 = .ok (.invokevirtual 163, 3) := by decide +kernel
set_option maxRecDepth 100000 in
theorem dX5_writes_255 : decode cX5_writes 255 = .ok (.athrow, 1) := by decide +kernel
set_option maxRecDepth 100000 in
theorem dX5_writes_256 : decode cX5_writes 256 = .ok (.aload_n 0, 1) := by decide +kernel
set_option maxRecDepth 100000 in
theorem dX5_writes_257 : decode cX5_writes 257 = .ok (.aload 10, 2) := by decide +kernel
set_option maxRecDepth 100000 in
theorem dX5_writes_259 : decode cX5_writes 259 = .ok (.getfield 251, 3) := by decide +kernel
set_option maxRecDepth 100000 in
theorem dX5_writes_262 : decode cX5_writes 262 = .ok (.invokevirtual 654, 3) := by decide +kernel
set_option maxRecDepth 100000 in
theorem dX5_writes_265 : decode cX5_writes 265 = .ok (.aload_n 0, 1) := by decide +kernel
set_option maxRecDepth 100000 in
theorem dX5_writes_266 : decode cX5_writes 266 = .ok (.getfield 20, 3) := by decide +kernel
set_option maxRecDepth 100000 in
theorem dX5_writes_269 : decode cX5_writes 269 = .ok (.if_acmp .eq 15, 3) := by decide +kernel
set_option maxRecDepth 100000 in
theorem dX5_writes_272 : decode cX5_writes 272 = .ok (.aload_n 0, 1) := by decide +kernel
set_option maxRecDepth 100000 in
theorem dX5_writes_273 : decode cX5_writes 273 = .ok (.bipush 7, 2) := by decide +kernel
set_option maxRecDepth 100000 in
theorem dX5_writes_275 : decode cX5_writes 275 = .ok (.aload 10, 2) := by decide +kernel
set_option maxRecDepth 100000 in
theorem dX5_writes_277 : decode cX5_writes 277 = .ok (.invokevirtual 192, 3) := by decide +kernel
set_option maxRecDepth 100000 in
theorem dX5_writes_280 : decode cX5_writes 280 = .ok (.invokevirtual 163, 3) := by decide +kernel
set_option maxRecDepth 100000 in
theorem dX5_writes_283 : decode cX5_writes 283 = .ok (.athrow, 1) := by decide +kernel
set_option maxRecDepth 100000 in
theorem dX5_writes_284 : decode cX5_writes 284 = .ok (.iload 7, 2) := by decide +kernel
set_option maxRecDepth 100000 in
theorem dX5_writes_286 : decode cX5_writes 286 = .ok (.ifCond .ne 13, 3) := by decide +kernel
set_option maxRecDepth 100000 in
theorem dX5_writes_289 : decode cX5_writes 289 = .ok (.aload 10, 2) := by decide +kernel
set_option maxRecDepth 100000 in
theorem dX5_writes_291 : decode cX5_writes 291 = .ok (.invokevirtual 192, 3) := by decide +kernel
set_option maxRecDepth 100000 in
theorem dX5_writes_294 : decode cX5_writes 294 = .ok (.istore 8, 2) := by decide +kernel
set_option maxRecDepth 100000 in
theorem dX5_writes_296 : decode cX5_writes 296 = .ok (.goto 10, 3) := by decide +kernel
set_option maxRecDepth 100000 in
theorem dX5_writes_299 : decode cX5_writes 299 = .ok (.aload 10, 2) := by decide +kernel
set_option maxRecDepth 100000 in
theorem dX5_writes_301 : decode cX5_writes 301 = .ok (.invokevirtual 192, 3) := by decide +kernel
set_option maxRecDepth 100000 in
theorem dX5_writes_304 : decode cX5_writes 304 = .ok (.istore 9, 2) := by decide +kernel
set_option maxRecDepth 100000 in
theorem dX5_writes_306 : decode cX5_writes 306 = .ok (.iinc 7 1, 3) := by decide +kernel
set_option maxRecDepth 100000 in
theorem dX5_writes_309 : decode cX5_writes 309 = .ok (.aload 10, 2) := by decide +kernel
set_option maxRecDepth 100000 in
theorem dX5_writes_311 : decode cX5_writes 311 = .ok (.getfield 307, 3) := by decide +kernel
set_option maxRecDepth 100000 in
theorem dX5_writes_314 : decode cX5_writes 314 = .ok (.astore 10, 2) := by decide +kernel
set_option maxRecDepth 100000 in
theorem dX5_writes_316 : decode cX5_writes 316 = .ok (.goto (-92), 3) := by decide +kernel
set_option maxRecDepth 100000 in
theorem dX5_writes_319 : decode cX5_writes 319 = .ok (.aload_n 0, 1) := by decide +kernel
set_option maxRecDepth 100000 in
theorem dX5_writes_320 : decode cX5_writes 320 = .ok (.aload_n 1, 1) := by decide +kernel
set_option maxRecDepth 100000 in
theorem dX5_writes_321 : decode cX5_writes 321 = .ok (.invokevirtual 674, 3) := by decide +kernel
set_option maxRecDepth 100000 in
theorem dX5_writes_324 : decode cX5_writes 324 = .ok (.aload 5, 2) := by decide +kernel
set_option maxRecDepth 100000 in
theorem dX5_writes_326 : decode cX5_writes 326 = .ok (.getfield 289, 3) := by decide +kernel
set_option maxRecDepth 100000 in
theorem dX5_writes_329 : decode cX5_writes 329 = .ok (.ifCond .ne 8, 3) := by decide +kernel
set_option maxRecDepth 100000 in
theorem dX5_writes_332 : decode cX5_writes 332 = .ok (.bipush 93, 2) := by decide +kernel
set_option maxRecDepth 100000 in
theorem dX5_writes_334 : decode cX5_writes 334 = .ok (.goto 47, 3) := by decide +kernel
set_option maxRecDepth 100000 in
theorem dX5_writes_337 : decode cX5_writes 337 = .ok (.aload 5, 2) := by decide +kernel
set_option maxRecDepth 100000 in
theorem dX5_writes_339 : decode cX5_writes 339 = .ok (.getfield 289, 3) := by decide +kernel
set_option maxRecDepth 100000 in
theorem dX5_writes_342 : decode cX5_writes 342 = .ok (.iconst 1, 1) := by decide +kernel
set_option maxRecDepth 100000 in
theorem dX5_writes_343 : decode cX5_writes 343 = .ok (.if_icmp .ne 8, 3) := by decide +kernel
set_option maxRecDepth 100000 in
theorem dX5_writes_346 : decode cX5_writes 346 = .ok (.bipush 94, 2) := by decide +kernel
set_option maxRecDepth 100000 in
theorem dX5_writes_348 : decode cX5_writes 348 = .ok (.goto 33, 3) := by decide +kernel
set_option maxRecDepth 100000 in
theorem dX5_writes_351 : decode cX5_writes 351 = .ok (.aload 5, 2) := by decide +kernel
set_option maxRecDepth 100000 in
theorem dX5_writes_353 : decode cX5_writes 353 = .ok (.getfield 289, 3) := by decide +kernel
set_option maxRecDepth 100000 in
theorem dX5_writes_356 : decode cX5_writes 356 = .ok (.iconst 2, 1) := by decide +kernel
set_option maxRecDepth 100000 in
theorem dX5_writes_357 : decode cX5_writes 357 = .ok (.if_icmp .ne 8, 3) := by decide +kernel
set_option maxRecDepth 100000 in
theorem dX5_writes_360 : decode cX5_writes 360 = .ok (.bipush 96, 2) := by decide +kernel
set_option maxRecDepth 100000 in
theorem dX5_writes_362 : decode cX5_writes 362 = .ok (.goto 19, 3) := by decide +kernel
set_option maxRecDepth 100000 in
theorem dX5_writes_365 : decode cX5_writes 365 = .ok (.aload 5, 2) := by decide +kernel
set_option maxRecDepth 100000 in
theorem dX5_writes_367 : decode cX5_writes 367 = .ok (.getfield 289, 3) := by decide +kernel
set_option maxRecDepth 100000 in
theorem dX5_writes_370 : decode cX5_writes 370 = .ok (.iconst 3, 1) := by decide +kernel
set_option maxRecDepth 100000 in
theorem dX5_writes_371 : decode cX5_writes 371 = .ok (.if_icmp .ne 8, 3) := by decide +kernel
set_option maxRecDepth 100000 in
theorem dX5_writes_374 : decode cX5_writes 374 = .ok (.bipush 95, 2) := by decide +kernel
set_option maxRecDepth 100000 in
theorem dX5_writes_376 : decode cX5_writes 376 = .ok (.goto 5, 3) := by decide +kernel
set_option maxRecDepth 100000 in
theorem dX5_writes_379 : decode cX5_writes 379 = .ok (.bipush 97, 2) := by decide +kernel
set_option maxRecDepth 100000 in
theorem dX5_writes_381 : decode cX5_writes 381 = .ok (.istore 10, 2) := by decide +kernel
set_option maxRecDepth 100000 in
theorem dX5_writes_383 : decode cX5_writes 383 = .ok (.aload_n 0, 1) := by decide +kernel
set_option maxRecDepth 100000 in
theorem dX5_writes_384 : decode cX5_writes 384 = .ok (.getfield 62, 3) := by decide +kernel
set_option maxRecDepth 100000 in
theorem dX5_writes_387 : decode cX5_writes 387 = .ok (.iload 10, 2) := by decide +kernel
set_option maxRecDepth 100000 in
theorem dX5_writes_389 : decode cX5_writes 389 = .ok (.iload 7, 2) := by decide +kernel
set_option maxRecDepth 100000 in
theorem dX5_writes_391 : decode cX5_writes 391 = .ok (.aload 5, 2) := by decide +kernel
set_option maxRecDepth 100000 in
theorem dX5_writes_393 : decode cX5_writes 393 = .ok (.invokevirtual 793, 3) := by decide +kernel
set_option maxRecDepth 100000 in
theorem dX5_writes_396 : decode cX5_writes 396 = .ok (.aload 5, 2) := by decide +kernel
set_option maxRecDepth 100000 in
theorem dX5_writes_398 : decode cX5_writes 398 = .ok (.getfield 289, 3) := by decide +kernel
set_option maxRecDepth 100000 in
theorem dX5_writes_401 : decode cX5_writes 401 = .ok (.bipush 13, 2) := by decide +kernel
set_option maxRecDepth 100000 in
theorem dX5_writes_403 : decode cX5_writes 403 = .ok (.if_icmp .ne 7, 3) := by decide +kernel
set_option maxRecDepth 100000 in
theorem dX5_writes_406 : decode cX5_writes 406 = .ok (.iconst 1, 1) := by decide +kernel
set_option maxRecDepth 100000 in
theorem dX5_writes_407 : decode cX5_writes 407 = .ok (.goto 4, 3) := by decide +kernel
set_option maxRecDepth 100000 in
theorem dX5_writes_410 : decode cX5_writes 410 = .ok (.iconst 0, 1) := by decide +kernel
set_option maxRecDepth 100000 in
theorem dX5_writes_411 : decode cX5_writes 411 = .ok (.iload_n 3, 1) := by decide +kernel
set_option maxRecDepth 100000 in
theorem dX5_writes_412 : decode cX5_writes 412 = .ok (.invokevirtual 506, 3) := by decide +kernel
set_option maxRecDepth 100000 in
theorem dX5_writes_415 : decode cX5_writes 415 = .ok (.pop, 1) := by decide +kernel
set_option maxRecDepth 100000 in
theorem dX5_writes_416 : decode cX5_writes 416 = .ok (.aload_n 0, 1) := by decide +kernel
set_option maxRecDepth 100000 in
theorem dX5_writes_417 : decode cX5_writes 417 = .ok (.getfield 62, 3) := by decide +kernel
set_option maxRecDepth 100000 in
theorem dX5_writes_420 : decode cX5_writes 420 = .ok (.bipush 64, 2) := by decide +kernel
set_option maxRecDepth 100000 in
theorem dX5_writes_422 : decode cX5_writes 422 = .ok (.iload 8, 2) := by decide +kernel
set_option maxRecDepth 100000 in
theorem dX5_writes_424 : decode cX5_writes 424 = .ok (.iload 9, 2) := by decide +kernel
set_option maxRecDepth 100000 in
theorem dX5_writes_426 : decode cX5_writes 426 = .ok (.aload_n 0, 1) := by decide +kernel
set_option maxRecDepth 100000 in
theorem dX5_writes_427 : decode cX5_writes 427 = .ok (.aload 4, 2) := by decide +kernel
set_option maxRecDepth 100000 in
theorem dX5_writes_429 : decode cX5_writes 429 = .ok (.invokevirtual 624, 3) := by decide +kernel
set_option maxRecDepth 100000 in
theorem dX5_writes_432 : decode cX5_writes 432 = .ok (.iconst 0, 1) := by decide +kernel
set_option maxRecDepth 100000 in
theorem dX5_writes_433 : decode cX5_writes 433 = .ok (.invokevirtual 506, 3) := by decide +kernel
set_option maxRecDepth 100000 in
theorem dX5_writes_436 : decode cX5_writes 436 = .ok (.pop, 1) := by decide +kernel
set_option maxRecDepth 100000 in
theorem dX5_writes_437 : decode cX5_writes 437 = .ok (.return_, 1) := by decide +kernel
def lX5_writes_224 (G : xG) (fr lo : Nat) (x0 : Nat) (x1 : Nat) (x3 : Int32) (x4 : Nat) (x5 : Nat) (x7 : Int32) (x8 : Int32) (x9 : Int32) (x10 : Nat) (h : xH) (Q : Outcome → xH → Prop) : Prop := xP G YX5_writes fr lo 224 [(0, rv x0), (1, rv x1), (3, .int x3), (4, rv x4), (5, rv x5), (7, .int x7), (8, .int x8), (9, .int x9), (10, rv x10)] [] h Q
set_option maxRecDepth 100000 in
def bX5_writes_411 (G : xG) (fr lo : Nat) (x0 : Nat) (x3 : Int32) (x4 : Nat) (x8 : Int32) (x9 : Int32) (s0 : Int32) (s1 : Int32) (s2 : Int32) (s3 : Int32) (s4 : Nat) (h : xH) (Q : Outcome → xH → Prop) : Prop := tg h s4 = 3 ∧ 1 ≤ fr ∧ 17 ≤ lo ∧ xRi G YX2_put (fr - 1) (lo - 17) [rv s4, .int s3, .int s2, .int s1, .int s0, .int x3] h (fun x5 h4 => xext h h4 → tg h4 x0 = 6 ∧ 1 ≤ fr ∧ 18 ≤ lo ∧ xRi G YX5_firstOf (fr - 1) (lo - 18) [rv x0, rv x4] h4 (fun x11 h10 => xext h4 h10 → tg h10 (fR h4 x0 1281) = 3 ∧ 1 ≤ fr ∧ 17 ≤ lo ∧ xRi G YX2_put (fr - 1) (lo - 17) [rv (fR h4 x0 1281), .int 64, .int x8, .int x9, .int x11, .int 0] h10 (fun x17 h16 => xext h10 h16 → Q (.returned none) h16) (fun r h2 => Q (.threw r) h2)) (fun r h2 => Q (.threw r) h2)) (fun r h2 => Q (.threw r) h2)
set_option maxRecDepth 100000 in
theorem uX5_writes_411 {G : xG} {fr lo : Nat} {x0 : Nat} {x3 : Int32} {x4 : Nat} {x8 : Int32} {x9 : Int32} {s0 : Int32} {s1 : Int32} {s2 : Int32} {s3 : Int32} {s4 : Nat} {h : xH} {Q : Outcome → xH → Prop} (hq : bX5_writes_411 G fr lo x0 x3 x4 x8 x9 s0 s1 s2 s3 s4 h Q) : xP G YX5_writes fr lo 411 [(0, rv x0), (3, .int x3), (4, rv x4), (8, .int x8), (9, .int x9)] [.int s0, .int s1, .int s2, .int s3, rv s4] h Q := by
  unfold bX5_writes_411 at hq
  refine x_iload_n 1 dX5_writes_411 rfl ?_
  obtain ⟨g1, hq⟩ := hq
  obtain ⟨g2, g3, hq⟩ := hq
  refine x_callV (Yc := YX2_put) (as := [.int s3, .int s2, .int s1, .int s0, .int x3]) (st := []) q2494 mvX2_put g1 rfl dX5_writes_412 (xle (xal1 (rv_cat _) (xal1 rfl (xal1 rfl (xal1 rfl (xal1 rfl (xal1 rfl xal0)))))) (by decide)) (xfr g2) (xlo xsw0 (by decide) g3) (xKi hq (fun x5 h4 hq e6 => ?_) (fun _ _ q _ => q))
  replace hq := hq e6
  refine x_pop dX5_writes_415 rfl ?_
  refine x_aload_n 0 dX5_writes_416 rfl ?_
  obtain ⟨g7, hq⟩ := hq
  refine x_get (v := rv (fR h4 x0 1281)) fdX5_62 dX5_writes_417 g7 rfl ?_
  refine x_bipush (v := 64) dX5_writes_420 (by decide) ?_
  refine x_iload 3 dX5_writes_422 rfl ?_
  refine x_iload 4 dX5_writes_424 rfl ?_
  refine x_aload_n 0 dX5_writes_426 rfl ?_
  refine x_aload 2 dX5_writes_427 rfl ?_
  obtain ⟨g8, g9, hq⟩ := hq
  refine x_callV (Yc := YX5_firstOf) (as := [rv x4]) (st := [.int x9, .int x8, .int 64, rv (fR h4 x0 1281)]) q2510 mvX5_firstOf g7 rfl dX5_writes_429 (xle (xal1 (rv_cat _) (xal1 (rv_cat _) xal0)) (by decide)) (xfr g8) (xlo (xsw1 rfl (xsw1 rfl (xsw1 rfl (xsw1 (rv_cat _) xsw0)))) (by decide) g9) (xKi hq (fun x11 h10 hq e12 => ?_) (fun _ _ q _ => q))
  replace hq := hq e12
  refine x_iconst (v := 0) dX5_writes_432 (by decide) ?_
  obtain ⟨g13, hq⟩ := hq
  obtain ⟨g14, g15, hq⟩ := hq
  refine x_callV (Yc := YX2_put) (as := [.int 64, .int x8, .int x9, .int x11, .int 0]) (st := []) q2494 mvX2_put g13 rfl dX5_writes_433 (xle (xal1 (rv_cat _) (xal1 rfl (xal1 rfl (xal1 rfl (xal1 rfl (xal1 rfl xal0)))))) (by decide)) (xfr g14) (xlo xsw0 (by decide) g15) (xKi hq (fun x17 h16 hq e18 => ?_) (fun _ _ q _ => q))
  replace hq := hq e18
  refine x_pop dX5_writes_436 rfl ?_
  exact x_vret rfl dX5_writes_437 hq
set_option maxRecDepth 100000 in
def bX5_writes_381 (G : xG) (fr lo : Nat) (x0 : Nat) (x3 : Int32) (x4 : Nat) (x5 : Nat) (x7 : Int32) (x8 : Int32) (x9 : Int32) (s0 : Int32) (h : xH) (Q : Outcome → xH → Prop) : Prop := tg h x0 = 6 ∧ tg h x5 = 7 ∧ 1 ≤ fr ∧ 16 ≤ lo ∧ xRi G YX6_string (fr - 1) (lo - 16) [rv x5] h (fun x6 h5 => xext h h5 → ((¬ (fI h5 x5 1536) = 13 → bX5_writes_411 G fr lo x0 x3 x4 x8 x9 0 x6 x7 s0 (fR h x0 1281) h5 Q) ∧ ((fI h5 x5 1536) = 13 → bX5_writes_411 G fr lo x0 x3 x4 x8 x9 1 x6 x7 s0 (fR h x0 1281) h5 Q))) (fun r h2 => Q (.threw r) h2)
set_option maxRecDepth 100000 in
theorem uX5_writes_381 {G : xG} {fr lo : Nat} {x0 : Nat} {x3 : Int32} {x4 : Nat} {x5 : Nat} {x7 : Int32} {x8 : Int32} {x9 : Int32} {s0 : Int32} {h : xH} {Q : Outcome → xH → Prop} (hq : bX5_writes_381 G fr lo x0 x3 x4 x5 x7 x8 x9 s0 h Q) : xP G YX5_writes fr lo 381 [(0, rv x0), (3, .int x3), (4, rv x4), (5, rv x5), (7, .int x7), (8, .int x8), (9, .int x9)] [.int s0] h Q := by
  unfold bX5_writes_381 at hq
  refine x_istore (lv' := [(10, .int s0), (0, rv x0), (3, .int x3), (4, rv x4), (5, rv x5), (7, .int x7), (8, .int x8), (9, .int x9)]) dX5_writes_381 (by decide) rfl ?_
  refine x_aload_n 1 dX5_writes_383 rfl ?_
  obtain ⟨g1, hq⟩ := hq
  refine x_get (v := rv (fR h x0 1281)) fdX5_62 dX5_writes_384 g1 rfl ?_
  refine x_iload 0 dX5_writes_387 rfl ?_
  refine x_iload 5 dX5_writes_389 rfl ?_
  refine x_aload 4 dX5_writes_391 rfl ?_
  obtain ⟨g2, hq⟩ := hq
  obtain ⟨g3, g4, hq⟩ := hq
  refine x_callV (Yc := YX6_string) (as := []) (st := [.int x7, .int s0, rv (fR h x0 1281)]) q2694 mvX6_string g2 rfl dX5_writes_393 (xle (xal1 (rv_cat _) xal0) (by decide)) (xfr g3) (xlo (xsw1 rfl (xsw1 rfl (xsw1 (rv_cat _) xsw0))) (by decide) g4) (xKi hq (fun x6 h5 hq e7 => ?_) (fun _ _ q _ => q))
  replace hq := hq e7
  refine x_aload 4 dX5_writes_396 rfl ?_
  have t8 : tg h5 x5 = 7 := e7.tg g2 (by decide)
  refine x_getN (v := .int (fI h5 x5 1536)) gfX5_289 dX5_writes_398 t8 rfl ?_
  refine x_bipush (v := 13) dX5_writes_401 (by decide) ?_
  refine x_icmp_ne (tgt := 410) dX5_writes_403 (by decide) (fun c9 => ?_) (fun c9 => ?_)
  · replace hq := hq.1 c9
    refine x_iconst (v := 0) dX5_writes_410 (by decide) ?_
    refine xP.pick (lv' := [(0, rv x0), (3, .int x3), (4, rv x4), (8, .int x8), (9, .int x9)]) [1, 2, 3, 6, 7] rfl ?_
    exact uX5_writes_411 hq
  · replace hq := hq.2 c9
    refine x_iconst (v := 1) dX5_writes_406 (by decide) ?_
    refine x_goto (tgt := 411) dX5_writes_407 (by decide) ?_
    refine xP.pick (lv' := [(0, rv x0), (3, .int x3), (4, rv x4), (8, .int x8), (9, .int x9)]) [1, 2, 3, 6, 7] rfl ?_
    exact uX5_writes_411 hq
set_option maxRecDepth 100000 in
def bX5_writes_306 (G : xG) (fr lo : Nat) (x0 : Nat) (x1 : Nat) (x3 : Int32) (x4 : Nat) (x5 : Nat) (x7 : Int32) (x8 : Int32) (x9 : Int32) (x10 : Nat) (h : xH) (Q : Outcome → xH → Prop) : Prop := tg h x10 = 16 ∧ lX5_writes_224 G fr lo x0 x1 x3 x4 x5 (x7 + 1) x8 x9 (fR h x10 3844) h Q
set_option maxRecDepth 100000 in
theorem uX5_writes_306 {G : xG} {fr lo : Nat} {x0 : Nat} {x1 : Nat} {x3 : Int32} {x4 : Nat} {x5 : Nat} {x7 : Int32} {x8 : Int32} {x9 : Int32} {x10 : Nat} {h : xH} {Q : Outcome → xH → Prop} (hq : bX5_writes_306 G fr lo x0 x1 x3 x4 x5 x7 x8 x9 x10 h Q) : xP G YX5_writes fr lo 306 [(0, rv x0), (1, rv x1), (3, .int x3), (4, rv x4), (5, rv x5), (7, .int x7), (8, .int x8), (9, .int x9), (10, rv x10)] [] h Q := by
  unfold bX5_writes_306 at hq
  refine x_iinc (lv' := [(7, .int (x7 + 1)), (0, rv x0), (1, rv x1), (3, .int x3), (4, rv x4), (5, rv x5), (8, .int x8), (9, .int x9), (10, rv x10)]) 5 dX5_writes_306 rfl (by decide) rfl ?_
  refine x_aload 8 dX5_writes_309 rfl ?_
  obtain ⟨g1, hq⟩ := hq
  refine x_getN (v := rv (fR h x10 3844)) gfX5_307 dX5_writes_311 g1 rfl ?_
  refine x_astore (lv' := [(10, rv (fR h x10 3844)), (7, .int (x7 + 1)), (0, rv x0), (1, rv x1), (3, .int x3), (4, rv x4), (5, rv x5), (8, .int x8), (9, .int x9)]) dX5_writes_314 (by decide) rfl ?_
  refine x_goto (tgt := 224) dX5_writes_316 (by decide) ?_
  refine xP.pick (lv' := [(0, rv x0), (1, rv x1), (3, .int x3), (4, rv x4), (5, rv x5), (7, .int (x7 + 1)), (8, .int x8), (9, .int x9), (10, rv (fR h x10 3844))]) [2, 3, 4, 5, 6, 1, 7, 8, 0] rfl ?_
  exact hq
set_option maxRecDepth 100000 in
def bX5_writes_256 (G : xG) (fr lo : Nat) (x0 : Nat) (x1 : Nat) (x3 : Int32) (x4 : Nat) (x5 : Nat) (x7 : Int32) (x8 : Int32) (x9 : Int32) (x10 : Nat) (h : xH) (Q : Outcome → xH → Prop) : Prop := tg h x10 = 16 ∧ tg h x0 = 6 ∧ 1 ≤ fr ∧ 13 ≤ lo ∧ xRr G YX5_expression (fr - 1) (lo - 13) [rv x0, rv (fR h x10 3842)] h (fun x6 h5 => xext h h5 → ((x6 = (fR h5 x0 1282) → ((¬ x7 = 0 → 1 ≤ fr ∧ 12 ≤ lo ∧ xRi G YX15_place (fr - 1) (lo - 12) [rv x10] h5 (fun x15 h14 => xext h5 h14 → bX5_writes_306 G fr lo x0 x1 x3 x4 x5 x7 x8 x15 x10 h14 Q) (fun r h2 => Q (.threw r) h2)) ∧ (x7 = 0 → 1 ≤ fr ∧ 12 ≤ lo ∧ xRi G YX15_place (fr - 1) (lo - 12) [rv x10] h5 (fun x21 h20 => xext h5 h20 → bX5_writes_306 G fr lo x0 x1 x3 x4 x5 x7 x21 x9 x10 h20 Q) (fun r h2 => Q (.threw r) h2)))) ∧ (¬ x6 = (fR h5 x0 1282) → 1 ≤ fr ∧ 14 ≤ lo ∧ xRi G YX15_place (fr - 1) (lo - 14) [rv x10] h5 (fun x27 h26 => xext h5 h26 → 1 ≤ fr ∧ 14 ≤ lo ∧ xRr G YX5_fault (fr - 1) (lo - 14) [rv x0, .int 7, .int x27] h26 (fun x33 h32 => xext h26 h32 → (∃ r35, x33 = r35 + 1 ∧ Q (.threw r35) h32)) (fun r h2 => Q (.threw r) h2)) (fun r h2 => Q (.threw r) h2)))) (fun r h2 => Q (.threw r) h2)
set_option maxRecDepth 100000 in
theorem uX5_writes_256 {G : xG} {fr lo : Nat} {x0 : Nat} {x1 : Nat} {x3 : Int32} {x4 : Nat} {x5 : Nat} {x7 : Int32} {x8 : Int32} {x9 : Int32} {x10 : Nat} {h : xH} {Q : Outcome → xH → Prop} (hq : bX5_writes_256 G fr lo x0 x1 x3 x4 x5 x7 x8 x9 x10 h Q) : xP G YX5_writes fr lo 256 [(0, rv x0), (1, rv x1), (3, .int x3), (4, rv x4), (5, rv x5), (7, .int x7), (8, .int x8), (9, .int x9), (10, rv x10)] [] h Q := by
  unfold bX5_writes_256 at hq
  refine x_aload_n 0 dX5_writes_256 rfl ?_
  refine x_aload 8 dX5_writes_257 rfl ?_
  obtain ⟨g1, hq⟩ := hq
  refine x_getN (v := rv (fR h x10 3842)) gfX5_251 dX5_writes_259 g1 rfl ?_
  obtain ⟨g2, hq⟩ := hq
  obtain ⟨g3, g4, hq⟩ := hq
  refine x_callV (Yc := YX5_expression) (as := [rv (fR h x10 3842)]) (st := []) q2522 mvX5_expression g2 rfl dX5_writes_262 (xle (xal1 (rv_cat _) (xal1 (rv_cat _) xal0)) (by decide)) (xfr g3) (xlo xsw0 (by decide) g4) (xKr hq (fun x6 h5 hq e7 => ?_) (fun _ _ q _ => q))
  replace hq := hq e7
  refine x_aload_n 0 dX5_writes_265 rfl ?_
  have t8 : tg h5 x0 = 6 := e7.tg g2 (by decide)
  refine x_get (v := rv (fR h5 x0 1282)) fdX5_20 dX5_writes_266 t8 rfl ?_
  refine x_acmp_eq (tgt := 284) dX5_writes_269 (by decide) (fun c9 => ?_) (fun c9 => ?_)
  · replace hq := hq.1 c9
    refine x_iload 5 dX5_writes_284 rfl ?_
    refine x_if_ne (tgt := 299) dX5_writes_286 (by decide) (fun c10 => ?_) (fun c10 => ?_)
    · replace hq := hq.1 c10
      refine x_aload 8 dX5_writes_299 rfl ?_
      have t11 : tg h5 x10 = 16 := e7.tg g1 (by decide)
      obtain ⟨g12, g13, hq⟩ := hq
      refine x_callV (Yc := YX15_place) (as := []) (st := []) q2013 mvX15_place t11 rfl dX5_writes_301 (xle (xal1 (rv_cat _) xal0) (by decide)) (xfr g12) (xlo xsw0 (by decide) g13) (xKi hq (fun x15 h14 hq e16 => ?_) (fun _ _ q _ => q))
      replace hq := hq e16
      refine x_istore (lv' := [(9, .int x15), (0, rv x0), (1, rv x1), (3, .int x3), (4, rv x4), (5, rv x5), (7, .int x7), (8, .int x8), (10, rv x10)]) dX5_writes_304 (by decide) rfl ?_
      refine xP.pick (lv' := [(0, rv x0), (1, rv x1), (3, .int x3), (4, rv x4), (5, rv x5), (7, .int x7), (8, .int x8), (9, .int x15), (10, rv x10)]) [1, 2, 3, 4, 5, 6, 7, 0, 8] rfl ?_
      exact uX5_writes_306 hq
    · replace hq := hq.2 c10
      refine x_aload 8 dX5_writes_289 rfl ?_
      have t17 : tg h5 x10 = 16 := e7.tg g1 (by decide)
      obtain ⟨g18, g19, hq⟩ := hq
      refine x_callV (Yc := YX15_place) (as := []) (st := []) q2013 mvX15_place t17 rfl dX5_writes_291 (xle (xal1 (rv_cat _) xal0) (by decide)) (xfr g18) (xlo xsw0 (by decide) g19) (xKi hq (fun x21 h20 hq e22 => ?_) (fun _ _ q _ => q))
      replace hq := hq e22
      refine x_istore (lv' := [(8, .int x21), (0, rv x0), (1, rv x1), (3, .int x3), (4, rv x4), (5, rv x5), (7, .int x7), (9, .int x9), (10, rv x10)]) dX5_writes_294 (by decide) rfl ?_
      refine x_goto (tgt := 306) dX5_writes_296 (by decide) ?_
      refine xP.pick (lv' := [(0, rv x0), (1, rv x1), (3, .int x3), (4, rv x4), (5, rv x5), (7, .int x7), (8, .int x21), (9, .int x9), (10, rv x10)]) [1, 2, 3, 4, 5, 6, 0, 7, 8] rfl ?_
      exact uX5_writes_306 hq
  · replace hq := hq.2 c9
    refine x_aload_n 0 dX5_writes_272 rfl ?_
    refine x_bipush (v := 7) dX5_writes_273 (by decide) ?_
    refine x_aload 8 dX5_writes_275 rfl ?_
    have t23 : tg h5 x10 = 16 := e7.tg g1 (by decide)
    obtain ⟨g24, g25, hq⟩ := hq
    refine x_callV (Yc := YX15_place) (as := []) (st := [.int 7, rv x0]) q2013 mvX15_place t23 rfl dX5_writes_277 (xle (xal1 (rv_cat _) xal0) (by decide)) (xfr g24) (xlo (xsw1 rfl (xsw1 (rv_cat _) xsw0)) (by decide) g25) (xKi hq (fun x27 h26 hq e28 => ?_) (fun _ _ q _ => q))
    replace hq := hq e28
    have t29 : tg h26 x0 = 6 := e28.tg t8 (by decide)
    obtain ⟨g30, g31, hq⟩ := hq
    refine x_callV (Yc := YX5_fault) (as := [.int 7, .int x27]) (st := []) q2087 mvX5_fault t29 rfl dX5_writes_280 (xle (xal1 (rv_cat _) (xal1 rfl (xal1 rfl xal0))) (by decide)) (xfr g30) (xlo xsw0 (by decide) g31) (xKr hq (fun x33 h32 hq e34 => ?_) (fun _ _ q _ => q))
    replace hq := hq e34
    obtain ⟨r35, g36, hq⟩ := hq
    rw [g36]
    exact x_athrow dX5_writes_283 hq
set_option maxRecDepth 100000 in
def bX5_writes_224 (G : xG) (fr lo : Nat) (x0 : Nat) (x1 : Nat) (x3 : Int32) (x4 : Nat) (x5 : Nat) (x7 : Int32) (x8 : Int32) (x9 : Int32) (x10 : Nat) (h : xH) (Q : Outcome → xH → Prop) : Prop := ((x10 = 0 → tg h x0 = 6 ∧ 1 ≤ fr ∧ 13 ≤ lo ∧ xRv G YX5_address (fr - 1) (lo - 13) [rv x0, rv x1] h (fun h5 => xext h h5 → tg h5 x5 = 7 ∧ ((¬ (fI h5 x5 1536) = 0 → ((¬ (fI h5 x5 1536) = 1 → ((¬ (fI h5 x5 1536) = 2 → ((¬ (fI h5 x5 1536) = 3 → bX5_writes_381 G fr lo x0 x3 x4 x5 x7 x8 x9 97 h5 Q) ∧ ((fI h5 x5 1536) = 3 → bX5_writes_381 G fr lo x0 x3 x4 x5 x7 x8 x9 95 h5 Q))) ∧ ((fI h5 x5 1536) = 2 → bX5_writes_381 G fr lo x0 x3 x4 x5 x7 x8 x9 96 h5 Q))) ∧ ((fI h5 x5 1536) = 1 → bX5_writes_381 G fr lo x0 x3 x4 x5 x7 x8 x9 94 h5 Q))) ∧ ((fI h5 x5 1536) = 0 → bX5_writes_381 G fr lo x0 x3 x4 x5 x7 x8 x9 93 h5 Q))) (fun r h2 => Q (.threw r) h2)) ∧ (¬ x10 = 0 → ((¬ x7 = 1 → bX5_writes_256 G fr lo x0 x1 x3 x4 x5 x7 x8 x9 x10 h Q) ∧ (x7 = 1 → tg h x5 = 7 ∧ (((fI h x5 1536) = 1 → bX5_writes_256 G fr lo x0 x1 x3 x4 x5 x7 x8 x9 x10 h Q) ∧ (¬ (fI h x5 1536) = 1 → tg h x10 = 16 ∧ 1 ≤ fr ∧ 14 ≤ lo ∧ xRi G YX15_place (fr - 1) (lo - 14) [rv x10] h (fun x20 h19 => xext h h19 → tg h19 x0 = 6 ∧ 1 ≤ fr ∧ 14 ≤ lo ∧ xRr G YX5_fault (fr - 1) (lo - 14) [rv x0, .int 7, .int x20] h19 (fun x26 h25 => xext h19 h25 → (∃ r28, x26 = r28 + 1 ∧ Q (.threw r28) h25)) (fun r h2 => Q (.threw r) h2)) (fun r h2 => Q (.threw r) h2)))))))
set_option maxRecDepth 100000 in
theorem uX5_writes_224 {G : xG} {fr lo : Nat} {x0 : Nat} {x1 : Nat} {x3 : Int32} {x4 : Nat} {x5 : Nat} {x7 : Int32} {x8 : Int32} {x9 : Int32} {x10 : Nat} {h : xH} {Q : Outcome → xH → Prop} (hq : bX5_writes_224 G fr lo x0 x1 x3 x4 x5 x7 x8 x9 x10 h Q) : xP G YX5_writes fr lo 224 [(0, rv x0), (1, rv x1), (3, .int x3), (4, rv x4), (5, rv x5), (7, .int x7), (8, .int x8), (9, .int x9), (10, rv x10)] [] h Q := by
  unfold bX5_writes_224 at hq
  refine x_aload 8 dX5_writes_224 rfl ?_
  refine x_ifnull (tgt := 319) dX5_writes_226 (by decide) (fun c1 => ?_) (fun c1 => ?_)
  · replace hq := hq.1 c1
    refine x_aload_n 0 dX5_writes_319 rfl ?_
    refine x_aload_n 1 dX5_writes_320 rfl ?_
    obtain ⟨g2, hq⟩ := hq
    obtain ⟨g3, g4, hq⟩ := hq
    refine x_callV (Yc := YX5_address) (as := [rv x1]) (st := []) q2594 mvX5_address g2 rfl dX5_writes_321 (xle (xal1 (rv_cat _) (xal1 (rv_cat _) xal0)) (by decide)) (xfr g3) (xlo xsw0 (by decide) g4) (xKv hq (fun h5 hq e7 => ?_) (fun _ _ q _ => q))
    replace hq := hq e7
    refine x_aload 4 dX5_writes_324 rfl ?_
    obtain ⟨g8, hq⟩ := hq
    refine x_getN (v := .int (fI h5 x5 1536)) gfX5_289 dX5_writes_326 g8 rfl ?_
    refine x_if_ne (tgt := 337) dX5_writes_329 (by decide) (fun c9 => ?_) (fun c9 => ?_)
    · replace hq := hq.1 c9
      refine x_aload 4 dX5_writes_337 rfl ?_
      refine x_getN (v := .int (fI h5 x5 1536)) gfX5_289 dX5_writes_339 g8 rfl ?_
      refine x_iconst (v := 1) dX5_writes_342 (by decide) ?_
      refine x_icmp_ne (tgt := 351) dX5_writes_343 (by decide) (fun c10 => ?_) (fun c10 => ?_)
      · replace hq := hq.1 c10
        refine x_aload 4 dX5_writes_351 rfl ?_
        refine x_getN (v := .int (fI h5 x5 1536)) gfX5_289 dX5_writes_353 g8 rfl ?_
        refine x_iconst (v := 2) dX5_writes_356 (by decide) ?_
        refine x_icmp_ne (tgt := 365) dX5_writes_357 (by decide) (fun c11 => ?_) (fun c11 => ?_)
        · replace hq := hq.1 c11
          refine x_aload 4 dX5_writes_365 rfl ?_
          refine x_getN (v := .int (fI h5 x5 1536)) gfX5_289 dX5_writes_367 g8 rfl ?_
          refine x_iconst (v := 3) dX5_writes_370 (by decide) ?_
          refine x_icmp_ne (tgt := 379) dX5_writes_371 (by decide) (fun c12 => ?_) (fun c12 => ?_)
          · replace hq := hq.1 c12
            refine x_bipush (v := 97) dX5_writes_379 (by decide) ?_
            refine xP.pick (lv' := [(0, rv x0), (3, .int x3), (4, rv x4), (5, rv x5), (7, .int x7), (8, .int x8), (9, .int x9)]) [0, 2, 3, 4, 5, 6, 7] rfl ?_
            exact uX5_writes_381 hq
          · replace hq := hq.2 c12
            refine x_bipush (v := 95) dX5_writes_374 (by decide) ?_
            refine x_goto (tgt := 381) dX5_writes_376 (by decide) ?_
            refine xP.pick (lv' := [(0, rv x0), (3, .int x3), (4, rv x4), (5, rv x5), (7, .int x7), (8, .int x8), (9, .int x9)]) [0, 2, 3, 4, 5, 6, 7] rfl ?_
            exact uX5_writes_381 hq
        · replace hq := hq.2 c11
          refine x_bipush (v := 96) dX5_writes_360 (by decide) ?_
          refine x_goto (tgt := 381) dX5_writes_362 (by decide) ?_
          refine xP.pick (lv' := [(0, rv x0), (3, .int x3), (4, rv x4), (5, rv x5), (7, .int x7), (8, .int x8), (9, .int x9)]) [0, 2, 3, 4, 5, 6, 7] rfl ?_
          exact uX5_writes_381 hq
      · replace hq := hq.2 c10
        refine x_bipush (v := 94) dX5_writes_346 (by decide) ?_
        refine x_goto (tgt := 381) dX5_writes_348 (by decide) ?_
        refine xP.pick (lv' := [(0, rv x0), (3, .int x3), (4, rv x4), (5, rv x5), (7, .int x7), (8, .int x8), (9, .int x9)]) [0, 2, 3, 4, 5, 6, 7] rfl ?_
        exact uX5_writes_381 hq
    · replace hq := hq.2 c9
      refine x_bipush (v := 93) dX5_writes_332 (by decide) ?_
      refine x_goto (tgt := 381) dX5_writes_334 (by decide) ?_
      refine xP.pick (lv' := [(0, rv x0), (3, .int x3), (4, rv x4), (5, rv x5), (7, .int x7), (8, .int x8), (9, .int x9)]) [0, 2, 3, 4, 5, 6, 7] rfl ?_
      exact uX5_writes_381 hq
  · replace hq := hq.2 c1
    refine x_iload 5 dX5_writes_229 rfl ?_
    refine x_iconst (v := 1) dX5_writes_231 (by decide) ?_
    refine x_icmp_ne (tgt := 256) dX5_writes_232 (by decide) (fun c13 => ?_) (fun c13 => ?_)
    · replace hq := hq.1 c13
      exact uX5_writes_256 hq
    · replace hq := hq.2 c13
      refine x_aload 4 dX5_writes_235 rfl ?_
      obtain ⟨g14, hq⟩ := hq
      refine x_getN (v := .int (fI h x5 1536)) gfX5_289 dX5_writes_237 g14 rfl ?_
      refine x_iconst (v := 1) dX5_writes_240 (by decide) ?_
      refine x_icmp_eq (tgt := 256) dX5_writes_241 (by decide) (fun c15 => ?_) (fun c15 => ?_)
      · replace hq := hq.1 c15
        exact uX5_writes_256 hq
      · replace hq := hq.2 c15
        refine x_aload_n 0 dX5_writes_244 rfl ?_
        refine x_bipush (v := 7) dX5_writes_245 (by decide) ?_
        refine x_aload 8 dX5_writes_247 rfl ?_
        obtain ⟨g16, hq⟩ := hq
        obtain ⟨g17, g18, hq⟩ := hq
        refine x_callV (Yc := YX15_place) (as := []) (st := [.int 7, rv x0]) q2013 mvX15_place g16 rfl dX5_writes_249 (xle (xal1 (rv_cat _) xal0) (by decide)) (xfr g17) (xlo (xsw1 rfl (xsw1 (rv_cat _) xsw0)) (by decide) g18) (xKi hq (fun x20 h19 hq e21 => ?_) (fun _ _ q _ => q))
        replace hq := hq e21
        obtain ⟨g22, hq⟩ := hq
        obtain ⟨g23, g24, hq⟩ := hq
        refine x_callV (Yc := YX5_fault) (as := [.int 7, .int x20]) (st := []) q2087 mvX5_fault g22 rfl dX5_writes_252 (xle (xal1 (rv_cat _) (xal1 rfl (xal1 rfl xal0))) (by decide)) (xfr g23) (xlo xsw0 (by decide) g24) (xKr hq (fun x26 h25 hq e27 => ?_) (fun _ _ q _ => q))
        replace hq := hq e27
        obtain ⟨r28, g29, hq⟩ := hq
        rw [g29]
        exact x_athrow dX5_writes_255 hq
set_option maxRecDepth 100000 in
def bX5_writes_188 (G : xG) (fr lo : Nat) (x0 : Nat) (x1 : Nat) (x3 : Int32) (x4 : Nat) (x5 : Nat) (s0 : Int32) (h : xH) (Q : Outcome → xH → Prop) : Prop := ((¬ s0 = 0 → tg h x4 = 16 ∧ lX5_writes_224 G fr lo x0 x1 x3 x4 x5 0 0 0 (fR h x4 3844) h Q) ∧ (s0 = 0 → tg h x0 = 6 ∧ 1 ≤ fr ∧ 16 ≤ lo ∧ xRi G YX5_firstOf (fr - 1) (lo - 16) [rv x0, rv x4] h (fun x7 h6 => xext h h6 → 1 ≤ fr ∧ 14 ≤ lo ∧ xRr G YX5_fault (fr - 1) (lo - 14) [rv x0, .int 7, .int x7] h6 (fun x13 h12 => xext h6 h12 → (∃ r15, x13 = r15 + 1 ∧ Q (.threw r15) h12)) (fun r h2 => Q (.threw r) h2)) (fun r h2 => Q (.threw r) h2)))
set_option maxRecDepth 100000 in
theorem uX5_writes_188 {G : xG} {fr lo : Nat} {x0 : Nat} {x1 : Nat} {x3 : Int32} {x4 : Nat} {x5 : Nat} {s0 : Int32} {h : xH} {Q : Outcome → xH → Prop} (hq : bX5_writes_188 G fr lo x0 x1 x3 x4 x5 s0 h Q) : xP G YX5_writes fr lo 188 [(0, rv x0), (1, rv x1), (3, .int x3), (4, rv x4), (5, rv x5)] [.int s0] h Q := by
  unfold bX5_writes_188 at hq
  refine x_istore (lv' := [(6, .int s0), (0, rv x0), (1, rv x1), (3, .int x3), (4, rv x4), (5, rv x5)]) dX5_writes_188 (by decide) (by first | rfl | (simp [rv_cat, Value.category]; done) | (simp [rv_cat, Value.category]; decide)) ?_
  refine x_iload 0 dX5_writes_190 rfl ?_
  refine x_if_ne (tgt := 208) dX5_writes_192 (by decide) (fun c1 => ?_) (fun c1 => ?_)
  · replace hq := hq.1 c1
    refine x_iconst (v := 0) dX5_writes_208 (by decide) ?_
    refine x_istore (lv' := [(7, .int 0), (6, .int s0), (0, rv x0), (1, rv x1), (3, .int x3), (4, rv x4), (5, rv x5)]) dX5_writes_209 (by decide) rfl ?_
    refine x_iconst (v := 0) dX5_writes_211 (by decide) ?_
    refine x_istore (lv' := [(8, .int 0), (7, .int 0), (6, .int s0), (0, rv x0), (1, rv x1), (3, .int x3), (4, rv x4), (5, rv x5)]) dX5_writes_212 (by decide) rfl ?_
    refine x_iconst (v := 0) dX5_writes_214 (by decide) ?_
    refine x_istore (lv' := [(9, .int 0), (8, .int 0), (7, .int 0), (6, .int s0), (0, rv x0), (1, rv x1), (3, .int x3), (4, rv x4), (5, rv x5)]) dX5_writes_215 (by decide) rfl ?_
    refine x_aload 7 dX5_writes_217 rfl ?_
    obtain ⟨g2, hq⟩ := hq
    refine x_getN (v := rv (fR h x4 3844)) gfX5_307 dX5_writes_219 g2 rfl ?_
    refine x_astore (lv' := [(10, rv (fR h x4 3844)), (9, .int 0), (8, .int 0), (7, .int 0), (6, .int s0), (0, rv x0), (1, rv x1), (3, .int x3), (4, rv x4), (5, rv x5)]) dX5_writes_222 (by decide) rfl ?_
    refine xP.pick (lv' := [(0, rv x0), (1, rv x1), (3, .int x3), (4, rv x4), (5, rv x5), (7, .int 0), (8, .int 0), (9, .int 0), (10, rv (fR h x4 3844))]) [5, 6, 7, 8, 9, 3, 2, 1, 0] rfl ?_
    exact hq
  · replace hq := hq.2 c1
    refine x_aload_n 1 dX5_writes_195 rfl ?_
    refine x_bipush (v := 7) dX5_writes_196 (by decide) ?_
    refine x_aload_n 1 dX5_writes_198 rfl ?_
    refine x_aload 4 dX5_writes_199 rfl ?_
    obtain ⟨g3, hq⟩ := hq
    obtain ⟨g4, g5, hq⟩ := hq
    refine x_callV (Yc := YX5_firstOf) (as := [rv x4]) (st := [.int 7, rv x0]) q2510 mvX5_firstOf g3 rfl dX5_writes_201 (xle (xal1 (rv_cat _) (xal1 (rv_cat _) xal0)) (by decide)) (xfr g4) (xlo (xsw1 rfl (xsw1 (rv_cat _) xsw0)) (by decide) g5) (xKi hq (fun x7 h6 hq e8 => ?_) (fun _ _ q _ => q))
    replace hq := hq e8
    have t9 : tg h6 x0 = 6 := e8.tg g3 (by decide)
    obtain ⟨g10, g11, hq⟩ := hq
    refine x_callV (Yc := YX5_fault) (as := [.int 7, .int x7]) (st := []) q2087 mvX5_fault t9 rfl dX5_writes_204 (xle (xal1 (rv_cat _) (xal1 rfl (xal1 rfl xal0))) (by decide)) (xfr g10) (xlo xsw0 (by decide) g11) (xKr hq (fun x13 h12 hq e14 => ?_) (fun _ _ q _ => q))
    replace hq := hq e14
    obtain ⟨r15, g16, hq⟩ := hq
    rw [g16]
    exact x_athrow dX5_writes_207 hq
set_option maxRecDepth 100000 in
def bX5_writes_183 (G : xG) (fr lo : Nat) (x0 : Nat) (x1 : Nat) (x3 : Int32) (x4 : Nat) (x5 : Nat) (h : xH) (Q : Outcome → xH → Prop) : Prop := bX5_writes_188 G fr lo x0 x1 x3 x4 x5 1 h Q
set_option maxRecDepth 100000 in
theorem uX5_writes_183 {G : xG} {fr lo : Nat} {x0 : Nat} {x1 : Nat} {x3 : Int32} {x4 : Nat} {x5 : Nat} {h : xH} {Q : Outcome → xH → Prop} (hq : bX5_writes_183 G fr lo x0 x1 x3 x4 x5 h Q) : xP G YX5_writes fr lo 183 [(0, rv x0), (1, rv x1), (3, .int x3), (4, rv x4), (5, rv x5)] [] h Q := by
  unfold bX5_writes_183 at hq
  refine x_iconst (v := 1) dX5_writes_183 (by decide) ?_
  refine x_goto (tgt := 188) dX5_writes_184 (by decide) ?_
  exact uX5_writes_188 hq
set_option maxRecDepth 100000 in
def bX5_writes_152 (G : xG) (fr lo : Nat) (x3 : Int32) (s0 : Int32) (s1 : Int32) (s2 : Int32) (s3 : Int32) (s4 : Nat) (h : xH) (Q : Outcome → xH → Prop) : Prop := tg h s4 = 3 ∧ 1 ≤ fr ∧ 17 ≤ lo ∧ xRi G YX2_put (fr - 1) (lo - 17) [rv s4, .int s3, .int s2, .int s1, .int s0, .int x3] h (fun x5 h4 => xext h h4 → Q (.returned none) h4) (fun r h2 => Q (.threw r) h2)
set_option maxRecDepth 100000 in
theorem uX5_writes_152 {G : xG} {fr lo : Nat} {x3 : Int32} {s0 : Int32} {s1 : Int32} {s2 : Int32} {s3 : Int32} {s4 : Nat} {h : xH} {Q : Outcome → xH → Prop} (hq : bX5_writes_152 G fr lo x3 s0 s1 s2 s3 s4 h Q) : xP G YX5_writes fr lo 152 [(3, .int x3)] [.int s0, .int s1, .int s2, .int s3, rv s4] h Q := by
  unfold bX5_writes_152 at hq
  refine x_iload_n 0 dX5_writes_152 rfl ?_
  obtain ⟨g1, hq⟩ := hq
  obtain ⟨g2, g3, hq⟩ := hq
  refine x_callV (Yc := YX2_put) (as := [.int s3, .int s2, .int s1, .int s0, .int x3]) (st := []) q2494 mvX2_put g1 rfl dX5_writes_153 (xle (xal1 (rv_cat _) (xal1 rfl (xal1 rfl (xal1 rfl (xal1 rfl (xal1 rfl xal0)))))) (by decide)) (xfr g2) (xlo xsw0 (by decide) g3) (xKi hq (fun x5 h4 hq e6 => ?_) (fun _ _ q _ => q))
  replace hq := hq e6
  refine x_pop dX5_writes_156 rfl ?_
  exact x_vret rfl dX5_writes_157 hq
set_option maxRecDepth 100000 in
def bX5_writes (G : xG) (fr lo : Nat) (x0 : Nat) (x1 : Nat) (x2 : Nat) (x3 : Int32) (h : xH) (Q : Outcome → xH → Prop) : Prop := tg h x2 = 16 ∧ tg h x1 = 9 ∧ tg h (fR h x1 2050) = 7 ∧ 1 ≤ fr ∧ 12 ≤ lo ∧ xRi G YX6_isText (fr - 1) (lo - 12) [rv (fR h x1 2050)] h (fun x7 h6 => xext h h6 → ((¬ x7 = 0 → tg h6 x0 = 6 ∧ 1 ≤ fr ∧ 13 ≤ lo ∧ xRr G YX5_expression (fr - 1) (lo - 13) [rv x0, rv (fR h x2 3842)] h6 (fun x14 h13 => xext h6 h13 → tg h13 x14 = 7 ∧ (((fI h13 x14 1536) ≤ 3 → bX5_writes_183 G fr lo x0 x1 x3 (fR h x2 3842) x14 h13 Q) ∧ (¬ (fI h13 x14 1536) ≤ 3 → 1 ≤ fr ∧ 13 ≤ lo ∧ xRi G YX6_string (fr - 1) (lo - 13) [rv x14] h13 (fun x21 h20 => xext h13 h20 → ((x21 ≤ 0 → bX5_writes_188 G fr lo x0 x1 x3 (fR h x2 3842) x14 0 h20 Q) ∧ (¬ x21 ≤ 0 → bX5_writes_183 G fr lo x0 x1 x3 (fR h x2 3842) x14 h20 Q))) (fun r h2 => Q (.threw r) h2)))) (fun r h2 => Q (.threw r) h2)) ∧ (x7 = 0 → tg h6 x0 = 6 ∧ 1 ≤ fr ∧ 13 ≤ lo ∧ xRv G YX5_address (fr - 1) (lo - 13) [rv x0, rv x1] h6 (fun h27 => xext h6 h27 → tg h27 (fR h27 x0 1281) = 3 ∧ 1 ≤ fr ∧ 17 ≤ lo ∧ xRi G YX2_put (fr - 1) (lo - 17) [rv (fR h27 x0 1281), .int 4, .int 1, .int 0, .int 0, .int 0] h27 (fun x35 h34 => xext h27 h34 → 1 ≤ fr ∧ 13 ≤ lo ∧ xRr G YX5_expression (fr - 1) (lo - 13) [rv x0, rv (fR h x2 3842)] h34 (fun x41 h40 => xext h34 h40 → tg h40 (fR h40 x1 2050) = 7 ∧ tg h40 (fR h40 (fR h40 x1 2050) 1538) = 7 ∧ 1 ≤ fr ∧ 13 ≤ lo ∧ xRi G YX6_takes (fr - 1) (lo - 13) [rv (fR h40 (fR h40 x1 2050) 1538), rv x41] h40 (fun x52 h51 => xext h40 h51 → ((¬ x52 = 0 → tg h51 (fR h x2 3842) = 16 ∧ (((fR h51 (fR h x2 3842) 3844) = 0 → tg h51 (fR h51 x1 2050) = 7 ∧ 1 ≤ fr ∧ 17 ≤ lo ∧ xRi G YX5_firstOf (fr - 1) (lo - 17) [rv x0, rv (fR h x2 3842)] h51 (fun x64 h63 => xext h51 h63 → 1 ≤ fr ∧ 15 ≤ lo ∧ xRv G YX5_store (fr - 1) (lo - 15) [rv x0, rv (fR h51 (fR h51 x1 2050) 1538), rv x41, .int x64] h63 (fun h69 => xext h63 h69 → 1 ≤ fr ∧ 13 ≤ lo ∧ xRv G YX5_address (fr - 1) (lo - 13) [rv x0, rv x1] h69 (fun h75 => xext h69 h75 → tg h75 (fR h75 x1 2050) = 7 ∧ tg h75 (fR h75 (fR h75 x1 2050) 1538) = 7 ∧ 1 ≤ fr ∧ 16 ≤ lo ∧ xRi G YX6_isStructure (fr - 1) (lo - 16) [rv (fR h75 (fR h75 x1 2050) 1538)] h75 (fun x87 h86 => xext h75 h86 → ((x87 = 0 → bX5_writes_152 G fr lo x3 0 (fI h75 (fR h75 (fR h75 x1 2050) 1538) 1543) 0 85 (fR h75 x0 1281) h86 Q) ∧ (¬ x87 = 0 → bX5_writes_152 G fr lo x3 1 (fI h75 (fR h75 (fR h75 x1 2050) 1538) 1543) 0 85 (fR h75 x0 1281) h86 Q))) (fun r h2 => Q (.threw r) h2)) (fun r h2 => Q (.threw r) h2)) (fun r h2 => Q (.threw r) h2)) (fun r h2 => Q (.threw r) h2)) ∧ (¬ (fR h51 (fR h x2 3842) 3844) = 0 → tg h51 (fR h51 (fR h x2 3842) 3844) = 16 ∧ 1 ≤ fr ∧ 14 ≤ lo ∧ xRi G YX15_place (fr - 1) (lo - 14) [rv (fR h51 (fR h x2 3842) 3844)] h51 (fun x94 h93 => xext h51 h93 → 1 ≤ fr ∧ 14 ≤ lo ∧ xRr G YX5_fault (fr - 1) (lo - 14) [rv x0, .int 7, .int x94] h93 (fun x102 h101 => xext h93 h101 → (∃ r104, x102 = r104 + 1 ∧ Q (.threw r104) h101)) (fun r h2 => Q (.threw r) h2)) (fun r h2 => Q (.threw r) h2)))) ∧ (x52 = 0 → 1 ≤ fr ∧ 16 ≤ lo ∧ xRi G YX5_firstOf (fr - 1) (lo - 16) [rv x0, rv (fR h x2 3842)] h51 (fun x111 h110 => xext h51 h110 → 1 ≤ fr ∧ 14 ≤ lo ∧ xRr G YX5_fault (fr - 1) (lo - 14) [rv x0, .int 7, .int x111] h110 (fun x117 h116 => xext h110 h116 → (∃ r119, x117 = r119 + 1 ∧ Q (.threw r119) h116)) (fun r h2 => Q (.threw r) h2)) (fun r h2 => Q (.threw r) h2)))) (fun r h2 => Q (.threw r) h2)) (fun r h2 => Q (.threw r) h2)) (fun r h2 => Q (.threw r) h2)) (fun r h2 => Q (.threw r) h2)))) (fun r h2 => Q (.threw r) h2)
set_option maxRecDepth 100000 in
theorem uX5_writes {G : xG} {fr lo : Nat} {x0 : Nat} {x1 : Nat} {x2 : Nat} {x3 : Int32} {h : xH} {Q : Outcome → xH → Prop} (hq : bX5_writes G fr lo x0 x1 x2 x3 h Q) : xP G YX5_writes fr lo 0 [(0, rv x0), (1, rv x1), (2, rv x2), (3, .int x3)] [] h Q := by
  unfold bX5_writes at hq
  refine x_aload_n 2 dX5_writes_0 rfl ?_
  obtain ⟨g1, hq⟩ := hq
  refine x_getN (v := rv (fR h x2 3842)) gfX5_251 dX5_writes_1 g1 rfl ?_
  refine x_astore (lv' := [(4, rv (fR h x2 3842)), (0, rv x0), (1, rv x1), (2, rv x2), (3, .int x3)]) dX5_writes_4 (by decide) rfl ?_
  refine x_aload_n 2 dX5_writes_6 rfl ?_
  obtain ⟨g2, hq⟩ := hq
  refine x_getN (v := rv (fR h x1 2050)) gfX5_249 dX5_writes_7 g2 rfl ?_
  obtain ⟨g3, hq⟩ := hq
  obtain ⟨g4, g5, hq⟩ := hq
  refine x_callV (Yc := YX6_isText) (as := []) (st := []) q2637 mvX6_isText g3 rfl dX5_writes_10 (xle (xal1 (rv_cat _) xal0) (by decide)) (xfr g4) (xlo xsw0 (by decide) g5) (xKi hq (fun x7 h6 hq e8 => ?_) (fun _ _ q _ => q))
  replace hq := hq e8
  refine x_if_ne (tgt := 158) dX5_writes_13 (by decide) (fun c9 => ?_) (fun c9 => ?_)
  · replace hq := hq.1 c9
    refine x_aload_n 1 dX5_writes_158 rfl ?_
    refine x_aload 0 dX5_writes_159 rfl ?_
    obtain ⟨g10, hq⟩ := hq
    obtain ⟨g11, g12, hq⟩ := hq
    refine x_callV (Yc := YX5_expression) (as := [rv (fR h x2 3842)]) (st := []) q2522 mvX5_expression g10 rfl dX5_writes_161 (xle (xal1 (rv_cat _) (xal1 (rv_cat _) xal0)) (by decide)) (xfr g11) (xlo xsw0 (by decide) g12) (xKr hq (fun x14 h13 hq e15 => ?_) (fun _ _ q _ => q))
    replace hq := hq e15
    refine x_astore (lv' := [(5, rv x14), (4, rv (fR h x2 3842)), (0, rv x0), (1, rv x1), (2, rv x2), (3, .int x3)]) dX5_writes_164 (by decide) (by first | rfl | (simp [rv_cat, Value.category]; done) | (simp [rv_cat, Value.category]; decide)) ?_
    refine x_aload 0 dX5_writes_166 rfl ?_
    obtain ⟨g16, hq⟩ := hq
    refine x_getN (v := .int (fI h13 x14 1536)) gfX5_289 dX5_writes_168 g16 rfl ?_
    refine x_iconst (v := 3) dX5_writes_171 (by decide) ?_
    refine x_icmp_le (tgt := 183) dX5_writes_172 (by decide) (fun c17 => ?_) (fun c17 => ?_)
    · replace hq := hq.1 c17
      refine xP.pick (lv' := [(0, rv x0), (1, rv x1), (3, .int x3), (4, rv (fR h x2 3842)), (5, rv x14)]) [2, 3, 5, 1, 0] rfl ?_
      exact uX5_writes_183 hq
    · replace hq := hq.2 c17
      refine x_aload 0 dX5_writes_175 rfl ?_
      obtain ⟨g18, g19, hq⟩ := hq
      refine x_callV (Yc := YX6_string) (as := []) (st := []) q2694 mvX6_string g16 rfl dX5_writes_177 (xle (xal1 (rv_cat _) xal0) (by decide)) (xfr g18) (xlo xsw0 (by decide) g19) (xKi hq (fun x21 h20 hq e22 => ?_) (fun _ _ q _ => q))
      replace hq := hq e22
      refine x_if_le (tgt := 187) dX5_writes_180 (by decide) (fun c23 => ?_) (fun c23 => ?_)
      · replace hq := hq.1 c23
        refine x_iconst (v := 0) dX5_writes_187 (by decide) ?_
        refine xP.pick (lv' := [(0, rv x0), (1, rv x1), (3, .int x3), (4, rv (fR h x2 3842)), (5, rv x14)]) [2, 3, 5, 1, 0] rfl ?_
        exact uX5_writes_188 hq
      · replace hq := hq.2 c23
        refine xP.pick (lv' := [(0, rv x0), (1, rv x1), (3, .int x3), (4, rv (fR h x2 3842)), (5, rv x14)]) [2, 3, 5, 1, 0] rfl ?_
        exact uX5_writes_183 hq
  · replace hq := hq.2 c9
    refine x_aload_n 1 dX5_writes_16 rfl ?_
    refine x_aload_n 2 dX5_writes_17 rfl ?_
    obtain ⟨g24, hq⟩ := hq
    obtain ⟨g25, g26, hq⟩ := hq
    refine x_callV (Yc := YX5_address) (as := [rv x1]) (st := []) q2594 mvX5_address g24 rfl dX5_writes_18 (xle (xal1 (rv_cat _) (xal1 (rv_cat _) xal0)) (by decide)) (xfr g25) (xlo xsw0 (by decide) g26) (xKv hq (fun h27 hq e29 => ?_) (fun _ _ q _ => q))
    replace hq := hq e29
    refine x_aload_n 1 dX5_writes_21 rfl ?_
    have t30 : tg h27 x0 = 6 := e29.tg g24 (by decide)
    refine x_get (v := rv (fR h27 x0 1281)) fdX5_62 dX5_writes_22 t30 rfl ?_
    refine x_iconst (v := 4) dX5_writes_25 (by decide) ?_
    refine x_iconst (v := 1) dX5_writes_26 (by decide) ?_
    refine x_iconst (v := 0) dX5_writes_27 (by decide) ?_
    refine x_iconst (v := 0) dX5_writes_28 (by decide) ?_
    refine x_iconst (v := 0) dX5_writes_29 (by decide) ?_
    obtain ⟨g31, hq⟩ := hq
    obtain ⟨g32, g33, hq⟩ := hq
    refine x_callV (Yc := YX2_put) (as := [.int 4, .int 1, .int 0, .int 0, .int 0]) (st := []) q2494 mvX2_put g31 rfl dX5_writes_30 (xle (xal1 (rv_cat _) (xal1 rfl (xal1 rfl (xal1 rfl (xal1 rfl (xal1 rfl xal0)))))) (by decide)) (xfr g32) (xlo xsw0 (by decide) g33) (xKi hq (fun x35 h34 hq e36 => ?_) (fun _ _ q _ => q))
    replace hq := hq e36
    refine x_pop dX5_writes_33 rfl ?_
    refine x_aload_n 1 dX5_writes_34 rfl ?_
    refine x_aload 0 dX5_writes_35 rfl ?_
    have t37 : tg h34 x0 = 6 := e36.tg t30 (by decide)
    obtain ⟨g38, g39, hq⟩ := hq
    refine x_callV (Yc := YX5_expression) (as := [rv (fR h x2 3842)]) (st := []) q2522 mvX5_expression t37 rfl dX5_writes_37 (xle (xal1 (rv_cat _) (xal1 (rv_cat _) xal0)) (by decide)) (xfr g38) (xlo xsw0 (by decide) g39) (xKr hq (fun x41 h40 hq e42 => ?_) (fun _ _ q _ => q))
    replace hq := hq e42
    refine x_astore (lv' := [(5, rv x41), (4, rv (fR h x2 3842)), (0, rv x0), (1, rv x1), (2, rv x2), (3, .int x3)]) dX5_writes_40 (by decide) (by first | rfl | (simp [rv_cat, Value.category]; done) | (simp [rv_cat, Value.category]; decide)) ?_
    refine x_aload_n 3 dX5_writes_42 rfl ?_
    have t43 : tg h6 x1 = 9 := e8.tg g2 (by decide)
    have t44 : tg h27 x1 = 9 := e29.tg t43 (by decide)
    have t45 : tg h34 x1 = 9 := e36.tg t44 (by decide)
    have t46 : tg h40 x1 = 9 := e42.tg t45 (by decide)
    refine x_getN (v := rv (fR h40 x1 2050)) gfX5_249 dX5_writes_43 t46 rfl ?_
    obtain ⟨g47, hq⟩ := hq
    refine x_getN (v := rv (fR h40 (fR h40 x1 2050) 1538)) gfX5_286 dX5_writes_46 g47 rfl ?_
    refine x_aload 0 dX5_writes_49 rfl ?_
    obtain ⟨g48, hq⟩ := hq
    obtain ⟨g49, g50, hq⟩ := hq
    refine x_callV (Yc := YX6_takes) (as := [rv x41]) (st := []) q2565 mvX6_takes g48 rfl dX5_writes_51 (xle (xal1 (rv_cat _) (xal1 (rv_cat _) xal0)) (by decide)) (xfr g49) (xlo xsw0 (by decide) g50) (xKi hq (fun x52 h51 hq e53 => ?_) (fun _ _ q _ => q))
    replace hq := hq e53
    refine x_if_ne (tgt := 70) dX5_writes_54 (by decide) (fun c54 => ?_) (fun c54 => ?_)
    · replace hq := hq.1 c54
      refine x_aload 1 dX5_writes_70 rfl ?_
      obtain ⟨g55, hq⟩ := hq
      refine x_getN (v := rv (fR h51 (fR h x2 3842) 3844)) gfX5_307 dX5_writes_72 g55 rfl ?_
      refine x_ifnull (tgt := 93) dX5_writes_75 (by decide) (fun c56 => ?_) (fun c56 => ?_)
      · replace hq := hq.1 c56
        refine x_aload_n 2 dX5_writes_93 rfl ?_
        refine x_aload_n 3 dX5_writes_94 rfl ?_
        have t57 : tg h51 x1 = 9 := e53.tg t46 (by decide)
        refine x_getN (v := rv (fR h51 x1 2050)) gfX5_249 dX5_writes_95 t57 rfl ?_
        obtain ⟨g58, hq⟩ := hq
        refine x_getN (v := rv (fR h51 (fR h51 x1 2050) 1538)) gfX5_286 dX5_writes_98 g58 rfl ?_
        refine x_aload 0 dX5_writes_101 rfl ?_
        refine x_aload_n 2 dX5_writes_103 rfl ?_
        refine x_aload 1 dX5_writes_104 rfl ?_
        have t59 : tg h40 x0 = 6 := e42.tg t37 (by decide)
        have t60 : tg h51 x0 = 6 := e53.tg t59 (by decide)
        obtain ⟨g61, g62, hq⟩ := hq
        refine x_callV (Yc := YX5_firstOf) (as := [rv (fR h x2 3842)]) (st := [rv x41, rv (fR h51 (fR h51 x1 2050) 1538), rv x0]) q2510 mvX5_firstOf t60 rfl dX5_writes_106 (xle (xal1 (rv_cat _) (xal1 (rv_cat _) xal0)) (by decide)) (xfr g61) (xlo (xsw1 (rv_cat _) (xsw1 (rv_cat _) (xsw1 (rv_cat _) xsw0))) (by decide) g62) (xKi hq (fun x64 h63 hq e65 => ?_) (fun _ _ q _ => q))
        replace hq := hq e65
        have t66 : tg h63 x0 = 6 := e65.tg t60 (by decide)
        obtain ⟨g67, g68, hq⟩ := hq
        refine x_callV (Yc := YX5_store) (as := [rv (fR h51 (fR h51 x1 2050) 1538), rv x41, .int x64]) (st := []) q2770 mvX5_store t66 rfl dX5_writes_109 (xle (xal1 (rv_cat _) (xal1 (rv_cat _) (xal1 (rv_cat _) (xal1 rfl xal0)))) (by decide)) (xfr g67) (xlo xsw0 (by decide) g68) (xKv hq (fun h69 hq e71 => ?_) (fun _ _ q _ => q))
        replace hq := hq e71
        refine x_aload_n 2 dX5_writes_112 rfl ?_
        refine x_aload_n 3 dX5_writes_113 rfl ?_
        have t72 : tg h69 x0 = 6 := e71.tg t66 (by decide)
        obtain ⟨g73, g74, hq⟩ := hq
        refine x_callV (Yc := YX5_address) (as := [rv x1]) (st := []) q2594 mvX5_address t72 rfl dX5_writes_114 (xle (xal1 (rv_cat _) (xal1 (rv_cat _) xal0)) (by decide)) (xfr g73) (xlo xsw0 (by decide) g74) (xKv hq (fun h75 hq e77 => ?_) (fun _ _ q _ => q))
        replace hq := hq e77
        refine x_aload_n 2 dX5_writes_117 rfl ?_
        have t78 : tg h75 x0 = 6 := e77.tg t72 (by decide)
        refine x_get (v := rv (fR h75 x0 1281)) fdX5_62 dX5_writes_118 t78 rfl ?_
        refine x_bipush (v := 85) dX5_writes_121 (by decide) ?_
        refine x_iconst (v := 0) dX5_writes_123 (by decide) ?_
        refine x_aload_n 3 dX5_writes_124 rfl ?_
        have t79 : tg h63 x1 = 9 := e65.tg t57 (by decide)
        have t80 : tg h69 x1 = 9 := e71.tg t79 (by decide)
        have t81 : tg h75 x1 = 9 := e77.tg t80 (by decide)
        refine x_getN (v := rv (fR h75 x1 2050)) gfX5_249 dX5_writes_125 t81 rfl ?_
        obtain ⟨g82, hq⟩ := hq
        refine x_getN (v := rv (fR h75 (fR h75 x1 2050) 1538)) gfX5_286 dX5_writes_128 g82 rfl ?_
        obtain ⟨g83, hq⟩ := hq
        refine x_getN (v := .int (fI h75 (fR h75 (fR h75 x1 2050) 1538) 1543)) gfX5_66 dX5_writes_131 g83 rfl ?_
        refine x_aload_n 3 dX5_writes_134 rfl ?_
        refine x_getN (v := rv (fR h75 x1 2050)) gfX5_249 dX5_writes_135 t81 rfl ?_
        refine x_getN (v := rv (fR h75 (fR h75 x1 2050) 1538)) gfX5_286 dX5_writes_138 g82 rfl ?_
        obtain ⟨g84, g85, hq⟩ := hq
        refine x_callV (Yc := YX6_isStructure) (as := []) (st := [.int (fI h75 (fR h75 (fR h75 x1 2050) 1538) 1543), .int 0, .int 85, rv (fR h75 x0 1281)]) q2794 mvX6_isStructure g83 rfl dX5_writes_141 (xle (xal1 (rv_cat _) xal0) (by decide)) (xfr g84) (xlo (xsw1 rfl (xsw1 rfl (xsw1 rfl (xsw1 (rv_cat _) xsw0)))) (by decide) g85) (xKi hq (fun x87 h86 hq e88 => ?_) (fun _ _ q _ => q))
        replace hq := hq e88
        refine x_if_eq (tgt := 151) dX5_writes_144 (by decide) (fun c89 => ?_) (fun c89 => ?_)
        · replace hq := hq.1 c89
          refine x_iconst (v := 0) dX5_writes_151 (by decide) ?_
          refine xP.pick (lv' := [(3, .int x3)]) [5] rfl ?_
          exact uX5_writes_152 hq
        · replace hq := hq.2 c89
          refine x_iconst (v := 1) dX5_writes_147 (by decide) ?_
          refine x_goto (tgt := 152) dX5_writes_148 (by decide) ?_
          refine xP.pick (lv' := [(3, .int x3)]) [5] rfl ?_
          exact uX5_writes_152 hq
      · replace hq := hq.2 c56
        refine x_aload_n 2 dX5_writes_78 rfl ?_
        refine x_bipush (v := 7) dX5_writes_79 (by decide) ?_
        refine x_aload 1 dX5_writes_81 rfl ?_
        refine x_getN (v := rv (fR h51 (fR h x2 3842) 3844)) gfX5_307 dX5_writes_83 g55 rfl ?_
        obtain ⟨g90, hq⟩ := hq
        obtain ⟨g91, g92, hq⟩ := hq
        refine x_callV (Yc := YX15_place) (as := []) (st := [.int 7, rv x0]) q2013 mvX15_place g90 rfl dX5_writes_86 (xle (xal1 (rv_cat _) xal0) (by decide)) (xfr g91) (xlo (xsw1 rfl (xsw1 (rv_cat _) xsw0)) (by decide) g92) (xKi hq (fun x94 h93 hq e95 => ?_) (fun _ _ q _ => q))
        replace hq := hq e95
        have t96 : tg h40 x0 = 6 := e42.tg t37 (by decide)
        have t97 : tg h51 x0 = 6 := e53.tg t96 (by decide)
        have t98 : tg h93 x0 = 6 := e95.tg t97 (by decide)
        obtain ⟨g99, g100, hq⟩ := hq
        refine x_callV (Yc := YX5_fault) (as := [.int 7, .int x94]) (st := []) q2087 mvX5_fault t98 rfl dX5_writes_89 (xle (xal1 (rv_cat _) (xal1 rfl (xal1 rfl xal0))) (by decide)) (xfr g99) (xlo xsw0 (by decide) g100) (xKr hq (fun x102 h101 hq e103 => ?_) (fun _ _ q _ => q))
        replace hq := hq e103
        obtain ⟨r104, g105, hq⟩ := hq
        rw [g105]
        exact x_athrow dX5_writes_92 hq
    · replace hq := hq.2 c54
      refine x_aload_n 2 dX5_writes_57 rfl ?_
      refine x_bipush (v := 7) dX5_writes_58 (by decide) ?_
      refine x_aload_n 2 dX5_writes_60 rfl ?_
      refine x_aload 1 dX5_writes_61 rfl ?_
      have t106 : tg h40 x0 = 6 := e42.tg t37 (by decide)
      have t107 : tg h51 x0 = 6 := e53.tg t106 (by decide)
      obtain ⟨g108, g109, hq⟩ := hq
      refine x_callV (Yc := YX5_firstOf) (as := [rv (fR h x2 3842)]) (st := [.int 7, rv x0]) q2510 mvX5_firstOf t107 rfl dX5_writes_63 (xle (xal1 (rv_cat _) (xal1 (rv_cat _) xal0)) (by decide)) (xfr g108) (xlo (xsw1 rfl (xsw1 (rv_cat _) xsw0)) (by decide) g109) (xKi hq (fun x111 h110 hq e112 => ?_) (fun _ _ q _ => q))
      replace hq := hq e112
      have t113 : tg h110 x0 = 6 := e112.tg t107 (by decide)
      obtain ⟨g114, g115, hq⟩ := hq
      refine x_callV (Yc := YX5_fault) (as := [.int 7, .int x111]) (st := []) q2087 mvX5_fault t113 rfl dX5_writes_66 (xle (xal1 (rv_cat _) (xal1 rfl (xal1 rfl xal0))) (by decide)) (xfr g114) (xlo xsw0 (by decide) g115) (xKr hq (fun x117 h116 hq e118 => ?_) (fun _ _ q _ => q))
      replace hq := hq e118
      obtain ⟨r119, g120, hq⟩ := hq
      rw [g120]
      exact x_athrow dX5_writes_69 hq
theorem rX5_writes {G : xG} {fr lo : Nat} {x0 : Nat} {x1 : Nat} {x2 : Nat} {x3 : Int32} {h : xH} {Q : Outcome → xH → Prop} (hq : bX5_writes G fr lo x0 x1 x2 x3 h Q) : xR G YX5_writes fr lo [rv x0, rv x1, rv x2, .int x3] h Q := by
  show xP _ _ _ _ _ (lv_args 0 _) _ _ _
  rw [show lv_args 0 [rv x0, rv x1, rv x2, .int x3] = [(0, rv x0), (1, rv x1), (2, rv x2), (3, .int x3)] from (xla1 (rv_cat _) (xla1 (rv_cat _) (xla1 (rv_cat _) (xla1 rfl xla0))))]
  exact uX5_writes hq
set_option maxRecDepth 100000 in
theorem dX5_leaps_0 : decode cX5_leaps 0 = .ok (.iconst 0, 1) := by decide +kernel
set_option maxRecDepth 100000 in
theorem dX5_leaps_1 : decode cX5_leaps 1 = .ok (.istore_n 2, 1) := by decide +kernel
set_option maxRecDepth 100000 in
theorem dX5_leaps_2 : decode cX5_leaps 2 = .ok (.iload_n 2, 1) := by decide +kernel
set_option maxRecDepth 100000 in
theorem dX5_leaps_3 : decode cX5_leaps 3 = .ok (.aload_n 1, 1) := by decide +kernel
set_option maxRecDepth 100000 in
theorem dX5_leaps_4 : decode cX5_leaps 4 = .ok (.getfield 571, 3) := by decide +kernel
set_option maxRecDepth 100000 in
theorem dX5_leaps_7 : decode cX5_leaps 7 = .ok (.invokevirtual 490, 3) := by decide +kernel
set_option maxRecDepth 100000 in
theorem dX5_leaps_10 : decode cX5_leaps 10 = .ok (.if_icmp .ge 123, 3) := by decide +kernel
set_option maxRecDepth 100000 in
theorem dX5_leaps_13 : decode cX5_leaps 13 = .ok (.aload_n 1, 1) := by decide +kernel
set_option maxRecDepth 100000 in
theorem dX5_leaps_14 : decode cX5_leaps 14 = .ok (.getfield 571, 3) := by decide +kernel
set_option maxRecDepth 100000 in
theorem dX5_leaps_17 : decode cX5_leaps 17 = .ok (.iload_n 2, 1) := by decide +kernel
set_option maxRecDepth 100000 in
theorem dX5_leaps_18 : decode cX5_leaps 18 = .ok (.invokevirtual 331, 3) := by decide +kernel
set_option maxRecDepth 100000 in
theorem dX5_leaps_21 : decode cX5_leaps 21 = .ok (.checkcast 573, 3) := by decide +kernel
set_option maxRecDepth 100000 in
theorem dX5_leaps_24 : decode cX5_leaps 24 = .ok (.astore_n 3, 1) := by decide +kernel
set_option maxRecDepth 100000 in
theorem dX5_leaps_25 : decode cX5_leaps 25 = .ok (.aload_n 3, 1) := by decide +kernel
set_option maxRecDepth 100000 in
theorem dX5_leaps_26 : decode cX5_leaps 26 = .ok (.getfield 575, 3) := by decide +kernel
set_option maxRecDepth 100000 in
theorem dX5_leaps_29 : decode cX5_leaps 29 = .ok (.getfield 578, 3) := by decide +kernel
set_option maxRecDepth 100000 in
theorem dX5_leaps_32 : decode cX5_leaps 32 = .ok (.ifCond .eq 76, 3) := by decide +kernel
set_option maxRecDepth 100000 in
theorem dX5_leaps_35 : decode cX5_leaps 35 = .ok (.aload_n 3, 1) := by decide +kernel
set_option maxRecDepth 100000 in
theorem dX5_leaps_36 : decode cX5_leaps 36 = .ok (.getfield 581, 3) := by decide +kernel
set_option maxRecDepth 100000 in
theorem dX5_leaps_39 : decode cX5_leaps 39 = .ok (.ifCond .eq 20, 3) := by decide +kernel
set_option maxRecDepth 100000 in
theorem dX5_leaps_42 : decode cX5_leaps 42 = .ok (.aload_n 3, 1) := by decide +kernel
set_option maxRecDepth 100000 in
theorem dX5_leaps_43 : decode cX5_leaps 43 = .ok (.getfield 575, 3) := by decide +kernel
set_option maxRecDepth 100000 in
theorem dX5_leaps_46 : decode cX5_leaps 46 = .ok (.getfield 584, 3) := by decide +kernel
set_option maxRecDepth 100000 in
theorem dX5_leaps_49 : decode cX5_leaps 49 = .ok (.aload_n 1, 1) := by decide +kernel
set_option maxRecDepth 100000 in
theorem dX5_leaps_50 : decode cX5_leaps 50 = .ok (.getfield 587, 3) := by decide +kernel
set_option maxRecDepth 100000 in
theorem dX5_leaps_53 : decode cX5_leaps 53 = .ok (.if_icmp .ne 55, 3) := by decide +kernel
set_option maxRecDepth 100000 in
theorem dX5_leaps_56 : decode cX5_leaps 56 = .ok (.goto 48, 3) := by decide +kernel
set_option maxRecDepth 100000 in
theorem dX5_leaps_59 : decode cX5_leaps 59 = .ok (.aload_n 3, 1) := by decide +kernel
set_option maxRecDepth 100000 in
theorem dX5_leaps_60 : decode cX5_leaps 60 = .ok (.getfield 590, 3) := by decide +kernel
set_option maxRecDepth 100000 in
theorem dX5_leaps_63 : decode cX5_leaps 63 = .ok (.aload_n 3, 1) := by decide +kernel
set_option maxRecDepth 100000 in
theorem dX5_leaps_64 : decode cX5_leaps 64 = .ok (.getfield 575, 3) := by decide +kernel
set_option maxRecDepth 100000 in
theorem dX5_leaps_67 : decode cX5_leaps 67 = .ok (.getfield 594, 3) := by decide +kernel
set_option maxRecDepth 100000 in
theorem dX5_leaps_70 : decode cX5_leaps 70 = .ok (.invokestatic 596, 3) := by decide +kernel
set_option maxRecDepth 100000 in
theorem dX5_leaps_73 : decode cX5_leaps 73 = .ok (.ifCond .ne 31, 3) := by decide +kernel
set_option maxRecDepth 100000 in
theorem dX5_leaps_76 : decode cX5_leaps 76 = .ok (.aload_n 3, 1) := by decide +kernel
set_option maxRecDepth 100000 in
theorem dX5_leaps_77 : decode cX5_leaps 77 = .ok (.getfield 575, 3) := by decide +kernel
set_option maxRecDepth 100000 in
theorem dX5_leaps_80 : decode cX5_leaps 80 = .ok (.getfield 584, 3) := by decide +kernel
set_option maxRecDepth 100000 in
theorem dX5_leaps_83 : decode cX5_leaps 83 = .ok (.iconst (-1), 1) := by decide +kernel
set_option maxRecDepth 100000 in
theorem dX5_leaps_84 : decode cX5_leaps 84 = .ok (.if_icmp .eq 24, 3) := by decide +kernel
set_option maxRecDepth 100000 in
theorem dX5_leaps_87 : decode cX5_leaps 87 = .ok (.aload_n 3, 1) := by decide +kernel
set_option maxRecDepth 100000 in
theorem dX5_leaps_88 : decode cX5_leaps 88 = .ok (.getfield 600, 3) := by decide +kernel
set_option maxRecDepth 100000 in
theorem dX5_leaps_91 : decode cX5_leaps 91 = .ok (.aload_n 3, 1) := by decide +kernel
set_option maxRecDepth 100000 in
theorem dX5_leaps_92 : decode cX5_leaps 92 = .ok (.getfield 575, 3) := by decide +kernel
set_option maxRecDepth 100000 in
theorem dX5_leaps_95 : decode cX5_leaps 95 = .ok (.getfield 584, 3) := by decide +kernel
set_option maxRecDepth 100000 in
theorem dX5_leaps_98 : decode cX5_leaps 98 = .ok (.invokestatic 596, 3) := by decide +kernel
set_option maxRecDepth 100000 in
theorem dX5_leaps_101 : decode cX5_leaps 101 = .ok (.ifCond .eq 7, 3) := by decide +kernel
set_option maxRecDepth 100000 in
theorem dX5_leaps_104 : decode cX5_leaps 104 = .ok (.iconst 1, 1) := by decide +kernel
set_option maxRecDepth 100000 in
theorem dX5_leaps_105 : decode cX5_leaps 105 = .ok (.goto 4, 3) := by decide +kernel
set_option maxRecDepth 100000 in
theorem dX5_leaps_108 : decode cX5_leaps 108 = .ok (.iconst 0, 1) := by decide +kernel
set_option maxRecDepth 100000 in
theorem dX5_leaps_109 : decode cX5_leaps 109 = .ok (.istore 4, 2) := by decide +kernel
set_option maxRecDepth 100000 in
theorem dX5_leaps_111 : decode cX5_leaps 111 = .ok (.iload 4, 2) := by decide +kernel
set_option maxRecDepth 100000 in
theorem dX5_leaps_113 : decode cX5_leaps 113 = .ok (.ifCond .ne 14, 3) := by decide +kernel
set_option maxRecDepth 100000 in
theorem dX5_leaps_116 : decode cX5_leaps 116 = .ok (.aload_n 0, 1) := by decide +kernel
set_option maxRecDepth 100000 in
theorem dX5_leaps_117 : decode cX5_leaps 117 = .ok (.bipush 12, 2) := by decide +kernel
set_option maxRecDepth 100000 in
theorem dX5_leaps_119 : decode cX5_leaps 119 = .ok (.aload_n 3, 1) := by decide +kernel
set_option maxRecDepth 100000 in
theorem dX5_leaps_120 : decode cX5_leaps 120 = .ok (.getfield 602, 3) := by decide +kernel
set_option maxRecDepth 100000 in
theorem dX5_leaps_123 : decode cX5_leaps 123 = .ok (.invokevirtual 163, 3) := by decide +kernel
set_option maxRecDepth 100000 in
theorem dX5_leaps_126 : decode cX5_leaps 126 = .ok (.athrow, 1) := by decide +kernel
set_option maxRecDepth 100000 in
theorem dX5_leaps_127 : decode cX5_leaps 127 = .ok (.iinc 2 1, 3) := by decide +kernel
set_option maxRecDepth 100000 in
theorem dX5_leaps_130 : decode cX5_leaps 130 = .ok (.goto (-128), 3) := by decide +kernel
set_option maxRecDepth 100000 in
theorem dX5_leaps_133 : decode cX5_leaps 133 = .ok (.return_, 1) := by decide +kernel
def lX5_leaps_2 (G : xG) (fr lo : Nat) (x0 : Nat) (x1 : Nat) (x2 : Int32) (h : xH) (Q : Outcome → xH → Prop) : Prop := xP G YX5_leaps fr lo 2 [(0, rv x0), (1, rv x1), (2, .int x2)] [] h Q
set_option maxRecDepth 100000 in
def bX5_leaps_109 (G : xG) (fr lo : Nat) (x0 : Nat) (x1 : Nat) (x2 : Int32) (x3 : Nat) (s0 : Int32) (h : xH) (Q : Outcome → xH → Prop) : Prop := ((¬ s0 = 0 → lX5_leaps_2 G fr lo x0 x1 (x2 + 1) h Q) ∧ (s0 = 0 → tg h x3 = 23 ∧ tg h x0 = 6 ∧ 1 ≤ fr ∧ 14 ≤ lo ∧ xRr G YX5_fault (fr - 1) (lo - 14) [rv x0, .int 12, .int (fI h x3 5633)] h (fun x7 h6 => xext h h6 → (∃ r9, x7 = r9 + 1 ∧ Q (.threw r9) h6)) (fun r h2 => Q (.threw r) h2)))
set_option maxRecDepth 100000 in
theorem uX5_leaps_109 {G : xG} {fr lo : Nat} {x0 : Nat} {x1 : Nat} {x2 : Int32} {x3 : Nat} {s0 : Int32} {h : xH} {Q : Outcome → xH → Prop} (hq : bX5_leaps_109 G fr lo x0 x1 x2 x3 s0 h Q) : xP G YX5_leaps fr lo 109 [(0, rv x0), (1, rv x1), (2, .int x2), (3, rv x3)] [.int s0] h Q := by
  unfold bX5_leaps_109 at hq
  refine x_istore (lv' := [(4, .int s0), (0, rv x0), (1, rv x1), (2, .int x2), (3, rv x3)]) dX5_leaps_109 (by decide) (by first | rfl | (simp [rv_cat, Value.category]; done) | (simp [rv_cat, Value.category]; decide)) ?_
  refine x_iload 0 dX5_leaps_111 rfl ?_
  refine x_if_ne (tgt := 127) dX5_leaps_113 (by decide) (fun c1 => ?_) (fun c1 => ?_)
  · replace hq := hq.1 c1
    refine x_iinc (lv' := [(2, .int (x2 + 1)), (4, .int s0), (0, rv x0), (1, rv x1), (3, rv x3)]) 3 dX5_leaps_127 rfl (by decide) (by first | rfl | (simp [rv_cat, Value.category]; done) | (simp [rv_cat, Value.category]; decide)) ?_
    refine x_goto (tgt := 2) dX5_leaps_130 (by decide) ?_
    refine xP.pick (lv' := [(0, rv x0), (1, rv x1), (2, .int (x2 + 1))]) [2, 3, 0] rfl ?_
    exact hq
  · replace hq := hq.2 c1
    refine x_aload_n 1 dX5_leaps_116 rfl ?_
    refine x_bipush (v := 12) dX5_leaps_117 (by decide) ?_
    refine x_aload_n 4 dX5_leaps_119 rfl ?_
    obtain ⟨g2, hq⟩ := hq
    refine x_getN (v := .int (fI h x3 5633)) gfX5_602 dX5_leaps_120 g2 rfl ?_
    obtain ⟨g3, hq⟩ := hq
    obtain ⟨g4, g5, hq⟩ := hq
    refine x_callV (Yc := YX5_fault) (as := [.int 12, .int (fI h x3 5633)]) (st := []) q2087 mvX5_fault g3 rfl dX5_leaps_123 (xle (xal1 (rv_cat _) (xal1 rfl (xal1 rfl xal0))) (by decide)) (xfr g4) (xlo xsw0 (by decide) g5) (xKr hq (fun x7 h6 hq e8 => ?_) (fun _ _ q _ => q))
    replace hq := hq e8
    obtain ⟨r9, g10, hq⟩ := hq
    rw [g10]
    exact x_athrow dX5_leaps_126 hq
set_option maxRecDepth 100000 in
def bX5_leaps_108 (G : xG) (fr lo : Nat) (x0 : Nat) (x1 : Nat) (x2 : Int32) (x3 : Nat) (h : xH) (Q : Outcome → xH → Prop) : Prop := bX5_leaps_109 G fr lo x0 x1 x2 x3 0 h Q
set_option maxRecDepth 100000 in
theorem uX5_leaps_108 {G : xG} {fr lo : Nat} {x0 : Nat} {x1 : Nat} {x2 : Int32} {x3 : Nat} {h : xH} {Q : Outcome → xH → Prop} (hq : bX5_leaps_108 G fr lo x0 x1 x2 x3 h Q) : xP G YX5_leaps fr lo 108 [(0, rv x0), (1, rv x1), (2, .int x2), (3, rv x3)] [] h Q := by
  unfold bX5_leaps_108 at hq
  refine x_iconst (v := 0) dX5_leaps_108 (by decide) ?_
  exact uX5_leaps_109 hq
set_option maxRecDepth 100000 in
def bX5_leaps_104 (G : xG) (fr lo : Nat) (x0 : Nat) (x1 : Nat) (x2 : Int32) (x3 : Nat) (h : xH) (Q : Outcome → xH → Prop) : Prop := bX5_leaps_109 G fr lo x0 x1 x2 x3 1 h Q
set_option maxRecDepth 100000 in
theorem uX5_leaps_104 {G : xG} {fr lo : Nat} {x0 : Nat} {x1 : Nat} {x2 : Int32} {x3 : Nat} {h : xH} {Q : Outcome → xH → Prop} (hq : bX5_leaps_104 G fr lo x0 x1 x2 x3 h Q) : xP G YX5_leaps fr lo 104 [(0, rv x0), (1, rv x1), (2, .int x2), (3, rv x3)] [] h Q := by
  unfold bX5_leaps_104 at hq
  refine x_iconst (v := 1) dX5_leaps_104 (by decide) ?_
  refine x_goto (tgt := 109) dX5_leaps_105 (by decide) ?_
  exact uX5_leaps_109 hq
set_option maxRecDepth 100000 in
def bX5_leaps_2 (G : xG) (fr lo : Nat) (x0 : Nat) (x1 : Nat) (x2 : Int32) (h : xH) (Q : Outcome → xH → Prop) : Prop := tg h x1 = 18 ∧ tg h (fR h x1 4356) = 29 ∧ 1 ≤ fr ∧ 13 ≤ lo ∧ xRi G YJ2_size (fr - 1) (lo - 13) [rv (fR h x1 4356)] h (fun x6 h5 => xext h h5 → ((x6 ≤ x2 → Q (.returned none) h5) ∧ (¬ x6 ≤ x2 → tg h5 (fR h5 x1 4356) = 29 ∧ 1 ≤ fr ∧ 13 ≤ lo ∧ xRr G YJ2_get (fr - 1) (lo - 13) [rv (fR h5 x1 4356), .int x2] h5 (fun x14 h13 => xext h5 h13 → tg h13 x14 = 23 ∧ tg h13 (fR h13 x14 5632) = 19 ∧ (((fI h13 (fR h13 x14 5632) 4610) = 0 → bX5_leaps_108 G fr lo x0 x1 x2 x14 h13 Q) ∧ (¬ (fI h13 (fR h13 x14 5632) 4610) = 0 → (((fI h13 x14 5634) = 0 → 1 ≤ fr ∧ 15 ≤ lo ∧ xRi G YX5_has (fr - 1) (lo - 15) [rv (fR h13 x14 5636), .int (fI h13 (fR h13 x14 5632) 4612)] h13 (fun x23 h22 => xext h13 h22 → ((¬ x23 = 0 → bX5_leaps_104 G fr lo x0 x1 x2 x14 h22 Q) ∧ (x23 = 0 → tg h22 (fR h22 x14 5632) = 19 ∧ (((fI h22 (fR h22 x14 5632) 4611) = (-1) → bX5_leaps_108 G fr lo x0 x1 x2 x14 h22 Q) ∧ (¬ (fI h22 (fR h22 x14 5632) 4611) = (-1) → 1 ≤ fr ∧ 15 ≤ lo ∧ xRi G YX5_has (fr - 1) (lo - 15) [rv (fR h22 x14 5635), .int (fI h22 (fR h22 x14 5632) 4611)] h22 (fun x32 h31 => xext h22 h31 → ((x32 = 0 → bX5_leaps_108 G fr lo x0 x1 x2 x14 h31 Q) ∧ (¬ x32 = 0 → bX5_leaps_104 G fr lo x0 x1 x2 x14 h31 Q))) (fun r h2 => Q (.threw r) h2)))))) (fun r h2 => Q (.threw r) h2)) ∧ (¬ (fI h13 x14 5634) = 0 → ((¬ (fI h13 (fR h13 x14 5632) 4611) = (fI h13 x1 4362) → bX5_leaps_108 G fr lo x0 x1 x2 x14 h13 Q) ∧ ((fI h13 (fR h13 x14 5632) 4611) = (fI h13 x1 4362) → bX5_leaps_104 G fr lo x0 x1 x2 x14 h13 Q))))))) (fun r h2 => Q (.threw r) h2)))) (fun r h2 => Q (.threw r) h2)
set_option maxRecDepth 100000 in
theorem uX5_leaps_2 {G : xG} {fr lo : Nat} {x0 : Nat} {x1 : Nat} {x2 : Int32} {h : xH} {Q : Outcome → xH → Prop} (hq : bX5_leaps_2 G fr lo x0 x1 x2 h Q) : xP G YX5_leaps fr lo 2 [(0, rv x0), (1, rv x1), (2, .int x2)] [] h Q := by
  unfold bX5_leaps_2 at hq
  refine x_iload_n 2 dX5_leaps_2 rfl ?_
  refine x_aload_n 1 dX5_leaps_3 rfl ?_
  obtain ⟨g1, hq⟩ := hq
  refine x_getN (v := rv (fR h x1 4356)) gfX5_571 dX5_leaps_4 g1 rfl ?_
  obtain ⟨g2, hq⟩ := hq
  obtain ⟨g3, g4, hq⟩ := hq
  refine x_callV (Yc := YJ2_size) (as := []) (st := [.int x2]) q2271 mvJ2_size g2 rfl dX5_leaps_7 (xle (xal1 (rv_cat _) xal0) (by decide)) (xfr g3) (xlo (xsw1 rfl xsw0) (by decide) g4) (xKi hq (fun x6 h5 hq e7 => ?_) (fun _ _ q _ => q))
  replace hq := hq e7
  refine x_icmp_ge (tgt := 133) dX5_leaps_10 (by decide) (fun c8 => ?_) (fun c8 => ?_)
  · replace hq := hq.1 c8
    exact x_vret rfl dX5_leaps_133 hq
  · replace hq := hq.2 c8
    refine x_aload_n 1 dX5_leaps_13 rfl ?_
    have t9 : tg h5 x1 = 18 := e7.tg g1 (by decide)
    refine x_getN (v := rv (fR h5 x1 4356)) gfX5_571 dX5_leaps_14 t9 rfl ?_
    refine x_iload_n 2 dX5_leaps_17 rfl ?_
    obtain ⟨g10, hq⟩ := hq
    obtain ⟨g11, g12, hq⟩ := hq
    refine x_callV (Yc := YJ2_get) (as := [.int x2]) (st := []) q2304 mvJ2_get g10 rfl dX5_leaps_18 (xle (xal1 (rv_cat _) (xal1 rfl xal0)) (by decide)) (xfr g11) (xlo xsw0 (by decide) g12) (xKr hq (fun x14 h13 hq e15 => ?_) (fun _ _ q _ => q))
    replace hq := hq e15
    obtain ⟨g16, hq⟩ := hq
    refine x_cast (ci := 22) (by decide) rfl q2802 g16 dX5_leaps_21 ?_
    refine x_astore_n (lv' := [(3, rv x14), (0, rv x0), (1, rv x1), (2, .int x2)]) dX5_leaps_24 (by decide) rfl ?_
    refine x_aload_n 0 dX5_leaps_25 rfl ?_
    refine x_getN (v := rv (fR h13 x14 5632)) gfX5_575 dX5_leaps_26 g16 rfl ?_
    obtain ⟨g17, hq⟩ := hq
    refine x_getN (v := .int (fI h13 (fR h13 x14 5632) 4610)) gfX5_578 dX5_leaps_29 g17 rfl ?_
    refine x_if_eq (tgt := 108) dX5_leaps_32 (by decide) (fun c18 => ?_) (fun c18 => ?_)
    · replace hq := hq.1 c18
      refine xP.pick (lv' := [(0, rv x0), (1, rv x1), (2, .int x2), (3, rv x14)]) [1, 2, 3, 0] rfl ?_
      exact uX5_leaps_108 hq
    · replace hq := hq.2 c18
      refine x_aload_n 0 dX5_leaps_35 rfl ?_
      refine x_getN (v := .int (fI h13 x14 5634)) gfX5_581 dX5_leaps_36 g16 rfl ?_
      refine x_if_eq (tgt := 59) dX5_leaps_39 (by decide) (fun c19 => ?_) (fun c19 => ?_)
      · replace hq := hq.1 c19
        refine x_aload_n 0 dX5_leaps_59 rfl ?_
        refine x_getN (v := rv (fR h13 x14 5636)) gfX5_590 dX5_leaps_60 g16 rfl ?_
        refine x_aload_n 0 dX5_leaps_63 rfl ?_
        refine x_getN (v := rv (fR h13 x14 5632)) gfX5_575 dX5_leaps_64 g16 rfl ?_
        refine x_getN (v := .int (fI h13 (fR h13 x14 5632) 4612)) gfX5_594 dX5_leaps_67 g17 rfl ?_
        obtain ⟨g20, g21, hq⟩ := hq
        refine x_callS (Yc := YX5_has) (as := [rv (fR h13 x14 5636), .int (fI h13 (fR h13 x14 5632) 4612)]) (st := []) q2803 msX5_has rfl dX5_leaps_70 (xle (xal1 (rv_cat _) (xal1 rfl xal0)) (by decide)) (xfr g20) (xlo xsw0 (by decide) g21) (xKi hq (fun x23 h22 hq e24 => ?_) (fun _ _ q _ => q))
        replace hq := hq e24
        refine x_if_ne (tgt := 104) dX5_leaps_73 (by decide) (fun c25 => ?_) (fun c25 => ?_)
        · replace hq := hq.1 c25
          refine xP.pick (lv' := [(0, rv x0), (1, rv x1), (2, .int x2), (3, rv x14)]) [1, 2, 3, 0] rfl ?_
          exact uX5_leaps_104 hq
        · replace hq := hq.2 c25
          refine x_aload_n 0 dX5_leaps_76 rfl ?_
          have t26 : tg h22 x14 = 23 := e24.tg g16 (by decide)
          refine x_getN (v := rv (fR h22 x14 5632)) gfX5_575 dX5_leaps_77 t26 rfl ?_
          obtain ⟨g27, hq⟩ := hq
          refine x_getN (v := .int (fI h22 (fR h22 x14 5632) 4611)) gfX5_584 dX5_leaps_80 g27 rfl ?_
          refine x_iconst (v := (-1)) dX5_leaps_83 (by decide) ?_
          refine x_icmp_eq (tgt := 108) dX5_leaps_84 (by decide) (fun c28 => ?_) (fun c28 => ?_)
          · replace hq := hq.1 c28
            refine xP.pick (lv' := [(0, rv x0), (1, rv x1), (2, .int x2), (3, rv x14)]) [1, 2, 3, 0] rfl ?_
            exact uX5_leaps_108 hq
          · replace hq := hq.2 c28
            refine x_aload_n 0 dX5_leaps_87 rfl ?_
            refine x_getN (v := rv (fR h22 x14 5635)) gfX5_600 dX5_leaps_88 t26 rfl ?_
            refine x_aload_n 0 dX5_leaps_91 rfl ?_
            refine x_getN (v := rv (fR h22 x14 5632)) gfX5_575 dX5_leaps_92 t26 rfl ?_
            refine x_getN (v := .int (fI h22 (fR h22 x14 5632) 4611)) gfX5_584 dX5_leaps_95 g27 rfl ?_
            obtain ⟨g29, g30, hq⟩ := hq
            refine x_callS (Yc := YX5_has) (as := [rv (fR h22 x14 5635), .int (fI h22 (fR h22 x14 5632) 4611)]) (st := []) q2803 msX5_has rfl dX5_leaps_98 (xle (xal1 (rv_cat _) (xal1 rfl xal0)) (by decide)) (xfr g29) (xlo xsw0 (by decide) g30) (xKi hq (fun x32 h31 hq e33 => ?_) (fun _ _ q _ => q))
            replace hq := hq e33
            refine x_if_eq (tgt := 108) dX5_leaps_101 (by decide) (fun c34 => ?_) (fun c34 => ?_)
            · replace hq := hq.1 c34
              refine xP.pick (lv' := [(0, rv x0), (1, rv x1), (2, .int x2), (3, rv x14)]) [1, 2, 3, 0] rfl ?_
              exact uX5_leaps_108 hq
            · replace hq := hq.2 c34
              refine xP.pick (lv' := [(0, rv x0), (1, rv x1), (2, .int x2), (3, rv x14)]) [1, 2, 3, 0] rfl ?_
              exact uX5_leaps_104 hq
      · replace hq := hq.2 c19
        refine x_aload_n 0 dX5_leaps_42 rfl ?_
        refine x_getN (v := rv (fR h13 x14 5632)) gfX5_575 dX5_leaps_43 g16 rfl ?_
        refine x_getN (v := .int (fI h13 (fR h13 x14 5632) 4611)) gfX5_584 dX5_leaps_46 g17 rfl ?_
        refine x_aload_n 2 dX5_leaps_49 rfl ?_
        have t35 : tg h13 x1 = 18 := e15.tg t9 (by decide)
        refine x_getN (v := .int (fI h13 x1 4362)) gfX5_587 dX5_leaps_50 t35 rfl ?_
        refine x_icmp_ne (tgt := 108) dX5_leaps_53 (by decide) (fun c36 => ?_) (fun c36 => ?_)
        · replace hq := hq.1 c36
          refine xP.pick (lv' := [(0, rv x0), (1, rv x1), (2, .int x2), (3, rv x14)]) [1, 2, 3, 0] rfl ?_
          exact uX5_leaps_108 hq
        · replace hq := hq.2 c36
          refine x_goto (tgt := 104) dX5_leaps_56 (by decide) ?_
          refine xP.pick (lv' := [(0, rv x0), (1, rv x1), (2, .int x2), (3, rv x14)]) [1, 2, 3, 0] rfl ?_
          exact uX5_leaps_104 hq
set_option maxRecDepth 100000 in
def bX5_leaps (G : xG) (fr lo : Nat) (x0 : Nat) (x1 : Nat) (h : xH) (Q : Outcome → xH → Prop) : Prop := lX5_leaps_2 G fr lo x0 x1 0 h Q
set_option maxRecDepth 100000 in
theorem uX5_leaps {G : xG} {fr lo : Nat} {x0 : Nat} {x1 : Nat} {h : xH} {Q : Outcome → xH → Prop} (hq : bX5_leaps G fr lo x0 x1 h Q) : xP G YX5_leaps fr lo 0 [(0, rv x0), (1, rv x1)] [] h Q := by
  unfold bX5_leaps at hq
  refine x_iconst (v := 0) dX5_leaps_0 (by decide) ?_
  refine x_istore_n (lv' := [(2, .int 0), (0, rv x0), (1, rv x1)]) dX5_leaps_1 (by decide) (by first | rfl | (simp [rv_cat, Value.category]; done) | (simp [rv_cat, Value.category]; decide)) ?_
  refine xP.pick (lv' := [(0, rv x0), (1, rv x1), (2, .int 0)]) [1, 2, 0] rfl ?_
  exact hq
theorem rX5_leaps {G : xG} {fr lo : Nat} {x0 : Nat} {x1 : Nat} {h : xH} {Q : Outcome → xH → Prop} (hq : bX5_leaps G fr lo x0 x1 h Q) : xR G YX5_leaps fr lo [rv x0, rv x1] h Q := by
  show xP _ _ _ _ _ (lv_args 0 _) _ _ _
  rw [show lv_args 0 [rv x0, rv x1] = [(0, rv x0), (1, rv x1)] from (xla1 (rv_cat _) (xla1 (rv_cat _) xla0))]
  exact uX5_leaps hq
set_option maxRecDepth 100000 in
theorem dX5_has_0 : decode cX5_has 0 = .ok (.iconst 0, 1) := by decide +kernel
set_option maxRecDepth 100000 in
theorem dX5_has_1 : decode cX5_has 1 = .ok (.istore_n 2, 1) := by decide +kernel
set_option maxRecDepth 100000 in
theorem dX5_has_2 : decode cX5_has 2 = .ok (.iconst 0, 1) := by decide +kernel
set_option maxRecDepth 100000 in
theorem dX5_has_3 : decode cX5_has 3 = .ok (.istore_n 3, 1) := by decide +kernel
set_option maxRecDepth 100000 in
theorem dX5_has_4 : decode cX5_has 4 = .ok (.iload_n 3, 1) := by decide +kernel
set_option maxRecDepth 100000 in
theorem dX5_has_5 : decode cX5_has 5 = .ok (.aload_n 0, 1) := by decide +kernel
set_option maxRecDepth 100000 in
theorem dX5_has_6 : decode cX5_has 6 = .ok (.arraylength, 1) := by decide +kernel
set_option maxRecDepth 100000 in
theorem dX5_has_7 : decode cX5_has 7 = .ok (.if_icmp .ge 24, 3) := by decide +kernel
set_option maxRecDepth 100000 in
theorem dX5_has_10 : decode cX5_has 10 = .ok (.iload_n 2, 1) := by decide +kernel
set_option maxRecDepth 100000 in
theorem dX5_has_11 : decode cX5_has 11 = .ok (.aload_n 0, 1) := by decide +kernel
set_option maxRecDepth 100000 in
theorem dX5_has_12 : decode cX5_has 12 = .ok (.iload_n 3, 1) := by decide +kernel
set_option maxRecDepth 100000 in
theorem dX5_has_13 : decode cX5_has 13 = .ok (.iaload, 1) := by decide +kernel
set_option maxRecDepth 100000 in
theorem dX5_has_14 : decode cX5_has 14 = .ok (.iload_n 1, 1) := by decide +kernel
set_option maxRecDepth 100000 in
theorem dX5_has_15 : decode cX5_has 15 = .ok (.if_icmp .ne 7, 3) := by decide +kernel
set_option maxRecDepth 100000 in
theorem dX5_has_18 : decode cX5_has 18 = .ok (.iconst 1, 1) := by decide +kernel
set_option maxRecDepth 100000 in
theorem dX5_has_19 : decode cX5_has 19 = .ok (.goto 4, 3) := by decide +kernel
set_option maxRecDepth 100000 in
theorem dX5_has_22 : decode cX5_has 22 = .ok (.iconst 0, 1) := by decide +kernel
set_option maxRecDepth 100000 in
theorem dX5_has_23 : decode cX5_has 23 = .ok (.ior, 1) := by decide +kernel
set_option maxRecDepth 100000 in
theorem dX5_has_24 : decode cX5_has 24 = .ok (.istore_n 2, 1) := by decide +kernel
set_option maxRecDepth 100000 in
theorem dX5_has_25 : decode cX5_has 25 = .ok (.iinc 3 1, 3) := by decide +kernel
set_option maxRecDepth 100000 in
theorem dX5_has_28 : decode cX5_has 28 = .ok (.goto (-24), 3) := by decide +kernel
set_option maxRecDepth 100000 in
theorem dX5_has_31 : decode cX5_has 31 = .ok (.iload_n 2, 1) := by decide +kernel
set_option maxRecDepth 100000 in
theorem dX5_has_32 : decode cX5_has 32 = .ok (.ireturn, 1) := by decide +kernel
def lX5_has_4 (G : xG) (fr lo : Nat) (x0 : Nat) (x1 : Int32) (x2 : Int32) (x3 : Int32) (h : xH) (Q : Outcome → xH → Prop) : Prop := xP G YX5_has fr lo 4 [(0, rv x0), (1, .int x1), (2, .int x2), (3, .int x3)] [] h Q
set_option maxRecDepth 100000 in
def bX5_has_23 (G : xG) (fr lo : Nat) (x0 : Nat) (x1 : Int32) (x3 : Int32) (s0 : Int32) (s1 : Int32) (h : xH) (Q : Outcome → xH → Prop) : Prop := lX5_has_4 G fr lo x0 x1 (s1 ||| s0) (x3 + 1) h Q
set_option maxRecDepth 100000 in
theorem uX5_has_23 {G : xG} {fr lo : Nat} {x0 : Nat} {x1 : Int32} {x3 : Int32} {s0 : Int32} {s1 : Int32} {h : xH} {Q : Outcome → xH → Prop} (hq : bX5_has_23 G fr lo x0 x1 x3 s0 s1 h Q) : xP G YX5_has fr lo 23 [(0, rv x0), (1, .int x1), (3, .int x3)] [.int s0, .int s1] h Q := by
  unfold bX5_has_23 at hq
  refine x_ior dX5_has_23 ?_
  refine x_istore_n (lv' := [(2, .int (s1 ||| s0)), (0, rv x0), (1, .int x1), (3, .int x3)]) dX5_has_24 (by decide) rfl ?_
  refine x_iinc (lv' := [(3, .int (x3 + 1)), (2, .int (s1 ||| s0)), (0, rv x0), (1, .int x1)]) 3 dX5_has_25 rfl (by decide) rfl ?_
  refine x_goto (tgt := 4) dX5_has_28 (by decide) ?_
  refine xP.pick (lv' := [(0, rv x0), (1, .int x1), (2, .int (s1 ||| s0)), (3, .int (x3 + 1))]) [2, 3, 1, 0] rfl ?_
  exact hq
set_option maxRecDepth 100000 in
def bX5_has_4 (G : xG) (fr lo : Nat) (x0 : Nat) (x1 : Int32) (x2 : Int32) (x3 : Int32) (h : xH) (Q : Outcome → xH → Prop) : Prop := tg h x0 = 100 ∧ (((Int32.ofNat (ln h x0)) ≤ x3 → xbz x2 ∧ Q (.returned (some (.int x2))) h) ∧ (¬ (Int32.ofNat (ln h x0)) ≤ x3 → vp_in x3 (ln h x0) ∧ ((¬ (aI h x0 (Int32.toNatClampNeg x3)) = x1 → bX5_has_23 G fr lo x0 x1 x3 0 x2 h Q) ∧ ((aI h x0 (Int32.toNatClampNeg x3)) = x1 → bX5_has_23 G fr lo x0 x1 x3 1 x2 h Q))))
set_option maxRecDepth 100000 in
theorem uX5_has_4 {G : xG} {fr lo : Nat} {x0 : Nat} {x1 : Int32} {x2 : Int32} {x3 : Int32} {h : xH} {Q : Outcome → xH → Prop} (hq : bX5_has_4 G fr lo x0 x1 x2 x3 h Q) : xP G YX5_has fr lo 4 [(0, rv x0), (1, .int x1), (2, .int x2), (3, .int x3)] [] h Q := by
  unfold bX5_has_4 at hq
  refine x_iload_n 3 dX5_has_4 rfl ?_
  refine x_aload_n 0 dX5_has_5 rfl ?_
  obtain ⟨g1, hq⟩ := hq
  refine x_alen 0 g1 (by decide) dX5_has_6 ?_
  refine x_icmp_ge (tgt := 31) dX5_has_7 (by decide) (fun c2 => ?_) (fun c2 => ?_)
  · replace hq := hq.1 c2
    refine x_iload_n 2 dX5_has_31 rfl ?_
    obtain ⟨g3, hq⟩ := hq
    exact x_iret rfl (xnZ g3) dX5_has_32 hq
  · replace hq := hq.2 c2
    refine x_iload_n 2 dX5_has_10 rfl ?_
    refine x_aload_n 0 dX5_has_11 rfl ?_
    refine x_iload_n 3 dX5_has_12 rfl ?_
    obtain ⟨i4, hq⟩ := hq
    refine x_iald 0 (Or.inl rfl) g1 i4 dX5_has_13 ?_
    refine x_iload_n 1 dX5_has_14 rfl ?_
    refine x_icmp_ne (tgt := 22) dX5_has_15 (by decide) (fun c5 => ?_) (fun c5 => ?_)
    · replace hq := hq.1 c5
      refine x_iconst (v := 0) dX5_has_22 (by decide) ?_
      refine xP.pick (lv' := [(0, rv x0), (1, .int x1), (3, .int x3)]) [0, 1, 3] rfl ?_
      exact uX5_has_23 hq
    · replace hq := hq.2 c5
      refine x_iconst (v := 1) dX5_has_18 (by decide) ?_
      refine x_goto (tgt := 23) dX5_has_19 (by decide) ?_
      refine xP.pick (lv' := [(0, rv x0), (1, .int x1), (3, .int x3)]) [0, 1, 3] rfl ?_
      exact uX5_has_23 hq
set_option maxRecDepth 100000 in
def bX5_has (G : xG) (fr lo : Nat) (x0 : Nat) (x1 : Int32) (h : xH) (Q : Outcome → xH → Prop) : Prop := lX5_has_4 G fr lo x0 x1 0 0 h Q
set_option maxRecDepth 100000 in
theorem uX5_has {G : xG} {fr lo : Nat} {x0 : Nat} {x1 : Int32} {h : xH} {Q : Outcome → xH → Prop} (hq : bX5_has G fr lo x0 x1 h Q) : xP G YX5_has fr lo 0 [(0, rv x0), (1, .int x1)] [] h Q := by
  unfold bX5_has at hq
  refine x_iconst (v := 0) dX5_has_0 (by decide) ?_
  refine x_istore_n (lv' := [(2, .int 0), (0, rv x0), (1, .int x1)]) dX5_has_1 (by decide) rfl ?_
  refine x_iconst (v := 0) dX5_has_2 (by decide) ?_
  refine x_istore_n (lv' := [(3, .int 0), (2, .int 0), (0, rv x0), (1, .int x1)]) dX5_has_3 (by decide) rfl ?_
  refine xP.pick (lv' := [(0, rv x0), (1, .int x1), (2, .int 0), (3, .int 0)]) [2, 3, 1, 0] rfl ?_
  exact hq
theorem rX5_has {G : xG} {fr lo : Nat} {x0 : Nat} {x1 : Int32} {h : xH} {Q : Outcome → xH → Prop} (hq : bX5_has G fr lo x0 x1 h Q) : xR G YX5_has fr lo [rv x0, .int x1] h Q := by
  show xP _ _ _ _ _ (lv_args 0 _) _ _ _
  rw [show lv_args 0 [rv x0, .int x1] = [(0, rv x0), (1, .int x1)] from (xla1 (rv_cat _) (xla1 rfl xla0))]
  exact uX5_has hq
