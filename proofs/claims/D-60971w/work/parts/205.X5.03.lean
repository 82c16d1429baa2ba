/-! PascalHouse$Compiler, walked (4) -/
set_option maxRecDepth 100000 in
theorem dX5_compared_0 : decode cX5_compared 0 = .ok (.aload_n 0, 1) := by decide +kernel
set_option maxRecDepth 100000 in
theorem dX5_compared_1 : decode cX5_compared 1 = .ok (.aload_n 1, 1) := by decide +kernel
set_option maxRecDepth 100000 in
theorem dX5_compared_2 : decode cX5_compared 2 = .ok (.getfield 251, 3) := by decide +kernel
set_option maxRecDepth 100000 in
theorem dX5_compared_5 : decode cX5_compared 5 = .ok (.invokevirtual 654, 3) := by decide +kernel
set_option maxRecDepth 100000 in
theorem dX5_compared_8 : decode cX5_compared 8 = .ok (.astore_n 2, 1) := by decide +kernel
set_option maxRecDepth 100000 in
theorem dX5_compared_9 : decode cX5_compared 9 = .ok (.aload_n 0, 1) := by decide +kernel
set_option maxRecDepth 100000 in
theorem dX5_compared_10 : decode cX5_compared 10 = .ok (.aload_n 1, 1) := by decide +kernel
set_option maxRecDepth 100000 in
theorem dX5_compared_11 : decode cX5_compared 11 = .ok (.iconst 1, 1) := by decide +kernel
set_option maxRecDepth 100000 in
theorem dX5_compared_12 : decode cX5_compared 12 = .ok (.invokevirtual 310, 3) := by decide +kernel
set_option maxRecDepth 100000 in
theorem dX5_compared_15 : decode cX5_compared 15 = .ok (.invokevirtual 654, 3) := by decide +kernel
set_option maxRecDepth 100000 in
theorem dX5_compared_18 : decode cX5_compared 18 = .ok (.astore_n 3, 1) := by decide +kernel
set_option maxRecDepth 100000 in
theorem dX5_compared_19 : decode cX5_compared 19 = .ok (.aload_n 1, 1) := by decide +kernel
set_option maxRecDepth 100000 in
theorem dX5_compared_20 : decode cX5_compared 20 = .ok (.invokevirtual 192, 3) := by decide +kernel
set_option maxRecDepth 100000 in
theorem dX5_compared_23 : decode cX5_compared 23 = .ok (.istore 4, 2) := by decide +kernel
set_option maxRecDepth 100000 in
theorem dX5_compared_25 : decode cX5_compared 25 = .ok (.aload_n 1, 1) := by decide +kernel
set_option maxRecDepth 100000 in
theorem dX5_compared_26 : decode cX5_compared 26 = .ok (.invokevirtual 173, 3) := by decide +kernel
set_option maxRecDepth 100000 in
theorem dX5_compared_29 : decode cX5_compared 29 = .ok (.ldc_w 872, 3) := by decide +kernel
set_option maxRecDepth 100000 in
theorem dX5_compared_32 : decode cX5_compared 32 = .ok (.invokevirtual 261, 3) := by decide +kernel
set_option maxRecDepth 100000 in
theorem dX5_compared_35 : decode cX5_compared 35 = .ok (.ifCond .eq 79, 3) := by decide +kernel
set_option maxRecDepth 100000 in
theorem dX5_compared_38 : decode cX5_compared 38 = .ok (.aload_n 2, 1) := by decide +kernel
set_option maxRecDepth 100000 in
theorem dX5_compared_39 : decode cX5_compared 39 = .ok (.invokevirtual 318, 3) := by decide +kernel
set_option maxRecDepth 100000 in
theorem dX5_compared_42 : decode cX5_compared 42 = .ok (.ifCond .eq 36, 3) := by decide +kernel
set_option maxRecDepth 100000 in
theorem dX5_compared_45 : decode cX5_compared 45 = .ok (.aload_n 3, 1) := by decide +kernel
set_option maxRecDepth 100000 in
theorem dX5_compared_46 : decode cX5_compared 46 = .ok (.getfield 289, 3) := by decide +kernel
set_option maxRecDepth 100000 in
theorem dX5_compared_49 : decode cX5_compared 49 = .ok (.bipush 12, 2) := by decide +kernel
set_option maxRecDepth 100000 in
theorem dX5_compared_51 : decode cX5_compared 51 = .ok (.if_icmp .eq 23, 3) := by decide +kernel
set_option maxRecDepth 100000 in
theorem dX5_compared_54 : decode cX5_compared 54 = .ok (.aload_n 3, 1) := by decide +kernel
set_option maxRecDepth 100000 in
theorem dX5_compared_55 : decode cX5_compared 55 = .ok (.getfield 289, 3) := by decide +kernel
set_option maxRecDepth 100000 in
theorem dX5_compared_58 : decode cX5_compared 58 = .ok (.bipush 8, 2) := by decide +kernel
set_option maxRecDepth 100000 in
theorem dX5_compared_60 : decode cX5_compared 60 = .ok (.if_icmp .ne 18, 3) := by decide +kernel
set_option maxRecDepth 100000 in
theorem dX5_compared_63 : decode cX5_compared 63 = .ok (.aload_n 3, 1) := by decide +kernel
set_option maxRecDepth 100000 in
theorem dX5_compared_64 : decode cX5_compared 64 = .ok (.getfield 286, 3) := by decide +kernel
set_option maxRecDepth 100000 in
theorem dX5_compared_67 : decode cX5_compared 67 = .ok (.invokevirtual 393, 3) := by decide +kernel
set_option maxRecDepth 100000 in
theorem dX5_compared_70 : decode cX5_compared 70 = .ok (.aload_n 2, 1) := by decide +kernel
set_option maxRecDepth 100000 in
theorem dX5_compared_71 : decode cX5_compared 71 = .ok (.if_acmp .ne 7, 3) := by decide +kernel
set_option maxRecDepth 100000 in
theorem dX5_compared_74 : decode cX5_compared 74 = .ok (.iconst 1, 1) := by decide +kernel
set_option maxRecDepth 100000 in
theorem dX5_compared_75 : decode cX5_compared 75 = .ok (.goto 4, 3) := by decide +kernel
set_option maxRecDepth 100000 in
theorem dX5_compared_78 : decode cX5_compared 78 = .ok (.iconst 0, 1) := by decide +kernel
set_option maxRecDepth 100000 in
theorem dX5_compared_79 : decode cX5_compared 79 = .ok (.istore 5, 2) := by decide +kernel
set_option maxRecDepth 100000 in
theorem dX5_compared_81 : decode cX5_compared 81 = .ok (.iload 5, 2) := by decide +kernel
set_option maxRecDepth 100000 in
theorem dX5_compared_83 : decode cX5_compared 83 = .ok (.ifCond .ne 12, 3) := by decide +kernel
set_option maxRecDepth 100000 in
theorem dX5_compared_86 : decode cX5_compared 86 = .ok (.aload_n 0, 1) := by decide +kernel
set_option maxRecDepth 100000 in
theorem dX5_compared_87 : decode cX5_compared 87 = .ok (.bipush 7, 2) := by decide +kernel
set_option maxRecDepth 100000 in
theorem dX5_compared_89 : decode cX5_compared 89 = .ok (.iload 4, 2) := by decide +kernel
set_option maxRecDepth 100000 in
theorem dX5_compared_91 : decode cX5_compared 91 = .ok (.invokevirtual 163, 3) := by decide +kernel
set_option maxRecDepth 100000 in
theorem dX5_compared_94 : decode cX5_compared 94 = .ok (.athrow, 1) := by decide +kernel
set_option maxRecDepth 100000 in
theorem dX5_compared_95 : decode cX5_compared 95 = .ok (.aload_n 0, 1) := by decide +kernel
set_option maxRecDepth 100000 in
theorem dX5_compared_96 : decode cX5_compared 96 = .ok (.getfield 62, 3) := by decide +kernel
set_option maxRecDepth 100000 in
theorem dX5_compared_99 : decode cX5_compared 99 = .ok (.bipush 41, 2) := by decide +kernel
set_option maxRecDepth 100000 in
theorem dX5_compared_101 : decode cX5_compared 101 = .ok (.iconst 0, 1) := by decide +kernel
set_option maxRecDepth 100000 in
theorem dX5_compared_102 : decode cX5_compared 102 = .ok (.iconst 0, 1) := by decide +kernel
set_option maxRecDepth 100000 in
theorem dX5_compared_103 : decode cX5_compared 103 = .ok (.iconst 0, 1) := by decide +kernel
set_option maxRecDepth 100000 in
theorem dX5_compared_104 : decode cX5_compared 104 = .ok (.iconst 0, 1) := by decide +kernel
set_option maxRecDepth 100000 in
theorem dX5_compared_105 : decode cX5_compared 105 = .ok (.invokevirtual 506, 3) := by decide +kernel
set_option maxRecDepth 100000 in
theorem dX5_compared_108 : decode cX5_compared 108 = .ok (.pop, 1) := by decide +kernel
set_option maxRecDepth 100000 in
theorem dX5_compared_109 : decode cX5_compared 109 = .ok (.aload_n 0, 1) := by decide +kernel
set_option maxRecDepth 100000 in
theorem dX5_compared_110 : decode cX5_compared 110 = .ok (.getfield 29, 3) := by decide +kernel
set_option maxRecDepth 100000 in
theorem dX5_compared_113 : decode cX5_compared 113 = .ok (.areturn, 1) := by decide +kernel
set_option maxRecDepth 100000 in
theorem dX5_compared_114 : decode cX5_compared 114 = .ok (.aload_n 1, 1) := by decide +kernel
set_option maxRecDepth 100000 in
theorem dX5_compared_115 : decode cX5_compared 115 = .ok (.invokevirtual 173, 3) := by decide +kernel
set_option maxRecDepth 100000 in
theorem dX5_compared_118 : decode cX5_compared 118 = .ok (.invokestatic 874, 3) := by decide +kernel
set_option maxRecDepth 100000 in
theorem dX5_compared_121 : decode cX5_compared 121 = .ok (.istore 5, 2) := by decide +kernel
set_option maxRecDepth 100000 in
theorem dX5_compared_123 : decode cX5_compared 123 = .ok (.iload 5, 2) := by decide +kernel
set_option maxRecDepth 100000 in
theorem dX5_compared_125 : decode cX5_compared 125 = .ok (.iconst 2, 1) := by decide +kernel
set_option maxRecDepth 100000 in
theorem dX5_compared_126 : decode cX5_compared 126 = .ok (.if_icmp .ge 7, 3) := by decide +kernel
set_option maxRecDepth 100000 in
theorem dX5_compared_129 : decode cX5_compared 129 = .ok (.iconst 1, 1) := by decide +kernel
set_option maxRecDepth 100000 in
theorem dX5_compared_130 : decode cX5_compared 130 = .ok (.goto 4, 3) := by decide +kernel
set_option maxRecDepth 100000 in
theorem dX5_compared_133 : decode cX5_compared 133 = .ok (.iconst 0, 1) := by decide +kernel
set_option maxRecDepth 100000 in
theorem dX5_compared_134 : decode cX5_compared 134 = .ok (.istore 6, 2) := by decide +kernel
set_option maxRecDepth 100000 in
theorem dX5_compared_136 : decode cX5_compared 136 = .ok (.iload 5, 2) := by decide +kernel
set_option maxRecDepth 100000 in
theorem dX5_compared_138 : decode cX5_compared 138 = .ok (.iconst 4, 1) := by decide +kernel
set_option maxRecDepth 100000 in
theorem dX5_compared_139 : decode cX5_compared 139 = .ok (.if_icmp .ge 13, 3) := by decide +kernel
set_option maxRecDepth 100000 in
theorem dX5_compared_142 : decode cX5_compared 142 = .ok (.iload 5, 2) := by decide +kernel
set_option maxRecDepth 100000 in
theorem dX5_compared_144 : decode cX5_compared 144 = .ok (.iconst 1, 1) := by decide +kernel
set_option maxRecDepth 100000 in
theorem dX5_compared_145 : decode cX5_compared 145 = .ok (.if_icmp .le 7, 3) := by decide +kernel
set_option maxRecDepth 100000 in
theorem dX5_compared_148 : decode cX5_compared 148 = .ok (.iconst 1, 1) := by decide +kernel
set_option maxRecDepth 100000 in
theorem dX5_compared_149 : decode cX5_compared 149 = .ok (.goto 4, 3) := by decide +kernel
set_option maxRecDepth 100000 in
theorem dX5_compared_152 : decode cX5_compared 152 = .ok (.iconst 0, 1) := by decide +kernel
set_option maxRecDepth 100000 in
theorem dX5_compared_153 : decode cX5_compared 153 = .ok (.istore 7, 2) := by decide +kernel
set_option maxRecDepth 100000 in
theorem dX5_compared_155 : decode cX5_compared 155 = .ok (.aload_n 2, 1) := by decide +kernel
set_option maxRecDepth 100000 in
theorem dX5_compared_156 : decode cX5_compared 156 = .ok (.invokevirtual 318, 3) := by decide +kernel
set_option maxRecDepth 100000 in
theorem dX5_compared_159 : decode cX5_compared 159 = .ok (.ifCond .eq 26, 3) := by decide +kernel
set_option maxRecDepth 100000 in
theorem dX5_compared_162 : decode cX5_compared 162 = .ok (.aload_n 2, 1) := by decide +kernel
set_option maxRecDepth 100000 in
theorem dX5_compared_163 : decode cX5_compared 163 = .ok (.aload_n 3, 1) := by decide +kernel
set_option maxRecDepth 100000 in
theorem dX5_compared_164 : decode cX5_compared 164 = .ok (.if_acmp .ne 21, 3) := by decide +kernel
set_option maxRecDepth 100000 in
theorem dX5_compared_167 : decode cX5_compared 167 = .ok (.aload_n 0, 1) := by decide +kernel
set_option maxRecDepth 100000 in
theorem dX5_compared_168 : decode cX5_compared 168 = .ok (.getfield 62, 3) := by decide +kernel
set_option maxRecDepth 100000 in
theorem dX5_compared_171 : decode cX5_compared 171 = .ok (.bipush 36, 2) := by decide +kernel
set_option maxRecDepth 100000 in
theorem dX5_compared_173 : decode cX5_compared 173 = .ok (.iload 5, 2) := by decide +kernel
set_option maxRecDepth 100000 in
theorem dX5_compared_175 : decode cX5_compared 175 = .ok (.iconst 0, 1) := by decide +kernel
set_option maxRecDepth 100000 in
theorem dX5_compared_176 : decode cX5_compared 176 = .ok (.iconst 0, 1) := by decide +kernel
set_option maxRecDepth 100000 in
theorem dX5_compared_177 : decode cX5_compared 177 = .ok (.iconst 0, 1) := by decide +kernel
set_option maxRecDepth 100000 in
theorem dX5_compared_178 : decode cX5_compared 178 = .ok (.invokevirtual 506, 3) := by decide +kernel
set_option maxRecDepth 100000 in
theorem dX5_compared_181 : decode cX5_compared 181 = .ok (.pop, 1) := by decide +kernel
set_option maxRecDepth 100000 in
theorem dX5_compared_182 : decode cX5_compared 182 = .ok (.goto 175, 3) := by decide +kernel
set_option maxRecDepth 100000 in
theorem dX5_compared_185 : decode cX5_compared 185 = .ok (.aload_n 0, 1) := by decide +kernel
set_option maxRecDepth 100000 in
theorem dX5_compared_186 : decode cX5_compared 186 = .ok (.aload_n 2, 1) := by decide +kernel
set_option maxRecDepth 100000 in
theorem dX5_compared_187 : decode cX5_compared 187 = .ok (.aload_n 3, 1) := by decide +kernel
set_option maxRecDepth 100000 in
theorem dX5_compared_188 : decode cX5_compared 188 = .ok (.invokevirtual 847, 3) := by decide +kernel
set_option maxRecDepth 100000 in
theorem dX5_compared_191 : decode cX5_compared 191 = .ok (.ifCond .eq 27, 3) := by decide +kernel
set_option maxRecDepth 100000 in
theorem dX5_compared_194 : decode cX5_compared 194 = .ok (.aload_n 0, 1) := by decide +kernel
set_option maxRecDepth 100000 in
theorem dX5_compared_195 : decode cX5_compared 195 = .ok (.aload_n 2, 1) := by decide +kernel
set_option maxRecDepth 100000 in
theorem dX5_compared_196 : decode cX5_compared 196 = .ok (.aload_n 3, 1) := by decide +kernel
set_option maxRecDepth 100000 in
theorem dX5_compared_197 : decode cX5_compared 197 = .ok (.invokevirtual 851, 3) := by decide +kernel
set_option maxRecDepth 100000 in
theorem dX5_compared_200 : decode cX5_compared 200 = .ok (.aload_n 0, 1) := by decide +kernel
set_option maxRecDepth 100000 in
theorem dX5_compared_201 : decode cX5_compared 201 = .ok (.getfield 62, 3) := by decide +kernel
set_option maxRecDepth 100000 in
theorem dX5_compared_204 : decode cX5_compared 204 = .ok (.bipush 37, 2) := by decide +kernel
set_option maxRecDepth 100000 in
theorem dX5_compared_206 : decode cX5_compared 206 = .ok (.iload 5, 2) := by decide +kernel
set_option maxRecDepth 100000 in
theorem dX5_compared_208 : decode cX5_compared 208 = .ok (.iconst 0, 1) := by decide +kernel
set_option maxRecDepth 100000 in
theorem dX5_compared_209 : decode cX5_compared 209 = .ok (.iconst 0, 1) := by decide +kernel
set_option maxRecDepth 100000 in
theorem dX5_compared_210 : decode cX5_compared 210 = .ok (.iconst 0, 1) := by decide +kernel
set_option maxRecDepth 100000 in
theorem dX5_compared_211 : decode cX5_compared 211 = .ok (.invokevirtual 506, 3) := by decide +kernel
set_option maxRecDepth 100000 in
theorem dX5_compared_214 : decode cX5_compared 214 = .ok (.pop, 1) := by decide +kernel
set_option maxRecDepth 100000 in
theorem dX5_compared_215 : decode cX5_compared 215 = .ok (.goto 142, 3) := by decide +kernel
set_option maxRecDepth 100000 in
theorem dX5_compared_218 : decode cX5_compared 218 = .ok (.aload_n 2, 1) := by decide +kernel
set_option maxRecDepth 100000 in
theorem dX5_compared_219 : decode cX5_compared 219 = .ok (.invokevirtual 793, 3) := by decide +kernel
set_option maxRecDepth 100000 in
theorem dX5_compared_222 : decode cX5_compared 222 = .ok (.ifCond .le 36, 3) := by decide +kernel
set_option maxRecDepth 100000 in
theorem dX5_compared_225 : decode cX5_compared 225 = .ok (.aload_n 2, 1) := by decide +kernel
set_option maxRecDepth 100000 in
theorem dX5_compared_226 : decode cX5_compared 226 = .ok (.invokevirtual 793, 3) := by decide +kernel
set_option maxRecDepth 100000 in
theorem dX5_compared_229 : decode cX5_compared 229 = .ok (.aload_n 3, 1) := by decide +kernel
set_option maxRecDepth 100000 in
theorem dX5_compared_230 : decode cX5_compared 230 = .ok (.invokevirtual 793, 3) := by decide +kernel
set_option maxRecDepth 100000 in
theorem dX5_compared_233 : decode cX5_compared 233 = .ok (.if_icmp .ne 25, 3) := by decide +kernel
set_option maxRecDepth 100000 in
theorem dX5_compared_236 : decode cX5_compared 236 = .ok (.aload_n 0, 1) := by decide +kernel
set_option maxRecDepth 100000 in
theorem dX5_compared_237 : decode cX5_compared 237 = .ok (.getfield 62, 3) := by decide +kernel
set_option maxRecDepth 100000 in
theorem dX5_compared_240 : decode cX5_compared 240 = .ok (.bipush 40, 2) := by decide +kernel
set_option maxRecDepth 100000 in
theorem dX5_compared_242 : decode cX5_compared 242 = .ok (.iload 5, 2) := by decide +kernel
set_option maxRecDepth 100000 in
theorem dX5_compared_244 : decode cX5_compared 244 = .ok (.aload_n 2, 1) := by decide +kernel
set_option maxRecDepth 100000 in
theorem dX5_compared_245 : decode cX5_compared 245 = .ok (.invokevirtual 793, 3) := by decide +kernel
set_option maxRecDepth 100000 in
theorem dX5_compared_248 : decode cX5_compared 248 = .ok (.iconst 0, 1) := by decide +kernel
set_option maxRecDepth 100000 in
theorem dX5_compared_249 : decode cX5_compared 249 = .ok (.iload 4, 2) := by decide +kernel
set_option maxRecDepth 100000 in
theorem dX5_compared_251 : decode cX5_compared 251 = .ok (.invokevirtual 506, 3) := by decide +kernel
set_option maxRecDepth 100000 in
theorem dX5_compared_254 : decode cX5_compared 254 = .ok (.pop, 1) := by decide +kernel
set_option maxRecDepth 100000 in
theorem dX5_compared_255 : decode cX5_compared 255 = .ok (.goto 102, 3) := by decide +kernel
set_option maxRecDepth 100000 in
theorem dX5_compared_258 : decode cX5_compared 258 = .ok (.aload_n 2, 1) := by decide +kernel
set_option maxRecDepth 100000 in
theorem dX5_compared_259 : decode cX5_compared 259 = .ok (.invokevirtual 857, 3) := by decide +kernel
set_option maxRecDepth 100000 in
theorem dX5_compared_262 : decode cX5_compared 262 = .ok (.ifCond .eq 41, 3) := by decide +kernel
set_option maxRecDepth 100000 in
theorem dX5_compared_265 : decode cX5_compared 265 = .ok (.aload_n 3, 1) := by decide +kernel
set_option maxRecDepth 100000 in
theorem dX5_compared_266 : decode cX5_compared 266 = .ok (.invokevirtual 857, 3) := by decide +kernel
set_option maxRecDepth 100000 in
theorem dX5_compared_269 : decode cX5_compared 269 = .ok (.ifCond .eq 34, 3) := by decide +kernel
set_option maxRecDepth 100000 in
theorem dX5_compared_272 : decode cX5_compared 272 = .ok (.aload_n 2, 1) := by decide +kernel
set_option maxRecDepth 100000 in
theorem dX5_compared_273 : decode cX5_compared 273 = .ok (.aload_n 3, 1) := by decide +kernel
set_option maxRecDepth 100000 in
theorem dX5_compared_274 : decode cX5_compared 274 = .ok (.invokevirtual 860, 3) := by decide +kernel
set_option maxRecDepth 100000 in
theorem dX5_compared_277 : decode cX5_compared 277 = .ok (.ifCond .eq 26, 3) := by decide +kernel
set_option maxRecDepth 100000 in
theorem dX5_compared_280 : decode cX5_compared 280 = .ok (.iload 7, 2) := by decide +kernel
set_option maxRecDepth 100000 in
theorem dX5_compared_282 : decode cX5_compared 282 = .ok (.ifCond .ne 21, 3) := by decide +kernel
set_option maxRecDepth 100000 in
theorem dX5_compared_285 : decode cX5_compared 285 = .ok (.aload_n 0, 1) := by decide +kernel
set_option maxRecDepth 100000 in
theorem dX5_compared_286 : decode cX5_compared 286 = .ok (.getfield 62, 3) := by decide +kernel
set_option maxRecDepth 100000 in
theorem dX5_compared_289 : decode cX5_compared 289 = .ok (.bipush 38, 2) := by decide +kernel
set_option maxRecDepth 100000 in
theorem dX5_compared_291 : decode cX5_compared 291 = .ok (.iload 5, 2) := by decide +kernel
set_option maxRecDepth 100000 in
theorem dX5_compared_293 : decode cX5_compared 293 = .ok (.iconst 0, 1) := by decide +kernel
set_option maxRecDepth 100000 in
theorem dX5_compared_294 : decode cX5_compared 294 = .ok (.iconst 0, 1) := by decide +kernel
set_option maxRecDepth 100000 in
theorem dX5_compared_295 : decode cX5_compared 295 = .ok (.iconst 0, 1) := by decide +kernel
set_option maxRecDepth 100000 in
theorem dX5_compared_296 : decode cX5_compared 296 = .ok (.invokevirtual 506, 3) := by decide +kernel
set_option maxRecDepth 100000 in
theorem dX5_compared_299 : decode cX5_compared 299 = .ok (.pop, 1) := by decide +kernel
set_option maxRecDepth 100000 in
theorem dX5_compared_300 : decode cX5_compared 300 = .ok (.goto 57, 3) := by decide +kernel
set_option maxRecDepth 100000 in
theorem dX5_compared_303 : decode cX5_compared 303 = .ok (.aload_n 2, 1) := by decide +kernel
set_option maxRecDepth 100000 in
theorem dX5_compared_304 : decode cX5_compared 304 = .ok (.invokevirtual 774, 3) := by decide +kernel
set_option maxRecDepth 100000 in
theorem dX5_compared_307 : decode cX5_compared 307 = .ok (.ifCond .eq 41, 3) := by decide +kernel
set_option maxRecDepth 100000 in
theorem dX5_compared_310 : decode cX5_compared 310 = .ok (.aload_n 3, 1) := by decide +kernel
set_option maxRecDepth 100000 in
theorem dX5_compared_311 : decode cX5_compared 311 = .ok (.invokevirtual 774, 3) := by decide +kernel
set_option maxRecDepth 100000 in
theorem dX5_compared_314 : decode cX5_compared 314 = .ok (.ifCond .eq 34, 3) := by decide +kernel
set_option maxRecDepth 100000 in
theorem dX5_compared_317 : decode cX5_compared 317 = .ok (.aload_n 2, 1) := by decide +kernel
set_option maxRecDepth 100000 in
theorem dX5_compared_318 : decode cX5_compared 318 = .ok (.aload_n 3, 1) := by decide +kernel
set_option maxRecDepth 100000 in
theorem dX5_compared_319 : decode cX5_compared 319 = .ok (.invokevirtual 860, 3) := by decide +kernel
set_option maxRecDepth 100000 in
theorem dX5_compared_322 : decode cX5_compared 322 = .ok (.ifCond .eq 26, 3) := by decide +kernel
set_option maxRecDepth 100000 in
theorem dX5_compared_325 : decode cX5_compared 325 = .ok (.iload 6, 2) := by decide +kernel
set_option maxRecDepth 100000 in
theorem dX5_compared_327 : decode cX5_compared 327 = .ok (.ifCond .eq 21, 3) := by decide +kernel
set_option maxRecDepth 100000 in
theorem dX5_compared_330 : decode cX5_compared 330 = .ok (.aload_n 0, 1) := by decide +kernel
set_option maxRecDepth 100000 in
theorem dX5_compared_331 : decode cX5_compared 331 = .ok (.getfield 62, 3) := by decide +kernel
set_option maxRecDepth 100000 in
theorem dX5_compared_334 : decode cX5_compared 334 = .ok (.bipush 39, 2) := by decide +kernel
set_option maxRecDepth 100000 in
theorem dX5_compared_336 : decode cX5_compared 336 = .ok (.iload 5, 2) := by decide +kernel
set_option maxRecDepth 100000 in
theorem dX5_compared_338 : decode cX5_compared 338 = .ok (.iconst 0, 1) := by decide +kernel
set_option maxRecDepth 100000 in
theorem dX5_compared_339 : decode cX5_compared 339 = .ok (.iconst 0, 1) := by decide +kernel
set_option maxRecDepth 100000 in
theorem dX5_compared_340 : decode cX5_compared 340 = .ok (.iconst 0, 1) := by decide +kernel
set_option maxRecDepth 100000 in
theorem dX5_compared_341 : decode cX5_compared 341 = .ok (.invokevirtual 506, 3) := by decide +kernel
set_option maxRecDepth 100000 in
theorem dX5_compared_344 : decode cX5_compared 344 = .ok (.pop, 1) := by decide +kernel
set_option maxRecDepth 100000 in
theorem dX5_compared_345 : decode cX5_compared 345 = .ok (.goto 12, 3) := by decide +kernel
set_option maxRecDepth 100000 in
theorem dX5_compared_348 : decode cX5_compared 348 = .ok (.aload_n 0, 1) := by decide +kernel
set_option maxRecDepth 100000 in
theorem dX5_compared_349 : decode cX5_compared 349 = .ok (.bipush 7, 2) := by decide +kernel
set_option maxRecDepth 100000 in
theorem dX5_compared_351 : decode cX5_compared 351 = .ok (.iload 4, 2) := by decide +kernel
set_option maxRecDepth 100000 in
theorem dX5_compared_353 : decode cX5_compared 353 = .ok (.invokevirtual 163, 3) := by decide +kernel
set_option maxRecDepth 100000 in
theorem dX5_compared_356 : decode cX5_compared 356 = .ok (.athrow, 1) := by decide +kernel
set_option maxRecDepth 100000 in
theorem dX5_compared_357 : decode cX5_compared 357 = .ok (.aload_n 0, 1) := by decide +kernel
set_option maxRecDepth 100000 in
theorem dX5_compared_358 : decode cX5_compared 358 = .ok (.getfield 29, 3) := by decide +kernel
set_option maxRecDepth 100000 in
theorem dX5_compared_361 : decode cX5_compared 361 = .ok (.areturn, 1) := by decide +kernel
set_option maxRecDepth 100000 in
def bX5_compared_357 (G : xG) (fr lo : Nat) (x0 : Nat) (h : xH) (Q : Outcome → xH → Prop) : Prop := tg h x0 = 6 ∧ Q (.returned (some (rv (fR h x0 1284)))) h
set_option maxRecDepth 100000 in
theorem uX5_compared_357 {G : xG} {fr lo : Nat} {x0 : Nat} {h : xH} {Q : Outcome → xH → Prop} (hq : bX5_compared_357 G fr lo x0 h Q) : xP G YX5_compared fr lo 357 [(0, rv x0)] [] h Q := by
  unfold bX5_compared_357 at hq
  refine x_aload_n 0 dX5_compared_357 rfl ?_
  obtain ⟨g1, hq⟩ := hq
  refine x_get (v := rv (fR h x0 1284)) fdX5_29 dX5_compared_358 g1 rfl ?_
  exact x_aret rfl xty_O dX5_compared_361 hq
set_option maxRecDepth 100000 in
def bX5_compared_348 (G : xG) (fr lo : Nat) (x0 : Nat) (x4 : Int32) (h : xH) (Q : Outcome → xH → Prop) : Prop := tg h x0 = 6 ∧ 1 ≤ fr ∧ 14 ≤ lo ∧ xRr G YX5_fault (fr - 1) (lo - 14) [rv x0, .int 7, .int x4] h (fun x5 h4 => xext h h4 → (∃ r7, x5 = r7 + 1 ∧ Q (.threw r7) h4)) (fun r h2 => Q (.threw r) h2)
set_option maxRecDepth 100000 in
theorem uX5_compared_348 {G : xG} {fr lo : Nat} {x0 : Nat} {x4 : Int32} {h : xH} {Q : Outcome → xH → Prop} (hq : bX5_compared_348 G fr lo x0 x4 h Q) : xP G YX5_compared fr lo 348 [(0, rv x0), (4, .int x4)] [] h Q := by
  unfold bX5_compared_348 at hq
  refine x_aload_n 0 dX5_compared_348 rfl ?_
  refine x_bipush (v := 7) dX5_compared_349 (by decide) ?_
  refine x_iload 1 dX5_compared_351 rfl ?_
  obtain ⟨g1, hq⟩ := hq
  obtain ⟨g2, g3, hq⟩ := hq
  refine x_callV (Yc := YX5_fault) (as := [.int 7, .int x4]) (st := []) q2087 mvX5_fault g1 rfl dX5_compared_353 (xle (xal1 (rv_cat _) (xal1 rfl (xal1 rfl xal0))) (by decide)) (xfr g2) (xlo xsw0 (by decide) g3) (xKr hq (fun x5 h4 hq e6 => ?_) (fun _ _ q _ => q))
  replace hq := hq e6
  obtain ⟨r7, g8, hq⟩ := hq
  rw [g8]
  exact x_athrow dX5_compared_356 hq
set_option maxRecDepth 100000 in
def bX5_compared_303 (G : xG) (fr lo : Nat) (x0 : Nat) (x2 : Nat) (x3 : Nat) (x4 : Int32) (x5 : Int32) (x6 : Int32) (h : xH) (Q : Outcome → xH → Prop) : Prop := tg h x2 = 7 ∧ 1 ≤ fr ∧ 12 ≤ lo ∧ xRi G YX6_isPointer (fr - 1) (lo - 12) [rv x2] h (fun x5 h4 => xext h h4 → ((x5 = 0 → bX5_compared_348 G fr lo x0 x4 h4 Q) ∧ (¬ x5 = 0 → tg h4 x3 = 7 ∧ 1 ≤ fr ∧ 12 ≤ lo ∧ xRi G YX6_isPointer (fr - 1) (lo - 12) [rv x3] h4 (fun x12 h11 => xext h4 h11 → ((x12 = 0 → bX5_compared_348 G fr lo x0 x4 h11 Q) ∧ (¬ x12 = 0 → 1 ≤ fr ∧ 13 ≤ lo ∧ xRi G YX6_isLike (fr - 1) (lo - 13) [rv x2, rv x3] h11 (fun x20 h19 => xext h11 h19 → ((x20 = 0 → bX5_compared_348 G fr lo x0 x4 h19 Q) ∧ (¬ x20 = 0 → ((x6 = 0 → bX5_compared_348 G fr lo x0 x4 h19 Q) ∧ (¬ x6 = 0 → tg h19 x0 = 6 ∧ tg h19 (fR h19 x0 1281) = 3 ∧ 1 ≤ fr ∧ 17 ≤ lo ∧ xRi G YX2_put (fr - 1) (lo - 17) [rv (fR h19 x0 1281), .int 39, .int x5, .int 0, .int 0, .int 0] h19 (fun x29 h28 => xext h19 h28 → bX5_compared_357 G fr lo x0 h28 Q) (fun r h2 => Q (.threw r) h2)))))) (fun r h2 => Q (.threw r) h2)))) (fun r h2 => Q (.threw r) h2)))) (fun r h2 => Q (.threw r) h2)
set_option maxRecDepth 100000 in
theorem uX5_compared_303 {G : xG} {fr lo : Nat} {x0 : Nat} {x2 : Nat} {x3 : Nat} {x4 : Int32} {x5 : Int32} {x6 : Int32} {h : xH} {Q : Outcome → xH → Prop} (hq : bX5_compared_303 G fr lo x0 x2 x3 x4 x5 x6 h Q) : xP G YX5_compared fr lo 303 [(0, rv x0), (2, rv x2), (3, rv x3), (4, .int x4), (5, .int x5), (6, .int x6)] [] h Q := by
  unfold bX5_compared_303 at hq
  refine x_aload_n 1 dX5_compared_303 rfl ?_
  obtain ⟨g1, hq⟩ := hq
  obtain ⟨g2, g3, hq⟩ := hq
  refine x_callV (Yc := YX6_isPointer) (as := []) (st := []) q2695 mvX6_isPointer g1 rfl dX5_compared_304 (xle (xal1 (rv_cat _) xal0) (by decide)) (xfr g2) (xlo xsw0 (by decide) g3) (xKi hq (fun x5 h4 hq e6 => ?_) (fun _ _ q _ => q))
  replace hq := hq e6
  refine x_if_eq (tgt := 348) dX5_compared_307 (by decide) (fun c7 => ?_) (fun c7 => ?_)
  · replace hq := hq.1 c7
    refine xP.pick (lv' := [(0, rv x0), (4, .int x4)]) [0, 3] rfl ?_
    exact uX5_compared_348 hq
  · replace hq := hq.2 c7
    refine x_aload_n 2 dX5_compared_310 rfl ?_
    obtain ⟨g8, hq⟩ := hq
    obtain ⟨g9, g10, hq⟩ := hq
    refine x_callV (Yc := YX6_isPointer) (as := []) (st := []) q2695 mvX6_isPointer g8 rfl dX5_compared_311 (xle (xal1 (rv_cat _) xal0) (by decide)) (xfr g9) (xlo xsw0 (by decide) g10) (xKi hq (fun x12 h11 hq e13 => ?_) (fun _ _ q _ => q))
    replace hq := hq e13
    refine x_if_eq (tgt := 348) dX5_compared_314 (by decide) (fun c14 => ?_) (fun c14 => ?_)
    · replace hq := hq.1 c14
      refine xP.pick (lv' := [(0, rv x0), (4, .int x4)]) [0, 3] rfl ?_
      exact uX5_compared_348 hq
    · replace hq := hq.2 c14
      refine x_aload_n 1 dX5_compared_317 rfl ?_
      refine x_aload_n 2 dX5_compared_318 rfl ?_
      have t15 : tg h4 x2 = 7 := e6.tg g1 (by decide)
      have t16 : tg h11 x2 = 7 := e13.tg t15 (by decide)
      obtain ⟨g17, g18, hq⟩ := hq
      refine x_callV (Yc := YX6_isLike) (as := [rv x3]) (st := []) q2680 mvX6_isLike t16 rfl dX5_compared_319 (xle (xal1 (rv_cat _) (xal1 (rv_cat _) xal0)) (by decide)) (xfr g17) (xlo xsw0 (by decide) g18) (xKi hq (fun x20 h19 hq e21 => ?_) (fun _ _ q _ => q))
      replace hq := hq e21
      refine x_if_eq (tgt := 348) dX5_compared_322 (by decide) (fun c22 => ?_) (fun c22 => ?_)
      · replace hq := hq.1 c22
        refine xP.pick (lv' := [(0, rv x0), (4, .int x4)]) [0, 3] rfl ?_
        exact uX5_compared_348 hq
      · replace hq := hq.2 c22
        refine x_iload 5 dX5_compared_325 rfl ?_
        refine x_if_eq (tgt := 348) dX5_compared_327 (by decide) (fun c23 => ?_) (fun c23 => ?_)
        · replace hq := hq.1 c23
          refine xP.pick (lv' := [(0, rv x0), (4, .int x4)]) [0, 3] rfl ?_
          exact uX5_compared_348 hq
        · replace hq := hq.2 c23
          refine x_aload_n 0 dX5_compared_330 rfl ?_
          obtain ⟨g24, hq⟩ := hq
          refine x_get (v := rv (fR h19 x0 1281)) fdX5_62 dX5_compared_331 g24 rfl ?_
          refine x_bipush (v := 39) dX5_compared_334 (by decide) ?_
          refine x_iload 4 dX5_compared_336 rfl ?_
          refine x_iconst (v := 0) dX5_compared_338 (by decide) ?_
          refine x_iconst (v := 0) dX5_compared_339 (by decide) ?_
          refine x_iconst (v := 0) dX5_compared_340 (by decide) ?_
          obtain ⟨g25, hq⟩ := hq
          obtain ⟨g26, g27, hq⟩ := hq
          refine x_callV (Yc := YX2_put) (as := [.int 39, .int x5, .int 0, .int 0, .int 0]) (st := []) q2494 mvX2_put g25 rfl dX5_compared_341 (xle (xal1 (rv_cat _) (xal1 rfl (xal1 rfl (xal1 rfl (xal1 rfl (xal1 rfl xal0)))))) (by decide)) (xfr g26) (xlo xsw0 (by decide) g27) (xKi hq (fun x29 h28 hq e30 => ?_) (fun _ _ q _ => q))
          replace hq := hq e30
          refine x_pop dX5_compared_344 rfl ?_
          refine x_goto (tgt := 357) dX5_compared_345 (by decide) ?_
          refine xP.pick (lv' := [(0, rv x0)]) [0] rfl ?_
          exact uX5_compared_357 hq
set_option maxRecDepth 100000 in
def bX5_compared_258 (G : xG) (fr lo : Nat) (x0 : Nat) (x2 : Nat) (x3 : Nat) (x4 : Int32) (x5 : Int32) (x6 : Int32) (x7 : Int32) (h : xH) (Q : Outcome → xH → Prop) : Prop := tg h x2 = 7 ∧ 1 ≤ fr ∧ 12 ≤ lo ∧ xRi G YX6_isSet (fr - 1) (lo - 12) [rv x2] h (fun x5 h4 => xext h h4 → ((x5 = 0 → bX5_compared_303 G fr lo x0 x2 x3 x4 x5 x6 h4 Q) ∧ (¬ x5 = 0 → tg h4 x3 = 7 ∧ 1 ≤ fr ∧ 12 ≤ lo ∧ xRi G YX6_isSet (fr - 1) (lo - 12) [rv x3] h4 (fun x12 h11 => xext h4 h11 → ((x12 = 0 → bX5_compared_303 G fr lo x0 x2 x3 x4 x5 x6 h11 Q) ∧ (¬ x12 = 0 → 1 ≤ fr ∧ 13 ≤ lo ∧ xRi G YX6_isLike (fr - 1) (lo - 13) [rv x2, rv x3] h11 (fun x20 h19 => xext h11 h19 → ((x20 = 0 → bX5_compared_303 G fr lo x0 x2 x3 x4 x5 x6 h19 Q) ∧ (¬ x20 = 0 → ((¬ x7 = 0 → bX5_compared_303 G fr lo x0 x2 x3 x4 x5 x6 h19 Q) ∧ (x7 = 0 → tg h19 x0 = 6 ∧ tg h19 (fR h19 x0 1281) = 3 ∧ 1 ≤ fr ∧ 17 ≤ lo ∧ xRi G YX2_put (fr - 1) (lo - 17) [rv (fR h19 x0 1281), .int 38, .int x5, .int 0, .int 0, .int 0] h19 (fun x29 h28 => xext h19 h28 → bX5_compared_357 G fr lo x0 h28 Q) (fun r h2 => Q (.threw r) h2)))))) (fun r h2 => Q (.threw r) h2)))) (fun r h2 => Q (.threw r) h2)))) (fun r h2 => Q (.threw r) h2)
set_option maxRecDepth 100000 in
theorem uX5_compared_258 {G : xG} {fr lo : Nat} {x0 : Nat} {x2 : Nat} {x3 : Nat} {x4 : Int32} {x5 : Int32} {x6 : Int32} {x7 : Int32} {h : xH} {Q : Outcome → xH → Prop} (hq : bX5_compared_258 G fr lo x0 x2 x3 x4 x5 x6 x7 h Q) : xP G YX5_compared fr lo 258 [(0, rv x0), (2, rv x2), (3, rv x3), (4, .int x4), (5, .int x5), (6, .int x6), (7, .int x7)] [] h Q := by
  unfold bX5_compared_258 at hq
  refine x_aload_n 1 dX5_compared_258 rfl ?_
  obtain ⟨g1, hq⟩ := hq
  obtain ⟨g2, g3, hq⟩ := hq
  refine x_callV (Yc := YX6_isSet) (as := []) (st := []) q2679 mvX6_isSet g1 rfl dX5_compared_259 (xle (xal1 (rv_cat _) xal0) (by decide)) (xfr g2) (xlo xsw0 (by decide) g3) (xKi hq (fun x5 h4 hq e6 => ?_) (fun _ _ q _ => q))
  replace hq := hq e6
  refine x_if_eq (tgt := 303) dX5_compared_262 (by decide) (fun c7 => ?_) (fun c7 => ?_)
  · replace hq := hq.1 c7
    refine xP.pick (lv' := [(0, rv x0), (2, rv x2), (3, rv x3), (4, .int x4), (5, .int x5), (6, .int x6)]) [0, 1, 2, 3, 4, 5] rfl ?_
    exact uX5_compared_303 hq
  · replace hq := hq.2 c7
    refine x_aload_n 2 dX5_compared_265 rfl ?_
    obtain ⟨g8, hq⟩ := hq
    obtain ⟨g9, g10, hq⟩ := hq
    refine x_callV (Yc := YX6_isSet) (as := []) (st := []) q2679 mvX6_isSet g8 rfl dX5_compared_266 (xle (xal1 (rv_cat _) xal0) (by decide)) (xfr g9) (xlo xsw0 (by decide) g10) (xKi hq (fun x12 h11 hq e13 => ?_) (fun _ _ q _ => q))
    replace hq := hq e13
    refine x_if_eq (tgt := 303) dX5_compared_269 (by decide) (fun c14 => ?_) (fun c14 => ?_)
    · replace hq := hq.1 c14
      refine xP.pick (lv' := [(0, rv x0), (2, rv x2), (3, rv x3), (4, .int x4), (5, .int x5), (6, .int x6)]) [0, 1, 2, 3, 4, 5] rfl ?_
      exact uX5_compared_303 hq
    · replace hq := hq.2 c14
      refine x_aload_n 1 dX5_compared_272 rfl ?_
      refine x_aload_n 2 dX5_compared_273 rfl ?_
      have t15 : tg h4 x2 = 7 := e6.tg g1 (by decide)
      have t16 : tg h11 x2 = 7 := e13.tg t15 (by decide)
      obtain ⟨g17, g18, hq⟩ := hq
      refine x_callV (Yc := YX6_isLike) (as := [rv x3]) (st := []) q2680 mvX6_isLike t16 rfl dX5_compared_274 (xle (xal1 (rv_cat _) (xal1 (rv_cat _) xal0)) (by decide)) (xfr g17) (xlo xsw0 (by decide) g18) (xKi hq (fun x20 h19 hq e21 => ?_) (fun _ _ q _ => q))
      replace hq := hq e21
      refine x_if_eq (tgt := 303) dX5_compared_277 (by decide) (fun c22 => ?_) (fun c22 => ?_)
      · replace hq := hq.1 c22
        refine xP.pick (lv' := [(0, rv x0), (2, rv x2), (3, rv x3), (4, .int x4), (5, .int x5), (6, .int x6)]) [0, 1, 2, 3, 4, 5] rfl ?_
        exact uX5_compared_303 hq
      · replace hq := hq.2 c22
        refine x_iload 6 dX5_compared_280 rfl ?_
        refine x_if_ne (tgt := 303) dX5_compared_282 (by decide) (fun c23 => ?_) (fun c23 => ?_)
        · replace hq := hq.1 c23
          refine xP.pick (lv' := [(0, rv x0), (2, rv x2), (3, rv x3), (4, .int x4), (5, .int x5), (6, .int x6)]) [0, 1, 2, 3, 4, 5] rfl ?_
          exact uX5_compared_303 hq
        · replace hq := hq.2 c23
          refine x_aload_n 0 dX5_compared_285 rfl ?_
          obtain ⟨g24, hq⟩ := hq
          refine x_get (v := rv (fR h19 x0 1281)) fdX5_62 dX5_compared_286 g24 rfl ?_
          refine x_bipush (v := 38) dX5_compared_289 (by decide) ?_
          refine x_iload 4 dX5_compared_291 rfl ?_
          refine x_iconst (v := 0) dX5_compared_293 (by decide) ?_
          refine x_iconst (v := 0) dX5_compared_294 (by decide) ?_
          refine x_iconst (v := 0) dX5_compared_295 (by decide) ?_
          obtain ⟨g25, hq⟩ := hq
          obtain ⟨g26, g27, hq⟩ := hq
          refine x_callV (Yc := YX2_put) (as := [.int 38, .int x5, .int 0, .int 0, .int 0]) (st := []) q2494 mvX2_put g25 rfl dX5_compared_296 (xle (xal1 (rv_cat _) (xal1 rfl (xal1 rfl (xal1 rfl (xal1 rfl (xal1 rfl xal0)))))) (by decide)) (xfr g26) (xlo xsw0 (by decide) g27) (xKi hq (fun x29 h28 hq e30 => ?_) (fun _ _ q _ => q))
          replace hq := hq e30
          refine x_pop dX5_compared_299 rfl ?_
          refine x_goto (tgt := 357) dX5_compared_300 (by decide) ?_
          refine xP.pick (lv' := [(0, rv x0)]) [0] rfl ?_
          exact uX5_compared_357 hq
set_option maxRecDepth 100000 in
def bX5_compared_185 (G : xG) (fr lo : Nat) (x0 : Nat) (x2 : Nat) (x3 : Nat) (x4 : Int32) (x5 : Int32) (x6 : Int32) (x7 : Int32) (h : xH) (Q : Outcome → xH → Prop) : Prop := tg h x0 = 6 ∧ 1 ≤ fr ∧ 14 ≤ lo ∧ xRi G YX5_isMixed (fr - 1) (lo - 14) [rv x0, rv x2, rv x3] h (fun x5 h4 => xext h h4 → ((x5 = 0 → tg h4 x2 = 7 ∧ 1 ≤ fr ∧ 13 ≤ lo ∧ xRi G YX6_string (fr - 1) (lo - 13) [rv x2] h4 (fun x12 h11 => xext h4 h11 → ((x12 ≤ 0 → bX5_compared_258 G fr lo x0 x2 x3 x4 x5 x6 x7 h11 Q) ∧ (¬ x12 ≤ 0 → 1 ≤ fr ∧ 13 ≤ lo ∧ xRi G YX6_string (fr - 1) (lo - 13) [rv x2] h11 (fun x19 h18 => xext h11 h18 → tg h18 x3 = 7 ∧ 1 ≤ fr ∧ 14 ≤ lo ∧ xRi G YX6_string (fr - 1) (lo - 14) [rv x3] h18 (fun x25 h24 => xext h18 h24 → ((¬ x19 = x25 → bX5_compared_258 G fr lo x0 x2 x3 x4 x5 x6 x7 h24 Q) ∧ (x19 = x25 → 1 ≤ fr ∧ 16 ≤ lo ∧ xRi G YX6_string (fr - 1) (lo - 16) [rv x2] h24 (fun x37 h36 => xext h24 h36 → tg h36 (fR h24 x0 1281) = 3 ∧ 1 ≤ fr ∧ 17 ≤ lo ∧ xRi G YX2_put (fr - 1) (lo - 17) [rv (fR h24 x0 1281), .int 40, .int x5, .int x37, .int 0, .int x4] h36 (fun x43 h42 => xext h36 h42 → bX5_compared_357 G fr lo x0 h42 Q) (fun r h2 => Q (.threw r) h2)) (fun r h2 => Q (.threw r) h2)))) (fun r h2 => Q (.threw r) h2)) (fun r h2 => Q (.threw r) h2)))) (fun r h2 => Q (.threw r) h2)) ∧ (¬ x5 = 0 → 1 ≤ fr ∧ 14 ≤ lo ∧ xRv G YX5_floats (fr - 1) (lo - 14) [rv x0, rv x2, rv x3] h4 (fun h48 => xext h4 h48 → tg h48 (fR h48 x0 1281) = 3 ∧ 1 ≤ fr ∧ 17 ≤ lo ∧ xRi G YX2_put (fr - 1) (lo - 17) [rv (fR h48 x0 1281), .int 37, .int x5, .int 0, .int 0, .int 0] h48 (fun x56 h55 => xext h48 h55 → bX5_compared_357 G fr lo x0 h55 Q) (fun r h2 => Q (.threw r) h2)) (fun r h2 => Q (.threw r) h2)))) (fun r h2 => Q (.threw r) h2)
set_option maxRecDepth 100000 in
theorem uX5_compared_185 {G : xG} {fr lo : Nat} {x0 : Nat} {x2 : Nat} {x3 : Nat} {x4 : Int32} {x5 : Int32} {x6 : Int32} {x7 : Int32} {h : xH} {Q : Outcome → xH → Prop} (hq : bX5_compared_185 G fr lo x0 x2 x3 x4 x5 x6 x7 h Q) : xP G YX5_compared fr lo 185 [(0, rv x0), (2, rv x2), (3, rv x3), (4, .int x4), (5, .int x5), (6, .int x6), (7, .int x7)] [] h Q := by
  unfold bX5_compared_185 at hq
  refine x_aload_n 0 dX5_compared_185 rfl ?_
  refine x_aload_n 1 dX5_compared_186 rfl ?_
  refine x_aload_n 2 dX5_compared_187 rfl ?_
  obtain ⟨g1, hq⟩ := hq
  obtain ⟨g2, g3, hq⟩ := hq
  refine x_callV (Yc := YX5_isMixed) (as := [rv x2, rv x3]) (st := []) q2670 mvX5_isMixed g1 rfl dX5_compared_188 (xle (xal1 (rv_cat _) (xal1 (rv_cat _) (xal1 (rv_cat _) xal0))) (by decide)) (xfr g2) (xlo xsw0 (by decide) g3) (xKi hq (fun x5 h4 hq e6 => ?_) (fun _ _ q _ => q))
  replace hq := hq e6
  refine x_if_eq (tgt := 218) dX5_compared_191 (by decide) (fun c7 => ?_) (fun c7 => ?_)
  · replace hq := hq.1 c7
    refine x_aload_n 1 dX5_compared_218 rfl ?_
    obtain ⟨g8, hq⟩ := hq
    obtain ⟨g9, g10, hq⟩ := hq
    refine x_callV (Yc := YX6_string) (as := []) (st := []) q2694 mvX6_string g8 rfl dX5_compared_219 (xle (xal1 (rv_cat _) xal0) (by decide)) (xfr g9) (xlo xsw0 (by decide) g10) (xKi hq (fun x12 h11 hq e13 => ?_) (fun _ _ q _ => q))
    replace hq := hq e13
    refine x_if_le (tgt := 258) dX5_compared_222 (by decide) (fun c14 => ?_) (fun c14 => ?_)
    · replace hq := hq.1 c14
      exact uX5_compared_258 hq
    · replace hq := hq.2 c14
      refine x_aload_n 1 dX5_compared_225 rfl ?_
      have t15 : tg h11 x2 = 7 := e13.tg g8 (by decide)
      obtain ⟨g16, g17, hq⟩ := hq
      refine x_callV (Yc := YX6_string) (as := []) (st := []) q2694 mvX6_string t15 rfl dX5_compared_226 (xle (xal1 (rv_cat _) xal0) (by decide)) (xfr g16) (xlo xsw0 (by decide) g17) (xKi hq (fun x19 h18 hq e20 => ?_) (fun _ _ q _ => q))
      replace hq := hq e20
      refine x_aload_n 2 dX5_compared_229 rfl ?_
      obtain ⟨g21, hq⟩ := hq
      obtain ⟨g22, g23, hq⟩ := hq
      refine x_callV (Yc := YX6_string) (as := []) (st := [.int x19]) q2694 mvX6_string g21 rfl dX5_compared_230 (xle (xal1 (rv_cat _) xal0) (by decide)) (xfr g22) (xlo (xsw1 rfl xsw0) (by decide) g23) (xKi hq (fun x25 h24 hq e26 => ?_) (fun _ _ q _ => q))
      replace hq := hq e26
      refine x_icmp_ne (tgt := 258) dX5_compared_233 (by decide) (fun c27 => ?_) (fun c27 => ?_)
      · replace hq := hq.1 c27
        exact uX5_compared_258 hq
      · replace hq := hq.2 c27
        refine x_aload_n 0 dX5_compared_236 rfl ?_
        have t28 : tg h4 x0 = 6 := e6.tg g1 (by decide)
        have t29 : tg h11 x0 = 6 := e13.tg t28 (by decide)
        have t30 : tg h18 x0 = 6 := e20.tg t29 (by decide)
        have t31 : tg h24 x0 = 6 := e26.tg t30 (by decide)
        refine x_get (v := rv (fR h24 x0 1281)) fdX5_62 dX5_compared_237 t31 rfl ?_
        refine x_bipush (v := 40) dX5_compared_240 (by decide) ?_
        refine x_iload 4 dX5_compared_242 rfl ?_
        refine x_aload_n 1 dX5_compared_244 rfl ?_
        have t32 : tg h18 x2 = 7 := e20.tg t15 (by decide)
        have t33 : tg h24 x2 = 7 := e26.tg t32 (by decide)
        obtain ⟨g34, g35, hq⟩ := hq
        refine x_callV (Yc := YX6_string) (as := []) (st := [.int x5, .int 40, rv (fR h24 x0 1281)]) q2694 mvX6_string t33 rfl dX5_compared_245 (xle (xal1 (rv_cat _) xal0) (by decide)) (xfr g34) (xlo (xsw1 rfl (xsw1 rfl (xsw1 (rv_cat _) xsw0))) (by decide) g35) (xKi hq (fun x37 h36 hq e38 => ?_) (fun _ _ q _ => q))
        replace hq := hq e38
        refine x_iconst (v := 0) dX5_compared_248 (by decide) ?_
        refine x_iload 3 dX5_compared_249 rfl ?_
        obtain ⟨g39, hq⟩ := hq
        obtain ⟨g40, g41, hq⟩ := hq
        refine x_callV (Yc := YX2_put) (as := [.int 40, .int x5, .int x37, .int 0, .int x4]) (st := []) q2494 mvX2_put g39 rfl dX5_compared_251 (xle (xal1 (rv_cat _) (xal1 rfl (xal1 rfl (xal1 rfl (xal1 rfl (xal1 rfl xal0)))))) (by decide)) (xfr g40) (xlo xsw0 (by decide) g41) (xKi hq (fun x43 h42 hq e44 => ?_) (fun _ _ q _ => q))
        replace hq := hq e44
        refine x_pop dX5_compared_254 rfl ?_
        refine x_goto (tgt := 357) dX5_compared_255 (by decide) ?_
        refine xP.pick (lv' := [(0, rv x0)]) [0] rfl ?_
        exact uX5_compared_357 hq
  · replace hq := hq.2 c7
    refine x_aload_n 0 dX5_compared_194 rfl ?_
    refine x_aload_n 1 dX5_compared_195 rfl ?_
    refine x_aload_n 2 dX5_compared_196 rfl ?_
    have t45 : tg h4 x0 = 6 := e6.tg g1 (by decide)
    obtain ⟨g46, g47, hq⟩ := hq
    refine x_callV (Yc := YX5_floats) (as := [rv x2, rv x3]) (st := []) q2674 mvX5_floats t45 rfl dX5_compared_197 (xle (xal1 (rv_cat _) (xal1 (rv_cat _) (xal1 (rv_cat _) xal0))) (by decide)) (xfr g46) (xlo xsw0 (by decide) g47) (xKv hq (fun h48 hq e50 => ?_) (fun _ _ q _ => q))
    replace hq := hq e50
    refine x_aload_n 0 dX5_compared_200 rfl ?_
    have t51 : tg h48 x0 = 6 := e50.tg t45 (by decide)
    refine x_get (v := rv (fR h48 x0 1281)) fdX5_62 dX5_compared_201 t51 rfl ?_
    refine x_bipush (v := 37) dX5_compared_204 (by decide) ?_
    refine x_iload 4 dX5_compared_206 rfl ?_
    refine x_iconst (v := 0) dX5_compared_208 (by decide) ?_
    refine x_iconst (v := 0) dX5_compared_209 (by decide) ?_
    refine x_iconst (v := 0) dX5_compared_210 (by decide) ?_
    obtain ⟨g52, hq⟩ := hq
    obtain ⟨g53, g54, hq⟩ := hq
    refine x_callV (Yc := YX2_put) (as := [.int 37, .int x5, .int 0, .int 0, .int 0]) (st := []) q2494 mvX2_put g52 rfl dX5_compared_211 (xle (xal1 (rv_cat _) (xal1 rfl (xal1 rfl (xal1 rfl (xal1 rfl (xal1 rfl xal0)))))) (by decide)) (xfr g53) (xlo xsw0 (by decide) g54) (xKi hq (fun x56 h55 hq e57 => ?_) (fun _ _ q _ => q))
    replace hq := hq e57
    refine x_pop dX5_compared_214 rfl ?_
    refine x_goto (tgt := 357) dX5_compared_215 (by decide) ?_
    refine xP.pick (lv' := [(0, rv x0)]) [0] rfl ?_
    exact uX5_compared_357 hq
set_option maxRecDepth 100000 in
def bX5_compared_153 (G : xG) (fr lo : Nat) (x0 : Nat) (x2 : Nat) (x3 : Nat) (x4 : Int32) (x5 : Int32) (x6 : Int32) (s0 : Int32) (h : xH) (Q : Outcome → xH → Prop) : Prop := tg h x2 = 7 ∧ 1 ≤ fr ∧ 12 ≤ lo ∧ xRi G YX6_isOrdinal (fr - 1) (lo - 12) [rv x2] h (fun x5 h4 => xext h h4 → ((x5 = 0 → bX5_compared_185 G fr lo x0 x2 x3 x4 x5 x6 s0 h4 Q) ∧ (¬ x5 = 0 → ((¬ x2 = x3 → bX5_compared_185 G fr lo x0 x2 x3 x4 x5 x6 s0 h4 Q) ∧ (x2 = x3 → tg h4 x0 = 6 ∧ tg h4 (fR h4 x0 1281) = 3 ∧ 1 ≤ fr ∧ 17 ≤ lo ∧ xRi G YX2_put (fr - 1) (lo - 17) [rv (fR h4 x0 1281), .int 36, .int x5, .int 0, .int 0, .int 0] h4 (fun x14 h13 => xext h4 h13 → bX5_compared_357 G fr lo x0 h13 Q) (fun r h2 => Q (.threw r) h2)))))) (fun r h2 => Q (.threw r) h2)
set_option maxRecDepth 100000 in
theorem uX5_compared_153 {G : xG} {fr lo : Nat} {x0 : Nat} {x2 : Nat} {x3 : Nat} {x4 : Int32} {x5 : Int32} {x6 : Int32} {s0 : Int32} {h : xH} {Q : Outcome → xH → Prop} (hq : bX5_compared_153 G fr lo x0 x2 x3 x4 x5 x6 s0 h Q) : xP G YX5_compared fr lo 153 [(0, rv x0), (2, rv x2), (3, rv x3), (4, .int x4), (5, .int x5), (6, .int x6)] [.int s0] h Q := by
  unfold bX5_compared_153 at hq
  refine x_istore (lv' := [(7, .int s0), (0, rv x0), (2, rv x2), (3, rv x3), (4, .int x4), (5, .int x5), (6, .int x6)]) dX5_compared_153 (by decide) rfl ?_
  refine x_aload_n 2 dX5_compared_155 rfl ?_
  obtain ⟨g1, hq⟩ := hq
  obtain ⟨g2, g3, hq⟩ := hq
  refine x_callV (Yc := YX6_isOrdinal) (as := []) (st := []) q2288 mvX6_isOrdinal g1 rfl dX5_compared_156 (xle (xal1 (rv_cat _) xal0) (by decide)) (xfr g2) (xlo xsw0 (by decide) g3) (xKi hq (fun x5 h4 hq e6 => ?_) (fun _ _ q _ => q))
  replace hq := hq e6
  refine x_if_eq (tgt := 185) dX5_compared_159 (by decide) (fun c7 => ?_) (fun c7 => ?_)
  · replace hq := hq.1 c7
    refine xP.pick (lv' := [(0, rv x0), (2, rv x2), (3, rv x3), (4, .int x4), (5, .int x5), (6, .int x6), (7, .int s0)]) [1, 2, 3, 4, 5, 6, 0] rfl ?_
    exact uX5_compared_185 hq
  · replace hq := hq.2 c7
    refine x_aload_n 2 dX5_compared_162 rfl ?_
    refine x_aload_n 3 dX5_compared_163 rfl ?_
    refine x_acmp_ne (tgt := 185) dX5_compared_164 (by decide) (fun c8 => ?_) (fun c8 => ?_)
    · replace hq := hq.1 c8
      refine xP.pick (lv' := [(0, rv x0), (2, rv x2), (3, rv x3), (4, .int x4), (5, .int x5), (6, .int x6), (7, .int s0)]) [1, 2, 3, 4, 5, 6, 0] rfl ?_
      exact uX5_compared_185 hq
    · replace hq := hq.2 c8
      refine x_aload_n 1 dX5_compared_167 rfl ?_
      obtain ⟨g9, hq⟩ := hq
      refine x_get (v := rv (fR h4 x0 1281)) fdX5_62 dX5_compared_168 g9 rfl ?_
      refine x_bipush (v := 36) dX5_compared_171 (by decide) ?_
      refine x_iload 5 dX5_compared_173 rfl ?_
      refine x_iconst (v := 0) dX5_compared_175 (by decide) ?_
      refine x_iconst (v := 0) dX5_compared_176 (by decide) ?_
      refine x_iconst (v := 0) dX5_compared_177 (by decide) ?_
      obtain ⟨g10, hq⟩ := hq
      obtain ⟨g11, g12, hq⟩ := hq
      refine x_callV (Yc := YX2_put) (as := [.int 36, .int x5, .int 0, .int 0, .int 0]) (st := []) q2494 mvX2_put g10 rfl dX5_compared_178 (xle (xal1 (rv_cat _) (xal1 rfl (xal1 rfl (xal1 rfl (xal1 rfl (xal1 rfl xal0)))))) (by decide)) (xfr g11) (xlo xsw0 (by decide) g12) (xKi hq (fun x14 h13 hq e15 => ?_) (fun _ _ q _ => q))
      replace hq := hq e15
      refine x_pop dX5_compared_181 rfl ?_
      refine x_goto (tgt := 357) dX5_compared_182 (by decide) ?_
      refine xP.pick (lv' := [(0, rv x0)]) [1] rfl ?_
      exact uX5_compared_357 hq
set_option maxRecDepth 100000 in
def bX5_compared_152 (G : xG) (fr lo : Nat) (x0 : Nat) (x2 : Nat) (x3 : Nat) (x4 : Int32) (x5 : Int32) (x6 : Int32) (h : xH) (Q : Outcome → xH → Prop) : Prop := bX5_compared_153 G fr lo x0 x2 x3 x4 x5 x6 0 h Q
set_option maxRecDepth 100000 in
theorem uX5_compared_152 {G : xG} {fr lo : Nat} {x0 : Nat} {x2 : Nat} {x3 : Nat} {x4 : Int32} {x5 : Int32} {x6 : Int32} {h : xH} {Q : Outcome → xH → Prop} (hq : bX5_compared_152 G fr lo x0 x2 x3 x4 x5 x6 h Q) : xP G YX5_compared fr lo 152 [(0, rv x0), (2, rv x2), (3, rv x3), (4, .int x4), (5, .int x5), (6, .int x6)] [] h Q := by
  unfold bX5_compared_152 at hq
  refine x_iconst (v := 0) dX5_compared_152 (by decide) ?_
  exact uX5_compared_153 hq
set_option maxRecDepth 100000 in
def bX5_compared_134 (G : xG) (fr lo : Nat) (x0 : Nat) (x2 : Nat) (x3 : Nat) (x4 : Int32) (x5 : Int32) (s0 : Int32) (h : xH) (Q : Outcome → xH → Prop) : Prop := ((4 ≤ x5 → bX5_compared_152 G fr lo x0 x2 x3 x4 x5 s0 h Q) ∧ (¬ 4 ≤ x5 → ((x5 ≤ 1 → bX5_compared_152 G fr lo x0 x2 x3 x4 x5 s0 h Q) ∧ (¬ x5 ≤ 1 → bX5_compared_153 G fr lo x0 x2 x3 x4 x5 s0 1 h Q))))
set_option maxRecDepth 100000 in
theorem uX5_compared_134 {G : xG} {fr lo : Nat} {x0 : Nat} {x2 : Nat} {x3 : Nat} {x4 : Int32} {x5 : Int32} {s0 : Int32} {h : xH} {Q : Outcome → xH → Prop} (hq : bX5_compared_134 G fr lo x0 x2 x3 x4 x5 s0 h Q) : xP G YX5_compared fr lo 134 [(0, rv x0), (2, rv x2), (3, rv x3), (4, .int x4), (5, .int x5)] [.int s0] h Q := by
  unfold bX5_compared_134 at hq
  refine x_istore (lv' := [(6, .int s0), (0, rv x0), (2, rv x2), (3, rv x3), (4, .int x4), (5, .int x5)]) dX5_compared_134 (by decide) rfl ?_
  refine x_iload 5 dX5_compared_136 rfl ?_
  refine x_iconst (v := 4) dX5_compared_138 (by decide) ?_
  refine x_icmp_ge (tgt := 152) dX5_compared_139 (by decide) (fun c1 => ?_) (fun c1 => ?_)
  · replace hq := hq.1 c1
    refine xP.pick (lv' := [(0, rv x0), (2, rv x2), (3, rv x3), (4, .int x4), (5, .int x5), (6, .int s0)]) [1, 2, 3, 4, 5, 0] rfl ?_
    exact uX5_compared_152 hq
  · replace hq := hq.2 c1
    refine x_iload 5 dX5_compared_142 rfl ?_
    refine x_iconst (v := 1) dX5_compared_144 (by decide) ?_
    refine x_icmp_le (tgt := 152) dX5_compared_145 (by decide) (fun c2 => ?_) (fun c2 => ?_)
    · replace hq := hq.1 c2
      refine xP.pick (lv' := [(0, rv x0), (2, rv x2), (3, rv x3), (4, .int x4), (5, .int x5), (6, .int s0)]) [1, 2, 3, 4, 5, 0] rfl ?_
      exact uX5_compared_152 hq
    · replace hq := hq.2 c2
      refine x_iconst (v := 1) dX5_compared_148 (by decide) ?_
      refine x_goto (tgt := 153) dX5_compared_149 (by decide) ?_
      refine xP.pick (lv' := [(0, rv x0), (2, rv x2), (3, rv x3), (4, .int x4), (5, .int x5), (6, .int s0)]) [1, 2, 3, 4, 5, 0] rfl ?_
      exact uX5_compared_153 hq
set_option maxRecDepth 100000 in
def bX5_compared_79 (G : xG) (fr lo : Nat) (x0 : Nat) (x4 : Int32) (s0 : Int32) (h : xH) (Q : Outcome → xH → Prop) : Prop := ((¬ s0 = 0 → tg h x0 = 6 ∧ tg h (fR h x0 1281) = 3 ∧ 1 ≤ fr ∧ 17 ≤ lo ∧ xRi G YX2_put (fr - 1) (lo - 17) [rv (fR h x0 1281), .int 41, .int 0, .int 0, .int 0, .int 0] h (fun x7 h6 => xext h h6 → Q (.returned (some (rv (fR h6 x0 1284)))) h6) (fun r h2 => Q (.threw r) h2)) ∧ (s0 = 0 → tg h x0 = 6 ∧ 1 ≤ fr ∧ 14 ≤ lo ∧ xRr G YX5_fault (fr - 1) (lo - 14) [rv x0, .int 7, .int x4] h (fun x14 h13 => xext h h13 → (∃ r16, x14 = r16 + 1 ∧ Q (.threw r16) h13)) (fun r h2 => Q (.threw r) h2)))
set_option maxRecDepth 100000 in
theorem uX5_compared_79 {G : xG} {fr lo : Nat} {x0 : Nat} {x4 : Int32} {s0 : Int32} {h : xH} {Q : Outcome → xH → Prop} (hq : bX5_compared_79 G fr lo x0 x4 s0 h Q) : xP G YX5_compared fr lo 79 [(0, rv x0), (4, .int x4)] [.int s0] h Q := by
  unfold bX5_compared_79 at hq
  refine x_istore (lv' := [(5, .int s0), (0, rv x0), (4, .int x4)]) dX5_compared_79 (by decide) rfl ?_
  refine x_iload 0 dX5_compared_81 rfl ?_
  refine x_if_ne (tgt := 95) dX5_compared_83 (by decide) (fun c1 => ?_) (fun c1 => ?_)
  · replace hq := hq.1 c1
    refine x_aload_n 1 dX5_compared_95 rfl ?_
    obtain ⟨g2, hq⟩ := hq
    refine x_get (v := rv (fR h x0 1281)) fdX5_62 dX5_compared_96 g2 rfl ?_
    refine x_bipush (v := 41) dX5_compared_99 (by decide) ?_
    refine x_iconst (v := 0) dX5_compared_101 (by decide) ?_
    refine x_iconst (v := 0) dX5_compared_102 (by decide) ?_
    refine x_iconst (v := 0) dX5_compared_103 (by decide) ?_
    refine x_iconst (v := 0) dX5_compared_104 (by decide) ?_
    obtain ⟨g3, hq⟩ := hq
    obtain ⟨g4, g5, hq⟩ := hq
    refine x_callV (Yc := YX2_put) (as := [.int 41, .int 0, .int 0, .int 0, .int 0]) (st := []) q2494 mvX2_put g3 rfl dX5_compared_105 (xle (xal1 (rv_cat _) (xal1 rfl (xal1 rfl (xal1 rfl (xal1 rfl (xal1 rfl xal0)))))) (by decide)) (xfr g4) (xlo xsw0 (by decide) g5) (xKi hq (fun x7 h6 hq e8 => ?_) (fun _ _ q _ => q))
    replace hq := hq e8
    refine x_pop dX5_compared_108 rfl ?_
    refine x_aload_n 1 dX5_compared_109 rfl ?_
    have t9 : tg h6 x0 = 6 := e8.tg g2 (by decide)
    refine x_get (v := rv (fR h6 x0 1284)) fdX5_29 dX5_compared_110 t9 rfl ?_
    exact x_aret rfl xty_O dX5_compared_113 hq
  · replace hq := hq.2 c1
    refine x_aload_n 1 dX5_compared_86 rfl ?_
    refine x_bipush (v := 7) dX5_compared_87 (by decide) ?_
    refine x_iload 2 dX5_compared_89 rfl ?_
    obtain ⟨g10, hq⟩ := hq
    obtain ⟨g11, g12, hq⟩ := hq
    refine x_callV (Yc := YX5_fault) (as := [.int 7, .int x4]) (st := []) q2087 mvX5_fault g10 rfl dX5_compared_91 (xle (xal1 (rv_cat _) (xal1 rfl (xal1 rfl xal0))) (by decide)) (xfr g11) (xlo xsw0 (by decide) g12) (xKr hq (fun x14 h13 hq e15 => ?_) (fun _ _ q _ => q))
    replace hq := hq e15
    obtain ⟨r16, g17, hq⟩ := hq
    rw [g17]
    exact x_athrow dX5_compared_94 hq
set_option maxRecDepth 100000 in
def bX5_compared_78 (G : xG) (fr lo : Nat) (x0 : Nat) (x4 : Int32) (h : xH) (Q : Outcome → xH → Prop) : Prop := bX5_compared_79 G fr lo x0 x4 0 h Q
set_option maxRecDepth 100000 in
theorem uX5_compared_78 {G : xG} {fr lo : Nat} {x0 : Nat} {x4 : Int32} {h : xH} {Q : Outcome → xH → Prop} (hq : bX5_compared_78 G fr lo x0 x4 h Q) : xP G YX5_compared fr lo 78 [(0, rv x0), (4, .int x4)] [] h Q := by
  unfold bX5_compared_78 at hq
  refine x_iconst (v := 0) dX5_compared_78 (by decide) ?_
  exact uX5_compared_79 hq
set_option maxRecDepth 100000 in
def bX5_compared_74 (G : xG) (fr lo : Nat) (x0 : Nat) (x4 : Int32) (h : xH) (Q : Outcome → xH → Prop) : Prop := bX5_compared_79 G fr lo x0 x4 1 h Q
set_option maxRecDepth 100000 in
theorem uX5_compared_74 {G : xG} {fr lo : Nat} {x0 : Nat} {x4 : Int32} {h : xH} {Q : Outcome → xH → Prop} (hq : bX5_compared_74 G fr lo x0 x4 h Q) : xP G YX5_compared fr lo 74 [(0, rv x0), (4, .int x4)] [] h Q := by
  unfold bX5_compared_74 at hq
  refine x_iconst (v := 1) dX5_compared_74 (by decide) ?_
  refine x_goto (tgt := 79) dX5_compared_75 (by decide) ?_
  exact uX5_compared_79 hq
set_option maxRecDepth 100000 in
def bX5_compared (G : xG) (fr lo : Nat) (x0 : Nat) (x1 : Nat) (h : xH) (Q : Outcome → xH → Prop) : Prop := tg h x1 = 16 ∧ tg h x0 = 6 ∧ 1 ≤ fr ∧ 13 ≤ lo ∧ xRr G YX5_expression (fr - 1) (lo - 13) [rv x0, rv (fR h x1 3842)] h (fun x6 h5 => xext h h5 → 1 ≤ fr ∧ 16 ≤ lo ∧ xRr G YX15_kid (fr - 1) (lo - 16) [rv x1, .int 1] h5 (fun x12 h11 => xext h5 h11 → 1 ≤ fr ∧ 13 ≤ lo ∧ xRr G YX5_expression (fr - 1) (lo - 13) [rv x0, rv x12] h11 (fun x19 h18 => xext h11 h18 → 1 ≤ fr ∧ 12 ≤ lo ∧ xRi G YX15_place (fr - 1) (lo - 12) [rv x1] h18 (fun x26 h25 => xext h18 h25 → 1 ≤ fr ∧ 12 ≤ lo ∧ xRr G YX15_text (fr - 1) (lo - 12) [rv x1] h25 (fun x32 h31 => xext h25 h31 → tg h31 x32 = 31 ∧ 1 ≤ fr ∧ 14 ≤ lo ∧ xRi G YJ5_equals (fr - 1) (lo - 14) [rv x32, rv (tx G 15)] h31 (fun x38 h37 => xext h31 h37 → ((x38 = 0 → 1 ≤ fr ∧ 12 ≤ lo ∧ xRr G YX15_text (fr - 1) (lo - 12) [rv x1] h37 (fun x46 h45 => xext h37 h45 → 1 ≤ fr ∧ 12 ≤ lo ∧ xRi G YX5_relation (fr - 1) (lo - 12) [rv x46] h45 (fun x51 h50 => xext h45 h50 → ((2 ≤ x51 → bX5_compared_134 G fr lo x0 x6 x19 x26 x51 0 h50 Q) ∧ (¬ 2 ≤ x51 → bX5_compared_134 G fr lo x0 x6 x19 x26 x51 1 h50 Q))) (fun r h2 => Q (.threw r) h2)) (fun r h2 => Q (.threw r) h2)) ∧ (¬ x38 = 0 → tg h37 x6 = 7 ∧ 1 ≤ fr ∧ 12 ≤ lo ∧ xRi G YX6_isOrdinal (fr - 1) (lo - 12) [rv x6] h37 (fun x58 h57 => xext h37 h57 → ((x58 = 0 → bX5_compared_78 G fr lo x0 x26 h57 Q) ∧ (¬ x58 = 0 → tg h57 x19 = 7 ∧ (((fI h57 x19 1536) = 12 → bX5_compared_74 G fr lo x0 x26 h57 Q) ∧ (¬ (fI h57 x19 1536) = 12 → ((¬ (fI h57 x19 1536) = 8 → bX5_compared_78 G fr lo x0 x26 h57 Q) ∧ ((fI h57 x19 1536) = 8 → tg h57 (fR h57 x19 1538) = 7 ∧ 1 ≤ fr ∧ 12 ≤ lo ∧ xRr G YX6_own (fr - 1) (lo - 12) [rv (fR h57 x19 1538)] h57 (fun x68 h67 => xext h57 h67 → ((¬ x68 = x6 → bX5_compared_78 G fr lo x0 x26 h67 Q) ∧ (x68 = x6 → bX5_compared_74 G fr lo x0 x26 h67 Q))) (fun r h2 => Q (.threw r) h2)))))))) (fun r h2 => Q (.threw r) h2)))) (fun r h2 => Q (.threw r) h2)) (fun r h2 => Q (.threw r) h2)) (fun r h2 => Q (.threw r) h2)) (fun r h2 => Q (.threw r) h2)) (fun r h2 => Q (.threw r) h2)) (fun r h2 => Q (.threw r) h2)
set_option maxRecDepth 100000 in
theorem uX5_compared {G : xG} {fr lo : Nat} {x0 : Nat} {x1 : Nat} {h : xH} {Q : Outcome → xH → Prop} (hq : bX5_compared G fr lo x0 x1 h Q) : xP G YX5_compared fr lo 0 [(0, rv x0), (1, rv x1)] [] h Q := by
  unfold bX5_compared at hq
  refine x_aload_n 0 dX5_compared_0 rfl ?_
  refine x_aload_n 1 dX5_compared_1 rfl ?_
  obtain ⟨g1, hq⟩ := hq
  refine x_getN (v := rv (fR h x1 3842)) gfX5_251 dX5_compared_2 g1 rfl ?_
  obtain ⟨g2, hq⟩ := hq
  obtain ⟨g3, g4, hq⟩ := hq
  refine x_callV (Yc := YX5_expression) (as := [rv (fR h x1 3842)]) (st := []) q2522 mvX5_expression g2 rfl dX5_compared_5 (xle (xal1 (rv_cat _) (xal1 (rv_cat _) xal0)) (by decide)) (xfr g3) (xlo xsw0 (by decide) g4) (xKr hq (fun x6 h5 hq e7 => ?_) (fun _ _ q _ => q))
  replace hq := hq e7
  refine x_astore_n (lv' := [(2, rv x6), (0, rv x0), (1, rv x1)]) dX5_compared_8 (by decide) (by first | rfl | (simp [rv_cat, Value.category]; done) | (simp [rv_cat, Value.category]; decide)) ?_
  refine x_aload_n 1 dX5_compared_9 rfl ?_
  refine x_aload_n 2 dX5_compared_10 rfl ?_
  refine x_iconst (v := 1) dX5_compared_11 (by decide) ?_
  have t8 : tg h5 x1 = 16 := e7.tg g1 (by decide)
  obtain ⟨g9, g10, hq⟩ := hq
  refine x_callV (Yc := YX15_kid) (as := [.int 1]) (st := [rv x0]) q2129 mvX15_kid t8 rfl dX5_compared_12 (xle (xal1 (rv_cat _) (xal1 rfl xal0)) (by decide)) (xfr g9) (xlo (xsw1 (rv_cat _) xsw0) (by decide) g10) (xKr hq (fun x12 h11 hq e13 => ?_) (fun _ _ q _ => q))
  replace hq := hq e13
  have t14 : tg h5 x0 = 6 := e7.tg g2 (by decide)
  have t15 : tg h11 x0 = 6 := e13.tg t14 (by decide)
  obtain ⟨g16, g17, hq⟩ := hq
  refine x_callV (Yc := YX5_expression) (as := [rv x12]) (st := []) q2522 mvX5_expression t15 rfl dX5_compared_15 (xle (xal1 (rv_cat _) (xal1 (rv_cat _) xal0)) (by decide)) (xfr g16) (xlo xsw0 (by decide) g17) (xKr hq (fun x19 h18 hq e20 => ?_) (fun _ _ q _ => q))
  replace hq := hq e20
  refine x_astore_n (lv' := [(3, rv x19), (2, rv x6), (0, rv x0), (1, rv x1)]) dX5_compared_18 (by decide) (by first | rfl | (simp [rv_cat, Value.category]; done) | (simp [rv_cat, Value.category]; decide)) ?_
  refine x_aload_n 3 dX5_compared_19 rfl ?_
  have t21 : tg h11 x1 = 16 := e13.tg t8 (by decide)
  have t22 : tg h18 x1 = 16 := e20.tg t21 (by decide)
  obtain ⟨g23, g24, hq⟩ := hq
  refine x_callV (Yc := YX15_place) (as := []) (st := []) q2013 mvX15_place t22 rfl dX5_compared_20 (xle (xal1 (rv_cat _) xal0) (by decide)) (xfr g23) (xlo xsw0 (by decide) g24) (xKi hq (fun x26 h25 hq e27 => ?_) (fun _ _ q _ => q))
  replace hq := hq e27
  refine x_istore (lv' := [(4, .int x26), (3, rv x19), (2, rv x6), (0, rv x0), (1, rv x1)]) dX5_compared_23 (by decide) (by first | rfl | (simp [rv_cat, Value.category]; done) | (simp [rv_cat, Value.category]; decide)) ?_
  refine x_aload_n 4 dX5_compared_25 rfl ?_
  have t28 : tg h25 x1 = 16 := e27.tg t22 (by decide)
  obtain ⟨g29, g30, hq⟩ := hq
  refine x_callV (Yc := YX15_text) (as := []) (st := []) q2009 mvX15_text t28 rfl dX5_compared_26 (xle (xal1 (rv_cat _) xal0) (by decide)) (xfr g29) (xlo xsw0 (by decide) g30) (xKr hq (fun x32 h31 hq e33 => ?_) (fun _ _ q _ => q))
  replace hq := hq e33
  refine x_ldcwS (n := 15) 133 srX5_872 dX5_compared_29 ?_
  obtain ⟨g34, hq⟩ := hq
  obtain ⟨g35, g36, hq⟩ := hq
  refine x_callV (Yc := YJ5_equals) (as := [rv (tx G 15)]) (st := []) q2086 mvJ5_equals g34 rfl dX5_compared_32 (xle (xal1 (rv_cat _) (xal1 (rv_cat _) xal0)) (by decide)) (xfr g35) (xlo xsw0 (by decide) g36) (xKi hq (fun x38 h37 hq e39 => ?_) (fun _ _ q _ => q))
  replace hq := hq e39
  refine x_if_eq (tgt := 114) dX5_compared_35 (by decide) (fun c40 => ?_) (fun c40 => ?_)
  · replace hq := hq.1 c40
    refine x_aload_n 4 dX5_compared_114 rfl ?_
    have t41 : tg h31 x1 = 16 := e33.tg t28 (by decide)
    have t42 : tg h37 x1 = 16 := e39.tg t41 (by decide)
    obtain ⟨g43, g44, hq⟩ := hq
    refine x_callV (Yc := YX15_text) (as := []) (st := []) q2009 mvX15_text t42 rfl dX5_compared_115 (xle (xal1 (rv_cat _) xal0) (by decide)) (xfr g43) (xlo xsw0 (by decide) g44) (xKr hq (fun x46 h45 hq e47 => ?_) (fun _ _ q _ => q))
    replace hq := hq e47
    obtain ⟨g48, g49, hq⟩ := hq
    refine x_callS (Yc := YX5_relation) (as := [rv x46]) (st := []) q2686 msX5_relation rfl dX5_compared_118 (xle (xal1 (rv_cat _) xal0) (by decide)) (xfr g48) (xlo xsw0 (by decide) g49) (xKi hq (fun x51 h50 hq e52 => ?_) (fun _ _ q _ => q))
    replace hq := hq e52
    refine x_istore (lv' := [(5, .int x51), (4, .int x26), (3, rv x19), (2, rv x6), (0, rv x0), (1, rv x1)]) dX5_compared_121 (by decide) rfl ?_
    refine x_iload 0 dX5_compared_123 rfl ?_
    refine x_iconst (v := 2) dX5_compared_125 (by decide) ?_
    refine x_icmp_ge (tgt := 133) dX5_compared_126 (by decide) (fun c53 => ?_) (fun c53 => ?_)
    · replace hq := hq.1 c53
      refine x_iconst (v := 0) dX5_compared_133 (by decide) ?_
      refine xP.pick (lv' := [(0, rv x0), (2, rv x6), (3, rv x19), (4, .int x26), (5, .int x51)]) [4, 3, 2, 1, 0] rfl ?_
      exact uX5_compared_134 hq
    · replace hq := hq.2 c53
      refine x_iconst (v := 1) dX5_compared_129 (by decide) ?_
      refine x_goto (tgt := 134) dX5_compared_130 (by decide) ?_
      refine xP.pick (lv' := [(0, rv x0), (2, rv x6), (3, rv x19), (4, .int x26), (5, .int x51)]) [4, 3, 2, 1, 0] rfl ?_
      exact uX5_compared_134 hq
  · replace hq := hq.2 c40
    refine x_aload_n 2 dX5_compared_38 rfl ?_
    obtain ⟨g54, hq⟩ := hq
    obtain ⟨g55, g56, hq⟩ := hq
    refine x_callV (Yc := YX6_isOrdinal) (as := []) (st := []) q2288 mvX6_isOrdinal g54 rfl dX5_compared_39 (xle (xal1 (rv_cat _) xal0) (by decide)) (xfr g55) (xlo xsw0 (by decide) g56) (xKi hq (fun x58 h57 hq e59 => ?_) (fun _ _ q _ => q))
    replace hq := hq e59
    refine x_if_eq (tgt := 78) dX5_compared_42 (by decide) (fun c60 => ?_) (fun c60 => ?_)
    · replace hq := hq.1 c60
      refine xP.pick (lv' := [(0, rv x0), (4, .int x26)]) [3, 0] rfl ?_
      exact uX5_compared_78 hq
    · replace hq := hq.2 c60
      refine x_aload_n 1 dX5_compared_45 rfl ?_
      obtain ⟨g61, hq⟩ := hq
      refine x_getN (v := .int (fI h57 x19 1536)) gfX5_289 dX5_compared_46 g61 rfl ?_
      refine x_bipush (v := 12) dX5_compared_49 (by decide) ?_
      refine x_icmp_eq (tgt := 74) dX5_compared_51 (by decide) (fun c62 => ?_) (fun c62 => ?_)
      · replace hq := hq.1 c62
        refine xP.pick (lv' := [(0, rv x0), (4, .int x26)]) [3, 0] rfl ?_
        exact uX5_compared_74 hq
      · replace hq := hq.2 c62
        refine x_aload_n 1 dX5_compared_54 rfl ?_
        refine x_getN (v := .int (fI h57 x19 1536)) gfX5_289 dX5_compared_55 g61 rfl ?_
        refine x_bipush (v := 8) dX5_compared_58 (by decide) ?_
        refine x_icmp_ne (tgt := 78) dX5_compared_60 (by decide) (fun c63 => ?_) (fun c63 => ?_)
        · replace hq := hq.1 c63
          refine xP.pick (lv' := [(0, rv x0), (4, .int x26)]) [3, 0] rfl ?_
          exact uX5_compared_78 hq
        · replace hq := hq.2 c63
          refine x_aload_n 1 dX5_compared_63 rfl ?_
          refine x_getN (v := rv (fR h57 x19 1538)) gfX5_286 dX5_compared_64 g61 rfl ?_
          obtain ⟨g64, hq⟩ := hq
          obtain ⟨g65, g66, hq⟩ := hq
          refine x_callV (Yc := YX6_own) (as := []) (st := []) q2400 mvX6_own g64 rfl dX5_compared_67 (xle (xal1 (rv_cat _) xal0) (by decide)) (xfr g65) (xlo xsw0 (by decide) g66) (xKr hq (fun x68 h67 hq e69 => ?_) (fun _ _ q _ => q))
          replace hq := hq e69
          refine x_aload_n 2 dX5_compared_70 rfl ?_
          refine x_acmp_ne (tgt := 78) dX5_compared_71 (by decide) (fun c70 => ?_) (fun c70 => ?_)
          · replace hq := hq.1 c70
            refine xP.pick (lv' := [(0, rv x0), (4, .int x26)]) [3, 0] rfl ?_
            exact uX5_compared_78 hq
          · replace hq := hq.2 c70
            refine xP.pick (lv' := [(0, rv x0), (4, .int x26)]) [3, 0] rfl ?_
            exact uX5_compared_74 hq
theorem rX5_compared {G : xG} {fr lo : Nat} {x0 : Nat} {x1 : Nat} {h : xH} {Q : Outcome → xH → Prop} (hq : bX5_compared G fr lo x0 x1 h Q) : xR G YX5_compared fr lo [rv x0, rv x1] h Q := by
  show xP _ _ _ _ _ (lv_args 0 _) _ _ _
  rw [show lv_args 0 [rv x0, rv x1] = [(0, rv x0), (1, rv x1)] from (xla1 (rv_cat _) (xla1 (rv_cat _) xla0))]
  exact uX5_compared hq
set_option maxRecDepth 100000 in
theorem dX5_relation_0 : decode cX5_relation 0 = .ok (.aload_n 0, 1) := by decide +kernel
set_option maxRecDepth 100000 in
theorem dX5_relation_1 : decode cX5_relation 1 = .ok (.ldc_w 862, 3) := by decide +kernel
set_option maxRecDepth 100000 in
theorem dX5_relation_4 : decode cX5_relation 4 = .ok (.invokevirtual 261, 3) := by decide +kernel
set_option maxRecDepth 100000 in
theorem dX5_relation_7 : decode cX5_relation 7 = .ok (.ifCond .eq 7, 3) := by decide +kernel
set_option maxRecDepth 100000 in
theorem dX5_relation_10 : decode cX5_relation 10 = .ok (.iconst 0, 1) := by decide +kernel
set_option maxRecDepth 100000 in
theorem dX5_relation_11 : decode cX5_relation 11 = .ok (.goto 60, 3) := by decide +kernel
set_option maxRecDepth 100000 in
theorem dX5_relation_14 : decode cX5_relation 14 = .ok (.aload_n 0, 1) := by decide +kernel
set_option maxRecDepth 100000 in
theorem dX5_relation_15 : decode cX5_relation 15 = .ok (.ldc_w 864, 3) := by decide +kernel
set_option maxRecDepth 100000 in
theorem dX5_relation_18 : decode cX5_relation 18 = .ok (.invokevirtual 261, 3) := by decide +kernel
set_option maxRecDepth 100000 in
theorem dX5_relation_21 : decode cX5_relation 21 = .ok (.ifCond .eq 7, 3) := by decide +kernel
set_option maxRecDepth 100000 in
theorem dX5_relation_24 : decode cX5_relation 24 = .ok (.iconst 1, 1) := by decide +kernel
set_option maxRecDepth 100000 in
theorem dX5_relation_25 : decode cX5_relation 25 = .ok (.goto 46, 3) := by decide +kernel
set_option maxRecDepth 100000 in
theorem dX5_relation_28 : decode cX5_relation 28 = .ok (.aload_n 0, 1) := by decide +kernel
set_option maxRecDepth 100000 in
theorem dX5_relation_29 : decode cX5_relation 29 = .ok (.ldc_w 866, 3) := by decide +kernel
set_option maxRecDepth 100000 in
theorem dX5_relation_32 : decode cX5_relation 32 = .ok (.invokevirtual 261, 3) := by decide +kernel
set_option maxRecDepth 100000 in
theorem dX5_relation_35 : decode cX5_relation 35 = .ok (.ifCond .eq 7, 3) := by decide +kernel
set_option maxRecDepth 100000 in
theorem dX5_relation_38 : decode cX5_relation 38 = .ok (.iconst 2, 1) := by decide +kernel
set_option maxRecDepth 100000 in
theorem dX5_relation_39 : decode cX5_relation 39 = .ok (.goto 32, 3) := by decide +kernel
set_option maxRecDepth 100000 in
theorem dX5_relation_42 : decode cX5_relation 42 = .ok (.aload_n 0, 1) := by decide +kernel
set_option maxRecDepth 100000 in
theorem dX5_relation_43 : decode cX5_relation 43 = .ok (.ldc_w 868, 3) := by decide +kernel
set_option maxRecDepth 100000 in
theorem dX5_relation_46 : decode cX5_relation 46 = .ok (.invokevirtual 261, 3) := by decide +kernel
set_option maxRecDepth 100000 in
theorem dX5_relation_49 : decode cX5_relation 49 = .ok (.ifCond .eq 7, 3) := by decide +kernel
set_option maxRecDepth 100000 in
theorem dX5_relation_52 : decode cX5_relation 52 = .ok (.iconst 3, 1) := by decide +kernel
set_option maxRecDepth 100000 in
theorem dX5_relation_53 : decode cX5_relation 53 = .ok (.goto 18, 3) := by decide +kernel
set_option maxRecDepth 100000 in
theorem dX5_relation_56 : decode cX5_relation 56 = .ok (.aload_n 0, 1) := by decide +kernel
set_option maxRecDepth 100000 in
theorem dX5_relation_57 : decode cX5_relation 57 = .ok (.ldc_w 870, 3) := by decide +kernel
set_option maxRecDepth 100000 in
theorem dX5_relation_60 : decode cX5_relation 60 = .ok (.invokevirtual 261, 3) := by decide +kernel
set_option maxRecDepth 100000 in
theorem dX5_relation_63 : decode cX5_relation 63 = .ok (.ifCond .eq 7, 3) := by decide +kernel
set_option maxRecDepth 100000 in
theorem dX5_relation_66 : decode cX5_relation 66 = .ok (.iconst 4, 1) := by decide +kernel
set_option maxRecDepth 100000 in
theorem dX5_relation_67 : decode cX5_relation 67 = .ok (.goto 4, 3) := by decide +kernel
set_option maxRecDepth 100000 in
theorem dX5_relation_70 : decode cX5_relation 70 = .ok (.iconst 5, 1) := by decide +kernel
set_option maxRecDepth 100000 in
theorem dX5_relation_71 : decode cX5_relation 71 = .ok (.ireturn, 1) := by decide +kernel
set_option maxRecDepth 100000 in
def bX5_relation_71 (G : xG) (fr lo : Nat) (s0 : Int32) (h : xH) (Q : Outcome → xH → Prop) : Prop := Q (.returned (some (.int s0))) h
set_option maxRecDepth 100000 in
theorem uX5_relation_71 {G : xG} {fr lo : Nat} {s0 : Int32} {h : xH} {Q : Outcome → xH → Prop} (hq : bX5_relation_71 G fr lo s0 h Q) : xP G YX5_relation fr lo 71 [] [.int s0] h Q := by
  unfold bX5_relation_71 at hq
  exact x_iret rfl rfl dX5_relation_71 hq
set_option maxRecDepth 100000 in
def bX5_relation (G : xG) (fr lo : Nat) (x0 : Nat) (h : xH) (Q : Outcome → xH → Prop) : Prop := tg h x0 = 31 ∧ 1 ≤ fr ∧ 14 ≤ lo ∧ xRi G YJ5_equals (fr - 1) (lo - 14) [rv x0, rv (tx G 57)] h (fun x5 h4 => xext h h4 → ((x5 = 0 → 1 ≤ fr ∧ 14 ≤ lo ∧ xRi G YJ5_equals (fr - 1) (lo - 14) [rv x0, rv (tx G 50)] h4 (fun x12 h11 => xext h4 h11 → ((x12 = 0 → 1 ≤ fr ∧ 14 ≤ lo ∧ xRi G YJ5_equals (fr - 1) (lo - 14) [rv x0, rv (tx G 58)] h11 (fun x19 h18 => xext h11 h18 → ((x19 = 0 → 1 ≤ fr ∧ 14 ≤ lo ∧ xRi G YJ5_equals (fr - 1) (lo - 14) [rv x0, rv (tx G 59)] h18 (fun x26 h25 => xext h18 h25 → ((x26 = 0 → 1 ≤ fr ∧ 14 ≤ lo ∧ xRi G YJ5_equals (fr - 1) (lo - 14) [rv x0, rv (tx G 48)] h25 (fun x33 h32 => xext h25 h32 → ((x33 = 0 → bX5_relation_71 G fr lo 5 h32 Q) ∧ (¬ x33 = 0 → bX5_relation_71 G fr lo 4 h32 Q))) (fun r h2 => Q (.threw r) h2)) ∧ (¬ x26 = 0 → bX5_relation_71 G fr lo 3 h25 Q))) (fun r h2 => Q (.threw r) h2)) ∧ (¬ x19 = 0 → bX5_relation_71 G fr lo 2 h18 Q))) (fun r h2 => Q (.threw r) h2)) ∧ (¬ x12 = 0 → bX5_relation_71 G fr lo 1 h11 Q))) (fun r h2 => Q (.threw r) h2)) ∧ (¬ x5 = 0 → bX5_relation_71 G fr lo 0 h4 Q))) (fun r h2 => Q (.threw r) h2)
set_option maxRecDepth 100000 in
theorem uX5_relation {G : xG} {fr lo : Nat} {x0 : Nat} {h : xH} {Q : Outcome → xH → Prop} (hq : bX5_relation G fr lo x0 h Q) : xP G YX5_relation fr lo 0 [(0, rv x0)] [] h Q := by
  unfold bX5_relation at hq
  refine x_aload_n 0 dX5_relation_0 rfl ?_
  refine x_ldcwS (n := 57) 134 srX5_862 dX5_relation_1 ?_
  obtain ⟨g1, hq⟩ := hq
  obtain ⟨g2, g3, hq⟩ := hq
  refine x_callV (Yc := YJ5_equals) (as := [rv (tx G 57)]) (st := []) q2086 mvJ5_equals g1 rfl dX5_relation_4 (xle (xal1 (rv_cat _) (xal1 (rv_cat _) xal0)) (by decide)) (xfr g2) (xlo xsw0 (by decide) g3) (xKi hq (fun x5 h4 hq e6 => ?_) (fun _ _ q _ => q))
  replace hq := hq e6
  refine x_if_eq (tgt := 14) dX5_relation_7 (by decide) (fun c7 => ?_) (fun c7 => ?_)
  · replace hq := hq.1 c7
    refine x_aload_n 0 dX5_relation_14 rfl ?_
    refine x_ldcwS (n := 50) 135 srX5_864 dX5_relation_15 ?_
    have t8 : tg h4 x0 = 31 := e6.tg g1 (by decide)
    obtain ⟨g9, g10, hq⟩ := hq
    refine x_callV (Yc := YJ5_equals) (as := [rv (tx G 50)]) (st := []) q2086 mvJ5_equals t8 rfl dX5_relation_18 (xle (xal1 (rv_cat _) (xal1 (rv_cat _) xal0)) (by decide)) (xfr g9) (xlo xsw0 (by decide) g10) (xKi hq (fun x12 h11 hq e13 => ?_) (fun _ _ q _ => q))
    replace hq := hq e13
    refine x_if_eq (tgt := 28) dX5_relation_21 (by decide) (fun c14 => ?_) (fun c14 => ?_)
    · replace hq := hq.1 c14
      refine x_aload_n 0 dX5_relation_28 rfl ?_
      refine x_ldcwS (n := 58) 136 srX5_866 dX5_relation_29 ?_
      have t15 : tg h11 x0 = 31 := e13.tg t8 (by decide)
      obtain ⟨g16, g17, hq⟩ := hq
      refine x_callV (Yc := YJ5_equals) (as := [rv (tx G 58)]) (st := []) q2086 mvJ5_equals t15 rfl dX5_relation_32 (xle (xal1 (rv_cat _) (xal1 (rv_cat _) xal0)) (by decide)) (xfr g16) (xlo xsw0 (by decide) g17) (xKi hq (fun x19 h18 hq e20 => ?_) (fun _ _ q _ => q))
      replace hq := hq e20
      refine x_if_eq (tgt := 42) dX5_relation_35 (by decide) (fun c21 => ?_) (fun c21 => ?_)
      · replace hq := hq.1 c21
        refine x_aload_n 0 dX5_relation_42 rfl ?_
        refine x_ldcwS (n := 59) 137 srX5_868 dX5_relation_43 ?_
        have t22 : tg h18 x0 = 31 := e20.tg t15 (by decide)
        obtain ⟨g23, g24, hq⟩ := hq
        refine x_callV (Yc := YJ5_equals) (as := [rv (tx G 59)]) (st := []) q2086 mvJ5_equals t22 rfl dX5_relation_46 (xle (xal1 (rv_cat _) (xal1 (rv_cat _) xal0)) (by decide)) (xfr g23) (xlo xsw0 (by decide) g24) (xKi hq (fun x26 h25 hq e27 => ?_) (fun _ _ q _ => q))
        replace hq := hq e27
        refine x_if_eq (tgt := 56) dX5_relation_49 (by decide) (fun c28 => ?_) (fun c28 => ?_)
        · replace hq := hq.1 c28
          refine x_aload_n 0 dX5_relation_56 rfl ?_
          refine x_ldcwS (n := 48) 138 srX5_870 dX5_relation_57 ?_
          have t29 : tg h25 x0 = 31 := e27.tg t22 (by decide)
          obtain ⟨g30, g31, hq⟩ := hq
          refine x_callV (Yc := YJ5_equals) (as := [rv (tx G 48)]) (st := []) q2086 mvJ5_equals t29 rfl dX5_relation_60 (xle (xal1 (rv_cat _) (xal1 (rv_cat _) xal0)) (by decide)) (xfr g30) (xlo xsw0 (by decide) g31) (xKi hq (fun x33 h32 hq e34 => ?_) (fun _ _ q _ => q))
          replace hq := hq e34
          refine x_if_eq (tgt := 70) dX5_relation_63 (by decide) (fun c35 => ?_) (fun c35 => ?_)
          · replace hq := hq.1 c35
            refine x_iconst (v := 5) dX5_relation_70 (by decide) ?_
            refine xP.pick (lv' := []) [] rfl ?_
            exact uX5_relation_71 hq
          · replace hq := hq.2 c35
            refine x_iconst (v := 4) dX5_relation_66 (by decide) ?_
            refine x_goto (tgt := 71) dX5_relation_67 (by decide) ?_
            refine xP.pick (lv' := []) [] rfl ?_
            exact uX5_relation_71 hq
        · replace hq := hq.2 c28
          refine x_iconst (v := 3) dX5_relation_52 (by decide) ?_
          refine x_goto (tgt := 71) dX5_relation_53 (by decide) ?_
          refine xP.pick (lv' := []) [] rfl ?_
          exact uX5_relation_71 hq
      · replace hq := hq.2 c21
        refine x_iconst (v := 2) dX5_relation_38 (by decide) ?_
        refine x_goto (tgt := 71) dX5_relation_39 (by decide) ?_
        refine xP.pick (lv' := []) [] rfl ?_
        exact uX5_relation_71 hq
    · replace hq := hq.2 c14
      refine x_iconst (v := 1) dX5_relation_24 (by decide) ?_
      refine x_goto (tgt := 71) dX5_relation_25 (by decide) ?_
      refine xP.pick (lv' := []) [] rfl ?_
      exact uX5_relation_71 hq
  · replace hq := hq.2 c7
    refine x_iconst (v := 0) dX5_relation_10 (by decide) ?_
    refine x_goto (tgt := 71) dX5_relation_11 (by decide) ?_
    refine xP.pick (lv' := []) [] rfl ?_
    exact uX5_relation_71 hq
theorem rX5_relation {G : xG} {fr lo : Nat} {x0 : Nat} {h : xH} {Q : Outcome → xH → Prop} (hq : bX5_relation G fr lo x0 h Q) : xR G YX5_relation fr lo [rv x0] h Q := by
  show xP _ _ _ _ _ (lv_args 0 _) _ _ _
  rw [show lv_args 0 [rv x0] = [(0, rv x0)] from (xla1 (rv_cat _) xla0)]
  exact uX5_relation hq
set_option maxRecDepth 100000 in
theorem dX5_inner_0 : decode cX5_inner 0 = .ok (.aload_n 0, 1) := by decide +kernel
set_option maxRecDepth 100000 in
theorem dX5_inner_1 : decode cX5_inner 1 = .ok (.aload_n 1, 1) := by decide +kernel
set_option maxRecDepth 100000 in
theorem dX5_inner_2 : decode cX5_inner 2 = .ok (.iconst (-1), 1) := by decide +kernel
set_option maxRecDepth 100000 in
theorem dX5_inner_3 : decode cX5_inner 3 = .ok (.invokevirtual 607, 3) := by decide +kernel
set_option maxRecDepth 100000 in
theorem dX5_inner_6 : decode cX5_inner 6 = .ok (.return_, 1) := by decide +kernel
set_option maxRecDepth 100000 in
def bX5_inner (G : xG) (fr lo : Nat) (x0 : Nat) (x1 : Nat) (h : xH) (Q : Outcome → xH → Prop) : Prop := tg h x0 = 6 ∧ 1 ≤ fr ∧ 15 ≤ lo ∧ xRv G YX5_statementIn (fr - 1) (lo - 15) [rv x0, rv x1, .int (-1)] h (fun h4 => xext h h4 → Q (.returned none) h4) (fun r h2 => Q (.threw r) h2)
set_option maxRecDepth 100000 in
theorem uX5_inner {G : xG} {fr lo : Nat} {x0 : Nat} {x1 : Nat} {h : xH} {Q : Outcome → xH → Prop} (hq : bX5_inner G fr lo x0 x1 h Q) : xP G YX5_inner fr lo 0 [(0, rv x0), (1, rv x1)] [] h Q := by
  unfold bX5_inner at hq
  refine x_aload_n 0 dX5_inner_0 rfl ?_
  refine x_aload_n 1 dX5_inner_1 rfl ?_
  refine x_iconst (v := (-1)) dX5_inner_2 (by decide) ?_
  obtain ⟨g1, hq⟩ := hq
  obtain ⟨g2, g3, hq⟩ := hq
  refine x_callV (Yc := YX5_statementIn) (as := [rv x1, .int (-1)]) (st := []) q2502 mvX5_statementIn g1 rfl dX5_inner_3 (xle (xal1 (rv_cat _) (xal1 (rv_cat _) (xal1 rfl xal0))) (by decide)) (xfr g2) (xlo xsw0 (by decide) g3) (xKv hq (fun h4 hq e6 => ?_) (fun _ _ q _ => q))
  replace hq := hq e6
  exact x_vret rfl dX5_inner_6 hq
theorem rX5_inner {G : xG} {fr lo : Nat} {x0 : Nat} {x1 : Nat} {h : xH} {Q : Outcome → xH → Prop} (hq : bX5_inner G fr lo x0 x1 h Q) : xR G YX5_inner fr lo [rv x0, rv x1] h Q := by
  show xP _ _ _ _ _ (lv_args 0 _) _ _ _
  rw [show lv_args 0 [rv x0, rv x1] = [(0, rv x0), (1, rv x1)] from (xla1 (rv_cat _) (xla1 (rv_cat _) xla0))]
  exact uX5_inner hq
set_option maxRecDepth 100000 in
theorem dX5_cases_0 : decode cX5_cases 0 = .ok (.aload_n 0, 1) := by decide +kernel
set_option maxRecDepth 100000 in
theorem dX5_cases_1 : decode cX5_cases 1 = .ok (.aload_n 1, 1) := by decide +kernel
set_option maxRecDepth 100000 in
theorem dX5_cases_2 : decode cX5_cases 2 = .ok (.getfield 251, 3) := by decide +kernel
set_option maxRecDepth 100000 in
theorem dX5_cases_5 : decode cX5_cases 5 = .ok (.invokevirtual 654, 3) := by decide +kernel
set_option maxRecDepth 100000 in
theorem dX5_cases_8 : decode cX5_cases 8 = .ok (.astore_n 2, 1) := by decide +kernel
set_option maxRecDepth 100000 in
theorem dX5_cases_9 : decode cX5_cases 9 = .ok (.aload_n 2, 1) := by decide +kernel
set_option maxRecDepth 100000 in
theorem dX5_cases_10 : decode cX5_cases 10 = .ok (.invokevirtual 318, 3) := by decide +kernel
set_option maxRecDepth 100000 in
theorem dX5_cases_13 : decode cX5_cases 13 = .ok (.ifCond .ne 14, 3) := by decide +kernel
set_option maxRecDepth 100000 in
theorem dX5_cases_16 : decode cX5_cases 16 = .ok (.aload_n 0, 1) := by decide +kernel
set_option maxRecDepth 100000 in
theorem dX5_cases_17 : decode cX5_cases 17 = .ok (.bipush 7, 2) := by decide +kernel
set_option maxRecDepth 100000 in
theorem dX5_cases_19 : decode cX5_cases 19 = .ok (.aload_n 1, 1) := by decide +kernel
set_option maxRecDepth 100000 in
theorem dX5_cases_20 : decode cX5_cases 20 = .ok (.invokevirtual 192, 3) := by decide +kernel
set_option maxRecDepth 100000 in
theorem dX5_cases_23 : decode cX5_cases 23 = .ok (.invokevirtual 163, 3) := by decide +kernel
set_option maxRecDepth 100000 in
theorem dX5_cases_26 : decode cX5_cases 26 = .ok (.athrow, 1) := by decide +kernel
set_option maxRecDepth 100000 in
theorem dX5_cases_27 : decode cX5_cases 27 = .ok (.aload_n 0, 1) := by decide +kernel
set_option maxRecDepth 100000 in
theorem dX5_cases_28 : decode cX5_cases 28 = .ok (.getfield 62, 3) := by decide +kernel
set_option maxRecDepth 100000 in
theorem dX5_cases_31 : decode cX5_cases 31 = .ok (.bipush 50, 2) := by decide +kernel
set_option maxRecDepth 100000 in
theorem dX5_cases_33 : decode cX5_cases 33 = .ok (.iconst 0, 1) := by decide +kernel
set_option maxRecDepth 100000 in
theorem dX5_cases_34 : decode cX5_cases 34 = .ok (.iconst 0, 1) := by decide +kernel
set_option maxRecDepth 100000 in
theorem dX5_cases_35 : decode cX5_cases 35 = .ok (.iconst 0, 1) := by decide +kernel
set_option maxRecDepth 100000 in
theorem dX5_cases_36 : decode cX5_cases 36 = .ok (.iconst 0, 1) := by decide +kernel
set_option maxRecDepth 100000 in
theorem dX5_cases_37 : decode cX5_cases 37 = .ok (.invokevirtual 506, 3) := by decide +kernel
set_option maxRecDepth 100000 in
theorem dX5_cases_40 : decode cX5_cases 40 = .ok (.istore_n 3, 1) := by decide +kernel
set_option maxRecDepth 100000 in
theorem dX5_cases_41 : decode cX5_cases 41 = .ok (.iconst 0, 1) := by decide +kernel
set_option maxRecDepth 100000 in
theorem dX5_cases_42 : decode cX5_cases 42 = .ok (.istore 4, 2) := by decide +kernel
set_option maxRecDepth 100000 in
theorem dX5_cases_44 : decode cX5_cases 44 = .ok (.aload_n 1, 1) := by decide +kernel
set_option maxRecDepth 100000 in
theorem dX5_cases_45 : decode cX5_cases 45 = .ok (.getfield 251, 3) := by decide +kernel
set_option maxRecDepth 100000 in
theorem dX5_cases_48 : decode cX5_cases 48 = .ok (.getfield 307, 3) := by decide +kernel
set_option maxRecDepth 100000 in
theorem dX5_cases_51 : decode cX5_cases 51 = .ok (.astore 5, 2) := by decide +kernel
set_option maxRecDepth 100000 in
theorem dX5_cases_53 : decode cX5_cases 53 = .ok (.aload 5, 2) := by decide +kernel
set_option maxRecDepth 100000 in
theorem dX5_cases_55 : decode cX5_cases 55 = .ok (.ifnull 26, 3) := by decide +kernel
set_option maxRecDepth 100000 in
theorem dX5_cases_58 : decode cX5_cases 58 = .ok (.iload 4, 2) := by decide +kernel
set_option maxRecDepth 100000 in
theorem dX5_cases_60 : decode cX5_cases 60 = .ok (.aload 5, 2) := by decide +kernel
set_option maxRecDepth 100000 in
theorem dX5_cases_62 : decode cX5_cases 62 = .ok (.getfield 251, 3) := by decide +kernel
set_option maxRecDepth 100000 in
theorem dX5_cases_65 : decode cX5_cases 65 = .ok (.getfield 293, 3) := by decide +kernel
set_option maxRecDepth 100000 in
theorem dX5_cases_68 : decode cX5_cases 68 = .ok (.iadd, 1) := by decide +kernel
set_option maxRecDepth 100000 in
theorem dX5_cases_69 : decode cX5_cases 69 = .ok (.istore 4, 2) := by decide +kernel
set_option maxRecDepth 100000 in
theorem dX5_cases_71 : decode cX5_cases 71 = .ok (.aload 5, 2) := by decide +kernel
set_option maxRecDepth 100000 in
theorem dX5_cases_73 : decode cX5_cases 73 = .ok (.getfield 307, 3) := by decide +kernel
set_option maxRecDepth 100000 in
theorem dX5_cases_76 : decode cX5_cases 76 = .ok (.astore 5, 2) := by decide +kernel
set_option maxRecDepth 100000 in
theorem dX5_cases_78 : decode cX5_cases 78 = .ok (.goto (-25), 3) := by decide +kernel
set_option maxRecDepth 100000 in
theorem dX5_cases_81 : decode cX5_cases 81 = .ok (.iload 4, 2) := by decide +kernel
set_option maxRecDepth 100000 in
theorem dX5_cases_83 : decode cX5_cases 83 = .ok (.newarray .int, 2) := by decide +kernel
set_option maxRecDepth 100000 in
theorem dX5_cases_85 : decode cX5_cases 85 = .ok (.astore 5, 2) := by decide +kernel
set_option maxRecDepth 100000 in
theorem dX5_cases_87 : decode cX5_cases 87 = .ok (.aload_n 1, 1) := by decide +kernel
set_option maxRecDepth 100000 in
theorem dX5_cases_88 : decode cX5_cases 88 = .ok (.getfield 293, 3) := by decide +kernel
set_option maxRecDepth 100000 in
theorem dX5_cases_91 : decode cX5_cases 91 = .ok (.newarray .int, 2) := by decide +kernel
set_option maxRecDepth 100000 in
theorem dX5_cases_93 : decode cX5_cases 93 = .ok (.astore 6, 2) := by decide +kernel
set_option maxRecDepth 100000 in
theorem dX5_cases_95 : decode cX5_cases 95 = .ok (.aload_n 1, 1) := by decide +kernel
set_option maxRecDepth 100000 in
theorem dX5_cases_96 : decode cX5_cases 96 = .ok (.getfield 293, 3) := by decide +kernel
set_option maxRecDepth 100000 in
theorem dX5_cases_99 : decode cX5_cases 99 = .ok (.newarray .int, 2) := by decide +kernel
set_option maxRecDepth 100000 in
theorem dX5_cases_101 : decode cX5_cases 101 = .ok (.astore 7, 2) := by decide +kernel
set_option maxRecDepth 100000 in
theorem dX5_cases_103 : decode cX5_cases 103 = .ok (.iconst 0, 1) := by decide +kernel
set_option maxRecDepth 100000 in
theorem dX5_cases_104 : decode cX5_cases 104 = .ok (.istore 8, 2) := by decide +kernel
set_option maxRecDepth 100000 in
theorem dX5_cases_106 : decode cX5_cases 106 = .ok (.iconst 0, 1) := by decide +kernel
set_option maxRecDepth 100000 in
theorem dX5_cases_107 : decode cX5_cases 107 = .ok (.istore 9, 2) := by decide +kernel
set_option maxRecDepth 100000 in
theorem dX5_cases_109 : decode cX5_cases 109 = .ok (.aload_n 1, 1) := by decide +kernel
set_option maxRecDepth 100000 in
theorem dX5_cases_110 : decode cX5_cases 110 = .ok (.getfield 251, 3) := by decide +kernel
set_option maxRecDepth 100000 in
theorem dX5_cases_113 : decode cX5_cases 113 = .ok (.getfield 307, 3) := by decide +kernel
set_option maxRecDepth 100000 in
theorem dX5_cases_116 : decode cX5_cases 116 = .ok (.astore 10, 2) := by decide +kernel
set_option maxRecDepth 100000 in
theorem dX5_cases_118 : decode cX5_cases 118 = .ok (.aload 10, 2) := by decide +kernel
set_option maxRecDepth 100000 in
theorem dX5_cases_120 : decode cX5_cases 120 = .ok (.ifnull 170, 3) := by decide +kernel
set_option maxRecDepth 100000 in
theorem dX5_cases_123 : decode cX5_cases 123 = .ok (.aload 10, 2) := by decide +kernel
set_option maxRecDepth 100000 in
theorem dX5_cases_125 : decode cX5_cases 125 = .ok (.getfield 251, 3) := by decide +kernel
set_option maxRecDepth 100000 in
theorem dX5_cases_128 : decode cX5_cases 128 = .ok (.getfield 251, 3) := by decide +kernel
set_option maxRecDepth 100000 in
theorem dX5_cases_131 : decode cX5_cases 131 = .ok (.astore 11, 2) := by decide +kernel
set_option maxRecDepth 100000 in
theorem dX5_cases_133 : decode cX5_cases 133 = .ok (.aload 11, 2) := by decide +kernel
set_option maxRecDepth 100000 in
theorem dX5_cases_135 : decode cX5_cases 135 = .ok (.ifnull 102, 3) := by decide +kernel
set_option maxRecDepth 100000 in
theorem dX5_cases_138 : decode cX5_cases 138 = .ok (.aload_n 0, 1) := by decide +kernel
set_option maxRecDepth 100000 in
theorem dX5_cases_139 : decode cX5_cases 139 = .ok (.aload 11, 2) := by decide +kernel
set_option maxRecDepth 100000 in
theorem dX5_cases_141 : decode cX5_cases 141 = .ok (.invokevirtual 314, 3) := by decide +kernel
set_option maxRecDepth 100000 in
theorem dX5_cases_144 : decode cX5_cases 144 = .ok (.aload_n 0, 1) := by decide +kernel
set_option maxRecDepth 100000 in
theorem dX5_cases_145 : decode cX5_cases 145 = .ok (.getfield 216, 3) := by decide +kernel
set_option maxRecDepth 100000 in
theorem dX5_cases_148 : decode cX5_cases 148 = .ok (.invokevirtual 318, 3) := by decide +kernel
set_option maxRecDepth 100000 in
theorem dX5_cases_151 : decode cX5_cases 151 = .ok (.ifCond .eq 11, 3) := by decide +kernel
set_option maxRecDepth 100000 in
theorem dX5_cases_154 : decode cX5_cases 154 = .ok (.aload_n 0, 1) := by decide +kernel
set_option maxRecDepth 100000 in
theorem dX5_cases_155 : decode cX5_cases 155 = .ok (.getfield 216, 3) := by decide +kernel
set_option maxRecDepth 100000 in
theorem dX5_cases_158 : decode cX5_cases 158 = .ok (.aload_n 2, 1) := by decide +kernel
set_option maxRecDepth 100000 in
theorem dX5_cases_159 : decode cX5_cases 159 = .ok (.if_acmp .eq 16, 3) := by decide +kernel
set_option maxRecDepth 100000 in
theorem dX5_cases_162 : decode cX5_cases 162 = .ok (.aload_n 0, 1) := by decide +kernel
set_option maxRecDepth 100000 in
theorem dX5_cases_163 : decode cX5_cases 163 = .ok (.bipush 7, 2) := by decide +kernel
set_option maxRecDepth 100000 in
theorem dX5_cases_165 : decode cX5_cases 165 = .ok (.aload_n 0, 1) := by decide +kernel
set_option maxRecDepth 100000 in
theorem dX5_cases_166 : decode cX5_cases 166 = .ok (.aload 11, 2) := by decide +kernel
set_option maxRecDepth 100000 in
theorem dX5_cases_168 : decode cX5_cases 168 = .ok (.invokevirtual 324, 3) := by decide +kernel
set_option maxRecDepth 100000 in
theorem dX5_cases_171 : decode cX5_cases 171 = .ok (.invokevirtual 163, 3) := by decide +kernel
set_option maxRecDepth 100000 in
theorem dX5_cases_174 : decode cX5_cases 174 = .ok (.athrow, 1) := by decide +kernel
set_option maxRecDepth 100000 in
theorem dX5_cases_175 : decode cX5_cases 175 = .ok (.iconst 0, 1) := by decide +kernel
set_option maxRecDepth 100000 in
theorem dX5_cases_176 : decode cX5_cases 176 = .ok (.istore 12, 2) := by decide +kernel
set_option maxRecDepth 100000 in
theorem dX5_cases_178 : decode cX5_cases 178 = .ok (.iload 12, 2) := by decide +kernel
set_option maxRecDepth 100000 in
theorem dX5_cases_180 : decode cX5_cases 180 = .ok (.iload 8, 2) := by decide +kernel
set_option maxRecDepth 100000 in
theorem dX5_cases_182 : decode cX5_cases 182 = .ok (.if_icmp .ge 33, 3) := by decide +kernel
set_option maxRecDepth 100000 in
theorem dX5_cases_185 : decode cX5_cases 185 = .ok (.aload 5, 2) := by decide +kernel
set_option maxRecDepth 100000 in
theorem dX5_cases_187 : decode cX5_cases 187 = .ok (.iload 12, 2) := by decide +kernel
set_option maxRecDepth 100000 in
theorem dX5_cases_189 : decode cX5_cases 189 = .ok (.iaload, 1) := by decide +kernel
set_option maxRecDepth 100000 in
theorem dX5_cases_190 : decode cX5_cases 190 = .ok (.aload_n 0, 1) := by decide +kernel
set_option maxRecDepth 100000 in
theorem dX5_cases_191 : decode cX5_cases 191 = .ok (.getfield 222, 3) := by decide +kernel
set_option maxRecDepth 100000 in
theorem dX5_cases_194 : decode cX5_cases 194 = .ok (.if_icmp .ne 15, 3) := by decide +kernel
set_option maxRecDepth 100000 in
theorem dX5_cases_197 : decode cX5_cases 197 = .ok (.aload_n 0, 1) := by decide +kernel
set_option maxRecDepth 100000 in
theorem dX5_cases_198 : decode cX5_cases 198 = .ok (.iconst 5, 1) := by decide +kernel
set_option maxRecDepth 100000 in
theorem dX5_cases_199 : decode cX5_cases 199 = .ok (.aload_n 0, 1) := by decide +kernel
set_option maxRecDepth 100000 in
theorem dX5_cases_200 : decode cX5_cases 200 = .ok (.aload 11, 2) := by decide +kernel
set_option maxRecDepth 100000 in
theorem dX5_cases_202 : decode cX5_cases 202 = .ok (.invokevirtual 324, 3) := by decide +kernel
set_option maxRecDepth 100000 in
theorem dX5_cases_205 : decode cX5_cases 205 = .ok (.invokevirtual 163, 3) := by decide +kernel
set_option maxRecDepth 100000 in
theorem dX5_cases_208 : decode cX5_cases 208 = .ok (.athrow, 1) := by decide +kernel
set_option maxRecDepth 100000 in
theorem dX5_cases_209 : decode cX5_cases 209 = .ok (.iinc 12 1, 3) := by decide +kernel
set_option maxRecDepth 100000 in
theorem dX5_cases_212 : decode cX5_cases 212 = .ok (.goto (-34), 3) := by decide +kernel
set_option maxRecDepth 100000 in
theorem dX5_cases_215 : decode cX5_cases 215 = .ok (.aload 5, 2) := by decide +kernel
set_option maxRecDepth 100000 in
theorem dX5_cases_217 : decode cX5_cases 217 = .ok (.iload 8, 2) := by decide +kernel
set_option maxRecDepth 100000 in
theorem dX5_cases_219 : decode cX5_cases 219 = .ok (.aload_n 0, 1) := by decide +kernel
set_option maxRecDepth 100000 in
theorem dX5_cases_220 : decode cX5_cases 220 = .ok (.getfield 222, 3) := by decide +kernel
set_option maxRecDepth 100000 in
theorem dX5_cases_223 : decode cX5_cases 223 = .ok (.iastore, 1) := by decide +kernel
set_option maxRecDepth 100000 in
theorem dX5_cases_224 : decode cX5_cases 224 = .ok (.iinc 8 1, 3) := by decide +kernel
set_option maxRecDepth 100000 in
theorem dX5_cases_227 : decode cX5_cases 227 = .ok (.aload 11, 2) := by decide +kernel
set_option maxRecDepth 100000 in
theorem dX5_cases_229 : decode cX5_cases 229 = .ok (.getfield 307, 3) := by decide +kernel
set_option maxRecDepth 100000 in
theorem dX5_cases_232 : decode cX5_cases 232 = .ok (.astore 11, 2) := by decide +kernel
set_option maxRecDepth 100000 in
theorem dX5_cases_234 : decode cX5_cases 234 = .ok (.goto (-101), 3) := by decide +kernel
set_option maxRecDepth 100000 in
theorem dX5_cases_237 : decode cX5_cases 237 = .ok (.aload 6, 2) := by decide +kernel
set_option maxRecDepth 100000 in
theorem dX5_cases_239 : decode cX5_cases 239 = .ok (.iload 9, 2) := by decide +kernel
set_option maxRecDepth 100000 in
theorem dX5_cases_241 : decode cX5_cases 241 = .ok (.aload_n 0, 1) := by decide +kernel
set_option maxRecDepth 100000 in
theorem dX5_cases_242 : decode cX5_cases 242 = .ok (.getfield 62, 3) := by decide +kernel
set_option maxRecDepth 100000 in
theorem dX5_cases_245 : decode cX5_cases 245 = .ok (.getfield 501, 3) := by decide +kernel
set_option maxRecDepth 100000 in
theorem dX5_cases_248 : decode cX5_cases 248 = .ok (.iastore, 1) := by decide +kernel
set_option maxRecDepth 100000 in
theorem dX5_cases_249 : decode cX5_cases 249 = .ok (.aload_n 0, 1) := by decide +kernel
set_option maxRecDepth 100000 in
theorem dX5_cases_250 : decode cX5_cases 250 = .ok (.aload 10, 2) := by decide +kernel
set_option maxRecDepth 100000 in
theorem dX5_cases_252 : decode cX5_cases 252 = .ok (.iconst 1, 1) := by decide +kernel
set_option maxRecDepth 100000 in
theorem dX5_cases_253 : decode cX5_cases 253 = .ok (.invokevirtual 310, 3) := by decide +kernel
set_option maxRecDepth 100000 in
theorem dX5_cases_256 : decode cX5_cases 256 = .ok (.invokevirtual 657, 3) := by decide +kernel
set_option maxRecDepth 100000 in
theorem dX5_cases_259 : decode cX5_cases 259 = .ok (.aload 7, 2) := by decide +kernel
set_option maxRecDepth 100000 in
theorem dX5_cases_261 : decode cX5_cases 261 = .ok (.iload 9, 2) := by decide +kernel
set_option maxRecDepth 100000 in
theorem dX5_cases_263 : decode cX5_cases 263 = .ok (.aload_n 0, 1) := by decide +kernel
set_option maxRecDepth 100000 in
theorem dX5_cases_264 : decode cX5_cases 264 = .ok (.getfield 62, 3) := by decide +kernel
set_option maxRecDepth 100000 in
theorem dX5_cases_267 : decode cX5_cases 267 = .ok (.bipush 50, 2) := by decide +kernel
set_option maxRecDepth 100000 in
theorem dX5_cases_269 : decode cX5_cases 269 = .ok (.iconst 0, 1) := by decide +kernel
set_option maxRecDepth 100000 in
theorem dX5_cases_270 : decode cX5_cases 270 = .ok (.iconst 0, 1) := by decide +kernel
set_option maxRecDepth 100000 in
theorem dX5_cases_271 : decode cX5_cases 271 = .ok (.iconst 0, 1) := by decide +kernel
set_option maxRecDepth 100000 in
theorem dX5_cases_272 : decode cX5_cases 272 = .ok (.iconst 0, 1) := by decide +kernel
set_option maxRecDepth 100000 in
theorem dX5_cases_273 : decode cX5_cases 273 = .ok (.invokevirtual 506, 3) := by decide +kernel
set_option maxRecDepth 100000 in
theorem dX5_cases_276 : decode cX5_cases 276 = .ok (.iastore, 1) := by decide +kernel
set_option maxRecDepth 100000 in
theorem dX5_cases_277 : decode cX5_cases 277 = .ok (.iinc 9 1, 3) := by decide +kernel
set_option maxRecDepth 100000 in
theorem dX5_cases_280 : decode cX5_cases 280 = .ok (.aload 10, 2) := by decide +kernel
set_option maxRecDepth 100000 in
theorem dX5_cases_282 : decode cX5_cases 282 = .ok (.getfield 307, 3) := by decide +kernel
set_option maxRecDepth 100000 in
theorem dX5_cases_285 : decode cX5_cases 285 = .ok (.astore 10, 2) := by decide +kernel
set_option maxRecDepth 100000 in
theorem dX5_cases_287 : decode cX5_cases 287 = .ok (.goto (-169), 3) := by decide +kernel
set_option maxRecDepth 100000 in
theorem dX5_cases_290 : decode cX5_cases 290 = .ok (.aload_n 0, 1) := by decide +kernel
set_option maxRecDepth 100000 in
theorem dX5_cases_291 : decode cX5_cases 291 = .ok (.getfield 62, 3) := by decide +kernel
set_option maxRecDepth 100000 in
theorem dX5_cases_294 : decode cX5_cases 294 = .ok (.iload_n 3, 1) := by decide +kernel
set_option maxRecDepth 100000 in
theorem dX5_cases_295 : decode cX5_cases 295 = .ok (.aload_n 0, 1) := by decide +kernel
set_option maxRecDepth 100000 in
theorem dX5_cases_296 : decode cX5_cases 296 = .ok (.getfield 62, 3) := by decide +kernel
set_option maxRecDepth 100000 in
theorem dX5_cases_299 : decode cX5_cases 299 = .ok (.getfield 501, 3) := by decide +kernel
set_option maxRecDepth 100000 in
theorem dX5_cases_302 : decode cX5_cases 302 = .ok (.invokevirtual 660, 3) := by decide +kernel
set_option maxRecDepth 100000 in
theorem dX5_cases_305 : decode cX5_cases 305 = .ok (.aload_n 0, 1) := by decide +kernel
set_option maxRecDepth 100000 in
theorem dX5_cases_306 : decode cX5_cases 306 = .ok (.getfield 62, 3) := by decide +kernel
set_option maxRecDepth 100000 in
theorem dX5_cases_309 : decode cX5_cases 309 = .ok (.getfield 663, 3) := by decide +kernel
set_option maxRecDepth 100000 in
theorem dX5_cases_312 : decode cX5_cases 312 = .ok (.istore 10, 2) := by decide +kernel
set_option maxRecDepth 100000 in
theorem dX5_cases_314 : decode cX5_cases 314 = .ok (.iconst 0, 1) := by decide +kernel
set_option maxRecDepth 100000 in
theorem dX5_cases_315 : decode cX5_cases 315 = .ok (.istore 8, 2) := by decide +kernel
set_option maxRecDepth 100000 in
theorem dX5_cases_317 : decode cX5_cases 317 = .ok (.iconst 0, 1) := by decide +kernel
set_option maxRecDepth 100000 in
theorem dX5_cases_318 : decode cX5_cases 318 = .ok (.istore 9, 2) := by decide +kernel
set_option maxRecDepth 100000 in
theorem dX5_cases_320 : decode cX5_cases 320 = .ok (.aload_n 1, 1) := by decide +kernel
set_option maxRecDepth 100000 in
theorem dX5_cases_321 : decode cX5_cases 321 = .ok (.getfield 251, 3) := by decide +kernel
set_option maxRecDepth 100000 in
theorem dX5_cases_324 : decode cX5_cases 324 = .ok (.getfield 307, 3) := by decide +kernel
set_option maxRecDepth 100000 in
theorem dX5_cases_327 : decode cX5_cases 327 = .ok (.astore 11, 2) := by decide +kernel
set_option maxRecDepth 100000 in
theorem dX5_cases_329 : decode cX5_cases 329 = .ok (.aload 11, 2) := by decide +kernel
set_option maxRecDepth 100000 in
theorem dX5_cases_331 : decode cX5_cases 331 = .ok (.ifnull 58, 3) := by decide +kernel
set_option maxRecDepth 100000 in
theorem dX5_cases_334 : decode cX5_cases 334 = .ok (.iconst 0, 1) := by decide +kernel
set_option maxRecDepth 100000 in
theorem dX5_cases_335 : decode cX5_cases 335 = .ok (.istore 12, 2) := by decide +kernel
set_option maxRecDepth 100000 in
theorem dX5_cases_337 : decode cX5_cases 337 = .ok (.iload 12, 2) := by decide +kernel
set_option maxRecDepth 100000 in
theorem dX5_cases_339 : decode cX5_cases 339 = .ok (.aload 11, 2) := by decide +kernel
set_option maxRecDepth 100000 in
theorem dX5_cases_341 : decode cX5_cases 341 = .ok (.getfield 251, 3) := by decide +kernel
set_option maxRecDepth 100000 in
theorem dX5_cases_344 : decode cX5_cases 344 = .ok (.getfield 293, 3) := by decide +kernel
set_option maxRecDepth 100000 in
theorem dX5_cases_347 : decode cX5_cases 347 = .ok (.if_icmp .ge 29, 3) := by decide +kernel
set_option maxRecDepth 100000 in
theorem dX5_cases_350 : decode cX5_cases 350 = .ok (.aload_n 0, 1) := by decide +kernel
set_option maxRecDepth 100000 in
theorem dX5_cases_351 : decode cX5_cases 351 = .ok (.getfield 62, 3) := by decide +kernel
set_option maxRecDepth 100000 in
theorem dX5_cases_354 : decode cX5_cases 354 = .ok (.aload 5, 2) := by decide +kernel
set_option maxRecDepth 100000 in
theorem dX5_cases_356 : decode cX5_cases 356 = .ok (.iload 8, 2) := by decide +kernel
set_option maxRecDepth 100000 in
theorem dX5_cases_358 : decode cX5_cases 358 = .ok (.iaload, 1) := by decide +kernel
set_option maxRecDepth 100000 in
theorem dX5_cases_359 : decode cX5_cases 359 = .ok (.aload 6, 2) := by decide +kernel
set_option maxRecDepth 100000 in
theorem dX5_cases_361 : decode cX5_cases 361 = .ok (.iload 9, 2) := by decide +kernel
set_option maxRecDepth 100000 in
theorem dX5_cases_363 : decode cX5_cases 363 = .ok (.iaload, 1) := by decide +kernel
set_option maxRecDepth 100000 in
theorem dX5_cases_364 : decode cX5_cases 364 = .ok (.invokevirtual 665, 3) := by decide +kernel
set_option maxRecDepth 100000 in
theorem dX5_cases_367 : decode cX5_cases 367 = .ok (.iinc 8 1, 3) := by decide +kernel
set_option maxRecDepth 100000 in
theorem dX5_cases_370 : decode cX5_cases 370 = .ok (.iinc 12 1, 3) := by decide +kernel
set_option maxRecDepth 100000 in
theorem dX5_cases_373 : decode cX5_cases 373 = .ok (.goto (-36), 3) := by decide +kernel
set_option maxRecDepth 100000 in
theorem dX5_cases_376 : decode cX5_cases 376 = .ok (.iinc 9 1, 3) := by decide +kernel
set_option maxRecDepth 100000 in
theorem dX5_cases_379 : decode cX5_cases 379 = .ok (.aload 11, 2) := by decide +kernel
set_option maxRecDepth 100000 in
theorem dX5_cases_381 : decode cX5_cases 381 = .ok (.getfield 307, 3) := by decide +kernel
set_option maxRecDepth 100000 in
theorem dX5_cases_384 : decode cX5_cases 384 = .ok (.astore 11, 2) := by decide +kernel
set_option maxRecDepth 100000 in
theorem dX5_cases_386 : decode cX5_cases 386 = .ok (.goto (-57), 3) := by decide +kernel
set_option maxRecDepth 100000 in
theorem dX5_cases_389 : decode cX5_cases 389 = .ok (.aload_n 0, 1) := by decide +kernel
set_option maxRecDepth 100000 in
theorem dX5_cases_390 : decode cX5_cases 390 = .ok (.getfield 62, 3) := by decide +kernel
set_option maxRecDepth 100000 in
theorem dX5_cases_393 : decode cX5_cases 393 = .ok (.bipush 53, 2) := by decide +kernel
set_option maxRecDepth 100000 in
theorem dX5_cases_395 : decode cX5_cases 395 = .ok (.iload 10, 2) := by decide +kernel
set_option maxRecDepth 100000 in
theorem dX5_cases_397 : decode cX5_cases 397 = .ok (.iload 4, 2) := by decide +kernel
set_option maxRecDepth 100000 in
theorem dX5_cases_399 : decode cX5_cases 399 = .ok (.iconst 0, 1) := by decide +kernel
set_option maxRecDepth 100000 in
theorem dX5_cases_400 : decode cX5_cases 400 = .ok (.aload_n 1, 1) := by decide +kernel
set_option maxRecDepth 100000 in
theorem dX5_cases_401 : decode cX5_cases 401 = .ok (.invokevirtual 192, 3) := by decide +kernel
set_option maxRecDepth 100000 in
theorem dX5_cases_404 : decode cX5_cases 404 = .ok (.invokevirtual 506, 3) := by decide +kernel
set_option maxRecDepth 100000 in
theorem dX5_cases_407 : decode cX5_cases 407 = .ok (.pop, 1) := by decide +kernel
set_option maxRecDepth 100000 in
theorem dX5_cases_408 : decode cX5_cases 408 = .ok (.iconst 0, 1) := by decide +kernel
set_option maxRecDepth 100000 in
theorem dX5_cases_409 : decode cX5_cases 409 = .ok (.istore 11, 2) := by decide +kernel
set_option maxRecDepth 100000 in
theorem dX5_cases_411 : decode cX5_cases 411 = .ok (.iload 11, 2) := by decide +kernel
set_option maxRecDepth 100000 in
theorem dX5_cases_413 : decode cX5_cases 413 = .ok (.iload 9, 2) := by decide +kernel
set_option maxRecDepth 100000 in
theorem dX5_cases_415 : decode cX5_cases 415 = .ok (.if_icmp .ge 28, 3) := by decide +kernel
set_option maxRecDepth 100000 in
theorem dX5_cases_418 : decode cX5_cases 418 = .ok (.aload_n 0, 1) := by decide +kernel
set_option maxRecDepth 100000 in
theorem dX5_cases_419 : decode cX5_cases 419 = .ok (.getfield 62, 3) := by decide +kernel
set_option maxRecDepth 100000 in
theorem dX5_cases_422 : decode cX5_cases 422 = .ok (.aload 7, 2) := by decide +kernel
set_option maxRecDepth 100000 in
theorem dX5_cases_424 : decode cX5_cases 424 = .ok (.iload 11, 2) := by decide +kernel
set_option maxRecDepth 100000 in
theorem dX5_cases_426 : decode cX5_cases 426 = .ok (.iaload, 1) := by decide +kernel
set_option maxRecDepth 100000 in
theorem dX5_cases_427 : decode cX5_cases 427 = .ok (.aload_n 0, 1) := by decide +kernel
set_option maxRecDepth 100000 in
theorem dX5_cases_428 : decode cX5_cases 428 = .ok (.getfield 62, 3) := by decide +kernel
set_option maxRecDepth 100000 in
theorem dX5_cases_431 : decode cX5_cases 431 = .ok (.getfield 501, 3) := by decide +kernel
set_option maxRecDepth 100000 in
theorem dX5_cases_434 : decode cX5_cases 434 = .ok (.invokevirtual 660, 3) := by decide +kernel
set_option maxRecDepth 100000 in
theorem dX5_cases_437 : decode cX5_cases 437 = .ok (.iinc 11 1, 3) := by decide +kernel
set_option maxRecDepth 100000 in
theorem dX5_cases_440 : decode cX5_cases 440 = .ok (.goto (-29), 3) := by decide +kernel
set_option maxRecDepth 100000 in
theorem dX5_cases_443 : decode cX5_cases 443 = .ok (.return_, 1) := by decide +kernel
def lX5_cases_53 (G : xG) (fr lo : Nat) (x0 : Nat) (x1 : Nat) (x2 : Nat) (x3 : Int32) (x4 : Int32) (x5 : Nat) (h : xH) (Q : Outcome → xH → Prop) : Prop := xP G YX5_cases fr lo 53 [(0, rv x0), (1, rv x1), (2, rv x2), (3, .int x3), (4, .int x4), (5, rv x5)] [] h Q
def lX5_cases_118 (G : xG) (fr lo : Nat) (x0 : Nat) (x1 : Nat) (x2 : Nat) (x3 : Int32) (x4 : Int32) (x5 : Nat) (x6 : Nat) (x7 : Nat) (x8 : Int32) (x9 : Int32) (x10 : Nat) (h : xH) (Q : Outcome → xH → Prop) : Prop := xP G YX5_cases fr lo 118 [(0, rv x0), (1, rv x1), (2, rv x2), (3, .int x3), (4, .int x4), (5, rv x5), (6, rv x6), (7, rv x7), (8, .int x8), (9, .int x9), (10, rv x10)] [] h Q
def lX5_cases_133 (G : xG) (fr lo : Nat) (x0 : Nat) (x1 : Nat) (x2 : Nat) (x3 : Int32) (x4 : Int32) (x5 : Nat) (x6 : Nat) (x7 : Nat) (x8 : Int32) (x9 : Int32) (x10 : Nat) (x11 : Nat) (h : xH) (Q : Outcome → xH → Prop) : Prop := xP G YX5_cases fr lo 133 [(0, rv x0), (1, rv x1), (2, rv x2), (3, .int x3), (4, .int x4), (5, rv x5), (6, rv x6), (7, rv x7), (8, .int x8), (9, .int x9), (10, rv x10), (11, rv x11)] [] h Q
def lX5_cases_178 (G : xG) (fr lo : Nat) (x0 : Nat) (x1 : Nat) (x2 : Nat) (x3 : Int32) (x4 : Int32) (x5 : Nat) (x6 : Nat) (x7 : Nat) (x8 : Int32) (x9 : Int32) (x10 : Nat) (x11 : Nat) (x12 : Int32) (h : xH) (Q : Outcome → xH → Prop) : Prop := xP G YX5_cases fr lo 178 [(0, rv x0), (1, rv x1), (2, rv x2), (3, .int x3), (4, .int x4), (5, rv x5), (6, rv x6), (7, rv x7), (8, .int x8), (9, .int x9), (10, rv x10), (11, rv x11), (12, .int x12)] [] h Q
def lX5_cases_329 (G : xG) (fr lo : Nat) (x0 : Nat) (x1 : Nat) (x4 : Int32) (x5 : Nat) (x6 : Nat) (x7 : Nat) (x8 : Int32) (x9 : Int32) (x10 : Int32) (x11 : Nat) (h : xH) (Q : Outcome → xH → Prop) : Prop := xP G YX5_cases fr lo 329 [(0, rv x0), (1, rv x1), (4, .int x4), (5, rv x5), (6, rv x6), (7, rv x7), (8, .int x8), (9, .int x9), (10, .int x10), (11, rv x11)] [] h Q
def lX5_cases_337 (G : xG) (fr lo : Nat) (x0 : Nat) (x1 : Nat) (x4 : Int32) (x5 : Nat) (x6 : Nat) (x7 : Nat) (x8 : Int32) (x9 : Int32) (x10 : Int32) (x11 : Nat) (x12 : Int32) (h : xH) (Q : Outcome → xH → Prop) : Prop := xP G YX5_cases fr lo 337 [(0, rv x0), (1, rv x1), (4, .int x4), (5, rv x5), (6, rv x6), (7, rv x7), (8, .int x8), (9, .int x9), (10, .int x10), (11, rv x11), (12, .int x12)] [] h Q
def lX5_cases_411 (G : xG) (fr lo : Nat) (x0 : Nat) (x7 : Nat) (x9 : Int32) (x11 : Int32) (h : xH) (Q : Outcome → xH → Prop) : Prop := xP G YX5_cases fr lo 411 [(0, rv x0), (7, rv x7), (9, .int x9), (11, .int x11)] [] h Q
set_option maxRecDepth 100000 in
def bX5_cases_411 (G : xG) (fr lo : Nat) (x0 : Nat) (x7 : Nat) (x9 : Int32) (x11 : Int32) (h : xH) (Q : Outcome → xH → Prop) : Prop := ((x9 ≤ x11 → Q (.returned none) h) ∧ (¬ x9 ≤ x11 → tg h x0 = 6 ∧ tg h x7 = 100 ∧ vp_in x11 (ln h x7) ∧ tg h (fR h x0 1281) = 3 ∧ 1 ≤ fr ∧ 14 ≤ lo ∧ xRv G YX2_go (fr - 1) (lo - 14) [rv (fR h x0 1281), .int (aI h x7 (Int32.toNatClampNeg x11)), .int (fI h (fR h x0 1281) 517)] h (fun h8 => xext h h8 → lX5_cases_411 G fr lo x0 x7 x9 (x11 + 1) h8 Q) (fun r h2 => Q (.threw r) h2)))
set_option maxRecDepth 100000 in
theorem uX5_cases_411 {G : xG} {fr lo : Nat} {x0 : Nat} {x7 : Nat} {x9 : Int32} {x11 : Int32} {h : xH} {Q : Outcome → xH → Prop} (hq : bX5_cases_411 G fr lo x0 x7 x9 x11 h Q) : xP G YX5_cases fr lo 411 [(0, rv x0), (7, rv x7), (9, .int x9), (11, .int x11)] [] h Q := by
  unfold bX5_cases_411 at hq
  refine x_iload 3 dX5_cases_411 rfl ?_
  refine x_iload 2 dX5_cases_413 rfl ?_
  refine x_icmp_ge (tgt := 443) dX5_cases_415 (by decide) (fun c1 => ?_) (fun c1 => ?_)
  · replace hq := hq.1 c1
    exact x_vret rfl dX5_cases_443 hq
  · replace hq := hq.2 c1
    refine x_aload_n 0 dX5_cases_418 rfl ?_
    obtain ⟨g2, hq⟩ := hq
    refine x_get (v := rv (fR h x0 1281)) fdX5_62 dX5_cases_419 g2 rfl ?_
    refine x_aload 1 dX5_cases_422 rfl ?_
    refine x_iload 3 dX5_cases_424 rfl ?_
    obtain ⟨g3, hq⟩ := hq
    obtain ⟨i4, hq⟩ := hq
    refine x_iald 0 (Or.inl rfl) g3 i4 dX5_cases_426 ?_
    refine x_aload_n 0 dX5_cases_427 rfl ?_
    refine x_get (v := rv (fR h x0 1281)) fdX5_62 dX5_cases_428 g2 rfl ?_
    obtain ⟨g5, hq⟩ := hq
    refine x_getN (v := .int (fI h (fR h x0 1281) 517)) gfX5_501 dX5_cases_431 g5 rfl ?_
    obtain ⟨g6, g7, hq⟩ := hq
    refine x_callV (Yc := YX2_go) (as := [.int (aI h x7 (Int32.toNatClampNeg x11)), .int (fI h (fR h x0 1281) 517)]) (st := []) q2700 mvX2_go g5 rfl dX5_cases_434 (xle (xal1 (rv_cat _) (xal1 rfl (xal1 rfl xal0))) (by decide)) (xfr g6) (xlo xsw0 (by decide) g7) (xKv hq (fun h8 hq e10 => ?_) (fun _ _ q _ => q))
    replace hq := hq e10
    refine x_iinc (lv' := [(11, .int (x11 + 1)), (0, rv x0), (7, rv x7), (9, .int x9)]) 3 dX5_cases_437 rfl (by decide) rfl ?_
    refine x_goto (tgt := 411) dX5_cases_440 (by decide) ?_
    refine xP.pick (lv' := [(0, rv x0), (7, rv x7), (9, .int x9), (11, .int (x11 + 1))]) [1, 2, 3, 0] rfl ?_
    exact hq
set_option maxRecDepth 100000 in
def bX5_cases_337 (G : xG) (fr lo : Nat) (x0 : Nat) (x1 : Nat) (x4 : Int32) (x5 : Nat) (x6 : Nat) (x7 : Nat) (x8 : Int32) (x9 : Int32) (x10 : Int32) (x11 : Nat) (x12 : Int32) (h : xH) (Q : Outcome → xH → Prop) : Prop := tg h x11 = 16 ∧ tg h (fR h x11 3842) = 16 ∧ (((fI h (fR h x11 3842) 3845) ≤ x12 → lX5_cases_329 G fr lo x0 x1 x4 x5 x6 x7 x8 (x9 + 1) x10 (fR h x11 3844) h Q) ∧ (¬ (fI h (fR h x11 3842) 3845) ≤ x12 → tg h x0 = 6 ∧ tg h x5 = 100 ∧ vp_in x8 (ln h x5) ∧ tg h x6 = 100 ∧ vp_in x9 (ln h x6) ∧ tg h (fR h x0 1281) = 3 ∧ 1 ≤ fr ∧ 14 ≤ lo ∧ xRv G YX2_when (fr - 1) (lo - 14) [rv (fR h x0 1281), .int (aI h x5 (Int32.toNatClampNeg x8)), .int (aI h x6 (Int32.toNatClampNeg x9))] h (fun h12 => xext h h12 → lX5_cases_337 G fr lo x0 x1 x4 x5 x6 x7 (x8 + 1) x9 x10 x11 (x12 + 1) h12 Q) (fun r h2 => Q (.threw r) h2)))
set_option maxRecDepth 100000 in
theorem uX5_cases_337 {G : xG} {fr lo : Nat} {x0 : Nat} {x1 : Nat} {x4 : Int32} {x5 : Nat} {x6 : Nat} {x7 : Nat} {x8 : Int32} {x9 : Int32} {x10 : Int32} {x11 : Nat} {x12 : Int32} {h : xH} {Q : Outcome → xH → Prop} (hq : bX5_cases_337 G fr lo x0 x1 x4 x5 x6 x7 x8 x9 x10 x11 x12 h Q) : xP G YX5_cases fr lo 337 [(0, rv x0), (1, rv x1), (4, .int x4), (5, rv x5), (6, rv x6), (7, rv x7), (8, .int x8), (9, .int x9), (10, .int x10), (11, rv x11), (12, .int x12)] [] h Q := by
  unfold bX5_cases_337 at hq
  refine x_iload 10 dX5_cases_337 rfl ?_
  refine x_aload 9 dX5_cases_339 rfl ?_
  obtain ⟨g1, hq⟩ := hq
  refine x_getN (v := rv (fR h x11 3842)) gfX5_251 dX5_cases_341 g1 rfl ?_
  obtain ⟨g2, hq⟩ := hq
  refine x_getN (v := .int (fI h (fR h x11 3842) 3845)) gfX5_293 dX5_cases_344 g2 rfl ?_
  refine x_icmp_ge (tgt := 376) dX5_cases_347 (by decide) (fun c3 => ?_) (fun c3 => ?_)
  · replace hq := hq.1 c3
    refine x_iinc (lv' := [(9, .int (x9 + 1)), (0, rv x0), (1, rv x1), (4, .int x4), (5, rv x5), (6, rv x6), (7, rv x7), (8, .int x8), (10, .int x10), (11, rv x11), (12, .int x12)]) 7 dX5_cases_376 rfl (by decide) rfl ?_
    refine x_aload 9 dX5_cases_379 rfl ?_
    refine x_getN (v := rv (fR h x11 3844)) gfX5_307 dX5_cases_381 g1 rfl ?_
    refine x_astore (lv' := [(11, rv (fR h x11 3844)), (9, .int (x9 + 1)), (0, rv x0), (1, rv x1), (4, .int x4), (5, rv x5), (6, rv x6), (7, rv x7), (8, .int x8), (10, .int x10), (12, .int x12)]) dX5_cases_384 (by decide) rfl ?_
    refine x_goto (tgt := 329) dX5_cases_386 (by decide) ?_
    refine xP.pick (lv' := [(0, rv x0), (1, rv x1), (4, .int x4), (5, rv x5), (6, rv x6), (7, rv x7), (8, .int x8), (9, .int (x9 + 1)), (10, .int x10), (11, rv (fR h x11 3844))]) [2, 3, 4, 5, 6, 7, 8, 1, 9, 0] rfl ?_
    exact hq
  · replace hq := hq.2 c3
    refine x_aload_n 0 dX5_cases_350 rfl ?_
    obtain ⟨g4, hq⟩ := hq
    refine x_get (v := rv (fR h x0 1281)) fdX5_62 dX5_cases_351 g4 rfl ?_
    refine x_aload 3 dX5_cases_354 rfl ?_
    refine x_iload 6 dX5_cases_356 rfl ?_
    obtain ⟨g5, hq⟩ := hq
    obtain ⟨i6, hq⟩ := hq
    refine x_iald 0 (Or.inl rfl) g5 i6 dX5_cases_358 ?_
    refine x_aload 4 dX5_cases_359 rfl ?_
    refine x_iload 7 dX5_cases_361 rfl ?_
    obtain ⟨g7, hq⟩ := hq
    obtain ⟨i8, hq⟩ := hq
    refine x_iald 0 (Or.inl rfl) g7 i8 dX5_cases_363 ?_
    obtain ⟨g9, hq⟩ := hq
    obtain ⟨g10, g11, hq⟩ := hq
    refine x_callV (Yc := YX2_when) (as := [.int (aI h x5 (Int32.toNatClampNeg x8)), .int (aI h x6 (Int32.toNatClampNeg x9))]) (st := []) q2708 mvX2_when g9 rfl dX5_cases_364 (xle (xal1 (rv_cat _) (xal1 rfl (xal1 rfl xal0))) (by decide)) (xfr g10) (xlo xsw0 (by decide) g11) (xKv hq (fun h12 hq e14 => ?_) (fun _ _ q _ => q))
    replace hq := hq e14
    refine x_iinc (lv' := [(8, .int (x8 + 1)), (0, rv x0), (1, rv x1), (4, .int x4), (5, rv x5), (6, rv x6), (7, rv x7), (9, .int x9), (10, .int x10), (11, rv x11), (12, .int x12)]) 6 dX5_cases_367 rfl (by decide) (by first | rfl | (simp [rv_cat, Value.category]; done) | (simp [rv_cat, Value.category]; decide)) ?_
    refine x_iinc (lv' := [(12, .int (x12 + 1)), (8, .int (x8 + 1)), (0, rv x0), (1, rv x1), (4, .int x4), (5, rv x5), (6, rv x6), (7, rv x7), (9, .int x9), (10, .int x10), (11, rv x11)]) 10 dX5_cases_370 rfl (by decide) (by first | rfl | (simp [rv_cat, Value.category]; done) | (simp [rv_cat, Value.category]; decide)) ?_
    refine x_goto (tgt := 337) dX5_cases_373 (by decide) ?_
    refine xP.pick (lv' := [(0, rv x0), (1, rv x1), (4, .int x4), (5, rv x5), (6, rv x6), (7, rv x7), (8, .int (x8 + 1)), (9, .int x9), (10, .int x10), (11, rv x11), (12, .int (x12 + 1))]) [2, 3, 4, 5, 6, 7, 1, 8, 9, 10, 0] rfl ?_
    exact hq
set_option maxRecDepth 100000 in
def bX5_cases_329 (G : xG) (fr lo : Nat) (x0 : Nat) (x1 : Nat) (x4 : Int32) (x5 : Nat) (x6 : Nat) (x7 : Nat) (x8 : Int32) (x9 : Int32) (x10 : Int32) (x11 : Nat) (h : xH) (Q : Outcome → xH → Prop) : Prop := ((x11 = 0 → tg h x0 = 6 ∧ tg h x1 = 16 ∧ 1 ≤ fr ∧ 17 ≤ lo ∧ xRi G YX15_place (fr - 1) (lo - 17) [rv x1] h (fun x7 h6 => xext h h6 → tg h6 (fR h x0 1281) = 3 ∧ 1 ≤ fr ∧ 17 ≤ lo ∧ xRi G YX2_put (fr - 1) (lo - 17) [rv (fR h x0 1281), .int 53, .int x10, .int x4, .int 0, .int x7] h6 (fun x13 h12 => xext h6 h12 → lX5_cases_411 G fr lo x0 x7 x9 0 h12 Q) (fun r h2 => Q (.threw r) h2)) (fun r h2 => Q (.threw r) h2)) ∧ (¬ x11 = 0 → lX5_cases_337 G fr lo x0 x1 x4 x5 x6 x7 x8 x9 x10 x11 0 h Q))
set_option maxRecDepth 100000 in
theorem uX5_cases_329 {G : xG} {fr lo : Nat} {x0 : Nat} {x1 : Nat} {x4 : Int32} {x5 : Nat} {x6 : Nat} {x7 : Nat} {x8 : Int32} {x9 : Int32} {x10 : Int32} {x11 : Nat} {h : xH} {Q : Outcome → xH → Prop} (hq : bX5_cases_329 G fr lo x0 x1 x4 x5 x6 x7 x8 x9 x10 x11 h Q) : xP G YX5_cases fr lo 329 [(0, rv x0), (1, rv x1), (4, .int x4), (5, rv x5), (6, rv x6), (7, rv x7), (8, .int x8), (9, .int x9), (10, .int x10), (11, rv x11)] [] h Q := by
  unfold bX5_cases_329 at hq
  refine x_aload 9 dX5_cases_329 rfl ?_
  refine x_ifnull (tgt := 389) dX5_cases_331 (by decide) (fun c1 => ?_) (fun c1 => ?_)
  · replace hq := hq.1 c1
    refine x_aload_n 0 dX5_cases_389 rfl ?_
    obtain ⟨g2, hq⟩ := hq
    refine x_get (v := rv (fR h x0 1281)) fdX5_62 dX5_cases_390 g2 rfl ?_
    refine x_bipush (v := 53) dX5_cases_393 (by decide) ?_
    refine x_iload 8 dX5_cases_395 rfl ?_
    refine x_iload 2 dX5_cases_397 rfl ?_
    refine x_iconst (v := 0) dX5_cases_399 (by decide) ?_
    refine x_aload_n 1 dX5_cases_400 rfl ?_
    obtain ⟨g3, hq⟩ := hq
    obtain ⟨g4, g5, hq⟩ := hq
    refine x_callV (Yc := YX15_place) (as := []) (st := [.int 0, .int x4, .int x10, .int 53, rv (fR h x0 1281)]) q2013 mvX15_place g3 rfl dX5_cases_401 (xle (xal1 (rv_cat _) xal0) (by decide)) (xfr g4) (xlo (xsw1 rfl (xsw1 rfl (xsw1 rfl (xsw1 rfl (xsw1 (rv_cat _) xsw0))))) (by decide) g5) (xKi hq (fun x7 h6 hq e8 => ?_) (fun _ _ q _ => q))
    replace hq := hq e8
    obtain ⟨g9, hq⟩ := hq
    obtain ⟨g10, g11, hq⟩ := hq
    refine x_callV (Yc := YX2_put) (as := [.int 53, .int x10, .int x4, .int 0, .int x7]) (st := []) q2494 mvX2_put g9 rfl dX5_cases_404 (xle (xal1 (rv_cat _) (xal1 rfl (xal1 rfl (xal1 rfl (xal1 rfl (xal1 rfl xal0)))))) (by decide)) (xfr g10) (xlo xsw0 (by decide) g11) (xKi hq (fun x13 h12 hq e14 => ?_) (fun _ _ q _ => q))
    replace hq := hq e14
    refine x_pop dX5_cases_407 rfl ?_
    refine x_iconst (v := 0) dX5_cases_408 (by decide) ?_
    refine x_istore (lv' := [(11, .int 0), (0, rv x0), (1, rv x1), (4, .int x4), (5, rv x5), (6, rv x6), (7, rv x7), (8, .int x8), (9, .int x9), (10, .int x10)]) dX5_cases_409 (by decide) rfl ?_
    refine xP.pick (lv' := [(0, rv x0), (7, rv x7), (9, .int x9), (11, .int 0)]) [1, 6, 8, 0] rfl ?_
    exact hq
  · replace hq := hq.2 c1
    refine x_iconst (v := 0) dX5_cases_334 (by decide) ?_
    refine x_istore (lv' := [(12, .int 0), (0, rv x0), (1, rv x1), (4, .int x4), (5, rv x5), (6, rv x6), (7, rv x7), (8, .int x8), (9, .int x9), (10, .int x10), (11, rv x11)]) dX5_cases_335 (by decide) (by first | rfl | (simp [rv_cat, Value.category]; done) | (simp [rv_cat, Value.category]; decide)) ?_
    refine xP.pick (lv' := [(0, rv x0), (1, rv x1), (4, .int x4), (5, rv x5), (6, rv x6), (7, rv x7), (8, .int x8), (9, .int x9), (10, .int x10), (11, rv x11), (12, .int 0)]) [1, 2, 3, 4, 5, 6, 7, 8, 9, 10, 0] rfl ?_
    exact hq
set_option maxRecDepth 100000 in
def bX5_cases_178 (G : xG) (fr lo : Nat) (x0 : Nat) (x1 : Nat) (x2 : Nat) (x3 : Int32) (x4 : Int32) (x5 : Nat) (x6 : Nat) (x7 : Nat) (x8 : Int32) (x9 : Int32) (x10 : Nat) (x11 : Nat) (x12 : Int32) (h : xH) (Q : Outcome → xH → Prop) : Prop := ((x8 ≤ x12 → tg h x0 = 6 ∧ tg h x5 = 100 ∧ vp_in x8 (ln h x5) ∧ (∀ h5 : xH, h5 = tI h x5 (Int32.toNatClampNeg x8) (fI h x0 1297) → tg h5 x11 = 16 ∧ lX5_cases_133 G fr lo x0 x1 x2 x3 x4 x5 x6 x7 (x8 + 1) x9 x10 (fR h5 x11 3844) h5 Q)) ∧ (¬ x8 ≤ x12 → tg h x5 = 100 ∧ vp_in x12 (ln h x5) ∧ tg h x0 = 6 ∧ ((¬ (aI h x5 (Int32.toNatClampNeg x12)) = (fI h x0 1297) → lX5_cases_178 G fr lo x0 x1 x2 x3 x4 x5 x6 x7 x8 x9 x10 x11 (x12 + 1) h Q) ∧ ((aI h x5 (Int32.toNatClampNeg x12)) = (fI h x0 1297) → 1 ≤ fr ∧ 15 ≤ lo ∧ xRi G YX5_firstOfConstant (fr - 1) (lo - 15) [rv x0, rv x11] h (fun x15 h14 => xext h h14 → 1 ≤ fr ∧ 14 ≤ lo ∧ xRr G YX5_fault (fr - 1) (lo - 14) [rv x0, .int 5, .int x15] h14 (fun x21 h20 => xext h14 h20 → (∃ r23, x21 = r23 + 1 ∧ Q (.threw r23) h20)) (fun r h2 => Q (.threw r) h2)) (fun r h2 => Q (.threw r) h2)))))
set_option maxRecDepth 100000 in
theorem uX5_cases_178 {G : xG} {fr lo : Nat} {x0 : Nat} {x1 : Nat} {x2 : Nat} {x3 : Int32} {x4 : Int32} {x5 : Nat} {x6 : Nat} {x7 : Nat} {x8 : Int32} {x9 : Int32} {x10 : Nat} {x11 : Nat} {x12 : Int32} {h : xH} {Q : Outcome → xH → Prop} (hq : bX5_cases_178 G fr lo x0 x1 x2 x3 x4 x5 x6 x7 x8 x9 x10 x11 x12 h Q) : xP G YX5_cases fr lo 178 [(0, rv x0), (1, rv x1), (2, rv x2), (3, .int x3), (4, .int x4), (5, rv x5), (6, rv x6), (7, rv x7), (8, .int x8), (9, .int x9), (10, rv x10), (11, rv x11), (12, .int x12)] [] h Q := by
  unfold bX5_cases_178 at hq
  refine x_iload 12 dX5_cases_178 rfl ?_
  refine x_iload 8 dX5_cases_180 rfl ?_
  refine x_icmp_ge (tgt := 215) dX5_cases_182 (by decide) (fun c1 => ?_) (fun c1 => ?_)
  · replace hq := hq.1 c1
    refine x_aload 5 dX5_cases_215 rfl ?_
    refine x_iload 8 dX5_cases_217 rfl ?_
    refine x_aload_n 0 dX5_cases_219 rfl ?_
    obtain ⟨g2, hq⟩ := hq
    refine x_get (v := .int (fI h x0 1297)) fdX5_222 dX5_cases_220 g2 rfl ?_
    obtain ⟨g3, hq⟩ := hq
    obtain ⟨i4, hq⟩ := hq
    obtain ⟨h5, e6⟩ : ∃ y, y = tI h x5 (Int32.toNatClampNeg x8) (fI h x0 1297) := ⟨_, rfl⟩
    replace hq := hq h5 e6
    refine x_iast' g3 i4 dX5_cases_223 e6 ?_
    refine x_iinc (lv' := [(8, .int (x8 + 1)), (0, rv x0), (1, rv x1), (2, rv x2), (3, .int x3), (4, .int x4), (5, rv x5), (6, rv x6), (7, rv x7), (9, .int x9), (10, rv x10), (11, rv x11), (12, .int x12)]) 8 dX5_cases_224 rfl (by decide) (by first | rfl | (simp [rv_cat, Value.category]; done) | (simp [rv_cat, Value.category]; decide)) ?_
    refine x_aload 11 dX5_cases_227 rfl ?_
    obtain ⟨g7, hq⟩ := hq
    refine x_getN (v := rv (fR h5 x11 3844)) gfX5_307 dX5_cases_229 g7 rfl ?_
    refine x_astore (lv' := [(11, rv (fR h5 x11 3844)), (8, .int (x8 + 1)), (0, rv x0), (1, rv x1), (2, rv x2), (3, .int x3), (4, .int x4), (5, rv x5), (6, rv x6), (7, rv x7), (9, .int x9), (10, rv x10), (12, .int x12)]) dX5_cases_232 (by decide) (by first | rfl | (simp [rv_cat, Value.category]; done) | (simp [rv_cat, Value.category]; decide)) ?_
    refine x_goto (tgt := 133) dX5_cases_234 (by decide) ?_
    refine xP.pick (lv' := [(0, rv x0), (1, rv x1), (2, rv x2), (3, .int x3), (4, .int x4), (5, rv x5), (6, rv x6), (7, rv x7), (8, .int (x8 + 1)), (9, .int x9), (10, rv x10), (11, rv (fR h5 x11 3844))]) [2, 3, 4, 5, 6, 7, 8, 9, 1, 10, 11, 0] rfl ?_
    exact hq
  · replace hq := hq.2 c1
    refine x_aload 5 dX5_cases_185 rfl ?_
    refine x_iload 12 dX5_cases_187 rfl ?_
    obtain ⟨g8, hq⟩ := hq
    obtain ⟨i9, hq⟩ := hq
    refine x_iald 0 (Or.inl rfl) g8 i9 dX5_cases_189 ?_
    refine x_aload_n 0 dX5_cases_190 rfl ?_
    obtain ⟨g10, hq⟩ := hq
    refine x_get (v := .int (fI h x0 1297)) fdX5_222 dX5_cases_191 g10 rfl ?_
    refine x_icmp_ne (tgt := 209) dX5_cases_194 (by decide) (fun c11 => ?_) (fun c11 => ?_)
    · replace hq := hq.1 c11
      refine x_iinc (lv' := [(12, .int (x12 + 1)), (0, rv x0), (1, rv x1), (2, rv x2), (3, .int x3), (4, .int x4), (5, rv x5), (6, rv x6), (7, rv x7), (8, .int x8), (9, .int x9), (10, rv x10), (11, rv x11)]) 12 dX5_cases_209 rfl (by decide) (by first | rfl | (simp [rv_cat, Value.category]; done) | (simp [rv_cat, Value.category]; decide)) ?_
      refine x_goto (tgt := 178) dX5_cases_212 (by decide) ?_
      refine xP.pick (lv' := [(0, rv x0), (1, rv x1), (2, rv x2), (3, .int x3), (4, .int x4), (5, rv x5), (6, rv x6), (7, rv x7), (8, .int x8), (9, .int x9), (10, rv x10), (11, rv x11), (12, .int (x12 + 1))]) [1, 2, 3, 4, 5, 6, 7, 8, 9, 10, 11, 12, 0] rfl ?_
      exact hq
    · replace hq := hq.2 c11
      refine x_aload_n 0 dX5_cases_197 rfl ?_
      refine x_iconst (v := 5) dX5_cases_198 (by decide) ?_
      refine x_aload_n 0 dX5_cases_199 rfl ?_
      refine x_aload 11 dX5_cases_200 rfl ?_
      obtain ⟨g12, g13, hq⟩ := hq
      refine x_callV (Yc := YX5_firstOfConstant) (as := [rv x11]) (st := [.int 5, rv x0]) q2300 mvX5_firstOfConstant g10 rfl dX5_cases_202 (xle (xal1 (rv_cat _) (xal1 (rv_cat _) xal0)) (by decide)) (xfr g12) (xlo (xsw1 rfl (xsw1 (rv_cat _) xsw0)) (by decide) g13) (xKi hq (fun x15 h14 hq e16 => ?_) (fun _ _ q _ => q))
      replace hq := hq e16
      have t17 : tg h14 x0 = 6 := e16.tg g10 (by decide)
      obtain ⟨g18, g19, hq⟩ := hq
      refine x_callV (Yc := YX5_fault) (as := [.int 5, .int x15]) (st := []) q2087 mvX5_fault t17 rfl dX5_cases_205 (xle (xal1 (rv_cat _) (xal1 rfl (xal1 rfl xal0))) (by decide)) (xfr g18) (xlo xsw0 (by decide) g19) (xKr hq (fun x21 h20 hq e22 => ?_) (fun _ _ q _ => q))
      replace hq := hq e22
      obtain ⟨r23, g24, hq⟩ := hq
      rw [g24]
      exact x_athrow dX5_cases_208 hq
set_option maxRecDepth 100000 in
def bX5_cases_162 (G : xG) (fr lo : Nat) (x0 : Nat) (x11 : Nat) (h : xH) (Q : Outcome → xH → Prop) : Prop := tg h x0 = 6 ∧ 1 ≤ fr ∧ 15 ≤ lo ∧ xRi G YX5_firstOfConstant (fr - 1) (lo - 15) [rv x0, rv x11] h (fun x5 h4 => xext h h4 → 1 ≤ fr ∧ 14 ≤ lo ∧ xRr G YX5_fault (fr - 1) (lo - 14) [rv x0, .int 7, .int x5] h4 (fun x11 h10 => xext h4 h10 → (∃ r13, x11 = r13 + 1 ∧ Q (.threw r13) h10)) (fun r h2 => Q (.threw r) h2)) (fun r h2 => Q (.threw r) h2)
set_option maxRecDepth 100000 in
theorem uX5_cases_162 {G : xG} {fr lo : Nat} {x0 : Nat} {x11 : Nat} {h : xH} {Q : Outcome → xH → Prop} (hq : bX5_cases_162 G fr lo x0 x11 h Q) : xP G YX5_cases fr lo 162 [(0, rv x0), (11, rv x11)] [] h Q := by
  unfold bX5_cases_162 at hq
  refine x_aload_n 0 dX5_cases_162 rfl ?_
  refine x_bipush (v := 7) dX5_cases_163 (by decide) ?_
  refine x_aload_n 0 dX5_cases_165 rfl ?_
  refine x_aload 1 dX5_cases_166 rfl ?_
  obtain ⟨g1, hq⟩ := hq
  obtain ⟨g2, g3, hq⟩ := hq
  refine x_callV (Yc := YX5_firstOfConstant) (as := [rv x11]) (st := [.int 7, rv x0]) q2300 mvX5_firstOfConstant g1 rfl dX5_cases_168 (xle (xal1 (rv_cat _) (xal1 (rv_cat _) xal0)) (by decide)) (xfr g2) (xlo (xsw1 rfl (xsw1 (rv_cat _) xsw0)) (by decide) g3) (xKi hq (fun x5 h4 hq e6 => ?_) (fun _ _ q _ => q))
  replace hq := hq e6
  have t7 : tg h4 x0 = 6 := e6.tg g1 (by decide)
  obtain ⟨g8, g9, hq⟩ := hq
  refine x_callV (Yc := YX5_fault) (as := [.int 7, .int x5]) (st := []) q2087 mvX5_fault t7 rfl dX5_cases_171 (xle (xal1 (rv_cat _) (xal1 rfl (xal1 rfl xal0))) (by decide)) (xfr g8) (xlo xsw0 (by decide) g9) (xKr hq (fun x11 h10 hq e12 => ?_) (fun _ _ q _ => q))
  replace hq := hq e12
  obtain ⟨r13, g14, hq⟩ := hq
  rw [g14]
  exact x_athrow dX5_cases_174 hq
set_option maxRecDepth 100000 in
def bX5_cases_133 (G : xG) (fr lo : Nat) (x0 : Nat) (x1 : Nat) (x2 : Nat) (x3 : Int32) (x4 : Int32) (x5 : Nat) (x6 : Nat) (x7 : Nat) (x8 : Int32) (x9 : Int32) (x10 : Nat) (x11 : Nat) (h : xH) (Q : Outcome → xH → Prop) : Prop := ((x11 = 0 → tg h x0 = 6 ∧ tg h (fR h x0 1281) = 3 ∧ tg h x6 = 100 ∧ vp_in x9 (ln h x6) ∧ (∀ h6 : xH, h6 = tI h x6 (Int32.toNatClampNeg x9) (fI h (fR h x0 1281) 517) → tg h6 x10 = 16 ∧ 1 ≤ fr ∧ 16 ≤ lo ∧ xRr G YX15_kid (fr - 1) (lo - 16) [rv x10, .int 1] h6 (fun x12 h11 => xext h6 h11 → 1 ≤ fr ∧ 13 ≤ lo ∧ xRv G YX5_inner (fr - 1) (lo - 13) [rv x0, rv x12] h11 (fun h18 => xext h11 h18 → tg h18 (fR h18 x0 1281) = 3 ∧ 1 ≤ fr ∧ 19 ≤ lo ∧ xRi G YX2_put (fr - 1) (lo - 19) [rv (fR h18 x0 1281), .int 50, .int 0, .int 0, .int 0, .int 0] h18 (fun x26 h25 => xext h18 h25 → tg h25 x7 = 100 ∧ vp_in x9 (ln h25 x7) ∧ (∀ h30 : xH, h30 = tI h25 x7 (Int32.toNatClampNeg x9) x26 → lX5_cases_118 G fr lo x0 x1 x2 x3 x4 x5 x6 x7 x8 (x9 + 1) (fR h30 x10 3844) h30 Q)) (fun r h2 => Q (.threw r) h2)) (fun r h2 => Q (.threw r) h2)) (fun r h2 => Q (.threw r) h2))) ∧ (¬ x11 = 0 → tg h x0 = 6 ∧ 1 ≤ fr ∧ 15 ≤ lo ∧ xRv G YX5_constant (fr - 1) (lo - 15) [rv x0, rv x11] h (fun h39 => xext h h39 → tg h39 (fR h39 x0 1296) = 7 ∧ 1 ≤ fr ∧ 12 ≤ lo ∧ xRi G YX6_isOrdinal (fr - 1) (lo - 12) [rv (fR h39 x0 1296)] h39 (fun x47 h46 => xext h39 h46 → ((x47 = 0 → bX5_cases_162 G fr lo x0 x11 h46 Q) ∧ (¬ x47 = 0 → (((fR h46 x0 1296) = x2 → lX5_cases_178 G fr lo x0 x1 x2 x3 x4 x5 x6 x7 x8 x9 x10 x11 0 h46 Q) ∧ (¬ (fR h46 x0 1296) = x2 → bX5_cases_162 G fr lo x0 x11 h46 Q))))) (fun r h2 => Q (.threw r) h2)) (fun r h2 => Q (.threw r) h2)))
set_option maxRecDepth 100000 in
theorem uX5_cases_133 {G : xG} {fr lo : Nat} {x0 : Nat} {x1 : Nat} {x2 : Nat} {x3 : Int32} {x4 : Int32} {x5 : Nat} {x6 : Nat} {x7 : Nat} {x8 : Int32} {x9 : Int32} {x10 : Nat} {x11 : Nat} {h : xH} {Q : Outcome → xH → Prop} (hq : bX5_cases_133 G fr lo x0 x1 x2 x3 x4 x5 x6 x7 x8 x9 x10 x11 h Q) : xP G YX5_cases fr lo 133 [(0, rv x0), (1, rv x1), (2, rv x2), (3, .int x3), (4, .int x4), (5, rv x5), (6, rv x6), (7, rv x7), (8, .int x8), (9, .int x9), (10, rv x10), (11, rv x11)] [] h Q := by
  unfold bX5_cases_133 at hq
  refine x_aload 11 dX5_cases_133 rfl ?_
  refine x_ifnull (tgt := 237) dX5_cases_135 (by decide) (fun c1 => ?_) (fun c1 => ?_)
  · replace hq := hq.1 c1
    refine x_aload 6 dX5_cases_237 rfl ?_
    refine x_iload 9 dX5_cases_239 rfl ?_
    refine x_aload_n 0 dX5_cases_241 rfl ?_
    obtain ⟨g2, hq⟩ := hq
    refine x_get (v := rv (fR h x0 1281)) fdX5_62 dX5_cases_242 g2 rfl ?_
    obtain ⟨g3, hq⟩ := hq
    refine x_getN (v := .int (fI h (fR h x0 1281) 517)) gfX5_501 dX5_cases_245 g3 rfl ?_
    obtain ⟨g4, hq⟩ := hq
    obtain ⟨i5, hq⟩ := hq
    obtain ⟨h6, e7⟩ : ∃ y, y = tI h x6 (Int32.toNatClampNeg x9) (fI h (fR h x0 1281) 517) := ⟨_, rfl⟩
    replace hq := hq h6 e7
    refine x_iast' g4 i5 dX5_cases_248 e7 ?_
    refine x_aload_n 0 dX5_cases_249 rfl ?_
    refine x_aload 10 dX5_cases_250 rfl ?_
    refine x_iconst (v := 1) dX5_cases_252 (by decide) ?_
    obtain ⟨g8, hq⟩ := hq
    obtain ⟨g9, g10, hq⟩ := hq
    refine x_callV (Yc := YX15_kid) (as := [.int 1]) (st := [rv x0]) q2129 mvX15_kid g8 rfl dX5_cases_253 (xle (xal1 (rv_cat _) (xal1 rfl xal0)) (by decide)) (xfr g9) (xlo (xsw1 (rv_cat _) xsw0) (by decide) g10) (xKr hq (fun x12 h11 hq e13 => ?_) (fun _ _ q _ => q))
    replace hq := hq e13
    have t14 : tg h6 x0 = 6 := by rw [e7]; exact g2
    have t15 : tg h11 x0 = 6 := e13.tg t14 (by decide)
    obtain ⟨g16, g17, hq⟩ := hq
    refine x_callV (Yc := YX5_inner) (as := [rv x12]) (st := []) q2696 mvX5_inner t15 rfl dX5_cases_256 (xle (xal1 (rv_cat _) (xal1 (rv_cat _) xal0)) (by decide)) (xfr g16) (xlo xsw0 (by decide) g17) (xKv hq (fun h18 hq e20 => ?_) (fun _ _ q _ => q))
    replace hq := hq e20
    refine x_aload 7 dX5_cases_259 rfl ?_
    refine x_iload 9 dX5_cases_261 rfl ?_
    refine x_aload_n 0 dX5_cases_263 rfl ?_
    have t21 : tg h18 x0 = 6 := e20.tg t15 (by decide)
    refine x_get (v := rv (fR h18 x0 1281)) fdX5_62 dX5_cases_264 t21 rfl ?_
    refine x_bipush (v := 50) dX5_cases_267 (by decide) ?_
    refine x_iconst (v := 0) dX5_cases_269 (by decide) ?_
    refine x_iconst (v := 0) dX5_cases_270 (by decide) ?_
    refine x_iconst (v := 0) dX5_cases_271 (by decide) ?_
    refine x_iconst (v := 0) dX5_cases_272 (by decide) ?_
    obtain ⟨g22, hq⟩ := hq
    obtain ⟨g23, g24, hq⟩ := hq
    refine x_callV (Yc := YX2_put) (as := [.int 50, .int 0, .int 0, .int 0, .int 0]) (st := [.int x9, rv x7]) q2494 mvX2_put g22 rfl dX5_cases_273 (xle (xal1 (rv_cat _) (xal1 rfl (xal1 rfl (xal1 rfl (xal1 rfl (xal1 rfl xal0)))))) (by decide)) (xfr g23) (xlo (xsw1 rfl (xsw1 (rv_cat _) xsw0)) (by decide) g24) (xKi hq (fun x26 h25 hq e27 => ?_) (fun _ _ q _ => q))
    replace hq := hq e27
    obtain ⟨g28, hq⟩ := hq
    obtain ⟨i29, hq⟩ := hq
    obtain ⟨h30, e31⟩ : ∃ y, y = tI h25 x7 (Int32.toNatClampNeg x9) x26 := ⟨_, rfl⟩
    replace hq := hq h30 e31
    refine x_iast' g28 i29 dX5_cases_276 e31 ?_
    refine x_iinc (lv' := [(9, .int (x9 + 1)), (0, rv x0), (1, rv x1), (2, rv x2), (3, .int x3), (4, .int x4), (5, rv x5), (6, rv x6), (7, rv x7), (8, .int x8), (10, rv x10), (11, rv x11)]) 9 dX5_cases_277 rfl (by decide) rfl ?_
    refine x_aload 10 dX5_cases_280 rfl ?_
    have t32 : tg h11 x10 = 16 := e13.tg g8 (by decide)
    have t33 : tg h18 x10 = 16 := e20.tg t32 (by decide)
    have t34 : tg h25 x10 = 16 := e27.tg t33 (by decide)
    have t35 : tg h30 x10 = 16 := by rw [e31]; exact t34
    refine x_getN (v := rv (fR h30 x10 3844)) gfX5_307 dX5_cases_282 t35 rfl ?_
    refine x_astore (lv' := [(10, rv (fR h30 x10 3844)), (9, .int (x9 + 1)), (0, rv x0), (1, rv x1), (2, rv x2), (3, .int x3), (4, .int x4), (5, rv x5), (6, rv x6), (7, rv x7), (8, .int x8), (11, rv x11)]) dX5_cases_285 (by decide) rfl ?_
    refine x_goto (tgt := 118) dX5_cases_287 (by decide) ?_
    refine xP.pick (lv' := [(0, rv x0), (1, rv x1), (2, rv x2), (3, .int x3), (4, .int x4), (5, rv x5), (6, rv x6), (7, rv x7), (8, .int x8), (9, .int (x9 + 1)), (10, rv (fR h30 x10 3844))]) [2, 3, 4, 5, 6, 7, 8, 9, 10, 1, 0] rfl ?_
    exact hq
  · replace hq := hq.2 c1
    refine x_aload_n 0 dX5_cases_138 rfl ?_
    refine x_aload 11 dX5_cases_139 rfl ?_
    obtain ⟨g36, hq⟩ := hq
    obtain ⟨g37, g38, hq⟩ := hq
    refine x_callV (Yc := YX5_constant) (as := [rv x11]) (st := []) q2229 mvX5_constant g36 rfl dX5_cases_141 (xle (xal1 (rv_cat _) (xal1 (rv_cat _) xal0)) (by decide)) (xfr g37) (xlo xsw0 (by decide) g38) (xKv hq (fun h39 hq e41 => ?_) (fun _ _ q _ => q))
    replace hq := hq e41
    refine x_aload_n 0 dX5_cases_144 rfl ?_
    have t42 : tg h39 x0 = 6 := e41.tg g36 (by decide)
    refine x_get (v := rv (fR h39 x0 1296)) fdX5_216 dX5_cases_145 t42 rfl ?_
    obtain ⟨g43, hq⟩ := hq
    obtain ⟨g44, g45, hq⟩ := hq
    refine x_callV (Yc := YX6_isOrdinal) (as := []) (st := []) q2288 mvX6_isOrdinal g43 rfl dX5_cases_148 (xle (xal1 (rv_cat _) xal0) (by decide)) (xfr g44) (xlo xsw0 (by decide) g45) (xKi hq (fun x47 h46 hq e48 => ?_) (fun _ _ q _ => q))
    replace hq := hq e48
    refine x_if_eq (tgt := 162) dX5_cases_151 (by decide) (fun c49 => ?_) (fun c49 => ?_)
    · replace hq := hq.1 c49
      refine xP.pick (lv' := [(0, rv x0), (11, rv x11)]) [0, 11] rfl ?_
      exact uX5_cases_162 hq
    · replace hq := hq.2 c49
      refine x_aload_n 0 dX5_cases_154 rfl ?_
      have t50 : tg h46 x0 = 6 := e48.tg t42 (by decide)
      refine x_get (v := rv (fR h46 x0 1296)) fdX5_216 dX5_cases_155 t50 rfl ?_
      refine x_aload_n 2 dX5_cases_158 rfl ?_
      refine x_acmp_eq (tgt := 175) dX5_cases_159 (by decide) (fun c51 => ?_) (fun c51 => ?_)
      · replace hq := hq.1 c51
        refine x_iconst (v := 0) dX5_cases_175 (by decide) ?_
        refine x_istore (lv' := [(12, .int 0), (0, rv x0), (1, rv x1), (2, rv x2), (3, .int x3), (4, .int x4), (5, rv x5), (6, rv x6), (7, rv x7), (8, .int x8), (9, .int x9), (10, rv x10), (11, rv x11)]) dX5_cases_176 (by decide) (by first | rfl | (simp [rv_cat, Value.category]; done) | (simp [rv_cat, Value.category]; decide)) ?_
        refine xP.pick (lv' := [(0, rv x0), (1, rv x1), (2, rv x2), (3, .int x3), (4, .int x4), (5, rv x5), (6, rv x6), (7, rv x7), (8, .int x8), (9, .int x9), (10, rv x10), (11, rv x11), (12, .int 0)]) [1, 2, 3, 4, 5, 6, 7, 8, 9, 10, 11, 12, 0] rfl ?_
        exact hq
      · replace hq := hq.2 c51
        refine xP.pick (lv' := [(0, rv x0), (11, rv x11)]) [0, 11] rfl ?_
        exact uX5_cases_162 hq
set_option maxRecDepth 100000 in
def bX5_cases_118 (G : xG) (fr lo : Nat) (x0 : Nat) (x1 : Nat) (x2 : Nat) (x3 : Int32) (x4 : Int32) (x5 : Nat) (x6 : Nat) (x7 : Nat) (x8 : Int32) (x9 : Int32) (x10 : Nat) (h : xH) (Q : Outcome → xH → Prop) : Prop := ((x10 = 0 → tg h x0 = 6 ∧ tg h (fR h x0 1281) = 3 ∧ 1 ≤ fr ∧ 14 ≤ lo ∧ xRv G YX2_go (fr - 1) (lo - 14) [rv (fR h x0 1281), .int x3, .int (fI h (fR h x0 1281) 517)] h (fun h6 => xext h h6 → tg h6 (fR h6 x0 1281) = 3 ∧ tg h6 x1 = 16 ∧ tg h6 (fR h6 x1 3842) = 16 ∧ lX5_cases_329 G fr lo x0 x1 x4 x5 x6 x7 0 0 (fI h6 (fR h6 x0 1281) 526) (fR h6 (fR h6 x1 3842) 3844) h6 Q) (fun r h2 => Q (.threw r) h2)) ∧ (¬ x10 = 0 → tg h x10 = 16 ∧ tg h (fR h x10 3842) = 16 ∧ lX5_cases_133 G fr lo x0 x1 x2 x3 x4 x5 x6 x7 x8 x9 x10 (fR h (fR h x10 3842) 3842) h Q))
set_option maxRecDepth 100000 in
theorem uX5_cases_118 {G : xG} {fr lo : Nat} {x0 : Nat} {x1 : Nat} {x2 : Nat} {x3 : Int32} {x4 : Int32} {x5 : Nat} {x6 : Nat} {x7 : Nat} {x8 : Int32} {x9 : Int32} {x10 : Nat} {h : xH} {Q : Outcome → xH → Prop} (hq : bX5_cases_118 G fr lo x0 x1 x2 x3 x4 x5 x6 x7 x8 x9 x10 h Q) : xP G YX5_cases fr lo 118 [(0, rv x0), (1, rv x1), (2, rv x2), (3, .int x3), (4, .int x4), (5, rv x5), (6, rv x6), (7, rv x7), (8, .int x8), (9, .int x9), (10, rv x10)] [] h Q := by
  unfold bX5_cases_118 at hq
  refine x_aload 10 dX5_cases_118 rfl ?_
  refine x_ifnull (tgt := 290) dX5_cases_120 (by decide) (fun c1 => ?_) (fun c1 => ?_)
  · replace hq := hq.1 c1
    refine x_aload_n 0 dX5_cases_290 rfl ?_
    obtain ⟨g2, hq⟩ := hq
    refine x_get (v := rv (fR h x0 1281)) fdX5_62 dX5_cases_291 g2 rfl ?_
    refine x_iload_n 3 dX5_cases_294 rfl ?_
    refine x_aload_n 0 dX5_cases_295 rfl ?_
    refine x_get (v := rv (fR h x0 1281)) fdX5_62 dX5_cases_296 g2 rfl ?_
    obtain ⟨g3, hq⟩ := hq
    refine x_getN (v := .int (fI h (fR h x0 1281) 517)) gfX5_501 dX5_cases_299 g3 rfl ?_
    obtain ⟨g4, g5, hq⟩ := hq
    refine x_callV (Yc := YX2_go) (as := [.int x3, .int (fI h (fR h x0 1281) 517)]) (st := []) q2700 mvX2_go g3 rfl dX5_cases_302 (xle (xal1 (rv_cat _) (xal1 rfl (xal1 rfl xal0))) (by decide)) (xfr g4) (xlo xsw0 (by decide) g5) (xKv hq (fun h6 hq e8 => ?_) (fun _ _ q _ => q))
    replace hq := hq e8
    refine x_aload_n 0 dX5_cases_305 rfl ?_
    have t9 : tg h6 x0 = 6 := e8.tg g2 (by decide)
    refine x_get (v := rv (fR h6 x0 1281)) fdX5_62 dX5_cases_306 t9 rfl ?_
    obtain ⟨g10, hq⟩ := hq
    refine x_getN (v := .int (fI h6 (fR h6 x0 1281) 526)) gfX5_663 dX5_cases_309 g10 rfl ?_
    refine x_istore (lv' := [(10, .int (fI h6 (fR h6 x0 1281) 526)), (0, rv x0), (1, rv x1), (2, rv x2), (3, .int x3), (4, .int x4), (5, rv x5), (6, rv x6), (7, rv x7), (8, .int x8), (9, .int x9)]) dX5_cases_312 (by decide) rfl ?_
    refine x_iconst (v := 0) dX5_cases_314 (by decide) ?_
    refine x_istore (lv' := [(8, .int 0), (10, .int (fI h6 (fR h6 x0 1281) 526)), (0, rv x0), (1, rv x1), (2, rv x2), (3, .int x3), (4, .int x4), (5, rv x5), (6, rv x6), (7, rv x7), (9, .int x9)]) dX5_cases_315 (by decide) (by first | rfl | (simp [rv_cat, Value.category]; done) | (simp [rv_cat, Value.category]; decide)) ?_
    refine x_iconst (v := 0) dX5_cases_317 (by decide) ?_
    refine x_istore (lv' := [(9, .int 0), (8, .int 0), (10, .int (fI h6 (fR h6 x0 1281) 526)), (0, rv x0), (1, rv x1), (2, rv x2), (3, .int x3), (4, .int x4), (5, rv x5), (6, rv x6), (7, rv x7)]) dX5_cases_318 (by decide) rfl ?_
    refine x_aload_n 4 dX5_cases_320 rfl ?_
    obtain ⟨g11, hq⟩ := hq
    refine x_getN (v := rv (fR h6 x1 3842)) gfX5_251 dX5_cases_321 g11 rfl ?_
    obtain ⟨g12, hq⟩ := hq
    refine x_getN (v := rv (fR h6 (fR h6 x1 3842) 3844)) gfX5_307 dX5_cases_324 g12 rfl ?_
    refine x_astore (lv' := [(11, rv (fR h6 (fR h6 x1 3842) 3844)), (9, .int 0), (8, .int 0), (10, .int (fI h6 (fR h6 x0 1281) 526)), (0, rv x0), (1, rv x1), (2, rv x2), (3, .int x3), (4, .int x4), (5, rv x5), (6, rv x6), (7, rv x7)]) dX5_cases_327 (by decide) rfl ?_
    refine xP.pick (lv' := [(0, rv x0), (1, rv x1), (4, .int x4), (5, rv x5), (6, rv x6), (7, rv x7), (8, .int 0), (9, .int 0), (10, .int (fI h6 (fR h6 x0 1281) 526)), (11, rv (fR h6 (fR h6 x1 3842) 3844))]) [4, 5, 8, 9, 10, 11, 2, 1, 3, 0] rfl ?_
    exact hq
  · replace hq := hq.2 c1
    refine x_aload 10 dX5_cases_123 rfl ?_
    obtain ⟨g13, hq⟩ := hq
    refine x_getN (v := rv (fR h x10 3842)) gfX5_251 dX5_cases_125 g13 rfl ?_
    obtain ⟨g14, hq⟩ := hq
    refine x_getN (v := rv (fR h (fR h x10 3842) 3842)) gfX5_251 dX5_cases_128 g14 rfl ?_
    refine x_astore (lv' := [(11, rv (fR h (fR h x10 3842) 3842)), (0, rv x0), (1, rv x1), (2, rv x2), (3, .int x3), (4, .int x4), (5, rv x5), (6, rv x6), (7, rv x7), (8, .int x8), (9, .int x9), (10, rv x10)]) dX5_cases_131 (by decide) (by first | rfl | (simp [rv_cat, Value.category]; done) | (simp [rv_cat, Value.category]; decide)) ?_
    refine xP.pick (lv' := [(0, rv x0), (1, rv x1), (2, rv x2), (3, .int x3), (4, .int x4), (5, rv x5), (6, rv x6), (7, rv x7), (8, .int x8), (9, .int x9), (10, rv x10), (11, rv (fR h (fR h x10 3842) 3842))]) [1, 2, 3, 4, 5, 6, 7, 8, 9, 10, 11, 0] rfl ?_
    exact hq
set_option maxRecDepth 100000 in
def bX5_cases_53 (G : xG) (fr lo : Nat) (x0 : Nat) (x1 : Nat) (x2 : Nat) (x3 : Int32) (x4 : Int32) (x5 : Nat) (h : xH) (Q : Outcome → xH → Prop) : Prop := ((x5 = 0 → ¬ x4 < 0 ∧ Int32.toNatClampNeg x4 ≤ 1000000 ∧ nx h + 1 ≤ xGN G ∧ us h + (Int32.toNatClampNeg x4) ≤ xGU G ∧ (∀ (a6 : Nat) (h7 : xH), a6 = nx h + 1 → h7 = nA h 100 (Int32.toNatClampNeg x4) → xfresh h a6 → tg h7 x1 = 16 ∧ ¬ (fI h7 x1 3845) < 0 ∧ Int32.toNatClampNeg (fI h7 x1 3845) ≤ 1000000 ∧ nx h7 + 1 ≤ xGN G ∧ us h7 + (Int32.toNatClampNeg (fI h7 x1 3845)) ≤ xGU G ∧ (∀ (a17 : Nat) (h18 : xH), a17 = nx h7 + 1 → h18 = nA h7 100 (Int32.toNatClampNeg (fI h7 x1 3845)) → xfresh h7 a17 → ¬ (fI h18 x1 3845) < 0 ∧ Int32.toNatClampNeg (fI h18 x1 3845) ≤ 1000000 ∧ nx h18 + 1 ≤ xGN G ∧ us h18 + (Int32.toNatClampNeg (fI h18 x1 3845)) ≤ xGU G ∧ (∀ (a28 : Nat) (h29 : xH), a28 = nx h18 + 1 → h29 = nA h18 100 (Int32.toNatClampNeg (fI h18 x1 3845)) → xfresh h18 a28 → tg h29 (fR h29 x1 3842) = 16 ∧ lX5_cases_118 G fr lo x0 x1 x2 x3 x4 a6 a17 a28 0 0 (fR h29 (fR h29 x1 3842) 3844) h29 Q)))) ∧ (¬ x5 = 0 → tg h x5 = 16 ∧ tg h (fR h x5 3842) = 16 ∧ lX5_cases_53 G fr lo x0 x1 x2 x3 (x4 + (fI h (fR h x5 3842) 3845)) (fR h x5 3844) h Q))
set_option maxRecDepth 100000 in
theorem uX5_cases_53 {G : xG} {fr lo : Nat} {x0 : Nat} {x1 : Nat} {x2 : Nat} {x3 : Int32} {x4 : Int32} {x5 : Nat} {h : xH} {Q : Outcome → xH → Prop} (hq : bX5_cases_53 G fr lo x0 x1 x2 x3 x4 x5 h Q) : xP G YX5_cases fr lo 53 [(0, rv x0), (1, rv x1), (2, rv x2), (3, .int x3), (4, .int x4), (5, rv x5)] [] h Q := by
  unfold bX5_cases_53 at hq
  refine x_aload 5 dX5_cases_53 rfl ?_
  refine x_ifnull (tgt := 81) dX5_cases_55 (by decide) (fun c1 => ?_) (fun c1 => ?_)
  · replace hq := hq.1 c1
    refine x_iload 4 dX5_cases_81 rfl ?_
    obtain ⟨g2, g3, hq⟩ := hq
    obtain ⟨g4, g5, hq⟩ := hq
    obtain ⟨a6, e8⟩ : ∃ y, y = nx h + 1 := ⟨_, rfl⟩
    obtain ⟨h7, e9⟩ : ∃ y, y = nA h 100 (Int32.toNatClampNeg x4) := ⟨_, rfl⟩
    refine x_newa' 0 pk_int dX5_cases_83 g2 g3 g4 g5 e8 e9 (fun f10 => ?_)
    replace hq := hq a6 h7 e8 e9 f10
    have t11 : tg h7 a6 = 100 := by rw [e9, e8]; exact tg_nA
    refine x_astore (lv' := [(5, rv a6), (0, rv x0), (1, rv x1), (2, rv x2), (3, .int x3), (4, .int x4)]) dX5_cases_85 (by decide) rfl ?_
    refine x_aload_n 2 dX5_cases_87 rfl ?_
    obtain ⟨g12, hq⟩ := hq
    refine x_getN (v := .int (fI h7 x1 3845)) gfX5_293 dX5_cases_88 g12 rfl ?_
    obtain ⟨g13, g14, hq⟩ := hq
    obtain ⟨g15, g16, hq⟩ := hq
    obtain ⟨a17, e19⟩ : ∃ y, y = nx h7 + 1 := ⟨_, rfl⟩
    obtain ⟨h18, e20⟩ : ∃ y, y = nA h7 100 (Int32.toNatClampNeg (fI h7 x1 3845)) := ⟨_, rfl⟩
    refine x_newa' 0 pk_int dX5_cases_91 g13 g14 g15 g16 e19 e20 (fun f21 => ?_)
    replace hq := hq a17 h18 e19 e20 f21
    have t22 : tg h18 a17 = 100 := by rw [e20, e19]; exact tg_nA
    refine x_astore (lv' := [(6, rv a17), (5, rv a6), (0, rv x0), (1, rv x1), (2, rv x2), (3, .int x3), (4, .int x4)]) dX5_cases_93 (by decide) (by first | rfl | (simp [rv_cat, Value.category]; done) | (simp [rv_cat, Value.category]; decide)) ?_
    refine x_aload_n 3 dX5_cases_95 rfl ?_
    have t23 : tg h18 x1 = 16 := by rw [e20]; exact tg_nA_ne e19 f21 g12 (by decide)
    refine x_getN (v := .int (fI h18 x1 3845)) gfX5_293 dX5_cases_96 t23 rfl ?_
    obtain ⟨g24, g25, hq⟩ := hq
    obtain ⟨g26, g27, hq⟩ := hq
    obtain ⟨a28, e30⟩ : ∃ y, y = nx h18 + 1 := ⟨_, rfl⟩
    obtain ⟨h29, e31⟩ : ∃ y, y = nA h18 100 (Int32.toNatClampNeg (fI h18 x1 3845)) := ⟨_, rfl⟩
    refine x_newa' 0 pk_int dX5_cases_99 g24 g25 g26 g27 e30 e31 (fun f32 => ?_)
    replace hq := hq a28 h29 e30 e31 f32
    have t33 : tg h29 a28 = 100 := by rw [e31, e30]; exact tg_nA
    refine x_astore (lv' := [(7, rv a28), (6, rv a17), (5, rv a6), (0, rv x0), (1, rv x1), (2, rv x2), (3, .int x3), (4, .int x4)]) dX5_cases_101 (by decide) (by first | rfl | (simp [rv_cat, Value.category]; done) | (simp [rv_cat, Value.category]; decide)) ?_
    refine x_iconst (v := 0) dX5_cases_103 (by decide) ?_
    refine x_istore (lv' := [(8, .int 0), (7, rv a28), (6, rv a17), (5, rv a6), (0, rv x0), (1, rv x1), (2, rv x2), (3, .int x3), (4, .int x4)]) dX5_cases_104 (by decide) (by first | rfl | (simp [rv_cat, Value.category]; done) | (simp [rv_cat, Value.category]; decide)) ?_
    refine x_iconst (v := 0) dX5_cases_106 (by decide) ?_
    refine x_istore (lv' := [(9, .int 0), (8, .int 0), (7, rv a28), (6, rv a17), (5, rv a6), (0, rv x0), (1, rv x1), (2, rv x2), (3, .int x3), (4, .int x4)]) dX5_cases_107 (by decide) rfl ?_
    refine x_aload_n 6 dX5_cases_109 rfl ?_
    have t34 : tg h29 x1 = 16 := by rw [e31]; exact tg_nA_ne e30 f32 t23 (by decide)
    refine x_getN (v := rv (fR h29 x1 3842)) gfX5_251 dX5_cases_110 t34 rfl ?_
    obtain ⟨g35, hq⟩ := hq
    refine x_getN (v := rv (fR h29 (fR h29 x1 3842) 3844)) gfX5_307 dX5_cases_113 g35 rfl ?_
    refine x_astore (lv' := [(10, rv (fR h29 (fR h29 x1 3842) 3844)), (9, .int 0), (8, .int 0), (7, rv a28), (6, rv a17), (5, rv a6), (0, rv x0), (1, rv x1), (2, rv x2), (3, .int x3), (4, .int x4)]) dX5_cases_116 (by decide) rfl ?_
    refine xP.pick (lv' := [(0, rv x0), (1, rv x1), (2, rv x2), (3, .int x3), (4, .int x4), (5, rv a6), (6, rv a17), (7, rv a28), (8, .int 0), (9, .int 0), (10, rv (fR h29 (fR h29 x1 3842) 3844))]) [6, 7, 8, 9, 10, 5, 4, 3, 2, 1, 0] rfl ?_
    exact hq
  · replace hq := hq.2 c1
    refine x_iload 4 dX5_cases_58 rfl ?_
    refine x_aload 5 dX5_cases_60 rfl ?_
    obtain ⟨g36, hq⟩ := hq
    refine x_getN (v := rv (fR h x5 3842)) gfX5_251 dX5_cases_62 g36 rfl ?_
    obtain ⟨g37, hq⟩ := hq
    refine x_getN (v := .int (fI h (fR h x5 3842) 3845)) gfX5_293 dX5_cases_65 g37 rfl ?_
    refine x_iadd dX5_cases_68 ?_
    refine x_istore (lv' := [(4, .int (x4 + (fI h (fR h x5 3842) 3845))), (0, rv x0), (1, rv x1), (2, rv x2), (3, .int x3), (5, rv x5)]) dX5_cases_69 (by decide) rfl ?_
    refine x_aload 5 dX5_cases_71 rfl ?_
    refine x_getN (v := rv (fR h x5 3844)) gfX5_307 dX5_cases_73 g36 rfl ?_
    refine x_astore (lv' := [(5, rv (fR h x5 3844)), (4, .int (x4 + (fI h (fR h x5 3842) 3845))), (0, rv x0), (1, rv x1), (2, rv x2), (3, .int x3)]) dX5_cases_76 (by decide) rfl ?_
    refine x_goto (tgt := 53) dX5_cases_78 (by decide) ?_
    refine xP.pick (lv' := [(0, rv x0), (1, rv x1), (2, rv x2), (3, .int x3), (4, .int (x4 + (fI h (fR h x5 3842) 3845))), (5, rv (fR h x5 3844))]) [2, 3, 4, 5, 1, 0] rfl ?_
    exact hq
set_option maxRecDepth 100000 in
def bX5_cases (G : xG) (fr lo : Nat) (x0 : Nat) (x1 : Nat) (h : xH) (Q : Outcome → xH → Prop) : Prop := tg h x1 = 16 ∧ tg h x0 = 6 ∧ 1 ≤ fr ∧ 13 ≤ lo ∧ xRr G YX5_expression (fr - 1) (lo - 13) [rv x0, rv (fR h x1 3842)] h (fun x6 h5 => xext h h5 → tg h5 x6 = 7 ∧ 1 ≤ fr ∧ 12 ≤ lo ∧ xRi G YX6_isOrdinal (fr - 1) (lo - 12) [rv x6] h5 (fun x12 h11 => xext h5 h11 → ((¬ x12 = 0 → tg h11 (fR h11 x0 1281) = 3 ∧ 1 ≤ fr ∧ 17 ≤ lo ∧ xRi G YX2_put (fr - 1) (lo - 17) [rv (fR h11 x0 1281), .int 50, .int 0, .int 0, .int 0, .int 0] h11 (fun x21 h20 => xext h11 h20 → tg h20 (fR h20 x1 3842) = 16 ∧ lX5_cases_53 G fr lo x0 x1 x6 x21 0 (fR h20 (fR h20 x1 3842) 3844) h20 Q) (fun r h2 => Q (.threw r) h2)) ∧ (x12 = 0 → 1 ≤ fr ∧ 14 ≤ lo ∧ xRi G YX15_place (fr - 1) (lo - 14) [rv x1] h11 (fun x32 h31 => xext h11 h31 → 1 ≤ fr ∧ 14 ≤ lo ∧ xRr G YX5_fault (fr - 1) (lo - 14) [rv x0, .int 7, .int x32] h31 (fun x40 h39 => xext h31 h39 → (∃ r42, x40 = r42 + 1 ∧ Q (.threw r42) h39)) (fun r h2 => Q (.threw r) h2)) (fun r h2 => Q (.threw r) h2)))) (fun r h2 => Q (.threw r) h2)) (fun r h2 => Q (.threw r) h2)
set_option maxRecDepth 100000 in
theorem uX5_cases {G : xG} {fr lo : Nat} {x0 : Nat} {x1 : Nat} {h : xH} {Q : Outcome → xH → Prop} (hq : bX5_cases G fr lo x0 x1 h Q) : xP G YX5_cases fr lo 0 [(0, rv x0), (1, rv x1)] [] h Q := by
  unfold bX5_cases at hq
  refine x_aload_n 0 dX5_cases_0 rfl ?_
  refine x_aload_n 1 dX5_cases_1 rfl ?_
  obtain ⟨g1, hq⟩ := hq
  refine x_getN (v := rv (fR h x1 3842)) gfX5_251 dX5_cases_2 g1 rfl ?_
  obtain ⟨g2, hq⟩ := hq
  obtain ⟨g3, g4, hq⟩ := hq
  refine x_callV (Yc := YX5_expression) (as := [rv (fR h x1 3842)]) (st := []) q2522 mvX5_expression g2 rfl dX5_cases_5 (xle (xal1 (rv_cat _) (xal1 (rv_cat _) xal0)) (by decide)) (xfr g3) (xlo xsw0 (by decide) g4) (xKr hq (fun x6 h5 hq e7 => ?_) (fun _ _ q _ => q))
  replace hq := hq e7
  refine x_astore_n (lv' := [(2, rv x6), (0, rv x0), (1, rv x1)]) dX5_cases_8 (by decide) (by first | rfl | (simp [rv_cat, Value.category]; done) | (simp [rv_cat, Value.category]; decide)) ?_
  refine x_aload_n 0 dX5_cases_9 rfl ?_
  obtain ⟨g8, hq⟩ := hq
  obtain ⟨g9, g10, hq⟩ := hq
  refine x_callV (Yc := YX6_isOrdinal) (as := []) (st := []) q2288 mvX6_isOrdinal g8 rfl dX5_cases_10 (xle (xal1 (rv_cat _) xal0) (by decide)) (xfr g9) (xlo xsw0 (by decide) g10) (xKi hq (fun x12 h11 hq e13 => ?_) (fun _ _ q _ => q))
  replace hq := hq e13
  refine x_if_ne (tgt := 27) dX5_cases_13 (by decide) (fun c14 => ?_) (fun c14 => ?_)
  · replace hq := hq.1 c14
    refine x_aload_n 1 dX5_cases_27 rfl ?_
    have t15 : tg h5 x0 = 6 := e7.tg g2 (by decide)
    have t16 : tg h11 x0 = 6 := e13.tg t15 (by decide)
    refine x_get (v := rv (fR h11 x0 1281)) fdX5_62 dX5_cases_28 t16 rfl ?_
    refine x_bipush (v := 50) dX5_cases_31 (by decide) ?_
    refine x_iconst (v := 0) dX5_cases_33 (by decide) ?_
    refine x_iconst (v := 0) dX5_cases_34 (by decide) ?_
    refine x_iconst (v := 0) dX5_cases_35 (by decide) ?_
    refine x_iconst (v := 0) dX5_cases_36 (by decide) ?_
    obtain ⟨g17, hq⟩ := hq
    obtain ⟨g18, g19, hq⟩ := hq
    refine x_callV (Yc := YX2_put) (as := [.int 50, .int 0, .int 0, .int 0, .int 0]) (st := []) q2494 mvX2_put g17 rfl dX5_cases_37 (xle (xal1 (rv_cat _) (xal1 rfl (xal1 rfl (xal1 rfl (xal1 rfl (xal1 rfl xal0)))))) (by decide)) (xfr g18) (xlo xsw0 (by decide) g19) (xKi hq (fun x21 h20 hq e22 => ?_) (fun _ _ q _ => q))
    replace hq := hq e22
    refine x_istore_n (lv' := [(3, .int x21), (2, rv x6), (0, rv x0), (1, rv x1)]) dX5_cases_40 (by decide) (by first | rfl | (simp [rv_cat, Value.category]; done) | (simp [rv_cat, Value.category]; decide)) ?_
    refine x_iconst (v := 0) dX5_cases_41 (by decide) ?_
    refine x_istore (lv' := [(4, .int 0), (3, .int x21), (2, rv x6), (0, rv x0), (1, rv x1)]) dX5_cases_42 (by decide) rfl ?_
    refine x_aload_n 4 dX5_cases_44 rfl ?_
    have t23 : tg h5 x1 = 16 := e7.tg g1 (by decide)
    have t24 : tg h11 x1 = 16 := e13.tg t23 (by decide)
    have t25 : tg h20 x1 = 16 := e22.tg t24 (by decide)
    refine x_getN (v := rv (fR h20 x1 3842)) gfX5_251 dX5_cases_45 t25 rfl ?_
    obtain ⟨g26, hq⟩ := hq
    refine x_getN (v := rv (fR h20 (fR h20 x1 3842) 3844)) gfX5_307 dX5_cases_48 g26 rfl ?_
    refine x_astore (lv' := [(5, rv (fR h20 (fR h20 x1 3842) 3844)), (4, .int 0), (3, .int x21), (2, rv x6), (0, rv x0), (1, rv x1)]) dX5_cases_51 (by decide) rfl ?_
    refine xP.pick (lv' := [(0, rv x0), (1, rv x1), (2, rv x6), (3, .int x21), (4, .int 0), (5, rv (fR h20 (fR h20 x1 3842) 3844))]) [4, 5, 3, 2, 1, 0] rfl ?_
    exact hq
  · replace hq := hq.2 c14
    refine x_aload_n 1 dX5_cases_16 rfl ?_
    refine x_bipush (v := 7) dX5_cases_17 (by decide) ?_
    refine x_aload_n 2 dX5_cases_19 rfl ?_
    have t27 : tg h5 x1 = 16 := e7.tg g1 (by decide)
    have t28 : tg h11 x1 = 16 := e13.tg t27 (by decide)
    obtain ⟨g29, g30, hq⟩ := hq
    refine x_callV (Yc := YX15_place) (as := []) (st := [.int 7, rv x0]) q2013 mvX15_place t28 rfl dX5_cases_20 (xle (xal1 (rv_cat _) xal0) (by decide)) (xfr g29) (xlo (xsw1 rfl (xsw1 (rv_cat _) xsw0)) (by decide) g30) (xKi hq (fun x32 h31 hq e33 => ?_) (fun _ _ q _ => q))
    replace hq := hq e33
    have t34 : tg h5 x0 = 6 := e7.tg g2 (by decide)
    have t35 : tg h11 x0 = 6 := e13.tg t34 (by decide)
    have t36 : tg h31 x0 = 6 := e33.tg t35 (by decide)
    obtain ⟨g37, g38, hq⟩ := hq
    refine x_callV (Yc := YX5_fault) (as := [.int 7, .int x32]) (st := []) q2087 mvX5_fault t36 rfl dX5_cases_23 (xle (xal1 (rv_cat _) (xal1 rfl (xal1 rfl xal0))) (by decide)) (xfr g37) (xlo xsw0 (by decide) g38) (xKr hq (fun x40 h39 hq e41 => ?_) (fun _ _ q _ => q))
    replace hq := hq e41
    obtain ⟨r42, g43, hq⟩ := hq
    rw [g43]
    exact x_athrow dX5_cases_26 hq
theorem rX5_cases {G : xG} {fr lo : Nat} {x0 : Nat} {x1 : Nat} {h : xH} {Q : Outcome → xH → Prop} (hq : bX5_cases G fr lo x0 x1 h Q) : xR G YX5_cases fr lo [rv x0, rv x1] h Q := by
  show xP _ _ _ _ _ (lv_args 0 _) _ _ _
  rw [show lv_args 0 [rv x0, rv x1] = [(0, rv x0), (1, rv x1)] from (xla1 (rv_cat _) (xla1 (rv_cat _) xla0))]
  exact uX5_cases hq
set_option maxRecDepth 100000 in
theorem dX5_loop_0 : decode cX5_loop 0 = .ok (.aload_n 0, 1) := by decide +kernel
set_option maxRecDepth 100000 in
theorem dX5_loop_1 : decode cX5_loop 1 = .ok (.getfield 62, 3) := by decide +kernel
set_option maxRecDepth 100000 in
theorem dX5_loop_4 : decode cX5_loop 4 = .ok (.getfield 501, 3) := by decide +kernel
set_option maxRecDepth 100000 in
theorem dX5_loop_7 : decode cX5_loop 7 = .ok (.istore_n 2, 1) := by decide +kernel
set_option maxRecDepth 100000 in
theorem dX5_loop_8 : decode cX5_loop 8 = .ok (.aload_n 0, 1) := by decide +kernel
set_option maxRecDepth 100000 in
theorem dX5_loop_9 : decode cX5_loop 9 = .ok (.aload_n 1, 1) := by decide +kernel
set_option maxRecDepth 100000 in
theorem dX5_loop_10 : decode cX5_loop 10 = .ok (.invokevirtual 636, 3) := by decide +kernel
set_option maxRecDepth 100000 in
theorem dX5_loop_13 : decode cX5_loop 13 = .ok (.aload_n 0, 1) := by decide +kernel
set_option maxRecDepth 100000 in
theorem dX5_loop_14 : decode cX5_loop 14 = .ok (.getfield 62, 3) := by decide +kernel
set_option maxRecDepth 100000 in
theorem dX5_loop_17 : decode cX5_loop 17 = .ok (.bipush 51, 2) := by decide +kernel
set_option maxRecDepth 100000 in
theorem dX5_loop_19 : decode cX5_loop 19 = .ok (.iconst 0, 1) := by decide +kernel
set_option maxRecDepth 100000 in
theorem dX5_loop_20 : decode cX5_loop 20 = .ok (.iconst 0, 1) := by decide +kernel
set_option maxRecDepth 100000 in
theorem dX5_loop_21 : decode cX5_loop 21 = .ok (.iconst 0, 1) := by decide +kernel
set_option maxRecDepth 100000 in
theorem dX5_loop_22 : decode cX5_loop 22 = .ok (.iconst 0, 1) := by decide +kernel
set_option maxRecDepth 100000 in
theorem dX5_loop_23 : decode cX5_loop 23 = .ok (.invokevirtual 506, 3) := by decide +kernel
set_option maxRecDepth 100000 in
theorem dX5_loop_26 : decode cX5_loop 26 = .ok (.istore_n 3, 1) := by decide +kernel
set_option maxRecDepth 100000 in
theorem dX5_loop_27 : decode cX5_loop 27 = .ok (.aload_n 0, 1) := by decide +kernel
set_option maxRecDepth 100000 in
theorem dX5_loop_28 : decode cX5_loop 28 = .ok (.aload_n 1, 1) := by decide +kernel
set_option maxRecDepth 100000 in
theorem dX5_loop_29 : decode cX5_loop 29 = .ok (.iconst 1, 1) := by decide +kernel
set_option maxRecDepth 100000 in
theorem dX5_loop_30 : decode cX5_loop 30 = .ok (.invokevirtual 310, 3) := by decide +kernel
set_option maxRecDepth 100000 in
theorem dX5_loop_33 : decode cX5_loop 33 = .ok (.invokevirtual 657, 3) := by decide +kernel
set_option maxRecDepth 100000 in
theorem dX5_loop_36 : decode cX5_loop 36 = .ok (.aload_n 0, 1) := by decide +kernel
set_option maxRecDepth 100000 in
theorem dX5_loop_37 : decode cX5_loop 37 = .ok (.getfield 62, 3) := by decide +kernel
set_option maxRecDepth 100000 in
theorem dX5_loop_40 : decode cX5_loop 40 = .ok (.bipush 50, 2) := by decide +kernel
set_option maxRecDepth 100000 in
theorem dX5_loop_42 : decode cX5_loop 42 = .ok (.iload_n 2, 1) := by decide +kernel
set_option maxRecDepth 100000 in
theorem dX5_loop_43 : decode cX5_loop 43 = .ok (.iconst 0, 1) := by decide +kernel
set_option maxRecDepth 100000 in
theorem dX5_loop_44 : decode cX5_loop 44 = .ok (.iconst 0, 1) := by decide +kernel
set_option maxRecDepth 100000 in
theorem dX5_loop_45 : decode cX5_loop 45 = .ok (.iconst 0, 1) := by decide +kernel
set_option maxRecDepth 100000 in
theorem dX5_loop_46 : decode cX5_loop 46 = .ok (.invokevirtual 506, 3) := by decide +kernel
set_option maxRecDepth 100000 in
theorem dX5_loop_49 : decode cX5_loop 49 = .ok (.pop, 1) := by decide +kernel
set_option maxRecDepth 100000 in
theorem dX5_loop_50 : decode cX5_loop 50 = .ok (.aload_n 0, 1) := by decide +kernel
set_option maxRecDepth 100000 in
theorem dX5_loop_51 : decode cX5_loop 51 = .ok (.getfield 62, 3) := by decide +kernel
set_option maxRecDepth 100000 in
theorem dX5_loop_54 : decode cX5_loop 54 = .ok (.iload_n 3, 1) := by decide +kernel
set_option maxRecDepth 100000 in
theorem dX5_loop_55 : decode cX5_loop 55 = .ok (.aload_n 0, 1) := by decide +kernel
set_option maxRecDepth 100000 in
theorem dX5_loop_56 : decode cX5_loop 56 = .ok (.getfield 62, 3) := by decide +kernel
set_option maxRecDepth 100000 in
theorem dX5_loop_59 : decode cX5_loop 59 = .ok (.getfield 501, 3) := by decide +kernel
set_option maxRecDepth 100000 in
theorem dX5_loop_62 : decode cX5_loop 62 = .ok (.invokevirtual 660, 3) := by decide +kernel
set_option maxRecDepth 100000 in
theorem dX5_loop_65 : decode cX5_loop 65 = .ok (.return_, 1) := by decide +kernel
set_option maxRecDepth 100000 in
def bX5_loop (G : xG) (fr lo : Nat) (x0 : Nat) (x1 : Nat) (h : xH) (Q : Outcome → xH → Prop) : Prop := tg h x0 = 6 ∧ tg h (fR h x0 1281) = 3 ∧ 1 ≤ fr ∧ 13 ≤ lo ∧ xRv G YX5_truth (fr - 1) (lo - 13) [rv x0, rv x1] h (fun h5 => xext h h5 → tg h5 (fR h5 x0 1281) = 3 ∧ 1 ≤ fr ∧ 17 ≤ lo ∧ xRi G YX2_put (fr - 1) (lo - 17) [rv (fR h5 x0 1281), .int 51, .int 0, .int 0, .int 0, .int 0] h5 (fun x13 h12 => xext h5 h12 → tg h12 x1 = 16 ∧ 1 ≤ fr ∧ 16 ≤ lo ∧ xRr G YX15_kid (fr - 1) (lo - 16) [rv x1, .int 1] h12 (fun x19 h18 => xext h12 h18 → 1 ≤ fr ∧ 13 ≤ lo ∧ xRv G YX5_inner (fr - 1) (lo - 13) [rv x0, rv x19] h18 (fun h25 => xext h18 h25 → tg h25 (fR h25 x0 1281) = 3 ∧ 1 ≤ fr ∧ 17 ≤ lo ∧ xRi G YX2_put (fr - 1) (lo - 17) [rv (fR h25 x0 1281), .int 50, .int (fI h (fR h x0 1281) 517), .int 0, .int 0, .int 0] h25 (fun x33 h32 => xext h25 h32 → tg h32 (fR h32 x0 1281) = 3 ∧ 1 ≤ fr ∧ 14 ≤ lo ∧ xRv G YX2_go (fr - 1) (lo - 14) [rv (fR h32 x0 1281), .int x13, .int (fI h32 (fR h32 x0 1281) 517)] h32 (fun h39 => xext h32 h39 → Q (.returned none) h39) (fun r h2 => Q (.threw r) h2)) (fun r h2 => Q (.threw r) h2)) (fun r h2 => Q (.threw r) h2)) (fun r h2 => Q (.threw r) h2)) (fun r h2 => Q (.threw r) h2)) (fun r h2 => Q (.threw r) h2)
set_option maxRecDepth 100000 in
theorem uX5_loop {G : xG} {fr lo : Nat} {x0 : Nat} {x1 : Nat} {h : xH} {Q : Outcome → xH → Prop} (hq : bX5_loop G fr lo x0 x1 h Q) : xP G YX5_loop fr lo 0 [(0, rv x0), (1, rv x1)] [] h Q := by
  unfold bX5_loop at hq
  refine x_aload_n 0 dX5_loop_0 rfl ?_
  obtain ⟨g1, hq⟩ := hq
  refine x_get (v := rv (fR h x0 1281)) fdX5_62 dX5_loop_1 g1 rfl ?_
  obtain ⟨g2, hq⟩ := hq
  refine x_getN (v := .int (fI h (fR h x0 1281) 517)) gfX5_501 dX5_loop_4 g2 rfl ?_
  refine x_istore_n (lv' := [(2, .int (fI h (fR h x0 1281) 517)), (0, rv x0), (1, rv x1)]) dX5_loop_7 (by decide) (by first | rfl | (simp [rv_cat, Value.category]; done) | (simp [rv_cat, Value.category]; decide)) ?_
  refine x_aload_n 1 dX5_loop_8 rfl ?_
  refine x_aload_n 2 dX5_loop_9 rfl ?_
  obtain ⟨g3, g4, hq⟩ := hq
  refine x_callV (Yc := YX5_truth) (as := [rv x1]) (st := []) q2518 mvX5_truth g1 rfl dX5_loop_10 (xle (xal1 (rv_cat _) (xal1 (rv_cat _) xal0)) (by decide)) (xfr g3) (xlo xsw0 (by decide) g4) (xKv hq (fun h5 hq e7 => ?_) (fun _ _ q _ => q))
  replace hq := hq e7
  refine x_aload_n 1 dX5_loop_13 rfl ?_
  have t8 : tg h5 x0 = 6 := e7.tg g1 (by decide)
  refine x_get (v := rv (fR h5 x0 1281)) fdX5_62 dX5_loop_14 t8 rfl ?_
  refine x_bipush (v := 51) dX5_loop_17 (by decide) ?_
  refine x_iconst (v := 0) dX5_loop_19 (by decide) ?_
  refine x_iconst (v := 0) dX5_loop_20 (by decide) ?_
  refine x_iconst (v := 0) dX5_loop_21 (by decide) ?_
  refine x_iconst (v := 0) dX5_loop_22 (by decide) ?_
  obtain ⟨g9, hq⟩ := hq
  obtain ⟨g10, g11, hq⟩ := hq
  refine x_callV (Yc := YX2_put) (as := [.int 51, .int 0, .int 0, .int 0, .int 0]) (st := []) q2494 mvX2_put g9 rfl dX5_loop_23 (xle (xal1 (rv_cat _) (xal1 rfl (xal1 rfl (xal1 rfl (xal1 rfl (xal1 rfl xal0)))))) (by decide)) (xfr g10) (xlo xsw0 (by decide) g11) (xKi hq (fun x13 h12 hq e14 => ?_) (fun _ _ q _ => q))
  replace hq := hq e14
  refine x_istore_n (lv' := [(3, .int x13), (2, .int (fI h (fR h x0 1281) 517)), (0, rv x0), (1, rv x1)]) dX5_loop_26 (by decide) rfl ?_
  refine x_aload_n 2 dX5_loop_27 rfl ?_
  refine x_aload_n 3 dX5_loop_28 rfl ?_
  refine x_iconst (v := 1) dX5_loop_29 (by decide) ?_
  obtain ⟨g15, hq⟩ := hq
  obtain ⟨g16, g17, hq⟩ := hq
  refine x_callV (Yc := YX15_kid) (as := [.int 1]) (st := [rv x0]) q2129 mvX15_kid g15 rfl dX5_loop_30 (xle (xal1 (rv_cat _) (xal1 rfl xal0)) (by decide)) (xfr g16) (xlo (xsw1 (rv_cat _) xsw0) (by decide) g17) (xKr hq (fun x19 h18 hq e20 => ?_) (fun _ _ q _ => q))
  replace hq := hq e20
  have t21 : tg h12 x0 = 6 := e14.tg t8 (by decide)
  have t22 : tg h18 x0 = 6 := e20.tg t21 (by decide)
  obtain ⟨g23, g24, hq⟩ := hq
  refine x_callV (Yc := YX5_inner) (as := [rv x19]) (st := []) q2696 mvX5_inner t22 rfl dX5_loop_33 (xle (xal1 (rv_cat _) (xal1 (rv_cat _) xal0)) (by decide)) (xfr g23) (xlo xsw0 (by decide) g24) (xKv hq (fun h25 hq e27 => ?_) (fun _ _ q _ => q))
  replace hq := hq e27
  refine x_aload_n 2 dX5_loop_36 rfl ?_
  have t28 : tg h25 x0 = 6 := e27.tg t22 (by decide)
  refine x_get (v := rv (fR h25 x0 1281)) fdX5_62 dX5_loop_37 t28 rfl ?_
  refine x_bipush (v := 50) dX5_loop_40 (by decide) ?_
  refine x_iload_n 1 dX5_loop_42 rfl ?_
  refine x_iconst (v := 0) dX5_loop_43 (by decide) ?_
  refine x_iconst (v := 0) dX5_loop_44 (by decide) ?_
  refine x_iconst (v := 0) dX5_loop_45 (by decide) ?_
  obtain ⟨g29, hq⟩ := hq
  obtain ⟨g30, g31, hq⟩ := hq
  refine x_callV (Yc := YX2_put) (as := [.int 50, .int (fI h (fR h x0 1281) 517), .int 0, .int 0, .int 0]) (st := []) q2494 mvX2_put g29 rfl dX5_loop_46 (xle (xal1 (rv_cat _) (xal1 rfl (xal1 rfl (xal1 rfl (xal1 rfl (xal1 rfl xal0)))))) (by decide)) (xfr g30) (xlo xsw0 (by decide) g31) (xKi hq (fun x33 h32 hq e34 => ?_) (fun _ _ q _ => q))
  replace hq := hq e34
  refine x_pop dX5_loop_49 rfl ?_
  refine x_aload_n 2 dX5_loop_50 rfl ?_
  have t35 : tg h32 x0 = 6 := e34.tg t28 (by decide)
  refine x_get (v := rv (fR h32 x0 1281)) fdX5_62 dX5_loop_51 t35 rfl ?_
  refine x_iload_n 0 dX5_loop_54 rfl ?_
  refine x_aload_n 2 dX5_loop_55 rfl ?_
  refine x_get (v := rv (fR h32 x0 1281)) fdX5_62 dX5_loop_56 t35 rfl ?_
  obtain ⟨g36, hq⟩ := hq
  refine x_getN (v := .int (fI h32 (fR h32 x0 1281) 517)) gfX5_501 dX5_loop_59 g36 rfl ?_
  obtain ⟨g37, g38, hq⟩ := hq
  refine x_callV (Yc := YX2_go) (as := [.int x13, .int (fI h32 (fR h32 x0 1281) 517)]) (st := []) q2700 mvX2_go g36 rfl dX5_loop_62 (xle (xal1 (rv_cat _) (xal1 rfl (xal1 rfl xal0))) (by decide)) (xfr g37) (xlo xsw0 (by decide) g38) (xKv hq (fun h39 hq e41 => ?_) (fun _ _ q _ => q))
  replace hq := hq e41
  exact x_vret rfl dX5_loop_65 hq
theorem rX5_loop {G : xG} {fr lo : Nat} {x0 : Nat} {x1 : Nat} {h : xH} {Q : Outcome → xH → Prop} (hq : bX5_loop G fr lo x0 x1 h Q) : xR G YX5_loop fr lo [rv x0, rv x1] h Q := by
  show xP _ _ _ _ _ (lv_args 0 _) _ _ _
  rw [show lv_args 0 [rv x0, rv x1] = [(0, rv x0), (1, rv x1)] from (xla1 (rv_cat _) (xla1 (rv_cat _) xla0))]
  exact uX5_loop hq
set_option maxRecDepth 100000 in
theorem dX5_counts_0 : decode cX5_counts 0 = .ok (.aload_n 1, 1) := by decide +kernel
set_option maxRecDepth 100000 in
theorem dX5_counts_1 : decode cX5_counts 1 = .ok (.getfield 251, 3) := by decide +kernel
set_option maxRecDepth 100000 in
theorem dX5_counts_4 : decode cX5_counts 4 = .ok (.astore_n 2, 1) := by decide +kernel
set_option maxRecDepth 100000 in
theorem dX5_counts_5 : decode cX5_counts 5 = .ok (.aload_n 0, 1) := by decide +kernel
set_option maxRecDepth 100000 in
theorem dX5_counts_6 : decode cX5_counts 6 = .ok (.aload_n 2, 1) := by decide +kernel
set_option maxRecDepth 100000 in
theorem dX5_counts_7 : decode cX5_counts 7 = .ok (.invokevirtual 195, 3) := by decide +kernel
set_option maxRecDepth 100000 in
theorem dX5_counts_10 : decode cX5_counts 10 = .ok (.astore_n 3, 1) := by decide +kernel
set_option maxRecDepth 100000 in
theorem dX5_counts_11 : decode cX5_counts 11 = .ok (.aload_n 3, 1) := by decide +kernel
set_option maxRecDepth 100000 in
theorem dX5_counts_12 : decode cX5_counts 12 = .ok (.getfield 199, 3) := by decide +kernel
set_option maxRecDepth 100000 in
theorem dX5_counts_15 : decode cX5_counts 15 = .ok (.iconst 2, 1) := by decide +kernel
set_option maxRecDepth 100000 in
theorem dX5_counts_16 : decode cX5_counts 16 = .ok (.if_icmp .ne 28, 3) := by decide +kernel
set_option maxRecDepth 100000 in
theorem dX5_counts_19 : decode cX5_counts 19 = .ok (.aload_n 3, 1) := by decide +kernel
set_option maxRecDepth 100000 in
theorem dX5_counts_20 : decode cX5_counts 20 = .ok (.getfield 517, 3) := by decide +kernel
set_option maxRecDepth 100000 in
theorem dX5_counts_23 : decode cX5_counts 23 = .ok (.ifCond .eq 21, 3) := by decide +kernel
set_option maxRecDepth 100000 in
theorem dX5_counts_26 : decode cX5_counts 26 = .ok (.aload_n 0, 1) := by decide +kernel
set_option maxRecDepth 100000 in
theorem dX5_counts_27 : decode cX5_counts 27 = .ok (.getfield 296, 3) := by decide +kernel
set_option maxRecDepth 100000 in
theorem dX5_counts_30 : decode cX5_counts 30 = .ok (.getfield 300, 3) := by decide +kernel
set_option maxRecDepth 100000 in
theorem dX5_counts_33 : decode cX5_counts 33 = .ok (.aload_n 3, 1) := by decide +kernel
set_option maxRecDepth 100000 in
theorem dX5_counts_34 : decode cX5_counts 34 = .ok (.getfield 155, 3) := by decide +kernel
set_option maxRecDepth 100000 in
theorem dX5_counts_37 : decode cX5_counts 37 = .ok (.invokevirtual 159, 3) := by decide +kernel
set_option maxRecDepth 100000 in
theorem dX5_counts_40 : decode cX5_counts 40 = .ok (.aload_n 3, 1) := by decide +kernel
set_option maxRecDepth 100000 in
theorem dX5_counts_41 : decode cX5_counts 41 = .ok (.if_acmp .eq 14, 3) := by decide +kernel
set_option maxRecDepth 100000 in
theorem dX5_counts_44 : decode cX5_counts 44 = .ok (.aload_n 0, 1) := by decide +kernel
set_option maxRecDepth 100000 in
theorem dX5_counts_45 : decode cX5_counts 45 = .ok (.bipush 6, 2) := by decide +kernel
set_option maxRecDepth 100000 in
theorem dX5_counts_47 : decode cX5_counts 47 = .ok (.aload_n 2, 1) := by decide +kernel
set_option maxRecDepth 100000 in
theorem dX5_counts_48 : decode cX5_counts 48 = .ok (.invokevirtual 192, 3) := by decide +kernel
set_option maxRecDepth 100000 in
theorem dX5_counts_51 : decode cX5_counts 51 = .ok (.invokevirtual 163, 3) := by decide +kernel
set_option maxRecDepth 100000 in
theorem dX5_counts_54 : decode cX5_counts 54 = .ok (.athrow, 1) := by decide +kernel
set_option maxRecDepth 100000 in
theorem dX5_counts_55 : decode cX5_counts 55 = .ok (.aload_n 3, 1) := by decide +kernel
set_option maxRecDepth 100000 in
theorem dX5_counts_56 : decode cX5_counts 56 = .ok (.getfield 249, 3) := by decide +kernel
set_option maxRecDepth 100000 in
theorem dX5_counts_59 : decode cX5_counts 59 = .ok (.invokevirtual 318, 3) := by decide +kernel
set_option maxRecDepth 100000 in
theorem dX5_counts_62 : decode cX5_counts 62 = .ok (.ifCond .ne 14, 3) := by decide +kernel
set_option maxRecDepth 100000 in
theorem dX5_counts_65 : decode cX5_counts 65 = .ok (.aload_n 0, 1) := by decide +kernel
set_option maxRecDepth 100000 in
theorem dX5_counts_66 : decode cX5_counts 66 = .ok (.bipush 7, 2) := by decide +kernel
set_option maxRecDepth 100000 in
theorem dX5_counts_68 : decode cX5_counts 68 = .ok (.aload_n 2, 1) := by decide +kernel
set_option maxRecDepth 100000 in
theorem dX5_counts_69 : decode cX5_counts 69 = .ok (.invokevirtual 192, 3) := by decide +kernel
set_option maxRecDepth 100000 in
theorem dX5_counts_72 : decode cX5_counts 72 = .ok (.invokevirtual 163, 3) := by decide +kernel
set_option maxRecDepth 100000 in
theorem dX5_counts_75 : decode cX5_counts 75 = .ok (.athrow, 1) := by decide +kernel
set_option maxRecDepth 100000 in
theorem dX5_counts_76 : decode cX5_counts 76 = .ok (.aload_n 3, 1) := by decide +kernel
set_option maxRecDepth 100000 in
theorem dX5_counts_77 : decode cX5_counts 77 = .ok (.getfield 668, 3) := by decide +kernel
set_option maxRecDepth 100000 in
theorem dX5_counts_80 : decode cX5_counts 80 = .ok (.ifCond .ne 10, 3) := by decide +kernel
set_option maxRecDepth 100000 in
theorem dX5_counts_83 : decode cX5_counts 83 = .ok (.aload_n 3, 1) := by decide +kernel
set_option maxRecDepth 100000 in
theorem dX5_counts_84 : decode cX5_counts 84 = .ok (.getfield 671, 3) := by decide +kernel
set_option maxRecDepth 100000 in
theorem dX5_counts_87 : decode cX5_counts 87 = .ok (.ifCond .le 14, 3) := by decide +kernel
set_option maxRecDepth 100000 in
theorem dX5_counts_90 : decode cX5_counts 90 = .ok (.aload_n 0, 1) := by decide +kernel
set_option maxRecDepth 100000 in
theorem dX5_counts_91 : decode cX5_counts 91 = .ok (.bipush 11, 2) := by decide +kernel
set_option maxRecDepth 100000 in
theorem dX5_counts_93 : decode cX5_counts 93 = .ok (.aload_n 2, 1) := by decide +kernel
set_option maxRecDepth 100000 in
theorem dX5_counts_94 : decode cX5_counts 94 = .ok (.invokevirtual 192, 3) := by decide +kernel
set_option maxRecDepth 100000 in
theorem dX5_counts_97 : decode cX5_counts 97 = .ok (.invokevirtual 163, 3) := by decide +kernel
set_option maxRecDepth 100000 in
theorem dX5_counts_100 : decode cX5_counts 100 = .ok (.athrow, 1) := by decide +kernel
set_option maxRecDepth 100000 in
theorem dX5_counts_101 : decode cX5_counts 101 = .ok (.aload_n 0, 1) := by decide +kernel
set_option maxRecDepth 100000 in
theorem dX5_counts_102 : decode cX5_counts 102 = .ok (.aload_n 3, 1) := by decide +kernel
set_option maxRecDepth 100000 in
theorem dX5_counts_103 : decode cX5_counts 103 = .ok (.invokevirtual 674, 3) := by decide +kernel
set_option maxRecDepth 100000 in
theorem dX5_counts_106 : decode cX5_counts 106 = .ok (.aload_n 2, 1) := by decide +kernel
set_option maxRecDepth 100000 in
theorem dX5_counts_107 : decode cX5_counts 107 = .ok (.getfield 307, 3) := by decide +kernel
set_option maxRecDepth 100000 in
theorem dX5_counts_110 : decode cX5_counts 110 = .ok (.astore 4, 2) := by decide +kernel
set_option maxRecDepth 100000 in
theorem dX5_counts_112 : decode cX5_counts 112 = .ok (.aload_n 3, 1) := by decide +kernel
set_option maxRecDepth 100000 in
theorem dX5_counts_113 : decode cX5_counts 113 = .ok (.getfield 249, 3) := by decide +kernel
set_option maxRecDepth 100000 in
theorem dX5_counts_116 : decode cX5_counts 116 = .ok (.aload_n 0, 1) := by decide +kernel
set_option maxRecDepth 100000 in
theorem dX5_counts_117 : decode cX5_counts 117 = .ok (.aload 4, 2) := by decide +kernel
set_option maxRecDepth 100000 in
theorem dX5_counts_119 : decode cX5_counts 119 = .ok (.invokevirtual 654, 3) := by decide +kernel
set_option maxRecDepth 100000 in
theorem dX5_counts_122 : decode cX5_counts 122 = .ok (.invokevirtual 678, 3) := by decide +kernel
set_option maxRecDepth 100000 in
theorem dX5_counts_125 : decode cX5_counts 125 = .ok (.ifCond .ne 16, 3) := by decide +kernel
set_option maxRecDepth 100000 in
theorem dX5_counts_128 : decode cX5_counts 128 = .ok (.aload_n 0, 1) := by decide +kernel
set_option maxRecDepth 100000 in
theorem dX5_counts_129 : decode cX5_counts 129 = .ok (.bipush 7, 2) := by decide +kernel
set_option maxRecDepth 100000 in
theorem dX5_counts_131 : decode cX5_counts 131 = .ok (.aload_n 0, 1) := by decide +kernel
set_option maxRecDepth 100000 in
theorem dX5_counts_132 : decode cX5_counts 132 = .ok (.aload 4, 2) := by decide +kernel
set_option maxRecDepth 100000 in
theorem dX5_counts_134 : decode cX5_counts 134 = .ok (.invokevirtual 624, 3) := by decide +kernel
set_option maxRecDepth 100000 in
theorem dX5_counts_137 : decode cX5_counts 137 = .ok (.invokevirtual 163, 3) := by decide +kernel
set_option maxRecDepth 100000 in
theorem dX5_counts_140 : decode cX5_counts 140 = .ok (.athrow, 1) := by decide +kernel
set_option maxRecDepth 100000 in
theorem dX5_counts_141 : decode cX5_counts 141 = .ok (.aload_n 3, 1) := by decide +kernel
set_option maxRecDepth 100000 in
theorem dX5_counts_142 : decode cX5_counts 142 = .ok (.getfield 249, 3) := by decide +kernel
set_option maxRecDepth 100000 in
theorem dX5_counts_145 : decode cX5_counts 145 = .ok (.aload_n 0, 1) := by decide +kernel
set_option maxRecDepth 100000 in
theorem dX5_counts_146 : decode cX5_counts 146 = .ok (.aload 4, 2) := by decide +kernel
set_option maxRecDepth 100000 in
theorem dX5_counts_148 : decode cX5_counts 148 = .ok (.getfield 307, 3) := by decide +kernel
set_option maxRecDepth 100000 in
theorem dX5_counts_151 : decode cX5_counts 151 = .ok (.invokevirtual 654, 3) := by decide +kernel
set_option maxRecDepth 100000 in
theorem dX5_counts_154 : decode cX5_counts 154 = .ok (.invokevirtual 678, 3) := by decide +kernel
set_option maxRecDepth 100000 in
theorem dX5_counts_157 : decode cX5_counts 157 = .ok (.ifCond .ne 19, 3) := by decide +kernel
set_option maxRecDepth 100000 in
theorem dX5_counts_160 : decode cX5_counts 160 = .ok (.aload_n 0, 1) := by decide +kernel
set_option maxRecDepth 100000 in
theorem dX5_counts_161 : decode cX5_counts 161 = .ok (.bipush 7, 2) := by decide +kernel
set_option maxRecDepth 100000 in
theorem dX5_counts_163 : decode cX5_counts 163 = .ok (.aload_n 0, 1) := by decide +kernel
set_option maxRecDepth 100000 in
theorem dX5_counts_164 : decode cX5_counts 164 = .ok (.aload 4, 2) := by decide +kernel
set_option maxRecDepth 100000 in
theorem dX5_counts_166 : decode cX5_counts 166 = .ok (.getfield 307, 3) := by decide +kernel
set_option maxRecDepth 100000 in
theorem dX5_counts_169 : decode cX5_counts 169 = .ok (.invokevirtual 624, 3) := by decide +kernel
set_option maxRecDepth 100000 in
theorem dX5_counts_172 : decode cX5_counts 172 = .ok (.invokevirtual 163, 3) := by decide +kernel
set_option maxRecDepth 100000 in
theorem dX5_counts_175 : decode cX5_counts 175 = .ok (.athrow, 1) := by decide +kernel
set_option maxRecDepth 100000 in
theorem dX5_counts_176 : decode cX5_counts 176 = .ok (.aload_n 0, 1) := by decide +kernel
set_option maxRecDepth 100000 in
theorem dX5_counts_177 : decode cX5_counts 177 = .ok (.getfield 296, 3) := by decide +kernel
set_option maxRecDepth 100000 in
theorem dX5_counts_180 : decode cX5_counts 180 = .ok (.getfield 682, 3) := by decide +kernel
set_option maxRecDepth 100000 in
theorem dX5_counts_183 : decode cX5_counts 183 = .ok (.istore 5, 2) := by decide +kernel
set_option maxRecDepth 100000 in
theorem dX5_counts_185 : decode cX5_counts 185 = .ok (.aload_n 1, 1) := by decide +kernel
set_option maxRecDepth 100000 in
theorem dX5_counts_186 : decode cX5_counts 186 = .ok (.getfield 264, 3) := by decide +kernel
set_option maxRecDepth 100000 in
theorem dX5_counts_189 : decode cX5_counts 189 = .ok (.bipush 37, 2) := by decide +kernel
set_option maxRecDepth 100000 in
theorem dX5_counts_191 : decode cX5_counts 191 = .ok (.if_icmp .ne 7, 3) := by decide +kernel
set_option maxRecDepth 100000 in
theorem dX5_counts_194 : decode cX5_counts 194 = .ok (.iconst (-1), 1) := by decide +kernel
set_option maxRecDepth 100000 in
theorem dX5_counts_195 : decode cX5_counts 195 = .ok (.goto 4, 3) := by decide +kernel
set_option maxRecDepth 100000 in
theorem dX5_counts_198 : decode cX5_counts 198 = .ok (.iconst 1, 1) := by decide +kernel
set_option maxRecDepth 100000 in
theorem dX5_counts_199 : decode cX5_counts 199 = .ok (.istore 6, 2) := by decide +kernel
set_option maxRecDepth 100000 in
theorem dX5_counts_201 : decode cX5_counts 201 = .ok (.aload_n 0, 1) := by decide +kernel
set_option maxRecDepth 100000 in
theorem dX5_counts_202 : decode cX5_counts 202 = .ok (.getfield 62, 3) := by decide +kernel
set_option maxRecDepth 100000 in
theorem dX5_counts_205 : decode cX5_counts 205 = .ok (.bipush 54, 2) := by decide +kernel
set_option maxRecDepth 100000 in
theorem dX5_counts_207 : decode cX5_counts 207 = .ok (.iload 5, 2) := by decide +kernel
set_option maxRecDepth 100000 in
theorem dX5_counts_209 : decode cX5_counts 209 = .ok (.iconst 0, 1) := by decide +kernel
set_option maxRecDepth 100000 in
theorem dX5_counts_210 : decode cX5_counts 210 = .ok (.iload 6, 2) := by decide +kernel
set_option maxRecDepth 100000 in
theorem dX5_counts_212 : decode cX5_counts 212 = .ok (.aload_n 2, 1) := by decide +kernel
set_option maxRecDepth 100000 in
theorem dX5_counts_213 : decode cX5_counts 213 = .ok (.invokevirtual 192, 3) := by decide +kernel
set_option maxRecDepth 100000 in
theorem dX5_counts_216 : decode cX5_counts 216 = .ok (.invokevirtual 506, 3) := by decide +kernel
set_option maxRecDepth 100000 in
theorem dX5_counts_219 : decode cX5_counts 219 = .ok (.istore 7, 2) := by decide +kernel
set_option maxRecDepth 100000 in
theorem dX5_counts_221 : decode cX5_counts 221 = .ok (.aload_n 0, 1) := by decide +kernel
set_option maxRecDepth 100000 in
theorem dX5_counts_222 : decode cX5_counts 222 = .ok (.getfield 62, 3) := by decide +kernel
set_option maxRecDepth 100000 in
theorem dX5_counts_225 : decode cX5_counts 225 = .ok (.bipush 64, 2) := by decide +kernel
set_option maxRecDepth 100000 in
theorem dX5_counts_227 : decode cX5_counts 227 = .ok (.aload_n 3, 1) := by decide +kernel
set_option maxRecDepth 100000 in
theorem dX5_counts_228 : decode cX5_counts 228 = .ok (.getfield 249, 3) := by decide +kernel
set_option maxRecDepth 100000 in
theorem dX5_counts_231 : decode cX5_counts 231 = .ok (.getfield 338, 3) := by decide +kernel
set_option maxRecDepth 100000 in
theorem dX5_counts_234 : decode cX5_counts 234 = .ok (.aload_n 3, 1) := by decide +kernel
set_option maxRecDepth 100000 in
theorem dX5_counts_235 : decode cX5_counts 235 = .ok (.getfield 249, 3) := by decide +kernel
set_option maxRecDepth 100000 in
theorem dX5_counts_238 : decode cX5_counts 238 = .ok (.getfield 335, 3) := by decide +kernel
set_option maxRecDepth 100000 in
theorem dX5_counts_241 : decode cX5_counts 241 = .ok (.iconst 0, 1) := by decide +kernel
set_option maxRecDepth 100000 in
theorem dX5_counts_242 : decode cX5_counts 242 = .ok (.aload_n 2, 1) := by decide +kernel
set_option maxRecDepth 100000 in
theorem dX5_counts_243 : decode cX5_counts 243 = .ok (.invokevirtual 192, 3) := by decide +kernel
set_option maxRecDepth 100000 in
theorem dX5_counts_246 : decode cX5_counts 246 = .ok (.invokevirtual 506, 3) := by decide +kernel
set_option maxRecDepth 100000 in
theorem dX5_counts_249 : decode cX5_counts 249 = .ok (.pop, 1) := by decide +kernel
set_option maxRecDepth 100000 in
theorem dX5_counts_250 : decode cX5_counts 250 = .ok (.aload_n 0, 1) := by decide +kernel
set_option maxRecDepth 100000 in
theorem dX5_counts_251 : decode cX5_counts 251 = .ok (.getfield 296, 3) := by decide +kernel
set_option maxRecDepth 100000 in
theorem dX5_counts_254 : decode cX5_counts 254 = .ok (.dup, 1) := by decide +kernel
set_option maxRecDepth 100000 in
theorem dX5_counts_255 : decode cX5_counts 255 = .ok (.getfield 682, 3) := by decide +kernel
set_option maxRecDepth 100000 in
theorem dX5_counts_258 : decode cX5_counts 258 = .ok (.iconst 3, 1) := by decide +kernel
set_option maxRecDepth 100000 in
theorem dX5_counts_259 : decode cX5_counts 259 = .ok (.iadd, 1) := by decide +kernel
set_option maxRecDepth 100000 in
theorem dX5_counts_260 : decode cX5_counts 260 = .ok (.putfield 682, 3) := by decide +kernel
set_option maxRecDepth 100000 in
theorem dX5_counts_263 : decode cX5_counts 263 = .ok (.aload_n 3, 1) := by decide +kernel
set_option maxRecDepth 100000 in
theorem dX5_counts_264 : decode cX5_counts 264 = .ok (.dup, 1) := by decide +kernel
set_option maxRecDepth 100000 in
theorem dX5_counts_265 : decode cX5_counts 265 = .ok (.getfield 671, 3) := by decide +kernel
set_option maxRecDepth 100000 in
theorem dX5_counts_268 : decode cX5_counts 268 = .ok (.iconst 1, 1) := by decide +kernel
set_option maxRecDepth 100000 in
theorem dX5_counts_269 : decode cX5_counts 269 = .ok (.iadd, 1) := by decide +kernel
set_option maxRecDepth 100000 in
theorem dX5_counts_270 : decode cX5_counts 270 = .ok (.putfield 671, 3) := by decide +kernel
set_option maxRecDepth 100000 in
theorem dX5_counts_273 : decode cX5_counts 273 = .ok (.aload_n 0, 1) := by decide +kernel
set_option maxRecDepth 100000 in
theorem dX5_counts_274 : decode cX5_counts 274 = .ok (.getfield 62, 3) := by decide +kernel
set_option maxRecDepth 100000 in
theorem dX5_counts_277 : decode cX5_counts 277 = .ok (.getfield 501, 3) := by decide +kernel
set_option maxRecDepth 100000 in
theorem dX5_counts_280 : decode cX5_counts 280 = .ok (.istore 8, 2) := by decide +kernel
set_option maxRecDepth 100000 in
theorem dX5_counts_282 : decode cX5_counts 282 = .ok (.aload_n 0, 1) := by decide +kernel
set_option maxRecDepth 100000 in
theorem dX5_counts_283 : decode cX5_counts 283 = .ok (.aload_n 1, 1) := by decide +kernel
set_option maxRecDepth 100000 in
theorem dX5_counts_284 : decode cX5_counts 284 = .ok (.getfield 519, 3) := by decide +kernel
set_option maxRecDepth 100000 in
theorem dX5_counts_287 : decode cX5_counts 287 = .ok (.invokevirtual 657, 3) := by decide +kernel
set_option maxRecDepth 100000 in
theorem dX5_counts_290 : decode cX5_counts 290 = .ok (.aload_n 3, 1) := by decide +kernel
set_option maxRecDepth 100000 in
theorem dX5_counts_291 : decode cX5_counts 291 = .ok (.dup, 1) := by decide +kernel
set_option maxRecDepth 100000 in
theorem dX5_counts_292 : decode cX5_counts 292 = .ok (.getfield 671, 3) := by decide +kernel
set_option maxRecDepth 100000 in
theorem dX5_counts_295 : decode cX5_counts 295 = .ok (.iconst 1, 1) := by decide +kernel
set_option maxRecDepth 100000 in
theorem dX5_counts_296 : decode cX5_counts 296 = .ok (.isub, 1) := by decide +kernel
set_option maxRecDepth 100000 in
theorem dX5_counts_297 : decode cX5_counts 297 = .ok (.putfield 671, 3) := by decide +kernel
set_option maxRecDepth 100000 in
theorem dX5_counts_300 : decode cX5_counts 300 = .ok (.aload_n 0, 1) := by decide +kernel
set_option maxRecDepth 100000 in
theorem dX5_counts_301 : decode cX5_counts 301 = .ok (.getfield 296, 3) := by decide +kernel
set_option maxRecDepth 100000 in
theorem dX5_counts_304 : decode cX5_counts 304 = .ok (.dup, 1) := by decide +kernel
set_option maxRecDepth 100000 in
theorem dX5_counts_305 : decode cX5_counts 305 = .ok (.getfield 682, 3) := by decide +kernel
set_option maxRecDepth 100000 in
theorem dX5_counts_308 : decode cX5_counts 308 = .ok (.iconst 3, 1) := by decide +kernel
set_option maxRecDepth 100000 in
theorem dX5_counts_309 : decode cX5_counts 309 = .ok (.isub, 1) := by decide +kernel
set_option maxRecDepth 100000 in
theorem dX5_counts_310 : decode cX5_counts 310 = .ok (.putfield 682, 3) := by decide +kernel
set_option maxRecDepth 100000 in
theorem dX5_counts_313 : decode cX5_counts 313 = .ok (.aload_n 0, 1) := by decide +kernel
set_option maxRecDepth 100000 in
theorem dX5_counts_314 : decode cX5_counts 314 = .ok (.getfield 62, 3) := by decide +kernel
set_option maxRecDepth 100000 in
theorem dX5_counts_317 : decode cX5_counts 317 = .ok (.bipush 55, 2) := by decide +kernel
set_option maxRecDepth 100000 in
theorem dX5_counts_319 : decode cX5_counts 319 = .ok (.iload 5, 2) := by decide +kernel
set_option maxRecDepth 100000 in
theorem dX5_counts_321 : decode cX5_counts 321 = .ok (.iload 8, 2) := by decide +kernel
set_option maxRecDepth 100000 in
theorem dX5_counts_323 : decode cX5_counts 323 = .ok (.iload 6, 2) := by decide +kernel
set_option maxRecDepth 100000 in
theorem dX5_counts_325 : decode cX5_counts 325 = .ok (.iconst 0, 1) := by decide +kernel
set_option maxRecDepth 100000 in
theorem dX5_counts_326 : decode cX5_counts 326 = .ok (.invokevirtual 506, 3) := by decide +kernel
set_option maxRecDepth 100000 in
theorem dX5_counts_329 : decode cX5_counts 329 = .ok (.pop, 1) := by decide +kernel
set_option maxRecDepth 100000 in
theorem dX5_counts_330 : decode cX5_counts 330 = .ok (.aload_n 0, 1) := by decide +kernel
set_option maxRecDepth 100000 in
theorem dX5_counts_331 : decode cX5_counts 331 = .ok (.getfield 62, 3) := by decide +kernel
set_option maxRecDepth 100000 in
theorem dX5_counts_334 : decode cX5_counts 334 = .ok (.getfield 685, 3) := by decide +kernel
set_option maxRecDepth 100000 in
theorem dX5_counts_337 : decode cX5_counts 337 = .ok (.iload 7, 2) := by decide +kernel
set_option maxRecDepth 100000 in
theorem dX5_counts_339 : decode cX5_counts 339 = .ok (.aload_n 0, 1) := by decide +kernel
set_option maxRecDepth 100000 in
theorem dX5_counts_340 : decode cX5_counts 340 = .ok (.getfield 62, 3) := by decide +kernel
set_option maxRecDepth 100000 in
theorem dX5_counts_343 : decode cX5_counts 343 = .ok (.getfield 501, 3) := by decide +kernel
set_option maxRecDepth 100000 in
theorem dX5_counts_346 : decode cX5_counts 346 = .ok (.iastore, 1) := by decide +kernel
set_option maxRecDepth 100000 in
theorem dX5_counts_347 : decode cX5_counts 347 = .ok (.return_, 1) := by decide +kernel
set_option maxRecDepth 100000 in
def bX5_counts_199 (G : xG) (fr lo : Nat) (x0 : Nat) (x1 : Nat) (x2 : Nat) (x3 : Nat) (x5 : Int32) (s0 : Int32) (h : xH) (Q : Outcome → xH → Prop) : Prop := tg h x0 = 6 ∧ tg h x2 = 16 ∧ 1 ≤ fr ∧ 17 ≤ lo ∧ xRi G YX15_place (fr - 1) (lo - 17) [rv x2] h (fun x6 h5 => xext h h5 → tg h5 (fR h x0 1281) = 3 ∧ 1 ≤ fr ∧ 17 ≤ lo ∧ xRi G YX2_put (fr - 1) (lo - 17) [rv (fR h x0 1281), .int 54, .int x5, .int 0, .int s0, .int x6] h5 (fun x12 h11 => xext h5 h11 → tg h11 x3 = 9 ∧ tg h11 (fR h11 x3 2050) = 7 ∧ 1 ≤ fr ∧ 17 ≤ lo ∧ xRi G YX15_place (fr - 1) (lo - 17) [rv x2] h11 (fun x23 h22 => xext h11 h22 → tg h22 (fR h11 x0 1281) = 3 ∧ 1 ≤ fr ∧ 17 ≤ lo ∧ xRi G YX2_put (fr - 1) (lo - 17) [rv (fR h11 x0 1281), .int 64, .int (fI h11 (fR h11 x3 2050) 1541), .int (fI h11 (fR h11 x3 2050) 1542), .int 0, .int x23] h22 (fun x29 h28 => xext h22 h28 → tg h28 (fR h28 x0 1294) = 18 ∧ (∀ h34 : xH, h34 = sI h28 (fR h28 x0 1294) 4361 ((fI h28 (fR h28 x0 1294) 4361) + 3) → (∀ h39 : xH, h39 = sI h34 x3 2054 ((fI h34 x3 2054) + 1) → tg h39 (fR h39 x0 1281) = 3 ∧ tg h39 x1 = 16 ∧ 1 ≤ fr ∧ 13 ≤ lo ∧ xRv G YX5_inner (fr - 1) (lo - 13) [rv x0, rv (fR h39 x1 3843)] h39 (fun h47 => xext h39 h47 → (∀ h52 : xH, h52 = sI h47 x3 2054 ((fI h47 x3 2054) - 1) → tg h52 (fR h52 x0 1294) = 18 ∧ (∀ h57 : xH, h57 = sI h52 (fR h52 x0 1294) 4361 ((fI h52 (fR h52 x0 1294) 4361) - 3) → tg h57 (fR h57 x0 1281) = 3 ∧ 1 ≤ fr ∧ 17 ≤ lo ∧ xRi G YX2_put (fr - 1) (lo - 17) [rv (fR h57 x0 1281), .int 55, .int x5, .int (fI h39 (fR h39 x0 1281) 517), .int s0, .int 0] h57 (fun x64 h63 => xext h57 h63 → tg h63 (fR h63 x0 1281) = 3 ∧ tg h63 (fR h63 (fR h63 x0 1281) 514) = 100 ∧ vp_in x12 (ln h63 (fR h63 (fR h63 x0 1281) 514)) ∧ (∀ h70 : xH, h70 = tI h63 (fR h63 (fR h63 x0 1281) 514) (Int32.toNatClampNeg x12) (fI h63 (fR h63 x0 1281) 517) → Q (.returned none) h70)) (fun r h2 => Q (.threw r) h2)))) (fun r h2 => Q (.threw r) h2)))) (fun r h2 => Q (.threw r) h2)) (fun r h2 => Q (.threw r) h2)) (fun r h2 => Q (.threw r) h2)) (fun r h2 => Q (.threw r) h2)
set_option maxRecDepth 100000 in
theorem uX5_counts_199 {G : xG} {fr lo : Nat} {x0 : Nat} {x1 : Nat} {x2 : Nat} {x3 : Nat} {x5 : Int32} {s0 : Int32} {h : xH} {Q : Outcome → xH → Prop} (hq : bX5_counts_199 G fr lo x0 x1 x2 x3 x5 s0 h Q) : xP G YX5_counts fr lo 199 [(0, rv x0), (1, rv x1), (2, rv x2), (3, rv x3), (5, .int x5)] [.int s0] h Q := by
  unfold bX5_counts_199 at hq
  refine x_istore (lv' := [(6, .int s0), (0, rv x0), (1, rv x1), (2, rv x2), (3, rv x3), (5, .int x5)]) dX5_counts_199 (by decide) rfl ?_
  refine x_aload_n 1 dX5_counts_201 rfl ?_
  obtain ⟨g1, hq⟩ := hq
  refine x_get (v := rv (fR h x0 1281)) fdX5_62 dX5_counts_202 g1 rfl ?_
  refine x_bipush (v := 54) dX5_counts_205 (by decide) ?_
  refine x_iload 5 dX5_counts_207 rfl ?_
  refine x_iconst (v := 0) dX5_counts_209 (by decide) ?_
  refine x_iload 0 dX5_counts_210 rfl ?_
  refine x_aload_n 3 dX5_counts_212 rfl ?_
  obtain ⟨g2, hq⟩ := hq
  obtain ⟨g3, g4, hq⟩ := hq
  refine x_callV (Yc := YX15_place) (as := []) (st := [.int s0, .int 0, .int x5, .int 54, rv (fR h x0 1281)]) q2013 mvX15_place g2 rfl dX5_counts_213 (xle (xal1 (rv_cat _) xal0) (by decide)) (xfr g3) (xlo (xsw1 rfl (xsw1 rfl (xsw1 rfl (xsw1 rfl (xsw1 (rv_cat _) xsw0))))) (by decide) g4) (xKi hq (fun x6 h5 hq e7 => ?_) (fun _ _ q _ => q))
  replace hq := hq e7
  obtain ⟨g8, hq⟩ := hq
  obtain ⟨g9, g10, hq⟩ := hq
  refine x_callV (Yc := YX2_put) (as := [.int 54, .int x5, .int 0, .int s0, .int x6]) (st := []) q2494 mvX2_put g8 rfl dX5_counts_216 (xle (xal1 (rv_cat _) (xal1 rfl (xal1 rfl (xal1 rfl (xal1 rfl (xal1 rfl xal0)))))) (by decide)) (xfr g9) (xlo xsw0 (by decide) g10) (xKi hq (fun x12 h11 hq e13 => ?_) (fun _ _ q _ => q))
  replace hq := hq e13
  refine x_istore (lv' := [(7, .int x12), (6, .int s0), (0, rv x0), (1, rv x1), (2, rv x2), (3, rv x3), (5, .int x5)]) dX5_counts_219 (by decide) rfl ?_
  refine x_aload_n 2 dX5_counts_221 rfl ?_
  have t14 : tg h5 x0 = 6 := e7.tg g1 (by decide)
  have t15 : tg h11 x0 = 6 := e13.tg t14 (by decide)
  refine x_get (v := rv (fR h11 x0 1281)) fdX5_62 dX5_counts_222 t15 rfl ?_
  refine x_bipush (v := 64) dX5_counts_225 (by decide) ?_
  refine x_aload_n 5 dX5_counts_227 rfl ?_
  obtain ⟨g16, hq⟩ := hq
  refine x_getN (v := rv (fR h11 x3 2050)) gfX5_249 dX5_counts_228 g16 rfl ?_
  obtain ⟨g17, hq⟩ := hq
  refine x_getN (v := .int (fI h11 (fR h11 x3 2050) 1541)) gfX5_338 dX5_counts_231 g17 rfl ?_
  refine x_aload_n 5 dX5_counts_234 rfl ?_
  refine x_getN (v := rv (fR h11 x3 2050)) gfX5_249 dX5_counts_235 g16 rfl ?_
  refine x_getN (v := .int (fI h11 (fR h11 x3 2050) 1542)) gfX5_335 dX5_counts_238 g17 rfl ?_
  refine x_iconst (v := 0) dX5_counts_241 (by decide) ?_
  refine x_aload_n 4 dX5_counts_242 rfl ?_
  have t18 : tg h5 x2 = 16 := e7.tg g2 (by decide)
  have t19 : tg h11 x2 = 16 := e13.tg t18 (by decide)
  obtain ⟨g20, g21, hq⟩ := hq
  refine x_callV (Yc := YX15_place) (as := []) (st := [.int 0, .int (fI h11 (fR h11 x3 2050) 1542), .int (fI h11 (fR h11 x3 2050) 1541), .int 64, rv (fR h11 x0 1281)]) q2013 mvX15_place t19 rfl dX5_counts_243 (xle (xal1 (rv_cat _) xal0) (by decide)) (xfr g20) (xlo (xsw1 rfl (xsw1 rfl (xsw1 rfl (xsw1 rfl (xsw1 (rv_cat _) xsw0))))) (by decide) g21) (xKi hq (fun x23 h22 hq e24 => ?_) (fun _ _ q _ => q))
  replace hq := hq e24
  obtain ⟨g25, hq⟩ := hq
  obtain ⟨g26, g27, hq⟩ := hq
  refine x_callV (Yc := YX2_put) (as := [.int 64, .int (fI h11 (fR h11 x3 2050) 1541), .int (fI h11 (fR h11 x3 2050) 1542), .int 0, .int x23]) (st := []) q2494 mvX2_put g25 rfl dX5_counts_246 (xle (xal1 (rv_cat _) (xal1 rfl (xal1 rfl (xal1 rfl (xal1 rfl (xal1 rfl xal0)))))) (by decide)) (xfr g26) (xlo xsw0 (by decide) g27) (xKi hq (fun x29 h28 hq e30 => ?_) (fun _ _ q _ => q))
  replace hq := hq e30
  refine x_pop dX5_counts_249 rfl ?_
  refine x_aload_n 2 dX5_counts_250 rfl ?_
  have t31 : tg h22 x0 = 6 := e24.tg t15 (by decide)
  have t32 : tg h28 x0 = 6 := e30.tg t31 (by decide)
  refine x_get (v := rv (fR h28 x0 1294)) fdX5_296 dX5_counts_251 t32 rfl ?_
  refine x_dup dX5_counts_254 (rv_cat _) ?_
  obtain ⟨g33, hq⟩ := hq
  refine x_getN (v := .int (fI h28 (fR h28 x0 1294) 4361)) gfX5_682 dX5_counts_255 g33 rfl ?_
  refine x_iconst (v := 3) dX5_counts_258 (by decide) ?_
  refine x_iadd dX5_counts_259 ?_
  obtain ⟨h34, e35⟩ : ∃ y, y = sI h28 (fR h28 x0 1294) 4361 ((fI h28 (fR h28 x0 1294) 4361) + 3) := ⟨_, rfl⟩
  replace hq := hq h34 e35
  refine x_putNI gfX5_682 xty_I1 dX5_counts_260 g33 (Or.inl (by rw [g33]; rfl)) xnI rfl e35 ?_
  refine x_aload_n 5 dX5_counts_263 rfl ?_
  refine x_dup dX5_counts_264 (rv_cat _) ?_
  have t36 : tg h22 x3 = 9 := e24.tg g16 (by decide)
  have t37 : tg h28 x3 = 9 := e30.tg t36 (by decide)
  have t38 : tg h34 x3 = 9 := by rw [e35]; exact t37
  refine x_getN (v := .int (fI h34 x3 2054)) gfX5_671 dX5_counts_265 t38 rfl ?_
  refine x_iconst (v := 1) dX5_counts_268 (by decide) ?_
  refine x_iadd dX5_counts_269 ?_
  obtain ⟨h39, e40⟩ : ∃ y, y = sI h34 x3 2054 ((fI h34 x3 2054) + 1) := ⟨_, rfl⟩
  replace hq := hq h39 e40
  refine x_putNI gfX5_671 xty_I1 dX5_counts_270 t38 (Or.inl (by rw [t38]; rfl)) xnI rfl e40 ?_
  refine x_aload_n 2 dX5_counts_273 rfl ?_
  have t41 : tg h34 x0 = 6 := by rw [e35]; exact t32
  have t42 : tg h39 x0 = 6 := by rw [e40]; exact t41
  refine x_get (v := rv (fR h39 x0 1281)) fdX5_62 dX5_counts_274 t42 rfl ?_
  obtain ⟨g43, hq⟩ := hq
  refine x_getN (v := .int (fI h39 (fR h39 x0 1281) 517)) gfX5_501 dX5_counts_277 g43 rfl ?_
  refine x_istore (lv' := [(8, .int (fI h39 (fR h39 x0 1281) 517)), (7, .int x12), (6, .int s0), (0, rv x0), (1, rv x1), (2, rv x2), (3, rv x3), (5, .int x5)]) dX5_counts_280 (by decide) rfl ?_
  refine x_aload_n 3 dX5_counts_282 rfl ?_
  refine x_aload_n 4 dX5_counts_283 rfl ?_
  obtain ⟨g44, hq⟩ := hq
  refine x_getN (v := rv (fR h39 x1 3843)) gfX5_519 dX5_counts_284 g44 rfl ?_
  obtain ⟨g45, g46, hq⟩ := hq
  refine x_callV (Yc := YX5_inner) (as := [rv (fR h39 x1 3843)]) (st := []) q2696 mvX5_inner t42 rfl dX5_counts_287 (xle (xal1 (rv_cat _) (xal1 (rv_cat _) xal0)) (by decide)) (xfr g45) (xlo xsw0 (by decide) g46) (xKv hq (fun h47 hq e49 => ?_) (fun _ _ q _ => q))
  replace hq := hq e49
  refine x_aload_n 6 dX5_counts_290 rfl ?_
  refine x_dup dX5_counts_291 (rv_cat _) ?_
  have t50 : tg h39 x3 = 9 := by rw [e40]; exact t38
  have t51 : tg h47 x3 = 9 := e49.tg t50 (by decide)
  refine x_getN (v := .int (fI h47 x3 2054)) gfX5_671 dX5_counts_292 t51 rfl ?_
  refine x_iconst (v := 1) dX5_counts_295 (by decide) ?_
  refine x_isub dX5_counts_296 ?_
  obtain ⟨h52, e53⟩ : ∃ y, y = sI h47 x3 2054 ((fI h47 x3 2054) - 1) := ⟨_, rfl⟩
  replace hq := hq h52 e53
  refine x_putNI gfX5_671 xty_I1 dX5_counts_297 t51 (Or.inl (by rw [t51]; rfl)) xnI rfl e53 ?_
  refine x_aload_n 3 dX5_counts_300 rfl ?_
  have t54 : tg h47 x0 = 6 := e49.tg t42 (by decide)
  have t55 : tg h52 x0 = 6 := by rw [e53]; exact t54
  refine x_get (v := rv (fR h52 x0 1294)) fdX5_296 dX5_counts_301 t55 rfl ?_
  refine x_dup dX5_counts_304 (rv_cat _) ?_
  obtain ⟨g56, hq⟩ := hq
  refine x_getN (v := .int (fI h52 (fR h52 x0 1294) 4361)) gfX5_682 dX5_counts_305 g56 rfl ?_
  refine x_iconst (v := 3) dX5_counts_308 (by decide) ?_
  refine x_isub dX5_counts_309 ?_
  obtain ⟨h57, e58⟩ : ∃ y, y = sI h52 (fR h52 x0 1294) 4361 ((fI h52 (fR h52 x0 1294) 4361) - 3) := ⟨_, rfl⟩
  replace hq := hq h57 e58
  refine x_putNI gfX5_682 xty_I1 dX5_counts_310 g56 (Or.inl (by rw [g56]; rfl)) xnI rfl e58 ?_
  refine x_aload_n 3 dX5_counts_313 rfl ?_
  have t59 : tg h57 x0 = 6 := by rw [e58]; exact t55
  refine x_get (v := rv (fR h57 x0 1281)) fdX5_62 dX5_counts_314 t59 rfl ?_
  refine x_bipush (v := 55) dX5_counts_317 (by decide) ?_
  refine x_iload 7 dX5_counts_319 rfl ?_
  refine x_iload 0 dX5_counts_321 rfl ?_
  refine x_iload 2 dX5_counts_323 rfl ?_
  refine x_iconst (v := 0) dX5_counts_325 (by decide) ?_
  obtain ⟨g60, hq⟩ := hq
  obtain ⟨g61, g62, hq⟩ := hq
  refine x_callV (Yc := YX2_put) (as := [.int 55, .int x5, .int (fI h39 (fR h39 x0 1281) 517), .int s0, .int 0]) (st := []) q2494 mvX2_put g60 rfl dX5_counts_326 (xle (xal1 (rv_cat _) (xal1 rfl (xal1 rfl (xal1 rfl (xal1 rfl (xal1 rfl xal0)))))) (by decide)) (xfr g61) (xlo xsw0 (by decide) g62) (xKi hq (fun x64 h63 hq e65 => ?_) (fun _ _ q _ => q))
  replace hq := hq e65
  refine x_pop dX5_counts_329 rfl ?_
  refine x_aload_n 3 dX5_counts_330 rfl ?_
  have t66 : tg h63 x0 = 6 := e65.tg t59 (by decide)
  refine x_get (v := rv (fR h63 x0 1281)) fdX5_62 dX5_counts_331 t66 rfl ?_
  obtain ⟨g67, hq⟩ := hq
  refine x_getN (v := rv (fR h63 (fR h63 x0 1281) 514)) gfX5_685 dX5_counts_334 g67 rfl ?_
  refine x_iload 1 dX5_counts_337 rfl ?_
  refine x_aload_n 3 dX5_counts_339 rfl ?_
  refine x_get (v := rv (fR h63 x0 1281)) fdX5_62 dX5_counts_340 t66 rfl ?_
  refine x_getN (v := .int (fI h63 (fR h63 x0 1281) 517)) gfX5_501 dX5_counts_343 g67 rfl ?_
  obtain ⟨g68, hq⟩ := hq
  obtain ⟨i69, hq⟩ := hq
  obtain ⟨h70, e71⟩ : ∃ y, y = tI h63 (fR h63 (fR h63 x0 1281) 514) (Int32.toNatClampNeg x12) (fI h63 (fR h63 x0 1281) 517) := ⟨_, rfl⟩
  replace hq := hq h70 e71
  refine x_iast' g68 i69 dX5_counts_346 e71 ?_
  exact x_vret rfl dX5_counts_347 hq
set_option maxRecDepth 100000 in
def bX5_counts_90 (G : xG) (fr lo : Nat) (x0 : Nat) (x2 : Nat) (h : xH) (Q : Outcome → xH → Prop) : Prop := tg h x2 = 16 ∧ 1 ≤ fr ∧ 14 ≤ lo ∧ xRi G YX15_place (fr - 1) (lo - 14) [rv x2] h (fun x5 h4 => xext h h4 → tg h4 x0 = 6 ∧ 1 ≤ fr ∧ 14 ≤ lo ∧ xRr G YX5_fault (fr - 1) (lo - 14) [rv x0, .int 11, .int x5] h4 (fun x11 h10 => xext h4 h10 → (∃ r13, x11 = r13 + 1 ∧ Q (.threw r13) h10)) (fun r h2 => Q (.threw r) h2)) (fun r h2 => Q (.threw r) h2)
set_option maxRecDepth 100000 in
theorem uX5_counts_90 {G : xG} {fr lo : Nat} {x0 : Nat} {x2 : Nat} {h : xH} {Q : Outcome → xH → Prop} (hq : bX5_counts_90 G fr lo x0 x2 h Q) : xP G YX5_counts fr lo 90 [(0, rv x0), (2, rv x2)] [] h Q := by
  unfold bX5_counts_90 at hq
  refine x_aload_n 0 dX5_counts_90 rfl ?_
  refine x_bipush (v := 11) dX5_counts_91 (by decide) ?_
  refine x_aload_n 1 dX5_counts_93 rfl ?_
  obtain ⟨g1, hq⟩ := hq
  obtain ⟨g2, g3, hq⟩ := hq
  refine x_callV (Yc := YX15_place) (as := []) (st := [.int 11, rv x0]) q2013 mvX15_place g1 rfl dX5_counts_94 (xle (xal1 (rv_cat _) xal0) (by decide)) (xfr g2) (xlo (xsw1 rfl (xsw1 (rv_cat _) xsw0)) (by decide) g3) (xKi hq (fun x5 h4 hq e6 => ?_) (fun _ _ q _ => q))
  replace hq := hq e6
  obtain ⟨g7, hq⟩ := hq
  obtain ⟨g8, g9, hq⟩ := hq
  refine x_callV (Yc := YX5_fault) (as := [.int 11, .int x5]) (st := []) q2087 mvX5_fault g7 rfl dX5_counts_97 (xle (xal1 (rv_cat _) (xal1 rfl (xal1 rfl xal0))) (by decide)) (xfr g8) (xlo xsw0 (by decide) g9) (xKr hq (fun x11 h10 hq e12 => ?_) (fun _ _ q _ => q))
  replace hq := hq e12
  obtain ⟨r13, g14, hq⟩ := hq
  rw [g14]
  exact x_athrow dX5_counts_100 hq
set_option maxRecDepth 100000 in
def bX5_counts_44 (G : xG) (fr lo : Nat) (x0 : Nat) (x2 : Nat) (h : xH) (Q : Outcome → xH → Prop) : Prop := tg h x2 = 16 ∧ 1 ≤ fr ∧ 14 ≤ lo ∧ xRi G YX15_place (fr - 1) (lo - 14) [rv x2] h (fun x5 h4 => xext h h4 → tg h4 x0 = 6 ∧ 1 ≤ fr ∧ 14 ≤ lo ∧ xRr G YX5_fault (fr - 1) (lo - 14) [rv x0, .int 6, .int x5] h4 (fun x11 h10 => xext h4 h10 → (∃ r13, x11 = r13 + 1 ∧ Q (.threw r13) h10)) (fun r h2 => Q (.threw r) h2)) (fun r h2 => Q (.threw r) h2)
set_option maxRecDepth 100000 in
theorem uX5_counts_44 {G : xG} {fr lo : Nat} {x0 : Nat} {x2 : Nat} {h : xH} {Q : Outcome → xH → Prop} (hq : bX5_counts_44 G fr lo x0 x2 h Q) : xP G YX5_counts fr lo 44 [(0, rv x0), (2, rv x2)] [] h Q := by
  unfold bX5_counts_44 at hq
  refine x_aload_n 0 dX5_counts_44 rfl ?_
  refine x_bipush (v := 6) dX5_counts_45 (by decide) ?_
  refine x_aload_n 1 dX5_counts_47 rfl ?_
  obtain ⟨g1, hq⟩ := hq
  obtain ⟨g2, g3, hq⟩ := hq
  refine x_callV (Yc := YX15_place) (as := []) (st := [.int 6, rv x0]) q2013 mvX15_place g1 rfl dX5_counts_48 (xle (xal1 (rv_cat _) xal0) (by decide)) (xfr g2) (xlo (xsw1 rfl (xsw1 (rv_cat _) xsw0)) (by decide) g3) (xKi hq (fun x5 h4 hq e6 => ?_) (fun _ _ q _ => q))
  replace hq := hq e6
  obtain ⟨g7, hq⟩ := hq
  obtain ⟨g8, g9, hq⟩ := hq
  refine x_callV (Yc := YX5_fault) (as := [.int 6, .int x5]) (st := []) q2087 mvX5_fault g7 rfl dX5_counts_51 (xle (xal1 (rv_cat _) (xal1 rfl (xal1 rfl xal0))) (by decide)) (xfr g8) (xlo xsw0 (by decide) g9) (xKr hq (fun x11 h10 hq e12 => ?_) (fun _ _ q _ => q))
  replace hq := hq e12
  obtain ⟨r13, g14, hq⟩ := hq
  rw [g14]
  exact x_athrow dX5_counts_54 hq
set_option maxRecDepth 100000 in
def bX5_counts (G : xG) (fr lo : Nat) (x0 : Nat) (x1 : Nat) (h : xH) (Q : Outcome → xH → Prop) : Prop := tg h x1 = 16 ∧ tg h x0 = 6 ∧ 1 ≤ fr ∧ 15 ≤ lo ∧ xRr G YX5_find (fr - 1) (lo - 15) [rv x0, rv (fR h x1 3842)] h (fun x6 h5 => xext h h5 → tg h5 x6 = 9 ∧ ((¬ (fI h5 x6 2048) = 2 → bX5_counts_44 G fr lo x0 (fR h x1 3842) h5 Q) ∧ ((fI h5 x6 2048) = 2 → (((fI h5 x6 2057) = 0 → bX5_counts_44 G fr lo x0 (fR h x1 3842) h5 Q) ∧ (¬ (fI h5 x6 2057) = 0 → tg h5 (fR h5 x0 1294) = 18 ∧ tg h5 (fR h5 (fR h5 x0 1294) 4354) = 8 ∧ 1 ≤ fr ∧ 14 ≤ lo ∧ xRr G YX7_own (fr - 1) (lo - 14) [rv (fR h5 (fR h5 x0 1294) 4354), rv (fR h5 x6 2049)] h5 (fun x17 h16 => xext h5 h16 → ((x17 = x6 → tg h16 (fR h16 x6 2050) = 7 ∧ 1 ≤ fr ∧ 12 ≤ lo ∧ xRi G YX6_isOrdinal (fr - 1) (lo - 12) [rv (fR h16 x6 2050)] h16 (fun x25 h24 => xext h16 h24 → ((¬ x25 = 0 → ((¬ (fI h24 x6 2058) = 0 → bX5_counts_90 G fr lo x0 (fR h x1 3842) h24 Q) ∧ ((fI h24 x6 2058) = 0 → (((fI h24 x6 2054) ≤ 0 → 1 ≤ fr ∧ 13 ≤ lo ∧ xRv G YX5_address (fr - 1) (lo - 13) [rv x0, rv x6] h24 (fun h35 => xext h24 h35 → tg h35 (fR h x1 3842) = 16 ∧ 1 ≤ fr ∧ 14 ≤ lo ∧ xRr G YX5_expression (fr - 1) (lo - 14) [rv x0, rv (fR h35 (fR h x1 3842) 3844)] h35 (fun x44 h43 => xext h35 h43 → tg h43 (fR h35 x6 2050) = 7 ∧ 1 ≤ fr ∧ 13 ≤ lo ∧ xRi G YX6_takes (fr - 1) (lo - 13) [rv (fR h35 x6 2050), rv x44] h43 (fun x50 h49 => xext h43 h49 → ((¬ x50 = 0 → tg h49 (fR h35 (fR h x1 3842) 3844) = 16 ∧ 1 ≤ fr ∧ 14 ≤ lo ∧ xRr G YX5_expression (fr - 1) (lo - 14) [rv x0, rv (fR h49 (fR h35 (fR h x1 3842) 3844) 3844)] h49 (fun x61 h60 => xext h49 h60 → tg h60 (fR h49 x6 2050) = 7 ∧ 1 ≤ fr ∧ 13 ≤ lo ∧ xRi G YX6_takes (fr - 1) (lo - 13) [rv (fR h49 x6 2050), rv x61] h60 (fun x67 h66 => xext h60 h66 → ((¬ x67 = 0 → tg h66 (fR h66 x0 1294) = 18 ∧ ((¬ (fI h66 x1 3840) = 37 → bX5_counts_199 G fr lo x0 x1 (fR h x1 3842) x6 (fI h66 (fR h66 x0 1294) 4361) 1 h66 Q) ∧ ((fI h66 x1 3840) = 37 → bX5_counts_199 G fr lo x0 x1 (fR h x1 3842) x6 (fI h66 (fR h66 x0 1294) 4361) (-1) h66 Q))) ∧ (x67 = 0 → 1 ≤ fr ∧ 16 ≤ lo ∧ xRi G YX5_firstOf (fr - 1) (lo - 16) [rv x0, rv (fR h66 (fR h35 (fR h x1 3842) 3844) 3844)] h66 (fun x89 h88 => xext h66 h88 → 1 ≤ fr ∧ 14 ≤ lo ∧ xRr G YX5_fault (fr - 1) (lo - 14) [rv x0, .int 7, .int x89] h88 (fun x95 h94 => xext h88 h94 → (∃ r97, x95 = r97 + 1 ∧ Q (.threw r97) h94)) (fun r h2 => Q (.threw r) h2)) (fun r h2 => Q (.threw r) h2)))) (fun r h2 => Q (.threw r) h2)) (fun r h2 => Q (.threw r) h2)) ∧ (x50 = 0 → 1 ≤ fr ∧ 16 ≤ lo ∧ xRi G YX5_firstOf (fr - 1) (lo - 16) [rv x0, rv (fR h35 (fR h x1 3842) 3844)] h49 (fun x104 h103 => xext h49 h103 → 1 ≤ fr ∧ 14 ≤ lo ∧ xRr G YX5_fault (fr - 1) (lo - 14) [rv x0, .int 7, .int x104] h103 (fun x110 h109 => xext h103 h109 → (∃ r112, x110 = r112 + 1 ∧ Q (.threw r112) h109)) (fun r h2 => Q (.threw r) h2)) (fun r h2 => Q (.threw r) h2)))) (fun r h2 => Q (.threw r) h2)) (fun r h2 => Q (.threw r) h2)) (fun r h2 => Q (.threw r) h2)) ∧ (¬ (fI h24 x6 2054) ≤ 0 → bX5_counts_90 G fr lo x0 (fR h x1 3842) h24 Q))))) ∧ (x25 = 0 → tg h24 (fR h x1 3842) = 16 ∧ 1 ≤ fr ∧ 14 ≤ lo ∧ xRi G YX15_place (fr - 1) (lo - 14) [rv (fR h x1 3842)] h24 (fun x118 h117 => xext h24 h117 → 1 ≤ fr ∧ 14 ≤ lo ∧ xRr G YX5_fault (fr - 1) (lo - 14) [rv x0, .int 7, .int x118] h117 (fun x126 h125 => xext h117 h125 → (∃ r128, x126 = r128 + 1 ∧ Q (.threw r128) h125)) (fun r h2 => Q (.threw r) h2)) (fun r h2 => Q (.threw r) h2)))) (fun r h2 => Q (.threw r) h2)) ∧ (¬ x17 = x6 → bX5_counts_44 G fr lo x0 (fR h x1 3842) h16 Q))) (fun r h2 => Q (.threw r) h2)))))) (fun r h2 => Q (.threw r) h2)
set_option maxRecDepth 100000 in
theorem uX5_counts {G : xG} {fr lo : Nat} {x0 : Nat} {x1 : Nat} {h : xH} {Q : Outcome → xH → Prop} (hq : bX5_counts G fr lo x0 x1 h Q) : xP G YX5_counts fr lo 0 [(0, rv x0), (1, rv x1)] [] h Q := by
  unfold bX5_counts at hq
  refine x_aload_n 1 dX5_counts_0 rfl ?_
  obtain ⟨g1, hq⟩ := hq
  refine x_getN (v := rv (fR h x1 3842)) gfX5_251 dX5_counts_1 g1 rfl ?_
  refine x_astore_n (lv' := [(2, rv (fR h x1 3842)), (0, rv x0), (1, rv x1)]) dX5_counts_4 (by decide) (by first | rfl | (simp [rv_cat, Value.category]; done) | (simp [rv_cat, Value.category]; decide)) ?_
  refine x_aload_n 1 dX5_counts_5 rfl ?_
  refine x_aload_n 0 dX5_counts_6 rfl ?_
  obtain ⟨g2, hq⟩ := hq
  obtain ⟨g3, g4, hq⟩ := hq
  refine x_callV (Yc := YX5_find) (as := [rv (fR h x1 3842)]) (st := []) q2246 mvX5_find g2 rfl dX5_counts_7 (xle (xal1 (rv_cat _) (xal1 (rv_cat _) xal0)) (by decide)) (xfr g3) (xlo xsw0 (by decide) g4) (xKr hq (fun x6 h5 hq e7 => ?_) (fun _ _ q _ => q))
  replace hq := hq e7
  refine x_astore_n (lv' := [(3, rv x6), (2, rv (fR h x1 3842)), (0, rv x0), (1, rv x1)]) dX5_counts_10 (by decide) (by first | rfl | (simp [rv_cat, Value.category]; done) | (simp [rv_cat, Value.category]; decide)) ?_
  refine x_aload_n 0 dX5_counts_11 rfl ?_
  obtain ⟨g8, hq⟩ := hq
  refine x_getN (v := .int (fI h5 x6 2048)) gfX5_199 dX5_counts_12 g8 rfl ?_
  refine x_iconst (v := 2) dX5_counts_15 (by decide) ?_
  refine x_icmp_ne (tgt := 44) dX5_counts_16 (by decide) (fun c9 => ?_) (fun c9 => ?_)
  · replace hq := hq.1 c9
    refine xP.pick (lv' := [(0, rv x0), (2, rv (fR h x1 3842))]) [2, 1] rfl ?_
    exact uX5_counts_44 hq
  · replace hq := hq.2 c9
    refine x_aload_n 0 dX5_counts_19 rfl ?_
    refine x_getN (v := .int (fI h5 x6 2057)) gfX5_517 dX5_counts_20 g8 rfl ?_
    refine x_if_eq (tgt := 44) dX5_counts_23 (by decide) (fun c10 => ?_) (fun c10 => ?_)
    · replace hq := hq.1 c10
      refine xP.pick (lv' := [(0, rv x0), (2, rv (fR h x1 3842))]) [2, 1] rfl ?_
      exact uX5_counts_44 hq
    · replace hq := hq.2 c10
      refine x_aload_n 2 dX5_counts_26 rfl ?_
      have t11 : tg h5 x0 = 6 := e7.tg g2 (by decide)
      refine x_get (v := rv (fR h5 x0 1294)) fdX5_296 dX5_counts_27 t11 rfl ?_
      obtain ⟨g12, hq⟩ := hq
      refine x_getN (v := rv (fR h5 (fR h5 x0 1294) 4354)) gfX5_300 dX5_counts_30 g12 rfl ?_
      refine x_aload_n 0 dX5_counts_33 rfl ?_
      refine x_getN (v := rv (fR h5 x6 2049)) gfX5_155 dX5_counts_34 g8 rfl ?_
      obtain ⟨g13, hq⟩ := hq
      obtain ⟨g14, g15, hq⟩ := hq
      refine x_callV (Yc := YX7_own) (as := [rv (fR h5 x6 2049)]) (st := []) q2107 mvX7_own g13 rfl dX5_counts_37 (xle (xal1 (rv_cat _) (xal1 (rv_cat _) xal0)) (by decide)) (xfr g14) (xlo xsw0 (by decide) g15) (xKr hq (fun x17 h16 hq e18 => ?_) (fun _ _ q _ => q))
      replace hq := hq e18
      refine x_aload_n 0 dX5_counts_40 rfl ?_
      refine x_acmp_eq (tgt := 55) dX5_counts_41 (by decide) (fun c19 => ?_) (fun c19 => ?_)
      · replace hq := hq.1 c19
        refine x_aload_n 0 dX5_counts_55 rfl ?_
        have t20 : tg h16 x6 = 9 := e18.tg g8 (by decide)
        refine x_getN (v := rv (fR h16 x6 2050)) gfX5_249 dX5_counts_56 t20 rfl ?_
        obtain ⟨g21, hq⟩ := hq
        obtain ⟨g22, g23, hq⟩ := hq
        refine x_callV (Yc := YX6_isOrdinal) (as := []) (st := []) q2288 mvX6_isOrdinal g21 rfl dX5_counts_59 (xle (xal1 (rv_cat _) xal0) (by decide)) (xfr g22) (xlo xsw0 (by decide) g23) (xKi hq (fun x25 h24 hq e26 => ?_) (fun _ _ q _ => q))
        replace hq := hq e26
        refine x_if_ne (tgt := 76) dX5_counts_62 (by decide) (fun c27 => ?_) (fun c27 => ?_)
        · replace hq := hq.1 c27
          refine x_aload_n 0 dX5_counts_76 rfl ?_
          have t28 : tg h24 x6 = 9 := e26.tg t20 (by decide)
          refine x_getN (v := .int (fI h24 x6 2058)) gfX5_668 dX5_counts_77 t28 rfl ?_
          refine x_if_ne (tgt := 90) dX5_counts_80 (by decide) (fun c29 => ?_) (fun c29 => ?_)
          · replace hq := hq.1 c29
            refine xP.pick (lv' := [(0, rv x0), (2, rv (fR h x1 3842))]) [2, 1] rfl ?_
            exact uX5_counts_90 hq
          · replace hq := hq.2 c29
            refine x_aload_n 0 dX5_counts_83 rfl ?_
            refine x_getN (v := .int (fI h24 x6 2054)) gfX5_671 dX5_counts_84 t28 rfl ?_
            refine x_if_le (tgt := 101) dX5_counts_87 (by decide) (fun c30 => ?_) (fun c30 => ?_)
            · replace hq := hq.1 c30
              refine x_aload_n 2 dX5_counts_101 rfl ?_
              refine x_aload_n 0 dX5_counts_102 rfl ?_
              have t31 : tg h16 x0 = 6 := e18.tg t11 (by decide)
              have t32 : tg h24 x0 = 6 := e26.tg t31 (by decide)
              obtain ⟨g33, g34, hq⟩ := hq
              refine x_callV (Yc := YX5_address) (as := [rv x6]) (st := []) q2594 mvX5_address t32 rfl dX5_counts_103 (xle (xal1 (rv_cat _) (xal1 (rv_cat _) xal0)) (by decide)) (xfr g33) (xlo xsw0 (by decide) g34) (xKv hq (fun h35 hq e37 => ?_) (fun _ _ q _ => q))
              replace hq := hq e37
              refine x_aload_n 1 dX5_counts_106 rfl ?_
              obtain ⟨g38, hq⟩ := hq
              refine x_getN (v := rv (fR h35 (fR h x1 3842) 3844)) gfX5_307 dX5_counts_107 g38 rfl ?_
              refine x_astore (lv' := [(4, rv (fR h35 (fR h x1 3842) 3844)), (3, rv x6), (2, rv (fR h x1 3842)), (0, rv x0), (1, rv x1)]) dX5_counts_110 (by decide) (by first | rfl | (simp [rv_cat, Value.category]; done) | (simp [rv_cat, Value.category]; decide)) ?_
              refine x_aload_n 1 dX5_counts_112 rfl ?_
              have t39 : tg h35 x6 = 9 := e37.tg t28 (by decide)
              refine x_getN (v := rv (fR h35 x6 2050)) gfX5_249 dX5_counts_113 t39 rfl ?_
              refine x_aload_n 3 dX5_counts_116 rfl ?_
              refine x_aload 0 dX5_counts_117 rfl ?_
              have t40 : tg h35 x0 = 6 := e37.tg t32 (by decide)
              obtain ⟨g41, g42, hq⟩ := hq
              refine x_callV (Yc := YX5_expression) (as := [rv (fR h35 (fR h x1 3842) 3844)]) (st := [rv (fR h35 x6 2050)]) q2522 mvX5_expression t40 rfl dX5_counts_119 (xle (xal1 (rv_cat _) (xal1 (rv_cat _) xal0)) (by decide)) (xfr g41) (xlo (xsw1 (rv_cat _) xsw0) (by decide) g42) (xKr hq (fun x44 h43 hq e45 => ?_) (fun _ _ q _ => q))
              replace hq := hq e45
              obtain ⟨g46, hq⟩ := hq
              obtain ⟨g47, g48, hq⟩ := hq
              refine x_callV (Yc := YX6_takes) (as := [rv x44]) (st := []) q2565 mvX6_takes g46 rfl dX5_counts_122 (xle (xal1 (rv_cat _) (xal1 (rv_cat _) xal0)) (by decide)) (xfr g47) (xlo xsw0 (by decide) g48) (xKi hq (fun x50 h49 hq e51 => ?_) (fun _ _ q _ => q))
              replace hq := hq e51
              refine x_if_ne (tgt := 141) dX5_counts_125 (by decide) (fun c52 => ?_) (fun c52 => ?_)
              · replace hq := hq.1 c52
                refine x_aload_n 1 dX5_counts_141 rfl ?_
                have t53 : tg h43 x6 = 9 := e45.tg t39 (by decide)
                have t54 : tg h49 x6 = 9 := e51.tg t53 (by decide)
                refine x_getN (v := rv (fR h49 x6 2050)) gfX5_249 dX5_counts_142 t54 rfl ?_
                refine x_aload_n 3 dX5_counts_145 rfl ?_
                refine x_aload 0 dX5_counts_146 rfl ?_
                obtain ⟨g55, hq⟩ := hq
                refine x_getN (v := rv (fR h49 (fR h35 (fR h x1 3842) 3844) 3844)) gfX5_307 dX5_counts_148 g55 rfl ?_
                have t56 : tg h43 x0 = 6 := e45.tg t40 (by decide)
                have t57 : tg h49 x0 = 6 := e51.tg t56 (by decide)
                obtain ⟨g58, g59, hq⟩ := hq
                refine x_callV (Yc := YX5_expression) (as := [rv (fR h49 (fR h35 (fR h x1 3842) 3844) 3844)]) (st := [rv (fR h49 x6 2050)]) q2522 mvX5_expression t57 rfl dX5_counts_151 (xle (xal1 (rv_cat _) (xal1 (rv_cat _) xal0)) (by decide)) (xfr g58) (xlo (xsw1 (rv_cat _) xsw0) (by decide) g59) (xKr hq (fun x61 h60 hq e62 => ?_) (fun _ _ q _ => q))
                replace hq := hq e62
                obtain ⟨g63, hq⟩ := hq
                obtain ⟨g64, g65, hq⟩ := hq
                refine x_callV (Yc := YX6_takes) (as := [rv x61]) (st := []) q2565 mvX6_takes g63 rfl dX5_counts_154 (xle (xal1 (rv_cat _) (xal1 (rv_cat _) xal0)) (by decide)) (xfr g64) (xlo xsw0 (by decide) g65) (xKi hq (fun x67 h66 hq e68 => ?_) (fun _ _ q _ => q))
                replace hq := hq e68
                refine x_if_ne (tgt := 176) dX5_counts_157 (by decide) (fun c69 => ?_) (fun c69 => ?_)
                · replace hq := hq.1 c69
                  refine x_aload_n 3 dX5_counts_176 rfl ?_
                  have t70 : tg h60 x0 = 6 := e62.tg t57 (by decide)
                  have t71 : tg h66 x0 = 6 := e68.tg t70 (by decide)
                  refine x_get (v := rv (fR h66 x0 1294)) fdX5_296 dX5_counts_177 t71 rfl ?_
                  obtain ⟨g72, hq⟩ := hq
                  refine x_getN (v := .int (fI h66 (fR h66 x0 1294) 4361)) gfX5_682 dX5_counts_180 g72 rfl ?_
                  refine x_istore (lv' := [(5, .int (fI h66 (fR h66 x0 1294) 4361)), (4, rv (fR h35 (fR h x1 3842) 3844)), (3, rv x6), (2, rv (fR h x1 3842)), (0, rv x0), (1, rv x1)]) dX5_counts_183 (by decide) (by first | rfl | (simp [rv_cat, Value.category]; done) | (simp [rv_cat, Value.category]; decide)) ?_
                  refine x_aload_n 5 dX5_counts_185 rfl ?_
                  have t73 : tg h5 x1 = 16 := e7.tg g1 (by decide)
                  have t74 : tg h16 x1 = 16 := e18.tg t73 (by decide)
                  have t75 : tg h24 x1 = 16 := e26.tg t74 (by decide)
                  have t76 : tg h35 x1 = 16 := e37.tg t75 (by decide)
                  have t77 : tg h43 x1 = 16 := e45.tg t76 (by decide)
                  have t78 : tg h49 x1 = 16 := e51.tg t77 (by decide)
                  have t79 : tg h60 x1 = 16 := e62.tg t78 (by decide)
                  have t80 : tg h66 x1 = 16 := e68.tg t79 (by decide)
                  refine x_getN (v := .int (fI h66 x1 3840)) gfX5_264 dX5_counts_186 t80 rfl ?_
                  refine x_bipush (v := 37) dX5_counts_189 (by decide) ?_
                  refine x_icmp_ne (tgt := 198) dX5_counts_191 (by decide) (fun c81 => ?_) (fun c81 => ?_)
                  · replace hq := hq.1 c81
                    refine x_iconst (v := 1) dX5_counts_198 (by decide) ?_
                    refine xP.pick (lv' := [(0, rv x0), (1, rv x1), (2, rv (fR h x1 3842)), (3, rv x6), (5, .int (fI h66 (fR h66 x0 1294) 4361))]) [4, 5, 3, 2, 0] rfl ?_
                    exact uX5_counts_199 hq
                  · replace hq := hq.2 c81
                    refine x_iconst (v := (-1)) dX5_counts_194 (by decide) ?_
                    refine x_goto (tgt := 199) dX5_counts_195 (by decide) ?_
                    refine xP.pick (lv' := [(0, rv x0), (1, rv x1), (2, rv (fR h x1 3842)), (3, rv x6), (5, .int (fI h66 (fR h66 x0 1294) 4361))]) [4, 5, 3, 2, 0] rfl ?_
                    exact uX5_counts_199 hq
                · replace hq := hq.2 c69
                  refine x_aload_n 3 dX5_counts_160 rfl ?_
                  refine x_bipush (v := 7) dX5_counts_161 (by decide) ?_
                  refine x_aload_n 3 dX5_counts_163 rfl ?_
                  refine x_aload 0 dX5_counts_164 rfl ?_
                  have t82 : tg h60 (fR h35 (fR h x1 3842) 3844) = 16 := e62.tg g55 (by decide)
                  have t83 : tg h66 (fR h35 (fR h x1 3842) 3844) = 16 := e68.tg t82 (by decide)
                  refine x_getN (v := rv (fR h66 (fR h35 (fR h x1 3842) 3844) 3844)) gfX5_307 dX5_counts_166 t83 rfl ?_
                  have t84 : tg h60 x0 = 6 := e62.tg t57 (by decide)
                  have t85 : tg h66 x0 = 6 := e68.tg t84 (by decide)
                  obtain ⟨g86, g87, hq⟩ := hq
                  refine x_callV (Yc := YX5_firstOf) (as := [rv (fR h66 (fR h35 (fR h x1 3842) 3844) 3844)]) (st := [.int 7, rv x0]) q2510 mvX5_firstOf t85 rfl dX5_counts_169 (xle (xal1 (rv_cat _) (xal1 (rv_cat _) xal0)) (by decide)) (xfr g86) (xlo (xsw1 rfl (xsw1 (rv_cat _) xsw0)) (by decide) g87) (xKi hq (fun x89 h88 hq e90 => ?_) (fun _ _ q _ => q))
                  replace hq := hq e90
                  have t91 : tg h88 x0 = 6 := e90.tg t85 (by decide)
                  obtain ⟨g92, g93, hq⟩ := hq
                  refine x_callV (Yc := YX5_fault) (as := [.int 7, .int x89]) (st := []) q2087 mvX5_fault t91 rfl dX5_counts_172 (xle (xal1 (rv_cat _) (xal1 rfl (xal1 rfl xal0))) (by decide)) (xfr g92) (xlo xsw0 (by decide) g93) (xKr hq (fun x95 h94 hq e96 => ?_) (fun _ _ q _ => q))
                  replace hq := hq e96
                  obtain ⟨r97, g98, hq⟩ := hq
                  rw [g98]
                  exact x_athrow dX5_counts_175 hq
              · replace hq := hq.2 c52
                refine x_aload_n 3 dX5_counts_128 rfl ?_
                refine x_bipush (v := 7) dX5_counts_129 (by decide) ?_
                refine x_aload_n 3 dX5_counts_131 rfl ?_
                refine x_aload 0 dX5_counts_132 rfl ?_
                have t99 : tg h43 x0 = 6 := e45.tg t40 (by decide)
                have t100 : tg h49 x0 = 6 := e51.tg t99 (by decide)
                obtain ⟨g101, g102, hq⟩ := hq
                refine x_callV (Yc := YX5_firstOf) (as := [rv (fR h35 (fR h x1 3842) 3844)]) (st := [.int 7, rv x0]) q2510 mvX5_firstOf t100 rfl dX5_counts_134 (xle (xal1 (rv_cat _) (xal1 (rv_cat _) xal0)) (by decide)) (xfr g101) (xlo (xsw1 rfl (xsw1 (rv_cat _) xsw0)) (by decide) g102) (xKi hq (fun x104 h103 hq e105 => ?_) (fun _ _ q _ => q))
                replace hq := hq e105
                have t106 : tg h103 x0 = 6 := e105.tg t100 (by decide)
                obtain ⟨g107, g108, hq⟩ := hq
                refine x_callV (Yc := YX5_fault) (as := [.int 7, .int x104]) (st := []) q2087 mvX5_fault t106 rfl dX5_counts_137 (xle (xal1 (rv_cat _) (xal1 rfl (xal1 rfl xal0))) (by decide)) (xfr g107) (xlo xsw0 (by decide) g108) (xKr hq (fun x110 h109 hq e111 => ?_) (fun _ _ q _ => q))
                replace hq := hq e111
                obtain ⟨r112, g113, hq⟩ := hq
                rw [g113]
                exact x_athrow dX5_counts_140 hq
            · replace hq := hq.2 c30
              refine xP.pick (lv' := [(0, rv x0), (2, rv (fR h x1 3842))]) [2, 1] rfl ?_
              exact uX5_counts_90 hq
        · replace hq := hq.2 c27
          refine x_aload_n 2 dX5_counts_65 rfl ?_
          refine x_bipush (v := 7) dX5_counts_66 (by decide) ?_
          refine x_aload_n 1 dX5_counts_68 rfl ?_
          obtain ⟨g114, hq⟩ := hq
          obtain ⟨g115, g116, hq⟩ := hq
          refine x_callV (Yc := YX15_place) (as := []) (st := [.int 7, rv x0]) q2013 mvX15_place g114 rfl dX5_counts_69 (xle (xal1 (rv_cat _) xal0) (by decide)) (xfr g115) (xlo (xsw1 rfl (xsw1 (rv_cat _) xsw0)) (by decide) g116) (xKi hq (fun x118 h117 hq e119 => ?_) (fun _ _ q _ => q))
          replace hq := hq e119
          have t120 : tg h16 x0 = 6 := e18.tg t11 (by decide)
          have t121 : tg h24 x0 = 6 := e26.tg t120 (by decide)
          have t122 : tg h117 x0 = 6 := e119.tg t121 (by decide)
          obtain ⟨g123, g124, hq⟩ := hq
          refine x_callV (Yc := YX5_fault) (as := [.int 7, .int x118]) (st := []) q2087 mvX5_fault t122 rfl dX5_counts_72 (xle (xal1 (rv_cat _) (xal1 rfl (xal1 rfl xal0))) (by decide)) (xfr g123) (xlo xsw0 (by decide) g124) (xKr hq (fun x126 h125 hq e127 => ?_) (fun _ _ q _ => q))
          replace hq := hq e127
          obtain ⟨r128, g129, hq⟩ := hq
          rw [g129]
          exact x_athrow dX5_counts_75 hq
      · replace hq := hq.2 c19
        refine xP.pick (lv' := [(0, rv x0), (2, rv (fR h x1 3842))]) [2, 1] rfl ?_
        exact uX5_counts_44 hq
theorem rX5_counts {G : xG} {fr lo : Nat} {x0 : Nat} {x1 : Nat} {h : xH} {Q : Outcome → xH → Prop} (hq : bX5_counts G fr lo x0 x1 h Q) : xR G YX5_counts fr lo [rv x0, rv x1] h Q := by
  show xP _ _ _ _ _ (lv_args 0 _) _ _ _
  rw [show lv_args 0 [rv x0, rv x1] = [(0, rv x0), (1, rv x1)] from (xla1 (rv_cat _) (xla1 (rv_cat _) xla0))]
  exact uX5_counts hq
set_option maxRecDepth 100000 in
theorem dX5_lays_0 : decode cX5_lays 0 = .ok (.aload_n 0, 1) := by decide +kernel
set_option maxRecDepth 100000 in
theorem dX5_lays_1 : decode cX5_lays 1 = .ok (.aload_n 1, 1) := by decide +kernel
set_option maxRecDepth 100000 in
theorem dX5_lays_2 : decode cX5_lays 2 = .ok (.getfield 251, 3) := by decide +kernel
set_option maxRecDepth 100000 in
theorem dX5_lays_5 : decode cX5_lays 5 = .ok (.invokevirtual 688, 3) := by decide +kernel
set_option maxRecDepth 100000 in
theorem dX5_lays_8 : decode cX5_lays 8 = .ok (.astore_n 2, 1) := by decide +kernel
set_option maxRecDepth 100000 in
theorem dX5_lays_9 : decode cX5_lays 9 = .ok (.aload_n 2, 1) := by decide +kernel
set_option maxRecDepth 100000 in
theorem dX5_lays_10 : decode cX5_lays 10 = .ok (.getfield 289, 3) := by decide +kernel
set_option maxRecDepth 100000 in
theorem dX5_lays_13 : decode cX5_lays 13 = .ok (.bipush 7, 2) := by decide +kernel
set_option maxRecDepth 100000 in
theorem dX5_lays_15 : decode cX5_lays 15 = .ok (.if_icmp .eq 18, 3) := by decide +kernel
set_option maxRecDepth 100000 in
theorem dX5_lays_18 : decode cX5_lays 18 = .ok (.aload_n 0, 1) := by decide +kernel
set_option maxRecDepth 100000 in
theorem dX5_lays_19 : decode cX5_lays 19 = .ok (.bipush 7, 2) := by decide +kernel
set_option maxRecDepth 100000 in
theorem dX5_lays_21 : decode cX5_lays 21 = .ok (.aload_n 0, 1) := by decide +kernel
set_option maxRecDepth 100000 in
theorem dX5_lays_22 : decode cX5_lays 22 = .ok (.aload_n 1, 1) := by decide +kernel
set_option maxRecDepth 100000 in
theorem dX5_lays_23 : decode cX5_lays 23 = .ok (.getfield 251, 3) := by decide +kernel
set_option maxRecDepth 100000 in
theorem dX5_lays_26 : decode cX5_lays 26 = .ok (.invokevirtual 624, 3) := by decide +kernel
set_option maxRecDepth 100000 in
theorem dX5_lays_29 : decode cX5_lays 29 = .ok (.invokevirtual 163, 3) := by decide +kernel
set_option maxRecDepth 100000 in
theorem dX5_lays_32 : decode cX5_lays 32 = .ok (.athrow, 1) := by decide +kernel
set_option maxRecDepth 100000 in
theorem dX5_lays_33 : decode cX5_lays 33 = .ok (.aload_n 0, 1) := by decide +kernel
set_option maxRecDepth 100000 in
theorem dX5_lays_34 : decode cX5_lays 34 = .ok (.getfield 296, 3) := by decide +kernel
set_option maxRecDepth 100000 in
theorem dX5_lays_37 : decode cX5_lays 37 = .ok (.getfield 682, 3) := by decide +kernel
set_option maxRecDepth 100000 in
theorem dX5_lays_40 : decode cX5_lays 40 = .ok (.istore_n 3, 1) := by decide +kernel
set_option maxRecDepth 100000 in
theorem dX5_lays_41 : decode cX5_lays 41 = .ok (.aload_n 0, 1) := by decide +kernel
set_option maxRecDepth 100000 in
theorem dX5_lays_42 : decode cX5_lays 42 = .ok (.getfield 62, 3) := by decide +kernel
set_option maxRecDepth 100000 in
theorem dX5_lays_45 : decode cX5_lays 45 = .ok (.bipush 56, 2) := by decide +kernel
set_option maxRecDepth 100000 in
theorem dX5_lays_47 : decode cX5_lays 47 = .ok (.iload_n 3, 1) := by decide +kernel
set_option maxRecDepth 100000 in
theorem dX5_lays_48 : decode cX5_lays 48 = .ok (.iconst 0, 1) := by decide +kernel
set_option maxRecDepth 100000 in
theorem dX5_lays_49 : decode cX5_lays 49 = .ok (.iconst 0, 1) := by decide +kernel
set_option maxRecDepth 100000 in
theorem dX5_lays_50 : decode cX5_lays 50 = .ok (.iconst 0, 1) := by decide +kernel
set_option maxRecDepth 100000 in
theorem dX5_lays_51 : decode cX5_lays 51 = .ok (.invokevirtual 506, 3) := by decide +kernel
set_option maxRecDepth 100000 in
theorem dX5_lays_54 : decode cX5_lays 54 = .ok (.pop, 1) := by decide +kernel
set_option maxRecDepth 100000 in
theorem dX5_lays_55 : decode cX5_lays 55 = .ok (.aload_n 0, 1) := by decide +kernel
set_option maxRecDepth 100000 in
theorem dX5_lays_56 : decode cX5_lays 56 = .ok (.getfield 296, 3) := by decide +kernel
set_option maxRecDepth 100000 in
theorem dX5_lays_59 : decode cX5_lays 59 = .ok (.dup, 1) := by decide +kernel
set_option maxRecDepth 100000 in
theorem dX5_lays_60 : decode cX5_lays 60 = .ok (.getfield 682, 3) := by decide +kernel
set_option maxRecDepth 100000 in
theorem dX5_lays_63 : decode cX5_lays 63 = .ok (.iconst 1, 1) := by decide +kernel
set_option maxRecDepth 100000 in
theorem dX5_lays_64 : decode cX5_lays 64 = .ok (.iadd, 1) := by decide +kernel
set_option maxRecDepth 100000 in
theorem dX5_lays_65 : decode cX5_lays 65 = .ok (.putfield 682, 3) := by decide +kernel
set_option maxRecDepth 100000 in
theorem dX5_lays_68 : decode cX5_lays 68 = .ok (.aload_n 0, 1) := by decide +kernel
set_option maxRecDepth 100000 in
theorem dX5_lays_69 : decode cX5_lays 69 = .ok (.getfield 73, 3) := by decide +kernel
set_option maxRecDepth 100000 in
theorem dX5_lays_72 : decode cX5_lays 72 = .ok (.astore 4, 2) := by decide +kernel
set_option maxRecDepth 100000 in
theorem dX5_lays_74 : decode cX5_lays 74 = .ok (.aload_n 0, 1) := by decide +kernel
set_option maxRecDepth 100000 in
theorem dX5_lays_75 : decode cX5_lays 75 = .ok (.new 116, 3) := by decide +kernel
set_option maxRecDepth 100000 in
theorem dX5_lays_78 : decode cX5_lays 78 = .ok (.dup, 1) := by decide +kernel
set_option maxRecDepth 100000 in
theorem dX5_lays_79 : decode cX5_lays 79 = .ok (.aload 4, 2) := by decide +kernel
set_option maxRecDepth 100000 in
theorem dX5_lays_81 : decode cX5_lays 81 = .ok (.invokespecial 127, 3) := by decide +kernel
set_option maxRecDepth 100000 in
theorem dX5_lays_84 : decode cX5_lays 84 = .ok (.putfield 73, 3) := by decide +kernel
set_option maxRecDepth 100000 in
theorem dX5_lays_87 : decode cX5_lays 87 = .ok (.aload_n 0, 1) := by decide +kernel
set_option maxRecDepth 100000 in
theorem dX5_lays_88 : decode cX5_lays 88 = .ok (.getfield 73, 3) := by decide +kernel
set_option maxRecDepth 100000 in
theorem dX5_lays_91 : decode cX5_lays 91 = .ok (.aload_n 2, 1) := by decide +kernel
set_option maxRecDepth 100000 in
theorem dX5_lays_92 : decode cX5_lays 92 = .ok (.putfield 170, 3) := by decide +kernel
set_option maxRecDepth 100000 in
theorem dX5_lays_95 : decode cX5_lays 95 = .ok (.aload_n 0, 1) := by decide +kernel
set_option maxRecDepth 100000 in
theorem dX5_lays_96 : decode cX5_lays 96 = .ok (.getfield 73, 3) := by decide +kernel
set_option maxRecDepth 100000 in
theorem dX5_lays_99 : decode cX5_lays 99 = .ok (.iload_n 3, 1) := by decide +kernel
set_option maxRecDepth 100000 in
theorem dX5_lays_100 : decode cX5_lays 100 = .ok (.putfield 691, 3) := by decide +kernel
set_option maxRecDepth 100000 in
theorem dX5_lays_103 : decode cX5_lays 103 = .ok (.aload_n 1, 1) := by decide +kernel
set_option maxRecDepth 100000 in
theorem dX5_lays_104 : decode cX5_lays 104 = .ok (.getfield 519, 3) := by decide +kernel
set_option maxRecDepth 100000 in
theorem dX5_lays_107 : decode cX5_lays 107 = .ok (.getfield 264, 3) := by decide +kernel
set_option maxRecDepth 100000 in
theorem dX5_lays_110 : decode cX5_lays 110 = .ok (.bipush 39, 2) := by decide +kernel
set_option maxRecDepth 100000 in
theorem dX5_lays_112 : decode cX5_lays 112 = .ok (.if_icmp .ne 14, 3) := by decide +kernel
set_option maxRecDepth 100000 in
theorem dX5_lays_115 : decode cX5_lays 115 = .ok (.aload_n 0, 1) := by decide +kernel
set_option maxRecDepth 100000 in
theorem dX5_lays_116 : decode cX5_lays 116 = .ok (.aload_n 1, 1) := by decide +kernel
set_option maxRecDepth 100000 in
theorem dX5_lays_117 : decode cX5_lays 117 = .ok (.getfield 519, 3) := by decide +kernel
set_option maxRecDepth 100000 in
theorem dX5_lays_120 : decode cX5_lays 120 = .ok (.invokevirtual 613, 3) := by decide +kernel
set_option maxRecDepth 100000 in
theorem dX5_lays_123 : decode cX5_lays 123 = .ok (.goto 11, 3) := by decide +kernel
set_option maxRecDepth 100000 in
theorem dX5_lays_126 : decode cX5_lays 126 = .ok (.aload_n 0, 1) := by decide +kernel
set_option maxRecDepth 100000 in
theorem dX5_lays_127 : decode cX5_lays 127 = .ok (.aload_n 1, 1) := by decide +kernel
set_option maxRecDepth 100000 in
theorem dX5_lays_128 : decode cX5_lays 128 = .ok (.getfield 519, 3) := by decide +kernel
set_option maxRecDepth 100000 in
theorem dX5_lays_131 : decode cX5_lays 131 = .ok (.invokevirtual 657, 3) := by decide +kernel
set_option maxRecDepth 100000 in
theorem dX5_lays_134 : decode cX5_lays 134 = .ok (.aload_n 0, 1) := by decide +kernel
set_option maxRecDepth 100000 in
theorem dX5_lays_135 : decode cX5_lays 135 = .ok (.aload 4, 2) := by decide +kernel
set_option maxRecDepth 100000 in
theorem dX5_lays_137 : decode cX5_lays 137 = .ok (.putfield 73, 3) := by decide +kernel
set_option maxRecDepth 100000 in
theorem dX5_lays_140 : decode cX5_lays 140 = .ok (.aload_n 0, 1) := by decide +kernel
set_option maxRecDepth 100000 in
theorem dX5_lays_141 : decode cX5_lays 141 = .ok (.getfield 296, 3) := by decide +kernel
set_option maxRecDepth 100000 in
theorem dX5_lays_144 : decode cX5_lays 144 = .ok (.dup, 1) := by decide +kernel
set_option maxRecDepth 100000 in
theorem dX5_lays_145 : decode cX5_lays 145 = .ok (.getfield 682, 3) := by decide +kernel
set_option maxRecDepth 100000 in
theorem dX5_lays_148 : decode cX5_lays 148 = .ok (.iconst 1, 1) := by decide +kernel
set_option maxRecDepth 100000 in
theorem dX5_lays_149 : decode cX5_lays 149 = .ok (.isub, 1) := by decide +kernel
set_option maxRecDepth 100000 in
theorem dX5_lays_150 : decode cX5_lays 150 = .ok (.putfield 682, 3) := by decide +kernel
set_option maxRecDepth 100000 in
theorem dX5_lays_153 : decode cX5_lays 153 = .ok (.return_, 1) := by decide +kernel
set_option maxRecDepth 100000 in
def bX5_lays_134 (G : xG) (fr lo : Nat) (x0 : Nat) (x4 : Nat) (h : xH) (Q : Outcome → xH → Prop) : Prop := tg h x0 = 6 ∧ (∀ h2 : xH, h2 = sR h x0 1293 x4 → tg h2 (fR h2 x0 1294) = 18 ∧ (∀ h6 : xH, h6 = sI h2 (fR h2 x0 1294) 4361 ((fI h2 (fR h2 x0 1294) 4361) - 1) → Q (.returned none) h6))
set_option maxRecDepth 100000 in
theorem uX5_lays_134 {G : xG} {fr lo : Nat} {x0 : Nat} {x4 : Nat} {h : xH} {Q : Outcome → xH → Prop} (hq : bX5_lays_134 G fr lo x0 x4 h Q) : xP G YX5_lays fr lo 134 [(0, rv x0), (4, rv x4)] [] h Q := by
  unfold bX5_lays_134 at hq
  refine x_aload_n 0 dX5_lays_134 rfl ?_
  refine x_aload 1 dX5_lays_135 rfl ?_
  obtain ⟨g1, hq⟩ := hq
  obtain ⟨h2, e3⟩ : ∃ y, y = sR h x0 1293 x4 := ⟨_, rfl⟩
  replace hq := hq h2 e3
  refine x_putR fdX5_73 xty_O dX5_lays_137 g1 (Or.inl (by rw [g1]; rfl)) rfl e3 ?_
  refine x_aload_n 0 dX5_lays_140 rfl ?_
  have t4 : tg h2 x0 = 6 := by rw [e3]; exact g1
  refine x_get (v := rv (fR h2 x0 1294)) fdX5_296 dX5_lays_141 t4 rfl ?_
  refine x_dup dX5_lays_144 (rv_cat _) ?_
  obtain ⟨g5, hq⟩ := hq
  refine x_getN (v := .int (fI h2 (fR h2 x0 1294) 4361)) gfX5_682 dX5_lays_145 g5 rfl ?_
  refine x_iconst (v := 1) dX5_lays_148 (by decide) ?_
  refine x_isub dX5_lays_149 ?_
  obtain ⟨h6, e7⟩ : ∃ y, y = sI h2 (fR h2 x0 1294) 4361 ((fI h2 (fR h2 x0 1294) 4361) - 1) := ⟨_, rfl⟩
  replace hq := hq h6 e7
  refine x_putNI gfX5_682 xty_I1 dX5_lays_150 g5 (Or.inl (by rw [g5]; rfl)) xnI rfl e7 ?_
  exact x_vret rfl dX5_lays_153 hq
set_option maxRecDepth 100000 in
def bX5_lays (G : xG) (fr lo : Nat) (x0 : Nat) (x1 : Nat) (h : xH) (Q : Outcome → xH → Prop) : Prop := tg h x1 = 16 ∧ tg h x0 = 6 ∧ 1 ≤ fr ∧ 17 ≤ lo ∧ xRr G YX5_variable (fr - 1) (lo - 17) [rv x0, rv (fR h x1 3842)] h (fun x6 h5 => xext h h5 → tg h5 x6 = 7 ∧ (((fI h5 x6 1536) = 7 → tg h5 (fR h5 x0 1294) = 18 ∧ tg h5 (fR h5 x0 1281) = 3 ∧ 1 ≤ fr ∧ 17 ≤ lo ∧ xRi G YX2_put (fr - 1) (lo - 17) [rv (fR h5 x0 1281), .int 56, .int (fI h5 (fR h5 x0 1294) 4361), .int 0, .int 0, .int 0] h5 (fun x16 h15 => xext h5 h15 → tg h15 (fR h15 x0 1294) = 18 ∧ (∀ h20 : xH, h20 = sI h15 (fR h15 x0 1294) 4361 ((fI h15 (fR h15 x0 1294) 4361) + 1) → nx h20 + 1 ≤ xGN G ∧ us h20 + 4 ≤ xGU G ∧ (∀ (a25 : Nat) (h26 : xH), a25 = nx h20 + 1 → h26 = nO h20 8 4 → xfresh h20 a25 → 1 ≤ fr ∧ 15 ≤ lo ∧ xRv G YX7_init (fr - 1) (lo - 15) [rv a25, rv (fR h20 x0 1293)] h26 (fun h33 => xext h26 h33 → (∀ h38 : xH, h38 = sR h33 x0 1293 a25 → tg h38 (fR h38 x0 1293) = 8 ∧ (∀ h42 : xH, h42 = sR h38 (fR h38 x0 1293) 1794 x6 → tg h42 (fR h42 x0 1293) = 8 ∧ (∀ h46 : xH, h46 = sI h42 (fR h42 x0 1293) 1795 (fI h5 (fR h5 x0 1294) 4361) → tg h46 (fR h46 x1 3843) = 16 ∧ ((¬ (fI h46 (fR h46 x1 3843) 3840) = 39 → 1 ≤ fr ∧ 13 ≤ lo ∧ xRv G YX5_inner (fr - 1) (lo - 13) [rv x0, rv (fR h46 x1 3843)] h46 (fun h61 => xext h46 h61 → bX5_lays_134 G fr lo x0 (fR h20 x0 1293) h61 Q) (fun r h2 => Q (.threw r) h2)) ∧ ((fI h46 (fR h46 x1 3843) 3840) = 39 → 1 ≤ fr ∧ 14 ≤ lo ∧ xRv G YX5_plain (fr - 1) (lo - 14) [rv x0, rv (fR h46 x1 3843)] h46 (fun h67 => xext h46 h67 → bX5_lays_134 G fr lo x0 (fR h20 x0 1293) h67 Q) (fun r h2 => Q (.threw r) h2))))))) (fun r h2 => Q (.threw r) h2)))) (fun r h2 => Q (.threw r) h2)) ∧ (¬ (fI h5 x6 1536) = 7 → 1 ≤ fr ∧ 16 ≤ lo ∧ xRi G YX5_firstOf (fr - 1) (lo - 16) [rv x0, rv (fR h5 x1 3842)] h5 (fun x75 h74 => xext h5 h74 → 1 ≤ fr ∧ 14 ≤ lo ∧ xRr G YX5_fault (fr - 1) (lo - 14) [rv x0, .int 7, .int x75] h74 (fun x81 h80 => xext h74 h80 → (∃ r83, x81 = r83 + 1 ∧ Q (.threw r83) h80)) (fun r h2 => Q (.threw r) h2)) (fun r h2 => Q (.threw r) h2)))) (fun r h2 => Q (.threw r) h2)
set_option maxRecDepth 100000 in
theorem uX5_lays {G : xG} {fr lo : Nat} {x0 : Nat} {x1 : Nat} {h : xH} {Q : Outcome → xH → Prop} (hq : bX5_lays G fr lo x0 x1 h Q) : xP G YX5_lays fr lo 0 [(0, rv x0), (1, rv x1)] [] h Q := by
  unfold bX5_lays at hq
  refine x_aload_n 0 dX5_lays_0 rfl ?_
  refine x_aload_n 1 dX5_lays_1 rfl ?_
  obtain ⟨g1, hq⟩ := hq
  refine x_getN (v := rv (fR h x1 3842)) gfX5_251 dX5_lays_2 g1 rfl ?_
  obtain ⟨g2, hq⟩ := hq
  obtain ⟨g3, g4, hq⟩ := hq
  refine x_callV (Yc := YX5_variable) (as := [rv (fR h x1 3842)]) (st := []) q2590 mvX5_variable g2 rfl dX5_lays_5 (xle (xal1 (rv_cat _) (xal1 (rv_cat _) xal0)) (by decide)) (xfr g3) (xlo xsw0 (by decide) g4) (xKr hq (fun x6 h5 hq e7 => ?_) (fun _ _ q _ => q))
  replace hq := hq e7
  refine x_astore_n (lv' := [(2, rv x6), (0, rv x0), (1, rv x1)]) dX5_lays_8 (by decide) (by first | rfl | (simp [rv_cat, Value.category]; done) | (simp [rv_cat, Value.category]; decide)) ?_
  refine x_aload_n 0 dX5_lays_9 rfl ?_
  obtain ⟨g8, hq⟩ := hq
  refine x_getN (v := .int (fI h5 x6 1536)) gfX5_289 dX5_lays_10 g8 rfl ?_
  refine x_bipush (v := 7) dX5_lays_13 (by decide) ?_
  refine x_icmp_eq (tgt := 33) dX5_lays_15 (by decide) (fun c9 => ?_) (fun c9 => ?_)
  · replace hq := hq.1 c9
    refine x_aload_n 1 dX5_lays_33 rfl ?_
    have t10 : tg h5 x0 = 6 := e7.tg g2 (by decide)
    refine x_get (v := rv (fR h5 x0 1294)) fdX5_296 dX5_lays_34 t10 rfl ?_
    obtain ⟨g11, hq⟩ := hq
    refine x_getN (v := .int (fI h5 (fR h5 x0 1294) 4361)) gfX5_682 dX5_lays_37 g11 rfl ?_
    refine x_istore_n (lv' := [(3, .int (fI h5 (fR h5 x0 1294) 4361)), (2, rv x6), (0, rv x0), (1, rv x1)]) dX5_lays_40 (by decide) (by first | rfl | (simp [rv_cat, Value.category]; done) | (simp [rv_cat, Value.category]; decide)) ?_
    refine x_aload_n 2 dX5_lays_41 rfl ?_
    refine x_get (v := rv (fR h5 x0 1281)) fdX5_62 dX5_lays_42 t10 rfl ?_
    refine x_bipush (v := 56) dX5_lays_45 (by decide) ?_
    refine x_iload_n 0 dX5_lays_47 rfl ?_
    refine x_iconst (v := 0) dX5_lays_48 (by decide) ?_
    refine x_iconst (v := 0) dX5_lays_49 (by decide) ?_
    refine x_iconst (v := 0) dX5_lays_50 (by decide) ?_
    obtain ⟨g12, hq⟩ := hq
    obtain ⟨g13, g14, hq⟩ := hq
    refine x_callV (Yc := YX2_put) (as := [.int 56, .int (fI h5 (fR h5 x0 1294) 4361), .int 0, .int 0, .int 0]) (st := []) q2494 mvX2_put g12 rfl dX5_lays_51 (xle (xal1 (rv_cat _) (xal1 rfl (xal1 rfl (xal1 rfl (xal1 rfl (xal1 rfl xal0)))))) (by decide)) (xfr g13) (xlo xsw0 (by decide) g14) (xKi hq (fun x16 h15 hq e17 => ?_) (fun _ _ q _ => q))
    replace hq := hq e17
    refine x_pop dX5_lays_54 rfl ?_
    refine x_aload_n 2 dX5_lays_55 rfl ?_
    have t18 : tg h15 x0 = 6 := e17.tg t10 (by decide)
    refine x_get (v := rv (fR h15 x0 1294)) fdX5_296 dX5_lays_56 t18 rfl ?_
    refine x_dup dX5_lays_59 (rv_cat _) ?_
    obtain ⟨g19, hq⟩ := hq
    refine x_getN (v := .int (fI h15 (fR h15 x0 1294) 4361)) gfX5_682 dX5_lays_60 g19 rfl ?_
    refine x_iconst (v := 1) dX5_lays_63 (by decide) ?_
    refine x_iadd dX5_lays_64 ?_
    obtain ⟨h20, e21⟩ : ∃ y, y = sI h15 (fR h15 x0 1294) 4361 ((fI h15 (fR h15 x0 1294) 4361) + 1) := ⟨_, rfl⟩
    replace hq := hq h20 e21
    refine x_putNI gfX5_682 xty_I1 dX5_lays_65 g19 (Or.inl (by rw [g19]; rfl)) xnI rfl e21 ?_
    refine x_aload_n 2 dX5_lays_68 rfl ?_
    have t22 : tg h20 x0 = 6 := by rw [e21]; exact t18
    refine x_get (v := rv (fR h20 x0 1293)) fdX5_73 dX5_lays_69 t22 rfl ?_
    refine x_astore (lv' := [(4, rv (fR h20 x0 1293)), (3, .int (fI h5 (fR h5 x0 1294) 4361)), (2, rv x6), (0, rv x0), (1, rv x1)]) dX5_lays_72 (by decide) rfl ?_
    refine x_aload_n 3 dX5_lays_74 rfl ?_
    obtain ⟨g23, g24, hq⟩ := hq
    obtain ⟨a25, e27⟩ : ∃ y, y = nx h20 + 1 := ⟨_, rfl⟩
    obtain ⟨h26, e28⟩ : ∃ y, y = nO h20 8 4 := ⟨_, rfl⟩
    refine x_new' cdX5_116 dX5_lays_75 g23 g24 e27 e28 (fun f29 => ?_)
    replace hq := hq a25 h26 e27 e28 f29
    have t30 : tg h26 a25 = 8 := by rw [e28, e27]; exact tg_nO
    refine x_dup dX5_lays_78 (rv_cat _) ?_
    refine x_aload 0 dX5_lays_79 rfl ?_
    obtain ⟨g31, g32, hq⟩ := hq
    refine x_callI (Yc := YX7_init) (as := [rv (fR h20 x0 1293)]) (st := [rv a25, rv x0]) q752 miX7_init (by rw [t30]; decide) rfl dX5_lays_81 (xle (xal1 (rv_cat _) (xal1 (rv_cat _) xal0)) (by decide)) (xfr g31) (xlo (xsw1 (rv_cat _) (xsw1 (rv_cat _) xsw0)) (by decide) g32) (xKv hq (fun h33 hq e35 => ?_) (fun _ _ q _ => q))
    replace hq := hq e35
    have t36 : tg h26 x0 = 6 := by rw [e28]; exact tg_nO_ne e27 f29 t22 (by decide)
    have t37 : tg h33 x0 = 6 := e35.tg t36 (by decide)
    obtain ⟨h38, e39⟩ : ∃ y, y = sR h33 x0 1293 a25 := ⟨_, rfl⟩
    replace hq := hq h38 e39
    refine x_putR fdX5_73 xty_O dX5_lays_84 t37 (Or.inl (by rw [t37]; rfl)) rfl e39 ?_
    refine x_aload_n 3 dX5_lays_87 rfl ?_
    have t40 : tg h38 x0 = 6 := by rw [e39]; exact t37
    refine x_get (v := rv (fR h38 x0 1293)) fdX5_73 dX5_lays_88 t40 rfl ?_
    refine x_aload_n 2 dX5_lays_91 rfl ?_
    obtain ⟨g41, hq⟩ := hq
    obtain ⟨h42, e43⟩ : ∃ y, y = sR h38 (fR h38 x0 1293) 1794 x6 := ⟨_, rfl⟩
    replace hq := hq h42 e43
    refine x_putNR gfX5_170 xty_O dX5_lays_92 g41 (Or.inl (by rw [g41]; rfl)) rfl e43 ?_
    refine x_aload_n 3 dX5_lays_95 rfl ?_
    have t44 : tg h42 x0 = 6 := by rw [e43]; exact t40
    refine x_get (v := rv (fR h42 x0 1293)) fdX5_73 dX5_lays_96 t44 rfl ?_
    refine x_iload_n 1 dX5_lays_99 rfl ?_
    obtain ⟨g45, hq⟩ := hq
    obtain ⟨h46, e47⟩ : ∃ y, y = sI h42 (fR h42 x0 1293) 1795 (fI h5 (fR h5 x0 1294) 4361) := ⟨_, rfl⟩
    replace hq := hq h46 e47
    refine x_putNI gfX5_691 xty_I1 dX5_lays_100 g45 (Or.inl (by rw [g45]; rfl)) xnI rfl e47 ?_
    refine x_aload_n 4 dX5_lays_103 rfl ?_
    have t48 : tg h5 x1 = 16 := e7.tg g1 (by decide)
    have t49 : tg h15 x1 = 16 := e17.tg t48 (by decide)
    have t50 : tg h20 x1 = 16 := by rw [e21]; exact t49
    have t51 : tg h26 x1 = 16 := by rw [e28]; exact tg_nO_ne e27 f29 t50 (by decide)
    have t52 : tg h33 x1 = 16 := e35.tg t51 (by decide)
    have t53 : tg h38 x1 = 16 := by rw [e39]; exact t52
    have t54 : tg h42 x1 = 16 := by rw [e43]; exact t53
    have t55 : tg h46 x1 = 16 := by rw [e47]; exact t54
    refine x_getN (v := rv (fR h46 x1 3843)) gfX5_519 dX5_lays_104 t55 rfl ?_
    obtain ⟨g56, hq⟩ := hq
    refine x_getN (v := .int (fI h46 (fR h46 x1 3843) 3840)) gfX5_264 dX5_lays_107 g56 rfl ?_
    refine x_bipush (v := 39) dX5_lays_110 (by decide) ?_
    refine x_icmp_ne (tgt := 126) dX5_lays_112 (by decide) (fun c57 => ?_) (fun c57 => ?_)
    · replace hq := hq.1 c57
      refine x_aload_n 3 dX5_lays_126 rfl ?_
      refine x_aload_n 4 dX5_lays_127 rfl ?_
      refine x_getN (v := rv (fR h46 x1 3843)) gfX5_519 dX5_lays_128 t55 rfl ?_
      have t58 : tg h46 x0 = 6 := by rw [e47]; exact t44
      obtain ⟨g59, g60, hq⟩ := hq
      refine x_callV (Yc := YX5_inner) (as := [rv (fR h46 x1 3843)]) (st := []) q2696 mvX5_inner t58 rfl dX5_lays_131 (xle (xal1 (rv_cat _) (xal1 (rv_cat _) xal0)) (by decide)) (xfr g59) (xlo xsw0 (by decide) g60) (xKv hq (fun h61 hq e63 => ?_) (fun _ _ q _ => q))
      replace hq := hq e63
      refine xP.pick (lv' := [(0, rv x0), (4, rv (fR h20 x0 1293))]) [3, 0] rfl ?_
      exact uX5_lays_134 hq
    · replace hq := hq.2 c57
      refine x_aload_n 3 dX5_lays_115 rfl ?_
      refine x_aload_n 4 dX5_lays_116 rfl ?_
      refine x_getN (v := rv (fR h46 x1 3843)) gfX5_519 dX5_lays_117 t55 rfl ?_
      have t64 : tg h46 x0 = 6 := by rw [e47]; exact t44
      obtain ⟨g65, g66, hq⟩ := hq
      refine x_callV (Yc := YX5_plain) (as := [rv (fR h46 x1 3843)]) (st := []) q2506 mvX5_plain t64 rfl dX5_lays_120 (xle (xal1 (rv_cat _) (xal1 (rv_cat _) xal0)) (by decide)) (xfr g65) (xlo xsw0 (by decide) g66) (xKv hq (fun h67 hq e69 => ?_) (fun _ _ q _ => q))
      replace hq := hq e69
      refine x_goto (tgt := 134) dX5_lays_123 (by decide) ?_
      refine xP.pick (lv' := [(0, rv x0), (4, rv (fR h20 x0 1293))]) [3, 0] rfl ?_
      exact uX5_lays_134 hq
  · replace hq := hq.2 c9
    refine x_aload_n 1 dX5_lays_18 rfl ?_
    refine x_bipush (v := 7) dX5_lays_19 (by decide) ?_
    refine x_aload_n 1 dX5_lays_21 rfl ?_
    refine x_aload_n 2 dX5_lays_22 rfl ?_
    have t70 : tg h5 x1 = 16 := e7.tg g1 (by decide)
    refine x_getN (v := rv (fR h5 x1 3842)) gfX5_251 dX5_lays_23 t70 rfl ?_
    have t71 : tg h5 x0 = 6 := e7.tg g2 (by decide)
    obtain ⟨g72, g73, hq⟩ := hq
    refine x_callV (Yc := YX5_firstOf) (as := [rv (fR h5 x1 3842)]) (st := [.int 7, rv x0]) q2510 mvX5_firstOf t71 rfl dX5_lays_26 (xle (xal1 (rv_cat _) (xal1 (rv_cat _) xal0)) (by decide)) (xfr g72) (xlo (xsw1 rfl (xsw1 (rv_cat _) xsw0)) (by decide) g73) (xKi hq (fun x75 h74 hq e76 => ?_) (fun _ _ q _ => q))
    replace hq := hq e76
    have t77 : tg h74 x0 = 6 := e76.tg t71 (by decide)
    obtain ⟨g78, g79, hq⟩ := hq
    refine x_callV (Yc := YX5_fault) (as := [.int 7, .int x75]) (st := []) q2087 mvX5_fault t77 rfl dX5_lays_29 (xle (xal1 (rv_cat _) (xal1 rfl (xal1 rfl xal0))) (by decide)) (xfr g78) (xlo xsw0 (by decide) g79) (xKr hq (fun x81 h80 hq e82 => ?_) (fun _ _ q _ => q))
    replace hq := hq e82
    obtain ⟨r83, g84, hq⟩ := hq
    rw [g84]
    exact x_athrow dX5_lays_32 hq
theorem rX5_lays {G : xG} {fr lo : Nat} {x0 : Nat} {x1 : Nat} {h : xH} {Q : Outcome → xH → Prop} (hq : bX5_lays G fr lo x0 x1 h Q) : xR G YX5_lays fr lo [rv x0, rv x1] h Q := by
  show xP _ _ _ _ _ (lv_args 0 _) _ _ _
  rw [show lv_args 0 [rv x0, rv x1] = [(0, rv x0), (1, rv x1)] from (xla1 (rv_cat _) (xla1 (rv_cat _) xla0))]
  exact uX5_lays hq
set_option maxRecDepth 100000 in
theorem dX5_leaves_0 : decode cX5_leaves 0 = .ok (.aload_n 1, 1) := by decide +kernel
set_option maxRecDepth 100000 in
theorem dX5_leaves_1 : decode cX5_leaves 1 = .ok (.getfield 251, 3) := by decide +kernel
set_option maxRecDepth 100000 in
theorem dX5_leaves_4 : decode cX5_leaves 4 = .ok (.astore_n 2, 1) := by decide +kernel
set_option maxRecDepth 100000 in
theorem dX5_leaves_5 : decode cX5_leaves 5 = .ok (.aload_n 0, 1) := by decide +kernel
set_option maxRecDepth 100000 in
theorem dX5_leaves_6 : decode cX5_leaves 6 = .ok (.getfield 296, 3) := by decide +kernel
set_option maxRecDepth 100000 in
theorem dX5_leaves_9 : decode cX5_leaves 9 = .ok (.astore_n 3, 1) := by decide +kernel
set_option maxRecDepth 100000 in
theorem dX5_leaves_10 : decode cX5_leaves 10 = .ok (.aconst_null, 1) := by decide +kernel
set_option maxRecDepth 100000 in
theorem dX5_leaves_11 : decode cX5_leaves 11 = .ok (.astore 4, 2) := by decide +kernel
set_option maxRecDepth 100000 in
theorem dX5_leaves_13 : decode cX5_leaves 13 = .ok (.aload_n 3, 1) := by decide +kernel
set_option maxRecDepth 100000 in
theorem dX5_leaves_14 : decode cX5_leaves 14 = .ok (.ifnull 51, 3) := by decide +kernel
set_option maxRecDepth 100000 in
theorem dX5_leaves_17 : decode cX5_leaves 17 = .ok (.aload 4, 2) := by decide +kernel
set_option maxRecDepth 100000 in
theorem dX5_leaves_19 : decode cX5_leaves 19 = .ok (.ifnonnull 46, 3) := by decide +kernel
set_option maxRecDepth 100000 in
theorem dX5_leaves_22 : decode cX5_leaves 22 = .ok (.aload_n 2, 1) := by decide +kernel
set_option maxRecDepth 100000 in
theorem dX5_leaves_23 : decode cX5_leaves 23 = .ok (.getfield 202, 3) := by decide +kernel
set_option maxRecDepth 100000 in
theorem dX5_leaves_26 : decode cX5_leaves 26 = .ok (.getfield 219, 3) := by decide +kernel
set_option maxRecDepth 100000 in
theorem dX5_leaves_29 : decode cX5_leaves 29 = .ok (.sipush 9999, 3) := by decide +kernel
set_option maxRecDepth 100000 in
theorem dX5_leaves_32 : decode cX5_leaves 32 = .ok (.if_icmp .le 7, 3) := by decide +kernel
set_option maxRecDepth 100000 in
theorem dX5_leaves_35 : decode cX5_leaves 35 = .ok (.aconst_null, 1) := by decide +kernel
set_option maxRecDepth 100000 in
theorem dX5_leaves_36 : decode cX5_leaves 36 = .ok (.goto 14, 3) := by decide +kernel
set_option maxRecDepth 100000 in
theorem dX5_leaves_39 : decode cX5_leaves 39 = .ok (.aload_n 3, 1) := by decide +kernel
set_option maxRecDepth 100000 in
theorem dX5_leaves_40 : decode cX5_leaves 40 = .ok (.aload_n 2, 1) := by decide +kernel
set_option maxRecDepth 100000 in
theorem dX5_leaves_41 : decode cX5_leaves 41 = .ok (.getfield 202, 3) := by decide +kernel
set_option maxRecDepth 100000 in
theorem dX5_leaves_44 : decode cX5_leaves 44 = .ok (.getfield 219, 3) := by decide +kernel
set_option maxRecDepth 100000 in
theorem dX5_leaves_47 : decode cX5_leaves 47 = .ok (.invokevirtual 464, 3) := by decide +kernel
set_option maxRecDepth 100000 in
theorem dX5_leaves_50 : decode cX5_leaves 50 = .ok (.astore 4, 2) := by decide +kernel
set_option maxRecDepth 100000 in
theorem dX5_leaves_52 : decode cX5_leaves 52 = .ok (.aload 4, 2) := by decide +kernel
set_option maxRecDepth 100000 in
theorem dX5_leaves_54 : decode cX5_leaves 54 = .ok (.ifnonnull (-41), 3) := by decide +kernel
set_option maxRecDepth 100000 in
theorem dX5_leaves_57 : decode cX5_leaves 57 = .ok (.aload_n 3, 1) := by decide +kernel
set_option maxRecDepth 100000 in
theorem dX5_leaves_58 : decode cX5_leaves 58 = .ok (.getfield 514, 3) := by decide +kernel
set_option maxRecDepth 100000 in
theorem dX5_leaves_61 : decode cX5_leaves 61 = .ok (.astore_n 3, 1) := by decide +kernel
set_option maxRecDepth 100000 in
theorem dX5_leaves_62 : decode cX5_leaves 62 = .ok (.goto (-49), 3) := by decide +kernel
set_option maxRecDepth 100000 in
theorem dX5_leaves_65 : decode cX5_leaves 65 = .ok (.aload 4, 2) := by decide +kernel
set_option maxRecDepth 100000 in
theorem dX5_leaves_67 : decode cX5_leaves 67 = .ok (.ifnonnull 14, 3) := by decide +kernel
set_option maxRecDepth 100000 in
theorem dX5_leaves_70 : decode cX5_leaves 70 = .ok (.aload_n 0, 1) := by decide +kernel
set_option maxRecDepth 100000 in
theorem dX5_leaves_71 : decode cX5_leaves 71 = .ok (.bipush 12, 2) := by decide +kernel
set_option maxRecDepth 100000 in
theorem dX5_leaves_73 : decode cX5_leaves 73 = .ok (.aload_n 2, 1) := by decide +kernel
set_option maxRecDepth 100000 in
theorem dX5_leaves_74 : decode cX5_leaves 74 = .ok (.invokevirtual 192, 3) := by decide +kernel
set_option maxRecDepth 100000 in
theorem dX5_leaves_77 : decode cX5_leaves 77 = .ok (.invokevirtual 163, 3) := by decide +kernel
set_option maxRecDepth 100000 in
theorem dX5_leaves_80 : decode cX5_leaves 80 = .ok (.athrow, 1) := by decide +kernel
set_option maxRecDepth 100000 in
theorem dX5_leaves_81 : decode cX5_leaves 81 = .ok (.aload_n 3, 1) := by decide +kernel
set_option maxRecDepth 100000 in
theorem dX5_leaves_82 : decode cX5_leaves 82 = .ok (.getfield 571, 3) := by decide +kernel
set_option maxRecDepth 100000 in
theorem dX5_leaves_85 : decode cX5_leaves 85 = .ok (.aload_n 3, 1) := by decide +kernel
set_option maxRecDepth 100000 in
theorem dX5_leaves_86 : decode cX5_leaves 86 = .ok (.aload 4, 2) := by decide +kernel
set_option maxRecDepth 100000 in
theorem dX5_leaves_88 : decode cX5_leaves 88 = .ok (.aload_n 2, 1) := by decide +kernel
set_option maxRecDepth 100000 in
theorem dX5_leaves_89 : decode cX5_leaves 89 = .ok (.invokevirtual 192, 3) := by decide +kernel
set_option maxRecDepth 100000 in
theorem dX5_leaves_92 : decode cX5_leaves 92 = .ok (.aload_n 3, 1) := by decide +kernel
set_option maxRecDepth 100000 in
theorem dX5_leaves_93 : decode cX5_leaves 93 = .ok (.aload_n 0, 1) := by decide +kernel
set_option maxRecDepth 100000 in
theorem dX5_leaves_94 : decode cX5_leaves 94 = .ok (.getfield 296, 3) := by decide +kernel
set_option maxRecDepth 100000 in
theorem dX5_leaves_97 : decode cX5_leaves 97 = .ok (.if_acmp .eq 7, 3) := by decide +kernel
set_option maxRecDepth 100000 in
theorem dX5_leaves_100 : decode cX5_leaves 100 = .ok (.iconst 1, 1) := by decide +kernel
set_option maxRecDepth 100000 in
theorem dX5_leaves_101 : decode cX5_leaves 101 = .ok (.goto 4, 3) := by decide +kernel
set_option maxRecDepth 100000 in
theorem dX5_leaves_104 : decode cX5_leaves 104 = .ok (.iconst 0, 1) := by decide +kernel
set_option maxRecDepth 100000 in
theorem dX5_leaves_105 : decode cX5_leaves 105 = .ok (.invokevirtual 694, 3) := by decide +kernel
set_option maxRecDepth 100000 in
theorem dX5_leaves_108 : decode cX5_leaves 108 = .ok (.invokevirtual 120, 3) := by decide +kernel
set_option maxRecDepth 100000 in
theorem dX5_leaves_111 : decode cX5_leaves 111 = .ok (.pop, 1) := by decide +kernel
set_option maxRecDepth 100000 in
theorem dX5_leaves_112 : decode cX5_leaves 112 = .ok (.aload_n 0, 1) := by decide +kernel
set_option maxRecDepth 100000 in
theorem dX5_leaves_113 : decode cX5_leaves 113 = .ok (.getfield 62, 3) := by decide +kernel
set_option maxRecDepth 100000 in
theorem dX5_leaves_116 : decode cX5_leaves 116 = .ok (.bipush 63, 2) := by decide +kernel
set_option maxRecDepth 100000 in
theorem dX5_leaves_118 : decode cX5_leaves 118 = .ok (.aload 4, 2) := by decide +kernel
set_option maxRecDepth 100000 in
theorem dX5_leaves_120 : decode cX5_leaves 120 = .ok (.getfield 618, 3) := by decide +kernel
set_option maxRecDepth 100000 in
theorem dX5_leaves_123 : decode cX5_leaves 123 = .ok (.aload_n 0, 1) := by decide +kernel
set_option maxRecDepth 100000 in
theorem dX5_leaves_124 : decode cX5_leaves 124 = .ok (.getfield 416, 3) := by decide +kernel
set_option maxRecDepth 100000 in
theorem dX5_leaves_127 : decode cX5_leaves 127 = .ok (.getfield 447, 3) := by decide +kernel
set_option maxRecDepth 100000 in
theorem dX5_leaves_130 : decode cX5_leaves 130 = .ok (.aload_n 3, 1) := by decide +kernel
set_option maxRecDepth 100000 in
theorem dX5_leaves_131 : decode cX5_leaves 131 = .ok (.getfield 516, 3) := by decide +kernel
set_option maxRecDepth 100000 in
theorem dX5_leaves_134 : decode cX5_leaves 134 = .ok (.getfield 447, 3) := by decide +kernel
set_option maxRecDepth 100000 in
theorem dX5_leaves_137 : decode cX5_leaves 137 = .ok (.isub, 1) := by decide +kernel
set_option maxRecDepth 100000 in
theorem dX5_leaves_138 : decode cX5_leaves 138 = .ok (.iconst 0, 1) := by decide +kernel
set_option maxRecDepth 100000 in
theorem dX5_leaves_139 : decode cX5_leaves 139 = .ok (.iconst 0, 1) := by decide +kernel
set_option maxRecDepth 100000 in
theorem dX5_leaves_140 : decode cX5_leaves 140 = .ok (.invokevirtual 506, 3) := by decide +kernel
set_option maxRecDepth 100000 in
theorem dX5_leaves_143 : decode cX5_leaves 143 = .ok (.pop, 1) := by decide +kernel
set_option maxRecDepth 100000 in
theorem dX5_leaves_144 : decode cX5_leaves 144 = .ok (.return_, 1) := by decide +kernel
def lX5_leaves_13 (G : xG) (fr lo : Nat) (x0 : Nat) (x2 : Nat) (x3 : Nat) (x4 : Nat) (h : xH) (Q : Outcome → xH → Prop) : Prop := xP G YX5_leaves fr lo 13 [(0, rv x0), (2, rv x2), (3, rv x3), (4, rv x4)] [] h Q
set_option maxRecDepth 100000 in
def bX5_leaves_105 (G : xG) (fr lo : Nat) (x0 : Nat) (x3 : Nat) (x4 : Nat) (s0 : Int32) (s1 : Int32) (s2 : Nat) (s3 : Nat) (s4 : Nat) (h : xH) (Q : Outcome → xH → Prop) : Prop := tg h s3 = 18 ∧ 1 ≤ fr ∧ 16 ≤ lo ∧ xRr G YX17_leap (fr - 1) (lo - 16) [rv s3, rv s2, .int s1, .int s0] h (fun x5 h4 => xext h h4 → tg h4 s4 = 29 ∧ 1 ≤ fr ∧ 13 ≤ lo ∧ xRi G YJ2_add (fr - 1) (lo - 13) [rv s4, rv x5] h4 (fun x11 h10 => xext h4 h10 → tg h10 x0 = 6 ∧ tg h10 x4 = 19 ∧ tg h10 (fR h10 x0 1295) = 17 ∧ tg h10 x3 = 18 ∧ tg h10 (fR h10 x3 4353) = 17 ∧ tg h10 (fR h10 x0 1281) = 3 ∧ 1 ≤ fr ∧ 17 ≤ lo ∧ xRi G YX2_put (fr - 1) (lo - 17) [rv (fR h10 x0 1281), .int 63, .int (fI h10 x4 4609), .int ((fI h10 (fR h10 x0 1295) 4102) - (fI h10 (fR h10 x3 4353) 4102)), .int 0, .int 0] h10 (fun x22 h21 => xext h10 h21 → Q (.returned none) h21) (fun r h2 => Q (.threw r) h2)) (fun r h2 => Q (.threw r) h2)) (fun r h2 => Q (.threw r) h2)
set_option maxRecDepth 100000 in
theorem uX5_leaves_105 {G : xG} {fr lo : Nat} {x0 : Nat} {x3 : Nat} {x4 : Nat} {s0 : Int32} {s1 : Int32} {s2 : Nat} {s3 : Nat} {s4 : Nat} {h : xH} {Q : Outcome → xH → Prop} (hq : bX5_leaves_105 G fr lo x0 x3 x4 s0 s1 s2 s3 s4 h Q) : xP G YX5_leaves fr lo 105 [(0, rv x0), (3, rv x3), (4, rv x4)] [.int s0, .int s1, rv s2, rv s3, rv s4] h Q := by
  unfold bX5_leaves_105 at hq
  obtain ⟨g1, hq⟩ := hq
  obtain ⟨g2, g3, hq⟩ := hq
  refine x_callV (Yc := YX17_leap) (as := [rv s2, .int s1, .int s0]) (st := [rv s4]) q2728 mvX17_leap g1 rfl dX5_leaves_105 (xle (xal1 (rv_cat _) (xal1 (rv_cat _) (xal1 rfl (xal1 rfl xal0)))) (by decide)) (xfr g2) (xlo (xsw1 (rv_cat _) xsw0) (by decide) g3) (xKr hq (fun x5 h4 hq e6 => ?_) (fun _ _ q _ => q))
  replace hq := hq e6
  obtain ⟨g7, hq⟩ := hq
  obtain ⟨g8, g9, hq⟩ := hq
  refine x_callV (Yc := YJ2_add) (as := [rv x5]) (st := []) q1009 mvJ2_add g7 rfl dX5_leaves_108 (xle (xal1 (rv_cat _) (xal1 (rv_cat _) xal0)) (by decide)) (xfr g8) (xlo xsw0 (by decide) g9) (xKi hq (fun x11 h10 hq e12 => ?_) (fun _ _ q _ => q))
  replace hq := hq e12
  refine x_pop dX5_leaves_111 rfl ?_
  refine x_aload_n 0 dX5_leaves_112 rfl ?_
  obtain ⟨g13, hq⟩ := hq
  refine x_get (v := rv (fR h10 x0 1281)) fdX5_62 dX5_leaves_113 g13 rfl ?_
  refine x_bipush (v := 63) dX5_leaves_116 (by decide) ?_
  refine x_aload 2 dX5_leaves_118 rfl ?_
  obtain ⟨g14, hq⟩ := hq
  refine x_getN (v := .int (fI h10 x4 4609)) gfX5_618 dX5_leaves_120 g14 rfl ?_
  refine x_aload_n 0 dX5_leaves_123 rfl ?_
  refine x_get (v := rv (fR h10 x0 1295)) fdX5_416 dX5_leaves_124 g13 rfl ?_
  obtain ⟨g15, hq⟩ := hq
  refine x_getN (v := .int (fI h10 (fR h10 x0 1295) 4102)) gfX5_447 dX5_leaves_127 g15 rfl ?_
  refine x_aload_n 1 dX5_leaves_130 rfl ?_
  obtain ⟨g16, hq⟩ := hq
  refine x_getN (v := rv (fR h10 x3 4353)) gfX5_516 dX5_leaves_131 g16 rfl ?_
  obtain ⟨g17, hq⟩ := hq
  refine x_getN (v := .int (fI h10 (fR h10 x3 4353) 4102)) gfX5_447 dX5_leaves_134 g17 rfl ?_
  refine x_isub dX5_leaves_137 ?_
  refine x_iconst (v := 0) dX5_leaves_138 (by decide) ?_
  refine x_iconst (v := 0) dX5_leaves_139 (by decide) ?_
  obtain ⟨g18, hq⟩ := hq
  obtain ⟨g19, g20, hq⟩ := hq
  refine x_callV (Yc := YX2_put) (as := [.int 63, .int (fI h10 x4 4609), .int ((fI h10 (fR h10 x0 1295) 4102) - (fI h10 (fR h10 x3 4353) 4102)), .int 0, .int 0]) (st := []) q2494 mvX2_put g18 rfl dX5_leaves_140 (xle (xal1 (rv_cat _) (xal1 rfl (xal1 rfl (xal1 rfl (xal1 rfl (xal1 rfl xal0)))))) (by decide)) (xfr g19) (xlo xsw0 (by decide) g20) (xKi hq (fun x22 h21 hq e23 => ?_) (fun _ _ q _ => q))
  replace hq := hq e23
  refine x_pop dX5_leaves_143 rfl ?_
  exact x_vret rfl dX5_leaves_144 hq
set_option maxRecDepth 100000 in
def bX5_leaves_65 (G : xG) (fr lo : Nat) (x0 : Nat) (x2 : Nat) (x3 : Nat) (x4 : Nat) (h : xH) (Q : Outcome → xH → Prop) : Prop := ((¬ x4 = 0 → tg h x3 = 18 ∧ tg h x2 = 16 ∧ 1 ≤ fr ∧ 15 ≤ lo ∧ xRi G YX15_place (fr - 1) (lo - 15) [rv x2] h (fun x7 h6 => xext h h6 → tg h6 x0 = 6 ∧ ((x3 = (fR h6 x0 1294) → bX5_leaves_105 G fr lo x0 x3 x4 0 x7 x4 x3 (fR h x3 4356) h6 Q) ∧ (¬ x3 = (fR h6 x0 1294) → bX5_leaves_105 G fr lo x0 x3 x4 1 x7 x4 x3 (fR h x3 4356) h6 Q))) (fun r h2 => Q (.threw r) h2)) ∧ (x4 = 0 → tg h x2 = 16 ∧ 1 ≤ fr ∧ 14 ≤ lo ∧ xRi G YX15_place (fr - 1) (lo - 14) [rv x2] h (fun x15 h14 => xext h h14 → tg h14 x0 = 6 ∧ 1 ≤ fr ∧ 14 ≤ lo ∧ xRr G YX5_fault (fr - 1) (lo - 14) [rv x0, .int 12, .int x15] h14 (fun x21 h20 => xext h14 h20 → (∃ r23, x21 = r23 + 1 ∧ Q (.threw r23) h20)) (fun r h2 => Q (.threw r) h2)) (fun r h2 => Q (.threw r) h2)))
set_option maxRecDepth 100000 in
theorem uX5_leaves_65 {G : xG} {fr lo : Nat} {x0 : Nat} {x2 : Nat} {x3 : Nat} {x4 : Nat} {h : xH} {Q : Outcome → xH → Prop} (hq : bX5_leaves_65 G fr lo x0 x2 x3 x4 h Q) : xP G YX5_leaves fr lo 65 [(0, rv x0), (2, rv x2), (3, rv x3), (4, rv x4)] [] h Q := by
  unfold bX5_leaves_65 at hq
  refine x_aload 3 dX5_leaves_65 rfl ?_
  refine x_ifnonnull (tgt := 81) dX5_leaves_67 (by decide) (fun c1 => ?_) (fun c1 => ?_)
  · replace hq := hq.1 c1
    refine x_aload_n 2 dX5_leaves_81 rfl ?_
    obtain ⟨g2, hq⟩ := hq
    refine x_getN (v := rv (fR h x3 4356)) gfX5_571 dX5_leaves_82 g2 rfl ?_
    refine x_aload_n 2 dX5_leaves_85 rfl ?_
    refine x_aload 3 dX5_leaves_86 rfl ?_
    refine x_aload_n 1 dX5_leaves_88 rfl ?_
    obtain ⟨g3, hq⟩ := hq
    obtain ⟨g4, g5, hq⟩ := hq
    refine x_callV (Yc := YX15_place) (as := []) (st := [rv x4, rv x3, rv (fR h x3 4356)]) q2013 mvX15_place g3 rfl dX5_leaves_89 (xle (xal1 (rv_cat _) xal0) (by decide)) (xfr g4) (xlo (xsw1 (rv_cat _) (xsw1 (rv_cat _) (xsw1 (rv_cat _) xsw0))) (by decide) g5) (xKi hq (fun x7 h6 hq e8 => ?_) (fun _ _ q _ => q))
    replace hq := hq e8
    refine x_aload_n 2 dX5_leaves_92 rfl ?_
    refine x_aload_n 0 dX5_leaves_93 rfl ?_
    obtain ⟨g9, hq⟩ := hq
    refine x_get (v := rv (fR h6 x0 1294)) fdX5_296 dX5_leaves_94 g9 rfl ?_
    refine x_acmp_eq (tgt := 104) dX5_leaves_97 (by decide) (fun c10 => ?_) (fun c10 => ?_)
    · replace hq := hq.1 c10
      refine x_iconst (v := 0) dX5_leaves_104 (by decide) ?_
      refine xP.pick (lv' := [(0, rv x0), (3, rv x3), (4, rv x4)]) [0, 2, 3] rfl ?_
      exact uX5_leaves_105 hq
    · replace hq := hq.2 c10
      refine x_iconst (v := 1) dX5_leaves_100 (by decide) ?_
      refine x_goto (tgt := 105) dX5_leaves_101 (by decide) ?_
      refine xP.pick (lv' := [(0, rv x0), (3, rv x3), (4, rv x4)]) [0, 2, 3] rfl ?_
      exact uX5_leaves_105 hq
  · replace hq := hq.2 c1
    refine x_aload_n 0 dX5_leaves_70 rfl ?_
    refine x_bipush (v := 12) dX5_leaves_71 (by decide) ?_
    refine x_aload_n 1 dX5_leaves_73 rfl ?_
    obtain ⟨g11, hq⟩ := hq
    obtain ⟨g12, g13, hq⟩ := hq
    refine x_callV (Yc := YX15_place) (as := []) (st := [.int 12, rv x0]) q2013 mvX15_place g11 rfl dX5_leaves_74 (xle (xal1 (rv_cat _) xal0) (by decide)) (xfr g12) (xlo (xsw1 rfl (xsw1 (rv_cat _) xsw0)) (by decide) g13) (xKi hq (fun x15 h14 hq e16 => ?_) (fun _ _ q _ => q))
    replace hq := hq e16
    obtain ⟨g17, hq⟩ := hq
    obtain ⟨g18, g19, hq⟩ := hq
    refine x_callV (Yc := YX5_fault) (as := [.int 12, .int x15]) (st := []) q2087 mvX5_fault g17 rfl dX5_leaves_77 (xle (xal1 (rv_cat _) (xal1 rfl (xal1 rfl xal0))) (by decide)) (xfr g18) (xlo xsw0 (by decide) g19) (xKr hq (fun x21 h20 hq e22 => ?_) (fun _ _ q _ => q))
    replace hq := hq e22
    obtain ⟨r23, g24, hq⟩ := hq
    rw [g24]
    exact x_athrow dX5_leaves_80 hq
set_option maxRecDepth 100000 in
def bX5_leaves_50 (G : xG) (fr lo : Nat) (x0 : Nat) (x2 : Nat) (x3 : Nat) (s0 : Nat) (h : xH) (Q : Outcome → xH → Prop) : Prop := ((¬ s0 = 0 → lX5_leaves_13 G fr lo x0 x2 x3 s0 h Q) ∧ (s0 = 0 → tg h x3 = 18 ∧ lX5_leaves_13 G fr lo x0 x2 (fR h x3 4352) s0 h Q))
set_option maxRecDepth 100000 in
theorem uX5_leaves_50 {G : xG} {fr lo : Nat} {x0 : Nat} {x2 : Nat} {x3 : Nat} {s0 : Nat} {h : xH} {Q : Outcome → xH → Prop} (hq : bX5_leaves_50 G fr lo x0 x2 x3 s0 h Q) : xP G YX5_leaves fr lo 50 [(0, rv x0), (2, rv x2), (3, rv x3)] [rv s0] h Q := by
  unfold bX5_leaves_50 at hq
  refine x_astore (lv' := [(4, rv s0), (0, rv x0), (2, rv x2), (3, rv x3)]) dX5_leaves_50 (by decide) (by first | rfl | (simp [rv_cat, Value.category]; done) | (simp [rv_cat, Value.category]; decide)) ?_
  refine x_aload 0 dX5_leaves_52 rfl ?_
  refine x_ifnonnull (tgt := 13) dX5_leaves_54 (by decide) (fun c1 => ?_) (fun c1 => ?_)
  · replace hq := hq.1 c1
    refine xP.pick (lv' := [(0, rv x0), (2, rv x2), (3, rv x3), (4, rv s0)]) [1, 2, 3, 0] rfl ?_
    exact hq
  · replace hq := hq.2 c1
    refine x_aload_n 3 dX5_leaves_57 rfl ?_
    obtain ⟨g2, hq⟩ := hq
    refine x_getN (v := rv (fR h x3 4352)) gfX5_514 dX5_leaves_58 g2 rfl ?_
    refine x_astore_n (lv' := [(3, rv (fR h x3 4352)), (4, rv s0), (0, rv x0), (2, rv x2)]) dX5_leaves_61 (by decide) (by first | rfl | (simp [rv_cat, Value.category]; done) | (simp [rv_cat, Value.category]; decide)) ?_
    refine x_goto (tgt := 13) dX5_leaves_62 (by decide) ?_
    refine xP.pick (lv' := [(0, rv x0), (2, rv x2), (3, rv (fR h x3 4352)), (4, rv s0)]) [2, 3, 0, 1] rfl ?_
    exact hq
set_option maxRecDepth 100000 in
def bX5_leaves_13 (G : xG) (fr lo : Nat) (x0 : Nat) (x2 : Nat) (x3 : Nat) (x4 : Nat) (h : xH) (Q : Outcome → xH → Prop) : Prop := ((x3 = 0 → bX5_leaves_65 G fr lo x0 x2 x3 x4 h Q) ∧ (¬ x3 = 0 → ((¬ x4 = 0 → bX5_leaves_65 G fr lo x0 x2 x3 x4 h Q) ∧ (x4 = 0 → tg h x2 = 16 ∧ tg h (fR h x2 3841) = 15 ∧ (((fI h (fR h x2 3841) 3587) ≤ 9999 → tg h x3 = 18 ∧ 1 ≤ fr ∧ 14 ≤ lo ∧ xRr G YX17_label (fr - 1) (lo - 14) [rv x3, .int (fI h (fR h x2 3841) 3587)] h (fun x10 h9 => xext h h9 → bX5_leaves_50 G fr lo x0 x2 x3 x10 h9 Q) (fun r h2 => Q (.threw r) h2)) ∧ (¬ (fI h (fR h x2 3841) 3587) ≤ 9999 → bX5_leaves_50 G fr lo x0 x2 x3 0 h Q))))))
set_option maxRecDepth 100000 in
theorem uX5_leaves_13 {G : xG} {fr lo : Nat} {x0 : Nat} {x2 : Nat} {x3 : Nat} {x4 : Nat} {h : xH} {Q : Outcome → xH → Prop} (hq : bX5_leaves_13 G fr lo x0 x2 x3 x4 h Q) : xP G YX5_leaves fr lo 13 [(0, rv x0), (2, rv x2), (3, rv x3), (4, rv x4)] [] h Q := by
  unfold bX5_leaves_13 at hq
  refine x_aload_n 2 dX5_leaves_13 rfl ?_
  refine x_ifnull (tgt := 65) dX5_leaves_14 (by decide) (fun c1 => ?_) (fun c1 => ?_)
  · replace hq := hq.1 c1
    exact uX5_leaves_65 hq
  · replace hq := hq.2 c1
    refine x_aload 3 dX5_leaves_17 rfl ?_
    refine x_ifnonnull (tgt := 65) dX5_leaves_19 (by decide) (fun c2 => ?_) (fun c2 => ?_)
    · replace hq := hq.1 c2
      exact uX5_leaves_65 hq
    · replace hq := hq.2 c2
      refine x_aload_n 1 dX5_leaves_22 rfl ?_
      obtain ⟨g3, hq⟩ := hq
      refine x_getN (v := rv (fR h x2 3841)) gfX5_202 dX5_leaves_23 g3 rfl ?_
      obtain ⟨g4, hq⟩ := hq
      refine x_getN (v := .int (fI h (fR h x2 3841) 3587)) gfX5_219 dX5_leaves_26 g4 rfl ?_
      refine x_sipush (v := 9999) dX5_leaves_29 (by decide) ?_
      refine x_icmp_le (tgt := 39) dX5_leaves_32 (by decide) (fun c5 => ?_) (fun c5 => ?_)
      · replace hq := hq.1 c5
        refine x_aload_n 2 dX5_leaves_39 rfl ?_
        refine x_aload_n 1 dX5_leaves_40 rfl ?_
        refine x_getN (v := rv (fR h x2 3841)) gfX5_202 dX5_leaves_41 g3 rfl ?_
        refine x_getN (v := .int (fI h (fR h x2 3841) 3587)) gfX5_219 dX5_leaves_44 g4 rfl ?_
        obtain ⟨g6, hq⟩ := hq
        obtain ⟨g7, g8, hq⟩ := hq
        refine x_callV (Yc := YX17_label) (as := [.int (fI h (fR h x2 3841) 3587)]) (st := []) q2189 mvX17_label g6 rfl dX5_leaves_47 (xle (xal1 (rv_cat _) (xal1 rfl xal0)) (by decide)) (xfr g7) (xlo xsw0 (by decide) g8) (xKr hq (fun x10 h9 hq e11 => ?_) (fun _ _ q _ => q))
        replace hq := hq e11
        refine xP.pick (lv' := [(0, rv x0), (2, rv x2), (3, rv x3)]) [0, 1, 2] rfl ?_
        exact uX5_leaves_50 hq
      · replace hq := hq.2 c5
        refine x_null dX5_leaves_35 ?_
        refine x_goto (tgt := 50) dX5_leaves_36 (by decide) ?_
        refine xP.pick (lv' := [(0, rv x0), (2, rv x2), (3, rv x3)]) [0, 1, 2] rfl ?_
        exact uX5_leaves_50 hq
set_option maxRecDepth 100000 in
def bX5_leaves (G : xG) (fr lo : Nat) (x0 : Nat) (x1 : Nat) (h : xH) (Q : Outcome → xH → Prop) : Prop := tg h x1 = 16 ∧ tg h x0 = 6 ∧ lX5_leaves_13 G fr lo x0 (fR h x1 3842) (fR h x0 1294) 0 h Q
set_option maxRecDepth 100000 in
theorem uX5_leaves {G : xG} {fr lo : Nat} {x0 : Nat} {x1 : Nat} {h : xH} {Q : Outcome → xH → Prop} (hq : bX5_leaves G fr lo x0 x1 h Q) : xP G YX5_leaves fr lo 0 [(0, rv x0), (1, rv x1)] [] h Q := by
  unfold bX5_leaves at hq
  refine x_aload_n 1 dX5_leaves_0 rfl ?_
  obtain ⟨g1, hq⟩ := hq
  refine x_getN (v := rv (fR h x1 3842)) gfX5_251 dX5_leaves_1 g1 rfl ?_
  refine x_astore_n (lv' := [(2, rv (fR h x1 3842)), (0, rv x0), (1, rv x1)]) dX5_leaves_4 (by decide) (by first | rfl | (simp [rv_cat, Value.category]; done) | (simp [rv_cat, Value.category]; decide)) ?_
  refine x_aload_n 1 dX5_leaves_5 rfl ?_
  obtain ⟨g2, hq⟩ := hq
  refine x_get (v := rv (fR h x0 1294)) fdX5_296 dX5_leaves_6 g2 rfl ?_
  refine x_astore_n (lv' := [(3, rv (fR h x0 1294)), (2, rv (fR h x1 3842)), (0, rv x0), (1, rv x1)]) dX5_leaves_9 (by decide) (by first | rfl | (simp [rv_cat, Value.category]; done) | (simp [rv_cat, Value.category]; decide)) ?_
  refine x_null dX5_leaves_10 ?_
  refine x_astore (lv' := [(4, rv 0), (3, rv (fR h x0 1294)), (2, rv (fR h x1 3842)), (0, rv x0), (1, rv x1)]) dX5_leaves_11 (by decide) (by first | rfl | (simp [rv_cat, Value.category]; done) | (simp [rv_cat, Value.category]; decide)) ?_
  refine xP.pick (lv' := [(0, rv x0), (2, rv (fR h x1 3842)), (3, rv (fR h x0 1294)), (4, rv 0)]) [3, 2, 1, 0] rfl ?_
  exact hq
theorem rX5_leaves {G : xG} {fr lo : Nat} {x0 : Nat} {x1 : Nat} {h : xH} {Q : Outcome → xH → Prop} (hq : bX5_leaves G fr lo x0 x1 h Q) : xR G YX5_leaves fr lo [rv x0, rv x1] h Q := by
  show xP _ _ _ _ _ (lv_args 0 _) _ _ _
  rw [show lv_args 0 [rv x0, rv x1] = [(0, rv x0), (1, rv x1)] from (xla1 (rv_cat _) (xla1 (rv_cat _) xla0))]
  exact uX5_leaves hq
set_option maxRecDepth 100000 in
theorem dX5_assigns_0 : decode cX5_assigns 0 = .ok (.aload_n 1, 1) := by decide +kernel
set_option maxRecDepth 100000 in
theorem dX5_assigns_1 : decode cX5_assigns 1 = .ok (.getfield 251, 3) := by decide +kernel
set_option maxRecDepth 100000 in
theorem dX5_assigns_4 : decode cX5_assigns 4 = .ok (.astore_n 2, 1) := by decide +kernel
set_option maxRecDepth 100000 in
theorem dX5_assigns_5 : decode cX5_assigns 5 = .ok (.aconst_null, 1) := by decide +kernel
set_option maxRecDepth 100000 in
theorem dX5_assigns_6 : decode cX5_assigns 6 = .ok (.astore 4, 2) := by decide +kernel
set_option maxRecDepth 100000 in
theorem dX5_assigns_8 : decode cX5_assigns 8 = .ok (.aload_n 2, 1) := by decide +kernel
set_option maxRecDepth 100000 in
theorem dX5_assigns_9 : decode cX5_assigns 9 = .ok (.getfield 293, 3) := by decide +kernel
set_option maxRecDepth 100000 in
theorem dX5_assigns_12 : decode cX5_assigns 12 = .ok (.ifCond .ne 15, 3) := by decide +kernel
set_option maxRecDepth 100000 in
theorem dX5_assigns_15 : decode cX5_assigns 15 = .ok (.aload_n 0, 1) := by decide +kernel
set_option maxRecDepth 100000 in
theorem dX5_assigns_16 : decode cX5_assigns 16 = .ok (.aload_n 0, 1) := by decide +kernel
set_option maxRecDepth 100000 in
theorem dX5_assigns_17 : decode cX5_assigns 17 = .ok (.aload_n 2, 1) := by decide +kernel
set_option maxRecDepth 100000 in
theorem dX5_assigns_18 : decode cX5_assigns 18 = .ok (.invokevirtual 195, 3) := by decide +kernel
set_option maxRecDepth 100000 in
theorem dX5_assigns_21 : decode cX5_assigns 21 = .ok (.invokevirtual 698, 3) := by decide +kernel
set_option maxRecDepth 100000 in
theorem dX5_assigns_24 : decode cX5_assigns 24 = .ok (.goto 4, 3) := by decide +kernel
set_option maxRecDepth 100000 in
theorem dX5_assigns_27 : decode cX5_assigns 27 = .ok (.aconst_null, 1) := by decide +kernel
set_option maxRecDepth 100000 in
theorem dX5_assigns_28 : decode cX5_assigns 28 = .ok (.astore 5, 2) := by decide +kernel
set_option maxRecDepth 100000 in
theorem dX5_assigns_30 : decode cX5_assigns 30 = .ok (.aload 5, 2) := by decide +kernel
set_option maxRecDepth 100000 in
theorem dX5_assigns_32 : decode cX5_assigns 32 = .ok (.ifnull 43, 3) := by decide +kernel
set_option maxRecDepth 100000 in
theorem dX5_assigns_35 : decode cX5_assigns 35 = .ok (.aload 5, 2) := by decide +kernel
set_option maxRecDepth 100000 in
theorem dX5_assigns_37 : decode cX5_assigns 37 = .ok (.iconst 1, 1) := by decide +kernel
set_option maxRecDepth 100000 in
theorem dX5_assigns_38 : decode cX5_assigns 38 = .ok (.putfield 540, 3) := by decide +kernel
set_option maxRecDepth 100000 in
theorem dX5_assigns_41 : decode cX5_assigns 41 = .ok (.aload_n 0, 1) := by decide +kernel
set_option maxRecDepth 100000 in
theorem dX5_assigns_42 : decode cX5_assigns 42 = .ok (.getfield 62, 3) := by decide +kernel
set_option maxRecDepth 100000 in
theorem dX5_assigns_45 : decode cX5_assigns 45 = .ok (.iconst 2, 1) := by decide +kernel
set_option maxRecDepth 100000 in
theorem dX5_assigns_46 : decode cX5_assigns 46 = .ok (.aload_n 0, 1) := by decide +kernel
set_option maxRecDepth 100000 in
theorem dX5_assigns_47 : decode cX5_assigns 47 = .ok (.getfield 416, 3) := by decide +kernel
set_option maxRecDepth 100000 in
theorem dX5_assigns_50 : decode cX5_assigns 50 = .ok (.getfield 447, 3) := by decide +kernel
set_option maxRecDepth 100000 in
theorem dX5_assigns_53 : decode cX5_assigns 53 = .ok (.aload 5, 2) := by decide +kernel
set_option maxRecDepth 100000 in
theorem dX5_assigns_55 : decode cX5_assigns 55 = .ok (.getfield 447, 3) := by decide +kernel
set_option maxRecDepth 100000 in
theorem dX5_assigns_58 : decode cX5_assigns 58 = .ok (.isub, 1) := by decide +kernel
set_option maxRecDepth 100000 in
theorem dX5_assigns_59 : decode cX5_assigns 59 = .ok (.iconst 0, 1) := by decide +kernel
set_option maxRecDepth 100000 in
theorem dX5_assigns_60 : decode cX5_assigns 60 = .ok (.iconst 0, 1) := by decide +kernel
set_option maxRecDepth 100000 in
theorem dX5_assigns_61 : decode cX5_assigns 61 = .ok (.iconst 0, 1) := by decide +kernel
set_option maxRecDepth 100000 in
theorem dX5_assigns_62 : decode cX5_assigns 62 = .ok (.invokevirtual 506, 3) := by decide +kernel
set_option maxRecDepth 100000 in
theorem dX5_assigns_65 : decode cX5_assigns 65 = .ok (.pop, 1) := by decide +kernel
set_option maxRecDepth 100000 in
theorem dX5_assigns_66 : decode cX5_assigns 66 = .ok (.aload 5, 2) := by decide +kernel
set_option maxRecDepth 100000 in
theorem dX5_assigns_68 : decode cX5_assigns 68 = .ok (.getfield 538, 3) := by decide +kernel
set_option maxRecDepth 100000 in
theorem dX5_assigns_71 : decode cX5_assigns 71 = .ok (.astore_n 3, 1) := by decide +kernel
set_option maxRecDepth 100000 in
theorem dX5_assigns_72 : decode cX5_assigns 72 = .ok (.goto 27, 3) := by decide +kernel
set_option maxRecDepth 100000 in
theorem dX5_assigns_75 : decode cX5_assigns 75 = .ok (.aload_n 0, 1) := by decide +kernel
set_option maxRecDepth 100000 in
theorem dX5_assigns_76 : decode cX5_assigns 76 = .ok (.aload_n 2, 1) := by decide +kernel
set_option maxRecDepth 100000 in
theorem dX5_assigns_77 : decode cX5_assigns 77 = .ok (.invokevirtual 688, 3) := by decide +kernel
set_option maxRecDepth 100000 in
theorem dX5_assigns_80 : decode cX5_assigns 80 = .ok (.astore_n 3, 1) := by decide +kernel
set_option maxRecDepth 100000 in
theorem dX5_assigns_81 : decode cX5_assigns 81 = .ok (.aload_n 0, 1) := by decide +kernel
set_option maxRecDepth 100000 in
theorem dX5_assigns_82 : decode cX5_assigns 82 = .ok (.getfield 702, 3) := by decide +kernel
set_option maxRecDepth 100000 in
theorem dX5_assigns_85 : decode cX5_assigns 85 = .ok (.astore 4, 2) := by decide +kernel
set_option maxRecDepth 100000 in
theorem dX5_assigns_87 : decode cX5_assigns 87 = .ok (.aload_n 0, 1) := by decide +kernel
set_option maxRecDepth 100000 in
theorem dX5_assigns_88 : decode cX5_assigns 88 = .ok (.aload_n 0, 1) := by decide +kernel
set_option maxRecDepth 100000 in
theorem dX5_assigns_89 : decode cX5_assigns 89 = .ok (.getfield 705, 3) := by decide +kernel
set_option maxRecDepth 100000 in
theorem dX5_assigns_92 : decode cX5_assigns 92 = .ok (.aload_n 2, 1) := by decide +kernel
set_option maxRecDepth 100000 in
theorem dX5_assigns_93 : decode cX5_assigns 93 = .ok (.invokevirtual 192, 3) := by decide +kernel
set_option maxRecDepth 100000 in
theorem dX5_assigns_96 : decode cX5_assigns 96 = .ok (.invokevirtual 708, 3) := by decide +kernel
set_option maxRecDepth 100000 in
theorem dX5_assigns_99 : decode cX5_assigns 99 = .ok (.aload_n 0, 1) := by decide +kernel
set_option maxRecDepth 100000 in
theorem dX5_assigns_100 : decode cX5_assigns 100 = .ok (.aload_n 1, 1) := by decide +kernel
set_option maxRecDepth 100000 in
theorem dX5_assigns_101 : decode cX5_assigns 101 = .ok (.iconst 1, 1) := by decide +kernel
set_option maxRecDepth 100000 in
theorem dX5_assigns_102 : decode cX5_assigns 102 = .ok (.invokevirtual 310, 3) := by decide +kernel
set_option maxRecDepth 100000 in
theorem dX5_assigns_105 : decode cX5_assigns 105 = .ok (.invokevirtual 654, 3) := by decide +kernel
set_option maxRecDepth 100000 in
theorem dX5_assigns_108 : decode cX5_assigns 108 = .ok (.astore 6, 2) := by decide +kernel
set_option maxRecDepth 100000 in
theorem dX5_assigns_110 : decode cX5_assigns 110 = .ok (.aload_n 3, 1) := by decide +kernel
set_option maxRecDepth 100000 in
theorem dX5_assigns_111 : decode cX5_assigns 111 = .ok (.aload 6, 2) := by decide +kernel
set_option maxRecDepth 100000 in
theorem dX5_assigns_113 : decode cX5_assigns 113 = .ok (.invokevirtual 678, 3) := by decide +kernel
set_option maxRecDepth 100000 in
theorem dX5_assigns_116 : decode cX5_assigns 116 = .ok (.ifCond .ne 14, 3) := by decide +kernel
set_option maxRecDepth 100000 in
theorem dX5_assigns_119 : decode cX5_assigns 119 = .ok (.aload_n 0, 1) := by decide +kernel
set_option maxRecDepth 100000 in
theorem dX5_assigns_120 : decode cX5_assigns 120 = .ok (.bipush 7, 2) := by decide +kernel
set_option maxRecDepth 100000 in
theorem dX5_assigns_122 : decode cX5_assigns 122 = .ok (.aload_n 1, 1) := by decide +kernel
set_option maxRecDepth 100000 in
theorem dX5_assigns_123 : decode cX5_assigns 123 = .ok (.invokevirtual 192, 3) := by decide +kernel
set_option maxRecDepth 100000 in
theorem dX5_assigns_126 : decode cX5_assigns 126 = .ok (.invokevirtual 163, 3) := by decide +kernel
set_option maxRecDepth 100000 in
theorem dX5_assigns_129 : decode cX5_assigns 129 = .ok (.athrow, 1) := by decide +kernel
set_option maxRecDepth 100000 in
theorem dX5_assigns_130 : decode cX5_assigns 130 = .ok (.aload 4, 2) := by decide +kernel
set_option maxRecDepth 100000 in
theorem dX5_assigns_132 : decode cX5_assigns 132 = .ok (.ifnonnull 17, 3) := by decide +kernel
set_option maxRecDepth 100000 in
theorem dX5_assigns_135 : decode cX5_assigns 135 = .ok (.aload_n 0, 1) := by decide +kernel
set_option maxRecDepth 100000 in
theorem dX5_assigns_136 : decode cX5_assigns 136 = .ok (.aload_n 3, 1) := by decide +kernel
set_option maxRecDepth 100000 in
theorem dX5_assigns_137 : decode cX5_assigns 137 = .ok (.aload 6, 2) := by decide +kernel
set_option maxRecDepth 100000 in
theorem dX5_assigns_139 : decode cX5_assigns 139 = .ok (.aload_n 1, 1) := by decide +kernel
set_option maxRecDepth 100000 in
theorem dX5_assigns_140 : decode cX5_assigns 140 = .ok (.invokevirtual 192, 3) := by decide +kernel
set_option maxRecDepth 100000 in
theorem dX5_assigns_143 : decode cX5_assigns 143 = .ok (.invokevirtual 712, 3) := by decide +kernel
set_option maxRecDepth 100000 in
theorem dX5_assigns_146 : decode cX5_assigns 146 = .ok (.goto 53, 3) := by decide +kernel
set_option maxRecDepth 100000 in
theorem dX5_assigns_149 : decode cX5_assigns 149 = .ok (.aload_n 3, 1) := by decide +kernel
set_option maxRecDepth 100000 in
theorem dX5_assigns_150 : decode cX5_assigns 150 = .ok (.getfield 289, 3) := by decide +kernel
set_option maxRecDepth 100000 in
theorem dX5_assigns_153 : decode cX5_assigns 153 = .ok (.iconst 5, 1) := by decide +kernel
set_option maxRecDepth 100000 in
theorem dX5_assigns_154 : decode cX5_assigns 154 = .ok (.if_icmp .ne 26, 3) := by decide +kernel
set_option maxRecDepth 100000 in
theorem dX5_assigns_157 : decode cX5_assigns 157 = .ok (.aload_n 0, 1) := by decide +kernel
set_option maxRecDepth 100000 in
theorem dX5_assigns_158 : decode cX5_assigns 158 = .ok (.getfield 62, 3) := by decide +kernel
set_option maxRecDepth 100000 in
theorem dX5_assigns_161 : decode cX5_assigns 161 = .ok (.bipush 64, 2) := by decide +kernel
set_option maxRecDepth 100000 in
theorem dX5_assigns_163 : decode cX5_assigns 163 = .ok (.aload_n 3, 1) := by decide +kernel
set_option maxRecDepth 100000 in
theorem dX5_assigns_164 : decode cX5_assigns 164 = .ok (.getfield 338, 3) := by decide +kernel
set_option maxRecDepth 100000 in
theorem dX5_assigns_167 : decode cX5_assigns 167 = .ok (.aload_n 3, 1) := by decide +kernel
set_option maxRecDepth 100000 in
theorem dX5_assigns_168 : decode cX5_assigns 168 = .ok (.getfield 335, 3) := by decide +kernel
set_option maxRecDepth 100000 in
theorem dX5_assigns_171 : decode cX5_assigns 171 = .ok (.iconst 0, 1) := by decide +kernel
set_option maxRecDepth 100000 in
theorem dX5_assigns_172 : decode cX5_assigns 172 = .ok (.aload_n 1, 1) := by decide +kernel
set_option maxRecDepth 100000 in
theorem dX5_assigns_173 : decode cX5_assigns 173 = .ok (.invokevirtual 192, 3) := by decide +kernel
set_option maxRecDepth 100000 in
theorem dX5_assigns_176 : decode cX5_assigns 176 = .ok (.invokevirtual 506, 3) := by decide +kernel
set_option maxRecDepth 100000 in
theorem dX5_assigns_179 : decode cX5_assigns 179 = .ok (.pop, 1) := by decide +kernel
set_option maxRecDepth 100000 in
theorem dX5_assigns_180 : decode cX5_assigns 180 = .ok (.aload_n 0, 1) := by decide +kernel
set_option maxRecDepth 100000 in
theorem dX5_assigns_181 : decode cX5_assigns 181 = .ok (.getfield 62, 3) := by decide +kernel
set_option maxRecDepth 100000 in
theorem dX5_assigns_184 : decode cX5_assigns 184 = .ok (.bipush 16, 2) := by decide +kernel
set_option maxRecDepth 100000 in
theorem dX5_assigns_186 : decode cX5_assigns 186 = .ok (.aload_n 0, 1) := by decide +kernel
set_option maxRecDepth 100000 in
theorem dX5_assigns_187 : decode cX5_assigns 187 = .ok (.aload 4, 2) := by decide +kernel
set_option maxRecDepth 100000 in
theorem dX5_assigns_189 : decode cX5_assigns 189 = .ok (.invokevirtual 716, 3) := by decide +kernel
set_option maxRecDepth 100000 in
theorem dX5_assigns_192 : decode cX5_assigns 192 = .ok (.iconst 0, 1) := by decide +kernel
set_option maxRecDepth 100000 in
theorem dX5_assigns_193 : decode cX5_assigns 193 = .ok (.iconst 0, 1) := by decide +kernel
set_option maxRecDepth 100000 in
theorem dX5_assigns_194 : decode cX5_assigns 194 = .ok (.iconst 0, 1) := by decide +kernel
set_option maxRecDepth 100000 in
theorem dX5_assigns_195 : decode cX5_assigns 195 = .ok (.invokevirtual 506, 3) := by decide +kernel
set_option maxRecDepth 100000 in
theorem dX5_assigns_198 : decode cX5_assigns 198 = .ok (.pop, 1) := by decide +kernel
set_option maxRecDepth 100000 in
theorem dX5_assigns_199 : decode cX5_assigns 199 = .ok (.return_, 1) := by decide +kernel
set_option maxRecDepth 100000 in
def bX5_assigns_199 (G : xG) (fr lo : Nat) (h : xH) (Q : Outcome → xH → Prop) : Prop := Q (.returned none) h
set_option maxRecDepth 100000 in
theorem uX5_assigns_199 {G : xG} {fr lo : Nat} {h : xH} {Q : Outcome → xH → Prop} (hq : bX5_assigns_199 G fr lo h Q) : xP G YX5_assigns fr lo 199 [] [] h Q := by
  unfold bX5_assigns_199 at hq
  exact x_vret rfl dX5_assigns_199 hq
set_option maxRecDepth 100000 in
def bX5_assigns_180 (G : xG) (fr lo : Nat) (x0 : Nat) (x4 : Nat) (h : xH) (Q : Outcome → xH → Prop) : Prop := tg h x0 = 6 ∧ 1 ≤ fr ∧ 16 ≤ lo ∧ xRi G YX5_partNumber (fr - 1) (lo - 16) [rv x0, rv x4] h (fun x5 h4 => xext h h4 → tg h4 (fR h x0 1281) = 3 ∧ 1 ≤ fr ∧ 17 ≤ lo ∧ xRi G YX2_put (fr - 1) (lo - 17) [rv (fR h x0 1281), .int 16, .int x5, .int 0, .int 0, .int 0] h4 (fun x11 h10 => xext h4 h10 → bX5_assigns_199 G fr lo h10 Q) (fun r h2 => Q (.threw r) h2)) (fun r h2 => Q (.threw r) h2)
set_option maxRecDepth 100000 in
theorem uX5_assigns_180 {G : xG} {fr lo : Nat} {x0 : Nat} {x4 : Nat} {h : xH} {Q : Outcome → xH → Prop} (hq : bX5_assigns_180 G fr lo x0 x4 h Q) : xP G YX5_assigns fr lo 180 [(0, rv x0), (4, rv x4)] [] h Q := by
  unfold bX5_assigns_180 at hq
  refine x_aload_n 0 dX5_assigns_180 rfl ?_
  obtain ⟨g1, hq⟩ := hq
  refine x_get (v := rv (fR h x0 1281)) fdX5_62 dX5_assigns_181 g1 rfl ?_
  refine x_bipush (v := 16) dX5_assigns_184 (by decide) ?_
  refine x_aload_n 0 dX5_assigns_186 rfl ?_
  refine x_aload 1 dX5_assigns_187 rfl ?_
  obtain ⟨g2, g3, hq⟩ := hq
  refine x_callV (Yc := YX5_partNumber) (as := [rv x4]) (st := [.int 16, rv (fR h x0 1281)]) q2606 mvX5_partNumber g1 rfl dX5_assigns_189 (xle (xal1 (rv_cat _) (xal1 (rv_cat _) xal0)) (by decide)) (xfr g2) (xlo (xsw1 rfl (xsw1 (rv_cat _) xsw0)) (by decide) g3) (xKi hq (fun x5 h4 hq e6 => ?_) (fun _ _ q _ => q))
  replace hq := hq e6
  refine x_iconst (v := 0) dX5_assigns_192 (by decide) ?_
  refine x_iconst (v := 0) dX5_assigns_193 (by decide) ?_
  refine x_iconst (v := 0) dX5_assigns_194 (by decide) ?_
  obtain ⟨g7, hq⟩ := hq
  obtain ⟨g8, g9, hq⟩ := hq
  refine x_callV (Yc := YX2_put) (as := [.int 16, .int x5, .int 0, .int 0, .int 0]) (st := []) q2494 mvX2_put g7 rfl dX5_assigns_195 (xle (xal1 (rv_cat _) (xal1 rfl (xal1 rfl (xal1 rfl (xal1 rfl (xal1 rfl xal0)))))) (by decide)) (xfr g8) (xlo xsw0 (by decide) g9) (xKi hq (fun x11 h10 hq e12 => ?_) (fun _ _ q _ => q))
  replace hq := hq e12
  refine x_pop dX5_assigns_198 rfl ?_
  refine xP.pick (lv' := []) [] rfl ?_
  exact uX5_assigns_199 hq
set_option maxRecDepth 100000 in
def bX5_assigns_99 (G : xG) (fr lo : Nat) (x0 : Nat) (x1 : Nat) (x3 : Nat) (x4 : Nat) (h : xH) (Q : Outcome → xH → Prop) : Prop := tg h x1 = 16 ∧ 1 ≤ fr ∧ 16 ≤ lo ∧ xRr G YX15_kid (fr - 1) (lo - 16) [rv x1, .int 1] h (fun x5 h4 => xext h h4 → tg h4 x0 = 6 ∧ 1 ≤ fr ∧ 13 ≤ lo ∧ xRr G YX5_expression (fr - 1) (lo - 13) [rv x0, rv x5] h4 (fun x11 h10 => xext h4 h10 → tg h10 x3 = 7 ∧ 1 ≤ fr ∧ 13 ≤ lo ∧ xRi G YX6_takes (fr - 1) (lo - 13) [rv x3, rv x11] h10 (fun x17 h16 => xext h10 h16 → ((¬ x17 = 0 → ((¬ x4 = 0 → ((¬ (fI h16 x3 1536) = 5 → bX5_assigns_180 G fr lo x0 x4 h16 Q) ∧ ((fI h16 x3 1536) = 5 → 1 ≤ fr ∧ 17 ≤ lo ∧ xRi G YX15_place (fr - 1) (lo - 17) [rv x1] h16 (fun x31 h30 => xext h16 h30 → tg h30 (fR h16 x0 1281) = 3 ∧ 1 ≤ fr ∧ 17 ≤ lo ∧ xRi G YX2_put (fr - 1) (lo - 17) [rv (fR h16 x0 1281), .int 64, .int (fI h16 x3 1541), .int (fI h16 x3 1542), .int 0, .int x31] h30 (fun x37 h36 => xext h30 h36 → bX5_assigns_180 G fr lo x0 x4 h36 Q) (fun r h2 => Q (.threw r) h2)) (fun r h2 => Q (.threw r) h2)))) ∧ (x4 = 0 → 1 ≤ fr ∧ 15 ≤ lo ∧ xRi G YX15_place (fr - 1) (lo - 15) [rv x1] h16 (fun x45 h44 => xext h16 h44 → 1 ≤ fr ∧ 15 ≤ lo ∧ xRv G YX5_store (fr - 1) (lo - 15) [rv x0, rv x3, rv x11, .int x45] h44 (fun h52 => xext h44 h52 → bX5_assigns_199 G fr lo h52 Q) (fun r h2 => Q (.threw r) h2)) (fun r h2 => Q (.threw r) h2)))) ∧ (x17 = 0 → 1 ≤ fr ∧ 14 ≤ lo ∧ xRi G YX15_place (fr - 1) (lo - 14) [rv x1] h16 (fun x61 h60 => xext h16 h60 → 1 ≤ fr ∧ 14 ≤ lo ∧ xRr G YX5_fault (fr - 1) (lo - 14) [rv x0, .int 7, .int x61] h60 (fun x69 h68 => xext h60 h68 → (∃ r71, x69 = r71 + 1 ∧ Q (.threw r71) h68)) (fun r h2 => Q (.threw r) h2)) (fun r h2 => Q (.threw r) h2)))) (fun r h2 => Q (.threw r) h2)) (fun r h2 => Q (.threw r) h2)) (fun r h2 => Q (.threw r) h2)
set_option maxRecDepth 100000 in
theorem uX5_assigns_99 {G : xG} {fr lo : Nat} {x0 : Nat} {x1 : Nat} {x3 : Nat} {x4 : Nat} {h : xH} {Q : Outcome → xH → Prop} (hq : bX5_assigns_99 G fr lo x0 x1 x3 x4 h Q) : xP G YX5_assigns fr lo 99 [(0, rv x0), (1, rv x1), (3, rv x3), (4, rv x4)] [] h Q := by
  unfold bX5_assigns_99 at hq
  refine x_aload_n 0 dX5_assigns_99 rfl ?_
  refine x_aload_n 1 dX5_assigns_100 rfl ?_
  refine x_iconst (v := 1) dX5_assigns_101 (by decide) ?_
  obtain ⟨g1, hq⟩ := hq
  obtain ⟨g2, g3, hq⟩ := hq
  refine x_callV (Yc := YX15_kid) (as := [.int 1]) (st := [rv x0]) q2129 mvX15_kid g1 rfl dX5_assigns_102 (xle (xal1 (rv_cat _) (xal1 rfl xal0)) (by decide)) (xfr g2) (xlo (xsw1 (rv_cat _) xsw0) (by decide) g3) (xKr hq (fun x5 h4 hq e6 => ?_) (fun _ _ q _ => q))
  replace hq := hq e6
  obtain ⟨g7, hq⟩ := hq
  obtain ⟨g8, g9, hq⟩ := hq
  refine x_callV (Yc := YX5_expression) (as := [rv x5]) (st := []) q2522 mvX5_expression g7 rfl dX5_assigns_105 (xle (xal1 (rv_cat _) (xal1 (rv_cat _) xal0)) (by decide)) (xfr g8) (xlo xsw0 (by decide) g9) (xKr hq (fun x11 h10 hq e12 => ?_) (fun _ _ q _ => q))
  replace hq := hq e12
  refine x_astore (lv' := [(6, rv x11), (0, rv x0), (1, rv x1), (3, rv x3), (4, rv x4)]) dX5_assigns_108 (by decide) rfl ?_
  refine x_aload_n 3 dX5_assigns_110 rfl ?_
  refine x_aload 0 dX5_assigns_111 rfl ?_
  obtain ⟨g13, hq⟩ := hq
  obtain ⟨g14, g15, hq⟩ := hq
  refine x_callV (Yc := YX6_takes) (as := [rv x11]) (st := []) q2565 mvX6_takes g13 rfl dX5_assigns_113 (xle (xal1 (rv_cat _) (xal1 (rv_cat _) xal0)) (by decide)) (xfr g14) (xlo xsw0 (by decide) g15) (xKi hq (fun x17 h16 hq e18 => ?_) (fun _ _ q _ => q))
  replace hq := hq e18
  refine x_if_ne (tgt := 130) dX5_assigns_116 (by decide) (fun c19 => ?_) (fun c19 => ?_)
  · replace hq := hq.1 c19
    refine x_aload 4 dX5_assigns_130 rfl ?_
    refine x_ifnonnull (tgt := 149) dX5_assigns_132 (by decide) (fun c20 => ?_) (fun c20 => ?_)
    · replace hq := hq.1 c20
      refine x_aload_n 3 dX5_assigns_149 rfl ?_
      have t21 : tg h16 x3 = 7 := e18.tg g13 (by decide)
      refine x_getN (v := .int (fI h16 x3 1536)) gfX5_289 dX5_assigns_150 t21 rfl ?_
      refine x_iconst (v := 5) dX5_assigns_153 (by decide) ?_
      refine x_icmp_ne (tgt := 180) dX5_assigns_154 (by decide) (fun c22 => ?_) (fun c22 => ?_)
      · replace hq := hq.1 c22
        refine xP.pick (lv' := [(0, rv x0), (4, rv x4)]) [1, 4] rfl ?_
        exact uX5_assigns_180 hq
      · replace hq := hq.2 c22
        refine x_aload_n 1 dX5_assigns_157 rfl ?_
        have t23 : tg h10 x0 = 6 := e12.tg g7 (by decide)
        have t24 : tg h16 x0 = 6 := e18.tg t23 (by decide)
        refine x_get (v := rv (fR h16 x0 1281)) fdX5_62 dX5_assigns_158 t24 rfl ?_
        refine x_bipush (v := 64) dX5_assigns_161 (by decide) ?_
        refine x_aload_n 3 dX5_assigns_163 rfl ?_
        refine x_getN (v := .int (fI h16 x3 1541)) gfX5_338 dX5_assigns_164 t21 rfl ?_
        refine x_aload_n 3 dX5_assigns_167 rfl ?_
        refine x_getN (v := .int (fI h16 x3 1542)) gfX5_335 dX5_assigns_168 t21 rfl ?_
        refine x_iconst (v := 0) dX5_assigns_171 (by decide) ?_
        refine x_aload_n 2 dX5_assigns_172 rfl ?_
        have t25 : tg h4 x1 = 16 := e6.tg g1 (by decide)
        have t26 : tg h10 x1 = 16 := e12.tg t25 (by decide)
        have t27 : tg h16 x1 = 16 := e18.tg t26 (by decide)
        obtain ⟨g28, g29, hq⟩ := hq
        refine x_callV (Yc := YX15_place) (as := []) (st := [.int 0, .int (fI h16 x3 1542), .int (fI h16 x3 1541), .int 64, rv (fR h16 x0 1281)]) q2013 mvX15_place t27 rfl dX5_assigns_173 (xle (xal1 (rv_cat _) xal0) (by decide)) (xfr g28) (xlo (xsw1 rfl (xsw1 rfl (xsw1 rfl (xsw1 rfl (xsw1 (rv_cat _) xsw0))))) (by decide) g29) (xKi hq (fun x31 h30 hq e32 => ?_) (fun _ _ q _ => q))
        replace hq := hq e32
        obtain ⟨g33, hq⟩ := hq
        obtain ⟨g34, g35, hq⟩ := hq
        refine x_callV (Yc := YX2_put) (as := [.int 64, .int (fI h16 x3 1541), .int (fI h16 x3 1542), .int 0, .int x31]) (st := []) q2494 mvX2_put g33 rfl dX5_assigns_176 (xle (xal1 (rv_cat _) (xal1 rfl (xal1 rfl (xal1 rfl (xal1 rfl (xal1 rfl xal0)))))) (by decide)) (xfr g34) (xlo xsw0 (by decide) g35) (xKi hq (fun x37 h36 hq e38 => ?_) (fun _ _ q _ => q))
        replace hq := hq e38
        refine x_pop dX5_assigns_179 rfl ?_
        refine xP.pick (lv' := [(0, rv x0), (4, rv x4)]) [1, 4] rfl ?_
        exact uX5_assigns_180 hq
    · replace hq := hq.2 c20
      refine x_aload_n 1 dX5_assigns_135 rfl ?_
      refine x_aload_n 3 dX5_assigns_136 rfl ?_
      refine x_aload 0 dX5_assigns_137 rfl ?_
      refine x_aload_n 2 dX5_assigns_139 rfl ?_
      have t39 : tg h4 x1 = 16 := e6.tg g1 (by decide)
      have t40 : tg h10 x1 = 16 := e12.tg t39 (by decide)
      have t41 : tg h16 x1 = 16 := e18.tg t40 (by decide)
      obtain ⟨g42, g43, hq⟩ := hq
      refine x_callV (Yc := YX15_place) (as := []) (st := [rv x11, rv x3, rv x0]) q2013 mvX15_place t41 rfl dX5_assigns_140 (xle (xal1 (rv_cat _) xal0) (by decide)) (xfr g42) (xlo (xsw1 (rv_cat _) (xsw1 (rv_cat _) (xsw1 (rv_cat _) xsw0))) (by decide) g43) (xKi hq (fun x45 h44 hq e46 => ?_) (fun _ _ q _ => q))
      replace hq := hq e46
      have t47 : tg h10 x0 = 6 := e12.tg g7 (by decide)
      have t48 : tg h16 x0 = 6 := e18.tg t47 (by decide)
      have t49 : tg h44 x0 = 6 := e46.tg t48 (by decide)
      obtain ⟨g50, g51, hq⟩ := hq
      refine x_callV (Yc := YX5_store) (as := [rv x3, rv x11, .int x45]) (st := []) q2770 mvX5_store t49 rfl dX5_assigns_143 (xle (xal1 (rv_cat _) (xal1 (rv_cat _) (xal1 (rv_cat _) (xal1 rfl xal0)))) (by decide)) (xfr g50) (xlo xsw0 (by decide) g51) (xKv hq (fun h52 hq e54 => ?_) (fun _ _ q _ => q))
      replace hq := hq e54
      refine x_goto (tgt := 199) dX5_assigns_146 (by decide) ?_
      refine xP.pick (lv' := []) [] rfl ?_
      exact uX5_assigns_199 hq
  · replace hq := hq.2 c19
    refine x_aload_n 1 dX5_assigns_119 rfl ?_
    refine x_bipush (v := 7) dX5_assigns_120 (by decide) ?_
    refine x_aload_n 2 dX5_assigns_122 rfl ?_
    have t55 : tg h4 x1 = 16 := e6.tg g1 (by decide)
    have t56 : tg h10 x1 = 16 := e12.tg t55 (by decide)
    have t57 : tg h16 x1 = 16 := e18.tg t56 (by decide)
    obtain ⟨g58, g59, hq⟩ := hq
    refine x_callV (Yc := YX15_place) (as := []) (st := [.int 7, rv x0]) q2013 mvX15_place t57 rfl dX5_assigns_123 (xle (xal1 (rv_cat _) xal0) (by decide)) (xfr g58) (xlo (xsw1 rfl (xsw1 (rv_cat _) xsw0)) (by decide) g59) (xKi hq (fun x61 h60 hq e62 => ?_) (fun _ _ q _ => q))
    replace hq := hq e62
    have t63 : tg h10 x0 = 6 := e12.tg g7 (by decide)
    have t64 : tg h16 x0 = 6 := e18.tg t63 (by decide)
    have t65 : tg h60 x0 = 6 := e62.tg t64 (by decide)
    obtain ⟨g66, g67, hq⟩ := hq
    refine x_callV (Yc := YX5_fault) (as := [.int 7, .int x61]) (st := []) q2087 mvX5_fault t65 rfl dX5_assigns_126 (xle (xal1 (rv_cat _) (xal1 rfl (xal1 rfl xal0))) (by decide)) (xfr g66) (xlo xsw0 (by decide) g67) (xKr hq (fun x69 h68 hq e70 => ?_) (fun _ _ q _ => q))
    replace hq := hq e70
    obtain ⟨r71, g72, hq⟩ := hq
    rw [g72]
    exact x_athrow dX5_assigns_129 hq
set_option maxRecDepth 100000 in
def bX5_assigns_28 (G : xG) (fr lo : Nat) (x0 : Nat) (x1 : Nat) (x2 : Nat) (x4 : Nat) (s0 : Nat) (h : xH) (Q : Outcome → xH → Prop) : Prop := ((s0 = 0 → tg h x0 = 6 ∧ 1 ≤ fr ∧ 17 ≤ lo ∧ xRr G YX5_variable (fr - 1) (lo - 17) [rv x0, rv x2] h (fun x6 h5 => xext h h5 → tg h5 x2 = 16 ∧ 1 ≤ fr ∧ 14 ≤ lo ∧ xRi G YX15_place (fr - 1) (lo - 14) [rv x2] h5 (fun x13 h12 => xext h5 h12 → 1 ≤ fr ∧ 14 ≤ lo ∧ xRv G YX5_threaten (fr - 1) (lo - 14) [rv x0, rv (fR h5 x0 1301), .int x13] h12 (fun h18 => xext h12 h18 → bX5_assigns_99 G fr lo x0 x1 x6 (fR h5 x0 1302) h18 Q) (fun r h2 => Q (.threw r) h2)) (fun r h2 => Q (.threw r) h2)) (fun r h2 => Q (.threw r) h2)) ∧ (¬ s0 = 0 → tg h s0 = 17 ∧ (∀ h22 : xH, h22 = sI h s0 4110 1 → tg h22 x0 = 6 ∧ tg h22 (fR h22 x0 1295) = 17 ∧ tg h22 (fR h22 x0 1281) = 3 ∧ 1 ≤ fr ∧ 17 ≤ lo ∧ xRi G YX2_put (fr - 1) (lo - 17) [rv (fR h22 x0 1281), .int 2, .int ((fI h22 (fR h22 x0 1295) 4102) - (fI h22 s0 4102)), .int 0, .int 0, .int 0] h22 (fun x31 h30 => xext h22 h30 → bX5_assigns_99 G fr lo x0 x1 (fR h30 s0 4100) x4 h30 Q) (fun r h2 => Q (.threw r) h2))))
set_option maxRecDepth 100000 in
theorem uX5_assigns_28 {G : xG} {fr lo : Nat} {x0 : Nat} {x1 : Nat} {x2 : Nat} {x4 : Nat} {s0 : Nat} {h : xH} {Q : Outcome → xH → Prop} (hq : bX5_assigns_28 G fr lo x0 x1 x2 x4 s0 h Q) : xP G YX5_assigns fr lo 28 [(0, rv x0), (1, rv x1), (2, rv x2), (4, rv x4)] [rv s0] h Q := by
  unfold bX5_assigns_28 at hq
  refine x_astore (lv' := [(5, rv s0), (0, rv x0), (1, rv x1), (2, rv x2), (4, rv x4)]) dX5_assigns_28 (by decide) (by first | rfl | (simp [rv_cat, Value.category]; done) | (simp [rv_cat, Value.category]; decide)) ?_
  refine x_aload 0 dX5_assigns_30 rfl ?_
  refine x_ifnull (tgt := 75) dX5_assigns_32 (by decide) (fun c1 => ?_) (fun c1 => ?_)
  · replace hq := hq.1 c1
    refine x_aload_n 1 dX5_assigns_75 rfl ?_
    refine x_aload_n 3 dX5_assigns_76 rfl ?_
    obtain ⟨g2, hq⟩ := hq
    obtain ⟨g3, g4, hq⟩ := hq
    refine x_callV (Yc := YX5_variable) (as := [rv x2]) (st := []) q2590 mvX5_variable g2 rfl dX5_assigns_77 (xle (xal1 (rv_cat _) (xal1 (rv_cat _) xal0)) (by decide)) (xfr g3) (xlo xsw0 (by decide) g4) (xKr hq (fun x6 h5 hq e7 => ?_) (fun _ _ q _ => q))
    replace hq := hq e7
    refine x_astore_n (lv' := [(3, rv x6), (5, rv s0), (0, rv x0), (1, rv x1), (2, rv x2), (4, rv x4)]) dX5_assigns_80 (by decide) (by first | rfl | (simp [rv_cat, Value.category]; done) | (simp [rv_cat, Value.category]; decide)) ?_
    refine x_aload_n 2 dX5_assigns_81 rfl ?_
    have t8 : tg h5 x0 = 6 := e7.tg g2 (by decide)
    refine x_get (v := rv (fR h5 x0 1302)) fdX5_702 dX5_assigns_82 t8 rfl ?_
    refine x_astore (lv' := [(4, rv (fR h5 x0 1302)), (3, rv x6), (5, rv s0), (0, rv x0), (1, rv x1), (2, rv x2)]) dX5_assigns_85 (by decide) (by first | rfl | (simp [rv_cat, Value.category]; done) | (simp [rv_cat, Value.category]; decide)) ?_
    refine x_aload_n 3 dX5_assigns_87 rfl ?_
    refine x_aload_n 3 dX5_assigns_88 rfl ?_
    refine x_get (v := rv (fR h5 x0 1301)) fdX5_705 dX5_assigns_89 t8 rfl ?_
    refine x_aload_n 5 dX5_assigns_92 rfl ?_
    obtain ⟨g9, hq⟩ := hq
    obtain ⟨g10, g11, hq⟩ := hq
    refine x_callV (Yc := YX15_place) (as := []) (st := [rv (fR h5 x0 1301), rv x0]) q2013 mvX15_place g9 rfl dX5_assigns_93 (xle (xal1 (rv_cat _) xal0) (by decide)) (xfr g10) (xlo (xsw1 (rv_cat _) (xsw1 (rv_cat _) xsw0)) (by decide) g11) (xKi hq (fun x13 h12 hq e14 => ?_) (fun _ _ q _ => q))
    replace hq := hq e14
    have t15 : tg h12 x0 = 6 := e14.tg t8 (by decide)
    obtain ⟨g16, g17, hq⟩ := hq
    refine x_callV (Yc := YX5_threaten) (as := [rv (fR h5 x0 1301), .int x13]) (st := []) q2614 mvX5_threaten t15 rfl dX5_assigns_96 (xle (xal1 (rv_cat _) (xal1 (rv_cat _) (xal1 rfl xal0))) (by decide)) (xfr g16) (xlo xsw0 (by decide) g17) (xKv hq (fun h18 hq e20 => ?_) (fun _ _ q _ => q))
    replace hq := hq e20
    refine xP.pick (lv' := [(0, rv x0), (1, rv x1), (3, rv x6), (4, rv (fR h5 x0 1302))]) [3, 4, 1, 0] rfl ?_
    exact uX5_assigns_99 hq
  · replace hq := hq.2 c1
    refine x_aload 0 dX5_assigns_35 rfl ?_
    refine x_iconst (v := 1) dX5_assigns_37 (by decide) ?_
    obtain ⟨g21, hq⟩ := hq
    obtain ⟨h22, e23⟩ : ∃ y, y = sI h s0 4110 1 := ⟨_, rfl⟩
    replace hq := hq h22 e23
    refine x_putNI gfX5_540 xty_Z1 dX5_assigns_38 g21 (Or.inl (by rw [g21]; rfl)) (xnB (Or.inr rfl)) rfl e23 ?_
    refine x_aload_n 1 dX5_assigns_41 rfl ?_
    obtain ⟨g24, hq⟩ := hq
    refine x_get (v := rv (fR h22 x0 1281)) fdX5_62 dX5_assigns_42 g24 rfl ?_
    refine x_iconst (v := 2) dX5_assigns_45 (by decide) ?_
    refine x_aload_n 1 dX5_assigns_46 rfl ?_
    refine x_get (v := rv (fR h22 x0 1295)) fdX5_416 dX5_assigns_47 g24 rfl ?_
    obtain ⟨g25, hq⟩ := hq
    refine x_getN (v := .int (fI h22 (fR h22 x0 1295) 4102)) gfX5_447 dX5_assigns_50 g25 rfl ?_
    refine x_aload 0 dX5_assigns_53 rfl ?_
    have t26 : tg h22 s0 = 17 := by rw [e23]; exact g21
    refine x_getN (v := .int (fI h22 s0 4102)) gfX5_447 dX5_assigns_55 t26 rfl ?_
    refine x_isub dX5_assigns_58 ?_
    refine x_iconst (v := 0) dX5_assigns_59 (by decide) ?_
    refine x_iconst (v := 0) dX5_assigns_60 (by decide) ?_
    refine x_iconst (v := 0) dX5_assigns_61 (by decide) ?_
    obtain ⟨g27, hq⟩ := hq
    obtain ⟨g28, g29, hq⟩ := hq
    refine x_callV (Yc := YX2_put) (as := [.int 2, .int ((fI h22 (fR h22 x0 1295) 4102) - (fI h22 s0 4102)), .int 0, .int 0, .int 0]) (st := []) q2494 mvX2_put g27 rfl dX5_assigns_62 (xle (xal1 (rv_cat _) (xal1 rfl (xal1 rfl (xal1 rfl (xal1 rfl (xal1 rfl xal0)))))) (by decide)) (xfr g28) (xlo xsw0 (by decide) g29) (xKi hq (fun x31 h30 hq e32 => ?_) (fun _ _ q _ => q))
    replace hq := hq e32
    refine x_pop dX5_assigns_65 rfl ?_
    refine x_aload 0 dX5_assigns_66 rfl ?_
    have t33 : tg h30 s0 = 17 := e32.tg t26 (by decide)
    refine x_getN (v := rv (fR h30 s0 4100)) gfX5_538 dX5_assigns_68 t33 rfl ?_
    refine x_astore_n (lv' := [(3, rv (fR h30 s0 4100)), (5, rv s0), (0, rv x0), (1, rv x1), (2, rv x2), (4, rv x4)]) dX5_assigns_71 (by decide) (by first | rfl | (simp [rv_cat, Value.category]; done) | (simp [rv_cat, Value.category]; decide)) ?_
    refine x_goto (tgt := 99) dX5_assigns_72 (by decide) ?_
    refine xP.pick (lv' := [(0, rv x0), (1, rv x1), (3, rv (fR h30 s0 4100)), (4, rv x4)]) [2, 3, 0, 5] rfl ?_
    exact uX5_assigns_99 hq
set_option maxRecDepth 100000 in
def bX5_assigns (G : xG) (fr lo : Nat) (x0 : Nat) (x1 : Nat) (h : xH) (Q : Outcome → xH → Prop) : Prop := tg h x1 = 16 ∧ tg h (fR h x1 3842) = 16 ∧ ((¬ (fI h (fR h x1 3842) 3845) = 0 → bX5_assigns_28 G fr lo x0 x1 (fR h x1 3842) 0 0 h Q) ∧ ((fI h (fR h x1 3842) 3845) = 0 → tg h x0 = 6 ∧ 1 ≤ fr ∧ 16 ≤ lo ∧ xRr G YX5_find (fr - 1) (lo - 16) [rv x0, rv (fR h x1 3842)] h (fun x8 h7 => xext h h7 → 1 ≤ fr ∧ 14 ≤ lo ∧ xRr G YX5_within (fr - 1) (lo - 14) [rv x0, rv x8] h7 (fun x14 h13 => xext h7 h13 → bX5_assigns_28 G fr lo x0 x1 (fR h x1 3842) 0 x14 h13 Q) (fun r h2 => Q (.threw r) h2)) (fun r h2 => Q (.threw r) h2)))
set_option maxRecDepth 100000 in
theorem uX5_assigns {G : xG} {fr lo : Nat} {x0 : Nat} {x1 : Nat} {h : xH} {Q : Outcome → xH → Prop} (hq : bX5_assigns G fr lo x0 x1 h Q) : xP G YX5_assigns fr lo 0 [(0, rv x0), (1, rv x1)] [] h Q := by
  unfold bX5_assigns at hq
  refine x_aload_n 1 dX5_assigns_0 rfl ?_
  obtain ⟨g1, hq⟩ := hq
  refine x_getN (v := rv (fR h x1 3842)) gfX5_251 dX5_assigns_1 g1 rfl ?_
  refine x_astore_n (lv' := [(2, rv (fR h x1 3842)), (0, rv x0), (1, rv x1)]) dX5_assigns_4 (by decide) (by first | rfl | (simp [rv_cat, Value.category]; done) | (simp [rv_cat, Value.category]; decide)) ?_
  refine x_null dX5_assigns_5 ?_
  refine x_astore (lv' := [(4, rv 0), (2, rv (fR h x1 3842)), (0, rv x0), (1, rv x1)]) dX5_assigns_6 (by decide) rfl ?_
  refine x_aload_n 1 dX5_assigns_8 rfl ?_
  obtain ⟨g2, hq⟩ := hq
  refine x_getN (v := .int (fI h (fR h x1 3842) 3845)) gfX5_293 dX5_assigns_9 g2 rfl ?_
  refine x_if_ne (tgt := 27) dX5_assigns_12 (by decide) (fun c3 => ?_) (fun c3 => ?_)
  · replace hq := hq.1 c3
    refine x_null dX5_assigns_27 ?_
    refine xP.pick (lv' := [(0, rv x0), (1, rv x1), (2, rv (fR h x1 3842)), (4, rv 0)]) [2, 3, 1, 0] rfl ?_
    exact uX5_assigns_28 hq
  · replace hq := hq.2 c3
    refine x_aload_n 2 dX5_assigns_15 rfl ?_
    refine x_aload_n 2 dX5_assigns_16 rfl ?_
    refine x_aload_n 1 dX5_assigns_17 rfl ?_
    obtain ⟨g4, hq⟩ := hq
    obtain ⟨g5, g6, hq⟩ := hq
    refine x_callV (Yc := YX5_find) (as := [rv (fR h x1 3842)]) (st := [rv x0]) q2246 mvX5_find g4 rfl dX5_assigns_18 (xle (xal1 (rv_cat _) (xal1 (rv_cat _) xal0)) (by decide)) (xfr g5) (xlo (xsw1 (rv_cat _) xsw0) (by decide) g6) (xKr hq (fun x8 h7 hq e9 => ?_) (fun _ _ q _ => q))
    replace hq := hq e9
    have t10 : tg h7 x0 = 6 := e9.tg g4 (by decide)
    obtain ⟨g11, g12, hq⟩ := hq
    refine x_callV (Yc := YX5_within) (as := [rv x8]) (st := []) q2766 mvX5_within t10 rfl dX5_assigns_21 (xle (xal1 (rv_cat _) (xal1 (rv_cat _) xal0)) (by decide)) (xfr g11) (xlo xsw0 (by decide) g12) (xKr hq (fun x14 h13 hq e15 => ?_) (fun _ _ q _ => q))
    replace hq := hq e15
    refine x_goto (tgt := 28) dX5_assigns_24 (by decide) ?_
    refine xP.pick (lv' := [(0, rv x0), (1, rv x1), (2, rv (fR h x1 3842)), (4, rv 0)]) [2, 3, 1, 0] rfl ?_
    exact uX5_assigns_28 hq
theorem rX5_assigns {G : xG} {fr lo : Nat} {x0 : Nat} {x1 : Nat} {h : xH} {Q : Outcome → xH → Prop} (hq : bX5_assigns G fr lo x0 x1 h Q) : xR G YX5_assigns fr lo [rv x0, rv x1] h Q := by
  show xP _ _ _ _ _ (lv_args 0 _) _ _ _
  rw [show lv_args 0 [rv x0, rv x1] = [(0, rv x0), (1, rv x1)] from (xla1 (rv_cat _) (xla1 (rv_cat _) xla0))]
  exact uX5_assigns hq
set_option maxRecDepth 100000 in
theorem dX5_within_0 : decode cX5_within 0 = .ok (.aload_n 1, 1) := by decide +kernel
set_option maxRecDepth 100000 in
theorem dX5_within_1 : decode cX5_within 1 = .ok (.getfield 199, 3) := by decide +kernel
set_option maxRecDepth 100000 in
theorem dX5_within_4 : decode cX5_within 4 = .ok (.iconst 3, 1) := by decide +kernel
set_option maxRecDepth 100000 in
theorem dX5_within_5 : decode cX5_within 5 = .ok (.if_icmp .ne 23, 3) := by decide +kernel
set_option maxRecDepth 100000 in
theorem dX5_within_8 : decode cX5_within 8 = .ok (.aload_n 1, 1) := by decide +kernel
set_option maxRecDepth 100000 in
theorem dX5_within_9 : decode cX5_within 9 = .ok (.getfield 492, 3) := by decide +kernel
set_option maxRecDepth 100000 in
theorem dX5_within_12 : decode cX5_within 12 = .ok (.getfield 525, 3) := by decide +kernel
set_option maxRecDepth 100000 in
theorem dX5_within_15 : decode cX5_within 15 = .ok (.ifCond .eq 13, 3) := by decide +kernel
set_option maxRecDepth 100000 in
theorem dX5_within_18 : decode cX5_within 18 = .ok (.aload_n 1, 1) := by decide +kernel
set_option maxRecDepth 100000 in
theorem dX5_within_19 : decode cX5_within 19 = .ok (.getfield 492, 3) := by decide +kernel
set_option maxRecDepth 100000 in
theorem dX5_within_22 : decode cX5_within 22 = .ok (.getfield 522, 3) := by decide +kernel
set_option maxRecDepth 100000 in
theorem dX5_within_25 : decode cX5_within 25 = .ok (.ifCond .eq 5, 3) := by decide +kernel
set_option maxRecDepth 100000 in
theorem dX5_within_28 : decode cX5_within 28 = .ok (.aconst_null, 1) := by decide +kernel
set_option maxRecDepth 100000 in
theorem dX5_within_29 : decode cX5_within 29 = .ok (.areturn, 1) := by decide +kernel
set_option maxRecDepth 100000 in
theorem dX5_within_30 : decode cX5_within 30 = .ok (.aload_n 0, 1) := by decide +kernel
set_option maxRecDepth 100000 in
theorem dX5_within_31 : decode cX5_within 31 = .ok (.getfield 296, 3) := by decide +kernel
set_option maxRecDepth 100000 in
theorem dX5_within_34 : decode cX5_within 34 = .ok (.astore_n 2, 1) := by decide +kernel
set_option maxRecDepth 100000 in
theorem dX5_within_35 : decode cX5_within 35 = .ok (.aload_n 2, 1) := by decide +kernel
set_option maxRecDepth 100000 in
theorem dX5_within_36 : decode cX5_within 36 = .ok (.ifnull 22, 3) := by decide +kernel
set_option maxRecDepth 100000 in
theorem dX5_within_39 : decode cX5_within 39 = .ok (.aload_n 2, 1) := by decide +kernel
set_option maxRecDepth 100000 in
theorem dX5_within_40 : decode cX5_within 40 = .ok (.getfield 516, 3) := by decide +kernel
set_option maxRecDepth 100000 in
theorem dX5_within_43 : decode cX5_within 43 = .ok (.aload_n 1, 1) := by decide +kernel
set_option maxRecDepth 100000 in
theorem dX5_within_44 : decode cX5_within 44 = .ok (.getfield 492, 3) := by decide +kernel
set_option maxRecDepth 100000 in
theorem dX5_within_47 : decode cX5_within 47 = .ok (.if_acmp .eq 11, 3) := by decide +kernel
set_option maxRecDepth 100000 in
theorem dX5_within_50 : decode cX5_within 50 = .ok (.aload_n 2, 1) := by decide +kernel
set_option maxRecDepth 100000 in
theorem dX5_within_51 : decode cX5_within 51 = .ok (.getfield 514, 3) := by decide +kernel
set_option maxRecDepth 100000 in
theorem dX5_within_54 : decode cX5_within 54 = .ok (.astore_n 2, 1) := by decide +kernel
set_option maxRecDepth 100000 in
theorem dX5_within_55 : decode cX5_within 55 = .ok (.goto (-20), 3) := by decide +kernel
set_option maxRecDepth 100000 in
theorem dX5_within_58 : decode cX5_within 58 = .ok (.aload_n 2, 1) := by decide +kernel
set_option maxRecDepth 100000 in
theorem dX5_within_59 : decode cX5_within 59 = .ok (.ifnonnull 7, 3) := by decide +kernel
set_option maxRecDepth 100000 in
theorem dX5_within_62 : decode cX5_within 62 = .ok (.aconst_null, 1) := by decide +kernel
set_option maxRecDepth 100000 in
theorem dX5_within_63 : decode cX5_within 63 = .ok (.goto 7, 3) := by decide +kernel
set_option maxRecDepth 100000 in
theorem dX5_within_66 : decode cX5_within 66 = .ok (.aload_n 1, 1) := by decide +kernel
set_option maxRecDepth 100000 in
theorem dX5_within_67 : decode cX5_within 67 = .ok (.getfield 492, 3) := by decide +kernel
set_option maxRecDepth 100000 in
theorem dX5_within_70 : decode cX5_within 70 = .ok (.areturn, 1) := by decide +kernel
def lX5_within_35 (G : xG) (fr lo : Nat) (x1 : Nat) (x2 : Nat) (h : xH) (Q : Outcome → xH → Prop) : Prop := xP G YX5_within fr lo 35 [(1, rv x1), (2, rv x2)] [] h Q
set_option maxRecDepth 100000 in
def bX5_within_70 (G : xG) (fr lo : Nat) (s0 : Nat) (h : xH) (Q : Outcome → xH → Prop) : Prop := Q (.returned (some (rv s0))) h
set_option maxRecDepth 100000 in
theorem uX5_within_70 {G : xG} {fr lo : Nat} {s0 : Nat} {h : xH} {Q : Outcome → xH → Prop} (hq : bX5_within_70 G fr lo s0 h Q) : xP G YX5_within fr lo 70 [] [rv s0] h Q := by
  unfold bX5_within_70 at hq
  exact x_aret rfl xty_O dX5_within_70 hq
set_option maxRecDepth 100000 in
def bX5_within_58 (G : xG) (fr lo : Nat) (x1 : Nat) (x2 : Nat) (h : xH) (Q : Outcome → xH → Prop) : Prop := ((¬ x2 = 0 → tg h x1 = 9 ∧ bX5_within_70 G fr lo (fR h x1 2059) h Q) ∧ (x2 = 0 → bX5_within_70 G fr lo 0 h Q))
set_option maxRecDepth 100000 in
theorem uX5_within_58 {G : xG} {fr lo : Nat} {x1 : Nat} {x2 : Nat} {h : xH} {Q : Outcome → xH → Prop} (hq : bX5_within_58 G fr lo x1 x2 h Q) : xP G YX5_within fr lo 58 [(1, rv x1), (2, rv x2)] [] h Q := by
  unfold bX5_within_58 at hq
  refine x_aload_n 1 dX5_within_58 rfl ?_
  refine x_ifnonnull (tgt := 66) dX5_within_59 (by decide) (fun c1 => ?_) (fun c1 => ?_)
  · replace hq := hq.1 c1
    refine x_aload_n 0 dX5_within_66 rfl ?_
    obtain ⟨g2, hq⟩ := hq
    refine x_getN (v := rv (fR h x1 2059)) gfX5_492 dX5_within_67 g2 rfl ?_
    refine xP.pick (lv' := []) [] rfl ?_
    exact uX5_within_70 hq
  · replace hq := hq.2 c1
    refine x_null dX5_within_62 ?_
    refine x_goto (tgt := 70) dX5_within_63 (by decide) ?_
    refine xP.pick (lv' := []) [] rfl ?_
    exact uX5_within_70 hq
set_option maxRecDepth 100000 in
def bX5_within_35 (G : xG) (fr lo : Nat) (x1 : Nat) (x2 : Nat) (h : xH) (Q : Outcome → xH → Prop) : Prop := ((x2 = 0 → bX5_within_58 G fr lo x1 x2 h Q) ∧ (¬ x2 = 0 → tg h x2 = 18 ∧ tg h x1 = 9 ∧ (((fR h x2 4353) = (fR h x1 2059) → bX5_within_58 G fr lo x1 x2 h Q) ∧ (¬ (fR h x2 4353) = (fR h x1 2059) → lX5_within_35 G fr lo x1 (fR h x2 4352) h Q))))
set_option maxRecDepth 100000 in
theorem uX5_within_35 {G : xG} {fr lo : Nat} {x1 : Nat} {x2 : Nat} {h : xH} {Q : Outcome → xH → Prop} (hq : bX5_within_35 G fr lo x1 x2 h Q) : xP G YX5_within fr lo 35 [(1, rv x1), (2, rv x2)] [] h Q := by
  unfold bX5_within_35 at hq
  refine x_aload_n 1 dX5_within_35 rfl ?_
  refine x_ifnull (tgt := 58) dX5_within_36 (by decide) (fun c1 => ?_) (fun c1 => ?_)
  · replace hq := hq.1 c1
    exact uX5_within_58 hq
  · replace hq := hq.2 c1
    refine x_aload_n 1 dX5_within_39 rfl ?_
    obtain ⟨g2, hq⟩ := hq
    refine x_getN (v := rv (fR h x2 4353)) gfX5_516 dX5_within_40 g2 rfl ?_
    refine x_aload_n 0 dX5_within_43 rfl ?_
    obtain ⟨g3, hq⟩ := hq
    refine x_getN (v := rv (fR h x1 2059)) gfX5_492 dX5_within_44 g3 rfl ?_
    refine x_acmp_eq (tgt := 58) dX5_within_47 (by decide) (fun c4 => ?_) (fun c4 => ?_)
    · replace hq := hq.1 c4
      exact uX5_within_58 hq
    · replace hq := hq.2 c4
      refine x_aload_n 1 dX5_within_50 rfl ?_
      refine x_getN (v := rv (fR h x2 4352)) gfX5_514 dX5_within_51 g2 rfl ?_
      refine x_astore_n (lv' := [(2, rv (fR h x2 4352)), (1, rv x1)]) dX5_within_54 (by decide) (by first | rfl | (simp [rv_cat, Value.category]; done) | (simp [rv_cat, Value.category]; decide)) ?_
      refine x_goto (tgt := 35) dX5_within_55 (by decide) ?_
      refine xP.pick (lv' := [(1, rv x1), (2, rv (fR h x2 4352))]) [1, 0] rfl ?_
      exact hq
set_option maxRecDepth 100000 in
def bX5_within_28 (G : xG) (fr lo : Nat) (h : xH) (Q : Outcome → xH → Prop) : Prop := Q (.returned (some (rv 0))) h
set_option maxRecDepth 100000 in
theorem uX5_within_28 {G : xG} {fr lo : Nat} {h : xH} {Q : Outcome → xH → Prop} (hq : bX5_within_28 G fr lo h Q) : xP G YX5_within fr lo 28 [] [] h Q := by
  unfold bX5_within_28 at hq
  refine x_null dX5_within_28 ?_
  exact x_aret rfl xty_O dX5_within_29 hq
set_option maxRecDepth 100000 in
def bX5_within (G : xG) (fr lo : Nat) (x0 : Nat) (x1 : Nat) (h : xH) (Q : Outcome → xH → Prop) : Prop := tg h x1 = 9 ∧ ((¬ (fI h x1 2048) = 3 → bX5_within_28 G fr lo h Q) ∧ ((fI h x1 2048) = 3 → tg h (fR h x1 2059) = 17 ∧ (((fI h (fR h x1 2059) 4097) = 0 → bX5_within_28 G fr lo h Q) ∧ (¬ (fI h (fR h x1 2059) 4097) = 0 → (((fI h (fR h x1 2059) 4108) = 0 → tg h x0 = 6 ∧ lX5_within_35 G fr lo x1 (fR h x0 1294) h Q) ∧ (¬ (fI h (fR h x1 2059) 4108) = 0 → bX5_within_28 G fr lo h Q))))))
set_option maxRecDepth 100000 in
theorem uX5_within {G : xG} {fr lo : Nat} {x0 : Nat} {x1 : Nat} {h : xH} {Q : Outcome → xH → Prop} (hq : bX5_within G fr lo x0 x1 h Q) : xP G YX5_within fr lo 0 [(0, rv x0), (1, rv x1)] [] h Q := by
  unfold bX5_within at hq
  refine x_aload_n 1 dX5_within_0 rfl ?_
  obtain ⟨g1, hq⟩ := hq
  refine x_getN (v := .int (fI h x1 2048)) gfX5_199 dX5_within_1 g1 rfl ?_
  refine x_iconst (v := 3) dX5_within_4 (by decide) ?_
  refine x_icmp_ne (tgt := 28) dX5_within_5 (by decide) (fun c2 => ?_) (fun c2 => ?_)
  · replace hq := hq.1 c2
    refine xP.pick (lv' := []) [] rfl ?_
    exact uX5_within_28 hq
  · replace hq := hq.2 c2
    refine x_aload_n 1 dX5_within_8 rfl ?_
    refine x_getN (v := rv (fR h x1 2059)) gfX5_492 dX5_within_9 g1 rfl ?_
    obtain ⟨g3, hq⟩ := hq
    refine x_getN (v := .int (fI h (fR h x1 2059) 4097)) gfX5_525 dX5_within_12 g3 rfl ?_
    refine x_if_eq (tgt := 28) dX5_within_15 (by decide) (fun c4 => ?_) (fun c4 => ?_)
    · replace hq := hq.1 c4
      refine xP.pick (lv' := []) [] rfl ?_
      exact uX5_within_28 hq
    · replace hq := hq.2 c4
      refine x_aload_n 1 dX5_within_18 rfl ?_
      refine x_getN (v := rv (fR h x1 2059)) gfX5_492 dX5_within_19 g1 rfl ?_
      refine x_getN (v := .int (fI h (fR h x1 2059) 4108)) gfX5_522 dX5_within_22 g3 rfl ?_
      refine x_if_eq (tgt := 30) dX5_within_25 (by decide) (fun c5 => ?_) (fun c5 => ?_)
      · replace hq := hq.1 c5
        refine x_aload_n 0 dX5_within_30 rfl ?_
        obtain ⟨g6, hq⟩ := hq
        refine x_get (v := rv (fR h x0 1294)) fdX5_296 dX5_within_31 g6 rfl ?_
        refine x_astore_n (lv' := [(2, rv (fR h x0 1294)), (0, rv x0), (1, rv x1)]) dX5_within_34 (by decide) (by first | rfl | (simp [rv_cat, Value.category]; done) | (simp [rv_cat, Value.category]; decide)) ?_
        refine xP.pick (lv' := [(1, rv x1), (2, rv (fR h x0 1294))]) [2, 0] rfl ?_
        exact hq
      · replace hq := hq.2 c5
        refine xP.pick (lv' := []) [] rfl ?_
        exact uX5_within_28 hq
theorem rX5_within {G : xG} {fr lo : Nat} {x0 : Nat} {x1 : Nat} {h : xH} {Q : Outcome → xH → Prop} (hq : bX5_within G fr lo x0 x1 h Q) : xR G YX5_within fr lo [rv x0, rv x1] h Q := by
  show xP _ _ _ _ _ (lv_args 0 _) _ _ _
  rw [show lv_args 0 [rv x0, rv x1] = [(0, rv x0), (1, rv x1)] from (xla1 (rv_cat _) (xla1 (rv_cat _) xla0))]
  exact uX5_within hq
set_option maxRecDepth 100000 in
theorem dX5_store_0 : decode cX5_store 0 = .ok (.aload_n 0, 1) := by decide +kernel
set_option maxRecDepth 100000 in
theorem dX5_store_1 : decode cX5_store 1 = .ok (.aload_n 1, 1) := by decide +kernel
set_option maxRecDepth 100000 in
theorem dX5_store_2 : decode cX5_store 2 = .ok (.aload_n 2, 1) := by decide +kernel
set_option maxRecDepth 100000 in
theorem dX5_store_3 : decode cX5_store 3 = .ok (.iload_n 3, 1) := by decide +kernel
set_option maxRecDepth 100000 in
theorem dX5_store_4 : decode cX5_store 4 = .ok (.invokevirtual 720, 3) := by decide +kernel
set_option maxRecDepth 100000 in
theorem dX5_store_7 : decode cX5_store 7 = .ok (.aload_n 1, 1) := by decide +kernel
set_option maxRecDepth 100000 in
theorem dX5_store_8 : decode cX5_store 8 = .ok (.getfield 289, 3) := by decide +kernel
set_option maxRecDepth 100000 in
theorem dX5_store_11 : decode cX5_store 11 = .ok (.tableswitch 133 1 9 #[49, 133, 133, 133, 133, 100, 100, 66, 83], 49) := by decide +kernel
set_option maxRecDepth 100000 in
theorem dX5_store_60 : decode cX5_store 60 = .ok (.aload_n 0, 1) := by decide +kernel
set_option maxRecDepth 100000 in
theorem dX5_store_61 : decode cX5_store 61 = .ok (.getfield 62, 3) := by decide +kernel
set_option maxRecDepth 100000 in
theorem dX5_store_64 : decode cX5_store 64 = .ok (.bipush 13, 2) := by decide +kernel
set_option maxRecDepth 100000 in
theorem dX5_store_66 : decode cX5_store 66 = .ok (.iconst 0, 1) := by decide +kernel
set_option maxRecDepth 100000 in
theorem dX5_store_67 : decode cX5_store 67 = .ok (.iconst 0, 1) := by decide +kernel
set_option maxRecDepth 100000 in
theorem dX5_store_68 : decode cX5_store 68 = .ok (.iconst 0, 1) := by decide +kernel
set_option maxRecDepth 100000 in
theorem dX5_store_69 : decode cX5_store 69 = .ok (.iconst 0, 1) := by decide +kernel
set_option maxRecDepth 100000 in
theorem dX5_store_70 : decode cX5_store 70 = .ok (.invokevirtual 506, 3) := by decide +kernel
set_option maxRecDepth 100000 in
theorem dX5_store_73 : decode cX5_store 73 = .ok (.pop, 1) := by decide +kernel
set_option maxRecDepth 100000 in
theorem dX5_store_74 : decode cX5_store 74 = .ok (.goto 84, 3) := by decide +kernel
set_option maxRecDepth 100000 in
theorem dX5_store_77 : decode cX5_store 77 = .ok (.aload_n 0, 1) := by decide +kernel
set_option maxRecDepth 100000 in
theorem dX5_store_78 : decode cX5_store 78 = .ok (.getfield 62, 3) := by decide +kernel
set_option maxRecDepth 100000 in
theorem dX5_store_81 : decode cX5_store 81 = .ok (.bipush 14, 2) := by decide +kernel
set_option maxRecDepth 100000 in
theorem dX5_store_83 : decode cX5_store 83 = .ok (.iconst 0, 1) := by decide +kernel
set_option maxRecDepth 100000 in
theorem dX5_store_84 : decode cX5_store 84 = .ok (.iconst 0, 1) := by decide +kernel
set_option maxRecDepth 100000 in
theorem dX5_store_85 : decode cX5_store 85 = .ok (.iconst 0, 1) := by decide +kernel
set_option maxRecDepth 100000 in
theorem dX5_store_86 : decode cX5_store 86 = .ok (.iconst 0, 1) := by decide +kernel
set_option maxRecDepth 100000 in
theorem dX5_store_87 : decode cX5_store 87 = .ok (.invokevirtual 506, 3) := by decide +kernel
set_option maxRecDepth 100000 in
theorem dX5_store_90 : decode cX5_store 90 = .ok (.pop, 1) := by decide +kernel
set_option maxRecDepth 100000 in
theorem dX5_store_91 : decode cX5_store 91 = .ok (.goto 67, 3) := by decide +kernel
set_option maxRecDepth 100000 in
theorem dX5_store_94 : decode cX5_store 94 = .ok (.aload_n 0, 1) := by decide +kernel
set_option maxRecDepth 100000 in
theorem dX5_store_95 : decode cX5_store 95 = .ok (.getfield 62, 3) := by decide +kernel
set_option maxRecDepth 100000 in
theorem dX5_store_98 : decode cX5_store 98 = .ok (.bipush 18, 2) := by decide +kernel
set_option maxRecDepth 100000 in
theorem dX5_store_100 : decode cX5_store 100 = .ok (.iconst 0, 1) := by decide +kernel
set_option maxRecDepth 100000 in
theorem dX5_store_101 : decode cX5_store 101 = .ok (.iconst 0, 1) := by decide +kernel
set_option maxRecDepth 100000 in
theorem dX5_store_102 : decode cX5_store 102 = .ok (.iconst 0, 1) := by decide +kernel
set_option maxRecDepth 100000 in
theorem dX5_store_103 : decode cX5_store 103 = .ok (.iconst 0, 1) := by decide +kernel
set_option maxRecDepth 100000 in
theorem dX5_store_104 : decode cX5_store 104 = .ok (.invokevirtual 506, 3) := by decide +kernel
set_option maxRecDepth 100000 in
theorem dX5_store_107 : decode cX5_store 107 = .ok (.pop, 1) := by decide +kernel
set_option maxRecDepth 100000 in
theorem dX5_store_108 : decode cX5_store 108 = .ok (.goto 50, 3) := by decide +kernel
set_option maxRecDepth 100000 in
theorem dX5_store_111 : decode cX5_store 111 = .ok (.aload_n 0, 1) := by decide +kernel
set_option maxRecDepth 100000 in
theorem dX5_store_112 : decode cX5_store 112 = .ok (.getfield 62, 3) := by decide +kernel
set_option maxRecDepth 100000 in
theorem dX5_store_115 : decode cX5_store 115 = .ok (.bipush 15, 2) := by decide +kernel
set_option maxRecDepth 100000 in
theorem dX5_store_117 : decode cX5_store 117 = .ok (.aload_n 1, 1) := by decide +kernel
set_option maxRecDepth 100000 in
theorem dX5_store_118 : decode cX5_store 118 = .ok (.getfield 66, 3) := by decide +kernel
set_option maxRecDepth 100000 in
theorem dX5_store_121 : decode cX5_store 121 = .ok (.aload_n 2, 1) := by decide +kernel
set_option maxRecDepth 100000 in
theorem dX5_store_122 : decode cX5_store 122 = .ok (.getfield 289, 3) := by decide +kernel
set_option maxRecDepth 100000 in
theorem dX5_store_125 : decode cX5_store 125 = .ok (.bipush 13, 2) := by decide +kernel
set_option maxRecDepth 100000 in
theorem dX5_store_127 : decode cX5_store 127 = .ok (.if_icmp .ne 7, 3) := by decide +kernel
set_option maxRecDepth 100000 in
theorem dX5_store_130 : decode cX5_store 130 = .ok (.iconst 1, 1) := by decide +kernel
set_option maxRecDepth 100000 in
theorem dX5_store_131 : decode cX5_store 131 = .ok (.goto 4, 3) := by decide +kernel
set_option maxRecDepth 100000 in
theorem dX5_store_134 : decode cX5_store 134 = .ok (.iconst 0, 1) := by decide +kernel
set_option maxRecDepth 100000 in
theorem dX5_store_135 : decode cX5_store 135 = .ok (.iconst 0, 1) := by decide +kernel
set_option maxRecDepth 100000 in
theorem dX5_store_136 : decode cX5_store 136 = .ok (.iconst 0, 1) := by decide +kernel
set_option maxRecDepth 100000 in
theorem dX5_store_137 : decode cX5_store 137 = .ok (.invokevirtual 506, 3) := by decide +kernel
set_option maxRecDepth 100000 in
theorem dX5_store_140 : decode cX5_store 140 = .ok (.pop, 1) := by decide +kernel
set_option maxRecDepth 100000 in
theorem dX5_store_141 : decode cX5_store 141 = .ok (.goto 17, 3) := by decide +kernel
set_option maxRecDepth 100000 in
theorem dX5_store_144 : decode cX5_store 144 = .ok (.aload_n 0, 1) := by decide +kernel
set_option maxRecDepth 100000 in
theorem dX5_store_145 : decode cX5_store 145 = .ok (.getfield 62, 3) := by decide +kernel
set_option maxRecDepth 100000 in
theorem dX5_store_148 : decode cX5_store 148 = .ok (.bipush 12, 2) := by decide +kernel
set_option maxRecDepth 100000 in
theorem dX5_store_150 : decode cX5_store 150 = .ok (.iconst 0, 1) := by decide +kernel
set_option maxRecDepth 100000 in
theorem dX5_store_151 : decode cX5_store 151 = .ok (.iconst 0, 1) := by decide +kernel
set_option maxRecDepth 100000 in
theorem dX5_store_152 : decode cX5_store 152 = .ok (.iconst 0, 1) := by decide +kernel
set_option maxRecDepth 100000 in
theorem dX5_store_153 : decode cX5_store 153 = .ok (.iconst 0, 1) := by decide +kernel
set_option maxRecDepth 100000 in
theorem dX5_store_154 : decode cX5_store 154 = .ok (.invokevirtual 506, 3) := by decide +kernel
set_option maxRecDepth 100000 in
theorem dX5_store_157 : decode cX5_store 157 = .ok (.pop, 1) := by decide +kernel
set_option maxRecDepth 100000 in
theorem dX5_store_158 : decode cX5_store 158 = .ok (.return_, 1) := by decide +kernel
set_option maxRecDepth 100000 in
def bX5_store_158 (G : xG) (fr lo : Nat) (h : xH) (Q : Outcome → xH → Prop) : Prop := Q (.returned none) h
set_option maxRecDepth 100000 in
theorem uX5_store_158 {G : xG} {fr lo : Nat} {h : xH} {Q : Outcome → xH → Prop} (hq : bX5_store_158 G fr lo h Q) : xP G YX5_store fr lo 158 [] [] h Q := by
  unfold bX5_store_158 at hq
  exact x_vret rfl dX5_store_158 hq
set_option maxRecDepth 100000 in
def bX5_store_135 (G : xG) (fr lo : Nat) (s0 : Int32) (s1 : Int32) (s2 : Int32) (s3 : Nat) (h : xH) (Q : Outcome → xH → Prop) : Prop := tg h s3 = 3 ∧ 1 ≤ fr ∧ 17 ≤ lo ∧ xRi G YX2_put (fr - 1) (lo - 17) [rv s3, .int s2, .int s1, .int s0, .int 0, .int 0] h (fun x5 h4 => xext h h4 → bX5_store_158 G fr lo h4 Q) (fun r h2 => Q (.threw r) h2)
set_option maxRecDepth 100000 in
theorem uX5_store_135 {G : xG} {fr lo : Nat} {s0 : Int32} {s1 : Int32} {s2 : Int32} {s3 : Nat} {h : xH} {Q : Outcome → xH → Prop} (hq : bX5_store_135 G fr lo s0 s1 s2 s3 h Q) : xP G YX5_store fr lo 135 [] [.int s0, .int s1, .int s2, rv s3] h Q := by
  unfold bX5_store_135 at hq
  refine x_iconst (v := 0) dX5_store_135 (by decide) ?_
  refine x_iconst (v := 0) dX5_store_136 (by decide) ?_
  obtain ⟨g1, hq⟩ := hq
  obtain ⟨g2, g3, hq⟩ := hq
  refine x_callV (Yc := YX2_put) (as := [.int s2, .int s1, .int s0, .int 0, .int 0]) (st := []) q2494 mvX2_put g1 rfl dX5_store_137 (xle (xal1 (rv_cat _) (xal1 rfl (xal1 rfl (xal1 rfl (xal1 rfl (xal1 rfl xal0)))))) (by decide)) (xfr g2) (xlo xsw0 (by decide) g3) (xKi hq (fun x5 h4 hq e6 => ?_) (fun _ _ q _ => q))
  replace hq := hq e6
  refine x_pop dX5_store_140 rfl ?_
  refine x_goto (tgt := 158) dX5_store_141 (by decide) ?_
  exact uX5_store_158 hq
set_option maxRecDepth 100000 in
def bX5_store (G : xG) (fr lo : Nat) (x0 : Nat) (x1 : Nat) (x2 : Nat) (x3 : Int32) (h : xH) (Q : Outcome → xH → Prop) : Prop := tg h x0 = 6 ∧ 1 ≤ fr ∧ 15 ≤ lo ∧ xRv G YX5_fit (fr - 1) (lo - 15) [rv x0, rv x1, rv x2, .int x3] h (fun h4 => xext h h4 → tg h4 x1 = 7 ∧ (((fI h4 x1 1536) = 1 → tg h4 (fR h4 x0 1281) = 3 ∧ 1 ≤ fr ∧ 17 ≤ lo ∧ xRi G YX2_put (fr - 1) (lo - 17) [rv (fR h4 x0 1281), .int 13, .int 0, .int 0, .int 0, .int 0] h4 (fun x14 h13 => xext h4 h13 → bX5_store_158 G fr lo h13 Q) (fun r h2 => Q (.threw r) h2)) ∧ ((fI h4 x1 1536) = 2 → tg h4 (fR h4 x0 1281) = 3 ∧ 1 ≤ fr ∧ 17 ≤ lo ∧ xRi G YX2_put (fr - 1) (lo - 17) [rv (fR h4 x0 1281), .int 12, .int 0, .int 0, .int 0, .int 0] h4 (fun x22 h21 => xext h4 h21 → bX5_store_158 G fr lo h21 Q) (fun r h2 => Q (.threw r) h2)) ∧ ((fI h4 x1 1536) = 3 → tg h4 (fR h4 x0 1281) = 3 ∧ 1 ≤ fr ∧ 17 ≤ lo ∧ xRi G YX2_put (fr - 1) (lo - 17) [rv (fR h4 x0 1281), .int 12, .int 0, .int 0, .int 0, .int 0] h4 (fun x30 h29 => xext h4 h29 → bX5_store_158 G fr lo h29 Q) (fun r h2 => Q (.threw r) h2)) ∧ ((fI h4 x1 1536) = 4 → tg h4 (fR h4 x0 1281) = 3 ∧ 1 ≤ fr ∧ 17 ≤ lo ∧ xRi G YX2_put (fr - 1) (lo - 17) [rv (fR h4 x0 1281), .int 12, .int 0, .int 0, .int 0, .int 0] h4 (fun x38 h37 => xext h4 h37 → bX5_store_158 G fr lo h37 Q) (fun r h2 => Q (.threw r) h2)) ∧ ((fI h4 x1 1536) = 5 → tg h4 (fR h4 x0 1281) = 3 ∧ 1 ≤ fr ∧ 17 ≤ lo ∧ xRi G YX2_put (fr - 1) (lo - 17) [rv (fR h4 x0 1281), .int 12, .int 0, .int 0, .int 0, .int 0] h4 (fun x46 h45 => xext h4 h45 → bX5_store_158 G fr lo h45 Q) (fun r h2 => Q (.threw r) h2)) ∧ ((fI h4 x1 1536) = 6 → tg h4 x2 = 7 ∧ ((¬ (fI h4 x2 1536) = 13 → bX5_store_135 G fr lo 0 (fI h4 x1 1543) 15 (fR h4 x0 1281) h4 Q) ∧ ((fI h4 x2 1536) = 13 → bX5_store_135 G fr lo 1 (fI h4 x1 1543) 15 (fR h4 x0 1281) h4 Q))) ∧ ((fI h4 x1 1536) = 7 → tg h4 x2 = 7 ∧ ((¬ (fI h4 x2 1536) = 13 → bX5_store_135 G fr lo 0 (fI h4 x1 1543) 15 (fR h4 x0 1281) h4 Q) ∧ ((fI h4 x2 1536) = 13 → bX5_store_135 G fr lo 1 (fI h4 x1 1543) 15 (fR h4 x0 1281) h4 Q))) ∧ ((fI h4 x1 1536) = 8 → tg h4 (fR h4 x0 1281) = 3 ∧ 1 ≤ fr ∧ 17 ≤ lo ∧ xRi G YX2_put (fr - 1) (lo - 17) [rv (fR h4 x0 1281), .int 14, .int 0, .int 0, .int 0, .int 0] h4 (fun x62 h61 => xext h4 h61 → bX5_store_158 G fr lo h61 Q) (fun r h2 => Q (.threw r) h2)) ∧ ((fI h4 x1 1536) = 9 → tg h4 (fR h4 x0 1281) = 3 ∧ 1 ≤ fr ∧ 17 ≤ lo ∧ xRi G YX2_put (fr - 1) (lo - 17) [rv (fR h4 x0 1281), .int 18, .int 0, .int 0, .int 0, .int 0] h4 (fun x70 h69 => xext h4 h69 → bX5_store_158 G fr lo h69 Q) (fun r h2 => Q (.threw r) h2)) ∧ (¬ (fI h4 x1 1536) = 1 → ¬ (fI h4 x1 1536) = 2 → ¬ (fI h4 x1 1536) = 3 → ¬ (fI h4 x1 1536) = 4 → ¬ (fI h4 x1 1536) = 5 → ¬ (fI h4 x1 1536) = 6 → ¬ (fI h4 x1 1536) = 7 → ¬ (fI h4 x1 1536) = 8 → ¬ (fI h4 x1 1536) = 9 → tg h4 (fR h4 x0 1281) = 3 ∧ 1 ≤ fr ∧ 17 ≤ lo ∧ xRi G YX2_put (fr - 1) (lo - 17) [rv (fR h4 x0 1281), .int 12, .int 0, .int 0, .int 0, .int 0] h4 (fun x77 h76 => xext h4 h76 → bX5_store_158 G fr lo h76 Q) (fun r h2 => Q (.threw r) h2)))) (fun r h2 => Q (.threw r) h2)
set_option maxRecDepth 100000 in
theorem uX5_store {G : xG} {fr lo : Nat} {x0 : Nat} {x1 : Nat} {x2 : Nat} {x3 : Int32} {h : xH} {Q : Outcome → xH → Prop} (hq : bX5_store G fr lo x0 x1 x2 x3 h Q) : xP G YX5_store fr lo 0 [(0, rv x0), (1, rv x1), (2, rv x2), (3, .int x3)] [] h Q := by
  unfold bX5_store at hq
  refine x_aload_n 0 dX5_store_0 rfl ?_
  refine x_aload_n 1 dX5_store_1 rfl ?_
  refine x_aload_n 2 dX5_store_2 rfl ?_
  refine x_iload_n 3 dX5_store_3 rfl ?_
  obtain ⟨g1, hq⟩ := hq
  obtain ⟨g2, g3, hq⟩ := hq
  refine x_callV (Yc := YX5_fit) (as := [rv x1, rv x2, .int x3]) (st := []) q2586 mvX5_fit g1 rfl dX5_store_4 (xle (xal1 (rv_cat _) (xal1 (rv_cat _) (xal1 (rv_cat _) (xal1 rfl xal0)))) (by decide)) (xfr g2) (xlo xsw0 (by decide) g3) (xKv hq (fun h4 hq e6 => ?_) (fun _ _ q _ => q))
  replace hq := hq e6
  refine x_aload_n 1 dX5_store_7 rfl ?_
  obtain ⟨g7, hq⟩ := hq
  refine x_getN (v := .int (fI h4 x1 1536)) gfX5_289 dX5_store_8 g7 rfl ?_
  by_cases c8 : (fI h4 x1 1536) = 1
  · replace hq := hq.1 c8
    refine x_tin (tgt := 60) (off := 49) 1 c8 dX5_store_11 (by decide) (by decide) (by decide) (by decide) ?_
    refine x_aload_n 0 dX5_store_60 rfl ?_
    have t9 : tg h4 x0 = 6 := e6.tg g1 (by decide)
    refine x_get (v := rv (fR h4 x0 1281)) fdX5_62 dX5_store_61 t9 rfl ?_
    refine x_bipush (v := 13) dX5_store_64 (by decide) ?_
    refine x_iconst (v := 0) dX5_store_66 (by decide) ?_
    refine x_iconst (v := 0) dX5_store_67 (by decide) ?_
    refine x_iconst (v := 0) dX5_store_68 (by decide) ?_
    refine x_iconst (v := 0) dX5_store_69 (by decide) ?_
    obtain ⟨g10, hq⟩ := hq
    obtain ⟨g11, g12, hq⟩ := hq
    refine x_callV (Yc := YX2_put) (as := [.int 13, .int 0, .int 0, .int 0, .int 0]) (st := []) q2494 mvX2_put g10 rfl dX5_store_70 (xle (xal1 (rv_cat _) (xal1 rfl (xal1 rfl (xal1 rfl (xal1 rfl (xal1 rfl xal0)))))) (by decide)) (xfr g11) (xlo xsw0 (by decide) g12) (xKi hq (fun x14 h13 hq e15 => ?_) (fun _ _ q _ => q))
    replace hq := hq e15
    refine x_pop dX5_store_73 rfl ?_
    refine x_goto (tgt := 158) dX5_store_74 (by decide) ?_
    refine xP.pick (lv' := []) [] rfl ?_
    exact uX5_store_158 hq
  replace hq := hq.2
  by_cases c16 : (fI h4 x1 1536) = 2
  · replace hq := hq.1 c16
    refine x_tin (tgt := 144) (off := 133) 2 c16 dX5_store_11 (by decide) (by decide) (by decide) (by decide) ?_
    refine x_aload_n 0 dX5_store_144 rfl ?_
    have t17 : tg h4 x0 = 6 := e6.tg g1 (by decide)
    refine x_get (v := rv (fR h4 x0 1281)) fdX5_62 dX5_store_145 t17 rfl ?_
    refine x_bipush (v := 12) dX5_store_148 (by decide) ?_
    refine x_iconst (v := 0) dX5_store_150 (by decide) ?_
    refine x_iconst (v := 0) dX5_store_151 (by decide) ?_
    refine x_iconst (v := 0) dX5_store_152 (by decide) ?_
    refine x_iconst (v := 0) dX5_store_153 (by decide) ?_
    obtain ⟨g18, hq⟩ := hq
    obtain ⟨g19, g20, hq⟩ := hq
    refine x_callV (Yc := YX2_put) (as := [.int 12, .int 0, .int 0, .int 0, .int 0]) (st := []) q2494 mvX2_put g18 rfl dX5_store_154 (xle (xal1 (rv_cat _) (xal1 rfl (xal1 rfl (xal1 rfl (xal1 rfl (xal1 rfl xal0)))))) (by decide)) (xfr g19) (xlo xsw0 (by decide) g20) (xKi hq (fun x22 h21 hq e23 => ?_) (fun _ _ q _ => q))
    replace hq := hq e23
    refine x_pop dX5_store_157 rfl ?_
    refine xP.pick (lv' := []) [] rfl ?_
    exact uX5_store_158 hq
  replace hq := hq.2
  by_cases c24 : (fI h4 x1 1536) = 3
  · replace hq := hq.1 c24
    refine x_tin (tgt := 144) (off := 133) 3 c24 dX5_store_11 (by decide) (by decide) (by decide) (by decide) ?_
    refine x_aload_n 0 dX5_store_144 rfl ?_
    have t25 : tg h4 x0 = 6 := e6.tg g1 (by decide)
    refine x_get (v := rv (fR h4 x0 1281)) fdX5_62 dX5_store_145 t25 rfl ?_
    refine x_bipush (v := 12) dX5_store_148 (by decide) ?_
    refine x_iconst (v := 0) dX5_store_150 (by decide) ?_
    refine x_iconst (v := 0) dX5_store_151 (by decide) ?_
    refine x_iconst (v := 0) dX5_store_152 (by decide) ?_
    refine x_iconst (v := 0) dX5_store_153 (by decide) ?_
    obtain ⟨g26, hq⟩ := hq
    obtain ⟨g27, g28, hq⟩ := hq
    refine x_callV (Yc := YX2_put) (as := [.int 12, .int 0, .int 0, .int 0, .int 0]) (st := []) q2494 mvX2_put g26 rfl dX5_store_154 (xle (xal1 (rv_cat _) (xal1 rfl (xal1 rfl (xal1 rfl (xal1 rfl (xal1 rfl xal0)))))) (by decide)) (xfr g27) (xlo xsw0 (by decide) g28) (xKi hq (fun x30 h29 hq e31 => ?_) (fun _ _ q _ => q))
    replace hq := hq e31
    refine x_pop dX5_store_157 rfl ?_
    refine xP.pick (lv' := []) [] rfl ?_
    exact uX5_store_158 hq
  replace hq := hq.2
  by_cases c32 : (fI h4 x1 1536) = 4
  · replace hq := hq.1 c32
    refine x_tin (tgt := 144) (off := 133) 4 c32 dX5_store_11 (by decide) (by decide) (by decide) (by decide) ?_
    refine x_aload_n 0 dX5_store_144 rfl ?_
    have t33 : tg h4 x0 = 6 := e6.tg g1 (by decide)
    refine x_get (v := rv (fR h4 x0 1281)) fdX5_62 dX5_store_145 t33 rfl ?_
    refine x_bipush (v := 12) dX5_store_148 (by decide) ?_
    refine x_iconst (v := 0) dX5_store_150 (by decide) ?_
    refine x_iconst (v := 0) dX5_store_151 (by decide) ?_
    refine x_iconst (v := 0) dX5_store_152 (by decide) ?_
    refine x_iconst (v := 0) dX5_store_153 (by decide) ?_
    obtain ⟨g34, hq⟩ := hq
    obtain ⟨g35, g36, hq⟩ := hq
    refine x_callV (Yc := YX2_put) (as := [.int 12, .int 0, .int 0, .int 0, .int 0]) (st := []) q2494 mvX2_put g34 rfl dX5_store_154 (xle (xal1 (rv_cat _) (xal1 rfl (xal1 rfl (xal1 rfl (xal1 rfl (xal1 rfl xal0)))))) (by decide)) (xfr g35) (xlo xsw0 (by decide) g36) (xKi hq (fun x38 h37 hq e39 => ?_) (fun _ _ q _ => q))
    replace hq := hq e39
    refine x_pop dX5_store_157 rfl ?_
    refine xP.pick (lv' := []) [] rfl ?_
    exact uX5_store_158 hq
  replace hq := hq.2
  by_cases c40 : (fI h4 x1 1536) = 5
  · replace hq := hq.1 c40
    refine x_tin (tgt := 144) (off := 133) 5 c40 dX5_store_11 (by decide) (by decide) (by decide) (by decide) ?_
    refine x_aload_n 0 dX5_store_144 rfl ?_
    have t41 : tg h4 x0 = 6 := e6.tg g1 (by decide)
    refine x_get (v := rv (fR h4 x0 1281)) fdX5_62 dX5_store_145 t41 rfl ?_
    refine x_bipush (v := 12) dX5_store_148 (by decide) ?_
    refine x_iconst (v := 0) dX5_store_150 (by decide) ?_
    refine x_iconst (v := 0) dX5_store_151 (by decide) ?_
    refine x_iconst (v := 0) dX5_store_152 (by decide) ?_
    refine x_iconst (v := 0) dX5_store_153 (by decide) ?_
    obtain ⟨g42, hq⟩ := hq
    obtain ⟨g43, g44, hq⟩ := hq
    refine x_callV (Yc := YX2_put) (as := [.int 12, .int 0, .int 0, .int 0, .int 0]) (st := []) q2494 mvX2_put g42 rfl dX5_store_154 (xle (xal1 (rv_cat _) (xal1 rfl (xal1 rfl (xal1 rfl (xal1 rfl (xal1 rfl xal0)))))) (by decide)) (xfr g43) (xlo xsw0 (by decide) g44) (xKi hq (fun x46 h45 hq e47 => ?_) (fun _ _ q _ => q))
    replace hq := hq e47
    refine x_pop dX5_store_157 rfl ?_
    refine xP.pick (lv' := []) [] rfl ?_
    exact uX5_store_158 hq
  replace hq := hq.2
  by_cases c48 : (fI h4 x1 1536) = 6
  · replace hq := hq.1 c48
    refine x_tin (tgt := 111) (off := 100) 6 c48 dX5_store_11 (by decide) (by decide) (by decide) (by decide) ?_
    refine x_aload_n 0 dX5_store_111 rfl ?_
    have t49 : tg h4 x0 = 6 := e6.tg g1 (by decide)
    refine x_get (v := rv (fR h4 x0 1281)) fdX5_62 dX5_store_112 t49 rfl ?_
    refine x_bipush (v := 15) dX5_store_115 (by decide) ?_
    refine x_aload_n 1 dX5_store_117 rfl ?_
    refine x_getN (v := .int (fI h4 x1 1543)) gfX5_66 dX5_store_118 g7 rfl ?_
    refine x_aload_n 2 dX5_store_121 rfl ?_
    obtain ⟨g50, hq⟩ := hq
    refine x_getN (v := .int (fI h4 x2 1536)) gfX5_289 dX5_store_122 g50 rfl ?_
    refine x_bipush (v := 13) dX5_store_125 (by decide) ?_
    refine x_icmp_ne (tgt := 134) dX5_store_127 (by decide) (fun c51 => ?_) (fun c51 => ?_)
    · replace hq := hq.1 c51
      refine x_iconst (v := 0) dX5_store_134 (by decide) ?_
      refine xP.pick (lv' := []) [] rfl ?_
      exact uX5_store_135 hq
    · replace hq := hq.2 c51
      refine x_iconst (v := 1) dX5_store_130 (by decide) ?_
      refine x_goto (tgt := 135) dX5_store_131 (by decide) ?_
      refine xP.pick (lv' := []) [] rfl ?_
      exact uX5_store_135 hq
  replace hq := hq.2
  by_cases c52 : (fI h4 x1 1536) = 7
  · replace hq := hq.1 c52
    refine x_tin (tgt := 111) (off := 100) 7 c52 dX5_store_11 (by decide) (by decide) (by decide) (by decide) ?_
    refine x_aload_n 0 dX5_store_111 rfl ?_
    have t53 : tg h4 x0 = 6 := e6.tg g1 (by decide)
    refine x_get (v := rv (fR h4 x0 1281)) fdX5_62 dX5_store_112 t53 rfl ?_
    refine x_bipush (v := 15) dX5_store_115 (by decide) ?_
    refine x_aload_n 1 dX5_store_117 rfl ?_
    refine x_getN (v := .int (fI h4 x1 1543)) gfX5_66 dX5_store_118 g7 rfl ?_
    refine x_aload_n 2 dX5_store_121 rfl ?_
    obtain ⟨g54, hq⟩ := hq
    refine x_getN (v := .int (fI h4 x2 1536)) gfX5_289 dX5_store_122 g54 rfl ?_
    refine x_bipush (v := 13) dX5_store_125 (by decide) ?_
    refine x_icmp_ne (tgt := 134) dX5_store_127 (by decide) (fun c55 => ?_) (fun c55 => ?_)
    · replace hq := hq.1 c55
      refine x_iconst (v := 0) dX5_store_134 (by decide) ?_
      refine xP.pick (lv' := []) [] rfl ?_
      exact uX5_store_135 hq
    · replace hq := hq.2 c55
      refine x_iconst (v := 1) dX5_store_130 (by decide) ?_
      refine x_goto (tgt := 135) dX5_store_131 (by decide) ?_
      refine xP.pick (lv' := []) [] rfl ?_
      exact uX5_store_135 hq
  replace hq := hq.2
  by_cases c56 : (fI h4 x1 1536) = 8
  · replace hq := hq.1 c56
    refine x_tin (tgt := 77) (off := 66) 8 c56 dX5_store_11 (by decide) (by decide) (by decide) (by decide) ?_
    refine x_aload_n 0 dX5_store_77 rfl ?_
    have t57 : tg h4 x0 = 6 := e6.tg g1 (by decide)
    refine x_get (v := rv (fR h4 x0 1281)) fdX5_62 dX5_store_78 t57 rfl ?_
    refine x_bipush (v := 14) dX5_store_81 (by decide) ?_
    refine x_iconst (v := 0) dX5_store_83 (by decide) ?_
    refine x_iconst (v := 0) dX5_store_84 (by decide) ?_
    refine x_iconst (v := 0) dX5_store_85 (by decide) ?_
    refine x_iconst (v := 0) dX5_store_86 (by decide) ?_
    obtain ⟨g58, hq⟩ := hq
    obtain ⟨g59, g60, hq⟩ := hq
    refine x_callV (Yc := YX2_put) (as := [.int 14, .int 0, .int 0, .int 0, .int 0]) (st := []) q2494 mvX2_put g58 rfl dX5_store_87 (xle (xal1 (rv_cat _) (xal1 rfl (xal1 rfl (xal1 rfl (xal1 rfl (xal1 rfl xal0)))))) (by decide)) (xfr g59) (xlo xsw0 (by decide) g60) (xKi hq (fun x62 h61 hq e63 => ?_) (fun _ _ q _ => q))
    replace hq := hq e63
    refine x_pop dX5_store_90 rfl ?_
    refine x_goto (tgt := 158) dX5_store_91 (by decide) ?_
    refine xP.pick (lv' := []) [] rfl ?_
    exact uX5_store_158 hq
  replace hq := hq.2
  by_cases c64 : (fI h4 x1 1536) = 9
  · replace hq := hq.1 c64
    refine x_tin (tgt := 94) (off := 83) 9 c64 dX5_store_11 (by decide) (by decide) (by decide) (by decide) ?_
    refine x_aload_n 0 dX5_store_94 rfl ?_
    have t65 : tg h4 x0 = 6 := e6.tg g1 (by decide)
    refine x_get (v := rv (fR h4 x0 1281)) fdX5_62 dX5_store_95 t65 rfl ?_
    refine x_bipush (v := 18) dX5_store_98 (by decide) ?_
    refine x_iconst (v := 0) dX5_store_100 (by decide) ?_
    refine x_iconst (v := 0) dX5_store_101 (by decide) ?_
    refine x_iconst (v := 0) dX5_store_102 (by decide) ?_
    refine x_iconst (v := 0) dX5_store_103 (by decide) ?_
    obtain ⟨g66, hq⟩ := hq
    obtain ⟨g67, g68, hq⟩ := hq
    refine x_callV (Yc := YX2_put) (as := [.int 18, .int 0, .int 0, .int 0, .int 0]) (st := []) q2494 mvX2_put g66 rfl dX5_store_104 (xle (xal1 (rv_cat _) (xal1 rfl (xal1 rfl (xal1 rfl (xal1 rfl (xal1 rfl xal0)))))) (by decide)) (xfr g67) (xlo xsw0 (by decide) g68) (xKi hq (fun x70 h69 hq e71 => ?_) (fun _ _ q _ => q))
    replace hq := hq e71
    refine x_pop dX5_store_107 rfl ?_
    refine x_goto (tgt := 158) dX5_store_108 (by decide) ?_
    refine xP.pick (lv' := []) [] rfl ?_
    exact uX5_store_158 hq
  replace hq := hq.2
  replace hq := hq c8 c16 c24 c32 c40 c48 c52 c56 c64
  have nc8 := lv_neT c8 (show (1 : Int32).toInt = 1 from by decide)
  have nc16 := lv_neT c16 (show (2 : Int32).toInt = 2 from by decide)
  have nc24 := lv_neT c24 (show (3 : Int32).toInt = 3 from by decide)
  have nc32 := lv_neT c32 (show (4 : Int32).toInt = 4 from by decide)
  have nc40 := lv_neT c40 (show (5 : Int32).toInt = 5 from by decide)
  have nc48 := lv_neT c48 (show (6 : Int32).toInt = 6 from by decide)
  have nc52 := lv_neT c52 (show (7 : Int32).toInt = 7 from by decide)
  have nc56 := lv_neT c56 (show (8 : Int32).toInt = 8 from by decide)
  have nc64 := lv_neT c64 (show (9 : Int32).toInt = 9 from by decide)
  refine x_tout (tgt := 144) dX5_store_11 (by omega) (by decide) ?_
  refine x_aload_n 0 dX5_store_144 rfl ?_
  have t72 : tg h4 x0 = 6 := e6.tg g1 (by decide)
  refine x_get (v := rv (fR h4 x0 1281)) fdX5_62 dX5_store_145 t72 rfl ?_
  refine x_bipush (v := 12) dX5_store_148 (by decide) ?_
  refine x_iconst (v := 0) dX5_store_150 (by decide) ?_
  refine x_iconst (v := 0) dX5_store_151 (by decide) ?_
  refine x_iconst (v := 0) dX5_store_152 (by decide) ?_
  refine x_iconst (v := 0) dX5_store_153 (by decide) ?_
  obtain ⟨g73, hq⟩ := hq
  obtain ⟨g74, g75, hq⟩ := hq
  refine x_callV (Yc := YX2_put) (as := [.int 12, .int 0, .int 0, .int 0, .int 0]) (st := []) q2494 mvX2_put g73 rfl dX5_store_154 (xle (xal1 (rv_cat _) (xal1 rfl (xal1 rfl (xal1 rfl (xal1 rfl (xal1 rfl xal0)))))) (by decide)) (xfr g74) (xlo xsw0 (by decide) g75) (xKi hq (fun x77 h76 hq e78 => ?_) (fun _ _ q _ => q))
  replace hq := hq e78
  refine x_pop dX5_store_157 rfl ?_
  refine xP.pick (lv' := []) [] rfl ?_
  exact uX5_store_158 hq
theorem rX5_store {G : xG} {fr lo : Nat} {x0 : Nat} {x1 : Nat} {x2 : Nat} {x3 : Int32} {h : xH} {Q : Outcome → xH → Prop} (hq : bX5_store G fr lo x0 x1 x2 x3 h Q) : xR G YX5_store fr lo [rv x0, rv x1, rv x2, .int x3] h Q := by
  show xP _ _ _ _ _ (lv_args 0 _) _ _ _
  rw [show lv_args 0 [rv x0, rv x1, rv x2, .int x3] = [(0, rv x0), (1, rv x1), (2, rv x2), (3, .int x3)] from (xla1 (rv_cat _) (xla1 (rv_cat _) (xla1 (rv_cat _) (xla1 rfl xla0))))]
  exact uX5_store hq
set_option maxRecDepth 100000 in
theorem dX5_calls_0 : decode cX5_calls 0 = .ok (.aload_n 0, 1) := by decide +kernel
set_option maxRecDepth 100000 in
theorem dX5_calls_1 : decode cX5_calls 1 = .ok (.aload_n 1, 1) := by decide +kernel
set_option maxRecDepth 100000 in
theorem dX5_calls_2 : decode cX5_calls 2 = .ok (.invokevirtual 195, 3) := by decide +kernel
set_option maxRecDepth 100000 in
theorem dX5_calls_5 : decode cX5_calls 5 = .ok (.astore_n 2, 1) := by decide +kernel
set_option maxRecDepth 100000 in
theorem dX5_calls_6 : decode cX5_calls 6 = .ok (.aload_n 2, 1) := by decide +kernel
set_option maxRecDepth 100000 in
theorem dX5_calls_7 : decode cX5_calls 7 = .ok (.getfield 199, 3) := by decide +kernel
set_option maxRecDepth 100000 in
theorem dX5_calls_10 : decode cX5_calls 10 = .ok (.iconst 3, 1) := by decide +kernel
set_option maxRecDepth 100000 in
theorem dX5_calls_11 : decode cX5_calls 11 = .ok (.if_icmp .ne 36, 3) := by decide +kernel
set_option maxRecDepth 100000 in
theorem dX5_calls_14 : decode cX5_calls 14 = .ok (.aload_n 2, 1) := by decide +kernel
set_option maxRecDepth 100000 in
theorem dX5_calls_15 : decode cX5_calls 15 = .ok (.getfield 492, 3) := by decide +kernel
set_option maxRecDepth 100000 in
theorem dX5_calls_18 : decode cX5_calls 18 = .ok (.getfield 525, 3) := by decide +kernel
set_option maxRecDepth 100000 in
theorem dX5_calls_21 : decode cX5_calls 21 = .ok (.ifCond .ne 26, 3) := by decide +kernel
set_option maxRecDepth 100000 in
theorem dX5_calls_24 : decode cX5_calls 24 = .ok (.aload_n 0, 1) := by decide +kernel
set_option maxRecDepth 100000 in
theorem dX5_calls_25 : decode cX5_calls 25 = .ok (.aload_n 2, 1) := by decide +kernel
set_option maxRecDepth 100000 in
theorem dX5_calls_26 : decode cX5_calls 26 = .ok (.getfield 492, 3) := by decide +kernel
set_option maxRecDepth 100000 in
theorem dX5_calls_29 : decode cX5_calls 29 = .ok (.aload_n 1, 1) := by decide +kernel
set_option maxRecDepth 100000 in
theorem dX5_calls_30 : decode cX5_calls 30 = .ok (.getfield 251, 3) := by decide +kernel
set_option maxRecDepth 100000 in
theorem dX5_calls_33 : decode cX5_calls 33 = .ok (.aload_n 1, 1) := by decide +kernel
set_option maxRecDepth 100000 in
theorem dX5_calls_34 : decode cX5_calls 34 = .ok (.getfield 293, 3) := by decide +kernel
set_option maxRecDepth 100000 in
theorem dX5_calls_37 : decode cX5_calls 37 = .ok (.aload_n 1, 1) := by decide +kernel
set_option maxRecDepth 100000 in
theorem dX5_calls_38 : decode cX5_calls 38 = .ok (.invokevirtual 192, 3) := by decide +kernel
set_option maxRecDepth 100000 in
theorem dX5_calls_41 : decode cX5_calls 41 = .ok (.invokevirtual 754, 3) := by decide +kernel
set_option maxRecDepth 100000 in
theorem dX5_calls_44 : decode cX5_calls 44 = .ok (.goto 43, 3) := by decide +kernel
set_option maxRecDepth 100000 in
theorem dX5_calls_47 : decode cX5_calls 47 = .ok (.aload_n 2, 1) := by decide +kernel
set_option maxRecDepth 100000 in
theorem dX5_calls_48 : decode cX5_calls 48 = .ok (.getfield 199, 3) := by decide +kernel
set_option maxRecDepth 100000 in
theorem dX5_calls_51 : decode cX5_calls 51 = .ok (.iconst 4, 1) := by decide +kernel
set_option maxRecDepth 100000 in
theorem dX5_calls_52 : decode cX5_calls 52 = .ok (.if_icmp .ne 24, 3) := by decide +kernel
set_option maxRecDepth 100000 in
theorem dX5_calls_55 : decode cX5_calls 55 = .ok (.aload_n 2, 1) := by decide +kernel
set_option maxRecDepth 100000 in
theorem dX5_calls_56 : decode cX5_calls 56 = .ok (.getfield 112, 3) := by decide +kernel
set_option maxRecDepth 100000 in
theorem dX5_calls_59 : decode cX5_calls 59 = .ok (.bipush 10, 2) := by decide +kernel
set_option maxRecDepth 100000 in
theorem dX5_calls_61 : decode cX5_calls 61 = .ok (.if_icmp .ge 15, 3) := by decide +kernel
set_option maxRecDepth 100000 in
theorem dX5_calls_64 : decode cX5_calls 64 = .ok (.aload_n 0, 1) := by decide +kernel
set_option maxRecDepth 100000 in
theorem dX5_calls_65 : decode cX5_calls 65 = .ok (.aload_n 2, 1) := by decide +kernel
set_option maxRecDepth 100000 in
theorem dX5_calls_66 : decode cX5_calls 66 = .ok (.getfield 112, 3) := by decide +kernel
set_option maxRecDepth 100000 in
theorem dX5_calls_69 : decode cX5_calls 69 = .ok (.aload_n 1, 1) := by decide +kernel
set_option maxRecDepth 100000 in
theorem dX5_calls_70 : decode cX5_calls 70 = .ok (.invokevirtual 758, 3) := by decide +kernel
set_option maxRecDepth 100000 in
theorem dX5_calls_73 : decode cX5_calls 73 = .ok (.goto 14, 3) := by decide +kernel
set_option maxRecDepth 100000 in
theorem dX5_calls_76 : decode cX5_calls 76 = .ok (.aload_n 0, 1) := by decide +kernel
set_option maxRecDepth 100000 in
theorem dX5_calls_77 : decode cX5_calls 77 = .ok (.bipush 6, 2) := by decide +kernel
set_option maxRecDepth 100000 in
theorem dX5_calls_79 : decode cX5_calls 79 = .ok (.aload_n 1, 1) := by decide +kernel
set_option maxRecDepth 100000 in
theorem dX5_calls_80 : decode cX5_calls 80 = .ok (.invokevirtual 192, 3) := by decide +kernel
set_option maxRecDepth 100000 in
theorem dX5_calls_83 : decode cX5_calls 83 = .ok (.invokevirtual 163, 3) := by decide +kernel
set_option maxRecDepth 100000 in
theorem dX5_calls_86 : decode cX5_calls 86 = .ok (.athrow, 1) := by decide +kernel
set_option maxRecDepth 100000 in
theorem dX5_calls_87 : decode cX5_calls 87 = .ok (.return_, 1) := by decide +kernel
set_option maxRecDepth 100000 in
def bX5_calls_87 (G : xG) (fr lo : Nat) (h : xH) (Q : Outcome → xH → Prop) : Prop := Q (.returned none) h
set_option maxRecDepth 100000 in
theorem uX5_calls_87 {G : xG} {fr lo : Nat} {h : xH} {Q : Outcome → xH → Prop} (hq : bX5_calls_87 G fr lo h Q) : xP G YX5_calls fr lo 87 [] [] h Q := by
  unfold bX5_calls_87 at hq
  exact x_vret rfl dX5_calls_87 hq
set_option maxRecDepth 100000 in
def bX5_calls_76 (G : xG) (fr lo : Nat) (x0 : Nat) (x1 : Nat) (h : xH) (Q : Outcome → xH → Prop) : Prop := tg h x1 = 16 ∧ 1 ≤ fr ∧ 14 ≤ lo ∧ xRi G YX15_place (fr - 1) (lo - 14) [rv x1] h (fun x5 h4 => xext h h4 → tg h4 x0 = 6 ∧ 1 ≤ fr ∧ 14 ≤ lo ∧ xRr G YX5_fault (fr - 1) (lo - 14) [rv x0, .int 6, .int x5] h4 (fun x11 h10 => xext h4 h10 → (∃ r13, x11 = r13 + 1 ∧ Q (.threw r13) h10)) (fun r h2 => Q (.threw r) h2)) (fun r h2 => Q (.threw r) h2)
set_option maxRecDepth 100000 in
theorem uX5_calls_76 {G : xG} {fr lo : Nat} {x0 : Nat} {x1 : Nat} {h : xH} {Q : Outcome → xH → Prop} (hq : bX5_calls_76 G fr lo x0 x1 h Q) : xP G YX5_calls fr lo 76 [(0, rv x0), (1, rv x1)] [] h Q := by
  unfold bX5_calls_76 at hq
  refine x_aload_n 0 dX5_calls_76 rfl ?_
  refine x_bipush (v := 6) dX5_calls_77 (by decide) ?_
  refine x_aload_n 1 dX5_calls_79 rfl ?_
  obtain ⟨g1, hq⟩ := hq
  obtain ⟨g2, g3, hq⟩ := hq
  refine x_callV (Yc := YX15_place) (as := []) (st := [.int 6, rv x0]) q2013 mvX15_place g1 rfl dX5_calls_80 (xle (xal1 (rv_cat _) xal0) (by decide)) (xfr g2) (xlo (xsw1 rfl (xsw1 (rv_cat _) xsw0)) (by decide) g3) (xKi hq (fun x5 h4 hq e6 => ?_) (fun _ _ q _ => q))
  replace hq := hq e6
  obtain ⟨g7, hq⟩ := hq
  obtain ⟨g8, g9, hq⟩ := hq
  refine x_callV (Yc := YX5_fault) (as := [.int 6, .int x5]) (st := []) q2087 mvX5_fault g7 rfl dX5_calls_83 (xle (xal1 (rv_cat _) (xal1 rfl (xal1 rfl xal0))) (by decide)) (xfr g8) (xlo xsw0 (by decide) g9) (xKr hq (fun x11 h10 hq e12 => ?_) (fun _ _ q _ => q))
  replace hq := hq e12
  obtain ⟨r13, g14, hq⟩ := hq
  rw [g14]
  exact x_athrow dX5_calls_86 hq
set_option maxRecDepth 100000 in
def bX5_calls_47 (G : xG) (fr lo : Nat) (x0 : Nat) (x1 : Nat) (x2 : Nat) (h : xH) (Q : Outcome → xH → Prop) : Prop := tg h x2 = 9 ∧ ((¬ (fI h x2 2048) = 4 → bX5_calls_76 G fr lo x0 x1 h Q) ∧ ((fI h x2 2048) = 4 → ((10 ≤ (fI h x2 2051) → bX5_calls_76 G fr lo x0 x1 h Q) ∧ (¬ 10 ≤ (fI h x2 2051) → tg h x0 = 6 ∧ 1 ≤ fr ∧ 17 ≤ lo ∧ xRv G YX5_required (fr - 1) (lo - 17) [rv x0, .int (fI h x2 2051), rv x1] h (fun h7 => xext h h7 → bX5_calls_87 G fr lo h7 Q) (fun r h2 => Q (.threw r) h2)))))
set_option maxRecDepth 100000 in
theorem uX5_calls_47 {G : xG} {fr lo : Nat} {x0 : Nat} {x1 : Nat} {x2 : Nat} {h : xH} {Q : Outcome → xH → Prop} (hq : bX5_calls_47 G fr lo x0 x1 x2 h Q) : xP G YX5_calls fr lo 47 [(0, rv x0), (1, rv x1), (2, rv x2)] [] h Q := by
  unfold bX5_calls_47 at hq
  refine x_aload_n 2 dX5_calls_47 rfl ?_
  obtain ⟨g1, hq⟩ := hq
  refine x_getN (v := .int (fI h x2 2048)) gfX5_199 dX5_calls_48 g1 rfl ?_
  refine x_iconst (v := 4) dX5_calls_51 (by decide) ?_
  refine x_icmp_ne (tgt := 76) dX5_calls_52 (by decide) (fun c2 => ?_) (fun c2 => ?_)
  · replace hq := hq.1 c2
    refine xP.pick (lv' := [(0, rv x0), (1, rv x1)]) [0, 1] rfl ?_
    exact uX5_calls_76 hq
  · replace hq := hq.2 c2
    refine x_aload_n 2 dX5_calls_55 rfl ?_
    refine x_getN (v := .int (fI h x2 2051)) gfX5_112 dX5_calls_56 g1 rfl ?_
    refine x_bipush (v := 10) dX5_calls_59 (by decide) ?_
    refine x_icmp_ge (tgt := 76) dX5_calls_61 (by decide) (fun c3 => ?_) (fun c3 => ?_)
    · replace hq := hq.1 c3
      refine xP.pick (lv' := [(0, rv x0), (1, rv x1)]) [0, 1] rfl ?_
      exact uX5_calls_76 hq
    · replace hq := hq.2 c3
      refine x_aload_n 0 dX5_calls_64 rfl ?_
      refine x_aload_n 2 dX5_calls_65 rfl ?_
      refine x_getN (v := .int (fI h x2 2051)) gfX5_112 dX5_calls_66 g1 rfl ?_
      refine x_aload_n 1 dX5_calls_69 rfl ?_
      obtain ⟨g4, hq⟩ := hq
      obtain ⟨g5, g6, hq⟩ := hq
      refine x_callV (Yc := YX5_required) (as := [.int (fI h x2 2051), rv x1]) (st := []) q2778 mvX5_required g4 rfl dX5_calls_70 (xle (xal1 (rv_cat _) (xal1 rfl (xal1 (rv_cat _) xal0))) (by decide)) (xfr g5) (xlo xsw0 (by decide) g6) (xKv hq (fun h7 hq e9 => ?_) (fun _ _ q _ => q))
      replace hq := hq e9
      refine x_goto (tgt := 87) dX5_calls_73 (by decide) ?_
      refine xP.pick (lv' := []) [] rfl ?_
      exact uX5_calls_87 hq
set_option maxRecDepth 100000 in
def bX5_calls (G : xG) (fr lo : Nat) (x0 : Nat) (x1 : Nat) (h : xH) (Q : Outcome → xH → Prop) : Prop := tg h x0 = 6 ∧ 1 ≤ fr ∧ 15 ≤ lo ∧ xRr G YX5_find (fr - 1) (lo - 15) [rv x0, rv x1] h (fun x5 h4 => xext h h4 → tg h4 x5 = 9 ∧ ((¬ (fI h4 x5 2048) = 3 → bX5_calls_47 G fr lo x0 x1 x5 h4 Q) ∧ ((fI h4 x5 2048) = 3 → tg h4 (fR h4 x5 2059) = 17 ∧ ((¬ (fI h4 (fR h4 x5 2059) 4097) = 0 → bX5_calls_47 G fr lo x0 x1 x5 h4 Q) ∧ ((fI h4 (fR h4 x5 2059) 4097) = 0 → tg h4 x1 = 16 ∧ 1 ≤ fr ∧ 16 ≤ lo ∧ xRi G YX15_place (fr - 1) (lo - 16) [rv x1] h4 (fun x15 h14 => xext h4 h14 → 1 ≤ fr ∧ 19 ≤ lo ∧ xRv G YX5_call (fr - 1) (lo - 19) [rv x0, rv (fR h4 x5 2059), rv (fR h4 x1 3842), .int (fI h4 x1 3845), .int x15] h14 (fun h21 => xext h14 h21 → bX5_calls_87 G fr lo h21 Q) (fun r h2 => Q (.threw r) h2)) (fun r h2 => Q (.threw r) h2)))))) (fun r h2 => Q (.threw r) h2)
set_option maxRecDepth 100000 in
theorem uX5_calls {G : xG} {fr lo : Nat} {x0 : Nat} {x1 : Nat} {h : xH} {Q : Outcome → xH → Prop} (hq : bX5_calls G fr lo x0 x1 h Q) : xP G YX5_calls fr lo 0 [(0, rv x0), (1, rv x1)] [] h Q := by
  unfold bX5_calls at hq
  refine x_aload_n 0 dX5_calls_0 rfl ?_
  refine x_aload_n 1 dX5_calls_1 rfl ?_
  obtain ⟨g1, hq⟩ := hq
  obtain ⟨g2, g3, hq⟩ := hq
  refine x_callV (Yc := YX5_find) (as := [rv x1]) (st := []) q2246 mvX5_find g1 rfl dX5_calls_2 (xle (xal1 (rv_cat _) (xal1 (rv_cat _) xal0)) (by decide)) (xfr g2) (xlo xsw0 (by decide) g3) (xKr hq (fun x5 h4 hq e6 => ?_) (fun _ _ q _ => q))
  replace hq := hq e6
  refine x_astore_n (lv' := [(2, rv x5), (0, rv x0), (1, rv x1)]) dX5_calls_5 (by decide) (by first | rfl | (simp [rv_cat, Value.category]; done) | (simp [rv_cat, Value.category]; decide)) ?_
  refine x_aload_n 0 dX5_calls_6 rfl ?_
  obtain ⟨g7, hq⟩ := hq
  refine x_getN (v := .int (fI h4 x5 2048)) gfX5_199 dX5_calls_7 g7 rfl ?_
  refine x_iconst (v := 3) dX5_calls_10 (by decide) ?_
  refine x_icmp_ne (tgt := 47) dX5_calls_11 (by decide) (fun c8 => ?_) (fun c8 => ?_)
  · replace hq := hq.1 c8
    refine xP.pick (lv' := [(0, rv x0), (1, rv x1), (2, rv x5)]) [1, 2, 0] rfl ?_
    exact uX5_calls_47 hq
  · replace hq := hq.2 c8
    refine x_aload_n 0 dX5_calls_14 rfl ?_
    refine x_getN (v := rv (fR h4 x5 2059)) gfX5_492 dX5_calls_15 g7 rfl ?_
    obtain ⟨g9, hq⟩ := hq
    refine x_getN (v := .int (fI h4 (fR h4 x5 2059) 4097)) gfX5_525 dX5_calls_18 g9 rfl ?_
    refine x_if_ne (tgt := 47) dX5_calls_21 (by decide) (fun c10 => ?_) (fun c10 => ?_)
    · replace hq := hq.1 c10
      refine xP.pick (lv' := [(0, rv x0), (1, rv x1), (2, rv x5)]) [1, 2, 0] rfl ?_
      exact uX5_calls_47 hq
    · replace hq := hq.2 c10
      refine x_aload_n 1 dX5_calls_24 rfl ?_
      refine x_aload_n 0 dX5_calls_25 rfl ?_
      refine x_getN (v := rv (fR h4 x5 2059)) gfX5_492 dX5_calls_26 g7 rfl ?_
      refine x_aload_n 2 dX5_calls_29 rfl ?_
      obtain ⟨g11, hq⟩ := hq
      refine x_getN (v := rv (fR h4 x1 3842)) gfX5_251 dX5_calls_30 g11 rfl ?_
      refine x_aload_n 2 dX5_calls_33 rfl ?_
      refine x_getN (v := .int (fI h4 x1 3845)) gfX5_293 dX5_calls_34 g11 rfl ?_
      refine x_aload_n 2 dX5_calls_37 rfl ?_
      obtain ⟨g12, g13, hq⟩ := hq
      refine x_callV (Yc := YX15_place) (as := []) (st := [.int (fI h4 x1 3845), rv (fR h4 x1 3842), rv (fR h4 x5 2059), rv x0]) q2013 mvX15_place g11 rfl dX5_calls_38 (xle (xal1 (rv_cat _) xal0) (by decide)) (xfr g12) (xlo (xsw1 rfl (xsw1 (rv_cat _) (xsw1 (rv_cat _) (xsw1 (rv_cat _) xsw0)))) (by decide) g13) (xKi hq (fun x15 h14 hq e16 => ?_) (fun _ _ q _ => q))
      replace hq := hq e16
      have t17 : tg h4 x0 = 6 := e6.tg g1 (by decide)
      have t18 : tg h14 x0 = 6 := e16.tg t17 (by decide)
      obtain ⟨g19, g20, hq⟩ := hq
      refine x_callV (Yc := YX5_call) (as := [rv (fR h4 x5 2059), rv (fR h4 x1 3842), .int (fI h4 x1 3845), .int x15]) (st := []) q2557 mvX5_call t18 rfl dX5_calls_41 (xle (xal1 (rv_cat _) (xal1 (rv_cat _) (xal1 (rv_cat _) (xal1 rfl (xal1 rfl xal0))))) (by decide)) (xfr g19) (xlo xsw0 (by decide) g20) (xKv hq (fun h21 hq e23 => ?_) (fun _ _ q _ => q))
      replace hq := hq e23
      refine x_goto (tgt := 87) dX5_calls_44 (by decide) ?_
      refine xP.pick (lv' := []) [] rfl ?_
      exact uX5_calls_87 hq
theorem rX5_calls {G : xG} {fr lo : Nat} {x0 : Nat} {x1 : Nat} {h : xH} {Q : Outcome → xH → Prop} (hq : bX5_calls G fr lo x0 x1 h Q) : xR G YX5_calls fr lo [rv x0, rv x1] h Q := by
  show xP _ _ _ _ _ (lv_args 0 _) _ _ _
  rw [show lv_args 0 [rv x0, rv x1] = [(0, rv x0), (1, rv x1)] from (xla1 (rv_cat _) (xla1 (rv_cat _) xla0))]
  exact uX5_calls hq
set_option maxRecDepth 100000 in
theorem dX5_required_0 : decode cX5_required 0 = .ok (.iload_n 1, 1) := by decide +kernel
set_option maxRecDepth 100000 in
theorem dX5_required_1 : decode cX5_required 1 = .ok (.iconst 4, 1) := by decide +kernel
set_option maxRecDepth 100000 in
theorem dX5_required_2 : decode cX5_required 2 = .ok (.if_icmp .ge 10, 3) := by decide +kernel
set_option maxRecDepth 100000 in
theorem dX5_required_5 : decode cX5_required 5 = .ok (.aload_n 0, 1) := by decide +kernel
set_option maxRecDepth 100000 in
theorem dX5_required_6 : decode cX5_required 6 = .ok (.iload_n 1, 1) := by decide +kernel
set_option maxRecDepth 100000 in
theorem dX5_required_7 : decode cX5_required 7 = .ok (.aload_n 2, 1) := by decide +kernel
set_option maxRecDepth 100000 in
theorem dX5_required_8 : decode cX5_required 8 = .ok (.invokevirtual 762, 3) := by decide +kernel
set_option maxRecDepth 100000 in
theorem dX5_required_11 : decode cX5_required 11 = .ok (.return_, 1) := by decide +kernel
set_option maxRecDepth 100000 in
theorem dX5_required_12 : decode cX5_required 12 = .ok (.aload_n 2, 1) := by decide +kernel
set_option maxRecDepth 100000 in
theorem dX5_required_13 : decode cX5_required 13 = .ok (.getfield 293, 3) := by decide +kernel
set_option maxRecDepth 100000 in
theorem dX5_required_16 : decode cX5_required 16 = .ok (.iconst 1, 1) := by decide +kernel
set_option maxRecDepth 100000 in
theorem dX5_required_17 : decode cX5_required 17 = .ok (.if_icmp .eq 14, 3) := by decide +kernel
set_option maxRecDepth 100000 in
theorem dX5_required_20 : decode cX5_required 20 = .ok (.aload_n 0, 1) := by decide +kernel
set_option maxRecDepth 100000 in
theorem dX5_required_21 : decode cX5_required 21 = .ok (.bipush 9, 2) := by decide +kernel
set_option maxRecDepth 100000 in
theorem dX5_required_23 : decode cX5_required 23 = .ok (.aload_n 2, 1) := by decide +kernel
set_option maxRecDepth 100000 in
theorem dX5_required_24 : decode cX5_required 24 = .ok (.invokevirtual 192, 3) := by decide +kernel
set_option maxRecDepth 100000 in
theorem dX5_required_27 : decode cX5_required 27 = .ok (.invokevirtual 163, 3) := by decide +kernel
set_option maxRecDepth 100000 in
theorem dX5_required_30 : decode cX5_required 30 = .ok (.athrow, 1) := by decide +kernel
set_option maxRecDepth 100000 in
theorem dX5_required_31 : decode cX5_required 31 = .ok (.aload_n 2, 1) := by decide +kernel
set_option maxRecDepth 100000 in
theorem dX5_required_32 : decode cX5_required 32 = .ok (.getfield 251, 3) := by decide +kernel
set_option maxRecDepth 100000 in
theorem dX5_required_35 : decode cX5_required 35 = .ok (.getfield 251, 3) := by decide +kernel
set_option maxRecDepth 100000 in
theorem dX5_required_38 : decode cX5_required 38 = .ok (.astore_n 3, 1) := by decide +kernel
set_option maxRecDepth 100000 in
theorem dX5_required_39 : decode cX5_required 39 = .ok (.iload_n 1, 1) := by decide +kernel
set_option maxRecDepth 100000 in
theorem dX5_required_40 : decode cX5_required 40 = .ok (.bipush 8, 2) := by decide +kernel
set_option maxRecDepth 100000 in
theorem dX5_required_42 : decode cX5_required 42 = .ok (.if_icmp .ge 126, 3) := by decide +kernel
set_option maxRecDepth 100000 in
theorem dX5_required_45 : decode cX5_required 45 = .ok (.aload_n 0, 1) := by decide +kernel
set_option maxRecDepth 100000 in
theorem dX5_required_46 : decode cX5_required 46 = .ok (.aload_n 3, 1) := by decide +kernel
set_option maxRecDepth 100000 in
theorem dX5_required_47 : decode cX5_required 47 = .ok (.invokevirtual 765, 3) := by decide +kernel
set_option maxRecDepth 100000 in
theorem dX5_required_50 : decode cX5_required 50 = .ok (.astore 4, 2) := by decide +kernel
set_option maxRecDepth 100000 in
theorem dX5_required_52 : decode cX5_required 52 = .ok (.aload 4, 2) := by decide +kernel
set_option maxRecDepth 100000 in
theorem dX5_required_54 : decode cX5_required 54 = .ok (.ifnonnull 22, 3) := by decide +kernel
set_option maxRecDepth 100000 in
theorem dX5_required_57 : decode cX5_required 57 = .ok (.aload_n 0, 1) := by decide +kernel
set_option maxRecDepth 100000 in
theorem dX5_required_58 : decode cX5_required 58 = .ok (.aload_n 3, 1) := by decide +kernel
set_option maxRecDepth 100000 in
theorem dX5_required_59 : decode cX5_required 59 = .ok (.invokevirtual 654, 3) := by decide +kernel
set_option maxRecDepth 100000 in
theorem dX5_required_62 : decode cX5_required 62 = .ok (.astore 5, 2) := by decide +kernel
set_option maxRecDepth 100000 in
theorem dX5_required_64 : decode cX5_required 64 = .ok (.aload_n 0, 1) := by decide +kernel
set_option maxRecDepth 100000 in
theorem dX5_required_65 : decode cX5_required 65 = .ok (.bipush 7, 2) := by decide +kernel
set_option maxRecDepth 100000 in
theorem dX5_required_67 : decode cX5_required 67 = .ok (.aload_n 0, 1) := by decide +kernel
set_option maxRecDepth 100000 in
theorem dX5_required_68 : decode cX5_required 68 = .ok (.aload_n 3, 1) := by decide +kernel
set_option maxRecDepth 100000 in
theorem dX5_required_69 : decode cX5_required 69 = .ok (.invokevirtual 624, 3) := by decide +kernel
set_option maxRecDepth 100000 in
theorem dX5_required_72 : decode cX5_required 72 = .ok (.invokevirtual 163, 3) := by decide +kernel
set_option maxRecDepth 100000 in
theorem dX5_required_75 : decode cX5_required 75 = .ok (.athrow, 1) := by decide +kernel
set_option maxRecDepth 100000 in
theorem dX5_required_76 : decode cX5_required 76 = .ok (.aload_n 0, 1) := by decide +kernel
set_option maxRecDepth 100000 in
theorem dX5_required_77 : decode cX5_required 77 = .ok (.aload 4, 2) := by decide +kernel
set_option maxRecDepth 100000 in
theorem dX5_required_79 : decode cX5_required 79 = .ok (.invokevirtual 674, 3) := by decide +kernel
set_option maxRecDepth 100000 in
theorem dX5_required_82 : decode cX5_required 82 = .ok (.aload_n 3, 1) := by decide +kernel
set_option maxRecDepth 100000 in
theorem dX5_required_83 : decode cX5_required 83 = .ok (.getfield 307, 3) := by decide +kernel
set_option maxRecDepth 100000 in
theorem dX5_required_86 : decode cX5_required 86 = .ok (.ifnull 17, 3) := by decide +kernel
set_option maxRecDepth 100000 in
theorem dX5_required_89 : decode cX5_required 89 = .ok (.aload_n 0, 1) := by decide +kernel
set_option maxRecDepth 100000 in
theorem dX5_required_90 : decode cX5_required 90 = .ok (.bipush 7, 2) := by decide +kernel
set_option maxRecDepth 100000 in
theorem dX5_required_92 : decode cX5_required 92 = .ok (.aload_n 3, 1) := by decide +kernel
set_option maxRecDepth 100000 in
theorem dX5_required_93 : decode cX5_required 93 = .ok (.getfield 307, 3) := by decide +kernel
set_option maxRecDepth 100000 in
theorem dX5_required_96 : decode cX5_required 96 = .ok (.invokevirtual 192, 3) := by decide +kernel
set_option maxRecDepth 100000 in
theorem dX5_required_99 : decode cX5_required 99 = .ok (.invokevirtual 163, 3) := by decide +kernel
set_option maxRecDepth 100000 in
theorem dX5_required_102 : decode cX5_required 102 = .ok (.athrow, 1) := by decide +kernel
set_option maxRecDepth 100000 in
theorem dX5_required_103 : decode cX5_required 103 = .ok (.aload_n 0, 1) := by decide +kernel
set_option maxRecDepth 100000 in
theorem dX5_required_104 : decode cX5_required 104 = .ok (.getfield 62, 3) := by decide +kernel
set_option maxRecDepth 100000 in
theorem dX5_required_107 : decode cX5_required 107 = .ok (.bipush 82, 2) := by decide +kernel
set_option maxRecDepth 100000 in
theorem dX5_required_109 : decode cX5_required 109 = .ok (.iload_n 1, 1) := by decide +kernel
set_option maxRecDepth 100000 in
theorem dX5_required_110 : decode cX5_required 110 = .ok (.iadd, 1) := by decide +kernel
set_option maxRecDepth 100000 in
theorem dX5_required_111 : decode cX5_required 111 = .ok (.iconst 4, 1) := by decide +kernel
set_option maxRecDepth 100000 in
theorem dX5_required_112 : decode cX5_required 112 = .ok (.isub, 1) := by decide +kernel
set_option maxRecDepth 100000 in
theorem dX5_required_113 : decode cX5_required 113 = .ok (.aload 4, 2) := by decide +kernel
set_option maxRecDepth 100000 in
theorem dX5_required_115 : decode cX5_required 115 = .ok (.getfield 249, 3) := by decide +kernel
set_option maxRecDepth 100000 in
theorem dX5_required_118 : decode cX5_required 118 = .ok (.invokevirtual 768, 3) := by decide +kernel
set_option maxRecDepth 100000 in
theorem dX5_required_121 : decode cX5_required 121 = .ok (.ifCond .eq 7, 3) := by decide +kernel
set_option maxRecDepth 100000 in
theorem dX5_required_124 : decode cX5_required 124 = .ok (.iconst 1, 1) := by decide +kernel
set_option maxRecDepth 100000 in
theorem dX5_required_125 : decode cX5_required 125 = .ok (.goto 4, 3) := by decide +kernel
set_option maxRecDepth 100000 in
theorem dX5_required_128 : decode cX5_required 128 = .ok (.iconst 0, 1) := by decide +kernel
set_option maxRecDepth 100000 in
theorem dX5_required_129 : decode cX5_required 129 = .ok (.aload 4, 2) := by decide +kernel
set_option maxRecDepth 100000 in
theorem dX5_required_131 : decode cX5_required 131 = .ok (.getfield 249, 3) := by decide +kernel
set_option maxRecDepth 100000 in
theorem dX5_required_134 : decode cX5_required 134 = .ok (.getfield 286, 3) := by decide +kernel
set_option maxRecDepth 100000 in
theorem dX5_required_137 : decode cX5_required 137 = .ok (.getfield 66, 3) := by decide +kernel
set_option maxRecDepth 100000 in
theorem dX5_required_140 : decode cX5_required 140 = .ok (.aload 4, 2) := by decide +kernel
set_option maxRecDepth 100000 in
theorem dX5_required_142 : decode cX5_required 142 = .ok (.getfield 249, 3) := by decide +kernel
set_option maxRecDepth 100000 in
theorem dX5_required_145 : decode cX5_required 145 = .ok (.getfield 286, 3) := by decide +kernel
set_option maxRecDepth 100000 in
theorem dX5_required_148 : decode cX5_required 148 = .ok (.invokevirtual 771, 3) := by decide +kernel
set_option maxRecDepth 100000 in
theorem dX5_required_151 : decode cX5_required 151 = .ok (.ifCond .eq 7, 3) := by decide +kernel
set_option maxRecDepth 100000 in
theorem dX5_required_154 : decode cX5_required 154 = .ok (.iconst 1, 1) := by decide +kernel
set_option maxRecDepth 100000 in
theorem dX5_required_155 : decode cX5_required 155 = .ok (.goto 4, 3) := by decide +kernel
set_option maxRecDepth 100000 in
theorem dX5_required_158 : decode cX5_required 158 = .ok (.iconst 0, 1) := by decide +kernel
set_option maxRecDepth 100000 in
theorem dX5_required_159 : decode cX5_required 159 = .ok (.aload_n 2, 1) := by decide +kernel
set_option maxRecDepth 100000 in
theorem dX5_required_160 : decode cX5_required 160 = .ok (.invokevirtual 192, 3) := by decide +kernel
set_option maxRecDepth 100000 in
theorem dX5_required_163 : decode cX5_required 163 = .ok (.invokevirtual 506, 3) := by decide +kernel
set_option maxRecDepth 100000 in
theorem dX5_required_166 : decode cX5_required 166 = .ok (.pop, 1) := by decide +kernel
set_option maxRecDepth 100000 in
theorem dX5_required_167 : decode cX5_required 167 = .ok (.return_, 1) := by decide +kernel
set_option maxRecDepth 100000 in
theorem dX5_required_168 : decode cX5_required 168 = .ok (.iload_n 1, 1) := by decide +kernel
set_option maxRecDepth 100000 in
theorem dX5_required_169 : decode cX5_required 169 = .ok (.bipush 8, 2) := by decide +kernel
set_option maxRecDepth 100000 in
theorem dX5_required_171 : decode cX5_required 171 = .ok (.if_icmp .ne 32, 3) := by decide +kernel
set_option maxRecDepth 100000 in
theorem dX5_required_174 : decode cX5_required 174 = .ok (.aload_n 0, 1) := by decide +kernel
set_option maxRecDepth 100000 in
theorem dX5_required_175 : decode cX5_required 175 = .ok (.aload_n 3, 1) := by decide +kernel
set_option maxRecDepth 100000 in
theorem dX5_required_176 : decode cX5_required 176 = .ok (.invokevirtual 688, 3) := by decide +kernel
set_option maxRecDepth 100000 in
theorem dX5_required_179 : decode cX5_required 179 = .ok (.astore 4, 2) := by decide +kernel
set_option maxRecDepth 100000 in
theorem dX5_required_181 : decode cX5_required 181 = .ok (.aload 4, 2) := by decide +kernel
set_option maxRecDepth 100000 in
theorem dX5_required_183 : decode cX5_required 183 = .ok (.getfield 289, 3) := by decide +kernel
set_option maxRecDepth 100000 in
theorem dX5_required_186 : decode cX5_required 186 = .ok (.bipush 9, 2) := by decide +kernel
set_option maxRecDepth 100000 in
theorem dX5_required_188 : decode cX5_required 188 = .ok (.if_icmp .eq 42, 3) := by decide +kernel
set_option maxRecDepth 100000 in
theorem dX5_required_191 : decode cX5_required 191 = .ok (.aload_n 0, 1) := by decide +kernel
set_option maxRecDepth 100000 in
theorem dX5_required_192 : decode cX5_required 192 = .ok (.bipush 7, 2) := by decide +kernel
set_option maxRecDepth 100000 in
theorem dX5_required_194 : decode cX5_required 194 = .ok (.aload_n 0, 1) := by decide +kernel
set_option maxRecDepth 100000 in
theorem dX5_required_195 : decode cX5_required 195 = .ok (.aload_n 3, 1) := by decide +kernel
set_option maxRecDepth 100000 in
theorem dX5_required_196 : decode cX5_required 196 = .ok (.invokevirtual 624, 3) := by decide +kernel
set_option maxRecDepth 100000 in
theorem dX5_required_199 : decode cX5_required 199 = .ok (.invokevirtual 163, 3) := by decide +kernel
set_option maxRecDepth 100000 in
theorem dX5_required_202 : decode cX5_required 202 = .ok (.athrow, 1) := by decide +kernel
set_option maxRecDepth 100000 in
theorem dX5_required_203 : decode cX5_required 203 = .ok (.aload_n 0, 1) := by decide +kernel
set_option maxRecDepth 100000 in
theorem dX5_required_204 : decode cX5_required 204 = .ok (.aload_n 3, 1) := by decide +kernel
set_option maxRecDepth 100000 in
theorem dX5_required_205 : decode cX5_required 205 = .ok (.invokevirtual 654, 3) := by decide +kernel
set_option maxRecDepth 100000 in
theorem dX5_required_208 : decode cX5_required 208 = .ok (.astore 4, 2) := by decide +kernel
set_option maxRecDepth 100000 in
theorem dX5_required_210 : decode cX5_required 210 = .ok (.aload 4, 2) := by decide +kernel
set_option maxRecDepth 100000 in
theorem dX5_required_212 : decode cX5_required 212 = .ok (.invokevirtual 774, 3) := by decide +kernel
set_option maxRecDepth 100000 in
theorem dX5_required_215 : decode cX5_required 215 = .ok (.ifCond .ne 15, 3) := by decide +kernel
set_option maxRecDepth 100000 in
theorem dX5_required_218 : decode cX5_required 218 = .ok (.aload_n 0, 1) := by decide +kernel
set_option maxRecDepth 100000 in
theorem dX5_required_219 : decode cX5_required 219 = .ok (.bipush 7, 2) := by decide +kernel
set_option maxRecDepth 100000 in
theorem dX5_required_221 : decode cX5_required 221 = .ok (.aload_n 0, 1) := by decide +kernel
set_option maxRecDepth 100000 in
theorem dX5_required_222 : decode cX5_required 222 = .ok (.aload_n 3, 1) := by decide +kernel
set_option maxRecDepth 100000 in
theorem dX5_required_223 : decode cX5_required 223 = .ok (.invokevirtual 624, 3) := by decide +kernel
set_option maxRecDepth 100000 in
theorem dX5_required_226 : decode cX5_required 226 = .ok (.invokevirtual 163, 3) := by decide +kernel
set_option maxRecDepth 100000 in
theorem dX5_required_229 : decode cX5_required 229 = .ok (.athrow, 1) := by decide +kernel
set_option maxRecDepth 100000 in
theorem dX5_required_230 : decode cX5_required 230 = .ok (.aload_n 3, 1) := by decide +kernel
set_option maxRecDepth 100000 in
theorem dX5_required_231 : decode cX5_required 231 = .ok (.getfield 307, 3) := by decide +kernel
set_option maxRecDepth 100000 in
theorem dX5_required_234 : decode cX5_required 234 = .ok (.ifnull 17, 3) := by decide +kernel
set_option maxRecDepth 100000 in
theorem dX5_required_237 : decode cX5_required 237 = .ok (.aload_n 0, 1) := by decide +kernel
set_option maxRecDepth 100000 in
theorem dX5_required_238 : decode cX5_required 238 = .ok (.bipush 7, 2) := by decide +kernel
set_option maxRecDepth 100000 in
theorem dX5_required_240 : decode cX5_required 240 = .ok (.aload_n 3, 1) := by decide +kernel
set_option maxRecDepth 100000 in
theorem dX5_required_241 : decode cX5_required 241 = .ok (.getfield 307, 3) := by decide +kernel
set_option maxRecDepth 100000 in
theorem dX5_required_244 : decode cX5_required 244 = .ok (.invokevirtual 192, 3) := by decide +kernel
set_option maxRecDepth 100000 in
theorem dX5_required_247 : decode cX5_required 247 = .ok (.invokevirtual 163, 3) := by decide +kernel
set_option maxRecDepth 100000 in
theorem dX5_required_250 : decode cX5_required 250 = .ok (.athrow, 1) := by decide +kernel
set_option maxRecDepth 100000 in
theorem dX5_required_251 : decode cX5_required 251 = .ok (.aload_n 0, 1) := by decide +kernel
set_option maxRecDepth 100000 in
theorem dX5_required_252 : decode cX5_required 252 = .ok (.getfield 62, 3) := by decide +kernel
set_option maxRecDepth 100000 in
theorem dX5_required_255 : decode cX5_required 255 = .ok (.iload_n 1, 1) := by decide +kernel
set_option maxRecDepth 100000 in
theorem dX5_required_256 : decode cX5_required 256 = .ok (.bipush 8, 2) := by decide +kernel
set_option maxRecDepth 100000 in
theorem dX5_required_258 : decode cX5_required 258 = .ok (.if_icmp .ne 8, 3) := by decide +kernel
set_option maxRecDepth 100000 in
theorem dX5_required_261 : decode cX5_required 261 = .ok (.bipush 86, 2) := by decide +kernel
set_option maxRecDepth 100000 in
theorem dX5_required_263 : decode cX5_required 263 = .ok (.goto 5, 3) := by decide +kernel
set_option maxRecDepth 100000 in
theorem dX5_required_266 : decode cX5_required 266 = .ok (.bipush 87, 2) := by decide +kernel
set_option maxRecDepth 100000 in
theorem dX5_required_268 : decode cX5_required 268 = .ok (.iload_n 1, 1) := by decide +kernel
set_option maxRecDepth 100000 in
theorem dX5_required_269 : decode cX5_required 269 = .ok (.bipush 8, 2) := by decide +kernel
set_option maxRecDepth 100000 in
theorem dX5_required_271 : decode cX5_required 271 = .ok (.if_icmp .ne 14, 3) := by decide +kernel
set_option maxRecDepth 100000 in
theorem dX5_required_274 : decode cX5_required 274 = .ok (.aload 4, 2) := by decide +kernel
set_option maxRecDepth 100000 in
theorem dX5_required_276 : decode cX5_required 276 = .ok (.getfield 286, 3) := by decide +kernel
set_option maxRecDepth 100000 in
theorem dX5_required_279 : decode cX5_required 279 = .ok (.getfield 66, 3) := by decide +kernel
set_option maxRecDepth 100000 in
theorem dX5_required_282 : decode cX5_required 282 = .ok (.goto 4, 3) := by decide +kernel
set_option maxRecDepth 100000 in
theorem dX5_required_285 : decode cX5_required 285 = .ok (.iconst 0, 1) := by decide +kernel
set_option maxRecDepth 100000 in
theorem dX5_required_286 : decode cX5_required 286 = .ok (.iconst 0, 1) := by decide +kernel
set_option maxRecDepth 100000 in
theorem dX5_required_287 : decode cX5_required 287 = .ok (.iconst 0, 1) := by decide +kernel
set_option maxRecDepth 100000 in
theorem dX5_required_288 : decode cX5_required 288 = .ok (.aload_n 2, 1) := by decide +kernel
set_option maxRecDepth 100000 in
theorem dX5_required_289 : decode cX5_required 289 = .ok (.invokevirtual 192, 3) := by decide +kernel
set_option maxRecDepth 100000 in
theorem dX5_required_292 : decode cX5_required 292 = .ok (.invokevirtual 506, 3) := by decide +kernel
set_option maxRecDepth 100000 in
theorem dX5_required_295 : decode cX5_required 295 = .ok (.pop, 1) := by decide +kernel
set_option maxRecDepth 100000 in
theorem dX5_required_296 : decode cX5_required 296 = .ok (.return_, 1) := by decide +kernel
set_option maxRecDepth 100000 in
def bX5_required_286 (G : xG) (fr lo : Nat) (x2 : Nat) (s0 : Int32) (s1 : Int32) (s2 : Nat) (h : xH) (Q : Outcome → xH → Prop) : Prop := tg h x2 = 16 ∧ 1 ≤ fr ∧ 17 ≤ lo ∧ xRi G YX15_place (fr - 1) (lo - 17) [rv x2] h (fun x5 h4 => xext h h4 → tg h4 s2 = 3 ∧ 1 ≤ fr ∧ 17 ≤ lo ∧ xRi G YX2_put (fr - 1) (lo - 17) [rv s2, .int s1, .int s0, .int 0, .int 0, .int x5] h4 (fun x11 h10 => xext h4 h10 → Q (.returned none) h10) (fun r h2 => Q (.threw r) h2)) (fun r h2 => Q (.threw r) h2)
set_option maxRecDepth 100000 in
theorem uX5_required_286 {G : xG} {fr lo : Nat} {x2 : Nat} {s0 : Int32} {s1 : Int32} {s2 : Nat} {h : xH} {Q : Outcome → xH → Prop} (hq : bX5_required_286 G fr lo x2 s0 s1 s2 h Q) : xP G YX5_required fr lo 286 [(2, rv x2)] [.int s0, .int s1, rv s2] h Q := by
  unfold bX5_required_286 at hq
  refine x_iconst (v := 0) dX5_required_286 (by decide) ?_
  refine x_iconst (v := 0) dX5_required_287 (by decide) ?_
  refine x_aload_n 0 dX5_required_288 rfl ?_
  obtain ⟨g1, hq⟩ := hq
  obtain ⟨g2, g3, hq⟩ := hq
  refine x_callV (Yc := YX15_place) (as := []) (st := [.int 0, .int 0, .int s0, .int s1, rv s2]) q2013 mvX15_place g1 rfl dX5_required_289 (xle (xal1 (rv_cat _) xal0) (by decide)) (xfr g2) (xlo (xsw1 rfl (xsw1 rfl (xsw1 rfl (xsw1 rfl (xsw1 (rv_cat _) xsw0))))) (by decide) g3) (xKi hq (fun x5 h4 hq e6 => ?_) (fun _ _ q _ => q))
  replace hq := hq e6
  obtain ⟨g7, hq⟩ := hq
  obtain ⟨g8, g9, hq⟩ := hq
  refine x_callV (Yc := YX2_put) (as := [.int s1, .int s0, .int 0, .int 0, .int x5]) (st := []) q2494 mvX2_put g7 rfl dX5_required_292 (xle (xal1 (rv_cat _) (xal1 rfl (xal1 rfl (xal1 rfl (xal1 rfl (xal1 rfl xal0)))))) (by decide)) (xfr g8) (xlo xsw0 (by decide) g9) (xKi hq (fun x11 h10 hq e12 => ?_) (fun _ _ q _ => q))
  replace hq := hq e12
  refine x_pop dX5_required_295 rfl ?_
  exact x_vret rfl dX5_required_296 hq
set_option maxRecDepth 100000 in
def bX5_required_268 (G : xG) (fr lo : Nat) (x1 : Int32) (x2 : Nat) (x4 : Nat) (s0 : Int32) (s1 : Nat) (h : xH) (Q : Outcome → xH → Prop) : Prop := ((¬ x1 = 8 → bX5_required_286 G fr lo x2 0 s0 s1 h Q) ∧ (x1 = 8 → tg h x4 = 7 ∧ tg h (fR h x4 1538) = 7 ∧ bX5_required_286 G fr lo x2 (fI h (fR h x4 1538) 1543) s0 s1 h Q))
set_option maxRecDepth 100000 in
theorem uX5_required_268 {G : xG} {fr lo : Nat} {x1 : Int32} {x2 : Nat} {x4 : Nat} {s0 : Int32} {s1 : Nat} {h : xH} {Q : Outcome → xH → Prop} (hq : bX5_required_268 G fr lo x1 x2 x4 s0 s1 h Q) : xP G YX5_required fr lo 268 [(1, .int x1), (2, rv x2), (4, rv x4)] [.int s0, rv s1] h Q := by
  unfold bX5_required_268 at hq
  refine x_iload_n 0 dX5_required_268 rfl ?_
  refine x_bipush (v := 8) dX5_required_269 (by decide) ?_
  refine x_icmp_ne (tgt := 285) dX5_required_271 (by decide) (fun c1 => ?_) (fun c1 => ?_)
  · replace hq := hq.1 c1
    refine x_iconst (v := 0) dX5_required_285 (by decide) ?_
    refine xP.pick (lv' := [(2, rv x2)]) [1] rfl ?_
    exact uX5_required_286 hq
  · replace hq := hq.2 c1
    refine x_aload 2 dX5_required_274 rfl ?_
    obtain ⟨g2, hq⟩ := hq
    refine x_getN (v := rv (fR h x4 1538)) gfX5_286 dX5_required_276 g2 rfl ?_
    obtain ⟨g3, hq⟩ := hq
    refine x_getN (v := .int (fI h (fR h x4 1538) 1543)) gfX5_66 dX5_required_279 g3 rfl ?_
    refine x_goto (tgt := 286) dX5_required_282 (by decide) ?_
    refine xP.pick (lv' := [(2, rv x2)]) [1] rfl ?_
    exact uX5_required_286 hq
set_option maxRecDepth 100000 in
def bX5_required_230 (G : xG) (fr lo : Nat) (x0 : Nat) (x1 : Int32) (x2 : Nat) (x3 : Nat) (x4 : Nat) (h : xH) (Q : Outcome → xH → Prop) : Prop := tg h x3 = 16 ∧ (((fR h x3 3844) = 0 → tg h x0 = 6 ∧ ((¬ x1 = 8 → bX5_required_268 G fr lo x1 x2 x4 87 (fR h x0 1281) h Q) ∧ (x1 = 8 → bX5_required_268 G fr lo x1 x2 x4 86 (fR h x0 1281) h Q))) ∧ (¬ (fR h x3 3844) = 0 → tg h (fR h x3 3844) = 16 ∧ 1 ≤ fr ∧ 14 ≤ lo ∧ xRi G YX15_place (fr - 1) (lo - 14) [rv (fR h x3 3844)] h (fun x9 h8 => xext h h8 → tg h8 x0 = 6 ∧ 1 ≤ fr ∧ 14 ≤ lo ∧ xRr G YX5_fault (fr - 1) (lo - 14) [rv x0, .int 7, .int x9] h8 (fun x15 h14 => xext h8 h14 → (∃ r17, x15 = r17 + 1 ∧ Q (.threw r17) h14)) (fun r h2 => Q (.threw r) h2)) (fun r h2 => Q (.threw r) h2)))
set_option maxRecDepth 100000 in
theorem uX5_required_230 {G : xG} {fr lo : Nat} {x0 : Nat} {x1 : Int32} {x2 : Nat} {x3 : Nat} {x4 : Nat} {h : xH} {Q : Outcome → xH → Prop} (hq : bX5_required_230 G fr lo x0 x1 x2 x3 x4 h Q) : xP G YX5_required fr lo 230 [(0, rv x0), (1, .int x1), (2, rv x2), (3, rv x3), (4, rv x4)] [] h Q := by
  unfold bX5_required_230 at hq
  refine x_aload_n 3 dX5_required_230 rfl ?_
  obtain ⟨g1, hq⟩ := hq
  refine x_getN (v := rv (fR h x3 3844)) gfX5_307 dX5_required_231 g1 rfl ?_
  refine x_ifnull (tgt := 251) dX5_required_234 (by decide) (fun c2 => ?_) (fun c2 => ?_)
  · replace hq := hq.1 c2
    refine x_aload_n 0 dX5_required_251 rfl ?_
    obtain ⟨g3, hq⟩ := hq
    refine x_get (v := rv (fR h x0 1281)) fdX5_62 dX5_required_252 g3 rfl ?_
    refine x_iload_n 1 dX5_required_255 rfl ?_
    refine x_bipush (v := 8) dX5_required_256 (by decide) ?_
    refine x_icmp_ne (tgt := 266) dX5_required_258 (by decide) (fun c4 => ?_) (fun c4 => ?_)
    · replace hq := hq.1 c4
      refine x_bipush (v := 87) dX5_required_266 (by decide) ?_
      refine xP.pick (lv' := [(1, .int x1), (2, rv x2), (4, rv x4)]) [1, 2, 4] rfl ?_
      exact uX5_required_268 hq
    · replace hq := hq.2 c4
      refine x_bipush (v := 86) dX5_required_261 (by decide) ?_
      refine x_goto (tgt := 268) dX5_required_263 (by decide) ?_
      refine xP.pick (lv' := [(1, .int x1), (2, rv x2), (4, rv x4)]) [1, 2, 4] rfl ?_
      exact uX5_required_268 hq
  · replace hq := hq.2 c2
    refine x_aload_n 0 dX5_required_237 rfl ?_
    refine x_bipush (v := 7) dX5_required_238 (by decide) ?_
    refine x_aload_n 3 dX5_required_240 rfl ?_
    refine x_getN (v := rv (fR h x3 3844)) gfX5_307 dX5_required_241 g1 rfl ?_
    obtain ⟨g5, hq⟩ := hq
    obtain ⟨g6, g7, hq⟩ := hq
    refine x_callV (Yc := YX15_place) (as := []) (st := [.int 7, rv x0]) q2013 mvX15_place g5 rfl dX5_required_244 (xle (xal1 (rv_cat _) xal0) (by decide)) (xfr g6) (xlo (xsw1 rfl (xsw1 (rv_cat _) xsw0)) (by decide) g7) (xKi hq (fun x9 h8 hq e10 => ?_) (fun _ _ q _ => q))
    replace hq := hq e10
    obtain ⟨g11, hq⟩ := hq
    obtain ⟨g12, g13, hq⟩ := hq
    refine x_callV (Yc := YX5_fault) (as := [.int 7, .int x9]) (st := []) q2087 mvX5_fault g11 rfl dX5_required_247 (xle (xal1 (rv_cat _) (xal1 rfl (xal1 rfl xal0))) (by decide)) (xfr g12) (xlo xsw0 (by decide) g13) (xKr hq (fun x15 h14 hq e16 => ?_) (fun _ _ q _ => q))
    replace hq := hq e16
    obtain ⟨r17, g18, hq⟩ := hq
    rw [g18]
    exact x_athrow dX5_required_250 hq
set_option maxRecDepth 100000 in
def bX5_required_159 (G : xG) (fr lo : Nat) (x2 : Nat) (s0 : Int32) (s1 : Int32) (s2 : Int32) (s3 : Int32) (s4 : Nat) (h : xH) (Q : Outcome → xH → Prop) : Prop := tg h x2 = 16 ∧ 1 ≤ fr ∧ 17 ≤ lo ∧ xRi G YX15_place (fr - 1) (lo - 17) [rv x2] h (fun x5 h4 => xext h h4 → tg h4 s4 = 3 ∧ 1 ≤ fr ∧ 17 ≤ lo ∧ xRi G YX2_put (fr - 1) (lo - 17) [rv s4, .int s3, .int s2, .int s1, .int s0, .int x5] h4 (fun x11 h10 => xext h4 h10 → Q (.returned none) h10) (fun r h2 => Q (.threw r) h2)) (fun r h2 => Q (.threw r) h2)
set_option maxRecDepth 100000 in
theorem uX5_required_159 {G : xG} {fr lo : Nat} {x2 : Nat} {s0 : Int32} {s1 : Int32} {s2 : Int32} {s3 : Int32} {s4 : Nat} {h : xH} {Q : Outcome → xH → Prop} (hq : bX5_required_159 G fr lo x2 s0 s1 s2 s3 s4 h Q) : xP G YX5_required fr lo 159 [(2, rv x2)] [.int s0, .int s1, .int s2, .int s3, rv s4] h Q := by
  unfold bX5_required_159 at hq
  refine x_aload_n 0 dX5_required_159 rfl ?_
  obtain ⟨g1, hq⟩ := hq
  obtain ⟨g2, g3, hq⟩ := hq
  refine x_callV (Yc := YX15_place) (as := []) (st := [.int s0, .int s1, .int s2, .int s3, rv s4]) q2013 mvX15_place g1 rfl dX5_required_160 (xle (xal1 (rv_cat _) xal0) (by decide)) (xfr g2) (xlo (xsw1 rfl (xsw1 rfl (xsw1 rfl (xsw1 rfl (xsw1 (rv_cat _) xsw0))))) (by decide) g3) (xKi hq (fun x5 h4 hq e6 => ?_) (fun _ _ q _ => q))
  replace hq := hq e6
  obtain ⟨g7, hq⟩ := hq
  obtain ⟨g8, g9, hq⟩ := hq
  refine x_callV (Yc := YX2_put) (as := [.int s3, .int s2, .int s1, .int s0, .int x5]) (st := []) q2494 mvX2_put g7 rfl dX5_required_163 (xle (xal1 (rv_cat _) (xal1 rfl (xal1 rfl (xal1 rfl (xal1 rfl (xal1 rfl xal0)))))) (by decide)) (xfr g8) (xlo xsw0 (by decide) g9) (xKi hq (fun x11 h10 hq e12 => ?_) (fun _ _ q _ => q))
  replace hq := hq e12
  refine x_pop dX5_required_166 rfl ?_
  exact x_vret rfl dX5_required_167 hq
set_option maxRecDepth 100000 in
def bX5_required_129 (G : xG) (fr lo : Nat) (x2 : Nat) (x4 : Nat) (s0 : Int32) (s1 : Int32) (s2 : Nat) (h : xH) (Q : Outcome → xH → Prop) : Prop := tg h x4 = 9 ∧ tg h (fR h x4 2050) = 7 ∧ tg h (fR h (fR h x4 2050) 1538) = 7 ∧ 1 ≤ fr ∧ 16 ≤ lo ∧ xRi G YX6_isStructure (fr - 1) (lo - 16) [rv (fR h (fR h x4 2050) 1538)] h (fun x7 h6 => xext h h6 → ((x7 = 0 → bX5_required_159 G fr lo x2 0 (fI h (fR h (fR h x4 2050) 1538) 1543) s0 s1 s2 h6 Q) ∧ (¬ x7 = 0 → bX5_required_159 G fr lo x2 1 (fI h (fR h (fR h x4 2050) 1538) 1543) s0 s1 s2 h6 Q))) (fun r h2 => Q (.threw r) h2)
set_option maxRecDepth 100000 in
theorem uX5_required_129 {G : xG} {fr lo : Nat} {x2 : Nat} {x4 : Nat} {s0 : Int32} {s1 : Int32} {s2 : Nat} {h : xH} {Q : Outcome → xH → Prop} (hq : bX5_required_129 G fr lo x2 x4 s0 s1 s2 h Q) : xP G YX5_required fr lo 129 [(2, rv x2), (4, rv x4)] [.int s0, .int s1, rv s2] h Q := by
  unfold bX5_required_129 at hq
  refine x_aload 1 dX5_required_129 rfl ?_
  obtain ⟨g1, hq⟩ := hq
  refine x_getN (v := rv (fR h x4 2050)) gfX5_249 dX5_required_131 g1 rfl ?_
  obtain ⟨g2, hq⟩ := hq
  refine x_getN (v := rv (fR h (fR h x4 2050) 1538)) gfX5_286 dX5_required_134 g2 rfl ?_
  obtain ⟨g3, hq⟩ := hq
  refine x_getN (v := .int (fI h (fR h (fR h x4 2050) 1538) 1543)) gfX5_66 dX5_required_137 g3 rfl ?_
  refine x_aload 1 dX5_required_140 rfl ?_
  refine x_getN (v := rv (fR h x4 2050)) gfX5_249 dX5_required_142 g1 rfl ?_
  refine x_getN (v := rv (fR h (fR h x4 2050) 1538)) gfX5_286 dX5_required_145 g2 rfl ?_
  obtain ⟨g4, g5, hq⟩ := hq
  refine x_callV (Yc := YX6_isStructure) (as := []) (st := [.int (fI h (fR h (fR h x4 2050) 1538) 1543), .int s0, .int s1, rv s2]) q2794 mvX6_isStructure g3 rfl dX5_required_148 (xle (xal1 (rv_cat _) xal0) (by decide)) (xfr g4) (xlo (xsw1 rfl (xsw1 rfl (xsw1 rfl (xsw1 (rv_cat _) xsw0)))) (by decide) g5) (xKi hq (fun x7 h6 hq e8 => ?_) (fun _ _ q _ => q))
  replace hq := hq e8
  refine x_if_eq (tgt := 158) dX5_required_151 (by decide) (fun c9 => ?_) (fun c9 => ?_)
  · replace hq := hq.1 c9
    refine x_iconst (v := 0) dX5_required_158 (by decide) ?_
    refine xP.pick (lv' := [(2, rv x2)]) [0] rfl ?_
    exact uX5_required_159 hq
  · replace hq := hq.2 c9
    refine x_iconst (v := 1) dX5_required_154 (by decide) ?_
    refine x_goto (tgt := 159) dX5_required_155 (by decide) ?_
    refine xP.pick (lv' := [(2, rv x2)]) [0] rfl ?_
    exact uX5_required_159 hq
set_option maxRecDepth 100000 in
def bX5_required (G : xG) (fr lo : Nat) (x0 : Nat) (x1 : Int32) (x2 : Nat) (h : xH) (Q : Outcome → xH → Prop) : Prop := ((4 ≤ x1 → tg h x2 = 16 ∧ (((fI h x2 3845) = 1 → tg h (fR h x2 3842) = 16 ∧ ((8 ≤ x1 → ((¬ x1 = 8 → tg h x0 = 6 ∧ 1 ≤ fr ∧ 13 ≤ lo ∧ xRr G YX5_expression (fr - 1) (lo - 13) [rv x0, rv (fR h (fR h x2 3842) 3842)] h (fun x11 h10 => xext h h10 → tg h10 x11 = 7 ∧ 1 ≤ fr ∧ 12 ≤ lo ∧ xRi G YX6_isPointer (fr - 1) (lo - 12) [rv x11] h10 (fun x17 h16 => xext h10 h16 → ((¬ x17 = 0 → bX5_required_230 G fr lo x0 x1 x2 (fR h (fR h x2 3842) 3842) x11 h16 Q) ∧ (x17 = 0 → 1 ≤ fr ∧ 16 ≤ lo ∧ xRi G YX5_firstOf (fr - 1) (lo - 16) [rv x0, rv (fR h (fR h x2 3842) 3842)] h16 (fun x25 h24 => xext h16 h24 → 1 ≤ fr ∧ 14 ≤ lo ∧ xRr G YX5_fault (fr - 1) (lo - 14) [rv x0, .int 7, .int x25] h24 (fun x31 h30 => xext h24 h30 → (∃ r33, x31 = r33 + 1 ∧ Q (.threw r33) h30)) (fun r h2 => Q (.threw r) h2)) (fun r h2 => Q (.threw r) h2)))) (fun r h2 => Q (.threw r) h2)) (fun r h2 => Q (.threw r) h2)) ∧ (x1 = 8 → tg h x0 = 6 ∧ 1 ≤ fr ∧ 17 ≤ lo ∧ xRr G YX5_variable (fr - 1) (lo - 17) [rv x0, rv (fR h (fR h x2 3842) 3842)] h (fun x39 h38 => xext h h38 → tg h38 x39 = 7 ∧ (((fI h38 x39 1536) = 9 → bX5_required_230 G fr lo x0 x1 x2 (fR h (fR h x2 3842) 3842) x39 h38 Q) ∧ (¬ (fI h38 x39 1536) = 9 → 1 ≤ fr ∧ 16 ≤ lo ∧ xRi G YX5_firstOf (fr - 1) (lo - 16) [rv x0, rv (fR h (fR h x2 3842) 3842)] h38 (fun x47 h46 => xext h38 h46 → 1 ≤ fr ∧ 14 ≤ lo ∧ xRr G YX5_fault (fr - 1) (lo - 14) [rv x0, .int 7, .int x47] h46 (fun x53 h52 => xext h46 h52 → (∃ r55, x53 = r55 + 1 ∧ Q (.threw r55) h52)) (fun r h2 => Q (.threw r) h2)) (fun r h2 => Q (.threw r) h2)))) (fun r h2 => Q (.threw r) h2)))) ∧ (¬ 8 ≤ x1 → tg h x0 = 6 ∧ 1 ≤ fr ∧ 15 ≤ lo ∧ xRr G YX5_file (fr - 1) (lo - 15) [rv x0, rv (fR h (fR h x2 3842) 3842)] h (fun x61 h60 => xext h h60 → ((¬ x61 = 0 → 1 ≤ fr ∧ 13 ≤ lo ∧ xRv G YX5_address (fr - 1) (lo - 13) [rv x0, rv x61] h60 (fun h67 => xext h60 h67 → tg h67 (fR h (fR h x2 3842) 3842) = 16 ∧ (((fR h67 (fR h (fR h x2 3842) 3842) 3844) = 0 → tg h67 x61 = 9 ∧ tg h67 (fR h67 x61 2050) = 7 ∧ 1 ≤ fr ∧ 14 ≤ lo ∧ xRi G YX6_isText (fr - 1) (lo - 14) [rv (fR h67 x61 2050)] h67 (fun x78 h77 => xext h67 h77 → ((x78 = 0 → bX5_required_129 G fr lo x2 x61 0 ((82 + x1) - 4) (fR h67 x0 1281) h77 Q) ∧ (¬ x78 = 0 → bX5_required_129 G fr lo x2 x61 1 ((82 + x1) - 4) (fR h67 x0 1281) h77 Q))) (fun r h2 => Q (.threw r) h2)) ∧ (¬ (fR h67 (fR h (fR h x2 3842) 3842) 3844) = 0 → tg h67 (fR h67 (fR h (fR h x2 3842) 3842) 3844) = 16 ∧ 1 ≤ fr ∧ 14 ≤ lo ∧ xRi G YX15_place (fr - 1) (lo - 14) [rv (fR h67 (fR h (fR h x2 3842) 3842) 3844)] h67 (fun x85 h84 => xext h67 h84 → 1 ≤ fr ∧ 14 ≤ lo ∧ xRr G YX5_fault (fr - 1) (lo - 14) [rv x0, .int 7, .int x85] h84 (fun x92 h91 => xext h84 h91 → (∃ r94, x92 = r94 + 1 ∧ Q (.threw r94) h91)) (fun r h2 => Q (.threw r) h2)) (fun r h2 => Q (.threw r) h2)))) (fun r h2 => Q (.threw r) h2)) ∧ (x61 = 0 → 1 ≤ fr ∧ 13 ≤ lo ∧ xRr G YX5_expression (fr - 1) (lo - 13) [rv x0, rv (fR h (fR h x2 3842) 3842)] h60 (fun x100 h99 => xext h60 h99 → 1 ≤ fr ∧ 16 ≤ lo ∧ xRi G YX5_firstOf (fr - 1) (lo - 16) [rv x0, rv (fR h (fR h x2 3842) 3842)] h99 (fun x106 h105 => xext h99 h105 → 1 ≤ fr ∧ 14 ≤ lo ∧ xRr G YX5_fault (fr - 1) (lo - 14) [rv x0, .int 7, .int x106] h105 (fun x112 h111 => xext h105 h111 → (∃ r114, x112 = r114 + 1 ∧ Q (.threw r114) h111)) (fun r h2 => Q (.threw r) h2)) (fun r h2 => Q (.threw r) h2)) (fun r h2 => Q (.threw r) h2)))) (fun r h2 => Q (.threw r) h2)))) ∧ (¬ (fI h x2 3845) = 1 → 1 ≤ fr ∧ 14 ≤ lo ∧ xRi G YX15_place (fr - 1) (lo - 14) [rv x2] h (fun x119 h118 => xext h h118 → tg h118 x0 = 6 ∧ 1 ≤ fr ∧ 14 ≤ lo ∧ xRr G YX5_fault (fr - 1) (lo - 14) [rv x0, .int 9, .int x119] h118 (fun x125 h124 => xext h118 h124 → (∃ r127, x125 = r127 + 1 ∧ Q (.threw r127) h124)) (fun r h2 => Q (.threw r) h2)) (fun r h2 => Q (.threw r) h2)))) ∧ (¬ 4 ≤ x1 → tg h x0 = 6 ∧ 1 ≤ fr ∧ 18 ≤ lo ∧ xRv G YX5_transfers (fr - 1) (lo - 18) [rv x0, .int x1, rv x2] h (fun h132 => xext h h132 → Q (.returned none) h132) (fun r h2 => Q (.threw r) h2)))
set_option maxRecDepth 100000 in
theorem uX5_required {G : xG} {fr lo : Nat} {x0 : Nat} {x1 : Int32} {x2 : Nat} {h : xH} {Q : Outcome → xH → Prop} (hq : bX5_required G fr lo x0 x1 x2 h Q) : xP G YX5_required fr lo 0 [(0, rv x0), (1, .int x1), (2, rv x2)] [] h Q := by
  unfold bX5_required at hq
  refine x_iload_n 1 dX5_required_0 rfl ?_
  refine x_iconst (v := 4) dX5_required_1 (by decide) ?_
  refine x_icmp_ge (tgt := 12) dX5_required_2 (by decide) (fun c1 => ?_) (fun c1 => ?_)
  · replace hq := hq.1 c1
    refine x_aload_n 2 dX5_required_12 rfl ?_
    obtain ⟨g2, hq⟩ := hq
    refine x_getN (v := .int (fI h x2 3845)) gfX5_293 dX5_required_13 g2 rfl ?_
    refine x_iconst (v := 1) dX5_required_16 (by decide) ?_
    refine x_icmp_eq (tgt := 31) dX5_required_17 (by decide) (fun c3 => ?_) (fun c3 => ?_)
    · replace hq := hq.1 c3
      refine x_aload_n 2 dX5_required_31 rfl ?_
      refine x_getN (v := rv (fR h x2 3842)) gfX5_251 dX5_required_32 g2 rfl ?_
      obtain ⟨g4, hq⟩ := hq
      refine x_getN (v := rv (fR h (fR h x2 3842) 3842)) gfX5_251 dX5_required_35 g4 rfl ?_
      refine x_astore_n (lv' := [(3, rv (fR h (fR h x2 3842) 3842)), (0, rv x0), (1, .int x1), (2, rv x2)]) dX5_required_38 (by decide) (by first | rfl | (simp [rv_cat, Value.category]; done) | (simp [rv_cat, Value.category]; decide)) ?_
      refine x_iload_n 2 dX5_required_39 rfl ?_
      refine x_bipush (v := 8) dX5_required_40 (by decide) ?_
      refine x_icmp_ge (tgt := 168) dX5_required_42 (by decide) (fun c5 => ?_) (fun c5 => ?_)
      · replace hq := hq.1 c5
        refine x_iload_n 2 dX5_required_168 rfl ?_
        refine x_bipush (v := 8) dX5_required_169 (by decide) ?_
        refine x_icmp_ne (tgt := 203) dX5_required_171 (by decide) (fun c6 => ?_) (fun c6 => ?_)
        · replace hq := hq.1 c6
          refine x_aload_n 1 dX5_required_203 rfl ?_
          refine x_aload_n 0 dX5_required_204 rfl ?_
          obtain ⟨g7, hq⟩ := hq
          obtain ⟨g8, g9, hq⟩ := hq
          refine x_callV (Yc := YX5_expression) (as := [rv (fR h (fR h x2 3842) 3842)]) (st := []) q2522 mvX5_expression g7 rfl dX5_required_205 (xle (xal1 (rv_cat _) (xal1 (rv_cat _) xal0)) (by decide)) (xfr g8) (xlo xsw0 (by decide) g9) (xKr hq (fun x11 h10 hq e12 => ?_) (fun _ _ q _ => q))
          replace hq := hq e12
          refine x_astore (lv' := [(4, rv x11), (3, rv (fR h (fR h x2 3842) 3842)), (0, rv x0), (1, .int x1), (2, rv x2)]) dX5_required_208 (by decide) (by first | rfl | (simp [rv_cat, Value.category]; done) | (simp [rv_cat, Value.category]; decide)) ?_
          refine x_aload 0 dX5_required_210 rfl ?_
          obtain ⟨g13, hq⟩ := hq
          obtain ⟨g14, g15, hq⟩ := hq
          refine x_callV (Yc := YX6_isPointer) (as := []) (st := []) q2695 mvX6_isPointer g13 rfl dX5_required_212 (xle (xal1 (rv_cat _) xal0) (by decide)) (xfr g14) (xlo xsw0 (by decide) g15) (xKi hq (fun x17 h16 hq e18 => ?_) (fun _ _ q _ => q))
          replace hq := hq e18
          refine x_if_ne (tgt := 230) dX5_required_215 (by decide) (fun c19 => ?_) (fun c19 => ?_)
          · replace hq := hq.1 c19
            refine xP.pick (lv' := [(0, rv x0), (1, .int x1), (2, rv x2), (3, rv (fR h (fR h x2 3842) 3842)), (4, rv x11)]) [2, 3, 4, 1, 0] rfl ?_
            exact uX5_required_230 hq
          · replace hq := hq.2 c19
            refine x_aload_n 2 dX5_required_218 rfl ?_
            refine x_bipush (v := 7) dX5_required_219 (by decide) ?_
            refine x_aload_n 2 dX5_required_221 rfl ?_
            refine x_aload_n 1 dX5_required_222 rfl ?_
            have t20 : tg h10 x0 = 6 := e12.tg g7 (by decide)
            have t21 : tg h16 x0 = 6 := e18.tg t20 (by decide)
            obtain ⟨g22, g23, hq⟩ := hq
            refine x_callV (Yc := YX5_firstOf) (as := [rv (fR h (fR h x2 3842) 3842)]) (st := [.int 7, rv x0]) q2510 mvX5_firstOf t21 rfl dX5_required_223 (xle (xal1 (rv_cat _) (xal1 (rv_cat _) xal0)) (by decide)) (xfr g22) (xlo (xsw1 rfl (xsw1 (rv_cat _) xsw0)) (by decide) g23) (xKi hq (fun x25 h24 hq e26 => ?_) (fun _ _ q _ => q))
            replace hq := hq e26
            have t27 : tg h24 x0 = 6 := e26.tg t21 (by decide)
            obtain ⟨g28, g29, hq⟩ := hq
            refine x_callV (Yc := YX5_fault) (as := [.int 7, .int x25]) (st := []) q2087 mvX5_fault t27 rfl dX5_required_226 (xle (xal1 (rv_cat _) (xal1 rfl (xal1 rfl xal0))) (by decide)) (xfr g28) (xlo xsw0 (by decide) g29) (xKr hq (fun x31 h30 hq e32 => ?_) (fun _ _ q _ => q))
            replace hq := hq e32
            obtain ⟨r33, g34, hq⟩ := hq
            rw [g34]
            exact x_athrow dX5_required_229 hq
        · replace hq := hq.2 c6
          refine x_aload_n 1 dX5_required_174 rfl ?_
          refine x_aload_n 0 dX5_required_175 rfl ?_
          obtain ⟨g35, hq⟩ := hq
          obtain ⟨g36, g37, hq⟩ := hq
          refine x_callV (Yc := YX5_variable) (as := [rv (fR h (fR h x2 3842) 3842)]) (st := []) q2590 mvX5_variable g35 rfl dX5_required_176 (xle (xal1 (rv_cat _) (xal1 (rv_cat _) xal0)) (by decide)) (xfr g36) (xlo xsw0 (by decide) g37) (xKr hq (fun x39 h38 hq e40 => ?_) (fun _ _ q _ => q))
          replace hq := hq e40
          refine x_astore (lv' := [(4, rv x39), (3, rv (fR h (fR h x2 3842) 3842)), (0, rv x0), (1, .int x1), (2, rv x2)]) dX5_required_179 (by decide) (by first | rfl | (simp [rv_cat, Value.category]; done) | (simp [rv_cat, Value.category]; decide)) ?_
          refine x_aload 0 dX5_required_181 rfl ?_
          obtain ⟨g41, hq⟩ := hq
          refine x_getN (v := .int (fI h38 x39 1536)) gfX5_289 dX5_required_183 g41 rfl ?_
          refine x_bipush (v := 9) dX5_required_186 (by decide) ?_
          refine x_icmp_eq (tgt := 230) dX5_required_188 (by decide) (fun c42 => ?_) (fun c42 => ?_)
          · replace hq := hq.1 c42
            refine xP.pick (lv' := [(0, rv x0), (1, .int x1), (2, rv x2), (3, rv (fR h (fR h x2 3842) 3842)), (4, rv x39)]) [2, 3, 4, 1, 0] rfl ?_
            exact uX5_required_230 hq
          · replace hq := hq.2 c42
            refine x_aload_n 2 dX5_required_191 rfl ?_
            refine x_bipush (v := 7) dX5_required_192 (by decide) ?_
            refine x_aload_n 2 dX5_required_194 rfl ?_
            refine x_aload_n 1 dX5_required_195 rfl ?_
            have t43 : tg h38 x0 = 6 := e40.tg g35 (by decide)
            obtain ⟨g44, g45, hq⟩ := hq
            refine x_callV (Yc := YX5_firstOf) (as := [rv (fR h (fR h x2 3842) 3842)]) (st := [.int 7, rv x0]) q2510 mvX5_firstOf t43 rfl dX5_required_196 (xle (xal1 (rv_cat _) (xal1 (rv_cat _) xal0)) (by decide)) (xfr g44) (xlo (xsw1 rfl (xsw1 (rv_cat _) xsw0)) (by decide) g45) (xKi hq (fun x47 h46 hq e48 => ?_) (fun _ _ q _ => q))
            replace hq := hq e48
            have t49 : tg h46 x0 = 6 := e48.tg t43 (by decide)
            obtain ⟨g50, g51, hq⟩ := hq
            refine x_callV (Yc := YX5_fault) (as := [.int 7, .int x47]) (st := []) q2087 mvX5_fault t49 rfl dX5_required_199 (xle (xal1 (rv_cat _) (xal1 rfl (xal1 rfl xal0))) (by decide)) (xfr g50) (xlo xsw0 (by decide) g51) (xKr hq (fun x53 h52 hq e54 => ?_) (fun _ _ q _ => q))
            replace hq := hq e54
            obtain ⟨r55, g56, hq⟩ := hq
            rw [g56]
            exact x_athrow dX5_required_202 hq
      · replace hq := hq.2 c5
        refine x_aload_n 1 dX5_required_45 rfl ?_
        refine x_aload_n 0 dX5_required_46 rfl ?_
        obtain ⟨g57, hq⟩ := hq
        obtain ⟨g58, g59, hq⟩ := hq
        refine x_callV (Yc := YX5_file) (as := [rv (fR h (fR h x2 3842) 3842)]) (st := []) q2633 mvX5_file g57 rfl dX5_required_47 (xle (xal1 (rv_cat _) (xal1 (rv_cat _) xal0)) (by decide)) (xfr g58) (xlo xsw0 (by decide) g59) (xKr hq (fun x61 h60 hq e62 => ?_) (fun _ _ q _ => q))
        replace hq := hq e62
        refine x_astore (lv' := [(4, rv x61), (3, rv (fR h (fR h x2 3842) 3842)), (0, rv x0), (1, .int x1), (2, rv x2)]) dX5_required_50 (by decide) (by first | rfl | (simp [rv_cat, Value.category]; done) | (simp [rv_cat, Value.category]; decide)) ?_
        refine x_aload 0 dX5_required_52 rfl ?_
        refine x_ifnonnull (tgt := 76) dX5_required_54 (by decide) (fun c63 => ?_) (fun c63 => ?_)
        · replace hq := hq.1 c63
          refine x_aload_n 2 dX5_required_76 rfl ?_
          refine x_aload 0 dX5_required_77 rfl ?_
          have t64 : tg h60 x0 = 6 := e62.tg g57 (by decide)
          obtain ⟨g65, g66, hq⟩ := hq
          refine x_callV (Yc := YX5_address) (as := [rv x61]) (st := []) q2594 mvX5_address t64 rfl dX5_required_79 (xle (xal1 (rv_cat _) (xal1 (rv_cat _) xal0)) (by decide)) (xfr g65) (xlo xsw0 (by decide) g66) (xKv hq (fun h67 hq e69 => ?_) (fun _ _ q _ => q))
          replace hq := hq e69
          refine x_aload_n 1 dX5_required_82 rfl ?_
          obtain ⟨g70, hq⟩ := hq
          refine x_getN (v := rv (fR h67 (fR h (fR h x2 3842) 3842) 3844)) gfX5_307 dX5_required_83 g70 rfl ?_
          refine x_ifnull (tgt := 103) dX5_required_86 (by decide) (fun c71 => ?_) (fun c71 => ?_)
          · replace hq := hq.1 c71
            refine x_aload_n 2 dX5_required_103 rfl ?_
            have t72 : tg h67 x0 = 6 := e69.tg t64 (by decide)
            refine x_get (v := rv (fR h67 x0 1281)) fdX5_62 dX5_required_104 t72 rfl ?_
            refine x_bipush (v := 82) dX5_required_107 (by decide) ?_
            refine x_iload_n 3 dX5_required_109 rfl ?_
            refine x_iadd dX5_required_110 ?_
            refine x_iconst (v := 4) dX5_required_111 (by decide) ?_
            refine x_isub dX5_required_112 ?_
            refine x_aload 0 dX5_required_113 rfl ?_
            obtain ⟨g73, hq⟩ := hq
            refine x_getN (v := rv (fR h67 x61 2050)) gfX5_249 dX5_required_115 g73 rfl ?_
            obtain ⟨g74, hq⟩ := hq
            obtain ⟨g75, g76, hq⟩ := hq
            refine x_callV (Yc := YX6_isText) (as := []) (st := [.int ((82 + x1) - 4), rv (fR h67 x0 1281)]) q2637 mvX6_isText g74 rfl dX5_required_118 (xle (xal1 (rv_cat _) xal0) (by decide)) (xfr g75) (xlo (xsw1 rfl (xsw1 (rv_cat _) xsw0)) (by decide) g76) (xKi hq (fun x78 h77 hq e79 => ?_) (fun _ _ q _ => q))
            replace hq := hq e79
            refine x_if_eq (tgt := 128) dX5_required_121 (by decide) (fun c80 => ?_) (fun c80 => ?_)
            · replace hq := hq.1 c80
              refine x_iconst (v := 0) dX5_required_128 (by decide) ?_
              refine xP.pick (lv' := [(2, rv x2), (4, rv x61)]) [4, 0] rfl ?_
              exact uX5_required_129 hq
            · replace hq := hq.2 c80
              refine x_iconst (v := 1) dX5_required_124 (by decide) ?_
              refine x_goto (tgt := 129) dX5_required_125 (by decide) ?_
              refine xP.pick (lv' := [(2, rv x2), (4, rv x61)]) [4, 0] rfl ?_
              exact uX5_required_129 hq
          · replace hq := hq.2 c71
            refine x_aload_n 2 dX5_required_89 rfl ?_
            refine x_bipush (v := 7) dX5_required_90 (by decide) ?_
            refine x_aload_n 1 dX5_required_92 rfl ?_
            refine x_getN (v := rv (fR h67 (fR h (fR h x2 3842) 3842) 3844)) gfX5_307 dX5_required_93 g70 rfl ?_
            obtain ⟨g81, hq⟩ := hq
            obtain ⟨g82, g83, hq⟩ := hq
            refine x_callV (Yc := YX15_place) (as := []) (st := [.int 7, rv x0]) q2013 mvX15_place g81 rfl dX5_required_96 (xle (xal1 (rv_cat _) xal0) (by decide)) (xfr g82) (xlo (xsw1 rfl (xsw1 (rv_cat _) xsw0)) (by decide) g83) (xKi hq (fun x85 h84 hq e86 => ?_) (fun _ _ q _ => q))
            replace hq := hq e86
            have t87 : tg h67 x0 = 6 := e69.tg t64 (by decide)
            have t88 : tg h84 x0 = 6 := e86.tg t87 (by decide)
            obtain ⟨g89, g90, hq⟩ := hq
            refine x_callV (Yc := YX5_fault) (as := [.int 7, .int x85]) (st := []) q2087 mvX5_fault t88 rfl dX5_required_99 (xle (xal1 (rv_cat _) (xal1 rfl (xal1 rfl xal0))) (by decide)) (xfr g89) (xlo xsw0 (by decide) g90) (xKr hq (fun x92 h91 hq e93 => ?_) (fun _ _ q _ => q))
            replace hq := hq e93
            obtain ⟨r94, g95, hq⟩ := hq
            rw [g95]
            exact x_athrow dX5_required_102 hq
        · replace hq := hq.2 c63
          refine x_aload_n 2 dX5_required_57 rfl ?_
          refine x_aload_n 1 dX5_required_58 rfl ?_
          have t96 : tg h60 x0 = 6 := e62.tg g57 (by decide)
          obtain ⟨g97, g98, hq⟩ := hq
          refine x_callV (Yc := YX5_expression) (as := [rv (fR h (fR h x2 3842) 3842)]) (st := []) q2522 mvX5_expression t96 rfl dX5_required_59 (xle (xal1 (rv_cat _) (xal1 (rv_cat _) xal0)) (by decide)) (xfr g97) (xlo xsw0 (by decide) g98) (xKr hq (fun x100 h99 hq e101 => ?_) (fun _ _ q _ => q))
          replace hq := hq e101
          refine x_astore (lv' := [(5, rv x100), (4, rv x61), (3, rv (fR h (fR h x2 3842) 3842)), (0, rv x0), (1, .int x1), (2, rv x2)]) dX5_required_62 (by decide) (by first | rfl | (simp [rv_cat, Value.category]; done) | (simp [rv_cat, Value.category]; decide)) ?_
          refine x_aload_n 3 dX5_required_64 rfl ?_
          refine x_bipush (v := 7) dX5_required_65 (by decide) ?_
          refine x_aload_n 3 dX5_required_67 rfl ?_
          refine x_aload_n 2 dX5_required_68 rfl ?_
          have t102 : tg h99 x0 = 6 := e101.tg t96 (by decide)
          obtain ⟨g103, g104, hq⟩ := hq
          refine x_callV (Yc := YX5_firstOf) (as := [rv (fR h (fR h x2 3842) 3842)]) (st := [.int 7, rv x0]) q2510 mvX5_firstOf t102 rfl dX5_required_69 (xle (xal1 (rv_cat _) (xal1 (rv_cat _) xal0)) (by decide)) (xfr g103) (xlo (xsw1 rfl (xsw1 (rv_cat _) xsw0)) (by decide) g104) (xKi hq (fun x106 h105 hq e107 => ?_) (fun _ _ q _ => q))
          replace hq := hq e107
          have t108 : tg h105 x0 = 6 := e107.tg t102 (by decide)
          obtain ⟨g109, g110, hq⟩ := hq
          refine x_callV (Yc := YX5_fault) (as := [.int 7, .int x106]) (st := []) q2087 mvX5_fault t108 rfl dX5_required_72 (xle (xal1 (rv_cat _) (xal1 rfl (xal1 rfl xal0))) (by decide)) (xfr g109) (xlo xsw0 (by decide) g110) (xKr hq (fun x112 h111 hq e113 => ?_) (fun _ _ q _ => q))
          replace hq := hq e113
          obtain ⟨r114, g115, hq⟩ := hq
          rw [g115]
          exact x_athrow dX5_required_75 hq
    · replace hq := hq.2 c3
      refine x_aload_n 0 dX5_required_20 rfl ?_
      refine x_bipush (v := 9) dX5_required_21 (by decide) ?_
      refine x_aload_n 2 dX5_required_23 rfl ?_
      obtain ⟨g116, g117, hq⟩ := hq
      refine x_callV (Yc := YX15_place) (as := []) (st := [.int 9, rv x0]) q2013 mvX15_place g2 rfl dX5_required_24 (xle (xal1 (rv_cat _) xal0) (by decide)) (xfr g116) (xlo (xsw1 rfl (xsw1 (rv_cat _) xsw0)) (by decide) g117) (xKi hq (fun x119 h118 hq e120 => ?_) (fun _ _ q _ => q))
      replace hq := hq e120
      obtain ⟨g121, hq⟩ := hq
      obtain ⟨g122, g123, hq⟩ := hq
      refine x_callV (Yc := YX5_fault) (as := [.int 9, .int x119]) (st := []) q2087 mvX5_fault g121 rfl dX5_required_27 (xle (xal1 (rv_cat _) (xal1 rfl (xal1 rfl xal0))) (by decide)) (xfr g122) (xlo xsw0 (by decide) g123) (xKr hq (fun x125 h124 hq e126 => ?_) (fun _ _ q _ => q))
      replace hq := hq e126
      obtain ⟨r127, g128, hq⟩ := hq
      rw [g128]
      exact x_athrow dX5_required_30 hq
  · replace hq := hq.2 c1
    refine x_aload_n 0 dX5_required_5 rfl ?_
    refine x_iload_n 1 dX5_required_6 rfl ?_
    refine x_aload_n 2 dX5_required_7 rfl ?_
    obtain ⟨g129, hq⟩ := hq
    obtain ⟨g130, g131, hq⟩ := hq
    refine x_callV (Yc := YX5_transfers) (as := [.int x1, rv x2]) (st := []) q2782 mvX5_transfers g129 rfl dX5_required_8 (xle (xal1 (rv_cat _) (xal1 rfl (xal1 (rv_cat _) xal0))) (by decide)) (xfr g130) (xlo xsw0 (by decide) g131) (xKv hq (fun h132 hq e134 => ?_) (fun _ _ q _ => q))
    replace hq := hq e134
    exact x_vret rfl dX5_required_11 hq
theorem rX5_required {G : xG} {fr lo : Nat} {x0 : Nat} {x1 : Int32} {x2 : Nat} {h : xH} {Q : Outcome → xH → Prop} (hq : bX5_required G fr lo x0 x1 x2 h Q) : xR G YX5_required fr lo [rv x0, .int x1, rv x2] h Q := by
  show xP _ _ _ _ _ (lv_args 0 _) _ _ _
  rw [show lv_args 0 [rv x0, .int x1, rv x2] = [(0, rv x0), (1, .int x1), (2, rv x2)] from (xla1 (rv_cat _) (xla1 rfl (xla1 (rv_cat _) xla0)))]
  exact uX5_required hq
set_option maxRecDepth 100000 in
theorem dX5_transfers_0 : decode cX5_transfers 0 = .ok (.iload_n 1, 1) := by decide +kernel
set_option maxRecDepth 100000 in
theorem dX5_transfers_1 : decode cX5_transfers 1 = .ok (.iconst 2, 1) := by decide +kernel
set_option maxRecDepth 100000 in
theorem dX5_transfers_2 : decode cX5_transfers 2 = .ok (.if_icmp .ge 7, 3) := by decide +kernel
set_option maxRecDepth 100000 in
theorem dX5_transfers_5 : decode cX5_transfers 5 = .ok (.iconst 1, 1) := by decide +kernel
set_option maxRecDepth 100000 in
theorem dX5_transfers_6 : decode cX5_transfers 6 = .ok (.goto 4, 3) := by decide +kernel
set_option maxRecDepth 100000 in
theorem dX5_transfers_9 : decode cX5_transfers 9 = .ok (.iconst 0, 1) := by decide +kernel
set_option maxRecDepth 100000 in
theorem dX5_transfers_10 : decode cX5_transfers 10 = .ok (.istore_n 3, 1) := by decide +kernel
set_option maxRecDepth 100000 in
theorem dX5_transfers_11 : decode cX5_transfers 11 = .ok (.iload_n 1, 1) := by decide +kernel
set_option maxRecDepth 100000 in
theorem dX5_transfers_12 : decode cX5_transfers 12 = .ok (.iconst 2, 1) := by decide +kernel
set_option maxRecDepth 100000 in
theorem dX5_transfers_13 : decode cX5_transfers 13 = .ok (.irem, 1) := by decide +kernel
set_option maxRecDepth 100000 in
theorem dX5_transfers_14 : decode cX5_transfers 14 = .ok (.iconst 1, 1) := by decide +kernel
set_option maxRecDepth 100000 in
theorem dX5_transfers_15 : decode cX5_transfers 15 = .ok (.if_icmp .ne 7, 3) := by decide +kernel
set_option maxRecDepth 100000 in
theorem dX5_transfers_18 : decode cX5_transfers 18 = .ok (.iconst 1, 1) := by decide +kernel
set_option maxRecDepth 100000 in
theorem dX5_transfers_19 : decode cX5_transfers 19 = .ok (.goto 4, 3) := by decide +kernel
set_option maxRecDepth 100000 in
theorem dX5_transfers_22 : decode cX5_transfers 22 = .ok (.iconst 0, 1) := by decide +kernel
set_option maxRecDepth 100000 in
theorem dX5_transfers_23 : decode cX5_transfers 23 = .ok (.istore 4, 2) := by decide +kernel
set_option maxRecDepth 100000 in
theorem dX5_transfers_25 : decode cX5_transfers 25 = .ok (.aload_n 2, 1) := by decide +kernel
set_option maxRecDepth 100000 in
theorem dX5_transfers_26 : decode cX5_transfers 26 = .ok (.getfield 251, 3) := by decide +kernel
set_option maxRecDepth 100000 in
theorem dX5_transfers_29 : decode cX5_transfers 29 = .ok (.astore 5, 2) := by decide +kernel
set_option maxRecDepth 100000 in
theorem dX5_transfers_31 : decode cX5_transfers 31 = .ok (.aload 5, 2) := by decide +kernel
set_option maxRecDepth 100000 in
theorem dX5_transfers_33 : decode cX5_transfers 33 = .ok (.ifnonnull 7, 3) := by decide +kernel
set_option maxRecDepth 100000 in
theorem dX5_transfers_36 : decode cX5_transfers 36 = .ok (.aconst_null, 1) := by decide +kernel
set_option maxRecDepth 100000 in
theorem dX5_transfers_37 : decode cX5_transfers 37 = .ok (.goto 12, 3) := by decide +kernel
set_option maxRecDepth 100000 in
theorem dX5_transfers_40 : decode cX5_transfers 40 = .ok (.aload_n 0, 1) := by decide +kernel
set_option maxRecDepth 100000 in
theorem dX5_transfers_41 : decode cX5_transfers 41 = .ok (.aload 5, 2) := by decide +kernel
set_option maxRecDepth 100000 in
theorem dX5_transfers_43 : decode cX5_transfers 43 = .ok (.getfield 251, 3) := by decide +kernel
set_option maxRecDepth 100000 in
theorem dX5_transfers_46 : decode cX5_transfers 46 = .ok (.invokevirtual 765, 3) := by decide +kernel
set_option maxRecDepth 100000 in
theorem dX5_transfers_49 : decode cX5_transfers 49 = .ok (.astore 6, 2) := by decide +kernel
set_option maxRecDepth 100000 in
theorem dX5_transfers_51 : decode cX5_transfers 51 = .ok (.aload 6, 2) := by decide +kernel
set_option maxRecDepth 100000 in
theorem dX5_transfers_53 : decode cX5_transfers 53 = .ok (.ifnull 42, 3) := by decide +kernel
set_option maxRecDepth 100000 in
theorem dX5_transfers_56 : decode cX5_transfers 56 = .ok (.aload 5, 2) := by decide +kernel
set_option maxRecDepth 100000 in
theorem dX5_transfers_58 : decode cX5_transfers 58 = .ok (.getfield 251, 3) := by decide +kernel
set_option maxRecDepth 100000 in
theorem dX5_transfers_61 : decode cX5_transfers 61 = .ok (.getfield 307, 3) := by decide +kernel
set_option maxRecDepth 100000 in
theorem dX5_transfers_64 : decode cX5_transfers 64 = .ok (.ifnull 21, 3) := by decide +kernel
set_option maxRecDepth 100000 in
theorem dX5_transfers_67 : decode cX5_transfers 67 = .ok (.aload_n 0, 1) := by decide +kernel
set_option maxRecDepth 100000 in
theorem dX5_transfers_68 : decode cX5_transfers 68 = .ok (.bipush 7, 2) := by decide +kernel
set_option maxRecDepth 100000 in
theorem dX5_transfers_70 : decode cX5_transfers 70 = .ok (.aload 5, 2) := by decide +kernel
set_option maxRecDepth 100000 in
theorem dX5_transfers_72 : decode cX5_transfers 72 = .ok (.getfield 251, 3) := by decide +kernel
set_option maxRecDepth 100000 in
theorem dX5_transfers_75 : decode cX5_transfers 75 = .ok (.getfield 307, 3) := by decide +kernel
set_option maxRecDepth 100000 in
theorem dX5_transfers_78 : decode cX5_transfers 78 = .ok (.invokevirtual 192, 3) := by decide +kernel
set_option maxRecDepth 100000 in
theorem dX5_transfers_81 : decode cX5_transfers 81 = .ok (.invokevirtual 163, 3) := by decide +kernel
set_option maxRecDepth 100000 in
theorem dX5_transfers_84 : decode cX5_transfers 84 = .ok (.athrow, 1) := by decide +kernel
set_option maxRecDepth 100000 in
theorem dX5_transfers_85 : decode cX5_transfers 85 = .ok (.aload 5, 2) := by decide +kernel
set_option maxRecDepth 100000 in
theorem dX5_transfers_87 : decode cX5_transfers 87 = .ok (.getfield 307, 3) := by decide +kernel
set_option maxRecDepth 100000 in
theorem dX5_transfers_90 : decode cX5_transfers 90 = .ok (.astore 5, 2) := by decide +kernel
set_option maxRecDepth 100000 in
theorem dX5_transfers_92 : decode cX5_transfers 92 = .ok (.goto 14, 3) := by decide +kernel
set_option maxRecDepth 100000 in
theorem dX5_transfers_95 : decode cX5_transfers 95 = .ok (.aload_n 0, 1) := by decide +kernel
set_option maxRecDepth 100000 in
theorem dX5_transfers_96 : decode cX5_transfers 96 = .ok (.iload_n 3, 1) := by decide +kernel
set_option maxRecDepth 100000 in
theorem dX5_transfers_97 : decode cX5_transfers 97 = .ok (.aload_n 2, 1) := by decide +kernel
set_option maxRecDepth 100000 in
theorem dX5_transfers_98 : decode cX5_transfers 98 = .ok (.invokevirtual 192, 3) := by decide +kernel
set_option maxRecDepth 100000 in
theorem dX5_transfers_101 : decode cX5_transfers 101 = .ok (.invokevirtual 777, 3) := by decide +kernel
set_option maxRecDepth 100000 in
theorem dX5_transfers_104 : decode cX5_transfers 104 = .ok (.astore 6, 2) := by decide +kernel
set_option maxRecDepth 100000 in
theorem dX5_transfers_106 : decode cX5_transfers 106 = .ok (.iload 4, 2) := by decide +kernel
set_option maxRecDepth 100000 in
theorem dX5_transfers_108 : decode cX5_transfers 108 = .ok (.ifCond .eq 31, 3) := by decide +kernel
set_option maxRecDepth 100000 in
theorem dX5_transfers_111 : decode cX5_transfers 111 = .ok (.aload 6, 2) := by decide +kernel
set_option maxRecDepth 100000 in
theorem dX5_transfers_113 : decode cX5_transfers 113 = .ok (.getfield 249, 3) := by decide +kernel
set_option maxRecDepth 100000 in
theorem dX5_transfers_116 : decode cX5_transfers 116 = .ok (.invokevirtual 768, 3) := by decide +kernel
set_option maxRecDepth 100000 in
theorem dX5_transfers_119 : decode cX5_transfers 119 = .ok (.ifCond .ne 20, 3) := by decide +kernel
set_option maxRecDepth 100000 in
theorem dX5_transfers_122 : decode cX5_transfers 122 = .ok (.aload_n 0, 1) := by decide +kernel
set_option maxRecDepth 100000 in
theorem dX5_transfers_123 : decode cX5_transfers 123 = .ok (.bipush 7, 2) := by decide +kernel
set_option maxRecDepth 100000 in
theorem dX5_transfers_125 : decode cX5_transfers 125 = .ok (.aload_n 2, 1) := by decide +kernel
set_option maxRecDepth 100000 in
theorem dX5_transfers_126 : decode cX5_transfers 126 = .ok (.getfield 251, 3) := by decide +kernel
set_option maxRecDepth 100000 in
theorem dX5_transfers_129 : decode cX5_transfers 129 = .ok (.getfield 251, 3) := by decide +kernel
set_option maxRecDepth 100000 in
theorem dX5_transfers_132 : decode cX5_transfers 132 = .ok (.invokevirtual 192, 3) := by decide +kernel
set_option maxRecDepth 100000 in
theorem dX5_transfers_135 : decode cX5_transfers 135 = .ok (.invokevirtual 163, 3) := by decide +kernel
set_option maxRecDepth 100000 in
theorem dX5_transfers_138 : decode cX5_transfers 138 = .ok (.athrow, 1) := by decide +kernel
set_option maxRecDepth 100000 in
theorem dX5_transfers_139 : decode cX5_transfers 139 = .ok (.iload 4, 2) := by decide +kernel
set_option maxRecDepth 100000 in
theorem dX5_transfers_141 : decode cX5_transfers 141 = .ok (.ifCond .ne 19, 3) := by decide +kernel
set_option maxRecDepth 100000 in
theorem dX5_transfers_144 : decode cX5_transfers 144 = .ok (.aload 5, 2) := by decide +kernel
set_option maxRecDepth 100000 in
theorem dX5_transfers_146 : decode cX5_transfers 146 = .ok (.ifnonnull 14, 3) := by decide +kernel
set_option maxRecDepth 100000 in
theorem dX5_transfers_149 : decode cX5_transfers 149 = .ok (.aload_n 0, 1) := by decide +kernel
set_option maxRecDepth 100000 in
theorem dX5_transfers_150 : decode cX5_transfers 150 = .ok (.bipush 9, 2) := by decide +kernel
set_option maxRecDepth 100000 in
theorem dX5_transfers_152 : decode cX5_transfers 152 = .ok (.aload_n 2, 1) := by decide +kernel
set_option maxRecDepth 100000 in
theorem dX5_transfers_153 : decode cX5_transfers 153 = .ok (.invokevirtual 192, 3) := by decide +kernel
set_option maxRecDepth 100000 in
theorem dX5_transfers_156 : decode cX5_transfers 156 = .ok (.invokevirtual 163, 3) := by decide +kernel
set_option maxRecDepth 100000 in
theorem dX5_transfers_159 : decode cX5_transfers 159 = .ok (.athrow, 1) := by decide +kernel
set_option maxRecDepth 100000 in
theorem dX5_transfers_160 : decode cX5_transfers 160 = .ok (.aload 5, 2) := by decide +kernel
set_option maxRecDepth 100000 in
theorem dX5_transfers_162 : decode cX5_transfers 162 = .ok (.ifnull 44, 3) := by decide +kernel
set_option maxRecDepth 100000 in
theorem dX5_transfers_165 : decode cX5_transfers 165 = .ok (.iload_n 3, 1) := by decide +kernel
set_option maxRecDepth 100000 in
theorem dX5_transfers_166 : decode cX5_transfers 166 = .ok (.ifCond .eq 18, 3) := by decide +kernel
set_option maxRecDepth 100000 in
theorem dX5_transfers_169 : decode cX5_transfers 169 = .ok (.aload_n 0, 1) := by decide +kernel
set_option maxRecDepth 100000 in
theorem dX5_transfers_170 : decode cX5_transfers 170 = .ok (.aload 6, 2) := by decide +kernel
set_option maxRecDepth 100000 in
theorem dX5_transfers_172 : decode cX5_transfers 172 = .ok (.aload 5, 2) := by decide +kernel
set_option maxRecDepth 100000 in
theorem dX5_transfers_174 : decode cX5_transfers 174 = .ok (.aload_n 2, 1) := by decide +kernel
set_option maxRecDepth 100000 in
theorem dX5_transfers_175 : decode cX5_transfers 175 = .ok (.invokevirtual 192, 3) := by decide +kernel
set_option maxRecDepth 100000 in
theorem dX5_transfers_178 : decode cX5_transfers 178 = .ok (.invokevirtual 781, 3) := by decide +kernel
set_option maxRecDepth 100000 in
theorem dX5_transfers_181 : decode cX5_transfers 181 = .ok (.goto 15, 3) := by decide +kernel
set_option maxRecDepth 100000 in
theorem dX5_transfers_184 : decode cX5_transfers 184 = .ok (.aload_n 0, 1) := by decide +kernel
set_option maxRecDepth 100000 in
theorem dX5_transfers_185 : decode cX5_transfers 185 = .ok (.aload 6, 2) := by decide +kernel
set_option maxRecDepth 100000 in
theorem dX5_transfers_187 : decode cX5_transfers 187 = .ok (.aload 5, 2) := by decide +kernel
set_option maxRecDepth 100000 in
theorem dX5_transfers_189 : decode cX5_transfers 189 = .ok (.aload_n 2, 1) := by decide +kernel
set_option maxRecDepth 100000 in
theorem dX5_transfers_190 : decode cX5_transfers 190 = .ok (.invokevirtual 192, 3) := by decide +kernel
set_option maxRecDepth 100000 in
theorem dX5_transfers_193 : decode cX5_transfers 193 = .ok (.invokevirtual 785, 3) := by decide +kernel
set_option maxRecDepth 100000 in
theorem dX5_transfers_196 : decode cX5_transfers 196 = .ok (.aload 5, 2) := by decide +kernel
set_option maxRecDepth 100000 in
theorem dX5_transfers_198 : decode cX5_transfers 198 = .ok (.getfield 307, 3) := by decide +kernel
set_option maxRecDepth 100000 in
theorem dX5_transfers_201 : decode cX5_transfers 201 = .ok (.astore 5, 2) := by decide +kernel
set_option maxRecDepth 100000 in
theorem dX5_transfers_203 : decode cX5_transfers 203 = .ok (.goto (-43), 3) := by decide +kernel
set_option maxRecDepth 100000 in
theorem dX5_transfers_206 : decode cX5_transfers 206 = .ok (.iload 4, 2) := by decide +kernel
set_option maxRecDepth 100000 in
theorem dX5_transfers_208 : decode cX5_transfers 208 = .ok (.ifCond .ne 4, 3) := by decide +kernel
set_option maxRecDepth 100000 in
theorem dX5_transfers_211 : decode cX5_transfers 211 = .ok (.return_, 1) := by decide +kernel
set_option maxRecDepth 100000 in
theorem dX5_transfers_212 : decode cX5_transfers 212 = .ok (.aload_n 0, 1) := by decide +kernel
set_option maxRecDepth 100000 in
theorem dX5_transfers_213 : decode cX5_transfers 213 = .ok (.aload 6, 2) := by decide +kernel
set_option maxRecDepth 100000 in
theorem dX5_transfers_215 : decode cX5_transfers 215 = .ok (.invokevirtual 674, 3) := by decide +kernel
set_option maxRecDepth 100000 in
theorem dX5_transfers_218 : decode cX5_transfers 218 = .ok (.aload_n 0, 1) := by decide +kernel
set_option maxRecDepth 100000 in
theorem dX5_transfers_219 : decode cX5_transfers 219 = .ok (.getfield 62, 3) := by decide +kernel
set_option maxRecDepth 100000 in
theorem dX5_transfers_222 : decode cX5_transfers 222 = .ok (.iload_n 3, 1) := by decide +kernel
set_option maxRecDepth 100000 in
theorem dX5_transfers_223 : decode cX5_transfers 223 = .ok (.ifCond .eq 8, 3) := by decide +kernel
set_option maxRecDepth 100000 in
theorem dX5_transfers_226 : decode cX5_transfers 226 = .ok (.bipush 91, 2) := by decide +kernel
set_option maxRecDepth 100000 in
theorem dX5_transfers_228 : decode cX5_transfers 228 = .ok (.goto 5, 3) := by decide +kernel
set_option maxRecDepth 100000 in
theorem dX5_transfers_231 : decode cX5_transfers 231 = .ok (.bipush 98, 2) := by decide +kernel
set_option maxRecDepth 100000 in
theorem dX5_transfers_233 : decode cX5_transfers 233 = .ok (.iconst 0, 1) := by decide +kernel
set_option maxRecDepth 100000 in
theorem dX5_transfers_234 : decode cX5_transfers 234 = .ok (.iconst 0, 1) := by decide +kernel
set_option maxRecDepth 100000 in
theorem dX5_transfers_235 : decode cX5_transfers 235 = .ok (.iconst 0, 1) := by decide +kernel
set_option maxRecDepth 100000 in
theorem dX5_transfers_236 : decode cX5_transfers 236 = .ok (.aload_n 2, 1) := by decide +kernel
set_option maxRecDepth 100000 in
theorem dX5_transfers_237 : decode cX5_transfers 237 = .ok (.invokevirtual 192, 3) := by decide +kernel
set_option maxRecDepth 100000 in
theorem dX5_transfers_240 : decode cX5_transfers 240 = .ok (.invokevirtual 506, 3) := by decide +kernel
set_option maxRecDepth 100000 in
theorem dX5_transfers_243 : decode cX5_transfers 243 = .ok (.pop, 1) := by decide +kernel
set_option maxRecDepth 100000 in
theorem dX5_transfers_244 : decode cX5_transfers 244 = .ok (.return_, 1) := by decide +kernel
def lX5_transfers_160 (G : xG) (fr lo : Nat) (x0 : Nat) (x2 : Nat) (x3 : Int32) (x4 : Int32) (x5 : Nat) (x6 : Nat) (h : xH) (Q : Outcome → xH → Prop) : Prop := xP G YX5_transfers fr lo 160 [(0, rv x0), (2, rv x2), (3, .int x3), (4, .int x4), (5, rv x5), (6, rv x6)] [] h Q
set_option maxRecDepth 100000 in
def bX5_transfers_233 (G : xG) (fr lo : Nat) (x2 : Nat) (s0 : Int32) (s1 : Nat) (h : xH) (Q : Outcome → xH → Prop) : Prop := tg h x2 = 16 ∧ 1 ≤ fr ∧ 17 ≤ lo ∧ xRi G YX15_place (fr - 1) (lo - 17) [rv x2] h (fun x5 h4 => xext h h4 → tg h4 s1 = 3 ∧ 1 ≤ fr ∧ 17 ≤ lo ∧ xRi G YX2_put (fr - 1) (lo - 17) [rv s1, .int s0, .int 0, .int 0, .int 0, .int x5] h4 (fun x11 h10 => xext h4 h10 → Q (.returned none) h10) (fun r h2 => Q (.threw r) h2)) (fun r h2 => Q (.threw r) h2)
set_option maxRecDepth 100000 in
theorem uX5_transfers_233 {G : xG} {fr lo : Nat} {x2 : Nat} {s0 : Int32} {s1 : Nat} {h : xH} {Q : Outcome → xH → Prop} (hq : bX5_transfers_233 G fr lo x2 s0 s1 h Q) : xP G YX5_transfers fr lo 233 [(2, rv x2)] [.int s0, rv s1] h Q := by
  unfold bX5_transfers_233 at hq
  refine x_iconst (v := 0) dX5_transfers_233 (by decide) ?_
  refine x_iconst (v := 0) dX5_transfers_234 (by decide) ?_
  refine x_iconst (v := 0) dX5_transfers_235 (by decide) ?_
  refine x_aload_n 0 dX5_transfers_236 rfl ?_
  obtain ⟨g1, hq⟩ := hq
  obtain ⟨g2, g3, hq⟩ := hq
  refine x_callV (Yc := YX15_place) (as := []) (st := [.int 0, .int 0, .int 0, .int s0, rv s1]) q2013 mvX15_place g1 rfl dX5_transfers_237 (xle (xal1 (rv_cat _) xal0) (by decide)) (xfr g2) (xlo (xsw1 rfl (xsw1 rfl (xsw1 rfl (xsw1 rfl (xsw1 (rv_cat _) xsw0))))) (by decide) g3) (xKi hq (fun x5 h4 hq e6 => ?_) (fun _ _ q _ => q))
  replace hq := hq e6
  obtain ⟨g7, hq⟩ := hq
  obtain ⟨g8, g9, hq⟩ := hq
  refine x_callV (Yc := YX2_put) (as := [.int s0, .int 0, .int 0, .int 0, .int x5]) (st := []) q2494 mvX2_put g7 rfl dX5_transfers_240 (xle (xal1 (rv_cat _) (xal1 rfl (xal1 rfl (xal1 rfl (xal1 rfl (xal1 rfl xal0)))))) (by decide)) (xfr g8) (xlo xsw0 (by decide) g9) (xKi hq (fun x11 h10 hq e12 => ?_) (fun _ _ q _ => q))
  replace hq := hq e12
  refine x_pop dX5_transfers_243 rfl ?_
  exact x_vret rfl dX5_transfers_244 hq
set_option maxRecDepth 100000 in
def bX5_transfers_196 (G : xG) (fr lo : Nat) (x0 : Nat) (x2 : Nat) (x3 : Int32) (x4 : Int32) (x5 : Nat) (x6 : Nat) (h : xH) (Q : Outcome → xH → Prop) : Prop := tg h x5 = 16 ∧ lX5_transfers_160 G fr lo x0 x2 x3 x4 (fR h x5 3844) x6 h Q
set_option maxRecDepth 100000 in
theorem uX5_transfers_196 {G : xG} {fr lo : Nat} {x0 : Nat} {x2 : Nat} {x3 : Int32} {x4 : Int32} {x5 : Nat} {x6 : Nat} {h : xH} {Q : Outcome → xH → Prop} (hq : bX5_transfers_196 G fr lo x0 x2 x3 x4 x5 x6 h Q) : xP G YX5_transfers fr lo 196 [(0, rv x0), (2, rv x2), (3, .int x3), (4, .int x4), (5, rv x5), (6, rv x6)] [] h Q := by
  unfold bX5_transfers_196 at hq
  refine x_aload 4 dX5_transfers_196 rfl ?_
  obtain ⟨g1, hq⟩ := hq
  refine x_getN (v := rv (fR h x5 3844)) gfX5_307 dX5_transfers_198 g1 rfl ?_
  refine x_astore (lv' := [(5, rv (fR h x5 3844)), (0, rv x0), (2, rv x2), (3, .int x3), (4, .int x4), (6, rv x6)]) dX5_transfers_201 (by decide) rfl ?_
  refine x_goto (tgt := 160) dX5_transfers_203 (by decide) ?_
  refine xP.pick (lv' := [(0, rv x0), (2, rv x2), (3, .int x3), (4, .int x4), (5, rv (fR h x5 3844)), (6, rv x6)]) [1, 2, 3, 4, 0, 5] rfl ?_
  exact hq
set_option maxRecDepth 100000 in
def bX5_transfers_160 (G : xG) (fr lo : Nat) (x0 : Nat) (x2 : Nat) (x3 : Int32) (x4 : Int32) (x5 : Nat) (x6 : Nat) (h : xH) (Q : Outcome → xH → Prop) : Prop := ((x5 = 0 → ((¬ x4 = 0 → tg h x0 = 6 ∧ 1 ≤ fr ∧ 13 ≤ lo ∧ xRv G YX5_address (fr - 1) (lo - 13) [rv x0, rv x6] h (fun h6 => xext h h6 → ((x3 = 0 → bX5_transfers_233 G fr lo x2 98 (fR h6 x0 1281) h6 Q) ∧ (¬ x3 = 0 → bX5_transfers_233 G fr lo x2 91 (fR h6 x0 1281) h6 Q))) (fun r h2 => Q (.threw r) h2)) ∧ (x4 = 0 → Q (.returned none) h))) ∧ (¬ x5 = 0 → ((x3 = 0 → tg h x2 = 16 ∧ 1 ≤ fr ∧ 15 ≤ lo ∧ xRi G YX15_place (fr - 1) (lo - 15) [rv x2] h (fun x16 h15 => xext h h15 → tg h15 x0 = 6 ∧ 1 ≤ fr ∧ 22 ≤ lo ∧ xRv G YX5_writes (fr - 1) (lo - 22) [rv x0, rv x6, rv x5, .int x16] h15 (fun h21 => xext h15 h21 → bX5_transfers_196 G fr lo x0 x2 x3 x4 x5 x6 h21 Q) (fun r h2 => Q (.threw r) h2)) (fun r h2 => Q (.threw r) h2)) ∧ (¬ x3 = 0 → tg h x2 = 16 ∧ 1 ≤ fr ∧ 15 ≤ lo ∧ xRi G YX15_place (fr - 1) (lo - 15) [rv x2] h (fun x28 h27 => xext h h27 → tg h27 x0 = 6 ∧ 1 ≤ fr ∧ 21 ≤ lo ∧ xRv G YX5_reads (fr - 1) (lo - 21) [rv x0, rv x6, rv x5, .int x28] h27 (fun h33 => xext h27 h33 → bX5_transfers_196 G fr lo x0 x2 x3 x4 x5 x6 h33 Q) (fun r h2 => Q (.threw r) h2)) (fun r h2 => Q (.threw r) h2)))))
set_option maxRecDepth 100000 in
theorem uX5_transfers_160 {G : xG} {fr lo : Nat} {x0 : Nat} {x2 : Nat} {x3 : Int32} {x4 : Int32} {x5 : Nat} {x6 : Nat} {h : xH} {Q : Outcome → xH → Prop} (hq : bX5_transfers_160 G fr lo x0 x2 x3 x4 x5 x6 h Q) : xP G YX5_transfers fr lo 160 [(0, rv x0), (2, rv x2), (3, .int x3), (4, .int x4), (5, rv x5), (6, rv x6)] [] h Q := by
  unfold bX5_transfers_160 at hq
  refine x_aload 4 dX5_transfers_160 rfl ?_
  refine x_ifnull (tgt := 206) dX5_transfers_162 (by decide) (fun c1 => ?_) (fun c1 => ?_)
  · replace hq := hq.1 c1
    refine x_iload 3 dX5_transfers_206 rfl ?_
    refine x_if_ne (tgt := 212) dX5_transfers_208 (by decide) (fun c2 => ?_) (fun c2 => ?_)
    · replace hq := hq.1 c2
      refine x_aload_n 0 dX5_transfers_212 rfl ?_
      refine x_aload 5 dX5_transfers_213 rfl ?_
      obtain ⟨g3, hq⟩ := hq
      obtain ⟨g4, g5, hq⟩ := hq
      refine x_callV (Yc := YX5_address) (as := [rv x6]) (st := []) q2594 mvX5_address g3 rfl dX5_transfers_215 (xle (xal1 (rv_cat _) (xal1 (rv_cat _) xal0)) (by decide)) (xfr g4) (xlo xsw0 (by decide) g5) (xKv hq (fun h6 hq e8 => ?_) (fun _ _ q _ => q))
      replace hq := hq e8
      refine x_aload_n 0 dX5_transfers_218 rfl ?_
      have t9 : tg h6 x0 = 6 := e8.tg g3 (by decide)
      refine x_get (v := rv (fR h6 x0 1281)) fdX5_62 dX5_transfers_219 t9 rfl ?_
      refine x_iload_n 2 dX5_transfers_222 rfl ?_
      refine x_if_eq (tgt := 231) dX5_transfers_223 (by decide) (fun c10 => ?_) (fun c10 => ?_)
      · replace hq := hq.1 c10
        refine x_bipush (v := 98) dX5_transfers_231 (by decide) ?_
        refine xP.pick (lv' := [(2, rv x2)]) [1] rfl ?_
        exact uX5_transfers_233 hq
      · replace hq := hq.2 c10
        refine x_bipush (v := 91) dX5_transfers_226 (by decide) ?_
        refine x_goto (tgt := 233) dX5_transfers_228 (by decide) ?_
        refine xP.pick (lv' := [(2, rv x2)]) [1] rfl ?_
        exact uX5_transfers_233 hq
    · replace hq := hq.2 c2
      exact x_vret rfl dX5_transfers_211 hq
  · replace hq := hq.2 c1
    refine x_iload_n 2 dX5_transfers_165 rfl ?_
    refine x_if_eq (tgt := 184) dX5_transfers_166 (by decide) (fun c11 => ?_) (fun c11 => ?_)
    · replace hq := hq.1 c11
      refine x_aload_n 0 dX5_transfers_184 rfl ?_
      refine x_aload 5 dX5_transfers_185 rfl ?_
      refine x_aload 4 dX5_transfers_187 rfl ?_
      refine x_aload_n 1 dX5_transfers_189 rfl ?_
      obtain ⟨g12, hq⟩ := hq
      obtain ⟨g13, g14, hq⟩ := hq
      refine x_callV (Yc := YX15_place) (as := []) (st := [rv x5, rv x6, rv x0]) q2013 mvX15_place g12 rfl dX5_transfers_190 (xle (xal1 (rv_cat _) xal0) (by decide)) (xfr g13) (xlo (xsw1 (rv_cat _) (xsw1 (rv_cat _) (xsw1 (rv_cat _) xsw0))) (by decide) g14) (xKi hq (fun x16 h15 hq e17 => ?_) (fun _ _ q _ => q))
      replace hq := hq e17
      obtain ⟨g18, hq⟩ := hq
      obtain ⟨g19, g20, hq⟩ := hq
      refine x_callV (Yc := YX5_writes) (as := [rv x6, rv x5, .int x16]) (st := []) q2790 mvX5_writes g18 rfl dX5_transfers_193 (xle (xal1 (rv_cat _) (xal1 (rv_cat _) (xal1 (rv_cat _) (xal1 rfl xal0)))) (by decide)) (xfr g19) (xlo xsw0 (by decide) g20) (xKv hq (fun h21 hq e23 => ?_) (fun _ _ q _ => q))
      replace hq := hq e23
      exact uX5_transfers_196 hq
    · replace hq := hq.2 c11
      refine x_aload_n 0 dX5_transfers_169 rfl ?_
      refine x_aload 5 dX5_transfers_170 rfl ?_
      refine x_aload 4 dX5_transfers_172 rfl ?_
      refine x_aload_n 1 dX5_transfers_174 rfl ?_
      obtain ⟨g24, hq⟩ := hq
      obtain ⟨g25, g26, hq⟩ := hq
      refine x_callV (Yc := YX15_place) (as := []) (st := [rv x5, rv x6, rv x0]) q2013 mvX15_place g24 rfl dX5_transfers_175 (xle (xal1 (rv_cat _) xal0) (by decide)) (xfr g25) (xlo (xsw1 (rv_cat _) (xsw1 (rv_cat _) (xsw1 (rv_cat _) xsw0))) (by decide) g26) (xKi hq (fun x28 h27 hq e29 => ?_) (fun _ _ q _ => q))
      replace hq := hq e29
      obtain ⟨g30, hq⟩ := hq
      obtain ⟨g31, g32, hq⟩ := hq
      refine x_callV (Yc := YX5_reads) (as := [rv x6, rv x5, .int x28]) (st := []) q2786 mvX5_reads g30 rfl dX5_transfers_178 (xle (xal1 (rv_cat _) (xal1 (rv_cat _) (xal1 (rv_cat _) (xal1 rfl xal0)))) (by decide)) (xfr g31) (xlo xsw0 (by decide) g32) (xKv hq (fun h33 hq e35 => ?_) (fun _ _ q _ => q))
      replace hq := hq e35
      refine x_goto (tgt := 196) dX5_transfers_181 (by decide) ?_
      exact uX5_transfers_196 hq
set_option maxRecDepth 100000 in
def bX5_transfers_139 (G : xG) (fr lo : Nat) (x0 : Nat) (x2 : Nat) (x3 : Int32) (x4 : Int32) (x5 : Nat) (x6 : Nat) (h : xH) (Q : Outcome → xH → Prop) : Prop := ((¬ x4 = 0 → lX5_transfers_160 G fr lo x0 x2 x3 x4 x5 x6 h Q) ∧ (x4 = 0 → ((¬ x5 = 0 → lX5_transfers_160 G fr lo x0 x2 x3 x4 x5 x6 h Q) ∧ (x5 = 0 → tg h x2 = 16 ∧ 1 ≤ fr ∧ 14 ≤ lo ∧ xRi G YX15_place (fr - 1) (lo - 14) [rv x2] h (fun x7 h6 => xext h h6 → tg h6 x0 = 6 ∧ 1 ≤ fr ∧ 14 ≤ lo ∧ xRr G YX5_fault (fr - 1) (lo - 14) [rv x0, .int 9, .int x7] h6 (fun x13 h12 => xext h6 h12 → (∃ r15, x13 = r15 + 1 ∧ Q (.threw r15) h12)) (fun r h2 => Q (.threw r) h2)) (fun r h2 => Q (.threw r) h2)))))
set_option maxRecDepth 100000 in
theorem uX5_transfers_139 {G : xG} {fr lo : Nat} {x0 : Nat} {x2 : Nat} {x3 : Int32} {x4 : Int32} {x5 : Nat} {x6 : Nat} {h : xH} {Q : Outcome → xH → Prop} (hq : bX5_transfers_139 G fr lo x0 x2 x3 x4 x5 x6 h Q) : xP G YX5_transfers fr lo 139 [(0, rv x0), (2, rv x2), (3, .int x3), (4, .int x4), (5, rv x5), (6, rv x6)] [] h Q := by
  unfold bX5_transfers_139 at hq
  refine x_iload 3 dX5_transfers_139 rfl ?_
  refine x_if_ne (tgt := 160) dX5_transfers_141 (by decide) (fun c1 => ?_) (fun c1 => ?_)
  · replace hq := hq.1 c1
    exact hq
  · replace hq := hq.2 c1
    refine x_aload 4 dX5_transfers_144 rfl ?_
    refine x_ifnonnull (tgt := 160) dX5_transfers_146 (by decide) (fun c2 => ?_) (fun c2 => ?_)
    · replace hq := hq.1 c2
      exact hq
    · replace hq := hq.2 c2
      refine x_aload_n 0 dX5_transfers_149 rfl ?_
      refine x_bipush (v := 9) dX5_transfers_150 (by decide) ?_
      refine x_aload_n 1 dX5_transfers_152 rfl ?_
      obtain ⟨g3, hq⟩ := hq
      obtain ⟨g4, g5, hq⟩ := hq
      refine x_callV (Yc := YX15_place) (as := []) (st := [.int 9, rv x0]) q2013 mvX15_place g3 rfl dX5_transfers_153 (xle (xal1 (rv_cat _) xal0) (by decide)) (xfr g4) (xlo (xsw1 rfl (xsw1 (rv_cat _) xsw0)) (by decide) g5) (xKi hq (fun x7 h6 hq e8 => ?_) (fun _ _ q _ => q))
      replace hq := hq e8
      obtain ⟨g9, hq⟩ := hq
      obtain ⟨g10, g11, hq⟩ := hq
      refine x_callV (Yc := YX5_fault) (as := [.int 9, .int x7]) (st := []) q2087 mvX5_fault g9 rfl dX5_transfers_156 (xle (xal1 (rv_cat _) (xal1 rfl (xal1 rfl xal0))) (by decide)) (xfr g10) (xlo xsw0 (by decide) g11) (xKr hq (fun x13 h12 hq e14 => ?_) (fun _ _ q _ => q))
      replace hq := hq e14
      obtain ⟨r15, g16, hq⟩ := hq
      rw [g16]
      exact x_athrow dX5_transfers_159 hq
set_option maxRecDepth 100000 in
def bX5_transfers_106 (G : xG) (fr lo : Nat) (x0 : Nat) (x2 : Nat) (x3 : Int32) (x4 : Int32) (x5 : Nat) (x6 : Nat) (h : xH) (Q : Outcome → xH → Prop) : Prop := ((x4 = 0 → bX5_transfers_139 G fr lo x0 x2 x3 x4 x5 x6 h Q) ∧ (¬ x4 = 0 → tg h x6 = 9 ∧ tg h (fR h x6 2050) = 7 ∧ 1 ≤ fr ∧ 12 ≤ lo ∧ xRi G YX6_isText (fr - 1) (lo - 12) [rv (fR h x6 2050)] h (fun x7 h6 => xext h h6 → ((¬ x7 = 0 → bX5_transfers_139 G fr lo x0 x2 x3 x4 x5 x6 h6 Q) ∧ (x7 = 0 → tg h6 x2 = 16 ∧ tg h6 (fR h6 x2 3842) = 16 ∧ tg h6 (fR h6 (fR h6 x2 3842) 3842) = 16 ∧ 1 ≤ fr ∧ 14 ≤ lo ∧ xRi G YX15_place (fr - 1) (lo - 14) [rv (fR h6 (fR h6 x2 3842) 3842)] h6 (fun x16 h15 => xext h6 h15 → tg h15 x0 = 6 ∧ 1 ≤ fr ∧ 14 ≤ lo ∧ xRr G YX5_fault (fr - 1) (lo - 14) [rv x0, .int 7, .int x16] h15 (fun x22 h21 => xext h15 h21 → (∃ r24, x22 = r24 + 1 ∧ Q (.threw r24) h21)) (fun r h2 => Q (.threw r) h2)) (fun r h2 => Q (.threw r) h2)))) (fun r h2 => Q (.threw r) h2)))
set_option maxRecDepth 100000 in
theorem uX5_transfers_106 {G : xG} {fr lo : Nat} {x0 : Nat} {x2 : Nat} {x3 : Int32} {x4 : Int32} {x5 : Nat} {x6 : Nat} {h : xH} {Q : Outcome → xH → Prop} (hq : bX5_transfers_106 G fr lo x0 x2 x3 x4 x5 x6 h Q) : xP G YX5_transfers fr lo 106 [(0, rv x0), (2, rv x2), (3, .int x3), (4, .int x4), (5, rv x5), (6, rv x6)] [] h Q := by
  unfold bX5_transfers_106 at hq
  refine x_iload 3 dX5_transfers_106 rfl ?_
  refine x_if_eq (tgt := 139) dX5_transfers_108 (by decide) (fun c1 => ?_) (fun c1 => ?_)
  · replace hq := hq.1 c1
    exact uX5_transfers_139 hq
  · replace hq := hq.2 c1
    refine x_aload 5 dX5_transfers_111 rfl ?_
    obtain ⟨g2, hq⟩ := hq
    refine x_getN (v := rv (fR h x6 2050)) gfX5_249 dX5_transfers_113 g2 rfl ?_
    obtain ⟨g3, hq⟩ := hq
    obtain ⟨g4, g5, hq⟩ := hq
    refine x_callV (Yc := YX6_isText) (as := []) (st := []) q2637 mvX6_isText g3 rfl dX5_transfers_116 (xle (xal1 (rv_cat _) xal0) (by decide)) (xfr g4) (xlo xsw0 (by decide) g5) (xKi hq (fun x7 h6 hq e8 => ?_) (fun _ _ q _ => q))
    replace hq := hq e8
    refine x_if_ne (tgt := 139) dX5_transfers_119 (by decide) (fun c9 => ?_) (fun c9 => ?_)
    · replace hq := hq.1 c9
      exact uX5_transfers_139 hq
    · replace hq := hq.2 c9
      refine x_aload_n 0 dX5_transfers_122 rfl ?_
      refine x_bipush (v := 7) dX5_transfers_123 (by decide) ?_
      refine x_aload_n 1 dX5_transfers_125 rfl ?_
      obtain ⟨g10, hq⟩ := hq
      refine x_getN (v := rv (fR h6 x2 3842)) gfX5_251 dX5_transfers_126 g10 rfl ?_
      obtain ⟨g11, hq⟩ := hq
      refine x_getN (v := rv (fR h6 (fR h6 x2 3842) 3842)) gfX5_251 dX5_transfers_129 g11 rfl ?_
      obtain ⟨g12, hq⟩ := hq
      obtain ⟨g13, g14, hq⟩ := hq
      refine x_callV (Yc := YX15_place) (as := []) (st := [.int 7, rv x0]) q2013 mvX15_place g12 rfl dX5_transfers_132 (xle (xal1 (rv_cat _) xal0) (by decide)) (xfr g13) (xlo (xsw1 rfl (xsw1 (rv_cat _) xsw0)) (by decide) g14) (xKi hq (fun x16 h15 hq e17 => ?_) (fun _ _ q _ => q))
      replace hq := hq e17
      obtain ⟨g18, hq⟩ := hq
      obtain ⟨g19, g20, hq⟩ := hq
      refine x_callV (Yc := YX5_fault) (as := [.int 7, .int x16]) (st := []) q2087 mvX5_fault g18 rfl dX5_transfers_135 (xle (xal1 (rv_cat _) (xal1 rfl (xal1 rfl xal0))) (by decide)) (xfr g19) (xlo xsw0 (by decide) g20) (xKr hq (fun x22 h21 hq e23 => ?_) (fun _ _ q _ => q))
      replace hq := hq e23
      obtain ⟨r24, g25, hq⟩ := hq
      rw [g25]
      exact x_athrow dX5_transfers_138 hq
set_option maxRecDepth 100000 in
def bX5_transfers_49 (G : xG) (fr lo : Nat) (x0 : Nat) (x2 : Nat) (x3 : Int32) (x4 : Int32) (x5 : Nat) (s0 : Nat) (h : xH) (Q : Outcome → xH → Prop) : Prop := ((s0 = 0 → tg h x2 = 16 ∧ 1 ≤ fr ∧ 14 ≤ lo ∧ xRi G YX15_place (fr - 1) (lo - 14) [rv x2] h (fun x6 h5 => xext h h5 → tg h5 x0 = 6 ∧ 1 ≤ fr ∧ 15 ≤ lo ∧ xRr G YX5_standard (fr - 1) (lo - 15) [rv x0, .int x3, .int x6] h5 (fun x12 h11 => xext h5 h11 → bX5_transfers_106 G fr lo x0 x2 x3 x4 x5 x12 h11 Q) (fun r h2 => Q (.threw r) h2)) (fun r h2 => Q (.threw r) h2)) ∧ (¬ s0 = 0 → tg h x5 = 16 ∧ tg h (fR h x5 3842) = 16 ∧ (((fR h (fR h x5 3842) 3844) = 0 → bX5_transfers_106 G fr lo x0 x2 x3 x4 (fR h x5 3844) s0 h Q) ∧ (¬ (fR h (fR h x5 3842) 3844) = 0 → tg h (fR h (fR h x5 3842) 3844) = 16 ∧ 1 ≤ fr ∧ 14 ≤ lo ∧ xRi G YX15_place (fr - 1) (lo - 14) [rv (fR h (fR h x5 3842) 3844)] h (fun x21 h20 => xext h h20 → tg h20 x0 = 6 ∧ 1 ≤ fr ∧ 14 ≤ lo ∧ xRr G YX5_fault (fr - 1) (lo - 14) [rv x0, .int 7, .int x21] h20 (fun x27 h26 => xext h20 h26 → (∃ r29, x27 = r29 + 1 ∧ Q (.threw r29) h26)) (fun r h2 => Q (.threw r) h2)) (fun r h2 => Q (.threw r) h2)))))
set_option maxRecDepth 100000 in
theorem uX5_transfers_49 {G : xG} {fr lo : Nat} {x0 : Nat} {x2 : Nat} {x3 : Int32} {x4 : Int32} {x5 : Nat} {s0 : Nat} {h : xH} {Q : Outcome → xH → Prop} (hq : bX5_transfers_49 G fr lo x0 x2 x3 x4 x5 s0 h Q) : xP G YX5_transfers fr lo 49 [(0, rv x0), (2, rv x2), (3, .int x3), (4, .int x4), (5, rv x5)] [rv s0] h Q := by
  unfold bX5_transfers_49 at hq
  refine x_astore (lv' := [(6, rv s0), (0, rv x0), (2, rv x2), (3, .int x3), (4, .int x4), (5, rv x5)]) dX5_transfers_49 (by decide) (by first | rfl | (simp [rv_cat, Value.category]; done) | (simp [rv_cat, Value.category]; decide)) ?_
  refine x_aload 0 dX5_transfers_51 rfl ?_
  refine x_ifnull (tgt := 95) dX5_transfers_53 (by decide) (fun c1 => ?_) (fun c1 => ?_)
  · replace hq := hq.1 c1
    refine x_aload_n 1 dX5_transfers_95 rfl ?_
    refine x_iload_n 3 dX5_transfers_96 rfl ?_
    refine x_aload_n 2 dX5_transfers_97 rfl ?_
    obtain ⟨g2, hq⟩ := hq
    obtain ⟨g3, g4, hq⟩ := hq
    refine x_callV (Yc := YX15_place) (as := []) (st := [.int x3, rv x0]) q2013 mvX15_place g2 rfl dX5_transfers_98 (xle (xal1 (rv_cat _) xal0) (by decide)) (xfr g3) (xlo (xsw1 rfl (xsw1 (rv_cat _) xsw0)) (by decide) g4) (xKi hq (fun x6 h5 hq e7 => ?_) (fun _ _ q _ => q))
    replace hq := hq e7
    obtain ⟨g8, hq⟩ := hq
    obtain ⟨g9, g10, hq⟩ := hq
    refine x_callV (Yc := YX5_standard) (as := [.int x3, .int x6]) (st := []) q2629 mvX5_standard g8 rfl dX5_transfers_101 (xle (xal1 (rv_cat _) (xal1 rfl (xal1 rfl xal0))) (by decide)) (xfr g9) (xlo xsw0 (by decide) g10) (xKr hq (fun x12 h11 hq e13 => ?_) (fun _ _ q _ => q))
    replace hq := hq e13
    refine x_astore (lv' := [(6, rv x12), (0, rv x0), (2, rv x2), (3, .int x3), (4, .int x4), (5, rv x5)]) dX5_transfers_104 (by decide) (by first | rfl | (simp [rv_cat, Value.category]; done) | (simp [rv_cat, Value.category]; decide)) ?_
    refine xP.pick (lv' := [(0, rv x0), (2, rv x2), (3, .int x3), (4, .int x4), (5, rv x5), (6, rv x12)]) [1, 2, 3, 4, 5, 0] rfl ?_
    exact uX5_transfers_106 hq
  · replace hq := hq.2 c1
    refine x_aload 5 dX5_transfers_56 rfl ?_
    obtain ⟨g14, hq⟩ := hq
    refine x_getN (v := rv (fR h x5 3842)) gfX5_251 dX5_transfers_58 g14 rfl ?_
    obtain ⟨g15, hq⟩ := hq
    refine x_getN (v := rv (fR h (fR h x5 3842) 3844)) gfX5_307 dX5_transfers_61 g15 rfl ?_
    refine x_ifnull (tgt := 85) dX5_transfers_64 (by decide) (fun c16 => ?_) (fun c16 => ?_)
    · replace hq := hq.1 c16
      refine x_aload 5 dX5_transfers_85 rfl ?_
      refine x_getN (v := rv (fR h x5 3844)) gfX5_307 dX5_transfers_87 g14 rfl ?_
      refine x_astore (lv' := [(5, rv (fR h x5 3844)), (6, rv s0), (0, rv x0), (2, rv x2), (3, .int x3), (4, .int x4)]) dX5_transfers_90 (by decide) rfl ?_
      refine x_goto (tgt := 106) dX5_transfers_92 (by decide) ?_
      refine xP.pick (lv' := [(0, rv x0), (2, rv x2), (3, .int x3), (4, .int x4), (5, rv (fR h x5 3844)), (6, rv s0)]) [2, 3, 4, 5, 0, 1] rfl ?_
      exact uX5_transfers_106 hq
    · replace hq := hq.2 c16
      refine x_aload_n 1 dX5_transfers_67 rfl ?_
      refine x_bipush (v := 7) dX5_transfers_68 (by decide) ?_
      refine x_aload 5 dX5_transfers_70 rfl ?_
      refine x_getN (v := rv (fR h x5 3842)) gfX5_251 dX5_transfers_72 g14 rfl ?_
      refine x_getN (v := rv (fR h (fR h x5 3842) 3844)) gfX5_307 dX5_transfers_75 g15 rfl ?_
      obtain ⟨g17, hq⟩ := hq
      obtain ⟨g18, g19, hq⟩ := hq
      refine x_callV (Yc := YX15_place) (as := []) (st := [.int 7, rv x0]) q2013 mvX15_place g17 rfl dX5_transfers_78 (xle (xal1 (rv_cat _) xal0) (by decide)) (xfr g18) (xlo (xsw1 rfl (xsw1 (rv_cat _) xsw0)) (by decide) g19) (xKi hq (fun x21 h20 hq e22 => ?_) (fun _ _ q _ => q))
      replace hq := hq e22
      obtain ⟨g23, hq⟩ := hq
      obtain ⟨g24, g25, hq⟩ := hq
      refine x_callV (Yc := YX5_fault) (as := [.int 7, .int x21]) (st := []) q2087 mvX5_fault g23 rfl dX5_transfers_81 (xle (xal1 (rv_cat _) (xal1 rfl (xal1 rfl xal0))) (by decide)) (xfr g24) (xlo xsw0 (by decide) g25) (xKr hq (fun x27 h26 hq e28 => ?_) (fun _ _ q _ => q))
      replace hq := hq e28
      obtain ⟨r29, g30, hq⟩ := hq
      rw [g30]
      exact x_athrow dX5_transfers_84 hq
set_option maxRecDepth 100000 in
def bX5_transfers_23 (G : xG) (fr lo : Nat) (x0 : Nat) (x2 : Nat) (x3 : Int32) (s0 : Int32) (h : xH) (Q : Outcome → xH → Prop) : Prop := tg h x2 = 16 ∧ ((¬ (fR h x2 3842) = 0 → tg h (fR h x2 3842) = 16 ∧ tg h x0 = 6 ∧ 1 ≤ fr ∧ 15 ≤ lo ∧ xRr G YX5_file (fr - 1) (lo - 15) [rv x0, rv (fR h (fR h x2 3842) 3842)] h (fun x8 h7 => xext h h7 → bX5_transfers_49 G fr lo x0 x2 x3 s0 (fR h x2 3842) x8 h7 Q) (fun r h2 => Q (.threw r) h2)) ∧ ((fR h x2 3842) = 0 → bX5_transfers_49 G fr lo x0 x2 x3 s0 (fR h x2 3842) 0 h Q))
set_option maxRecDepth 100000 in
theorem uX5_transfers_23 {G : xG} {fr lo : Nat} {x0 : Nat} {x2 : Nat} {x3 : Int32} {s0 : Int32} {h : xH} {Q : Outcome → xH → Prop} (hq : bX5_transfers_23 G fr lo x0 x2 x3 s0 h Q) : xP G YX5_transfers fr lo 23 [(0, rv x0), (2, rv x2), (3, .int x3)] [.int s0] h Q := by
  unfold bX5_transfers_23 at hq
  refine x_istore (lv' := [(4, .int s0), (0, rv x0), (2, rv x2), (3, .int x3)]) dX5_transfers_23 (by decide) rfl ?_
  refine x_aload_n 2 dX5_transfers_25 rfl ?_
  obtain ⟨g1, hq⟩ := hq
  refine x_getN (v := rv (fR h x2 3842)) gfX5_251 dX5_transfers_26 g1 rfl ?_
  refine x_astore (lv' := [(5, rv (fR h x2 3842)), (4, .int s0), (0, rv x0), (2, rv x2), (3, .int x3)]) dX5_transfers_29 (by decide) rfl ?_
  refine x_aload 0 dX5_transfers_31 rfl ?_
  refine x_ifnonnull (tgt := 40) dX5_transfers_33 (by decide) (fun c2 => ?_) (fun c2 => ?_)
  · replace hq := hq.1 c2
    refine x_aload_n 2 dX5_transfers_40 rfl ?_
    refine x_aload 0 dX5_transfers_41 rfl ?_
    obtain ⟨g3, hq⟩ := hq
    refine x_getN (v := rv (fR h (fR h x2 3842) 3842)) gfX5_251 dX5_transfers_43 g3 rfl ?_
    obtain ⟨g4, hq⟩ := hq
    obtain ⟨g5, g6, hq⟩ := hq
    refine x_callV (Yc := YX5_file) (as := [rv (fR h (fR h x2 3842) 3842)]) (st := []) q2633 mvX5_file g4 rfl dX5_transfers_46 (xle (xal1 (rv_cat _) (xal1 (rv_cat _) xal0)) (by decide)) (xfr g5) (xlo xsw0 (by decide) g6) (xKr hq (fun x8 h7 hq e9 => ?_) (fun _ _ q _ => q))
    replace hq := hq e9
    refine xP.pick (lv' := [(0, rv x0), (2, rv x2), (3, .int x3), (4, .int s0), (5, rv (fR h x2 3842))]) [2, 3, 4, 1, 0] rfl ?_
    exact uX5_transfers_49 hq
  · replace hq := hq.2 c2
    refine x_null dX5_transfers_36 ?_
    refine x_goto (tgt := 49) dX5_transfers_37 (by decide) ?_
    refine xP.pick (lv' := [(0, rv x0), (2, rv x2), (3, .int x3), (4, .int s0), (5, rv (fR h x2 3842))]) [2, 3, 4, 1, 0] rfl ?_
    exact uX5_transfers_49 hq
set_option maxRecDepth 100000 in
def bX5_transfers_10 (G : xG) (fr lo : Nat) (x0 : Nat) (x1 : Int32) (x2 : Nat) (s0 : Int32) (h : xH) (Q : Outcome → xH → Prop) : Prop := ((¬ (x1 - x1 / 2 * 2) = 1 → bX5_transfers_23 G fr lo x0 x2 s0 0 h Q) ∧ ((x1 - x1 / 2 * 2) = 1 → bX5_transfers_23 G fr lo x0 x2 s0 1 h Q))
set_option maxRecDepth 100000 in
theorem uX5_transfers_10 {G : xG} {fr lo : Nat} {x0 : Nat} {x1 : Int32} {x2 : Nat} {s0 : Int32} {h : xH} {Q : Outcome → xH → Prop} (hq : bX5_transfers_10 G fr lo x0 x1 x2 s0 h Q) : xP G YX5_transfers fr lo 10 [(0, rv x0), (1, .int x1), (2, rv x2)] [.int s0] h Q := by
  unfold bX5_transfers_10 at hq
  refine x_istore_n (lv' := [(3, .int s0), (0, rv x0), (1, .int x1), (2, rv x2)]) dX5_transfers_10 (by decide) (by first | rfl | (simp [rv_cat, Value.category]; done) | (simp [rv_cat, Value.category]; decide)) ?_
  refine x_iload_n 2 dX5_transfers_11 rfl ?_
  refine x_iconst (v := 2) dX5_transfers_12 (by decide) ?_
  refine x_irem dX5_transfers_13 (by decide) ?_
  refine x_iconst (v := 1) dX5_transfers_14 (by decide) ?_
  refine x_icmp_ne (tgt := 22) dX5_transfers_15 (by decide) (fun c1 => ?_) (fun c1 => ?_)
  · replace hq := hq.1 c1
    refine x_iconst (v := 0) dX5_transfers_22 (by decide) ?_
    refine xP.pick (lv' := [(0, rv x0), (2, rv x2), (3, .int s0)]) [1, 3, 0] rfl ?_
    exact uX5_transfers_23 hq
  · replace hq := hq.2 c1
    refine x_iconst (v := 1) dX5_transfers_18 (by decide) ?_
    refine x_goto (tgt := 23) dX5_transfers_19 (by decide) ?_
    refine xP.pick (lv' := [(0, rv x0), (2, rv x2), (3, .int s0)]) [1, 3, 0] rfl ?_
    exact uX5_transfers_23 hq
set_option maxRecDepth 100000 in
def bX5_transfers (G : xG) (fr lo : Nat) (x0 : Nat) (x1 : Int32) (x2 : Nat) (h : xH) (Q : Outcome → xH → Prop) : Prop := ((2 ≤ x1 → bX5_transfers_10 G fr lo x0 x1 x2 0 h Q) ∧ (¬ 2 ≤ x1 → bX5_transfers_10 G fr lo x0 x1 x2 1 h Q))
set_option maxRecDepth 100000 in
theorem uX5_transfers {G : xG} {fr lo : Nat} {x0 : Nat} {x1 : Int32} {x2 : Nat} {h : xH} {Q : Outcome → xH → Prop} (hq : bX5_transfers G fr lo x0 x1 x2 h Q) : xP G YX5_transfers fr lo 0 [(0, rv x0), (1, .int x1), (2, rv x2)] [] h Q := by
  unfold bX5_transfers at hq
  refine x_iload_n 1 dX5_transfers_0 rfl ?_
  refine x_iconst (v := 2) dX5_transfers_1 (by decide) ?_
  refine x_icmp_ge (tgt := 9) dX5_transfers_2 (by decide) (fun c1 => ?_) (fun c1 => ?_)
  · replace hq := hq.1 c1
    refine x_iconst (v := 0) dX5_transfers_9 (by decide) ?_
    exact uX5_transfers_10 hq
  · replace hq := hq.2 c1
    refine x_iconst (v := 1) dX5_transfers_5 (by decide) ?_
    refine x_goto (tgt := 10) dX5_transfers_6 (by decide) ?_
    exact uX5_transfers_10 hq
theorem rX5_transfers {G : xG} {fr lo : Nat} {x0 : Nat} {x1 : Int32} {x2 : Nat} {h : xH} {Q : Outcome → xH → Prop} (hq : bX5_transfers G fr lo x0 x1 x2 h Q) : xR G YX5_transfers fr lo [rv x0, .int x1, rv x2] h Q := by
  show xP _ _ _ _ _ (lv_args 0 _) _ _ _
  rw [show lv_args 0 [rv x0, .int x1, rv x2] = [(0, rv x0), (1, .int x1), (2, rv x2)] from (xla1 (rv_cat _) (xla1 rfl (xla1 (rv_cat _) xla0)))]
  exact uX5_transfers hq
set_option maxRecDepth 100000 in
theorem dX5_reads_0 : decode cX5_reads 0 = .ok (.aload_n 2, 1) := by decide +kernel
set_option maxRecDepth 100000 in
theorem dX5_reads_1 : decode cX5_reads 1 = .ok (.getfield 251, 3) := by decide +kernel
set_option maxRecDepth 100000 in
theorem dX5_reads_4 : decode cX5_reads 4 = .ok (.astore 4, 2) := by decide +kernel
set_option maxRecDepth 100000 in
theorem dX5_reads_6 : decode cX5_reads 6 = .ok (.aload_n 0, 1) := by decide +kernel
set_option maxRecDepth 100000 in
theorem dX5_reads_7 : decode cX5_reads 7 = .ok (.aload 4, 2) := by decide +kernel
set_option maxRecDepth 100000 in
theorem dX5_reads_9 : decode cX5_reads 9 = .ok (.invokevirtual 688, 3) := by decide +kernel
set_option maxRecDepth 100000 in
theorem dX5_reads_12 : decode cX5_reads 12 = .ok (.astore 5, 2) := by decide +kernel
set_option maxRecDepth 100000 in
theorem dX5_reads_14 : decode cX5_reads 14 = .ok (.aload_n 0, 1) := by decide +kernel
set_option maxRecDepth 100000 in
theorem dX5_reads_15 : decode cX5_reads 15 = .ok (.aload 4, 2) := by decide +kernel
set_option maxRecDepth 100000 in
theorem dX5_reads_17 : decode cX5_reads 17 = .ok (.invokevirtual 624, 3) := by decide +kernel
set_option maxRecDepth 100000 in
theorem dX5_reads_20 : decode cX5_reads 20 = .ok (.istore 6, 2) := by decide +kernel
set_option maxRecDepth 100000 in
theorem dX5_reads_22 : decode cX5_reads 22 = .ok (.aload_n 0, 1) := by decide +kernel
set_option maxRecDepth 100000 in
theorem dX5_reads_23 : decode cX5_reads 23 = .ok (.getfield 702, 3) := by decide +kernel
set_option maxRecDepth 100000 in
theorem dX5_reads_26 : decode cX5_reads 26 = .ok (.ifnull 12, 3) := by decide +kernel
set_option maxRecDepth 100000 in
theorem dX5_reads_29 : decode cX5_reads 29 = .ok (.aload_n 0, 1) := by decide +kernel
set_option maxRecDepth 100000 in
theorem dX5_reads_30 : decode cX5_reads 30 = .ok (.bipush 6, 2) := by decide +kernel
set_option maxRecDepth 100000 in
theorem dX5_reads_32 : decode cX5_reads 32 = .ok (.iload 6, 2) := by decide +kernel
set_option maxRecDepth 100000 in
theorem dX5_reads_34 : decode cX5_reads 34 = .ok (.invokevirtual 163, 3) := by decide +kernel
set_option maxRecDepth 100000 in
theorem dX5_reads_37 : decode cX5_reads 37 = .ok (.athrow, 1) := by decide +kernel
set_option maxRecDepth 100000 in
theorem dX5_reads_38 : decode cX5_reads 38 = .ok (.aload_n 1, 1) := by decide +kernel
set_option maxRecDepth 100000 in
theorem dX5_reads_39 : decode cX5_reads 39 = .ok (.getfield 249, 3) := by decide +kernel
set_option maxRecDepth 100000 in
theorem dX5_reads_42 : decode cX5_reads 42 = .ok (.invokevirtual 768, 3) := by decide +kernel
set_option maxRecDepth 100000 in
theorem dX5_reads_45 : decode cX5_reads 45 = .ok (.istore 7, 2) := by decide +kernel
set_option maxRecDepth 100000 in
theorem dX5_reads_47 : decode cX5_reads 47 = .ok (.iload 7, 2) := by decide +kernel
set_option maxRecDepth 100000 in
theorem dX5_reads_49 : decode cX5_reads 49 = .ok (.ifCond .eq 15, 3) := by decide +kernel
set_option maxRecDepth 100000 in
theorem dX5_reads_52 : decode cX5_reads 52 = .ok (.aload 5, 2) := by decide +kernel
set_option maxRecDepth 100000 in
theorem dX5_reads_54 : decode cX5_reads 54 = .ok (.invokevirtual 255, 3) := by decide +kernel
set_option maxRecDepth 100000 in
theorem dX5_reads_57 : decode cX5_reads 57 = .ok (.ifCond .eq 7, 3) := by decide +kernel
set_option maxRecDepth 100000 in
theorem dX5_reads_60 : decode cX5_reads 60 = .ok (.iconst 1, 1) := by decide +kernel
set_option maxRecDepth 100000 in
theorem dX5_reads_61 : decode cX5_reads 61 = .ok (.goto 4, 3) := by decide +kernel
set_option maxRecDepth 100000 in
theorem dX5_reads_64 : decode cX5_reads 64 = .ok (.iconst 0, 1) := by decide +kernel
set_option maxRecDepth 100000 in
theorem dX5_reads_65 : decode cX5_reads 65 = .ok (.istore 8, 2) := by decide +kernel
set_option maxRecDepth 100000 in
theorem dX5_reads_67 : decode cX5_reads 67 = .ok (.iload 7, 2) := by decide +kernel
set_option maxRecDepth 100000 in
theorem dX5_reads_69 : decode cX5_reads 69 = .ok (.ifCond .eq 28, 3) := by decide +kernel
set_option maxRecDepth 100000 in
theorem dX5_reads_72 : decode cX5_reads 72 = .ok (.iload 8, 2) := by decide +kernel
set_option maxRecDepth 100000 in
theorem dX5_reads_74 : decode cX5_reads 74 = .ok (.ifCond .ne 15, 3) := by decide +kernel
set_option maxRecDepth 100000 in
theorem dX5_reads_77 : decode cX5_reads 77 = .ok (.aload 5, 2) := by decide +kernel
set_option maxRecDepth 100000 in
theorem dX5_reads_79 : decode cX5_reads 79 = .ok (.invokevirtual 393, 3) := by decide +kernel
set_option maxRecDepth 100000 in
theorem dX5_reads_82 : decode cX5_reads 82 = .ok (.getfield 289, 3) := by decide +kernel
set_option maxRecDepth 100000 in
theorem dX5_reads_85 : decode cX5_reads 85 = .ok (.iconst 3, 1) := by decide +kernel
set_option maxRecDepth 100000 in
theorem dX5_reads_86 : decode cX5_reads 86 = .ok (.if_icmp .ne 7, 3) := by decide +kernel
set_option maxRecDepth 100000 in
theorem dX5_reads_89 : decode cX5_reads 89 = .ok (.iconst 1, 1) := by decide +kernel
set_option maxRecDepth 100000 in
theorem dX5_reads_90 : decode cX5_reads 90 = .ok (.goto 22, 3) := by decide +kernel
set_option maxRecDepth 100000 in
theorem dX5_reads_93 : decode cX5_reads 93 = .ok (.iconst 0, 1) := by decide +kernel
set_option maxRecDepth 100000 in
theorem dX5_reads_94 : decode cX5_reads 94 = .ok (.goto 18, 3) := by decide +kernel
set_option maxRecDepth 100000 in
theorem dX5_reads_97 : decode cX5_reads 97 = .ok (.aload 5, 2) := by decide +kernel
set_option maxRecDepth 100000 in
theorem dX5_reads_99 : decode cX5_reads 99 = .ok (.aload_n 1, 1) := by decide +kernel
set_option maxRecDepth 100000 in
theorem dX5_reads_100 : decode cX5_reads 100 = .ok (.getfield 249, 3) := by decide +kernel
set_option maxRecDepth 100000 in
theorem dX5_reads_103 : decode cX5_reads 103 = .ok (.getfield 286, 3) := by decide +kernel
set_option maxRecDepth 100000 in
theorem dX5_reads_106 : decode cX5_reads 106 = .ok (.invokestatic 788, 3) := by decide +kernel
set_option maxRecDepth 100000 in
theorem dX5_reads_109 : decode cX5_reads 109 = .ok (.invokevirtual 678, 3) := by decide +kernel
set_option maxRecDepth 100000 in
theorem dX5_reads_112 : decode cX5_reads 112 = .ok (.istore 9, 2) := by decide +kernel
set_option maxRecDepth 100000 in
theorem dX5_reads_114 : decode cX5_reads 114 = .ok (.iload 9, 2) := by decide +kernel
set_option maxRecDepth 100000 in
theorem dX5_reads_116 : decode cX5_reads 116 = .ok (.ifCond .ne 12, 3) := by decide +kernel
set_option maxRecDepth 100000 in
theorem dX5_reads_119 : decode cX5_reads 119 = .ok (.aload_n 0, 1) := by decide +kernel
set_option maxRecDepth 100000 in
theorem dX5_reads_120 : decode cX5_reads 120 = .ok (.bipush 7, 2) := by decide +kernel
set_option maxRecDepth 100000 in
theorem dX5_reads_122 : decode cX5_reads 122 = .ok (.iload 6, 2) := by decide +kernel
set_option maxRecDepth 100000 in
theorem dX5_reads_124 : decode cX5_reads 124 = .ok (.invokevirtual 163, 3) := by decide +kernel
set_option maxRecDepth 100000 in
theorem dX5_reads_127 : decode cX5_reads 127 = .ok (.athrow, 1) := by decide +kernel
set_option maxRecDepth 100000 in
theorem dX5_reads_128 : decode cX5_reads 128 = .ok (.aload_n 0, 1) := by decide +kernel
set_option maxRecDepth 100000 in
theorem dX5_reads_129 : decode cX5_reads 129 = .ok (.aload_n 0, 1) := by decide +kernel
set_option maxRecDepth 100000 in
theorem dX5_reads_130 : decode cX5_reads 130 = .ok (.getfield 705, 3) := by decide +kernel
set_option maxRecDepth 100000 in
theorem dX5_reads_133 : decode cX5_reads 133 = .ok (.iload 6, 2) := by decide +kernel
set_option maxRecDepth 100000 in
theorem dX5_reads_135 : decode cX5_reads 135 = .ok (.invokevirtual 708, 3) := by decide +kernel
set_option maxRecDepth 100000 in
theorem dX5_reads_138 : decode cX5_reads 138 = .ok (.aload 4, 2) := by decide +kernel
set_option maxRecDepth 100000 in
theorem dX5_reads_140 : decode cX5_reads 140 = .ok (.getfield 307, 3) := by decide +kernel
set_option maxRecDepth 100000 in
theorem dX5_reads_143 : decode cX5_reads 143 = .ok (.ifnull 18, 3) := by decide +kernel
set_option maxRecDepth 100000 in
theorem dX5_reads_146 : decode cX5_reads 146 = .ok (.aload_n 0, 1) := by decide +kernel
set_option maxRecDepth 100000 in
theorem dX5_reads_147 : decode cX5_reads 147 = .ok (.bipush 7, 2) := by decide +kernel
set_option maxRecDepth 100000 in
theorem dX5_reads_149 : decode cX5_reads 149 = .ok (.aload 4, 2) := by decide +kernel
set_option maxRecDepth 100000 in
theorem dX5_reads_151 : decode cX5_reads 151 = .ok (.getfield 307, 3) := by decide +kernel
set_option maxRecDepth 100000 in
theorem dX5_reads_154 : decode cX5_reads 154 = .ok (.invokevirtual 192, 3) := by decide +kernel
set_option maxRecDepth 100000 in
theorem dX5_reads_157 : decode cX5_reads 157 = .ok (.invokevirtual 163, 3) := by decide +kernel
set_option maxRecDepth 100000 in
theorem dX5_reads_160 : decode cX5_reads 160 = .ok (.athrow, 1) := by decide +kernel
set_option maxRecDepth 100000 in
theorem dX5_reads_161 : decode cX5_reads 161 = .ok (.aload_n 0, 1) := by decide +kernel
set_option maxRecDepth 100000 in
theorem dX5_reads_162 : decode cX5_reads 162 = .ok (.aload_n 1, 1) := by decide +kernel
set_option maxRecDepth 100000 in
theorem dX5_reads_163 : decode cX5_reads 163 = .ok (.invokevirtual 674, 3) := by decide +kernel
set_option maxRecDepth 100000 in
theorem dX5_reads_166 : decode cX5_reads 166 = .ok (.iload 8, 2) := by decide +kernel
set_option maxRecDepth 100000 in
theorem dX5_reads_168 : decode cX5_reads 168 = .ok (.ifCond .eq 46, 3) := by decide +kernel
set_option maxRecDepth 100000 in
theorem dX5_reads_171 : decode cX5_reads 171 = .ok (.aload_n 0, 1) := by decide +kernel
set_option maxRecDepth 100000 in
theorem dX5_reads_172 : decode cX5_reads 172 = .ok (.getfield 62, 3) := by decide +kernel
set_option maxRecDepth 100000 in
theorem dX5_reads_175 : decode cX5_reads 175 = .ok (.aload 5, 2) := by decide +kernel
set_option maxRecDepth 100000 in
theorem dX5_reads_177 : decode cX5_reads 177 = .ok (.getfield 289, 3) := by decide +kernel
set_option maxRecDepth 100000 in
theorem dX5_reads_180 : decode cX5_reads 180 = .ok (.iconst 1, 1) := by decide +kernel
set_option maxRecDepth 100000 in
theorem dX5_reads_181 : decode cX5_reads 181 = .ok (.if_icmp .ne 8, 3) := by decide +kernel
set_option maxRecDepth 100000 in
theorem dX5_reads_184 : decode cX5_reads 184 = .ok (.bipush 89, 2) := by decide +kernel
set_option maxRecDepth 100000 in
theorem dX5_reads_186 : decode cX5_reads 186 = .ok (.goto 5, 3) := by decide +kernel
set_option maxRecDepth 100000 in
theorem dX5_reads_189 : decode cX5_reads 189 = .ok (.bipush 88, 2) := by decide +kernel
set_option maxRecDepth 100000 in
theorem dX5_reads_191 : decode cX5_reads 191 = .ok (.iconst 0, 1) := by decide +kernel
set_option maxRecDepth 100000 in
theorem dX5_reads_192 : decode cX5_reads 192 = .ok (.iconst 0, 1) := by decide +kernel
set_option maxRecDepth 100000 in
theorem dX5_reads_193 : decode cX5_reads 193 = .ok (.iload_n 3, 1) := by decide +kernel
set_option maxRecDepth 100000 in
theorem dX5_reads_194 : decode cX5_reads 194 = .ok (.iload 6, 2) := by decide +kernel
set_option maxRecDepth 100000 in
theorem dX5_reads_196 : decode cX5_reads 196 = .ok (.invokevirtual 506, 3) := by decide +kernel
set_option maxRecDepth 100000 in
theorem dX5_reads_199 : decode cX5_reads 199 = .ok (.pop, 1) := by decide +kernel
set_option maxRecDepth 100000 in
theorem dX5_reads_200 : decode cX5_reads 200 = .ok (.aload_n 0, 1) := by decide +kernel
set_option maxRecDepth 100000 in
theorem dX5_reads_201 : decode cX5_reads 201 = .ok (.aload 5, 2) := by decide +kernel
set_option maxRecDepth 100000 in
theorem dX5_reads_203 : decode cX5_reads 203 = .ok (.aload 5, 2) := by decide +kernel
set_option maxRecDepth 100000 in
theorem dX5_reads_205 : decode cX5_reads 205 = .ok (.invokevirtual 393, 3) := by decide +kernel
set_option maxRecDepth 100000 in
theorem dX5_reads_208 : decode cX5_reads 208 = .ok (.iload 6, 2) := by decide +kernel
set_option maxRecDepth 100000 in
theorem dX5_reads_210 : decode cX5_reads 210 = .ok (.invokevirtual 712, 3) := by decide +kernel
set_option maxRecDepth 100000 in
theorem dX5_reads_213 : decode cX5_reads 213 = .ok (.return_, 1) := by decide +kernel
set_option maxRecDepth 100000 in
theorem dX5_reads_214 : decode cX5_reads 214 = .ok (.aload_n 0, 1) := by decide +kernel
set_option maxRecDepth 100000 in
theorem dX5_reads_215 : decode cX5_reads 215 = .ok (.getfield 62, 3) := by decide +kernel
set_option maxRecDepth 100000 in
theorem dX5_reads_218 : decode cX5_reads 218 = .ok (.bipush 92, 2) := by decide +kernel
set_option maxRecDepth 100000 in
theorem dX5_reads_220 : decode cX5_reads 220 = .ok (.iconst 0, 1) := by decide +kernel
set_option maxRecDepth 100000 in
theorem dX5_reads_221 : decode cX5_reads 221 = .ok (.iconst 0, 1) := by decide +kernel
set_option maxRecDepth 100000 in
theorem dX5_reads_222 : decode cX5_reads 222 = .ok (.iconst 0, 1) := by decide +kernel
set_option maxRecDepth 100000 in
theorem dX5_reads_223 : decode cX5_reads 223 = .ok (.iload_n 3, 1) := by decide +kernel
set_option maxRecDepth 100000 in
theorem dX5_reads_224 : decode cX5_reads 224 = .ok (.invokevirtual 506, 3) := by decide +kernel
set_option maxRecDepth 100000 in
theorem dX5_reads_227 : decode cX5_reads 227 = .ok (.pop, 1) := by decide +kernel
set_option maxRecDepth 100000 in
theorem dX5_reads_228 : decode cX5_reads 228 = .ok (.aload_n 0, 1) := by decide +kernel
set_option maxRecDepth 100000 in
theorem dX5_reads_229 : decode cX5_reads 229 = .ok (.aload_n 1, 1) := by decide +kernel
set_option maxRecDepth 100000 in
theorem dX5_reads_230 : decode cX5_reads 230 = .ok (.getfield 249, 3) := by decide +kernel
set_option maxRecDepth 100000 in
theorem dX5_reads_233 : decode cX5_reads 233 = .ok (.getfield 286, 3) := by decide +kernel
set_option maxRecDepth 100000 in
theorem dX5_reads_236 : decode cX5_reads 236 = .ok (.iload 6, 2) := by decide +kernel
set_option maxRecDepth 100000 in
theorem dX5_reads_238 : decode cX5_reads 238 = .ok (.invokevirtual 790, 3) := by decide +kernel
set_option maxRecDepth 100000 in
theorem dX5_reads_241 : decode cX5_reads 241 = .ok (.aload_n 0, 1) := by decide +kernel
set_option maxRecDepth 100000 in
theorem dX5_reads_242 : decode cX5_reads 242 = .ok (.aload 5, 2) := by decide +kernel
set_option maxRecDepth 100000 in
theorem dX5_reads_244 : decode cX5_reads 244 = .ok (.aload_n 1, 1) := by decide +kernel
set_option maxRecDepth 100000 in
theorem dX5_reads_245 : decode cX5_reads 245 = .ok (.getfield 249, 3) := by decide +kernel
set_option maxRecDepth 100000 in
theorem dX5_reads_248 : decode cX5_reads 248 = .ok (.getfield 286, 3) := by decide +kernel
set_option maxRecDepth 100000 in
theorem dX5_reads_251 : decode cX5_reads 251 = .ok (.invokestatic 788, 3) := by decide +kernel
set_option maxRecDepth 100000 in
theorem dX5_reads_254 : decode cX5_reads 254 = .ok (.iload 6, 2) := by decide +kernel
set_option maxRecDepth 100000 in
theorem dX5_reads_256 : decode cX5_reads 256 = .ok (.invokevirtual 712, 3) := by decide +kernel
set_option maxRecDepth 100000 in
theorem dX5_reads_259 : decode cX5_reads 259 = .ok (.aload_n 0, 1) := by decide +kernel
set_option maxRecDepth 100000 in
theorem dX5_reads_260 : decode cX5_reads 260 = .ok (.aload_n 1, 1) := by decide +kernel
set_option maxRecDepth 100000 in
theorem dX5_reads_261 : decode cX5_reads 261 = .ok (.invokevirtual 674, 3) := by decide +kernel
set_option maxRecDepth 100000 in
theorem dX5_reads_264 : decode cX5_reads 264 = .ok (.aload_n 0, 1) := by decide +kernel
set_option maxRecDepth 100000 in
theorem dX5_reads_265 : decode cX5_reads 265 = .ok (.getfield 62, 3) := by decide +kernel
set_option maxRecDepth 100000 in
theorem dX5_reads_268 : decode cX5_reads 268 = .ok (.bipush 84, 2) := by decide +kernel
set_option maxRecDepth 100000 in
theorem dX5_reads_270 : decode cX5_reads 270 = .ok (.iload 7, 2) := by decide +kernel
set_option maxRecDepth 100000 in
theorem dX5_reads_272 : decode cX5_reads 272 = .ok (.ifCond .eq 7, 3) := by decide +kernel
set_option maxRecDepth 100000 in
theorem dX5_reads_275 : decode cX5_reads 275 = .ok (.iconst 1, 1) := by decide +kernel
set_option maxRecDepth 100000 in
theorem dX5_reads_276 : decode cX5_reads 276 = .ok (.goto 4, 3) := by decide +kernel
set_option maxRecDepth 100000 in
theorem dX5_reads_279 : decode cX5_reads 279 = .ok (.iconst 0, 1) := by decide +kernel
set_option maxRecDepth 100000 in
theorem dX5_reads_280 : decode cX5_reads 280 = .ok (.aload_n 1, 1) := by decide +kernel
set_option maxRecDepth 100000 in
theorem dX5_reads_281 : decode cX5_reads 281 = .ok (.getfield 249, 3) := by decide +kernel
set_option maxRecDepth 100000 in
theorem dX5_reads_284 : decode cX5_reads 284 = .ok (.getfield 286, 3) := by decide +kernel
set_option maxRecDepth 100000 in
theorem dX5_reads_287 : decode cX5_reads 287 = .ok (.getfield 66, 3) := by decide +kernel
set_option maxRecDepth 100000 in
theorem dX5_reads_290 : decode cX5_reads 290 = .ok (.iconst 0, 1) := by decide +kernel
set_option maxRecDepth 100000 in
theorem dX5_reads_291 : decode cX5_reads 291 = .ok (.iload_n 3, 1) := by decide +kernel
set_option maxRecDepth 100000 in
theorem dX5_reads_292 : decode cX5_reads 292 = .ok (.invokevirtual 506, 3) := by decide +kernel
set_option maxRecDepth 100000 in
theorem dX5_reads_295 : decode cX5_reads 295 = .ok (.pop, 1) := by decide +kernel
set_option maxRecDepth 100000 in
theorem dX5_reads_296 : decode cX5_reads 296 = .ok (.return_, 1) := by decide +kernel
set_option maxRecDepth 100000 in
def bX5_reads_280 (G : xG) (fr lo : Nat) (x1 : Nat) (x3 : Int32) (s0 : Int32) (s1 : Int32) (s2 : Nat) (h : xH) (Q : Outcome → xH → Prop) : Prop := tg h x1 = 9 ∧ tg h (fR h x1 2050) = 7 ∧ tg h (fR h (fR h x1 2050) 1538) = 7 ∧ tg h s2 = 3 ∧ 1 ≤ fr ∧ 17 ≤ lo ∧ xRi G YX2_put (fr - 1) (lo - 17) [rv s2, .int s1, .int s0, .int (fI h (fR h (fR h x1 2050) 1538) 1543), .int 0, .int x3] h (fun x8 h7 => xext h h7 → Q (.returned none) h7) (fun r h2 => Q (.threw r) h2)
set_option maxRecDepth 100000 in
theorem uX5_reads_280 {G : xG} {fr lo : Nat} {x1 : Nat} {x3 : Int32} {s0 : Int32} {s1 : Int32} {s2 : Nat} {h : xH} {Q : Outcome → xH → Prop} (hq : bX5_reads_280 G fr lo x1 x3 s0 s1 s2 h Q) : xP G YX5_reads fr lo 280 [(1, rv x1), (3, .int x3)] [.int s0, .int s1, rv s2] h Q := by
  unfold bX5_reads_280 at hq
  refine x_aload_n 0 dX5_reads_280 rfl ?_
  obtain ⟨g1, hq⟩ := hq
  refine x_getN (v := rv (fR h x1 2050)) gfX5_249 dX5_reads_281 g1 rfl ?_
  obtain ⟨g2, hq⟩ := hq
  refine x_getN (v := rv (fR h (fR h x1 2050) 1538)) gfX5_286 dX5_reads_284 g2 rfl ?_
  obtain ⟨g3, hq⟩ := hq
  refine x_getN (v := .int (fI h (fR h (fR h x1 2050) 1538) 1543)) gfX5_66 dX5_reads_287 g3 rfl ?_
  refine x_iconst (v := 0) dX5_reads_290 (by decide) ?_
  refine x_iload_n 1 dX5_reads_291 rfl ?_
  obtain ⟨g4, hq⟩ := hq
  obtain ⟨g5, g6, hq⟩ := hq
  refine x_callV (Yc := YX2_put) (as := [.int s1, .int s0, .int (fI h (fR h (fR h x1 2050) 1538) 1543), .int 0, .int x3]) (st := []) q2494 mvX2_put g4 rfl dX5_reads_292 (xle (xal1 (rv_cat _) (xal1 rfl (xal1 rfl (xal1 rfl (xal1 rfl (xal1 rfl xal0)))))) (by decide)) (xfr g5) (xlo xsw0 (by decide) g6) (xKi hq (fun x8 h7 hq e9 => ?_) (fun _ _ q _ => q))
  replace hq := hq e9
  refine x_pop dX5_reads_295 rfl ?_
  exact x_vret rfl dX5_reads_296 hq
set_option maxRecDepth 100000 in
def bX5_reads_191 (G : xG) (fr lo : Nat) (x0 : Nat) (x3 : Int32) (x5 : Nat) (x6 : Int32) (s0 : Int32) (s1 : Nat) (h : xH) (Q : Outcome → xH → Prop) : Prop := tg h s1 = 3 ∧ 1 ≤ fr ∧ 17 ≤ lo ∧ xRi G YX2_put (fr - 1) (lo - 17) [rv s1, .int s0, .int 0, .int 0, .int x3, .int x6] h (fun x5 h4 => xext h h4 → tg h4 x5 = 7 ∧ 1 ≤ fr ∧ 14 ≤ lo ∧ xRr G YX6_own (fr - 1) (lo - 14) [rv x5] h4 (fun x11 h10 => xext h4 h10 → tg h10 x0 = 6 ∧ 1 ≤ fr ∧ 15 ≤ lo ∧ xRv G YX5_store (fr - 1) (lo - 15) [rv x0, rv x5, rv x11, .int x6] h10 (fun h16 => xext h10 h16 → Q (.returned none) h16) (fun r h2 => Q (.threw r) h2)) (fun r h2 => Q (.threw r) h2)) (fun r h2 => Q (.threw r) h2)
set_option maxRecDepth 100000 in
theorem uX5_reads_191 {G : xG} {fr lo : Nat} {x0 : Nat} {x3 : Int32} {x5 : Nat} {x6 : Int32} {s0 : Int32} {s1 : Nat} {h : xH} {Q : Outcome → xH → Prop} (hq : bX5_reads_191 G fr lo x0 x3 x5 x6 s0 s1 h Q) : xP G YX5_reads fr lo 191 [(0, rv x0), (3, .int x3), (5, rv x5), (6, .int x6)] [.int s0, rv s1] h Q := by
  unfold bX5_reads_191 at hq
  refine x_iconst (v := 0) dX5_reads_191 (by decide) ?_
  refine x_iconst (v := 0) dX5_reads_192 (by decide) ?_
  refine x_iload_n 1 dX5_reads_193 rfl ?_
  refine x_iload 3 dX5_reads_194 rfl ?_
  obtain ⟨g1, hq⟩ := hq
  obtain ⟨g2, g3, hq⟩ := hq
  refine x_callV (Yc := YX2_put) (as := [.int s0, .int 0, .int 0, .int x3, .int x6]) (st := []) q2494 mvX2_put g1 rfl dX5_reads_196 (xle (xal1 (rv_cat _) (xal1 rfl (xal1 rfl (xal1 rfl (xal1 rfl (xal1 rfl xal0)))))) (by decide)) (xfr g2) (xlo xsw0 (by decide) g3) (xKi hq (fun x5 h4 hq e6 => ?_) (fun _ _ q _ => q))
  replace hq := hq e6
  refine x_pop dX5_reads_199 rfl ?_
  refine x_aload_n 0 dX5_reads_200 rfl ?_
  refine x_aload 2 dX5_reads_201 rfl ?_
  refine x_aload 2 dX5_reads_203 rfl ?_
  obtain ⟨g7, hq⟩ := hq
  obtain ⟨g8, g9, hq⟩ := hq
  refine x_callV (Yc := YX6_own) (as := []) (st := [rv x5, rv x0]) q2400 mvX6_own g7 rfl dX5_reads_205 (xle (xal1 (rv_cat _) xal0) (by decide)) (xfr g8) (xlo (xsw1 (rv_cat _) (xsw1 (rv_cat _) xsw0)) (by decide) g9) (xKr hq (fun x11 h10 hq e12 => ?_) (fun _ _ q _ => q))
  replace hq := hq e12
  refine x_iload 3 dX5_reads_208 rfl ?_
  obtain ⟨g13, hq⟩ := hq
  obtain ⟨g14, g15, hq⟩ := hq
  refine x_callV (Yc := YX5_store) (as := [rv x5, rv x11, .int x6]) (st := []) q2770 mvX5_store g13 rfl dX5_reads_210 (xle (xal1 (rv_cat _) (xal1 (rv_cat _) (xal1 (rv_cat _) (xal1 rfl xal0)))) (by decide)) (xfr g14) (xlo xsw0 (by decide) g15) (xKv hq (fun h16 hq e18 => ?_) (fun _ _ q _ => q))
  replace hq := hq e18
  exact x_vret rfl dX5_reads_213 hq
set_option maxRecDepth 100000 in
def bX5_reads_112 (G : xG) (fr lo : Nat) (x0 : Nat) (x1 : Nat) (x3 : Int32) (x4 : Nat) (x5 : Nat) (x6 : Int32) (x7 : Int32) (x8 : Int32) (s0 : Int32) (h : xH) (Q : Outcome → xH → Prop) : Prop := ((¬ s0 = 0 → tg h x0 = 6 ∧ 1 ≤ fr ∧ 14 ≤ lo ∧ xRv G YX5_threaten (fr - 1) (lo - 14) [rv x0, rv (fR h x0 1301), .int x6] h (fun h5 => xext h h5 → tg h5 x4 = 16 ∧ (((fR h5 x4 3844) = 0 → 1 ≤ fr ∧ 13 ≤ lo ∧ xRv G YX5_address (fr - 1) (lo - 13) [rv x0, rv x1] h5 (fun h13 => xext h5 h13 → ((x8 = 0 → tg h13 (fR h13 x0 1281) = 3 ∧ 1 ≤ fr ∧ 17 ≤ lo ∧ xRi G YX2_put (fr - 1) (lo - 17) [rv (fR h13 x0 1281), .int 92, .int 0, .int 0, .int 0, .int x3] h13 (fun x22 h21 => xext h13 h21 → tg h21 x1 = 9 ∧ tg h21 (fR h21 x1 2050) = 7 ∧ 1 ≤ fr ∧ 14 ≤ lo ∧ xRv G YX5_load (fr - 1) (lo - 14) [rv x0, rv (fR h21 (fR h21 x1 2050) 1538), .int x6] h21 (fun h29 => xext h21 h29 → tg h29 (fR h29 x1 2050) = 7 ∧ 1 ≤ fr ∧ 14 ≤ lo ∧ xRr G YX5_own (fr - 1) (lo - 14) [rv (fR h29 (fR h29 x1 2050) 1538)] h29 (fun x37 h36 => xext h29 h36 → 1 ≤ fr ∧ 15 ≤ lo ∧ xRv G YX5_store (fr - 1) (lo - 15) [rv x0, rv x5, rv x37, .int x6] h36 (fun h43 => xext h36 h43 → 1 ≤ fr ∧ 13 ≤ lo ∧ xRv G YX5_address (fr - 1) (lo - 13) [rv x0, rv x1] h43 (fun h49 => xext h43 h49 → ((x7 = 0 → bX5_reads_280 G fr lo x1 x3 0 84 (fR h49 x0 1281) h49 Q) ∧ (¬ x7 = 0 → bX5_reads_280 G fr lo x1 x3 1 84 (fR h49 x0 1281) h49 Q))) (fun r h2 => Q (.threw r) h2)) (fun r h2 => Q (.threw r) h2)) (fun r h2 => Q (.threw r) h2)) (fun r h2 => Q (.threw r) h2)) (fun r h2 => Q (.threw r) h2)) ∧ (¬ x8 = 0 → tg h13 x5 = 7 ∧ ((¬ (fI h13 x5 1536) = 1 → bX5_reads_191 G fr lo x0 x3 x5 x6 88 (fR h13 x0 1281) h13 Q) ∧ ((fI h13 x5 1536) = 1 → bX5_reads_191 G fr lo x0 x3 x5 x6 89 (fR h13 x0 1281) h13 Q))))) (fun r h2 => Q (.threw r) h2)) ∧ (¬ (fR h5 x4 3844) = 0 → tg h5 (fR h5 x4 3844) = 16 ∧ 1 ≤ fr ∧ 14 ≤ lo ∧ xRi G YX15_place (fr - 1) (lo - 14) [rv (fR h5 x4 3844)] h5 (fun x61 h60 => xext h5 h60 → 1 ≤ fr ∧ 14 ≤ lo ∧ xRr G YX5_fault (fr - 1) (lo - 14) [rv x0, .int 7, .int x61] h60 (fun x68 h67 => xext h60 h67 → (∃ r70, x68 = r70 + 1 ∧ Q (.threw r70) h67)) (fun r h2 => Q (.threw r) h2)) (fun r h2 => Q (.threw r) h2)))) (fun r h2 => Q (.threw r) h2)) ∧ (s0 = 0 → tg h x0 = 6 ∧ 1 ≤ fr ∧ 14 ≤ lo ∧ xRr G YX5_fault (fr - 1) (lo - 14) [rv x0, .int 7, .int x6] h (fun x76 h75 => xext h h75 → (∃ r78, x76 = r78 + 1 ∧ Q (.threw r78) h75)) (fun r h2 => Q (.threw r) h2)))
set_option maxRecDepth 100000 in
theorem uX5_reads_112 {G : xG} {fr lo : Nat} {x0 : Nat} {x1 : Nat} {x3 : Int32} {x4 : Nat} {x5 : Nat} {x6 : Int32} {x7 : Int32} {x8 : Int32} {s0 : Int32} {h : xH} {Q : Outcome → xH → Prop} (hq : bX5_reads_112 G fr lo x0 x1 x3 x4 x5 x6 x7 x8 s0 h Q) : xP G YX5_reads fr lo 112 [(0, rv x0), (1, rv x1), (3, .int x3), (4, rv x4), (5, rv x5), (6, .int x6), (7, .int x7), (8, .int x8)] [.int s0] h Q := by
  unfold bX5_reads_112 at hq
  refine x_istore (lv' := [(9, .int s0), (0, rv x0), (1, rv x1), (3, .int x3), (4, rv x4), (5, rv x5), (6, .int x6), (7, .int x7), (8, .int x8)]) dX5_reads_112 (by decide) rfl ?_
  refine x_iload 0 dX5_reads_114 rfl ?_
  refine x_if_ne (tgt := 128) dX5_reads_116 (by decide) (fun c1 => ?_) (fun c1 => ?_)
  · replace hq := hq.1 c1
    refine x_aload_n 1 dX5_reads_128 rfl ?_
    refine x_aload_n 1 dX5_reads_129 rfl ?_
    obtain ⟨g2, hq⟩ := hq
    refine x_get (v := rv (fR h x0 1301)) fdX5_705 dX5_reads_130 g2 rfl ?_
    refine x_iload 6 dX5_reads_133 rfl ?_
    obtain ⟨g3, g4, hq⟩ := hq
    refine x_callV (Yc := YX5_threaten) (as := [rv (fR h x0 1301), .int x6]) (st := []) q2614 mvX5_threaten g2 rfl dX5_reads_135 (xle (xal1 (rv_cat _) (xal1 (rv_cat _) (xal1 rfl xal0))) (by decide)) (xfr g3) (xlo xsw0 (by decide) g4) (xKv hq (fun h5 hq e7 => ?_) (fun _ _ q _ => q))
    replace hq := hq e7
    refine x_aload 4 dX5_reads_138 rfl ?_
    obtain ⟨g8, hq⟩ := hq
    refine x_getN (v := rv (fR h5 x4 3844)) gfX5_307 dX5_reads_140 g8 rfl ?_
    refine x_ifnull (tgt := 161) dX5_reads_143 (by decide) (fun c9 => ?_) (fun c9 => ?_)
    · replace hq := hq.1 c9
      refine x_aload_n 1 dX5_reads_161 rfl ?_
      refine x_aload_n 2 dX5_reads_162 rfl ?_
      have t10 : tg h5 x0 = 6 := e7.tg g2 (by decide)
      obtain ⟨g11, g12, hq⟩ := hq
      refine x_callV (Yc := YX5_address) (as := [rv x1]) (st := []) q2594 mvX5_address t10 rfl dX5_reads_163 (xle (xal1 (rv_cat _) (xal1 (rv_cat _) xal0)) (by decide)) (xfr g11) (xlo xsw0 (by decide) g12) (xKv hq (fun h13 hq e15 => ?_) (fun _ _ q _ => q))
      replace hq := hq e15
      refine x_iload 8 dX5_reads_166 rfl ?_
      refine x_if_eq (tgt := 214) dX5_reads_168 (by decide) (fun c16 => ?_) (fun c16 => ?_)
      · replace hq := hq.1 c16
        refine x_aload_n 1 dX5_reads_214 rfl ?_
        have t17 : tg h13 x0 = 6 := e15.tg t10 (by decide)
        refine x_get (v := rv (fR h13 x0 1281)) fdX5_62 dX5_reads_215 t17 rfl ?_
        refine x_bipush (v := 92) dX5_reads_218 (by decide) ?_
        refine x_iconst (v := 0) dX5_reads_220 (by decide) ?_
        refine x_iconst (v := 0) dX5_reads_221 (by decide) ?_
        refine x_iconst (v := 0) dX5_reads_222 (by decide) ?_
        refine x_iload_n 3 dX5_reads_223 rfl ?_
        obtain ⟨g18, hq⟩ := hq
        obtain ⟨g19, g20, hq⟩ := hq
        refine x_callV (Yc := YX2_put) (as := [.int 92, .int 0, .int 0, .int 0, .int x3]) (st := []) q2494 mvX2_put g18 rfl dX5_reads_224 (xle (xal1 (rv_cat _) (xal1 rfl (xal1 rfl (xal1 rfl (xal1 rfl (xal1 rfl xal0)))))) (by decide)) (xfr g19) (xlo xsw0 (by decide) g20) (xKi hq (fun x22 h21 hq e23 => ?_) (fun _ _ q _ => q))
        replace hq := hq e23
        refine x_pop dX5_reads_227 rfl ?_
        refine x_aload_n 1 dX5_reads_228 rfl ?_
        refine x_aload_n 2 dX5_reads_229 rfl ?_
        obtain ⟨g24, hq⟩ := hq
        refine x_getN (v := rv (fR h21 x1 2050)) gfX5_249 dX5_reads_230 g24 rfl ?_
        obtain ⟨g25, hq⟩ := hq
        refine x_getN (v := rv (fR h21 (fR h21 x1 2050) 1538)) gfX5_286 dX5_reads_233 g25 rfl ?_
        refine x_iload 6 dX5_reads_236 rfl ?_
        have t26 : tg h21 x0 = 6 := e23.tg t17 (by decide)
        obtain ⟨g27, g28, hq⟩ := hq
        refine x_callV (Yc := YX5_load) (as := [rv (fR h21 (fR h21 x1 2050) 1538), .int x6]) (st := []) q2649 mvX5_load t26 rfl dX5_reads_238 (xle (xal1 (rv_cat _) (xal1 (rv_cat _) (xal1 rfl xal0))) (by decide)) (xfr g27) (xlo xsw0 (by decide) g28) (xKv hq (fun h29 hq e31 => ?_) (fun _ _ q _ => q))
        replace hq := hq e31
        refine x_aload_n 1 dX5_reads_241 rfl ?_
        refine x_aload 5 dX5_reads_242 rfl ?_
        refine x_aload_n 2 dX5_reads_244 rfl ?_
        have t32 : tg h29 x1 = 9 := e31.tg g24 (by decide)
        refine x_getN (v := rv (fR h29 x1 2050)) gfX5_249 dX5_reads_245 t32 rfl ?_
        obtain ⟨g33, hq⟩ := hq
        refine x_getN (v := rv (fR h29 (fR h29 x1 2050) 1538)) gfX5_286 dX5_reads_248 g33 rfl ?_
        obtain ⟨g34, g35, hq⟩ := hq
        refine x_callS (Yc := YX5_own) (as := [rv (fR h29 (fR h29 x1 2050) 1538)]) (st := [rv x5, rv x0]) q2626 msX5_own rfl dX5_reads_251 (xle (xal1 (rv_cat _) xal0) (by decide)) (xfr g34) (xlo (xsw1 (rv_cat _) (xsw1 (rv_cat _) xsw0)) (by decide) g35) (xKr hq (fun x37 h36 hq e38 => ?_) (fun _ _ q _ => q))
        replace hq := hq e38
        refine x_iload 6 dX5_reads_254 rfl ?_
        have t39 : tg h29 x0 = 6 := e31.tg t26 (by decide)
        have t40 : tg h36 x0 = 6 := e38.tg t39 (by decide)
        obtain ⟨g41, g42, hq⟩ := hq
        refine x_callV (Yc := YX5_store) (as := [rv x5, rv x37, .int x6]) (st := []) q2770 mvX5_store t40 rfl dX5_reads_256 (xle (xal1 (rv_cat _) (xal1 (rv_cat _) (xal1 (rv_cat _) (xal1 rfl xal0)))) (by decide)) (xfr g41) (xlo xsw0 (by decide) g42) (xKv hq (fun h43 hq e45 => ?_) (fun _ _ q _ => q))
        replace hq := hq e45
        refine x_aload_n 1 dX5_reads_259 rfl ?_
        refine x_aload_n 2 dX5_reads_260 rfl ?_
        have t46 : tg h43 x0 = 6 := e45.tg t40 (by decide)
        obtain ⟨g47, g48, hq⟩ := hq
        refine x_callV (Yc := YX5_address) (as := [rv x1]) (st := []) q2594 mvX5_address t46 rfl dX5_reads_261 (xle (xal1 (rv_cat _) (xal1 (rv_cat _) xal0)) (by decide)) (xfr g47) (xlo xsw0 (by decide) g48) (xKv hq (fun h49 hq e51 => ?_) (fun _ _ q _ => q))
        replace hq := hq e51
        refine x_aload_n 1 dX5_reads_264 rfl ?_
        have t52 : tg h49 x0 = 6 := e51.tg t46 (by decide)
        refine x_get (v := rv (fR h49 x0 1281)) fdX5_62 dX5_reads_265 t52 rfl ?_
        refine x_bipush (v := 84) dX5_reads_268 (by decide) ?_
        refine x_iload 7 dX5_reads_270 rfl ?_
        refine x_if_eq (tgt := 279) dX5_reads_272 (by decide) (fun c53 => ?_) (fun c53 => ?_)
        · replace hq := hq.1 c53
          refine x_iconst (v := 0) dX5_reads_279 (by decide) ?_
          refine xP.pick (lv' := [(1, rv x1), (3, .int x3)]) [2, 3] rfl ?_
          exact uX5_reads_280 hq
        · replace hq := hq.2 c53
          refine x_iconst (v := 1) dX5_reads_275 (by decide) ?_
          refine x_goto (tgt := 280) dX5_reads_276 (by decide) ?_
          refine xP.pick (lv' := [(1, rv x1), (3, .int x3)]) [2, 3] rfl ?_
          exact uX5_reads_280 hq
      · replace hq := hq.2 c16
        refine x_aload_n 1 dX5_reads_171 rfl ?_
        have t54 : tg h13 x0 = 6 := e15.tg t10 (by decide)
        refine x_get (v := rv (fR h13 x0 1281)) fdX5_62 dX5_reads_172 t54 rfl ?_
        refine x_aload 5 dX5_reads_175 rfl ?_
        obtain ⟨g55, hq⟩ := hq
        refine x_getN (v := .int (fI h13 x5 1536)) gfX5_289 dX5_reads_177 g55 rfl ?_
        refine x_iconst (v := 1) dX5_reads_180 (by decide) ?_
        refine x_icmp_ne (tgt := 189) dX5_reads_181 (by decide) (fun c56 => ?_) (fun c56 => ?_)
        · replace hq := hq.1 c56
          refine x_bipush (v := 88) dX5_reads_189 (by decide) ?_
          refine xP.pick (lv' := [(0, rv x0), (3, .int x3), (5, rv x5), (6, .int x6)]) [1, 3, 5, 6] rfl ?_
          exact uX5_reads_191 hq
        · replace hq := hq.2 c56
          refine x_bipush (v := 89) dX5_reads_184 (by decide) ?_
          refine x_goto (tgt := 191) dX5_reads_186 (by decide) ?_
          refine xP.pick (lv' := [(0, rv x0), (3, .int x3), (5, rv x5), (6, .int x6)]) [1, 3, 5, 6] rfl ?_
          exact uX5_reads_191 hq
    · replace hq := hq.2 c9
      refine x_aload_n 1 dX5_reads_146 rfl ?_
      refine x_bipush (v := 7) dX5_reads_147 (by decide) ?_
      refine x_aload 4 dX5_reads_149 rfl ?_
      refine x_getN (v := rv (fR h5 x4 3844)) gfX5_307 dX5_reads_151 g8 rfl ?_
      obtain ⟨g57, hq⟩ := hq
      obtain ⟨g58, g59, hq⟩ := hq
      refine x_callV (Yc := YX15_place) (as := []) (st := [.int 7, rv x0]) q2013 mvX15_place g57 rfl dX5_reads_154 (xle (xal1 (rv_cat _) xal0) (by decide)) (xfr g58) (xlo (xsw1 rfl (xsw1 (rv_cat _) xsw0)) (by decide) g59) (xKi hq (fun x61 h60 hq e62 => ?_) (fun _ _ q _ => q))
      replace hq := hq e62
      have t63 : tg h5 x0 = 6 := e7.tg g2 (by decide)
      have t64 : tg h60 x0 = 6 := e62.tg t63 (by decide)
      obtain ⟨g65, g66, hq⟩ := hq
      refine x_callV (Yc := YX5_fault) (as := [.int 7, .int x61]) (st := []) q2087 mvX5_fault t64 rfl dX5_reads_157 (xle (xal1 (rv_cat _) (xal1 rfl (xal1 rfl xal0))) (by decide)) (xfr g65) (xlo xsw0 (by decide) g66) (xKr hq (fun x68 h67 hq e69 => ?_) (fun _ _ q _ => q))
      replace hq := hq e69
      obtain ⟨r70, g71, hq⟩ := hq
      rw [g71]
      exact x_athrow dX5_reads_160 hq
  · replace hq := hq.2 c1
    refine x_aload_n 1 dX5_reads_119 rfl ?_
    refine x_bipush (v := 7) dX5_reads_120 (by decide) ?_
    refine x_iload 6 dX5_reads_122 rfl ?_
    obtain ⟨g72, hq⟩ := hq
    obtain ⟨g73, g74, hq⟩ := hq
    refine x_callV (Yc := YX5_fault) (as := [.int 7, .int x6]) (st := []) q2087 mvX5_fault g72 rfl dX5_reads_124 (xle (xal1 (rv_cat _) (xal1 rfl (xal1 rfl xal0))) (by decide)) (xfr g73) (xlo xsw0 (by decide) g74) (xKr hq (fun x76 h75 hq e77 => ?_) (fun _ _ q _ => q))
    replace hq := hq e77
    obtain ⟨r78, g79, hq⟩ := hq
    rw [g79]
    exact x_athrow dX5_reads_127 hq
set_option maxRecDepth 100000 in
def bX5_reads_89 (G : xG) (fr lo : Nat) (x0 : Nat) (x1 : Nat) (x3 : Int32) (x4 : Nat) (x5 : Nat) (x6 : Int32) (x7 : Int32) (x8 : Int32) (h : xH) (Q : Outcome → xH → Prop) : Prop := bX5_reads_112 G fr lo x0 x1 x3 x4 x5 x6 x7 x8 1 h Q
set_option maxRecDepth 100000 in
theorem uX5_reads_89 {G : xG} {fr lo : Nat} {x0 : Nat} {x1 : Nat} {x3 : Int32} {x4 : Nat} {x5 : Nat} {x6 : Int32} {x7 : Int32} {x8 : Int32} {h : xH} {Q : Outcome → xH → Prop} (hq : bX5_reads_89 G fr lo x0 x1 x3 x4 x5 x6 x7 x8 h Q) : xP G YX5_reads fr lo 89 [(0, rv x0), (1, rv x1), (3, .int x3), (4, rv x4), (5, rv x5), (6, .int x6), (7, .int x7), (8, .int x8)] [] h Q := by
  unfold bX5_reads_89 at hq
  refine x_iconst (v := 1) dX5_reads_89 (by decide) ?_
  refine x_goto (tgt := 112) dX5_reads_90 (by decide) ?_
  exact uX5_reads_112 hq
set_option maxRecDepth 100000 in
def bX5_reads_65 (G : xG) (fr lo : Nat) (x0 : Nat) (x1 : Nat) (x3 : Int32) (x4 : Nat) (x5 : Nat) (x6 : Int32) (x7 : Int32) (s0 : Int32) (h : xH) (Q : Outcome → xH → Prop) : Prop := ((x7 = 0 → tg h x1 = 9 ∧ tg h (fR h x1 2050) = 7 ∧ 1 ≤ fr ∧ 13 ≤ lo ∧ xRr G YX5_own (fr - 1) (lo - 13) [rv (fR h (fR h x1 2050) 1538)] h (fun x7 h6 => xext h h6 → tg h6 x5 = 7 ∧ 1 ≤ fr ∧ 13 ≤ lo ∧ xRi G YX6_takes (fr - 1) (lo - 13) [rv x5, rv x7] h6 (fun x13 h12 => xext h6 h12 → bX5_reads_112 G fr lo x0 x1 x3 x4 x5 x6 x7 s0 x13 h12 Q) (fun r h2 => Q (.threw r) h2)) (fun r h2 => Q (.threw r) h2)) ∧ (¬ x7 = 0 → ((¬ s0 = 0 → bX5_reads_89 G fr lo x0 x1 x3 x4 x5 x6 x7 s0 h Q) ∧ (s0 = 0 → tg h x5 = 7 ∧ 1 ≤ fr ∧ 12 ≤ lo ∧ xRr G YX6_own (fr - 1) (lo - 12) [rv x5] h (fun x20 h19 => xext h h19 → tg h19 x20 = 7 ∧ ((¬ (fI h19 x20 1536) = 3 → bX5_reads_112 G fr lo x0 x1 x3 x4 x5 x6 x7 s0 0 h19 Q) ∧ ((fI h19 x20 1536) = 3 → bX5_reads_89 G fr lo x0 x1 x3 x4 x5 x6 x7 s0 h19 Q))) (fun r h2 => Q (.threw r) h2)))))
set_option maxRecDepth 100000 in
theorem uX5_reads_65 {G : xG} {fr lo : Nat} {x0 : Nat} {x1 : Nat} {x3 : Int32} {x4 : Nat} {x5 : Nat} {x6 : Int32} {x7 : Int32} {s0 : Int32} {h : xH} {Q : Outcome → xH → Prop} (hq : bX5_reads_65 G fr lo x0 x1 x3 x4 x5 x6 x7 s0 h Q) : xP G YX5_reads fr lo 65 [(0, rv x0), (1, rv x1), (3, .int x3), (4, rv x4), (5, rv x5), (6, .int x6), (7, .int x7)] [.int s0] h Q := by
  unfold bX5_reads_65 at hq
  refine x_istore (lv' := [(8, .int s0), (0, rv x0), (1, rv x1), (3, .int x3), (4, rv x4), (5, rv x5), (6, .int x6), (7, .int x7)]) dX5_reads_65 (by decide) rfl ?_
  refine x_iload 7 dX5_reads_67 rfl ?_
  refine x_if_eq (tgt := 97) dX5_reads_69 (by decide) (fun c1 => ?_) (fun c1 => ?_)
  · replace hq := hq.1 c1
    refine x_aload 5 dX5_reads_97 rfl ?_
    refine x_aload_n 2 dX5_reads_99 rfl ?_
    obtain ⟨g2, hq⟩ := hq
    refine x_getN (v := rv (fR h x1 2050)) gfX5_249 dX5_reads_100 g2 rfl ?_
    obtain ⟨g3, hq⟩ := hq
    refine x_getN (v := rv (fR h (fR h x1 2050) 1538)) gfX5_286 dX5_reads_103 g3 rfl ?_
    obtain ⟨g4, g5, hq⟩ := hq
    refine x_callS (Yc := YX5_own) (as := [rv (fR h (fR h x1 2050) 1538)]) (st := [rv x5]) q2626 msX5_own rfl dX5_reads_106 (xle (xal1 (rv_cat _) xal0) (by decide)) (xfr g4) (xlo (xsw1 (rv_cat _) xsw0) (by decide) g5) (xKr hq (fun x7 h6 hq e8 => ?_) (fun _ _ q _ => q))
    replace hq := hq e8
    obtain ⟨g9, hq⟩ := hq
    obtain ⟨g10, g11, hq⟩ := hq
    refine x_callV (Yc := YX6_takes) (as := [rv x7]) (st := []) q2565 mvX6_takes g9 rfl dX5_reads_109 (xle (xal1 (rv_cat _) (xal1 (rv_cat _) xal0)) (by decide)) (xfr g10) (xlo xsw0 (by decide) g11) (xKi hq (fun x13 h12 hq e14 => ?_) (fun _ _ q _ => q))
    replace hq := hq e14
    refine xP.pick (lv' := [(0, rv x0), (1, rv x1), (3, .int x3), (4, rv x4), (5, rv x5), (6, .int x6), (7, .int x7), (8, .int s0)]) [1, 2, 3, 4, 5, 6, 7, 0] rfl ?_
    exact uX5_reads_112 hq
  · replace hq := hq.2 c1
    refine x_iload 0 dX5_reads_72 rfl ?_
    refine x_if_ne (tgt := 89) dX5_reads_74 (by decide) (fun c15 => ?_) (fun c15 => ?_)
    · replace hq := hq.1 c15
      refine xP.pick (lv' := [(0, rv x0), (1, rv x1), (3, .int x3), (4, rv x4), (5, rv x5), (6, .int x6), (7, .int x7), (8, .int s0)]) [1, 2, 3, 4, 5, 6, 7, 0] rfl ?_
      exact uX5_reads_89 hq
    · replace hq := hq.2 c15
      refine x_aload 5 dX5_reads_77 rfl ?_
      obtain ⟨g16, hq⟩ := hq
      obtain ⟨g17, g18, hq⟩ := hq
      refine x_callV (Yc := YX6_own) (as := []) (st := []) q2400 mvX6_own g16 rfl dX5_reads_79 (xle (xal1 (rv_cat _) xal0) (by decide)) (xfr g17) (xlo xsw0 (by decide) g18) (xKr hq (fun x20 h19 hq e21 => ?_) (fun _ _ q _ => q))
      replace hq := hq e21
      obtain ⟨g22, hq⟩ := hq
      refine x_getN (v := .int (fI h19 x20 1536)) gfX5_289 dX5_reads_82 g22 rfl ?_
      refine x_iconst (v := 3) dX5_reads_85 (by decide) ?_
      refine x_icmp_ne (tgt := 93) dX5_reads_86 (by decide) (fun c23 => ?_) (fun c23 => ?_)
      · replace hq := hq.1 c23
        refine x_iconst (v := 0) dX5_reads_93 (by decide) ?_
        refine x_goto (tgt := 112) dX5_reads_94 (by decide) ?_
        refine xP.pick (lv' := [(0, rv x0), (1, rv x1), (3, .int x3), (4, rv x4), (5, rv x5), (6, .int x6), (7, .int x7), (8, .int s0)]) [1, 2, 3, 4, 5, 6, 7, 0] rfl ?_
        exact uX5_reads_112 hq
      · replace hq := hq.2 c23
        refine xP.pick (lv' := [(0, rv x0), (1, rv x1), (3, .int x3), (4, rv x4), (5, rv x5), (6, .int x6), (7, .int x7), (8, .int s0)]) [1, 2, 3, 4, 5, 6, 7, 0] rfl ?_
        exact uX5_reads_89 hq
set_option maxRecDepth 100000 in
def bX5_reads_64 (G : xG) (fr lo : Nat) (x0 : Nat) (x1 : Nat) (x3 : Int32) (x4 : Nat) (x5 : Nat) (x6 : Int32) (x7 : Int32) (h : xH) (Q : Outcome → xH → Prop) : Prop := bX5_reads_65 G fr lo x0 x1 x3 x4 x5 x6 x7 0 h Q
set_option maxRecDepth 100000 in
theorem uX5_reads_64 {G : xG} {fr lo : Nat} {x0 : Nat} {x1 : Nat} {x3 : Int32} {x4 : Nat} {x5 : Nat} {x6 : Int32} {x7 : Int32} {h : xH} {Q : Outcome → xH → Prop} (hq : bX5_reads_64 G fr lo x0 x1 x3 x4 x5 x6 x7 h Q) : xP G YX5_reads fr lo 64 [(0, rv x0), (1, rv x1), (3, .int x3), (4, rv x4), (5, rv x5), (6, .int x6), (7, .int x7)] [] h Q := by
  unfold bX5_reads_64 at hq
  refine x_iconst (v := 0) dX5_reads_64 (by decide) ?_
  exact uX5_reads_65 hq
set_option maxRecDepth 100000 in
def bX5_reads (G : xG) (fr lo : Nat) (x0 : Nat) (x1 : Nat) (x2 : Nat) (x3 : Int32) (h : xH) (Q : Outcome → xH → Prop) : Prop := tg h x2 = 16 ∧ tg h x0 = 6 ∧ 1 ≤ fr ∧ 17 ≤ lo ∧ xRr G YX5_variable (fr - 1) (lo - 17) [rv x0, rv (fR h x2 3842)] h (fun x6 h5 => xext h h5 → 1 ≤ fr ∧ 14 ≤ lo ∧ xRi G YX5_firstOf (fr - 1) (lo - 14) [rv x0, rv (fR h x2 3842)] h5 (fun x12 h11 => xext h5 h11 → (((fR h11 x0 1302) = 0 → tg h11 x1 = 9 ∧ tg h11 (fR h11 x1 2050) = 7 ∧ 1 ≤ fr ∧ 12 ≤ lo ∧ xRi G YX6_isText (fr - 1) (lo - 12) [rv (fR h11 x1 2050)] h11 (fun x21 h20 => xext h11 h20 → ((x21 = 0 → bX5_reads_64 G fr lo x0 x1 x3 (fR h x2 3842) x6 x12 x21 h20 Q) ∧ (¬ x21 = 0 → tg h20 x6 = 7 ∧ 1 ≤ fr ∧ 12 ≤ lo ∧ xRi G YX6_isNumber (fr - 1) (lo - 12) [rv x6] h20 (fun x28 h27 => xext h20 h27 → ((x28 = 0 → bX5_reads_64 G fr lo x0 x1 x3 (fR h x2 3842) x6 x12 x21 h27 Q) ∧ (¬ x28 = 0 → bX5_reads_65 G fr lo x0 x1 x3 (fR h x2 3842) x6 x12 x21 1 h27 Q))) (fun r h2 => Q (.threw r) h2)))) (fun r h2 => Q (.threw r) h2)) ∧ (¬ (fR h11 x0 1302) = 0 → 1 ≤ fr ∧ 14 ≤ lo ∧ xRr G YX5_fault (fr - 1) (lo - 14) [rv x0, .int 6, .int x12] h11 (fun x34 h33 => xext h11 h33 → (∃ r36, x34 = r36 + 1 ∧ Q (.threw r36) h33)) (fun r h2 => Q (.threw r) h2)))) (fun r h2 => Q (.threw r) h2)) (fun r h2 => Q (.threw r) h2)
set_option maxRecDepth 100000 in
theorem uX5_reads {G : xG} {fr lo : Nat} {x0 : Nat} {x1 : Nat} {x2 : Nat} {x3 : Int32} {h : xH} {Q : Outcome → xH → Prop} (hq : bX5_reads G fr lo x0 x1 x2 x3 h Q) : xP G YX5_reads fr lo 0 [(0, rv x0), (1, rv x1), (2, rv x2), (3, .int x3)] [] h Q := by
  unfold bX5_reads at hq
  refine x_aload_n 2 dX5_reads_0 rfl ?_
  obtain ⟨g1, hq⟩ := hq
  refine x_getN (v := rv (fR h x2 3842)) gfX5_251 dX5_reads_1 g1 rfl ?_
  refine x_astore (lv' := [(4, rv (fR h x2 3842)), (0, rv x0), (1, rv x1), (2, rv x2), (3, .int x3)]) dX5_reads_4 (by decide) rfl ?_
  refine x_aload_n 1 dX5_reads_6 rfl ?_
  refine x_aload 0 dX5_reads_7 rfl ?_
  obtain ⟨g2, hq⟩ := hq
  obtain ⟨g3, g4, hq⟩ := hq
  refine x_callV (Yc := YX5_variable) (as := [rv (fR h x2 3842)]) (st := []) q2590 mvX5_variable g2 rfl dX5_reads_9 (xle (xal1 (rv_cat _) (xal1 (rv_cat _) xal0)) (by decide)) (xfr g3) (xlo xsw0 (by decide) g4) (xKr hq (fun x6 h5 hq e7 => ?_) (fun _ _ q _ => q))
  replace hq := hq e7
  refine x_astore (lv' := [(5, rv x6), (4, rv (fR h x2 3842)), (0, rv x0), (1, rv x1), (2, rv x2), (3, .int x3)]) dX5_reads_12 (by decide) (by first | rfl | (simp [rv_cat, Value.category]; done) | (simp [rv_cat, Value.category]; decide)) ?_
  refine x_aload_n 2 dX5_reads_14 rfl ?_
  refine x_aload 1 dX5_reads_15 rfl ?_
  have t8 : tg h5 x0 = 6 := e7.tg g2 (by decide)
  obtain ⟨g9, g10, hq⟩ := hq
  refine x_callV (Yc := YX5_firstOf) (as := [rv (fR h x2 3842)]) (st := []) q2510 mvX5_firstOf t8 rfl dX5_reads_17 (xle (xal1 (rv_cat _) (xal1 (rv_cat _) xal0)) (by decide)) (xfr g9) (xlo xsw0 (by decide) g10) (xKi hq (fun x12 h11 hq e13 => ?_) (fun _ _ q _ => q))
  replace hq := hq e13
  refine x_istore (lv' := [(6, .int x12), (5, rv x6), (4, rv (fR h x2 3842)), (0, rv x0), (1, rv x1), (2, rv x2), (3, .int x3)]) dX5_reads_20 (by decide) (by first | rfl | (simp [rv_cat, Value.category]; done) | (simp [rv_cat, Value.category]; decide)) ?_
  refine x_aload_n 3 dX5_reads_22 rfl ?_
  have t14 : tg h11 x0 = 6 := e13.tg t8 (by decide)
  refine x_get (v := rv (fR h11 x0 1302)) fdX5_702 dX5_reads_23 t14 rfl ?_
  refine x_ifnull (tgt := 38) dX5_reads_26 (by decide) (fun c15 => ?_) (fun c15 => ?_)
  · replace hq := hq.1 c15
    refine x_aload_n 4 dX5_reads_38 rfl ?_
    obtain ⟨g16, hq⟩ := hq
    refine x_getN (v := rv (fR h11 x1 2050)) gfX5_249 dX5_reads_39 g16 rfl ?_
    obtain ⟨g17, hq⟩ := hq
    obtain ⟨g18, g19, hq⟩ := hq
    refine x_callV (Yc := YX6_isText) (as := []) (st := []) q2637 mvX6_isText g17 rfl dX5_reads_42 (xle (xal1 (rv_cat _) xal0) (by decide)) (xfr g18) (xlo xsw0 (by decide) g19) (xKi hq (fun x21 h20 hq e22 => ?_) (fun _ _ q _ => q))
    replace hq := hq e22
    refine x_istore (lv' := [(7, .int x21), (6, .int x12), (5, rv x6), (4, rv (fR h x2 3842)), (0, rv x0), (1, rv x1), (2, rv x2), (3, .int x3)]) dX5_reads_45 (by decide) rfl ?_
    refine x_iload 0 dX5_reads_47 rfl ?_
    refine x_if_eq (tgt := 64) dX5_reads_49 (by decide) (fun c23 => ?_) (fun c23 => ?_)
    · replace hq := hq.1 c23
      refine xP.pick (lv' := [(0, rv x0), (1, rv x1), (3, .int x3), (4, rv (fR h x2 3842)), (5, rv x6), (6, .int x12), (7, .int x21)]) [4, 5, 7, 3, 2, 1, 0] rfl ?_
      exact uX5_reads_64 hq
    · replace hq := hq.2 c23
      refine x_aload 2 dX5_reads_52 rfl ?_
      obtain ⟨g24, hq⟩ := hq
      obtain ⟨g25, g26, hq⟩ := hq
      refine x_callV (Yc := YX6_isNumber) (as := []) (st := []) q2258 mvX6_isNumber g24 rfl dX5_reads_54 (xle (xal1 (rv_cat _) xal0) (by decide)) (xfr g25) (xlo xsw0 (by decide) g26) (xKi hq (fun x28 h27 hq e29 => ?_) (fun _ _ q _ => q))
      replace hq := hq e29
      refine x_if_eq (tgt := 64) dX5_reads_57 (by decide) (fun c30 => ?_) (fun c30 => ?_)
      · replace hq := hq.1 c30
        refine xP.pick (lv' := [(0, rv x0), (1, rv x1), (3, .int x3), (4, rv (fR h x2 3842)), (5, rv x6), (6, .int x12), (7, .int x21)]) [4, 5, 7, 3, 2, 1, 0] rfl ?_
        exact uX5_reads_64 hq
      · replace hq := hq.2 c30
        refine x_iconst (v := 1) dX5_reads_60 (by decide) ?_
        refine x_goto (tgt := 65) dX5_reads_61 (by decide) ?_
        refine xP.pick (lv' := [(0, rv x0), (1, rv x1), (3, .int x3), (4, rv (fR h x2 3842)), (5, rv x6), (6, .int x12), (7, .int x21)]) [4, 5, 7, 3, 2, 1, 0] rfl ?_
        exact uX5_reads_65 hq
  · replace hq := hq.2 c15
    refine x_aload_n 3 dX5_reads_29 rfl ?_
    refine x_bipush (v := 6) dX5_reads_30 (by decide) ?_
    refine x_iload 0 dX5_reads_32 rfl ?_
    obtain ⟨g31, g32, hq⟩ := hq
    refine x_callV (Yc := YX5_fault) (as := [.int 6, .int x12]) (st := []) q2087 mvX5_fault t14 rfl dX5_reads_34 (xle (xal1 (rv_cat _) (xal1 rfl (xal1 rfl xal0))) (by decide)) (xfr g31) (xlo xsw0 (by decide) g32) (xKr hq (fun x34 h33 hq e35 => ?_) (fun _ _ q _ => q))
    replace hq := hq e35
    obtain ⟨r36, g37, hq⟩ := hq
    rw [g37]
    exact x_athrow dX5_reads_37 hq
theorem rX5_reads {G : xG} {fr lo : Nat} {x0 : Nat} {x1 : Nat} {x2 : Nat} {x3 : Int32} {h : xH} {Q : Outcome → xH → Prop} (hq : bX5_reads G fr lo x0 x1 x2 x3 h Q) : xR G YX5_reads fr lo [rv x0, rv x1, rv x2, .int x3] h Q := by
  show xP _ _ _ _ _ (lv_args 0 _) _ _ _
  rw [show lv_args 0 [rv x0, rv x1, rv x2, .int x3] = [(0, rv x0), (1, rv x1), (2, rv x2), (3, .int x3)] from (xla1 (rv_cat _) (xla1 (rv_cat _) (xla1 (rv_cat _) (xla1 rfl xla0))))]
  exact uX5_reads hq
