/-! PascalHouseModel, walked (9) -/
set_option maxRecDepth 100000 in
theorem dX12_call_0 : decode cX12_call 0 = .ok (.aload_n 1, 1) := by decide +kernel
set_option maxRecDepth 100000 in
theorem dX12_call_1 : decode cX12_call 1 = .ok (.getfield 772, 3) := by decide +kernel
set_option maxRecDepth 100000 in
theorem dX12_call_4 : decode cX12_call 4 = .ok (.istore 5, 2) := by decide +kernel
set_option maxRecDepth 100000 in
theorem dX12_call_6 : decode cX12_call 6 = .ok (.iconst (-1), 1) := by decide +kernel
set_option maxRecDepth 100000 in
theorem dX12_call_7 : decode cX12_call 7 = .ok (.istore 6, 2) := by decide +kernel
set_option maxRecDepth 100000 in
theorem dX12_call_9 : decode cX12_call 9 = .ok (.aload_n 1, 1) := by decide +kernel
set_option maxRecDepth 100000 in
theorem dX12_call_10 : decode cX12_call 10 = .ok (.getfield 958, 3) := by decide +kernel
set_option maxRecDepth 100000 in
theorem dX12_call_13 : decode cX12_call 13 = .ok (.ifCond .eq 33, 3) := by decide +kernel
set_option maxRecDepth 100000 in
theorem dX12_call_16 : decode cX12_call 16 = .ok (.aload_n 0, 1) := by decide +kernel
set_option maxRecDepth 100000 in
theorem dX12_call_17 : decode cX12_call 17 = .ok (.aload_n 1, 1) := by decide +kernel
set_option maxRecDepth 100000 in
theorem dX12_call_18 : decode cX12_call 18 = .ok (.invokevirtual 1229, 3) := by decide +kernel
set_option maxRecDepth 100000 in
theorem dX12_call_21 : decode cX12_call 21 = .ok (.istore 7, 2) := by decide +kernel
set_option maxRecDepth 100000 in
theorem dX12_call_23 : decode cX12_call 23 = .ok (.aload_n 0, 1) := by decide +kernel
set_option maxRecDepth 100000 in
theorem dX12_call_24 : decode cX12_call 24 = .ok (.getfield 159, 3) := by decide +kernel
set_option maxRecDepth 100000 in
theorem dX12_call_27 : decode cX12_call 27 = .ok (.iload 7, 2) := by decide +kernel
set_option maxRecDepth 100000 in
theorem dX12_call_29 : decode cX12_call 29 = .ok (.laload, 1) := by decide +kernel
set_option maxRecDepth 100000 in
theorem dX12_call_30 : decode cX12_call 30 = .ok (.l2i, 1) := by decide +kernel
set_option maxRecDepth 100000 in
theorem dX12_call_31 : decode cX12_call 31 = .ok (.istore 5, 2) := by decide +kernel
set_option maxRecDepth 100000 in
theorem dX12_call_33 : decode cX12_call 33 = .ok (.aload_n 0, 1) := by decide +kernel
set_option maxRecDepth 100000 in
theorem dX12_call_34 : decode cX12_call 34 = .ok (.getfield 163, 3) := by decide +kernel
set_option maxRecDepth 100000 in
theorem dX12_call_37 : decode cX12_call 37 = .ok (.iload 7, 2) := by decide +kernel
set_option maxRecDepth 100000 in
theorem dX12_call_39 : decode cX12_call 39 = .ok (.laload, 1) := by decide +kernel
set_option maxRecDepth 100000 in
theorem dX12_call_40 : decode cX12_call 40 = .ok (.l2i, 1) := by decide +kernel
set_option maxRecDepth 100000 in
theorem dX12_call_41 : decode cX12_call 41 = .ok (.istore 6, 2) := by decide +kernel
set_option maxRecDepth 100000 in
theorem dX12_call_43 : decode cX12_call 43 = .ok (.goto 13, 3) := by decide +kernel
set_option maxRecDepth 100000 in
theorem dX12_call_46 : decode cX12_call 46 = .ok (.aload_n 0, 1) := by decide +kernel
set_option maxRecDepth 100000 in
theorem dX12_call_47 : decode cX12_call 47 = .ok (.aload_n 1, 1) := by decide +kernel
set_option maxRecDepth 100000 in
theorem dX12_call_48 : decode cX12_call 48 = .ok (.getfield 705, 3) := by decide +kernel
set_option maxRecDepth 100000 in
theorem dX12_call_51 : decode cX12_call 51 = .ok (.invokevirtual 1133, 3) := by decide +kernel
set_option maxRecDepth 100000 in
theorem dX12_call_54 : decode cX12_call 54 = .ok (.istore 6, 2) := by decide +kernel
set_option maxRecDepth 100000 in
theorem dX12_call_56 : decode cX12_call 56 = .ok (.aload_n 0, 1) := by decide +kernel
set_option maxRecDepth 100000 in
theorem dX12_call_57 : decode cX12_call 57 = .ok (.getfield 156, 3) := by decide +kernel
set_option maxRecDepth 100000 in
theorem dX12_call_60 : decode cX12_call 60 = .ok (.iload 5, 2) := by decide +kernel
set_option maxRecDepth 100000 in
theorem dX12_call_62 : decode cX12_call 62 = .ok (.invokevirtual 556, 3) := by decide +kernel
set_option maxRecDepth 100000 in
theorem dX12_call_65 : decode cX12_call 65 = .ok (.checkcast 100, 3) := by decide +kernel
set_option maxRecDepth 100000 in
theorem dX12_call_68 : decode cX12_call 68 = .ok (.astore 7, 2) := by decide +kernel
set_option maxRecDepth 100000 in
theorem dX12_call_70 : decode cX12_call 70 = .ok (.aload_n 0, 1) := by decide +kernel
set_option maxRecDepth 100000 in
theorem dX12_call_71 : decode cX12_call 71 = .ok (.getfield 1348, 3) := by decide +kernel
set_option maxRecDepth 100000 in
theorem dX12_call_74 : decode cX12_call 74 = .ok (.istore 8, 2) := by decide +kernel
set_option maxRecDepth 100000 in
theorem dX12_call_76 : decode cX12_call 76 = .ok (.iconst 0, 1) := by decide +kernel
set_option maxRecDepth 100000 in
theorem dX12_call_77 : decode cX12_call 77 = .ok (.istore 9, 2) := by decide +kernel
set_option maxRecDepth 100000 in
theorem dX12_call_79 : decode cX12_call 79 = .ok (.iload_n 2, 1) := by decide +kernel
set_option maxRecDepth 100000 in
theorem dX12_call_80 : decode cX12_call 80 = .ok (.istore 10, 2) := by decide +kernel
set_option maxRecDepth 100000 in
theorem dX12_call_82 : decode cX12_call 82 = .ok (.iload 10, 2) := by decide +kernel
set_option maxRecDepth 100000 in
theorem dX12_call_84 : decode cX12_call 84 = .ok (.iconst (-1), 1) := by decide +kernel
set_option maxRecDepth 100000 in
theorem dX12_call_85 : decode cX12_call 85 = .ok (.if_icmp .eq 167, 3) := by decide +kernel
set_option maxRecDepth 100000 in
theorem dX12_call_88 : decode cX12_call 88 = .ok (.iload_n 3, 1) := by decide +kernel
set_option maxRecDepth 100000 in
theorem dX12_call_89 : decode cX12_call 89 = .ok (.ifCond .eq 13, 3) := by decide +kernel
set_option maxRecDepth 100000 in
theorem dX12_call_92 : decode cX12_call 92 = .ok (.aload_n 0, 1) := by decide +kernel
set_option maxRecDepth 100000 in
theorem dX12_call_93 : decode cX12_call 93 = .ok (.getfield 73, 3) := by decide +kernel
set_option maxRecDepth 100000 in
theorem dX12_call_96 : decode cX12_call 96 = .ok (.iload 10, 2) := by decide +kernel
set_option maxRecDepth 100000 in
theorem dX12_call_98 : decode cX12_call 98 = .ok (.iaload, 1) := by decide +kernel
set_option maxRecDepth 100000 in
theorem dX12_call_99 : decode cX12_call 99 = .ok (.goto 5, 3) := by decide +kernel
set_option maxRecDepth 100000 in
theorem dX12_call_102 : decode cX12_call 102 = .ok (.iload 10, 2) := by decide +kernel
set_option maxRecDepth 100000 in
theorem dX12_call_104 : decode cX12_call 104 = .ok (.istore 11, 2) := by decide +kernel
set_option maxRecDepth 100000 in
theorem dX12_call_106 : decode cX12_call 106 = .ok (.aload_n 1, 1) := by decide +kernel
set_option maxRecDepth 100000 in
theorem dX12_call_107 : decode cX12_call 107 = .ok (.getfield 949, 3) := by decide +kernel
set_option maxRecDepth 100000 in
theorem dX12_call_110 : decode cX12_call 110 = .ok (.iload 9, 2) := by decide +kernel
set_option maxRecDepth 100000 in
theorem dX12_call_112 : decode cX12_call 112 = .ok (.invokevirtual 556, 3) := by decide +kernel
set_option maxRecDepth 100000 in
theorem dX12_call_115 : decode cX12_call 115 = .ok (.checkcast 100, 3) := by decide +kernel
set_option maxRecDepth 100000 in
theorem dX12_call_118 : decode cX12_call 118 = .ok (.astore 12, 2) := by decide +kernel
set_option maxRecDepth 100000 in
theorem dX12_call_120 : decode cX12_call 120 = .ok (.aload 12, 2) := by decide +kernel
set_option maxRecDepth 100000 in
theorem dX12_call_122 : decode cX12_call 122 = .ok (.getfield 577, 3) := by decide +kernel
set_option maxRecDepth 100000 in
theorem dX12_call_125 : decode cX12_call 125 = .ok (.iconst 5, 1) := by decide +kernel
set_option maxRecDepth 100000 in
theorem dX12_call_126 : decode cX12_call 126 = .ok (.if_icmp .ne 26, 3) := by decide +kernel
set_option maxRecDepth 100000 in
theorem dX12_call_129 : decode cX12_call 129 = .ok (.aload_n 0, 1) := by decide +kernel
set_option maxRecDepth 100000 in
theorem dX12_call_130 : decode cX12_call 130 = .ok (.aload_n 0, 1) := by decide +kernel
set_option maxRecDepth 100000 in
theorem dX12_call_131 : decode cX12_call 131 = .ok (.getfield 102, 3) := by decide +kernel
set_option maxRecDepth 100000 in
theorem dX12_call_134 : decode cX12_call 134 = .ok (.aload_n 0, 1) := by decide +kernel
set_option maxRecDepth 100000 in
theorem dX12_call_135 : decode cX12_call 135 = .ok (.iload 11, 2) := by decide +kernel
set_option maxRecDepth 100000 in
theorem dX12_call_137 : decode cX12_call 137 = .ok (.invokevirtual 1022, 3) := by decide +kernel
set_option maxRecDepth 100000 in
theorem dX12_call_140 : decode cX12_call 140 = .ok (.aaload, 1) := by decide +kernel
set_option maxRecDepth 100000 in
theorem dX12_call_141 : decode cX12_call 141 = .ok (.iload 8, 2) := by decide +kernel
set_option maxRecDepth 100000 in
theorem dX12_call_143 : decode cX12_call 143 = .ok (.iload 9, 2) := by decide +kernel
set_option maxRecDepth 100000 in
theorem dX12_call_145 : decode cX12_call 145 = .ok (.iadd, 1) := by decide +kernel
set_option maxRecDepth 100000 in
theorem dX12_call_146 : decode cX12_call 146 = .ok (.invokevirtual 1351, 3) := by decide +kernel
set_option maxRecDepth 100000 in
theorem dX12_call_149 : decode cX12_call 149 = .ok (.goto 65, 3) := by decide +kernel
set_option maxRecDepth 100000 in
theorem dX12_call_152 : decode cX12_call 152 = .ok (.aload 12, 2) := by decide +kernel
set_option maxRecDepth 100000 in
theorem dX12_call_154 : decode cX12_call 154 = .ok (.getfield 961, 3) := by decide +kernel
set_option maxRecDepth 100000 in
theorem dX12_call_157 : decode cX12_call 157 = .ok (.ifCond .eq 31, 3) := by decide +kernel
set_option maxRecDepth 100000 in
theorem dX12_call_160 : decode cX12_call 160 = .ok (.aload_n 0, 1) := by decide +kernel
set_option maxRecDepth 100000 in
theorem dX12_call_161 : decode cX12_call 161 = .ok (.aload_n 0, 1) := by decide +kernel
set_option maxRecDepth 100000 in
theorem dX12_call_162 : decode cX12_call 162 = .ok (.iload 11, 2) := by decide +kernel
set_option maxRecDepth 100000 in
theorem dX12_call_164 : decode cX12_call 164 = .ok (.invokevirtual 1022, 3) := by decide +kernel
set_option maxRecDepth 100000 in
theorem dX12_call_167 : decode cX12_call 167 = .ok (.invokevirtual 1248, 3) := by decide +kernel
set_option maxRecDepth 100000 in
theorem dX12_call_170 : decode cX12_call 170 = .ok (.aload_n 0, 1) := by decide +kernel
set_option maxRecDepth 100000 in
theorem dX12_call_171 : decode cX12_call 171 = .ok (.getfield 195, 3) := by decide +kernel
set_option maxRecDepth 100000 in
theorem dX12_call_174 : decode cX12_call 174 = .ok (.iload 8, 2) := by decide +kernel
set_option maxRecDepth 100000 in
theorem dX12_call_176 : decode cX12_call 176 = .ok (.iload 9, 2) := by decide +kernel
set_option maxRecDepth 100000 in
theorem dX12_call_178 : decode cX12_call 178 = .ok (.iadd, 1) := by decide +kernel
set_option maxRecDepth 100000 in
theorem dX12_call_179 : decode cX12_call 179 = .ok (.aload_n 0, 1) := by decide +kernel
set_option maxRecDepth 100000 in
theorem dX12_call_180 : decode cX12_call 180 = .ok (.getfield 1236, 3) := by decide +kernel
set_option maxRecDepth 100000 in
theorem dX12_call_183 : decode cX12_call 183 = .ok (.i2l, 1) := by decide +kernel
set_option maxRecDepth 100000 in
theorem dX12_call_184 : decode cX12_call 184 = .ok (.lastore, 1) := by decide +kernel
set_option maxRecDepth 100000 in
theorem dX12_call_185 : decode cX12_call 185 = .ok (.goto 29, 3) := by decide +kernel
set_option maxRecDepth 100000 in
theorem dX12_call_188 : decode cX12_call 188 = .ok (.aload_n 0, 1) := by decide +kernel
set_option maxRecDepth 100000 in
theorem dX12_call_189 : decode cX12_call 189 = .ok (.iload 11, 2) := by decide +kernel
set_option maxRecDepth 100000 in
theorem dX12_call_191 : decode cX12_call 191 = .ok (.invokevirtual 1233, 3) := by decide +kernel
set_option maxRecDepth 100000 in
theorem dX12_call_194 : decode cX12_call 194 = .ok (.aload_n 0, 1) := by decide +kernel
set_option maxRecDepth 100000 in
theorem dX12_call_195 : decode cX12_call 195 = .ok (.getfield 1121, 3) := by decide +kernel
set_option maxRecDepth 100000 in
theorem dX12_call_198 : decode cX12_call 198 = .ok (.ifCond .ne 16, 3) := by decide +kernel
set_option maxRecDepth 100000 in
theorem dX12_call_201 : decode cX12_call 201 = .ok (.aload_n 0, 1) := by decide +kernel
set_option maxRecDepth 100000 in
theorem dX12_call_202 : decode cX12_call 202 = .ok (.iload 11, 2) := by decide +kernel
set_option maxRecDepth 100000 in
theorem dX12_call_204 : decode cX12_call 204 = .ok (.aload 12, 2) := by decide +kernel
set_option maxRecDepth 100000 in
theorem dX12_call_206 : decode cX12_call 206 = .ok (.iload 8, 2) := by decide +kernel
set_option maxRecDepth 100000 in
theorem dX12_call_208 : decode cX12_call 208 = .ok (.iload 9, 2) := by decide +kernel
set_option maxRecDepth 100000 in
theorem dX12_call_210 : decode cX12_call 210 = .ok (.iadd, 1) := by decide +kernel
set_option maxRecDepth 100000 in
theorem dX12_call_211 : decode cX12_call 211 = .ok (.invokevirtual 1354, 3) := by decide +kernel
set_option maxRecDepth 100000 in
theorem dX12_call_214 : decode cX12_call 214 = .ok (.aload_n 0, 1) := by decide +kernel
set_option maxRecDepth 100000 in
theorem dX12_call_215 : decode cX12_call 215 = .ok (.getfield 1121, 3) := by decide +kernel
set_option maxRecDepth 100000 in
theorem dX12_call_218 : decode cX12_call 218 = .ok (.ifCond .eq 10, 3) := by decide +kernel
set_option maxRecDepth 100000 in
theorem dX12_call_221 : decode cX12_call 221 = .ok (.aload_n 0, 1) := by decide +kernel
set_option maxRecDepth 100000 in
theorem dX12_call_222 : decode cX12_call 222 = .ok (.iload 8, 2) := by decide +kernel
set_option maxRecDepth 100000 in
theorem dX12_call_224 : decode cX12_call 224 = .ok (.putfield 1348, 3) := by decide +kernel
set_option maxRecDepth 100000 in
theorem dX12_call_227 : decode cX12_call 227 = .ok (.return_, 1) := by decide +kernel
set_option maxRecDepth 100000 in
theorem dX12_call_228 : decode cX12_call 228 = .ok (.iinc 9 1, 3) := by decide +kernel
set_option maxRecDepth 100000 in
theorem dX12_call_231 : decode cX12_call 231 = .ok (.aload_n 0, 1) := by decide +kernel
set_option maxRecDepth 100000 in
theorem dX12_call_232 : decode cX12_call 232 = .ok (.iload 8, 2) := by decide +kernel
set_option maxRecDepth 100000 in
theorem dX12_call_234 : decode cX12_call 234 = .ok (.iload 9, 2) := by decide +kernel
set_option maxRecDepth 100000 in
theorem dX12_call_236 : decode cX12_call 236 = .ok (.iadd, 1) := by decide +kernel
set_option maxRecDepth 100000 in
theorem dX12_call_237 : decode cX12_call 237 = .ok (.putfield 1348, 3) := by decide +kernel
set_option maxRecDepth 100000 in
theorem dX12_call_240 : decode cX12_call 240 = .ok (.aload_n 0, 1) := by decide +kernel
set_option maxRecDepth 100000 in
theorem dX12_call_241 : decode cX12_call 241 = .ok (.getfield 79, 3) := by decide +kernel
set_option maxRecDepth 100000 in
theorem dX12_call_244 : decode cX12_call 244 = .ok (.iload 10, 2) := by decide +kernel
set_option maxRecDepth 100000 in
theorem dX12_call_246 : decode cX12_call 246 = .ok (.iaload, 1) := by decide +kernel
set_option maxRecDepth 100000 in
theorem dX12_call_247 : decode cX12_call 247 = .ok (.istore 10, 2) := by decide +kernel
set_option maxRecDepth 100000 in
theorem dX12_call_249 : decode cX12_call 249 = .ok (.goto (-167), 3) := by decide +kernel
set_option maxRecDepth 100000 in
theorem dX12_call_252 : decode cX12_call 252 = .ok (.aload_n 0, 1) := by decide +kernel
set_option maxRecDepth 100000 in
theorem dX12_call_253 : decode cX12_call 253 = .ok (.iload 8, 2) := by decide +kernel
set_option maxRecDepth 100000 in
theorem dX12_call_255 : decode cX12_call 255 = .ok (.putfield 1348, 3) := by decide +kernel
set_option maxRecDepth 100000 in
theorem dX12_call_258 : decode cX12_call 258 = .ok (.aload_n 0, 1) := by decide +kernel
set_option maxRecDepth 100000 in
theorem dX12_call_259 : decode cX12_call 259 = .ok (.getfield 1357, 3) := by decide +kernel
set_option maxRecDepth 100000 in
theorem dX12_call_262 : decode cX12_call 262 = .ok (.bipush 31, 2) := by decide +kernel
set_option maxRecDepth 100000 in
theorem dX12_call_264 : decode cX12_call 264 = .ok (.if_icmp .ne 14, 3) := by decide +kernel
set_option maxRecDepth 100000 in
theorem dX12_call_267 : decode cX12_call 267 = .ok (.aload_n 0, 1) := by decide +kernel
set_option maxRecDepth 100000 in
theorem dX12_call_268 : decode cX12_call 268 = .ok (.bipush 13, 2) := by decide +kernel
set_option maxRecDepth 100000 in
theorem dX12_call_270 : decode cX12_call 270 = .ok (.iload 4, 2) := by decide +kernel
set_option maxRecDepth 100000 in
theorem dX12_call_272 : decode cX12_call 272 = .ok (.invokevirtual 1142, 3) := by decide +kernel
set_option maxRecDepth 100000 in
theorem dX12_call_275 : decode cX12_call 275 = .ok (.goto 27, 3) := by decide +kernel
set_option maxRecDepth 100000 in
theorem dX12_call_278 : decode cX12_call 278 = .ok (.aload_n 0, 1) := by decide +kernel
set_option maxRecDepth 100000 in
theorem dX12_call_279 : decode cX12_call 279 = .ok (.getfield 1360, 3) := by decide +kernel
set_option maxRecDepth 100000 in
theorem dX12_call_282 : decode cX12_call 282 = .ok (.aload 7, 2) := by decide +kernel
set_option maxRecDepth 100000 in
theorem dX12_call_284 : decode cX12_call 284 = .ok (.getfield 936, 3) := by decide +kernel
set_option maxRecDepth 100000 in
theorem dX12_call_287 : decode cX12_call 287 = .ok (.iadd, 1) := by decide +kernel
set_option maxRecDepth 100000 in
theorem dX12_call_288 : decode cX12_call 288 = .ok (.sipush 20000, 3) := by decide +kernel
set_option maxRecDepth 100000 in
theorem dX12_call_291 : decode cX12_call 291 = .ok (.if_icmp .le 11, 3) := by decide +kernel
set_option maxRecDepth 100000 in
theorem dX12_call_294 : decode cX12_call 294 = .ok (.aload_n 0, 1) := by decide +kernel
set_option maxRecDepth 100000 in
theorem dX12_call_295 : decode cX12_call 295 = .ok (.bipush 14, 2) := by decide +kernel
set_option maxRecDepth 100000 in
theorem dX12_call_297 : decode cX12_call 297 = .ok (.iload 4, 2) := by decide +kernel
set_option maxRecDepth 100000 in
theorem dX12_call_299 : decode cX12_call 299 = .ok (.invokevirtual 1142, 3) := by decide +kernel
set_option maxRecDepth 100000 in
theorem dX12_call_302 : decode cX12_call 302 = .ok (.aload_n 0, 1) := by decide +kernel
set_option maxRecDepth 100000 in
theorem dX12_call_303 : decode cX12_call 303 = .ok (.getfield 1121, 3) := by decide +kernel
set_option maxRecDepth 100000 in
theorem dX12_call_306 : decode cX12_call 306 = .ok (.ifCond .eq 4, 3) := by decide +kernel
set_option maxRecDepth 100000 in
theorem dX12_call_309 : decode cX12_call 309 = .ok (.return_, 1) := by decide +kernel
set_option maxRecDepth 100000 in
theorem dX12_call_310 : decode cX12_call 310 = .ok (.aload_n 0, 1) := by decide +kernel
set_option maxRecDepth 100000 in
theorem dX12_call_311 : decode cX12_call 311 = .ok (.getfield 1130, 3) := by decide +kernel
set_option maxRecDepth 100000 in
theorem dX12_call_314 : decode cX12_call 314 = .ok (.istore 10, 2) := by decide +kernel
set_option maxRecDepth 100000 in
theorem dX12_call_316 : decode cX12_call 316 = .ok (.aload_n 0, 1) := by decide +kernel
set_option maxRecDepth 100000 in
theorem dX12_call_317 : decode cX12_call 317 = .ok (.getfield 1360, 3) := by decide +kernel
set_option maxRecDepth 100000 in
theorem dX12_call_320 : decode cX12_call 320 = .ok (.istore 11, 2) := by decide +kernel
set_option maxRecDepth 100000 in
theorem dX12_call_322 : decode cX12_call 322 = .ok (.aload_n 0, 1) := by decide +kernel
set_option maxRecDepth 100000 in
theorem dX12_call_323 : decode cX12_call 323 = .ok (.aload 7, 2) := by decide +kernel
set_option maxRecDepth 100000 in
theorem dX12_call_325 : decode cX12_call 325 = .ok (.iload 6, 2) := by decide +kernel
set_option maxRecDepth 100000 in
theorem dX12_call_327 : decode cX12_call 327 = .ok (.invokevirtual 1363, 3) := by decide +kernel
set_option maxRecDepth 100000 in
theorem dX12_call_330 : decode cX12_call 330 = .ok (.iconst 0, 1) := by decide +kernel
set_option maxRecDepth 100000 in
theorem dX12_call_331 : decode cX12_call 331 = .ok (.istore 12, 2) := by decide +kernel
set_option maxRecDepth 100000 in
theorem dX12_call_333 : decode cX12_call 333 = .ok (.iload 12, 2) := by decide +kernel
set_option maxRecDepth 100000 in
theorem dX12_call_335 : decode cX12_call 335 = .ok (.iload 9, 2) := by decide +kernel
set_option maxRecDepth 100000 in
theorem dX12_call_337 : decode cX12_call 337 = .ok (.if_icmp .ge 33, 3) := by decide +kernel
set_option maxRecDepth 100000 in
theorem dX12_call_340 : decode cX12_call 340 = .ok (.aload_n 0, 1) := by decide +kernel
set_option maxRecDepth 100000 in
theorem dX12_call_341 : decode cX12_call 341 = .ok (.aload 7, 2) := by decide +kernel
set_option maxRecDepth 100000 in
theorem dX12_call_343 : decode cX12_call 343 = .ok (.getfield 949, 3) := by decide +kernel
set_option maxRecDepth 100000 in
theorem dX12_call_346 : decode cX12_call 346 = .ok (.iload 12, 2) := by decide +kernel
set_option maxRecDepth 100000 in
theorem dX12_call_348 : decode cX12_call 348 = .ok (.invokevirtual 556, 3) := by decide +kernel
set_option maxRecDepth 100000 in
theorem dX12_call_351 : decode cX12_call 351 = .ok (.checkcast 100, 3) := by decide +kernel
set_option maxRecDepth 100000 in
theorem dX12_call_354 : decode cX12_call 354 = .ok (.iload 11, 2) := by decide +kernel
set_option maxRecDepth 100000 in
theorem dX12_call_356 : decode cX12_call 356 = .ok (.iload 8, 2) := by decide +kernel
set_option maxRecDepth 100000 in
theorem dX12_call_358 : decode cX12_call 358 = .ok (.iload 12, 2) := by decide +kernel
set_option maxRecDepth 100000 in
theorem dX12_call_360 : decode cX12_call 360 = .ok (.iadd, 1) := by decide +kernel
set_option maxRecDepth 100000 in
theorem dX12_call_361 : decode cX12_call 361 = .ok (.invokevirtual 1366, 3) := by decide +kernel
set_option maxRecDepth 100000 in
theorem dX12_call_364 : decode cX12_call 364 = .ok (.iinc 12 1, 3) := by decide +kernel
set_option maxRecDepth 100000 in
theorem dX12_call_367 : decode cX12_call 367 = .ok (.goto (-34), 3) := by decide +kernel
set_option maxRecDepth 100000 in
theorem dX12_call_370 : decode cX12_call 370 = .ok (.aload_n 0, 1) := by decide +kernel
set_option maxRecDepth 100000 in
theorem dX12_call_371 : decode cX12_call 371 = .ok (.aload_n 0, 1) := by decide +kernel
set_option maxRecDepth 100000 in
theorem dX12_call_372 : decode cX12_call 372 = .ok (.aload 7, 2) := by decide +kernel
set_option maxRecDepth 100000 in
theorem dX12_call_374 : decode cX12_call 374 = .ok (.getfield 943, 3) := by decide +kernel
set_option maxRecDepth 100000 in
theorem dX12_call_377 : decode cX12_call 377 = .ok (.iconst 5, 1) := by decide +kernel
set_option maxRecDepth 100000 in
theorem dX12_call_378 : decode cX12_call 378 = .ok (.invokevirtual 734, 3) := by decide +kernel
set_option maxRecDepth 100000 in
theorem dX12_call_381 : decode cX12_call 381 = .ok (.invokevirtual 1370, 3) := by decide +kernel
set_option maxRecDepth 100000 in
theorem dX12_call_384 : decode cX12_call 384 = .ok (.aload_n 0, 1) := by decide +kernel
set_option maxRecDepth 100000 in
theorem dX12_call_385 : decode cX12_call 385 = .ok (.aload_n 0, 1) := by decide +kernel
set_option maxRecDepth 100000 in
theorem dX12_call_386 : decode cX12_call 386 = .ok (.getfield 188, 3) := by decide +kernel
set_option maxRecDepth 100000 in
theorem dX12_call_389 : decode cX12_call 389 = .ok (.aload_n 0, 1) := by decide +kernel
set_option maxRecDepth 100000 in
theorem dX12_call_390 : decode cX12_call 390 = .ok (.getfield 1130, 3) := by decide +kernel
set_option maxRecDepth 100000 in
theorem dX12_call_393 : decode cX12_call 393 = .ok (.iaload, 1) := by decide +kernel
set_option maxRecDepth 100000 in
theorem dX12_call_394 : decode cX12_call 394 = .ok (.iload 10, 2) := by decide +kernel
set_option maxRecDepth 100000 in
theorem dX12_call_396 : decode cX12_call 396 = .ok (.iload 11, 2) := by decide +kernel
set_option maxRecDepth 100000 in
theorem dX12_call_398 : decode cX12_call 398 = .ok (.invokevirtual 1373, 3) := by decide +kernel
set_option maxRecDepth 100000 in
theorem dX12_call_401 : decode cX12_call 401 = .ok (.aload_n 0, 1) := by decide +kernel
set_option maxRecDepth 100000 in
theorem dX12_call_402 : decode cX12_call 402 = .ok (.getfield 1121, 3) := by decide +kernel
set_option maxRecDepth 100000 in
theorem dX12_call_405 : decode cX12_call 405 = .ok (.ifCond .ne 11, 3) := by decide +kernel
set_option maxRecDepth 100000 in
theorem dX12_call_408 : decode cX12_call 408 = .ok (.aload 7, 2) := by decide +kernel
set_option maxRecDepth 100000 in
theorem dX12_call_410 : decode cX12_call 410 = .ok (.getfield 635, 3) := by decide +kernel
set_option maxRecDepth 100000 in
theorem dX12_call_413 : decode cX12_call 413 = .ok (.ifCond .ne 4, 3) := by decide +kernel
set_option maxRecDepth 100000 in
theorem dX12_call_416 : decode cX12_call 416 = .ok (.return_, 1) := by decide +kernel
set_option maxRecDepth 100000 in
theorem dX12_call_417 : decode cX12_call 417 = .ok (.aload_n 0, 1) := by decide +kernel
set_option maxRecDepth 100000 in
theorem dX12_call_418 : decode cX12_call 418 = .ok (.iload 11, 2) := by decide +kernel
set_option maxRecDepth 100000 in
theorem dX12_call_420 : decode cX12_call 420 = .ok (.aload 7, 2) := by decide +kernel
set_option maxRecDepth 100000 in
theorem dX12_call_422 : decode cX12_call 422 = .ok (.getfield 937, 3) := by decide +kernel
set_option maxRecDepth 100000 in
theorem dX12_call_425 : decode cX12_call 425 = .ok (.iadd, 1) := by decide +kernel
set_option maxRecDepth 100000 in
theorem dX12_call_426 : decode cX12_call 426 = .ok (.aload 7, 2) := by decide +kernel
set_option maxRecDepth 100000 in
theorem dX12_call_428 : decode cX12_call 428 = .ok (.getfield 612, 3) := by decide +kernel
set_option maxRecDepth 100000 in
theorem dX12_call_431 : decode cX12_call 431 = .ok (.iload 4, 2) := by decide +kernel
set_option maxRecDepth 100000 in
theorem dX12_call_433 : decode cX12_call 433 = .ok (.invokevirtual 1251, 3) := by decide +kernel
set_option maxRecDepth 100000 in
theorem dX12_call_436 : decode cX12_call 436 = .ok (.return_, 1) := by decide +kernel
def lX12_call_82 (G : xG) (fr lo : Nat) (x0 : Nat) (x1 : Nat) (x3 : Int32) (x4 : Int32) (x6 : Int32) (x7 : Nat) (x8 : Int32) (x9 : Int32) (x10 : Int32) (h : xH) (Q : Outcome → xH → Prop) : Prop := xP G YX12_call fr lo 82 [(0, rv x0), (1, rv x1), (3, .int x3), (4, .int x4), (6, .int x6), (7, rv x7), (8, .int x8), (9, .int x9), (10, .int x10)] [] h Q
def lX12_call_333 (G : xG) (fr lo : Nat) (x0 : Nat) (x4 : Int32) (x7 : Nat) (x8 : Int32) (x9 : Int32) (x10 : Int32) (x11 : Int32) (x12 : Int32) (h : xH) (Q : Outcome → xH → Prop) : Prop := xP G YX12_call fr lo 333 [(0, rv x0), (4, .int x4), (7, rv x7), (8, .int x8), (9, .int x9), (10, .int x10), (11, .int x11), (12, .int x12)] [] h Q
set_option maxRecDepth 100000 in
def bX12_call_416 (G : xG) (fr lo : Nat) (h : xH) (Q : Outcome → xH → Prop) : Prop := Q (.returned none) h
set_option maxRecDepth 100000 in
theorem uX12_call_416 {G : xG} {fr lo : Nat} {h : xH} {Q : Outcome → xH → Prop} (hq : bX12_call_416 G fr lo h Q) : xP G YX12_call fr lo 416 [] [] h Q := by
  unfold bX12_call_416 at hq
  exact x_vret rfl dX12_call_416 hq
set_option maxRecDepth 100000 in
def bX12_call_333 (G : xG) (fr lo : Nat) (x0 : Nat) (x4 : Int32) (x7 : Nat) (x8 : Int32) (x9 : Int32) (x10 : Int32) (x11 : Int32) (x12 : Int32) (h : xH) (Q : Outcome → xH → Prop) : Prop := ((x9 ≤ x12 → tg h x7 = 24 ∧ tg h x0 = 13 ∧ 1 ≤ fr ∧ 17 ≤ lo ∧ xRi G YX12_child (fr - 1) (lo - 17) [rv x0, .int (fI h x7 5912), .int 5] h (fun x7 h6 => xext h h6 → 1 ≤ fr ∧ 26 ≤ lo ∧ xRv G YX12_execute (fr - 1) (lo - 26) [rv x0, .int x7] h6 (fun h12 => xext h6 h12 → tg h12 (fR h12 x0 3161) = 100 ∧ vp_in (fI h12 x0 3163) (ln h12 (fR h12 x0 3161)) ∧ 1 ≤ fr ∧ 15 ≤ lo ∧ xRv G YX12_leaveRoutine (fr - 1) (lo - 15) [rv x0, .int (aI h12 (fR h12 x0 3161) (Int32.toNatClampNeg (fI h12 x0 3163))), .int x10, .int x11] h12 (fun h20 => xext h12 h20 → ((¬ (fI h20 x0 3170) = 0 → bX12_call_416 G fr lo h20 Q) ∧ ((fI h20 x0 3170) = 0 → ((¬ (fI h20 x7 5905) = 0 → 1 ≤ fr ∧ 15 ≤ lo ∧ xRv G YX12_load (fr - 1) (lo - 15) [rv x0, .int (x11 + (fI h20 x7 5915)), rv (fR h20 x7 5890), .int x4] h20 (fun h31 => xext h20 h31 → Q (.returned none) h31) (fun r h2 => Q (.threw r) h2)) ∧ ((fI h20 x7 5905) = 0 → bX12_call_416 G fr lo h20 Q))))) (fun r h2 => Q (.threw r) h2)) (fun r h2 => Q (.threw r) h2)) (fun r h2 => Q (.threw r) h2)) ∧ (¬ x9 ≤ x12 → tg h x7 = 24 ∧ tg h (fR h x7 5910) = 29 ∧ 1 ≤ fr ∧ 14 ≤ lo ∧ xRr G YJ2_get (fr - 1) (lo - 14) [rv (fR h x7 5910), .int x12] h (fun x39 h38 => xext h h38 → tg h38 x39 = 24 ∧ tg h38 x0 = 13 ∧ 1 ≤ fr ∧ 16 ≤ lo ∧ xRv G YX12_receive (fr - 1) (lo - 16) [rv x0, rv x39, .int x11, .int (x8 + x12)] h38 (fun h45 => xext h38 h45 → lX12_call_333 G fr lo x0 x4 x7 x8 x9 x10 x11 (x12 + 1) h45 Q) (fun r h2 => Q (.threw r) h2)) (fun r h2 => Q (.threw r) h2)))
set_option maxRecDepth 100000 in
theorem uX12_call_333 {G : xG} {fr lo : Nat} {x0 : Nat} {x4 : Int32} {x7 : Nat} {x8 : Int32} {x9 : Int32} {x10 : Int32} {x11 : Int32} {x12 : Int32} {h : xH} {Q : Outcome → xH → Prop} (hq : bX12_call_333 G fr lo x0 x4 x7 x8 x9 x10 x11 x12 h Q) : xP G YX12_call fr lo 333 [(0, rv x0), (4, .int x4), (7, rv x7), (8, .int x8), (9, .int x9), (10, .int x10), (11, .int x11), (12, .int x12)] [] h Q := by
  unfold bX12_call_333 at hq
  refine x_iload 7 dX12_call_333 rfl ?_
  refine x_iload 4 dX12_call_335 rfl ?_
  refine x_icmp_ge (tgt := 370) dX12_call_337 (by decide) (fun c1 => ?_) (fun c1 => ?_)
  · replace hq := hq.1 c1
    refine x_aload_n 0 dX12_call_370 rfl ?_
    refine x_aload_n 0 dX12_call_371 rfl ?_
    refine x_aload 2 dX12_call_372 rfl ?_
    obtain ⟨g2, hq⟩ := hq
    refine x_get (v := .int (fI h x7 5912)) fdX12_943 dX12_call_374 g2 rfl ?_
    refine x_iconst (v := 5) dX12_call_377 (by decide) ?_
    obtain ⟨g3, hq⟩ := hq
    obtain ⟨g4, g5, hq⟩ := hq
    refine x_callV (Yc := YX12_child) (as := [.int (fI h x7 5912), .int 5]) (st := [rv x0]) q4126 mvX12_child g3 rfl dX12_call_378 (xle (xal1 (rv_cat _) (xal1 rfl (xal1 rfl xal0))) (by decide)) (xfr g4) (xlo (xsw1 (rv_cat _) xsw0) (by decide) g5) (xKi hq (fun x7 h6 hq e8 => ?_) (fun _ _ q _ => q))
    replace hq := hq e8
    have t9 : tg h6 x0 = 13 := e8.tg g3 (by decide)
    obtain ⟨g10, g11, hq⟩ := hq
    refine x_callV (Yc := YX12_execute) (as := [.int x7]) (st := []) q4539 mvX12_execute t9 rfl dX12_call_381 (xle (xal1 (rv_cat _) (xal1 rfl xal0)) (by decide)) (xfr g10) (xlo xsw0 (by decide) g11) (xKv hq (fun h12 hq e14 => ?_) (fun _ _ q _ => q))
    replace hq := hq e14
    refine x_aload_n 0 dX12_call_384 rfl ?_
    refine x_aload_n 0 dX12_call_385 rfl ?_
    have t15 : tg h12 x0 = 13 := e14.tg t9 (by decide)
    refine x_get (v := rv (fR h12 x0 3161)) fdX12_188 dX12_call_386 t15 rfl ?_
    refine x_aload_n 0 dX12_call_389 rfl ?_
    refine x_get (v := .int (fI h12 x0 3163)) fdX12_1130 dX12_call_390 t15 rfl ?_
    obtain ⟨g16, hq⟩ := hq
    obtain ⟨i17, hq⟩ := hq
    refine x_iald 0 (Or.inl rfl) g16 i17 dX12_call_393 ?_
    refine x_iload 5 dX12_call_394 rfl ?_
    refine x_iload 6 dX12_call_396 rfl ?_
    obtain ⟨g18, g19, hq⟩ := hq
    refine x_callV (Yc := YX12_leaveRoutine) (as := [.int (aI h12 (fR h12 x0 3161) (Int32.toNatClampNeg (fI h12 x0 3163))), .int x10, .int x11]) (st := []) q4647 mvX12_leaveRoutine t15 rfl dX12_call_398 (xle (xal1 (rv_cat _) (xal1 rfl (xal1 rfl (xal1 rfl xal0)))) (by decide)) (xfr g18) (xlo xsw0 (by decide) g19) (xKv hq (fun h20 hq e22 => ?_) (fun _ _ q _ => q))
    replace hq := hq e22
    refine x_aload_n 0 dX12_call_401 rfl ?_
    have t23 : tg h20 x0 = 13 := e22.tg t15 (by decide)
    refine x_get (v := .int (fI h20 x0 3170)) fdX12_1121 dX12_call_402 t23 rfl ?_
    refine x_if_ne (tgt := 416) dX12_call_405 (by decide) (fun c24 => ?_) (fun c24 => ?_)
    · replace hq := hq.1 c24
      refine xP.pick (lv' := []) [] rfl ?_
      exact uX12_call_416 hq
    · replace hq := hq.2 c24
      refine x_aload 2 dX12_call_408 rfl ?_
      have t25 : tg h6 x7 = 24 := e8.tg g2 (by decide)
      have t26 : tg h12 x7 = 24 := e14.tg t25 (by decide)
      have t27 : tg h20 x7 = 24 := e22.tg t26 (by decide)
      refine x_get (v := .int (fI h20 x7 5905)) fdX12_635 dX12_call_410 t27 rfl ?_
      refine x_if_ne (tgt := 417) dX12_call_413 (by decide) (fun c28 => ?_) (fun c28 => ?_)
      · replace hq := hq.1 c28
        refine x_aload_n 0 dX12_call_417 rfl ?_
        refine x_iload 6 dX12_call_418 rfl ?_
        refine x_aload 2 dX12_call_420 rfl ?_
        refine x_get (v := .int (fI h20 x7 5915)) fdX12_937 dX12_call_422 t27 rfl ?_
        refine x_iadd dX12_call_425 ?_
        refine x_aload 2 dX12_call_426 rfl ?_
        refine x_get (v := rv (fR h20 x7 5890)) fdX12_612 dX12_call_428 t27 rfl ?_
        refine x_iload 1 dX12_call_431 rfl ?_
        obtain ⟨g29, g30, hq⟩ := hq
        refine x_callV (Yc := YX12_load) (as := [.int (x11 + (fI h20 x7 5915)), rv (fR h20 x7 5890), .int x4]) (st := []) q4651 mvX12_load t23 rfl dX12_call_433 (xle (xal1 (rv_cat _) (xal1 rfl (xal1 (rv_cat _) (xal1 rfl xal0)))) (by decide)) (xfr g29) (xlo xsw0 (by decide) g30) (xKv hq (fun h31 hq e33 => ?_) (fun _ _ q _ => q))
        replace hq := hq e33
        exact x_vret rfl dX12_call_436 hq
      · replace hq := hq.2 c28
        refine xP.pick (lv' := []) [] rfl ?_
        exact uX12_call_416 hq
  · replace hq := hq.2 c1
    refine x_aload_n 0 dX12_call_340 rfl ?_
    refine x_aload 2 dX12_call_341 rfl ?_
    obtain ⟨g34, hq⟩ := hq
    refine x_get (v := rv (fR h x7 5910)) fdX12_949 dX12_call_343 g34 rfl ?_
    refine x_iload 7 dX12_call_346 rfl ?_
    obtain ⟨g35, hq⟩ := hq
    obtain ⟨g36, g37, hq⟩ := hq
    refine x_callV (Yc := YJ2_get) (as := [.int x12]) (st := [rv x0]) q4109 mvJ2_get g35 rfl dX12_call_348 (xle (xal1 (rv_cat _) (xal1 rfl xal0)) (by decide)) (xfr g36) (xlo (xsw1 (rv_cat _) xsw0) (by decide) g37) (xKr hq (fun x39 h38 hq e40 => ?_) (fun _ _ q _ => q))
    replace hq := hq e40
    obtain ⟨g41, hq⟩ := hq
    refine x_cast (ci := 23) (by decide) rfl q3206 g41 dX12_call_351 ?_
    refine x_iload 6 dX12_call_354 rfl ?_
    refine x_iload 3 dX12_call_356 rfl ?_
    refine x_iload 7 dX12_call_358 rfl ?_
    refine x_iadd dX12_call_360 ?_
    obtain ⟨g42, hq⟩ := hq
    obtain ⟨g43, g44, hq⟩ := hq
    refine x_callV (Yc := YX12_receive) (as := [rv x39, .int x11, .int (x8 + x12)]) (st := []) q4639 mvX12_receive g42 rfl dX12_call_361 (xle (xal1 (rv_cat _) (xal1 (rv_cat _) (xal1 rfl (xal1 rfl xal0)))) (by decide)) (xfr g43) (xlo xsw0 (by decide) g44) (xKv hq (fun h45 hq e47 => ?_) (fun _ _ q _ => q))
    replace hq := hq e47
    refine x_iinc (lv' := [(12, .int (x12 + 1)), (0, rv x0), (4, .int x4), (7, rv x7), (8, .int x8), (9, .int x9), (10, .int x10), (11, .int x11)]) 7 dX12_call_364 rfl (by decide) rfl ?_
    refine x_goto (tgt := 333) dX12_call_367 (by decide) ?_
    refine xP.pick (lv' := [(0, rv x0), (4, .int x4), (7, rv x7), (8, .int x8), (9, .int x9), (10, .int x10), (11, .int x11), (12, .int (x12 + 1))]) [1, 2, 3, 4, 5, 6, 7, 0] rfl ?_
    exact hq
set_option maxRecDepth 100000 in
def bX12_call_302 (G : xG) (fr lo : Nat) (x0 : Nat) (x4 : Int32) (x6 : Int32) (x7 : Nat) (x8 : Int32) (x9 : Int32) (h : xH) (Q : Outcome → xH → Prop) : Prop := tg h x0 = 13 ∧ (((fI h x0 3170) = 0 → 1 ≤ fr ∧ 18 ≤ lo ∧ xRv G YX12_enterRoutine (fr - 1) (lo - 18) [rv x0, rv x7, .int x6] h (fun h5 => xext h h5 → lX12_call_333 G fr lo x0 x4 x7 x8 x9 (fI h x0 3163) (fI h x0 3151) 0 h5 Q) (fun r h2 => Q (.threw r) h2)) ∧ (¬ (fI h x0 3170) = 0 → Q (.returned none) h))
set_option maxRecDepth 100000 in
theorem uX12_call_302 {G : xG} {fr lo : Nat} {x0 : Nat} {x4 : Int32} {x6 : Int32} {x7 : Nat} {x8 : Int32} {x9 : Int32} {h : xH} {Q : Outcome → xH → Prop} (hq : bX12_call_302 G fr lo x0 x4 x6 x7 x8 x9 h Q) : xP G YX12_call fr lo 302 [(0, rv x0), (4, .int x4), (6, .int x6), (7, rv x7), (8, .int x8), (9, .int x9)] [] h Q := by
  unfold bX12_call_302 at hq
  refine x_aload_n 0 dX12_call_302 rfl ?_
  obtain ⟨g1, hq⟩ := hq
  refine x_get (v := .int (fI h x0 3170)) fdX12_1121 dX12_call_303 g1 rfl ?_
  refine x_if_eq (tgt := 310) dX12_call_306 (by decide) (fun c2 => ?_) (fun c2 => ?_)
  · replace hq := hq.1 c2
    refine x_aload_n 0 dX12_call_310 rfl ?_
    refine x_get (v := .int (fI h x0 3163)) fdX12_1130 dX12_call_311 g1 rfl ?_
    refine x_istore (lv' := [(10, .int (fI h x0 3163)), (0, rv x0), (4, .int x4), (6, .int x6), (7, rv x7), (8, .int x8), (9, .int x9)]) dX12_call_314 (by decide) rfl ?_
    refine x_aload_n 1 dX12_call_316 rfl ?_
    refine x_get (v := .int (fI h x0 3151)) fdX12_1360 dX12_call_317 g1 rfl ?_
    refine x_istore (lv' := [(11, .int (fI h x0 3151)), (10, .int (fI h x0 3163)), (0, rv x0), (4, .int x4), (6, .int x6), (7, rv x7), (8, .int x8), (9, .int x9)]) dX12_call_320 (by decide) rfl ?_
    refine x_aload_n 2 dX12_call_322 rfl ?_
    refine x_aload 5 dX12_call_323 rfl ?_
    refine x_iload 4 dX12_call_325 rfl ?_
    obtain ⟨g3, g4, hq⟩ := hq
    refine x_callV (Yc := YX12_enterRoutine) (as := [rv x7, .int x6]) (st := []) q4635 mvX12_enterRoutine g1 rfl dX12_call_327 (xle (xal1 (rv_cat _) (xal1 (rv_cat _) (xal1 rfl xal0))) (by decide)) (xfr g3) (xlo xsw0 (by decide) g4) (xKv hq (fun h5 hq e7 => ?_) (fun _ _ q _ => q))
    replace hq := hq e7
    refine x_iconst (v := 0) dX12_call_330 (by decide) ?_
    refine x_istore (lv' := [(12, .int 0), (11, .int (fI h x0 3151)), (10, .int (fI h x0 3163)), (0, rv x0), (4, .int x4), (6, .int x6), (7, rv x7), (8, .int x8), (9, .int x9)]) dX12_call_331 (by decide) rfl ?_
    refine xP.pick (lv' := [(0, rv x0), (4, .int x4), (7, rv x7), (8, .int x8), (9, .int x9), (10, .int (fI h x0 3163)), (11, .int (fI h x0 3151)), (12, .int 0)]) [3, 4, 6, 7, 8, 2, 1, 0] rfl ?_
    exact hq
  · replace hq := hq.2 c2
    exact x_vret rfl dX12_call_309 hq
set_option maxRecDepth 100000 in
def bX12_call_214 (G : xG) (fr lo : Nat) (x0 : Nat) (x1 : Nat) (x3 : Int32) (x4 : Int32) (x6 : Int32) (x7 : Nat) (x8 : Int32) (x9 : Int32) (x10 : Int32) (h : xH) (Q : Outcome → xH → Prop) : Prop := tg h x0 = 13 ∧ (((fI h x0 3170) = 0 → (∀ h3 : xH, h3 = sI h x0 3169 (x8 + (x9 + 1)) → tg h3 (fR h3 x0 3105) = 100 ∧ vp_in x10 (ln h3 (fR h3 x0 3105)) ∧ lX12_call_82 G fr lo x0 x1 x3 x4 x6 x7 x8 (x9 + 1) (aI h3 (fR h3 x0 3105) (Int32.toNatClampNeg x10)) h3 Q)) ∧ (¬ (fI h x0 3170) = 0 → (∀ h8 : xH, h8 = sI h x0 3169 x8 → Q (.returned none) h8)))
set_option maxRecDepth 100000 in
theorem uX12_call_214 {G : xG} {fr lo : Nat} {x0 : Nat} {x1 : Nat} {x3 : Int32} {x4 : Int32} {x6 : Int32} {x7 : Nat} {x8 : Int32} {x9 : Int32} {x10 : Int32} {h : xH} {Q : Outcome → xH → Prop} (hq : bX12_call_214 G fr lo x0 x1 x3 x4 x6 x7 x8 x9 x10 h Q) : xP G YX12_call fr lo 214 [(0, rv x0), (1, rv x1), (3, .int x3), (4, .int x4), (6, .int x6), (7, rv x7), (8, .int x8), (9, .int x9), (10, .int x10)] [] h Q := by
  unfold bX12_call_214 at hq
  refine x_aload_n 0 dX12_call_214 rfl ?_
  obtain ⟨g1, hq⟩ := hq
  refine x_get (v := .int (fI h x0 3170)) fdX12_1121 dX12_call_215 g1 rfl ?_
  refine x_if_eq (tgt := 228) dX12_call_218 (by decide) (fun c2 => ?_) (fun c2 => ?_)
  · replace hq := hq.1 c2
    refine x_iinc (lv' := [(9, .int (x9 + 1)), (0, rv x0), (1, rv x1), (3, .int x3), (4, .int x4), (6, .int x6), (7, rv x7), (8, .int x8), (10, .int x10)]) 7 dX12_call_228 rfl (by decide) rfl ?_
    refine x_aload_n 1 dX12_call_231 rfl ?_
    refine x_iload 7 dX12_call_232 rfl ?_
    refine x_iload 0 dX12_call_234 rfl ?_
    refine x_iadd dX12_call_236 ?_
    obtain ⟨h3, e4⟩ : ∃ y, y = sI h x0 3169 (x8 + (x9 + 1)) := ⟨_, rfl⟩
    replace hq := hq h3 e4
    refine x_putI fdX12_1348 xty_I1 dX12_call_237 g1 (Or.inl (by rw [g1]; rfl)) xnI rfl e4 ?_
    refine x_aload_n 1 dX12_call_240 rfl ?_
    have t5 : tg h3 x0 = 13 := by rw [e4]; exact g1
    refine x_get (v := rv (fR h3 x0 3105)) fdX12_79 dX12_call_241 t5 rfl ?_
    refine x_iload 8 dX12_call_244 rfl ?_
    obtain ⟨g6, hq⟩ := hq
    obtain ⟨i7, hq⟩ := hq
    refine x_iald 0 (Or.inl rfl) g6 i7 dX12_call_246 ?_
    refine x_istore (lv' := [(10, .int (aI h3 (fR h3 x0 3105) (Int32.toNatClampNeg x10))), (9, .int (x9 + 1)), (0, rv x0), (1, rv x1), (3, .int x3), (4, .int x4), (6, .int x6), (7, rv x7), (8, .int x8)]) dX12_call_247 (by decide) rfl ?_
    refine x_goto (tgt := 82) dX12_call_249 (by decide) ?_
    refine xP.pick (lv' := [(0, rv x0), (1, rv x1), (3, .int x3), (4, .int x4), (6, .int x6), (7, rv x7), (8, .int x8), (9, .int (x9 + 1)), (10, .int (aI h3 (fR h3 x0 3105) (Int32.toNatClampNeg x10)))]) [2, 3, 4, 5, 6, 7, 8, 1, 0] rfl ?_
    exact hq
  · replace hq := hq.2 c2
    refine x_aload_n 0 dX12_call_221 rfl ?_
    refine x_iload 6 dX12_call_222 rfl ?_
    obtain ⟨h8, e9⟩ : ∃ y, y = sI h x0 3169 x8 := ⟨_, rfl⟩
    replace hq := hq h8 e9
    refine x_putI fdX12_1348 xty_I1 dX12_call_224 g1 (Or.inl (by rw [g1]; rfl)) xnI rfl e9 ?_
    exact x_vret rfl dX12_call_227 hq
set_option maxRecDepth 100000 in
def bX12_call_104 (G : xG) (fr lo : Nat) (x0 : Nat) (x1 : Nat) (x3 : Int32) (x4 : Int32) (x6 : Int32) (x7 : Nat) (x8 : Int32) (x9 : Int32) (x10 : Int32) (s0 : Int32) (h : xH) (Q : Outcome → xH → Prop) : Prop := tg h x1 = 24 ∧ tg h (fR h x1 5910) = 29 ∧ 1 ≤ fr ∧ 13 ≤ lo ∧ xRr G YJ2_get (fr - 1) (lo - 13) [rv (fR h x1 5910), .int x9] h (fun x6 h5 => xext h h5 → tg h5 x6 = 24 ∧ ((¬ (fI h5 x6 5888) = 5 → (((fI h5 x6 5895) = 0 → tg h5 x0 = 13 ∧ 1 ≤ fr ∧ 37 ≤ lo ∧ xRv G YX12_evaluate (fr - 1) (lo - 37) [rv x0, .int s0] h5 (fun h14 => xext h5 h14 → ((¬ (fI h14 x0 3170) = 0 → bX12_call_214 G fr lo x0 x1 x3 x4 x6 x7 x8 x9 x10 h14 Q) ∧ ((fI h14 x0 3170) = 0 → 1 ≤ fr ∧ 15 ≤ lo ∧ xRv G YX12_giveValue (fr - 1) (lo - 15) [rv x0, .int s0, rv x6, .int (x8 + x9)] h14 (fun h21 => xext h14 h21 → bX12_call_214 G fr lo x0 x1 x3 x4 x6 x7 x8 x9 x10 h21 Q) (fun r h2 => Q (.threw r) h2)))) (fun r h2 => Q (.threw r) h2)) ∧ (¬ (fI h5 x6 5895) = 0 → tg h5 x0 = 13 ∧ 1 ≤ fr ∧ 16 ≤ lo ∧ xRi G YX12_loneVariable (fr - 1) (lo - 16) [rv x0, .int s0] h5 (fun x28 h27 => xext h5 h27 → 1 ≤ fr ∧ 17 ≤ lo ∧ xRv G YX12_find1 (fr - 1) (lo - 17) [rv x0, .int x28] h27 (fun h33 => xext h27 h33 → tg h33 (fR h33 x0 3166) = 101 ∧ vp_in (x8 + x9) (ln h33 (fR h33 x0 3166)) ∧ (∀ h39 : xH, h39 = tJ h33 (fR h33 x0 3166) (Int32.toNatClampNeg (x8 + x9)) (Int32.toInt64 (fI h33 x0 3181)) → bX12_call_214 G fr lo x0 x1 x3 x4 x6 x7 x8 x9 x10 h39 Q)) (fun r h2 => Q (.threw r) h2)) (fun r h2 => Q (.threw r) h2)))) ∧ ((fI h5 x6 5888) = 5 → tg h5 x0 = 13 ∧ 1 ≤ fr ∧ 17 ≤ lo ∧ xRi G YX12_loneVariable (fr - 1) (lo - 17) [rv x0, .int s0] h5 (fun x45 h44 => xext h5 h44 → tg h44 (fR h5 x0 3114) = 109 ∧ vp_in x45 (ln h44 (fR h5 x0 3114)) ∧ 1 ≤ fr ∧ 15 ≤ lo ∧ xRv G YX12_giveRoutine (fr - 1) (lo - 15) [rv x0, rv (aR h44 (fR h5 x0 3114) (Int32.toNatClampNeg x45)), .int (x8 + x9)] h44 (fun h52 => xext h44 h52 → bX12_call_214 G fr lo x0 x1 x3 x4 x6 x7 x8 x9 x10 h52 Q) (fun r h2 => Q (.threw r) h2)) (fun r h2 => Q (.threw r) h2)))) (fun r h2 => Q (.threw r) h2)
set_option maxRecDepth 100000 in
theorem uX12_call_104 {G : xG} {fr lo : Nat} {x0 : Nat} {x1 : Nat} {x3 : Int32} {x4 : Int32} {x6 : Int32} {x7 : Nat} {x8 : Int32} {x9 : Int32} {x10 : Int32} {s0 : Int32} {h : xH} {Q : Outcome → xH → Prop} (hq : bX12_call_104 G fr lo x0 x1 x3 x4 x6 x7 x8 x9 x10 s0 h Q) : xP G YX12_call fr lo 104 [(0, rv x0), (1, rv x1), (3, .int x3), (4, .int x4), (6, .int x6), (7, rv x7), (8, .int x8), (9, .int x9), (10, .int x10)] [.int s0] h Q := by
  unfold bX12_call_104 at hq
  refine x_istore (lv' := [(11, .int s0), (0, rv x0), (1, rv x1), (3, .int x3), (4, .int x4), (6, .int x6), (7, rv x7), (8, .int x8), (9, .int x9), (10, .int x10)]) dX12_call_104 (by decide) rfl ?_
  refine x_aload_n 2 dX12_call_106 rfl ?_
  obtain ⟨g1, hq⟩ := hq
  refine x_get (v := rv (fR h x1 5910)) fdX12_949 dX12_call_107 g1 rfl ?_
  refine x_iload 8 dX12_call_110 rfl ?_
  obtain ⟨g2, hq⟩ := hq
  obtain ⟨g3, g4, hq⟩ := hq
  refine x_callV (Yc := YJ2_get) (as := [.int x9]) (st := []) q4109 mvJ2_get g2 rfl dX12_call_112 (xle (xal1 (rv_cat _) (xal1 rfl xal0)) (by decide)) (xfr g3) (xlo xsw0 (by decide) g4) (xKr hq (fun x6 h5 hq e7 => ?_) (fun _ _ q _ => q))
  replace hq := hq e7
  obtain ⟨g8, hq⟩ := hq
  refine x_cast (ci := 23) (by decide) rfl q3206 g8 dX12_call_115 ?_
  refine x_astore (lv' := [(12, rv x6), (11, .int s0), (0, rv x0), (1, rv x1), (3, .int x3), (4, .int x4), (6, .int x6), (7, rv x7), (8, .int x8), (9, .int x9), (10, .int x10)]) dX12_call_118 (by decide) rfl ?_
  refine x_aload 0 dX12_call_120 rfl ?_
  refine x_get (v := .int (fI h5 x6 5888)) fdX12_577 dX12_call_122 g8 rfl ?_
  refine x_iconst (v := 5) dX12_call_125 (by decide) ?_
  refine x_icmp_ne (tgt := 152) dX12_call_126 (by decide) (fun c9 => ?_) (fun c9 => ?_)
  · replace hq := hq.1 c9
    refine x_aload 0 dX12_call_152 rfl ?_
    refine x_get (v := .int (fI h5 x6 5895)) fdX12_961 dX12_call_154 g8 rfl ?_
    refine x_if_eq (tgt := 188) dX12_call_157 (by decide) (fun c10 => ?_) (fun c10 => ?_)
    · replace hq := hq.1 c10
      refine x_aload_n 2 dX12_call_188 rfl ?_
      refine x_iload 1 dX12_call_189 rfl ?_
      obtain ⟨g11, hq⟩ := hq
      obtain ⟨g12, g13, hq⟩ := hq
      refine x_callV (Yc := YX12_evaluate) (as := [.int s0]) (st := []) q4543 mvX12_evaluate g11 rfl dX12_call_191 (xle (xal1 (rv_cat _) (xal1 rfl xal0)) (by decide)) (xfr g12) (xlo xsw0 (by decide) g13) (xKv hq (fun h14 hq e16 => ?_) (fun _ _ q _ => q))
      replace hq := hq e16
      refine x_aload_n 2 dX12_call_194 rfl ?_
      have t17 : tg h14 x0 = 13 := e16.tg g11 (by decide)
      refine x_get (v := .int (fI h14 x0 3170)) fdX12_1121 dX12_call_195 t17 rfl ?_
      refine x_if_ne (tgt := 214) dX12_call_198 (by decide) (fun c18 => ?_) (fun c18 => ?_)
      · replace hq := hq.1 c18
        refine xP.pick (lv' := [(0, rv x0), (1, rv x1), (3, .int x3), (4, .int x4), (6, .int x6), (7, rv x7), (8, .int x8), (9, .int x9), (10, .int x10)]) [2, 3, 4, 5, 6, 7, 8, 9, 10] rfl ?_
        exact uX12_call_214 hq
      · replace hq := hq.2 c18
        refine x_aload_n 2 dX12_call_201 rfl ?_
        refine x_iload 1 dX12_call_202 rfl ?_
        refine x_aload 0 dX12_call_204 rfl ?_
        refine x_iload 8 dX12_call_206 rfl ?_
        refine x_iload 9 dX12_call_208 rfl ?_
        refine x_iadd dX12_call_210 ?_
        obtain ⟨g19, g20, hq⟩ := hq
        refine x_callV (Yc := YX12_giveValue) (as := [.int s0, rv x6, .int (x8 + x9)]) (st := []) q4623 mvX12_giveValue t17 rfl dX12_call_211 (xle (xal1 (rv_cat _) (xal1 rfl (xal1 (rv_cat _) (xal1 rfl xal0)))) (by decide)) (xfr g19) (xlo xsw0 (by decide) g20) (xKv hq (fun h21 hq e23 => ?_) (fun _ _ q _ => q))
        replace hq := hq e23
        refine xP.pick (lv' := [(0, rv x0), (1, rv x1), (3, .int x3), (4, .int x4), (6, .int x6), (7, rv x7), (8, .int x8), (9, .int x9), (10, .int x10)]) [2, 3, 4, 5, 6, 7, 8, 9, 10] rfl ?_
        exact uX12_call_214 hq
    · replace hq := hq.2 c10
      refine x_aload_n 2 dX12_call_160 rfl ?_
      refine x_aload_n 2 dX12_call_161 rfl ?_
      refine x_iload 1 dX12_call_162 rfl ?_
      obtain ⟨g24, hq⟩ := hq
      obtain ⟨g25, g26, hq⟩ := hq
      refine x_callV (Yc := YX12_loneVariable) (as := [.int s0]) (st := [rv x0]) q4348 mvX12_loneVariable g24 rfl dX12_call_164 (xle (xal1 (rv_cat _) (xal1 rfl xal0)) (by decide)) (xfr g25) (xlo (xsw1 (rv_cat _) xsw0) (by decide) g26) (xKi hq (fun x28 h27 hq e29 => ?_) (fun _ _ q _ => q))
      replace hq := hq e29
      have t30 : tg h27 x0 = 13 := e29.tg g24 (by decide)
      obtain ⟨g31, g32, hq⟩ := hq
      refine x_callV (Yc := YX12_find1) (as := [.int x28]) (st := []) q4615 mvX12_find1 t30 rfl dX12_call_167 (xle (xal1 (rv_cat _) (xal1 rfl xal0)) (by decide)) (xfr g31) (xlo xsw0 (by decide) g32) (xKv hq (fun h33 hq e35 => ?_) (fun _ _ q _ => q))
      replace hq := hq e35
      refine x_aload_n 2 dX12_call_170 rfl ?_
      have t36 : tg h33 x0 = 13 := e35.tg t30 (by decide)
      refine x_get (v := rv (fR h33 x0 3166)) fdX12_195 dX12_call_171 t36 rfl ?_
      refine x_iload 8 dX12_call_174 rfl ?_
      refine x_iload 9 dX12_call_176 rfl ?_
      refine x_iadd dX12_call_178 ?_
      refine x_aload_n 2 dX12_call_179 rfl ?_
      refine x_get (v := .int (fI h33 x0 3181)) fdX12_1236 dX12_call_180 t36 rfl ?_
      refine x_i2l dX12_call_183 ?_
      obtain ⟨g37, hq⟩ := hq
      obtain ⟨i38, hq⟩ := hq
      obtain ⟨h39, e40⟩ : ∃ y, y = tJ h33 (fR h33 x0 3166) (Int32.toNatClampNeg (x8 + x9)) (Int32.toInt64 (fI h33 x0 3181)) := ⟨_, rfl⟩
      replace hq := hq h39 e40
      refine x_last' g37 i38 dX12_call_184 e40 ?_
      refine x_goto (tgt := 214) dX12_call_185 (by decide) ?_
      refine xP.pick (lv' := [(0, rv x0), (1, rv x1), (3, .int x3), (4, .int x4), (6, .int x6), (7, rv x7), (8, .int x8), (9, .int x9), (10, .int x10)]) [2, 3, 4, 5, 6, 7, 8, 9, 10] rfl ?_
      exact uX12_call_214 hq
  · replace hq := hq.2 c9
    refine x_aload_n 2 dX12_call_129 rfl ?_
    refine x_aload_n 2 dX12_call_130 rfl ?_
    obtain ⟨g41, hq⟩ := hq
    refine x_get (v := rv (fR h5 x0 3114)) fdX12_102 dX12_call_131 g41 rfl ?_
    refine x_aload_n 2 dX12_call_134 rfl ?_
    refine x_iload 1 dX12_call_135 rfl ?_
    obtain ⟨g42, g43, hq⟩ := hq
    refine x_callV (Yc := YX12_loneVariable) (as := [.int s0]) (st := [rv (fR h5 x0 3114), rv x0]) q4348 mvX12_loneVariable g41 rfl dX12_call_137 (xle (xal1 (rv_cat _) (xal1 rfl xal0)) (by decide)) (xfr g42) (xlo (xsw1 (rv_cat _) (xsw1 (rv_cat _) xsw0)) (by decide) g43) (xKi hq (fun x45 h44 hq e46 => ?_) (fun _ _ q _ => q))
    replace hq := hq e46
    obtain ⟨g47, hq⟩ := hq
    obtain ⟨i48, hq⟩ := hq
    refine x_aald 9 rfl g47 (by decide) i48 dX12_call_140 ?_
    refine x_iload 8 dX12_call_141 rfl ?_
    refine x_iload 9 dX12_call_143 rfl ?_
    refine x_iadd dX12_call_145 ?_
    have t49 : tg h44 x0 = 13 := e46.tg g41 (by decide)
    obtain ⟨g50, g51, hq⟩ := hq
    refine x_callV (Yc := YX12_giveRoutine) (as := [rv (aR h44 (fR h5 x0 3114) (Int32.toNatClampNeg x45)), .int (x8 + x9)]) (st := []) q4611 mvX12_giveRoutine t49 rfl dX12_call_146 (xle (xal1 (rv_cat _) (xal1 (rv_cat _) (xal1 rfl xal0))) (by decide)) (xfr g50) (xlo xsw0 (by decide) g51) (xKv hq (fun h52 hq e54 => ?_) (fun _ _ q _ => q))
    replace hq := hq e54
    refine x_goto (tgt := 214) dX12_call_149 (by decide) ?_
    refine xP.pick (lv' := [(0, rv x0), (1, rv x1), (3, .int x3), (4, .int x4), (6, .int x6), (7, rv x7), (8, .int x8), (9, .int x9), (10, .int x10)]) [2, 3, 4, 5, 6, 7, 8, 9, 10] rfl ?_
    exact uX12_call_214 hq
set_option maxRecDepth 100000 in
def bX12_call_82 (G : xG) (fr lo : Nat) (x0 : Nat) (x1 : Nat) (x3 : Int32) (x4 : Int32) (x6 : Int32) (x7 : Nat) (x8 : Int32) (x9 : Int32) (x10 : Int32) (h : xH) (Q : Outcome → xH → Prop) : Prop := ((x10 = (-1) → tg h x0 = 13 ∧ (∀ h3 : xH, h3 = sI h x0 3169 x8 → ((¬ (fI h3 x0 3164) = 31 → tg h3 x7 = 24 ∧ ((((fI h3 x0 3151) + (fI h3 x7 5914)) ≤ 20000 → bX12_call_302 G fr lo x0 x4 x6 x7 x8 x9 h3 Q) ∧ (¬ ((fI h3 x0 3151) + (fI h3 x7 5914)) ≤ 20000 → 1 ≤ fr ∧ 14 ≤ lo ∧ xRv G YX12_error (fr - 1) (lo - 14) [rv x0, .int 14, .int x4] h3 (fun h11 => xext h3 h11 → bX12_call_302 G fr lo x0 x4 x6 x7 x8 x9 h11 Q) (fun r h2 => Q (.threw r) h2)))) ∧ ((fI h3 x0 3164) = 31 → 1 ≤ fr ∧ 14 ≤ lo ∧ xRv G YX12_error (fr - 1) (lo - 14) [rv x0, .int 13, .int x4] h3 (fun h16 => xext h3 h16 → bX12_call_302 G fr lo x0 x4 x6 x7 x8 x9 h16 Q) (fun r h2 => Q (.threw r) h2))))) ∧ (¬ x10 = (-1) → ((x3 = 0 → bX12_call_104 G fr lo x0 x1 x3 x4 x6 x7 x8 x9 x10 x10 h Q) ∧ (¬ x3 = 0 → tg h x0 = 13 ∧ tg h (fR h x0 3103) = 100 ∧ vp_in x10 (ln h (fR h x0 3103)) ∧ bX12_call_104 G fr lo x0 x1 x3 x4 x6 x7 x8 x9 x10 (aI h (fR h x0 3103) (Int32.toNatClampNeg x10)) h Q))))
set_option maxRecDepth 100000 in
theorem uX12_call_82 {G : xG} {fr lo : Nat} {x0 : Nat} {x1 : Nat} {x3 : Int32} {x4 : Int32} {x6 : Int32} {x7 : Nat} {x8 : Int32} {x9 : Int32} {x10 : Int32} {h : xH} {Q : Outcome → xH → Prop} (hq : bX12_call_82 G fr lo x0 x1 x3 x4 x6 x7 x8 x9 x10 h Q) : xP G YX12_call fr lo 82 [(0, rv x0), (1, rv x1), (3, .int x3), (4, .int x4), (6, .int x6), (7, rv x7), (8, .int x8), (9, .int x9), (10, .int x10)] [] h Q := by
  unfold bX12_call_82 at hq
  refine x_iload 8 dX12_call_82 rfl ?_
  refine x_iconst (v := (-1)) dX12_call_84 (by decide) ?_
  refine x_icmp_eq (tgt := 252) dX12_call_85 (by decide) (fun c1 => ?_) (fun c1 => ?_)
  · replace hq := hq.1 c1
    refine x_aload_n 0 dX12_call_252 rfl ?_
    refine x_iload 6 dX12_call_253 rfl ?_
    obtain ⟨g2, hq⟩ := hq
    obtain ⟨h3, e4⟩ : ∃ y, y = sI h x0 3169 x8 := ⟨_, rfl⟩
    replace hq := hq h3 e4
    refine x_putI fdX12_1348 xty_I1 dX12_call_255 g2 (Or.inl (by rw [g2]; rfl)) xnI rfl e4 ?_
    refine x_aload_n 0 dX12_call_258 rfl ?_
    have t5 : tg h3 x0 = 13 := by rw [e4]; exact g2
    refine x_get (v := .int (fI h3 x0 3164)) fdX12_1357 dX12_call_259 t5 rfl ?_
    refine x_bipush (v := 31) dX12_call_262 (by decide) ?_
    refine x_icmp_ne (tgt := 278) dX12_call_264 (by decide) (fun c6 => ?_) (fun c6 => ?_)
    · replace hq := hq.1 c6
      refine x_aload_n 0 dX12_call_278 rfl ?_
      refine x_get (v := .int (fI h3 x0 3151)) fdX12_1360 dX12_call_279 t5 rfl ?_
      refine x_aload 5 dX12_call_282 rfl ?_
      obtain ⟨g7, hq⟩ := hq
      refine x_get (v := .int (fI h3 x7 5914)) fdX12_936 dX12_call_284 g7 rfl ?_
      refine x_iadd dX12_call_287 ?_
      refine x_sipush (v := 20000) dX12_call_288 (by decide) ?_
      refine x_icmp_le (tgt := 302) dX12_call_291 (by decide) (fun c8 => ?_) (fun c8 => ?_)
      · replace hq := hq.1 c8
        refine xP.pick (lv' := [(0, rv x0), (4, .int x4), (6, .int x6), (7, rv x7), (8, .int x8), (9, .int x9)]) [0, 3, 4, 5, 6, 7] rfl ?_
        exact uX12_call_302 hq
      · replace hq := hq.2 c8
        refine x_aload_n 0 dX12_call_294 rfl ?_
        refine x_bipush (v := 14) dX12_call_295 (by decide) ?_
        refine x_iload 3 dX12_call_297 rfl ?_
        obtain ⟨g9, g10, hq⟩ := hq
        refine x_callV (Yc := YX12_error) (as := [.int 14, .int x4]) (st := []) q4490 mvX12_error t5 rfl dX12_call_299 (xle (xal1 (rv_cat _) (xal1 rfl (xal1 rfl xal0))) (by decide)) (xfr g9) (xlo xsw0 (by decide) g10) (xKv hq (fun h11 hq e13 => ?_) (fun _ _ q _ => q))
        replace hq := hq e13
        refine xP.pick (lv' := [(0, rv x0), (4, .int x4), (6, .int x6), (7, rv x7), (8, .int x8), (9, .int x9)]) [0, 3, 4, 5, 6, 7] rfl ?_
        exact uX12_call_302 hq
    · replace hq := hq.2 c6
      refine x_aload_n 0 dX12_call_267 rfl ?_
      refine x_bipush (v := 13) dX12_call_268 (by decide) ?_
      refine x_iload 3 dX12_call_270 rfl ?_
      obtain ⟨g14, g15, hq⟩ := hq
      refine x_callV (Yc := YX12_error) (as := [.int 13, .int x4]) (st := []) q4490 mvX12_error t5 rfl dX12_call_272 (xle (xal1 (rv_cat _) (xal1 rfl (xal1 rfl xal0))) (by decide)) (xfr g14) (xlo xsw0 (by decide) g15) (xKv hq (fun h16 hq e18 => ?_) (fun _ _ q _ => q))
      replace hq := hq e18
      refine x_goto (tgt := 302) dX12_call_275 (by decide) ?_
      refine xP.pick (lv' := [(0, rv x0), (4, .int x4), (6, .int x6), (7, rv x7), (8, .int x8), (9, .int x9)]) [0, 3, 4, 5, 6, 7] rfl ?_
      exact uX12_call_302 hq
  · replace hq := hq.2 c1
    refine x_iload_n 2 dX12_call_88 rfl ?_
    refine x_if_eq (tgt := 102) dX12_call_89 (by decide) (fun c19 => ?_) (fun c19 => ?_)
    · replace hq := hq.1 c19
      refine x_iload 8 dX12_call_102 rfl ?_
      exact uX12_call_104 hq
    · replace hq := hq.2 c19
      refine x_aload_n 0 dX12_call_92 rfl ?_
      obtain ⟨g20, hq⟩ := hq
      refine x_get (v := rv (fR h x0 3103)) fdX12_73 dX12_call_93 g20 rfl ?_
      refine x_iload 8 dX12_call_96 rfl ?_
      obtain ⟨g21, hq⟩ := hq
      obtain ⟨i22, hq⟩ := hq
      refine x_iald 0 (Or.inl rfl) g21 i22 dX12_call_98 ?_
      refine x_goto (tgt := 104) dX12_call_99 (by decide) ?_
      exact uX12_call_104 hq
set_option maxRecDepth 100000 in
def bX12_call_56 (G : xG) (fr lo : Nat) (x0 : Nat) (x1 : Nat) (x2 : Int32) (x3 : Int32) (x4 : Int32) (x5 : Int32) (x6 : Int32) (h : xH) (Q : Outcome → xH → Prop) : Prop := tg h x0 = 13 ∧ tg h (fR h x0 3146) = 29 ∧ 1 ≤ fr ∧ 13 ≤ lo ∧ xRr G YJ2_get (fr - 1) (lo - 13) [rv (fR h x0 3146), .int x5] h (fun x6 h5 => xext h h5 → tg h5 x6 = 24 ∧ lX12_call_82 G fr lo x0 x1 x3 x4 x6 x6 (fI h5 x0 3169) 0 x2 h5 Q) (fun r h2 => Q (.threw r) h2)
set_option maxRecDepth 100000 in
theorem uX12_call_56 {G : xG} {fr lo : Nat} {x0 : Nat} {x1 : Nat} {x2 : Int32} {x3 : Int32} {x4 : Int32} {x5 : Int32} {x6 : Int32} {h : xH} {Q : Outcome → xH → Prop} (hq : bX12_call_56 G fr lo x0 x1 x2 x3 x4 x5 x6 h Q) : xP G YX12_call fr lo 56 [(0, rv x0), (1, rv x1), (2, .int x2), (3, .int x3), (4, .int x4), (5, .int x5), (6, .int x6)] [] h Q := by
  unfold bX12_call_56 at hq
  refine x_aload_n 0 dX12_call_56 rfl ?_
  obtain ⟨g1, hq⟩ := hq
  refine x_get (v := rv (fR h x0 3146)) fdX12_156 dX12_call_57 g1 rfl ?_
  refine x_iload 5 dX12_call_60 rfl ?_
  obtain ⟨g2, hq⟩ := hq
  obtain ⟨g3, g4, hq⟩ := hq
  refine x_callV (Yc := YJ2_get) (as := [.int x5]) (st := []) q4109 mvJ2_get g2 rfl dX12_call_62 (xle (xal1 (rv_cat _) (xal1 rfl xal0)) (by decide)) (xfr g3) (xlo xsw0 (by decide) g4) (xKr hq (fun x6 h5 hq e7 => ?_) (fun _ _ q _ => q))
  replace hq := hq e7
  obtain ⟨g8, hq⟩ := hq
  refine x_cast (ci := 23) (by decide) rfl q3206 g8 dX12_call_65 ?_
  refine x_astore (lv' := [(7, rv x6), (0, rv x0), (1, rv x1), (2, .int x2), (3, .int x3), (4, .int x4), (5, .int x5), (6, .int x6)]) dX12_call_68 (by decide) rfl ?_
  refine x_aload_n 1 dX12_call_70 rfl ?_
  have t9 : tg h5 x0 = 13 := e7.tg g1 (by decide)
  refine x_get (v := .int (fI h5 x0 3169)) fdX12_1348 dX12_call_71 t9 rfl ?_
  refine x_istore (lv' := [(8, .int (fI h5 x0 3169)), (7, rv x6), (0, rv x0), (1, rv x1), (2, .int x2), (3, .int x3), (4, .int x4), (5, .int x5), (6, .int x6)]) dX12_call_74 (by decide) (by first | rfl | (simp [rv_cat, Value.category]; done) | (simp [rv_cat, Value.category]; decide)) ?_
  refine x_iconst (v := 0) dX12_call_76 (by decide) ?_
  refine x_istore (lv' := [(9, .int 0), (8, .int (fI h5 x0 3169)), (7, rv x6), (0, rv x0), (1, rv x1), (2, .int x2), (3, .int x3), (4, .int x4), (5, .int x5), (6, .int x6)]) dX12_call_77 (by decide) rfl ?_
  refine x_iload_n 5 dX12_call_79 rfl ?_
  refine x_istore (lv' := [(10, .int x2), (9, .int 0), (8, .int (fI h5 x0 3169)), (7, rv x6), (0, rv x0), (1, rv x1), (2, .int x2), (3, .int x3), (4, .int x4), (5, .int x5), (6, .int x6)]) dX12_call_80 (by decide) rfl ?_
  refine xP.pick (lv' := [(0, rv x0), (1, rv x1), (3, .int x3), (4, .int x4), (6, .int x6), (7, rv x6), (8, .int (fI h5 x0 3169)), (9, .int 0), (10, .int x2)]) [4, 5, 7, 8, 10, 3, 2, 1, 0] rfl ?_
  exact hq
set_option maxRecDepth 100000 in
def bX12_call (G : xG) (fr lo : Nat) (x0 : Nat) (x1 : Nat) (x2 : Int32) (x3 : Int32) (x4 : Int32) (h : xH) (Q : Outcome → xH → Prop) : Prop := tg h x1 = 24 ∧ (((fI h x1 5897) = 0 → tg h x0 = 13 ∧ 1 ≤ fr ∧ 14 ≤ lo ∧ xRi G YX12_frameOf (fr - 1) (lo - 14) [rv x0, .int (fI h x1 5893)] h (fun x7 h6 => xext h h6 → bX12_call_56 G fr lo x0 x1 x2 x3 x4 (fI h x1 5904) x7 h6 Q) (fun r h2 => Q (.threw r) h2)) ∧ (¬ (fI h x1 5897) = 0 → tg h x0 = 13 ∧ 1 ≤ fr ∧ 14 ≤ lo ∧ xRi G YX12_addressOf (fr - 1) (lo - 14) [rv x0, rv x1] h (fun x13 h12 => xext h h12 → tg h12 (fR h12 x0 3147) = 101 ∧ vp_in x13 (ln h12 (fR h12 x0 3147)) ∧ tg h12 (fR h12 x0 3148) = 101 ∧ vp_in x13 (ln h12 (fR h12 x0 3148)) ∧ bX12_call_56 G fr lo x0 x1 x2 x3 x4 (Int64.toInt32 (aJ h12 (fR h12 x0 3147) (Int32.toNatClampNeg x13))) (Int64.toInt32 (aJ h12 (fR h12 x0 3148) (Int32.toNatClampNeg x13))) h12 Q) (fun r h2 => Q (.threw r) h2)))
set_option maxRecDepth 100000 in
theorem uX12_call {G : xG} {fr lo : Nat} {x0 : Nat} {x1 : Nat} {x2 : Int32} {x3 : Int32} {x4 : Int32} {h : xH} {Q : Outcome → xH → Prop} (hq : bX12_call G fr lo x0 x1 x2 x3 x4 h Q) : xP G YX12_call fr lo 0 [(0, rv x0), (1, rv x1), (2, .int x2), (3, .int x3), (4, .int x4)] [] h Q := by
  unfold bX12_call at hq
  refine x_aload_n 1 dX12_call_0 rfl ?_
  obtain ⟨g1, hq⟩ := hq
  refine x_get (v := .int (fI h x1 5904)) fdX12_772 dX12_call_1 g1 rfl ?_
  refine x_istore (lv' := [(5, .int (fI h x1 5904)), (0, rv x0), (1, rv x1), (2, .int x2), (3, .int x3), (4, .int x4)]) dX12_call_4 (by decide) rfl ?_
  refine x_iconst (v := (-1)) dX12_call_6 (by decide) ?_
  refine x_istore (lv' := [(6, .int (-1)), (5, .int (fI h x1 5904)), (0, rv x0), (1, rv x1), (2, .int x2), (3, .int x3), (4, .int x4)]) dX12_call_7 (by decide) rfl ?_
  refine x_aload_n 3 dX12_call_9 rfl ?_
  refine x_get (v := .int (fI h x1 5897)) fdX12_958 dX12_call_10 g1 rfl ?_
  refine x_if_eq (tgt := 46) dX12_call_13 (by decide) (fun c2 => ?_) (fun c2 => ?_)
  · replace hq := hq.1 c2
    refine x_aload_n 2 dX12_call_46 rfl ?_
    refine x_aload_n 3 dX12_call_47 rfl ?_
    refine x_get (v := .int (fI h x1 5893)) fdX12_705 dX12_call_48 g1 rfl ?_
    obtain ⟨g3, hq⟩ := hq
    obtain ⟨g4, g5, hq⟩ := hq
    refine x_callV (Yc := YX12_frameOf) (as := [.int (fI h x1 5893)]) (st := []) q4510 mvX12_frameOf g3 rfl dX12_call_51 (xle (xal1 (rv_cat _) (xal1 rfl xal0)) (by decide)) (xfr g4) (xlo xsw0 (by decide) g5) (xKi hq (fun x7 h6 hq e8 => ?_) (fun _ _ q _ => q))
    replace hq := hq e8
    refine x_istore (lv' := [(6, .int x7), (5, .int (fI h x1 5904)), (0, rv x0), (1, rv x1), (2, .int x2), (3, .int x3), (4, .int x4)]) dX12_call_54 (by decide) rfl ?_
    refine xP.pick (lv' := [(0, rv x0), (1, rv x1), (2, .int x2), (3, .int x3), (4, .int x4), (5, .int (fI h x1 5904)), (6, .int x7)]) [2, 3, 4, 5, 6, 1, 0] rfl ?_
    exact uX12_call_56 hq
  · replace hq := hq.2 c2
    refine x_aload_n 2 dX12_call_16 rfl ?_
    refine x_aload_n 3 dX12_call_17 rfl ?_
    obtain ⟨g9, hq⟩ := hq
    obtain ⟨g10, g11, hq⟩ := hq
    refine x_callV (Yc := YX12_addressOf) (as := [rv x1]) (st := []) q4506 mvX12_addressOf g9 rfl dX12_call_18 (xle (xal1 (rv_cat _) (xal1 (rv_cat _) xal0)) (by decide)) (xfr g10) (xlo xsw0 (by decide) g11) (xKi hq (fun x13 h12 hq e14 => ?_) (fun _ _ q _ => q))
    replace hq := hq e14
    refine x_istore (lv' := [(7, .int x13), (6, .int (-1)), (5, .int (fI h x1 5904)), (0, rv x0), (1, rv x1), (2, .int x2), (3, .int x3), (4, .int x4)]) dX12_call_21 (by decide) rfl ?_
    refine x_aload_n 3 dX12_call_23 rfl ?_
    have t15 : tg h12 x0 = 13 := e14.tg g9 (by decide)
    refine x_get (v := rv (fR h12 x0 3147)) fdX12_159 dX12_call_24 t15 rfl ?_
    refine x_iload 0 dX12_call_27 rfl ?_
    obtain ⟨g16, hq⟩ := hq
    obtain ⟨i17, hq⟩ := hq
    refine x_lald g16 i17 dX12_call_29 ?_
    refine x_l2i dX12_call_30 ?_
    refine x_istore (lv' := [(5, .int (Int64.toInt32 (aJ h12 (fR h12 x0 3147) (Int32.toNatClampNeg x13)))), (7, .int x13), (6, .int (-1)), (0, rv x0), (1, rv x1), (2, .int x2), (3, .int x3), (4, .int x4)]) dX12_call_31 (by decide) rfl ?_
    refine x_aload_n 3 dX12_call_33 rfl ?_
    refine x_get (v := rv (fR h12 x0 3148)) fdX12_163 dX12_call_34 t15 rfl ?_
    refine x_iload 1 dX12_call_37 rfl ?_
    obtain ⟨g18, hq⟩ := hq
    obtain ⟨i19, hq⟩ := hq
    refine x_lald g18 i19 dX12_call_39 ?_
    refine x_l2i dX12_call_40 ?_
    refine x_istore (lv' := [(6, .int (Int64.toInt32 (aJ h12 (fR h12 x0 3148) (Int32.toNatClampNeg x13)))), (5, .int (Int64.toInt32 (aJ h12 (fR h12 x0 3147) (Int32.toNatClampNeg x13)))), (7, .int x13), (0, rv x0), (1, rv x1), (2, .int x2), (3, .int x3), (4, .int x4)]) dX12_call_41 (by decide) rfl ?_
    refine x_goto (tgt := 56) dX12_call_43 (by decide) ?_
    refine xP.pick (lv' := [(0, rv x0), (1, rv x1), (2, .int x2), (3, .int x3), (4, .int x4), (5, .int (Int64.toInt32 (aJ h12 (fR h12 x0 3147) (Int32.toNatClampNeg x13)))), (6, .int (Int64.toInt32 (aJ h12 (fR h12 x0 3148) (Int32.toNatClampNeg x13))))]) [3, 4, 5, 6, 7, 1, 0] rfl ?_
    exact uX12_call_56 hq
theorem rX12_call {G : xG} {fr lo : Nat} {x0 : Nat} {x1 : Nat} {x2 : Int32} {x3 : Int32} {x4 : Int32} {h : xH} {Q : Outcome → xH → Prop} (hq : bX12_call G fr lo x0 x1 x2 x3 x4 h Q) : xR G YX12_call fr lo [rv x0, rv x1, .int x2, .int x3, .int x4] h Q := by
  show xP _ _ _ _ _ (lv_args 0 _) _ _ _
  rw [show lv_args 0 [rv x0, rv x1, .int x2, .int x3, .int x4] = [(0, rv x0), (1, rv x1), (2, .int x2), (3, .int x3), (4, .int x4)] from (xla1 (rv_cat _) (xla1 (rv_cat _) (xla1 rfl (xla1 rfl (xla1 rfl xla0)))))]
  exact uX12_call hq
set_option maxRecDepth 100000 in
theorem dX12_giveRoutine_0 : decode cX12_giveRoutine 0 = .ok (.aload_n 1, 1) := by decide +kernel
set_option maxRecDepth 100000 in
theorem dX12_giveRoutine_1 : decode cX12_giveRoutine 1 = .ok (.getfield 958, 3) := by decide +kernel
set_option maxRecDepth 100000 in
theorem dX12_giveRoutine_4 : decode cX12_giveRoutine 4 = .ok (.ifCond .eq 11, 3) := by decide +kernel
set_option maxRecDepth 100000 in
theorem dX12_giveRoutine_7 : decode cX12_giveRoutine 7 = .ok (.aload_n 0, 1) := by decide +kernel
set_option maxRecDepth 100000 in
theorem dX12_giveRoutine_8 : decode cX12_giveRoutine 8 = .ok (.aload_n 1, 1) := by decide +kernel
set_option maxRecDepth 100000 in
theorem dX12_giveRoutine_9 : decode cX12_giveRoutine 9 = .ok (.invokevirtual 1229, 3) := by decide +kernel
set_option maxRecDepth 100000 in
theorem dX12_giveRoutine_12 : decode cX12_giveRoutine 12 = .ok (.goto 4, 3) := by decide +kernel
set_option maxRecDepth 100000 in
theorem dX12_giveRoutine_15 : decode cX12_giveRoutine 15 = .ok (.iconst (-1), 1) := by decide +kernel
set_option maxRecDepth 100000 in
theorem dX12_giveRoutine_16 : decode cX12_giveRoutine 16 = .ok (.istore_n 3, 1) := by decide +kernel
set_option maxRecDepth 100000 in
theorem dX12_giveRoutine_17 : decode cX12_giveRoutine 17 = .ok (.aload_n 0, 1) := by decide +kernel
set_option maxRecDepth 100000 in
theorem dX12_giveRoutine_18 : decode cX12_giveRoutine 18 = .ok (.getfield 195, 3) := by decide +kernel
set_option maxRecDepth 100000 in
theorem dX12_giveRoutine_21 : decode cX12_giveRoutine 21 = .ok (.iload_n 2, 1) := by decide +kernel
set_option maxRecDepth 100000 in
theorem dX12_giveRoutine_22 : decode cX12_giveRoutine 22 = .ok (.iload_n 3, 1) := by decide +kernel
set_option maxRecDepth 100000 in
theorem dX12_giveRoutine_23 : decode cX12_giveRoutine 23 = .ok (.iconst (-1), 1) := by decide +kernel
set_option maxRecDepth 100000 in
theorem dX12_giveRoutine_24 : decode cX12_giveRoutine 24 = .ok (.if_icmp .ne 11, 3) := by decide +kernel
set_option maxRecDepth 100000 in
theorem dX12_giveRoutine_27 : decode cX12_giveRoutine 27 = .ok (.aload_n 1, 1) := by decide +kernel
set_option maxRecDepth 100000 in
theorem dX12_giveRoutine_28 : decode cX12_giveRoutine 28 = .ok (.getfield 772, 3) := by decide +kernel
set_option maxRecDepth 100000 in
theorem dX12_giveRoutine_31 : decode cX12_giveRoutine 31 = .ok (.i2l, 1) := by decide +kernel
set_option maxRecDepth 100000 in
theorem dX12_giveRoutine_32 : decode cX12_giveRoutine 32 = .ok (.goto 9, 3) := by decide +kernel
set_option maxRecDepth 100000 in
theorem dX12_giveRoutine_35 : decode cX12_giveRoutine 35 = .ok (.aload_n 0, 1) := by decide +kernel
set_option maxRecDepth 100000 in
theorem dX12_giveRoutine_36 : decode cX12_giveRoutine 36 = .ok (.getfield 159, 3) := by decide +kernel
set_option maxRecDepth 100000 in
theorem dX12_giveRoutine_39 : decode cX12_giveRoutine 39 = .ok (.iload_n 3, 1) := by decide +kernel
set_option maxRecDepth 100000 in
theorem dX12_giveRoutine_40 : decode cX12_giveRoutine 40 = .ok (.laload, 1) := by decide +kernel
set_option maxRecDepth 100000 in
theorem dX12_giveRoutine_41 : decode cX12_giveRoutine 41 = .ok (.lastore, 1) := by decide +kernel
set_option maxRecDepth 100000 in
theorem dX12_giveRoutine_42 : decode cX12_giveRoutine 42 = .ok (.aload_n 0, 1) := by decide +kernel
set_option maxRecDepth 100000 in
theorem dX12_giveRoutine_43 : decode cX12_giveRoutine 43 = .ok (.getfield 198, 3) := by decide +kernel
set_option maxRecDepth 100000 in
theorem dX12_giveRoutine_46 : decode cX12_giveRoutine 46 = .ok (.iload_n 2, 1) := by decide +kernel
set_option maxRecDepth 100000 in
theorem dX12_giveRoutine_47 : decode cX12_giveRoutine 47 = .ok (.iload_n 3, 1) := by decide +kernel
set_option maxRecDepth 100000 in
theorem dX12_giveRoutine_48 : decode cX12_giveRoutine 48 = .ok (.iconst (-1), 1) := by decide +kernel
set_option maxRecDepth 100000 in
theorem dX12_giveRoutine_49 : decode cX12_giveRoutine 49 = .ok (.if_icmp .ne 15, 3) := by decide +kernel
set_option maxRecDepth 100000 in
theorem dX12_giveRoutine_52 : decode cX12_giveRoutine 52 = .ok (.aload_n 0, 1) := by decide +kernel
set_option maxRecDepth 100000 in
theorem dX12_giveRoutine_53 : decode cX12_giveRoutine 53 = .ok (.aload_n 1, 1) := by decide +kernel
set_option maxRecDepth 100000 in
theorem dX12_giveRoutine_54 : decode cX12_giveRoutine 54 = .ok (.getfield 705, 3) := by decide +kernel
set_option maxRecDepth 100000 in
theorem dX12_giveRoutine_57 : decode cX12_giveRoutine 57 = .ok (.invokevirtual 1133, 3) := by decide +kernel
set_option maxRecDepth 100000 in
theorem dX12_giveRoutine_60 : decode cX12_giveRoutine 60 = .ok (.i2l, 1) := by decide +kernel
set_option maxRecDepth 100000 in
theorem dX12_giveRoutine_61 : decode cX12_giveRoutine 61 = .ok (.goto 9, 3) := by decide +kernel
set_option maxRecDepth 100000 in
theorem dX12_giveRoutine_64 : decode cX12_giveRoutine 64 = .ok (.aload_n 0, 1) := by decide +kernel
set_option maxRecDepth 100000 in
theorem dX12_giveRoutine_65 : decode cX12_giveRoutine 65 = .ok (.getfield 163, 3) := by decide +kernel
set_option maxRecDepth 100000 in
theorem dX12_giveRoutine_68 : decode cX12_giveRoutine 68 = .ok (.iload_n 3, 1) := by decide +kernel
set_option maxRecDepth 100000 in
theorem dX12_giveRoutine_69 : decode cX12_giveRoutine 69 = .ok (.laload, 1) := by decide +kernel
set_option maxRecDepth 100000 in
theorem dX12_giveRoutine_70 : decode cX12_giveRoutine 70 = .ok (.lastore, 1) := by decide +kernel
set_option maxRecDepth 100000 in
theorem dX12_giveRoutine_71 : decode cX12_giveRoutine 71 = .ok (.return_, 1) := by decide +kernel
set_option maxRecDepth 100000 in
def bX12_giveRoutine_70 (G : xG) (fr lo : Nat) (s0 : Int64) (s1 : Int32) (s2 : Nat) (h : xH) (Q : Outcome → xH → Prop) : Prop := tg h s2 = 101 ∧ vp_in s1 (ln h s2) ∧ (∀ h3 : xH, h3 = tJ h s2 (Int32.toNatClampNeg s1) s0 → Q (.returned none) h3)
set_option maxRecDepth 100000 in
theorem uX12_giveRoutine_70 {G : xG} {fr lo : Nat} {s0 : Int64} {s1 : Int32} {s2 : Nat} {h : xH} {Q : Outcome → xH → Prop} (hq : bX12_giveRoutine_70 G fr lo s0 s1 s2 h Q) : xP G YX12_giveRoutine fr lo 70 [] [.long s0, .int s1, rv s2] h Q := by
  unfold bX12_giveRoutine_70 at hq
  obtain ⟨g1, hq⟩ := hq
  obtain ⟨i2, hq⟩ := hq
  obtain ⟨h3, e4⟩ : ∃ y, y = tJ h s2 (Int32.toNatClampNeg s1) s0 := ⟨_, rfl⟩
  replace hq := hq h3 e4
  refine x_last' g1 i2 dX12_giveRoutine_70 e4 ?_
  exact x_vret rfl dX12_giveRoutine_71 hq
set_option maxRecDepth 100000 in
def bX12_giveRoutine_41 (G : xG) (fr lo : Nat) (x0 : Nat) (x1 : Nat) (x2 : Int32) (x3 : Int32) (s0 : Int64) (s1 : Int32) (s2 : Nat) (h : xH) (Q : Outcome → xH → Prop) : Prop := tg h s2 = 101 ∧ vp_in s1 (ln h s2) ∧ (∀ h3 : xH, h3 = tJ h s2 (Int32.toNatClampNeg s1) s0 → tg h3 x0 = 13 ∧ ((¬ x3 = (-1) → tg h3 (fR h3 x0 3148) = 101 ∧ vp_in x3 (ln h3 (fR h3 x0 3148)) ∧ bX12_giveRoutine_70 G fr lo (aJ h3 (fR h3 x0 3148) (Int32.toNatClampNeg x3)) x2 (fR h3 x0 3167) h3 Q) ∧ (x3 = (-1) → tg h3 x1 = 24 ∧ 1 ≤ fr ∧ 16 ≤ lo ∧ xRi G YX12_frameOf (fr - 1) (lo - 16) [rv x0, .int (fI h3 x1 5893)] h3 (fun x13 h12 => xext h3 h12 → bX12_giveRoutine_70 G fr lo (Int32.toInt64 x13) x2 (fR h3 x0 3167) h12 Q) (fun r h2 => Q (.threw r) h2))))
set_option maxRecDepth 100000 in
theorem uX12_giveRoutine_41 {G : xG} {fr lo : Nat} {x0 : Nat} {x1 : Nat} {x2 : Int32} {x3 : Int32} {s0 : Int64} {s1 : Int32} {s2 : Nat} {h : xH} {Q : Outcome → xH → Prop} (hq : bX12_giveRoutine_41 G fr lo x0 x1 x2 x3 s0 s1 s2 h Q) : xP G YX12_giveRoutine fr lo 41 [(0, rv x0), (1, rv x1), (2, .int x2), (3, .int x3)] [.long s0, .int s1, rv s2] h Q := by
  unfold bX12_giveRoutine_41 at hq
  obtain ⟨g1, hq⟩ := hq
  obtain ⟨i2, hq⟩ := hq
  obtain ⟨h3, e4⟩ : ∃ y, y = tJ h s2 (Int32.toNatClampNeg s1) s0 := ⟨_, rfl⟩
  replace hq := hq h3 e4
  refine x_last' g1 i2 dX12_giveRoutine_41 e4 ?_
  refine x_aload_n 0 dX12_giveRoutine_42 rfl ?_
  obtain ⟨g5, hq⟩ := hq
  refine x_get (v := rv (fR h3 x0 3167)) fdX12_198 dX12_giveRoutine_43 g5 rfl ?_
  refine x_iload_n 2 dX12_giveRoutine_46 rfl ?_
  refine x_iload_n 3 dX12_giveRoutine_47 rfl ?_
  refine x_iconst (v := (-1)) dX12_giveRoutine_48 (by decide) ?_
  refine x_icmp_ne (tgt := 64) dX12_giveRoutine_49 (by decide) (fun c6 => ?_) (fun c6 => ?_)
  · replace hq := hq.1 c6
    refine x_aload_n 0 dX12_giveRoutine_64 rfl ?_
    refine x_get (v := rv (fR h3 x0 3148)) fdX12_163 dX12_giveRoutine_65 g5 rfl ?_
    refine x_iload_n 3 dX12_giveRoutine_68 rfl ?_
    obtain ⟨g7, hq⟩ := hq
    obtain ⟨i8, hq⟩ := hq
    refine x_lald g7 i8 dX12_giveRoutine_69 ?_
    refine xP.pick (lv' := []) [] rfl ?_
    exact uX12_giveRoutine_70 hq
  · replace hq := hq.2 c6
    refine x_aload_n 0 dX12_giveRoutine_52 rfl ?_
    refine x_aload_n 1 dX12_giveRoutine_53 rfl ?_
    obtain ⟨g9, hq⟩ := hq
    refine x_get (v := .int (fI h3 x1 5893)) fdX12_705 dX12_giveRoutine_54 g9 rfl ?_
    obtain ⟨g10, g11, hq⟩ := hq
    refine x_callV (Yc := YX12_frameOf) (as := [.int (fI h3 x1 5893)]) (st := [.int x2, rv (fR h3 x0 3167)]) q4510 mvX12_frameOf g5 rfl dX12_giveRoutine_57 (xle (xal1 (rv_cat _) (xal1 rfl xal0)) (by decide)) (xfr g10) (xlo (xsw1 rfl (xsw1 (rv_cat _) xsw0)) (by decide) g11) (xKi hq (fun x13 h12 hq e14 => ?_) (fun _ _ q _ => q))
    replace hq := hq e14
    refine x_i2l dX12_giveRoutine_60 ?_
    refine x_goto (tgt := 70) dX12_giveRoutine_61 (by decide) ?_
    refine xP.pick (lv' := []) [] rfl ?_
    exact uX12_giveRoutine_70 hq
set_option maxRecDepth 100000 in
def bX12_giveRoutine_16 (G : xG) (fr lo : Nat) (x0 : Nat) (x1 : Nat) (x2 : Int32) (s0 : Int32) (h : xH) (Q : Outcome → xH → Prop) : Prop := tg h x0 = 13 ∧ ((¬ s0 = (-1) → tg h (fR h x0 3147) = 101 ∧ vp_in s0 (ln h (fR h x0 3147)) ∧ bX12_giveRoutine_41 G fr lo x0 x1 x2 s0 (aJ h (fR h x0 3147) (Int32.toNatClampNeg s0)) x2 (fR h x0 3166) h Q) ∧ (s0 = (-1) → tg h x1 = 24 ∧ bX12_giveRoutine_41 G fr lo x0 x1 x2 s0 (Int32.toInt64 (fI h x1 5904)) x2 (fR h x0 3166) h Q))
set_option maxRecDepth 100000 in
theorem uX12_giveRoutine_16 {G : xG} {fr lo : Nat} {x0 : Nat} {x1 : Nat} {x2 : Int32} {s0 : Int32} {h : xH} {Q : Outcome → xH → Prop} (hq : bX12_giveRoutine_16 G fr lo x0 x1 x2 s0 h Q) : xP G YX12_giveRoutine fr lo 16 [(0, rv x0), (1, rv x1), (2, .int x2)] [.int s0] h Q := by
  unfold bX12_giveRoutine_16 at hq
  refine x_istore_n (lv' := [(3, .int s0), (0, rv x0), (1, rv x1), (2, .int x2)]) dX12_giveRoutine_16 (by decide) rfl ?_
  refine x_aload_n 1 dX12_giveRoutine_17 rfl ?_
  obtain ⟨g1, hq⟩ := hq
  refine x_get (v := rv (fR h x0 3166)) fdX12_195 dX12_giveRoutine_18 g1 rfl ?_
  refine x_iload_n 3 dX12_giveRoutine_21 rfl ?_
  refine x_iload_n 0 dX12_giveRoutine_22 rfl ?_
  refine x_iconst (v := (-1)) dX12_giveRoutine_23 (by decide) ?_
  refine x_icmp_ne (tgt := 35) dX12_giveRoutine_24 (by decide) (fun c2 => ?_) (fun c2 => ?_)
  · replace hq := hq.1 c2
    refine x_aload_n 1 dX12_giveRoutine_35 rfl ?_
    refine x_get (v := rv (fR h x0 3147)) fdX12_159 dX12_giveRoutine_36 g1 rfl ?_
    refine x_iload_n 0 dX12_giveRoutine_39 rfl ?_
    obtain ⟨g3, hq⟩ := hq
    obtain ⟨i4, hq⟩ := hq
    refine x_lald g3 i4 dX12_giveRoutine_40 ?_
    refine xP.pick (lv' := [(0, rv x0), (1, rv x1), (2, .int x2), (3, .int s0)]) [1, 2, 3, 0] rfl ?_
    exact uX12_giveRoutine_41 hq
  · replace hq := hq.2 c2
    refine x_aload_n 2 dX12_giveRoutine_27 rfl ?_
    obtain ⟨g5, hq⟩ := hq
    refine x_get (v := .int (fI h x1 5904)) fdX12_772 dX12_giveRoutine_28 g5 rfl ?_
    refine x_i2l dX12_giveRoutine_31 ?_
    refine x_goto (tgt := 41) dX12_giveRoutine_32 (by decide) ?_
    refine xP.pick (lv' := [(0, rv x0), (1, rv x1), (2, .int x2), (3, .int s0)]) [1, 2, 3, 0] rfl ?_
    exact uX12_giveRoutine_41 hq
set_option maxRecDepth 100000 in
def bX12_giveRoutine (G : xG) (fr lo : Nat) (x0 : Nat) (x1 : Nat) (x2 : Int32) (h : xH) (Q : Outcome → xH → Prop) : Prop := tg h x1 = 24 ∧ (((fI h x1 5897) = 0 → bX12_giveRoutine_16 G fr lo x0 x1 x2 (-1) h Q) ∧ (¬ (fI h x1 5897) = 0 → tg h x0 = 13 ∧ 1 ≤ fr ∧ 14 ≤ lo ∧ xRi G YX12_addressOf (fr - 1) (lo - 14) [rv x0, rv x1] h (fun x7 h6 => xext h h6 → bX12_giveRoutine_16 G fr lo x0 x1 x2 x7 h6 Q) (fun r h2 => Q (.threw r) h2)))
set_option maxRecDepth 100000 in
theorem uX12_giveRoutine {G : xG} {fr lo : Nat} {x0 : Nat} {x1 : Nat} {x2 : Int32} {h : xH} {Q : Outcome → xH → Prop} (hq : bX12_giveRoutine G fr lo x0 x1 x2 h Q) : xP G YX12_giveRoutine fr lo 0 [(0, rv x0), (1, rv x1), (2, .int x2)] [] h Q := by
  unfold bX12_giveRoutine at hq
  refine x_aload_n 1 dX12_giveRoutine_0 rfl ?_
  obtain ⟨g1, hq⟩ := hq
  refine x_get (v := .int (fI h x1 5897)) fdX12_958 dX12_giveRoutine_1 g1 rfl ?_
  refine x_if_eq (tgt := 15) dX12_giveRoutine_4 (by decide) (fun c2 => ?_) (fun c2 => ?_)
  · replace hq := hq.1 c2
    refine x_iconst (v := (-1)) dX12_giveRoutine_15 (by decide) ?_
    exact uX12_giveRoutine_16 hq
  · replace hq := hq.2 c2
    refine x_aload_n 0 dX12_giveRoutine_7 rfl ?_
    refine x_aload_n 1 dX12_giveRoutine_8 rfl ?_
    obtain ⟨g3, hq⟩ := hq
    obtain ⟨g4, g5, hq⟩ := hq
    refine x_callV (Yc := YX12_addressOf) (as := [rv x1]) (st := []) q4506 mvX12_addressOf g3 rfl dX12_giveRoutine_9 (xle (xal1 (rv_cat _) (xal1 (rv_cat _) xal0)) (by decide)) (xfr g4) (xlo xsw0 (by decide) g5) (xKi hq (fun x7 h6 hq e8 => ?_) (fun _ _ q _ => q))
    replace hq := hq e8
    refine x_goto (tgt := 16) dX12_giveRoutine_12 (by decide) ?_
    exact uX12_giveRoutine_16 hq
theorem rX12_giveRoutine {G : xG} {fr lo : Nat} {x0 : Nat} {x1 : Nat} {x2 : Int32} {h : xH} {Q : Outcome → xH → Prop} (hq : bX12_giveRoutine G fr lo x0 x1 x2 h Q) : xR G YX12_giveRoutine fr lo [rv x0, rv x1, .int x2] h Q := by
  show xP _ _ _ _ _ (lv_args 0 _) _ _ _
  rw [show lv_args 0 [rv x0, rv x1, .int x2] = [(0, rv x0), (1, rv x1), (2, .int x2)] from (xla1 (rv_cat _) (xla1 (rv_cat _) (xla1 rfl xla0)))]
  exact uX12_giveRoutine hq
set_option maxRecDepth 100000 in
theorem dX12_find1_0 : decode cX12_find1 0 = .ok (.aload_n 0, 1) := by decide +kernel
set_option maxRecDepth 100000 in
theorem dX12_find1_1 : decode cX12_find1 1 = .ok (.getfield 102, 3) := by decide +kernel
set_option maxRecDepth 100000 in
theorem dX12_find1_4 : decode cX12_find1 4 = .ok (.iload_n 1, 1) := by decide +kernel
set_option maxRecDepth 100000 in
theorem dX12_find1_5 : decode cX12_find1 5 = .ok (.aaload, 1) := by decide +kernel
set_option maxRecDepth 100000 in
theorem dX12_find1_6 : decode cX12_find1 6 = .ok (.astore_n 2, 1) := by decide +kernel
set_option maxRecDepth 100000 in
theorem dX12_find1_7 : decode cX12_find1 7 = .ok (.aload_n 2, 1) := by decide +kernel
set_option maxRecDepth 100000 in
theorem dX12_find1_8 : decode cX12_find1 8 = .ok (.getfield 577, 3) := by decide +kernel
set_option maxRecDepth 100000 in
theorem dX12_find1_11 : decode cX12_find1 11 = .ok (.iconst 4, 1) := by decide +kernel
set_option maxRecDepth 100000 in
theorem dX12_find1_12 : decode cX12_find1 12 = .ok (.if_icmp .ne 52, 3) := by decide +kernel
set_option maxRecDepth 100000 in
theorem dX12_find1_15 : decode cX12_find1 15 = .ok (.aload_n 0, 1) := by decide +kernel
set_option maxRecDepth 100000 in
theorem dX12_find1_16 : decode cX12_find1 16 = .ok (.getfield 191, 3) := by decide +kernel
set_option maxRecDepth 100000 in
theorem dX12_find1_19 : decode cX12_find1 19 = .ok (.bipush 41, 2) := by decide +kernel
set_option maxRecDepth 100000 in
theorem dX12_find1_21 : decode cX12_find1 21 = .ok (.aload_n 0, 1) := by decide +kernel
set_option maxRecDepth 100000 in
theorem dX12_find1_22 : decode cX12_find1 22 = .ok (.getfield 1130, 3) := by decide +kernel
set_option maxRecDepth 100000 in
theorem dX12_find1_25 : decode cX12_find1 25 = .ok (.imul, 1) := by decide +kernel
set_option maxRecDepth 100000 in
theorem dX12_find1_26 : decode cX12_find1 26 = .ok (.aload_n 0, 1) := by decide +kernel
set_option maxRecDepth 100000 in
theorem dX12_find1_27 : decode cX12_find1 27 = .ok (.getfield 85, 3) := by decide +kernel
set_option maxRecDepth 100000 in
theorem dX12_find1_30 : decode cX12_find1 30 = .ok (.iload_n 1, 1) := by decide +kernel
set_option maxRecDepth 100000 in
theorem dX12_find1_31 : decode cX12_find1 31 = .ok (.iaload, 1) := by decide +kernel
set_option maxRecDepth 100000 in
theorem dX12_find1_32 : decode cX12_find1 32 = .ok (.iadd, 1) := by decide +kernel
set_option maxRecDepth 100000 in
theorem dX12_find1_33 : decode cX12_find1 33 = .ok (.iaload, 1) := by decide +kernel
set_option maxRecDepth 100000 in
theorem dX12_find1_34 : decode cX12_find1 34 = .ok (.istore_n 3, 1) := by decide +kernel
set_option maxRecDepth 100000 in
theorem dX12_find1_35 : decode cX12_find1 35 = .ok (.aload_n 0, 1) := by decide +kernel
set_option maxRecDepth 100000 in
theorem dX12_find1_36 : decode cX12_find1 36 = .ok (.aload_n 2, 1) := by decide +kernel
set_option maxRecDepth 100000 in
theorem dX12_find1_37 : decode cX12_find1 37 = .ok (.getfield 893, 3) := by decide +kernel
set_option maxRecDepth 100000 in
theorem dX12_find1_40 : decode cX12_find1 40 = .ok (.aload_n 2, 1) := by decide +kernel
set_option maxRecDepth 100000 in
theorem dX12_find1_41 : decode cX12_find1 41 = .ok (.getfield 897, 3) := by decide +kernel
set_option maxRecDepth 100000 in
theorem dX12_find1_44 : decode cX12_find1 44 = .ok (.iload_n 3, 1) := by decide +kernel
set_option maxRecDepth 100000 in
theorem dX12_find1_45 : decode cX12_find1 45 = .ok (.aload_n 0, 1) := by decide +kernel
set_option maxRecDepth 100000 in
theorem dX12_find1_46 : decode cX12_find1 46 = .ok (.getfield 70, 3) := by decide +kernel
set_option maxRecDepth 100000 in
theorem dX12_find1_49 : decode cX12_find1 49 = .ok (.iload_n 1, 1) := by decide +kernel
set_option maxRecDepth 100000 in
theorem dX12_find1_50 : decode cX12_find1 50 = .ok (.iaload, 1) := by decide +kernel
set_option maxRecDepth 100000 in
theorem dX12_find1_51 : decode cX12_find1 51 = .ok (.invokevirtual 1219, 3) := by decide +kernel
set_option maxRecDepth 100000 in
theorem dX12_find1_54 : decode cX12_find1 54 = .ok (.iload_n 3, 1) := by decide +kernel
set_option maxRecDepth 100000 in
theorem dX12_find1_55 : decode cX12_find1 55 = .ok (.aload_n 2, 1) := by decide +kernel
set_option maxRecDepth 100000 in
theorem dX12_find1_56 : decode cX12_find1 56 = .ok (.getfield 713, 3) := by decide +kernel
set_option maxRecDepth 100000 in
theorem dX12_find1_59 : decode cX12_find1 59 = .ok (.iadd, 1) := by decide +kernel
set_option maxRecDepth 100000 in
theorem dX12_find1_60 : decode cX12_find1 60 = .ok (.istore_n 3, 1) := by decide +kernel
set_option maxRecDepth 100000 in
theorem dX12_find1_61 : decode cX12_find1 61 = .ok (.goto 9, 3) := by decide +kernel
set_option maxRecDepth 100000 in
theorem dX12_find1_64 : decode cX12_find1 64 = .ok (.aload_n 0, 1) := by decide +kernel
set_option maxRecDepth 100000 in
theorem dX12_find1_65 : decode cX12_find1 65 = .ok (.aload_n 2, 1) := by decide +kernel
set_option maxRecDepth 100000 in
theorem dX12_find1_66 : decode cX12_find1 66 = .ok (.invokevirtual 1229, 3) := by decide +kernel
set_option maxRecDepth 100000 in
theorem dX12_find1_69 : decode cX12_find1 69 = .ok (.istore_n 3, 1) := by decide +kernel
set_option maxRecDepth 100000 in
theorem dX12_find1_70 : decode cX12_find1 70 = .ok (.aload_n 0, 1) := by decide +kernel
set_option maxRecDepth 100000 in
theorem dX12_find1_71 : decode cX12_find1 71 = .ok (.getfield 73, 3) := by decide +kernel
set_option maxRecDepth 100000 in
theorem dX12_find1_74 : decode cX12_find1 74 = .ok (.iload_n 1, 1) := by decide +kernel
set_option maxRecDepth 100000 in
theorem dX12_find1_75 : decode cX12_find1 75 = .ok (.iaload, 1) := by decide +kernel
set_option maxRecDepth 100000 in
theorem dX12_find1_76 : decode cX12_find1 76 = .ok (.istore 4, 2) := by decide +kernel
set_option maxRecDepth 100000 in
theorem dX12_find1_78 : decode cX12_find1 78 = .ok (.iload 4, 2) := by decide +kernel
set_option maxRecDepth 100000 in
theorem dX12_find1_80 : decode cX12_find1 80 = .ok (.iconst (-1), 1) := by decide +kernel
set_option maxRecDepth 100000 in
theorem dX12_find1_81 : decode cX12_find1 81 = .ok (.if_icmp .eq 307, 3) := by decide +kernel
set_option maxRecDepth 100000 in
theorem dX12_find1_84 : decode cX12_find1 84 = .ok (.aload_n 0, 1) := by decide +kernel
set_option maxRecDepth 100000 in
theorem dX12_find1_85 : decode cX12_find1 85 = .ok (.getfield 1121, 3) := by decide +kernel
set_option maxRecDepth 100000 in
theorem dX12_find1_88 : decode cX12_find1 88 = .ok (.ifCond .ne 300, 3) := by decide +kernel
set_option maxRecDepth 100000 in
theorem dX12_find1_91 : decode cX12_find1 91 = .ok (.aload_n 0, 1) := by decide +kernel
set_option maxRecDepth 100000 in
theorem dX12_find1_92 : decode cX12_find1 92 = .ok (.getfield 96, 3) := by decide +kernel
set_option maxRecDepth 100000 in
theorem dX12_find1_95 : decode cX12_find1 95 = .ok (.iload 4, 2) := by decide +kernel
set_option maxRecDepth 100000 in
theorem dX12_find1_97 : decode cX12_find1 97 = .ok (.aaload, 1) := by decide +kernel
set_option maxRecDepth 100000 in
theorem dX12_find1_98 : decode cX12_find1 98 = .ok (.astore 5, 2) := by decide +kernel
set_option maxRecDepth 100000 in
theorem dX12_find1_100 : decode cX12_find1 100 = .ok (.aload_n 0, 1) := by decide +kernel
set_option maxRecDepth 100000 in
theorem dX12_find1_101 : decode cX12_find1 101 = .ok (.getfield 67, 3) := by decide +kernel
set_option maxRecDepth 100000 in
theorem dX12_find1_104 : decode cX12_find1 104 = .ok (.iload 4, 2) := by decide +kernel
set_option maxRecDepth 100000 in
theorem dX12_find1_106 : decode cX12_find1 106 = .ok (.iaload, 1) := by decide +kernel
set_option maxRecDepth 100000 in
theorem dX12_find1_107 : decode cX12_find1 107 = .ok (.bipush 63, 2) := by decide +kernel
set_option maxRecDepth 100000 in
theorem dX12_find1_109 : decode cX12_find1 109 = .ok (.if_icmp .ne 98, 3) := by decide +kernel
set_option maxRecDepth 100000 in
theorem dX12_find1_112 : decode cX12_find1 112 = .ok (.aload_n 0, 1) := by decide +kernel
set_option maxRecDepth 100000 in
theorem dX12_find1_113 : decode cX12_find1 113 = .ok (.aload_n 0, 1) := by decide +kernel
set_option maxRecDepth 100000 in
theorem dX12_find1_114 : decode cX12_find1 114 = .ok (.getfield 73, 3) := by decide +kernel
set_option maxRecDepth 100000 in
theorem dX12_find1_117 : decode cX12_find1 117 = .ok (.iload 4, 2) := by decide +kernel
set_option maxRecDepth 100000 in
theorem dX12_find1_119 : decode cX12_find1 119 = .ok (.iaload, 1) := by decide +kernel
set_option maxRecDepth 100000 in
theorem dX12_find1_120 : decode cX12_find1 120 = .ok (.invokevirtual 1233, 3) := by decide +kernel
set_option maxRecDepth 100000 in
theorem dX12_find1_123 : decode cX12_find1 123 = .ok (.aload_n 0, 1) := by decide +kernel
set_option maxRecDepth 100000 in
theorem dX12_find1_124 : decode cX12_find1 124 = .ok (.getfield 1121, 3) := by decide +kernel
set_option maxRecDepth 100000 in
theorem dX12_find1_127 : decode cX12_find1 127 = .ok (.ifCond .eq 4, 3) := by decide +kernel
set_option maxRecDepth 100000 in
theorem dX12_find1_130 : decode cX12_find1 130 = .ok (.return_, 1) := by decide +kernel
set_option maxRecDepth 100000 in
theorem dX12_find1_131 : decode cX12_find1 131 = .ok (.aload_n 0, 1) := by decide +kernel
set_option maxRecDepth 100000 in
theorem dX12_find1_132 : decode cX12_find1 132 = .ok (.getfield 1145, 3) := by decide +kernel
set_option maxRecDepth 100000 in
theorem dX12_find1_135 : decode cX12_find1 135 = .ok (.aload 5, 2) := by decide +kernel
set_option maxRecDepth 100000 in
theorem dX12_find1_137 : decode cX12_find1 137 = .ok (.getfield 864, 3) := by decide +kernel
set_option maxRecDepth 100000 in
theorem dX12_find1_140 : decode cX12_find1 140 = .ok (.getfield 591, 3) := by decide +kernel
set_option maxRecDepth 100000 in
theorem dX12_find1_143 : decode cX12_find1 143 = .ok (.i2l, 1) := by decide +kernel
set_option maxRecDepth 100000 in
theorem dX12_find1_144 : decode cX12_find1 144 = .ok (.lcmp, 1) := by decide +kernel
set_option maxRecDepth 100000 in
theorem dX12_find1_145 : decode cX12_find1 145 = .ok (.ifCond .lt 20, 3) := by decide +kernel
set_option maxRecDepth 100000 in
theorem dX12_find1_148 : decode cX12_find1 148 = .ok (.aload_n 0, 1) := by decide +kernel
set_option maxRecDepth 100000 in
theorem dX12_find1_149 : decode cX12_find1 149 = .ok (.getfield 1145, 3) := by decide +kernel
set_option maxRecDepth 100000 in
theorem dX12_find1_152 : decode cX12_find1 152 = .ok (.aload 5, 2) := by decide +kernel
set_option maxRecDepth 100000 in
theorem dX12_find1_154 : decode cX12_find1 154 = .ok (.getfield 864, 3) := by decide +kernel
set_option maxRecDepth 100000 in
theorem dX12_find1_157 : decode cX12_find1 157 = .ok (.getfield 595, 3) := by decide +kernel
set_option maxRecDepth 100000 in
theorem dX12_find1_160 : decode cX12_find1 160 = .ok (.i2l, 1) := by decide +kernel
set_option maxRecDepth 100000 in
theorem dX12_find1_161 : decode cX12_find1 161 = .ok (.lcmp, 1) := by decide +kernel
set_option maxRecDepth 100000 in
theorem dX12_find1_162 : decode cX12_find1 162 = .ok (.ifCond .le 15, 3) := by decide +kernel
set_option maxRecDepth 100000 in
theorem dX12_find1_165 : decode cX12_find1 165 = .ok (.aload_n 0, 1) := by decide +kernel
set_option maxRecDepth 100000 in
theorem dX12_find1_166 : decode cX12_find1 166 = .ok (.iconst 2, 1) := by decide +kernel
set_option maxRecDepth 100000 in
theorem dX12_find1_167 : decode cX12_find1 167 = .ok (.aload_n 0, 1) := by decide +kernel
set_option maxRecDepth 100000 in
theorem dX12_find1_168 : decode cX12_find1 168 = .ok (.getfield 70, 3) := by decide +kernel
set_option maxRecDepth 100000 in
theorem dX12_find1_171 : decode cX12_find1 171 = .ok (.iload 4, 2) := by decide +kernel
set_option maxRecDepth 100000 in
theorem dX12_find1_173 : decode cX12_find1 173 = .ok (.iaload, 1) := by decide +kernel
set_option maxRecDepth 100000 in
theorem dX12_find1_174 : decode cX12_find1 174 = .ok (.invokevirtual 1142, 3) := by decide +kernel
set_option maxRecDepth 100000 in
theorem dX12_find1_177 : decode cX12_find1 177 = .ok (.iload_n 3, 1) := by decide +kernel
set_option maxRecDepth 100000 in
theorem dX12_find1_178 : decode cX12_find1 178 = .ok (.aload_n 0, 1) := by decide +kernel
set_option maxRecDepth 100000 in
theorem dX12_find1_179 : decode cX12_find1 179 = .ok (.getfield 1145, 3) := by decide +kernel
set_option maxRecDepth 100000 in
theorem dX12_find1_182 : decode cX12_find1 182 = .ok (.aload 5, 2) := by decide +kernel
set_option maxRecDepth 100000 in
theorem dX12_find1_184 : decode cX12_find1 184 = .ok (.getfield 864, 3) := by decide +kernel
set_option maxRecDepth 100000 in
theorem dX12_find1_187 : decode cX12_find1 187 = .ok (.getfield 591, 3) := by decide +kernel
set_option maxRecDepth 100000 in
theorem dX12_find1_190 : decode cX12_find1 190 = .ok (.i2l, 1) := by decide +kernel
set_option maxRecDepth 100000 in
theorem dX12_find1_191 : decode cX12_find1 191 = .ok (.lsub, 1) := by decide +kernel
set_option maxRecDepth 100000 in
theorem dX12_find1_192 : decode cX12_find1 192 = .ok (.aload 5, 2) := by decide +kernel
set_option maxRecDepth 100000 in
theorem dX12_find1_194 : decode cX12_find1 194 = .ok (.getfield 598, 3) := by decide +kernel
set_option maxRecDepth 100000 in
theorem dX12_find1_197 : decode cX12_find1 197 = .ok (.getfield 603, 3) := by decide +kernel
set_option maxRecDepth 100000 in
theorem dX12_find1_200 : decode cX12_find1 200 = .ok (.lmul, 1) := by decide +kernel
set_option maxRecDepth 100000 in
theorem dX12_find1_201 : decode cX12_find1 201 = .ok (.l2i, 1) := by decide +kernel
set_option maxRecDepth 100000 in
theorem dX12_find1_202 : decode cX12_find1 202 = .ok (.iadd, 1) := by decide +kernel
set_option maxRecDepth 100000 in
theorem dX12_find1_203 : decode cX12_find1 203 = .ok (.istore_n 3, 1) := by decide +kernel
set_option maxRecDepth 100000 in
theorem dX12_find1_204 : decode cX12_find1 204 = .ok (.goto 172, 3) := by decide +kernel
set_option maxRecDepth 100000 in
theorem dX12_find1_207 : decode cX12_find1 207 = .ok (.aload_n 0, 1) := by decide +kernel
set_option maxRecDepth 100000 in
theorem dX12_find1_208 : decode cX12_find1 208 = .ok (.getfield 67, 3) := by decide +kernel
set_option maxRecDepth 100000 in
theorem dX12_find1_211 : decode cX12_find1 211 = .ok (.iload 4, 2) := by decide +kernel
set_option maxRecDepth 100000 in
theorem dX12_find1_213 : decode cX12_find1 213 = .ok (.iaload, 1) := by decide +kernel
set_option maxRecDepth 100000 in
theorem dX12_find1_214 : decode cX12_find1 214 = .ok (.bipush 64, 2) := by decide +kernel
set_option maxRecDepth 100000 in
theorem dX12_find1_216 : decode cX12_find1 216 = .ok (.if_icmp .ne 51, 3) := by decide +kernel
set_option maxRecDepth 100000 in
theorem dX12_find1_219 : decode cX12_find1 219 = .ok (.aload_n 0, 1) := by decide +kernel
set_option maxRecDepth 100000 in
theorem dX12_find1_220 : decode cX12_find1 220 = .ok (.aload_n 0, 1) := by decide +kernel
set_option maxRecDepth 100000 in
theorem dX12_find1_221 : decode cX12_find1 221 = .ok (.getfield 102, 3) := by decide +kernel
set_option maxRecDepth 100000 in
theorem dX12_find1_224 : decode cX12_find1 224 = .ok (.iload 4, 2) := by decide +kernel
set_option maxRecDepth 100000 in
theorem dX12_find1_226 : decode cX12_find1 226 = .ok (.aaload, 1) := by decide +kernel
set_option maxRecDepth 100000 in
theorem dX12_find1_227 : decode cX12_find1 227 = .ok (.getfield 893, 3) := by decide +kernel
set_option maxRecDepth 100000 in
theorem dX12_find1_230 : decode cX12_find1 230 = .ok (.aload_n 0, 1) := by decide +kernel
set_option maxRecDepth 100000 in
theorem dX12_find1_231 : decode cX12_find1 231 = .ok (.getfield 102, 3) := by decide +kernel
set_option maxRecDepth 100000 in
theorem dX12_find1_234 : decode cX12_find1 234 = .ok (.iload 4, 2) := by decide +kernel
set_option maxRecDepth 100000 in
theorem dX12_find1_236 : decode cX12_find1 236 = .ok (.aaload, 1) := by decide +kernel
set_option maxRecDepth 100000 in
theorem dX12_find1_237 : decode cX12_find1 237 = .ok (.getfield 897, 3) := by decide +kernel
set_option maxRecDepth 100000 in
theorem dX12_find1_240 : decode cX12_find1 240 = .ok (.iload_n 3, 1) := by decide +kernel
set_option maxRecDepth 100000 in
theorem dX12_find1_241 : decode cX12_find1 241 = .ok (.aload_n 0, 1) := by decide +kernel
set_option maxRecDepth 100000 in
theorem dX12_find1_242 : decode cX12_find1 242 = .ok (.getfield 70, 3) := by decide +kernel
set_option maxRecDepth 100000 in
theorem dX12_find1_245 : decode cX12_find1 245 = .ok (.iload 4, 2) := by decide +kernel
set_option maxRecDepth 100000 in
theorem dX12_find1_247 : decode cX12_find1 247 = .ok (.iaload, 1) := by decide +kernel
set_option maxRecDepth 100000 in
theorem dX12_find1_248 : decode cX12_find1 248 = .ok (.invokevirtual 1219, 3) := by decide +kernel
set_option maxRecDepth 100000 in
theorem dX12_find1_251 : decode cX12_find1 251 = .ok (.iload_n 3, 1) := by decide +kernel
set_option maxRecDepth 100000 in
theorem dX12_find1_252 : decode cX12_find1 252 = .ok (.aload_n 0, 1) := by decide +kernel
set_option maxRecDepth 100000 in
theorem dX12_find1_253 : decode cX12_find1 253 = .ok (.getfield 102, 3) := by decide +kernel
set_option maxRecDepth 100000 in
theorem dX12_find1_256 : decode cX12_find1 256 = .ok (.iload 4, 2) := by decide +kernel
set_option maxRecDepth 100000 in
theorem dX12_find1_258 : decode cX12_find1 258 = .ok (.aaload, 1) := by decide +kernel
set_option maxRecDepth 100000 in
theorem dX12_find1_259 : decode cX12_find1 259 = .ok (.getfield 713, 3) := by decide +kernel
set_option maxRecDepth 100000 in
theorem dX12_find1_262 : decode cX12_find1 262 = .ok (.iadd, 1) := by decide +kernel
set_option maxRecDepth 100000 in
theorem dX12_find1_263 : decode cX12_find1 263 = .ok (.istore_n 3, 1) := by decide +kernel
set_option maxRecDepth 100000 in
theorem dX12_find1_264 : decode cX12_find1 264 = .ok (.goto 112, 3) := by decide +kernel
set_option maxRecDepth 100000 in
theorem dX12_find1_267 : decode cX12_find1 267 = .ok (.aload 5, 2) := by decide +kernel
set_option maxRecDepth 100000 in
theorem dX12_find1_269 : decode cX12_find1 269 = .ok (.getfield 845, 3) := by decide +kernel
set_option maxRecDepth 100000 in
theorem dX12_find1_272 : decode cX12_find1 272 = .ok (.bipush 10, 2) := by decide +kernel
set_option maxRecDepth 100000 in
theorem dX12_find1_274 : decode cX12_find1 274 = .ok (.if_icmp .ne 9, 3) := by decide +kernel
set_option maxRecDepth 100000 in
theorem dX12_find1_277 : decode cX12_find1 277 = .ok (.iinc 3 1, 3) := by decide +kernel
set_option maxRecDepth 100000 in
theorem dX12_find1_280 : decode cX12_find1 280 = .ok (.goto 96, 3) := by decide +kernel
set_option maxRecDepth 100000 in
theorem dX12_find1_283 : decode cX12_find1 283 = .ok (.aload_n 0, 1) := by decide +kernel
set_option maxRecDepth 100000 in
theorem dX12_find1_284 : decode cX12_find1 284 = .ok (.getfield 169, 3) := by decide +kernel
set_option maxRecDepth 100000 in
theorem dX12_find1_287 : decode cX12_find1 287 = .ok (.iload_n 3, 1) := by decide +kernel
set_option maxRecDepth 100000 in
theorem dX12_find1_288 : decode cX12_find1 288 = .ok (.baload, 1) := by decide +kernel
set_option maxRecDepth 100000 in
theorem dX12_find1_289 : decode cX12_find1 289 = .ok (.ifCond .ne 18, 3) := by decide +kernel
set_option maxRecDepth 100000 in
theorem dX12_find1_292 : decode cX12_find1 292 = .ok (.aload_n 0, 1) := by decide +kernel
set_option maxRecDepth 100000 in
theorem dX12_find1_293 : decode cX12_find1 293 = .ok (.iconst 5, 1) := by decide +kernel
set_option maxRecDepth 100000 in
theorem dX12_find1_294 : decode cX12_find1 294 = .ok (.aload_n 0, 1) := by decide +kernel
set_option maxRecDepth 100000 in
theorem dX12_find1_295 : decode cX12_find1 295 = .ok (.getfield 70, 3) := by decide +kernel
set_option maxRecDepth 100000 in
theorem dX12_find1_298 : decode cX12_find1 298 = .ok (.iload 4, 2) := by decide +kernel
set_option maxRecDepth 100000 in
theorem dX12_find1_300 : decode cX12_find1 300 = .ok (.iaload, 1) := by decide +kernel
set_option maxRecDepth 100000 in
theorem dX12_find1_301 : decode cX12_find1 301 = .ok (.invokevirtual 1142, 3) := by decide +kernel
set_option maxRecDepth 100000 in
theorem dX12_find1_304 : decode cX12_find1 304 = .ok (.goto 72, 3) := by decide +kernel
set_option maxRecDepth 100000 in
theorem dX12_find1_307 : decode cX12_find1 307 = .ok (.aload_n 0, 1) := by decide +kernel
set_option maxRecDepth 100000 in
theorem dX12_find1_308 : decode cX12_find1 308 = .ok (.getfield 159, 3) := by decide +kernel
set_option maxRecDepth 100000 in
theorem dX12_find1_311 : decode cX12_find1 311 = .ok (.iload_n 3, 1) := by decide +kernel
set_option maxRecDepth 100000 in
theorem dX12_find1_312 : decode cX12_find1 312 = .ok (.laload, 1) := by decide +kernel
set_option maxRecDepth 100000 in
theorem dX12_find1_313 : decode cX12_find1 313 = .ok (.lconst 0, 1) := by decide +kernel
set_option maxRecDepth 100000 in
theorem dX12_find1_314 : decode cX12_find1 314 = .ok (.lcmp, 1) := by decide +kernel
set_option maxRecDepth 100000 in
theorem dX12_find1_315 : decode cX12_find1 315 = .ok (.ifCond .ne 18, 3) := by decide +kernel
set_option maxRecDepth 100000 in
theorem dX12_find1_318 : decode cX12_find1 318 = .ok (.aload_n 0, 1) := by decide +kernel
set_option maxRecDepth 100000 in
theorem dX12_find1_319 : decode cX12_find1 319 = .ok (.iconst 3, 1) := by decide +kernel
set_option maxRecDepth 100000 in
theorem dX12_find1_320 : decode cX12_find1 320 = .ok (.aload_n 0, 1) := by decide +kernel
set_option maxRecDepth 100000 in
theorem dX12_find1_321 : decode cX12_find1 321 = .ok (.getfield 70, 3) := by decide +kernel
set_option maxRecDepth 100000 in
theorem dX12_find1_324 : decode cX12_find1 324 = .ok (.iload 4, 2) := by decide +kernel
set_option maxRecDepth 100000 in
theorem dX12_find1_326 : decode cX12_find1 326 = .ok (.iaload, 1) := by decide +kernel
set_option maxRecDepth 100000 in
theorem dX12_find1_327 : decode cX12_find1 327 = .ok (.invokevirtual 1142, 3) := by decide +kernel
set_option maxRecDepth 100000 in
theorem dX12_find1_330 : decode cX12_find1 330 = .ok (.goto 46, 3) := by decide +kernel
set_option maxRecDepth 100000 in
theorem dX12_find1_333 : decode cX12_find1 333 = .ok (.aload_n 0, 1) := by decide +kernel
set_option maxRecDepth 100000 in
theorem dX12_find1_334 : decode cX12_find1 334 = .ok (.getfield 176, 3) := by decide +kernel
set_option maxRecDepth 100000 in
theorem dX12_find1_337 : decode cX12_find1 337 = .ok (.aload_n 0, 1) := by decide +kernel
set_option maxRecDepth 100000 in
theorem dX12_find1_338 : decode cX12_find1 338 = .ok (.getfield 159, 3) := by decide +kernel
set_option maxRecDepth 100000 in
theorem dX12_find1_341 : decode cX12_find1 341 = .ok (.iload_n 3, 1) := by decide +kernel
set_option maxRecDepth 100000 in
theorem dX12_find1_342 : decode cX12_find1 342 = .ok (.laload, 1) := by decide +kernel
set_option maxRecDepth 100000 in
theorem dX12_find1_343 : decode cX12_find1 343 = .ok (.l2i, 1) := by decide +kernel
set_option maxRecDepth 100000 in
theorem dX12_find1_344 : decode cX12_find1 344 = .ok (.baload, 1) := by decide +kernel
set_option maxRecDepth 100000 in
theorem dX12_find1_345 : decode cX12_find1 345 = .ok (.ifCond .eq 18, 3) := by decide +kernel
set_option maxRecDepth 100000 in
theorem dX12_find1_348 : decode cX12_find1 348 = .ok (.aload_n 0, 1) := by decide +kernel
set_option maxRecDepth 100000 in
theorem dX12_find1_349 : decode cX12_find1 349 = .ok (.iconst 4, 1) := by decide +kernel
set_option maxRecDepth 100000 in
theorem dX12_find1_350 : decode cX12_find1 350 = .ok (.aload_n 0, 1) := by decide +kernel
set_option maxRecDepth 100000 in
theorem dX12_find1_351 : decode cX12_find1 351 = .ok (.getfield 70, 3) := by decide +kernel
set_option maxRecDepth 100000 in
theorem dX12_find1_354 : decode cX12_find1 354 = .ok (.iload 4, 2) := by decide +kernel
set_option maxRecDepth 100000 in
theorem dX12_find1_356 : decode cX12_find1 356 = .ok (.iaload, 1) := by decide +kernel
set_option maxRecDepth 100000 in
theorem dX12_find1_357 : decode cX12_find1 357 = .ok (.invokevirtual 1142, 3) := by decide +kernel
set_option maxRecDepth 100000 in
theorem dX12_find1_360 : decode cX12_find1 360 = .ok (.goto 16, 3) := by decide +kernel
set_option maxRecDepth 100000 in
theorem dX12_find1_363 : decode cX12_find1 363 = .ok (.aload_n 0, 1) := by decide +kernel
set_option maxRecDepth 100000 in
theorem dX12_find1_364 : decode cX12_find1 364 = .ok (.getfield 173, 3) := by decide +kernel
set_option maxRecDepth 100000 in
theorem dX12_find1_367 : decode cX12_find1 367 = .ok (.aload_n 0, 1) := by decide +kernel
set_option maxRecDepth 100000 in
theorem dX12_find1_368 : decode cX12_find1 368 = .ok (.getfield 159, 3) := by decide +kernel
set_option maxRecDepth 100000 in
theorem dX12_find1_371 : decode cX12_find1 371 = .ok (.iload_n 3, 1) := by decide +kernel
set_option maxRecDepth 100000 in
theorem dX12_find1_372 : decode cX12_find1 372 = .ok (.laload, 1) := by decide +kernel
set_option maxRecDepth 100000 in
theorem dX12_find1_373 : decode cX12_find1 373 = .ok (.l2i, 1) := by decide +kernel
set_option maxRecDepth 100000 in
theorem dX12_find1_374 : decode cX12_find1 374 = .ok (.iaload, 1) := by decide +kernel
set_option maxRecDepth 100000 in
theorem dX12_find1_375 : decode cX12_find1 375 = .ok (.istore_n 3, 1) := by decide +kernel
set_option maxRecDepth 100000 in
theorem dX12_find1_376 : decode cX12_find1 376 = .ok (.aload_n 0, 1) := by decide +kernel
set_option maxRecDepth 100000 in
theorem dX12_find1_377 : decode cX12_find1 377 = .ok (.getfield 79, 3) := by decide +kernel
set_option maxRecDepth 100000 in
theorem dX12_find1_380 : decode cX12_find1 380 = .ok (.iload 4, 2) := by decide +kernel
set_option maxRecDepth 100000 in
theorem dX12_find1_382 : decode cX12_find1 382 = .ok (.iaload, 1) := by decide +kernel
set_option maxRecDepth 100000 in
theorem dX12_find1_383 : decode cX12_find1 383 = .ok (.istore 4, 2) := by decide +kernel
set_option maxRecDepth 100000 in
theorem dX12_find1_385 : decode cX12_find1 385 = .ok (.goto (-307), 3) := by decide +kernel
set_option maxRecDepth 100000 in
theorem dX12_find1_388 : decode cX12_find1 388 = .ok (.aload_n 0, 1) := by decide +kernel
set_option maxRecDepth 100000 in
theorem dX12_find1_389 : decode cX12_find1 389 = .ok (.iload_n 3, 1) := by decide +kernel
set_option maxRecDepth 100000 in
theorem dX12_find1_390 : decode cX12_find1 390 = .ok (.putfield 1236, 3) := by decide +kernel
set_option maxRecDepth 100000 in
theorem dX12_find1_393 : decode cX12_find1 393 = .ok (.return_, 1) := by decide +kernel
def lX12_find1_78 (G : xG) (fr lo : Nat) (x0 : Nat) (x3 : Int32) (x4 : Int32) (h : xH) (Q : Outcome → xH → Prop) : Prop := xP G YX12_find1 fr lo 78 [(0, rv x0), (3, .int x3), (4, .int x4)] [] h Q
set_option maxRecDepth 100000 in
def bX12_find1_388 (G : xG) (fr lo : Nat) (x0 : Nat) (x3 : Int32) (h : xH) (Q : Outcome → xH → Prop) : Prop := tg h x0 = 13 ∧ (∀ h2 : xH, h2 = sI h x0 3181 x3 → Q (.returned none) h2)
set_option maxRecDepth 100000 in
theorem uX12_find1_388 {G : xG} {fr lo : Nat} {x0 : Nat} {x3 : Int32} {h : xH} {Q : Outcome → xH → Prop} (hq : bX12_find1_388 G fr lo x0 x3 h Q) : xP G YX12_find1 fr lo 388 [(0, rv x0), (3, .int x3)] [] h Q := by
  unfold bX12_find1_388 at hq
  refine x_aload_n 0 dX12_find1_388 rfl ?_
  refine x_iload_n 1 dX12_find1_389 rfl ?_
  obtain ⟨g1, hq⟩ := hq
  obtain ⟨h2, e3⟩ : ∃ y, y = sI h x0 3181 x3 := ⟨_, rfl⟩
  replace hq := hq h2 e3
  refine x_putI fdX12_1236 xty_I1 dX12_find1_390 g1 (Or.inl (by rw [g1]; rfl)) xnI rfl e3 ?_
  exact x_vret rfl dX12_find1_393 hq
set_option maxRecDepth 100000 in
def bX12_find1_376 (G : xG) (fr lo : Nat) (x0 : Nat) (x3 : Int32) (x4 : Int32) (h : xH) (Q : Outcome → xH → Prop) : Prop := tg h x0 = 13 ∧ tg h (fR h x0 3105) = 100 ∧ vp_in x4 (ln h (fR h x0 3105)) ∧ lX12_find1_78 G fr lo x0 x3 (aI h (fR h x0 3105) (Int32.toNatClampNeg x4)) h Q
set_option maxRecDepth 100000 in
theorem uX12_find1_376 {G : xG} {fr lo : Nat} {x0 : Nat} {x3 : Int32} {x4 : Int32} {h : xH} {Q : Outcome → xH → Prop} (hq : bX12_find1_376 G fr lo x0 x3 x4 h Q) : xP G YX12_find1 fr lo 376 [(0, rv x0), (3, .int x3), (4, .int x4)] [] h Q := by
  unfold bX12_find1_376 at hq
  refine x_aload_n 0 dX12_find1_376 rfl ?_
  obtain ⟨g1, hq⟩ := hq
  refine x_get (v := rv (fR h x0 3105)) fdX12_79 dX12_find1_377 g1 rfl ?_
  refine x_iload 2 dX12_find1_380 rfl ?_
  obtain ⟨g2, hq⟩ := hq
  obtain ⟨i3, hq⟩ := hq
  refine x_iald 0 (Or.inl rfl) g2 i3 dX12_find1_382 ?_
  refine x_istore (lv' := [(4, .int (aI h (fR h x0 3105) (Int32.toNatClampNeg x4))), (0, rv x0), (3, .int x3)]) dX12_find1_383 (by decide) rfl ?_
  refine x_goto (tgt := 78) dX12_find1_385 (by decide) ?_
  refine xP.pick (lv' := [(0, rv x0), (3, .int x3), (4, .int (aI h (fR h x0 3105) (Int32.toNatClampNeg x4)))]) [1, 2, 0] rfl ?_
  exact hq
set_option maxRecDepth 100000 in
def bX12_find1_177 (G : xG) (fr lo : Nat) (x0 : Nat) (x3 : Int32) (x4 : Int32) (x5 : Nat) (h : xH) (Q : Outcome → xH → Prop) : Prop := tg h x0 = 13 ∧ tg h x5 = 14 ∧ tg h (fR h x5 3332) = 14 ∧ tg h (fR h x5 3333) = 14 ∧ bX12_find1_376 G fr lo x0 (x3 + (Int64.toInt32 (((fJ h x0 3177) - (Int32.toInt64 (fI h (fR h x5 3332) 3329))) * (fJ h (fR h x5 3333) 3334)))) x4 h Q
set_option maxRecDepth 100000 in
theorem uX12_find1_177 {G : xG} {fr lo : Nat} {x0 : Nat} {x3 : Int32} {x4 : Int32} {x5 : Nat} {h : xH} {Q : Outcome → xH → Prop} (hq : bX12_find1_177 G fr lo x0 x3 x4 x5 h Q) : xP G YX12_find1 fr lo 177 [(0, rv x0), (3, .int x3), (4, .int x4), (5, rv x5)] [] h Q := by
  unfold bX12_find1_177 at hq
  refine x_iload_n 1 dX12_find1_177 rfl ?_
  refine x_aload_n 0 dX12_find1_178 rfl ?_
  obtain ⟨g1, hq⟩ := hq
  refine x_get (v := .long (fJ h x0 3177)) fdX12_1145 dX12_find1_179 g1 rfl ?_
  refine x_aload 3 dX12_find1_182 rfl ?_
  obtain ⟨g2, hq⟩ := hq
  refine x_get (v := rv (fR h x5 3332)) fdX12_864 dX12_find1_184 g2 rfl ?_
  obtain ⟨g3, hq⟩ := hq
  refine x_get (v := .int (fI h (fR h x5 3332) 3329)) fdX12_591 dX12_find1_187 g3 rfl ?_
  refine x_i2l dX12_find1_190 ?_
  refine x_lsub dX12_find1_191 ?_
  refine x_aload 3 dX12_find1_192 rfl ?_
  refine x_get (v := rv (fR h x5 3333)) fdX12_598 dX12_find1_194 g2 rfl ?_
  obtain ⟨g4, hq⟩ := hq
  refine x_get (v := .long (fJ h (fR h x5 3333) 3334)) fdX12_603 dX12_find1_197 g4 rfl ?_
  refine x_lmul dX12_find1_200 ?_
  refine x_l2i dX12_find1_201 ?_
  refine x_iadd dX12_find1_202 ?_
  refine x_istore_n (lv' := [(3, .int (x3 + (Int64.toInt32 (((fJ h x0 3177) - (Int32.toInt64 (fI h (fR h x5 3332) 3329))) * (fJ h (fR h x5 3333) 3334))))), (0, rv x0), (4, .int x4), (5, rv x5)]) dX12_find1_203 (by decide) rfl ?_
  refine x_goto (tgt := 376) dX12_find1_204 (by decide) ?_
  refine xP.pick (lv' := [(0, rv x0), (3, .int (x3 + (Int64.toInt32 (((fJ h x0 3177) - (Int32.toInt64 (fI h (fR h x5 3332) 3329))) * (fJ h (fR h x5 3333) 3334))))), (4, .int x4)]) [1, 0, 2] rfl ?_
  exact uX12_find1_376 hq
set_option maxRecDepth 100000 in
def bX12_find1_165 (G : xG) (fr lo : Nat) (x0 : Nat) (x3 : Int32) (x4 : Int32) (x5 : Nat) (h : xH) (Q : Outcome → xH → Prop) : Prop := tg h x0 = 13 ∧ tg h (fR h x0 3102) = 100 ∧ vp_in x4 (ln h (fR h x0 3102)) ∧ 1 ≤ fr ∧ 14 ≤ lo ∧ xRv G YX12_error (fr - 1) (lo - 14) [rv x0, .int 2, .int (aI h (fR h x0 3102) (Int32.toNatClampNeg x4))] h (fun h6 => xext h h6 → bX12_find1_177 G fr lo x0 x3 x4 x5 h6 Q) (fun r h2 => Q (.threw r) h2)
set_option maxRecDepth 100000 in
theorem uX12_find1_165 {G : xG} {fr lo : Nat} {x0 : Nat} {x3 : Int32} {x4 : Int32} {x5 : Nat} {h : xH} {Q : Outcome → xH → Prop} (hq : bX12_find1_165 G fr lo x0 x3 x4 x5 h Q) : xP G YX12_find1 fr lo 165 [(0, rv x0), (3, .int x3), (4, .int x4), (5, rv x5)] [] h Q := by
  unfold bX12_find1_165 at hq
  refine x_aload_n 0 dX12_find1_165 rfl ?_
  refine x_iconst (v := 2) dX12_find1_166 (by decide) ?_
  refine x_aload_n 0 dX12_find1_167 rfl ?_
  obtain ⟨g1, hq⟩ := hq
  refine x_get (v := rv (fR h x0 3102)) fdX12_70 dX12_find1_168 g1 rfl ?_
  refine x_iload 2 dX12_find1_171 rfl ?_
  obtain ⟨g2, hq⟩ := hq
  obtain ⟨i3, hq⟩ := hq
  refine x_iald 0 (Or.inl rfl) g2 i3 dX12_find1_173 ?_
  obtain ⟨g4, g5, hq⟩ := hq
  refine x_callV (Yc := YX12_error) (as := [.int 2, .int (aI h (fR h x0 3102) (Int32.toNatClampNeg x4))]) (st := []) q4490 mvX12_error g1 rfl dX12_find1_174 (xle (xal1 (rv_cat _) (xal1 rfl (xal1 rfl xal0))) (by decide)) (xfr g4) (xlo xsw0 (by decide) g5) (xKv hq (fun h6 hq e8 => ?_) (fun _ _ q _ => q))
  replace hq := hq e8
  exact uX12_find1_177 hq
set_option maxRecDepth 100000 in
def bX12_find1_78 (G : xG) (fr lo : Nat) (x0 : Nat) (x3 : Int32) (x4 : Int32) (h : xH) (Q : Outcome → xH → Prop) : Prop := ((x4 = (-1) → bX12_find1_388 G fr lo x0 x3 h Q) ∧ (¬ x4 = (-1) → tg h x0 = 13 ∧ ((¬ (fI h x0 3170) = 0 → bX12_find1_388 G fr lo x0 x3 h Q) ∧ ((fI h x0 3170) = 0 → tg h (fR h x0 3113) = 108 ∧ vp_in x4 (ln h (fR h x0 3113)) ∧ tg h (fR h x0 3101) = 100 ∧ vp_in x4 (ln h (fR h x0 3101)) ∧ ((¬ (aI h (fR h x0 3101) (Int32.toNatClampNeg x4)) = 63 → vp_in x4 (ln h (fR h x0 3101)) ∧ ((¬ (aI h (fR h x0 3101) (Int32.toNatClampNeg x4)) = 64 → tg h (aR h (fR h x0 3113) (Int32.toNatClampNeg x4)) = 14 ∧ ((¬ (fI h (aR h (fR h x0 3113) (Int32.toNatClampNeg x4)) 3328) = 10 → tg h (fR h x0 3150) = 104 ∧ vp_in x3 (ln h (fR h x0 3150)) ∧ ((¬ (aI h (fR h x0 3150) (Int32.toNatClampNeg x3)) = 0 → tg h (fR h x0 3147) = 101 ∧ vp_in x3 (ln h (fR h x0 3147)) ∧ ((¬ (lg_cmp (aJ h (fR h x0 3147) (Int32.toNatClampNeg x3)) 0) = 0 → vp_in x3 (ln h (fR h x0 3147)) ∧ tg h (fR h x0 3155) = 104 ∧ vp_in (Int64.toInt32 (aJ h (fR h x0 3147) (Int32.toNatClampNeg x3))) (ln h (fR h x0 3155)) ∧ (((aI h (fR h x0 3155) (Int32.toNatClampNeg (Int64.toInt32 (aJ h (fR h x0 3147) (Int32.toNatClampNeg x3))))) = 0 → vp_in x3 (ln h (fR h x0 3147)) ∧ tg h (fR h x0 3154) = 100 ∧ vp_in (Int64.toInt32 (aJ h (fR h x0 3147) (Int32.toNatClampNeg x3))) (ln h (fR h x0 3154)) ∧ bX12_find1_376 G fr lo x0 (aI h (fR h x0 3154) (Int32.toNatClampNeg (Int64.toInt32 (aJ h (fR h x0 3147) (Int32.toNatClampNeg x3))))) x4 h Q) ∧ (¬ (aI h (fR h x0 3155) (Int32.toNatClampNeg (Int64.toInt32 (aJ h (fR h x0 3147) (Int32.toNatClampNeg x3))))) = 0 → tg h (fR h x0 3102) = 100 ∧ vp_in x4 (ln h (fR h x0 3102)) ∧ 1 ≤ fr ∧ 14 ≤ lo ∧ xRv G YX12_error (fr - 1) (lo - 14) [rv x0, .int 4, .int (aI h (fR h x0 3102) (Int32.toNatClampNeg x4))] h (fun h30 => xext h h30 → bX12_find1_376 G fr lo x0 x3 x4 h30 Q) (fun r h2 => Q (.threw r) h2)))) ∧ ((lg_cmp (aJ h (fR h x0 3147) (Int32.toNatClampNeg x3)) 0) = 0 → tg h (fR h x0 3102) = 100 ∧ vp_in x4 (ln h (fR h x0 3102)) ∧ 1 ≤ fr ∧ 14 ≤ lo ∧ xRv G YX12_error (fr - 1) (lo - 14) [rv x0, .int 3, .int (aI h (fR h x0 3102) (Int32.toNatClampNeg x4))] h (fun h37 => xext h h37 → bX12_find1_376 G fr lo x0 x3 x4 h37 Q) (fun r h2 => Q (.threw r) h2)))) ∧ ((aI h (fR h x0 3150) (Int32.toNatClampNeg x3)) = 0 → tg h (fR h x0 3102) = 100 ∧ vp_in x4 (ln h (fR h x0 3102)) ∧ 1 ≤ fr ∧ 14 ≤ lo ∧ xRv G YX12_error (fr - 1) (lo - 14) [rv x0, .int 5, .int (aI h (fR h x0 3102) (Int32.toNatClampNeg x4))] h (fun h44 => xext h h44 → bX12_find1_376 G fr lo x0 x3 x4 h44 Q) (fun r h2 => Q (.threw r) h2)))) ∧ ((fI h (aR h (fR h x0 3113) (Int32.toNatClampNeg x4)) 3328) = 10 → bX12_find1_376 G fr lo x0 (x3 + 1) x4 h Q))) ∧ ((aI h (fR h x0 3101) (Int32.toNatClampNeg x4)) = 64 → tg h (fR h x0 3114) = 109 ∧ vp_in x4 (ln h (fR h x0 3114)) ∧ tg h (aR h (fR h x0 3114) (Int32.toNatClampNeg x4)) = 24 ∧ vp_in x4 (ln h (fR h x0 3114)) ∧ tg h (fR h x0 3102) = 100 ∧ vp_in x4 (ln h (fR h x0 3102)) ∧ 1 ≤ fr ∧ 18 ≤ lo ∧ xRv G YX12_activate (fr - 1) (lo - 18) [rv x0, rv (fR h (aR h (fR h x0 3114) (Int32.toNatClampNeg x4)) 5900), .int (fI h (aR h (fR h x0 3114) (Int32.toNatClampNeg x4)) 5902), .int x3, .int (aI h (fR h x0 3102) (Int32.toNatClampNeg x4))] h (fun h55 => xext h h55 → tg h55 (fR h55 x0 3114) = 109 ∧ vp_in x4 (ln h55 (fR h55 x0 3114)) ∧ tg h55 (aR h55 (fR h55 x0 3114) (Int32.toNatClampNeg x4)) = 24 ∧ bX12_find1_376 G fr lo x0 (x3 + (fI h55 (aR h55 (fR h55 x0 3114) (Int32.toNatClampNeg x4)) 5894)) x4 h55 Q) (fun r h2 => Q (.threw r) h2)))) ∧ ((aI h (fR h x0 3101) (Int32.toNatClampNeg x4)) = 63 → tg h (fR h x0 3103) = 100 ∧ vp_in x4 (ln h (fR h x0 3103)) ∧ 1 ≤ fr ∧ 37 ≤ lo ∧ xRv G YX12_evaluate (fr - 1) (lo - 37) [rv x0, .int (aI h (fR h x0 3103) (Int32.toNatClampNeg x4))] h (fun h66 => xext h h66 → (((fI h66 x0 3170) = 0 → tg h66 (aR h (fR h x0 3113) (Int32.toNatClampNeg x4)) = 14 ∧ tg h66 (fR h66 (aR h (fR h x0 3113) (Int32.toNatClampNeg x4)) 3332) = 14 ∧ (((lg_cmp (fJ h66 x0 3177) (Int32.toInt64 (fI h66 (fR h66 (aR h (fR h x0 3113) (Int32.toNatClampNeg x4)) 3332) 3329))) < 0 → bX12_find1_165 G fr lo x0 x3 x4 (aR h (fR h x0 3113) (Int32.toNatClampNeg x4)) h66 Q) ∧ (¬ (lg_cmp (fJ h66 x0 3177) (Int32.toInt64 (fI h66 (fR h66 (aR h (fR h x0 3113) (Int32.toNatClampNeg x4)) 3332) 3329))) < 0 → (((lg_cmp (fJ h66 x0 3177) (Int32.toInt64 (fI h66 (fR h66 (aR h (fR h x0 3113) (Int32.toNatClampNeg x4)) 3332) 3330))) ≤ 0 → bX12_find1_177 G fr lo x0 x3 x4 (aR h (fR h x0 3113) (Int32.toNatClampNeg x4)) h66 Q) ∧ (¬ (lg_cmp (fJ h66 x0 3177) (Int32.toInt64 (fI h66 (fR h66 (aR h (fR h x0 3113) (Int32.toNatClampNeg x4)) 3332) 3330))) ≤ 0 → bX12_find1_165 G fr lo x0 x3 x4 (aR h (fR h x0 3113) (Int32.toNatClampNeg x4)) h66 Q))))) ∧ (¬ (fI h66 x0 3170) = 0 → Q (.returned none) h66))) (fun r h2 => Q (.threw r) h2)))))))
set_option maxRecDepth 100000 in
theorem uX12_find1_78 {G : xG} {fr lo : Nat} {x0 : Nat} {x3 : Int32} {x4 : Int32} {h : xH} {Q : Outcome → xH → Prop} (hq : bX12_find1_78 G fr lo x0 x3 x4 h Q) : xP G YX12_find1 fr lo 78 [(0, rv x0), (3, .int x3), (4, .int x4)] [] h Q := by
  unfold bX12_find1_78 at hq
  refine x_iload 2 dX12_find1_78 rfl ?_
  refine x_iconst (v := (-1)) dX12_find1_80 (by decide) ?_
  refine x_icmp_eq (tgt := 388) dX12_find1_81 (by decide) (fun c1 => ?_) (fun c1 => ?_)
  · replace hq := hq.1 c1
    refine xP.pick (lv' := [(0, rv x0), (3, .int x3)]) [0, 1] rfl ?_
    exact uX12_find1_388 hq
  · replace hq := hq.2 c1
    refine x_aload_n 0 dX12_find1_84 rfl ?_
    obtain ⟨g2, hq⟩ := hq
    refine x_get (v := .int (fI h x0 3170)) fdX12_1121 dX12_find1_85 g2 rfl ?_
    refine x_if_ne (tgt := 388) dX12_find1_88 (by decide) (fun c3 => ?_) (fun c3 => ?_)
    · replace hq := hq.1 c3
      refine xP.pick (lv' := [(0, rv x0), (3, .int x3)]) [0, 1] rfl ?_
      exact uX12_find1_388 hq
    · replace hq := hq.2 c3
      refine x_aload_n 0 dX12_find1_91 rfl ?_
      refine x_get (v := rv (fR h x0 3113)) fdX12_96 dX12_find1_92 g2 rfl ?_
      refine x_iload 2 dX12_find1_95 rfl ?_
      obtain ⟨g4, hq⟩ := hq
      obtain ⟨i5, hq⟩ := hq
      refine x_aald 8 rfl g4 (by decide) i5 dX12_find1_97 ?_
      refine x_astore (lv' := [(5, rv (aR h (fR h x0 3113) (Int32.toNatClampNeg x4))), (0, rv x0), (3, .int x3), (4, .int x4)]) dX12_find1_98 (by decide) rfl ?_
      refine x_aload_n 1 dX12_find1_100 rfl ?_
      refine x_get (v := rv (fR h x0 3101)) fdX12_67 dX12_find1_101 g2 rfl ?_
      refine x_iload 3 dX12_find1_104 rfl ?_
      obtain ⟨g6, hq⟩ := hq
      obtain ⟨i7, hq⟩ := hq
      refine x_iald 0 (Or.inl rfl) g6 i7 dX12_find1_106 ?_
      refine x_bipush (v := 63) dX12_find1_107 (by decide) ?_
      refine x_icmp_ne (tgt := 207) dX12_find1_109 (by decide) (fun c8 => ?_) (fun c8 => ?_)
      · replace hq := hq.1 c8
        refine x_aload_n 1 dX12_find1_207 rfl ?_
        refine x_get (v := rv (fR h x0 3101)) fdX12_67 dX12_find1_208 g2 rfl ?_
        refine x_iload 3 dX12_find1_211 rfl ?_
        obtain ⟨i9, hq⟩ := hq
        refine x_iald 0 (Or.inl rfl) g6 i9 dX12_find1_213 ?_
        refine x_bipush (v := 64) dX12_find1_214 (by decide) ?_
        refine x_icmp_ne (tgt := 267) dX12_find1_216 (by decide) (fun c10 => ?_) (fun c10 => ?_)
        · replace hq := hq.1 c10
          refine x_aload 0 dX12_find1_267 rfl ?_
          obtain ⟨g11, hq⟩ := hq
          refine x_get (v := .int (fI h (aR h (fR h x0 3113) (Int32.toNatClampNeg x4)) 3328)) fdX12_845 dX12_find1_269 g11 rfl ?_
          refine x_bipush (v := 10) dX12_find1_272 (by decide) ?_
          refine x_icmp_ne (tgt := 283) dX12_find1_274 (by decide) (fun c12 => ?_) (fun c12 => ?_)
          · replace hq := hq.1 c12
            refine x_aload_n 1 dX12_find1_283 rfl ?_
            refine x_get (v := rv (fR h x0 3150)) fdX12_169 dX12_find1_284 g2 rfl ?_
            refine x_iload_n 2 dX12_find1_287 rfl ?_
            obtain ⟨g13, hq⟩ := hq
            obtain ⟨i14, hq⟩ := hq
            refine x_zald g13 i14 dX12_find1_288 ?_
            refine x_if_ne (tgt := 307) dX12_find1_289 (by decide) (fun c15 => ?_) (fun c15 => ?_)
            · replace hq := hq.1 c15
              refine x_aload_n 1 dX12_find1_307 rfl ?_
              refine x_get (v := rv (fR h x0 3147)) fdX12_159 dX12_find1_308 g2 rfl ?_
              refine x_iload_n 2 dX12_find1_311 rfl ?_
              obtain ⟨g16, hq⟩ := hq
              obtain ⟨i17, hq⟩ := hq
              refine x_lald g16 i17 dX12_find1_312 ?_
              refine x_lconst (v := 0) dX12_find1_313 (by decide) ?_
              refine x_lcmp dX12_find1_314 ?_
              refine x_if_ne (tgt := 333) dX12_find1_315 (by decide) (fun c18 => ?_) (fun c18 => ?_)
              · replace hq := hq.1 c18
                refine x_aload_n 1 dX12_find1_333 rfl ?_
                refine x_get (v := rv (fR h x0 3155)) fdX12_176 dX12_find1_334 g2 rfl ?_
                refine x_aload_n 1 dX12_find1_337 rfl ?_
                refine x_get (v := rv (fR h x0 3147)) fdX12_159 dX12_find1_338 g2 rfl ?_
                refine x_iload_n 2 dX12_find1_341 rfl ?_
                obtain ⟨i19, hq⟩ := hq
                refine x_lald g16 i19 dX12_find1_342 ?_
                refine x_l2i dX12_find1_343 ?_
                obtain ⟨g20, hq⟩ := hq
                obtain ⟨i21, hq⟩ := hq
                refine x_zald g20 i21 dX12_find1_344 ?_
                refine x_if_eq (tgt := 363) dX12_find1_345 (by decide) (fun c22 => ?_) (fun c22 => ?_)
                · replace hq := hq.1 c22
                  refine x_aload_n 1 dX12_find1_363 rfl ?_
                  refine x_get (v := rv (fR h x0 3154)) fdX12_173 dX12_find1_364 g2 rfl ?_
                  refine x_aload_n 1 dX12_find1_367 rfl ?_
                  refine x_get (v := rv (fR h x0 3147)) fdX12_159 dX12_find1_368 g2 rfl ?_
                  refine x_iload_n 2 dX12_find1_371 rfl ?_
                  obtain ⟨i23, hq⟩ := hq
                  refine x_lald g16 i23 dX12_find1_372 ?_
                  refine x_l2i dX12_find1_373 ?_
                  obtain ⟨g24, hq⟩ := hq
                  obtain ⟨i25, hq⟩ := hq
                  refine x_iald 0 (Or.inl rfl) g24 i25 dX12_find1_374 ?_
                  refine x_istore_n (lv' := [(3, .int (aI h (fR h x0 3154) (Int32.toNatClampNeg (Int64.toInt32 (aJ h (fR h x0 3147) (Int32.toNatClampNeg x3)))))), (5, rv (aR h (fR h x0 3113) (Int32.toNatClampNeg x4))), (0, rv x0), (4, .int x4)]) dX12_find1_375 (by decide) rfl ?_
                  refine xP.pick (lv' := [(0, rv x0), (3, .int (aI h (fR h x0 3154) (Int32.toNatClampNeg (Int64.toInt32 (aJ h (fR h x0 3147) (Int32.toNatClampNeg x3)))))), (4, .int x4)]) [2, 0, 3] rfl ?_
                  exact uX12_find1_376 hq
                · replace hq := hq.2 c22
                  refine x_aload_n 1 dX12_find1_348 rfl ?_
                  refine x_iconst (v := 4) dX12_find1_349 (by decide) ?_
                  refine x_aload_n 1 dX12_find1_350 rfl ?_
                  refine x_get (v := rv (fR h x0 3102)) fdX12_70 dX12_find1_351 g2 rfl ?_
                  refine x_iload 3 dX12_find1_354 rfl ?_
                  obtain ⟨g26, hq⟩ := hq
                  obtain ⟨i27, hq⟩ := hq
                  refine x_iald 0 (Or.inl rfl) g26 i27 dX12_find1_356 ?_
                  obtain ⟨g28, g29, hq⟩ := hq
                  refine x_callV (Yc := YX12_error) (as := [.int 4, .int (aI h (fR h x0 3102) (Int32.toNatClampNeg x4))]) (st := []) q4490 mvX12_error g2 rfl dX12_find1_357 (xle (xal1 (rv_cat _) (xal1 rfl (xal1 rfl xal0))) (by decide)) (xfr g28) (xlo xsw0 (by decide) g29) (xKv hq (fun h30 hq e32 => ?_) (fun _ _ q _ => q))
                  replace hq := hq e32
                  refine x_goto (tgt := 376) dX12_find1_360 (by decide) ?_
                  refine xP.pick (lv' := [(0, rv x0), (3, .int x3), (4, .int x4)]) [1, 2, 3] rfl ?_
                  exact uX12_find1_376 hq
              · replace hq := hq.2 c18
                refine x_aload_n 1 dX12_find1_318 rfl ?_
                refine x_iconst (v := 3) dX12_find1_319 (by decide) ?_
                refine x_aload_n 1 dX12_find1_320 rfl ?_
                refine x_get (v := rv (fR h x0 3102)) fdX12_70 dX12_find1_321 g2 rfl ?_
                refine x_iload 3 dX12_find1_324 rfl ?_
                obtain ⟨g33, hq⟩ := hq
                obtain ⟨i34, hq⟩ := hq
                refine x_iald 0 (Or.inl rfl) g33 i34 dX12_find1_326 ?_
                obtain ⟨g35, g36, hq⟩ := hq
                refine x_callV (Yc := YX12_error) (as := [.int 3, .int (aI h (fR h x0 3102) (Int32.toNatClampNeg x4))]) (st := []) q4490 mvX12_error g2 rfl dX12_find1_327 (xle (xal1 (rv_cat _) (xal1 rfl (xal1 rfl xal0))) (by decide)) (xfr g35) (xlo xsw0 (by decide) g36) (xKv hq (fun h37 hq e39 => ?_) (fun _ _ q _ => q))
                replace hq := hq e39
                refine x_goto (tgt := 376) dX12_find1_330 (by decide) ?_
                refine xP.pick (lv' := [(0, rv x0), (3, .int x3), (4, .int x4)]) [1, 2, 3] rfl ?_
                exact uX12_find1_376 hq
            · replace hq := hq.2 c15
              refine x_aload_n 1 dX12_find1_292 rfl ?_
              refine x_iconst (v := 5) dX12_find1_293 (by decide) ?_
              refine x_aload_n 1 dX12_find1_294 rfl ?_
              refine x_get (v := rv (fR h x0 3102)) fdX12_70 dX12_find1_295 g2 rfl ?_
              refine x_iload 3 dX12_find1_298 rfl ?_
              obtain ⟨g40, hq⟩ := hq
              obtain ⟨i41, hq⟩ := hq
              refine x_iald 0 (Or.inl rfl) g40 i41 dX12_find1_300 ?_
              obtain ⟨g42, g43, hq⟩ := hq
              refine x_callV (Yc := YX12_error) (as := [.int 5, .int (aI h (fR h x0 3102) (Int32.toNatClampNeg x4))]) (st := []) q4490 mvX12_error g2 rfl dX12_find1_301 (xle (xal1 (rv_cat _) (xal1 rfl (xal1 rfl xal0))) (by decide)) (xfr g42) (xlo xsw0 (by decide) g43) (xKv hq (fun h44 hq e46 => ?_) (fun _ _ q _ => q))
              replace hq := hq e46
              refine x_goto (tgt := 376) dX12_find1_304 (by decide) ?_
              refine xP.pick (lv' := [(0, rv x0), (3, .int x3), (4, .int x4)]) [1, 2, 3] rfl ?_
              exact uX12_find1_376 hq
          · replace hq := hq.2 c12
            refine x_iinc (lv' := [(3, .int (x3 + 1)), (5, rv (aR h (fR h x0 3113) (Int32.toNatClampNeg x4))), (0, rv x0), (4, .int x4)]) 2 dX12_find1_277 rfl (by decide) rfl ?_
            refine x_goto (tgt := 376) dX12_find1_280 (by decide) ?_
            refine xP.pick (lv' := [(0, rv x0), (3, .int (x3 + 1)), (4, .int x4)]) [2, 0, 3] rfl ?_
            exact uX12_find1_376 hq
        · replace hq := hq.2 c10
          refine x_aload_n 1 dX12_find1_219 rfl ?_
          refine x_aload_n 1 dX12_find1_220 rfl ?_
          refine x_get (v := rv (fR h x0 3114)) fdX12_102 dX12_find1_221 g2 rfl ?_
          refine x_iload 3 dX12_find1_224 rfl ?_
          obtain ⟨g47, hq⟩ := hq
          obtain ⟨i48, hq⟩ := hq
          refine x_aald 9 rfl g47 (by decide) i48 dX12_find1_226 ?_
          obtain ⟨g49, hq⟩ := hq
          refine x_get (v := rv (fR h (aR h (fR h x0 3114) (Int32.toNatClampNeg x4)) 5900)) fdX12_893 dX12_find1_227 g49 rfl ?_
          refine x_aload_n 1 dX12_find1_230 rfl ?_
          refine x_get (v := rv (fR h x0 3114)) fdX12_102 dX12_find1_231 g2 rfl ?_
          refine x_iload 3 dX12_find1_234 rfl ?_
          obtain ⟨i50, hq⟩ := hq
          refine x_aald 9 rfl g47 (by decide) i50 dX12_find1_236 ?_
          refine x_get (v := .int (fI h (aR h (fR h x0 3114) (Int32.toNatClampNeg x4)) 5902)) fdX12_897 dX12_find1_237 g49 rfl ?_
          refine x_iload_n 2 dX12_find1_240 rfl ?_
          refine x_aload_n 1 dX12_find1_241 rfl ?_
          refine x_get (v := rv (fR h x0 3102)) fdX12_70 dX12_find1_242 g2 rfl ?_
          refine x_iload 3 dX12_find1_245 rfl ?_
          obtain ⟨g51, hq⟩ := hq
          obtain ⟨i52, hq⟩ := hq
          refine x_iald 0 (Or.inl rfl) g51 i52 dX12_find1_247 ?_
          obtain ⟨g53, g54, hq⟩ := hq
          refine x_callV (Yc := YX12_activate) (as := [rv (fR h (aR h (fR h x0 3114) (Int32.toNatClampNeg x4)) 5900), .int (fI h (aR h (fR h x0 3114) (Int32.toNatClampNeg x4)) 5902), .int x3, .int (aI h (fR h x0 3102) (Int32.toNatClampNeg x4))]) (st := []) q4619 mvX12_activate g2 rfl dX12_find1_248 (xle (xal1 (rv_cat _) (xal1 (rv_cat _) (xal1 rfl (xal1 rfl (xal1 rfl xal0))))) (by decide)) (xfr g53) (xlo xsw0 (by decide) g54) (xKv hq (fun h55 hq e57 => ?_) (fun _ _ q _ => q))
          replace hq := hq e57
          refine x_iload_n 2 dX12_find1_251 rfl ?_
          refine x_aload_n 1 dX12_find1_252 rfl ?_
          have t58 : tg h55 x0 = 13 := e57.tg g2 (by decide)
          refine x_get (v := rv (fR h55 x0 3114)) fdX12_102 dX12_find1_253 t58 rfl ?_
          refine x_iload 3 dX12_find1_256 rfl ?_
          obtain ⟨g59, hq⟩ := hq
          obtain ⟨i60, hq⟩ := hq
          refine x_aald 9 rfl g59 (by decide) i60 dX12_find1_258 ?_
          obtain ⟨g61, hq⟩ := hq
          refine x_get (v := .int (fI h55 (aR h55 (fR h55 x0 3114) (Int32.toNatClampNeg x4)) 5894)) fdX12_713 dX12_find1_259 g61 rfl ?_
          refine x_iadd dX12_find1_262 ?_
          refine x_istore_n (lv' := [(3, .int (x3 + (fI h55 (aR h55 (fR h55 x0 3114) (Int32.toNatClampNeg x4)) 5894))), (5, rv (aR h (fR h x0 3113) (Int32.toNatClampNeg x4))), (0, rv x0), (4, .int x4)]) dX12_find1_263 (by decide) rfl ?_
          refine x_goto (tgt := 376) dX12_find1_264 (by decide) ?_
          refine xP.pick (lv' := [(0, rv x0), (3, .int (x3 + (fI h55 (aR h55 (fR h55 x0 3114) (Int32.toNatClampNeg x4)) 5894))), (4, .int x4)]) [2, 0, 3] rfl ?_
          exact uX12_find1_376 hq
      · replace hq := hq.2 c8
        refine x_aload_n 1 dX12_find1_112 rfl ?_
        refine x_aload_n 1 dX12_find1_113 rfl ?_
        refine x_get (v := rv (fR h x0 3103)) fdX12_73 dX12_find1_114 g2 rfl ?_
        refine x_iload 3 dX12_find1_117 rfl ?_
        obtain ⟨g62, hq⟩ := hq
        obtain ⟨i63, hq⟩ := hq
        refine x_iald 0 (Or.inl rfl) g62 i63 dX12_find1_119 ?_
        obtain ⟨g64, g65, hq⟩ := hq
        refine x_callV (Yc := YX12_evaluate) (as := [.int (aI h (fR h x0 3103) (Int32.toNatClampNeg x4))]) (st := []) q4543 mvX12_evaluate g2 rfl dX12_find1_120 (xle (xal1 (rv_cat _) (xal1 rfl xal0)) (by decide)) (xfr g64) (xlo xsw0 (by decide) g65) (xKv hq (fun h66 hq e68 => ?_) (fun _ _ q _ => q))
        replace hq := hq e68
        refine x_aload_n 1 dX12_find1_123 rfl ?_
        have t69 : tg h66 x0 = 13 := e68.tg g2 (by decide)
        refine x_get (v := .int (fI h66 x0 3170)) fdX12_1121 dX12_find1_124 t69 rfl ?_
        refine x_if_eq (tgt := 131) dX12_find1_127 (by decide) (fun c70 => ?_) (fun c70 => ?_)
        · replace hq := hq.1 c70
          refine x_aload_n 1 dX12_find1_131 rfl ?_
          refine x_get (v := .long (fJ h66 x0 3177)) fdX12_1145 dX12_find1_132 t69 rfl ?_
          refine x_aload 0 dX12_find1_135 rfl ?_
          obtain ⟨g71, hq⟩ := hq
          refine x_get (v := rv (fR h66 (aR h (fR h x0 3113) (Int32.toNatClampNeg x4)) 3332)) fdX12_864 dX12_find1_137 g71 rfl ?_
          obtain ⟨g72, hq⟩ := hq
          refine x_get (v := .int (fI h66 (fR h66 (aR h (fR h x0 3113) (Int32.toNatClampNeg x4)) 3332) 3329)) fdX12_591 dX12_find1_140 g72 rfl ?_
          refine x_i2l dX12_find1_143 ?_
          refine x_lcmp dX12_find1_144 ?_
          refine x_if_lt (tgt := 165) dX12_find1_145 (by decide) (fun c73 => ?_) (fun c73 => ?_)
          · replace hq := hq.1 c73
            refine xP.pick (lv' := [(0, rv x0), (3, .int x3), (4, .int x4), (5, rv (aR h (fR h x0 3113) (Int32.toNatClampNeg x4)))]) [1, 2, 3, 0] rfl ?_
            exact uX12_find1_165 hq
          · replace hq := hq.2 c73
            refine x_aload_n 1 dX12_find1_148 rfl ?_
            refine x_get (v := .long (fJ h66 x0 3177)) fdX12_1145 dX12_find1_149 t69 rfl ?_
            refine x_aload 0 dX12_find1_152 rfl ?_
            refine x_get (v := rv (fR h66 (aR h (fR h x0 3113) (Int32.toNatClampNeg x4)) 3332)) fdX12_864 dX12_find1_154 g71 rfl ?_
            refine x_get (v := .int (fI h66 (fR h66 (aR h (fR h x0 3113) (Int32.toNatClampNeg x4)) 3332) 3330)) fdX12_595 dX12_find1_157 g72 rfl ?_
            refine x_i2l dX12_find1_160 ?_
            refine x_lcmp dX12_find1_161 ?_
            refine x_if_le (tgt := 177) dX12_find1_162 (by decide) (fun c74 => ?_) (fun c74 => ?_)
            · replace hq := hq.1 c74
              refine xP.pick (lv' := [(0, rv x0), (3, .int x3), (4, .int x4), (5, rv (aR h (fR h x0 3113) (Int32.toNatClampNeg x4)))]) [1, 2, 3, 0] rfl ?_
              exact uX12_find1_177 hq
            · replace hq := hq.2 c74
              refine xP.pick (lv' := [(0, rv x0), (3, .int x3), (4, .int x4), (5, rv (aR h (fR h x0 3113) (Int32.toNatClampNeg x4)))]) [1, 2, 3, 0] rfl ?_
              exact uX12_find1_165 hq
        · replace hq := hq.2 c70
          exact x_vret rfl dX12_find1_130 hq
set_option maxRecDepth 100000 in
def bX12_find1_70 (G : xG) (fr lo : Nat) (x0 : Nat) (x1 : Int32) (x3 : Int32) (h : xH) (Q : Outcome → xH → Prop) : Prop := tg h x0 = 13 ∧ tg h (fR h x0 3103) = 100 ∧ vp_in x1 (ln h (fR h x0 3103)) ∧ lX12_find1_78 G fr lo x0 x3 (aI h (fR h x0 3103) (Int32.toNatClampNeg x1)) h Q
set_option maxRecDepth 100000 in
theorem uX12_find1_70 {G : xG} {fr lo : Nat} {x0 : Nat} {x1 : Int32} {x3 : Int32} {h : xH} {Q : Outcome → xH → Prop} (hq : bX12_find1_70 G fr lo x0 x1 x3 h Q) : xP G YX12_find1 fr lo 70 [(0, rv x0), (1, .int x1), (3, .int x3)] [] h Q := by
  unfold bX12_find1_70 at hq
  refine x_aload_n 0 dX12_find1_70 rfl ?_
  obtain ⟨g1, hq⟩ := hq
  refine x_get (v := rv (fR h x0 3103)) fdX12_73 dX12_find1_71 g1 rfl ?_
  refine x_iload_n 1 dX12_find1_74 rfl ?_
  obtain ⟨g2, hq⟩ := hq
  obtain ⟨i3, hq⟩ := hq
  refine x_iald 0 (Or.inl rfl) g2 i3 dX12_find1_75 ?_
  refine x_istore (lv' := [(4, .int (aI h (fR h x0 3103) (Int32.toNatClampNeg x1))), (0, rv x0), (1, .int x1), (3, .int x3)]) dX12_find1_76 (by decide) rfl ?_
  refine xP.pick (lv' := [(0, rv x0), (3, .int x3), (4, .int (aI h (fR h x0 3103) (Int32.toNatClampNeg x1)))]) [1, 3, 0] rfl ?_
  exact hq
set_option maxRecDepth 100000 in
def bX12_find1 (G : xG) (fr lo : Nat) (x0 : Nat) (x1 : Int32) (h : xH) (Q : Outcome → xH → Prop) : Prop := tg h x0 = 13 ∧ tg h (fR h x0 3114) = 109 ∧ vp_in x1 (ln h (fR h x0 3114)) ∧ tg h (aR h (fR h x0 3114) (Int32.toNatClampNeg x1)) = 24 ∧ ((¬ (fI h (aR h (fR h x0 3114) (Int32.toNatClampNeg x1)) 5888) = 4 → 1 ≤ fr ∧ 14 ≤ lo ∧ xRi G YX12_addressOf (fr - 1) (lo - 14) [rv x0, rv (aR h (fR h x0 3114) (Int32.toNatClampNeg x1))] h (fun x9 h8 => xext h h8 → bX12_find1_70 G fr lo x0 x1 x9 h8 Q) (fun r h2 => Q (.threw r) h2)) ∧ ((fI h (aR h (fR h x0 3114) (Int32.toNatClampNeg x1)) 5888) = 4 → tg h (fR h x0 3107) = 100 ∧ vp_in x1 (ln h (fR h x0 3107)) ∧ tg h (fR h x0 3162) = 100 ∧ vp_in ((41 * (fI h x0 3163)) + (aI h (fR h x0 3107) (Int32.toNatClampNeg x1))) (ln h (fR h x0 3162)) ∧ tg h (fR h x0 3102) = 100 ∧ vp_in x1 (ln h (fR h x0 3102)) ∧ 1 ≤ fr ∧ 18 ≤ lo ∧ xRv G YX12_activate (fr - 1) (lo - 18) [rv x0, rv (fR h (aR h (fR h x0 3114) (Int32.toNatClampNeg x1)) 5900), .int (fI h (aR h (fR h x0 3114) (Int32.toNatClampNeg x1)) 5902), .int (aI h (fR h x0 3162) (Int32.toNatClampNeg ((41 * (fI h x0 3163)) + (aI h (fR h x0 3107) (Int32.toNatClampNeg x1))))), .int (aI h (fR h x0 3102) (Int32.toNatClampNeg x1))] h (fun h19 => xext h h19 → bX12_find1_70 G fr lo x0 x1 ((aI h (fR h x0 3162) (Int32.toNatClampNeg ((41 * (fI h x0 3163)) + (aI h (fR h x0 3107) (Int32.toNatClampNeg x1))))) + (fI h19 (aR h (fR h x0 3114) (Int32.toNatClampNeg x1)) 5894)) h19 Q) (fun r h2 => Q (.threw r) h2)))
set_option maxRecDepth 100000 in
theorem uX12_find1 {G : xG} {fr lo : Nat} {x0 : Nat} {x1 : Int32} {h : xH} {Q : Outcome → xH → Prop} (hq : bX12_find1 G fr lo x0 x1 h Q) : xP G YX12_find1 fr lo 0 [(0, rv x0), (1, .int x1)] [] h Q := by
  unfold bX12_find1 at hq
  refine x_aload_n 0 dX12_find1_0 rfl ?_
  obtain ⟨g1, hq⟩ := hq
  refine x_get (v := rv (fR h x0 3114)) fdX12_102 dX12_find1_1 g1 rfl ?_
  refine x_iload_n 1 dX12_find1_4 rfl ?_
  obtain ⟨g2, hq⟩ := hq
  obtain ⟨i3, hq⟩ := hq
  refine x_aald 9 rfl g2 (by decide) i3 dX12_find1_5 ?_
  refine x_astore_n (lv' := [(2, rv (aR h (fR h x0 3114) (Int32.toNatClampNeg x1))), (0, rv x0), (1, .int x1)]) dX12_find1_6 (by decide) rfl ?_
  refine x_aload_n 0 dX12_find1_7 rfl ?_
  obtain ⟨g4, hq⟩ := hq
  refine x_get (v := .int (fI h (aR h (fR h x0 3114) (Int32.toNatClampNeg x1)) 5888)) fdX12_577 dX12_find1_8 g4 rfl ?_
  refine x_iconst (v := 4) dX12_find1_11 (by decide) ?_
  refine x_icmp_ne (tgt := 64) dX12_find1_12 (by decide) (fun c5 => ?_) (fun c5 => ?_)
  · replace hq := hq.1 c5
    refine x_aload_n 1 dX12_find1_64 rfl ?_
    refine x_aload_n 0 dX12_find1_65 rfl ?_
    obtain ⟨g6, g7, hq⟩ := hq
    refine x_callV (Yc := YX12_addressOf) (as := [rv (aR h (fR h x0 3114) (Int32.toNatClampNeg x1))]) (st := []) q4506 mvX12_addressOf g1 rfl dX12_find1_66 (xle (xal1 (rv_cat _) (xal1 (rv_cat _) xal0)) (by decide)) (xfr g6) (xlo xsw0 (by decide) g7) (xKi hq (fun x9 h8 hq e10 => ?_) (fun _ _ q _ => q))
    replace hq := hq e10
    refine x_istore_n (lv' := [(3, .int x9), (2, rv (aR h (fR h x0 3114) (Int32.toNatClampNeg x1))), (0, rv x0), (1, .int x1)]) dX12_find1_69 (by decide) (by first | rfl | (simp [rv_cat, Value.category]; done) | (simp [rv_cat, Value.category]; decide)) ?_
    refine xP.pick (lv' := [(0, rv x0), (1, .int x1), (3, .int x9)]) [2, 3, 0] rfl ?_
    exact uX12_find1_70 hq
  · replace hq := hq.2 c5
    refine x_aload_n 1 dX12_find1_15 rfl ?_
    refine x_get (v := rv (fR h x0 3162)) fdX12_191 dX12_find1_16 g1 rfl ?_
    refine x_bipush (v := 41) dX12_find1_19 (by decide) ?_
    refine x_aload_n 1 dX12_find1_21 rfl ?_
    refine x_get (v := .int (fI h x0 3163)) fdX12_1130 dX12_find1_22 g1 rfl ?_
    refine x_imul dX12_find1_25 ?_
    refine x_aload_n 1 dX12_find1_26 rfl ?_
    refine x_get (v := rv (fR h x0 3107)) fdX12_85 dX12_find1_27 g1 rfl ?_
    refine x_iload_n 2 dX12_find1_30 rfl ?_
    obtain ⟨g11, hq⟩ := hq
    obtain ⟨i12, hq⟩ := hq
    refine x_iald 0 (Or.inl rfl) g11 i12 dX12_find1_31 ?_
    refine x_iadd dX12_find1_32 ?_
    obtain ⟨g13, hq⟩ := hq
    obtain ⟨i14, hq⟩ := hq
    refine x_iald 0 (Or.inl rfl) g13 i14 dX12_find1_33 ?_
    refine x_istore_n (lv' := [(3, .int (aI h (fR h x0 3162) (Int32.toNatClampNeg ((41 * (fI h x0 3163)) + (aI h (fR h x0 3107) (Int32.toNatClampNeg x1)))))), (2, rv (aR h (fR h x0 3114) (Int32.toNatClampNeg x1))), (0, rv x0), (1, .int x1)]) dX12_find1_34 (by decide) (by first | rfl | (simp [rv_cat, Value.category]; done) | (simp [rv_cat, Value.category]; decide)) ?_
    refine x_aload_n 2 dX12_find1_35 rfl ?_
    refine x_aload_n 1 dX12_find1_36 rfl ?_
    refine x_get (v := rv (fR h (aR h (fR h x0 3114) (Int32.toNatClampNeg x1)) 5900)) fdX12_893 dX12_find1_37 g4 rfl ?_
    refine x_aload_n 1 dX12_find1_40 rfl ?_
    refine x_get (v := .int (fI h (aR h (fR h x0 3114) (Int32.toNatClampNeg x1)) 5902)) fdX12_897 dX12_find1_41 g4 rfl ?_
    refine x_iload_n 0 dX12_find1_44 rfl ?_
    refine x_aload_n 2 dX12_find1_45 rfl ?_
    refine x_get (v := rv (fR h x0 3102)) fdX12_70 dX12_find1_46 g1 rfl ?_
    refine x_iload_n 3 dX12_find1_49 rfl ?_
    obtain ⟨g15, hq⟩ := hq
    obtain ⟨i16, hq⟩ := hq
    refine x_iald 0 (Or.inl rfl) g15 i16 dX12_find1_50 ?_
    obtain ⟨g17, g18, hq⟩ := hq
    refine x_callV (Yc := YX12_activate) (as := [rv (fR h (aR h (fR h x0 3114) (Int32.toNatClampNeg x1)) 5900), .int (fI h (aR h (fR h x0 3114) (Int32.toNatClampNeg x1)) 5902), .int (aI h (fR h x0 3162) (Int32.toNatClampNeg ((41 * (fI h x0 3163)) + (aI h (fR h x0 3107) (Int32.toNatClampNeg x1))))), .int (aI h (fR h x0 3102) (Int32.toNatClampNeg x1))]) (st := []) q4619 mvX12_activate g1 rfl dX12_find1_51 (xle (xal1 (rv_cat _) (xal1 (rv_cat _) (xal1 rfl (xal1 rfl (xal1 rfl xal0))))) (by decide)) (xfr g17) (xlo xsw0 (by decide) g18) (xKv hq (fun h19 hq e21 => ?_) (fun _ _ q _ => q))
    replace hq := hq e21
    refine x_iload_n 0 dX12_find1_54 rfl ?_
    refine x_aload_n 1 dX12_find1_55 rfl ?_
    have t22 : tg h19 (aR h (fR h x0 3114) (Int32.toNatClampNeg x1)) = 24 := e21.tg g4 (by decide)
    refine x_get (v := .int (fI h19 (aR h (fR h x0 3114) (Int32.toNatClampNeg x1)) 5894)) fdX12_713 dX12_find1_56 t22 rfl ?_
    refine x_iadd dX12_find1_59 ?_
    refine x_istore_n (lv' := [(3, .int ((aI h (fR h x0 3162) (Int32.toNatClampNeg ((41 * (fI h x0 3163)) + (aI h (fR h x0 3107) (Int32.toNatClampNeg x1))))) + (fI h19 (aR h (fR h x0 3114) (Int32.toNatClampNeg x1)) 5894))), (2, rv (aR h (fR h x0 3114) (Int32.toNatClampNeg x1))), (0, rv x0), (1, .int x1)]) dX12_find1_60 (by decide) (by first | rfl | (simp [rv_cat, Value.category]; done) | (simp [rv_cat, Value.category]; decide)) ?_
    refine x_goto (tgt := 70) dX12_find1_61 (by decide) ?_
    refine xP.pick (lv' := [(0, rv x0), (1, .int x1), (3, .int ((aI h (fR h x0 3162) (Int32.toNatClampNeg ((41 * (fI h x0 3163)) + (aI h (fR h x0 3107) (Int32.toNatClampNeg x1))))) + (fI h19 (aR h (fR h x0 3114) (Int32.toNatClampNeg x1)) 5894)))]) [2, 3, 0] rfl ?_
    exact uX12_find1_70 hq
theorem rX12_find1 {G : xG} {fr lo : Nat} {x0 : Nat} {x1 : Int32} {h : xH} {Q : Outcome → xH → Prop} (hq : bX12_find1 G fr lo x0 x1 h Q) : xR G YX12_find1 fr lo [rv x0, .int x1] h Q := by
  show xP _ _ _ _ _ (lv_args 0 _) _ _ _
  rw [show lv_args 0 [rv x0, .int x1] = [(0, rv x0), (1, .int x1)] from (xla1 (rv_cat _) (xla1 rfl xla0))]
  exact uX12_find1 hq
set_option maxRecDepth 100000 in
theorem dX12_activate_0 : decode cX12_activate 0 = .ok (.aload_n 1, 1) := by decide +kernel
set_option maxRecDepth 100000 in
theorem dX12_activate_1 : decode cX12_activate 1 = .ok (.ifnonnull 4, 3) := by decide +kernel
set_option maxRecDepth 100000 in
theorem dX12_activate_4 : decode cX12_activate 4 = .ok (.return_, 1) := by decide +kernel
set_option maxRecDepth 100000 in
theorem dX12_activate_5 : decode cX12_activate 5 = .ok (.aload_n 0, 1) := by decide +kernel
set_option maxRecDepth 100000 in
theorem dX12_activate_6 : decode cX12_activate 6 = .ok (.aload_n 1, 1) := by decide +kernel
set_option maxRecDepth 100000 in
theorem dX12_activate_7 : decode cX12_activate 7 = .ok (.getfield 1213, 3) := by decide +kernel
set_option maxRecDepth 100000 in
theorem dX12_activate_10 : decode cX12_activate 10 = .ok (.aload_n 1, 1) := by decide +kernel
set_option maxRecDepth 100000 in
theorem dX12_activate_11 : decode cX12_activate 11 = .ok (.getfield 1216, 3) := by decide +kernel
set_option maxRecDepth 100000 in
theorem dX12_activate_14 : decode cX12_activate 14 = .ok (.iload_n 3, 1) := by decide +kernel
set_option maxRecDepth 100000 in
theorem dX12_activate_15 : decode cX12_activate 15 = .ok (.iload 4, 2) := by decide +kernel
set_option maxRecDepth 100000 in
theorem dX12_activate_17 : decode cX12_activate 17 = .ok (.invokevirtual 1219, 3) := by decide +kernel
set_option maxRecDepth 100000 in
theorem dX12_activate_20 : decode cX12_activate 20 = .ok (.aload_n 0, 1) := by decide +kernel
set_option maxRecDepth 100000 in
theorem dX12_activate_21 : decode cX12_activate 21 = .ok (.getfield 1121, 3) := by decide +kernel
set_option maxRecDepth 100000 in
theorem dX12_activate_24 : decode cX12_activate 24 = .ok (.ifCond .eq 4, 3) := by decide +kernel
set_option maxRecDepth 100000 in
theorem dX12_activate_27 : decode cX12_activate 27 = .ok (.return_, 1) := by decide +kernel
set_option maxRecDepth 100000 in
theorem dX12_activate_28 : decode cX12_activate 28 = .ok (.iload_n 3, 1) := by decide +kernel
set_option maxRecDepth 100000 in
theorem dX12_activate_29 : decode cX12_activate 29 = .ok (.aload_n 1, 1) := by decide +kernel
set_option maxRecDepth 100000 in
theorem dX12_activate_30 : decode cX12_activate 30 = .ok (.getfield 905, 3) := by decide +kernel
set_option maxRecDepth 100000 in
theorem dX12_activate_33 : decode cX12_activate 33 = .ok (.iadd, 1) := by decide +kernel
set_option maxRecDepth 100000 in
theorem dX12_activate_34 : decode cX12_activate 34 = .ok (.istore 5, 2) := by decide +kernel
set_option maxRecDepth 100000 in
theorem dX12_activate_36 : decode cX12_activate 36 = .ok (.aload_n 1, 1) := by decide +kernel
set_option maxRecDepth 100000 in
theorem dX12_activate_37 : decode cX12_activate 37 = .ok (.getfield 908, 3) := by decide +kernel
set_option maxRecDepth 100000 in
theorem dX12_activate_40 : decode cX12_activate 40 = .ok (.ifCond .eq 50, 3) := by decide +kernel
set_option maxRecDepth 100000 in
theorem dX12_activate_43 : decode cX12_activate 43 = .ok (.aload_n 0, 1) := by decide +kernel
set_option maxRecDepth 100000 in
theorem dX12_activate_44 : decode cX12_activate 44 = .ok (.getfield 169, 3) := by decide +kernel
set_option maxRecDepth 100000 in
theorem dX12_activate_47 : decode cX12_activate 47 = .ok (.iload 5, 2) := by decide +kernel
set_option maxRecDepth 100000 in
theorem dX12_activate_49 : decode cX12_activate 49 = .ok (.baload, 1) := by decide +kernel
set_option maxRecDepth 100000 in
theorem dX12_activate_50 : decode cX12_activate 50 = .ok (.ifCond .ne 13, 3) := by decide +kernel
set_option maxRecDepth 100000 in
theorem dX12_activate_53 : decode cX12_activate 53 = .ok (.aload_n 0, 1) := by decide +kernel
set_option maxRecDepth 100000 in
theorem dX12_activate_54 : decode cX12_activate 54 = .ok (.iconst 5, 1) := by decide +kernel
set_option maxRecDepth 100000 in
theorem dX12_activate_55 : decode cX12_activate 55 = .ok (.iload 4, 2) := by decide +kernel
set_option maxRecDepth 100000 in
theorem dX12_activate_57 : decode cX12_activate 57 = .ok (.invokevirtual 1142, 3) := by decide +kernel
set_option maxRecDepth 100000 in
theorem dX12_activate_60 : decode cX12_activate 60 = .ok (.goto 138, 3) := by decide +kernel
set_option maxRecDepth 100000 in
theorem dX12_activate_63 : decode cX12_activate 63 = .ok (.aload_n 1, 1) := by decide +kernel
set_option maxRecDepth 100000 in
theorem dX12_activate_64 : decode cX12_activate 64 = .ok (.aload_n 0, 1) := by decide +kernel
set_option maxRecDepth 100000 in
theorem dX12_activate_65 : decode cX12_activate 65 = .ok (.getfield 159, 3) := by decide +kernel
set_option maxRecDepth 100000 in
theorem dX12_activate_68 : decode cX12_activate 68 = .ok (.iload 5, 2) := by decide +kernel
set_option maxRecDepth 100000 in
theorem dX12_activate_70 : decode cX12_activate 70 = .ok (.laload, 1) := by decide +kernel
set_option maxRecDepth 100000 in
theorem dX12_activate_71 : decode cX12_activate 71 = .ok (.l2i, 1) := by decide +kernel
set_option maxRecDepth 100000 in
theorem dX12_activate_72 : decode cX12_activate 72 = .ok (.invokevirtual 917, 3) := by decide +kernel
set_option maxRecDepth 100000 in
theorem dX12_activate_75 : decode cX12_activate 75 = .ok (.iload_n 2, 1) := by decide +kernel
set_option maxRecDepth 100000 in
theorem dX12_activate_76 : decode cX12_activate 76 = .ok (.if_icmp .eq 122, 3) := by decide +kernel
set_option maxRecDepth 100000 in
theorem dX12_activate_79 : decode cX12_activate 79 = .ok (.aload_n 0, 1) := by decide +kernel
set_option maxRecDepth 100000 in
theorem dX12_activate_80 : decode cX12_activate 80 = .ok (.bipush 6, 2) := by decide +kernel
set_option maxRecDepth 100000 in
theorem dX12_activate_82 : decode cX12_activate 82 = .ok (.iload 4, 2) := by decide +kernel
set_option maxRecDepth 100000 in
theorem dX12_activate_84 : decode cX12_activate 84 = .ok (.invokevirtual 1142, 3) := by decide +kernel
set_option maxRecDepth 100000 in
theorem dX12_activate_87 : decode cX12_activate 87 = .ok (.goto 111, 3) := by decide +kernel
set_option maxRecDepth 100000 in
theorem dX12_activate_90 : decode cX12_activate 90 = .ok (.aload_n 0, 1) := by decide +kernel
set_option maxRecDepth 100000 in
theorem dX12_activate_91 : decode cX12_activate 91 = .ok (.getfield 169, 3) := by decide +kernel
set_option maxRecDepth 100000 in
theorem dX12_activate_94 : decode cX12_activate 94 = .ok (.iload 5, 2) := by decide +kernel
set_option maxRecDepth 100000 in
theorem dX12_activate_96 : decode cX12_activate 96 = .ok (.baload, 1) := by decide +kernel
set_option maxRecDepth 100000 in
theorem dX12_activate_97 : decode cX12_activate 97 = .ok (.ifCond .eq 18, 3) := by decide +kernel
set_option maxRecDepth 100000 in
theorem dX12_activate_100 : decode cX12_activate 100 = .ok (.aload_n 0, 1) := by decide +kernel
set_option maxRecDepth 100000 in
theorem dX12_activate_101 : decode cX12_activate 101 = .ok (.getfield 159, 3) := by decide +kernel
set_option maxRecDepth 100000 in
theorem dX12_activate_104 : decode cX12_activate 104 = .ok (.iload 5, 2) := by decide +kernel
set_option maxRecDepth 100000 in
theorem dX12_activate_106 : decode cX12_activate 106 = .ok (.laload, 1) := by decide +kernel
set_option maxRecDepth 100000 in
theorem dX12_activate_107 : decode cX12_activate 107 = .ok (.iload_n 2, 1) := by decide +kernel
set_option maxRecDepth 100000 in
theorem dX12_activate_108 : decode cX12_activate 108 = .ok (.i2l, 1) := by decide +kernel
set_option maxRecDepth 100000 in
theorem dX12_activate_109 : decode cX12_activate 109 = .ok (.lconst 1, 1) := by decide +kernel
set_option maxRecDepth 100000 in
theorem dX12_activate_110 : decode cX12_activate 110 = .ok (.ladd, 1) := by decide +kernel
set_option maxRecDepth 100000 in
theorem dX12_activate_111 : decode cX12_activate 111 = .ok (.lcmp, 1) := by decide +kernel
set_option maxRecDepth 100000 in
theorem dX12_activate_112 : decode cX12_activate 112 = .ok (.ifCond .eq 86, 3) := by decide +kernel
set_option maxRecDepth 100000 in
theorem dX12_activate_115 : decode cX12_activate 115 = .ok (.aload_n 1, 1) := by decide +kernel
set_option maxRecDepth 100000 in
theorem dX12_activate_116 : decode cX12_activate 116 = .ok (.getfield 921, 3) := by decide +kernel
set_option maxRecDepth 100000 in
theorem dX12_activate_119 : decode cX12_activate 119 = .ok (.aload_n 1, 1) := by decide +kernel
set_option maxRecDepth 100000 in
theorem dX12_activate_120 : decode cX12_activate 120 = .ok (.getfield 914, 3) := by decide +kernel
set_option maxRecDepth 100000 in
theorem dX12_activate_123 : decode cX12_activate 123 = .ok (.isub, 1) := by decide +kernel
set_option maxRecDepth 100000 in
theorem dX12_activate_124 : decode cX12_activate 124 = .ok (.bipush 8, 2) := by decide +kernel
set_option maxRecDepth 100000 in
theorem dX12_activate_126 : decode cX12_activate 126 = .ok (.idiv, 1) := by decide +kernel
set_option maxRecDepth 100000 in
theorem dX12_activate_127 : decode cX12_activate 127 = .ok (.istore 6, 2) := by decide +kernel
set_option maxRecDepth 100000 in
theorem dX12_activate_129 : decode cX12_activate 129 = .ok (.iload 6, 2) := by decide +kernel
set_option maxRecDepth 100000 in
theorem dX12_activate_131 : decode cX12_activate 131 = .ok (.aload_n 0, 1) := by decide +kernel
set_option maxRecDepth 100000 in
theorem dX12_activate_132 : decode cX12_activate 132 = .ok (.getfield 1223, 3) := by decide +kernel
set_option maxRecDepth 100000 in
theorem dX12_activate_135 : decode cX12_activate 135 = .ok (.aload_n 0, 1) := by decide +kernel
set_option maxRecDepth 100000 in
theorem dX12_activate_136 : decode cX12_activate 136 = .ok (.getfield 1226, 3) := by decide +kernel
set_option maxRecDepth 100000 in
theorem dX12_activate_139 : decode cX12_activate 139 = .ok (.isub, 1) := by decide +kernel
set_option maxRecDepth 100000 in
theorem dX12_activate_140 : decode cX12_activate 140 = .ok (.if_icmp .le 12, 3) := by decide +kernel
set_option maxRecDepth 100000 in
theorem dX12_activate_143 : decode cX12_activate 143 = .ok (.aload_n 0, 1) := by decide +kernel
set_option maxRecDepth 100000 in
theorem dX12_activate_144 : decode cX12_activate 144 = .ok (.bipush 15, 2) := by decide +kernel
set_option maxRecDepth 100000 in
theorem dX12_activate_146 : decode cX12_activate 146 = .ok (.iload 4, 2) := by decide +kernel
set_option maxRecDepth 100000 in
theorem dX12_activate_148 : decode cX12_activate 148 = .ok (.invokevirtual 1142, 3) := by decide +kernel
set_option maxRecDepth 100000 in
theorem dX12_activate_151 : decode cX12_activate 151 = .ok (.return_, 1) := by decide +kernel
set_option maxRecDepth 100000 in
theorem dX12_activate_152 : decode cX12_activate 152 = .ok (.aload_n 0, 1) := by decide +kernel
set_option maxRecDepth 100000 in
theorem dX12_activate_153 : decode cX12_activate 153 = .ok (.dup, 1) := by decide +kernel
set_option maxRecDepth 100000 in
theorem dX12_activate_154 : decode cX12_activate 154 = .ok (.getfield 1226, 3) := by decide +kernel
set_option maxRecDepth 100000 in
theorem dX12_activate_157 : decode cX12_activate 157 = .ok (.iload 6, 2) := by decide +kernel
set_option maxRecDepth 100000 in
theorem dX12_activate_159 : decode cX12_activate 159 = .ok (.iadd, 1) := by decide +kernel
set_option maxRecDepth 100000 in
theorem dX12_activate_160 : decode cX12_activate 160 = .ok (.putfield 1226, 3) := by decide +kernel
set_option maxRecDepth 100000 in
theorem dX12_activate_163 : decode cX12_activate 163 = .ok (.aload_n 0, 1) := by decide +kernel
set_option maxRecDepth 100000 in
theorem dX12_activate_164 : decode cX12_activate 164 = .ok (.getfield 169, 3) := by decide +kernel
set_option maxRecDepth 100000 in
theorem dX12_activate_167 : decode cX12_activate 167 = .ok (.iload 5, 2) := by decide +kernel
set_option maxRecDepth 100000 in
theorem dX12_activate_169 : decode cX12_activate 169 = .ok (.iconst 1, 1) := by decide +kernel
set_option maxRecDepth 100000 in
theorem dX12_activate_170 : decode cX12_activate 170 = .ok (.bastore, 1) := by decide +kernel
set_option maxRecDepth 100000 in
theorem dX12_activate_171 : decode cX12_activate 171 = .ok (.aload_n 0, 1) := by decide +kernel
set_option maxRecDepth 100000 in
theorem dX12_activate_172 : decode cX12_activate 172 = .ok (.getfield 159, 3) := by decide +kernel
set_option maxRecDepth 100000 in
theorem dX12_activate_175 : decode cX12_activate 175 = .ok (.iload 5, 2) := by decide +kernel
set_option maxRecDepth 100000 in
theorem dX12_activate_177 : decode cX12_activate 177 = .ok (.iload_n 2, 1) := by decide +kernel
set_option maxRecDepth 100000 in
theorem dX12_activate_178 : decode cX12_activate 178 = .ok (.i2l, 1) := by decide +kernel
set_option maxRecDepth 100000 in
theorem dX12_activate_179 : decode cX12_activate 179 = .ok (.lconst 1, 1) := by decide +kernel
set_option maxRecDepth 100000 in
theorem dX12_activate_180 : decode cX12_activate 180 = .ok (.ladd, 1) := by decide +kernel
set_option maxRecDepth 100000 in
theorem dX12_activate_181 : decode cX12_activate 181 = .ok (.lastore, 1) := by decide +kernel
set_option maxRecDepth 100000 in
theorem dX12_activate_182 : decode cX12_activate 182 = .ok (.aload_n 0, 1) := by decide +kernel
set_option maxRecDepth 100000 in
theorem dX12_activate_183 : decode cX12_activate 183 = .ok (.iload_n 3, 1) := by decide +kernel
set_option maxRecDepth 100000 in
theorem dX12_activate_184 : decode cX12_activate 184 = .ok (.aload_n 1, 1) := by decide +kernel
set_option maxRecDepth 100000 in
theorem dX12_activate_185 : decode cX12_activate 185 = .ok (.getfield 914, 3) := by decide +kernel
set_option maxRecDepth 100000 in
theorem dX12_activate_188 : decode cX12_activate 188 = .ok (.iadd, 1) := by decide +kernel
set_option maxRecDepth 100000 in
theorem dX12_activate_189 : decode cX12_activate 189 = .ok (.iload_n 3, 1) := by decide +kernel
set_option maxRecDepth 100000 in
theorem dX12_activate_190 : decode cX12_activate 190 = .ok (.aload_n 1, 1) := by decide +kernel
set_option maxRecDepth 100000 in
theorem dX12_activate_191 : decode cX12_activate 191 = .ok (.getfield 921, 3) := by decide +kernel
set_option maxRecDepth 100000 in
theorem dX12_activate_194 : decode cX12_activate 194 = .ok (.iadd, 1) := by decide +kernel
set_option maxRecDepth 100000 in
theorem dX12_activate_195 : decode cX12_activate 195 = .ok (.invokevirtual 1178, 3) := by decide +kernel
set_option maxRecDepth 100000 in
theorem dX12_activate_198 : decode cX12_activate 198 = .ok (.return_, 1) := by decide +kernel
set_option maxRecDepth 100000 in
def bX12_activate_198 (G : xG) (fr lo : Nat) (h : xH) (Q : Outcome → xH → Prop) : Prop := Q (.returned none) h
set_option maxRecDepth 100000 in
theorem uX12_activate_198 {G : xG} {fr lo : Nat} {h : xH} {Q : Outcome → xH → Prop} (hq : bX12_activate_198 G fr lo h Q) : xP G YX12_activate fr lo 198 [] [] h Q := by
  unfold bX12_activate_198 at hq
  exact x_vret rfl dX12_activate_198 hq
set_option maxRecDepth 100000 in
def bX12_activate_115 (G : xG) (fr lo : Nat) (x0 : Nat) (x1 : Nat) (x2 : Int32) (x3 : Int32) (x4 : Int32) (x5 : Int32) (h : xH) (Q : Outcome → xH → Prop) : Prop := tg h x1 = 27 ∧ tg h x0 = 13 ∧ (((((fI h x1 6661) - (fI h x1 6660)) / 8) ≤ ((fI h x0 3175) - (fI h x0 3176)) → (∀ h4 : xH, h4 = sI h x0 3176 ((fI h x0 3176) + (((fI h x1 6661) - (fI h x1 6660)) / 8)) → tg h4 (fR h4 x0 3150) = 104 ∧ vp_in x5 (ln h4 (fR h4 x0 3150)) ∧ (∀ h9 : xH, h9 = tI h4 (fR h4 x0 3150) (Int32.toNatClampNeg x5) (vp_nar .boolean 1) → tg h9 (fR h9 x0 3147) = 101 ∧ vp_in x5 (ln h9 (fR h9 x0 3147)) ∧ (∀ h14 : xH, h14 = tJ h9 (fR h9 x0 3147) (Int32.toNatClampNeg x5) ((Int32.toInt64 x2) + 1) → 1 ≤ fr ∧ 15 ≤ lo ∧ xRv G YX12_blank (fr - 1) (lo - 15) [rv x0, .int (x3 + (fI h14 x1 6660)), .int (x3 + (fI h14 x1 6661))] h14 (fun h22 => xext h14 h22 → bX12_activate_198 G fr lo h22 Q) (fun r h2 => Q (.threw r) h2))))) ∧ (¬ (((fI h x1 6661) - (fI h x1 6660)) / 8) ≤ ((fI h x0 3175) - (fI h x0 3176)) → 1 ≤ fr ∧ 14 ≤ lo ∧ xRv G YX12_error (fr - 1) (lo - 14) [rv x0, .int 15, .int x4] h (fun h27 => xext h h27 → Q (.returned none) h27) (fun r h2 => Q (.threw r) h2)))
set_option maxRecDepth 100000 in
theorem uX12_activate_115 {G : xG} {fr lo : Nat} {x0 : Nat} {x1 : Nat} {x2 : Int32} {x3 : Int32} {x4 : Int32} {x5 : Int32} {h : xH} {Q : Outcome → xH → Prop} (hq : bX12_activate_115 G fr lo x0 x1 x2 x3 x4 x5 h Q) : xP G YX12_activate fr lo 115 [(0, rv x0), (1, rv x1), (2, .int x2), (3, .int x3), (4, .int x4), (5, .int x5)] [] h Q := by
  unfold bX12_activate_115 at hq
  refine x_aload_n 1 dX12_activate_115 rfl ?_
  obtain ⟨g1, hq⟩ := hq
  refine x_get (v := .int (fI h x1 6661)) fdX12_921 dX12_activate_116 g1 rfl ?_
  refine x_aload_n 1 dX12_activate_119 rfl ?_
  refine x_get (v := .int (fI h x1 6660)) fdX12_914 dX12_activate_120 g1 rfl ?_
  refine x_isub dX12_activate_123 ?_
  refine x_bipush (v := 8) dX12_activate_124 (by decide) ?_
  refine x_idiv dX12_activate_126 (by decide) ?_
  refine x_istore (lv' := [(6, .int (((fI h x1 6661) - (fI h x1 6660)) / 8)), (0, rv x0), (1, rv x1), (2, .int x2), (3, .int x3), (4, .int x4), (5, .int x5)]) dX12_activate_127 (by decide) rfl ?_
  refine x_iload 0 dX12_activate_129 rfl ?_
  refine x_aload_n 1 dX12_activate_131 rfl ?_
  obtain ⟨g2, hq⟩ := hq
  refine x_get (v := .int (fI h x0 3175)) fdX12_1223 dX12_activate_132 g2 rfl ?_
  refine x_aload_n 1 dX12_activate_135 rfl ?_
  refine x_get (v := .int (fI h x0 3176)) fdX12_1226 dX12_activate_136 g2 rfl ?_
  refine x_isub dX12_activate_139 ?_
  refine x_icmp_le (tgt := 152) dX12_activate_140 (by decide) (fun c3 => ?_) (fun c3 => ?_)
  · replace hq := hq.1 c3
    refine x_aload_n 1 dX12_activate_152 rfl ?_
    refine x_dup dX12_activate_153 (rv_cat _) ?_
    refine x_get (v := .int (fI h x0 3176)) fdX12_1226 dX12_activate_154 g2 rfl ?_
    refine x_iload 0 dX12_activate_157 rfl ?_
    refine x_iadd dX12_activate_159 ?_
    obtain ⟨h4, e5⟩ : ∃ y, y = sI h x0 3176 ((fI h x0 3176) + (((fI h x1 6661) - (fI h x1 6660)) / 8)) := ⟨_, rfl⟩
    replace hq := hq h4 e5
    refine x_putI fdX12_1226 xty_I1 dX12_activate_160 g2 (Or.inl (by rw [g2]; rfl)) xnI rfl e5 ?_
    refine x_aload_n 1 dX12_activate_163 rfl ?_
    have t6 : tg h4 x0 = 13 := by rw [e5]; exact g2
    refine x_get (v := rv (fR h4 x0 3150)) fdX12_169 dX12_activate_164 t6 rfl ?_
    refine x_iload 6 dX12_activate_167 rfl ?_
    refine x_iconst (v := 1) dX12_activate_169 (by decide) ?_
    obtain ⟨g7, hq⟩ := hq
    obtain ⟨i8, hq⟩ := hq
    obtain ⟨h9, e10⟩ : ∃ y, y = tI h4 (fR h4 x0 3150) (Int32.toNatClampNeg x5) (vp_nar .boolean 1) := ⟨_, rfl⟩
    replace hq := hq h9 e10
    refine x_zast' g7 i8 dX12_activate_170 e10 ?_
    refine x_aload_n 1 dX12_activate_171 rfl ?_
    have t11 : tg h9 x0 = 13 := by rw [e10]; exact t6
    refine x_get (v := rv (fR h9 x0 3147)) fdX12_159 dX12_activate_172 t11 rfl ?_
    refine x_iload 6 dX12_activate_175 rfl ?_
    refine x_iload_n 3 dX12_activate_177 rfl ?_
    refine x_i2l dX12_activate_178 ?_
    refine x_lconst (v := 1) dX12_activate_179 (by decide) ?_
    refine x_ladd dX12_activate_180 ?_
    obtain ⟨g12, hq⟩ := hq
    obtain ⟨i13, hq⟩ := hq
    obtain ⟨h14, e15⟩ : ∃ y, y = tJ h9 (fR h9 x0 3147) (Int32.toNatClampNeg x5) ((Int32.toInt64 x2) + 1) := ⟨_, rfl⟩
    replace hq := hq h14 e15
    refine x_last' g12 i13 dX12_activate_181 e15 ?_
    refine x_aload_n 1 dX12_activate_182 rfl ?_
    refine x_iload_n 4 dX12_activate_183 rfl ?_
    refine x_aload_n 2 dX12_activate_184 rfl ?_
    have t16 : tg h4 x1 = 27 := by rw [e5]; exact g1
    have t17 : tg h9 x1 = 27 := by rw [e10]; exact t16
    have t18 : tg h14 x1 = 27 := by rw [e15]; exact t17
    refine x_get (v := .int (fI h14 x1 6660)) fdX12_914 dX12_activate_185 t18 rfl ?_
    refine x_iadd dX12_activate_188 ?_
    refine x_iload_n 4 dX12_activate_189 rfl ?_
    refine x_aload_n 2 dX12_activate_190 rfl ?_
    refine x_get (v := .int (fI h14 x1 6661)) fdX12_921 dX12_activate_191 t18 rfl ?_
    refine x_iadd dX12_activate_194 ?_
    have t19 : tg h14 x0 = 13 := by rw [e15]; exact t11
    obtain ⟨g20, g21, hq⟩ := hq
    refine x_callV (Yc := YX12_blank) (as := [.int (x3 + (fI h14 x1 6660)), .int (x3 + (fI h14 x1 6661))]) (st := []) q4494 mvX12_blank t19 rfl dX12_activate_195 (xle (xal1 (rv_cat _) (xal1 rfl (xal1 rfl xal0))) (by decide)) (xfr g20) (xlo xsw0 (by decide) g21) (xKv hq (fun h22 hq e24 => ?_) (fun _ _ q _ => q))
    replace hq := hq e24
    refine xP.pick (lv' := []) [] rfl ?_
    exact uX12_activate_198 hq
  · replace hq := hq.2 c3
    refine x_aload_n 1 dX12_activate_143 rfl ?_
    refine x_bipush (v := 15) dX12_activate_144 (by decide) ?_
    refine x_iload 5 dX12_activate_146 rfl ?_
    obtain ⟨g25, g26, hq⟩ := hq
    refine x_callV (Yc := YX12_error) (as := [.int 15, .int x4]) (st := []) q4490 mvX12_error g2 rfl dX12_activate_148 (xle (xal1 (rv_cat _) (xal1 rfl (xal1 rfl xal0))) (by decide)) (xfr g25) (xlo xsw0 (by decide) g26) (xKv hq (fun h27 hq e29 => ?_) (fun _ _ q _ => q))
    replace hq := hq e29
    exact x_vret rfl dX12_activate_151 hq
set_option maxRecDepth 100000 in
def bX12_activate (G : xG) (fr lo : Nat) (x0 : Nat) (x1 : Nat) (x2 : Int32) (x3 : Int32) (x4 : Int32) (h : xH) (Q : Outcome → xH → Prop) : Prop := ((¬ x1 = 0 → tg h x1 = 27 ∧ tg h x0 = 13 ∧ 1 ≤ fr ∧ 18 ≤ lo ∧ xRv G YX12_activate (fr - 1) (lo - 18) [rv x0, rv (fR h x1 6656), .int (fI h x1 6657), .int x3, .int x4] h (fun h6 => xext h h6 → (((fI h6 x0 3170) = 0 → (((fI h6 x1 6658) = 0 → tg h6 (fR h6 x0 3150) = 104 ∧ vp_in (x3 + (fI h6 x1 6659)) (ln h6 (fR h6 x0 3150)) ∧ (((aI h6 (fR h6 x0 3150) (Int32.toNatClampNeg (x3 + (fI h6 x1 6659)))) = 0 → bX12_activate_115 G fr lo x0 x1 x2 x3 x4 (x3 + (fI h6 x1 6659)) h6 Q) ∧ (¬ (aI h6 (fR h6 x0 3150) (Int32.toNatClampNeg (x3 + (fI h6 x1 6659)))) = 0 → tg h6 (fR h6 x0 3147) = 101 ∧ vp_in (x3 + (fI h6 x1 6659)) (ln h6 (fR h6 x0 3147)) ∧ (((lg_cmp (aJ h6 (fR h6 x0 3147) (Int32.toNatClampNeg (x3 + (fI h6 x1 6659)))) ((Int32.toInt64 x2) + 1)) = 0 → bX12_activate_198 G fr lo h6 Q) ∧ (¬ (lg_cmp (aJ h6 (fR h6 x0 3147) (Int32.toNatClampNeg (x3 + (fI h6 x1 6659)))) ((Int32.toInt64 x2) + 1)) = 0 → bX12_activate_115 G fr lo x0 x1 x2 x3 x4 (x3 + (fI h6 x1 6659)) h6 Q))))) ∧ (¬ (fI h6 x1 6658) = 0 → tg h6 (fR h6 x0 3150) = 104 ∧ vp_in (x3 + (fI h6 x1 6659)) (ln h6 (fR h6 x0 3150)) ∧ ((¬ (aI h6 (fR h6 x0 3150) (Int32.toNatClampNeg (x3 + (fI h6 x1 6659)))) = 0 → tg h6 (fR h6 x0 3147) = 101 ∧ vp_in (x3 + (fI h6 x1 6659)) (ln h6 (fR h6 x0 3147)) ∧ 1 ≤ fr ∧ 14 ≤ lo ∧ xRi G YX26_choiceOf (fr - 1) (lo - 14) [rv x1, .int (Int64.toInt32 (aJ h6 (fR h6 x0 3147) (Int32.toNatClampNeg (x3 + (fI h6 x1 6659)))))] h6 (fun x27 h26 => xext h6 h26 → ((x27 = x2 → bX12_activate_198 G fr lo h26 Q) ∧ (¬ x27 = x2 → 1 ≤ fr ∧ 14 ≤ lo ∧ xRv G YX12_error (fr - 1) (lo - 14) [rv x0, .int 6, .int x4] h26 (fun h33 => xext h26 h33 → bX12_activate_198 G fr lo h33 Q) (fun r h2 => Q (.threw r) h2)))) (fun r h2 => Q (.threw r) h2)) ∧ ((aI h6 (fR h6 x0 3150) (Int32.toNatClampNeg (x3 + (fI h6 x1 6659)))) = 0 → 1 ≤ fr ∧ 14 ≤ lo ∧ xRv G YX12_error (fr - 1) (lo - 14) [rv x0, .int 5, .int x4] h6 (fun h38 => xext h6 h38 → bX12_activate_198 G fr lo h38 Q) (fun r h2 => Q (.threw r) h2)))))) ∧ (¬ (fI h6 x0 3170) = 0 → Q (.returned none) h6))) (fun r h2 => Q (.threw r) h2)) ∧ (x1 = 0 → Q (.returned none) h))
set_option maxRecDepth 100000 in
theorem uX12_activate {G : xG} {fr lo : Nat} {x0 : Nat} {x1 : Nat} {x2 : Int32} {x3 : Int32} {x4 : Int32} {h : xH} {Q : Outcome → xH → Prop} (hq : bX12_activate G fr lo x0 x1 x2 x3 x4 h Q) : xP G YX12_activate fr lo 0 [(0, rv x0), (1, rv x1), (2, .int x2), (3, .int x3), (4, .int x4)] [] h Q := by
  unfold bX12_activate at hq
  refine x_aload_n 1 dX12_activate_0 rfl ?_
  refine x_ifnonnull (tgt := 5) dX12_activate_1 (by decide) (fun c1 => ?_) (fun c1 => ?_)
  · replace hq := hq.1 c1
    refine x_aload_n 0 dX12_activate_5 rfl ?_
    refine x_aload_n 1 dX12_activate_6 rfl ?_
    obtain ⟨g2, hq⟩ := hq
    refine x_get (v := rv (fR h x1 6656)) fdX12_1213 dX12_activate_7 g2 rfl ?_
    refine x_aload_n 1 dX12_activate_10 rfl ?_
    refine x_get (v := .int (fI h x1 6657)) fdX12_1216 dX12_activate_11 g2 rfl ?_
    refine x_iload_n 3 dX12_activate_14 rfl ?_
    refine x_iload 4 dX12_activate_15 rfl ?_
    obtain ⟨g3, hq⟩ := hq
    obtain ⟨g4, g5, hq⟩ := hq
    refine x_callV (Yc := YX12_activate) (as := [rv (fR h x1 6656), .int (fI h x1 6657), .int x3, .int x4]) (st := []) q4619 mvX12_activate g3 rfl dX12_activate_17 (xle (xal1 (rv_cat _) (xal1 (rv_cat _) (xal1 rfl (xal1 rfl (xal1 rfl xal0))))) (by decide)) (xfr g4) (xlo xsw0 (by decide) g5) (xKv hq (fun h6 hq e8 => ?_) (fun _ _ q _ => q))
    replace hq := hq e8
    refine x_aload_n 0 dX12_activate_20 rfl ?_
    have t9 : tg h6 x0 = 13 := e8.tg g3 (by decide)
    refine x_get (v := .int (fI h6 x0 3170)) fdX12_1121 dX12_activate_21 t9 rfl ?_
    refine x_if_eq (tgt := 28) dX12_activate_24 (by decide) (fun c10 => ?_) (fun c10 => ?_)
    · replace hq := hq.1 c10
      refine x_iload_n 3 dX12_activate_28 rfl ?_
      refine x_aload_n 1 dX12_activate_29 rfl ?_
      have t11 : tg h6 x1 = 27 := e8.tg g2 (by decide)
      refine x_get (v := .int (fI h6 x1 6659)) fdX12_905 dX12_activate_30 t11 rfl ?_
      refine x_iadd dX12_activate_33 ?_
      refine x_istore (lv' := [(5, .int (x3 + (fI h6 x1 6659))), (0, rv x0), (1, rv x1), (2, .int x2), (3, .int x3), (4, .int x4)]) dX12_activate_34 (by decide) rfl ?_
      refine x_aload_n 2 dX12_activate_36 rfl ?_
      refine x_get (v := .int (fI h6 x1 6658)) fdX12_908 dX12_activate_37 t11 rfl ?_
      refine x_if_eq (tgt := 90) dX12_activate_40 (by decide) (fun c12 => ?_) (fun c12 => ?_)
      · replace hq := hq.1 c12
        refine x_aload_n 1 dX12_activate_90 rfl ?_
        refine x_get (v := rv (fR h6 x0 3150)) fdX12_169 dX12_activate_91 t9 rfl ?_
        refine x_iload 0 dX12_activate_94 rfl ?_
        obtain ⟨g13, hq⟩ := hq
        obtain ⟨i14, hq⟩ := hq
        refine x_zald g13 i14 dX12_activate_96 ?_
        refine x_if_eq (tgt := 115) dX12_activate_97 (by decide) (fun c15 => ?_) (fun c15 => ?_)
        · replace hq := hq.1 c15
          refine xP.pick (lv' := [(0, rv x0), (1, rv x1), (2, .int x2), (3, .int x3), (4, .int x4), (5, .int (x3 + (fI h6 x1 6659)))]) [1, 2, 3, 4, 5, 0] rfl ?_
          exact uX12_activate_115 hq
        · replace hq := hq.2 c15
          refine x_aload_n 1 dX12_activate_100 rfl ?_
          refine x_get (v := rv (fR h6 x0 3147)) fdX12_159 dX12_activate_101 t9 rfl ?_
          refine x_iload 0 dX12_activate_104 rfl ?_
          obtain ⟨g16, hq⟩ := hq
          obtain ⟨i17, hq⟩ := hq
          refine x_lald g16 i17 dX12_activate_106 ?_
          refine x_iload_n 3 dX12_activate_107 rfl ?_
          refine x_i2l dX12_activate_108 ?_
          refine x_lconst (v := 1) dX12_activate_109 (by decide) ?_
          refine x_ladd dX12_activate_110 ?_
          refine x_lcmp dX12_activate_111 ?_
          refine x_if_eq (tgt := 198) dX12_activate_112 (by decide) (fun c18 => ?_) (fun c18 => ?_)
          · replace hq := hq.1 c18
            refine xP.pick (lv' := []) [] rfl ?_
            exact uX12_activate_198 hq
          · replace hq := hq.2 c18
            refine xP.pick (lv' := [(0, rv x0), (1, rv x1), (2, .int x2), (3, .int x3), (4, .int x4), (5, .int (x3 + (fI h6 x1 6659)))]) [1, 2, 3, 4, 5, 0] rfl ?_
            exact uX12_activate_115 hq
      · replace hq := hq.2 c12
        refine x_aload_n 1 dX12_activate_43 rfl ?_
        refine x_get (v := rv (fR h6 x0 3150)) fdX12_169 dX12_activate_44 t9 rfl ?_
        refine x_iload 0 dX12_activate_47 rfl ?_
        obtain ⟨g19, hq⟩ := hq
        obtain ⟨i20, hq⟩ := hq
        refine x_zald g19 i20 dX12_activate_49 ?_
        refine x_if_ne (tgt := 63) dX12_activate_50 (by decide) (fun c21 => ?_) (fun c21 => ?_)
        · replace hq := hq.1 c21
          refine x_aload_n 2 dX12_activate_63 rfl ?_
          refine x_aload_n 1 dX12_activate_64 rfl ?_
          refine x_get (v := rv (fR h6 x0 3147)) fdX12_159 dX12_activate_65 t9 rfl ?_
          refine x_iload 0 dX12_activate_68 rfl ?_
          obtain ⟨g22, hq⟩ := hq
          obtain ⟨i23, hq⟩ := hq
          refine x_lald g22 i23 dX12_activate_70 ?_
          refine x_l2i dX12_activate_71 ?_
          obtain ⟨g24, g25, hq⟩ := hq
          refine x_callV (Yc := YX26_choiceOf) (as := [.int (Int64.toInt32 (aJ h6 (fR h6 x0 3147) (Int32.toNatClampNeg (x3 + (fI h6 x1 6659)))))]) (st := []) q4251 mvX26_choiceOf t11 rfl dX12_activate_72 (xle (xal1 (rv_cat _) (xal1 rfl xal0)) (by decide)) (xfr g24) (xlo xsw0 (by decide) g25) (xKi hq (fun x27 h26 hq e28 => ?_) (fun _ _ q _ => q))
          replace hq := hq e28
          refine x_iload_n 3 dX12_activate_75 rfl ?_
          refine x_icmp_eq (tgt := 198) dX12_activate_76 (by decide) (fun c29 => ?_) (fun c29 => ?_)
          · replace hq := hq.1 c29
            refine xP.pick (lv' := []) [] rfl ?_
            exact uX12_activate_198 hq
          · replace hq := hq.2 c29
            refine x_aload_n 1 dX12_activate_79 rfl ?_
            refine x_bipush (v := 6) dX12_activate_80 (by decide) ?_
            refine x_iload 5 dX12_activate_82 rfl ?_
            have t30 : tg h26 x0 = 13 := e28.tg t9 (by decide)
            obtain ⟨g31, g32, hq⟩ := hq
            refine x_callV (Yc := YX12_error) (as := [.int 6, .int x4]) (st := []) q4490 mvX12_error t30 rfl dX12_activate_84 (xle (xal1 (rv_cat _) (xal1 rfl (xal1 rfl xal0))) (by decide)) (xfr g31) (xlo xsw0 (by decide) g32) (xKv hq (fun h33 hq e35 => ?_) (fun _ _ q _ => q))
            replace hq := hq e35
            refine x_goto (tgt := 198) dX12_activate_87 (by decide) ?_
            refine xP.pick (lv' := []) [] rfl ?_
            exact uX12_activate_198 hq
        · replace hq := hq.2 c21
          refine x_aload_n 1 dX12_activate_53 rfl ?_
          refine x_iconst (v := 5) dX12_activate_54 (by decide) ?_
          refine x_iload 5 dX12_activate_55 rfl ?_
          obtain ⟨g36, g37, hq⟩ := hq
          refine x_callV (Yc := YX12_error) (as := [.int 5, .int x4]) (st := []) q4490 mvX12_error t9 rfl dX12_activate_57 (xle (xal1 (rv_cat _) (xal1 rfl (xal1 rfl xal0))) (by decide)) (xfr g36) (xlo xsw0 (by decide) g37) (xKv hq (fun h38 hq e40 => ?_) (fun _ _ q _ => q))
          replace hq := hq e40
          refine x_goto (tgt := 198) dX12_activate_60 (by decide) ?_
          refine xP.pick (lv' := []) [] rfl ?_
          exact uX12_activate_198 hq
    · replace hq := hq.2 c10
      exact x_vret rfl dX12_activate_27 hq
  · replace hq := hq.2 c1
    exact x_vret rfl dX12_activate_4 hq
theorem rX12_activate {G : xG} {fr lo : Nat} {x0 : Nat} {x1 : Nat} {x2 : Int32} {x3 : Int32} {x4 : Int32} {h : xH} {Q : Outcome → xH → Prop} (hq : bX12_activate G fr lo x0 x1 x2 x3 x4 h Q) : xR G YX12_activate fr lo [rv x0, rv x1, .int x2, .int x3, .int x4] h Q := by
  show xP _ _ _ _ _ (lv_args 0 _) _ _ _
  rw [show lv_args 0 [rv x0, rv x1, .int x2, .int x3, .int x4] = [(0, rv x0), (1, rv x1), (2, .int x2), (3, .int x3), (4, .int x4)] from (xla1 (rv_cat _) (xla1 (rv_cat _) (xla1 rfl (xla1 rfl (xla1 rfl xla0)))))]
  exact uX12_activate hq
set_option maxRecDepth 100000 in
theorem dX12_giveValue_0 : decode cX12_giveValue 0 = .ok (.aload_n 2, 1) := by decide +kernel
set_option maxRecDepth 100000 in
theorem dX12_giveValue_1 : decode cX12_giveValue 1 = .ok (.getfield 612, 3) := by decide +kernel
set_option maxRecDepth 100000 in
theorem dX12_giveValue_4 : decode cX12_giveValue 4 = .ok (.invokevirtual 1139, 3) := by decide +kernel
set_option maxRecDepth 100000 in
theorem dX12_giveValue_7 : decode cX12_giveValue 7 = .ok (.ifCond .eq 15, 3) := by decide +kernel
set_option maxRecDepth 100000 in
theorem dX12_giveValue_10 : decode cX12_giveValue 10 = .ok (.aload_n 0, 1) := by decide +kernel
set_option maxRecDepth 100000 in
theorem dX12_giveValue_11 : decode cX12_giveValue 11 = .ok (.getfield 195, 3) := by decide +kernel
set_option maxRecDepth 100000 in
theorem dX12_giveValue_14 : decode cX12_giveValue 14 = .ok (.iload_n 3, 1) := by decide +kernel
set_option maxRecDepth 100000 in
theorem dX12_giveValue_15 : decode cX12_giveValue 15 = .ok (.aload_n 0, 1) := by decide +kernel
set_option maxRecDepth 100000 in
theorem dX12_giveValue_16 : decode cX12_giveValue 16 = .ok (.getfield 1136, 3) := by decide +kernel
set_option maxRecDepth 100000 in
theorem dX12_giveValue_19 : decode cX12_giveValue 19 = .ok (.i2l, 1) := by decide +kernel
set_option maxRecDepth 100000 in
theorem dX12_giveValue_20 : decode cX12_giveValue 20 = .ok (.lastore, 1) := by decide +kernel
set_option maxRecDepth 100000 in
theorem dX12_giveValue_21 : decode cX12_giveValue 21 = .ok (.return_, 1) := by decide +kernel
set_option maxRecDepth 100000 in
theorem dX12_giveValue_22 : decode cX12_giveValue 22 = .ok (.aload_n 0, 1) := by decide +kernel
set_option maxRecDepth 100000 in
theorem dX12_giveValue_23 : decode cX12_giveValue 23 = .ok (.aload_n 0, 1) := by decide +kernel
set_option maxRecDepth 100000 in
theorem dX12_giveValue_24 : decode cX12_giveValue 24 = .ok (.getfield 96, 3) := by decide +kernel
set_option maxRecDepth 100000 in
theorem dX12_giveValue_27 : decode cX12_giveValue 27 = .ok (.iload_n 1, 1) := by decide +kernel
set_option maxRecDepth 100000 in
theorem dX12_giveValue_28 : decode cX12_giveValue 28 = .ok (.aaload, 1) := by decide +kernel
set_option maxRecDepth 100000 in
theorem dX12_giveValue_29 : decode cX12_giveValue 29 = .ok (.aload_n 2, 1) := by decide +kernel
set_option maxRecDepth 100000 in
theorem dX12_giveValue_30 : decode cX12_giveValue 30 = .ok (.getfield 612, 3) := by decide +kernel
set_option maxRecDepth 100000 in
theorem dX12_giveValue_33 : decode cX12_giveValue 33 = .ok (.aload_n 0, 1) := by decide +kernel
set_option maxRecDepth 100000 in
theorem dX12_giveValue_34 : decode cX12_giveValue 34 = .ok (.getfield 70, 3) := by decide +kernel
set_option maxRecDepth 100000 in
theorem dX12_giveValue_37 : decode cX12_giveValue 37 = .ok (.iload_n 1, 1) := by decide +kernel
set_option maxRecDepth 100000 in
theorem dX12_giveValue_38 : decode cX12_giveValue 38 = .ok (.iaload, 1) := by decide +kernel
set_option maxRecDepth 100000 in
theorem dX12_giveValue_39 : decode cX12_giveValue 39 = .ok (.invokevirtual 1168, 3) := by decide +kernel
set_option maxRecDepth 100000 in
theorem dX12_giveValue_42 : decode cX12_giveValue 42 = .ok (.aload_n 0, 1) := by decide +kernel
set_option maxRecDepth 100000 in
theorem dX12_giveValue_43 : decode cX12_giveValue 43 = .ok (.getfield 195, 3) := by decide +kernel
set_option maxRecDepth 100000 in
theorem dX12_giveValue_46 : decode cX12_giveValue 46 = .ok (.iload_n 3, 1) := by decide +kernel
set_option maxRecDepth 100000 in
theorem dX12_giveValue_47 : decode cX12_giveValue 47 = .ok (.aload_n 0, 1) := by decide +kernel
set_option maxRecDepth 100000 in
theorem dX12_giveValue_48 : decode cX12_giveValue 48 = .ok (.getfield 1145, 3) := by decide +kernel
set_option maxRecDepth 100000 in
theorem dX12_giveValue_51 : decode cX12_giveValue 51 = .ok (.lastore, 1) := by decide +kernel
set_option maxRecDepth 100000 in
theorem dX12_giveValue_52 : decode cX12_giveValue 52 = .ok (.aload_n 0, 1) := by decide +kernel
set_option maxRecDepth 100000 in
theorem dX12_giveValue_53 : decode cX12_giveValue 53 = .ok (.getfield 198, 3) := by decide +kernel
set_option maxRecDepth 100000 in
theorem dX12_giveValue_56 : decode cX12_giveValue 56 = .ok (.iload_n 3, 1) := by decide +kernel
set_option maxRecDepth 100000 in
theorem dX12_giveValue_57 : decode cX12_giveValue 57 = .ok (.aload_n 0, 1) := by decide +kernel
set_option maxRecDepth 100000 in
theorem dX12_giveValue_58 : decode cX12_giveValue 58 = .ok (.getfield 1148, 3) := by decide +kernel
set_option maxRecDepth 100000 in
theorem dX12_giveValue_61 : decode cX12_giveValue 61 = .ok (.lastore, 1) := by decide +kernel
set_option maxRecDepth 100000 in
theorem dX12_giveValue_62 : decode cX12_giveValue 62 = .ok (.aload_n 0, 1) := by decide +kernel
set_option maxRecDepth 100000 in
theorem dX12_giveValue_63 : decode cX12_giveValue 63 = .ok (.getfield 201, 3) := by decide +kernel
set_option maxRecDepth 100000 in
theorem dX12_giveValue_66 : decode cX12_giveValue 66 = .ok (.iload_n 3, 1) := by decide +kernel
set_option maxRecDepth 100000 in
theorem dX12_giveValue_67 : decode cX12_giveValue 67 = .ok (.aload_n 0, 1) := by decide +kernel
set_option maxRecDepth 100000 in
theorem dX12_giveValue_68 : decode cX12_giveValue 68 = .ok (.getfield 1151, 3) := by decide +kernel
set_option maxRecDepth 100000 in
theorem dX12_giveValue_71 : decode cX12_giveValue 71 = .ok (.dastore, 1) := by decide +kernel
set_option maxRecDepth 100000 in
theorem dX12_giveValue_72 : decode cX12_giveValue 72 = .ok (.return_, 1) := by decide +kernel
set_option maxRecDepth 100000 in
def bX12_giveValue (G : xG) (fr lo : Nat) (x0 : Nat) (x1 : Int32) (x2 : Nat) (x3 : Int32) (h : xH) (Q : Outcome → xH → Prop) : Prop := tg h x2 = 24 ∧ tg h (fR h x2 5890) = 14 ∧ 1 ≤ fr ∧ 12 ≤ lo ∧ xRi G YX13_isKept (fr - 1) (lo - 12) [rv (fR h x2 5890)] h (fun x6 h5 => xext h h5 → ((x6 = 0 → tg h5 x0 = 13 ∧ tg h5 (fR h5 x0 3113) = 108 ∧ vp_in x1 (ln h5 (fR h5 x0 3113)) ∧ tg h5 (fR h5 x0 3102) = 100 ∧ vp_in x1 (ln h5 (fR h5 x0 3102)) ∧ 1 ≤ fr ∧ 15 ≤ lo ∧ xRv G YX12_suit (fr - 1) (lo - 15) [rv x0, rv (aR h5 (fR h5 x0 3113) (Int32.toNatClampNeg x1)), rv (fR h5 x2 5890), .int (aI h5 (fR h5 x0 3102) (Int32.toNatClampNeg x1))] h5 (fun h17 => xext h5 h17 → tg h17 (fR h17 x0 3166) = 101 ∧ vp_in x3 (ln h17 (fR h17 x0 3166)) ∧ (∀ h23 : xH, h23 = tJ h17 (fR h17 x0 3166) (Int32.toNatClampNeg x3) (fJ h17 x0 3177) → tg h23 (fR h23 x0 3167) = 101 ∧ vp_in x3 (ln h23 (fR h23 x0 3167)) ∧ (∀ h28 : xH, h28 = tJ h23 (fR h23 x0 3167) (Int32.toNatClampNeg x3) (fJ h23 x0 3178) → tg h28 (fR h28 x0 3168) = 102 ∧ vp_in x3 (ln h28 (fR h28 x0 3168)) ∧ (∀ h33 : xH, h33 = tD h28 (fR h28 x0 3168) (Int32.toNatClampNeg x3) (fD h28 x0 3179) → Q (.returned none) h33)))) (fun r h2 => Q (.threw r) h2)) ∧ (¬ x6 = 0 → tg h5 x0 = 13 ∧ tg h5 (fR h5 x0 3166) = 101 ∧ vp_in x3 (ln h5 (fR h5 x0 3166)) ∧ (∀ h38 : xH, h38 = tJ h5 (fR h5 x0 3166) (Int32.toNatClampNeg x3) (Int32.toInt64 (fI h5 x0 3180)) → Q (.returned none) h38)))) (fun r h2 => Q (.threw r) h2)
set_option maxRecDepth 100000 in
theorem uX12_giveValue {G : xG} {fr lo : Nat} {x0 : Nat} {x1 : Int32} {x2 : Nat} {x3 : Int32} {h : xH} {Q : Outcome → xH → Prop} (hq : bX12_giveValue G fr lo x0 x1 x2 x3 h Q) : xP G YX12_giveValue fr lo 0 [(0, rv x0), (1, .int x1), (2, rv x2), (3, .int x3)] [] h Q := by
  unfold bX12_giveValue at hq
  refine x_aload_n 2 dX12_giveValue_0 rfl ?_
  obtain ⟨g1, hq⟩ := hq
  refine x_get (v := rv (fR h x2 5890)) fdX12_612 dX12_giveValue_1 g1 rfl ?_
  obtain ⟨g2, hq⟩ := hq
  obtain ⟨g3, g4, hq⟩ := hq
  refine x_callV (Yc := YX13_isKept) (as := []) (st := []) q4627 mvX13_isKept g2 rfl dX12_giveValue_4 (xle (xal1 (rv_cat _) xal0) (by decide)) (xfr g3) (xlo xsw0 (by decide) g4) (xKi hq (fun x6 h5 hq e7 => ?_) (fun _ _ q _ => q))
  replace hq := hq e7
  refine x_if_eq (tgt := 22) dX12_giveValue_7 (by decide) (fun c8 => ?_) (fun c8 => ?_)
  · replace hq := hq.1 c8
    refine x_aload_n 0 dX12_giveValue_22 rfl ?_
    refine x_aload_n 0 dX12_giveValue_23 rfl ?_
    obtain ⟨g9, hq⟩ := hq
    refine x_get (v := rv (fR h5 x0 3113)) fdX12_96 dX12_giveValue_24 g9 rfl ?_
    refine x_iload_n 1 dX12_giveValue_27 rfl ?_
    obtain ⟨g10, hq⟩ := hq
    obtain ⟨i11, hq⟩ := hq
    refine x_aald 8 rfl g10 (by decide) i11 dX12_giveValue_28 ?_
    refine x_aload_n 2 dX12_giveValue_29 rfl ?_
    have t12 : tg h5 x2 = 24 := e7.tg g1 (by decide)
    refine x_get (v := rv (fR h5 x2 5890)) fdX12_612 dX12_giveValue_30 t12 rfl ?_
    refine x_aload_n 0 dX12_giveValue_33 rfl ?_
    refine x_get (v := rv (fR h5 x0 3102)) fdX12_70 dX12_giveValue_34 g9 rfl ?_
    refine x_iload_n 1 dX12_giveValue_37 rfl ?_
    obtain ⟨g13, hq⟩ := hq
    obtain ⟨i14, hq⟩ := hq
    refine x_iald 0 (Or.inl rfl) g13 i14 dX12_giveValue_38 ?_
    obtain ⟨g15, g16, hq⟩ := hq
    refine x_callV (Yc := YX12_suit) (as := [rv (aR h5 (fR h5 x0 3113) (Int32.toNatClampNeg x1)), rv (fR h5 x2 5890), .int (aI h5 (fR h5 x0 3102) (Int32.toNatClampNeg x1))]) (st := []) q4631 mvX12_suit g9 rfl dX12_giveValue_39 (xle (xal1 (rv_cat _) (xal1 (rv_cat _) (xal1 (rv_cat _) (xal1 rfl xal0)))) (by decide)) (xfr g15) (xlo xsw0 (by decide) g16) (xKv hq (fun h17 hq e19 => ?_) (fun _ _ q _ => q))
    replace hq := hq e19
    refine x_aload_n 0 dX12_giveValue_42 rfl ?_
    have t20 : tg h17 x0 = 13 := e19.tg g9 (by decide)
    refine x_get (v := rv (fR h17 x0 3166)) fdX12_195 dX12_giveValue_43 t20 rfl ?_
    refine x_iload_n 3 dX12_giveValue_46 rfl ?_
    refine x_aload_n 0 dX12_giveValue_47 rfl ?_
    refine x_get (v := .long (fJ h17 x0 3177)) fdX12_1145 dX12_giveValue_48 t20 rfl ?_
    obtain ⟨g21, hq⟩ := hq
    obtain ⟨i22, hq⟩ := hq
    obtain ⟨h23, e24⟩ : ∃ y, y = tJ h17 (fR h17 x0 3166) (Int32.toNatClampNeg x3) (fJ h17 x0 3177) := ⟨_, rfl⟩
    replace hq := hq h23 e24
    refine x_last' g21 i22 dX12_giveValue_51 e24 ?_
    refine x_aload_n 0 dX12_giveValue_52 rfl ?_
    have t25 : tg h23 x0 = 13 := by rw [e24]; exact t20
    refine x_get (v := rv (fR h23 x0 3167)) fdX12_198 dX12_giveValue_53 t25 rfl ?_
    refine x_iload_n 3 dX12_giveValue_56 rfl ?_
    refine x_aload_n 0 dX12_giveValue_57 rfl ?_
    refine x_get (v := .long (fJ h23 x0 3178)) fdX12_1148 dX12_giveValue_58 t25 rfl ?_
    obtain ⟨g26, hq⟩ := hq
    obtain ⟨i27, hq⟩ := hq
    obtain ⟨h28, e29⟩ : ∃ y, y = tJ h23 (fR h23 x0 3167) (Int32.toNatClampNeg x3) (fJ h23 x0 3178) := ⟨_, rfl⟩
    replace hq := hq h28 e29
    refine x_last' g26 i27 dX12_giveValue_61 e29 ?_
    refine x_aload_n 0 dX12_giveValue_62 rfl ?_
    have t30 : tg h28 x0 = 13 := by rw [e29]; exact t25
    refine x_get (v := rv (fR h28 x0 3168)) fdX12_201 dX12_giveValue_63 t30 rfl ?_
    refine x_iload_n 3 dX12_giveValue_66 rfl ?_
    refine x_aload_n 0 dX12_giveValue_67 rfl ?_
    refine x_get (v := .double (fD h28 x0 3179)) fdX12_1151 dX12_giveValue_68 t30 rfl ?_
    obtain ⟨g31, hq⟩ := hq
    obtain ⟨i32, hq⟩ := hq
    obtain ⟨h33, e34⟩ : ∃ y, y = tD h28 (fR h28 x0 3168) (Int32.toNatClampNeg x3) (fD h28 x0 3179) := ⟨_, rfl⟩
    replace hq := hq h33 e34
    refine x_dast' g31 i32 dX12_giveValue_71 e34 ?_
    exact x_vret rfl dX12_giveValue_72 hq
  · replace hq := hq.2 c8
    refine x_aload_n 0 dX12_giveValue_10 rfl ?_
    obtain ⟨g35, hq⟩ := hq
    refine x_get (v := rv (fR h5 x0 3166)) fdX12_195 dX12_giveValue_11 g35 rfl ?_
    refine x_iload_n 3 dX12_giveValue_14 rfl ?_
    refine x_aload_n 0 dX12_giveValue_15 rfl ?_
    refine x_get (v := .int (fI h5 x0 3180)) fdX12_1136 dX12_giveValue_16 g35 rfl ?_
    refine x_i2l dX12_giveValue_19 ?_
    obtain ⟨g36, hq⟩ := hq
    obtain ⟨i37, hq⟩ := hq
    obtain ⟨h38, e39⟩ : ∃ y, y = tJ h5 (fR h5 x0 3166) (Int32.toNatClampNeg x3) (Int32.toInt64 (fI h5 x0 3180)) := ⟨_, rfl⟩
    replace hq := hq h38 e39
    refine x_last' g36 i37 dX12_giveValue_20 e39 ?_
    exact x_vret rfl dX12_giveValue_21 hq
theorem rX12_giveValue {G : xG} {fr lo : Nat} {x0 : Nat} {x1 : Int32} {x2 : Nat} {x3 : Int32} {h : xH} {Q : Outcome → xH → Prop} (hq : bX12_giveValue G fr lo x0 x1 x2 x3 h Q) : xR G YX12_giveValue fr lo [rv x0, .int x1, rv x2, .int x3] h Q := by
  show xP _ _ _ _ _ (lv_args 0 _) _ _ _
  rw [show lv_args 0 [rv x0, .int x1, rv x2, .int x3] = [(0, rv x0), (1, .int x1), (2, rv x2), (3, .int x3)] from (xla1 (rv_cat _) (xla1 rfl (xla1 (rv_cat _) (xla1 rfl xla0))))]
  exact uX12_giveValue hq
set_option maxRecDepth 100000 in
theorem dX12_suit_0 : decode cX12_suit 0 = .ok (.aload_n 2, 1) := by decide +kernel
set_option maxRecDepth 100000 in
theorem dX12_suit_1 : decode cX12_suit 1 = .ok (.getfield 845, 3) := by decide +kernel
set_option maxRecDepth 100000 in
theorem dX12_suit_4 : decode cX12_suit 4 = .ok (.iconst 2, 1) := by decide +kernel
set_option maxRecDepth 100000 in
theorem dX12_suit_5 : decode cX12_suit 5 = .ok (.if_icmp .ne 26, 3) := by decide +kernel
set_option maxRecDepth 100000 in
theorem dX12_suit_8 : decode cX12_suit 8 = .ok (.aload_n 1, 1) := by decide +kernel
set_option maxRecDepth 100000 in
theorem dX12_suit_9 : decode cX12_suit 9 = .ok (.invokevirtual 867, 3) := by decide +kernel
set_option maxRecDepth 100000 in
theorem dX12_suit_12 : decode cX12_suit 12 = .ok (.getfield 845, 3) := by decide +kernel
set_option maxRecDepth 100000 in
theorem dX12_suit_15 : decode cX12_suit 15 = .ok (.iconst 1, 1) := by decide +kernel
set_option maxRecDepth 100000 in
theorem dX12_suit_16 : decode cX12_suit 16 = .ok (.if_icmp .ne 143, 3) := by decide +kernel
set_option maxRecDepth 100000 in
theorem dX12_suit_19 : decode cX12_suit 19 = .ok (.aload_n 0, 1) := by decide +kernel
set_option maxRecDepth 100000 in
theorem dX12_suit_20 : decode cX12_suit 20 = .ok (.aload_n 0, 1) := by decide +kernel
set_option maxRecDepth 100000 in
theorem dX12_suit_21 : decode cX12_suit 21 = .ok (.getfield 1145, 3) := by decide +kernel
set_option maxRecDepth 100000 in
theorem dX12_suit_24 : decode cX12_suit 24 = .ok (.l2d, 1) := by decide +kernel
set_option maxRecDepth 100000 in
theorem dX12_suit_25 : decode cX12_suit 25 = .ok (.putfield 1151, 3) := by decide +kernel
set_option maxRecDepth 100000 in
theorem dX12_suit_28 : decode cX12_suit 28 = .ok (.goto 131, 3) := by decide +kernel
set_option maxRecDepth 100000 in
theorem dX12_suit_31 : decode cX12_suit 31 = .ok (.aload_n 2, 1) := by decide +kernel
set_option maxRecDepth 100000 in
theorem dX12_suit_32 : decode cX12_suit 32 = .ok (.getfield 845, 3) := by decide +kernel
set_option maxRecDepth 100000 in
theorem dX12_suit_35 : decode cX12_suit 35 = .ok (.bipush 6, 2) := by decide +kernel
set_option maxRecDepth 100000 in
theorem dX12_suit_37 : decode cX12_suit 37 = .ok (.if_icmp .ne 38, 3) := by decide +kernel
set_option maxRecDepth 100000 in
theorem dX12_suit_40 : decode cX12_suit 40 = .ok (.aload_n 0, 1) := by decide +kernel
set_option maxRecDepth 100000 in
theorem dX12_suit_41 : decode cX12_suit 41 = .ok (.getfield 1145, 3) := by decide +kernel
set_option maxRecDepth 100000 in
theorem dX12_suit_44 : decode cX12_suit 44 = .ok (.aload_n 2, 1) := by decide +kernel
set_option maxRecDepth 100000 in
theorem dX12_suit_45 : decode cX12_suit 45 = .ok (.getfield 591, 3) := by decide +kernel
set_option maxRecDepth 100000 in
theorem dX12_suit_48 : decode cX12_suit 48 = .ok (.i2l, 1) := by decide +kernel
set_option maxRecDepth 100000 in
theorem dX12_suit_49 : decode cX12_suit 49 = .ok (.lcmp, 1) := by decide +kernel
set_option maxRecDepth 100000 in
theorem dX12_suit_50 : decode cX12_suit 50 = .ok (.ifCond .lt 16, 3) := by decide +kernel
set_option maxRecDepth 100000 in
theorem dX12_suit_53 : decode cX12_suit 53 = .ok (.aload_n 0, 1) := by decide +kernel
set_option maxRecDepth 100000 in
theorem dX12_suit_54 : decode cX12_suit 54 = .ok (.getfield 1145, 3) := by decide +kernel
set_option maxRecDepth 100000 in
theorem dX12_suit_57 : decode cX12_suit 57 = .ok (.aload_n 2, 1) := by decide +kernel
set_option maxRecDepth 100000 in
theorem dX12_suit_58 : decode cX12_suit 58 = .ok (.getfield 595, 3) := by decide +kernel
set_option maxRecDepth 100000 in
theorem dX12_suit_61 : decode cX12_suit 61 = .ok (.i2l, 1) := by decide +kernel
set_option maxRecDepth 100000 in
theorem dX12_suit_62 : decode cX12_suit 62 = .ok (.lcmp, 1) := by decide +kernel
set_option maxRecDepth 100000 in
theorem dX12_suit_63 : decode cX12_suit 63 = .ok (.ifCond .le 96, 3) := by decide +kernel
set_option maxRecDepth 100000 in
theorem dX12_suit_66 : decode cX12_suit 66 = .ok (.aload_n 0, 1) := by decide +kernel
set_option maxRecDepth 100000 in
theorem dX12_suit_67 : decode cX12_suit 67 = .ok (.iconst 1, 1) := by decide +kernel
set_option maxRecDepth 100000 in
theorem dX12_suit_68 : decode cX12_suit 68 = .ok (.iload_n 3, 1) := by decide +kernel
set_option maxRecDepth 100000 in
theorem dX12_suit_69 : decode cX12_suit 69 = .ok (.invokevirtual 1142, 3) := by decide +kernel
set_option maxRecDepth 100000 in
theorem dX12_suit_72 : decode cX12_suit 72 = .ok (.goto 87, 3) := by decide +kernel
set_option maxRecDepth 100000 in
theorem dX12_suit_75 : decode cX12_suit 75 = .ok (.aload_n 2, 1) := by decide +kernel
set_option maxRecDepth 100000 in
theorem dX12_suit_76 : decode cX12_suit 76 = .ok (.getfield 845, 3) := by decide +kernel
set_option maxRecDepth 100000 in
theorem dX12_suit_79 : decode cX12_suit 79 = .ok (.bipush 9, 2) := by decide +kernel
set_option maxRecDepth 100000 in
theorem dX12_suit_81 : decode cX12_suit 81 = .ok (.if_icmp .ne 78, 3) := by decide +kernel
set_option maxRecDepth 100000 in
theorem dX12_suit_84 : decode cX12_suit 84 = .ok (.aload_n 2, 1) := by decide +kernel
set_option maxRecDepth 100000 in
theorem dX12_suit_85 : decode cX12_suit 85 = .ok (.getfield 864, 3) := by decide +kernel
set_option maxRecDepth 100000 in
theorem dX12_suit_88 : decode cX12_suit 88 = .ok (.ifnull 71, 3) := by decide +kernel
set_option maxRecDepth 100000 in
theorem dX12_suit_91 : decode cX12_suit 91 = .ok (.aload_n 0, 1) := by decide +kernel
set_option maxRecDepth 100000 in
theorem dX12_suit_92 : decode cX12_suit 92 = .ok (.getfield 1145, 3) := by decide +kernel
set_option maxRecDepth 100000 in
theorem dX12_suit_95 : decode cX12_suit 95 = .ok (.aload_n 2, 1) := by decide +kernel
set_option maxRecDepth 100000 in
theorem dX12_suit_96 : decode cX12_suit 96 = .ok (.getfield 864, 3) := by decide +kernel
set_option maxRecDepth 100000 in
theorem dX12_suit_99 : decode cX12_suit 99 = .ok (.getfield 591, 3) := by decide +kernel
set_option maxRecDepth 100000 in
theorem dX12_suit_102 : decode cX12_suit 102 = .ok (.aload_n 2, 1) := by decide +kernel
set_option maxRecDepth 100000 in
theorem dX12_suit_103 : decode cX12_suit 103 = .ok (.getfield 864, 3) := by decide +kernel
set_option maxRecDepth 100000 in
theorem dX12_suit_106 : decode cX12_suit 106 = .ok (.getfield 595, 3) := by decide +kernel
set_option maxRecDepth 100000 in
theorem dX12_suit_109 : decode cX12_suit 109 = .ok (.invokestatic 1157, 3) := by decide +kernel
set_option maxRecDepth 100000 in
theorem dX12_suit_112 : decode cX12_suit 112 = .ok (.ldc2_w 1160, 3) := by decide +kernel
set_option maxRecDepth 100000 in
theorem dX12_suit_115 : decode cX12_suit 115 = .ok (.lxor, 1) := by decide +kernel
set_option maxRecDepth 100000 in
theorem dX12_suit_116 : decode cX12_suit 116 = .ok (.land, 1) := by decide +kernel
set_option maxRecDepth 100000 in
theorem dX12_suit_117 : decode cX12_suit 117 = .ok (.lconst 0, 1) := by decide +kernel
set_option maxRecDepth 100000 in
theorem dX12_suit_118 : decode cX12_suit 118 = .ok (.lcmp, 1) := by decide +kernel
set_option maxRecDepth 100000 in
theorem dX12_suit_119 : decode cX12_suit 119 = .ok (.ifCond .ne 34, 3) := by decide +kernel
set_option maxRecDepth 100000 in
theorem dX12_suit_122 : decode cX12_suit 122 = .ok (.aload_n 0, 1) := by decide +kernel
set_option maxRecDepth 100000 in
theorem dX12_suit_123 : decode cX12_suit 123 = .ok (.getfield 1148, 3) := by decide +kernel
set_option maxRecDepth 100000 in
theorem dX12_suit_126 : decode cX12_suit 126 = .ok (.aload_n 2, 1) := by decide +kernel
set_option maxRecDepth 100000 in
theorem dX12_suit_127 : decode cX12_suit 127 = .ok (.getfield 864, 3) := by decide +kernel
set_option maxRecDepth 100000 in
theorem dX12_suit_130 : decode cX12_suit 130 = .ok (.getfield 591, 3) := by decide +kernel
set_option maxRecDepth 100000 in
theorem dX12_suit_133 : decode cX12_suit 133 = .ok (.aload_n 2, 1) := by decide +kernel
set_option maxRecDepth 100000 in
theorem dX12_suit_134 : decode cX12_suit 134 = .ok (.getfield 864, 3) := by decide +kernel
set_option maxRecDepth 100000 in
theorem dX12_suit_137 : decode cX12_suit 137 = .ok (.getfield 595, 3) := by decide +kernel
set_option maxRecDepth 100000 in
theorem dX12_suit_140 : decode cX12_suit 140 = .ok (.invokestatic 1162, 3) := by decide +kernel
set_option maxRecDepth 100000 in
theorem dX12_suit_143 : decode cX12_suit 143 = .ok (.ldc2_w 1160, 3) := by decide +kernel
set_option maxRecDepth 100000 in
theorem dX12_suit_146 : decode cX12_suit 146 = .ok (.lxor, 1) := by decide +kernel
set_option maxRecDepth 100000 in
theorem dX12_suit_147 : decode cX12_suit 147 = .ok (.land, 1) := by decide +kernel
set_option maxRecDepth 100000 in
theorem dX12_suit_148 : decode cX12_suit 148 = .ok (.lconst 0, 1) := by decide +kernel
set_option maxRecDepth 100000 in
theorem dX12_suit_149 : decode cX12_suit 149 = .ok (.lcmp, 1) := by decide +kernel
set_option maxRecDepth 100000 in
theorem dX12_suit_150 : decode cX12_suit 150 = .ok (.ifCond .eq 9, 3) := by decide +kernel
set_option maxRecDepth 100000 in
theorem dX12_suit_153 : decode cX12_suit 153 = .ok (.aload_n 0, 1) := by decide +kernel
set_option maxRecDepth 100000 in
theorem dX12_suit_154 : decode cX12_suit 154 = .ok (.iconst 1, 1) := by decide +kernel
set_option maxRecDepth 100000 in
theorem dX12_suit_155 : decode cX12_suit 155 = .ok (.iload_n 3, 1) := by decide +kernel
set_option maxRecDepth 100000 in
theorem dX12_suit_156 : decode cX12_suit 156 = .ok (.invokevirtual 1142, 3) := by decide +kernel
set_option maxRecDepth 100000 in
theorem dX12_suit_159 : decode cX12_suit 159 = .ok (.return_, 1) := by decide +kernel
set_option maxRecDepth 100000 in
def bX12_suit_159 (G : xG) (fr lo : Nat) (h : xH) (Q : Outcome → xH → Prop) : Prop := Q (.returned none) h
set_option maxRecDepth 100000 in
theorem uX12_suit_159 {G : xG} {fr lo : Nat} {h : xH} {Q : Outcome → xH → Prop} (hq : bX12_suit_159 G fr lo h Q) : xP G YX12_suit fr lo 159 [] [] h Q := by
  unfold bX12_suit_159 at hq
  exact x_vret rfl dX12_suit_159 hq
set_option maxRecDepth 100000 in
def bX12_suit_153 (G : xG) (fr lo : Nat) (x0 : Nat) (x3 : Int32) (h : xH) (Q : Outcome → xH → Prop) : Prop := tg h x0 = 13 ∧ 1 ≤ fr ∧ 14 ≤ lo ∧ xRv G YX12_error (fr - 1) (lo - 14) [rv x0, .int 1, .int x3] h (fun h4 => xext h h4 → bX12_suit_159 G fr lo h4 Q) (fun r h2 => Q (.threw r) h2)
set_option maxRecDepth 100000 in
theorem uX12_suit_153 {G : xG} {fr lo : Nat} {x0 : Nat} {x3 : Int32} {h : xH} {Q : Outcome → xH → Prop} (hq : bX12_suit_153 G fr lo x0 x3 h Q) : xP G YX12_suit fr lo 153 [(0, rv x0), (3, .int x3)] [] h Q := by
  unfold bX12_suit_153 at hq
  refine x_aload_n 0 dX12_suit_153 rfl ?_
  refine x_iconst (v := 1) dX12_suit_154 (by decide) ?_
  refine x_iload_n 1 dX12_suit_155 rfl ?_
  obtain ⟨g1, hq⟩ := hq
  obtain ⟨g2, g3, hq⟩ := hq
  refine x_callV (Yc := YX12_error) (as := [.int 1, .int x3]) (st := []) q4490 mvX12_error g1 rfl dX12_suit_156 (xle (xal1 (rv_cat _) (xal1 rfl (xal1 rfl xal0))) (by decide)) (xfr g2) (xlo xsw0 (by decide) g3) (xKv hq (fun h4 hq e6 => ?_) (fun _ _ q _ => q))
  replace hq := hq e6
  refine xP.pick (lv' := []) [] rfl ?_
  exact uX12_suit_159 hq
set_option maxRecDepth 100000 in
def bX12_suit_66 (G : xG) (fr lo : Nat) (x0 : Nat) (x3 : Int32) (h : xH) (Q : Outcome → xH → Prop) : Prop := tg h x0 = 13 ∧ 1 ≤ fr ∧ 14 ≤ lo ∧ xRv G YX12_error (fr - 1) (lo - 14) [rv x0, .int 1, .int x3] h (fun h4 => xext h h4 → bX12_suit_159 G fr lo h4 Q) (fun r h2 => Q (.threw r) h2)
set_option maxRecDepth 100000 in
theorem uX12_suit_66 {G : xG} {fr lo : Nat} {x0 : Nat} {x3 : Int32} {h : xH} {Q : Outcome → xH → Prop} (hq : bX12_suit_66 G fr lo x0 x3 h Q) : xP G YX12_suit fr lo 66 [(0, rv x0), (3, .int x3)] [] h Q := by
  unfold bX12_suit_66 at hq
  refine x_aload_n 0 dX12_suit_66 rfl ?_
  refine x_iconst (v := 1) dX12_suit_67 (by decide) ?_
  refine x_iload_n 1 dX12_suit_68 rfl ?_
  obtain ⟨g1, hq⟩ := hq
  obtain ⟨g2, g3, hq⟩ := hq
  refine x_callV (Yc := YX12_error) (as := [.int 1, .int x3]) (st := []) q4490 mvX12_error g1 rfl dX12_suit_69 (xle (xal1 (rv_cat _) (xal1 rfl (xal1 rfl xal0))) (by decide)) (xfr g2) (xlo xsw0 (by decide) g3) (xKv hq (fun h4 hq e6 => ?_) (fun _ _ q _ => q))
  replace hq := hq e6
  refine x_goto (tgt := 159) dX12_suit_72 (by decide) ?_
  refine xP.pick (lv' := []) [] rfl ?_
  exact uX12_suit_159 hq
set_option maxRecDepth 100000 in
def bX12_suit (G : xG) (fr lo : Nat) (x0 : Nat) (x1 : Nat) (x2 : Nat) (x3 : Int32) (h : xH) (Q : Outcome → xH → Prop) : Prop := tg h x2 = 14 ∧ ((¬ (fI h x2 3328) = 2 → ((¬ (fI h x2 3328) = 6 → ((¬ (fI h x2 3328) = 9 → bX12_suit_159 G fr lo h Q) ∧ ((fI h x2 3328) = 9 → (((fR h x2 3332) = 0 → bX12_suit_159 G fr lo h Q) ∧ (¬ (fR h x2 3332) = 0 → tg h x0 = 13 ∧ tg h (fR h x2 3332) = 14 ∧ 1 ≤ fr ∧ 18 ≤ lo ∧ xRj G YX12_lowerBits (fr - 1) (lo - 18) [.int (fI h (fR h x2 3332) 3329), .int (fI h (fR h x2 3332) 3330)] h (fun x11 h10 => xext h h10 → ((¬ (lg_cmp ((fJ h x0 3177) &&& (x11 ^^^ (-1))) 0) = 0 → bX12_suit_153 G fr lo x0 x3 h10 Q) ∧ ((lg_cmp ((fJ h x0 3177) &&& (x11 ^^^ (-1))) 0) = 0 → tg h10 (fR h10 x2 3332) = 14 ∧ 1 ≤ fr ∧ 18 ≤ lo ∧ xRj G YX12_upperBits (fr - 1) (lo - 18) [.int (fI h10 (fR h10 x2 3332) 3329), .int (fI h10 (fR h10 x2 3332) 3330)] h10 (fun x20 h19 => xext h10 h19 → (((lg_cmp ((fJ h10 x0 3178) &&& (x20 ^^^ (-1))) 0) = 0 → bX12_suit_159 G fr lo h19 Q) ∧ (¬ (lg_cmp ((fJ h10 x0 3178) &&& (x20 ^^^ (-1))) 0) = 0 → bX12_suit_153 G fr lo x0 x3 h19 Q))) (fun r h2 => Q (.threw r) h2)))) (fun r h2 => Q (.threw r) h2)))))) ∧ ((fI h x2 3328) = 6 → tg h x0 = 13 ∧ (((lg_cmp (fJ h x0 3177) (Int32.toInt64 (fI h x2 3329))) < 0 → bX12_suit_66 G fr lo x0 x3 h Q) ∧ (¬ (lg_cmp (fJ h x0 3177) (Int32.toInt64 (fI h x2 3329))) < 0 → (((lg_cmp (fJ h x0 3177) (Int32.toInt64 (fI h x2 3330))) ≤ 0 → bX12_suit_159 G fr lo h Q) ∧ (¬ (lg_cmp (fJ h x0 3177) (Int32.toInt64 (fI h x2 3330))) ≤ 0 → bX12_suit_66 G fr lo x0 x3 h Q))))))) ∧ ((fI h x2 3328) = 2 → tg h x1 = 14 ∧ 1 ≤ fr ∧ 12 ≤ lo ∧ xRr G YX13_own (fr - 1) (lo - 12) [rv x1] h (fun x30 h29 => xext h h29 → tg h29 x30 = 14 ∧ ((¬ (fI h29 x30 3328) = 1 → bX12_suit_159 G fr lo h29 Q) ∧ ((fI h29 x30 3328) = 1 → tg h29 x0 = 13 ∧ (∀ h35 : xH, h35 = sD h29 x0 3179 (FP.l2d (fJ h29 x0 3177)) → bX12_suit_159 G fr lo h35 Q)))) (fun r h2 => Q (.threw r) h2)))
set_option maxRecDepth 100000 in
theorem uX12_suit {G : xG} {fr lo : Nat} {x0 : Nat} {x1 : Nat} {x2 : Nat} {x3 : Int32} {h : xH} {Q : Outcome → xH → Prop} (hq : bX12_suit G fr lo x0 x1 x2 x3 h Q) : xP G YX12_suit fr lo 0 [(0, rv x0), (1, rv x1), (2, rv x2), (3, .int x3)] [] h Q := by
  unfold bX12_suit at hq
  refine x_aload_n 2 dX12_suit_0 rfl ?_
  obtain ⟨g1, hq⟩ := hq
  refine x_get (v := .int (fI h x2 3328)) fdX12_845 dX12_suit_1 g1 rfl ?_
  refine x_iconst (v := 2) dX12_suit_4 (by decide) ?_
  refine x_icmp_ne (tgt := 31) dX12_suit_5 (by decide) (fun c2 => ?_) (fun c2 => ?_)
  · replace hq := hq.1 c2
    refine x_aload_n 2 dX12_suit_31 rfl ?_
    refine x_get (v := .int (fI h x2 3328)) fdX12_845 dX12_suit_32 g1 rfl ?_
    refine x_bipush (v := 6) dX12_suit_35 (by decide) ?_
    refine x_icmp_ne (tgt := 75) dX12_suit_37 (by decide) (fun c3 => ?_) (fun c3 => ?_)
    · replace hq := hq.1 c3
      refine x_aload_n 2 dX12_suit_75 rfl ?_
      refine x_get (v := .int (fI h x2 3328)) fdX12_845 dX12_suit_76 g1 rfl ?_
      refine x_bipush (v := 9) dX12_suit_79 (by decide) ?_
      refine x_icmp_ne (tgt := 159) dX12_suit_81 (by decide) (fun c4 => ?_) (fun c4 => ?_)
      · replace hq := hq.1 c4
        refine xP.pick (lv' := []) [] rfl ?_
        exact uX12_suit_159 hq
      · replace hq := hq.2 c4
        refine x_aload_n 2 dX12_suit_84 rfl ?_
        refine x_get (v := rv (fR h x2 3332)) fdX12_864 dX12_suit_85 g1 rfl ?_
        refine x_ifnull (tgt := 159) dX12_suit_88 (by decide) (fun c5 => ?_) (fun c5 => ?_)
        · replace hq := hq.1 c5
          refine xP.pick (lv' := []) [] rfl ?_
          exact uX12_suit_159 hq
        · replace hq := hq.2 c5
          refine x_aload_n 0 dX12_suit_91 rfl ?_
          obtain ⟨g6, hq⟩ := hq
          refine x_get (v := .long (fJ h x0 3177)) fdX12_1145 dX12_suit_92 g6 rfl ?_
          refine x_aload_n 2 dX12_suit_95 rfl ?_
          refine x_get (v := rv (fR h x2 3332)) fdX12_864 dX12_suit_96 g1 rfl ?_
          obtain ⟨g7, hq⟩ := hq
          refine x_get (v := .int (fI h (fR h x2 3332) 3329)) fdX12_591 dX12_suit_99 g7 rfl ?_
          refine x_aload_n 2 dX12_suit_102 rfl ?_
          refine x_get (v := rv (fR h x2 3332)) fdX12_864 dX12_suit_103 g1 rfl ?_
          refine x_get (v := .int (fI h (fR h x2 3332) 3330)) fdX12_595 dX12_suit_106 g7 rfl ?_
          obtain ⟨g8, g9, hq⟩ := hq
          refine x_callS (Yc := YX12_lowerBits) (as := [.int (fI h (fR h x2 3332) 3329), .int (fI h (fR h x2 3332) 3330)]) (st := [.long (fJ h x0 3177)]) q4552 msX12_lowerBits rfl dX12_suit_109 (xle (xal1 rfl (xal1 rfl xal0)) (by decide)) (xfr g8) (xlo (xsw2 rfl xsw0) (by decide) g9) (xKj hq (fun x11 h10 hq e12 => ?_) (fun _ _ q _ => q))
          replace hq := hq e12
          refine x_ldc2 (v := (-1)) q4606 dX12_suit_112 ?_
          refine x_lxor dX12_suit_115 ?_
          refine x_land dX12_suit_116 ?_
          refine x_lconst (v := 0) dX12_suit_117 (by decide) ?_
          refine x_lcmp dX12_suit_118 ?_
          refine x_if_ne (tgt := 153) dX12_suit_119 (by decide) (fun c13 => ?_) (fun c13 => ?_)
          · replace hq := hq.1 c13
            refine xP.pick (lv' := [(0, rv x0), (3, .int x3)]) [0, 3] rfl ?_
            exact uX12_suit_153 hq
          · replace hq := hq.2 c13
            refine x_aload_n 0 dX12_suit_122 rfl ?_
            have t14 : tg h10 x0 = 13 := e12.tg g6 (by decide)
            refine x_get (v := .long (fJ h10 x0 3178)) fdX12_1148 dX12_suit_123 t14 rfl ?_
            refine x_aload_n 2 dX12_suit_126 rfl ?_
            have t15 : tg h10 x2 = 14 := e12.tg g1 (by decide)
            refine x_get (v := rv (fR h10 x2 3332)) fdX12_864 dX12_suit_127 t15 rfl ?_
            obtain ⟨g16, hq⟩ := hq
            refine x_get (v := .int (fI h10 (fR h10 x2 3332) 3329)) fdX12_591 dX12_suit_130 g16 rfl ?_
            refine x_aload_n 2 dX12_suit_133 rfl ?_
            refine x_get (v := rv (fR h10 x2 3332)) fdX12_864 dX12_suit_134 t15 rfl ?_
            refine x_get (v := .int (fI h10 (fR h10 x2 3332) 3330)) fdX12_595 dX12_suit_137 g16 rfl ?_
            obtain ⟨g17, g18, hq⟩ := hq
            refine x_callS (Yc := YX12_upperBits) (as := [.int (fI h10 (fR h10 x2 3332) 3329), .int (fI h10 (fR h10 x2 3332) 3330)]) (st := [.long (fJ h10 x0 3178)]) q4555 msX12_upperBits rfl dX12_suit_140 (xle (xal1 rfl (xal1 rfl xal0)) (by decide)) (xfr g17) (xlo (xsw2 rfl xsw0) (by decide) g18) (xKj hq (fun x20 h19 hq e21 => ?_) (fun _ _ q _ => q))
            replace hq := hq e21
            refine x_ldc2 (v := (-1)) q4606 dX12_suit_143 ?_
            refine x_lxor dX12_suit_146 ?_
            refine x_land dX12_suit_147 ?_
            refine x_lconst (v := 0) dX12_suit_148 (by decide) ?_
            refine x_lcmp dX12_suit_149 ?_
            refine x_if_eq (tgt := 159) dX12_suit_150 (by decide) (fun c22 => ?_) (fun c22 => ?_)
            · replace hq := hq.1 c22
              refine xP.pick (lv' := []) [] rfl ?_
              exact uX12_suit_159 hq
            · replace hq := hq.2 c22
              refine xP.pick (lv' := [(0, rv x0), (3, .int x3)]) [0, 3] rfl ?_
              exact uX12_suit_153 hq
    · replace hq := hq.2 c3
      refine x_aload_n 0 dX12_suit_40 rfl ?_
      obtain ⟨g23, hq⟩ := hq
      refine x_get (v := .long (fJ h x0 3177)) fdX12_1145 dX12_suit_41 g23 rfl ?_
      refine x_aload_n 2 dX12_suit_44 rfl ?_
      refine x_get (v := .int (fI h x2 3329)) fdX12_591 dX12_suit_45 g1 rfl ?_
      refine x_i2l dX12_suit_48 ?_
      refine x_lcmp dX12_suit_49 ?_
      refine x_if_lt (tgt := 66) dX12_suit_50 (by decide) (fun c24 => ?_) (fun c24 => ?_)
      · replace hq := hq.1 c24
        refine xP.pick (lv' := [(0, rv x0), (3, .int x3)]) [0, 3] rfl ?_
        exact uX12_suit_66 hq
      · replace hq := hq.2 c24
        refine x_aload_n 0 dX12_suit_53 rfl ?_
        refine x_get (v := .long (fJ h x0 3177)) fdX12_1145 dX12_suit_54 g23 rfl ?_
        refine x_aload_n 2 dX12_suit_57 rfl ?_
        refine x_get (v := .int (fI h x2 3330)) fdX12_595 dX12_suit_58 g1 rfl ?_
        refine x_i2l dX12_suit_61 ?_
        refine x_lcmp dX12_suit_62 ?_
        refine x_if_le (tgt := 159) dX12_suit_63 (by decide) (fun c25 => ?_) (fun c25 => ?_)
        · replace hq := hq.1 c25
          refine xP.pick (lv' := []) [] rfl ?_
          exact uX12_suit_159 hq
        · replace hq := hq.2 c25
          refine xP.pick (lv' := [(0, rv x0), (3, .int x3)]) [0, 3] rfl ?_
          exact uX12_suit_66 hq
  · replace hq := hq.2 c2
    refine x_aload_n 1 dX12_suit_8 rfl ?_
    obtain ⟨g26, hq⟩ := hq
    obtain ⟨g27, g28, hq⟩ := hq
    refine x_callV (Yc := YX13_own) (as := []) (st := []) q4189 mvX13_own g26 rfl dX12_suit_9 (xle (xal1 (rv_cat _) xal0) (by decide)) (xfr g27) (xlo xsw0 (by decide) g28) (xKr hq (fun x30 h29 hq e31 => ?_) (fun _ _ q _ => q))
    replace hq := hq e31
    obtain ⟨g32, hq⟩ := hq
    refine x_get (v := .int (fI h29 x30 3328)) fdX12_845 dX12_suit_12 g32 rfl ?_
    refine x_iconst (v := 1) dX12_suit_15 (by decide) ?_
    refine x_icmp_ne (tgt := 159) dX12_suit_16 (by decide) (fun c33 => ?_) (fun c33 => ?_)
    · replace hq := hq.1 c33
      refine xP.pick (lv' := []) [] rfl ?_
      exact uX12_suit_159 hq
    · replace hq := hq.2 c33
      refine x_aload_n 0 dX12_suit_19 rfl ?_
      refine x_aload_n 0 dX12_suit_20 rfl ?_
      obtain ⟨g34, hq⟩ := hq
      refine x_get (v := .long (fJ h29 x0 3177)) fdX12_1145 dX12_suit_21 g34 rfl ?_
      refine x_l2d dX12_suit_24 ?_
      obtain ⟨h35, e36⟩ : ∃ y, y = sD h29 x0 3179 (FP.l2d (fJ h29 x0 3177)) := ⟨_, rfl⟩
      replace hq := hq h35 e36
      refine x_putD fdX12_1151 dX12_suit_25 g34 (Or.inl (by rw [g34]; rfl)) rfl e36 ?_
      refine x_goto (tgt := 159) dX12_suit_28 (by decide) ?_
      refine xP.pick (lv' := []) [] rfl ?_
      exact uX12_suit_159 hq
theorem rX12_suit {G : xG} {fr lo : Nat} {x0 : Nat} {x1 : Nat} {x2 : Nat} {x3 : Int32} {h : xH} {Q : Outcome → xH → Prop} (hq : bX12_suit G fr lo x0 x1 x2 x3 h Q) : xR G YX12_suit fr lo [rv x0, rv x1, rv x2, .int x3] h Q := by
  show xP _ _ _ _ _ (lv_args 0 _) _ _ _
  rw [show lv_args 0 [rv x0, rv x1, rv x2, .int x3] = [(0, rv x0), (1, rv x1), (2, rv x2), (3, .int x3)] from (xla1 (rv_cat _) (xla1 (rv_cat _) (xla1 (rv_cat _) (xla1 rfl xla0))))]
  exact uX12_suit hq
set_option maxRecDepth 100000 in
theorem dX12_enterRoutine_0 : decode cX12_enterRoutine 0 = .ok (.aload_n 0, 1) := by decide +kernel
set_option maxRecDepth 100000 in
theorem dX12_enterRoutine_1 : decode cX12_enterRoutine 1 = .ok (.getfield 1357, 3) := by decide +kernel
set_option maxRecDepth 100000 in
theorem dX12_enterRoutine_4 : decode cX12_enterRoutine 4 = .ok (.istore_n 3, 1) := by decide +kernel
set_option maxRecDepth 100000 in
theorem dX12_enterRoutine_5 : decode cX12_enterRoutine 5 = .ok (.aload_n 0, 1) := by decide +kernel
set_option maxRecDepth 100000 in
theorem dX12_enterRoutine_6 : decode cX12_enterRoutine 6 = .ok (.dup, 1) := by decide +kernel
set_option maxRecDepth 100000 in
theorem dX12_enterRoutine_7 : decode cX12_enterRoutine 7 = .ok (.getfield 1357, 3) := by decide +kernel
set_option maxRecDepth 100000 in
theorem dX12_enterRoutine_10 : decode cX12_enterRoutine 10 = .ok (.iconst 1, 1) := by decide +kernel
set_option maxRecDepth 100000 in
theorem dX12_enterRoutine_11 : decode cX12_enterRoutine 11 = .ok (.iadd, 1) := by decide +kernel
set_option maxRecDepth 100000 in
theorem dX12_enterRoutine_12 : decode cX12_enterRoutine 12 = .ok (.putfield 1357, 3) := by decide +kernel
set_option maxRecDepth 100000 in
theorem dX12_enterRoutine_15 : decode cX12_enterRoutine 15 = .ok (.aload_n 0, 1) := by decide +kernel
set_option maxRecDepth 100000 in
theorem dX12_enterRoutine_16 : decode cX12_enterRoutine 16 = .ok (.aload_n 0, 1) := by decide +kernel
set_option maxRecDepth 100000 in
theorem dX12_enterRoutine_17 : decode cX12_enterRoutine 17 = .ok (.getfield 1376, 3) := by decide +kernel
set_option maxRecDepth 100000 in
theorem dX12_enterRoutine_20 : decode cX12_enterRoutine 20 = .ok (.aload_n 0, 1) := by decide +kernel
set_option maxRecDepth 100000 in
theorem dX12_enterRoutine_21 : decode cX12_enterRoutine 21 = .ok (.getfield 1357, 3) := by decide +kernel
set_option maxRecDepth 100000 in
theorem dX12_enterRoutine_24 : decode cX12_enterRoutine 24 = .ok (.iconst 1, 1) := by decide +kernel
set_option maxRecDepth 100000 in
theorem dX12_enterRoutine_25 : decode cX12_enterRoutine 25 = .ok (.isub, 1) := by decide +kernel
set_option maxRecDepth 100000 in
theorem dX12_enterRoutine_26 : decode cX12_enterRoutine 26 = .ok (.invokestatic 1154, 3) := by decide +kernel
set_option maxRecDepth 100000 in
theorem dX12_enterRoutine_29 : decode cX12_enterRoutine 29 = .ok (.putfield 1376, 3) := by decide +kernel
set_option maxRecDepth 100000 in
theorem dX12_enterRoutine_32 : decode cX12_enterRoutine 32 = .ok (.aload_n 0, 1) := by decide +kernel
set_option maxRecDepth 100000 in
theorem dX12_enterRoutine_33 : decode cX12_enterRoutine 33 = .ok (.getfield 179, 3) := by decide +kernel
set_option maxRecDepth 100000 in
theorem dX12_enterRoutine_36 : decode cX12_enterRoutine 36 = .ok (.iload_n 3, 1) := by decide +kernel
set_option maxRecDepth 100000 in
theorem dX12_enterRoutine_37 : decode cX12_enterRoutine 37 = .ok (.aload_n 0, 1) := by decide +kernel
set_option maxRecDepth 100000 in
theorem dX12_enterRoutine_38 : decode cX12_enterRoutine 38 = .ok (.getfield 1360, 3) := by decide +kernel
set_option maxRecDepth 100000 in
theorem dX12_enterRoutine_41 : decode cX12_enterRoutine 41 = .ok (.iastore, 1) := by decide +kernel
set_option maxRecDepth 100000 in
theorem dX12_enterRoutine_42 : decode cX12_enterRoutine 42 = .ok (.aload_n 0, 1) := by decide +kernel
set_option maxRecDepth 100000 in
theorem dX12_enterRoutine_43 : decode cX12_enterRoutine 43 = .ok (.getfield 182, 3) := by decide +kernel
set_option maxRecDepth 100000 in
theorem dX12_enterRoutine_46 : decode cX12_enterRoutine 46 = .ok (.iload_n 3, 1) := by decide +kernel
set_option maxRecDepth 100000 in
theorem dX12_enterRoutine_47 : decode cX12_enterRoutine 47 = .ok (.iload_n 2, 1) := by decide +kernel
set_option maxRecDepth 100000 in
theorem dX12_enterRoutine_48 : decode cX12_enterRoutine 48 = .ok (.iastore, 1) := by decide +kernel
set_option maxRecDepth 100000 in
theorem dX12_enterRoutine_49 : decode cX12_enterRoutine 49 = .ok (.aload_n 0, 1) := by decide +kernel
set_option maxRecDepth 100000 in
theorem dX12_enterRoutine_50 : decode cX12_enterRoutine 50 = .ok (.getfield 185, 3) := by decide +kernel
set_option maxRecDepth 100000 in
theorem dX12_enterRoutine_53 : decode cX12_enterRoutine 53 = .ok (.iload_n 3, 1) := by decide +kernel
set_option maxRecDepth 100000 in
theorem dX12_enterRoutine_54 : decode cX12_enterRoutine 54 = .ok (.aload_n 1, 1) := by decide +kernel
set_option maxRecDepth 100000 in
theorem dX12_enterRoutine_55 : decode cX12_enterRoutine 55 = .ok (.getfield 705, 3) := by decide +kernel
set_option maxRecDepth 100000 in
theorem dX12_enterRoutine_58 : decode cX12_enterRoutine 58 = .ok (.iconst 1, 1) := by decide +kernel
set_option maxRecDepth 100000 in
theorem dX12_enterRoutine_59 : decode cX12_enterRoutine 59 = .ok (.iadd, 1) := by decide +kernel
set_option maxRecDepth 100000 in
theorem dX12_enterRoutine_60 : decode cX12_enterRoutine 60 = .ok (.iastore, 1) := by decide +kernel
set_option maxRecDepth 100000 in
theorem dX12_enterRoutine_61 : decode cX12_enterRoutine 61 = .ok (.aload_n 0, 1) := by decide +kernel
set_option maxRecDepth 100000 in
theorem dX12_enterRoutine_62 : decode cX12_enterRoutine 62 = .ok (.getfield 188, 3) := by decide +kernel
set_option maxRecDepth 100000 in
theorem dX12_enterRoutine_65 : decode cX12_enterRoutine 65 = .ok (.iload_n 3, 1) := by decide +kernel
set_option maxRecDepth 100000 in
theorem dX12_enterRoutine_66 : decode cX12_enterRoutine 66 = .ok (.aload_n 0, 1) := by decide +kernel
set_option maxRecDepth 100000 in
theorem dX12_enterRoutine_67 : decode cX12_enterRoutine 67 = .ok (.getfield 1175, 3) := by decide +kernel
set_option maxRecDepth 100000 in
theorem dX12_enterRoutine_70 : decode cX12_enterRoutine 70 = .ok (.iastore, 1) := by decide +kernel
set_option maxRecDepth 100000 in
theorem dX12_enterRoutine_71 : decode cX12_enterRoutine 71 = .ok (.aload_n 0, 1) := by decide +kernel
set_option maxRecDepth 100000 in
theorem dX12_enterRoutine_72 : decode cX12_enterRoutine 72 = .ok (.aload_n 0, 1) := by decide +kernel
set_option maxRecDepth 100000 in
theorem dX12_enterRoutine_73 : decode cX12_enterRoutine 73 = .ok (.getfield 1360, 3) := by decide +kernel
set_option maxRecDepth 100000 in
theorem dX12_enterRoutine_76 : decode cX12_enterRoutine 76 = .ok (.aload_n 0, 1) := by decide +kernel
set_option maxRecDepth 100000 in
theorem dX12_enterRoutine_77 : decode cX12_enterRoutine 77 = .ok (.getfield 1360, 3) := by decide +kernel
set_option maxRecDepth 100000 in
theorem dX12_enterRoutine_80 : decode cX12_enterRoutine 80 = .ok (.aload_n 1, 1) := by decide +kernel
set_option maxRecDepth 100000 in
theorem dX12_enterRoutine_81 : decode cX12_enterRoutine 81 = .ok (.getfield 936, 3) := by decide +kernel
set_option maxRecDepth 100000 in
theorem dX12_enterRoutine_84 : decode cX12_enterRoutine 84 = .ok (.iadd, 1) := by decide +kernel
set_option maxRecDepth 100000 in
theorem dX12_enterRoutine_85 : decode cX12_enterRoutine 85 = .ok (.invokevirtual 1178, 3) := by decide +kernel
set_option maxRecDepth 100000 in
theorem dX12_enterRoutine_88 : decode cX12_enterRoutine 88 = .ok (.aload_n 1, 1) := by decide +kernel
set_option maxRecDepth 100000 in
theorem dX12_enterRoutine_89 : decode cX12_enterRoutine 89 = .ok (.getfield 923, 3) := by decide +kernel
set_option maxRecDepth 100000 in
theorem dX12_enterRoutine_92 : decode cX12_enterRoutine 92 = .ok (.astore 4, 2) := by decide +kernel
set_option maxRecDepth 100000 in
theorem dX12_enterRoutine_94 : decode cX12_enterRoutine 94 = .ok (.iconst 0, 1) := by decide +kernel
set_option maxRecDepth 100000 in
theorem dX12_enterRoutine_95 : decode cX12_enterRoutine 95 = .ok (.istore 5, 2) := by decide +kernel
set_option maxRecDepth 100000 in
theorem dX12_enterRoutine_97 : decode cX12_enterRoutine 97 = .ok (.iload 5, 2) := by decide +kernel
set_option maxRecDepth 100000 in
theorem dX12_enterRoutine_99 : decode cX12_enterRoutine 99 = .ok (.aload 4, 2) := by decide +kernel
set_option maxRecDepth 100000 in
theorem dX12_enterRoutine_101 : decode cX12_enterRoutine 101 = .ok (.invokevirtual 554, 3) := by decide +kernel
set_option maxRecDepth 100000 in
theorem dX12_enterRoutine_104 : decode cX12_enterRoutine 104 = .ok (.if_icmp .ge 70, 3) := by decide +kernel
set_option maxRecDepth 100000 in
theorem dX12_enterRoutine_107 : decode cX12_enterRoutine 107 = .ok (.aload 4, 2) := by decide +kernel
set_option maxRecDepth 100000 in
theorem dX12_enterRoutine_109 : decode cX12_enterRoutine 109 = .ok (.iload 5, 2) := by decide +kernel
set_option maxRecDepth 100000 in
theorem dX12_enterRoutine_111 : decode cX12_enterRoutine 111 = .ok (.invokevirtual 556, 3) := by decide +kernel
set_option maxRecDepth 100000 in
theorem dX12_enterRoutine_114 : decode cX12_enterRoutine 114 = .ok (.checkcast 100, 3) := by decide +kernel
set_option maxRecDepth 100000 in
theorem dX12_enterRoutine_117 : decode cX12_enterRoutine 117 = .ok (.astore 6, 2) := by decide +kernel
set_option maxRecDepth 100000 in
theorem dX12_enterRoutine_119 : decode cX12_enterRoutine 119 = .ok (.aload 6, 2) := by decide +kernel
set_option maxRecDepth 100000 in
theorem dX12_enterRoutine_121 : decode cX12_enterRoutine 121 = .ok (.getfield 577, 3) := by decide +kernel
set_option maxRecDepth 100000 in
theorem dX12_enterRoutine_124 : decode cX12_enterRoutine 124 = .ok (.iconst 3, 1) := by decide +kernel
set_option maxRecDepth 100000 in
theorem dX12_enterRoutine_125 : decode cX12_enterRoutine 125 = .ok (.if_icmp .ne 43, 3) := by decide +kernel
set_option maxRecDepth 100000 in
theorem dX12_enterRoutine_128 : decode cX12_enterRoutine 128 = .ok (.aload 6, 2) := by decide +kernel
set_option maxRecDepth 100000 in
theorem dX12_enterRoutine_130 : decode cX12_enterRoutine 130 = .ok (.getfield 951, 3) := by decide +kernel
set_option maxRecDepth 100000 in
theorem dX12_enterRoutine_133 : decode cX12_enterRoutine 133 = .ok (.ifCond .ne 35, 3) := by decide +kernel
set_option maxRecDepth 100000 in
theorem dX12_enterRoutine_136 : decode cX12_enterRoutine 136 = .ok (.aload 6, 2) := by decide +kernel
set_option maxRecDepth 100000 in
theorem dX12_enterRoutine_138 : decode cX12_enterRoutine 138 = .ok (.getfield 612, 3) := by decide +kernel
set_option maxRecDepth 100000 in
theorem dX12_enterRoutine_141 : decode cX12_enterRoutine 141 = .ok (.getfield 845, 3) := by decide +kernel
set_option maxRecDepth 100000 in
theorem dX12_enterRoutine_144 : decode cX12_enterRoutine 144 = .ok (.bipush 10, 2) := by decide +kernel
set_option maxRecDepth 100000 in
theorem dX12_enterRoutine_146 : decode cX12_enterRoutine 146 = .ok (.if_icmp .ne 22, 3) := by decide +kernel
set_option maxRecDepth 100000 in
theorem dX12_enterRoutine_149 : decode cX12_enterRoutine 149 = .ok (.aload_n 0, 1) := by decide +kernel
set_option maxRecDepth 100000 in
theorem dX12_enterRoutine_150 : decode cX12_enterRoutine 150 = .ok (.aload_n 0, 1) := by decide +kernel
set_option maxRecDepth 100000 in
theorem dX12_enterRoutine_151 : decode cX12_enterRoutine 151 = .ok (.getfield 1360, 3) := by decide +kernel
set_option maxRecDepth 100000 in
theorem dX12_enterRoutine_154 : decode cX12_enterRoutine 154 = .ok (.aload 6, 2) := by decide +kernel
set_option maxRecDepth 100000 in
theorem dX12_enterRoutine_156 : decode cX12_enterRoutine 156 = .ok (.getfield 713, 3) := by decide +kernel
set_option maxRecDepth 100000 in
theorem dX12_enterRoutine_159 : decode cX12_enterRoutine 159 = .ok (.iadd, 1) := by decide +kernel
set_option maxRecDepth 100000 in
theorem dX12_enterRoutine_160 : decode cX12_enterRoutine 160 = .ok (.aload 6, 2) := by decide +kernel
set_option maxRecDepth 100000 in
theorem dX12_enterRoutine_162 : decode cX12_enterRoutine 162 = .ok (.getfield 612, 3) := by decide +kernel
set_option maxRecDepth 100000 in
theorem dX12_enterRoutine_165 : decode cX12_enterRoutine 165 = .ok (.invokevirtual 1379, 3) := by decide +kernel
set_option maxRecDepth 100000 in
theorem dX12_enterRoutine_168 : decode cX12_enterRoutine 168 = .ok (.iinc 5 1, 3) := by decide +kernel
set_option maxRecDepth 100000 in
theorem dX12_enterRoutine_171 : decode cX12_enterRoutine 171 = .ok (.goto (-74), 3) := by decide +kernel
set_option maxRecDepth 100000 in
theorem dX12_enterRoutine_174 : decode cX12_enterRoutine 174 = .ok (.aload_n 0, 1) := by decide +kernel
set_option maxRecDepth 100000 in
theorem dX12_enterRoutine_175 : decode cX12_enterRoutine 175 = .ok (.dup, 1) := by decide +kernel
set_option maxRecDepth 100000 in
theorem dX12_enterRoutine_176 : decode cX12_enterRoutine 176 = .ok (.getfield 1360, 3) := by decide +kernel
set_option maxRecDepth 100000 in
theorem dX12_enterRoutine_179 : decode cX12_enterRoutine 179 = .ok (.aload_n 1, 1) := by decide +kernel
set_option maxRecDepth 100000 in
theorem dX12_enterRoutine_180 : decode cX12_enterRoutine 180 = .ok (.getfield 936, 3) := by decide +kernel
set_option maxRecDepth 100000 in
theorem dX12_enterRoutine_183 : decode cX12_enterRoutine 183 = .ok (.iadd, 1) := by decide +kernel
set_option maxRecDepth 100000 in
theorem dX12_enterRoutine_184 : decode cX12_enterRoutine 184 = .ok (.putfield 1360, 3) := by decide +kernel
set_option maxRecDepth 100000 in
theorem dX12_enterRoutine_187 : decode cX12_enterRoutine 187 = .ok (.aload_n 0, 1) := by decide +kernel
set_option maxRecDepth 100000 in
theorem dX12_enterRoutine_188 : decode cX12_enterRoutine 188 = .ok (.aload_n 0, 1) := by decide +kernel
set_option maxRecDepth 100000 in
theorem dX12_enterRoutine_189 : decode cX12_enterRoutine 189 = .ok (.getfield 1382, 3) := by decide +kernel
set_option maxRecDepth 100000 in
theorem dX12_enterRoutine_192 : decode cX12_enterRoutine 192 = .ok (.aload_n 0, 1) := by decide +kernel
set_option maxRecDepth 100000 in
theorem dX12_enterRoutine_193 : decode cX12_enterRoutine 193 = .ok (.getfield 1360, 3) := by decide +kernel
set_option maxRecDepth 100000 in
theorem dX12_enterRoutine_196 : decode cX12_enterRoutine 196 = .ok (.invokestatic 1154, 3) := by decide +kernel
set_option maxRecDepth 100000 in
theorem dX12_enterRoutine_199 : decode cX12_enterRoutine 199 = .ok (.putfield 1382, 3) := by decide +kernel
set_option maxRecDepth 100000 in
theorem dX12_enterRoutine_202 : decode cX12_enterRoutine 202 = .ok (.aload_n 0, 1) := by decide +kernel
set_option maxRecDepth 100000 in
theorem dX12_enterRoutine_203 : decode cX12_enterRoutine 203 = .ok (.iload_n 3, 1) := by decide +kernel
set_option maxRecDepth 100000 in
theorem dX12_enterRoutine_204 : decode cX12_enterRoutine 204 = .ok (.putfield 1130, 3) := by decide +kernel
set_option maxRecDepth 100000 in
theorem dX12_enterRoutine_207 : decode cX12_enterRoutine 207 = .ok (.return_, 1) := by decide +kernel
def lX12_enterRoutine_97 (G : xG) (fr lo : Nat) (x0 : Nat) (x1 : Nat) (x3 : Int32) (x4 : Nat) (x5 : Int32) (h : xH) (Q : Outcome → xH → Prop) : Prop := xP G YX12_enterRoutine fr lo 97 [(0, rv x0), (1, rv x1), (3, .int x3), (4, rv x4), (5, .int x5)] [] h Q
set_option maxRecDepth 100000 in
def bX12_enterRoutine_168 (G : xG) (fr lo : Nat) (x0 : Nat) (x1 : Nat) (x3 : Int32) (x4 : Nat) (x5 : Int32) (h : xH) (Q : Outcome → xH → Prop) : Prop := lX12_enterRoutine_97 G fr lo x0 x1 x3 x4 (x5 + 1) h Q
set_option maxRecDepth 100000 in
theorem uX12_enterRoutine_168 {G : xG} {fr lo : Nat} {x0 : Nat} {x1 : Nat} {x3 : Int32} {x4 : Nat} {x5 : Int32} {h : xH} {Q : Outcome → xH → Prop} (hq : bX12_enterRoutine_168 G fr lo x0 x1 x3 x4 x5 h Q) : xP G YX12_enterRoutine fr lo 168 [(0, rv x0), (1, rv x1), (3, .int x3), (4, rv x4), (5, .int x5)] [] h Q := by
  unfold bX12_enterRoutine_168 at hq
  refine x_iinc (lv' := [(5, .int (x5 + 1)), (0, rv x0), (1, rv x1), (3, .int x3), (4, rv x4)]) 4 dX12_enterRoutine_168 rfl (by decide) (by first | rfl | (simp [rv_cat, Value.category]; done) | (simp [rv_cat, Value.category]; decide)) ?_
  refine x_goto (tgt := 97) dX12_enterRoutine_171 (by decide) ?_
  refine xP.pick (lv' := [(0, rv x0), (1, rv x1), (3, .int x3), (4, rv x4), (5, .int (x5 + 1))]) [1, 2, 3, 4, 0] rfl ?_
  exact hq
set_option maxRecDepth 100000 in
def bX12_enterRoutine_97 (G : xG) (fr lo : Nat) (x0 : Nat) (x1 : Nat) (x3 : Int32) (x4 : Nat) (x5 : Int32) (h : xH) (Q : Outcome → xH → Prop) : Prop := tg h x4 = 29 ∧ 1 ≤ fr ∧ 13 ≤ lo ∧ xRi G YJ2_size (fr - 1) (lo - 13) [rv x4] h (fun x5 h4 => xext h h4 → ((x5 ≤ x5 → tg h4 x0 = 13 ∧ tg h4 x1 = 24 ∧ (∀ h10 : xH, h10 = sI h4 x0 3151 ((fI h4 x0 3151) + (fI h4 x1 5914)) → 1 ≤ fr ∧ 14 ≤ lo ∧ xRi G YJ10_max (fr - 1) (lo - 14) [.int (fI h10 x0 3152), .int (fI h10 x0 3151)] h10 (fun x16 h15 => xext h10 h15 → (∀ h19 : xH, h19 = sI h15 x0 3152 x16 → (∀ h22 : xH, h22 = sI h19 x0 3163 x3 → Q (.returned none) h22))) (fun r h2 => Q (.threw r) h2))) ∧ (¬ x5 ≤ x5 → 1 ≤ fr ∧ 13 ≤ lo ∧ xRr G YJ2_get (fr - 1) (lo - 13) [rv x4, .int x5] h4 (fun x28 h27 => xext h4 h27 → tg h27 x28 = 24 ∧ ((¬ (fI h27 x28 5888) = 3 → bX12_enterRoutine_168 G fr lo x0 x1 x3 x4 x5 h27 Q) ∧ ((fI h27 x28 5888) = 3 → ((¬ (fI h27 x28 5896) = 0 → bX12_enterRoutine_168 G fr lo x0 x1 x3 x4 x5 h27 Q) ∧ ((fI h27 x28 5896) = 0 → tg h27 (fR h27 x28 5890) = 14 ∧ ((¬ (fI h27 (fR h27 x28 5890) 3328) = 10 → bX12_enterRoutine_168 G fr lo x0 x1 x3 x4 x5 h27 Q) ∧ ((fI h27 (fR h27 x28 5890) 3328) = 10 → tg h27 x0 = 13 ∧ 1 ≤ fr ∧ 14 ≤ lo ∧ xRv G YX12_newFile (fr - 1) (lo - 14) [rv x0, .int ((fI h27 x0 3151) + (fI h27 x28 5894)), rv (fR h27 x28 5890)] h27 (fun h38 => xext h27 h38 → bX12_enterRoutine_168 G fr lo x0 x1 x3 x4 x5 h38 Q) (fun r h2 => Q (.threw r) h2)))))))) (fun r h2 => Q (.threw r) h2)))) (fun r h2 => Q (.threw r) h2)
set_option maxRecDepth 100000 in
theorem uX12_enterRoutine_97 {G : xG} {fr lo : Nat} {x0 : Nat} {x1 : Nat} {x3 : Int32} {x4 : Nat} {x5 : Int32} {h : xH} {Q : Outcome → xH → Prop} (hq : bX12_enterRoutine_97 G fr lo x0 x1 x3 x4 x5 h Q) : xP G YX12_enterRoutine fr lo 97 [(0, rv x0), (1, rv x1), (3, .int x3), (4, rv x4), (5, .int x5)] [] h Q := by
  unfold bX12_enterRoutine_97 at hq
  refine x_iload 4 dX12_enterRoutine_97 rfl ?_
  refine x_aload 3 dX12_enterRoutine_99 rfl ?_
  obtain ⟨g1, hq⟩ := hq
  obtain ⟨g2, g3, hq⟩ := hq
  refine x_callV (Yc := YJ2_size) (as := []) (st := [.int x5]) q4067 mvJ2_size g1 rfl dX12_enterRoutine_101 (xle (xal1 (rv_cat _) xal0) (by decide)) (xfr g2) (xlo (xsw1 rfl xsw0) (by decide) g3) (xKi hq (fun x5 h4 hq e6 => ?_) (fun _ _ q _ => q))
  replace hq := hq e6
  refine x_icmp_ge (tgt := 174) dX12_enterRoutine_104 (by decide) (fun c7 => ?_) (fun c7 => ?_)
  · replace hq := hq.1 c7
    refine x_aload_n 0 dX12_enterRoutine_174 rfl ?_
    refine x_dup dX12_enterRoutine_175 (rv_cat _) ?_
    obtain ⟨g8, hq⟩ := hq
    refine x_get (v := .int (fI h4 x0 3151)) fdX12_1360 dX12_enterRoutine_176 g8 rfl ?_
    refine x_aload_n 1 dX12_enterRoutine_179 rfl ?_
    obtain ⟨g9, hq⟩ := hq
    refine x_get (v := .int (fI h4 x1 5914)) fdX12_936 dX12_enterRoutine_180 g9 rfl ?_
    refine x_iadd dX12_enterRoutine_183 ?_
    obtain ⟨h10, e11⟩ : ∃ y, y = sI h4 x0 3151 ((fI h4 x0 3151) + (fI h4 x1 5914)) := ⟨_, rfl⟩
    replace hq := hq h10 e11
    refine x_putI fdX12_1360 xty_I1 dX12_enterRoutine_184 g8 (Or.inl (by rw [g8]; rfl)) xnI rfl e11 ?_
    refine x_aload_n 0 dX12_enterRoutine_187 rfl ?_
    refine x_aload_n 0 dX12_enterRoutine_188 rfl ?_
    have t12 : tg h10 x0 = 13 := by rw [e11]; exact g8
    refine x_get (v := .int (fI h10 x0 3152)) fdX12_1382 dX12_enterRoutine_189 t12 rfl ?_
    refine x_aload_n 0 dX12_enterRoutine_192 rfl ?_
    refine x_get (v := .int (fI h10 x0 3151)) fdX12_1360 dX12_enterRoutine_193 t12 rfl ?_
    obtain ⟨g13, g14, hq⟩ := hq
    refine x_callS (Yc := YJ10_max) (as := [.int (fI h10 x0 3152), .int (fI h10 x0 3151)]) (st := [rv x0]) q4488 msJ10_max rfl dX12_enterRoutine_196 (xle (xal1 rfl (xal1 rfl xal0)) (by decide)) (xfr g13) (xlo (xsw1 (rv_cat _) xsw0) (by decide) g14) (xKi hq (fun x16 h15 hq e17 => ?_) (fun _ _ q _ => q))
    replace hq := hq e17
    have t18 : tg h15 x0 = 13 := e17.tg t12 (by decide)
    obtain ⟨h19, e20⟩ : ∃ y, y = sI h15 x0 3152 x16 := ⟨_, rfl⟩
    replace hq := hq h19 e20
    refine x_putI fdX12_1382 xty_I1 dX12_enterRoutine_199 t18 (Or.inl (by rw [t18]; rfl)) xnI rfl e20 ?_
    refine x_aload_n 0 dX12_enterRoutine_202 rfl ?_
    refine x_iload_n 2 dX12_enterRoutine_203 rfl ?_
    have t21 : tg h19 x0 = 13 := by rw [e20]; exact t18
    obtain ⟨h22, e23⟩ : ∃ y, y = sI h19 x0 3163 x3 := ⟨_, rfl⟩
    replace hq := hq h22 e23
    refine x_putI fdX12_1130 xty_I1 dX12_enterRoutine_204 t21 (Or.inl (by rw [t21]; rfl)) xnI rfl e23 ?_
    exact x_vret rfl dX12_enterRoutine_207 hq
  · replace hq := hq.2 c7
    refine x_aload 3 dX12_enterRoutine_107 rfl ?_
    refine x_iload 4 dX12_enterRoutine_109 rfl ?_
    have t24 : tg h4 x4 = 29 := e6.tg g1 (by decide)
    obtain ⟨g25, g26, hq⟩ := hq
    refine x_callV (Yc := YJ2_get) (as := [.int x5]) (st := []) q4109 mvJ2_get t24 rfl dX12_enterRoutine_111 (xle (xal1 (rv_cat _) (xal1 rfl xal0)) (by decide)) (xfr g25) (xlo xsw0 (by decide) g26) (xKr hq (fun x28 h27 hq e29 => ?_) (fun _ _ q _ => q))
    replace hq := hq e29
    obtain ⟨g30, hq⟩ := hq
    refine x_cast (ci := 23) (by decide) rfl q3206 g30 dX12_enterRoutine_114 ?_
    refine x_astore (lv' := [(6, rv x28), (0, rv x0), (1, rv x1), (3, .int x3), (4, rv x4), (5, .int x5)]) dX12_enterRoutine_117 (by decide) rfl ?_
    refine x_aload 0 dX12_enterRoutine_119 rfl ?_
    refine x_get (v := .int (fI h27 x28 5888)) fdX12_577 dX12_enterRoutine_121 g30 rfl ?_
    refine x_iconst (v := 3) dX12_enterRoutine_124 (by decide) ?_
    refine x_icmp_ne (tgt := 168) dX12_enterRoutine_125 (by decide) (fun c31 => ?_) (fun c31 => ?_)
    · replace hq := hq.1 c31
      refine xP.pick (lv' := [(0, rv x0), (1, rv x1), (3, .int x3), (4, rv x4), (5, .int x5)]) [1, 2, 3, 4, 5] rfl ?_
      exact uX12_enterRoutine_168 hq
    · replace hq := hq.2 c31
      refine x_aload 0 dX12_enterRoutine_128 rfl ?_
      refine x_get (v := .int (fI h27 x28 5896)) fdX12_951 dX12_enterRoutine_130 g30 rfl ?_
      refine x_if_ne (tgt := 168) dX12_enterRoutine_133 (by decide) (fun c32 => ?_) (fun c32 => ?_)
      · replace hq := hq.1 c32
        refine xP.pick (lv' := [(0, rv x0), (1, rv x1), (3, .int x3), (4, rv x4), (5, .int x5)]) [1, 2, 3, 4, 5] rfl ?_
        exact uX12_enterRoutine_168 hq
      · replace hq := hq.2 c32
        refine x_aload 0 dX12_enterRoutine_136 rfl ?_
        refine x_get (v := rv (fR h27 x28 5890)) fdX12_612 dX12_enterRoutine_138 g30 rfl ?_
        obtain ⟨g33, hq⟩ := hq
        refine x_get (v := .int (fI h27 (fR h27 x28 5890) 3328)) fdX12_845 dX12_enterRoutine_141 g33 rfl ?_
        refine x_bipush (v := 10) dX12_enterRoutine_144 (by decide) ?_
        refine x_icmp_ne (tgt := 168) dX12_enterRoutine_146 (by decide) (fun c34 => ?_) (fun c34 => ?_)
        · replace hq := hq.1 c34
          refine xP.pick (lv' := [(0, rv x0), (1, rv x1), (3, .int x3), (4, rv x4), (5, .int x5)]) [1, 2, 3, 4, 5] rfl ?_
          exact uX12_enterRoutine_168 hq
        · replace hq := hq.2 c34
          refine x_aload_n 1 dX12_enterRoutine_149 rfl ?_
          refine x_aload_n 1 dX12_enterRoutine_150 rfl ?_
          obtain ⟨g35, hq⟩ := hq
          refine x_get (v := .int (fI h27 x0 3151)) fdX12_1360 dX12_enterRoutine_151 g35 rfl ?_
          refine x_aload 0 dX12_enterRoutine_154 rfl ?_
          refine x_get (v := .int (fI h27 x28 5894)) fdX12_713 dX12_enterRoutine_156 g30 rfl ?_
          refine x_iadd dX12_enterRoutine_159 ?_
          refine x_aload 0 dX12_enterRoutine_160 rfl ?_
          refine x_get (v := rv (fR h27 x28 5890)) fdX12_612 dX12_enterRoutine_162 g30 rfl ?_
          obtain ⟨g36, g37, hq⟩ := hq
          refine x_callV (Yc := YX12_newFile) (as := [.int ((fI h27 x0 3151) + (fI h27 x28 5894)), rv (fR h27 x28 5890)]) (st := []) q4498 mvX12_newFile g35 rfl dX12_enterRoutine_165 (xle (xal1 (rv_cat _) (xal1 rfl (xal1 (rv_cat _) xal0))) (by decide)) (xfr g36) (xlo xsw0 (by decide) g37) (xKv hq (fun h38 hq e40 => ?_) (fun _ _ q _ => q))
          replace hq := hq e40
          refine xP.pick (lv' := [(0, rv x0), (1, rv x1), (3, .int x3), (4, rv x4), (5, .int x5)]) [1, 2, 3, 4, 5] rfl ?_
          exact uX12_enterRoutine_168 hq
set_option maxRecDepth 100000 in
def bX12_enterRoutine (G : xG) (fr lo : Nat) (x0 : Nat) (x1 : Nat) (x2 : Int32) (h : xH) (Q : Outcome → xH → Prop) : Prop := tg h x0 = 13 ∧ (∀ h2 : xH, h2 = sI h x0 3164 ((fI h x0 3164) + 1) → 1 ≤ fr ∧ 14 ≤ lo ∧ xRi G YJ10_max (fr - 1) (lo - 14) [.int (fI h2 x0 3165), .int ((fI h2 x0 3164) - 1)] h2 (fun x8 h7 => xext h2 h7 → (∀ h11 : xH, h11 = sI h7 x0 3165 x8 → tg h11 (fR h11 x0 3158) = 100 ∧ vp_in (fI h x0 3164) (ln h11 (fR h11 x0 3158)) ∧ (∀ h16 : xH, h16 = tI h11 (fR h11 x0 3158) (Int32.toNatClampNeg (fI h x0 3164)) (fI h11 x0 3151) → tg h16 (fR h16 x0 3159) = 100 ∧ vp_in (fI h x0 3164) (ln h16 (fR h16 x0 3159)) ∧ (∀ h21 : xH, h21 = tI h16 (fR h16 x0 3159) (Int32.toNatClampNeg (fI h x0 3164)) x2 → tg h21 x1 = 24 ∧ tg h21 (fR h21 x0 3160) = 100 ∧ vp_in (fI h x0 3164) (ln h21 (fR h21 x0 3160)) ∧ (∀ h27 : xH, h27 = tI h21 (fR h21 x0 3160) (Int32.toNatClampNeg (fI h x0 3164)) ((fI h21 x1 5893) + 1) → tg h27 (fR h27 x0 3161) = 100 ∧ vp_in (fI h x0 3164) (ln h27 (fR h27 x0 3161)) ∧ (∀ h32 : xH, h32 = tI h27 (fR h27 x0 3161) (Int32.toNatClampNeg (fI h x0 3164)) (fI h27 x0 3190) → 1 ≤ fr ∧ 15 ≤ lo ∧ xRv G YX12_blank (fr - 1) (lo - 15) [rv x0, .int (fI h32 x0 3151), .int ((fI h32 x0 3151) + (fI h32 x1 5914))] h32 (fun h39 => xext h32 h39 → lX12_enterRoutine_97 G fr lo x0 x1 (fI h x0 3164) (fR h39 x1 5911) 0 h39 Q) (fun r h2 => Q (.threw r) h2))))))) (fun r h2 => Q (.threw r) h2))
set_option maxRecDepth 100000 in
theorem uX12_enterRoutine {G : xG} {fr lo : Nat} {x0 : Nat} {x1 : Nat} {x2 : Int32} {h : xH} {Q : Outcome → xH → Prop} (hq : bX12_enterRoutine G fr lo x0 x1 x2 h Q) : xP G YX12_enterRoutine fr lo 0 [(0, rv x0), (1, rv x1), (2, .int x2)] [] h Q := by
  unfold bX12_enterRoutine at hq
  refine x_aload_n 0 dX12_enterRoutine_0 rfl ?_
  obtain ⟨g1, hq⟩ := hq
  refine x_get (v := .int (fI h x0 3164)) fdX12_1357 dX12_enterRoutine_1 g1 rfl ?_
  refine x_istore_n (lv' := [(3, .int (fI h x0 3164)), (0, rv x0), (1, rv x1), (2, .int x2)]) dX12_enterRoutine_4 (by decide) rfl ?_
  refine x_aload_n 1 dX12_enterRoutine_5 rfl ?_
  refine x_dup dX12_enterRoutine_6 (rv_cat _) ?_
  refine x_get (v := .int (fI h x0 3164)) fdX12_1357 dX12_enterRoutine_7 g1 rfl ?_
  refine x_iconst (v := 1) dX12_enterRoutine_10 (by decide) ?_
  refine x_iadd dX12_enterRoutine_11 ?_
  obtain ⟨h2, e3⟩ : ∃ y, y = sI h x0 3164 ((fI h x0 3164) + 1) := ⟨_, rfl⟩
  replace hq := hq h2 e3
  refine x_putI fdX12_1357 xty_I1 dX12_enterRoutine_12 g1 (Or.inl (by rw [g1]; rfl)) xnI rfl e3 ?_
  refine x_aload_n 1 dX12_enterRoutine_15 rfl ?_
  refine x_aload_n 1 dX12_enterRoutine_16 rfl ?_
  have t4 : tg h2 x0 = 13 := by rw [e3]; exact g1
  refine x_get (v := .int (fI h2 x0 3165)) fdX12_1376 dX12_enterRoutine_17 t4 rfl ?_
  refine x_aload_n 1 dX12_enterRoutine_20 rfl ?_
  refine x_get (v := .int (fI h2 x0 3164)) fdX12_1357 dX12_enterRoutine_21 t4 rfl ?_
  refine x_iconst (v := 1) dX12_enterRoutine_24 (by decide) ?_
  refine x_isub dX12_enterRoutine_25 ?_
  obtain ⟨g5, g6, hq⟩ := hq
  refine x_callS (Yc := YJ10_max) (as := [.int (fI h2 x0 3165), .int ((fI h2 x0 3164) - 1)]) (st := [rv x0]) q4488 msJ10_max rfl dX12_enterRoutine_26 (xle (xal1 rfl (xal1 rfl xal0)) (by decide)) (xfr g5) (xlo (xsw1 (rv_cat _) xsw0) (by decide) g6) (xKi hq (fun x8 h7 hq e9 => ?_) (fun _ _ q _ => q))
  replace hq := hq e9
  have t10 : tg h7 x0 = 13 := e9.tg t4 (by decide)
  obtain ⟨h11, e12⟩ : ∃ y, y = sI h7 x0 3165 x8 := ⟨_, rfl⟩
  replace hq := hq h11 e12
  refine x_putI fdX12_1376 xty_I1 dX12_enterRoutine_29 t10 (Or.inl (by rw [t10]; rfl)) xnI rfl e12 ?_
  refine x_aload_n 1 dX12_enterRoutine_32 rfl ?_
  have t13 : tg h11 x0 = 13 := by rw [e12]; exact t10
  refine x_get (v := rv (fR h11 x0 3158)) fdX12_179 dX12_enterRoutine_33 t13 rfl ?_
  refine x_iload_n 0 dX12_enterRoutine_36 rfl ?_
  refine x_aload_n 1 dX12_enterRoutine_37 rfl ?_
  refine x_get (v := .int (fI h11 x0 3151)) fdX12_1360 dX12_enterRoutine_38 t13 rfl ?_
  obtain ⟨g14, hq⟩ := hq
  obtain ⟨i15, hq⟩ := hq
  obtain ⟨h16, e17⟩ : ∃ y, y = tI h11 (fR h11 x0 3158) (Int32.toNatClampNeg (fI h x0 3164)) (fI h11 x0 3151) := ⟨_, rfl⟩
  replace hq := hq h16 e17
  refine x_iast' g14 i15 dX12_enterRoutine_41 e17 ?_
  refine x_aload_n 1 dX12_enterRoutine_42 rfl ?_
  have t18 : tg h16 x0 = 13 := by rw [e17]; exact t13
  refine x_get (v := rv (fR h16 x0 3159)) fdX12_182 dX12_enterRoutine_43 t18 rfl ?_
  refine x_iload_n 0 dX12_enterRoutine_46 rfl ?_
  refine x_iload_n 3 dX12_enterRoutine_47 rfl ?_
  obtain ⟨g19, hq⟩ := hq
  obtain ⟨i20, hq⟩ := hq
  obtain ⟨h21, e22⟩ : ∃ y, y = tI h16 (fR h16 x0 3159) (Int32.toNatClampNeg (fI h x0 3164)) x2 := ⟨_, rfl⟩
  replace hq := hq h21 e22
  refine x_iast' g19 i20 dX12_enterRoutine_48 e22 ?_
  refine x_aload_n 1 dX12_enterRoutine_49 rfl ?_
  have t23 : tg h21 x0 = 13 := by rw [e22]; exact t18
  refine x_get (v := rv (fR h21 x0 3160)) fdX12_185 dX12_enterRoutine_50 t23 rfl ?_
  refine x_iload_n 0 dX12_enterRoutine_53 rfl ?_
  refine x_aload_n 2 dX12_enterRoutine_54 rfl ?_
  obtain ⟨g24, hq⟩ := hq
  refine x_get (v := .int (fI h21 x1 5893)) fdX12_705 dX12_enterRoutine_55 g24 rfl ?_
  refine x_iconst (v := 1) dX12_enterRoutine_58 (by decide) ?_
  refine x_iadd dX12_enterRoutine_59 ?_
  obtain ⟨g25, hq⟩ := hq
  obtain ⟨i26, hq⟩ := hq
  obtain ⟨h27, e28⟩ : ∃ y, y = tI h21 (fR h21 x0 3160) (Int32.toNatClampNeg (fI h x0 3164)) ((fI h21 x1 5893) + 1) := ⟨_, rfl⟩
  replace hq := hq h27 e28
  refine x_iast' g25 i26 dX12_enterRoutine_60 e28 ?_
  refine x_aload_n 1 dX12_enterRoutine_61 rfl ?_
  have t29 : tg h27 x0 = 13 := by rw [e28]; exact t23
  refine x_get (v := rv (fR h27 x0 3161)) fdX12_188 dX12_enterRoutine_62 t29 rfl ?_
  refine x_iload_n 0 dX12_enterRoutine_65 rfl ?_
  refine x_aload_n 1 dX12_enterRoutine_66 rfl ?_
  refine x_get (v := .int (fI h27 x0 3190)) fdX12_1175 dX12_enterRoutine_67 t29 rfl ?_
  obtain ⟨g30, hq⟩ := hq
  obtain ⟨i31, hq⟩ := hq
  obtain ⟨h32, e33⟩ : ∃ y, y = tI h27 (fR h27 x0 3161) (Int32.toNatClampNeg (fI h x0 3164)) (fI h27 x0 3190) := ⟨_, rfl⟩
  replace hq := hq h32 e33
  refine x_iast' g30 i31 dX12_enterRoutine_70 e33 ?_
  refine x_aload_n 1 dX12_enterRoutine_71 rfl ?_
  refine x_aload_n 1 dX12_enterRoutine_72 rfl ?_
  have t34 : tg h32 x0 = 13 := by rw [e33]; exact t29
  refine x_get (v := .int (fI h32 x0 3151)) fdX12_1360 dX12_enterRoutine_73 t34 rfl ?_
  refine x_aload_n 1 dX12_enterRoutine_76 rfl ?_
  refine x_get (v := .int (fI h32 x0 3151)) fdX12_1360 dX12_enterRoutine_77 t34 rfl ?_
  refine x_aload_n 2 dX12_enterRoutine_80 rfl ?_
  have t35 : tg h27 x1 = 24 := by rw [e28]; exact g24
  have t36 : tg h32 x1 = 24 := by rw [e33]; exact t35
  refine x_get (v := .int (fI h32 x1 5914)) fdX12_936 dX12_enterRoutine_81 t36 rfl ?_
  refine x_iadd dX12_enterRoutine_84 ?_
  obtain ⟨g37, g38, hq⟩ := hq
  refine x_callV (Yc := YX12_blank) (as := [.int (fI h32 x0 3151), .int ((fI h32 x0 3151) + (fI h32 x1 5914))]) (st := []) q4494 mvX12_blank t34 rfl dX12_enterRoutine_85 (xle (xal1 (rv_cat _) (xal1 rfl (xal1 rfl xal0))) (by decide)) (xfr g37) (xlo xsw0 (by decide) g38) (xKv hq (fun h39 hq e41 => ?_) (fun _ _ q _ => q))
  replace hq := hq e41
  refine x_aload_n 2 dX12_enterRoutine_88 rfl ?_
  have t42 : tg h39 x1 = 24 := e41.tg t36 (by decide)
  refine x_get (v := rv (fR h39 x1 5911)) fdX12_923 dX12_enterRoutine_89 t42 rfl ?_
  refine x_astore (lv' := [(4, rv (fR h39 x1 5911)), (3, .int (fI h x0 3164)), (0, rv x0), (1, rv x1), (2, .int x2)]) dX12_enterRoutine_92 (by decide) rfl ?_
  refine x_iconst (v := 0) dX12_enterRoutine_94 (by decide) ?_
  refine x_istore (lv' := [(5, .int 0), (4, rv (fR h39 x1 5911)), (3, .int (fI h x0 3164)), (0, rv x0), (1, rv x1), (2, .int x2)]) dX12_enterRoutine_95 (by decide) (by first | rfl | (simp [rv_cat, Value.category]; done) | (simp [rv_cat, Value.category]; decide)) ?_
  refine xP.pick (lv' := [(0, rv x0), (1, rv x1), (3, .int (fI h x0 3164)), (4, rv (fR h39 x1 5911)), (5, .int 0)]) [3, 4, 2, 1, 0] rfl ?_
  exact hq
theorem rX12_enterRoutine {G : xG} {fr lo : Nat} {x0 : Nat} {x1 : Nat} {x2 : Int32} {h : xH} {Q : Outcome → xH → Prop} (hq : bX12_enterRoutine G fr lo x0 x1 x2 h Q) : xR G YX12_enterRoutine fr lo [rv x0, rv x1, .int x2] h Q := by
  show xP _ _ _ _ _ (lv_args 0 _) _ _ _
  rw [show lv_args 0 [rv x0, rv x1, .int x2] = [(0, rv x0), (1, rv x1), (2, .int x2)] from (xla1 (rv_cat _) (xla1 (rv_cat _) (xla1 rfl xla0)))]
  exact uX12_enterRoutine hq
set_option maxRecDepth 100000 in
theorem dX12_receive_0 : decode cX12_receive 0 = .ok (.iload_n 2, 1) := by decide +kernel
set_option maxRecDepth 100000 in
theorem dX12_receive_1 : decode cX12_receive 1 = .ok (.aload_n 1, 1) := by decide +kernel
set_option maxRecDepth 100000 in
theorem dX12_receive_2 : decode cX12_receive 2 = .ok (.getfield 713, 3) := by decide +kernel
set_option maxRecDepth 100000 in
theorem dX12_receive_5 : decode cX12_receive 5 = .ok (.iadd, 1) := by decide +kernel
set_option maxRecDepth 100000 in
theorem dX12_receive_6 : decode cX12_receive 6 = .ok (.istore 4, 2) := by decide +kernel
set_option maxRecDepth 100000 in
theorem dX12_receive_8 : decode cX12_receive 8 = .ok (.aload_n 1, 1) := by decide +kernel
set_option maxRecDepth 100000 in
theorem dX12_receive_9 : decode cX12_receive 9 = .ok (.getfield 577, 3) := by decide +kernel
set_option maxRecDepth 100000 in
theorem dX12_receive_12 : decode cX12_receive 12 = .ok (.iconst 3, 1) := by decide +kernel
set_option maxRecDepth 100000 in
theorem dX12_receive_13 : decode cX12_receive 13 = .ok (.if_icmp .ne 42, 3) := by decide +kernel
set_option maxRecDepth 100000 in
theorem dX12_receive_16 : decode cX12_receive 16 = .ok (.aload_n 1, 1) := by decide +kernel
set_option maxRecDepth 100000 in
theorem dX12_receive_17 : decode cX12_receive 17 = .ok (.getfield 961, 3) := by decide +kernel
set_option maxRecDepth 100000 in
theorem dX12_receive_20 : decode cX12_receive 20 = .ok (.ifCond .ne 35, 3) := by decide +kernel
set_option maxRecDepth 100000 in
theorem dX12_receive_23 : decode cX12_receive 23 = .ok (.aload_n 1, 1) := by decide +kernel
set_option maxRecDepth 100000 in
theorem dX12_receive_24 : decode cX12_receive 24 = .ok (.getfield 612, 3) := by decide +kernel
set_option maxRecDepth 100000 in
theorem dX12_receive_27 : decode cX12_receive 27 = .ok (.invokevirtual 1139, 3) := by decide +kernel
set_option maxRecDepth 100000 in
theorem dX12_receive_30 : decode cX12_receive 30 = .ok (.ifCond .eq 25, 3) := by decide +kernel
set_option maxRecDepth 100000 in
theorem dX12_receive_33 : decode cX12_receive 33 = .ok (.aload_n 0, 1) := by decide +kernel
set_option maxRecDepth 100000 in
theorem dX12_receive_34 : decode cX12_receive 34 = .ok (.aload_n 0, 1) := by decide +kernel
set_option maxRecDepth 100000 in
theorem dX12_receive_35 : decode cX12_receive 35 = .ok (.getfield 195, 3) := by decide +kernel
set_option maxRecDepth 100000 in
theorem dX12_receive_38 : decode cX12_receive 38 = .ok (.iload_n 3, 1) := by decide +kernel
set_option maxRecDepth 100000 in
theorem dX12_receive_39 : decode cX12_receive 39 = .ok (.laload, 1) := by decide +kernel
set_option maxRecDepth 100000 in
theorem dX12_receive_40 : decode cX12_receive 40 = .ok (.l2i, 1) := by decide +kernel
set_option maxRecDepth 100000 in
theorem dX12_receive_41 : decode cX12_receive 41 = .ok (.iload 4, 2) := by decide +kernel
set_option maxRecDepth 100000 in
theorem dX12_receive_43 : decode cX12_receive 43 = .ok (.aload_n 1, 1) := by decide +kernel
set_option maxRecDepth 100000 in
theorem dX12_receive_44 : decode cX12_receive 44 = .ok (.getfield 612, 3) := by decide +kernel
set_option maxRecDepth 100000 in
theorem dX12_receive_47 : decode cX12_receive 47 = .ok (.getfield 603, 3) := by decide +kernel
set_option maxRecDepth 100000 in
theorem dX12_receive_50 : decode cX12_receive 50 = .ok (.l2i, 1) := by decide +kernel
set_option maxRecDepth 100000 in
theorem dX12_receive_51 : decode cX12_receive 51 = .ok (.invokevirtual 1165, 3) := by decide +kernel
set_option maxRecDepth 100000 in
theorem dX12_receive_54 : decode cX12_receive 54 = .ok (.return_, 1) := by decide +kernel
set_option maxRecDepth 100000 in
theorem dX12_receive_55 : decode cX12_receive 55 = .ok (.aload_n 0, 1) := by decide +kernel
set_option maxRecDepth 100000 in
theorem dX12_receive_56 : decode cX12_receive 56 = .ok (.getfield 169, 3) := by decide +kernel
set_option maxRecDepth 100000 in
theorem dX12_receive_59 : decode cX12_receive 59 = .ok (.iload 4, 2) := by decide +kernel
set_option maxRecDepth 100000 in
theorem dX12_receive_61 : decode cX12_receive 61 = .ok (.iconst 1, 1) := by decide +kernel
set_option maxRecDepth 100000 in
theorem dX12_receive_62 : decode cX12_receive 62 = .ok (.bastore, 1) := by decide +kernel
set_option maxRecDepth 100000 in
theorem dX12_receive_63 : decode cX12_receive 63 = .ok (.aload_n 0, 1) := by decide +kernel
set_option maxRecDepth 100000 in
theorem dX12_receive_64 : decode cX12_receive 64 = .ok (.getfield 159, 3) := by decide +kernel
set_option maxRecDepth 100000 in
theorem dX12_receive_67 : decode cX12_receive 67 = .ok (.iload 4, 2) := by decide +kernel
set_option maxRecDepth 100000 in
theorem dX12_receive_69 : decode cX12_receive 69 = .ok (.aload_n 0, 1) := by decide +kernel
set_option maxRecDepth 100000 in
theorem dX12_receive_70 : decode cX12_receive 70 = .ok (.getfield 195, 3) := by decide +kernel
set_option maxRecDepth 100000 in
theorem dX12_receive_73 : decode cX12_receive 73 = .ok (.iload_n 3, 1) := by decide +kernel
set_option maxRecDepth 100000 in
theorem dX12_receive_74 : decode cX12_receive 74 = .ok (.laload, 1) := by decide +kernel
set_option maxRecDepth 100000 in
theorem dX12_receive_75 : decode cX12_receive 75 = .ok (.lastore, 1) := by decide +kernel
set_option maxRecDepth 100000 in
theorem dX12_receive_76 : decode cX12_receive 76 = .ok (.aload_n 0, 1) := by decide +kernel
set_option maxRecDepth 100000 in
theorem dX12_receive_77 : decode cX12_receive 77 = .ok (.getfield 163, 3) := by decide +kernel
set_option maxRecDepth 100000 in
theorem dX12_receive_80 : decode cX12_receive 80 = .ok (.iload 4, 2) := by decide +kernel
set_option maxRecDepth 100000 in
theorem dX12_receive_82 : decode cX12_receive 82 = .ok (.aload_n 0, 1) := by decide +kernel
set_option maxRecDepth 100000 in
theorem dX12_receive_83 : decode cX12_receive 83 = .ok (.getfield 198, 3) := by decide +kernel
set_option maxRecDepth 100000 in
theorem dX12_receive_86 : decode cX12_receive 86 = .ok (.iload_n 3, 1) := by decide +kernel
set_option maxRecDepth 100000 in
theorem dX12_receive_87 : decode cX12_receive 87 = .ok (.laload, 1) := by decide +kernel
set_option maxRecDepth 100000 in
theorem dX12_receive_88 : decode cX12_receive 88 = .ok (.lastore, 1) := by decide +kernel
set_option maxRecDepth 100000 in
theorem dX12_receive_89 : decode cX12_receive 89 = .ok (.aload_n 0, 1) := by decide +kernel
set_option maxRecDepth 100000 in
theorem dX12_receive_90 : decode cX12_receive 90 = .ok (.getfield 166, 3) := by decide +kernel
set_option maxRecDepth 100000 in
theorem dX12_receive_93 : decode cX12_receive 93 = .ok (.iload 4, 2) := by decide +kernel
set_option maxRecDepth 100000 in
theorem dX12_receive_95 : decode cX12_receive 95 = .ok (.aload_n 0, 1) := by decide +kernel
set_option maxRecDepth 100000 in
theorem dX12_receive_96 : decode cX12_receive 96 = .ok (.getfield 201, 3) := by decide +kernel
set_option maxRecDepth 100000 in
theorem dX12_receive_99 : decode cX12_receive 99 = .ok (.iload_n 3, 1) := by decide +kernel
set_option maxRecDepth 100000 in
theorem dX12_receive_100 : decode cX12_receive 100 = .ok (.daload, 1) := by decide +kernel
set_option maxRecDepth 100000 in
theorem dX12_receive_101 : decode cX12_receive 101 = .ok (.dastore, 1) := by decide +kernel
set_option maxRecDepth 100000 in
theorem dX12_receive_102 : decode cX12_receive 102 = .ok (.return_, 1) := by decide +kernel
set_option maxRecDepth 100000 in
def bX12_receive_55 (G : xG) (fr lo : Nat) (x0 : Nat) (x3 : Int32) (x4 : Int32) (h : xH) (Q : Outcome → xH → Prop) : Prop := tg h x0 = 13 ∧ tg h (fR h x0 3150) = 104 ∧ vp_in x4 (ln h (fR h x0 3150)) ∧ (∀ h4 : xH, h4 = tI h (fR h x0 3150) (Int32.toNatClampNeg x4) (vp_nar .boolean 1) → tg h4 (fR h4 x0 3166) = 101 ∧ vp_in x3 (ln h4 (fR h4 x0 3166)) ∧ tg h4 (fR h4 x0 3147) = 101 ∧ vp_in x4 (ln h4 (fR h4 x0 3147)) ∧ (∀ h11 : xH, h11 = tJ h4 (fR h4 x0 3147) (Int32.toNatClampNeg x4) (aJ h4 (fR h4 x0 3166) (Int32.toNatClampNeg x3)) → tg h11 (fR h11 x0 3167) = 101 ∧ vp_in x3 (ln h11 (fR h11 x0 3167)) ∧ tg h11 (fR h11 x0 3148) = 101 ∧ vp_in x4 (ln h11 (fR h11 x0 3148)) ∧ (∀ h18 : xH, h18 = tJ h11 (fR h11 x0 3148) (Int32.toNatClampNeg x4) (aJ h11 (fR h11 x0 3167) (Int32.toNatClampNeg x3)) → tg h18 (fR h18 x0 3168) = 102 ∧ vp_in x3 (ln h18 (fR h18 x0 3168)) ∧ tg h18 (fR h18 x0 3149) = 102 ∧ vp_in x4 (ln h18 (fR h18 x0 3149)) ∧ (∀ h25 : xH, h25 = tD h18 (fR h18 x0 3149) (Int32.toNatClampNeg x4) (aD h18 (fR h18 x0 3168) (Int32.toNatClampNeg x3)) → Q (.returned none) h25))))
set_option maxRecDepth 100000 in
theorem uX12_receive_55 {G : xG} {fr lo : Nat} {x0 : Nat} {x3 : Int32} {x4 : Int32} {h : xH} {Q : Outcome → xH → Prop} (hq : bX12_receive_55 G fr lo x0 x3 x4 h Q) : xP G YX12_receive fr lo 55 [(0, rv x0), (3, .int x3), (4, .int x4)] [] h Q := by
  unfold bX12_receive_55 at hq
  refine x_aload_n 0 dX12_receive_55 rfl ?_
  obtain ⟨g1, hq⟩ := hq
  refine x_get (v := rv (fR h x0 3150)) fdX12_169 dX12_receive_56 g1 rfl ?_
  refine x_iload 2 dX12_receive_59 rfl ?_
  refine x_iconst (v := 1) dX12_receive_61 (by decide) ?_
  obtain ⟨g2, hq⟩ := hq
  obtain ⟨i3, hq⟩ := hq
  obtain ⟨h4, e5⟩ : ∃ y, y = tI h (fR h x0 3150) (Int32.toNatClampNeg x4) (vp_nar .boolean 1) := ⟨_, rfl⟩
  replace hq := hq h4 e5
  refine x_zast' g2 i3 dX12_receive_62 e5 ?_
  refine x_aload_n 0 dX12_receive_63 rfl ?_
  have t6 : tg h4 x0 = 13 := by rw [e5]; exact g1
  refine x_get (v := rv (fR h4 x0 3147)) fdX12_159 dX12_receive_64 t6 rfl ?_
  refine x_iload 2 dX12_receive_67 rfl ?_
  refine x_aload_n 0 dX12_receive_69 rfl ?_
  refine x_get (v := rv (fR h4 x0 3166)) fdX12_195 dX12_receive_70 t6 rfl ?_
  refine x_iload_n 1 dX12_receive_73 rfl ?_
  obtain ⟨g7, hq⟩ := hq
  obtain ⟨i8, hq⟩ := hq
  refine x_lald g7 i8 dX12_receive_74 ?_
  obtain ⟨g9, hq⟩ := hq
  obtain ⟨i10, hq⟩ := hq
  obtain ⟨h11, e12⟩ : ∃ y, y = tJ h4 (fR h4 x0 3147) (Int32.toNatClampNeg x4) (aJ h4 (fR h4 x0 3166) (Int32.toNatClampNeg x3)) := ⟨_, rfl⟩
  replace hq := hq h11 e12
  refine x_last' g9 i10 dX12_receive_75 e12 ?_
  refine x_aload_n 0 dX12_receive_76 rfl ?_
  have t13 : tg h11 x0 = 13 := by rw [e12]; exact t6
  refine x_get (v := rv (fR h11 x0 3148)) fdX12_163 dX12_receive_77 t13 rfl ?_
  refine x_iload 2 dX12_receive_80 rfl ?_
  refine x_aload_n 0 dX12_receive_82 rfl ?_
  refine x_get (v := rv (fR h11 x0 3167)) fdX12_198 dX12_receive_83 t13 rfl ?_
  refine x_iload_n 1 dX12_receive_86 rfl ?_
  obtain ⟨g14, hq⟩ := hq
  obtain ⟨i15, hq⟩ := hq
  refine x_lald g14 i15 dX12_receive_87 ?_
  obtain ⟨g16, hq⟩ := hq
  obtain ⟨i17, hq⟩ := hq
  obtain ⟨h18, e19⟩ : ∃ y, y = tJ h11 (fR h11 x0 3148) (Int32.toNatClampNeg x4) (aJ h11 (fR h11 x0 3167) (Int32.toNatClampNeg x3)) := ⟨_, rfl⟩
  replace hq := hq h18 e19
  refine x_last' g16 i17 dX12_receive_88 e19 ?_
  refine x_aload_n 0 dX12_receive_89 rfl ?_
  have t20 : tg h18 x0 = 13 := by rw [e19]; exact t13
  refine x_get (v := rv (fR h18 x0 3149)) fdX12_166 dX12_receive_90 t20 rfl ?_
  refine x_iload 2 dX12_receive_93 rfl ?_
  refine x_aload_n 0 dX12_receive_95 rfl ?_
  refine x_get (v := rv (fR h18 x0 3168)) fdX12_201 dX12_receive_96 t20 rfl ?_
  refine x_iload_n 1 dX12_receive_99 rfl ?_
  obtain ⟨g21, hq⟩ := hq
  obtain ⟨i22, hq⟩ := hq
  refine x_dald g21 i22 dX12_receive_100 ?_
  obtain ⟨g23, hq⟩ := hq
  obtain ⟨i24, hq⟩ := hq
  obtain ⟨h25, e26⟩ : ∃ y, y = tD h18 (fR h18 x0 3149) (Int32.toNatClampNeg x4) (aD h18 (fR h18 x0 3168) (Int32.toNatClampNeg x3)) := ⟨_, rfl⟩
  replace hq := hq h25 e26
  refine x_dast' g23 i24 dX12_receive_101 e26 ?_
  exact x_vret rfl dX12_receive_102 hq
set_option maxRecDepth 100000 in
def bX12_receive (G : xG) (fr lo : Nat) (x0 : Nat) (x1 : Nat) (x2 : Int32) (x3 : Int32) (h : xH) (Q : Outcome → xH → Prop) : Prop := tg h x1 = 24 ∧ ((¬ (fI h x1 5888) = 3 → bX12_receive_55 G fr lo x0 x3 (x2 + (fI h x1 5894)) h Q) ∧ ((fI h x1 5888) = 3 → ((¬ (fI h x1 5895) = 0 → bX12_receive_55 G fr lo x0 x3 (x2 + (fI h x1 5894)) h Q) ∧ ((fI h x1 5895) = 0 → tg h (fR h x1 5890) = 14 ∧ 1 ≤ fr ∧ 12 ≤ lo ∧ xRi G YX13_isKept (fr - 1) (lo - 12) [rv (fR h x1 5890)] h (fun x8 h7 => xext h h7 → ((x8 = 0 → bX12_receive_55 G fr lo x0 x3 (x2 + (fI h x1 5894)) h7 Q) ∧ (¬ x8 = 0 → tg h7 x0 = 13 ∧ tg h7 (fR h7 x0 3166) = 101 ∧ vp_in x3 (ln h7 (fR h7 x0 3166)) ∧ tg h7 (fR h7 x1 5890) = 14 ∧ 1 ≤ fr ∧ 17 ≤ lo ∧ xRv G YX12_copy (fr - 1) (lo - 17) [rv x0, .int (Int64.toInt32 (aJ h7 (fR h7 x0 3166) (Int32.toNatClampNeg x3))), .int (x2 + (fI h x1 5894)), .int (Int64.toInt32 (fJ h7 (fR h7 x1 5890) 3334))] h7 (fun h18 => xext h7 h18 → Q (.returned none) h18) (fun r h2 => Q (.threw r) h2)))) (fun r h2 => Q (.threw r) h2)))))
set_option maxRecDepth 100000 in
theorem uX12_receive {G : xG} {fr lo : Nat} {x0 : Nat} {x1 : Nat} {x2 : Int32} {x3 : Int32} {h : xH} {Q : Outcome → xH → Prop} (hq : bX12_receive G fr lo x0 x1 x2 x3 h Q) : xP G YX12_receive fr lo 0 [(0, rv x0), (1, rv x1), (2, .int x2), (3, .int x3)] [] h Q := by
  unfold bX12_receive at hq
  refine x_iload_n 2 dX12_receive_0 rfl ?_
  refine x_aload_n 1 dX12_receive_1 rfl ?_
  obtain ⟨g1, hq⟩ := hq
  refine x_get (v := .int (fI h x1 5894)) fdX12_713 dX12_receive_2 g1 rfl ?_
  refine x_iadd dX12_receive_5 ?_
  refine x_istore (lv' := [(4, .int (x2 + (fI h x1 5894))), (0, rv x0), (1, rv x1), (2, .int x2), (3, .int x3)]) dX12_receive_6 (by decide) rfl ?_
  refine x_aload_n 2 dX12_receive_8 rfl ?_
  refine x_get (v := .int (fI h x1 5888)) fdX12_577 dX12_receive_9 g1 rfl ?_
  refine x_iconst (v := 3) dX12_receive_12 (by decide) ?_
  refine x_icmp_ne (tgt := 55) dX12_receive_13 (by decide) (fun c2 => ?_) (fun c2 => ?_)
  · replace hq := hq.1 c2
    refine xP.pick (lv' := [(0, rv x0), (3, .int x3), (4, .int (x2 + (fI h x1 5894)))]) [1, 4, 0] rfl ?_
    exact uX12_receive_55 hq
  · replace hq := hq.2 c2
    refine x_aload_n 2 dX12_receive_16 rfl ?_
    refine x_get (v := .int (fI h x1 5895)) fdX12_961 dX12_receive_17 g1 rfl ?_
    refine x_if_ne (tgt := 55) dX12_receive_20 (by decide) (fun c3 => ?_) (fun c3 => ?_)
    · replace hq := hq.1 c3
      refine xP.pick (lv' := [(0, rv x0), (3, .int x3), (4, .int (x2 + (fI h x1 5894)))]) [1, 4, 0] rfl ?_
      exact uX12_receive_55 hq
    · replace hq := hq.2 c3
      refine x_aload_n 2 dX12_receive_23 rfl ?_
      refine x_get (v := rv (fR h x1 5890)) fdX12_612 dX12_receive_24 g1 rfl ?_
      obtain ⟨g4, hq⟩ := hq
      obtain ⟨g5, g6, hq⟩ := hq
      refine x_callV (Yc := YX13_isKept) (as := []) (st := []) q4627 mvX13_isKept g4 rfl dX12_receive_27 (xle (xal1 (rv_cat _) xal0) (by decide)) (xfr g5) (xlo xsw0 (by decide) g6) (xKi hq (fun x8 h7 hq e9 => ?_) (fun _ _ q _ => q))
      replace hq := hq e9
      refine x_if_eq (tgt := 55) dX12_receive_30 (by decide) (fun c10 => ?_) (fun c10 => ?_)
      · replace hq := hq.1 c10
        refine xP.pick (lv' := [(0, rv x0), (3, .int x3), (4, .int (x2 + (fI h x1 5894)))]) [1, 4, 0] rfl ?_
        exact uX12_receive_55 hq
      · replace hq := hq.2 c10
        refine x_aload_n 1 dX12_receive_33 rfl ?_
        refine x_aload_n 1 dX12_receive_34 rfl ?_
        obtain ⟨g11, hq⟩ := hq
        refine x_get (v := rv (fR h7 x0 3166)) fdX12_195 dX12_receive_35 g11 rfl ?_
        refine x_iload_n 4 dX12_receive_38 rfl ?_
        obtain ⟨g12, hq⟩ := hq
        obtain ⟨i13, hq⟩ := hq
        refine x_lald g12 i13 dX12_receive_39 ?_
        refine x_l2i dX12_receive_40 ?_
        refine x_iload 0 dX12_receive_41 rfl ?_
        refine x_aload_n 2 dX12_receive_43 rfl ?_
        have t14 : tg h7 x1 = 24 := e9.tg g1 (by decide)
        refine x_get (v := rv (fR h7 x1 5890)) fdX12_612 dX12_receive_44 t14 rfl ?_
        obtain ⟨g15, hq⟩ := hq
        refine x_get (v := .long (fJ h7 (fR h7 x1 5890) 3334)) fdX12_603 dX12_receive_47 g15 rfl ?_
        refine x_l2i dX12_receive_50 ?_
        obtain ⟨g16, g17, hq⟩ := hq
        refine x_callV (Yc := YX12_copy) (as := [.int (Int64.toInt32 (aJ h7 (fR h7 x0 3166) (Int32.toNatClampNeg x3))), .int (x2 + (fI h x1 5894)), .int (Int64.toInt32 (fJ h7 (fR h7 x1 5890) 3334))]) (st := []) q4643 mvX12_copy g11 rfl dX12_receive_51 (xle (xal1 (rv_cat _) (xal1 rfl (xal1 rfl (xal1 rfl xal0)))) (by decide)) (xfr g16) (xlo xsw0 (by decide) g17) (xKv hq (fun h18 hq e20 => ?_) (fun _ _ q _ => q))
        replace hq := hq e20
        exact x_vret rfl dX12_receive_54 hq
theorem rX12_receive {G : xG} {fr lo : Nat} {x0 : Nat} {x1 : Nat} {x2 : Int32} {x3 : Int32} {h : xH} {Q : Outcome → xH → Prop} (hq : bX12_receive G fr lo x0 x1 x2 x3 h Q) : xR G YX12_receive fr lo [rv x0, rv x1, .int x2, .int x3] h Q := by
  show xP _ _ _ _ _ (lv_args 0 _) _ _ _
  rw [show lv_args 0 [rv x0, rv x1, .int x2, .int x3] = [(0, rv x0), (1, rv x1), (2, .int x2), (3, .int x3)] from (xla1 (rv_cat _) (xla1 (rv_cat _) (xla1 rfl (xla1 rfl xla0))))]
  exact uX12_receive hq
set_option maxRecDepth 100000 in
theorem dX12_copy_0 : decode cX12_copy 0 = .ok (.iload_n 1, 1) := by decide +kernel
set_option maxRecDepth 100000 in
theorem dX12_copy_1 : decode cX12_copy 1 = .ok (.iconst (-1), 1) := by decide +kernel
set_option maxRecDepth 100000 in
theorem dX12_copy_2 : decode cX12_copy 2 = .ok (.if_icmp .ge 60, 3) := by decide +kernel
set_option maxRecDepth 100000 in
theorem dX12_copy_5 : decode cX12_copy 5 = .ok (.bipush (-2), 2) := by decide +kernel
set_option maxRecDepth 100000 in
theorem dX12_copy_7 : decode cX12_copy 7 = .ok (.iload_n 1, 1) := by decide +kernel
set_option maxRecDepth 100000 in
theorem dX12_copy_8 : decode cX12_copy 8 = .ok (.isub, 1) := by decide +kernel
set_option maxRecDepth 100000 in
theorem dX12_copy_9 : decode cX12_copy 9 = .ok (.istore 4, 2) := by decide +kernel
set_option maxRecDepth 100000 in
theorem dX12_copy_11 : decode cX12_copy 11 = .ok (.iconst 0, 1) := by decide +kernel
set_option maxRecDepth 100000 in
theorem dX12_copy_12 : decode cX12_copy 12 = .ok (.istore 5, 2) := by decide +kernel
set_option maxRecDepth 100000 in
theorem dX12_copy_14 : decode cX12_copy 14 = .ok (.iload 5, 2) := by decide +kernel
set_option maxRecDepth 100000 in
theorem dX12_copy_16 : decode cX12_copy 16 = .ok (.iload_n 3, 1) := by decide +kernel
set_option maxRecDepth 100000 in
theorem dX12_copy_17 : decode cX12_copy 17 = .ok (.if_icmp .ge 44, 3) := by decide +kernel
set_option maxRecDepth 100000 in
theorem dX12_copy_20 : decode cX12_copy 20 = .ok (.aload_n 0, 1) := by decide +kernel
set_option maxRecDepth 100000 in
theorem dX12_copy_21 : decode cX12_copy 21 = .ok (.getfield 169, 3) := by decide +kernel
set_option maxRecDepth 100000 in
theorem dX12_copy_24 : decode cX12_copy 24 = .ok (.iload_n 2, 1) := by decide +kernel
set_option maxRecDepth 100000 in
theorem dX12_copy_25 : decode cX12_copy 25 = .ok (.iload 5, 2) := by decide +kernel
set_option maxRecDepth 100000 in
theorem dX12_copy_27 : decode cX12_copy 27 = .ok (.iadd, 1) := by decide +kernel
set_option maxRecDepth 100000 in
theorem dX12_copy_28 : decode cX12_copy 28 = .ok (.iconst 1, 1) := by decide +kernel
set_option maxRecDepth 100000 in
theorem dX12_copy_29 : decode cX12_copy 29 = .ok (.bastore, 1) := by decide +kernel
set_option maxRecDepth 100000 in
theorem dX12_copy_30 : decode cX12_copy 30 = .ok (.aload_n 0, 1) := by decide +kernel
set_option maxRecDepth 100000 in
theorem dX12_copy_31 : decode cX12_copy 31 = .ok (.getfield 159, 3) := by decide +kernel
set_option maxRecDepth 100000 in
theorem dX12_copy_34 : decode cX12_copy 34 = .ok (.iload_n 2, 1) := by decide +kernel
set_option maxRecDepth 100000 in
theorem dX12_copy_35 : decode cX12_copy 35 = .ok (.iload 5, 2) := by decide +kernel
set_option maxRecDepth 100000 in
theorem dX12_copy_37 : decode cX12_copy 37 = .ok (.iadd, 1) := by decide +kernel
set_option maxRecDepth 100000 in
theorem dX12_copy_38 : decode cX12_copy 38 = .ok (.aload_n 0, 1) := by decide +kernel
set_option maxRecDepth 100000 in
theorem dX12_copy_39 : decode cX12_copy 39 = .ok (.getfield 42, 3) := by decide +kernel
set_option maxRecDepth 100000 in
theorem dX12_copy_42 : decode cX12_copy 42 = .ok (.aload_n 0, 1) := by decide +kernel
set_option maxRecDepth 100000 in
theorem dX12_copy_43 : decode cX12_copy 43 = .ok (.getfield 32, 3) := by decide +kernel
set_option maxRecDepth 100000 in
theorem dX12_copy_46 : decode cX12_copy 46 = .ok (.iload 4, 2) := by decide +kernel
set_option maxRecDepth 100000 in
theorem dX12_copy_48 : decode cX12_copy 48 = .ok (.iaload, 1) := by decide +kernel
set_option maxRecDepth 100000 in
theorem dX12_copy_49 : decode cX12_copy 49 = .ok (.iload 5, 2) := by decide +kernel
set_option maxRecDepth 100000 in
theorem dX12_copy_51 : decode cX12_copy 51 = .ok (.iadd, 1) := by decide +kernel
set_option maxRecDepth 100000 in
theorem dX12_copy_52 : decode cX12_copy 52 = .ok (.baload, 1) := by decide +kernel
set_option maxRecDepth 100000 in
theorem dX12_copy_53 : decode cX12_copy 53 = .ok (.i2l, 1) := by decide +kernel
set_option maxRecDepth 100000 in
theorem dX12_copy_54 : decode cX12_copy 54 = .ok (.lastore, 1) := by decide +kernel
set_option maxRecDepth 100000 in
theorem dX12_copy_55 : decode cX12_copy 55 = .ok (.iinc 5 1, 3) := by decide +kernel
set_option maxRecDepth 100000 in
theorem dX12_copy_58 : decode cX12_copy 58 = .ok (.goto (-44), 3) := by decide +kernel
set_option maxRecDepth 100000 in
theorem dX12_copy_61 : decode cX12_copy 61 = .ok (.return_, 1) := by decide +kernel
set_option maxRecDepth 100000 in
theorem dX12_copy_62 : decode cX12_copy 62 = .ok (.iload_n 1, 1) := by decide +kernel
set_option maxRecDepth 100000 in
theorem dX12_copy_63 : decode cX12_copy 63 = .ok (.iload_n 2, 1) := by decide +kernel
set_option maxRecDepth 100000 in
theorem dX12_copy_64 : decode cX12_copy 64 = .ok (.if_icmp .ne 4, 3) := by decide +kernel
set_option maxRecDepth 100000 in
theorem dX12_copy_67 : decode cX12_copy 67 = .ok (.return_, 1) := by decide +kernel
set_option maxRecDepth 100000 in
theorem dX12_copy_68 : decode cX12_copy 68 = .ok (.iconst 0, 1) := by decide +kernel
set_option maxRecDepth 100000 in
theorem dX12_copy_69 : decode cX12_copy 69 = .ok (.istore 4, 2) := by decide +kernel
set_option maxRecDepth 100000 in
theorem dX12_copy_71 : decode cX12_copy 71 = .ok (.iload 4, 2) := by decide +kernel
set_option maxRecDepth 100000 in
theorem dX12_copy_73 : decode cX12_copy 73 = .ok (.iload_n 3, 1) := by decide +kernel
set_option maxRecDepth 100000 in
theorem dX12_copy_74 : decode cX12_copy 74 = .ok (.if_icmp .ge 81, 3) := by decide +kernel
set_option maxRecDepth 100000 in
theorem dX12_copy_77 : decode cX12_copy 77 = .ok (.aload_n 0, 1) := by decide +kernel
set_option maxRecDepth 100000 in
theorem dX12_copy_78 : decode cX12_copy 78 = .ok (.getfield 169, 3) := by decide +kernel
set_option maxRecDepth 100000 in
theorem dX12_copy_81 : decode cX12_copy 81 = .ok (.iload_n 2, 1) := by decide +kernel
set_option maxRecDepth 100000 in
theorem dX12_copy_82 : decode cX12_copy 82 = .ok (.iload 4, 2) := by decide +kernel
set_option maxRecDepth 100000 in
theorem dX12_copy_84 : decode cX12_copy 84 = .ok (.iadd, 1) := by decide +kernel
set_option maxRecDepth 100000 in
theorem dX12_copy_85 : decode cX12_copy 85 = .ok (.aload_n 0, 1) := by decide +kernel
set_option maxRecDepth 100000 in
theorem dX12_copy_86 : decode cX12_copy 86 = .ok (.getfield 169, 3) := by decide +kernel
set_option maxRecDepth 100000 in
theorem dX12_copy_89 : decode cX12_copy 89 = .ok (.iload_n 1, 1) := by decide +kernel
set_option maxRecDepth 100000 in
theorem dX12_copy_90 : decode cX12_copy 90 = .ok (.iload 4, 2) := by decide +kernel
set_option maxRecDepth 100000 in
theorem dX12_copy_92 : decode cX12_copy 92 = .ok (.iadd, 1) := by decide +kernel
set_option maxRecDepth 100000 in
theorem dX12_copy_93 : decode cX12_copy 93 = .ok (.baload, 1) := by decide +kernel
set_option maxRecDepth 100000 in
theorem dX12_copy_94 : decode cX12_copy 94 = .ok (.bastore, 1) := by decide +kernel
set_option maxRecDepth 100000 in
theorem dX12_copy_95 : decode cX12_copy 95 = .ok (.aload_n 0, 1) := by decide +kernel
set_option maxRecDepth 100000 in
theorem dX12_copy_96 : decode cX12_copy 96 = .ok (.getfield 159, 3) := by decide +kernel
set_option maxRecDepth 100000 in
theorem dX12_copy_99 : decode cX12_copy 99 = .ok (.iload_n 2, 1) := by decide +kernel
set_option maxRecDepth 100000 in
theorem dX12_copy_100 : decode cX12_copy 100 = .ok (.iload 4, 2) := by decide +kernel
set_option maxRecDepth 100000 in
theorem dX12_copy_102 : decode cX12_copy 102 = .ok (.iadd, 1) := by decide +kernel
set_option maxRecDepth 100000 in
theorem dX12_copy_103 : decode cX12_copy 103 = .ok (.aload_n 0, 1) := by decide +kernel
set_option maxRecDepth 100000 in
theorem dX12_copy_104 : decode cX12_copy 104 = .ok (.getfield 159, 3) := by decide +kernel
set_option maxRecDepth 100000 in
theorem dX12_copy_107 : decode cX12_copy 107 = .ok (.iload_n 1, 1) := by decide +kernel
set_option maxRecDepth 100000 in
theorem dX12_copy_108 : decode cX12_copy 108 = .ok (.iload 4, 2) := by decide +kernel
set_option maxRecDepth 100000 in
theorem dX12_copy_110 : decode cX12_copy 110 = .ok (.iadd, 1) := by decide +kernel
set_option maxRecDepth 100000 in
theorem dX12_copy_111 : decode cX12_copy 111 = .ok (.laload, 1) := by decide +kernel
set_option maxRecDepth 100000 in
theorem dX12_copy_112 : decode cX12_copy 112 = .ok (.lastore, 1) := by decide +kernel
set_option maxRecDepth 100000 in
theorem dX12_copy_113 : decode cX12_copy 113 = .ok (.aload_n 0, 1) := by decide +kernel
set_option maxRecDepth 100000 in
theorem dX12_copy_114 : decode cX12_copy 114 = .ok (.getfield 163, 3) := by decide +kernel
set_option maxRecDepth 100000 in
theorem dX12_copy_117 : decode cX12_copy 117 = .ok (.iload_n 2, 1) := by decide +kernel
set_option maxRecDepth 100000 in
theorem dX12_copy_118 : decode cX12_copy 118 = .ok (.iload 4, 2) := by decide +kernel
set_option maxRecDepth 100000 in
theorem dX12_copy_120 : decode cX12_copy 120 = .ok (.iadd, 1) := by decide +kernel
set_option maxRecDepth 100000 in
theorem dX12_copy_121 : decode cX12_copy 121 = .ok (.aload_n 0, 1) := by decide +kernel
set_option maxRecDepth 100000 in
theorem dX12_copy_122 : decode cX12_copy 122 = .ok (.getfield 163, 3) := by decide +kernel
set_option maxRecDepth 100000 in
theorem dX12_copy_125 : decode cX12_copy 125 = .ok (.iload_n 1, 1) := by decide +kernel
set_option maxRecDepth 100000 in
theorem dX12_copy_126 : decode cX12_copy 126 = .ok (.iload 4, 2) := by decide +kernel
set_option maxRecDepth 100000 in
theorem dX12_copy_128 : decode cX12_copy 128 = .ok (.iadd, 1) := by decide +kernel
set_option maxRecDepth 100000 in
theorem dX12_copy_129 : decode cX12_copy 129 = .ok (.laload, 1) := by decide +kernel
set_option maxRecDepth 100000 in
theorem dX12_copy_130 : decode cX12_copy 130 = .ok (.lastore, 1) := by decide +kernel
set_option maxRecDepth 100000 in
theorem dX12_copy_131 : decode cX12_copy 131 = .ok (.aload_n 0, 1) := by decide +kernel
set_option maxRecDepth 100000 in
theorem dX12_copy_132 : decode cX12_copy 132 = .ok (.getfield 166, 3) := by decide +kernel
set_option maxRecDepth 100000 in
theorem dX12_copy_135 : decode cX12_copy 135 = .ok (.iload_n 2, 1) := by decide +kernel
set_option maxRecDepth 100000 in
theorem dX12_copy_136 : decode cX12_copy 136 = .ok (.iload 4, 2) := by decide +kernel
set_option maxRecDepth 100000 in
theorem dX12_copy_138 : decode cX12_copy 138 = .ok (.iadd, 1) := by decide +kernel
set_option maxRecDepth 100000 in
theorem dX12_copy_139 : decode cX12_copy 139 = .ok (.aload_n 0, 1) := by decide +kernel
set_option maxRecDepth 100000 in
theorem dX12_copy_140 : decode cX12_copy 140 = .ok (.getfield 166, 3) := by decide +kernel
set_option maxRecDepth 100000 in
theorem dX12_copy_143 : decode cX12_copy 143 = .ok (.iload_n 1, 1) := by decide +kernel
set_option maxRecDepth 100000 in
theorem dX12_copy_144 : decode cX12_copy 144 = .ok (.iload 4, 2) := by decide +kernel
set_option maxRecDepth 100000 in
theorem dX12_copy_146 : decode cX12_copy 146 = .ok (.iadd, 1) := by decide +kernel
set_option maxRecDepth 100000 in
theorem dX12_copy_147 : decode cX12_copy 147 = .ok (.daload, 1) := by decide +kernel
set_option maxRecDepth 100000 in
theorem dX12_copy_148 : decode cX12_copy 148 = .ok (.dastore, 1) := by decide +kernel
set_option maxRecDepth 100000 in
theorem dX12_copy_149 : decode cX12_copy 149 = .ok (.iinc 4 1, 3) := by decide +kernel
set_option maxRecDepth 100000 in
theorem dX12_copy_152 : decode cX12_copy 152 = .ok (.goto (-81), 3) := by decide +kernel
set_option maxRecDepth 100000 in
theorem dX12_copy_155 : decode cX12_copy 155 = .ok (.return_, 1) := by decide +kernel
def lX12_copy_14 (G : xG) (fr lo : Nat) (x0 : Nat) (x2 : Int32) (x3 : Int32) (x4 : Int32) (x5 : Int32) (h : xH) (Q : Outcome → xH → Prop) : Prop := xP G YX12_copy fr lo 14 [(0, rv x0), (2, .int x2), (3, .int x3), (4, .int x4), (5, .int x5)] [] h Q
def lX12_copy_71 (G : xG) (fr lo : Nat) (x0 : Nat) (x1 : Int32) (x2 : Int32) (x3 : Int32) (x4 : Int32) (h : xH) (Q : Outcome → xH → Prop) : Prop := xP G YX12_copy fr lo 71 [(0, rv x0), (1, .int x1), (2, .int x2), (3, .int x3), (4, .int x4)] [] h Q
set_option maxRecDepth 100000 in
def bX12_copy_71 (G : xG) (fr lo : Nat) (x0 : Nat) (x1 : Int32) (x2 : Int32) (x3 : Int32) (x4 : Int32) (h : xH) (Q : Outcome → xH → Prop) : Prop := ((x3 ≤ x4 → Q (.returned none) h) ∧ (¬ x3 ≤ x4 → tg h x0 = 13 ∧ tg h (fR h x0 3150) = 104 ∧ vp_in (x1 + x4) (ln h (fR h x0 3150)) ∧ vp_in (x2 + x4) (ln h (fR h x0 3150)) ∧ (∀ h6 : xH, h6 = tI h (fR h x0 3150) (Int32.toNatClampNeg (x2 + x4)) (vp_nar .boolean (aI h (fR h x0 3150) (Int32.toNatClampNeg (x1 + x4)))) → tg h6 (fR h6 x0 3147) = 101 ∧ vp_in (x1 + x4) (ln h6 (fR h6 x0 3147)) ∧ vp_in (x2 + x4) (ln h6 (fR h6 x0 3147)) ∧ (∀ h12 : xH, h12 = tJ h6 (fR h6 x0 3147) (Int32.toNatClampNeg (x2 + x4)) (aJ h6 (fR h6 x0 3147) (Int32.toNatClampNeg (x1 + x4))) → tg h12 (fR h12 x0 3148) = 101 ∧ vp_in (x1 + x4) (ln h12 (fR h12 x0 3148)) ∧ vp_in (x2 + x4) (ln h12 (fR h12 x0 3148)) ∧ (∀ h18 : xH, h18 = tJ h12 (fR h12 x0 3148) (Int32.toNatClampNeg (x2 + x4)) (aJ h12 (fR h12 x0 3148) (Int32.toNatClampNeg (x1 + x4))) → tg h18 (fR h18 x0 3149) = 102 ∧ vp_in (x1 + x4) (ln h18 (fR h18 x0 3149)) ∧ vp_in (x2 + x4) (ln h18 (fR h18 x0 3149)) ∧ (∀ h24 : xH, h24 = tD h18 (fR h18 x0 3149) (Int32.toNatClampNeg (x2 + x4)) (aD h18 (fR h18 x0 3149) (Int32.toNatClampNeg (x1 + x4))) → lX12_copy_71 G fr lo x0 x1 x2 x3 (x4 + 1) h24 Q))))))
set_option maxRecDepth 100000 in
theorem uX12_copy_71 {G : xG} {fr lo : Nat} {x0 : Nat} {x1 : Int32} {x2 : Int32} {x3 : Int32} {x4 : Int32} {h : xH} {Q : Outcome → xH → Prop} (hq : bX12_copy_71 G fr lo x0 x1 x2 x3 x4 h Q) : xP G YX12_copy fr lo 71 [(0, rv x0), (1, .int x1), (2, .int x2), (3, .int x3), (4, .int x4)] [] h Q := by
  unfold bX12_copy_71 at hq
  refine x_iload 4 dX12_copy_71 rfl ?_
  refine x_iload_n 3 dX12_copy_73 rfl ?_
  refine x_icmp_ge (tgt := 155) dX12_copy_74 (by decide) (fun c1 => ?_) (fun c1 => ?_)
  · replace hq := hq.1 c1
    exact x_vret rfl dX12_copy_155 hq
  · replace hq := hq.2 c1
    refine x_aload_n 0 dX12_copy_77 rfl ?_
    obtain ⟨g2, hq⟩ := hq
    refine x_get (v := rv (fR h x0 3150)) fdX12_169 dX12_copy_78 g2 rfl ?_
    refine x_iload_n 2 dX12_copy_81 rfl ?_
    refine x_iload 4 dX12_copy_82 rfl ?_
    refine x_iadd dX12_copy_84 ?_
    refine x_aload_n 0 dX12_copy_85 rfl ?_
    refine x_get (v := rv (fR h x0 3150)) fdX12_169 dX12_copy_86 g2 rfl ?_
    refine x_iload_n 1 dX12_copy_89 rfl ?_
    refine x_iload 4 dX12_copy_90 rfl ?_
    refine x_iadd dX12_copy_92 ?_
    obtain ⟨g3, hq⟩ := hq
    obtain ⟨i4, hq⟩ := hq
    refine x_zald g3 i4 dX12_copy_93 ?_
    obtain ⟨i5, hq⟩ := hq
    obtain ⟨h6, e7⟩ : ∃ y, y = tI h (fR h x0 3150) (Int32.toNatClampNeg (x2 + x4)) (vp_nar .boolean (aI h (fR h x0 3150) (Int32.toNatClampNeg (x1 + x4)))) := ⟨_, rfl⟩
    replace hq := hq h6 e7
    refine x_zast' g3 i5 dX12_copy_94 e7 ?_
    refine x_aload_n 0 dX12_copy_95 rfl ?_
    have t8 : tg h6 x0 = 13 := by rw [e7]; exact g2
    refine x_get (v := rv (fR h6 x0 3147)) fdX12_159 dX12_copy_96 t8 rfl ?_
    refine x_iload_n 2 dX12_copy_99 rfl ?_
    refine x_iload 4 dX12_copy_100 rfl ?_
    refine x_iadd dX12_copy_102 ?_
    refine x_aload_n 0 dX12_copy_103 rfl ?_
    refine x_get (v := rv (fR h6 x0 3147)) fdX12_159 dX12_copy_104 t8 rfl ?_
    refine x_iload_n 1 dX12_copy_107 rfl ?_
    refine x_iload 4 dX12_copy_108 rfl ?_
    refine x_iadd dX12_copy_110 ?_
    obtain ⟨g9, hq⟩ := hq
    obtain ⟨i10, hq⟩ := hq
    refine x_lald g9 i10 dX12_copy_111 ?_
    obtain ⟨i11, hq⟩ := hq
    obtain ⟨h12, e13⟩ : ∃ y, y = tJ h6 (fR h6 x0 3147) (Int32.toNatClampNeg (x2 + x4)) (aJ h6 (fR h6 x0 3147) (Int32.toNatClampNeg (x1 + x4))) := ⟨_, rfl⟩
    replace hq := hq h12 e13
    refine x_last' g9 i11 dX12_copy_112 e13 ?_
    refine x_aload_n 0 dX12_copy_113 rfl ?_
    have t14 : tg h12 x0 = 13 := by rw [e13]; exact t8
    refine x_get (v := rv (fR h12 x0 3148)) fdX12_163 dX12_copy_114 t14 rfl ?_
    refine x_iload_n 2 dX12_copy_117 rfl ?_
    refine x_iload 4 dX12_copy_118 rfl ?_
    refine x_iadd dX12_copy_120 ?_
    refine x_aload_n 0 dX12_copy_121 rfl ?_
    refine x_get (v := rv (fR h12 x0 3148)) fdX12_163 dX12_copy_122 t14 rfl ?_
    refine x_iload_n 1 dX12_copy_125 rfl ?_
    refine x_iload 4 dX12_copy_126 rfl ?_
    refine x_iadd dX12_copy_128 ?_
    obtain ⟨g15, hq⟩ := hq
    obtain ⟨i16, hq⟩ := hq
    refine x_lald g15 i16 dX12_copy_129 ?_
    obtain ⟨i17, hq⟩ := hq
    obtain ⟨h18, e19⟩ : ∃ y, y = tJ h12 (fR h12 x0 3148) (Int32.toNatClampNeg (x2 + x4)) (aJ h12 (fR h12 x0 3148) (Int32.toNatClampNeg (x1 + x4))) := ⟨_, rfl⟩
    replace hq := hq h18 e19
    refine x_last' g15 i17 dX12_copy_130 e19 ?_
    refine x_aload_n 0 dX12_copy_131 rfl ?_
    have t20 : tg h18 x0 = 13 := by rw [e19]; exact t14
    refine x_get (v := rv (fR h18 x0 3149)) fdX12_166 dX12_copy_132 t20 rfl ?_
    refine x_iload_n 2 dX12_copy_135 rfl ?_
    refine x_iload 4 dX12_copy_136 rfl ?_
    refine x_iadd dX12_copy_138 ?_
    refine x_aload_n 0 dX12_copy_139 rfl ?_
    refine x_get (v := rv (fR h18 x0 3149)) fdX12_166 dX12_copy_140 t20 rfl ?_
    refine x_iload_n 1 dX12_copy_143 rfl ?_
    refine x_iload 4 dX12_copy_144 rfl ?_
    refine x_iadd dX12_copy_146 ?_
    obtain ⟨g21, hq⟩ := hq
    obtain ⟨i22, hq⟩ := hq
    refine x_dald g21 i22 dX12_copy_147 ?_
    obtain ⟨i23, hq⟩ := hq
    obtain ⟨h24, e25⟩ : ∃ y, y = tD h18 (fR h18 x0 3149) (Int32.toNatClampNeg (x2 + x4)) (aD h18 (fR h18 x0 3149) (Int32.toNatClampNeg (x1 + x4))) := ⟨_, rfl⟩
    replace hq := hq h24 e25
    refine x_dast' g21 i23 dX12_copy_148 e25 ?_
    refine x_iinc (lv' := [(4, .int (x4 + 1)), (0, rv x0), (1, .int x1), (2, .int x2), (3, .int x3)]) 4 dX12_copy_149 rfl (by decide) rfl ?_
    refine x_goto (tgt := 71) dX12_copy_152 (by decide) ?_
    refine xP.pick (lv' := [(0, rv x0), (1, .int x1), (2, .int x2), (3, .int x3), (4, .int (x4 + 1))]) [1, 2, 3, 4, 0] rfl ?_
    exact hq
set_option maxRecDepth 100000 in
def bX12_copy_14 (G : xG) (fr lo : Nat) (x0 : Nat) (x2 : Int32) (x3 : Int32) (x4 : Int32) (x5 : Int32) (h : xH) (Q : Outcome → xH → Prop) : Prop := ((x3 ≤ x5 → Q (.returned none) h) ∧ (¬ x3 ≤ x5 → tg h x0 = 13 ∧ tg h (fR h x0 3150) = 104 ∧ vp_in (x2 + x5) (ln h (fR h x0 3150)) ∧ (∀ h5 : xH, h5 = tI h (fR h x0 3150) (Int32.toNatClampNeg (x2 + x5)) (vp_nar .boolean 1) → tg h5 (fR h5 x0 3084) = 100 ∧ vp_in x4 (ln h5 (fR h5 x0 3084)) ∧ tg h5 (fR h5 x0 3088) = 103 ∧ vp_in ((aI h5 (fR h5 x0 3084) (Int32.toNatClampNeg x4)) + x5) (ln h5 (fR h5 x0 3088)) ∧ tg h5 (fR h5 x0 3147) = 101 ∧ vp_in (x2 + x5) (ln h5 (fR h5 x0 3147)) ∧ (∀ h14 : xH, h14 = tJ h5 (fR h5 x0 3147) (Int32.toNatClampNeg (x2 + x5)) (Int32.toInt64 (aI h5 (fR h5 x0 3088) (Int32.toNatClampNeg ((aI h5 (fR h5 x0 3084) (Int32.toNatClampNeg x4)) + x5)))) → lX12_copy_14 G fr lo x0 x2 x3 x4 (x5 + 1) h14 Q))))
set_option maxRecDepth 100000 in
theorem uX12_copy_14 {G : xG} {fr lo : Nat} {x0 : Nat} {x2 : Int32} {x3 : Int32} {x4 : Int32} {x5 : Int32} {h : xH} {Q : Outcome → xH → Prop} (hq : bX12_copy_14 G fr lo x0 x2 x3 x4 x5 h Q) : xP G YX12_copy fr lo 14 [(0, rv x0), (2, .int x2), (3, .int x3), (4, .int x4), (5, .int x5)] [] h Q := by
  unfold bX12_copy_14 at hq
  refine x_iload 4 dX12_copy_14 rfl ?_
  refine x_iload_n 2 dX12_copy_16 rfl ?_
  refine x_icmp_ge (tgt := 61) dX12_copy_17 (by decide) (fun c1 => ?_) (fun c1 => ?_)
  · replace hq := hq.1 c1
    exact x_vret rfl dX12_copy_61 hq
  · replace hq := hq.2 c1
    refine x_aload_n 0 dX12_copy_20 rfl ?_
    obtain ⟨g2, hq⟩ := hq
    refine x_get (v := rv (fR h x0 3150)) fdX12_169 dX12_copy_21 g2 rfl ?_
    refine x_iload_n 1 dX12_copy_24 rfl ?_
    refine x_iload 4 dX12_copy_25 rfl ?_
    refine x_iadd dX12_copy_27 ?_
    refine x_iconst (v := 1) dX12_copy_28 (by decide) ?_
    obtain ⟨g3, hq⟩ := hq
    obtain ⟨i4, hq⟩ := hq
    obtain ⟨h5, e6⟩ : ∃ y, y = tI h (fR h x0 3150) (Int32.toNatClampNeg (x2 + x5)) (vp_nar .boolean 1) := ⟨_, rfl⟩
    replace hq := hq h5 e6
    refine x_zast' g3 i4 dX12_copy_29 e6 ?_
    refine x_aload_n 0 dX12_copy_30 rfl ?_
    have t7 : tg h5 x0 = 13 := by rw [e6]; exact g2
    refine x_get (v := rv (fR h5 x0 3147)) fdX12_159 dX12_copy_31 t7 rfl ?_
    refine x_iload_n 1 dX12_copy_34 rfl ?_
    refine x_iload 4 dX12_copy_35 rfl ?_
    refine x_iadd dX12_copy_37 ?_
    refine x_aload_n 0 dX12_copy_38 rfl ?_
    refine x_get (v := rv (fR h5 x0 3088)) fdX12_42 dX12_copy_39 t7 rfl ?_
    refine x_aload_n 0 dX12_copy_42 rfl ?_
    refine x_get (v := rv (fR h5 x0 3084)) fdX12_32 dX12_copy_43 t7 rfl ?_
    refine x_iload 3 dX12_copy_46 rfl ?_
    obtain ⟨g8, hq⟩ := hq
    obtain ⟨i9, hq⟩ := hq
    refine x_iald 0 (Or.inl rfl) g8 i9 dX12_copy_48 ?_
    refine x_iload 4 dX12_copy_49 rfl ?_
    refine x_iadd dX12_copy_51 ?_
    obtain ⟨g10, hq⟩ := hq
    obtain ⟨i11, hq⟩ := hq
    refine x_bald g10 i11 dX12_copy_52 ?_
    refine x_i2l dX12_copy_53 ?_
    obtain ⟨g12, hq⟩ := hq
    obtain ⟨i13, hq⟩ := hq
    obtain ⟨h14, e15⟩ : ∃ y, y = tJ h5 (fR h5 x0 3147) (Int32.toNatClampNeg (x2 + x5)) (Int32.toInt64 (aI h5 (fR h5 x0 3088) (Int32.toNatClampNeg ((aI h5 (fR h5 x0 3084) (Int32.toNatClampNeg x4)) + x5)))) := ⟨_, rfl⟩
    replace hq := hq h14 e15
    refine x_last' g12 i13 dX12_copy_54 e15 ?_
    refine x_iinc (lv' := [(5, .int (x5 + 1)), (0, rv x0), (2, .int x2), (3, .int x3), (4, .int x4)]) 4 dX12_copy_55 rfl (by decide) rfl ?_
    refine x_goto (tgt := 14) dX12_copy_58 (by decide) ?_
    refine xP.pick (lv' := [(0, rv x0), (2, .int x2), (3, .int x3), (4, .int x4), (5, .int (x5 + 1))]) [1, 2, 3, 4, 0] rfl ?_
    exact hq
set_option maxRecDepth 100000 in
def bX12_copy (G : xG) (fr lo : Nat) (x0 : Nat) (x1 : Int32) (x2 : Int32) (x3 : Int32) (h : xH) (Q : Outcome → xH → Prop) : Prop := (((-1) ≤ x1 → ((¬ x1 = x2 → lX12_copy_71 G fr lo x0 x1 x2 x3 0 h Q) ∧ (x1 = x2 → Q (.returned none) h))) ∧ (¬ (-1) ≤ x1 → lX12_copy_14 G fr lo x0 x2 x3 ((-2) - x1) 0 h Q))
set_option maxRecDepth 100000 in
theorem uX12_copy {G : xG} {fr lo : Nat} {x0 : Nat} {x1 : Int32} {x2 : Int32} {x3 : Int32} {h : xH} {Q : Outcome → xH → Prop} (hq : bX12_copy G fr lo x0 x1 x2 x3 h Q) : xP G YX12_copy fr lo 0 [(0, rv x0), (1, .int x1), (2, .int x2), (3, .int x3)] [] h Q := by
  unfold bX12_copy at hq
  refine x_iload_n 1 dX12_copy_0 rfl ?_
  refine x_iconst (v := (-1)) dX12_copy_1 (by decide) ?_
  refine x_icmp_ge (tgt := 62) dX12_copy_2 (by decide) (fun c1 => ?_) (fun c1 => ?_)
  · replace hq := hq.1 c1
    refine x_iload_n 1 dX12_copy_62 rfl ?_
    refine x_iload_n 2 dX12_copy_63 rfl ?_
    refine x_icmp_ne (tgt := 68) dX12_copy_64 (by decide) (fun c2 => ?_) (fun c2 => ?_)
    · replace hq := hq.1 c2
      refine x_iconst (v := 0) dX12_copy_68 (by decide) ?_
      refine x_istore (lv' := [(4, .int 0), (0, rv x0), (1, .int x1), (2, .int x2), (3, .int x3)]) dX12_copy_69 (by decide) rfl ?_
      refine xP.pick (lv' := [(0, rv x0), (1, .int x1), (2, .int x2), (3, .int x3), (4, .int 0)]) [1, 2, 3, 4, 0] rfl ?_
      exact hq
    · replace hq := hq.2 c2
      exact x_vret rfl dX12_copy_67 hq
  · replace hq := hq.2 c1
    refine x_bipush (v := (-2)) dX12_copy_5 (by decide) ?_
    refine x_iload_n 1 dX12_copy_7 rfl ?_
    refine x_isub dX12_copy_8 ?_
    refine x_istore (lv' := [(4, .int ((-2) - x1)), (0, rv x0), (1, .int x1), (2, .int x2), (3, .int x3)]) dX12_copy_9 (by decide) rfl ?_
    refine x_iconst (v := 0) dX12_copy_11 (by decide) ?_
    refine x_istore (lv' := [(5, .int 0), (4, .int ((-2) - x1)), (0, rv x0), (1, .int x1), (2, .int x2), (3, .int x3)]) dX12_copy_12 (by decide) rfl ?_
    refine xP.pick (lv' := [(0, rv x0), (2, .int x2), (3, .int x3), (4, .int ((-2) - x1)), (5, .int 0)]) [2, 4, 5, 1, 0] rfl ?_
    exact hq
theorem rX12_copy {G : xG} {fr lo : Nat} {x0 : Nat} {x1 : Int32} {x2 : Int32} {x3 : Int32} {h : xH} {Q : Outcome → xH → Prop} (hq : bX12_copy G fr lo x0 x1 x2 x3 h Q) : xR G YX12_copy fr lo [rv x0, .int x1, .int x2, .int x3] h Q := by
  show xP _ _ _ _ _ (lv_args 0 _) _ _ _
  rw [show lv_args 0 [rv x0, .int x1, .int x2, .int x3] = [(0, rv x0), (1, .int x1), (2, .int x2), (3, .int x3)] from (xla1 (rv_cat _) (xla1 rfl (xla1 rfl (xla1 rfl xla0))))]
  exact uX12_copy hq
set_option maxRecDepth 100000 in
theorem dX12_leaveRoutine_0 : decode cX12_leaveRoutine 0 = .ok (.aload_n 0, 1) := by decide +kernel
set_option maxRecDepth 100000 in
theorem dX12_leaveRoutine_1 : decode cX12_leaveRoutine 1 = .ok (.getfield 1175, 3) := by decide +kernel
set_option maxRecDepth 100000 in
theorem dX12_leaveRoutine_4 : decode cX12_leaveRoutine 4 = .ok (.iload_n 1, 1) := by decide +kernel
set_option maxRecDepth 100000 in
theorem dX12_leaveRoutine_5 : decode cX12_leaveRoutine 5 = .ok (.if_icmp .le 24, 3) := by decide +kernel
set_option maxRecDepth 100000 in
theorem dX12_leaveRoutine_8 : decode cX12_leaveRoutine 8 = .ok (.aload_n 0, 1) := by decide +kernel
set_option maxRecDepth 100000 in
theorem dX12_leaveRoutine_9 : decode cX12_leaveRoutine 9 = .ok (.dup, 1) := by decide +kernel
set_option maxRecDepth 100000 in
theorem dX12_leaveRoutine_10 : decode cX12_leaveRoutine 10 = .ok (.getfield 1175, 3) := by decide +kernel
set_option maxRecDepth 100000 in
theorem dX12_leaveRoutine_13 : decode cX12_leaveRoutine 13 = .ok (.iconst 1, 1) := by decide +kernel
set_option maxRecDepth 100000 in
theorem dX12_leaveRoutine_14 : decode cX12_leaveRoutine 14 = .ok (.isub, 1) := by decide +kernel
set_option maxRecDepth 100000 in
theorem dX12_leaveRoutine_15 : decode cX12_leaveRoutine 15 = .ok (.putfield 1175, 3) := by decide +kernel
set_option maxRecDepth 100000 in
theorem dX12_leaveRoutine_18 : decode cX12_leaveRoutine 18 = .ok (.aload_n 0, 1) := by decide +kernel
set_option maxRecDepth 100000 in
theorem dX12_leaveRoutine_19 : decode cX12_leaveRoutine 19 = .ok (.aload_n 0, 1) := by decide +kernel
set_option maxRecDepth 100000 in
theorem dX12_leaveRoutine_20 : decode cX12_leaveRoutine 20 = .ok (.getfield 1175, 3) := by decide +kernel
set_option maxRecDepth 100000 in
theorem dX12_leaveRoutine_23 : decode cX12_leaveRoutine 23 = .ok (.invokevirtual 1204, 3) := by decide +kernel
set_option maxRecDepth 100000 in
theorem dX12_leaveRoutine_26 : decode cX12_leaveRoutine 26 = .ok (.goto (-26), 3) := by decide +kernel
set_option maxRecDepth 100000 in
theorem dX12_leaveRoutine_29 : decode cX12_leaveRoutine 29 = .ok (.aload_n 0, 1) := by decide +kernel
set_option maxRecDepth 100000 in
theorem dX12_leaveRoutine_30 : decode cX12_leaveRoutine 30 = .ok (.dup, 1) := by decide +kernel
set_option maxRecDepth 100000 in
theorem dX12_leaveRoutine_31 : decode cX12_leaveRoutine 31 = .ok (.getfield 1357, 3) := by decide +kernel
set_option maxRecDepth 100000 in
theorem dX12_leaveRoutine_34 : decode cX12_leaveRoutine 34 = .ok (.iconst 1, 1) := by decide +kernel
set_option maxRecDepth 100000 in
theorem dX12_leaveRoutine_35 : decode cX12_leaveRoutine 35 = .ok (.isub, 1) := by decide +kernel
set_option maxRecDepth 100000 in
theorem dX12_leaveRoutine_36 : decode cX12_leaveRoutine 36 = .ok (.putfield 1357, 3) := by decide +kernel
set_option maxRecDepth 100000 in
theorem dX12_leaveRoutine_39 : decode cX12_leaveRoutine 39 = .ok (.aload_n 0, 1) := by decide +kernel
set_option maxRecDepth 100000 in
theorem dX12_leaveRoutine_40 : decode cX12_leaveRoutine 40 = .ok (.iload_n 3, 1) := by decide +kernel
set_option maxRecDepth 100000 in
theorem dX12_leaveRoutine_41 : decode cX12_leaveRoutine 41 = .ok (.putfield 1360, 3) := by decide +kernel
set_option maxRecDepth 100000 in
theorem dX12_leaveRoutine_44 : decode cX12_leaveRoutine 44 = .ok (.aload_n 0, 1) := by decide +kernel
set_option maxRecDepth 100000 in
theorem dX12_leaveRoutine_45 : decode cX12_leaveRoutine 45 = .ok (.iload_n 2, 1) := by decide +kernel
set_option maxRecDepth 100000 in
theorem dX12_leaveRoutine_46 : decode cX12_leaveRoutine 46 = .ok (.putfield 1130, 3) := by decide +kernel
set_option maxRecDepth 100000 in
theorem dX12_leaveRoutine_49 : decode cX12_leaveRoutine 49 = .ok (.return_, 1) := by decide +kernel
def lX12_leaveRoutine_0 (G : xG) (fr lo : Nat) (x0 : Nat) (x1 : Int32) (x2 : Int32) (x3 : Int32) (h : xH) (Q : Outcome → xH → Prop) : Prop := xP G YX12_leaveRoutine fr lo 0 [(0, rv x0), (1, .int x1), (2, .int x2), (3, .int x3)] [] h Q
set_option maxRecDepth 100000 in
def bX12_leaveRoutine_0 (G : xG) (fr lo : Nat) (x0 : Nat) (x1 : Int32) (x2 : Int32) (x3 : Int32) (h : xH) (Q : Outcome → xH → Prop) : Prop := tg h x0 = 13 ∧ (((fI h x0 3190) ≤ x1 → (∀ h3 : xH, h3 = sI h x0 3164 ((fI h x0 3164) - 1) → (∀ h6 : xH, h6 = sI h3 x0 3151 x3 → (∀ h9 : xH, h9 = sI h6 x0 3163 x2 → Q (.returned none) h9)))) ∧ (¬ (fI h x0 3190) ≤ x1 → (∀ h11 : xH, h11 = sI h x0 3190 ((fI h x0 3190) - 1) → 1 ≤ fr ∧ 15 ≤ lo ∧ xRv G YX12_empty (fr - 1) (lo - 15) [rv x0, .int (fI h11 x0 3190)] h11 (fun h16 => xext h11 h16 → lX12_leaveRoutine_0 G fr lo x0 x1 x2 x3 h16 Q) (fun r h2 => Q (.threw r) h2))))
set_option maxRecDepth 100000 in
theorem uX12_leaveRoutine_0 {G : xG} {fr lo : Nat} {x0 : Nat} {x1 : Int32} {x2 : Int32} {x3 : Int32} {h : xH} {Q : Outcome → xH → Prop} (hq : bX12_leaveRoutine_0 G fr lo x0 x1 x2 x3 h Q) : xP G YX12_leaveRoutine fr lo 0 [(0, rv x0), (1, .int x1), (2, .int x2), (3, .int x3)] [] h Q := by
  unfold bX12_leaveRoutine_0 at hq
  refine x_aload_n 0 dX12_leaveRoutine_0 rfl ?_
  obtain ⟨g1, hq⟩ := hq
  refine x_get (v := .int (fI h x0 3190)) fdX12_1175 dX12_leaveRoutine_1 g1 rfl ?_
  refine x_iload_n 1 dX12_leaveRoutine_4 rfl ?_
  refine x_icmp_le (tgt := 29) dX12_leaveRoutine_5 (by decide) (fun c2 => ?_) (fun c2 => ?_)
  · replace hq := hq.1 c2
    refine x_aload_n 0 dX12_leaveRoutine_29 rfl ?_
    refine x_dup dX12_leaveRoutine_30 (rv_cat _) ?_
    refine x_get (v := .int (fI h x0 3164)) fdX12_1357 dX12_leaveRoutine_31 g1 rfl ?_
    refine x_iconst (v := 1) dX12_leaveRoutine_34 (by decide) ?_
    refine x_isub dX12_leaveRoutine_35 ?_
    obtain ⟨h3, e4⟩ : ∃ y, y = sI h x0 3164 ((fI h x0 3164) - 1) := ⟨_, rfl⟩
    replace hq := hq h3 e4
    refine x_putI fdX12_1357 xty_I1 dX12_leaveRoutine_36 g1 (Or.inl (by rw [g1]; rfl)) xnI rfl e4 ?_
    refine x_aload_n 0 dX12_leaveRoutine_39 rfl ?_
    refine x_iload_n 3 dX12_leaveRoutine_40 rfl ?_
    have t5 : tg h3 x0 = 13 := by rw [e4]; exact g1
    obtain ⟨h6, e7⟩ : ∃ y, y = sI h3 x0 3151 x3 := ⟨_, rfl⟩
    replace hq := hq h6 e7
    refine x_putI fdX12_1360 xty_I1 dX12_leaveRoutine_41 t5 (Or.inl (by rw [t5]; rfl)) xnI rfl e7 ?_
    refine x_aload_n 0 dX12_leaveRoutine_44 rfl ?_
    refine x_iload_n 2 dX12_leaveRoutine_45 rfl ?_
    have t8 : tg h6 x0 = 13 := by rw [e7]; exact t5
    obtain ⟨h9, e10⟩ : ∃ y, y = sI h6 x0 3163 x2 := ⟨_, rfl⟩
    replace hq := hq h9 e10
    refine x_putI fdX12_1130 xty_I1 dX12_leaveRoutine_46 t8 (Or.inl (by rw [t8]; rfl)) xnI rfl e10 ?_
    exact x_vret rfl dX12_leaveRoutine_49 hq
  · replace hq := hq.2 c2
    refine x_aload_n 0 dX12_leaveRoutine_8 rfl ?_
    refine x_dup dX12_leaveRoutine_9 (rv_cat _) ?_
    refine x_get (v := .int (fI h x0 3190)) fdX12_1175 dX12_leaveRoutine_10 g1 rfl ?_
    refine x_iconst (v := 1) dX12_leaveRoutine_13 (by decide) ?_
    refine x_isub dX12_leaveRoutine_14 ?_
    obtain ⟨h11, e12⟩ : ∃ y, y = sI h x0 3190 ((fI h x0 3190) - 1) := ⟨_, rfl⟩
    replace hq := hq h11 e12
    refine x_putI fdX12_1175 xty_I1 dX12_leaveRoutine_15 g1 (Or.inl (by rw [g1]; rfl)) xnI rfl e12 ?_
    refine x_aload_n 0 dX12_leaveRoutine_18 rfl ?_
    refine x_aload_n 0 dX12_leaveRoutine_19 rfl ?_
    have t13 : tg h11 x0 = 13 := by rw [e12]; exact g1
    refine x_get (v := .int (fI h11 x0 3190)) fdX12_1175 dX12_leaveRoutine_20 t13 rfl ?_
    obtain ⟨g14, g15, hq⟩ := hq
    refine x_callV (Yc := YX12_empty) (as := [.int (fI h11 x0 3190)]) (st := []) q4535 mvX12_empty t13 rfl dX12_leaveRoutine_23 (xle (xal1 (rv_cat _) (xal1 rfl xal0)) (by decide)) (xfr g14) (xlo xsw0 (by decide) g15) (xKv hq (fun h16 hq e18 => ?_) (fun _ _ q _ => q))
    replace hq := hq e18
    refine x_goto (tgt := 0) dX12_leaveRoutine_26 (by decide) ?_
    exact hq
def bX12_leaveRoutine (G : xG) (fr lo : Nat) (x0 : Nat) (x1 : Int32) (x2 : Int32) (x3 : Int32) (h : xH) (Q : Outcome → xH → Prop) : Prop := bX12_leaveRoutine_0 G fr lo x0 x1 x2 x3 h Q
theorem uX12_leaveRoutine {G : xG} {fr lo : Nat} {x0 : Nat} {x1 : Int32} {x2 : Int32} {x3 : Int32} {h : xH} {Q : Outcome → xH → Prop} (hq : bX12_leaveRoutine G fr lo x0 x1 x2 x3 h Q) : xP G YX12_leaveRoutine fr lo 0 [(0, rv x0), (1, .int x1), (2, .int x2), (3, .int x3)] [] h Q :=
  xP.pick (lv' := [(0, rv x0), (1, .int x1), (2, .int x2), (3, .int x3)]) [0, 1, 2, 3] rfl (uX12_leaveRoutine_0 hq)
theorem rX12_leaveRoutine {G : xG} {fr lo : Nat} {x0 : Nat} {x1 : Int32} {x2 : Int32} {x3 : Int32} {h : xH} {Q : Outcome → xH → Prop} (hq : bX12_leaveRoutine G fr lo x0 x1 x2 x3 h Q) : xR G YX12_leaveRoutine fr lo [rv x0, .int x1, .int x2, .int x3] h Q := by
  show xP _ _ _ _ _ (lv_args 0 _) _ _ _
  rw [show lv_args 0 [rv x0, .int x1, .int x2, .int x3] = [(0, rv x0), (1, .int x1), (2, .int x2), (3, .int x3)] from (xla1 (rv_cat _) (xla1 rfl (xla1 rfl (xla1 rfl xla0))))]
  exact uX12_leaveRoutine hq
set_option maxRecDepth 100000 in
theorem dX12_load_0 : decode cX12_load 0 = .ok (.aload_n 0, 1) := by decide +kernel
set_option maxRecDepth 100000 in
theorem dX12_load_1 : decode cX12_load 1 = .ok (.iload_n 1, 1) := by decide +kernel
set_option maxRecDepth 100000 in
theorem dX12_load_2 : decode cX12_load 2 = .ok (.putfield 1136, 3) := by decide +kernel
set_option maxRecDepth 100000 in
theorem dX12_load_5 : decode cX12_load 5 = .ok (.aload_n 2, 1) := by decide +kernel
set_option maxRecDepth 100000 in
theorem dX12_load_6 : decode cX12_load 6 = .ok (.invokevirtual 1139, 3) := by decide +kernel
set_option maxRecDepth 100000 in
theorem dX12_load_9 : decode cX12_load 9 = .ok (.ifCond .eq 4, 3) := by decide +kernel
set_option maxRecDepth 100000 in
theorem dX12_load_12 : decode cX12_load 12 = .ok (.return_, 1) := by decide +kernel
set_option maxRecDepth 100000 in
theorem dX12_load_13 : decode cX12_load 13 = .ok (.aload_n 0, 1) := by decide +kernel
set_option maxRecDepth 100000 in
theorem dX12_load_14 : decode cX12_load 14 = .ok (.getfield 169, 3) := by decide +kernel
set_option maxRecDepth 100000 in
theorem dX12_load_17 : decode cX12_load 17 = .ok (.iload_n 1, 1) := by decide +kernel
set_option maxRecDepth 100000 in
theorem dX12_load_18 : decode cX12_load 18 = .ok (.baload, 1) := by decide +kernel
set_option maxRecDepth 100000 in
theorem dX12_load_19 : decode cX12_load 19 = .ok (.ifCond .ne 10, 3) := by decide +kernel
set_option maxRecDepth 100000 in
theorem dX12_load_22 : decode cX12_load 22 = .ok (.aload_n 0, 1) := by decide +kernel
set_option maxRecDepth 100000 in
theorem dX12_load_23 : decode cX12_load 23 = .ok (.iconst 5, 1) := by decide +kernel
set_option maxRecDepth 100000 in
theorem dX12_load_24 : decode cX12_load 24 = .ok (.iload_n 3, 1) := by decide +kernel
set_option maxRecDepth 100000 in
theorem dX12_load_25 : decode cX12_load 25 = .ok (.invokevirtual 1142, 3) := by decide +kernel
set_option maxRecDepth 100000 in
theorem dX12_load_28 : decode cX12_load 28 = .ok (.return_, 1) := by decide +kernel
set_option maxRecDepth 100000 in
theorem dX12_load_29 : decode cX12_load 29 = .ok (.aload_n 0, 1) := by decide +kernel
set_option maxRecDepth 100000 in
theorem dX12_load_30 : decode cX12_load 30 = .ok (.aload_n 0, 1) := by decide +kernel
set_option maxRecDepth 100000 in
theorem dX12_load_31 : decode cX12_load 31 = .ok (.getfield 159, 3) := by decide +kernel
set_option maxRecDepth 100000 in
theorem dX12_load_34 : decode cX12_load 34 = .ok (.iload_n 1, 1) := by decide +kernel
set_option maxRecDepth 100000 in
theorem dX12_load_35 : decode cX12_load 35 = .ok (.laload, 1) := by decide +kernel
set_option maxRecDepth 100000 in
theorem dX12_load_36 : decode cX12_load 36 = .ok (.putfield 1145, 3) := by decide +kernel
set_option maxRecDepth 100000 in
theorem dX12_load_39 : decode cX12_load 39 = .ok (.aload_n 0, 1) := by decide +kernel
set_option maxRecDepth 100000 in
theorem dX12_load_40 : decode cX12_load 40 = .ok (.aload_n 0, 1) := by decide +kernel
set_option maxRecDepth 100000 in
theorem dX12_load_41 : decode cX12_load 41 = .ok (.getfield 163, 3) := by decide +kernel
set_option maxRecDepth 100000 in
theorem dX12_load_44 : decode cX12_load 44 = .ok (.iload_n 1, 1) := by decide +kernel
set_option maxRecDepth 100000 in
theorem dX12_load_45 : decode cX12_load 45 = .ok (.laload, 1) := by decide +kernel
set_option maxRecDepth 100000 in
theorem dX12_load_46 : decode cX12_load 46 = .ok (.putfield 1148, 3) := by decide +kernel
set_option maxRecDepth 100000 in
theorem dX12_load_49 : decode cX12_load 49 = .ok (.aload_n 0, 1) := by decide +kernel
set_option maxRecDepth 100000 in
theorem dX12_load_50 : decode cX12_load 50 = .ok (.aload_n 0, 1) := by decide +kernel
set_option maxRecDepth 100000 in
theorem dX12_load_51 : decode cX12_load 51 = .ok (.getfield 166, 3) := by decide +kernel
set_option maxRecDepth 100000 in
theorem dX12_load_54 : decode cX12_load 54 = .ok (.iload_n 1, 1) := by decide +kernel
set_option maxRecDepth 100000 in
theorem dX12_load_55 : decode cX12_load 55 = .ok (.daload, 1) := by decide +kernel
set_option maxRecDepth 100000 in
theorem dX12_load_56 : decode cX12_load 56 = .ok (.putfield 1151, 3) := by decide +kernel
set_option maxRecDepth 100000 in
theorem dX12_load_59 : decode cX12_load 59 = .ok (.return_, 1) := by decide +kernel
set_option maxRecDepth 100000 in
def bX12_load (G : xG) (fr lo : Nat) (x0 : Nat) (x1 : Int32) (x2 : Nat) (x3 : Int32) (h : xH) (Q : Outcome → xH → Prop) : Prop := tg h x0 = 13 ∧ (∀ h2 : xH, h2 = sI h x0 3180 x1 → tg h2 x2 = 14 ∧ 1 ≤ fr ∧ 12 ≤ lo ∧ xRi G YX13_isKept (fr - 1) (lo - 12) [rv x2] h2 (fun x8 h7 => xext h2 h7 → ((x8 = 0 → tg h7 (fR h7 x0 3150) = 104 ∧ vp_in x1 (ln h7 (fR h7 x0 3150)) ∧ ((¬ (aI h7 (fR h7 x0 3150) (Int32.toNatClampNeg x1)) = 0 → tg h7 (fR h7 x0 3147) = 101 ∧ vp_in x1 (ln h7 (fR h7 x0 3147)) ∧ (∀ h18 : xH, h18 = sJ h7 x0 3177 (aJ h7 (fR h7 x0 3147) (Int32.toNatClampNeg x1)) → tg h18 (fR h18 x0 3148) = 101 ∧ vp_in x1 (ln h18 (fR h18 x0 3148)) ∧ (∀ h23 : xH, h23 = sJ h18 x0 3178 (aJ h18 (fR h18 x0 3148) (Int32.toNatClampNeg x1)) → tg h23 (fR h23 x0 3149) = 102 ∧ vp_in x1 (ln h23 (fR h23 x0 3149)) ∧ (∀ h28 : xH, h28 = sD h23 x0 3179 (aD h23 (fR h23 x0 3149) (Int32.toNatClampNeg x1)) → Q (.returned none) h28)))) ∧ ((aI h7 (fR h7 x0 3150) (Int32.toNatClampNeg x1)) = 0 → 1 ≤ fr ∧ 14 ≤ lo ∧ xRv G YX12_error (fr - 1) (lo - 14) [rv x0, .int 5, .int x3] h7 (fun h32 => xext h7 h32 → Q (.returned none) h32) (fun r h2 => Q (.threw r) h2)))) ∧ (¬ x8 = 0 → Q (.returned none) h7))) (fun r h2 => Q (.threw r) h2))
set_option maxRecDepth 100000 in
theorem uX12_load {G : xG} {fr lo : Nat} {x0 : Nat} {x1 : Int32} {x2 : Nat} {x3 : Int32} {h : xH} {Q : Outcome → xH → Prop} (hq : bX12_load G fr lo x0 x1 x2 x3 h Q) : xP G YX12_load fr lo 0 [(0, rv x0), (1, .int x1), (2, rv x2), (3, .int x3)] [] h Q := by
  unfold bX12_load at hq
  refine x_aload_n 0 dX12_load_0 rfl ?_
  refine x_iload_n 1 dX12_load_1 rfl ?_
  obtain ⟨g1, hq⟩ := hq
  obtain ⟨h2, e3⟩ : ∃ y, y = sI h x0 3180 x1 := ⟨_, rfl⟩
  replace hq := hq h2 e3
  refine x_putI fdX12_1136 xty_I1 dX12_load_2 g1 (Or.inl (by rw [g1]; rfl)) xnI rfl e3 ?_
  refine x_aload_n 2 dX12_load_5 rfl ?_
  obtain ⟨g4, hq⟩ := hq
  obtain ⟨g5, g6, hq⟩ := hq
  refine x_callV (Yc := YX13_isKept) (as := []) (st := []) q4627 mvX13_isKept g4 rfl dX12_load_6 (xle (xal1 (rv_cat _) xal0) (by decide)) (xfr g5) (xlo xsw0 (by decide) g6) (xKi hq (fun x8 h7 hq e9 => ?_) (fun _ _ q _ => q))
  replace hq := hq e9
  refine x_if_eq (tgt := 13) dX12_load_9 (by decide) (fun c10 => ?_) (fun c10 => ?_)
  · replace hq := hq.1 c10
    refine x_aload_n 0 dX12_load_13 rfl ?_
    have t11 : tg h2 x0 = 13 := by rw [e3]; exact g1
    have t12 : tg h7 x0 = 13 := e9.tg t11 (by decide)
    refine x_get (v := rv (fR h7 x0 3150)) fdX12_169 dX12_load_14 t12 rfl ?_
    refine x_iload_n 1 dX12_load_17 rfl ?_
    obtain ⟨g13, hq⟩ := hq
    obtain ⟨i14, hq⟩ := hq
    refine x_zald g13 i14 dX12_load_18 ?_
    refine x_if_ne (tgt := 29) dX12_load_19 (by decide) (fun c15 => ?_) (fun c15 => ?_)
    · replace hq := hq.1 c15
      refine x_aload_n 0 dX12_load_29 rfl ?_
      refine x_aload_n 0 dX12_load_30 rfl ?_
      refine x_get (v := rv (fR h7 x0 3147)) fdX12_159 dX12_load_31 t12 rfl ?_
      refine x_iload_n 1 dX12_load_34 rfl ?_
      obtain ⟨g16, hq⟩ := hq
      obtain ⟨i17, hq⟩ := hq
      refine x_lald g16 i17 dX12_load_35 ?_
      obtain ⟨h18, e19⟩ : ∃ y, y = sJ h7 x0 3177 (aJ h7 (fR h7 x0 3147) (Int32.toNatClampNeg x1)) := ⟨_, rfl⟩
      replace hq := hq h18 e19
      refine x_putJ fdX12_1145 dX12_load_36 t12 (Or.inl (by rw [t12]; rfl)) rfl e19 ?_
      refine x_aload_n 0 dX12_load_39 rfl ?_
      refine x_aload_n 0 dX12_load_40 rfl ?_
      have t20 : tg h18 x0 = 13 := by rw [e19]; exact t12
      refine x_get (v := rv (fR h18 x0 3148)) fdX12_163 dX12_load_41 t20 rfl ?_
      refine x_iload_n 1 dX12_load_44 rfl ?_
      obtain ⟨g21, hq⟩ := hq
      obtain ⟨i22, hq⟩ := hq
      refine x_lald g21 i22 dX12_load_45 ?_
      obtain ⟨h23, e24⟩ : ∃ y, y = sJ h18 x0 3178 (aJ h18 (fR h18 x0 3148) (Int32.toNatClampNeg x1)) := ⟨_, rfl⟩
      replace hq := hq h23 e24
      refine x_putJ fdX12_1148 dX12_load_46 t20 (Or.inl (by rw [t20]; rfl)) rfl e24 ?_
      refine x_aload_n 0 dX12_load_49 rfl ?_
      refine x_aload_n 0 dX12_load_50 rfl ?_
      have t25 : tg h23 x0 = 13 := by rw [e24]; exact t20
      refine x_get (v := rv (fR h23 x0 3149)) fdX12_166 dX12_load_51 t25 rfl ?_
      refine x_iload_n 1 dX12_load_54 rfl ?_
      obtain ⟨g26, hq⟩ := hq
      obtain ⟨i27, hq⟩ := hq
      refine x_dald g26 i27 dX12_load_55 ?_
      obtain ⟨h28, e29⟩ : ∃ y, y = sD h23 x0 3179 (aD h23 (fR h23 x0 3149) (Int32.toNatClampNeg x1)) := ⟨_, rfl⟩
      replace hq := hq h28 e29
      refine x_putD fdX12_1151 dX12_load_56 t25 (Or.inl (by rw [t25]; rfl)) rfl e29 ?_
      exact x_vret rfl dX12_load_59 hq
    · replace hq := hq.2 c15
      refine x_aload_n 0 dX12_load_22 rfl ?_
      refine x_iconst (v := 5) dX12_load_23 (by decide) ?_
      refine x_iload_n 3 dX12_load_24 rfl ?_
      obtain ⟨g30, g31, hq⟩ := hq
      refine x_callV (Yc := YX12_error) (as := [.int 5, .int x3]) (st := []) q4490 mvX12_error t12 rfl dX12_load_25 (xle (xal1 (rv_cat _) (xal1 rfl (xal1 rfl xal0))) (by decide)) (xfr g30) (xlo xsw0 (by decide) g31) (xKv hq (fun h32 hq e34 => ?_) (fun _ _ q _ => q))
      replace hq := hq e34
      exact x_vret rfl dX12_load_28 hq
  · replace hq := hq.2 c10
    exact x_vret rfl dX12_load_12 hq
theorem rX12_load {G : xG} {fr lo : Nat} {x0 : Nat} {x1 : Int32} {x2 : Nat} {x3 : Int32} {h : xH} {Q : Outcome → xH → Prop} (hq : bX12_load G fr lo x0 x1 x2 x3 h Q) : xR G YX12_load fr lo [rv x0, .int x1, rv x2, .int x3] h Q := by
  show xP _ _ _ _ _ (lv_args 0 _) _ _ _
  rw [show lv_args 0 [rv x0, .int x1, rv x2, .int x3] = [(0, rv x0), (1, .int x1), (2, rv x2), (3, .int x3)] from (xla1 (rv_cat _) (xla1 rfl (xla1 (rv_cat _) (xla1 rfl xla0))))]
  exact uX12_load hq
set_option maxRecDepth 100000 in
theorem dX12_meant_0 : decode cX12_meant 0 = .ok (.aload_n 0, 1) := by decide +kernel
set_option maxRecDepth 100000 in
theorem dX12_meant_1 : decode cX12_meant 1 = .ok (.getfield 102, 3) := by decide +kernel
set_option maxRecDepth 100000 in
theorem dX12_meant_4 : decode cX12_meant 4 = .ok (.iload_n 1, 1) := by decide +kernel
set_option maxRecDepth 100000 in
theorem dX12_meant_5 : decode cX12_meant 5 = .ok (.aaload, 1) := by decide +kernel
set_option maxRecDepth 100000 in
theorem dX12_meant_6 : decode cX12_meant 6 = .ok (.astore_n 2, 1) := by decide +kernel
set_option maxRecDepth 100000 in
theorem dX12_meant_7 : decode cX12_meant 7 = .ok (.aload_n 2, 1) := by decide +kernel
set_option maxRecDepth 100000 in
theorem dX12_meant_8 : decode cX12_meant 8 = .ok (.getfield 577, 3) := by decide +kernel
set_option maxRecDepth 100000 in
theorem dX12_meant_11 : decode cX12_meant 11 = .ok (.iconst 1, 1) := by decide +kernel
set_option maxRecDepth 100000 in
theorem dX12_meant_12 : decode cX12_meant 12 = .ok (.if_icmp .ne 33, 3) := by decide +kernel
set_option maxRecDepth 100000 in
theorem dX12_meant_15 : decode cX12_meant 15 = .ok (.aload_n 0, 1) := by decide +kernel
set_option maxRecDepth 100000 in
theorem dX12_meant_16 : decode cX12_meant 16 = .ok (.aload_n 2, 1) := by decide +kernel
set_option maxRecDepth 100000 in
theorem dX12_meant_17 : decode cX12_meant 17 = .ok (.getfield 624, 3) := by decide +kernel
set_option maxRecDepth 100000 in
theorem dX12_meant_20 : decode cX12_meant 20 = .ok (.putfield 1145, 3) := by decide +kernel
set_option maxRecDepth 100000 in
theorem dX12_meant_23 : decode cX12_meant 23 = .ok (.aload_n 0, 1) := by decide +kernel
set_option maxRecDepth 100000 in
theorem dX12_meant_24 : decode cX12_meant 24 = .ok (.aload_n 2, 1) := by decide +kernel
set_option maxRecDepth 100000 in
theorem dX12_meant_25 : decode cX12_meant 25 = .ok (.getfield 770, 3) := by decide +kernel
set_option maxRecDepth 100000 in
theorem dX12_meant_28 : decode cX12_meant 28 = .ok (.putfield 1151, 3) := by decide +kernel
set_option maxRecDepth 100000 in
theorem dX12_meant_31 : decode cX12_meant 31 = .ok (.aload_n 0, 1) := by decide +kernel
set_option maxRecDepth 100000 in
theorem dX12_meant_32 : decode cX12_meant 32 = .ok (.bipush (-2), 2) := by decide +kernel
set_option maxRecDepth 100000 in
theorem dX12_meant_34 : decode cX12_meant 34 = .ok (.aload_n 2, 1) := by decide +kernel
set_option maxRecDepth 100000 in
theorem dX12_meant_35 : decode cX12_meant 35 = .ok (.getfield 772, 3) := by decide +kernel
set_option maxRecDepth 100000 in
theorem dX12_meant_38 : decode cX12_meant 38 = .ok (.isub, 1) := by decide +kernel
set_option maxRecDepth 100000 in
theorem dX12_meant_39 : decode cX12_meant 39 = .ok (.putfield 1136, 3) := by decide +kernel
set_option maxRecDepth 100000 in
theorem dX12_meant_42 : decode cX12_meant 42 = .ok (.goto 41, 3) := by decide +kernel
set_option maxRecDepth 100000 in
theorem dX12_meant_45 : decode cX12_meant 45 = .ok (.aload_n 2, 1) := by decide +kernel
set_option maxRecDepth 100000 in
theorem dX12_meant_46 : decode cX12_meant 46 = .ok (.getfield 632, 3) := by decide +kernel
set_option maxRecDepth 100000 in
theorem dX12_meant_49 : decode cX12_meant 49 = .ok (.ifCond .le 21, 3) := by decide +kernel
set_option maxRecDepth 100000 in
theorem dX12_meant_52 : decode cX12_meant 52 = .ok (.aload_n 0, 1) := by decide +kernel
set_option maxRecDepth 100000 in
theorem dX12_meant_53 : decode cX12_meant 53 = .ok (.aload_n 2, 1) := by decide +kernel
set_option maxRecDepth 100000 in
theorem dX12_meant_54 : decode cX12_meant 54 = .ok (.getfield 632, 3) := by decide +kernel
set_option maxRecDepth 100000 in
theorem dX12_meant_57 : decode cX12_meant 57 = .ok (.iconst (-1), 1) := by decide +kernel
set_option maxRecDepth 100000 in
theorem dX12_meant_58 : decode cX12_meant 58 = .ok (.aload_n 0, 1) := by decide +kernel
set_option maxRecDepth 100000 in
theorem dX12_meant_59 : decode cX12_meant 59 = .ok (.getfield 70, 3) := by decide +kernel
set_option maxRecDepth 100000 in
theorem dX12_meant_62 : decode cX12_meant 62 = .ok (.iload_n 1, 1) := by decide +kernel
set_option maxRecDepth 100000 in
theorem dX12_meant_63 : decode cX12_meant 63 = .ok (.iaload, 1) := by decide +kernel
set_option maxRecDepth 100000 in
theorem dX12_meant_64 : decode cX12_meant 64 = .ok (.invokevirtual 1242, 3) := by decide +kernel
set_option maxRecDepth 100000 in
theorem dX12_meant_67 : decode cX12_meant 67 = .ok (.goto 16, 3) := by decide +kernel
set_option maxRecDepth 100000 in
theorem dX12_meant_70 : decode cX12_meant 70 = .ok (.aload_n 0, 1) := by decide +kernel
set_option maxRecDepth 100000 in
theorem dX12_meant_71 : decode cX12_meant 71 = .ok (.aload_n 2, 1) := by decide +kernel
set_option maxRecDepth 100000 in
theorem dX12_meant_72 : decode cX12_meant 72 = .ok (.iconst (-1), 1) := by decide +kernel
set_option maxRecDepth 100000 in
theorem dX12_meant_73 : decode cX12_meant 73 = .ok (.iconst 0, 1) := by decide +kernel
set_option maxRecDepth 100000 in
theorem dX12_meant_74 : decode cX12_meant 74 = .ok (.aload_n 0, 1) := by decide +kernel
set_option maxRecDepth 100000 in
theorem dX12_meant_75 : decode cX12_meant 75 = .ok (.getfield 70, 3) := by decide +kernel
set_option maxRecDepth 100000 in
theorem dX12_meant_78 : decode cX12_meant 78 = .ok (.iload_n 1, 1) := by decide +kernel
set_option maxRecDepth 100000 in
theorem dX12_meant_79 : decode cX12_meant 79 = .ok (.iaload, 1) := by decide +kernel
set_option maxRecDepth 100000 in
theorem dX12_meant_80 : decode cX12_meant 80 = .ok (.invokevirtual 1244, 3) := by decide +kernel
set_option maxRecDepth 100000 in
theorem dX12_meant_83 : decode cX12_meant 83 = .ok (.return_, 1) := by decide +kernel
set_option maxRecDepth 100000 in
def bX12_meant_83 (G : xG) (fr lo : Nat) (h : xH) (Q : Outcome → xH → Prop) : Prop := Q (.returned none) h
set_option maxRecDepth 100000 in
theorem uX12_meant_83 {G : xG} {fr lo : Nat} {h : xH} {Q : Outcome → xH → Prop} (hq : bX12_meant_83 G fr lo h Q) : xP G YX12_meant fr lo 83 [] [] h Q := by
  unfold bX12_meant_83 at hq
  exact x_vret rfl dX12_meant_83 hq
set_option maxRecDepth 100000 in
def bX12_meant (G : xG) (fr lo : Nat) (x0 : Nat) (x1 : Int32) (h : xH) (Q : Outcome → xH → Prop) : Prop := tg h x0 = 13 ∧ tg h (fR h x0 3114) = 109 ∧ vp_in x1 (ln h (fR h x0 3114)) ∧ tg h (aR h (fR h x0 3114) (Int32.toNatClampNeg x1)) = 24 ∧ ((¬ (fI h (aR h (fR h x0 3114) (Int32.toNatClampNeg x1)) 5888) = 1 → (((fI h (aR h (fR h x0 3114) (Int32.toNatClampNeg x1)) 5903) ≤ 0 → tg h (fR h x0 3102) = 100 ∧ vp_in x1 (ln h (fR h x0 3102)) ∧ 1 ≤ fr ∧ 24 ≤ lo ∧ xRv G YX12_call (fr - 1) (lo - 24) [rv x0, rv (aR h (fR h x0 3114) (Int32.toNatClampNeg x1)), .int (-1), .int 0, .int (aI h (fR h x0 3102) (Int32.toNatClampNeg x1))] h (fun h11 => xext h h11 → bX12_meant_83 G fr lo h11 Q) (fun r h2 => Q (.threw r) h2)) ∧ (¬ (fI h (aR h (fR h x0 3114) (Int32.toNatClampNeg x1)) 5903) ≤ 0 → tg h (fR h x0 3102) = 100 ∧ vp_in x1 (ln h (fR h x0 3102)) ∧ 1 ≤ fr ∧ 17 ≤ lo ∧ xRv G YX12_there (fr - 1) (lo - 17) [rv x0, .int (fI h (aR h (fR h x0 3114) (Int32.toNatClampNeg x1)) 5903), .int (-1), .int (aI h (fR h x0 3102) (Int32.toNatClampNeg x1))] h (fun h18 => xext h h18 → bX12_meant_83 G fr lo h18 Q) (fun r h2 => Q (.threw r) h2)))) ∧ ((fI h (aR h (fR h x0 3114) (Int32.toNatClampNeg x1)) 5888) = 1 → (∀ h21 : xH, h21 = sJ h x0 3177 (fJ h (aR h (fR h x0 3114) (Int32.toNatClampNeg x1)) 5891) → (∀ h25 : xH, h25 = sD h21 x0 3179 (fD h21 (aR h (fR h x0 3114) (Int32.toNatClampNeg x1)) 5892) → (∀ h29 : xH, h29 = sI h25 x0 3180 ((-2) - (fI h25 (aR h (fR h x0 3114) (Int32.toNatClampNeg x1)) 5904)) → bX12_meant_83 G fr lo h29 Q)))))
set_option maxRecDepth 100000 in
theorem uX12_meant {G : xG} {fr lo : Nat} {x0 : Nat} {x1 : Int32} {h : xH} {Q : Outcome → xH → Prop} (hq : bX12_meant G fr lo x0 x1 h Q) : xP G YX12_meant fr lo 0 [(0, rv x0), (1, .int x1)] [] h Q := by
  unfold bX12_meant at hq
  refine x_aload_n 0 dX12_meant_0 rfl ?_
  obtain ⟨g1, hq⟩ := hq
  refine x_get (v := rv (fR h x0 3114)) fdX12_102 dX12_meant_1 g1 rfl ?_
  refine x_iload_n 1 dX12_meant_4 rfl ?_
  obtain ⟨g2, hq⟩ := hq
  obtain ⟨i3, hq⟩ := hq
  refine x_aald 9 rfl g2 (by decide) i3 dX12_meant_5 ?_
  refine x_astore_n (lv' := [(2, rv (aR h (fR h x0 3114) (Int32.toNatClampNeg x1))), (0, rv x0), (1, .int x1)]) dX12_meant_6 (by decide) rfl ?_
  refine x_aload_n 0 dX12_meant_7 rfl ?_
  obtain ⟨g4, hq⟩ := hq
  refine x_get (v := .int (fI h (aR h (fR h x0 3114) (Int32.toNatClampNeg x1)) 5888)) fdX12_577 dX12_meant_8 g4 rfl ?_
  refine x_iconst (v := 1) dX12_meant_11 (by decide) ?_
  refine x_icmp_ne (tgt := 45) dX12_meant_12 (by decide) (fun c5 => ?_) (fun c5 => ?_)
  · replace hq := hq.1 c5
    refine x_aload_n 0 dX12_meant_45 rfl ?_
    refine x_get (v := .int (fI h (aR h (fR h x0 3114) (Int32.toNatClampNeg x1)) 5903)) fdX12_632 dX12_meant_46 g4 rfl ?_
    refine x_if_le (tgt := 70) dX12_meant_49 (by decide) (fun c6 => ?_) (fun c6 => ?_)
    · replace hq := hq.1 c6
      refine x_aload_n 1 dX12_meant_70 rfl ?_
      refine x_aload_n 0 dX12_meant_71 rfl ?_
      refine x_iconst (v := (-1)) dX12_meant_72 (by decide) ?_
      refine x_iconst (v := 0) dX12_meant_73 (by decide) ?_
      refine x_aload_n 1 dX12_meant_74 rfl ?_
      refine x_get (v := rv (fR h x0 3102)) fdX12_70 dX12_meant_75 g1 rfl ?_
      refine x_iload_n 2 dX12_meant_78 rfl ?_
      obtain ⟨g7, hq⟩ := hq
      obtain ⟨i8, hq⟩ := hq
      refine x_iald 0 (Or.inl rfl) g7 i8 dX12_meant_79 ?_
      obtain ⟨g9, g10, hq⟩ := hq
      refine x_callV (Yc := YX12_call) (as := [rv (aR h (fR h x0 3114) (Int32.toNatClampNeg x1)), .int (-1), .int 0, .int (aI h (fR h x0 3102) (Int32.toNatClampNeg x1))]) (st := []) q4607 mvX12_call g1 rfl dX12_meant_80 (xle (xal1 (rv_cat _) (xal1 (rv_cat _) (xal1 rfl (xal1 rfl (xal1 rfl xal0))))) (by decide)) (xfr g9) (xlo xsw0 (by decide) g10) (xKv hq (fun h11 hq e13 => ?_) (fun _ _ q _ => q))
      replace hq := hq e13
      refine xP.pick (lv' := []) [] rfl ?_
      exact uX12_meant_83 hq
    · replace hq := hq.2 c6
      refine x_aload_n 1 dX12_meant_52 rfl ?_
      refine x_aload_n 0 dX12_meant_53 rfl ?_
      refine x_get (v := .int (fI h (aR h (fR h x0 3114) (Int32.toNatClampNeg x1)) 5903)) fdX12_632 dX12_meant_54 g4 rfl ?_
      refine x_iconst (v := (-1)) dX12_meant_57 (by decide) ?_
      refine x_aload_n 1 dX12_meant_58 rfl ?_
      refine x_get (v := rv (fR h x0 3102)) fdX12_70 dX12_meant_59 g1 rfl ?_
      refine x_iload_n 2 dX12_meant_62 rfl ?_
      obtain ⟨g14, hq⟩ := hq
      obtain ⟨i15, hq⟩ := hq
      refine x_iald 0 (Or.inl rfl) g14 i15 dX12_meant_63 ?_
      obtain ⟨g16, g17, hq⟩ := hq
      refine x_callV (Yc := YX12_there) (as := [.int (fI h (aR h (fR h x0 3114) (Int32.toNatClampNeg x1)) 5903), .int (-1), .int (aI h (fR h x0 3102) (Int32.toNatClampNeg x1))]) (st := []) q4558 mvX12_there g1 rfl dX12_meant_64 (xle (xal1 (rv_cat _) (xal1 rfl (xal1 rfl (xal1 rfl xal0)))) (by decide)) (xfr g16) (xlo xsw0 (by decide) g17) (xKv hq (fun h18 hq e20 => ?_) (fun _ _ q _ => q))
      replace hq := hq e20
      refine x_goto (tgt := 83) dX12_meant_67 (by decide) ?_
      refine xP.pick (lv' := []) [] rfl ?_
      exact uX12_meant_83 hq
  · replace hq := hq.2 c5
    refine x_aload_n 1 dX12_meant_15 rfl ?_
    refine x_aload_n 0 dX12_meant_16 rfl ?_
    refine x_get (v := .long (fJ h (aR h (fR h x0 3114) (Int32.toNatClampNeg x1)) 5891)) fdX12_624 dX12_meant_17 g4 rfl ?_
    obtain ⟨h21, e22⟩ : ∃ y, y = sJ h x0 3177 (fJ h (aR h (fR h x0 3114) (Int32.toNatClampNeg x1)) 5891) := ⟨_, rfl⟩
    replace hq := hq h21 e22
    refine x_putJ fdX12_1145 dX12_meant_20 g1 (Or.inl (by rw [g1]; rfl)) rfl e22 ?_
    refine x_aload_n 1 dX12_meant_23 rfl ?_
    refine x_aload_n 0 dX12_meant_24 rfl ?_
    have t23 : tg h21 (aR h (fR h x0 3114) (Int32.toNatClampNeg x1)) = 24 := by rw [e22]; exact g4
    refine x_get (v := .double (fD h21 (aR h (fR h x0 3114) (Int32.toNatClampNeg x1)) 5892)) fdX12_770 dX12_meant_25 t23 rfl ?_
    have t24 : tg h21 x0 = 13 := by rw [e22]; exact g1
    obtain ⟨h25, e26⟩ : ∃ y, y = sD h21 x0 3179 (fD h21 (aR h (fR h x0 3114) (Int32.toNatClampNeg x1)) 5892) := ⟨_, rfl⟩
    replace hq := hq h25 e26
    refine x_putD fdX12_1151 dX12_meant_28 t24 (Or.inl (by rw [t24]; rfl)) rfl e26 ?_
    refine x_aload_n 1 dX12_meant_31 rfl ?_
    refine x_bipush (v := (-2)) dX12_meant_32 (by decide) ?_
    refine x_aload_n 0 dX12_meant_34 rfl ?_
    have t27 : tg h25 (aR h (fR h x0 3114) (Int32.toNatClampNeg x1)) = 24 := by rw [e26]; exact t23
    refine x_get (v := .int (fI h25 (aR h (fR h x0 3114) (Int32.toNatClampNeg x1)) 5904)) fdX12_772 dX12_meant_35 t27 rfl ?_
    refine x_isub dX12_meant_38 ?_
    have t28 : tg h25 x0 = 13 := by rw [e26]; exact t24
    obtain ⟨h29, e30⟩ : ∃ y, y = sI h25 x0 3180 ((-2) - (fI h25 (aR h (fR h x0 3114) (Int32.toNatClampNeg x1)) 5904)) := ⟨_, rfl⟩
    replace hq := hq h29 e30
    refine x_putI fdX12_1136 xty_I1 dX12_meant_39 t28 (Or.inl (by rw [t28]; rfl)) xnI rfl e30 ?_
    refine x_goto (tgt := 83) dX12_meant_42 (by decide) ?_
    refine xP.pick (lv' := []) [] rfl ?_
    exact uX12_meant_83 hq
theorem rX12_meant {G : xG} {fr lo : Nat} {x0 : Nat} {x1 : Int32} {h : xH} {Q : Outcome → xH → Prop} (hq : bX12_meant G fr lo x0 x1 h Q) : xR G YX12_meant fr lo [rv x0, .int x1] h Q := by
  show xP _ _ _ _ _ (lv_args 0 _) _ _ _
  rw [show lv_args 0 [rv x0, .int x1] = [(0, rv x0), (1, .int x1)] from (xla1 (rv_cat _) (xla1 rfl xla0))]
  exact uX12_meant hq
set_option maxRecDepth 100000 in
theorem dX12_factor_0 : decode cX12_factor 0 = .ok (.aload_n 0, 1) := by decide +kernel
set_option maxRecDepth 100000 in
theorem dX12_factor_1 : decode cX12_factor 1 = .ok (.getfield 70, 3) := by decide +kernel
set_option maxRecDepth 100000 in
theorem dX12_factor_4 : decode cX12_factor 4 = .ok (.iload_n 1, 1) := by decide +kernel
set_option maxRecDepth 100000 in
theorem dX12_factor_5 : decode cX12_factor 5 = .ok (.iaload, 1) := by decide +kernel
set_option maxRecDepth 100000 in
theorem dX12_factor_6 : decode cX12_factor 6 = .ok (.istore_n 2, 1) := by decide +kernel
set_option maxRecDepth 100000 in
theorem dX12_factor_7 : decode cX12_factor 7 = .ok (.aload_n 0, 1) := by decide +kernel
set_option maxRecDepth 100000 in
theorem dX12_factor_8 : decode cX12_factor 8 = .ok (.getfield 67, 3) := by decide +kernel
set_option maxRecDepth 100000 in
theorem dX12_factor_11 : decode cX12_factor 11 = .ok (.iload_n 1, 1) := by decide +kernel
set_option maxRecDepth 100000 in
theorem dX12_factor_12 : decode cX12_factor 12 = .ok (.iaload, 1) := by decide +kernel
set_option maxRecDepth 100000 in
theorem dX12_factor_13 : decode cX12_factor 13 = .ok (.tableswitch 193 53 60 #[47, 59, 70, 95, 101, 112, 133, 139], 47) := by decide +kernel
set_option maxRecDepth 100000 in
theorem dX12_factor_60 : decode cX12_factor 60 = .ok (.aload_n 0, 1) := by decide +kernel
set_option maxRecDepth 100000 in
theorem dX12_factor_61 : decode cX12_factor 61 = .ok (.aload_n 0, 1) := by decide +kernel
set_option maxRecDepth 100000 in
theorem dX12_factor_62 : decode cX12_factor 62 = .ok (.getfield 32, 3) := by decide +kernel
set_option maxRecDepth 100000 in
theorem dX12_factor_65 : decode cX12_factor 65 = .ok (.iload_n 2, 1) := by decide +kernel
set_option maxRecDepth 100000 in
theorem dX12_factor_66 : decode cX12_factor 66 = .ok (.iaload, 1) := by decide +kernel
set_option maxRecDepth 100000 in
theorem dX12_factor_67 : decode cX12_factor 67 = .ok (.i2l, 1) := by decide +kernel
set_option maxRecDepth 100000 in
theorem dX12_factor_68 : decode cX12_factor 68 = .ok (.putfield 1145, 3) := by decide +kernel
set_option maxRecDepth 100000 in
theorem dX12_factor_71 : decode cX12_factor 71 = .ok (.return_, 1) := by decide +kernel
set_option maxRecDepth 100000 in
theorem dX12_factor_72 : decode cX12_factor 72 = .ok (.aload_n 0, 1) := by decide +kernel
set_option maxRecDepth 100000 in
theorem dX12_factor_73 : decode cX12_factor 73 = .ok (.aload_n 0, 1) := by decide +kernel
set_option maxRecDepth 100000 in
theorem dX12_factor_74 : decode cX12_factor 74 = .ok (.getfield 38, 3) := by decide +kernel
set_option maxRecDepth 100000 in
theorem dX12_factor_77 : decode cX12_factor 77 = .ok (.iload_n 2, 1) := by decide +kernel
set_option maxRecDepth 100000 in
theorem dX12_factor_78 : decode cX12_factor 78 = .ok (.daload, 1) := by decide +kernel
set_option maxRecDepth 100000 in
theorem dX12_factor_79 : decode cX12_factor 79 = .ok (.putfield 1151, 3) := by decide +kernel
set_option maxRecDepth 100000 in
theorem dX12_factor_82 : decode cX12_factor 82 = .ok (.return_, 1) := by decide +kernel
set_option maxRecDepth 100000 in
theorem dX12_factor_83 : decode cX12_factor 83 = .ok (.aload_n 0, 1) := by decide +kernel
set_option maxRecDepth 100000 in
theorem dX12_factor_84 : decode cX12_factor 84 = .ok (.aload_n 0, 1) := by decide +kernel
set_option maxRecDepth 100000 in
theorem dX12_factor_85 : decode cX12_factor 85 = .ok (.getfield 42, 3) := by decide +kernel
set_option maxRecDepth 100000 in
theorem dX12_factor_88 : decode cX12_factor 88 = .ok (.aload_n 0, 1) := by decide +kernel
set_option maxRecDepth 100000 in
theorem dX12_factor_89 : decode cX12_factor 89 = .ok (.getfield 32, 3) := by decide +kernel
set_option maxRecDepth 100000 in
theorem dX12_factor_92 : decode cX12_factor 92 = .ok (.iload_n 2, 1) := by decide +kernel
set_option maxRecDepth 100000 in
theorem dX12_factor_93 : decode cX12_factor 93 = .ok (.iaload, 1) := by decide +kernel
set_option maxRecDepth 100000 in
theorem dX12_factor_94 : decode cX12_factor 94 = .ok (.baload, 1) := by decide +kernel
set_option maxRecDepth 100000 in
theorem dX12_factor_95 : decode cX12_factor 95 = .ok (.i2l, 1) := by decide +kernel
set_option maxRecDepth 100000 in
theorem dX12_factor_96 : decode cX12_factor 96 = .ok (.putfield 1145, 3) := by decide +kernel
set_option maxRecDepth 100000 in
theorem dX12_factor_99 : decode cX12_factor 99 = .ok (.aload_n 0, 1) := by decide +kernel
set_option maxRecDepth 100000 in
theorem dX12_factor_100 : decode cX12_factor 100 = .ok (.bipush (-2), 2) := by decide +kernel
set_option maxRecDepth 100000 in
theorem dX12_factor_102 : decode cX12_factor 102 = .ok (.iload_n 2, 1) := by decide +kernel
set_option maxRecDepth 100000 in
theorem dX12_factor_103 : decode cX12_factor 103 = .ok (.isub, 1) := by decide +kernel
set_option maxRecDepth 100000 in
theorem dX12_factor_104 : decode cX12_factor 104 = .ok (.putfield 1136, 3) := by decide +kernel
set_option maxRecDepth 100000 in
theorem dX12_factor_107 : decode cX12_factor 107 = .ok (.return_, 1) := by decide +kernel
set_option maxRecDepth 100000 in
theorem dX12_factor_108 : decode cX12_factor 108 = .ok (.aload_n 0, 1) := by decide +kernel
set_option maxRecDepth 100000 in
theorem dX12_factor_109 : decode cX12_factor 109 = .ok (.lconst 0, 1) := by decide +kernel
set_option maxRecDepth 100000 in
theorem dX12_factor_110 : decode cX12_factor 110 = .ok (.putfield 1145, 3) := by decide +kernel
set_option maxRecDepth 100000 in
theorem dX12_factor_113 : decode cX12_factor 113 = .ok (.return_, 1) := by decide +kernel
set_option maxRecDepth 100000 in
theorem dX12_factor_114 : decode cX12_factor 114 = .ok (.aload_n 0, 1) := by decide +kernel
set_option maxRecDepth 100000 in
theorem dX12_factor_115 : decode cX12_factor 115 = .ok (.aload_n 0, 1) := by decide +kernel
set_option maxRecDepth 100000 in
theorem dX12_factor_116 : decode cX12_factor 116 = .ok (.getfield 73, 3) := by decide +kernel
set_option maxRecDepth 100000 in
theorem dX12_factor_119 : decode cX12_factor 119 = .ok (.iload_n 1, 1) := by decide +kernel
set_option maxRecDepth 100000 in
theorem dX12_factor_120 : decode cX12_factor 120 = .ok (.iaload, 1) := by decide +kernel
set_option maxRecDepth 100000 in
theorem dX12_factor_121 : decode cX12_factor 121 = .ok (.invokevirtual 1233, 3) := by decide +kernel
set_option maxRecDepth 100000 in
theorem dX12_factor_124 : decode cX12_factor 124 = .ok (.return_, 1) := by decide +kernel
set_option maxRecDepth 100000 in
theorem dX12_factor_125 : decode cX12_factor 125 = .ok (.aload_n 0, 1) := by decide +kernel
set_option maxRecDepth 100000 in
theorem dX12_factor_126 : decode cX12_factor 126 = .ok (.aload_n 0, 1) := by decide +kernel
set_option maxRecDepth 100000 in
theorem dX12_factor_127 : decode cX12_factor 127 = .ok (.getfield 73, 3) := by decide +kernel
set_option maxRecDepth 100000 in
theorem dX12_factor_130 : decode cX12_factor 130 = .ok (.iload_n 1, 1) := by decide +kernel
set_option maxRecDepth 100000 in
theorem dX12_factor_131 : decode cX12_factor 131 = .ok (.iaload, 1) := by decide +kernel
set_option maxRecDepth 100000 in
theorem dX12_factor_132 : decode cX12_factor 132 = .ok (.invokevirtual 1258, 3) := by decide +kernel
set_option maxRecDepth 100000 in
theorem dX12_factor_135 : decode cX12_factor 135 = .ok (.aload_n 0, 1) := by decide +kernel
set_option maxRecDepth 100000 in
theorem dX12_factor_136 : decode cX12_factor 136 = .ok (.lconst 1, 1) := by decide +kernel
set_option maxRecDepth 100000 in
theorem dX12_factor_137 : decode cX12_factor 137 = .ok (.aload_n 0, 1) := by decide +kernel
set_option maxRecDepth 100000 in
theorem dX12_factor_138 : decode cX12_factor 138 = .ok (.getfield 1145, 3) := by decide +kernel
set_option maxRecDepth 100000 in
theorem dX12_factor_141 : decode cX12_factor 141 = .ok (.lsub, 1) := by decide +kernel
set_option maxRecDepth 100000 in
theorem dX12_factor_142 : decode cX12_factor 142 = .ok (.putfield 1145, 3) := by decide +kernel
set_option maxRecDepth 100000 in
theorem dX12_factor_145 : decode cX12_factor 145 = .ok (.return_, 1) := by decide +kernel
set_option maxRecDepth 100000 in
theorem dX12_factor_146 : decode cX12_factor 146 = .ok (.aload_n 0, 1) := by decide +kernel
set_option maxRecDepth 100000 in
theorem dX12_factor_147 : decode cX12_factor 147 = .ok (.iload_n 1, 1) := by decide +kernel
set_option maxRecDepth 100000 in
theorem dX12_factor_148 : decode cX12_factor 148 = .ok (.invokevirtual 1239, 3) := by decide +kernel
set_option maxRecDepth 100000 in
theorem dX12_factor_151 : decode cX12_factor 151 = .ok (.return_, 1) := by decide +kernel
set_option maxRecDepth 100000 in
theorem dX12_factor_152 : decode cX12_factor 152 = .ok (.aload_n 0, 1) := by decide +kernel
set_option maxRecDepth 100000 in
theorem dX12_factor_153 : decode cX12_factor 153 = .ok (.getfield 102, 3) := by decide +kernel
set_option maxRecDepth 100000 in
theorem dX12_factor_156 : decode cX12_factor 156 = .ok (.iload_n 1, 1) := by decide +kernel
set_option maxRecDepth 100000 in
theorem dX12_factor_157 : decode cX12_factor 157 = .ok (.aaload, 1) := by decide +kernel
set_option maxRecDepth 100000 in
theorem dX12_factor_158 : decode cX12_factor 158 = .ok (.getfield 632, 3) := by decide +kernel
set_option maxRecDepth 100000 in
theorem dX12_factor_161 : decode cX12_factor 161 = .ok (.ifCond .le 26, 3) := by decide +kernel
set_option maxRecDepth 100000 in
theorem dX12_factor_164 : decode cX12_factor 164 = .ok (.aload_n 0, 1) := by decide +kernel
set_option maxRecDepth 100000 in
theorem dX12_factor_165 : decode cX12_factor 165 = .ok (.aload_n 0, 1) := by decide +kernel
set_option maxRecDepth 100000 in
theorem dX12_factor_166 : decode cX12_factor 166 = .ok (.getfield 102, 3) := by decide +kernel
set_option maxRecDepth 100000 in
theorem dX12_factor_169 : decode cX12_factor 169 = .ok (.iload_n 1, 1) := by decide +kernel
set_option maxRecDepth 100000 in
theorem dX12_factor_170 : decode cX12_factor 170 = .ok (.aaload, 1) := by decide +kernel
set_option maxRecDepth 100000 in
theorem dX12_factor_171 : decode cX12_factor 171 = .ok (.getfield 632, 3) := by decide +kernel
set_option maxRecDepth 100000 in
theorem dX12_factor_174 : decode cX12_factor 174 = .ok (.aload_n 0, 1) := by decide +kernel
set_option maxRecDepth 100000 in
theorem dX12_factor_175 : decode cX12_factor 175 = .ok (.getfield 73, 3) := by decide +kernel
set_option maxRecDepth 100000 in
theorem dX12_factor_178 : decode cX12_factor 178 = .ok (.iload_n 1, 1) := by decide +kernel
set_option maxRecDepth 100000 in
theorem dX12_factor_179 : decode cX12_factor 179 = .ok (.iaload, 1) := by decide +kernel
set_option maxRecDepth 100000 in
theorem dX12_factor_180 : decode cX12_factor 180 = .ok (.iload_n 2, 1) := by decide +kernel
set_option maxRecDepth 100000 in
theorem dX12_factor_181 : decode cX12_factor 181 = .ok (.invokevirtual 1242, 3) := by decide +kernel
set_option maxRecDepth 100000 in
theorem dX12_factor_184 : decode cX12_factor 184 = .ok (.goto 21, 3) := by decide +kernel
set_option maxRecDepth 100000 in
theorem dX12_factor_187 : decode cX12_factor 187 = .ok (.aload_n 0, 1) := by decide +kernel
set_option maxRecDepth 100000 in
theorem dX12_factor_188 : decode cX12_factor 188 = .ok (.aload_n 0, 1) := by decide +kernel
set_option maxRecDepth 100000 in
theorem dX12_factor_189 : decode cX12_factor 189 = .ok (.getfield 102, 3) := by decide +kernel
set_option maxRecDepth 100000 in
theorem dX12_factor_192 : decode cX12_factor 192 = .ok (.iload_n 1, 1) := by decide +kernel
set_option maxRecDepth 100000 in
theorem dX12_factor_193 : decode cX12_factor 193 = .ok (.aaload, 1) := by decide +kernel
set_option maxRecDepth 100000 in
theorem dX12_factor_194 : decode cX12_factor 194 = .ok (.aload_n 0, 1) := by decide +kernel
set_option maxRecDepth 100000 in
theorem dX12_factor_195 : decode cX12_factor 195 = .ok (.getfield 73, 3) := by decide +kernel
set_option maxRecDepth 100000 in
theorem dX12_factor_198 : decode cX12_factor 198 = .ok (.iload_n 1, 1) := by decide +kernel
set_option maxRecDepth 100000 in
theorem dX12_factor_199 : decode cX12_factor 199 = .ok (.iaload, 1) := by decide +kernel
set_option maxRecDepth 100000 in
theorem dX12_factor_200 : decode cX12_factor 200 = .ok (.iconst 0, 1) := by decide +kernel
set_option maxRecDepth 100000 in
theorem dX12_factor_201 : decode cX12_factor 201 = .ok (.iload_n 2, 1) := by decide +kernel
set_option maxRecDepth 100000 in
theorem dX12_factor_202 : decode cX12_factor 202 = .ok (.invokevirtual 1244, 3) := by decide +kernel
set_option maxRecDepth 100000 in
theorem dX12_factor_205 : decode cX12_factor 205 = .ok (.return_, 1) := by decide +kernel
set_option maxRecDepth 100000 in
theorem dX12_factor_206 : decode cX12_factor 206 = .ok (.aload_n 0, 1) := by decide +kernel
set_option maxRecDepth 100000 in
theorem dX12_factor_207 : decode cX12_factor 207 = .ok (.getfield 102, 3) := by decide +kernel
set_option maxRecDepth 100000 in
theorem dX12_factor_210 : decode cX12_factor 210 = .ok (.iload_n 1, 1) := by decide +kernel
set_option maxRecDepth 100000 in
theorem dX12_factor_211 : decode cX12_factor 211 = .ok (.aaload, 1) := by decide +kernel
set_option maxRecDepth 100000 in
theorem dX12_factor_212 : decode cX12_factor 212 = .ok (.getfield 577, 3) := by decide +kernel
set_option maxRecDepth 100000 in
theorem dX12_factor_215 : decode cX12_factor 215 = .ok (.iconst 3, 1) := by decide +kernel
set_option maxRecDepth 100000 in
theorem dX12_factor_216 : decode cX12_factor 216 = .ok (.if_icmp .eq 22, 3) := by decide +kernel
set_option maxRecDepth 100000 in
theorem dX12_factor_219 : decode cX12_factor 219 = .ok (.aload_n 0, 1) := by decide +kernel
set_option maxRecDepth 100000 in
theorem dX12_factor_220 : decode cX12_factor 220 = .ok (.getfield 102, 3) := by decide +kernel
set_option maxRecDepth 100000 in
theorem dX12_factor_223 : decode cX12_factor 223 = .ok (.iload_n 1, 1) := by decide +kernel
set_option maxRecDepth 100000 in
theorem dX12_factor_224 : decode cX12_factor 224 = .ok (.aaload, 1) := by decide +kernel
set_option maxRecDepth 100000 in
theorem dX12_factor_225 : decode cX12_factor 225 = .ok (.getfield 577, 3) := by decide +kernel
set_option maxRecDepth 100000 in
theorem dX12_factor_228 : decode cX12_factor 228 = .ok (.iconst 4, 1) := by decide +kernel
set_option maxRecDepth 100000 in
theorem dX12_factor_229 : decode cX12_factor 229 = .ok (.if_icmp .eq 9, 3) := by decide +kernel
set_option maxRecDepth 100000 in
theorem dX12_factor_232 : decode cX12_factor 232 = .ok (.aload_n 0, 1) := by decide +kernel
set_option maxRecDepth 100000 in
theorem dX12_factor_233 : decode cX12_factor 233 = .ok (.iload_n 1, 1) := by decide +kernel
set_option maxRecDepth 100000 in
theorem dX12_factor_234 : decode cX12_factor 234 = .ok (.invokevirtual 1255, 3) := by decide +kernel
set_option maxRecDepth 100000 in
theorem dX12_factor_237 : decode cX12_factor 237 = .ok (.return_, 1) := by decide +kernel
set_option maxRecDepth 100000 in
theorem dX12_factor_238 : decode cX12_factor 238 = .ok (.aload_n 0, 1) := by decide +kernel
set_option maxRecDepth 100000 in
theorem dX12_factor_239 : decode cX12_factor 239 = .ok (.iload_n 1, 1) := by decide +kernel
set_option maxRecDepth 100000 in
theorem dX12_factor_240 : decode cX12_factor 240 = .ok (.invokevirtual 1248, 3) := by decide +kernel
set_option maxRecDepth 100000 in
theorem dX12_factor_243 : decode cX12_factor 243 = .ok (.aload_n 0, 1) := by decide +kernel
set_option maxRecDepth 100000 in
theorem dX12_factor_244 : decode cX12_factor 244 = .ok (.getfield 1121, 3) := by decide +kernel
set_option maxRecDepth 100000 in
theorem dX12_factor_247 : decode cX12_factor 247 = .ok (.ifCond .ne 18, 3) := by decide +kernel
set_option maxRecDepth 100000 in
theorem dX12_factor_250 : decode cX12_factor 250 = .ok (.aload_n 0, 1) := by decide +kernel
set_option maxRecDepth 100000 in
theorem dX12_factor_251 : decode cX12_factor 251 = .ok (.aload_n 0, 1) := by decide +kernel
set_option maxRecDepth 100000 in
theorem dX12_factor_252 : decode cX12_factor 252 = .ok (.getfield 1236, 3) := by decide +kernel
set_option maxRecDepth 100000 in
theorem dX12_factor_255 : decode cX12_factor 255 = .ok (.aload_n 0, 1) := by decide +kernel
set_option maxRecDepth 100000 in
theorem dX12_factor_256 : decode cX12_factor 256 = .ok (.getfield 96, 3) := by decide +kernel
set_option maxRecDepth 100000 in
theorem dX12_factor_259 : decode cX12_factor 259 = .ok (.iload_n 1, 1) := by decide +kernel
set_option maxRecDepth 100000 in
theorem dX12_factor_260 : decode cX12_factor 260 = .ok (.aaload, 1) := by decide +kernel
set_option maxRecDepth 100000 in
theorem dX12_factor_261 : decode cX12_factor 261 = .ok (.iload_n 2, 1) := by decide +kernel
set_option maxRecDepth 100000 in
theorem dX12_factor_262 : decode cX12_factor 262 = .ok (.invokevirtual 1251, 3) := by decide +kernel
set_option maxRecDepth 100000 in
theorem dX12_factor_265 : decode cX12_factor 265 = .ok (.return_, 1) := by decide +kernel
set_option maxRecDepth 100000 in
def bX12_factor_265 (G : xG) (fr lo : Nat) (h : xH) (Q : Outcome → xH → Prop) : Prop := Q (.returned none) h
set_option maxRecDepth 100000 in
theorem uX12_factor_265 {G : xG} {fr lo : Nat} {h : xH} {Q : Outcome → xH → Prop} (hq : bX12_factor_265 G fr lo h Q) : xP G YX12_factor fr lo 265 [] [] h Q := by
  unfold bX12_factor_265 at hq
  exact x_vret rfl dX12_factor_265 hq
set_option maxRecDepth 100000 in
def bX12_factor_238 (G : xG) (fr lo : Nat) (x0 : Nat) (x1 : Int32) (x2 : Int32) (h : xH) (Q : Outcome → xH → Prop) : Prop := tg h x0 = 13 ∧ 1 ≤ fr ∧ 17 ≤ lo ∧ xRv G YX12_find1 (fr - 1) (lo - 17) [rv x0, .int x1] h (fun h4 => xext h h4 → ((¬ (fI h4 x0 3170) = 0 → bX12_factor_265 G fr lo h4 Q) ∧ ((fI h4 x0 3170) = 0 → tg h4 (fR h4 x0 3113) = 108 ∧ vp_in x1 (ln h4 (fR h4 x0 3113)) ∧ 1 ≤ fr ∧ 15 ≤ lo ∧ xRv G YX12_load (fr - 1) (lo - 15) [rv x0, .int (fI h4 x0 3181), rv (aR h4 (fR h4 x0 3113) (Int32.toNatClampNeg x1)), .int x2] h4 (fun h13 => xext h4 h13 → bX12_factor_265 G fr lo h13 Q) (fun r h2 => Q (.threw r) h2)))) (fun r h2 => Q (.threw r) h2)
set_option maxRecDepth 100000 in
theorem uX12_factor_238 {G : xG} {fr lo : Nat} {x0 : Nat} {x1 : Int32} {x2 : Int32} {h : xH} {Q : Outcome → xH → Prop} (hq : bX12_factor_238 G fr lo x0 x1 x2 h Q) : xP G YX12_factor fr lo 238 [(0, rv x0), (1, .int x1), (2, .int x2)] [] h Q := by
  unfold bX12_factor_238 at hq
  refine x_aload_n 0 dX12_factor_238 rfl ?_
  refine x_iload_n 1 dX12_factor_239 rfl ?_
  obtain ⟨g1, hq⟩ := hq
  obtain ⟨g2, g3, hq⟩ := hq
  refine x_callV (Yc := YX12_find1) (as := [.int x1]) (st := []) q4615 mvX12_find1 g1 rfl dX12_factor_240 (xle (xal1 (rv_cat _) (xal1 rfl xal0)) (by decide)) (xfr g2) (xlo xsw0 (by decide) g3) (xKv hq (fun h4 hq e6 => ?_) (fun _ _ q _ => q))
  replace hq := hq e6
  refine x_aload_n 0 dX12_factor_243 rfl ?_
  have t7 : tg h4 x0 = 13 := e6.tg g1 (by decide)
  refine x_get (v := .int (fI h4 x0 3170)) fdX12_1121 dX12_factor_244 t7 rfl ?_
  refine x_if_ne (tgt := 265) dX12_factor_247 (by decide) (fun c8 => ?_) (fun c8 => ?_)
  · replace hq := hq.1 c8
    refine xP.pick (lv' := []) [] rfl ?_
    exact uX12_factor_265 hq
  · replace hq := hq.2 c8
    refine x_aload_n 0 dX12_factor_250 rfl ?_
    refine x_aload_n 0 dX12_factor_251 rfl ?_
    refine x_get (v := .int (fI h4 x0 3181)) fdX12_1236 dX12_factor_252 t7 rfl ?_
    refine x_aload_n 0 dX12_factor_255 rfl ?_
    refine x_get (v := rv (fR h4 x0 3113)) fdX12_96 dX12_factor_256 t7 rfl ?_
    refine x_iload_n 1 dX12_factor_259 rfl ?_
    obtain ⟨g9, hq⟩ := hq
    obtain ⟨i10, hq⟩ := hq
    refine x_aald 8 rfl g9 (by decide) i10 dX12_factor_260 ?_
    refine x_iload_n 2 dX12_factor_261 rfl ?_
    obtain ⟨g11, g12, hq⟩ := hq
    refine x_callV (Yc := YX12_load) (as := [.int (fI h4 x0 3181), rv (aR h4 (fR h4 x0 3113) (Int32.toNatClampNeg x1)), .int x2]) (st := []) q4651 mvX12_load t7 rfl dX12_factor_262 (xle (xal1 (rv_cat _) (xal1 rfl (xal1 (rv_cat _) (xal1 rfl xal0)))) (by decide)) (xfr g11) (xlo xsw0 (by decide) g12) (xKv hq (fun h13 hq e15 => ?_) (fun _ _ q _ => q))
    replace hq := hq e15
    refine xP.pick (lv' := []) [] rfl ?_
    exact uX12_factor_265 hq
set_option maxRecDepth 100000 in
def bX12_factor_205 (G : xG) (fr lo : Nat) (h : xH) (Q : Outcome → xH → Prop) : Prop := Q (.returned none) h
set_option maxRecDepth 100000 in
theorem uX12_factor_205 {G : xG} {fr lo : Nat} {h : xH} {Q : Outcome → xH → Prop} (hq : bX12_factor_205 G fr lo h Q) : xP G YX12_factor fr lo 205 [] [] h Q := by
  unfold bX12_factor_205 at hq
  exact x_vret rfl dX12_factor_205 hq
set_option maxRecDepth 100000 in
def bX12_factor (G : xG) (fr lo : Nat) (x0 : Nat) (x1 : Int32) (h : xH) (Q : Outcome → xH → Prop) : Prop := tg h x0 = 13 ∧ tg h (fR h x0 3102) = 100 ∧ vp_in x1 (ln h (fR h x0 3102)) ∧ tg h (fR h x0 3101) = 100 ∧ vp_in x1 (ln h (fR h x0 3101)) ∧ (((aI h (fR h x0 3101) (Int32.toNatClampNeg x1)) = 53 → tg h (fR h x0 3084) = 100 ∧ vp_in (aI h (fR h x0 3102) (Int32.toNatClampNeg x1)) (ln h (fR h x0 3084)) ∧ (∀ h9 : xH, h9 = sJ h x0 3177 (Int32.toInt64 (aI h (fR h x0 3084) (Int32.toNatClampNeg (aI h (fR h x0 3102) (Int32.toNatClampNeg x1))))) → Q (.returned none) h9)) ∧ ((aI h (fR h x0 3101) (Int32.toNatClampNeg x1)) = 54 → tg h (fR h x0 3086) = 102 ∧ vp_in (aI h (fR h x0 3102) (Int32.toNatClampNeg x1)) (ln h (fR h x0 3086)) ∧ (∀ h14 : xH, h14 = sD h x0 3179 (aD h (fR h x0 3086) (Int32.toNatClampNeg (aI h (fR h x0 3102) (Int32.toNatClampNeg x1)))) → Q (.returned none) h14)) ∧ ((aI h (fR h x0 3101) (Int32.toNatClampNeg x1)) = 55 → tg h (fR h x0 3084) = 100 ∧ vp_in (aI h (fR h x0 3102) (Int32.toNatClampNeg x1)) (ln h (fR h x0 3084)) ∧ tg h (fR h x0 3088) = 103 ∧ vp_in (aI h (fR h x0 3084) (Int32.toNatClampNeg (aI h (fR h x0 3102) (Int32.toNatClampNeg x1)))) (ln h (fR h x0 3088)) ∧ (∀ h21 : xH, h21 = sJ h x0 3177 (Int32.toInt64 (aI h (fR h x0 3088) (Int32.toNatClampNeg (aI h (fR h x0 3084) (Int32.toNatClampNeg (aI h (fR h x0 3102) (Int32.toNatClampNeg x1))))))) → (∀ h24 : xH, h24 = sI h21 x0 3180 ((-2) - (aI h (fR h x0 3102) (Int32.toNatClampNeg x1))) → Q (.returned none) h24))) ∧ ((aI h (fR h x0 3101) (Int32.toNatClampNeg x1)) = 56 → (∀ h27 : xH, h27 = sJ h x0 3177 0 → Q (.returned none) h27)) ∧ ((aI h (fR h x0 3101) (Int32.toNatClampNeg x1)) = 57 → tg h (fR h x0 3103) = 100 ∧ vp_in x1 (ln h (fR h x0 3103)) ∧ 1 ≤ fr ∧ 37 ≤ lo ∧ xRv G YX12_evaluate (fr - 1) (lo - 37) [rv x0, .int (aI h (fR h x0 3103) (Int32.toNatClampNeg x1))] h (fun h34 => xext h h34 → Q (.returned none) h34) (fun r h2 => Q (.threw r) h2)) ∧ ((aI h (fR h x0 3101) (Int32.toNatClampNeg x1)) = 58 → tg h (fR h x0 3103) = 100 ∧ vp_in x1 (ln h (fR h x0 3103)) ∧ 1 ≤ fr ∧ 14 ≤ lo ∧ xRv G YX12_factor (fr - 1) (lo - 14) [rv x0, .int (aI h (fR h x0 3103) (Int32.toNatClampNeg x1))] h (fun h42 => xext h h42 → (∀ h46 : xH, h46 = sJ h42 x0 3177 (1 - (fJ h42 x0 3177)) → Q (.returned none) h46)) (fun r h2 => Q (.threw r) h2)) ∧ ((aI h (fR h x0 3101) (Int32.toNatClampNeg x1)) = 59 → 1 ≤ fr ∧ 23 ≤ lo ∧ xRv G YX12_members (fr - 1) (lo - 23) [rv x0, .int x1] h (fun h51 => xext h h51 → Q (.returned none) h51) (fun r h2 => Q (.threw r) h2)) ∧ ((aI h (fR h x0 3101) (Int32.toNatClampNeg x1)) = 60 → tg h (fR h x0 3114) = 109 ∧ vp_in x1 (ln h (fR h x0 3114)) ∧ tg h (aR h (fR h x0 3114) (Int32.toNatClampNeg x1)) = 24 ∧ (((fI h (aR h (fR h x0 3114) (Int32.toNatClampNeg x1)) 5903) ≤ 0 → vp_in x1 (ln h (fR h x0 3114)) ∧ tg h (fR h x0 3103) = 100 ∧ vp_in x1 (ln h (fR h x0 3103)) ∧ 1 ≤ fr ∧ 24 ≤ lo ∧ xRv G YX12_call (fr - 1) (lo - 24) [rv x0, rv (aR h (fR h x0 3114) (Int32.toNatClampNeg x1)), .int (aI h (fR h x0 3103) (Int32.toNatClampNeg x1)), .int 0, .int (aI h (fR h x0 3102) (Int32.toNatClampNeg x1))] h (fun h64 => xext h h64 → bX12_factor_205 G fr lo h64 Q) (fun r h2 => Q (.threw r) h2)) ∧ (¬ (fI h (aR h (fR h x0 3114) (Int32.toNatClampNeg x1)) 5903) ≤ 0 → vp_in x1 (ln h (fR h x0 3114)) ∧ tg h (fR h x0 3103) = 100 ∧ vp_in x1 (ln h (fR h x0 3103)) ∧ 1 ≤ fr ∧ 17 ≤ lo ∧ xRv G YX12_there (fr - 1) (lo - 17) [rv x0, .int (fI h (aR h (fR h x0 3114) (Int32.toNatClampNeg x1)) 5903), .int (aI h (fR h x0 3103) (Int32.toNatClampNeg x1)), .int (aI h (fR h x0 3102) (Int32.toNatClampNeg x1))] h (fun h72 => xext h h72 → bX12_factor_205 G fr lo h72 Q) (fun r h2 => Q (.threw r) h2)))) ∧ (¬ (aI h (fR h x0 3101) (Int32.toNatClampNeg x1)) = 53 → ¬ (aI h (fR h x0 3101) (Int32.toNatClampNeg x1)) = 54 → ¬ (aI h (fR h x0 3101) (Int32.toNatClampNeg x1)) = 55 → ¬ (aI h (fR h x0 3101) (Int32.toNatClampNeg x1)) = 56 → ¬ (aI h (fR h x0 3101) (Int32.toNatClampNeg x1)) = 57 → ¬ (aI h (fR h x0 3101) (Int32.toNatClampNeg x1)) = 58 → ¬ (aI h (fR h x0 3101) (Int32.toNatClampNeg x1)) = 59 → ¬ (aI h (fR h x0 3101) (Int32.toNatClampNeg x1)) = 60 → tg h (fR h x0 3114) = 109 ∧ vp_in x1 (ln h (fR h x0 3114)) ∧ tg h (aR h (fR h x0 3114) (Int32.toNatClampNeg x1)) = 24 ∧ (((fI h (aR h (fR h x0 3114) (Int32.toNatClampNeg x1)) 5888) = 3 → bX12_factor_238 G fr lo x0 x1 (aI h (fR h x0 3102) (Int32.toNatClampNeg x1)) h Q) ∧ (¬ (fI h (aR h (fR h x0 3114) (Int32.toNatClampNeg x1)) 5888) = 3 → vp_in x1 (ln h (fR h x0 3114)) ∧ (((fI h (aR h (fR h x0 3114) (Int32.toNatClampNeg x1)) 5888) = 4 → bX12_factor_238 G fr lo x0 x1 (aI h (fR h x0 3102) (Int32.toNatClampNeg x1)) h Q) ∧ (¬ (fI h (aR h (fR h x0 3114) (Int32.toNatClampNeg x1)) 5888) = 4 → 1 ≤ fr ∧ 14 ≤ lo ∧ xRv G YX12_meant (fr - 1) (lo - 14) [rv x0, .int x1] h (fun h83 => xext h h83 → Q (.returned none) h83) (fun r h2 => Q (.threw r) h2)))))))
set_option maxRecDepth 100000 in
theorem uX12_factor {G : xG} {fr lo : Nat} {x0 : Nat} {x1 : Int32} {h : xH} {Q : Outcome → xH → Prop} (hq : bX12_factor G fr lo x0 x1 h Q) : xP G YX12_factor fr lo 0 [(0, rv x0), (1, .int x1)] [] h Q := by
  unfold bX12_factor at hq
  refine x_aload_n 0 dX12_factor_0 rfl ?_
  obtain ⟨g1, hq⟩ := hq
  refine x_get (v := rv (fR h x0 3102)) fdX12_70 dX12_factor_1 g1 rfl ?_
  refine x_iload_n 1 dX12_factor_4 rfl ?_
  obtain ⟨g2, hq⟩ := hq
  obtain ⟨i3, hq⟩ := hq
  refine x_iald 0 (Or.inl rfl) g2 i3 dX12_factor_5 ?_
  refine x_istore_n (lv' := [(2, .int (aI h (fR h x0 3102) (Int32.toNatClampNeg x1))), (0, rv x0), (1, .int x1)]) dX12_factor_6 (by decide) rfl ?_
  refine x_aload_n 1 dX12_factor_7 rfl ?_
  refine x_get (v := rv (fR h x0 3101)) fdX12_67 dX12_factor_8 g1 rfl ?_
  refine x_iload_n 2 dX12_factor_11 rfl ?_
  obtain ⟨g4, hq⟩ := hq
  obtain ⟨i5, hq⟩ := hq
  refine x_iald 0 (Or.inl rfl) g4 i5 dX12_factor_12 ?_
  by_cases c6 : (aI h (fR h x0 3101) (Int32.toNatClampNeg x1)) = 53
  · replace hq := hq.1 c6
    refine x_tin (tgt := 60) (off := 47) 53 c6 dX12_factor_13 (by decide) (by decide) (by decide) (by decide) ?_
    refine x_aload_n 1 dX12_factor_60 rfl ?_
    refine x_aload_n 1 dX12_factor_61 rfl ?_
    refine x_get (v := rv (fR h x0 3084)) fdX12_32 dX12_factor_62 g1 rfl ?_
    refine x_iload_n 0 dX12_factor_65 rfl ?_
    obtain ⟨g7, hq⟩ := hq
    obtain ⟨i8, hq⟩ := hq
    refine x_iald 0 (Or.inl rfl) g7 i8 dX12_factor_66 ?_
    refine x_i2l dX12_factor_67 ?_
    obtain ⟨h9, e10⟩ : ∃ y, y = sJ h x0 3177 (Int32.toInt64 (aI h (fR h x0 3084) (Int32.toNatClampNeg (aI h (fR h x0 3102) (Int32.toNatClampNeg x1))))) := ⟨_, rfl⟩
    replace hq := hq h9 e10
    refine x_putJ fdX12_1145 dX12_factor_68 g1 (Or.inl (by rw [g1]; rfl)) rfl e10 ?_
    exact x_vret rfl dX12_factor_71 hq
  replace hq := hq.2
  by_cases c11 : (aI h (fR h x0 3101) (Int32.toNatClampNeg x1)) = 54
  · replace hq := hq.1 c11
    refine x_tin (tgt := 72) (off := 59) 54 c11 dX12_factor_13 (by decide) (by decide) (by decide) (by decide) ?_
    refine x_aload_n 1 dX12_factor_72 rfl ?_
    refine x_aload_n 1 dX12_factor_73 rfl ?_
    refine x_get (v := rv (fR h x0 3086)) fdX12_38 dX12_factor_74 g1 rfl ?_
    refine x_iload_n 0 dX12_factor_77 rfl ?_
    obtain ⟨g12, hq⟩ := hq
    obtain ⟨i13, hq⟩ := hq
    refine x_dald g12 i13 dX12_factor_78 ?_
    obtain ⟨h14, e15⟩ : ∃ y, y = sD h x0 3179 (aD h (fR h x0 3086) (Int32.toNatClampNeg (aI h (fR h x0 3102) (Int32.toNatClampNeg x1)))) := ⟨_, rfl⟩
    replace hq := hq h14 e15
    refine x_putD fdX12_1151 dX12_factor_79 g1 (Or.inl (by rw [g1]; rfl)) rfl e15 ?_
    exact x_vret rfl dX12_factor_82 hq
  replace hq := hq.2
  by_cases c16 : (aI h (fR h x0 3101) (Int32.toNatClampNeg x1)) = 55
  · replace hq := hq.1 c16
    refine x_tin (tgt := 83) (off := 70) 55 c16 dX12_factor_13 (by decide) (by decide) (by decide) (by decide) ?_
    refine x_aload_n 1 dX12_factor_83 rfl ?_
    refine x_aload_n 1 dX12_factor_84 rfl ?_
    refine x_get (v := rv (fR h x0 3088)) fdX12_42 dX12_factor_85 g1 rfl ?_
    refine x_aload_n 1 dX12_factor_88 rfl ?_
    refine x_get (v := rv (fR h x0 3084)) fdX12_32 dX12_factor_89 g1 rfl ?_
    refine x_iload_n 0 dX12_factor_92 rfl ?_
    obtain ⟨g17, hq⟩ := hq
    obtain ⟨i18, hq⟩ := hq
    refine x_iald 0 (Or.inl rfl) g17 i18 dX12_factor_93 ?_
    obtain ⟨g19, hq⟩ := hq
    obtain ⟨i20, hq⟩ := hq
    refine x_bald g19 i20 dX12_factor_94 ?_
    refine x_i2l dX12_factor_95 ?_
    obtain ⟨h21, e22⟩ : ∃ y, y = sJ h x0 3177 (Int32.toInt64 (aI h (fR h x0 3088) (Int32.toNatClampNeg (aI h (fR h x0 3084) (Int32.toNatClampNeg (aI h (fR h x0 3102) (Int32.toNatClampNeg x1))))))) := ⟨_, rfl⟩
    replace hq := hq h21 e22
    refine x_putJ fdX12_1145 dX12_factor_96 g1 (Or.inl (by rw [g1]; rfl)) rfl e22 ?_
    refine x_aload_n 1 dX12_factor_99 rfl ?_
    refine x_bipush (v := (-2)) dX12_factor_100 (by decide) ?_
    refine x_iload_n 0 dX12_factor_102 rfl ?_
    refine x_isub dX12_factor_103 ?_
    have t23 : tg h21 x0 = 13 := by rw [e22]; exact g1
    obtain ⟨h24, e25⟩ : ∃ y, y = sI h21 x0 3180 ((-2) - (aI h (fR h x0 3102) (Int32.toNatClampNeg x1))) := ⟨_, rfl⟩
    replace hq := hq h24 e25
    refine x_putI fdX12_1136 xty_I1 dX12_factor_104 t23 (Or.inl (by rw [t23]; rfl)) xnI rfl e25 ?_
    exact x_vret rfl dX12_factor_107 hq
  replace hq := hq.2
  by_cases c26 : (aI h (fR h x0 3101) (Int32.toNatClampNeg x1)) = 56
  · replace hq := hq.1 c26
    refine x_tin (tgt := 108) (off := 95) 56 c26 dX12_factor_13 (by decide) (by decide) (by decide) (by decide) ?_
    refine x_aload_n 1 dX12_factor_108 rfl ?_
    refine x_lconst (v := 0) dX12_factor_109 (by decide) ?_
    obtain ⟨h27, e28⟩ : ∃ y, y = sJ h x0 3177 0 := ⟨_, rfl⟩
    replace hq := hq h27 e28
    refine x_putJ fdX12_1145 dX12_factor_110 g1 (Or.inl (by rw [g1]; rfl)) rfl e28 ?_
    exact x_vret rfl dX12_factor_113 hq
  replace hq := hq.2
  by_cases c29 : (aI h (fR h x0 3101) (Int32.toNatClampNeg x1)) = 57
  · replace hq := hq.1 c29
    refine x_tin (tgt := 114) (off := 101) 57 c29 dX12_factor_13 (by decide) (by decide) (by decide) (by decide) ?_
    refine x_aload_n 1 dX12_factor_114 rfl ?_
    refine x_aload_n 1 dX12_factor_115 rfl ?_
    refine x_get (v := rv (fR h x0 3103)) fdX12_73 dX12_factor_116 g1 rfl ?_
    refine x_iload_n 2 dX12_factor_119 rfl ?_
    obtain ⟨g30, hq⟩ := hq
    obtain ⟨i31, hq⟩ := hq
    refine x_iald 0 (Or.inl rfl) g30 i31 dX12_factor_120 ?_
    obtain ⟨g32, g33, hq⟩ := hq
    refine x_callV (Yc := YX12_evaluate) (as := [.int (aI h (fR h x0 3103) (Int32.toNatClampNeg x1))]) (st := []) q4543 mvX12_evaluate g1 rfl dX12_factor_121 (xle (xal1 (rv_cat _) (xal1 rfl xal0)) (by decide)) (xfr g32) (xlo xsw0 (by decide) g33) (xKv hq (fun h34 hq e36 => ?_) (fun _ _ q _ => q))
    replace hq := hq e36
    exact x_vret rfl dX12_factor_124 hq
  replace hq := hq.2
  by_cases c37 : (aI h (fR h x0 3101) (Int32.toNatClampNeg x1)) = 58
  · replace hq := hq.1 c37
    refine x_tin (tgt := 125) (off := 112) 58 c37 dX12_factor_13 (by decide) (by decide) (by decide) (by decide) ?_
    refine x_aload_n 1 dX12_factor_125 rfl ?_
    refine x_aload_n 1 dX12_factor_126 rfl ?_
    refine x_get (v := rv (fR h x0 3103)) fdX12_73 dX12_factor_127 g1 rfl ?_
    refine x_iload_n 2 dX12_factor_130 rfl ?_
    obtain ⟨g38, hq⟩ := hq
    obtain ⟨i39, hq⟩ := hq
    refine x_iald 0 (Or.inl rfl) g38 i39 dX12_factor_131 ?_
    obtain ⟨g40, g41, hq⟩ := hq
    refine x_callV (Yc := YX12_factor) (as := [.int (aI h (fR h x0 3103) (Int32.toNatClampNeg x1))]) (st := []) q4659 mvX12_factor g1 rfl dX12_factor_132 (xle (xal1 (rv_cat _) (xal1 rfl xal0)) (by decide)) (xfr g40) (xlo xsw0 (by decide) g41) (xKv hq (fun h42 hq e44 => ?_) (fun _ _ q _ => q))
    replace hq := hq e44
    refine x_aload_n 1 dX12_factor_135 rfl ?_
    refine x_lconst (v := 1) dX12_factor_136 (by decide) ?_
    refine x_aload_n 1 dX12_factor_137 rfl ?_
    have t45 : tg h42 x0 = 13 := e44.tg g1 (by decide)
    refine x_get (v := .long (fJ h42 x0 3177)) fdX12_1145 dX12_factor_138 t45 rfl ?_
    refine x_lsub dX12_factor_141 ?_
    obtain ⟨h46, e47⟩ : ∃ y, y = sJ h42 x0 3177 (1 - (fJ h42 x0 3177)) := ⟨_, rfl⟩
    replace hq := hq h46 e47
    refine x_putJ fdX12_1145 dX12_factor_142 t45 (Or.inl (by rw [t45]; rfl)) rfl e47 ?_
    exact x_vret rfl dX12_factor_145 hq
  replace hq := hq.2
  by_cases c48 : (aI h (fR h x0 3101) (Int32.toNatClampNeg x1)) = 59
  · replace hq := hq.1 c48
    refine x_tin (tgt := 146) (off := 133) 59 c48 dX12_factor_13 (by decide) (by decide) (by decide) (by decide) ?_
    refine x_aload_n 1 dX12_factor_146 rfl ?_
    refine x_iload_n 2 dX12_factor_147 rfl ?_
    obtain ⟨g49, g50, hq⟩ := hq
    refine x_callV (Yc := YX12_members) (as := [.int x1]) (st := []) q4547 mvX12_members g1 rfl dX12_factor_148 (xle (xal1 (rv_cat _) (xal1 rfl xal0)) (by decide)) (xfr g49) (xlo xsw0 (by decide) g50) (xKv hq (fun h51 hq e53 => ?_) (fun _ _ q _ => q))
    replace hq := hq e53
    exact x_vret rfl dX12_factor_151 hq
  replace hq := hq.2
  by_cases c54 : (aI h (fR h x0 3101) (Int32.toNatClampNeg x1)) = 60
  · replace hq := hq.1 c54
    refine x_tin (tgt := 152) (off := 139) 60 c54 dX12_factor_13 (by decide) (by decide) (by decide) (by decide) ?_
    refine x_aload_n 1 dX12_factor_152 rfl ?_
    refine x_get (v := rv (fR h x0 3114)) fdX12_102 dX12_factor_153 g1 rfl ?_
    refine x_iload_n 2 dX12_factor_156 rfl ?_
    obtain ⟨g55, hq⟩ := hq
    obtain ⟨i56, hq⟩ := hq
    refine x_aald 9 rfl g55 (by decide) i56 dX12_factor_157 ?_
    obtain ⟨g57, hq⟩ := hq
    refine x_get (v := .int (fI h (aR h (fR h x0 3114) (Int32.toNatClampNeg x1)) 5903)) fdX12_632 dX12_factor_158 g57 rfl ?_
    refine x_if_le (tgt := 187) dX12_factor_161 (by decide) (fun c58 => ?_) (fun c58 => ?_)
    · replace hq := hq.1 c58
      refine x_aload_n 1 dX12_factor_187 rfl ?_
      refine x_aload_n 1 dX12_factor_188 rfl ?_
      refine x_get (v := rv (fR h x0 3114)) fdX12_102 dX12_factor_189 g1 rfl ?_
      refine x_iload_n 2 dX12_factor_192 rfl ?_
      obtain ⟨i59, hq⟩ := hq
      refine x_aald 9 rfl g55 (by decide) i59 dX12_factor_193 ?_
      refine x_aload_n 1 dX12_factor_194 rfl ?_
      refine x_get (v := rv (fR h x0 3103)) fdX12_73 dX12_factor_195 g1 rfl ?_
      refine x_iload_n 2 dX12_factor_198 rfl ?_
      obtain ⟨g60, hq⟩ := hq
      obtain ⟨i61, hq⟩ := hq
      refine x_iald 0 (Or.inl rfl) g60 i61 dX12_factor_199 ?_
      refine x_iconst (v := 0) dX12_factor_200 (by decide) ?_
      refine x_iload_n 0 dX12_factor_201 rfl ?_
      obtain ⟨g62, g63, hq⟩ := hq
      refine x_callV (Yc := YX12_call) (as := [rv (aR h (fR h x0 3114) (Int32.toNatClampNeg x1)), .int (aI h (fR h x0 3103) (Int32.toNatClampNeg x1)), .int 0, .int (aI h (fR h x0 3102) (Int32.toNatClampNeg x1))]) (st := []) q4607 mvX12_call g1 rfl dX12_factor_202 (xle (xal1 (rv_cat _) (xal1 (rv_cat _) (xal1 rfl (xal1 rfl (xal1 rfl xal0))))) (by decide)) (xfr g62) (xlo xsw0 (by decide) g63) (xKv hq (fun h64 hq e66 => ?_) (fun _ _ q _ => q))
      replace hq := hq e66
      refine xP.pick (lv' := []) [] rfl ?_
      exact uX12_factor_205 hq
    · replace hq := hq.2 c58
      refine x_aload_n 1 dX12_factor_164 rfl ?_
      refine x_aload_n 1 dX12_factor_165 rfl ?_
      refine x_get (v := rv (fR h x0 3114)) fdX12_102 dX12_factor_166 g1 rfl ?_
      refine x_iload_n 2 dX12_factor_169 rfl ?_
      obtain ⟨i67, hq⟩ := hq
      refine x_aald 9 rfl g55 (by decide) i67 dX12_factor_170 ?_
      refine x_get (v := .int (fI h (aR h (fR h x0 3114) (Int32.toNatClampNeg x1)) 5903)) fdX12_632 dX12_factor_171 g57 rfl ?_
      refine x_aload_n 1 dX12_factor_174 rfl ?_
      refine x_get (v := rv (fR h x0 3103)) fdX12_73 dX12_factor_175 g1 rfl ?_
      refine x_iload_n 2 dX12_factor_178 rfl ?_
      obtain ⟨g68, hq⟩ := hq
      obtain ⟨i69, hq⟩ := hq
      refine x_iald 0 (Or.inl rfl) g68 i69 dX12_factor_179 ?_
      refine x_iload_n 0 dX12_factor_180 rfl ?_
      obtain ⟨g70, g71, hq⟩ := hq
      refine x_callV (Yc := YX12_there) (as := [.int (fI h (aR h (fR h x0 3114) (Int32.toNatClampNeg x1)) 5903), .int (aI h (fR h x0 3103) (Int32.toNatClampNeg x1)), .int (aI h (fR h x0 3102) (Int32.toNatClampNeg x1))]) (st := []) q4558 mvX12_there g1 rfl dX12_factor_181 (xle (xal1 (rv_cat _) (xal1 rfl (xal1 rfl (xal1 rfl xal0)))) (by decide)) (xfr g70) (xlo xsw0 (by decide) g71) (xKv hq (fun h72 hq e74 => ?_) (fun _ _ q _ => q))
      replace hq := hq e74
      refine x_goto (tgt := 205) dX12_factor_184 (by decide) ?_
      refine xP.pick (lv' := []) [] rfl ?_
      exact uX12_factor_205 hq
  replace hq := hq.2
  replace hq := hq c6 c11 c16 c26 c29 c37 c48 c54
  have nc6 := lv_neT c6 (show (53 : Int32).toInt = 53 from by decide)
  have nc11 := lv_neT c11 (show (54 : Int32).toInt = 54 from by decide)
  have nc16 := lv_neT c16 (show (55 : Int32).toInt = 55 from by decide)
  have nc26 := lv_neT c26 (show (56 : Int32).toInt = 56 from by decide)
  have nc29 := lv_neT c29 (show (57 : Int32).toInt = 57 from by decide)
  have nc37 := lv_neT c37 (show (58 : Int32).toInt = 58 from by decide)
  have nc48 := lv_neT c48 (show (59 : Int32).toInt = 59 from by decide)
  have nc54 := lv_neT c54 (show (60 : Int32).toInt = 60 from by decide)
  refine x_tout (tgt := 206) dX12_factor_13 (by omega) (by decide) ?_
  refine x_aload_n 1 dX12_factor_206 rfl ?_
  refine x_get (v := rv (fR h x0 3114)) fdX12_102 dX12_factor_207 g1 rfl ?_
  refine x_iload_n 2 dX12_factor_210 rfl ?_
  obtain ⟨g75, hq⟩ := hq
  obtain ⟨i76, hq⟩ := hq
  refine x_aald 9 rfl g75 (by decide) i76 dX12_factor_211 ?_
  obtain ⟨g77, hq⟩ := hq
  refine x_get (v := .int (fI h (aR h (fR h x0 3114) (Int32.toNatClampNeg x1)) 5888)) fdX12_577 dX12_factor_212 g77 rfl ?_
  refine x_iconst (v := 3) dX12_factor_215 (by decide) ?_
  refine x_icmp_eq (tgt := 238) dX12_factor_216 (by decide) (fun c78 => ?_) (fun c78 => ?_)
  · replace hq := hq.1 c78
    refine xP.pick (lv' := [(0, rv x0), (1, .int x1), (2, .int (aI h (fR h x0 3102) (Int32.toNatClampNeg x1)))]) [1, 2, 0] rfl ?_
    exact uX12_factor_238 hq
  · replace hq := hq.2 c78
    refine x_aload_n 1 dX12_factor_219 rfl ?_
    refine x_get (v := rv (fR h x0 3114)) fdX12_102 dX12_factor_220 g1 rfl ?_
    refine x_iload_n 2 dX12_factor_223 rfl ?_
    obtain ⟨i79, hq⟩ := hq
    refine x_aald 9 rfl g75 (by decide) i79 dX12_factor_224 ?_
    refine x_get (v := .int (fI h (aR h (fR h x0 3114) (Int32.toNatClampNeg x1)) 5888)) fdX12_577 dX12_factor_225 g77 rfl ?_
    refine x_iconst (v := 4) dX12_factor_228 (by decide) ?_
    refine x_icmp_eq (tgt := 238) dX12_factor_229 (by decide) (fun c80 => ?_) (fun c80 => ?_)
    · replace hq := hq.1 c80
      refine xP.pick (lv' := [(0, rv x0), (1, .int x1), (2, .int (aI h (fR h x0 3102) (Int32.toNatClampNeg x1)))]) [1, 2, 0] rfl ?_
      exact uX12_factor_238 hq
    · replace hq := hq.2 c80
      refine x_aload_n 1 dX12_factor_232 rfl ?_
      refine x_iload_n 2 dX12_factor_233 rfl ?_
      obtain ⟨g81, g82, hq⟩ := hq
      refine x_callV (Yc := YX12_meant) (as := [.int x1]) (st := []) q4655 mvX12_meant g1 rfl dX12_factor_234 (xle (xal1 (rv_cat _) (xal1 rfl xal0)) (by decide)) (xfr g81) (xlo xsw0 (by decide) g82) (xKv hq (fun h83 hq e85 => ?_) (fun _ _ q _ => q))
      replace hq := hq e85
      exact x_vret rfl dX12_factor_237 hq
theorem rX12_factor {G : xG} {fr lo : Nat} {x0 : Nat} {x1 : Int32} {h : xH} {Q : Outcome → xH → Prop} (hq : bX12_factor G fr lo x0 x1 h Q) : xR G YX12_factor fr lo [rv x0, .int x1] h Q := by
  show xP _ _ _ _ _ (lv_args 0 _) _ _ _
  rw [show lv_args 0 [rv x0, .int x1] = [(0, rv x0), (1, .int x1)] from (xla1 (rv_cat _) (xla1 rfl xla0))]
  exact uX12_factor hq
set_option maxRecDepth 100000 in
theorem dX12_operate_0 : decode cX12_operate 0 = .ok (.aload_n 0, 1) := by decide +kernel
set_option maxRecDepth 100000 in
theorem dX12_operate_1 : decode cX12_operate 1 = .ok (.getfield 26, 3) := by decide +kernel
set_option maxRecDepth 100000 in
theorem dX12_operate_4 : decode cX12_operate 4 = .ok (.iload 9, 2) := by decide +kernel
set_option maxRecDepth 100000 in
theorem dX12_operate_6 : decode cX12_operate 6 = .ok (.iaload, 1) := by decide +kernel
set_option maxRecDepth 100000 in
theorem dX12_operate_7 : decode cX12_operate 7 = .ok (.istore 10, 2) := by decide +kernel
set_option maxRecDepth 100000 in
theorem dX12_operate_9 : decode cX12_operate 9 = .ok (.aload 7, 2) := by decide +kernel
set_option maxRecDepth 100000 in
theorem dX12_operate_11 : decode cX12_operate 11 = .ok (.getfield 845, 3) := by decide +kernel
set_option maxRecDepth 100000 in
theorem dX12_operate_14 : decode cX12_operate 14 = .ok (.bipush 9, 2) := by decide +kernel
set_option maxRecDepth 100000 in
theorem dX12_operate_16 : decode cX12_operate 16 = .ok (.if_icmp .ne 102, 3) := by decide +kernel
set_option maxRecDepth 100000 in
theorem dX12_operate_19 : decode cX12_operate 19 = .ok (.aload_n 0, 1) := by decide +kernel
set_option maxRecDepth 100000 in
theorem dX12_operate_20 : decode cX12_operate 20 = .ok (.iload 10, 2) := by decide +kernel
set_option maxRecDepth 100000 in
theorem dX12_operate_22 : decode cX12_operate 22 = .ok (.bipush 50, 2) := by decide +kernel
set_option maxRecDepth 100000 in
theorem dX12_operate_24 : decode cX12_operate 24 = .ok (.if_icmp .ne 12, 3) := by decide +kernel
set_option maxRecDepth 100000 in
theorem dX12_operate_27 : decode cX12_operate 27 = .ok (.lload_n 1, 1) := by decide +kernel
set_option maxRecDepth 100000 in
theorem dX12_operate_28 : decode cX12_operate 28 = .ok (.aload_n 0, 1) := by decide +kernel
set_option maxRecDepth 100000 in
theorem dX12_operate_29 : decode cX12_operate 29 = .ok (.getfield 1145, 3) := by decide +kernel
set_option maxRecDepth 100000 in
theorem dX12_operate_32 : decode cX12_operate 32 = .ok (.lor, 1) := by decide +kernel
set_option maxRecDepth 100000 in
theorem dX12_operate_33 : decode cX12_operate 33 = .ok (.goto 29, 3) := by decide +kernel
set_option maxRecDepth 100000 in
theorem dX12_operate_36 : decode cX12_operate 36 = .ok (.iload 10, 2) := by decide +kernel
set_option maxRecDepth 100000 in
theorem dX12_operate_38 : decode cX12_operate 38 = .ok (.bipush 52, 2) := by decide +kernel
set_option maxRecDepth 100000 in
theorem dX12_operate_40 : decode cX12_operate 40 = .ok (.if_icmp .ne 12, 3) := by decide +kernel
set_option maxRecDepth 100000 in
theorem dX12_operate_43 : decode cX12_operate 43 = .ok (.lload_n 1, 1) := by decide +kernel
set_option maxRecDepth 100000 in
theorem dX12_operate_44 : decode cX12_operate 44 = .ok (.aload_n 0, 1) := by decide +kernel
set_option maxRecDepth 100000 in
theorem dX12_operate_45 : decode cX12_operate 45 = .ok (.getfield 1145, 3) := by decide +kernel
set_option maxRecDepth 100000 in
theorem dX12_operate_48 : decode cX12_operate 48 = .ok (.land, 1) := by decide +kernel
set_option maxRecDepth 100000 in
theorem dX12_operate_49 : decode cX12_operate 49 = .ok (.goto 13, 3) := by decide +kernel
set_option maxRecDepth 100000 in
theorem dX12_operate_52 : decode cX12_operate 52 = .ok (.lload_n 1, 1) := by decide +kernel
set_option maxRecDepth 100000 in
theorem dX12_operate_53 : decode cX12_operate 53 = .ok (.aload_n 0, 1) := by decide +kernel
set_option maxRecDepth 100000 in
theorem dX12_operate_54 : decode cX12_operate 54 = .ok (.getfield 1145, 3) := by decide +kernel
set_option maxRecDepth 100000 in
theorem dX12_operate_57 : decode cX12_operate 57 = .ok (.ldc2_w 1160, 3) := by decide +kernel
set_option maxRecDepth 100000 in
theorem dX12_operate_60 : decode cX12_operate 60 = .ok (.lxor, 1) := by decide +kernel
set_option maxRecDepth 100000 in
theorem dX12_operate_61 : decode cX12_operate 61 = .ok (.land, 1) := by decide +kernel
set_option maxRecDepth 100000 in
theorem dX12_operate_62 : decode cX12_operate 62 = .ok (.putfield 1145, 3) := by decide +kernel
set_option maxRecDepth 100000 in
theorem dX12_operate_65 : decode cX12_operate 65 = .ok (.aload_n 0, 1) := by decide +kernel
set_option maxRecDepth 100000 in
theorem dX12_operate_66 : decode cX12_operate 66 = .ok (.iload 10, 2) := by decide +kernel
set_option maxRecDepth 100000 in
theorem dX12_operate_68 : decode cX12_operate 68 = .ok (.bipush 50, 2) := by decide +kernel
set_option maxRecDepth 100000 in
theorem dX12_operate_70 : decode cX12_operate 70 = .ok (.if_icmp .ne 12, 3) := by decide +kernel
set_option maxRecDepth 100000 in
theorem dX12_operate_73 : decode cX12_operate 73 = .ok (.lload_n 3, 1) := by decide +kernel
set_option maxRecDepth 100000 in
theorem dX12_operate_74 : decode cX12_operate 74 = .ok (.aload_n 0, 1) := by decide +kernel
set_option maxRecDepth 100000 in
theorem dX12_operate_75 : decode cX12_operate 75 = .ok (.getfield 1148, 3) := by decide +kernel
set_option maxRecDepth 100000 in
theorem dX12_operate_78 : decode cX12_operate 78 = .ok (.lor, 1) := by decide +kernel
set_option maxRecDepth 100000 in
theorem dX12_operate_79 : decode cX12_operate 79 = .ok (.goto 29, 3) := by decide +kernel
set_option maxRecDepth 100000 in
theorem dX12_operate_82 : decode cX12_operate 82 = .ok (.iload 10, 2) := by decide +kernel
set_option maxRecDepth 100000 in
theorem dX12_operate_84 : decode cX12_operate 84 = .ok (.bipush 52, 2) := by decide +kernel
set_option maxRecDepth 100000 in
theorem dX12_operate_86 : decode cX12_operate 86 = .ok (.if_icmp .ne 12, 3) := by decide +kernel
set_option maxRecDepth 100000 in
theorem dX12_operate_89 : decode cX12_operate 89 = .ok (.lload_n 3, 1) := by decide +kernel
set_option maxRecDepth 100000 in
theorem dX12_operate_90 : decode cX12_operate 90 = .ok (.aload_n 0, 1) := by decide +kernel
set_option maxRecDepth 100000 in
theorem dX12_operate_91 : decode cX12_operate 91 = .ok (.getfield 1148, 3) := by decide +kernel
set_option maxRecDepth 100000 in
theorem dX12_operate_94 : decode cX12_operate 94 = .ok (.land, 1) := by decide +kernel
set_option maxRecDepth 100000 in
theorem dX12_operate_95 : decode cX12_operate 95 = .ok (.goto 13, 3) := by decide +kernel
set_option maxRecDepth 100000 in
theorem dX12_operate_98 : decode cX12_operate 98 = .ok (.lload_n 3, 1) := by decide +kernel
set_option maxRecDepth 100000 in
theorem dX12_operate_99 : decode cX12_operate 99 = .ok (.aload_n 0, 1) := by decide +kernel
set_option maxRecDepth 100000 in
theorem dX12_operate_100 : decode cX12_operate 100 = .ok (.getfield 1148, 3) := by decide +kernel
set_option maxRecDepth 100000 in
theorem dX12_operate_103 : decode cX12_operate 103 = .ok (.ldc2_w 1160, 3) := by decide +kernel
set_option maxRecDepth 100000 in
theorem dX12_operate_106 : decode cX12_operate 106 = .ok (.lxor, 1) := by decide +kernel
set_option maxRecDepth 100000 in
theorem dX12_operate_107 : decode cX12_operate 107 = .ok (.land, 1) := by decide +kernel
set_option maxRecDepth 100000 in
theorem dX12_operate_108 : decode cX12_operate 108 = .ok (.putfield 1148, 3) := by decide +kernel
set_option maxRecDepth 100000 in
theorem dX12_operate_111 : decode cX12_operate 111 = .ok (.aload_n 0, 1) := by decide +kernel
set_option maxRecDepth 100000 in
theorem dX12_operate_112 : decode cX12_operate 112 = .ok (.aload 7, 2) := by decide +kernel
set_option maxRecDepth 100000 in
theorem dX12_operate_114 : decode cX12_operate 114 = .ok (.putfield 1265, 3) := by decide +kernel
set_option maxRecDepth 100000 in
theorem dX12_operate_117 : decode cX12_operate 117 = .ok (.return_, 1) := by decide +kernel
set_option maxRecDepth 100000 in
theorem dX12_operate_118 : decode cX12_operate 118 = .ok (.iload 10, 2) := by decide +kernel
set_option maxRecDepth 100000 in
theorem dX12_operate_120 : decode cX12_operate 120 = .ok (.iconst 1, 1) := by decide +kernel
set_option maxRecDepth 100000 in
theorem dX12_operate_121 : decode cX12_operate 121 = .ok (.if_icmp .eq 10, 3) := by decide +kernel
set_option maxRecDepth 100000 in
theorem dX12_operate_124 : decode cX12_operate 124 = .ok (.iload 10, 2) := by decide +kernel
set_option maxRecDepth 100000 in
theorem dX12_operate_126 : decode cX12_operate 126 = .ok (.bipush 22, 2) := by decide +kernel
set_option maxRecDepth 100000 in
theorem dX12_operate_128 : decode cX12_operate 128 = .ok (.if_icmp .ne 37, 3) := by decide +kernel
set_option maxRecDepth 100000 in
theorem dX12_operate_131 : decode cX12_operate 131 = .ok (.aload_n 0, 1) := by decide +kernel
set_option maxRecDepth 100000 in
theorem dX12_operate_132 : decode cX12_operate 132 = .ok (.iload 10, 2) := by decide +kernel
set_option maxRecDepth 100000 in
theorem dX12_operate_134 : decode cX12_operate 134 = .ok (.iconst 1, 1) := by decide +kernel
set_option maxRecDepth 100000 in
theorem dX12_operate_135 : decode cX12_operate 135 = .ok (.if_icmp .ne 12, 3) := by decide +kernel
set_option maxRecDepth 100000 in
theorem dX12_operate_138 : decode cX12_operate 138 = .ok (.lload_n 1, 1) := by decide +kernel
set_option maxRecDepth 100000 in
theorem dX12_operate_139 : decode cX12_operate 139 = .ok (.aload_n 0, 1) := by decide +kernel
set_option maxRecDepth 100000 in
theorem dX12_operate_140 : decode cX12_operate 140 = .ok (.getfield 1145, 3) := by decide +kernel
set_option maxRecDepth 100000 in
theorem dX12_operate_143 : decode cX12_operate 143 = .ok (.land, 1) := by decide +kernel
set_option maxRecDepth 100000 in
theorem dX12_operate_144 : decode cX12_operate 144 = .ok (.goto 9, 3) := by decide +kernel
set_option maxRecDepth 100000 in
theorem dX12_operate_147 : decode cX12_operate 147 = .ok (.lload_n 1, 1) := by decide +kernel
set_option maxRecDepth 100000 in
theorem dX12_operate_148 : decode cX12_operate 148 = .ok (.aload_n 0, 1) := by decide +kernel
set_option maxRecDepth 100000 in
theorem dX12_operate_149 : decode cX12_operate 149 = .ok (.getfield 1145, 3) := by decide +kernel
set_option maxRecDepth 100000 in
theorem dX12_operate_152 : decode cX12_operate 152 = .ok (.lor, 1) := by decide +kernel
set_option maxRecDepth 100000 in
theorem dX12_operate_153 : decode cX12_operate 153 = .ok (.putfield 1145, 3) := by decide +kernel
set_option maxRecDepth 100000 in
theorem dX12_operate_156 : decode cX12_operate 156 = .ok (.aload_n 0, 1) := by decide +kernel
set_option maxRecDepth 100000 in
theorem dX12_operate_157 : decode cX12_operate 157 = .ok (.aload_n 0, 1) := by decide +kernel
set_option maxRecDepth 100000 in
theorem dX12_operate_158 : decode cX12_operate 158 = .ok (.getfield 116, 3) := by decide +kernel
set_option maxRecDepth 100000 in
theorem dX12_operate_161 : decode cX12_operate 161 = .ok (.putfield 1265, 3) := by decide +kernel
set_option maxRecDepth 100000 in
theorem dX12_operate_164 : decode cX12_operate 164 = .ok (.return_, 1) := by decide +kernel
set_option maxRecDepth 100000 in
theorem dX12_operate_165 : decode cX12_operate 165 = .ok (.aload 7, 2) := by decide +kernel
set_option maxRecDepth 100000 in
theorem dX12_operate_167 : decode cX12_operate 167 = .ok (.getfield 845, 3) := by decide +kernel
set_option maxRecDepth 100000 in
theorem dX12_operate_170 : decode cX12_operate 170 = .ok (.iconst 2, 1) := by decide +kernel
set_option maxRecDepth 100000 in
theorem dX12_operate_171 : decode cX12_operate 171 = .ok (.if_icmp .eq 19, 3) := by decide +kernel
set_option maxRecDepth 100000 in
theorem dX12_operate_174 : decode cX12_operate 174 = .ok (.aload 8, 2) := by decide +kernel
set_option maxRecDepth 100000 in
theorem dX12_operate_176 : decode cX12_operate 176 = .ok (.getfield 845, 3) := by decide +kernel
set_option maxRecDepth 100000 in
theorem dX12_operate_179 : decode cX12_operate 179 = .ok (.iconst 2, 1) := by decide +kernel
set_option maxRecDepth 100000 in
theorem dX12_operate_180 : decode cX12_operate 180 = .ok (.if_icmp .eq 10, 3) := by decide +kernel
set_option maxRecDepth 100000 in
theorem dX12_operate_183 : decode cX12_operate 183 = .ok (.iload 10, 2) := by decide +kernel
set_option maxRecDepth 100000 in
theorem dX12_operate_185 : decode cX12_operate 185 = .ok (.bipush 53, 2) := by decide +kernel
set_option maxRecDepth 100000 in
theorem dX12_operate_187 : decode cX12_operate 187 = .ok (.if_icmp .ne 7, 3) := by decide +kernel
set_option maxRecDepth 100000 in
theorem dX12_operate_190 : decode cX12_operate 190 = .ok (.iconst 1, 1) := by decide +kernel
set_option maxRecDepth 100000 in
theorem dX12_operate_191 : decode cX12_operate 191 = .ok (.goto 4, 3) := by decide +kernel
set_option maxRecDepth 100000 in
theorem dX12_operate_194 : decode cX12_operate 194 = .ok (.iconst 0, 1) := by decide +kernel
set_option maxRecDepth 100000 in
theorem dX12_operate_195 : decode cX12_operate 195 = .ok (.istore 11, 2) := by decide +kernel
set_option maxRecDepth 100000 in
theorem dX12_operate_197 : decode cX12_operate 197 = .ok (.iload 11, 2) := by decide +kernel
set_option maxRecDepth 100000 in
theorem dX12_operate_199 : decode cX12_operate 199 = .ok (.ifCond .ne 23, 3) := by decide +kernel
set_option maxRecDepth 100000 in
theorem dX12_operate_202 : decode cX12_operate 202 = .ok (.aload_n 0, 1) := by decide +kernel
set_option maxRecDepth 100000 in
theorem dX12_operate_203 : decode cX12_operate 203 = .ok (.lload_n 1, 1) := by decide +kernel
set_option maxRecDepth 100000 in
theorem dX12_operate_204 : decode cX12_operate 204 = .ok (.aload_n 0, 1) := by decide +kernel
set_option maxRecDepth 100000 in
theorem dX12_operate_205 : decode cX12_operate 205 = .ok (.getfield 1145, 3) := by decide +kernel
set_option maxRecDepth 100000 in
theorem dX12_operate_208 : decode cX12_operate 208 = .ok (.iload 9, 2) := by decide +kernel
set_option maxRecDepth 100000 in
theorem dX12_operate_210 : decode cX12_operate 210 = .ok (.invokevirtual 1279, 3) := by decide +kernel
set_option maxRecDepth 100000 in
theorem dX12_operate_213 : decode cX12_operate 213 = .ok (.aload_n 0, 1) := by decide +kernel
set_option maxRecDepth 100000 in
theorem dX12_operate_214 : decode cX12_operate 214 = .ok (.aload_n 0, 1) := by decide +kernel
set_option maxRecDepth 100000 in
theorem dX12_operate_215 : decode cX12_operate 215 = .ok (.getfield 109, 3) := by decide +kernel
set_option maxRecDepth 100000 in
theorem dX12_operate_218 : decode cX12_operate 218 = .ok (.putfield 1265, 3) := by decide +kernel
set_option maxRecDepth 100000 in
theorem dX12_operate_221 : decode cX12_operate 221 = .ok (.return_, 1) := by decide +kernel
set_option maxRecDepth 100000 in
theorem dX12_operate_222 : decode cX12_operate 222 = .ok (.aload 7, 2) := by decide +kernel
set_option maxRecDepth 100000 in
theorem dX12_operate_224 : decode cX12_operate 224 = .ok (.getfield 845, 3) := by decide +kernel
set_option maxRecDepth 100000 in
theorem dX12_operate_227 : decode cX12_operate 227 = .ok (.iconst 2, 1) := by decide +kernel
set_option maxRecDepth 100000 in
theorem dX12_operate_228 : decode cX12_operate 228 = .ok (.if_icmp .ne 8, 3) := by decide +kernel
set_option maxRecDepth 100000 in
theorem dX12_operate_231 : decode cX12_operate 231 = .ok (.dload 5, 2) := by decide +kernel
set_option maxRecDepth 100000 in
theorem dX12_operate_233 : decode cX12_operate 233 = .ok (.goto 5, 3) := by decide +kernel
set_option maxRecDepth 100000 in
theorem dX12_operate_236 : decode cX12_operate 236 = .ok (.lload_n 1, 1) := by decide +kernel
set_option maxRecDepth 100000 in
theorem dX12_operate_237 : decode cX12_operate 237 = .ok (.l2d, 1) := by decide +kernel
set_option maxRecDepth 100000 in
theorem dX12_operate_238 : decode cX12_operate 238 = .ok (.dstore 12, 2) := by decide +kernel
set_option maxRecDepth 100000 in
theorem dX12_operate_240 : decode cX12_operate 240 = .ok (.aload 8, 2) := by decide +kernel
set_option maxRecDepth 100000 in
theorem dX12_operate_242 : decode cX12_operate 242 = .ok (.getfield 845, 3) := by decide +kernel
set_option maxRecDepth 100000 in
theorem dX12_operate_245 : decode cX12_operate 245 = .ok (.iconst 2, 1) := by decide +kernel
set_option maxRecDepth 100000 in
theorem dX12_operate_246 : decode cX12_operate 246 = .ok (.if_icmp .ne 10, 3) := by decide +kernel
set_option maxRecDepth 100000 in
theorem dX12_operate_249 : decode cX12_operate 249 = .ok (.aload_n 0, 1) := by decide +kernel
set_option maxRecDepth 100000 in
theorem dX12_operate_250 : decode cX12_operate 250 = .ok (.getfield 1151, 3) := by decide +kernel
set_option maxRecDepth 100000 in
theorem dX12_operate_253 : decode cX12_operate 253 = .ok (.goto 8, 3) := by decide +kernel
set_option maxRecDepth 100000 in
theorem dX12_operate_256 : decode cX12_operate 256 = .ok (.aload_n 0, 1) := by decide +kernel
set_option maxRecDepth 100000 in
theorem dX12_operate_257 : decode cX12_operate 257 = .ok (.getfield 1145, 3) := by decide +kernel
set_option maxRecDepth 100000 in
theorem dX12_operate_260 : decode cX12_operate 260 = .ok (.l2d, 1) := by decide +kernel
set_option maxRecDepth 100000 in
theorem dX12_operate_261 : decode cX12_operate 261 = .ok (.dstore 14, 2) := by decide +kernel
set_option maxRecDepth 100000 in
theorem dX12_operate_263 : decode cX12_operate 263 = .ok (.iload 10, 2) := by decide +kernel
set_option maxRecDepth 100000 in
theorem dX12_operate_265 : decode cX12_operate 265 = .ok (.bipush 53, 2) := by decide +kernel
set_option maxRecDepth 100000 in
theorem dX12_operate_267 : decode cX12_operate 267 = .ok (.if_icmp .ne 19, 3) := by decide +kernel
set_option maxRecDepth 100000 in
theorem dX12_operate_270 : decode cX12_operate 270 = .ok (.dload 14, 2) := by decide +kernel
set_option maxRecDepth 100000 in
theorem dX12_operate_272 : decode cX12_operate 272 = .ok (.dconst 0, 1) := by decide +kernel
set_option maxRecDepth 100000 in
theorem dX12_operate_273 : decode cX12_operate 273 = .ok (.dcmp .l, 1) := by decide +kernel
set_option maxRecDepth 100000 in
theorem dX12_operate_274 : decode cX12_operate 274 = .ok (.ifCond .ne 12, 3) := by decide +kernel
set_option maxRecDepth 100000 in
theorem dX12_operate_277 : decode cX12_operate 277 = .ok (.aload_n 0, 1) := by decide +kernel
set_option maxRecDepth 100000 in
theorem dX12_operate_278 : decode cX12_operate 278 = .ok (.bipush 9, 2) := by decide +kernel
set_option maxRecDepth 100000 in
theorem dX12_operate_280 : decode cX12_operate 280 = .ok (.iload 9, 2) := by decide +kernel
set_option maxRecDepth 100000 in
theorem dX12_operate_282 : decode cX12_operate 282 = .ok (.invokevirtual 1142, 3) := by decide +kernel
set_option maxRecDepth 100000 in
theorem dX12_operate_285 : decode cX12_operate 285 = .ok (.return_, 1) := by decide +kernel
set_option maxRecDepth 100000 in
theorem dX12_operate_286 : decode cX12_operate 286 = .ok (.aload_n 0, 1) := by decide +kernel
set_option maxRecDepth 100000 in
theorem dX12_operate_287 : decode cX12_operate 287 = .ok (.iload 10, 2) := by decide +kernel
set_option maxRecDepth 100000 in
theorem dX12_operate_289 : decode cX12_operate 289 = .ok (.bipush 50, 2) := by decide +kernel
set_option maxRecDepth 100000 in
theorem dX12_operate_291 : decode cX12_operate 291 = .ok (.if_icmp .ne 11, 3) := by decide +kernel
set_option maxRecDepth 100000 in
theorem dX12_operate_294 : decode cX12_operate 294 = .ok (.dload 12, 2) := by decide +kernel
set_option maxRecDepth 100000 in
theorem dX12_operate_296 : decode cX12_operate 296 = .ok (.dload 14, 2) := by decide +kernel
set_option maxRecDepth 100000 in
theorem dX12_operate_298 : decode cX12_operate 298 = .ok (.dadd, 1) := by decide +kernel
set_option maxRecDepth 100000 in
theorem dX12_operate_299 : decode cX12_operate 299 = .ok (.goto 38, 3) := by decide +kernel
set_option maxRecDepth 100000 in
theorem dX12_operate_302 : decode cX12_operate 302 = .ok (.iload 10, 2) := by decide +kernel
set_option maxRecDepth 100000 in
theorem dX12_operate_304 : decode cX12_operate 304 = .ok (.bipush 51, 2) := by decide +kernel
set_option maxRecDepth 100000 in
theorem dX12_operate_306 : decode cX12_operate 306 = .ok (.if_icmp .ne 11, 3) := by decide +kernel
set_option maxRecDepth 100000 in
theorem dX12_operate_309 : decode cX12_operate 309 = .ok (.dload 12, 2) := by decide +kernel
set_option maxRecDepth 100000 in
theorem dX12_operate_311 : decode cX12_operate 311 = .ok (.dload 14, 2) := by decide +kernel
set_option maxRecDepth 100000 in
theorem dX12_operate_313 : decode cX12_operate 313 = .ok (.dsub, 1) := by decide +kernel
set_option maxRecDepth 100000 in
theorem dX12_operate_314 : decode cX12_operate 314 = .ok (.goto 23, 3) := by decide +kernel
set_option maxRecDepth 100000 in
theorem dX12_operate_317 : decode cX12_operate 317 = .ok (.iload 10, 2) := by decide +kernel
set_option maxRecDepth 100000 in
theorem dX12_operate_319 : decode cX12_operate 319 = .ok (.bipush 52, 2) := by decide +kernel
set_option maxRecDepth 100000 in
theorem dX12_operate_321 : decode cX12_operate 321 = .ok (.if_icmp .ne 11, 3) := by decide +kernel
set_option maxRecDepth 100000 in
theorem dX12_operate_324 : decode cX12_operate 324 = .ok (.dload 12, 2) := by decide +kernel
set_option maxRecDepth 100000 in
theorem dX12_operate_326 : decode cX12_operate 326 = .ok (.dload 14, 2) := by decide +kernel
set_option maxRecDepth 100000 in
theorem dX12_operate_328 : decode cX12_operate 328 = .ok (.dmul, 1) := by decide +kernel
set_option maxRecDepth 100000 in
theorem dX12_operate_329 : decode cX12_operate 329 = .ok (.goto 8, 3) := by decide +kernel
set_option maxRecDepth 100000 in
theorem dX12_operate_332 : decode cX12_operate 332 = .ok (.dload 12, 2) := by decide +kernel
set_option maxRecDepth 100000 in
theorem dX12_operate_334 : decode cX12_operate 334 = .ok (.dload 14, 2) := by decide +kernel
set_option maxRecDepth 100000 in
theorem dX12_operate_336 : decode cX12_operate 336 = .ok (.ddiv, 1) := by decide +kernel
set_option maxRecDepth 100000 in
theorem dX12_operate_337 : decode cX12_operate 337 = .ok (.putfield 1151, 3) := by decide +kernel
set_option maxRecDepth 100000 in
theorem dX12_operate_340 : decode cX12_operate 340 = .ok (.aload_n 0, 1) := by decide +kernel
set_option maxRecDepth 100000 in
theorem dX12_operate_341 : decode cX12_operate 341 = .ok (.aload_n 0, 1) := by decide +kernel
set_option maxRecDepth 100000 in
theorem dX12_operate_342 : decode cX12_operate 342 = .ok (.getfield 113, 3) := by decide +kernel
set_option maxRecDepth 100000 in
theorem dX12_operate_345 : decode cX12_operate 345 = .ok (.putfield 1265, 3) := by decide +kernel
set_option maxRecDepth 100000 in
theorem dX12_operate_348 : decode cX12_operate 348 = .ok (.aload_n 0, 1) := by decide +kernel
set_option maxRecDepth 100000 in
theorem dX12_operate_349 : decode cX12_operate 349 = .ok (.getfield 1151, 3) := by decide +kernel
set_option maxRecDepth 100000 in
theorem dX12_operate_352 : decode cX12_operate 352 = .ok (.invokestatic 1283, 3) := by decide +kernel
set_option maxRecDepth 100000 in
theorem dX12_operate_355 : decode cX12_operate 355 = .ok (.ifCond .ne 11, 3) := by decide +kernel
set_option maxRecDepth 100000 in
theorem dX12_operate_358 : decode cX12_operate 358 = .ok (.aload_n 0, 1) := by decide +kernel
set_option maxRecDepth 100000 in
theorem dX12_operate_359 : decode cX12_operate 359 = .ok (.bipush 8, 2) := by decide +kernel
set_option maxRecDepth 100000 in
theorem dX12_operate_361 : decode cX12_operate 361 = .ok (.iload 9, 2) := by decide +kernel
set_option maxRecDepth 100000 in
theorem dX12_operate_363 : decode cX12_operate 363 = .ok (.invokevirtual 1142, 3) := by decide +kernel
set_option maxRecDepth 100000 in
theorem dX12_operate_366 : decode cX12_operate 366 = .ok (.return_, 1) := by decide +kernel
set_option maxRecDepth 100000 in
def bX12_operate_366 (G : xG) (fr lo : Nat) (h : xH) (Q : Outcome → xH → Prop) : Prop := Q (.returned none) h
set_option maxRecDepth 100000 in
theorem uX12_operate_366 {G : xG} {fr lo : Nat} {h : xH} {Q : Outcome → xH → Prop} (hq : bX12_operate_366 G fr lo h Q) : xP G YX12_operate fr lo 366 [] [] h Q := by
  unfold bX12_operate_366 at hq
  exact x_vret rfl dX12_operate_366 hq
set_option maxRecDepth 100000 in
def bX12_operate_337 (G : xG) (fr lo : Nat) (x0 : Nat) (x9 : Int32) (s0 : UInt64) (s1 : Nat) (h : xH) (Q : Outcome → xH → Prop) : Prop := tg h s1 = 13 ∧ (∀ h2 : xH, h2 = sD h s1 3179 s0 → tg h2 x0 = 13 ∧ (∀ h5 : xH, h5 = sR h2 x0 3198 (fR h2 x0 3116) → 1 ≤ fr ∧ 13 ≤ lo ∧ xRi G YX12_isFinite (fr - 1) (lo - 13) [.double (fD h5 x0 3179)] h5 (fun x11 h10 => xext h5 h10 → ((¬ x11 = 0 → bX12_operate_366 G fr lo h10 Q) ∧ (x11 = 0 → 1 ≤ fr ∧ 14 ≤ lo ∧ xRv G YX12_error (fr - 1) (lo - 14) [rv x0, .int 8, .int x9] h10 (fun h17 => xext h10 h17 → bX12_operate_366 G fr lo h17 Q) (fun r h2 => Q (.threw r) h2)))) (fun r h2 => Q (.threw r) h2)))
set_option maxRecDepth 100000 in
theorem uX12_operate_337 {G : xG} {fr lo : Nat} {x0 : Nat} {x9 : Int32} {s0 : UInt64} {s1 : Nat} {h : xH} {Q : Outcome → xH → Prop} (hq : bX12_operate_337 G fr lo x0 x9 s0 s1 h Q) : xP G YX12_operate fr lo 337 [(0, rv x0), (9, .int x9)] [.double s0, rv s1] h Q := by
  unfold bX12_operate_337 at hq
  obtain ⟨g1, hq⟩ := hq
  obtain ⟨h2, e3⟩ : ∃ y, y = sD h s1 3179 s0 := ⟨_, rfl⟩
  replace hq := hq h2 e3
  refine x_putD fdX12_1151 dX12_operate_337 g1 (Or.inl (by rw [g1]; rfl)) rfl e3 ?_
  refine x_aload_n 0 dX12_operate_340 rfl ?_
  refine x_aload_n 0 dX12_operate_341 rfl ?_
  obtain ⟨g4, hq⟩ := hq
  refine x_get (v := rv (fR h2 x0 3116)) fdX12_113 dX12_operate_342 g4 rfl ?_
  obtain ⟨h5, e6⟩ : ∃ y, y = sR h2 x0 3198 (fR h2 x0 3116) := ⟨_, rfl⟩
  replace hq := hq h5 e6
  refine x_putR fdX12_1265 xty_O dX12_operate_345 g4 (Or.inl (by rw [g4]; rfl)) rfl e6 ?_
  refine x_aload_n 0 dX12_operate_348 rfl ?_
  have t7 : tg h5 x0 = 13 := by rw [e6]; exact g4
  refine x_get (v := .double (fD h5 x0 3179)) fdX12_1151 dX12_operate_349 t7 rfl ?_
  obtain ⟨g8, g9, hq⟩ := hq
  refine x_callS (Yc := YX12_isFinite) (as := [.double (fD h5 x0 3179)]) (st := []) q4571 msX12_isFinite rfl dX12_operate_352 (xle (xal2 rfl xal0) (by decide)) (xfr g8) (xlo xsw0 (by decide) g9) (xKi hq (fun x11 h10 hq e12 => ?_) (fun _ _ q _ => q))
  replace hq := hq e12
  refine x_if_ne (tgt := 366) dX12_operate_355 (by decide) (fun c13 => ?_) (fun c13 => ?_)
  · replace hq := hq.1 c13
    refine xP.pick (lv' := []) [] rfl ?_
    exact uX12_operate_366 hq
  · replace hq := hq.2 c13
    refine x_aload_n 0 dX12_operate_358 rfl ?_
    refine x_bipush (v := 8) dX12_operate_359 (by decide) ?_
    refine x_iload 1 dX12_operate_361 rfl ?_
    have t14 : tg h10 x0 = 13 := e12.tg t7 (by decide)
    obtain ⟨g15, g16, hq⟩ := hq
    refine x_callV (Yc := YX12_error) (as := [.int 8, .int x9]) (st := []) q4490 mvX12_error t14 rfl dX12_operate_363 (xle (xal1 (rv_cat _) (xal1 rfl (xal1 rfl xal0))) (by decide)) (xfr g15) (xlo xsw0 (by decide) g16) (xKv hq (fun h17 hq e19 => ?_) (fun _ _ q _ => q))
    replace hq := hq e19
    refine xP.pick (lv' := []) [] rfl ?_
    exact uX12_operate_366 hq
set_option maxRecDepth 100000 in
def bX12_operate_286 (G : xG) (fr lo : Nat) (x0 : Nat) (x9 : Int32) (x10 : Int32) (x12 : UInt64) (x14 : UInt64) (h : xH) (Q : Outcome → xH → Prop) : Prop := ((¬ x10 = 50 → ((¬ x10 = 51 → ((¬ x10 = 52 → vf_n64 (FP.ddiv x12 x14) ∧ bX12_operate_337 G fr lo x0 x9 (FP.ddiv x12 x14) x0 h Q) ∧ (x10 = 52 → vf_n64 (FP.dmul x12 x14) ∧ bX12_operate_337 G fr lo x0 x9 (FP.dmul x12 x14) x0 h Q))) ∧ (x10 = 51 → vf_n64 (FP.dsub x12 x14) ∧ bX12_operate_337 G fr lo x0 x9 (FP.dsub x12 x14) x0 h Q))) ∧ (x10 = 50 → vf_n64 (FP.dadd x12 x14) ∧ bX12_operate_337 G fr lo x0 x9 (FP.dadd x12 x14) x0 h Q))
set_option maxRecDepth 100000 in
theorem uX12_operate_286 {G : xG} {fr lo : Nat} {x0 : Nat} {x9 : Int32} {x10 : Int32} {x12 : UInt64} {x14 : UInt64} {h : xH} {Q : Outcome → xH → Prop} (hq : bX12_operate_286 G fr lo x0 x9 x10 x12 x14 h Q) : xP G YX12_operate fr lo 286 [(0, rv x0), (9, .int x9), (10, .int x10), (12, .double x12), (14, .double x14)] [] h Q := by
  unfold bX12_operate_286 at hq
  refine x_aload_n 0 dX12_operate_286 rfl ?_
  refine x_iload 2 dX12_operate_287 rfl ?_
  refine x_bipush (v := 50) dX12_operate_289 (by decide) ?_
  refine x_icmp_ne (tgt := 302) dX12_operate_291 (by decide) (fun c1 => ?_) (fun c1 => ?_)
  · replace hq := hq.1 c1
    refine x_iload 2 dX12_operate_302 rfl ?_
    refine x_bipush (v := 51) dX12_operate_304 (by decide) ?_
    refine x_icmp_ne (tgt := 317) dX12_operate_306 (by decide) (fun c2 => ?_) (fun c2 => ?_)
    · replace hq := hq.1 c2
      refine x_iload 2 dX12_operate_317 rfl ?_
      refine x_bipush (v := 52) dX12_operate_319 (by decide) ?_
      refine x_icmp_ne (tgt := 332) dX12_operate_321 (by decide) (fun c3 => ?_) (fun c3 => ?_)
      · replace hq := hq.1 c3
        refine x_dload 3 dX12_operate_332 rfl ?_
        refine x_dload 4 dX12_operate_334 rfl ?_
        obtain ⟨g4, hq⟩ := hq
        refine x_ddiv dX12_operate_336 g4 ?_
        refine xP.pick (lv' := [(0, rv x0), (9, .int x9)]) [0, 1] rfl ?_
        exact uX12_operate_337 hq
      · replace hq := hq.2 c3
        refine x_dload 3 dX12_operate_324 rfl ?_
        refine x_dload 4 dX12_operate_326 rfl ?_
        obtain ⟨g5, hq⟩ := hq
        refine x_dmul dX12_operate_328 g5 ?_
        refine x_goto (tgt := 337) dX12_operate_329 (by decide) ?_
        refine xP.pick (lv' := [(0, rv x0), (9, .int x9)]) [0, 1] rfl ?_
        exact uX12_operate_337 hq
    · replace hq := hq.2 c2
      refine x_dload 3 dX12_operate_309 rfl ?_
      refine x_dload 4 dX12_operate_311 rfl ?_
      obtain ⟨g6, hq⟩ := hq
      refine x_dsub dX12_operate_313 g6 ?_
      refine x_goto (tgt := 337) dX12_operate_314 (by decide) ?_
      refine xP.pick (lv' := [(0, rv x0), (9, .int x9)]) [0, 1] rfl ?_
      exact uX12_operate_337 hq
  · replace hq := hq.2 c1
    refine x_dload 3 dX12_operate_294 rfl ?_
    refine x_dload 4 dX12_operate_296 rfl ?_
    obtain ⟨g7, hq⟩ := hq
    refine x_dadd dX12_operate_298 g7 ?_
    refine x_goto (tgt := 337) dX12_operate_299 (by decide) ?_
    refine xP.pick (lv' := [(0, rv x0), (9, .int x9)]) [0, 1] rfl ?_
    exact uX12_operate_337 hq
set_option maxRecDepth 100000 in
def bX12_operate_261 (G : xG) (fr lo : Nat) (x0 : Nat) (x9 : Int32) (x10 : Int32) (x12 : UInt64) (s0 : UInt64) (h : xH) (Q : Outcome → xH → Prop) : Prop := ((¬ x10 = 53 → bX12_operate_286 G fr lo x0 x9 x10 x12 s0 h Q) ∧ (x10 = 53 → ((¬ (Op.cmpValue (FP.dcmp s0 FP.dconst0) .l) = 0 → bX12_operate_286 G fr lo x0 x9 x10 x12 s0 h Q) ∧ ((Op.cmpValue (FP.dcmp s0 FP.dconst0) .l) = 0 → tg h x0 = 13 ∧ 1 ≤ fr ∧ 14 ≤ lo ∧ xRv G YX12_error (fr - 1) (lo - 14) [rv x0, .int 9, .int x9] h (fun h6 => xext h h6 → Q (.returned none) h6) (fun r h2 => Q (.threw r) h2)))))
set_option maxRecDepth 100000 in
theorem uX12_operate_261 {G : xG} {fr lo : Nat} {x0 : Nat} {x9 : Int32} {x10 : Int32} {x12 : UInt64} {s0 : UInt64} {h : xH} {Q : Outcome → xH → Prop} (hq : bX12_operate_261 G fr lo x0 x9 x10 x12 s0 h Q) : xP G YX12_operate fr lo 261 [(0, rv x0), (9, .int x9), (10, .int x10), (12, .double x12)] [.double s0] h Q := by
  unfold bX12_operate_261 at hq
  refine x_dstore (lv' := [(14, .double s0), (0, rv x0), (9, .int x9), (10, .int x10), (12, .double x12)]) dX12_operate_261 (by decide) rfl ?_
  refine x_iload 3 dX12_operate_263 rfl ?_
  refine x_bipush (v := 53) dX12_operate_265 (by decide) ?_
  refine x_icmp_ne (tgt := 286) dX12_operate_267 (by decide) (fun c1 => ?_) (fun c1 => ?_)
  · replace hq := hq.1 c1
    refine xP.pick (lv' := [(0, rv x0), (9, .int x9), (10, .int x10), (12, .double x12), (14, .double s0)]) [1, 2, 3, 4, 0] rfl ?_
    exact uX12_operate_286 hq
  · replace hq := hq.2 c1
    refine x_dload 0 dX12_operate_270 rfl ?_
    refine x_dconst0 dX12_operate_272 ?_
    refine x_dcmp dX12_operate_273 ?_
    refine x_if_ne (tgt := 286) dX12_operate_274 (by decide) (fun c2 => ?_) (fun c2 => ?_)
    · replace hq := hq.1 c2
      refine xP.pick (lv' := [(0, rv x0), (9, .int x9), (10, .int x10), (12, .double x12), (14, .double s0)]) [1, 2, 3, 4, 0] rfl ?_
      exact uX12_operate_286 hq
    · replace hq := hq.2 c2
      refine x_aload_n 1 dX12_operate_277 rfl ?_
      refine x_bipush (v := 9) dX12_operate_278 (by decide) ?_
      refine x_iload 2 dX12_operate_280 rfl ?_
      obtain ⟨g3, hq⟩ := hq
      obtain ⟨g4, g5, hq⟩ := hq
      refine x_callV (Yc := YX12_error) (as := [.int 9, .int x9]) (st := []) q4490 mvX12_error g3 rfl dX12_operate_282 (xle (xal1 (rv_cat _) (xal1 rfl (xal1 rfl xal0))) (by decide)) (xfr g4) (xlo xsw0 (by decide) g5) (xKv hq (fun h6 hq e8 => ?_) (fun _ _ q _ => q))
      replace hq := hq e8
      exact x_vret rfl dX12_operate_285 hq
set_option maxRecDepth 100000 in
def bX12_operate_238 (G : xG) (fr lo : Nat) (x0 : Nat) (x8 : Nat) (x9 : Int32) (x10 : Int32) (s0 : UInt64) (h : xH) (Q : Outcome → xH → Prop) : Prop := tg h x8 = 14 ∧ ((¬ (fI h x8 3328) = 2 → tg h x0 = 13 ∧ bX12_operate_261 G fr lo x0 x9 x10 s0 (FP.l2d (fJ h x0 3177)) h Q) ∧ ((fI h x8 3328) = 2 → tg h x0 = 13 ∧ bX12_operate_261 G fr lo x0 x9 x10 s0 (fD h x0 3179) h Q))
set_option maxRecDepth 100000 in
theorem uX12_operate_238 {G : xG} {fr lo : Nat} {x0 : Nat} {x8 : Nat} {x9 : Int32} {x10 : Int32} {s0 : UInt64} {h : xH} {Q : Outcome → xH → Prop} (hq : bX12_operate_238 G fr lo x0 x8 x9 x10 s0 h Q) : xP G YX12_operate fr lo 238 [(0, rv x0), (8, rv x8), (9, .int x9), (10, .int x10)] [.double s0] h Q := by
  unfold bX12_operate_238 at hq
  refine x_dstore (lv' := [(12, .double s0), (0, rv x0), (8, rv x8), (9, .int x9), (10, .int x10)]) dX12_operate_238 (by decide) rfl ?_
  refine x_aload 2 dX12_operate_240 rfl ?_
  obtain ⟨g1, hq⟩ := hq
  refine x_get (v := .int (fI h x8 3328)) fdX12_845 dX12_operate_242 g1 rfl ?_
  refine x_iconst (v := 2) dX12_operate_245 (by decide) ?_
  refine x_icmp_ne (tgt := 256) dX12_operate_246 (by decide) (fun c2 => ?_) (fun c2 => ?_)
  · replace hq := hq.1 c2
    refine x_aload_n 1 dX12_operate_256 rfl ?_
    obtain ⟨g3, hq⟩ := hq
    refine x_get (v := .long (fJ h x0 3177)) fdX12_1145 dX12_operate_257 g3 rfl ?_
    refine x_l2d dX12_operate_260 ?_
    refine xP.pick (lv' := [(0, rv x0), (9, .int x9), (10, .int x10), (12, .double s0)]) [1, 3, 4, 0] rfl ?_
    exact uX12_operate_261 hq
  · replace hq := hq.2 c2
    refine x_aload_n 1 dX12_operate_249 rfl ?_
    obtain ⟨g4, hq⟩ := hq
    refine x_get (v := .double (fD h x0 3179)) fdX12_1151 dX12_operate_250 g4 rfl ?_
    refine x_goto (tgt := 261) dX12_operate_253 (by decide) ?_
    refine xP.pick (lv' := [(0, rv x0), (9, .int x9), (10, .int x10), (12, .double s0)]) [1, 3, 4, 0] rfl ?_
    exact uX12_operate_261 hq
set_option maxRecDepth 100000 in
def bX12_operate_195 (G : xG) (fr lo : Nat) (x0 : Nat) (x1 : Int64) (x5 : UInt64) (x7 : Nat) (x8 : Nat) (x9 : Int32) (x10 : Int32) (s0 : Int32) (h : xH) (Q : Outcome → xH → Prop) : Prop := ((¬ s0 = 0 → tg h x7 = 14 ∧ ((¬ (fI h x7 3328) = 2 → bX12_operate_238 G fr lo x0 x8 x9 x10 (FP.l2d x1) h Q) ∧ ((fI h x7 3328) = 2 → bX12_operate_238 G fr lo x0 x8 x9 x10 x5 h Q))) ∧ (s0 = 0 → tg h x0 = 13 ∧ 1 ≤ fr ∧ 18 ≤ lo ∧ xRv G YX12_whole (fr - 1) (lo - 18) [rv x0, .long x1, .long (fJ h x0 3177), .int x9] h (fun h7 => xext h h7 → (∀ h11 : xH, h11 = sR h7 x0 3198 (fR h7 x0 3115) → Q (.returned none) h11)) (fun r h2 => Q (.threw r) h2)))
set_option maxRecDepth 100000 in
theorem uX12_operate_195 {G : xG} {fr lo : Nat} {x0 : Nat} {x1 : Int64} {x5 : UInt64} {x7 : Nat} {x8 : Nat} {x9 : Int32} {x10 : Int32} {s0 : Int32} {h : xH} {Q : Outcome → xH → Prop} (hq : bX12_operate_195 G fr lo x0 x1 x5 x7 x8 x9 x10 s0 h Q) : xP G YX12_operate fr lo 195 [(0, rv x0), (1, .long x1), (5, .double x5), (7, rv x7), (8, rv x8), (9, .int x9), (10, .int x10)] [.int s0] h Q := by
  unfold bX12_operate_195 at hq
  refine x_istore (lv' := [(11, .int s0), (0, rv x0), (1, .long x1), (5, .double x5), (7, rv x7), (8, rv x8), (9, .int x9), (10, .int x10)]) dX12_operate_195 (by decide) rfl ?_
  refine x_iload 0 dX12_operate_197 rfl ?_
  refine x_if_ne (tgt := 222) dX12_operate_199 (by decide) (fun c1 => ?_) (fun c1 => ?_)
  · replace hq := hq.1 c1
    refine x_aload 4 dX12_operate_222 rfl ?_
    obtain ⟨g2, hq⟩ := hq
    refine x_get (v := .int (fI h x7 3328)) fdX12_845 dX12_operate_224 g2 rfl ?_
    refine x_iconst (v := 2) dX12_operate_227 (by decide) ?_
    refine x_icmp_ne (tgt := 236) dX12_operate_228 (by decide) (fun c3 => ?_) (fun c3 => ?_)
    · replace hq := hq.1 c3
      refine x_lload_n 2 dX12_operate_236 rfl ?_
      refine x_l2d dX12_operate_237 ?_
      refine xP.pick (lv' := [(0, rv x0), (8, rv x8), (9, .int x9), (10, .int x10)]) [1, 5, 6, 7] rfl ?_
      exact uX12_operate_238 hq
    · replace hq := hq.2 c3
      refine x_dload 3 dX12_operate_231 rfl ?_
      refine x_goto (tgt := 238) dX12_operate_233 (by decide) ?_
      refine xP.pick (lv' := [(0, rv x0), (8, rv x8), (9, .int x9), (10, .int x10)]) [1, 5, 6, 7] rfl ?_
      exact uX12_operate_238 hq
  · replace hq := hq.2 c1
    refine x_aload_n 1 dX12_operate_202 rfl ?_
    refine x_lload_n 2 dX12_operate_203 rfl ?_
    refine x_aload_n 1 dX12_operate_204 rfl ?_
    obtain ⟨g4, hq⟩ := hq
    refine x_get (v := .long (fJ h x0 3177)) fdX12_1145 dX12_operate_205 g4 rfl ?_
    refine x_iload 6 dX12_operate_208 rfl ?_
    obtain ⟨g5, g6, hq⟩ := hq
    refine x_callV (Yc := YX12_whole) (as := [.long x1, .long (fJ h x0 3177), .int x9]) (st := []) q4667 mvX12_whole g4 rfl dX12_operate_210 (xle (xal1 (rv_cat _) (xal2 rfl (xal2 rfl (xal1 rfl xal0)))) (by decide)) (xfr g5) (xlo xsw0 (by decide) g6) (xKv hq (fun h7 hq e9 => ?_) (fun _ _ q _ => q))
    replace hq := hq e9
    refine x_aload_n 1 dX12_operate_213 rfl ?_
    refine x_aload_n 1 dX12_operate_214 rfl ?_
    have t10 : tg h7 x0 = 13 := e9.tg g4 (by decide)
    refine x_get (v := rv (fR h7 x0 3115)) fdX12_109 dX12_operate_215 t10 rfl ?_
    obtain ⟨h11, e12⟩ : ∃ y, y = sR h7 x0 3198 (fR h7 x0 3115) := ⟨_, rfl⟩
    replace hq := hq h11 e12
    refine x_putR fdX12_1265 xty_O dX12_operate_218 t10 (Or.inl (by rw [t10]; rfl)) rfl e12 ?_
    exact x_vret rfl dX12_operate_221 hq
set_option maxRecDepth 100000 in
def bX12_operate_190 (G : xG) (fr lo : Nat) (x0 : Nat) (x1 : Int64) (x5 : UInt64) (x7 : Nat) (x8 : Nat) (x9 : Int32) (x10 : Int32) (h : xH) (Q : Outcome → xH → Prop) : Prop := bX12_operate_195 G fr lo x0 x1 x5 x7 x8 x9 x10 1 h Q
set_option maxRecDepth 100000 in
theorem uX12_operate_190 {G : xG} {fr lo : Nat} {x0 : Nat} {x1 : Int64} {x5 : UInt64} {x7 : Nat} {x8 : Nat} {x9 : Int32} {x10 : Int32} {h : xH} {Q : Outcome → xH → Prop} (hq : bX12_operate_190 G fr lo x0 x1 x5 x7 x8 x9 x10 h Q) : xP G YX12_operate fr lo 190 [(0, rv x0), (1, .long x1), (5, .double x5), (7, rv x7), (8, rv x8), (9, .int x9), (10, .int x10)] [] h Q := by
  unfold bX12_operate_190 at hq
  refine x_iconst (v := 1) dX12_operate_190 (by decide) ?_
  refine x_goto (tgt := 195) dX12_operate_191 (by decide) ?_
  exact uX12_operate_195 hq
set_option maxRecDepth 100000 in
def bX12_operate_153 (G : xG) (fr lo : Nat) (x0 : Nat) (s0 : Int64) (s1 : Nat) (h : xH) (Q : Outcome → xH → Prop) : Prop := tg h s1 = 13 ∧ (∀ h2 : xH, h2 = sJ h s1 3177 s0 → tg h2 x0 = 13 ∧ (∀ h5 : xH, h5 = sR h2 x0 3198 (fR h2 x0 3117) → Q (.returned none) h5))
set_option maxRecDepth 100000 in
theorem uX12_operate_153 {G : xG} {fr lo : Nat} {x0 : Nat} {s0 : Int64} {s1 : Nat} {h : xH} {Q : Outcome → xH → Prop} (hq : bX12_operate_153 G fr lo x0 s0 s1 h Q) : xP G YX12_operate fr lo 153 [(0, rv x0)] [.long s0, rv s1] h Q := by
  unfold bX12_operate_153 at hq
  obtain ⟨g1, hq⟩ := hq
  obtain ⟨h2, e3⟩ : ∃ y, y = sJ h s1 3177 s0 := ⟨_, rfl⟩
  replace hq := hq h2 e3
  refine x_putJ fdX12_1145 dX12_operate_153 g1 (Or.inl (by rw [g1]; rfl)) rfl e3 ?_
  refine x_aload_n 0 dX12_operate_156 rfl ?_
  refine x_aload_n 0 dX12_operate_157 rfl ?_
  obtain ⟨g4, hq⟩ := hq
  refine x_get (v := rv (fR h2 x0 3117)) fdX12_116 dX12_operate_158 g4 rfl ?_
  obtain ⟨h5, e6⟩ : ∃ y, y = sR h2 x0 3198 (fR h2 x0 3117) := ⟨_, rfl⟩
  replace hq := hq h5 e6
  refine x_putR fdX12_1265 xty_O dX12_operate_161 g4 (Or.inl (by rw [g4]; rfl)) rfl e6 ?_
  exact x_vret rfl dX12_operate_164 hq
set_option maxRecDepth 100000 in
def bX12_operate_131 (G : xG) (fr lo : Nat) (x0 : Nat) (x1 : Int64) (x10 : Int32) (h : xH) (Q : Outcome → xH → Prop) : Prop := ((¬ x10 = 1 → tg h x0 = 13 ∧ bX12_operate_153 G fr lo x0 (x1 ||| (fJ h x0 3177)) x0 h Q) ∧ (x10 = 1 → tg h x0 = 13 ∧ bX12_operate_153 G fr lo x0 (x1 &&& (fJ h x0 3177)) x0 h Q))
set_option maxRecDepth 100000 in
theorem uX12_operate_131 {G : xG} {fr lo : Nat} {x0 : Nat} {x1 : Int64} {x10 : Int32} {h : xH} {Q : Outcome → xH → Prop} (hq : bX12_operate_131 G fr lo x0 x1 x10 h Q) : xP G YX12_operate fr lo 131 [(0, rv x0), (1, .long x1), (10, .int x10)] [] h Q := by
  unfold bX12_operate_131 at hq
  refine x_aload_n 0 dX12_operate_131 rfl ?_
  refine x_iload 2 dX12_operate_132 rfl ?_
  refine x_iconst (v := 1) dX12_operate_134 (by decide) ?_
  refine x_icmp_ne (tgt := 147) dX12_operate_135 (by decide) (fun c1 => ?_) (fun c1 => ?_)
  · replace hq := hq.1 c1
    refine x_lload_n 1 dX12_operate_147 rfl ?_
    refine x_aload_n 0 dX12_operate_148 rfl ?_
    obtain ⟨g2, hq⟩ := hq
    refine x_get (v := .long (fJ h x0 3177)) fdX12_1145 dX12_operate_149 g2 rfl ?_
    refine x_lor dX12_operate_152 ?_
    refine xP.pick (lv' := [(0, rv x0)]) [0] rfl ?_
    exact uX12_operate_153 hq
  · replace hq := hq.2 c1
    refine x_lload_n 1 dX12_operate_138 rfl ?_
    refine x_aload_n 0 dX12_operate_139 rfl ?_
    obtain ⟨g3, hq⟩ := hq
    refine x_get (v := .long (fJ h x0 3177)) fdX12_1145 dX12_operate_140 g3 rfl ?_
    refine x_land dX12_operate_143 ?_
    refine x_goto (tgt := 153) dX12_operate_144 (by decide) ?_
    refine xP.pick (lv' := [(0, rv x0)]) [0] rfl ?_
    exact uX12_operate_153 hq
set_option maxRecDepth 100000 in
def bX12_operate_108 (G : xG) (fr lo : Nat) (x0 : Nat) (x7 : Nat) (s0 : Int64) (s1 : Nat) (h : xH) (Q : Outcome → xH → Prop) : Prop := tg h s1 = 13 ∧ (∀ h2 : xH, h2 = sJ h s1 3178 s0 → tg h2 x0 = 13 ∧ (∀ h5 : xH, h5 = sR h2 x0 3198 x7 → Q (.returned none) h5))
set_option maxRecDepth 100000 in
theorem uX12_operate_108 {G : xG} {fr lo : Nat} {x0 : Nat} {x7 : Nat} {s0 : Int64} {s1 : Nat} {h : xH} {Q : Outcome → xH → Prop} (hq : bX12_operate_108 G fr lo x0 x7 s0 s1 h Q) : xP G YX12_operate fr lo 108 [(0, rv x0), (7, rv x7)] [.long s0, rv s1] h Q := by
  unfold bX12_operate_108 at hq
  obtain ⟨g1, hq⟩ := hq
  obtain ⟨h2, e3⟩ : ∃ y, y = sJ h s1 3178 s0 := ⟨_, rfl⟩
  replace hq := hq h2 e3
  refine x_putJ fdX12_1148 dX12_operate_108 g1 (Or.inl (by rw [g1]; rfl)) rfl e3 ?_
  refine x_aload_n 0 dX12_operate_111 rfl ?_
  refine x_aload 1 dX12_operate_112 rfl ?_
  obtain ⟨g4, hq⟩ := hq
  obtain ⟨h5, e6⟩ : ∃ y, y = sR h2 x0 3198 x7 := ⟨_, rfl⟩
  replace hq := hq h5 e6
  refine x_putR fdX12_1265 xty_O dX12_operate_114 g4 (Or.inl (by rw [g4]; rfl)) rfl e6 ?_
  exact x_vret rfl dX12_operate_117 hq
set_option maxRecDepth 100000 in
def bX12_operate_62 (G : xG) (fr lo : Nat) (x0 : Nat) (x3 : Int64) (x7 : Nat) (x10 : Int32) (s0 : Int64) (s1 : Nat) (h : xH) (Q : Outcome → xH → Prop) : Prop := tg h s1 = 13 ∧ (∀ h2 : xH, h2 = sJ h s1 3177 s0 → ((¬ x10 = 50 → ((¬ x10 = 52 → tg h2 x0 = 13 ∧ bX12_operate_108 G fr lo x0 x7 (x3 &&& ((fJ h2 x0 3178) ^^^ (-1))) x0 h2 Q) ∧ (x10 = 52 → tg h2 x0 = 13 ∧ bX12_operate_108 G fr lo x0 x7 (x3 &&& (fJ h2 x0 3178)) x0 h2 Q))) ∧ (x10 = 50 → tg h2 x0 = 13 ∧ bX12_operate_108 G fr lo x0 x7 (x3 ||| (fJ h2 x0 3178)) x0 h2 Q)))
set_option maxRecDepth 100000 in
theorem uX12_operate_62 {G : xG} {fr lo : Nat} {x0 : Nat} {x3 : Int64} {x7 : Nat} {x10 : Int32} {s0 : Int64} {s1 : Nat} {h : xH} {Q : Outcome → xH → Prop} (hq : bX12_operate_62 G fr lo x0 x3 x7 x10 s0 s1 h Q) : xP G YX12_operate fr lo 62 [(0, rv x0), (3, .long x3), (7, rv x7), (10, .int x10)] [.long s0, rv s1] h Q := by
  unfold bX12_operate_62 at hq
  obtain ⟨g1, hq⟩ := hq
  obtain ⟨h2, e3⟩ : ∃ y, y = sJ h s1 3177 s0 := ⟨_, rfl⟩
  replace hq := hq h2 e3
  refine x_putJ fdX12_1145 dX12_operate_62 g1 (Or.inl (by rw [g1]; rfl)) rfl e3 ?_
  refine x_aload_n 0 dX12_operate_65 rfl ?_
  refine x_iload 3 dX12_operate_66 rfl ?_
  refine x_bipush (v := 50) dX12_operate_68 (by decide) ?_
  refine x_icmp_ne (tgt := 82) dX12_operate_70 (by decide) (fun c4 => ?_) (fun c4 => ?_)
  · replace hq := hq.1 c4
    refine x_iload 3 dX12_operate_82 rfl ?_
    refine x_bipush (v := 52) dX12_operate_84 (by decide) ?_
    refine x_icmp_ne (tgt := 98) dX12_operate_86 (by decide) (fun c5 => ?_) (fun c5 => ?_)
    · replace hq := hq.1 c5
      refine x_lload_n 1 dX12_operate_98 rfl ?_
      refine x_aload_n 0 dX12_operate_99 rfl ?_
      obtain ⟨g6, hq⟩ := hq
      refine x_get (v := .long (fJ h2 x0 3178)) fdX12_1148 dX12_operate_100 g6 rfl ?_
      refine x_ldc2 (v := (-1)) q4606 dX12_operate_103 ?_
      refine x_lxor dX12_operate_106 ?_
      refine x_land dX12_operate_107 ?_
      refine xP.pick (lv' := [(0, rv x0), (7, rv x7)]) [0, 2] rfl ?_
      exact uX12_operate_108 hq
    · replace hq := hq.2 c5
      refine x_lload_n 1 dX12_operate_89 rfl ?_
      refine x_aload_n 0 dX12_operate_90 rfl ?_
      obtain ⟨g7, hq⟩ := hq
      refine x_get (v := .long (fJ h2 x0 3178)) fdX12_1148 dX12_operate_91 g7 rfl ?_
      refine x_land dX12_operate_94 ?_
      refine x_goto (tgt := 108) dX12_operate_95 (by decide) ?_
      refine xP.pick (lv' := [(0, rv x0), (7, rv x7)]) [0, 2] rfl ?_
      exact uX12_operate_108 hq
  · replace hq := hq.2 c4
    refine x_lload_n 1 dX12_operate_73 rfl ?_
    refine x_aload_n 0 dX12_operate_74 rfl ?_
    obtain ⟨g8, hq⟩ := hq
    refine x_get (v := .long (fJ h2 x0 3178)) fdX12_1148 dX12_operate_75 g8 rfl ?_
    refine x_lor dX12_operate_78 ?_
    refine x_goto (tgt := 108) dX12_operate_79 (by decide) ?_
    refine xP.pick (lv' := [(0, rv x0), (7, rv x7)]) [0, 2] rfl ?_
    exact uX12_operate_108 hq
set_option maxRecDepth 100000 in
def bX12_operate (G : xG) (fr lo : Nat) (x0 : Nat) (x1 : Int64) (x3 : Int64) (x5 : UInt64) (x7 : Nat) (x8 : Nat) (x9 : Int32) (h : xH) (Q : Outcome → xH → Prop) : Prop := tg h x0 = 13 ∧ tg h (fR h x0 3082) = 100 ∧ vp_in x9 (ln h (fR h x0 3082)) ∧ tg h x7 = 14 ∧ ((¬ (fI h x7 3328) = 9 → (((aI h (fR h x0 3082) (Int32.toNatClampNeg x9)) = 1 → bX12_operate_131 G fr lo x0 x1 (aI h (fR h x0 3082) (Int32.toNatClampNeg x9)) h Q) ∧ (¬ (aI h (fR h x0 3082) (Int32.toNatClampNeg x9)) = 1 → ((¬ (aI h (fR h x0 3082) (Int32.toNatClampNeg x9)) = 22 → (((fI h x7 3328) = 2 → bX12_operate_190 G fr lo x0 x1 x5 x7 x8 x9 (aI h (fR h x0 3082) (Int32.toNatClampNeg x9)) h Q) ∧ (¬ (fI h x7 3328) = 2 → tg h x8 = 14 ∧ (((fI h x8 3328) = 2 → bX12_operate_190 G fr lo x0 x1 x5 x7 x8 x9 (aI h (fR h x0 3082) (Int32.toNatClampNeg x9)) h Q) ∧ (¬ (fI h x8 3328) = 2 → ((¬ (aI h (fR h x0 3082) (Int32.toNatClampNeg x9)) = 53 → bX12_operate_195 G fr lo x0 x1 x5 x7 x8 x9 (aI h (fR h x0 3082) (Int32.toNatClampNeg x9)) 0 h Q) ∧ ((aI h (fR h x0 3082) (Int32.toNatClampNeg x9)) = 53 → bX12_operate_190 G fr lo x0 x1 x5 x7 x8 x9 (aI h (fR h x0 3082) (Int32.toNatClampNeg x9)) h Q))))))) ∧ ((aI h (fR h x0 3082) (Int32.toNatClampNeg x9)) = 22 → bX12_operate_131 G fr lo x0 x1 (aI h (fR h x0 3082) (Int32.toNatClampNeg x9)) h Q))))) ∧ ((fI h x7 3328) = 9 → ((¬ (aI h (fR h x0 3082) (Int32.toNatClampNeg x9)) = 50 → ((¬ (aI h (fR h x0 3082) (Int32.toNatClampNeg x9)) = 52 → bX12_operate_62 G fr lo x0 x3 x7 (aI h (fR h x0 3082) (Int32.toNatClampNeg x9)) (x1 &&& ((fJ h x0 3177) ^^^ (-1))) x0 h Q) ∧ ((aI h (fR h x0 3082) (Int32.toNatClampNeg x9)) = 52 → bX12_operate_62 G fr lo x0 x3 x7 (aI h (fR h x0 3082) (Int32.toNatClampNeg x9)) (x1 &&& (fJ h x0 3177)) x0 h Q))) ∧ ((aI h (fR h x0 3082) (Int32.toNatClampNeg x9)) = 50 → bX12_operate_62 G fr lo x0 x3 x7 (aI h (fR h x0 3082) (Int32.toNatClampNeg x9)) (x1 ||| (fJ h x0 3177)) x0 h Q))))
set_option maxRecDepth 100000 in
theorem uX12_operate {G : xG} {fr lo : Nat} {x0 : Nat} {x1 : Int64} {x3 : Int64} {x5 : UInt64} {x7 : Nat} {x8 : Nat} {x9 : Int32} {h : xH} {Q : Outcome → xH → Prop} (hq : bX12_operate G fr lo x0 x1 x3 x5 x7 x8 x9 h Q) : xP G YX12_operate fr lo 0 [(0, rv x0), (1, .long x1), (3, .long x3), (5, .double x5), (7, rv x7), (8, rv x8), (9, .int x9)] [] h Q := by
  unfold bX12_operate at hq
  refine x_aload_n 0 dX12_operate_0 rfl ?_
  obtain ⟨g1, hq⟩ := hq
  refine x_get (v := rv (fR h x0 3082)) fdX12_26 dX12_operate_1 g1 rfl ?_
  refine x_iload 6 dX12_operate_4 rfl ?_
  obtain ⟨g2, hq⟩ := hq
  obtain ⟨i3, hq⟩ := hq
  refine x_iald 0 (Or.inl rfl) g2 i3 dX12_operate_6 ?_
  refine x_istore (lv' := [(10, .int (aI h (fR h x0 3082) (Int32.toNatClampNeg x9))), (0, rv x0), (1, .long x1), (3, .long x3), (5, .double x5), (7, rv x7), (8, rv x8), (9, .int x9)]) dX12_operate_7 (by decide) rfl ?_
  refine x_aload 5 dX12_operate_9 rfl ?_
  obtain ⟨g4, hq⟩ := hq
  refine x_get (v := .int (fI h x7 3328)) fdX12_845 dX12_operate_11 g4 rfl ?_
  refine x_bipush (v := 9) dX12_operate_14 (by decide) ?_
  refine x_icmp_ne (tgt := 118) dX12_operate_16 (by decide) (fun c5 => ?_) (fun c5 => ?_)
  · replace hq := hq.1 c5
    refine x_iload 0 dX12_operate_118 rfl ?_
    refine x_iconst (v := 1) dX12_operate_120 (by decide) ?_
    refine x_icmp_eq (tgt := 131) dX12_operate_121 (by decide) (fun c6 => ?_) (fun c6 => ?_)
    · replace hq := hq.1 c6
      refine xP.pick (lv' := [(0, rv x0), (1, .long x1), (10, .int (aI h (fR h x0 3082) (Int32.toNatClampNeg x9)))]) [1, 2, 0] rfl ?_
      exact uX12_operate_131 hq
    · replace hq := hq.2 c6
      refine x_iload 0 dX12_operate_124 rfl ?_
      refine x_bipush (v := 22) dX12_operate_126 (by decide) ?_
      refine x_icmp_ne (tgt := 165) dX12_operate_128 (by decide) (fun c7 => ?_) (fun c7 => ?_)
      · replace hq := hq.1 c7
        refine x_aload 5 dX12_operate_165 rfl ?_
        refine x_get (v := .int (fI h x7 3328)) fdX12_845 dX12_operate_167 g4 rfl ?_
        refine x_iconst (v := 2) dX12_operate_170 (by decide) ?_
        refine x_icmp_eq (tgt := 190) dX12_operate_171 (by decide) (fun c8 => ?_) (fun c8 => ?_)
        · replace hq := hq.1 c8
          refine xP.pick (lv' := [(0, rv x0), (1, .long x1), (5, .double x5), (7, rv x7), (8, rv x8), (9, .int x9), (10, .int (aI h (fR h x0 3082) (Int32.toNatClampNeg x9)))]) [1, 2, 4, 5, 6, 7, 0] rfl ?_
          exact uX12_operate_190 hq
        · replace hq := hq.2 c8
          refine x_aload 6 dX12_operate_174 rfl ?_
          obtain ⟨g9, hq⟩ := hq
          refine x_get (v := .int (fI h x8 3328)) fdX12_845 dX12_operate_176 g9 rfl ?_
          refine x_iconst (v := 2) dX12_operate_179 (by decide) ?_
          refine x_icmp_eq (tgt := 190) dX12_operate_180 (by decide) (fun c10 => ?_) (fun c10 => ?_)
          · replace hq := hq.1 c10
            refine xP.pick (lv' := [(0, rv x0), (1, .long x1), (5, .double x5), (7, rv x7), (8, rv x8), (9, .int x9), (10, .int (aI h (fR h x0 3082) (Int32.toNatClampNeg x9)))]) [1, 2, 4, 5, 6, 7, 0] rfl ?_
            exact uX12_operate_190 hq
          · replace hq := hq.2 c10
            refine x_iload 0 dX12_operate_183 rfl ?_
            refine x_bipush (v := 53) dX12_operate_185 (by decide) ?_
            refine x_icmp_ne (tgt := 194) dX12_operate_187 (by decide) (fun c11 => ?_) (fun c11 => ?_)
            · replace hq := hq.1 c11
              refine x_iconst (v := 0) dX12_operate_194 (by decide) ?_
              refine xP.pick (lv' := [(0, rv x0), (1, .long x1), (5, .double x5), (7, rv x7), (8, rv x8), (9, .int x9), (10, .int (aI h (fR h x0 3082) (Int32.toNatClampNeg x9)))]) [1, 2, 4, 5, 6, 7, 0] rfl ?_
              exact uX12_operate_195 hq
            · replace hq := hq.2 c11
              refine xP.pick (lv' := [(0, rv x0), (1, .long x1), (5, .double x5), (7, rv x7), (8, rv x8), (9, .int x9), (10, .int (aI h (fR h x0 3082) (Int32.toNatClampNeg x9)))]) [1, 2, 4, 5, 6, 7, 0] rfl ?_
              exact uX12_operate_190 hq
      · replace hq := hq.2 c7
        refine xP.pick (lv' := [(0, rv x0), (1, .long x1), (10, .int (aI h (fR h x0 3082) (Int32.toNatClampNeg x9)))]) [1, 2, 0] rfl ?_
        exact uX12_operate_131 hq
  · replace hq := hq.2 c5
    refine x_aload_n 1 dX12_operate_19 rfl ?_
    refine x_iload 0 dX12_operate_20 rfl ?_
    refine x_bipush (v := 50) dX12_operate_22 (by decide) ?_
    refine x_icmp_ne (tgt := 36) dX12_operate_24 (by decide) (fun c12 => ?_) (fun c12 => ?_)
    · replace hq := hq.1 c12
      refine x_iload 0 dX12_operate_36 rfl ?_
      refine x_bipush (v := 52) dX12_operate_38 (by decide) ?_
      refine x_icmp_ne (tgt := 52) dX12_operate_40 (by decide) (fun c13 => ?_) (fun c13 => ?_)
      · replace hq := hq.1 c13
        refine x_lload_n 2 dX12_operate_52 rfl ?_
        refine x_aload_n 1 dX12_operate_53 rfl ?_
        refine x_get (v := .long (fJ h x0 3177)) fdX12_1145 dX12_operate_54 g1 rfl ?_
        refine x_ldc2 (v := (-1)) q4606 dX12_operate_57 ?_
        refine x_lxor dX12_operate_60 ?_
        refine x_land dX12_operate_61 ?_
        refine xP.pick (lv' := [(0, rv x0), (3, .long x3), (7, rv x7), (10, .int (aI h (fR h x0 3082) (Int32.toNatClampNeg x9)))]) [1, 3, 5, 0] rfl ?_
        exact uX12_operate_62 hq
      · replace hq := hq.2 c13
        refine x_lload_n 2 dX12_operate_43 rfl ?_
        refine x_aload_n 1 dX12_operate_44 rfl ?_
        refine x_get (v := .long (fJ h x0 3177)) fdX12_1145 dX12_operate_45 g1 rfl ?_
        refine x_land dX12_operate_48 ?_
        refine x_goto (tgt := 62) dX12_operate_49 (by decide) ?_
        refine xP.pick (lv' := [(0, rv x0), (3, .long x3), (7, rv x7), (10, .int (aI h (fR h x0 3082) (Int32.toNatClampNeg x9)))]) [1, 3, 5, 0] rfl ?_
        exact uX12_operate_62 hq
    · replace hq := hq.2 c12
      refine x_lload_n 2 dX12_operate_27 rfl ?_
      refine x_aload_n 1 dX12_operate_28 rfl ?_
      refine x_get (v := .long (fJ h x0 3177)) fdX12_1145 dX12_operate_29 g1 rfl ?_
      refine x_lor dX12_operate_32 ?_
      refine x_goto (tgt := 62) dX12_operate_33 (by decide) ?_
      refine xP.pick (lv' := [(0, rv x0), (3, .long x3), (7, rv x7), (10, .int (aI h (fR h x0 3082) (Int32.toNatClampNeg x9)))]) [1, 3, 5, 0] rfl ?_
      exact uX12_operate_62 hq
theorem rX12_operate {G : xG} {fr lo : Nat} {x0 : Nat} {x1 : Int64} {x3 : Int64} {x5 : UInt64} {x7 : Nat} {x8 : Nat} {x9 : Int32} {h : xH} {Q : Outcome → xH → Prop} (hq : bX12_operate G fr lo x0 x1 x3 x5 x7 x8 x9 h Q) : xR G YX12_operate fr lo [rv x0, .long x1, .long x3, .double x5, rv x7, rv x8, .int x9] h Q := by
  show xP _ _ _ _ _ (lv_args 0 _) _ _ _
  rw [show lv_args 0 [rv x0, .long x1, .long x3, .double x5, rv x7, rv x8, .int x9] = [(0, rv x0), (1, .long x1), (3, .long x3), (5, .double x5), (7, rv x7), (8, rv x8), (9, .int x9)] from (xla1 (rv_cat _) (xla2 rfl (xla2 rfl (xla2 rfl (xla1 (rv_cat _) (xla1 (rv_cat _) (xla1 rfl xla0)))))))]
  exact uX12_operate hq
set_option maxRecDepth 100000 in
theorem dX12_whole_0 : decode cX12_whole 0 = .ok (.aload_n 0, 1) := by decide +kernel
set_option maxRecDepth 100000 in
theorem dX12_whole_1 : decode cX12_whole 1 = .ok (.getfield 26, 3) := by decide +kernel
set_option maxRecDepth 100000 in
theorem dX12_whole_4 : decode cX12_whole 4 = .ok (.iload 5, 2) := by decide +kernel
set_option maxRecDepth 100000 in
theorem dX12_whole_6 : decode cX12_whole 6 = .ok (.iaload, 1) := by decide +kernel
set_option maxRecDepth 100000 in
theorem dX12_whole_7 : decode cX12_whole 7 = .ok (.istore 6, 2) := by decide +kernel
set_option maxRecDepth 100000 in
theorem dX12_whole_9 : decode cX12_whole 9 = .ok (.iload 6, 2) := by decide +kernel
set_option maxRecDepth 100000 in
theorem dX12_whole_11 : decode cX12_whole 11 = .ok (.bipush 6, 2) := by decide +kernel
set_option maxRecDepth 100000 in
theorem dX12_whole_13 : decode cX12_whole 13 = .ok (.if_icmp .ne 9, 3) := by decide +kernel
set_option maxRecDepth 100000 in
theorem dX12_whole_16 : decode cX12_whole 16 = .ok (.lload_n 3, 1) := by decide +kernel
set_option maxRecDepth 100000 in
theorem dX12_whole_17 : decode cX12_whole 17 = .ok (.lconst 0, 1) := by decide +kernel
set_option maxRecDepth 100000 in
theorem dX12_whole_18 : decode cX12_whole 18 = .ok (.lcmp, 1) := by decide +kernel
set_option maxRecDepth 100000 in
theorem dX12_whole_19 : decode cX12_whole 19 = .ok (.ifCond .eq 16, 3) := by decide +kernel
set_option maxRecDepth 100000 in
theorem dX12_whole_22 : decode cX12_whole 22 = .ok (.iload 6, 2) := by decide +kernel
set_option maxRecDepth 100000 in
theorem dX12_whole_24 : decode cX12_whole 24 = .ok (.bipush 18, 2) := by decide +kernel
set_option maxRecDepth 100000 in
theorem dX12_whole_26 : decode cX12_whole 26 = .ok (.if_icmp .ne 18, 3) := by decide +kernel
set_option maxRecDepth 100000 in
theorem dX12_whole_29 : decode cX12_whole 29 = .ok (.lload_n 3, 1) := by decide +kernel
set_option maxRecDepth 100000 in
theorem dX12_whole_30 : decode cX12_whole 30 = .ok (.lconst 0, 1) := by decide +kernel
set_option maxRecDepth 100000 in
theorem dX12_whole_31 : decode cX12_whole 31 = .ok (.lcmp, 1) := by decide +kernel
set_option maxRecDepth 100000 in
theorem dX12_whole_32 : decode cX12_whole 32 = .ok (.ifCond .gt 12, 3) := by decide +kernel
set_option maxRecDepth 100000 in
theorem dX12_whole_35 : decode cX12_whole 35 = .ok (.aload_n 0, 1) := by decide +kernel
set_option maxRecDepth 100000 in
theorem dX12_whole_36 : decode cX12_whole 36 = .ok (.bipush 9, 2) := by decide +kernel
set_option maxRecDepth 100000 in
theorem dX12_whole_38 : decode cX12_whole 38 = .ok (.iload 5, 2) := by decide +kernel
set_option maxRecDepth 100000 in
theorem dX12_whole_40 : decode cX12_whole 40 = .ok (.invokevirtual 1142, 3) := by decide +kernel
set_option maxRecDepth 100000 in
theorem dX12_whole_43 : decode cX12_whole 43 = .ok (.return_, 1) := by decide +kernel
set_option maxRecDepth 100000 in
theorem dX12_whole_44 : decode cX12_whole 44 = .ok (.iload 6, 2) := by decide +kernel
set_option maxRecDepth 100000 in
theorem dX12_whole_46 : decode cX12_whole 46 = .ok (.bipush 50, 2) := by decide +kernel
set_option maxRecDepth 100000 in
theorem dX12_whole_48 : decode cX12_whole 48 = .ok (.if_icmp .ne 13, 3) := by decide +kernel
set_option maxRecDepth 100000 in
theorem dX12_whole_51 : decode cX12_whole 51 = .ok (.aload_n 0, 1) := by decide +kernel
set_option maxRecDepth 100000 in
theorem dX12_whole_52 : decode cX12_whole 52 = .ok (.lload_n 1, 1) := by decide +kernel
set_option maxRecDepth 100000 in
theorem dX12_whole_53 : decode cX12_whole 53 = .ok (.lload_n 3, 1) := by decide +kernel
set_option maxRecDepth 100000 in
theorem dX12_whole_54 : decode cX12_whole 54 = .ok (.ladd, 1) := by decide +kernel
set_option maxRecDepth 100000 in
theorem dX12_whole_55 : decode cX12_whole 55 = .ok (.putfield 1145, 3) := by decide +kernel
set_option maxRecDepth 100000 in
theorem dX12_whole_58 : decode cX12_whole 58 = .ok (.goto 77, 3) := by decide +kernel
set_option maxRecDepth 100000 in
theorem dX12_whole_61 : decode cX12_whole 61 = .ok (.iload 6, 2) := by decide +kernel
set_option maxRecDepth 100000 in
theorem dX12_whole_63 : decode cX12_whole 63 = .ok (.bipush 51, 2) := by decide +kernel
set_option maxRecDepth 100000 in
theorem dX12_whole_65 : decode cX12_whole 65 = .ok (.if_icmp .ne 13, 3) := by decide +kernel
set_option maxRecDepth 100000 in
theorem dX12_whole_68 : decode cX12_whole 68 = .ok (.aload_n 0, 1) := by decide +kernel
set_option maxRecDepth 100000 in
theorem dX12_whole_69 : decode cX12_whole 69 = .ok (.lload_n 1, 1) := by decide +kernel
set_option maxRecDepth 100000 in
theorem dX12_whole_70 : decode cX12_whole 70 = .ok (.lload_n 3, 1) := by decide +kernel
set_option maxRecDepth 100000 in
theorem dX12_whole_71 : decode cX12_whole 71 = .ok (.lsub, 1) := by decide +kernel
set_option maxRecDepth 100000 in
theorem dX12_whole_72 : decode cX12_whole 72 = .ok (.putfield 1145, 3) := by decide +kernel
set_option maxRecDepth 100000 in
theorem dX12_whole_75 : decode cX12_whole 75 = .ok (.goto 60, 3) := by decide +kernel
set_option maxRecDepth 100000 in
theorem dX12_whole_78 : decode cX12_whole 78 = .ok (.iload 6, 2) := by decide +kernel
set_option maxRecDepth 100000 in
theorem dX12_whole_80 : decode cX12_whole 80 = .ok (.bipush 52, 2) := by decide +kernel
set_option maxRecDepth 100000 in
theorem dX12_whole_82 : decode cX12_whole 82 = .ok (.if_icmp .ne 13, 3) := by decide +kernel
set_option maxRecDepth 100000 in
theorem dX12_whole_85 : decode cX12_whole 85 = .ok (.aload_n 0, 1) := by decide +kernel
set_option maxRecDepth 100000 in
theorem dX12_whole_86 : decode cX12_whole 86 = .ok (.lload_n 1, 1) := by decide +kernel
set_option maxRecDepth 100000 in
theorem dX12_whole_87 : decode cX12_whole 87 = .ok (.lload_n 3, 1) := by decide +kernel
set_option maxRecDepth 100000 in
theorem dX12_whole_88 : decode cX12_whole 88 = .ok (.lmul, 1) := by decide +kernel
set_option maxRecDepth 100000 in
theorem dX12_whole_89 : decode cX12_whole 89 = .ok (.putfield 1145, 3) := by decide +kernel
set_option maxRecDepth 100000 in
theorem dX12_whole_92 : decode cX12_whole 92 = .ok (.goto 43, 3) := by decide +kernel
set_option maxRecDepth 100000 in
theorem dX12_whole_95 : decode cX12_whole 95 = .ok (.iload 6, 2) := by decide +kernel
set_option maxRecDepth 100000 in
theorem dX12_whole_97 : decode cX12_whole 97 = .ok (.bipush 6, 2) := by decide +kernel
set_option maxRecDepth 100000 in
theorem dX12_whole_99 : decode cX12_whole 99 = .ok (.if_icmp .ne 13, 3) := by decide +kernel
set_option maxRecDepth 100000 in
theorem dX12_whole_102 : decode cX12_whole 102 = .ok (.aload_n 0, 1) := by decide +kernel
set_option maxRecDepth 100000 in
theorem dX12_whole_103 : decode cX12_whole 103 = .ok (.lload_n 1, 1) := by decide +kernel
set_option maxRecDepth 100000 in
theorem dX12_whole_104 : decode cX12_whole 104 = .ok (.lload_n 3, 1) := by decide +kernel
set_option maxRecDepth 100000 in
theorem dX12_whole_105 : decode cX12_whole 105 = .ok (.ldiv, 1) := by decide +kernel
set_option maxRecDepth 100000 in
theorem dX12_whole_106 : decode cX12_whole 106 = .ok (.putfield 1145, 3) := by decide +kernel
set_option maxRecDepth 100000 in
theorem dX12_whole_109 : decode cX12_whole 109 = .ok (.goto 26, 3) := by decide +kernel
set_option maxRecDepth 100000 in
theorem dX12_whole_112 : decode cX12_whole 112 = .ok (.aload_n 0, 1) := by decide +kernel
set_option maxRecDepth 100000 in
theorem dX12_whole_113 : decode cX12_whole 113 = .ok (.lload_n 1, 1) := by decide +kernel
set_option maxRecDepth 100000 in
theorem dX12_whole_114 : decode cX12_whole 114 = .ok (.lload_n 3, 1) := by decide +kernel
set_option maxRecDepth 100000 in
theorem dX12_whole_115 : decode cX12_whole 115 = .ok (.lrem, 1) := by decide +kernel
set_option maxRecDepth 100000 in
theorem dX12_whole_116 : decode cX12_whole 116 = .ok (.lconst 0, 1) := by decide +kernel
set_option maxRecDepth 100000 in
theorem dX12_whole_117 : decode cX12_whole 117 = .ok (.lcmp, 1) := by decide +kernel
set_option maxRecDepth 100000 in
theorem dX12_whole_118 : decode cX12_whole 118 = .ok (.ifCond .ge 11, 3) := by decide +kernel
set_option maxRecDepth 100000 in
theorem dX12_whole_121 : decode cX12_whole 121 = .ok (.lload_n 1, 1) := by decide +kernel
set_option maxRecDepth 100000 in
theorem dX12_whole_122 : decode cX12_whole 122 = .ok (.lload_n 3, 1) := by decide +kernel
set_option maxRecDepth 100000 in
theorem dX12_whole_123 : decode cX12_whole 123 = .ok (.lrem, 1) := by decide +kernel
set_option maxRecDepth 100000 in
theorem dX12_whole_124 : decode cX12_whole 124 = .ok (.lload_n 3, 1) := by decide +kernel
set_option maxRecDepth 100000 in
theorem dX12_whole_125 : decode cX12_whole 125 = .ok (.ladd, 1) := by decide +kernel
set_option maxRecDepth 100000 in
theorem dX12_whole_126 : decode cX12_whole 126 = .ok (.goto 6, 3) := by decide +kernel
set_option maxRecDepth 100000 in
theorem dX12_whole_129 : decode cX12_whole 129 = .ok (.lload_n 1, 1) := by decide +kernel
set_option maxRecDepth 100000 in
theorem dX12_whole_130 : decode cX12_whole 130 = .ok (.lload_n 3, 1) := by decide +kernel
set_option maxRecDepth 100000 in
theorem dX12_whole_131 : decode cX12_whole 131 = .ok (.lrem, 1) := by decide +kernel
set_option maxRecDepth 100000 in
theorem dX12_whole_132 : decode cX12_whole 132 = .ok (.putfield 1145, 3) := by decide +kernel
set_option maxRecDepth 100000 in
theorem dX12_whole_135 : decode cX12_whole 135 = .ok (.aload_n 0, 1) := by decide +kernel
set_option maxRecDepth 100000 in
theorem dX12_whole_136 : decode cX12_whole 136 = .ok (.getfield 1145, 3) := by decide +kernel
set_option maxRecDepth 100000 in
theorem dX12_whole_139 : decode cX12_whole 139 = .ok (.ldc2_w 397, 3) := by decide +kernel
set_option maxRecDepth 100000 in
theorem dX12_whole_142 : decode cX12_whole 142 = .ok (.lcmp, 1) := by decide +kernel
set_option maxRecDepth 100000 in
theorem dX12_whole_143 : decode cX12_whole 143 = .ok (.ifCond .gt 14, 3) := by decide +kernel
set_option maxRecDepth 100000 in
theorem dX12_whole_146 : decode cX12_whole 146 = .ok (.aload_n 0, 1) := by decide +kernel
set_option maxRecDepth 100000 in
theorem dX12_whole_147 : decode cX12_whole 147 = .ok (.getfield 1145, 3) := by decide +kernel
set_option maxRecDepth 100000 in
theorem dX12_whole_150 : decode cX12_whole 150 = .ok (.ldc2_w 1287, 3) := by decide +kernel
set_option maxRecDepth 100000 in
theorem dX12_whole_153 : decode cX12_whole 153 = .ok (.lcmp, 1) := by decide +kernel
set_option maxRecDepth 100000 in
theorem dX12_whole_154 : decode cX12_whole 154 = .ok (.ifCond .ge 11, 3) := by decide +kernel
set_option maxRecDepth 100000 in
theorem dX12_whole_157 : decode cX12_whole 157 = .ok (.aload_n 0, 1) := by decide +kernel
set_option maxRecDepth 100000 in
theorem dX12_whole_158 : decode cX12_whole 158 = .ok (.bipush 8, 2) := by decide +kernel
set_option maxRecDepth 100000 in
theorem dX12_whole_160 : decode cX12_whole 160 = .ok (.iload 5, 2) := by decide +kernel
set_option maxRecDepth 100000 in
theorem dX12_whole_162 : decode cX12_whole 162 = .ok (.invokevirtual 1142, 3) := by decide +kernel
set_option maxRecDepth 100000 in
theorem dX12_whole_165 : decode cX12_whole 165 = .ok (.return_, 1) := by decide +kernel
set_option maxRecDepth 100000 in
def bX12_whole_165 (G : xG) (fr lo : Nat) (h : xH) (Q : Outcome → xH → Prop) : Prop := Q (.returned none) h
set_option maxRecDepth 100000 in
theorem uX12_whole_165 {G : xG} {fr lo : Nat} {h : xH} {Q : Outcome → xH → Prop} (hq : bX12_whole_165 G fr lo h Q) : xP G YX12_whole fr lo 165 [] [] h Q := by
  unfold bX12_whole_165 at hq
  exact x_vret rfl dX12_whole_165 hq
set_option maxRecDepth 100000 in
def bX12_whole_157 (G : xG) (fr lo : Nat) (x0 : Nat) (x5 : Int32) (h : xH) (Q : Outcome → xH → Prop) : Prop := tg h x0 = 13 ∧ 1 ≤ fr ∧ 14 ≤ lo ∧ xRv G YX12_error (fr - 1) (lo - 14) [rv x0, .int 8, .int x5] h (fun h4 => xext h h4 → bX12_whole_165 G fr lo h4 Q) (fun r h2 => Q (.threw r) h2)
set_option maxRecDepth 100000 in
theorem uX12_whole_157 {G : xG} {fr lo : Nat} {x0 : Nat} {x5 : Int32} {h : xH} {Q : Outcome → xH → Prop} (hq : bX12_whole_157 G fr lo x0 x5 h Q) : xP G YX12_whole fr lo 157 [(0, rv x0), (5, .int x5)] [] h Q := by
  unfold bX12_whole_157 at hq
  refine x_aload_n 0 dX12_whole_157 rfl ?_
  refine x_bipush (v := 8) dX12_whole_158 (by decide) ?_
  refine x_iload 1 dX12_whole_160 rfl ?_
  obtain ⟨g1, hq⟩ := hq
  obtain ⟨g2, g3, hq⟩ := hq
  refine x_callV (Yc := YX12_error) (as := [.int 8, .int x5]) (st := []) q4490 mvX12_error g1 rfl dX12_whole_162 (xle (xal1 (rv_cat _) (xal1 rfl (xal1 rfl xal0))) (by decide)) (xfr g2) (xlo xsw0 (by decide) g3) (xKv hq (fun h4 hq e6 => ?_) (fun _ _ q _ => q))
  replace hq := hq e6
  refine xP.pick (lv' := []) [] rfl ?_
  exact uX12_whole_165 hq
set_option maxRecDepth 100000 in
def bX12_whole_135 (G : xG) (fr lo : Nat) (x0 : Nat) (x5 : Int32) (h : xH) (Q : Outcome → xH → Prop) : Prop := tg h x0 = 13 ∧ ((0 < (lg_cmp (fJ h x0 3177) 2147483647) → bX12_whole_157 G fr lo x0 x5 h Q) ∧ (¬ 0 < (lg_cmp (fJ h x0 3177) 2147483647) → ((0 ≤ (lg_cmp (fJ h x0 3177) (-2147483647)) → bX12_whole_165 G fr lo h Q) ∧ (¬ 0 ≤ (lg_cmp (fJ h x0 3177) (-2147483647)) → bX12_whole_157 G fr lo x0 x5 h Q))))
set_option maxRecDepth 100000 in
theorem uX12_whole_135 {G : xG} {fr lo : Nat} {x0 : Nat} {x5 : Int32} {h : xH} {Q : Outcome → xH → Prop} (hq : bX12_whole_135 G fr lo x0 x5 h Q) : xP G YX12_whole fr lo 135 [(0, rv x0), (5, .int x5)] [] h Q := by
  unfold bX12_whole_135 at hq
  refine x_aload_n 0 dX12_whole_135 rfl ?_
  obtain ⟨g1, hq⟩ := hq
  refine x_get (v := .long (fJ h x0 3177)) fdX12_1145 dX12_whole_136 g1 rfl ?_
  refine x_ldc2 (v := 2147483647) q3756 dX12_whole_139 ?_
  refine x_lcmp dX12_whole_142 ?_
  refine x_if_gt (tgt := 157) dX12_whole_143 (by decide) (fun c2 => ?_) (fun c2 => ?_)
  · replace hq := hq.1 c2
    exact uX12_whole_157 hq
  · replace hq := hq.2 c2
    refine x_aload_n 0 dX12_whole_146 rfl ?_
    refine x_get (v := .long (fJ h x0 3177)) fdX12_1145 dX12_whole_147 g1 rfl ?_
    refine x_ldc2 (v := (-2147483647)) q4671 dX12_whole_150 ?_
    refine x_lcmp dX12_whole_153 ?_
    refine x_if_ge (tgt := 165) dX12_whole_154 (by decide) (fun c3 => ?_) (fun c3 => ?_)
    · replace hq := hq.1 c3
      refine xP.pick (lv' := []) [] rfl ?_
      exact uX12_whole_165 hq
    · replace hq := hq.2 c3
      exact uX12_whole_157 hq
set_option maxRecDepth 100000 in
def bX12_whole_132 (G : xG) (fr lo : Nat) (x0 : Nat) (x5 : Int32) (s0 : Int64) (s1 : Nat) (h : xH) (Q : Outcome → xH → Prop) : Prop := tg h s1 = 13 ∧ (∀ h2 : xH, h2 = sJ h s1 3177 s0 → bX12_whole_135 G fr lo x0 x5 h2 Q)
set_option maxRecDepth 100000 in
theorem uX12_whole_132 {G : xG} {fr lo : Nat} {x0 : Nat} {x5 : Int32} {s0 : Int64} {s1 : Nat} {h : xH} {Q : Outcome → xH → Prop} (hq : bX12_whole_132 G fr lo x0 x5 s0 s1 h Q) : xP G YX12_whole fr lo 132 [(0, rv x0), (5, .int x5)] [.long s0, rv s1] h Q := by
  unfold bX12_whole_132 at hq
  obtain ⟨g1, hq⟩ := hq
  obtain ⟨h2, e3⟩ : ∃ y, y = sJ h s1 3177 s0 := ⟨_, rfl⟩
  replace hq := hq h2 e3
  refine x_putJ fdX12_1145 dX12_whole_132 g1 (Or.inl (by rw [g1]; rfl)) rfl e3 ?_
  exact uX12_whole_135 hq
set_option maxRecDepth 100000 in
def bX12_whole_44 (G : xG) (fr lo : Nat) (x0 : Nat) (x1 : Int64) (x3 : Int64) (x5 : Int32) (x6 : Int32) (h : xH) (Q : Outcome → xH → Prop) : Prop := ((¬ x6 = 50 → ((¬ x6 = 51 → ((¬ x6 = 52 → ((¬ x6 = 6 → ¬ x3 = 0 ∧ ((0 ≤ (lg_cmp (x1 - x1 / x3 * x3) 0) → ¬ x3 = 0 ∧ bX12_whole_132 G fr lo x0 x5 (x1 - x1 / x3 * x3) x0 h Q) ∧ (¬ 0 ≤ (lg_cmp (x1 - x1 / x3 * x3) 0) → ¬ x3 = 0 ∧ bX12_whole_132 G fr lo x0 x5 ((x1 - x1 / x3 * x3) + x3) x0 h Q))) ∧ (x6 = 6 → ¬ x3 = 0 ∧ tg h x0 = 13 ∧ (∀ h11 : xH, h11 = sJ h x0 3177 (x1 / x3) → bX12_whole_135 G fr lo x0 x5 h11 Q)))) ∧ (x6 = 52 → tg h x0 = 13 ∧ (∀ h14 : xH, h14 = sJ h x0 3177 (x1 * x3) → bX12_whole_135 G fr lo x0 x5 h14 Q)))) ∧ (x6 = 51 → tg h x0 = 13 ∧ (∀ h17 : xH, h17 = sJ h x0 3177 (x1 - x3) → bX12_whole_135 G fr lo x0 x5 h17 Q)))) ∧ (x6 = 50 → tg h x0 = 13 ∧ (∀ h20 : xH, h20 = sJ h x0 3177 (x1 + x3) → bX12_whole_135 G fr lo x0 x5 h20 Q)))
set_option maxRecDepth 100000 in
theorem uX12_whole_44 {G : xG} {fr lo : Nat} {x0 : Nat} {x1 : Int64} {x3 : Int64} {x5 : Int32} {x6 : Int32} {h : xH} {Q : Outcome → xH → Prop} (hq : bX12_whole_44 G fr lo x0 x1 x3 x5 x6 h Q) : xP G YX12_whole fr lo 44 [(0, rv x0), (1, .long x1), (3, .long x3), (5, .int x5), (6, .int x6)] [] h Q := by
  unfold bX12_whole_44 at hq
  refine x_iload 4 dX12_whole_44 rfl ?_
  refine x_bipush (v := 50) dX12_whole_46 (by decide) ?_
  refine x_icmp_ne (tgt := 61) dX12_whole_48 (by decide) (fun c1 => ?_) (fun c1 => ?_)
  · replace hq := hq.1 c1
    refine x_iload 4 dX12_whole_61 rfl ?_
    refine x_bipush (v := 51) dX12_whole_63 (by decide) ?_
    refine x_icmp_ne (tgt := 78) dX12_whole_65 (by decide) (fun c2 => ?_) (fun c2 => ?_)
    · replace hq := hq.1 c2
      refine x_iload 4 dX12_whole_78 rfl ?_
      refine x_bipush (v := 52) dX12_whole_80 (by decide) ?_
      refine x_icmp_ne (tgt := 95) dX12_whole_82 (by decide) (fun c3 => ?_) (fun c3 => ?_)
      · replace hq := hq.1 c3
        refine x_iload 4 dX12_whole_95 rfl ?_
        refine x_bipush (v := 6) dX12_whole_97 (by decide) ?_
        refine x_icmp_ne (tgt := 112) dX12_whole_99 (by decide) (fun c4 => ?_) (fun c4 => ?_)
        · replace hq := hq.1 c4
          refine x_aload_n 0 dX12_whole_112 rfl ?_
          refine x_lload_n 1 dX12_whole_113 rfl ?_
          refine x_lload_n 2 dX12_whole_114 rfl ?_
          obtain ⟨g5, hq⟩ := hq
          refine x_lrem dX12_whole_115 g5 ?_
          refine x_lconst (v := 0) dX12_whole_116 (by decide) ?_
          refine x_lcmp dX12_whole_117 ?_
          refine x_if_ge (tgt := 129) dX12_whole_118 (by decide) (fun c6 => ?_) (fun c6 => ?_)
          · replace hq := hq.1 c6
            refine x_lload_n 1 dX12_whole_129 rfl ?_
            refine x_lload_n 2 dX12_whole_130 rfl ?_
            obtain ⟨g7, hq⟩ := hq
            refine x_lrem dX12_whole_131 g7 ?_
            refine xP.pick (lv' := [(0, rv x0), (5, .int x5)]) [0, 3] rfl ?_
            exact uX12_whole_132 hq
          · replace hq := hq.2 c6
            refine x_lload_n 1 dX12_whole_121 rfl ?_
            refine x_lload_n 2 dX12_whole_122 rfl ?_
            obtain ⟨g8, hq⟩ := hq
            refine x_lrem dX12_whole_123 g8 ?_
            refine x_lload_n 2 dX12_whole_124 rfl ?_
            refine x_ladd dX12_whole_125 ?_
            refine x_goto (tgt := 132) dX12_whole_126 (by decide) ?_
            refine xP.pick (lv' := [(0, rv x0), (5, .int x5)]) [0, 3] rfl ?_
            exact uX12_whole_132 hq
        · replace hq := hq.2 c4
          refine x_aload_n 0 dX12_whole_102 rfl ?_
          refine x_lload_n 1 dX12_whole_103 rfl ?_
          refine x_lload_n 2 dX12_whole_104 rfl ?_
          obtain ⟨g9, hq⟩ := hq
          refine x_ldiv dX12_whole_105 g9 ?_
          obtain ⟨g10, hq⟩ := hq
          obtain ⟨h11, e12⟩ : ∃ y, y = sJ h x0 3177 (x1 / x3) := ⟨_, rfl⟩
          replace hq := hq h11 e12
          refine x_putJ fdX12_1145 dX12_whole_106 g10 (Or.inl (by rw [g10]; rfl)) rfl e12 ?_
          refine x_goto (tgt := 135) dX12_whole_109 (by decide) ?_
          refine xP.pick (lv' := [(0, rv x0), (5, .int x5)]) [0, 3] rfl ?_
          exact uX12_whole_135 hq
      · replace hq := hq.2 c3
        refine x_aload_n 0 dX12_whole_85 rfl ?_
        refine x_lload_n 1 dX12_whole_86 rfl ?_
        refine x_lload_n 2 dX12_whole_87 rfl ?_
        refine x_lmul dX12_whole_88 ?_
        obtain ⟨g13, hq⟩ := hq
        obtain ⟨h14, e15⟩ : ∃ y, y = sJ h x0 3177 (x1 * x3) := ⟨_, rfl⟩
        replace hq := hq h14 e15
        refine x_putJ fdX12_1145 dX12_whole_89 g13 (Or.inl (by rw [g13]; rfl)) rfl e15 ?_
        refine x_goto (tgt := 135) dX12_whole_92 (by decide) ?_
        refine xP.pick (lv' := [(0, rv x0), (5, .int x5)]) [0, 3] rfl ?_
        exact uX12_whole_135 hq
    · replace hq := hq.2 c2
      refine x_aload_n 0 dX12_whole_68 rfl ?_
      refine x_lload_n 1 dX12_whole_69 rfl ?_
      refine x_lload_n 2 dX12_whole_70 rfl ?_
      refine x_lsub dX12_whole_71 ?_
      obtain ⟨g16, hq⟩ := hq
      obtain ⟨h17, e18⟩ : ∃ y, y = sJ h x0 3177 (x1 - x3) := ⟨_, rfl⟩
      replace hq := hq h17 e18
      refine x_putJ fdX12_1145 dX12_whole_72 g16 (Or.inl (by rw [g16]; rfl)) rfl e18 ?_
      refine x_goto (tgt := 135) dX12_whole_75 (by decide) ?_
      refine xP.pick (lv' := [(0, rv x0), (5, .int x5)]) [0, 3] rfl ?_
      exact uX12_whole_135 hq
  · replace hq := hq.2 c1
    refine x_aload_n 0 dX12_whole_51 rfl ?_
    refine x_lload_n 1 dX12_whole_52 rfl ?_
    refine x_lload_n 2 dX12_whole_53 rfl ?_
    refine x_ladd dX12_whole_54 ?_
    obtain ⟨g19, hq⟩ := hq
    obtain ⟨h20, e21⟩ : ∃ y, y = sJ h x0 3177 (x1 + x3) := ⟨_, rfl⟩
    replace hq := hq h20 e21
    refine x_putJ fdX12_1145 dX12_whole_55 g19 (Or.inl (by rw [g19]; rfl)) rfl e21 ?_
    refine x_goto (tgt := 135) dX12_whole_58 (by decide) ?_
    refine xP.pick (lv' := [(0, rv x0), (5, .int x5)]) [0, 3] rfl ?_
    exact uX12_whole_135 hq
set_option maxRecDepth 100000 in
def bX12_whole_35 (G : xG) (fr lo : Nat) (x0 : Nat) (x5 : Int32) (h : xH) (Q : Outcome → xH → Prop) : Prop := tg h x0 = 13 ∧ 1 ≤ fr ∧ 14 ≤ lo ∧ xRv G YX12_error (fr - 1) (lo - 14) [rv x0, .int 9, .int x5] h (fun h4 => xext h h4 → Q (.returned none) h4) (fun r h2 => Q (.threw r) h2)
set_option maxRecDepth 100000 in
theorem uX12_whole_35 {G : xG} {fr lo : Nat} {x0 : Nat} {x5 : Int32} {h : xH} {Q : Outcome → xH → Prop} (hq : bX12_whole_35 G fr lo x0 x5 h Q) : xP G YX12_whole fr lo 35 [(0, rv x0), (5, .int x5)] [] h Q := by
  unfold bX12_whole_35 at hq
  refine x_aload_n 0 dX12_whole_35 rfl ?_
  refine x_bipush (v := 9) dX12_whole_36 (by decide) ?_
  refine x_iload 1 dX12_whole_38 rfl ?_
  obtain ⟨g1, hq⟩ := hq
  obtain ⟨g2, g3, hq⟩ := hq
  refine x_callV (Yc := YX12_error) (as := [.int 9, .int x5]) (st := []) q4490 mvX12_error g1 rfl dX12_whole_40 (xle (xal1 (rv_cat _) (xal1 rfl (xal1 rfl xal0))) (by decide)) (xfr g2) (xlo xsw0 (by decide) g3) (xKv hq (fun h4 hq e6 => ?_) (fun _ _ q _ => q))
  replace hq := hq e6
  exact x_vret rfl dX12_whole_43 hq
set_option maxRecDepth 100000 in
def bX12_whole_22 (G : xG) (fr lo : Nat) (x0 : Nat) (x1 : Int64) (x3 : Int64) (x5 : Int32) (x6 : Int32) (h : xH) (Q : Outcome → xH → Prop) : Prop := ((¬ x6 = 18 → bX12_whole_44 G fr lo x0 x1 x3 x5 x6 h Q) ∧ (x6 = 18 → ((0 < (lg_cmp x3 0) → bX12_whole_44 G fr lo x0 x1 x3 x5 x6 h Q) ∧ (¬ 0 < (lg_cmp x3 0) → bX12_whole_35 G fr lo x0 x5 h Q))))
set_option maxRecDepth 100000 in
theorem uX12_whole_22 {G : xG} {fr lo : Nat} {x0 : Nat} {x1 : Int64} {x3 : Int64} {x5 : Int32} {x6 : Int32} {h : xH} {Q : Outcome → xH → Prop} (hq : bX12_whole_22 G fr lo x0 x1 x3 x5 x6 h Q) : xP G YX12_whole fr lo 22 [(0, rv x0), (1, .long x1), (3, .long x3), (5, .int x5), (6, .int x6)] [] h Q := by
  unfold bX12_whole_22 at hq
  refine x_iload 4 dX12_whole_22 rfl ?_
  refine x_bipush (v := 18) dX12_whole_24 (by decide) ?_
  refine x_icmp_ne (tgt := 44) dX12_whole_26 (by decide) (fun c1 => ?_) (fun c1 => ?_)
  · replace hq := hq.1 c1
    exact uX12_whole_44 hq
  · replace hq := hq.2 c1
    refine x_lload_n 2 dX12_whole_29 rfl ?_
    refine x_lconst (v := 0) dX12_whole_30 (by decide) ?_
    refine x_lcmp dX12_whole_31 ?_
    refine x_if_gt (tgt := 44) dX12_whole_32 (by decide) (fun c2 => ?_) (fun c2 => ?_)
    · replace hq := hq.1 c2
      exact uX12_whole_44 hq
    · replace hq := hq.2 c2
      refine xP.pick (lv' := [(0, rv x0), (5, .int x5)]) [0, 3] rfl ?_
      exact uX12_whole_35 hq
set_option maxRecDepth 100000 in
def bX12_whole (G : xG) (fr lo : Nat) (x0 : Nat) (x1 : Int64) (x3 : Int64) (x5 : Int32) (h : xH) (Q : Outcome → xH → Prop) : Prop := tg h x0 = 13 ∧ tg h (fR h x0 3082) = 100 ∧ vp_in x5 (ln h (fR h x0 3082)) ∧ ((¬ (aI h (fR h x0 3082) (Int32.toNatClampNeg x5)) = 6 → bX12_whole_22 G fr lo x0 x1 x3 x5 (aI h (fR h x0 3082) (Int32.toNatClampNeg x5)) h Q) ∧ ((aI h (fR h x0 3082) (Int32.toNatClampNeg x5)) = 6 → (((lg_cmp x3 0) = 0 → bX12_whole_35 G fr lo x0 x5 h Q) ∧ (¬ (lg_cmp x3 0) = 0 → bX12_whole_22 G fr lo x0 x1 x3 x5 (aI h (fR h x0 3082) (Int32.toNatClampNeg x5)) h Q))))
set_option maxRecDepth 100000 in
theorem uX12_whole {G : xG} {fr lo : Nat} {x0 : Nat} {x1 : Int64} {x3 : Int64} {x5 : Int32} {h : xH} {Q : Outcome → xH → Prop} (hq : bX12_whole G fr lo x0 x1 x3 x5 h Q) : xP G YX12_whole fr lo 0 [(0, rv x0), (1, .long x1), (3, .long x3), (5, .int x5)] [] h Q := by
  unfold bX12_whole at hq
  refine x_aload_n 0 dX12_whole_0 rfl ?_
  obtain ⟨g1, hq⟩ := hq
  refine x_get (v := rv (fR h x0 3082)) fdX12_26 dX12_whole_1 g1 rfl ?_
  refine x_iload 3 dX12_whole_4 rfl ?_
  obtain ⟨g2, hq⟩ := hq
  obtain ⟨i3, hq⟩ := hq
  refine x_iald 0 (Or.inl rfl) g2 i3 dX12_whole_6 ?_
  refine x_istore (lv' := [(6, .int (aI h (fR h x0 3082) (Int32.toNatClampNeg x5))), (0, rv x0), (1, .long x1), (3, .long x3), (5, .int x5)]) dX12_whole_7 (by decide) rfl ?_
  refine x_iload 0 dX12_whole_9 rfl ?_
  refine x_bipush (v := 6) dX12_whole_11 (by decide) ?_
  refine x_icmp_ne (tgt := 22) dX12_whole_13 (by decide) (fun c4 => ?_) (fun c4 => ?_)
  · replace hq := hq.1 c4
    refine xP.pick (lv' := [(0, rv x0), (1, .long x1), (3, .long x3), (5, .int x5), (6, .int (aI h (fR h x0 3082) (Int32.toNatClampNeg x5)))]) [1, 2, 3, 4, 0] rfl ?_
    exact uX12_whole_22 hq
  · replace hq := hq.2 c4
    refine x_lload_n 3 dX12_whole_16 rfl ?_
    refine x_lconst (v := 0) dX12_whole_17 (by decide) ?_
    refine x_lcmp dX12_whole_18 ?_
    refine x_if_eq (tgt := 35) dX12_whole_19 (by decide) (fun c5 => ?_) (fun c5 => ?_)
    · replace hq := hq.1 c5
      refine xP.pick (lv' := [(0, rv x0), (5, .int x5)]) [1, 4] rfl ?_
      exact uX12_whole_35 hq
    · replace hq := hq.2 c5
      refine xP.pick (lv' := [(0, rv x0), (1, .long x1), (3, .long x3), (5, .int x5), (6, .int (aI h (fR h x0 3082) (Int32.toNatClampNeg x5)))]) [1, 2, 3, 4, 0] rfl ?_
      exact uX12_whole_22 hq
theorem rX12_whole {G : xG} {fr lo : Nat} {x0 : Nat} {x1 : Int64} {x3 : Int64} {x5 : Int32} {h : xH} {Q : Outcome → xH → Prop} (hq : bX12_whole G fr lo x0 x1 x3 x5 h Q) : xR G YX12_whole fr lo [rv x0, .long x1, .long x3, .int x5] h Q := by
  show xP _ _ _ _ _ (lv_args 0 _) _ _ _
  rw [show lv_args 0 [rv x0, .long x1, .long x3, .int x5] = [(0, rv x0), (1, .long x1), (3, .long x3), (5, .int x5)] from (xla1 (rv_cat _) (xla2 rfl (xla2 rfl (xla1 rfl xla0))))]
  exact uX12_whole hq
