/-! java/lang/FdLibm$Sqrt, walked (1) -/
set_option maxRecDepth 100000 in
theorem dJ18_compute_0 : decode cJ18_compute 0 = .ok (.dconst 0, 1) := by decide +kernel
set_option maxRecDepth 100000 in
theorem dJ18_compute_1 : decode cJ18_compute 1 = .ok (.dstore_n 2, 1) := by decide +kernel
set_option maxRecDepth 100000 in
theorem dJ18_compute_2 : decode cJ18_compute 2 = .ok (.ldc 12, 2) := by decide +kernel
set_option maxRecDepth 100000 in
theorem dJ18_compute_4 : decode cJ18_compute 4 = .ok (.istore 4, 2) := by decide +kernel
set_option maxRecDepth 100000 in
theorem dJ18_compute_6 : decode cJ18_compute 6 = .ok (.dload_n 0, 1) := by decide +kernel
set_option maxRecDepth 100000 in
theorem dJ18_compute_7 : decode cJ18_compute 7 = .ok (.invokestatic 13, 3) := by decide +kernel
set_option maxRecDepth 100000 in
theorem dJ18_compute_10 : decode cJ18_compute 10 = .ok (.istore 10, 2) := by decide +kernel
set_option maxRecDepth 100000 in
theorem dJ18_compute_12 : decode cJ18_compute 12 = .ok (.dload_n 0, 1) := by decide +kernel
set_option maxRecDepth 100000 in
theorem dJ18_compute_13 : decode cJ18_compute 13 = .ok (.invokestatic 17, 3) := by decide +kernel
set_option maxRecDepth 100000 in
theorem dJ18_compute_16 : decode cJ18_compute 16 = .ok (.istore 8, 2) := by decide +kernel
set_option maxRecDepth 100000 in
theorem dJ18_compute_18 : decode cJ18_compute 18 = .ok (.iload 10, 2) := by decide +kernel
set_option maxRecDepth 100000 in
theorem dJ18_compute_20 : decode cJ18_compute 20 = .ok (.ldc 20, 2) := by decide +kernel
set_option maxRecDepth 100000 in
theorem dJ18_compute_22 : decode cJ18_compute 22 = .ok (.iand, 1) := by decide +kernel
set_option maxRecDepth 100000 in
theorem dJ18_compute_23 : decode cJ18_compute 23 = .ok (.ldc 20, 2) := by decide +kernel
set_option maxRecDepth 100000 in
theorem dJ18_compute_25 : decode cJ18_compute 25 = .ok (.if_icmp .ne 9, 3) := by decide +kernel
set_option maxRecDepth 100000 in
theorem dJ18_compute_28 : decode cJ18_compute 28 = .ok (.dload_n 0, 1) := by decide +kernel
set_option maxRecDepth 100000 in
theorem dJ18_compute_29 : decode cJ18_compute 29 = .ok (.dload_n 0, 1) := by decide +kernel
set_option maxRecDepth 100000 in
theorem dJ18_compute_30 : decode cJ18_compute 30 = .ok (.dmul, 1) := by decide +kernel
set_option maxRecDepth 100000 in
theorem dJ18_compute_31 : decode cJ18_compute 31 = .ok (.dload_n 0, 1) := by decide +kernel
set_option maxRecDepth 100000 in
theorem dJ18_compute_32 : decode cJ18_compute 32 = .ok (.dadd, 1) := by decide +kernel
set_option maxRecDepth 100000 in
theorem dJ18_compute_33 : decode cJ18_compute 33 = .ok (.dreturn, 1) := by decide +kernel
set_option maxRecDepth 100000 in
theorem dJ18_compute_34 : decode cJ18_compute 34 = .ok (.iload 10, 2) := by decide +kernel
set_option maxRecDepth 100000 in
theorem dJ18_compute_36 : decode cJ18_compute 36 = .ok (.ifCond .gt 31, 3) := by decide +kernel
set_option maxRecDepth 100000 in
theorem dJ18_compute_39 : decode cJ18_compute 39 = .ok (.iload 10, 2) := by decide +kernel
set_option maxRecDepth 100000 in
theorem dJ18_compute_41 : decode cJ18_compute 41 = .ok (.iload 4, 2) := by decide +kernel
set_option maxRecDepth 100000 in
theorem dJ18_compute_43 : decode cJ18_compute 43 = .ok (.iconst (-1), 1) := by decide +kernel
set_option maxRecDepth 100000 in
theorem dJ18_compute_44 : decode cJ18_compute 44 = .ok (.ixor, 1) := by decide +kernel
set_option maxRecDepth 100000 in
theorem dJ18_compute_45 : decode cJ18_compute 45 = .ok (.iand, 1) := by decide +kernel
set_option maxRecDepth 100000 in
theorem dJ18_compute_46 : decode cJ18_compute 46 = .ok (.iload 8, 2) := by decide +kernel
set_option maxRecDepth 100000 in
theorem dJ18_compute_48 : decode cJ18_compute 48 = .ok (.ior, 1) := by decide +kernel
set_option maxRecDepth 100000 in
theorem dJ18_compute_49 : decode cJ18_compute 49 = .ok (.ifCond .ne 5, 3) := by decide +kernel
set_option maxRecDepth 100000 in
theorem dJ18_compute_52 : decode cJ18_compute 52 = .ok (.dload_n 0, 1) := by decide +kernel
set_option maxRecDepth 100000 in
theorem dJ18_compute_53 : decode cJ18_compute 53 = .ok (.dreturn, 1) := by decide +kernel
set_option maxRecDepth 100000 in
theorem dJ18_compute_54 : decode cJ18_compute 54 = .ok (.iload 10, 2) := by decide +kernel
set_option maxRecDepth 100000 in
theorem dJ18_compute_56 : decode cJ18_compute 56 = .ok (.ifCond .ge 11, 3) := by decide +kernel
set_option maxRecDepth 100000 in
theorem dJ18_compute_59 : decode cJ18_compute 59 = .ok (.dload_n 0, 1) := by decide +kernel
set_option maxRecDepth 100000 in
theorem dJ18_compute_60 : decode cJ18_compute 60 = .ok (.dload_n 0, 1) := by decide +kernel
set_option maxRecDepth 100000 in
theorem dJ18_compute_61 : decode cJ18_compute 61 = .ok (.dsub, 1) := by decide +kernel
set_option maxRecDepth 100000 in
theorem dJ18_compute_62 : decode cJ18_compute 62 = .ok (.dload_n 0, 1) := by decide +kernel
set_option maxRecDepth 100000 in
theorem dJ18_compute_63 : decode cJ18_compute 63 = .ok (.dload_n 0, 1) := by decide +kernel
set_option maxRecDepth 100000 in
theorem dJ18_compute_64 : decode cJ18_compute 64 = .ok (.dsub, 1) := by decide +kernel
set_option maxRecDepth 100000 in
theorem dJ18_compute_65 : decode cJ18_compute 65 = .ok (.ddiv, 1) := by decide +kernel
set_option maxRecDepth 100000 in
theorem dJ18_compute_66 : decode cJ18_compute 66 = .ok (.dreturn, 1) := by decide +kernel
set_option maxRecDepth 100000 in
theorem dJ18_compute_67 : decode cJ18_compute 67 = .ok (.iload 10, 2) := by decide +kernel
set_option maxRecDepth 100000 in
theorem dJ18_compute_69 : decode cJ18_compute 69 = .ok (.bipush 20, 2) := by decide +kernel
set_option maxRecDepth 100000 in
theorem dJ18_compute_71 : decode cJ18_compute 71 = .ok (.ishr, 1) := by decide +kernel
set_option maxRecDepth 100000 in
theorem dJ18_compute_72 : decode cJ18_compute 72 = .ok (.istore 13, 2) := by decide +kernel
set_option maxRecDepth 100000 in
theorem dJ18_compute_74 : decode cJ18_compute 74 = .ok (.iload 13, 2) := by decide +kernel
set_option maxRecDepth 100000 in
theorem dJ18_compute_76 : decode cJ18_compute 76 = .ok (.ifCond .ne 83, 3) := by decide +kernel
set_option maxRecDepth 100000 in
theorem dJ18_compute_79 : decode cJ18_compute 79 = .ok (.iload 10, 2) := by decide +kernel
set_option maxRecDepth 100000 in
theorem dJ18_compute_81 : decode cJ18_compute 81 = .ok (.ifCond .ne 26, 3) := by decide +kernel
set_option maxRecDepth 100000 in
theorem dJ18_compute_84 : decode cJ18_compute 84 = .ok (.iinc 13 (-21), 3) := by decide +kernel
set_option maxRecDepth 100000 in
theorem dJ18_compute_87 : decode cJ18_compute 87 = .ok (.iload 10, 2) := by decide +kernel
set_option maxRecDepth 100000 in
theorem dJ18_compute_89 : decode cJ18_compute 89 = .ok (.iload 8, 2) := by decide +kernel
set_option maxRecDepth 100000 in
theorem dJ18_compute_91 : decode cJ18_compute 91 = .ok (.bipush 11, 2) := by decide +kernel
set_option maxRecDepth 100000 in
theorem dJ18_compute_93 : decode cJ18_compute 93 = .ok (.iushr, 1) := by decide +kernel
set_option maxRecDepth 100000 in
theorem dJ18_compute_94 : decode cJ18_compute 94 = .ok (.ior, 1) := by decide +kernel
set_option maxRecDepth 100000 in
theorem dJ18_compute_95 : decode cJ18_compute 95 = .ok (.istore 10, 2) := by decide +kernel
set_option maxRecDepth 100000 in
theorem dJ18_compute_97 : decode cJ18_compute 97 = .ok (.iload 8, 2) := by decide +kernel
set_option maxRecDepth 100000 in
theorem dJ18_compute_99 : decode cJ18_compute 99 = .ok (.bipush 21, 2) := by decide +kernel
set_option maxRecDepth 100000 in
theorem dJ18_compute_101 : decode cJ18_compute 101 = .ok (.ishl, 1) := by decide +kernel
set_option maxRecDepth 100000 in
theorem dJ18_compute_102 : decode cJ18_compute 102 = .ok (.istore 8, 2) := by decide +kernel
set_option maxRecDepth 100000 in
theorem dJ18_compute_104 : decode cJ18_compute 104 = .ok (.goto (-25), 3) := by decide +kernel
set_option maxRecDepth 100000 in
theorem dJ18_compute_107 : decode cJ18_compute 107 = .ok (.iconst 0, 1) := by decide +kernel
set_option maxRecDepth 100000 in
theorem dJ18_compute_108 : decode cJ18_compute 108 = .ok (.istore 15, 2) := by decide +kernel
set_option maxRecDepth 100000 in
theorem dJ18_compute_110 : decode cJ18_compute 110 = .ok (.iload 10, 2) := by decide +kernel
set_option maxRecDepth 100000 in
theorem dJ18_compute_112 : decode cJ18_compute 112 = .ok (.ldc 21, 2) := by decide +kernel
set_option maxRecDepth 100000 in
theorem dJ18_compute_114 : decode cJ18_compute 114 = .ok (.iand, 1) := by decide +kernel
set_option maxRecDepth 100000 in
theorem dJ18_compute_115 : decode cJ18_compute 115 = .ok (.ifCond .ne 15, 3) := by decide +kernel
set_option maxRecDepth 100000 in
theorem dJ18_compute_118 : decode cJ18_compute 118 = .ok (.iload 10, 2) := by decide +kernel
set_option maxRecDepth 100000 in
theorem dJ18_compute_120 : decode cJ18_compute 120 = .ok (.iconst 1, 1) := by decide +kernel
set_option maxRecDepth 100000 in
theorem dJ18_compute_121 : decode cJ18_compute 121 = .ok (.ishl, 1) := by decide +kernel
set_option maxRecDepth 100000 in
theorem dJ18_compute_122 : decode cJ18_compute 122 = .ok (.istore 10, 2) := by decide +kernel
set_option maxRecDepth 100000 in
theorem dJ18_compute_124 : decode cJ18_compute 124 = .ok (.iinc 15 1, 3) := by decide +kernel
set_option maxRecDepth 100000 in
theorem dJ18_compute_127 : decode cJ18_compute 127 = .ok (.goto (-17), 3) := by decide +kernel
set_option maxRecDepth 100000 in
theorem dJ18_compute_130 : decode cJ18_compute 130 = .ok (.iload 13, 2) := by decide +kernel
set_option maxRecDepth 100000 in
theorem dJ18_compute_132 : decode cJ18_compute 132 = .ok (.iload 15, 2) := by decide +kernel
set_option maxRecDepth 100000 in
theorem dJ18_compute_134 : decode cJ18_compute 134 = .ok (.iconst 1, 1) := by decide +kernel
set_option maxRecDepth 100000 in
theorem dJ18_compute_135 : decode cJ18_compute 135 = .ok (.isub, 1) := by decide +kernel
set_option maxRecDepth 100000 in
theorem dJ18_compute_136 : decode cJ18_compute 136 = .ok (.isub, 1) := by decide +kernel
set_option maxRecDepth 100000 in
theorem dJ18_compute_137 : decode cJ18_compute 137 = .ok (.istore 13, 2) := by decide +kernel
set_option maxRecDepth 100000 in
theorem dJ18_compute_139 : decode cJ18_compute 139 = .ok (.iload 10, 2) := by decide +kernel
set_option maxRecDepth 100000 in
theorem dJ18_compute_141 : decode cJ18_compute 141 = .ok (.iload 8, 2) := by decide +kernel
set_option maxRecDepth 100000 in
theorem dJ18_compute_143 : decode cJ18_compute 143 = .ok (.bipush 32, 2) := by decide +kernel
set_option maxRecDepth 100000 in
theorem dJ18_compute_145 : decode cJ18_compute 145 = .ok (.iload 15, 2) := by decide +kernel
set_option maxRecDepth 100000 in
theorem dJ18_compute_147 : decode cJ18_compute 147 = .ok (.isub, 1) := by decide +kernel
set_option maxRecDepth 100000 in
theorem dJ18_compute_148 : decode cJ18_compute 148 = .ok (.iushr, 1) := by decide +kernel
set_option maxRecDepth 100000 in
theorem dJ18_compute_149 : decode cJ18_compute 149 = .ok (.ior, 1) := by decide +kernel
set_option maxRecDepth 100000 in
theorem dJ18_compute_150 : decode cJ18_compute 150 = .ok (.istore 10, 2) := by decide +kernel
set_option maxRecDepth 100000 in
theorem dJ18_compute_152 : decode cJ18_compute 152 = .ok (.iload 8, 2) := by decide +kernel
set_option maxRecDepth 100000 in
theorem dJ18_compute_154 : decode cJ18_compute 154 = .ok (.iload 15, 2) := by decide +kernel
set_option maxRecDepth 100000 in
theorem dJ18_compute_156 : decode cJ18_compute 156 = .ok (.ishl, 1) := by decide +kernel
set_option maxRecDepth 100000 in
theorem dJ18_compute_157 : decode cJ18_compute 157 = .ok (.istore 8, 2) := by decide +kernel
set_option maxRecDepth 100000 in
theorem dJ18_compute_159 : decode cJ18_compute 159 = .ok (.iinc 13 (-1023), 6) := by decide +kernel
set_option maxRecDepth 100000 in
theorem dJ18_compute_165 : decode cJ18_compute 165 = .ok (.iload 10, 2) := by decide +kernel
set_option maxRecDepth 100000 in
theorem dJ18_compute_167 : decode cJ18_compute 167 = .ok (.ldc 22, 2) := by decide +kernel
set_option maxRecDepth 100000 in
theorem dJ18_compute_169 : decode cJ18_compute 169 = .ok (.iand, 1) := by decide +kernel
set_option maxRecDepth 100000 in
theorem dJ18_compute_170 : decode cJ18_compute 170 = .ok (.ldc 21, 2) := by decide +kernel
set_option maxRecDepth 100000 in
theorem dJ18_compute_172 : decode cJ18_compute 172 = .ok (.ior, 1) := by decide +kernel
set_option maxRecDepth 100000 in
theorem dJ18_compute_173 : decode cJ18_compute 173 = .ok (.istore 10, 2) := by decide +kernel
set_option maxRecDepth 100000 in
theorem dJ18_compute_175 : decode cJ18_compute 175 = .ok (.iload 13, 2) := by decide +kernel
set_option maxRecDepth 100000 in
theorem dJ18_compute_177 : decode cJ18_compute 177 = .ok (.iconst 1, 1) := by decide +kernel
set_option maxRecDepth 100000 in
theorem dJ18_compute_178 : decode cJ18_compute 178 = .ok (.iand, 1) := by decide +kernel
set_option maxRecDepth 100000 in
theorem dJ18_compute_179 : decode cJ18_compute 179 = .ok (.ifCond .eq 26, 3) := by decide +kernel
set_option maxRecDepth 100000 in
theorem dJ18_compute_182 : decode cJ18_compute 182 = .ok (.iload 10, 2) := by decide +kernel
set_option maxRecDepth 100000 in
theorem dJ18_compute_184 : decode cJ18_compute 184 = .ok (.iload 10, 2) := by decide +kernel
set_option maxRecDepth 100000 in
theorem dJ18_compute_186 : decode cJ18_compute 186 = .ok (.iload 8, 2) := by decide +kernel
set_option maxRecDepth 100000 in
theorem dJ18_compute_188 : decode cJ18_compute 188 = .ok (.iload 4, 2) := by decide +kernel
set_option maxRecDepth 100000 in
theorem dJ18_compute_190 : decode cJ18_compute 190 = .ok (.iand, 1) := by decide +kernel
set_option maxRecDepth 100000 in
theorem dJ18_compute_191 : decode cJ18_compute 191 = .ok (.bipush 31, 2) := by decide +kernel
set_option maxRecDepth 100000 in
theorem dJ18_compute_193 : decode cJ18_compute 193 = .ok (.iushr, 1) := by decide +kernel
set_option maxRecDepth 100000 in
theorem dJ18_compute_194 : decode cJ18_compute 194 = .ok (.iadd, 1) := by decide +kernel
set_option maxRecDepth 100000 in
theorem dJ18_compute_195 : decode cJ18_compute 195 = .ok (.iadd, 1) := by decide +kernel
set_option maxRecDepth 100000 in
theorem dJ18_compute_196 : decode cJ18_compute 196 = .ok (.istore 10, 2) := by decide +kernel
set_option maxRecDepth 100000 in
theorem dJ18_compute_198 : decode cJ18_compute 198 = .ok (.iload 8, 2) := by decide +kernel
set_option maxRecDepth 100000 in
theorem dJ18_compute_200 : decode cJ18_compute 200 = .ok (.iload 8, 2) := by decide +kernel
set_option maxRecDepth 100000 in
theorem dJ18_compute_202 : decode cJ18_compute 202 = .ok (.iadd, 1) := by decide +kernel
set_option maxRecDepth 100000 in
theorem dJ18_compute_203 : decode cJ18_compute 203 = .ok (.istore 8, 2) := by decide +kernel
set_option maxRecDepth 100000 in
theorem dJ18_compute_205 : decode cJ18_compute 205 = .ok (.iload 13, 2) := by decide +kernel
set_option maxRecDepth 100000 in
theorem dJ18_compute_207 : decode cJ18_compute 207 = .ok (.iconst 1, 1) := by decide +kernel
set_option maxRecDepth 100000 in
theorem dJ18_compute_208 : decode cJ18_compute 208 = .ok (.ishr, 1) := by decide +kernel
set_option maxRecDepth 100000 in
theorem dJ18_compute_209 : decode cJ18_compute 209 = .ok (.istore 13, 2) := by decide +kernel
set_option maxRecDepth 100000 in
theorem dJ18_compute_211 : decode cJ18_compute 211 = .ok (.iload 10, 2) := by decide +kernel
set_option maxRecDepth 100000 in
theorem dJ18_compute_213 : decode cJ18_compute 213 = .ok (.iload 10, 2) := by decide +kernel
set_option maxRecDepth 100000 in
theorem dJ18_compute_215 : decode cJ18_compute 215 = .ok (.iload 8, 2) := by decide +kernel
set_option maxRecDepth 100000 in
theorem dJ18_compute_217 : decode cJ18_compute 217 = .ok (.iload 4, 2) := by decide +kernel
set_option maxRecDepth 100000 in
theorem dJ18_compute_219 : decode cJ18_compute 219 = .ok (.iand, 1) := by decide +kernel
set_option maxRecDepth 100000 in
theorem dJ18_compute_220 : decode cJ18_compute 220 = .ok (.bipush 31, 2) := by decide +kernel
set_option maxRecDepth 100000 in
theorem dJ18_compute_222 : decode cJ18_compute 222 = .ok (.iushr, 1) := by decide +kernel
set_option maxRecDepth 100000 in
theorem dJ18_compute_223 : decode cJ18_compute 223 = .ok (.iadd, 1) := by decide +kernel
set_option maxRecDepth 100000 in
theorem dJ18_compute_224 : decode cJ18_compute 224 = .ok (.iadd, 1) := by decide +kernel
set_option maxRecDepth 100000 in
theorem dJ18_compute_225 : decode cJ18_compute 225 = .ok (.istore 10, 2) := by decide +kernel
set_option maxRecDepth 100000 in
theorem dJ18_compute_227 : decode cJ18_compute 227 = .ok (.iload 8, 2) := by decide +kernel
set_option maxRecDepth 100000 in
theorem dJ18_compute_229 : decode cJ18_compute 229 = .ok (.iload 8, 2) := by decide +kernel
set_option maxRecDepth 100000 in
theorem dJ18_compute_231 : decode cJ18_compute 231 = .ok (.iadd, 1) := by decide +kernel
set_option maxRecDepth 100000 in
theorem dJ18_compute_232 : decode cJ18_compute 232 = .ok (.istore 8, 2) := by decide +kernel
set_option maxRecDepth 100000 in
theorem dJ18_compute_234 : decode cJ18_compute 234 = .ok (.iconst 0, 1) := by decide +kernel
set_option maxRecDepth 100000 in
theorem dJ18_compute_235 : decode cJ18_compute 235 = .ok (.dup, 1) := by decide +kernel
set_option maxRecDepth 100000 in
theorem dJ18_compute_236 : decode cJ18_compute 236 = .ok (.istore 7, 2) := by decide +kernel
set_option maxRecDepth 100000 in
theorem dJ18_compute_238 : decode cJ18_compute 238 = .ok (.dup, 1) := by decide +kernel
set_option maxRecDepth 100000 in
theorem dJ18_compute_239 : decode cJ18_compute 239 = .ok (.istore 11, 2) := by decide +kernel
set_option maxRecDepth 100000 in
theorem dJ18_compute_241 : decode cJ18_compute 241 = .ok (.dup, 1) := by decide +kernel
set_option maxRecDepth 100000 in
theorem dJ18_compute_242 : decode cJ18_compute 242 = .ok (.istore 9, 2) := by decide +kernel
set_option maxRecDepth 100000 in
theorem dJ18_compute_244 : decode cJ18_compute 244 = .ok (.istore 12, 2) := by decide +kernel
set_option maxRecDepth 100000 in
theorem dJ18_compute_246 : decode cJ18_compute 246 = .ok (.ldc 23, 2) := by decide +kernel
set_option maxRecDepth 100000 in
theorem dJ18_compute_248 : decode cJ18_compute 248 = .ok (.istore 5, 2) := by decide +kernel
set_option maxRecDepth 100000 in
theorem dJ18_compute_250 : decode cJ18_compute 250 = .ok (.iload 5, 2) := by decide +kernel
set_option maxRecDepth 100000 in
theorem dJ18_compute_252 : decode cJ18_compute 252 = .ok (.ifCond .eq 70, 3) := by decide +kernel
set_option maxRecDepth 100000 in
theorem dJ18_compute_255 : decode cJ18_compute 255 = .ok (.iload 11, 2) := by decide +kernel
set_option maxRecDepth 100000 in
theorem dJ18_compute_257 : decode cJ18_compute 257 = .ok (.iload 5, 2) := by decide +kernel
set_option maxRecDepth 100000 in
theorem dJ18_compute_259 : decode cJ18_compute 259 = .ok (.iadd, 1) := by decide +kernel
set_option maxRecDepth 100000 in
theorem dJ18_compute_260 : decode cJ18_compute 260 = .ok (.istore 14, 2) := by decide +kernel
set_option maxRecDepth 100000 in
theorem dJ18_compute_262 : decode cJ18_compute 262 = .ok (.iload 14, 2) := by decide +kernel
set_option maxRecDepth 100000 in
theorem dJ18_compute_264 : decode cJ18_compute 264 = .ok (.iload 10, 2) := by decide +kernel
set_option maxRecDepth 100000 in
theorem dJ18_compute_266 : decode cJ18_compute 266 = .ok (.if_icmp .gt 24, 3) := by decide +kernel
set_option maxRecDepth 100000 in
theorem dJ18_compute_269 : decode cJ18_compute 269 = .ok (.iload 14, 2) := by decide +kernel
set_option maxRecDepth 100000 in
theorem dJ18_compute_271 : decode cJ18_compute 271 = .ok (.iload 5, 2) := by decide +kernel
set_option maxRecDepth 100000 in
theorem dJ18_compute_273 : decode cJ18_compute 273 = .ok (.iadd, 1) := by decide +kernel
set_option maxRecDepth 100000 in
theorem dJ18_compute_274 : decode cJ18_compute 274 = .ok (.istore 11, 2) := by decide +kernel
set_option maxRecDepth 100000 in
theorem dJ18_compute_276 : decode cJ18_compute 276 = .ok (.iload 10, 2) := by decide +kernel
set_option maxRecDepth 100000 in
theorem dJ18_compute_278 : decode cJ18_compute 278 = .ok (.iload 14, 2) := by decide +kernel
set_option maxRecDepth 100000 in
theorem dJ18_compute_280 : decode cJ18_compute 280 = .ok (.isub, 1) := by decide +kernel
set_option maxRecDepth 100000 in
theorem dJ18_compute_281 : decode cJ18_compute 281 = .ok (.istore 10, 2) := by decide +kernel
set_option maxRecDepth 100000 in
theorem dJ18_compute_283 : decode cJ18_compute 283 = .ok (.iload 12, 2) := by decide +kernel
set_option maxRecDepth 100000 in
theorem dJ18_compute_285 : decode cJ18_compute 285 = .ok (.iload 5, 2) := by decide +kernel
set_option maxRecDepth 100000 in
theorem dJ18_compute_287 : decode cJ18_compute 287 = .ok (.iadd, 1) := by decide +kernel
set_option maxRecDepth 100000 in
theorem dJ18_compute_288 : decode cJ18_compute 288 = .ok (.istore 12, 2) := by decide +kernel
set_option maxRecDepth 100000 in
theorem dJ18_compute_290 : decode cJ18_compute 290 = .ok (.iload 10, 2) := by decide +kernel
set_option maxRecDepth 100000 in
theorem dJ18_compute_292 : decode cJ18_compute 292 = .ok (.iload 10, 2) := by decide +kernel
set_option maxRecDepth 100000 in
theorem dJ18_compute_294 : decode cJ18_compute 294 = .ok (.iload 8, 2) := by decide +kernel
set_option maxRecDepth 100000 in
theorem dJ18_compute_296 : decode cJ18_compute 296 = .ok (.iload 4, 2) := by decide +kernel
set_option maxRecDepth 100000 in
theorem dJ18_compute_298 : decode cJ18_compute 298 = .ok (.iand, 1) := by decide +kernel
set_option maxRecDepth 100000 in
theorem dJ18_compute_299 : decode cJ18_compute 299 = .ok (.bipush 31, 2) := by decide +kernel
set_option maxRecDepth 100000 in
theorem dJ18_compute_301 : decode cJ18_compute 301 = .ok (.iushr, 1) := by decide +kernel
set_option maxRecDepth 100000 in
theorem dJ18_compute_302 : decode cJ18_compute 302 = .ok (.iadd, 1) := by decide +kernel
set_option maxRecDepth 100000 in
theorem dJ18_compute_303 : decode cJ18_compute 303 = .ok (.iadd, 1) := by decide +kernel
set_option maxRecDepth 100000 in
theorem dJ18_compute_304 : decode cJ18_compute 304 = .ok (.istore 10, 2) := by decide +kernel
set_option maxRecDepth 100000 in
theorem dJ18_compute_306 : decode cJ18_compute 306 = .ok (.iload 8, 2) := by decide +kernel
set_option maxRecDepth 100000 in
theorem dJ18_compute_308 : decode cJ18_compute 308 = .ok (.iload 8, 2) := by decide +kernel
set_option maxRecDepth 100000 in
theorem dJ18_compute_310 : decode cJ18_compute 310 = .ok (.iadd, 1) := by decide +kernel
set_option maxRecDepth 100000 in
theorem dJ18_compute_311 : decode cJ18_compute 311 = .ok (.istore 8, 2) := by decide +kernel
set_option maxRecDepth 100000 in
theorem dJ18_compute_313 : decode cJ18_compute 313 = .ok (.iload 5, 2) := by decide +kernel
set_option maxRecDepth 100000 in
theorem dJ18_compute_315 : decode cJ18_compute 315 = .ok (.iconst 1, 1) := by decide +kernel
set_option maxRecDepth 100000 in
theorem dJ18_compute_316 : decode cJ18_compute 316 = .ok (.iushr, 1) := by decide +kernel
set_option maxRecDepth 100000 in
theorem dJ18_compute_317 : decode cJ18_compute 317 = .ok (.istore 5, 2) := by decide +kernel
set_option maxRecDepth 100000 in
theorem dJ18_compute_319 : decode cJ18_compute 319 = .ok (.goto (-69), 3) := by decide +kernel
set_option maxRecDepth 100000 in
theorem dJ18_compute_322 : decode cJ18_compute 322 = .ok (.iload 4, 2) := by decide +kernel
set_option maxRecDepth 100000 in
theorem dJ18_compute_324 : decode cJ18_compute 324 = .ok (.istore 5, 2) := by decide +kernel
set_option maxRecDepth 100000 in
theorem dJ18_compute_326 : decode cJ18_compute 326 = .ok (.iload 5, 2) := by decide +kernel
set_option maxRecDepth 100000 in
theorem dJ18_compute_328 : decode cJ18_compute 328 = .ok (.ifCond .eq 132, 3) := by decide +kernel
set_option maxRecDepth 100000 in
theorem dJ18_compute_331 : decode cJ18_compute 331 = .ok (.iload 7, 2) := by decide +kernel
set_option maxRecDepth 100000 in
theorem dJ18_compute_333 : decode cJ18_compute 333 = .ok (.iload 5, 2) := by decide +kernel
set_option maxRecDepth 100000 in
theorem dJ18_compute_335 : decode cJ18_compute 335 = .ok (.iadd, 1) := by decide +kernel
set_option maxRecDepth 100000 in
theorem dJ18_compute_336 : decode cJ18_compute 336 = .ok (.istore 6, 2) := by decide +kernel
set_option maxRecDepth 100000 in
theorem dJ18_compute_338 : decode cJ18_compute 338 = .ok (.iload 11, 2) := by decide +kernel
set_option maxRecDepth 100000 in
theorem dJ18_compute_340 : decode cJ18_compute 340 = .ok (.istore 14, 2) := by decide +kernel
set_option maxRecDepth 100000 in
theorem dJ18_compute_342 : decode cJ18_compute 342 = .ok (.iload 14, 2) := by decide +kernel
set_option maxRecDepth 100000 in
theorem dJ18_compute_344 : decode cJ18_compute 344 = .ok (.iload 10, 2) := by decide +kernel
set_option maxRecDepth 100000 in
theorem dJ18_compute_346 : decode cJ18_compute 346 = .ok (.if_icmp .lt 20, 3) := by decide +kernel
set_option maxRecDepth 100000 in
theorem dJ18_compute_349 : decode cJ18_compute 349 = .ok (.iload 14, 2) := by decide +kernel
set_option maxRecDepth 100000 in
theorem dJ18_compute_351 : decode cJ18_compute 351 = .ok (.iload 10, 2) := by decide +kernel
set_option maxRecDepth 100000 in
theorem dJ18_compute_353 : decode cJ18_compute 353 = .ok (.if_icmp .ne 75, 3) := by decide +kernel
set_option maxRecDepth 100000 in
theorem dJ18_compute_356 : decode cJ18_compute 356 = .ok (.iload 6, 2) := by decide +kernel
set_option maxRecDepth 100000 in
theorem dJ18_compute_358 : decode cJ18_compute 358 = .ok (.iload 8, 2) := by decide +kernel
set_option maxRecDepth 100000 in
theorem dJ18_compute_360 : decode cJ18_compute 360 = .ok (.invokestatic 24, 3) := by decide +kernel
set_option maxRecDepth 100000 in
theorem dJ18_compute_363 : decode cJ18_compute 363 = .ok (.ifCond .gt 65, 3) := by decide +kernel
set_option maxRecDepth 100000 in
theorem dJ18_compute_366 : decode cJ18_compute 366 = .ok (.iload 6, 2) := by decide +kernel
set_option maxRecDepth 100000 in
theorem dJ18_compute_368 : decode cJ18_compute 368 = .ok (.iload 5, 2) := by decide +kernel
set_option maxRecDepth 100000 in
theorem dJ18_compute_370 : decode cJ18_compute 370 = .ok (.iadd, 1) := by decide +kernel
set_option maxRecDepth 100000 in
theorem dJ18_compute_371 : decode cJ18_compute 371 = .ok (.istore 7, 2) := by decide +kernel
set_option maxRecDepth 100000 in
theorem dJ18_compute_373 : decode cJ18_compute 373 = .ok (.iload 6, 2) := by decide +kernel
set_option maxRecDepth 100000 in
theorem dJ18_compute_375 : decode cJ18_compute 375 = .ok (.iload 4, 2) := by decide +kernel
set_option maxRecDepth 100000 in
theorem dJ18_compute_377 : decode cJ18_compute 377 = .ok (.iand, 1) := by decide +kernel
set_option maxRecDepth 100000 in
theorem dJ18_compute_378 : decode cJ18_compute 378 = .ok (.iload 4, 2) := by decide +kernel
set_option maxRecDepth 100000 in
theorem dJ18_compute_380 : decode cJ18_compute 380 = .ok (.if_icmp .ne 14, 3) := by decide +kernel
set_option maxRecDepth 100000 in
theorem dJ18_compute_383 : decode cJ18_compute 383 = .ok (.iload 7, 2) := by decide +kernel
set_option maxRecDepth 100000 in
theorem dJ18_compute_385 : decode cJ18_compute 385 = .ok (.iload 4, 2) := by decide +kernel
set_option maxRecDepth 100000 in
theorem dJ18_compute_387 : decode cJ18_compute 387 = .ok (.iand, 1) := by decide +kernel
set_option maxRecDepth 100000 in
theorem dJ18_compute_388 : decode cJ18_compute 388 = .ok (.ifCond .ne 6, 3) := by decide +kernel
set_option maxRecDepth 100000 in
theorem dJ18_compute_391 : decode cJ18_compute 391 = .ok (.iinc 11 1, 3) := by decide +kernel
set_option maxRecDepth 100000 in
theorem dJ18_compute_394 : decode cJ18_compute 394 = .ok (.iload 10, 2) := by decide +kernel
set_option maxRecDepth 100000 in
theorem dJ18_compute_396 : decode cJ18_compute 396 = .ok (.iload 14, 2) := by decide +kernel
set_option maxRecDepth 100000 in
theorem dJ18_compute_398 : decode cJ18_compute 398 = .ok (.isub, 1) := by decide +kernel
set_option maxRecDepth 100000 in
theorem dJ18_compute_399 : decode cJ18_compute 399 = .ok (.istore 10, 2) := by decide +kernel
set_option maxRecDepth 100000 in
theorem dJ18_compute_401 : decode cJ18_compute 401 = .ok (.iload 8, 2) := by decide +kernel
set_option maxRecDepth 100000 in
theorem dJ18_compute_403 : decode cJ18_compute 403 = .ok (.iload 6, 2) := by decide +kernel
set_option maxRecDepth 100000 in
theorem dJ18_compute_405 : decode cJ18_compute 405 = .ok (.invokestatic 24, 3) := by decide +kernel
set_option maxRecDepth 100000 in
theorem dJ18_compute_408 : decode cJ18_compute 408 = .ok (.ifCond .ge 6, 3) := by decide +kernel
set_option maxRecDepth 100000 in
theorem dJ18_compute_411 : decode cJ18_compute 411 = .ok (.iinc 10 (-1), 3) := by decide +kernel
set_option maxRecDepth 100000 in
theorem dJ18_compute_414 : decode cJ18_compute 414 = .ok (.iload 8, 2) := by decide +kernel
set_option maxRecDepth 100000 in
theorem dJ18_compute_416 : decode cJ18_compute 416 = .ok (.iload 6, 2) := by decide +kernel
set_option maxRecDepth 100000 in
theorem dJ18_compute_418 : decode cJ18_compute 418 = .ok (.isub, 1) := by decide +kernel
set_option maxRecDepth 100000 in
theorem dJ18_compute_419 : decode cJ18_compute 419 = .ok (.istore 8, 2) := by decide +kernel
set_option maxRecDepth 100000 in
theorem dJ18_compute_421 : decode cJ18_compute 421 = .ok (.iload 9, 2) := by decide +kernel
set_option maxRecDepth 100000 in
theorem dJ18_compute_423 : decode cJ18_compute 423 = .ok (.iload 5, 2) := by decide +kernel
set_option maxRecDepth 100000 in
theorem dJ18_compute_425 : decode cJ18_compute 425 = .ok (.iadd, 1) := by decide +kernel
set_option maxRecDepth 100000 in
theorem dJ18_compute_426 : decode cJ18_compute 426 = .ok (.istore 9, 2) := by decide +kernel
set_option maxRecDepth 100000 in
theorem dJ18_compute_428 : decode cJ18_compute 428 = .ok (.iload 10, 2) := by decide +kernel
set_option maxRecDepth 100000 in
theorem dJ18_compute_430 : decode cJ18_compute 430 = .ok (.iload 10, 2) := by decide +kernel
set_option maxRecDepth 100000 in
theorem dJ18_compute_432 : decode cJ18_compute 432 = .ok (.iload 8, 2) := by decide +kernel
set_option maxRecDepth 100000 in
theorem dJ18_compute_434 : decode cJ18_compute 434 = .ok (.iload 4, 2) := by decide +kernel
set_option maxRecDepth 100000 in
theorem dJ18_compute_436 : decode cJ18_compute 436 = .ok (.iand, 1) := by decide +kernel
set_option maxRecDepth 100000 in
theorem dJ18_compute_437 : decode cJ18_compute 437 = .ok (.bipush 31, 2) := by decide +kernel
set_option maxRecDepth 100000 in
theorem dJ18_compute_439 : decode cJ18_compute 439 = .ok (.iushr, 1) := by decide +kernel
set_option maxRecDepth 100000 in
theorem dJ18_compute_440 : decode cJ18_compute 440 = .ok (.iadd, 1) := by decide +kernel
set_option maxRecDepth 100000 in
theorem dJ18_compute_441 : decode cJ18_compute 441 = .ok (.iadd, 1) := by decide +kernel
set_option maxRecDepth 100000 in
theorem dJ18_compute_442 : decode cJ18_compute 442 = .ok (.istore 10, 2) := by decide +kernel
set_option maxRecDepth 100000 in
theorem dJ18_compute_444 : decode cJ18_compute 444 = .ok (.iload 8, 2) := by decide +kernel
set_option maxRecDepth 100000 in
theorem dJ18_compute_446 : decode cJ18_compute 446 = .ok (.iload 8, 2) := by decide +kernel
set_option maxRecDepth 100000 in
theorem dJ18_compute_448 : decode cJ18_compute 448 = .ok (.iadd, 1) := by decide +kernel
set_option maxRecDepth 100000 in
theorem dJ18_compute_449 : decode cJ18_compute 449 = .ok (.istore 8, 2) := by decide +kernel
set_option maxRecDepth 100000 in
theorem dJ18_compute_451 : decode cJ18_compute 451 = .ok (.iload 5, 2) := by decide +kernel
set_option maxRecDepth 100000 in
theorem dJ18_compute_453 : decode cJ18_compute 453 = .ok (.iconst 1, 1) := by decide +kernel
set_option maxRecDepth 100000 in
theorem dJ18_compute_454 : decode cJ18_compute 454 = .ok (.iushr, 1) := by decide +kernel
set_option maxRecDepth 100000 in
theorem dJ18_compute_455 : decode cJ18_compute 455 = .ok (.istore 5, 2) := by decide +kernel
set_option maxRecDepth 100000 in
theorem dJ18_compute_457 : decode cJ18_compute 457 = .ok (.goto (-131), 3) := by decide +kernel
set_option maxRecDepth 100000 in
theorem dJ18_compute_460 : decode cJ18_compute 460 = .ok (.iload 10, 2) := by decide +kernel
set_option maxRecDepth 100000 in
theorem dJ18_compute_462 : decode cJ18_compute 462 = .ok (.iload 8, 2) := by decide +kernel
set_option maxRecDepth 100000 in
theorem dJ18_compute_464 : decode cJ18_compute 464 = .ok (.ior, 1) := by decide +kernel
set_option maxRecDepth 100000 in
theorem dJ18_compute_465 : decode cJ18_compute 465 = .ok (.ifCond .eq 59, 3) := by decide +kernel
set_option maxRecDepth 100000 in
theorem dJ18_compute_468 : decode cJ18_compute 468 = .ok (.dconst 1, 1) := by decide +kernel
set_option maxRecDepth 100000 in
theorem dJ18_compute_469 : decode cJ18_compute 469 = .ok (.dstore_n 2, 1) := by decide +kernel
set_option maxRecDepth 100000 in
theorem dJ18_compute_470 : decode cJ18_compute 470 = .ok (.dload_n 2, 1) := by decide +kernel
set_option maxRecDepth 100000 in
theorem dJ18_compute_471 : decode cJ18_compute 471 = .ok (.dconst 1, 1) := by decide +kernel
set_option maxRecDepth 100000 in
theorem dJ18_compute_472 : decode cJ18_compute 472 = .ok (.dcmp .l, 1) := by decide +kernel
set_option maxRecDepth 100000 in
theorem dJ18_compute_473 : decode cJ18_compute 473 = .ok (.ifCond .lt 51, 3) := by decide +kernel
set_option maxRecDepth 100000 in
theorem dJ18_compute_476 : decode cJ18_compute 476 = .ok (.dconst 1, 1) := by decide +kernel
set_option maxRecDepth 100000 in
theorem dJ18_compute_477 : decode cJ18_compute 477 = .ok (.dstore_n 2, 1) := by decide +kernel
set_option maxRecDepth 100000 in
theorem dJ18_compute_478 : decode cJ18_compute 478 = .ok (.iload 9, 2) := by decide +kernel
set_option maxRecDepth 100000 in
theorem dJ18_compute_480 : decode cJ18_compute 480 = .ok (.iconst (-1), 1) := by decide +kernel
set_option maxRecDepth 100000 in
theorem dJ18_compute_481 : decode cJ18_compute 481 = .ok (.if_icmp .ne 12, 3) := by decide +kernel
set_option maxRecDepth 100000 in
theorem dJ18_compute_484 : decode cJ18_compute 484 = .ok (.iconst 0, 1) := by decide +kernel
set_option maxRecDepth 100000 in
theorem dJ18_compute_485 : decode cJ18_compute 485 = .ok (.istore 9, 2) := by decide +kernel
set_option maxRecDepth 100000 in
theorem dJ18_compute_487 : decode cJ18_compute 487 = .ok (.iinc 12 1, 3) := by decide +kernel
set_option maxRecDepth 100000 in
theorem dJ18_compute_490 : decode cJ18_compute 490 = .ok (.goto 34, 3) := by decide +kernel
set_option maxRecDepth 100000 in
theorem dJ18_compute_493 : decode cJ18_compute 493 = .ok (.dload_n 2, 1) := by decide +kernel
set_option maxRecDepth 100000 in
theorem dJ18_compute_494 : decode cJ18_compute 494 = .ok (.dconst 1, 1) := by decide +kernel
set_option maxRecDepth 100000 in
theorem dJ18_compute_495 : decode cJ18_compute 495 = .ok (.dcmp .l, 1) := by decide +kernel
set_option maxRecDepth 100000 in
theorem dJ18_compute_496 : decode cJ18_compute 496 = .ok (.ifCond .le 19, 3) := by decide +kernel
set_option maxRecDepth 100000 in
theorem dJ18_compute_499 : decode cJ18_compute 499 = .ok (.iload 9, 2) := by decide +kernel
set_option maxRecDepth 100000 in
theorem dJ18_compute_501 : decode cJ18_compute 501 = .ok (.bipush (-2), 2) := by decide +kernel
set_option maxRecDepth 100000 in
theorem dJ18_compute_503 : decode cJ18_compute 503 = .ok (.if_icmp .ne 6, 3) := by decide +kernel
set_option maxRecDepth 100000 in
theorem dJ18_compute_506 : decode cJ18_compute 506 = .ok (.iinc 12 1, 3) := by decide +kernel
set_option maxRecDepth 100000 in
theorem dJ18_compute_509 : decode cJ18_compute 509 = .ok (.iinc 9 2, 3) := by decide +kernel
set_option maxRecDepth 100000 in
theorem dJ18_compute_512 : decode cJ18_compute 512 = .ok (.goto 12, 3) := by decide +kernel
set_option maxRecDepth 100000 in
theorem dJ18_compute_515 : decode cJ18_compute 515 = .ok (.iload 9, 2) := by decide +kernel
set_option maxRecDepth 100000 in
theorem dJ18_compute_517 : decode cJ18_compute 517 = .ok (.iload 9, 2) := by decide +kernel
set_option maxRecDepth 100000 in
theorem dJ18_compute_519 : decode cJ18_compute 519 = .ok (.iconst 1, 1) := by decide +kernel
set_option maxRecDepth 100000 in
theorem dJ18_compute_520 : decode cJ18_compute 520 = .ok (.iand, 1) := by decide +kernel
set_option maxRecDepth 100000 in
theorem dJ18_compute_521 : decode cJ18_compute 521 = .ok (.iadd, 1) := by decide +kernel
set_option maxRecDepth 100000 in
theorem dJ18_compute_522 : decode cJ18_compute 522 = .ok (.istore 9, 2) := by decide +kernel
set_option maxRecDepth 100000 in
theorem dJ18_compute_524 : decode cJ18_compute 524 = .ok (.iload 12, 2) := by decide +kernel
set_option maxRecDepth 100000 in
theorem dJ18_compute_526 : decode cJ18_compute 526 = .ok (.iconst 1, 1) := by decide +kernel
set_option maxRecDepth 100000 in
theorem dJ18_compute_527 : decode cJ18_compute 527 = .ok (.ishr, 1) := by decide +kernel
set_option maxRecDepth 100000 in
theorem dJ18_compute_528 : decode cJ18_compute 528 = .ok (.ldc 32, 2) := by decide +kernel
set_option maxRecDepth 100000 in
theorem dJ18_compute_530 : decode cJ18_compute 530 = .ok (.iadd, 1) := by decide +kernel
set_option maxRecDepth 100000 in
theorem dJ18_compute_531 : decode cJ18_compute 531 = .ok (.istore 10, 2) := by decide +kernel
set_option maxRecDepth 100000 in
theorem dJ18_compute_533 : decode cJ18_compute 533 = .ok (.iload 9, 2) := by decide +kernel
set_option maxRecDepth 100000 in
theorem dJ18_compute_535 : decode cJ18_compute 535 = .ok (.iconst 1, 1) := by decide +kernel
set_option maxRecDepth 100000 in
theorem dJ18_compute_536 : decode cJ18_compute 536 = .ok (.iushr, 1) := by decide +kernel
set_option maxRecDepth 100000 in
theorem dJ18_compute_537 : decode cJ18_compute 537 = .ok (.istore 8, 2) := by decide +kernel
set_option maxRecDepth 100000 in
theorem dJ18_compute_539 : decode cJ18_compute 539 = .ok (.iload 12, 2) := by decide +kernel
set_option maxRecDepth 100000 in
theorem dJ18_compute_541 : decode cJ18_compute 541 = .ok (.iconst 1, 1) := by decide +kernel
set_option maxRecDepth 100000 in
theorem dJ18_compute_542 : decode cJ18_compute 542 = .ok (.iand, 1) := by decide +kernel
set_option maxRecDepth 100000 in
theorem dJ18_compute_543 : decode cJ18_compute 543 = .ok (.iconst 1, 1) := by decide +kernel
set_option maxRecDepth 100000 in
theorem dJ18_compute_544 : decode cJ18_compute 544 = .ok (.if_icmp .ne 10, 3) := by decide +kernel
set_option maxRecDepth 100000 in
theorem dJ18_compute_547 : decode cJ18_compute 547 = .ok (.iload 8, 2) := by decide +kernel
set_option maxRecDepth 100000 in
theorem dJ18_compute_549 : decode cJ18_compute 549 = .ok (.iload 4, 2) := by decide +kernel
set_option maxRecDepth 100000 in
theorem dJ18_compute_551 : decode cJ18_compute 551 = .ok (.ior, 1) := by decide +kernel
set_option maxRecDepth 100000 in
theorem dJ18_compute_552 : decode cJ18_compute 552 = .ok (.istore 8, 2) := by decide +kernel
set_option maxRecDepth 100000 in
theorem dJ18_compute_554 : decode cJ18_compute 554 = .ok (.iload 10, 2) := by decide +kernel
set_option maxRecDepth 100000 in
theorem dJ18_compute_556 : decode cJ18_compute 556 = .ok (.iload 13, 2) := by decide +kernel
set_option maxRecDepth 100000 in
theorem dJ18_compute_558 : decode cJ18_compute 558 = .ok (.bipush 20, 2) := by decide +kernel
set_option maxRecDepth 100000 in
theorem dJ18_compute_560 : decode cJ18_compute 560 = .ok (.ishl, 1) := by decide +kernel
set_option maxRecDepth 100000 in
theorem dJ18_compute_561 : decode cJ18_compute 561 = .ok (.iadd, 1) := by decide +kernel
set_option maxRecDepth 100000 in
theorem dJ18_compute_562 : decode cJ18_compute 562 = .ok (.istore 10, 2) := by decide +kernel
set_option maxRecDepth 100000 in
theorem dJ18_compute_564 : decode cJ18_compute 564 = .ok (.iload 10, 2) := by decide +kernel
set_option maxRecDepth 100000 in
theorem dJ18_compute_566 : decode cJ18_compute 566 = .ok (.iload 8, 2) := by decide +kernel
set_option maxRecDepth 100000 in
theorem dJ18_compute_568 : decode cJ18_compute 568 = .ok (.invokestatic 33, 3) := by decide +kernel
set_option maxRecDepth 100000 in
theorem dJ18_compute_571 : decode cJ18_compute 571 = .ok (.dreturn, 1) := by decide +kernel
def lJ18_compute_79 (G : xG) (fr lo : Nat) (x4 : Int32) (x8 : Int32) (x10 : Int32) (x13 : Int32) (h : xH) (Q : Outcome → xH → Prop) : Prop := xP G YJ18_compute fr lo 79 [(4, .int x4), (8, .int x8), (10, .int x10), (13, .int x13)] [] h Q
def lJ18_compute_110 (G : xG) (fr lo : Nat) (x4 : Int32) (x8 : Int32) (x10 : Int32) (x13 : Int32) (x15 : Int32) (h : xH) (Q : Outcome → xH → Prop) : Prop := xP G YJ18_compute fr lo 110 [(4, .int x4), (8, .int x8), (10, .int x10), (13, .int x13), (15, .int x15)] [] h Q
def lJ18_compute_250 (G : xG) (fr lo : Nat) (x4 : Int32) (x5 : Int32) (x7 : Int32) (x8 : Int32) (x9 : Int32) (x10 : Int32) (x11 : Int32) (x12 : Int32) (x13 : Int32) (h : xH) (Q : Outcome → xH → Prop) : Prop := xP G YJ18_compute fr lo 250 [(4, .int x4), (5, .int x5), (7, .int x7), (8, .int x8), (9, .int x9), (10, .int x10), (11, .int x11), (12, .int x12), (13, .int x13)] [] h Q
def lJ18_compute_326 (G : xG) (fr lo : Nat) (x4 : Int32) (x5 : Int32) (x7 : Int32) (x8 : Int32) (x9 : Int32) (x10 : Int32) (x11 : Int32) (x12 : Int32) (x13 : Int32) (h : xH) (Q : Outcome → xH → Prop) : Prop := xP G YJ18_compute fr lo 326 [(4, .int x4), (5, .int x5), (7, .int x7), (8, .int x8), (9, .int x9), (10, .int x10), (11, .int x11), (12, .int x12), (13, .int x13)] [] h Q
set_option maxRecDepth 100000 in
def bJ18_compute_554 (G : xG) (fr lo : Nat) (x8 : Int32) (x10 : Int32) (x13 : Int32) (h : xH) (Q : Outcome → xH → Prop) : Prop := 1 ≤ fr ∧ 13 ≤ lo ∧ xRd G YJ19___HI_LO (fr - 1) (lo - 13) [.int (x10 + (x13 <<< (20 &&& 31))), .int x8] h (fun x4 h3 => xext h h3 → Q (.returned (some (.double x4))) h3) (fun r h2 => Q (.threw r) h2)
set_option maxRecDepth 100000 in
theorem uJ18_compute_554 {G : xG} {fr lo : Nat} {x8 : Int32} {x10 : Int32} {x13 : Int32} {h : xH} {Q : Outcome → xH → Prop} (hq : bJ18_compute_554 G fr lo x8 x10 x13 h Q) : xP G YJ18_compute fr lo 554 [(8, .int x8), (10, .int x10), (13, .int x13)] [] h Q := by
  unfold bJ18_compute_554 at hq
  refine x_iload 1 dJ18_compute_554 rfl ?_
  refine x_iload 2 dJ18_compute_556 rfl ?_
  refine x_bipush (v := 20) dJ18_compute_558 (by decide) ?_
  refine x_ishl dJ18_compute_560 ?_
  refine x_iadd dJ18_compute_561 ?_
  refine x_istore (lv' := [(10, .int (x10 + (x13 <<< (20 &&& 31)))), (8, .int x8), (13, .int x13)]) dJ18_compute_562 (by decide) rfl ?_
  refine x_iload 0 dJ18_compute_564 rfl ?_
  refine x_iload 1 dJ18_compute_566 rfl ?_
  obtain ⟨g1, g2, hq⟩ := hq
  refine x_callSN (Yc := YJ19___HI_LO) (as := [.int (x10 + (x13 <<< (20 &&& 31))), .int x8]) (st := []) (List.mem_filter.mpr ⟨q3061, rfl⟩) msJ19___HI_LO rfl dJ18_compute_568 (xle (xal1 rfl (xal1 rfl xal0)) (by decide)) (xfr g1) (xlo xsw0 (by decide) g2) (xKd hq (fun x4 h3 hq e5 => ?_) (fun _ _ q _ => q))
  replace hq := hq e5
  exact x_dret rfl dJ18_compute_571 hq
set_option maxRecDepth 100000 in
def bJ18_compute_524 (G : xG) (fr lo : Nat) (x4 : Int32) (x9 : Int32) (x12 : Int32) (x13 : Int32) (h : xH) (Q : Outcome → xH → Prop) : Prop := ((¬ (x12 &&& 1) = 1 → bJ18_compute_554 G fr lo ((Int32.toUInt32 x9 >>> (Int32.toUInt32 1 &&& Int32.toUInt32 31)).toInt32) ((x12 >>> (1 &&& 31)) + 1071644672) x13 h Q) ∧ ((x12 &&& 1) = 1 → bJ18_compute_554 G fr lo (((Int32.toUInt32 x9 >>> (Int32.toUInt32 1 &&& Int32.toUInt32 31)).toInt32) ||| x4) ((x12 >>> (1 &&& 31)) + 1071644672) x13 h Q))
set_option maxRecDepth 100000 in
theorem uJ18_compute_524 {G : xG} {fr lo : Nat} {x4 : Int32} {x9 : Int32} {x12 : Int32} {x13 : Int32} {h : xH} {Q : Outcome → xH → Prop} (hq : bJ18_compute_524 G fr lo x4 x9 x12 x13 h Q) : xP G YJ18_compute fr lo 524 [(4, .int x4), (9, .int x9), (12, .int x12), (13, .int x13)] [] h Q := by
  unfold bJ18_compute_524 at hq
  refine x_iload 2 dJ18_compute_524 rfl ?_
  refine x_iconst (v := 1) dJ18_compute_526 (by decide) ?_
  refine x_ishr dJ18_compute_527 ?_
  refine x_ldc (v := 1071644672) q3060 dJ18_compute_528 ?_
  refine x_iadd dJ18_compute_530 ?_
  refine x_istore (lv' := [(10, .int ((x12 >>> (1 &&& 31)) + 1071644672)), (4, .int x4), (9, .int x9), (12, .int x12), (13, .int x13)]) dJ18_compute_531 (by decide) rfl ?_
  refine x_iload 2 dJ18_compute_533 rfl ?_
  refine x_iconst (v := 1) dJ18_compute_535 (by decide) ?_
  refine x_iushr dJ18_compute_536 ?_
  refine x_istore (lv' := [(8, .int ((Int32.toUInt32 x9 >>> (Int32.toUInt32 1 &&& Int32.toUInt32 31)).toInt32)), (10, .int ((x12 >>> (1 &&& 31)) + 1071644672)), (4, .int x4), (9, .int x9), (12, .int x12), (13, .int x13)]) dJ18_compute_537 (by decide) rfl ?_
  refine x_iload 4 dJ18_compute_539 rfl ?_
  refine x_iconst (v := 1) dJ18_compute_541 (by decide) ?_
  refine x_iand dJ18_compute_542 ?_
  refine x_iconst (v := 1) dJ18_compute_543 (by decide) ?_
  refine x_icmp_ne (tgt := 554) dJ18_compute_544 (by decide) (fun c1 => ?_) (fun c1 => ?_)
  · replace hq := hq.1 c1
    refine xP.pick (lv' := [(8, .int ((Int32.toUInt32 x9 >>> (Int32.toUInt32 1 &&& Int32.toUInt32 31)).toInt32)), (10, .int ((x12 >>> (1 &&& 31)) + 1071644672)), (13, .int x13)]) [0, 1, 5] rfl ?_
    exact uJ18_compute_554 hq
  · replace hq := hq.2 c1
    refine x_iload 0 dJ18_compute_547 rfl ?_
    refine x_iload 2 dJ18_compute_549 rfl ?_
    refine x_ior dJ18_compute_551 ?_
    refine x_istore (lv' := [(8, .int (((Int32.toUInt32 x9 >>> (Int32.toUInt32 1 &&& Int32.toUInt32 31)).toInt32) ||| x4)), (10, .int ((x12 >>> (1 &&& 31)) + 1071644672)), (4, .int x4), (9, .int x9), (12, .int x12), (13, .int x13)]) dJ18_compute_552 (by decide) rfl ?_
    refine xP.pick (lv' := [(8, .int (((Int32.toUInt32 x9 >>> (Int32.toUInt32 1 &&& Int32.toUInt32 31)).toInt32) ||| x4)), (10, .int ((x12 >>> (1 &&& 31)) + 1071644672)), (13, .int x13)]) [0, 1, 5] rfl ?_
    exact uJ18_compute_554 hq
set_option maxRecDepth 100000 in
def bJ18_compute_509 (G : xG) (fr lo : Nat) (x4 : Int32) (x9 : Int32) (x12 : Int32) (x13 : Int32) (h : xH) (Q : Outcome → xH → Prop) : Prop := bJ18_compute_524 G fr lo x4 (x9 + 2) x12 x13 h Q
set_option maxRecDepth 100000 in
theorem uJ18_compute_509 {G : xG} {fr lo : Nat} {x4 : Int32} {x9 : Int32} {x12 : Int32} {x13 : Int32} {h : xH} {Q : Outcome → xH → Prop} (hq : bJ18_compute_509 G fr lo x4 x9 x12 x13 h Q) : xP G YJ18_compute fr lo 509 [(4, .int x4), (9, .int x9), (12, .int x12), (13, .int x13)] [] h Q := by
  unfold bJ18_compute_509 at hq
  refine x_iinc (lv' := [(9, .int (x9 + 2)), (4, .int x4), (12, .int x12), (13, .int x13)]) 1 dJ18_compute_509 rfl (by decide) rfl ?_
  refine x_goto (tgt := 524) dJ18_compute_512 (by decide) ?_
  refine xP.pick (lv' := [(4, .int x4), (9, .int (x9 + 2)), (12, .int x12), (13, .int x13)]) [1, 0, 2, 3] rfl ?_
  exact uJ18_compute_524 hq
set_option maxRecDepth 100000 in
def bJ18_compute_428 (G : xG) (fr lo : Nat) (x4 : Int32) (x5 : Int32) (x7 : Int32) (x8 : Int32) (x9 : Int32) (x10 : Int32) (x11 : Int32) (x12 : Int32) (x13 : Int32) (h : xH) (Q : Outcome → xH → Prop) : Prop := lJ18_compute_326 G fr lo x4 ((Int32.toUInt32 x5 >>> (Int32.toUInt32 1 &&& Int32.toUInt32 31)).toInt32) x7 (x8 + x8) x9 (x10 + (x10 + ((Int32.toUInt32 (x8 &&& x4) >>> (Int32.toUInt32 31 &&& Int32.toUInt32 31)).toInt32))) x11 x12 x13 h Q
set_option maxRecDepth 100000 in
theorem uJ18_compute_428 {G : xG} {fr lo : Nat} {x4 : Int32} {x5 : Int32} {x7 : Int32} {x8 : Int32} {x9 : Int32} {x10 : Int32} {x11 : Int32} {x12 : Int32} {x13 : Int32} {h : xH} {Q : Outcome → xH → Prop} (hq : bJ18_compute_428 G fr lo x4 x5 x7 x8 x9 x10 x11 x12 x13 h Q) : xP G YJ18_compute fr lo 428 [(4, .int x4), (5, .int x5), (7, .int x7), (8, .int x8), (9, .int x9), (10, .int x10), (11, .int x11), (12, .int x12), (13, .int x13)] [] h Q := by
  unfold bJ18_compute_428 at hq
  refine x_iload 5 dJ18_compute_428 rfl ?_
  refine x_iload 5 dJ18_compute_430 rfl ?_
  refine x_iload 3 dJ18_compute_432 rfl ?_
  refine x_iload 0 dJ18_compute_434 rfl ?_
  refine x_iand dJ18_compute_436 ?_
  refine x_bipush (v := 31) dJ18_compute_437 (by decide) ?_
  refine x_iushr dJ18_compute_439 ?_
  refine x_iadd dJ18_compute_440 ?_
  refine x_iadd dJ18_compute_441 ?_
  refine x_istore (lv' := [(10, .int (x10 + (x10 + ((Int32.toUInt32 (x8 &&& x4) >>> (Int32.toUInt32 31 &&& Int32.toUInt32 31)).toInt32)))), (4, .int x4), (5, .int x5), (7, .int x7), (8, .int x8), (9, .int x9), (11, .int x11), (12, .int x12), (13, .int x13)]) dJ18_compute_442 (by decide) rfl ?_
  refine x_iload 4 dJ18_compute_444 rfl ?_
  refine x_iload 4 dJ18_compute_446 rfl ?_
  refine x_iadd dJ18_compute_448 ?_
  refine x_istore (lv' := [(8, .int (x8 + x8)), (10, .int (x10 + (x10 + ((Int32.toUInt32 (x8 &&& x4) >>> (Int32.toUInt32 31 &&& Int32.toUInt32 31)).toInt32)))), (4, .int x4), (5, .int x5), (7, .int x7), (9, .int x9), (11, .int x11), (12, .int x12), (13, .int x13)]) dJ18_compute_449 (by decide) rfl ?_
  refine x_iload 3 dJ18_compute_451 rfl ?_
  refine x_iconst (v := 1) dJ18_compute_453 (by decide) ?_
  refine x_iushr dJ18_compute_454 ?_
  refine x_istore (lv' := [(5, .int ((Int32.toUInt32 x5 >>> (Int32.toUInt32 1 &&& Int32.toUInt32 31)).toInt32)), (8, .int (x8 + x8)), (10, .int (x10 + (x10 + ((Int32.toUInt32 (x8 &&& x4) >>> (Int32.toUInt32 31 &&& Int32.toUInt32 31)).toInt32)))), (4, .int x4), (7, .int x7), (9, .int x9), (11, .int x11), (12, .int x12), (13, .int x13)]) dJ18_compute_455 (by decide) rfl ?_
  refine x_goto (tgt := 326) dJ18_compute_457 (by decide) ?_
  refine xP.pick (lv' := [(4, .int x4), (5, .int ((Int32.toUInt32 x5 >>> (Int32.toUInt32 1 &&& Int32.toUInt32 31)).toInt32)), (7, .int x7), (8, .int (x8 + x8)), (9, .int x9), (10, .int (x10 + (x10 + ((Int32.toUInt32 (x8 &&& x4) >>> (Int32.toUInt32 31 &&& Int32.toUInt32 31)).toInt32)))), (11, .int x11), (12, .int x12), (13, .int x13)]) [3, 0, 4, 1, 5, 2, 6, 7, 8] rfl ?_
  exact hq
set_option maxRecDepth 100000 in
def bJ18_compute_414 (G : xG) (fr lo : Nat) (x4 : Int32) (x5 : Int32) (x6 : Int32) (x7 : Int32) (x8 : Int32) (x9 : Int32) (x10 : Int32) (x11 : Int32) (x12 : Int32) (x13 : Int32) (h : xH) (Q : Outcome → xH → Prop) : Prop := bJ18_compute_428 G fr lo x4 x5 x7 (x8 - x6) (x9 + x5) x10 x11 x12 x13 h Q
set_option maxRecDepth 100000 in
theorem uJ18_compute_414 {G : xG} {fr lo : Nat} {x4 : Int32} {x5 : Int32} {x6 : Int32} {x7 : Int32} {x8 : Int32} {x9 : Int32} {x10 : Int32} {x11 : Int32} {x12 : Int32} {x13 : Int32} {h : xH} {Q : Outcome → xH → Prop} (hq : bJ18_compute_414 G fr lo x4 x5 x6 x7 x8 x9 x10 x11 x12 x13 h Q) : xP G YJ18_compute fr lo 414 [(4, .int x4), (5, .int x5), (6, .int x6), (7, .int x7), (8, .int x8), (9, .int x9), (10, .int x10), (11, .int x11), (12, .int x12), (13, .int x13)] [] h Q := by
  unfold bJ18_compute_414 at hq
  refine x_iload 4 dJ18_compute_414 rfl ?_
  refine x_iload 2 dJ18_compute_416 rfl ?_
  refine x_isub dJ18_compute_418 ?_
  refine x_istore (lv' := [(8, .int (x8 - x6)), (4, .int x4), (5, .int x5), (6, .int x6), (7, .int x7), (9, .int x9), (10, .int x10), (11, .int x11), (12, .int x12), (13, .int x13)]) dJ18_compute_419 (by decide) rfl ?_
  refine x_iload 5 dJ18_compute_421 rfl ?_
  refine x_iload 2 dJ18_compute_423 rfl ?_
  refine x_iadd dJ18_compute_425 ?_
  refine x_istore (lv' := [(9, .int (x9 + x5)), (8, .int (x8 - x6)), (4, .int x4), (5, .int x5), (6, .int x6), (7, .int x7), (10, .int x10), (11, .int x11), (12, .int x12), (13, .int x13)]) dJ18_compute_426 (by decide) rfl ?_
  refine xP.pick (lv' := [(4, .int x4), (5, .int x5), (7, .int x7), (8, .int (x8 - x6)), (9, .int (x9 + x5)), (10, .int x10), (11, .int x11), (12, .int x12), (13, .int x13)]) [2, 3, 5, 1, 0, 6, 7, 8, 9] rfl ?_
  exact uJ18_compute_428 hq
set_option maxRecDepth 100000 in
def bJ18_compute_394 (G : xG) (fr lo : Nat) (x4 : Int32) (x5 : Int32) (x6 : Int32) (x7 : Int32) (x8 : Int32) (x9 : Int32) (x10 : Int32) (x11 : Int32) (x12 : Int32) (x13 : Int32) (x14 : Int32) (h : xH) (Q : Outcome → xH → Prop) : Prop := 1 ≤ fr ∧ 13 ≤ lo ∧ xRi G YJ21_compareUnsigned (fr - 1) (lo - 13) [.int x8, .int x6] h (fun x4 h3 => xext h h3 → ((0 ≤ x4 → bJ18_compute_414 G fr lo x4 x5 x6 x7 x8 x9 (x10 - x14) x11 x12 x13 h3 Q) ∧ (¬ 0 ≤ x4 → bJ18_compute_414 G fr lo x4 x5 x6 x7 x8 x9 ((x10 - x14) + (-1)) x11 x12 x13 h3 Q))) (fun r h2 => Q (.threw r) h2)
set_option maxRecDepth 100000 in
theorem uJ18_compute_394 {G : xG} {fr lo : Nat} {x4 : Int32} {x5 : Int32} {x6 : Int32} {x7 : Int32} {x8 : Int32} {x9 : Int32} {x10 : Int32} {x11 : Int32} {x12 : Int32} {x13 : Int32} {x14 : Int32} {h : xH} {Q : Outcome → xH → Prop} (hq : bJ18_compute_394 G fr lo x4 x5 x6 x7 x8 x9 x10 x11 x12 x13 x14 h Q) : xP G YJ18_compute fr lo 394 [(4, .int x4), (5, .int x5), (6, .int x6), (7, .int x7), (8, .int x8), (9, .int x9), (10, .int x10), (11, .int x11), (12, .int x12), (13, .int x13), (14, .int x14)] [] h Q := by
  unfold bJ18_compute_394 at hq
  refine x_iload 6 dJ18_compute_394 rfl ?_
  refine x_iload 10 dJ18_compute_396 rfl ?_
  refine x_isub dJ18_compute_398 ?_
  refine x_istore (lv' := [(10, .int (x10 - x14)), (4, .int x4), (5, .int x5), (6, .int x6), (7, .int x7), (8, .int x8), (9, .int x9), (11, .int x11), (12, .int x12), (13, .int x13), (14, .int x14)]) dJ18_compute_399 (by decide) rfl ?_
  refine x_iload 5 dJ18_compute_401 rfl ?_
  refine x_iload 3 dJ18_compute_403 rfl ?_
  obtain ⟨g1, g2, hq⟩ := hq
  refine x_callS (Yc := YJ21_compareUnsigned) (as := [.int x8, .int x6]) (st := []) q3053 msJ21_compareUnsigned rfl dJ18_compute_405 (xle (xal1 rfl (xal1 rfl xal0)) (by decide)) (xfr g1) (xlo xsw0 (by decide) g2) (xKi hq (fun x4 h3 hq e5 => ?_) (fun _ _ q _ => q))
  replace hq := hq e5
  refine x_if_ge (tgt := 414) dJ18_compute_408 (by decide) (fun c6 => ?_) (fun c6 => ?_)
  · replace hq := hq.1 c6
    refine xP.pick (lv' := [(4, .int x4), (5, .int x5), (6, .int x6), (7, .int x7), (8, .int x8), (9, .int x9), (10, .int (x10 - x14)), (11, .int x11), (12, .int x12), (13, .int x13)]) [1, 2, 3, 4, 5, 6, 0, 7, 8, 9] rfl ?_
    exact uJ18_compute_414 hq
  · replace hq := hq.2 c6
    refine x_iinc (lv' := [(10, .int ((x10 - x14) + (-1))), (4, .int x4), (5, .int x5), (6, .int x6), (7, .int x7), (8, .int x8), (9, .int x9), (11, .int x11), (12, .int x12), (13, .int x13), (14, .int x14)]) 0 dJ18_compute_411 rfl (by decide) rfl ?_
    refine xP.pick (lv' := [(4, .int x4), (5, .int x5), (6, .int x6), (7, .int x7), (8, .int x8), (9, .int x9), (10, .int ((x10 - x14) + (-1))), (11, .int x11), (12, .int x12), (13, .int x13)]) [1, 2, 3, 4, 5, 6, 0, 7, 8, 9] rfl ?_
    exact uJ18_compute_414 hq
set_option maxRecDepth 100000 in
def bJ18_compute_366 (G : xG) (fr lo : Nat) (x4 : Int32) (x5 : Int32) (x6 : Int32) (x8 : Int32) (x9 : Int32) (x10 : Int32) (x11 : Int32) (x12 : Int32) (x13 : Int32) (x14 : Int32) (h : xH) (Q : Outcome → xH → Prop) : Prop := ((¬ (x6 &&& x4) = x4 → bJ18_compute_394 G fr lo x4 x5 x6 (x6 + x5) x8 x9 x10 x11 x12 x13 x14 h Q) ∧ ((x6 &&& x4) = x4 → ((¬ ((x6 + x5) &&& x4) = 0 → bJ18_compute_394 G fr lo x4 x5 x6 (x6 + x5) x8 x9 x10 x11 x12 x13 x14 h Q) ∧ (((x6 + x5) &&& x4) = 0 → bJ18_compute_394 G fr lo x4 x5 x6 (x6 + x5) x8 x9 x10 (x11 + 1) x12 x13 x14 h Q))))
set_option maxRecDepth 100000 in
theorem uJ18_compute_366 {G : xG} {fr lo : Nat} {x4 : Int32} {x5 : Int32} {x6 : Int32} {x8 : Int32} {x9 : Int32} {x10 : Int32} {x11 : Int32} {x12 : Int32} {x13 : Int32} {x14 : Int32} {h : xH} {Q : Outcome → xH → Prop} (hq : bJ18_compute_366 G fr lo x4 x5 x6 x8 x9 x10 x11 x12 x13 x14 h Q) : xP G YJ18_compute fr lo 366 [(4, .int x4), (5, .int x5), (6, .int x6), (8, .int x8), (9, .int x9), (10, .int x10), (11, .int x11), (12, .int x12), (13, .int x13), (14, .int x14)] [] h Q := by
  unfold bJ18_compute_366 at hq
  refine x_iload 2 dJ18_compute_366 rfl ?_
  refine x_iload 1 dJ18_compute_368 rfl ?_
  refine x_iadd dJ18_compute_370 ?_
  refine x_istore (lv' := [(7, .int (x6 + x5)), (4, .int x4), (5, .int x5), (6, .int x6), (8, .int x8), (9, .int x9), (10, .int x10), (11, .int x11), (12, .int x12), (13, .int x13), (14, .int x14)]) dJ18_compute_371 (by decide) rfl ?_
  refine x_iload 3 dJ18_compute_373 rfl ?_
  refine x_iload 1 dJ18_compute_375 rfl ?_
  refine x_iand dJ18_compute_377 ?_
  refine x_iload 1 dJ18_compute_378 rfl ?_
  refine x_icmp_ne (tgt := 394) dJ18_compute_380 (by decide) (fun c1 => ?_) (fun c1 => ?_)
  · replace hq := hq.1 c1
    refine xP.pick (lv' := [(4, .int x4), (5, .int x5), (6, .int x6), (7, .int (x6 + x5)), (8, .int x8), (9, .int x9), (10, .int x10), (11, .int x11), (12, .int x12), (13, .int x13), (14, .int x14)]) [1, 2, 3, 0, 4, 5, 6, 7, 8, 9, 10] rfl ?_
    exact uJ18_compute_394 hq
  · replace hq := hq.2 c1
    refine x_iload 0 dJ18_compute_383 rfl ?_
    refine x_iload 1 dJ18_compute_385 rfl ?_
    refine x_iand dJ18_compute_387 ?_
    refine x_if_ne (tgt := 394) dJ18_compute_388 (by decide) (fun c2 => ?_) (fun c2 => ?_)
    · replace hq := hq.1 c2
      refine xP.pick (lv' := [(4, .int x4), (5, .int x5), (6, .int x6), (7, .int (x6 + x5)), (8, .int x8), (9, .int x9), (10, .int x10), (11, .int x11), (12, .int x12), (13, .int x13), (14, .int x14)]) [1, 2, 3, 0, 4, 5, 6, 7, 8, 9, 10] rfl ?_
      exact uJ18_compute_394 hq
    · replace hq := hq.2 c2
      refine x_iinc (lv' := [(11, .int (x11 + 1)), (7, .int (x6 + x5)), (4, .int x4), (5, .int x5), (6, .int x6), (8, .int x8), (9, .int x9), (10, .int x10), (12, .int x12), (13, .int x13), (14, .int x14)]) 7 dJ18_compute_391 rfl (by decide) rfl ?_
      refine xP.pick (lv' := [(4, .int x4), (5, .int x5), (6, .int x6), (7, .int (x6 + x5)), (8, .int x8), (9, .int x9), (10, .int x10), (11, .int (x11 + 1)), (12, .int x12), (13, .int x13), (14, .int x14)]) [2, 3, 4, 1, 5, 6, 7, 0, 8, 9, 10] rfl ?_
      exact uJ18_compute_394 hq
set_option maxRecDepth 100000 in
def bJ18_compute_326 (G : xG) (fr lo : Nat) (x4 : Int32) (x5 : Int32) (x7 : Int32) (x8 : Int32) (x9 : Int32) (x10 : Int32) (x11 : Int32) (x12 : Int32) (x13 : Int32) (h : xH) (Q : Outcome → xH → Prop) : Prop := ((x5 = 0 → (((x10 ||| x8) = 0 → bJ18_compute_524 G fr lo x4 x9 x12 x13 h Q) ∧ (¬ (x10 ||| x8) = 0 → (((Op.cmpValue (FP.dcmp FP.dconst1 FP.dconst1) .l) < 0 → bJ18_compute_524 G fr lo x4 x9 x12 x13 h Q) ∧ (¬ (Op.cmpValue (FP.dcmp FP.dconst1 FP.dconst1) .l) < 0 → ((¬ x9 = (-1) → (((Op.cmpValue (FP.dcmp FP.dconst1 FP.dconst1) .l) ≤ 0 → bJ18_compute_524 G fr lo x4 (x9 + (x9 &&& 1)) x12 x13 h Q) ∧ (¬ (Op.cmpValue (FP.dcmp FP.dconst1 FP.dconst1) .l) ≤ 0 → ((¬ x9 = (-2) → bJ18_compute_509 G fr lo x4 x9 x12 x13 h Q) ∧ (x9 = (-2) → bJ18_compute_509 G fr lo x4 x9 (x12 + 1) x13 h Q))))) ∧ (x9 = (-1) → bJ18_compute_524 G fr lo x4 0 (x12 + 1) x13 h Q))))))) ∧ (¬ x5 = 0 → ((x11 < x10 → bJ18_compute_366 G fr lo x4 x5 (x7 + x5) x8 x9 x10 x11 x12 x13 x11 h Q) ∧ (¬ x11 < x10 → ((¬ x11 = x10 → bJ18_compute_428 G fr lo x4 x5 x7 x8 x9 x10 x11 x12 x13 h Q) ∧ (x11 = x10 → 1 ≤ fr ∧ 13 ≤ lo ∧ xRi G YJ21_compareUnsigned (fr - 1) (lo - 13) [.int (x7 + x5), .int x8] h (fun x12 h11 => xext h h11 → ((0 < x12 → bJ18_compute_428 G fr lo x4 x5 x7 x8 x9 x10 x11 x12 x13 h11 Q) ∧ (¬ 0 < x12 → bJ18_compute_366 G fr lo x4 x5 (x7 + x5) x8 x9 x10 x11 x12 x13 x11 h11 Q))) (fun r h2 => Q (.threw r) h2)))))))
set_option maxRecDepth 100000 in
theorem uJ18_compute_326 {G : xG} {fr lo : Nat} {x4 : Int32} {x5 : Int32} {x7 : Int32} {x8 : Int32} {x9 : Int32} {x10 : Int32} {x11 : Int32} {x12 : Int32} {x13 : Int32} {h : xH} {Q : Outcome → xH → Prop} (hq : bJ18_compute_326 G fr lo x4 x5 x7 x8 x9 x10 x11 x12 x13 h Q) : xP G YJ18_compute fr lo 326 [(4, .int x4), (5, .int x5), (7, .int x7), (8, .int x8), (9, .int x9), (10, .int x10), (11, .int x11), (12, .int x12), (13, .int x13)] [] h Q := by
  unfold bJ18_compute_326 at hq
  refine x_iload 1 dJ18_compute_326 rfl ?_
  refine x_if_eq (tgt := 460) dJ18_compute_328 (by decide) (fun c1 => ?_) (fun c1 => ?_)
  · replace hq := hq.1 c1
    refine x_iload 5 dJ18_compute_460 rfl ?_
    refine x_iload 3 dJ18_compute_462 rfl ?_
    refine x_ior dJ18_compute_464 ?_
    refine x_if_eq (tgt := 524) dJ18_compute_465 (by decide) (fun c2 => ?_) (fun c2 => ?_)
    · replace hq := hq.1 c2
      refine xP.pick (lv' := [(4, .int x4), (9, .int x9), (12, .int x12), (13, .int x13)]) [0, 4, 7, 8] rfl ?_
      exact uJ18_compute_524 hq
    · replace hq := hq.2 c2
      refine x_dconst1 dJ18_compute_468 ?_
      refine x_dstore_n (lv' := [(2, .double FP.dconst1), (4, .int x4), (5, .int x5), (7, .int x7), (8, .int x8), (9, .int x9), (10, .int x10), (11, .int x11), (12, .int x12), (13, .int x13)]) dJ18_compute_469 (by decide) rfl ?_
      refine x_dload_n 0 dJ18_compute_470 rfl ?_
      refine x_dconst1 dJ18_compute_471 ?_
      refine x_dcmp dJ18_compute_472 ?_
      refine x_if_lt (tgt := 524) dJ18_compute_473 (by decide) (fun c3 => ?_) (fun c3 => ?_)
      · replace hq := hq.1 c3
        refine xP.pick (lv' := [(4, .int x4), (9, .int x9), (12, .int x12), (13, .int x13)]) [1, 5, 8, 9] rfl ?_
        exact uJ18_compute_524 hq
      · replace hq := hq.2 c3
        refine x_dconst1 dJ18_compute_476 ?_
        refine x_dstore_n (lv' := [(2, .double FP.dconst1), (4, .int x4), (5, .int x5), (7, .int x7), (8, .int x8), (9, .int x9), (10, .int x10), (11, .int x11), (12, .int x12), (13, .int x13)]) dJ18_compute_477 (by decide) rfl ?_
        refine x_iload 5 dJ18_compute_478 rfl ?_
        refine x_iconst (v := (-1)) dJ18_compute_480 (by decide) ?_
        refine x_icmp_ne (tgt := 493) dJ18_compute_481 (by decide) (fun c4 => ?_) (fun c4 => ?_)
        · replace hq := hq.1 c4
          refine x_dload_n 0 dJ18_compute_493 rfl ?_
          refine x_dconst1 dJ18_compute_494 ?_
          refine x_dcmp dJ18_compute_495 ?_
          refine x_if_le (tgt := 515) dJ18_compute_496 (by decide) (fun c5 => ?_) (fun c5 => ?_)
          · replace hq := hq.1 c5
            refine x_iload 5 dJ18_compute_515 rfl ?_
            refine x_iload 5 dJ18_compute_517 rfl ?_
            refine x_iconst (v := 1) dJ18_compute_519 (by decide) ?_
            refine x_iand dJ18_compute_520 ?_
            refine x_iadd dJ18_compute_521 ?_
            refine x_istore (lv' := [(9, .int (x9 + (x9 &&& 1))), (2, .double FP.dconst1), (4, .int x4), (5, .int x5), (7, .int x7), (8, .int x8), (10, .int x10), (11, .int x11), (12, .int x12), (13, .int x13)]) dJ18_compute_522 (by decide) rfl ?_
            refine xP.pick (lv' := [(4, .int x4), (9, .int (x9 + (x9 &&& 1))), (12, .int x12), (13, .int x13)]) [2, 0, 8, 9] rfl ?_
            exact uJ18_compute_524 hq
          · replace hq := hq.2 c5
            refine x_iload 5 dJ18_compute_499 rfl ?_
            refine x_bipush (v := (-2)) dJ18_compute_501 (by decide) ?_
            refine x_icmp_ne (tgt := 509) dJ18_compute_503 (by decide) (fun c6 => ?_) (fun c6 => ?_)
            · replace hq := hq.1 c6
              refine xP.pick (lv' := [(4, .int x4), (9, .int x9), (12, .int x12), (13, .int x13)]) [1, 5, 8, 9] rfl ?_
              exact uJ18_compute_509 hq
            · replace hq := hq.2 c6
              refine x_iinc (lv' := [(12, .int (x12 + 1)), (2, .double FP.dconst1), (4, .int x4), (5, .int x5), (7, .int x7), (8, .int x8), (9, .int x9), (10, .int x10), (11, .int x11), (13, .int x13)]) 8 dJ18_compute_506 rfl (by decide) rfl ?_
              refine xP.pick (lv' := [(4, .int x4), (9, .int x9), (12, .int (x12 + 1)), (13, .int x13)]) [2, 6, 0, 9] rfl ?_
              exact uJ18_compute_509 hq
        · replace hq := hq.2 c4
          refine x_iconst (v := 0) dJ18_compute_484 (by decide) ?_
          refine x_istore (lv' := [(9, .int 0), (2, .double FP.dconst1), (4, .int x4), (5, .int x5), (7, .int x7), (8, .int x8), (10, .int x10), (11, .int x11), (12, .int x12), (13, .int x13)]) dJ18_compute_485 (by decide) rfl ?_
          refine x_iinc (lv' := [(12, .int (x12 + 1)), (9, .int 0), (2, .double FP.dconst1), (4, .int x4), (5, .int x5), (7, .int x7), (8, .int x8), (10, .int x10), (11, .int x11), (13, .int x13)]) 8 dJ18_compute_487 rfl (by decide) rfl ?_
          refine x_goto (tgt := 524) dJ18_compute_490 (by decide) ?_
          refine xP.pick (lv' := [(4, .int x4), (9, .int 0), (12, .int (x12 + 1)), (13, .int x13)]) [3, 1, 0, 9] rfl ?_
          exact uJ18_compute_524 hq
  · replace hq := hq.2 c1
    refine x_iload 2 dJ18_compute_331 rfl ?_
    refine x_iload 1 dJ18_compute_333 rfl ?_
    refine x_iadd dJ18_compute_335 ?_
    refine x_istore (lv' := [(6, .int (x7 + x5)), (4, .int x4), (5, .int x5), (7, .int x7), (8, .int x8), (9, .int x9), (10, .int x10), (11, .int x11), (12, .int x12), (13, .int x13)]) dJ18_compute_336 (by decide) rfl ?_
    refine x_iload 7 dJ18_compute_338 rfl ?_
    refine x_istore (lv' := [(14, .int x11), (6, .int (x7 + x5)), (4, .int x4), (5, .int x5), (7, .int x7), (8, .int x8), (9, .int x9), (10, .int x10), (11, .int x11), (12, .int x12), (13, .int x13)]) dJ18_compute_340 (by decide) rfl ?_
    refine x_iload 0 dJ18_compute_342 rfl ?_
    refine x_iload 7 dJ18_compute_344 rfl ?_
    refine x_icmp_lt (tgt := 366) dJ18_compute_346 (by decide) (fun c7 => ?_) (fun c7 => ?_)
    · replace hq := hq.1 c7
      refine xP.pick (lv' := [(4, .int x4), (5, .int x5), (6, .int (x7 + x5)), (8, .int x8), (9, .int x9), (10, .int x10), (11, .int x11), (12, .int x12), (13, .int x13), (14, .int x11)]) [2, 3, 1, 5, 6, 7, 8, 9, 10, 0] rfl ?_
      exact uJ18_compute_366 hq
    · replace hq := hq.2 c7
      refine x_iload 0 dJ18_compute_349 rfl ?_
      refine x_iload 7 dJ18_compute_351 rfl ?_
      refine x_icmp_ne (tgt := 428) dJ18_compute_353 (by decide) (fun c8 => ?_) (fun c8 => ?_)
      · replace hq := hq.1 c8
        refine xP.pick (lv' := [(4, .int x4), (5, .int x5), (7, .int x7), (8, .int x8), (9, .int x9), (10, .int x10), (11, .int x11), (12, .int x12), (13, .int x13)]) [2, 3, 4, 5, 6, 7, 8, 9, 10] rfl ?_
        exact uJ18_compute_428 hq
      · replace hq := hq.2 c8
        refine x_iload 1 dJ18_compute_356 rfl ?_
        refine x_iload 5 dJ18_compute_358 rfl ?_
        obtain ⟨g9, g10, hq⟩ := hq
        refine x_callS (Yc := YJ21_compareUnsigned) (as := [.int (x7 + x5), .int x8]) (st := []) q3053 msJ21_compareUnsigned rfl dJ18_compute_360 (xle (xal1 rfl (xal1 rfl xal0)) (by decide)) (xfr g9) (xlo xsw0 (by decide) g10) (xKi hq (fun x12 h11 hq e13 => ?_) (fun _ _ q _ => q))
        replace hq := hq e13
        refine x_if_gt (tgt := 428) dJ18_compute_363 (by decide) (fun c14 => ?_) (fun c14 => ?_)
        · replace hq := hq.1 c14
          refine xP.pick (lv' := [(4, .int x4), (5, .int x5), (7, .int x7), (8, .int x8), (9, .int x9), (10, .int x10), (11, .int x11), (12, .int x12), (13, .int x13)]) [2, 3, 4, 5, 6, 7, 8, 9, 10] rfl ?_
          exact uJ18_compute_428 hq
        · replace hq := hq.2 c14
          refine xP.pick (lv' := [(4, .int x4), (5, .int x5), (6, .int (x7 + x5)), (8, .int x8), (9, .int x9), (10, .int x10), (11, .int x11), (12, .int x12), (13, .int x13), (14, .int x11)]) [2, 3, 1, 5, 6, 7, 8, 9, 10, 0] rfl ?_
          exact uJ18_compute_366 hq
set_option maxRecDepth 100000 in
def bJ18_compute_290 (G : xG) (fr lo : Nat) (x4 : Int32) (x5 : Int32) (x7 : Int32) (x8 : Int32) (x9 : Int32) (x10 : Int32) (x11 : Int32) (x12 : Int32) (x13 : Int32) (h : xH) (Q : Outcome → xH → Prop) : Prop := lJ18_compute_250 G fr lo x4 ((Int32.toUInt32 x5 >>> (Int32.toUInt32 1 &&& Int32.toUInt32 31)).toInt32) x7 (x8 + x8) x9 (x10 + (x10 + ((Int32.toUInt32 (x8 &&& x4) >>> (Int32.toUInt32 31 &&& Int32.toUInt32 31)).toInt32))) x11 x12 x13 h Q
set_option maxRecDepth 100000 in
theorem uJ18_compute_290 {G : xG} {fr lo : Nat} {x4 : Int32} {x5 : Int32} {x7 : Int32} {x8 : Int32} {x9 : Int32} {x10 : Int32} {x11 : Int32} {x12 : Int32} {x13 : Int32} {h : xH} {Q : Outcome → xH → Prop} (hq : bJ18_compute_290 G fr lo x4 x5 x7 x8 x9 x10 x11 x12 x13 h Q) : xP G YJ18_compute fr lo 290 [(4, .int x4), (5, .int x5), (7, .int x7), (8, .int x8), (9, .int x9), (10, .int x10), (11, .int x11), (12, .int x12), (13, .int x13)] [] h Q := by
  unfold bJ18_compute_290 at hq
  refine x_iload 5 dJ18_compute_290 rfl ?_
  refine x_iload 5 dJ18_compute_292 rfl ?_
  refine x_iload 3 dJ18_compute_294 rfl ?_
  refine x_iload 0 dJ18_compute_296 rfl ?_
  refine x_iand dJ18_compute_298 ?_
  refine x_bipush (v := 31) dJ18_compute_299 (by decide) ?_
  refine x_iushr dJ18_compute_301 ?_
  refine x_iadd dJ18_compute_302 ?_
  refine x_iadd dJ18_compute_303 ?_
  refine x_istore (lv' := [(10, .int (x10 + (x10 + ((Int32.toUInt32 (x8 &&& x4) >>> (Int32.toUInt32 31 &&& Int32.toUInt32 31)).toInt32)))), (4, .int x4), (5, .int x5), (7, .int x7), (8, .int x8), (9, .int x9), (11, .int x11), (12, .int x12), (13, .int x13)]) dJ18_compute_304 (by decide) rfl ?_
  refine x_iload 4 dJ18_compute_306 rfl ?_
  refine x_iload 4 dJ18_compute_308 rfl ?_
  refine x_iadd dJ18_compute_310 ?_
  refine x_istore (lv' := [(8, .int (x8 + x8)), (10, .int (x10 + (x10 + ((Int32.toUInt32 (x8 &&& x4) >>> (Int32.toUInt32 31 &&& Int32.toUInt32 31)).toInt32)))), (4, .int x4), (5, .int x5), (7, .int x7), (9, .int x9), (11, .int x11), (12, .int x12), (13, .int x13)]) dJ18_compute_311 (by decide) rfl ?_
  refine x_iload 3 dJ18_compute_313 rfl ?_
  refine x_iconst (v := 1) dJ18_compute_315 (by decide) ?_
  refine x_iushr dJ18_compute_316 ?_
  refine x_istore (lv' := [(5, .int ((Int32.toUInt32 x5 >>> (Int32.toUInt32 1 &&& Int32.toUInt32 31)).toInt32)), (8, .int (x8 + x8)), (10, .int (x10 + (x10 + ((Int32.toUInt32 (x8 &&& x4) >>> (Int32.toUInt32 31 &&& Int32.toUInt32 31)).toInt32)))), (4, .int x4), (7, .int x7), (9, .int x9), (11, .int x11), (12, .int x12), (13, .int x13)]) dJ18_compute_317 (by decide) rfl ?_
  refine x_goto (tgt := 250) dJ18_compute_319 (by decide) ?_
  refine xP.pick (lv' := [(4, .int x4), (5, .int ((Int32.toUInt32 x5 >>> (Int32.toUInt32 1 &&& Int32.toUInt32 31)).toInt32)), (7, .int x7), (8, .int (x8 + x8)), (9, .int x9), (10, .int (x10 + (x10 + ((Int32.toUInt32 (x8 &&& x4) >>> (Int32.toUInt32 31 &&& Int32.toUInt32 31)).toInt32)))), (11, .int x11), (12, .int x12), (13, .int x13)]) [3, 0, 4, 1, 5, 2, 6, 7, 8] rfl ?_
  exact hq
set_option maxRecDepth 100000 in
def bJ18_compute_250 (G : xG) (fr lo : Nat) (x4 : Int32) (x5 : Int32) (x7 : Int32) (x8 : Int32) (x9 : Int32) (x10 : Int32) (x11 : Int32) (x12 : Int32) (x13 : Int32) (h : xH) (Q : Outcome → xH → Prop) : Prop := ((x5 = 0 → lJ18_compute_326 G fr lo x4 x4 x7 x8 x9 x10 x11 x12 x13 h Q) ∧ (¬ x5 = 0 → ((x10 < (x11 + x5) → bJ18_compute_290 G fr lo x4 x5 x7 x8 x9 x10 x11 x12 x13 h Q) ∧ (¬ x10 < (x11 + x5) → bJ18_compute_290 G fr lo x4 x5 x7 x8 x9 (x10 - (x11 + x5)) ((x11 + x5) + x5) (x12 + x5) x13 h Q))))
set_option maxRecDepth 100000 in
theorem uJ18_compute_250 {G : xG} {fr lo : Nat} {x4 : Int32} {x5 : Int32} {x7 : Int32} {x8 : Int32} {x9 : Int32} {x10 : Int32} {x11 : Int32} {x12 : Int32} {x13 : Int32} {h : xH} {Q : Outcome → xH → Prop} (hq : bJ18_compute_250 G fr lo x4 x5 x7 x8 x9 x10 x11 x12 x13 h Q) : xP G YJ18_compute fr lo 250 [(4, .int x4), (5, .int x5), (7, .int x7), (8, .int x8), (9, .int x9), (10, .int x10), (11, .int x11), (12, .int x12), (13, .int x13)] [] h Q := by
  unfold bJ18_compute_250 at hq
  refine x_iload 1 dJ18_compute_250 rfl ?_
  refine x_if_eq (tgt := 322) dJ18_compute_252 (by decide) (fun c1 => ?_) (fun c1 => ?_)
  · replace hq := hq.1 c1
    refine x_iload 0 dJ18_compute_322 rfl ?_
    refine x_istore (lv' := [(5, .int x4), (4, .int x4), (7, .int x7), (8, .int x8), (9, .int x9), (10, .int x10), (11, .int x11), (12, .int x12), (13, .int x13)]) dJ18_compute_324 (by decide) rfl ?_
    refine xP.pick (lv' := [(4, .int x4), (5, .int x4), (7, .int x7), (8, .int x8), (9, .int x9), (10, .int x10), (11, .int x11), (12, .int x12), (13, .int x13)]) [1, 0, 2, 3, 4, 5, 6, 7, 8] rfl ?_
    exact hq
  · replace hq := hq.2 c1
    refine x_iload 6 dJ18_compute_255 rfl ?_
    refine x_iload 1 dJ18_compute_257 rfl ?_
    refine x_iadd dJ18_compute_259 ?_
    refine x_istore (lv' := [(14, .int (x11 + x5)), (4, .int x4), (5, .int x5), (7, .int x7), (8, .int x8), (9, .int x9), (10, .int x10), (11, .int x11), (12, .int x12), (13, .int x13)]) dJ18_compute_260 (by decide) rfl ?_
    refine x_iload 0 dJ18_compute_262 rfl ?_
    refine x_iload 6 dJ18_compute_264 rfl ?_
    refine x_icmp_gt (tgt := 290) dJ18_compute_266 (by decide) (fun c2 => ?_) (fun c2 => ?_)
    · replace hq := hq.1 c2
      refine xP.pick (lv' := [(4, .int x4), (5, .int x5), (7, .int x7), (8, .int x8), (9, .int x9), (10, .int x10), (11, .int x11), (12, .int x12), (13, .int x13)]) [1, 2, 3, 4, 5, 6, 7, 8, 9] rfl ?_
      exact uJ18_compute_290 hq
    · replace hq := hq.2 c2
      refine x_iload 0 dJ18_compute_269 rfl ?_
      refine x_iload 2 dJ18_compute_271 rfl ?_
      refine x_iadd dJ18_compute_273 ?_
      refine x_istore (lv' := [(11, .int ((x11 + x5) + x5)), (14, .int (x11 + x5)), (4, .int x4), (5, .int x5), (7, .int x7), (8, .int x8), (9, .int x9), (10, .int x10), (12, .int x12), (13, .int x13)]) dJ18_compute_274 (by decide) rfl ?_
      refine x_iload 7 dJ18_compute_276 rfl ?_
      refine x_iload 1 dJ18_compute_278 rfl ?_
      refine x_isub dJ18_compute_280 ?_
      refine x_istore (lv' := [(10, .int (x10 - (x11 + x5))), (11, .int ((x11 + x5) + x5)), (14, .int (x11 + x5)), (4, .int x4), (5, .int x5), (7, .int x7), (8, .int x8), (9, .int x9), (12, .int x12), (13, .int x13)]) dJ18_compute_281 (by decide) rfl ?_
      refine x_iload 8 dJ18_compute_283 rfl ?_
      refine x_iload 4 dJ18_compute_285 rfl ?_
      refine x_iadd dJ18_compute_287 ?_
      refine x_istore (lv' := [(12, .int (x12 + x5)), (10, .int (x10 - (x11 + x5))), (11, .int ((x11 + x5) + x5)), (14, .int (x11 + x5)), (4, .int x4), (5, .int x5), (7, .int x7), (8, .int x8), (9, .int x9), (13, .int x13)]) dJ18_compute_288 (by decide) rfl ?_
      refine xP.pick (lv' := [(4, .int x4), (5, .int x5), (7, .int x7), (8, .int x8), (9, .int x9), (10, .int (x10 - (x11 + x5))), (11, .int ((x11 + x5) + x5)), (12, .int (x12 + x5)), (13, .int x13)]) [4, 5, 6, 7, 8, 1, 2, 0, 9] rfl ?_
      exact uJ18_compute_290 hq
set_option maxRecDepth 100000 in
def bJ18_compute_205 (G : xG) (fr lo : Nat) (x4 : Int32) (x8 : Int32) (x10 : Int32) (x13 : Int32) (h : xH) (Q : Outcome → xH → Prop) : Prop := lJ18_compute_250 G fr lo x4 2097152 0 (x8 + x8) 0 (x10 + (x10 + ((Int32.toUInt32 (x8 &&& x4) >>> (Int32.toUInt32 31 &&& Int32.toUInt32 31)).toInt32))) 0 0 (x13 >>> (1 &&& 31)) h Q
set_option maxRecDepth 100000 in
theorem uJ18_compute_205 {G : xG} {fr lo : Nat} {x4 : Int32} {x8 : Int32} {x10 : Int32} {x13 : Int32} {h : xH} {Q : Outcome → xH → Prop} (hq : bJ18_compute_205 G fr lo x4 x8 x10 x13 h Q) : xP G YJ18_compute fr lo 205 [(4, .int x4), (8, .int x8), (10, .int x10), (13, .int x13)] [] h Q := by
  unfold bJ18_compute_205 at hq
  refine x_iload 3 dJ18_compute_205 rfl ?_
  refine x_iconst (v := 1) dJ18_compute_207 (by decide) ?_
  refine x_ishr dJ18_compute_208 ?_
  refine x_istore (lv' := [(13, .int (x13 >>> (1 &&& 31))), (4, .int x4), (8, .int x8), (10, .int x10)]) dJ18_compute_209 (by decide) rfl ?_
  refine x_iload 3 dJ18_compute_211 rfl ?_
  refine x_iload 3 dJ18_compute_213 rfl ?_
  refine x_iload 2 dJ18_compute_215 rfl ?_
  refine x_iload 1 dJ18_compute_217 rfl ?_
  refine x_iand dJ18_compute_219 ?_
  refine x_bipush (v := 31) dJ18_compute_220 (by decide) ?_
  refine x_iushr dJ18_compute_222 ?_
  refine x_iadd dJ18_compute_223 ?_
  refine x_iadd dJ18_compute_224 ?_
  refine x_istore (lv' := [(10, .int (x10 + (x10 + ((Int32.toUInt32 (x8 &&& x4) >>> (Int32.toUInt32 31 &&& Int32.toUInt32 31)).toInt32)))), (13, .int (x13 >>> (1 &&& 31))), (4, .int x4), (8, .int x8)]) dJ18_compute_225 (by decide) rfl ?_
  refine x_iload 3 dJ18_compute_227 rfl ?_
  refine x_iload 3 dJ18_compute_229 rfl ?_
  refine x_iadd dJ18_compute_231 ?_
  refine x_istore (lv' := [(8, .int (x8 + x8)), (10, .int (x10 + (x10 + ((Int32.toUInt32 (x8 &&& x4) >>> (Int32.toUInt32 31 &&& Int32.toUInt32 31)).toInt32)))), (13, .int (x13 >>> (1 &&& 31))), (4, .int x4)]) dJ18_compute_232 (by decide) rfl ?_
  refine x_iconst (v := 0) dJ18_compute_234 (by decide) ?_
  refine x_dup dJ18_compute_235 rfl ?_
  refine x_istore (lv' := [(7, .int 0), (8, .int (x8 + x8)), (10, .int (x10 + (x10 + ((Int32.toUInt32 (x8 &&& x4) >>> (Int32.toUInt32 31 &&& Int32.toUInt32 31)).toInt32)))), (13, .int (x13 >>> (1 &&& 31))), (4, .int x4)]) dJ18_compute_236 (by decide) rfl ?_
  refine x_dup dJ18_compute_238 rfl ?_
  refine x_istore (lv' := [(11, .int 0), (7, .int 0), (8, .int (x8 + x8)), (10, .int (x10 + (x10 + ((Int32.toUInt32 (x8 &&& x4) >>> (Int32.toUInt32 31 &&& Int32.toUInt32 31)).toInt32)))), (13, .int (x13 >>> (1 &&& 31))), (4, .int x4)]) dJ18_compute_239 (by decide) rfl ?_
  refine x_dup dJ18_compute_241 rfl ?_
  refine x_istore (lv' := [(9, .int 0), (11, .int 0), (7, .int 0), (8, .int (x8 + x8)), (10, .int (x10 + (x10 + ((Int32.toUInt32 (x8 &&& x4) >>> (Int32.toUInt32 31 &&& Int32.toUInt32 31)).toInt32)))), (13, .int (x13 >>> (1 &&& 31))), (4, .int x4)]) dJ18_compute_242 (by decide) rfl ?_
  refine x_istore (lv' := [(12, .int 0), (9, .int 0), (11, .int 0), (7, .int 0), (8, .int (x8 + x8)), (10, .int (x10 + (x10 + ((Int32.toUInt32 (x8 &&& x4) >>> (Int32.toUInt32 31 &&& Int32.toUInt32 31)).toInt32)))), (13, .int (x13 >>> (1 &&& 31))), (4, .int x4)]) dJ18_compute_244 (by decide) rfl ?_
  refine x_ldc (v := 2097152) q3052 dJ18_compute_246 ?_
  refine x_istore (lv' := [(5, .int 2097152), (12, .int 0), (9, .int 0), (11, .int 0), (7, .int 0), (8, .int (x8 + x8)), (10, .int (x10 + (x10 + ((Int32.toUInt32 (x8 &&& x4) >>> (Int32.toUInt32 31 &&& Int32.toUInt32 31)).toInt32)))), (13, .int (x13 >>> (1 &&& 31))), (4, .int x4)]) dJ18_compute_248 (by decide) rfl ?_
  refine xP.pick (lv' := [(4, .int x4), (5, .int 2097152), (7, .int 0), (8, .int (x8 + x8)), (9, .int 0), (10, .int (x10 + (x10 + ((Int32.toUInt32 (x8 &&& x4) >>> (Int32.toUInt32 31 &&& Int32.toUInt32 31)).toInt32)))), (11, .int 0), (12, .int 0), (13, .int (x13 >>> (1 &&& 31)))]) [8, 0, 4, 5, 2, 6, 3, 1, 7] rfl ?_
  exact hq
set_option maxRecDepth 100000 in
def bJ18_compute_159 (G : xG) (fr lo : Nat) (x4 : Int32) (x8 : Int32) (x10 : Int32) (x13 : Int32) (h : xH) (Q : Outcome → xH → Prop) : Prop := ((((x13 + (-1023)) &&& 1) = 0 → bJ18_compute_205 G fr lo x4 x8 ((x10 &&& 1048575) ||| 1048576) (x13 + (-1023)) h Q) ∧ (¬ ((x13 + (-1023)) &&& 1) = 0 → bJ18_compute_205 G fr lo x4 (x8 + x8) (((x10 &&& 1048575) ||| 1048576) + (((x10 &&& 1048575) ||| 1048576) + ((Int32.toUInt32 (x8 &&& x4) >>> (Int32.toUInt32 31 &&& Int32.toUInt32 31)).toInt32))) (x13 + (-1023)) h Q))
set_option maxRecDepth 100000 in
theorem uJ18_compute_159 {G : xG} {fr lo : Nat} {x4 : Int32} {x8 : Int32} {x10 : Int32} {x13 : Int32} {h : xH} {Q : Outcome → xH → Prop} (hq : bJ18_compute_159 G fr lo x4 x8 x10 x13 h Q) : xP G YJ18_compute fr lo 159 [(4, .int x4), (8, .int x8), (10, .int x10), (13, .int x13)] [] h Q := by
  unfold bJ18_compute_159 at hq
  refine x_iinc (lv' := [(13, .int (x13 + (-1023))), (4, .int x4), (8, .int x8), (10, .int x10)]) 3 dJ18_compute_159 rfl (by decide) rfl ?_
  refine x_iload 3 dJ18_compute_165 rfl ?_
  refine x_ldc (v := 1048575) q3051 dJ18_compute_167 ?_
  refine x_iand dJ18_compute_169 ?_
  refine x_ldc (v := 1048576) q3050 dJ18_compute_170 ?_
  refine x_ior dJ18_compute_172 ?_
  refine x_istore (lv' := [(10, .int ((x10 &&& 1048575) ||| 1048576)), (13, .int (x13 + (-1023))), (4, .int x4), (8, .int x8)]) dJ18_compute_173 (by decide) rfl ?_
  refine x_iload 1 dJ18_compute_175 rfl ?_
  refine x_iconst (v := 1) dJ18_compute_177 (by decide) ?_
  refine x_iand dJ18_compute_178 ?_
  refine x_if_eq (tgt := 205) dJ18_compute_179 (by decide) (fun c1 => ?_) (fun c1 => ?_)
  · replace hq := hq.1 c1
    refine xP.pick (lv' := [(4, .int x4), (8, .int x8), (10, .int ((x10 &&& 1048575) ||| 1048576)), (13, .int (x13 + (-1023)))]) [2, 3, 0, 1] rfl ?_
    exact uJ18_compute_205 hq
  · replace hq := hq.2 c1
    refine x_iload 0 dJ18_compute_182 rfl ?_
    refine x_iload 0 dJ18_compute_184 rfl ?_
    refine x_iload 3 dJ18_compute_186 rfl ?_
    refine x_iload 2 dJ18_compute_188 rfl ?_
    refine x_iand dJ18_compute_190 ?_
    refine x_bipush (v := 31) dJ18_compute_191 (by decide) ?_
    refine x_iushr dJ18_compute_193 ?_
    refine x_iadd dJ18_compute_194 ?_
    refine x_iadd dJ18_compute_195 ?_
    refine x_istore (lv' := [(10, .int (((x10 &&& 1048575) ||| 1048576) + (((x10 &&& 1048575) ||| 1048576) + ((Int32.toUInt32 (x8 &&& x4) >>> (Int32.toUInt32 31 &&& Int32.toUInt32 31)).toInt32)))), (13, .int (x13 + (-1023))), (4, .int x4), (8, .int x8)]) dJ18_compute_196 (by decide) rfl ?_
    refine x_iload 3 dJ18_compute_198 rfl ?_
    refine x_iload 3 dJ18_compute_200 rfl ?_
    refine x_iadd dJ18_compute_202 ?_
    refine x_istore (lv' := [(8, .int (x8 + x8)), (10, .int (((x10 &&& 1048575) ||| 1048576) + (((x10 &&& 1048575) ||| 1048576) + ((Int32.toUInt32 (x8 &&& x4) >>> (Int32.toUInt32 31 &&& Int32.toUInt32 31)).toInt32)))), (13, .int (x13 + (-1023))), (4, .int x4)]) dJ18_compute_203 (by decide) rfl ?_
    refine xP.pick (lv' := [(4, .int x4), (8, .int (x8 + x8)), (10, .int (((x10 &&& 1048575) ||| 1048576) + (((x10 &&& 1048575) ||| 1048576) + ((Int32.toUInt32 (x8 &&& x4) >>> (Int32.toUInt32 31 &&& Int32.toUInt32 31)).toInt32)))), (13, .int (x13 + (-1023)))]) [3, 0, 1, 2] rfl ?_
    exact uJ18_compute_205 hq
set_option maxRecDepth 100000 in
def bJ18_compute_110 (G : xG) (fr lo : Nat) (x4 : Int32) (x8 : Int32) (x10 : Int32) (x13 : Int32) (x15 : Int32) (h : xH) (Q : Outcome → xH → Prop) : Prop := ((¬ (x10 &&& 1048576) = 0 → bJ18_compute_159 G fr lo x4 (x8 <<< (x15 &&& 31)) (x10 ||| ((Int32.toUInt32 x8 >>> (Int32.toUInt32 (32 - x15) &&& Int32.toUInt32 31)).toInt32)) (x13 - (x15 - 1)) h Q) ∧ ((x10 &&& 1048576) = 0 → lJ18_compute_110 G fr lo x4 x8 (x10 <<< (1 &&& 31)) x13 (x15 + 1) h Q))
set_option maxRecDepth 100000 in
theorem uJ18_compute_110 {G : xG} {fr lo : Nat} {x4 : Int32} {x8 : Int32} {x10 : Int32} {x13 : Int32} {x15 : Int32} {h : xH} {Q : Outcome → xH → Prop} (hq : bJ18_compute_110 G fr lo x4 x8 x10 x13 x15 h Q) : xP G YJ18_compute fr lo 110 [(4, .int x4), (8, .int x8), (10, .int x10), (13, .int x13), (15, .int x15)] [] h Q := by
  unfold bJ18_compute_110 at hq
  refine x_iload 2 dJ18_compute_110 rfl ?_
  refine x_ldc (v := 1048576) q3050 dJ18_compute_112 ?_
  refine x_iand dJ18_compute_114 ?_
  refine x_if_ne (tgt := 130) dJ18_compute_115 (by decide) (fun c1 => ?_) (fun c1 => ?_)
  · replace hq := hq.1 c1
    refine x_iload 3 dJ18_compute_130 rfl ?_
    refine x_iload 4 dJ18_compute_132 rfl ?_
    refine x_iconst (v := 1) dJ18_compute_134 (by decide) ?_
    refine x_isub dJ18_compute_135 ?_
    refine x_isub dJ18_compute_136 ?_
    refine x_istore (lv' := [(13, .int (x13 - (x15 - 1))), (4, .int x4), (8, .int x8), (10, .int x10), (15, .int x15)]) dJ18_compute_137 (by decide) rfl ?_
    refine x_iload 3 dJ18_compute_139 rfl ?_
    refine x_iload 2 dJ18_compute_141 rfl ?_
    refine x_bipush (v := 32) dJ18_compute_143 (by decide) ?_
    refine x_iload 4 dJ18_compute_145 rfl ?_
    refine x_isub dJ18_compute_147 ?_
    refine x_iushr dJ18_compute_148 ?_
    refine x_ior dJ18_compute_149 ?_
    refine x_istore (lv' := [(10, .int (x10 ||| ((Int32.toUInt32 x8 >>> (Int32.toUInt32 (32 - x15) &&& Int32.toUInt32 31)).toInt32))), (13, .int (x13 - (x15 - 1))), (4, .int x4), (8, .int x8), (15, .int x15)]) dJ18_compute_150 (by decide) rfl ?_
    refine x_iload 3 dJ18_compute_152 rfl ?_
    refine x_iload 4 dJ18_compute_154 rfl ?_
    refine x_ishl dJ18_compute_156 ?_
    refine x_istore (lv' := [(8, .int (x8 <<< (x15 &&& 31))), (10, .int (x10 ||| ((Int32.toUInt32 x8 >>> (Int32.toUInt32 (32 - x15) &&& Int32.toUInt32 31)).toInt32))), (13, .int (x13 - (x15 - 1))), (4, .int x4), (15, .int x15)]) dJ18_compute_157 (by decide) rfl ?_
    refine xP.pick (lv' := [(4, .int x4), (8, .int (x8 <<< (x15 &&& 31))), (10, .int (x10 ||| ((Int32.toUInt32 x8 >>> (Int32.toUInt32 (32 - x15) &&& Int32.toUInt32 31)).toInt32))), (13, .int (x13 - (x15 - 1)))]) [3, 0, 1, 2] rfl ?_
    exact uJ18_compute_159 hq
  · replace hq := hq.2 c1
    refine x_iload 2 dJ18_compute_118 rfl ?_
    refine x_iconst (v := 1) dJ18_compute_120 (by decide) ?_
    refine x_ishl dJ18_compute_121 ?_
    refine x_istore (lv' := [(10, .int (x10 <<< (1 &&& 31))), (4, .int x4), (8, .int x8), (13, .int x13), (15, .int x15)]) dJ18_compute_122 (by decide) rfl ?_
    refine x_iinc (lv' := [(15, .int (x15 + 1)), (10, .int (x10 <<< (1 &&& 31))), (4, .int x4), (8, .int x8), (13, .int x13)]) 4 dJ18_compute_124 rfl (by decide) rfl ?_
    refine x_goto (tgt := 110) dJ18_compute_127 (by decide) ?_
    refine xP.pick (lv' := [(4, .int x4), (8, .int x8), (10, .int (x10 <<< (1 &&& 31))), (13, .int x13), (15, .int (x15 + 1))]) [2, 3, 1, 4, 0] rfl ?_
    exact hq
set_option maxRecDepth 100000 in
def bJ18_compute_79 (G : xG) (fr lo : Nat) (x4 : Int32) (x8 : Int32) (x10 : Int32) (x13 : Int32) (h : xH) (Q : Outcome → xH → Prop) : Prop := ((¬ x10 = 0 → lJ18_compute_110 G fr lo x4 x8 x10 x13 0 h Q) ∧ (x10 = 0 → lJ18_compute_79 G fr lo x4 (x8 <<< (21 &&& 31)) (x10 ||| ((Int32.toUInt32 x8 >>> (Int32.toUInt32 11 &&& Int32.toUInt32 31)).toInt32)) (x13 + (-21)) h Q))
set_option maxRecDepth 100000 in
theorem uJ18_compute_79 {G : xG} {fr lo : Nat} {x4 : Int32} {x8 : Int32} {x10 : Int32} {x13 : Int32} {h : xH} {Q : Outcome → xH → Prop} (hq : bJ18_compute_79 G fr lo x4 x8 x10 x13 h Q) : xP G YJ18_compute fr lo 79 [(4, .int x4), (8, .int x8), (10, .int x10), (13, .int x13)] [] h Q := by
  unfold bJ18_compute_79 at hq
  refine x_iload 2 dJ18_compute_79 rfl ?_
  refine x_if_ne (tgt := 107) dJ18_compute_81 (by decide) (fun c1 => ?_) (fun c1 => ?_)
  · replace hq := hq.1 c1
    refine x_iconst (v := 0) dJ18_compute_107 (by decide) ?_
    refine x_istore (lv' := [(15, .int 0), (4, .int x4), (8, .int x8), (10, .int x10), (13, .int x13)]) dJ18_compute_108 (by decide) rfl ?_
    refine xP.pick (lv' := [(4, .int x4), (8, .int x8), (10, .int x10), (13, .int x13), (15, .int 0)]) [1, 2, 3, 4, 0] rfl ?_
    exact hq
  · replace hq := hq.2 c1
    refine x_iinc (lv' := [(13, .int (x13 + (-21))), (4, .int x4), (8, .int x8), (10, .int x10)]) 3 dJ18_compute_84 rfl (by decide) rfl ?_
    refine x_iload 3 dJ18_compute_87 rfl ?_
    refine x_iload 2 dJ18_compute_89 rfl ?_
    refine x_bipush (v := 11) dJ18_compute_91 (by decide) ?_
    refine x_iushr dJ18_compute_93 ?_
    refine x_ior dJ18_compute_94 ?_
    refine x_istore (lv' := [(10, .int (x10 ||| ((Int32.toUInt32 x8 >>> (Int32.toUInt32 11 &&& Int32.toUInt32 31)).toInt32))), (13, .int (x13 + (-21))), (4, .int x4), (8, .int x8)]) dJ18_compute_95 (by decide) rfl ?_
    refine x_iload 3 dJ18_compute_97 rfl ?_
    refine x_bipush (v := 21) dJ18_compute_99 (by decide) ?_
    refine x_ishl dJ18_compute_101 ?_
    refine x_istore (lv' := [(8, .int (x8 <<< (21 &&& 31))), (10, .int (x10 ||| ((Int32.toUInt32 x8 >>> (Int32.toUInt32 11 &&& Int32.toUInt32 31)).toInt32))), (13, .int (x13 + (-21))), (4, .int x4)]) dJ18_compute_102 (by decide) rfl ?_
    refine x_goto (tgt := 79) dJ18_compute_104 (by decide) ?_
    refine xP.pick (lv' := [(4, .int x4), (8, .int (x8 <<< (21 &&& 31))), (10, .int (x10 ||| ((Int32.toUInt32 x8 >>> (Int32.toUInt32 11 &&& Int32.toUInt32 31)).toInt32))), (13, .int (x13 + (-21)))]) [3, 0, 1, 2] rfl ?_
    exact hq
set_option maxRecDepth 100000 in
def bJ18_compute_67 (G : xG) (fr lo : Nat) (x4 : Int32) (x8 : Int32) (x10 : Int32) (h : xH) (Q : Outcome → xH → Prop) : Prop := ((¬ (x10 >>> (20 &&& 31)) = 0 → bJ18_compute_159 G fr lo x4 x8 x10 (x10 >>> (20 &&& 31)) h Q) ∧ ((x10 >>> (20 &&& 31)) = 0 → lJ18_compute_79 G fr lo x4 x8 x10 (x10 >>> (20 &&& 31)) h Q))
set_option maxRecDepth 100000 in
theorem uJ18_compute_67 {G : xG} {fr lo : Nat} {x4 : Int32} {x8 : Int32} {x10 : Int32} {h : xH} {Q : Outcome → xH → Prop} (hq : bJ18_compute_67 G fr lo x4 x8 x10 h Q) : xP G YJ18_compute fr lo 67 [(4, .int x4), (8, .int x8), (10, .int x10)] [] h Q := by
  unfold bJ18_compute_67 at hq
  refine x_iload 2 dJ18_compute_67 rfl ?_
  refine x_bipush (v := 20) dJ18_compute_69 (by decide) ?_
  refine x_ishr dJ18_compute_71 ?_
  refine x_istore (lv' := [(13, .int (x10 >>> (20 &&& 31))), (4, .int x4), (8, .int x8), (10, .int x10)]) dJ18_compute_72 (by decide) rfl ?_
  refine x_iload 0 dJ18_compute_74 rfl ?_
  refine x_if_ne (tgt := 159) dJ18_compute_76 (by decide) (fun c1 => ?_) (fun c1 => ?_)
  · replace hq := hq.1 c1
    refine xP.pick (lv' := [(4, .int x4), (8, .int x8), (10, .int x10), (13, .int (x10 >>> (20 &&& 31)))]) [1, 2, 3, 0] rfl ?_
    exact uJ18_compute_159 hq
  · replace hq := hq.2 c1
    refine xP.pick (lv' := [(4, .int x4), (8, .int x8), (10, .int x10), (13, .int (x10 >>> (20 &&& 31)))]) [1, 2, 3, 0] rfl ?_
    exact hq
set_option maxRecDepth 100000 in
def bJ18_compute (G : xG) (fr lo : Nat) (x0 : UInt64) (h : xH) (Q : Outcome → xH → Prop) : Prop := 1 ≤ fr ∧ 15 ≤ lo ∧ xRi G YJ19___HI (fr - 1) (lo - 15) [.double x0] h (fun x4 h3 => xext h h3 → 1 ≤ fr ∧ 15 ≤ lo ∧ xRi G YJ19___LO (fr - 1) (lo - 15) [.double x0] h3 (fun x9 h8 => xext h3 h8 → ((¬ (x4 &&& 2146435072) = 2146435072 → ((0 < x4 → bJ18_compute_67 G fr lo (-2147483648) x9 x4 h8 Q) ∧ (¬ 0 < x4 → ((¬ ((x4 &&& ((-2147483648) ^^^ (-1))) ||| x9) = 0 → ((0 ≤ x4 → bJ18_compute_67 G fr lo (-2147483648) x9 x4 h8 Q) ∧ (¬ 0 ≤ x4 → vf_n64 (FP.dsub x0 x0) ∧ vf_n64 (FP.dsub x0 x0) ∧ vf_n64 (FP.ddiv (FP.dsub x0 x0) (FP.dsub x0 x0)) ∧ Q (.returned (some (.double (FP.ddiv (FP.dsub x0 x0) (FP.dsub x0 x0))))) h8))) ∧ (((x4 &&& ((-2147483648) ^^^ (-1))) ||| x9) = 0 → Q (.returned (some (.double x0))) h8))))) ∧ ((x4 &&& 2146435072) = 2146435072 → vf_n64 (FP.dmul x0 x0) ∧ vf_n64 (FP.dadd (FP.dmul x0 x0) x0) ∧ Q (.returned (some (.double (FP.dadd (FP.dmul x0 x0) x0)))) h8))) (fun r h2 => Q (.threw r) h2)) (fun r h2 => Q (.threw r) h2)
set_option maxRecDepth 100000 in
theorem uJ18_compute {G : xG} {fr lo : Nat} {x0 : UInt64} {h : xH} {Q : Outcome → xH → Prop} (hq : bJ18_compute G fr lo x0 h Q) : xP G YJ18_compute fr lo 0 [(0, .double x0)] [] h Q := by
  unfold bJ18_compute at hq
  refine x_dconst0 dJ18_compute_0 ?_
  refine x_dstore_n (lv' := [(2, .double FP.dconst0), (0, .double x0)]) dJ18_compute_1 (by decide) rfl ?_
  refine x_ldc (v := (-2147483648)) q3039 dJ18_compute_2 ?_
  refine x_istore (lv' := [(4, .int (-2147483648)), (2, .double FP.dconst0), (0, .double x0)]) dJ18_compute_4 (by decide) rfl ?_
  refine x_dload_n 2 dJ18_compute_6 rfl ?_
  obtain ⟨g1, g2, hq⟩ := hq
  refine x_callSN (Yc := YJ19___HI) (as := [.double x0]) (st := []) (List.mem_filter.mpr ⟨q3040, rfl⟩) msJ19___HI rfl dJ18_compute_7 (xle (xal2 rfl xal0) (by decide)) (xfr g1) (xlo xsw0 (by decide) g2) (xKi hq (fun x4 h3 hq e5 => ?_) (fun _ _ q _ => q))
  replace hq := hq e5
  refine x_istore (lv' := [(10, .int x4), (4, .int (-2147483648)), (2, .double FP.dconst0), (0, .double x0)]) dJ18_compute_10 (by decide) rfl ?_
  refine x_dload_n 3 dJ18_compute_12 rfl ?_
  obtain ⟨g6, g7, hq⟩ := hq
  refine x_callSN (Yc := YJ19___LO) (as := [.double x0]) (st := []) (List.mem_filter.mpr ⟨q3046, rfl⟩) msJ19___LO rfl dJ18_compute_13 (xle (xal2 rfl xal0) (by decide)) (xfr g6) (xlo xsw0 (by decide) g7) (xKi hq (fun x9 h8 hq e10 => ?_) (fun _ _ q _ => q))
  replace hq := hq e10
  refine x_istore (lv' := [(8, .int x9), (10, .int x4), (4, .int (-2147483648)), (2, .double FP.dconst0), (0, .double x0)]) dJ18_compute_16 (by decide) rfl ?_
  refine x_iload 1 dJ18_compute_18 rfl ?_
  refine x_ldc (v := 2146435072) q3049 dJ18_compute_20 ?_
  refine x_iand dJ18_compute_22 ?_
  refine x_ldc (v := 2146435072) q3049 dJ18_compute_23 ?_
  refine x_icmp_ne (tgt := 34) dJ18_compute_25 (by decide) (fun c11 => ?_) (fun c11 => ?_)
  · replace hq := hq.1 c11
    refine x_iload 1 dJ18_compute_34 rfl ?_
    refine x_if_gt (tgt := 67) dJ18_compute_36 (by decide) (fun c12 => ?_) (fun c12 => ?_)
    · replace hq := hq.1 c12
      refine xP.pick (lv' := [(4, .int (-2147483648)), (8, .int x9), (10, .int x4)]) [2, 0, 1] rfl ?_
      exact uJ18_compute_67 hq
    · replace hq := hq.2 c12
      refine x_iload 1 dJ18_compute_39 rfl ?_
      refine x_iload 2 dJ18_compute_41 rfl ?_
      refine x_iconst (v := (-1)) dJ18_compute_43 (by decide) ?_
      refine x_ixor dJ18_compute_44 ?_
      refine x_iand dJ18_compute_45 ?_
      refine x_iload 0 dJ18_compute_46 rfl ?_
      refine x_ior dJ18_compute_48 ?_
      refine x_if_ne (tgt := 54) dJ18_compute_49 (by decide) (fun c13 => ?_) (fun c13 => ?_)
      · replace hq := hq.1 c13
        refine x_iload 1 dJ18_compute_54 rfl ?_
        refine x_if_ge (tgt := 67) dJ18_compute_56 (by decide) (fun c14 => ?_) (fun c14 => ?_)
        · replace hq := hq.1 c14
          refine xP.pick (lv' := [(4, .int (-2147483648)), (8, .int x9), (10, .int x4)]) [2, 0, 1] rfl ?_
          exact uJ18_compute_67 hq
        · replace hq := hq.2 c14
          refine x_dload_n 4 dJ18_compute_59 rfl ?_
          refine x_dload_n 4 dJ18_compute_60 rfl ?_
          obtain ⟨g15, hq⟩ := hq
          refine x_dsub dJ18_compute_61 g15 ?_
          refine x_dload_n 4 dJ18_compute_62 rfl ?_
          refine x_dload_n 4 dJ18_compute_63 rfl ?_
          obtain ⟨g16, hq⟩ := hq
          refine x_dsub dJ18_compute_64 g16 ?_
          obtain ⟨g17, hq⟩ := hq
          refine x_ddiv dJ18_compute_65 g17 ?_
          exact x_dret rfl dJ18_compute_66 hq
      · replace hq := hq.2 c13
        refine x_dload_n 4 dJ18_compute_52 rfl ?_
        exact x_dret rfl dJ18_compute_53 hq
  · replace hq := hq.2 c11
    refine x_dload_n 4 dJ18_compute_28 rfl ?_
    refine x_dload_n 4 dJ18_compute_29 rfl ?_
    obtain ⟨g18, hq⟩ := hq
    refine x_dmul dJ18_compute_30 g18 ?_
    refine x_dload_n 4 dJ18_compute_31 rfl ?_
    obtain ⟨g19, hq⟩ := hq
    refine x_dadd dJ18_compute_32 g19 ?_
    exact x_dret rfl dJ18_compute_33 hq
theorem rJ18_compute {G : xG} {fr lo : Nat} {x0 : UInt64} {h : xH} {Q : Outcome → xH → Prop} (hq : bJ18_compute G fr lo x0 h Q) : xR G YJ18_compute fr lo [.double x0] h Q := by
  show xP _ _ _ _ _ (lv_args 0 _) _ _ _
  rw [show lv_args 0 [.double x0] = [(0, .double x0)] from (xla2 rfl xla0)]
  exact uJ18_compute hq
